/-! SecretVaultLaw -/
set_option maxRecDepth 100000
def RX0 : String := "SecretVaultLaw"
abbrev cX0_setWeight : ByteArray := method_3_code
def yX0_setWeight : MethodName := ⟨RX0, "setWeight", "(LSecretVault;II[J)I"⟩
def dkwX0_setWeight_0 : List UInt8 := [45, 3, 42, 27, 28, 182, 0, 7, 133, 80, 167, 0, 11, 58, 4, 4, 172, 58, 4, 5, 172, 3, 172]
abbrev dktX0_setWeight_0 : List UInt8 := dkwX0_setWeight_0 ++ []
theorem dksX0_setWeight_0 : cX0_setWeight.data.toList.drop 0 = dktX0_setWeight_0 := by decide +kernel
theorem dX0_setWeight_0 : decode cX0_setWeight 0 = .ok (.aload_n 3, 1) := dk_45 (dk_at dksX0_setWeight_0 0 rfl rfl)
theorem dX0_setWeight_1 : decode cX0_setWeight 1 = .ok (.iconst 0, 1) := dk_3 (dk_at dksX0_setWeight_0 1 rfl rfl)
theorem dX0_setWeight_2 : decode cX0_setWeight 2 = .ok (.aload_n 0, 1) := dk_42 (dk_at dksX0_setWeight_0 2 rfl rfl)
theorem dX0_setWeight_3 : decode cX0_setWeight 3 = .ok (.iload_n 1, 1) := dk_27 (dk_at dksX0_setWeight_0 3 rfl rfl)
theorem dX0_setWeight_4 : decode cX0_setWeight 4 = .ok (.iload_n 2, 1) := dk_28 (dk_at dksX0_setWeight_0 4 rfl rfl)
theorem dX0_setWeight_5 : decode cX0_setWeight 5 = .ok (.invokevirtual 7, 3) := dk_182 0 7 (dk_at dksX0_setWeight_0 5 rfl rfl)
theorem dX0_setWeight_8 : decode cX0_setWeight 8 = .ok (.i2l, 1) := dk_133 (dk_at dksX0_setWeight_0 8 rfl rfl)
theorem dX0_setWeight_9 : decode cX0_setWeight 9 = .ok (.lastore, 1) := dk_80 (dk_at dksX0_setWeight_0 9 rfl rfl)
theorem dX0_setWeight_10 : decode cX0_setWeight 10 = .ok (.goto 11, 3) := dk_167 0 11 (dk_at dksX0_setWeight_0 10 rfl rfl)
theorem dX0_setWeight_13 : decode cX0_setWeight 13 = .ok (.astore 4, 2) := dk_58 4 (dk_at dksX0_setWeight_0 13 rfl rfl)
theorem dX0_setWeight_15 : decode cX0_setWeight 15 = .ok (.iconst 1, 1) := dk_4 (dk_at dksX0_setWeight_0 15 rfl rfl)
theorem dX0_setWeight_16 : decode cX0_setWeight 16 = .ok (.ireturn, 1) := dk_172 (dk_at dksX0_setWeight_0 16 rfl rfl)
theorem dX0_setWeight_17 : decode cX0_setWeight 17 = .ok (.astore 4, 2) := dk_58 4 (dk_at dksX0_setWeight_0 17 rfl rfl)
theorem dX0_setWeight_19 : decode cX0_setWeight 19 = .ok (.iconst 2, 1) := dk_5 (dk_at dksX0_setWeight_0 19 rfl rfl)
theorem dX0_setWeight_20 : decode cX0_setWeight 20 = .ok (.ireturn, 1) := dk_172 (dk_at dksX0_setWeight_0 20 rfl rfl)
theorem dX0_setWeight_21 : decode cX0_setWeight 21 = .ok (.iconst 0, 1) := dk_3 (dk_at dksX0_setWeight_0 21 rfl rfl)
theorem dX0_setWeight_22 : decode cX0_setWeight 22 = .ok (.ireturn, 1) := dk_172 (dk_at dksX0_setWeight_0 22 rfl rfl)
abbrev cX0_setPresent : ByteArray := method_4_code
def yX0_setPresent : MethodName := ⟨RX0, "setPresent", "(LSecretVault;IZ[J)I"⟩
def dkwX0_setPresent_1 : List UInt8 := [3, 172]
abbrev dktX0_setPresent_1 : List UInt8 := dkwX0_setPresent_1 ++ []
def dkwX0_setPresent_0 : List UInt8 := [45, 3, 42, 27, 28, 182, 0, 17, 153, 0, 7, 10, 167, 0, 4, 9, 80, 167, 0, 7, 58, 4, 4, 172]
abbrev dktX0_setPresent_0 : List UInt8 := dkwX0_setPresent_0 ++ dktX0_setPresent_1
theorem dksX0_setPresent_0 : cX0_setPresent.data.toList.drop 0 = dktX0_setPresent_0 := by decide +kernel
theorem dksX0_setPresent_1 : cX0_setPresent.data.toList.drop 24 = dktX0_setPresent_1 := dk_seg dksX0_setPresent_0 24 rfl rfl
theorem dX0_setPresent_0 : decode cX0_setPresent 0 = .ok (.aload_n 3, 1) := dk_45 (dk_at dksX0_setPresent_0 0 rfl rfl)
theorem dX0_setPresent_1 : decode cX0_setPresent 1 = .ok (.iconst 0, 1) := dk_3 (dk_at dksX0_setPresent_0 1 rfl rfl)
theorem dX0_setPresent_2 : decode cX0_setPresent 2 = .ok (.aload_n 0, 1) := dk_42 (dk_at dksX0_setPresent_0 2 rfl rfl)
theorem dX0_setPresent_3 : decode cX0_setPresent 3 = .ok (.iload_n 1, 1) := dk_27 (dk_at dksX0_setPresent_0 3 rfl rfl)
theorem dX0_setPresent_4 : decode cX0_setPresent 4 = .ok (.iload_n 2, 1) := dk_28 (dk_at dksX0_setPresent_0 4 rfl rfl)
theorem dX0_setPresent_5 : decode cX0_setPresent 5 = .ok (.invokevirtual 17, 3) := dk_182 0 17 (dk_at dksX0_setPresent_0 5 rfl rfl)
theorem dX0_setPresent_8 : decode cX0_setPresent 8 = .ok (.ifCond .eq 7, 3) := dk_153 0 7 (dk_at dksX0_setPresent_0 8 rfl rfl)
theorem dX0_setPresent_11 : decode cX0_setPresent 11 = .ok (.lconst 1, 1) := dk_10 (dk_at dksX0_setPresent_0 11 rfl rfl)
theorem dX0_setPresent_12 : decode cX0_setPresent 12 = .ok (.goto 4, 3) := dk_167 0 4 (dk_at dksX0_setPresent_0 12 rfl rfl)
theorem dX0_setPresent_15 : decode cX0_setPresent 15 = .ok (.lconst 0, 1) := dk_9 (dk_at dksX0_setPresent_0 15 rfl rfl)
theorem dX0_setPresent_16 : decode cX0_setPresent 16 = .ok (.lastore, 1) := dk_80 (dk_at dksX0_setPresent_0 16 rfl rfl)
theorem dX0_setPresent_17 : decode cX0_setPresent 17 = .ok (.goto 7, 3) := dk_167 0 7 (dk_at dksX0_setPresent_0 17 rfl rfl)
theorem dX0_setPresent_20 : decode cX0_setPresent 20 = .ok (.astore 4, 2) := dk_58 4 (dk_at dksX0_setPresent_0 20 rfl rfl)
theorem dX0_setPresent_22 : decode cX0_setPresent 22 = .ok (.iconst 1, 1) := dk_4 (dk_at dksX0_setPresent_0 22 rfl rfl)
theorem dX0_setPresent_23 : decode cX0_setPresent 23 = .ok (.ireturn, 1) := dk_172 (dk_at dksX0_setPresent_0 23 rfl rfl)
theorem dX0_setPresent_24 : decode cX0_setPresent 24 = .ok (.iconst 0, 1) := dk_3 (dk_at dksX0_setPresent_1 0 rfl rfl)
theorem dX0_setPresent_25 : decode cX0_setPresent 25 = .ok (.ireturn, 1) := dk_172 (dk_at dksX0_setPresent_1 1 rfl rfl)
abbrev cX0_member : ByteArray := method_5_code
def yX0_member : MethodName := ⟨RX0, "member", "(LSecretVault;II[J)I"⟩
def dkwX0_member_0 : List UInt8 := [45, 3, 42, 27, 28, 182, 0, 21, 133, 80, 167, 0, 11, 58, 4, 4, 172, 58, 4, 5, 172, 3, 172]
abbrev dktX0_member_0 : List UInt8 := dkwX0_member_0 ++ []
theorem dksX0_member_0 : cX0_member.data.toList.drop 0 = dktX0_member_0 := by decide +kernel
theorem dX0_member_0 : decode cX0_member 0 = .ok (.aload_n 3, 1) := dk_45 (dk_at dksX0_member_0 0 rfl rfl)
theorem dX0_member_1 : decode cX0_member 1 = .ok (.iconst 0, 1) := dk_3 (dk_at dksX0_member_0 1 rfl rfl)
theorem dX0_member_2 : decode cX0_member 2 = .ok (.aload_n 0, 1) := dk_42 (dk_at dksX0_member_0 2 rfl rfl)
theorem dX0_member_3 : decode cX0_member 3 = .ok (.iload_n 1, 1) := dk_27 (dk_at dksX0_member_0 3 rfl rfl)
theorem dX0_member_4 : decode cX0_member 4 = .ok (.iload_n 2, 1) := dk_28 (dk_at dksX0_member_0 4 rfl rfl)
theorem dX0_member_5 : decode cX0_member 5 = .ok (.invokevirtual 21, 3) := dk_182 0 21 (dk_at dksX0_member_0 5 rfl rfl)
theorem dX0_member_8 : decode cX0_member 8 = .ok (.i2l, 1) := dk_133 (dk_at dksX0_member_0 8 rfl rfl)
theorem dX0_member_9 : decode cX0_member 9 = .ok (.lastore, 1) := dk_80 (dk_at dksX0_member_0 9 rfl rfl)
theorem dX0_member_10 : decode cX0_member 10 = .ok (.goto 11, 3) := dk_167 0 11 (dk_at dksX0_member_0 10 rfl rfl)
theorem dX0_member_13 : decode cX0_member 13 = .ok (.astore 4, 2) := dk_58 4 (dk_at dksX0_member_0 13 rfl rfl)
theorem dX0_member_15 : decode cX0_member 15 = .ok (.iconst 1, 1) := dk_4 (dk_at dksX0_member_0 15 rfl rfl)
theorem dX0_member_16 : decode cX0_member 16 = .ok (.ireturn, 1) := dk_172 (dk_at dksX0_member_0 16 rfl rfl)
theorem dX0_member_17 : decode cX0_member 17 = .ok (.astore 4, 2) := dk_58 4 (dk_at dksX0_member_0 17 rfl rfl)
theorem dX0_member_19 : decode cX0_member 19 = .ok (.iconst 2, 1) := dk_5 (dk_at dksX0_member_0 19 rfl rfl)
theorem dX0_member_20 : decode cX0_member 20 = .ok (.ireturn, 1) := dk_172 (dk_at dksX0_member_0 20 rfl rfl)
theorem dX0_member_21 : decode cX0_member 21 = .ok (.iconst 0, 1) := dk_3 (dk_at dksX0_member_0 21 rfl rfl)
theorem dX0_member_22 : decode cX0_member 22 = .ok (.ireturn, 1) := dk_172 (dk_at dksX0_member_0 22 rfl rfl)
abbrev cX0_put : ByteArray := method_6_code
def yX0_put : MethodName := ⟨RX0, "put", "(LSecretVault;III[J)I"⟩
def dkwX0_put_1 : List UInt8 := [58, 5, 6, 172, 3, 172]
abbrev dktX0_put_1 : List UInt8 := dkwX0_put_1 ++ []
def dkwX0_put_0 : List UInt8 := [25, 4, 3, 42, 27, 28, 29, 182, 0, 24, 133, 80, 167, 0, 15, 58, 5, 4, 172, 58, 5, 5, 172]
abbrev dktX0_put_0 : List UInt8 := dkwX0_put_0 ++ dktX0_put_1
theorem dksX0_put_0 : cX0_put.data.toList.drop 0 = dktX0_put_0 := by decide +kernel
theorem dksX0_put_1 : cX0_put.data.toList.drop 23 = dktX0_put_1 := dk_seg dksX0_put_0 23 rfl rfl
theorem dX0_put_0 : decode cX0_put 0 = .ok (.aload 4, 2) := dk_25 4 (dk_at dksX0_put_0 0 rfl rfl)
theorem dX0_put_2 : decode cX0_put 2 = .ok (.iconst 0, 1) := dk_3 (dk_at dksX0_put_0 2 rfl rfl)
theorem dX0_put_3 : decode cX0_put 3 = .ok (.aload_n 0, 1) := dk_42 (dk_at dksX0_put_0 3 rfl rfl)
theorem dX0_put_4 : decode cX0_put 4 = .ok (.iload_n 1, 1) := dk_27 (dk_at dksX0_put_0 4 rfl rfl)
theorem dX0_put_5 : decode cX0_put 5 = .ok (.iload_n 2, 1) := dk_28 (dk_at dksX0_put_0 5 rfl rfl)
theorem dX0_put_6 : decode cX0_put 6 = .ok (.iload_n 3, 1) := dk_29 (dk_at dksX0_put_0 6 rfl rfl)
theorem dX0_put_7 : decode cX0_put 7 = .ok (.invokevirtual 24, 3) := dk_182 0 24 (dk_at dksX0_put_0 7 rfl rfl)
theorem dX0_put_10 : decode cX0_put 10 = .ok (.i2l, 1) := dk_133 (dk_at dksX0_put_0 10 rfl rfl)
theorem dX0_put_11 : decode cX0_put 11 = .ok (.lastore, 1) := dk_80 (dk_at dksX0_put_0 11 rfl rfl)
theorem dX0_put_12 : decode cX0_put 12 = .ok (.goto 15, 3) := dk_167 0 15 (dk_at dksX0_put_0 12 rfl rfl)
theorem dX0_put_15 : decode cX0_put 15 = .ok (.astore 5, 2) := dk_58 5 (dk_at dksX0_put_0 15 rfl rfl)
theorem dX0_put_17 : decode cX0_put 17 = .ok (.iconst 1, 1) := dk_4 (dk_at dksX0_put_0 17 rfl rfl)
theorem dX0_put_18 : decode cX0_put 18 = .ok (.ireturn, 1) := dk_172 (dk_at dksX0_put_0 18 rfl rfl)
theorem dX0_put_19 : decode cX0_put 19 = .ok (.astore 5, 2) := dk_58 5 (dk_at dksX0_put_0 19 rfl rfl)
theorem dX0_put_21 : decode cX0_put 21 = .ok (.iconst 2, 1) := dk_5 (dk_at dksX0_put_0 21 rfl rfl)
theorem dX0_put_22 : decode cX0_put 22 = .ok (.ireturn, 1) := dk_172 (dk_at dksX0_put_0 22 rfl rfl)
theorem dX0_put_23 : decode cX0_put 23 = .ok (.astore 5, 2) := dk_58 5 (dk_at dksX0_put_1 0 rfl rfl)
theorem dX0_put_25 : decode cX0_put 25 = .ok (.iconst 3, 1) := dk_6 (dk_at dksX0_put_1 2 rfl rfl)
theorem dX0_put_26 : decode cX0_put 26 = .ok (.ireturn, 1) := dk_172 (dk_at dksX0_put_1 3 rfl rfl)
theorem dX0_put_27 : decode cX0_put 27 = .ok (.iconst 0, 1) := dk_3 (dk_at dksX0_put_1 4 rfl rfl)
theorem dX0_put_28 : decode cX0_put 28 = .ok (.ireturn, 1) := dk_172 (dk_at dksX0_put_1 5 rfl rfl)
abbrev cX0_remove : ByteArray := method_7_code
def yX0_remove : MethodName := ⟨RX0, "remove", "(LSecretVault;I[J)I"⟩
def dkwX0_remove_0 : List UInt8 := [44, 3, 42, 27, 182, 0, 30, 133, 80, 167, 0, 9, 78, 4, 172, 78, 5, 172, 3, 172]
abbrev dktX0_remove_0 : List UInt8 := dkwX0_remove_0 ++ []
theorem dksX0_remove_0 : cX0_remove.data.toList.drop 0 = dktX0_remove_0 := by decide +kernel
theorem dX0_remove_0 : decode cX0_remove 0 = .ok (.aload_n 2, 1) := dk_44 (dk_at dksX0_remove_0 0 rfl rfl)
theorem dX0_remove_1 : decode cX0_remove 1 = .ok (.iconst 0, 1) := dk_3 (dk_at dksX0_remove_0 1 rfl rfl)
theorem dX0_remove_2 : decode cX0_remove 2 = .ok (.aload_n 0, 1) := dk_42 (dk_at dksX0_remove_0 2 rfl rfl)
theorem dX0_remove_3 : decode cX0_remove 3 = .ok (.iload_n 1, 1) := dk_27 (dk_at dksX0_remove_0 3 rfl rfl)
theorem dX0_remove_4 : decode cX0_remove 4 = .ok (.invokevirtual 30, 3) := dk_182 0 30 (dk_at dksX0_remove_0 4 rfl rfl)
theorem dX0_remove_7 : decode cX0_remove 7 = .ok (.i2l, 1) := dk_133 (dk_at dksX0_remove_0 7 rfl rfl)
theorem dX0_remove_8 : decode cX0_remove 8 = .ok (.lastore, 1) := dk_80 (dk_at dksX0_remove_0 8 rfl rfl)
theorem dX0_remove_9 : decode cX0_remove 9 = .ok (.goto 9, 3) := dk_167 0 9 (dk_at dksX0_remove_0 9 rfl rfl)
theorem dX0_remove_12 : decode cX0_remove 12 = .ok (.astore_n 3, 1) := dk_78 (dk_at dksX0_remove_0 12 rfl rfl)
theorem dX0_remove_13 : decode cX0_remove 13 = .ok (.iconst 1, 1) := dk_4 (dk_at dksX0_remove_0 13 rfl rfl)
theorem dX0_remove_14 : decode cX0_remove 14 = .ok (.ireturn, 1) := dk_172 (dk_at dksX0_remove_0 14 rfl rfl)
theorem dX0_remove_15 : decode cX0_remove 15 = .ok (.astore_n 3, 1) := dk_78 (dk_at dksX0_remove_0 15 rfl rfl)
theorem dX0_remove_16 : decode cX0_remove 16 = .ok (.iconst 2, 1) := dk_5 (dk_at dksX0_remove_0 16 rfl rfl)
theorem dX0_remove_17 : decode cX0_remove 17 = .ok (.ireturn, 1) := dk_172 (dk_at dksX0_remove_0 17 rfl rfl)
theorem dX0_remove_18 : decode cX0_remove 18 = .ok (.iconst 0, 1) := dk_3 (dk_at dksX0_remove_0 18 rfl rfl)
theorem dX0_remove_19 : decode cX0_remove 19 = .ok (.ireturn, 1) := dk_172 (dk_at dksX0_remove_0 19 rfl rfl)
abbrev cX0_refresh : ByteArray := method_8_code
def yX0_refresh : MethodName := ⟨RX0, "refresh", "(LSecretVault;I[J)I"⟩
def dkwX0_refresh_0 : List UInt8 := [44, 3, 42, 27, 182, 0, 36, 133, 80, 167, 0, 9, 78, 4, 172, 78, 5, 172, 3, 172]
abbrev dktX0_refresh_0 : List UInt8 := dkwX0_refresh_0 ++ []
theorem dksX0_refresh_0 : cX0_refresh.data.toList.drop 0 = dktX0_refresh_0 := by decide +kernel
theorem dX0_refresh_0 : decode cX0_refresh 0 = .ok (.aload_n 2, 1) := dk_44 (dk_at dksX0_refresh_0 0 rfl rfl)
theorem dX0_refresh_1 : decode cX0_refresh 1 = .ok (.iconst 0, 1) := dk_3 (dk_at dksX0_refresh_0 1 rfl rfl)
theorem dX0_refresh_2 : decode cX0_refresh 2 = .ok (.aload_n 0, 1) := dk_42 (dk_at dksX0_refresh_0 2 rfl rfl)
theorem dX0_refresh_3 : decode cX0_refresh 3 = .ok (.iload_n 1, 1) := dk_27 (dk_at dksX0_refresh_0 3 rfl rfl)
theorem dX0_refresh_4 : decode cX0_refresh 4 = .ok (.invokevirtual 36, 3) := dk_182 0 36 (dk_at dksX0_refresh_0 4 rfl rfl)
theorem dX0_refresh_7 : decode cX0_refresh 7 = .ok (.i2l, 1) := dk_133 (dk_at dksX0_refresh_0 7 rfl rfl)
theorem dX0_refresh_8 : decode cX0_refresh 8 = .ok (.lastore, 1) := dk_80 (dk_at dksX0_refresh_0 8 rfl rfl)
theorem dX0_refresh_9 : decode cX0_refresh 9 = .ok (.goto 9, 3) := dk_167 0 9 (dk_at dksX0_refresh_0 9 rfl rfl)
theorem dX0_refresh_12 : decode cX0_refresh 12 = .ok (.astore_n 3, 1) := dk_78 (dk_at dksX0_refresh_0 12 rfl rfl)
theorem dX0_refresh_13 : decode cX0_refresh 13 = .ok (.iconst 1, 1) := dk_4 (dk_at dksX0_refresh_0 13 rfl rfl)
theorem dX0_refresh_14 : decode cX0_refresh 14 = .ok (.ireturn, 1) := dk_172 (dk_at dksX0_refresh_0 14 rfl rfl)
theorem dX0_refresh_15 : decode cX0_refresh 15 = .ok (.astore_n 3, 1) := dk_78 (dk_at dksX0_refresh_0 15 rfl rfl)
theorem dX0_refresh_16 : decode cX0_refresh 16 = .ok (.iconst 2, 1) := dk_5 (dk_at dksX0_refresh_0 16 rfl rfl)
theorem dX0_refresh_17 : decode cX0_refresh 17 = .ok (.ireturn, 1) := dk_172 (dk_at dksX0_refresh_0 17 rfl rfl)
theorem dX0_refresh_18 : decode cX0_refresh 18 = .ok (.iconst 0, 1) := dk_3 (dk_at dksX0_refresh_0 18 rfl rfl)
theorem dX0_refresh_19 : decode cX0_refresh 19 = .ok (.ireturn, 1) := dk_172 (dk_at dksX0_refresh_0 19 rfl rfl)
abbrev cX0_reshare : ByteArray := method_9_code
def yX0_reshare : MethodName := ⟨RX0, "reshare", "(LSecretVault;III[J)I"⟩
def dkwX0_reshare_1 : List UInt8 := [58, 5, 6, 172, 58, 5, 7, 172, 58, 5, 8, 172, 3, 172]
abbrev dktX0_reshare_1 : List UInt8 := dkwX0_reshare_1 ++ []
def dkwX0_reshare_0 : List UInt8 := [25, 4, 3, 42, 27, 28, 29, 182, 0, 39, 133, 80, 167, 0, 23, 58, 5, 4, 172, 58, 5, 5, 172]
abbrev dktX0_reshare_0 : List UInt8 := dkwX0_reshare_0 ++ dktX0_reshare_1
theorem dksX0_reshare_0 : cX0_reshare.data.toList.drop 0 = dktX0_reshare_0 := by decide +kernel
theorem dksX0_reshare_1 : cX0_reshare.data.toList.drop 23 = dktX0_reshare_1 := dk_seg dksX0_reshare_0 23 rfl rfl
theorem dX0_reshare_0 : decode cX0_reshare 0 = .ok (.aload 4, 2) := dk_25 4 (dk_at dksX0_reshare_0 0 rfl rfl)
theorem dX0_reshare_2 : decode cX0_reshare 2 = .ok (.iconst 0, 1) := dk_3 (dk_at dksX0_reshare_0 2 rfl rfl)
theorem dX0_reshare_3 : decode cX0_reshare 3 = .ok (.aload_n 0, 1) := dk_42 (dk_at dksX0_reshare_0 3 rfl rfl)
theorem dX0_reshare_4 : decode cX0_reshare 4 = .ok (.iload_n 1, 1) := dk_27 (dk_at dksX0_reshare_0 4 rfl rfl)
theorem dX0_reshare_5 : decode cX0_reshare 5 = .ok (.iload_n 2, 1) := dk_28 (dk_at dksX0_reshare_0 5 rfl rfl)
theorem dX0_reshare_6 : decode cX0_reshare 6 = .ok (.iload_n 3, 1) := dk_29 (dk_at dksX0_reshare_0 6 rfl rfl)
theorem dX0_reshare_7 : decode cX0_reshare 7 = .ok (.invokevirtual 39, 3) := dk_182 0 39 (dk_at dksX0_reshare_0 7 rfl rfl)
theorem dX0_reshare_10 : decode cX0_reshare 10 = .ok (.i2l, 1) := dk_133 (dk_at dksX0_reshare_0 10 rfl rfl)
theorem dX0_reshare_11 : decode cX0_reshare 11 = .ok (.lastore, 1) := dk_80 (dk_at dksX0_reshare_0 11 rfl rfl)
theorem dX0_reshare_12 : decode cX0_reshare 12 = .ok (.goto 23, 3) := dk_167 0 23 (dk_at dksX0_reshare_0 12 rfl rfl)
theorem dX0_reshare_15 : decode cX0_reshare 15 = .ok (.astore 5, 2) := dk_58 5 (dk_at dksX0_reshare_0 15 rfl rfl)
theorem dX0_reshare_17 : decode cX0_reshare 17 = .ok (.iconst 1, 1) := dk_4 (dk_at dksX0_reshare_0 17 rfl rfl)
theorem dX0_reshare_18 : decode cX0_reshare 18 = .ok (.ireturn, 1) := dk_172 (dk_at dksX0_reshare_0 18 rfl rfl)
theorem dX0_reshare_19 : decode cX0_reshare 19 = .ok (.astore 5, 2) := dk_58 5 (dk_at dksX0_reshare_0 19 rfl rfl)
theorem dX0_reshare_21 : decode cX0_reshare 21 = .ok (.iconst 2, 1) := dk_5 (dk_at dksX0_reshare_0 21 rfl rfl)
theorem dX0_reshare_22 : decode cX0_reshare 22 = .ok (.ireturn, 1) := dk_172 (dk_at dksX0_reshare_0 22 rfl rfl)
theorem dX0_reshare_23 : decode cX0_reshare 23 = .ok (.astore 5, 2) := dk_58 5 (dk_at dksX0_reshare_1 0 rfl rfl)
theorem dX0_reshare_25 : decode cX0_reshare 25 = .ok (.iconst 3, 1) := dk_6 (dk_at dksX0_reshare_1 2 rfl rfl)
theorem dX0_reshare_26 : decode cX0_reshare 26 = .ok (.ireturn, 1) := dk_172 (dk_at dksX0_reshare_1 3 rfl rfl)
theorem dX0_reshare_27 : decode cX0_reshare 27 = .ok (.astore 5, 2) := dk_58 5 (dk_at dksX0_reshare_1 4 rfl rfl)
theorem dX0_reshare_29 : decode cX0_reshare 29 = .ok (.iconst 4, 1) := dk_7 (dk_at dksX0_reshare_1 6 rfl rfl)
theorem dX0_reshare_30 : decode cX0_reshare 30 = .ok (.ireturn, 1) := dk_172 (dk_at dksX0_reshare_1 7 rfl rfl)
theorem dX0_reshare_31 : decode cX0_reshare 31 = .ok (.astore 5, 2) := dk_58 5 (dk_at dksX0_reshare_1 8 rfl rfl)
theorem dX0_reshare_33 : decode cX0_reshare 33 = .ok (.iconst 5, 1) := dk_8 (dk_at dksX0_reshare_1 10 rfl rfl)
theorem dX0_reshare_34 : decode cX0_reshare 34 = .ok (.ireturn, 1) := dk_172 (dk_at dksX0_reshare_1 11 rfl rfl)
theorem dX0_reshare_35 : decode cX0_reshare 35 = .ok (.iconst 0, 1) := dk_3 (dk_at dksX0_reshare_1 12 rfl rfl)
theorem dX0_reshare_36 : decode cX0_reshare 36 = .ok (.ireturn, 1) := dk_172 (dk_at dksX0_reshare_1 13 rfl rfl)
abbrev cX0_enroll : ByteArray := method_10_code
def yX0_enroll : MethodName := ⟨RX0, "enroll", "(LSecretVault;III[J)I"⟩
def dkwX0_enroll_1 : List UInt8 := [58, 5, 6, 172, 58, 5, 7, 172, 3, 172]
abbrev dktX0_enroll_1 : List UInt8 := dkwX0_enroll_1 ++ []
def dkwX0_enroll_0 : List UInt8 := [25, 4, 3, 42, 27, 28, 29, 182, 0, 44, 133, 80, 167, 0, 19, 58, 5, 4, 172, 58, 5, 5, 172]
abbrev dktX0_enroll_0 : List UInt8 := dkwX0_enroll_0 ++ dktX0_enroll_1
theorem dksX0_enroll_0 : cX0_enroll.data.toList.drop 0 = dktX0_enroll_0 := by decide +kernel
theorem dksX0_enroll_1 : cX0_enroll.data.toList.drop 23 = dktX0_enroll_1 := dk_seg dksX0_enroll_0 23 rfl rfl
theorem dX0_enroll_0 : decode cX0_enroll 0 = .ok (.aload 4, 2) := dk_25 4 (dk_at dksX0_enroll_0 0 rfl rfl)
theorem dX0_enroll_2 : decode cX0_enroll 2 = .ok (.iconst 0, 1) := dk_3 (dk_at dksX0_enroll_0 2 rfl rfl)
theorem dX0_enroll_3 : decode cX0_enroll 3 = .ok (.aload_n 0, 1) := dk_42 (dk_at dksX0_enroll_0 3 rfl rfl)
theorem dX0_enroll_4 : decode cX0_enroll 4 = .ok (.iload_n 1, 1) := dk_27 (dk_at dksX0_enroll_0 4 rfl rfl)
theorem dX0_enroll_5 : decode cX0_enroll 5 = .ok (.iload_n 2, 1) := dk_28 (dk_at dksX0_enroll_0 5 rfl rfl)
theorem dX0_enroll_6 : decode cX0_enroll 6 = .ok (.iload_n 3, 1) := dk_29 (dk_at dksX0_enroll_0 6 rfl rfl)
theorem dX0_enroll_7 : decode cX0_enroll 7 = .ok (.invokevirtual 44, 3) := dk_182 0 44 (dk_at dksX0_enroll_0 7 rfl rfl)
theorem dX0_enroll_10 : decode cX0_enroll 10 = .ok (.i2l, 1) := dk_133 (dk_at dksX0_enroll_0 10 rfl rfl)
theorem dX0_enroll_11 : decode cX0_enroll 11 = .ok (.lastore, 1) := dk_80 (dk_at dksX0_enroll_0 11 rfl rfl)
theorem dX0_enroll_12 : decode cX0_enroll 12 = .ok (.goto 19, 3) := dk_167 0 19 (dk_at dksX0_enroll_0 12 rfl rfl)
theorem dX0_enroll_15 : decode cX0_enroll 15 = .ok (.astore 5, 2) := dk_58 5 (dk_at dksX0_enroll_0 15 rfl rfl)
theorem dX0_enroll_17 : decode cX0_enroll 17 = .ok (.iconst 1, 1) := dk_4 (dk_at dksX0_enroll_0 17 rfl rfl)
theorem dX0_enroll_18 : decode cX0_enroll 18 = .ok (.ireturn, 1) := dk_172 (dk_at dksX0_enroll_0 18 rfl rfl)
theorem dX0_enroll_19 : decode cX0_enroll 19 = .ok (.astore 5, 2) := dk_58 5 (dk_at dksX0_enroll_0 19 rfl rfl)
theorem dX0_enroll_21 : decode cX0_enroll 21 = .ok (.iconst 2, 1) := dk_5 (dk_at dksX0_enroll_0 21 rfl rfl)
theorem dX0_enroll_22 : decode cX0_enroll 22 = .ok (.ireturn, 1) := dk_172 (dk_at dksX0_enroll_0 22 rfl rfl)
theorem dX0_enroll_23 : decode cX0_enroll 23 = .ok (.astore 5, 2) := dk_58 5 (dk_at dksX0_enroll_1 0 rfl rfl)
theorem dX0_enroll_25 : decode cX0_enroll 25 = .ok (.iconst 3, 1) := dk_6 (dk_at dksX0_enroll_1 2 rfl rfl)
theorem dX0_enroll_26 : decode cX0_enroll 26 = .ok (.ireturn, 1) := dk_172 (dk_at dksX0_enroll_1 3 rfl rfl)
theorem dX0_enroll_27 : decode cX0_enroll 27 = .ok (.astore 5, 2) := dk_58 5 (dk_at dksX0_enroll_1 4 rfl rfl)
theorem dX0_enroll_29 : decode cX0_enroll 29 = .ok (.iconst 4, 1) := dk_7 (dk_at dksX0_enroll_1 6 rfl rfl)
theorem dX0_enroll_30 : decode cX0_enroll 30 = .ok (.ireturn, 1) := dk_172 (dk_at dksX0_enroll_1 7 rfl rfl)
theorem dX0_enroll_31 : decode cX0_enroll 31 = .ok (.iconst 0, 1) := dk_3 (dk_at dksX0_enroll_1 8 rfl rfl)
theorem dX0_enroll_32 : decode cX0_enroll 32 = .ok (.ireturn, 1) := dk_172 (dk_at dksX0_enroll_1 9 rfl rfl)
abbrev cX0_expel : ByteArray := method_11_code
def yX0_expel : MethodName := ⟨RX0, "expel", "(LSecretVault;II[J)I"⟩
def dkwX0_expel_0 : List UInt8 := [45, 3, 42, 27, 28, 182, 0, 47, 133, 80, 167, 0, 11, 58, 4, 4, 172, 58, 4, 5, 172, 3, 172]
abbrev dktX0_expel_0 : List UInt8 := dkwX0_expel_0 ++ []
theorem dksX0_expel_0 : cX0_expel.data.toList.drop 0 = dktX0_expel_0 := by decide +kernel
theorem dX0_expel_0 : decode cX0_expel 0 = .ok (.aload_n 3, 1) := dk_45 (dk_at dksX0_expel_0 0 rfl rfl)
theorem dX0_expel_1 : decode cX0_expel 1 = .ok (.iconst 0, 1) := dk_3 (dk_at dksX0_expel_0 1 rfl rfl)
theorem dX0_expel_2 : decode cX0_expel 2 = .ok (.aload_n 0, 1) := dk_42 (dk_at dksX0_expel_0 2 rfl rfl)
theorem dX0_expel_3 : decode cX0_expel 3 = .ok (.iload_n 1, 1) := dk_27 (dk_at dksX0_expel_0 3 rfl rfl)
theorem dX0_expel_4 : decode cX0_expel 4 = .ok (.iload_n 2, 1) := dk_28 (dk_at dksX0_expel_0 4 rfl rfl)
theorem dX0_expel_5 : decode cX0_expel 5 = .ok (.invokevirtual 47, 3) := dk_182 0 47 (dk_at dksX0_expel_0 5 rfl rfl)
theorem dX0_expel_8 : decode cX0_expel 8 = .ok (.i2l, 1) := dk_133 (dk_at dksX0_expel_0 8 rfl rfl)
theorem dX0_expel_9 : decode cX0_expel 9 = .ok (.lastore, 1) := dk_80 (dk_at dksX0_expel_0 9 rfl rfl)
theorem dX0_expel_10 : decode cX0_expel 10 = .ok (.goto 11, 3) := dk_167 0 11 (dk_at dksX0_expel_0 10 rfl rfl)
theorem dX0_expel_13 : decode cX0_expel 13 = .ok (.astore 4, 2) := dk_58 4 (dk_at dksX0_expel_0 13 rfl rfl)
theorem dX0_expel_15 : decode cX0_expel 15 = .ok (.iconst 1, 1) := dk_4 (dk_at dksX0_expel_0 15 rfl rfl)
theorem dX0_expel_16 : decode cX0_expel 16 = .ok (.ireturn, 1) := dk_172 (dk_at dksX0_expel_0 16 rfl rfl)
theorem dX0_expel_17 : decode cX0_expel 17 = .ok (.astore 4, 2) := dk_58 4 (dk_at dksX0_expel_0 17 rfl rfl)
theorem dX0_expel_19 : decode cX0_expel 19 = .ok (.iconst 2, 1) := dk_5 (dk_at dksX0_expel_0 19 rfl rfl)
theorem dX0_expel_20 : decode cX0_expel 20 = .ok (.ireturn, 1) := dk_172 (dk_at dksX0_expel_0 20 rfl rfl)
theorem dX0_expel_21 : decode cX0_expel 21 = .ok (.iconst 0, 1) := dk_3 (dk_at dksX0_expel_0 21 rfl rfl)
theorem dX0_expel_22 : decode cX0_expel 22 = .ok (.ireturn, 1) := dk_172 (dk_at dksX0_expel_0 22 rfl rfl)
abbrev cX0_open : ByteArray := method_12_code
def yX0_open : MethodName := ⟨RX0, "open", "(LSecretVault;II[J)I"⟩
def dkwX0_open_1 : List UInt8 := [172, 58, 4, 7, 172, 3, 172]
abbrev dktX0_open_1 : List UInt8 := dkwX0_open_1 ++ []
def dkwX0_open_0 : List UInt8 := [45, 3, 42, 27, 28, 182, 0, 50, 133, 80, 167, 0, 19, 58, 4, 4, 172, 58, 4, 5, 172, 58, 4, 6]
abbrev dktX0_open_0 : List UInt8 := dkwX0_open_0 ++ dktX0_open_1
theorem dksX0_open_0 : cX0_open.data.toList.drop 0 = dktX0_open_0 := by decide +kernel
theorem dksX0_open_1 : cX0_open.data.toList.drop 24 = dktX0_open_1 := dk_seg dksX0_open_0 24 rfl rfl
theorem dX0_open_0 : decode cX0_open 0 = .ok (.aload_n 3, 1) := dk_45 (dk_at dksX0_open_0 0 rfl rfl)
theorem dX0_open_1 : decode cX0_open 1 = .ok (.iconst 0, 1) := dk_3 (dk_at dksX0_open_0 1 rfl rfl)
theorem dX0_open_2 : decode cX0_open 2 = .ok (.aload_n 0, 1) := dk_42 (dk_at dksX0_open_0 2 rfl rfl)
theorem dX0_open_3 : decode cX0_open 3 = .ok (.iload_n 1, 1) := dk_27 (dk_at dksX0_open_0 3 rfl rfl)
theorem dX0_open_4 : decode cX0_open 4 = .ok (.iload_n 2, 1) := dk_28 (dk_at dksX0_open_0 4 rfl rfl)
theorem dX0_open_5 : decode cX0_open 5 = .ok (.invokevirtual 50, 3) := dk_182 0 50 (dk_at dksX0_open_0 5 rfl rfl)
theorem dX0_open_8 : decode cX0_open 8 = .ok (.i2l, 1) := dk_133 (dk_at dksX0_open_0 8 rfl rfl)
theorem dX0_open_9 : decode cX0_open 9 = .ok (.lastore, 1) := dk_80 (dk_at dksX0_open_0 9 rfl rfl)
theorem dX0_open_10 : decode cX0_open 10 = .ok (.goto 19, 3) := dk_167 0 19 (dk_at dksX0_open_0 10 rfl rfl)
theorem dX0_open_13 : decode cX0_open 13 = .ok (.astore 4, 2) := dk_58 4 (dk_at dksX0_open_0 13 rfl rfl)
theorem dX0_open_15 : decode cX0_open 15 = .ok (.iconst 1, 1) := dk_4 (dk_at dksX0_open_0 15 rfl rfl)
theorem dX0_open_16 : decode cX0_open 16 = .ok (.ireturn, 1) := dk_172 (dk_at dksX0_open_0 16 rfl rfl)
theorem dX0_open_17 : decode cX0_open 17 = .ok (.astore 4, 2) := dk_58 4 (dk_at dksX0_open_0 17 rfl rfl)
theorem dX0_open_19 : decode cX0_open 19 = .ok (.iconst 2, 1) := dk_5 (dk_at dksX0_open_0 19 rfl rfl)
theorem dX0_open_20 : decode cX0_open 20 = .ok (.ireturn, 1) := dk_172 (dk_at dksX0_open_0 20 rfl rfl)
theorem dX0_open_21 : decode cX0_open 21 = .ok (.astore 4, 2) := dk_58 4 (dk_at dksX0_open_0 21 rfl rfl)
theorem dX0_open_23 : decode cX0_open 23 = .ok (.iconst 3, 1) := dk_6 (dk_at dksX0_open_0 23 rfl rfl)
theorem dX0_open_24 : decode cX0_open 24 = .ok (.ireturn, 1) := dk_172 (dk_at dksX0_open_1 0 rfl rfl)
theorem dX0_open_25 : decode cX0_open 25 = .ok (.astore 4, 2) := dk_58 4 (dk_at dksX0_open_1 1 rfl rfl)
theorem dX0_open_27 : decode cX0_open 27 = .ok (.iconst 4, 1) := dk_7 (dk_at dksX0_open_1 3 rfl rfl)
theorem dX0_open_28 : decode cX0_open 28 = .ok (.ireturn, 1) := dk_172 (dk_at dksX0_open_1 4 rfl rfl)
theorem dX0_open_29 : decode cX0_open 29 = .ok (.iconst 0, 1) := dk_3 (dk_at dksX0_open_1 5 rfl rfl)
theorem dX0_open_30 : decode cX0_open 30 = .ok (.ireturn, 1) := dk_172 (dk_at dksX0_open_1 6 rfl rfl)
abbrev cX0_combine : ByteArray := method_13_code
def yX0_combine : MethodName := ⟨RX0, "combine", "(LSecretVault;II[J)I"⟩
def dkwX0_combine_1 : List UInt8 := [172, 58, 4, 7, 172, 3, 172]
abbrev dktX0_combine_1 : List UInt8 := dkwX0_combine_1 ++ []
def dkwX0_combine_0 : List UInt8 := [45, 3, 42, 27, 28, 182, 0, 53, 133, 80, 167, 0, 19, 58, 4, 4, 172, 58, 4, 5, 172, 58, 4, 6]
abbrev dktX0_combine_0 : List UInt8 := dkwX0_combine_0 ++ dktX0_combine_1
theorem dksX0_combine_0 : cX0_combine.data.toList.drop 0 = dktX0_combine_0 := by decide +kernel
theorem dksX0_combine_1 : cX0_combine.data.toList.drop 24 = dktX0_combine_1 := dk_seg dksX0_combine_0 24 rfl rfl
theorem dX0_combine_0 : decode cX0_combine 0 = .ok (.aload_n 3, 1) := dk_45 (dk_at dksX0_combine_0 0 rfl rfl)
theorem dX0_combine_1 : decode cX0_combine 1 = .ok (.iconst 0, 1) := dk_3 (dk_at dksX0_combine_0 1 rfl rfl)
theorem dX0_combine_2 : decode cX0_combine 2 = .ok (.aload_n 0, 1) := dk_42 (dk_at dksX0_combine_0 2 rfl rfl)
theorem dX0_combine_3 : decode cX0_combine 3 = .ok (.iload_n 1, 1) := dk_27 (dk_at dksX0_combine_0 3 rfl rfl)
theorem dX0_combine_4 : decode cX0_combine 4 = .ok (.iload_n 2, 1) := dk_28 (dk_at dksX0_combine_0 4 rfl rfl)
theorem dX0_combine_5 : decode cX0_combine 5 = .ok (.invokevirtual 53, 3) := dk_182 0 53 (dk_at dksX0_combine_0 5 rfl rfl)
theorem dX0_combine_8 : decode cX0_combine 8 = .ok (.i2l, 1) := dk_133 (dk_at dksX0_combine_0 8 rfl rfl)
theorem dX0_combine_9 : decode cX0_combine 9 = .ok (.lastore, 1) := dk_80 (dk_at dksX0_combine_0 9 rfl rfl)
theorem dX0_combine_10 : decode cX0_combine 10 = .ok (.goto 19, 3) := dk_167 0 19 (dk_at dksX0_combine_0 10 rfl rfl)
theorem dX0_combine_13 : decode cX0_combine 13 = .ok (.astore 4, 2) := dk_58 4 (dk_at dksX0_combine_0 13 rfl rfl)
theorem dX0_combine_15 : decode cX0_combine 15 = .ok (.iconst 1, 1) := dk_4 (dk_at dksX0_combine_0 15 rfl rfl)
theorem dX0_combine_16 : decode cX0_combine 16 = .ok (.ireturn, 1) := dk_172 (dk_at dksX0_combine_0 16 rfl rfl)
theorem dX0_combine_17 : decode cX0_combine 17 = .ok (.astore 4, 2) := dk_58 4 (dk_at dksX0_combine_0 17 rfl rfl)
theorem dX0_combine_19 : decode cX0_combine 19 = .ok (.iconst 2, 1) := dk_5 (dk_at dksX0_combine_0 19 rfl rfl)
theorem dX0_combine_20 : decode cX0_combine 20 = .ok (.ireturn, 1) := dk_172 (dk_at dksX0_combine_0 20 rfl rfl)
theorem dX0_combine_21 : decode cX0_combine 21 = .ok (.astore 4, 2) := dk_58 4 (dk_at dksX0_combine_0 21 rfl rfl)
theorem dX0_combine_23 : decode cX0_combine 23 = .ok (.iconst 3, 1) := dk_6 (dk_at dksX0_combine_0 23 rfl rfl)
theorem dX0_combine_24 : decode cX0_combine 24 = .ok (.ireturn, 1) := dk_172 (dk_at dksX0_combine_1 0 rfl rfl)
theorem dX0_combine_25 : decode cX0_combine 25 = .ok (.astore 4, 2) := dk_58 4 (dk_at dksX0_combine_1 1 rfl rfl)
theorem dX0_combine_27 : decode cX0_combine 27 = .ok (.iconst 4, 1) := dk_7 (dk_at dksX0_combine_1 3 rfl rfl)
theorem dX0_combine_28 : decode cX0_combine 28 = .ok (.ireturn, 1) := dk_172 (dk_at dksX0_combine_1 4 rfl rfl)
theorem dX0_combine_29 : decode cX0_combine 29 = .ok (.iconst 0, 1) := dk_3 (dk_at dksX0_combine_1 5 rfl rfl)
theorem dX0_combine_30 : decode cX0_combine 30 = .ok (.ireturn, 1) := dk_172 (dk_at dksX0_combine_1 6 rfl rfl)
abbrev cX0_agree : ByteArray := method_14_code
def yX0_agree : MethodName := ⟨RX0, "agree", "(LSecretVault;II[J)I"⟩
def dkwX0_agree_1 : List UInt8 := [58, 4, 5, 172, 58, 4, 6, 172, 3, 172]
abbrev dktX0_agree_1 : List UInt8 := dkwX0_agree_1 ++ []
def dkwX0_agree_0 : List UInt8 := [45, 3, 42, 27, 28, 182, 0, 56, 153, 0, 7, 10, 167, 0, 4, 9, 80, 167, 0, 15, 58, 4, 4, 172]
abbrev dktX0_agree_0 : List UInt8 := dkwX0_agree_0 ++ dktX0_agree_1
theorem dksX0_agree_0 : cX0_agree.data.toList.drop 0 = dktX0_agree_0 := by decide +kernel
theorem dksX0_agree_1 : cX0_agree.data.toList.drop 24 = dktX0_agree_1 := dk_seg dksX0_agree_0 24 rfl rfl
theorem dX0_agree_0 : decode cX0_agree 0 = .ok (.aload_n 3, 1) := dk_45 (dk_at dksX0_agree_0 0 rfl rfl)
theorem dX0_agree_1 : decode cX0_agree 1 = .ok (.iconst 0, 1) := dk_3 (dk_at dksX0_agree_0 1 rfl rfl)
theorem dX0_agree_2 : decode cX0_agree 2 = .ok (.aload_n 0, 1) := dk_42 (dk_at dksX0_agree_0 2 rfl rfl)
theorem dX0_agree_3 : decode cX0_agree 3 = .ok (.iload_n 1, 1) := dk_27 (dk_at dksX0_agree_0 3 rfl rfl)
theorem dX0_agree_4 : decode cX0_agree 4 = .ok (.iload_n 2, 1) := dk_28 (dk_at dksX0_agree_0 4 rfl rfl)
theorem dX0_agree_5 : decode cX0_agree 5 = .ok (.invokevirtual 56, 3) := dk_182 0 56 (dk_at dksX0_agree_0 5 rfl rfl)
theorem dX0_agree_8 : decode cX0_agree 8 = .ok (.ifCond .eq 7, 3) := dk_153 0 7 (dk_at dksX0_agree_0 8 rfl rfl)
theorem dX0_agree_11 : decode cX0_agree 11 = .ok (.lconst 1, 1) := dk_10 (dk_at dksX0_agree_0 11 rfl rfl)
theorem dX0_agree_12 : decode cX0_agree 12 = .ok (.goto 4, 3) := dk_167 0 4 (dk_at dksX0_agree_0 12 rfl rfl)
theorem dX0_agree_15 : decode cX0_agree 15 = .ok (.lconst 0, 1) := dk_9 (dk_at dksX0_agree_0 15 rfl rfl)
theorem dX0_agree_16 : decode cX0_agree 16 = .ok (.lastore, 1) := dk_80 (dk_at dksX0_agree_0 16 rfl rfl)
theorem dX0_agree_17 : decode cX0_agree 17 = .ok (.goto 15, 3) := dk_167 0 15 (dk_at dksX0_agree_0 17 rfl rfl)
theorem dX0_agree_20 : decode cX0_agree 20 = .ok (.astore 4, 2) := dk_58 4 (dk_at dksX0_agree_0 20 rfl rfl)
theorem dX0_agree_22 : decode cX0_agree 22 = .ok (.iconst 1, 1) := dk_4 (dk_at dksX0_agree_0 22 rfl rfl)
theorem dX0_agree_23 : decode cX0_agree 23 = .ok (.ireturn, 1) := dk_172 (dk_at dksX0_agree_0 23 rfl rfl)
theorem dX0_agree_24 : decode cX0_agree 24 = .ok (.astore 4, 2) := dk_58 4 (dk_at dksX0_agree_1 0 rfl rfl)
theorem dX0_agree_26 : decode cX0_agree 26 = .ok (.iconst 2, 1) := dk_5 (dk_at dksX0_agree_1 2 rfl rfl)
theorem dX0_agree_27 : decode cX0_agree 27 = .ok (.ireturn, 1) := dk_172 (dk_at dksX0_agree_1 3 rfl rfl)
theorem dX0_agree_28 : decode cX0_agree 28 = .ok (.astore 4, 2) := dk_58 4 (dk_at dksX0_agree_1 4 rfl rfl)
theorem dX0_agree_30 : decode cX0_agree 30 = .ok (.iconst 3, 1) := dk_6 (dk_at dksX0_agree_1 6 rfl rfl)
theorem dX0_agree_31 : decode cX0_agree 31 = .ok (.ireturn, 1) := dk_172 (dk_at dksX0_agree_1 7 rfl rfl)
theorem dX0_agree_32 : decode cX0_agree 32 = .ok (.iconst 0, 1) := dk_3 (dk_at dksX0_agree_1 8 rfl rfl)
theorem dX0_agree_33 : decode cX0_agree 33 = .ok (.ireturn, 1) := dk_172 (dk_at dksX0_agree_1 9 rfl rfl)
abbrev cX0_secret : ByteArray := method_15_code
def yX0_secret : MethodName := ⟨RX0, "secret", "(LSecretVault;II[J)I"⟩
def dkwX0_secret_1 : List UInt8 := [172, 3, 172]
abbrev dktX0_secret_1 : List UInt8 := dkwX0_secret_1 ++ []
def dkwX0_secret_0 : List UInt8 := [45, 3, 42, 27, 28, 182, 0, 60, 133, 80, 167, 0, 15, 58, 4, 4, 172, 58, 4, 5, 172, 58, 4, 6]
abbrev dktX0_secret_0 : List UInt8 := dkwX0_secret_0 ++ dktX0_secret_1
theorem dksX0_secret_0 : cX0_secret.data.toList.drop 0 = dktX0_secret_0 := by decide +kernel
theorem dksX0_secret_1 : cX0_secret.data.toList.drop 24 = dktX0_secret_1 := dk_seg dksX0_secret_0 24 rfl rfl
theorem dX0_secret_0 : decode cX0_secret 0 = .ok (.aload_n 3, 1) := dk_45 (dk_at dksX0_secret_0 0 rfl rfl)
theorem dX0_secret_1 : decode cX0_secret 1 = .ok (.iconst 0, 1) := dk_3 (dk_at dksX0_secret_0 1 rfl rfl)
theorem dX0_secret_2 : decode cX0_secret 2 = .ok (.aload_n 0, 1) := dk_42 (dk_at dksX0_secret_0 2 rfl rfl)
theorem dX0_secret_3 : decode cX0_secret 3 = .ok (.iload_n 1, 1) := dk_27 (dk_at dksX0_secret_0 3 rfl rfl)
theorem dX0_secret_4 : decode cX0_secret 4 = .ok (.iload_n 2, 1) := dk_28 (dk_at dksX0_secret_0 4 rfl rfl)
theorem dX0_secret_5 : decode cX0_secret 5 = .ok (.invokevirtual 60, 3) := dk_182 0 60 (dk_at dksX0_secret_0 5 rfl rfl)
theorem dX0_secret_8 : decode cX0_secret 8 = .ok (.i2l, 1) := dk_133 (dk_at dksX0_secret_0 8 rfl rfl)
theorem dX0_secret_9 : decode cX0_secret 9 = .ok (.lastore, 1) := dk_80 (dk_at dksX0_secret_0 9 rfl rfl)
theorem dX0_secret_10 : decode cX0_secret 10 = .ok (.goto 15, 3) := dk_167 0 15 (dk_at dksX0_secret_0 10 rfl rfl)
theorem dX0_secret_13 : decode cX0_secret 13 = .ok (.astore 4, 2) := dk_58 4 (dk_at dksX0_secret_0 13 rfl rfl)
theorem dX0_secret_15 : decode cX0_secret 15 = .ok (.iconst 1, 1) := dk_4 (dk_at dksX0_secret_0 15 rfl rfl)
theorem dX0_secret_16 : decode cX0_secret 16 = .ok (.ireturn, 1) := dk_172 (dk_at dksX0_secret_0 16 rfl rfl)
theorem dX0_secret_17 : decode cX0_secret 17 = .ok (.astore 4, 2) := dk_58 4 (dk_at dksX0_secret_0 17 rfl rfl)
theorem dX0_secret_19 : decode cX0_secret 19 = .ok (.iconst 2, 1) := dk_5 (dk_at dksX0_secret_0 19 rfl rfl)
theorem dX0_secret_20 : decode cX0_secret 20 = .ok (.ireturn, 1) := dk_172 (dk_at dksX0_secret_0 20 rfl rfl)
theorem dX0_secret_21 : decode cX0_secret 21 = .ok (.astore 4, 2) := dk_58 4 (dk_at dksX0_secret_0 21 rfl rfl)
theorem dX0_secret_23 : decode cX0_secret 23 = .ok (.iconst 3, 1) := dk_6 (dk_at dksX0_secret_0 23 rfl rfl)
theorem dX0_secret_24 : decode cX0_secret 24 = .ok (.ireturn, 1) := dk_172 (dk_at dksX0_secret_1 0 rfl rfl)
theorem dX0_secret_25 : decode cX0_secret 25 = .ok (.iconst 0, 1) := dk_3 (dk_at dksX0_secret_1 1 rfl rfl)
theorem dX0_secret_26 : decode cX0_secret 26 = .ok (.ireturn, 1) := dk_172 (dk_at dksX0_secret_1 2 rfl rfl)
abbrev cX0_commitment : ByteArray := method_16_code
def yX0_commitment : MethodName := ⟨RX0, "commitment", "(LSecretVault;II[J)I"⟩
def dkwX0_commitment_0 : List UInt8 := [45, 3, 42, 27, 28, 182, 0, 63, 133, 80, 167, 0, 11, 58, 4, 4, 172, 58, 4, 5, 172, 3, 172]
abbrev dktX0_commitment_0 : List UInt8 := dkwX0_commitment_0 ++ []
theorem dksX0_commitment_0 : cX0_commitment.data.toList.drop 0 = dktX0_commitment_0 := by decide +kernel
theorem dX0_commitment_0 : decode cX0_commitment 0 = .ok (.aload_n 3, 1) := dk_45 (dk_at dksX0_commitment_0 0 rfl rfl)
theorem dX0_commitment_1 : decode cX0_commitment 1 = .ok (.iconst 0, 1) := dk_3 (dk_at dksX0_commitment_0 1 rfl rfl)
theorem dX0_commitment_2 : decode cX0_commitment 2 = .ok (.aload_n 0, 1) := dk_42 (dk_at dksX0_commitment_0 2 rfl rfl)
theorem dX0_commitment_3 : decode cX0_commitment 3 = .ok (.iload_n 1, 1) := dk_27 (dk_at dksX0_commitment_0 3 rfl rfl)
theorem dX0_commitment_4 : decode cX0_commitment 4 = .ok (.iload_n 2, 1) := dk_28 (dk_at dksX0_commitment_0 4 rfl rfl)
theorem dX0_commitment_5 : decode cX0_commitment 5 = .ok (.invokevirtual 63, 3) := dk_182 0 63 (dk_at dksX0_commitment_0 5 rfl rfl)
theorem dX0_commitment_8 : decode cX0_commitment 8 = .ok (.i2l, 1) := dk_133 (dk_at dksX0_commitment_0 8 rfl rfl)
theorem dX0_commitment_9 : decode cX0_commitment 9 = .ok (.lastore, 1) := dk_80 (dk_at dksX0_commitment_0 9 rfl rfl)
theorem dX0_commitment_10 : decode cX0_commitment 10 = .ok (.goto 11, 3) := dk_167 0 11 (dk_at dksX0_commitment_0 10 rfl rfl)
theorem dX0_commitment_13 : decode cX0_commitment 13 = .ok (.astore 4, 2) := dk_58 4 (dk_at dksX0_commitment_0 13 rfl rfl)
theorem dX0_commitment_15 : decode cX0_commitment 15 = .ok (.iconst 1, 1) := dk_4 (dk_at dksX0_commitment_0 15 rfl rfl)
theorem dX0_commitment_16 : decode cX0_commitment 16 = .ok (.ireturn, 1) := dk_172 (dk_at dksX0_commitment_0 16 rfl rfl)
theorem dX0_commitment_17 : decode cX0_commitment 17 = .ok (.astore 4, 2) := dk_58 4 (dk_at dksX0_commitment_0 17 rfl rfl)
theorem dX0_commitment_19 : decode cX0_commitment 19 = .ok (.iconst 2, 1) := dk_5 (dk_at dksX0_commitment_0 19 rfl rfl)
theorem dX0_commitment_20 : decode cX0_commitment 20 = .ok (.ireturn, 1) := dk_172 (dk_at dksX0_commitment_0 20 rfl rfl)
theorem dX0_commitment_21 : decode cX0_commitment 21 = .ok (.iconst 0, 1) := dk_3 (dk_at dksX0_commitment_0 21 rfl rfl)
theorem dX0_commitment_22 : decode cX0_commitment 22 = .ok (.ireturn, 1) := dk_172 (dk_at dksX0_commitment_0 22 rfl rfl)
abbrev cX0_share : ByteArray := method_17_code
def yX0_share : MethodName := ⟨RX0, "share", "(LSecretVault;III[J)I"⟩
def dkwX0_share_1 : List UInt8 := [58, 5, 6, 172, 3, 172]
abbrev dktX0_share_1 : List UInt8 := dkwX0_share_1 ++ []
def dkwX0_share_0 : List UInt8 := [25, 4, 3, 42, 27, 28, 29, 182, 0, 66, 133, 80, 167, 0, 15, 58, 5, 4, 172, 58, 5, 5, 172]
abbrev dktX0_share_0 : List UInt8 := dkwX0_share_0 ++ dktX0_share_1
theorem dksX0_share_0 : cX0_share.data.toList.drop 0 = dktX0_share_0 := by decide +kernel
theorem dksX0_share_1 : cX0_share.data.toList.drop 23 = dktX0_share_1 := dk_seg dksX0_share_0 23 rfl rfl
theorem dX0_share_0 : decode cX0_share 0 = .ok (.aload 4, 2) := dk_25 4 (dk_at dksX0_share_0 0 rfl rfl)
theorem dX0_share_2 : decode cX0_share 2 = .ok (.iconst 0, 1) := dk_3 (dk_at dksX0_share_0 2 rfl rfl)
theorem dX0_share_3 : decode cX0_share 3 = .ok (.aload_n 0, 1) := dk_42 (dk_at dksX0_share_0 3 rfl rfl)
theorem dX0_share_4 : decode cX0_share 4 = .ok (.iload_n 1, 1) := dk_27 (dk_at dksX0_share_0 4 rfl rfl)
theorem dX0_share_5 : decode cX0_share 5 = .ok (.iload_n 2, 1) := dk_28 (dk_at dksX0_share_0 5 rfl rfl)
theorem dX0_share_6 : decode cX0_share 6 = .ok (.iload_n 3, 1) := dk_29 (dk_at dksX0_share_0 6 rfl rfl)
theorem dX0_share_7 : decode cX0_share 7 = .ok (.invokevirtual 66, 3) := dk_182 0 66 (dk_at dksX0_share_0 7 rfl rfl)
theorem dX0_share_10 : decode cX0_share 10 = .ok (.i2l, 1) := dk_133 (dk_at dksX0_share_0 10 rfl rfl)
theorem dX0_share_11 : decode cX0_share 11 = .ok (.lastore, 1) := dk_80 (dk_at dksX0_share_0 11 rfl rfl)
theorem dX0_share_12 : decode cX0_share 12 = .ok (.goto 15, 3) := dk_167 0 15 (dk_at dksX0_share_0 12 rfl rfl)
theorem dX0_share_15 : decode cX0_share 15 = .ok (.astore 5, 2) := dk_58 5 (dk_at dksX0_share_0 15 rfl rfl)
theorem dX0_share_17 : decode cX0_share 17 = .ok (.iconst 1, 1) := dk_4 (dk_at dksX0_share_0 17 rfl rfl)
theorem dX0_share_18 : decode cX0_share 18 = .ok (.ireturn, 1) := dk_172 (dk_at dksX0_share_0 18 rfl rfl)
theorem dX0_share_19 : decode cX0_share 19 = .ok (.astore 5, 2) := dk_58 5 (dk_at dksX0_share_0 19 rfl rfl)
theorem dX0_share_21 : decode cX0_share 21 = .ok (.iconst 2, 1) := dk_5 (dk_at dksX0_share_0 21 rfl rfl)
theorem dX0_share_22 : decode cX0_share 22 = .ok (.ireturn, 1) := dk_172 (dk_at dksX0_share_0 22 rfl rfl)
theorem dX0_share_23 : decode cX0_share 23 = .ok (.astore 5, 2) := dk_58 5 (dk_at dksX0_share_1 0 rfl rfl)
theorem dX0_share_25 : decode cX0_share 25 = .ok (.iconst 3, 1) := dk_6 (dk_at dksX0_share_1 2 rfl rfl)
theorem dX0_share_26 : decode cX0_share 26 = .ok (.ireturn, 1) := dk_172 (dk_at dksX0_share_1 3 rfl rfl)
theorem dX0_share_27 : decode cX0_share 27 = .ok (.iconst 0, 1) := dk_3 (dk_at dksX0_share_1 4 rfl rfl)
theorem dX0_share_28 : decode cX0_share 28 = .ok (.ireturn, 1) := dk_172 (dk_at dksX0_share_1 5 rfl rfl)
abbrev cX0_setShare : ByteArray := method_18_code
def yX0_setShare : MethodName := ⟨RX0, "setShare", "(LSecretVault;III[J)I"⟩
def dkwX0_setShare_1 : List UInt8 := [58, 5, 6, 172, 3, 172]
abbrev dktX0_setShare_1 : List UInt8 := dkwX0_setShare_1 ++ []
def dkwX0_setShare_0 : List UInt8 := [25, 4, 3, 42, 27, 28, 29, 182, 0, 69, 133, 80, 167, 0, 15, 58, 5, 4, 172, 58, 5, 5, 172]
abbrev dktX0_setShare_0 : List UInt8 := dkwX0_setShare_0 ++ dktX0_setShare_1
theorem dksX0_setShare_0 : cX0_setShare.data.toList.drop 0 = dktX0_setShare_0 := by decide +kernel
theorem dksX0_setShare_1 : cX0_setShare.data.toList.drop 23 = dktX0_setShare_1 := dk_seg dksX0_setShare_0 23 rfl rfl
theorem dX0_setShare_0 : decode cX0_setShare 0 = .ok (.aload 4, 2) := dk_25 4 (dk_at dksX0_setShare_0 0 rfl rfl)
theorem dX0_setShare_2 : decode cX0_setShare 2 = .ok (.iconst 0, 1) := dk_3 (dk_at dksX0_setShare_0 2 rfl rfl)
theorem dX0_setShare_3 : decode cX0_setShare 3 = .ok (.aload_n 0, 1) := dk_42 (dk_at dksX0_setShare_0 3 rfl rfl)
theorem dX0_setShare_4 : decode cX0_setShare 4 = .ok (.iload_n 1, 1) := dk_27 (dk_at dksX0_setShare_0 4 rfl rfl)
theorem dX0_setShare_5 : decode cX0_setShare 5 = .ok (.iload_n 2, 1) := dk_28 (dk_at dksX0_setShare_0 5 rfl rfl)
theorem dX0_setShare_6 : decode cX0_setShare 6 = .ok (.iload_n 3, 1) := dk_29 (dk_at dksX0_setShare_0 6 rfl rfl)
theorem dX0_setShare_7 : decode cX0_setShare 7 = .ok (.invokevirtual 69, 3) := dk_182 0 69 (dk_at dksX0_setShare_0 7 rfl rfl)
theorem dX0_setShare_10 : decode cX0_setShare 10 = .ok (.i2l, 1) := dk_133 (dk_at dksX0_setShare_0 10 rfl rfl)
theorem dX0_setShare_11 : decode cX0_setShare 11 = .ok (.lastore, 1) := dk_80 (dk_at dksX0_setShare_0 11 rfl rfl)
theorem dX0_setShare_12 : decode cX0_setShare 12 = .ok (.goto 15, 3) := dk_167 0 15 (dk_at dksX0_setShare_0 12 rfl rfl)
theorem dX0_setShare_15 : decode cX0_setShare 15 = .ok (.astore 5, 2) := dk_58 5 (dk_at dksX0_setShare_0 15 rfl rfl)
theorem dX0_setShare_17 : decode cX0_setShare 17 = .ok (.iconst 1, 1) := dk_4 (dk_at dksX0_setShare_0 17 rfl rfl)
theorem dX0_setShare_18 : decode cX0_setShare 18 = .ok (.ireturn, 1) := dk_172 (dk_at dksX0_setShare_0 18 rfl rfl)
theorem dX0_setShare_19 : decode cX0_setShare 19 = .ok (.astore 5, 2) := dk_58 5 (dk_at dksX0_setShare_0 19 rfl rfl)
theorem dX0_setShare_21 : decode cX0_setShare 21 = .ok (.iconst 2, 1) := dk_5 (dk_at dksX0_setShare_0 21 rfl rfl)
theorem dX0_setShare_22 : decode cX0_setShare 22 = .ok (.ireturn, 1) := dk_172 (dk_at dksX0_setShare_0 22 rfl rfl)
theorem dX0_setShare_23 : decode cX0_setShare 23 = .ok (.astore 5, 2) := dk_58 5 (dk_at dksX0_setShare_1 0 rfl rfl)
theorem dX0_setShare_25 : decode cX0_setShare 25 = .ok (.iconst 3, 1) := dk_6 (dk_at dksX0_setShare_1 2 rfl rfl)
theorem dX0_setShare_26 : decode cX0_setShare 26 = .ok (.ireturn, 1) := dk_172 (dk_at dksX0_setShare_1 3 rfl rfl)
theorem dX0_setShare_27 : decode cX0_setShare 27 = .ok (.iconst 0, 1) := dk_3 (dk_at dksX0_setShare_1 4 rfl rfl)
theorem dX0_setShare_28 : decode cX0_setShare 28 = .ok (.ireturn, 1) := dk_172 (dk_at dksX0_setShare_1 5 rfl rfl)
abbrev cX0_shareText : ByteArray := method_19_code
def yX0_shareText : MethodName := ⟨RX0, "shareText", "(LSecretVault;III[J)I"⟩
def dkwX0_shareText_1 : List UInt8 := [172]
abbrev dktX0_shareText_1 : List UInt8 := dkwX0_shareText_1 ++ []
def dkwX0_shareText_0 : List UInt8 := [25, 4, 3, 42, 27, 28, 29, 182, 0, 72, 133, 80, 167, 0, 11, 58, 5, 4, 172, 58, 5, 5, 172, 3]
abbrev dktX0_shareText_0 : List UInt8 := dkwX0_shareText_0 ++ dktX0_shareText_1
theorem dksX0_shareText_0 : cX0_shareText.data.toList.drop 0 = dktX0_shareText_0 := by decide +kernel
theorem dksX0_shareText_1 : cX0_shareText.data.toList.drop 24 = dktX0_shareText_1 := dk_seg dksX0_shareText_0 24 rfl rfl
theorem dX0_shareText_0 : decode cX0_shareText 0 = .ok (.aload 4, 2) := dk_25 4 (dk_at dksX0_shareText_0 0 rfl rfl)
theorem dX0_shareText_2 : decode cX0_shareText 2 = .ok (.iconst 0, 1) := dk_3 (dk_at dksX0_shareText_0 2 rfl rfl)
theorem dX0_shareText_3 : decode cX0_shareText 3 = .ok (.aload_n 0, 1) := dk_42 (dk_at dksX0_shareText_0 3 rfl rfl)
theorem dX0_shareText_4 : decode cX0_shareText 4 = .ok (.iload_n 1, 1) := dk_27 (dk_at dksX0_shareText_0 4 rfl rfl)
theorem dX0_shareText_5 : decode cX0_shareText 5 = .ok (.iload_n 2, 1) := dk_28 (dk_at dksX0_shareText_0 5 rfl rfl)
theorem dX0_shareText_6 : decode cX0_shareText 6 = .ok (.iload_n 3, 1) := dk_29 (dk_at dksX0_shareText_0 6 rfl rfl)
theorem dX0_shareText_7 : decode cX0_shareText 7 = .ok (.invokevirtual 72, 3) := dk_182 0 72 (dk_at dksX0_shareText_0 7 rfl rfl)
theorem dX0_shareText_10 : decode cX0_shareText 10 = .ok (.i2l, 1) := dk_133 (dk_at dksX0_shareText_0 10 rfl rfl)
theorem dX0_shareText_11 : decode cX0_shareText 11 = .ok (.lastore, 1) := dk_80 (dk_at dksX0_shareText_0 11 rfl rfl)
theorem dX0_shareText_12 : decode cX0_shareText 12 = .ok (.goto 11, 3) := dk_167 0 11 (dk_at dksX0_shareText_0 12 rfl rfl)
theorem dX0_shareText_15 : decode cX0_shareText 15 = .ok (.astore 5, 2) := dk_58 5 (dk_at dksX0_shareText_0 15 rfl rfl)
theorem dX0_shareText_17 : decode cX0_shareText 17 = .ok (.iconst 1, 1) := dk_4 (dk_at dksX0_shareText_0 17 rfl rfl)
theorem dX0_shareText_18 : decode cX0_shareText 18 = .ok (.ireturn, 1) := dk_172 (dk_at dksX0_shareText_0 18 rfl rfl)
theorem dX0_shareText_19 : decode cX0_shareText 19 = .ok (.astore 5, 2) := dk_58 5 (dk_at dksX0_shareText_0 19 rfl rfl)
theorem dX0_shareText_21 : decode cX0_shareText 21 = .ok (.iconst 2, 1) := dk_5 (dk_at dksX0_shareText_0 21 rfl rfl)
theorem dX0_shareText_22 : decode cX0_shareText 22 = .ok (.ireturn, 1) := dk_172 (dk_at dksX0_shareText_0 22 rfl rfl)
theorem dX0_shareText_23 : decode cX0_shareText 23 = .ok (.iconst 0, 1) := dk_3 (dk_at dksX0_shareText_0 23 rfl rfl)
theorem dX0_shareText_24 : decode cX0_shareText 24 = .ok (.ireturn, 1) := dk_172 (dk_at dksX0_shareText_1 0 rfl rfl)
abbrev cX0_importShare : ByteArray := method_20_code
def yX0_importShare : MethodName := ⟨RX0, "importShare", "(LSecretVault;I[J)I"⟩
def dkwX0_importShare_0 : List UInt8 := [44, 3, 42, 27, 182, 0, 75, 133, 80, 167, 0, 12, 78, 4, 172, 78, 5, 172, 78, 6, 172, 3, 172]
abbrev dktX0_importShare_0 : List UInt8 := dkwX0_importShare_0 ++ []
theorem dksX0_importShare_0 : cX0_importShare.data.toList.drop 0 = dktX0_importShare_0 := by decide +kernel
theorem dX0_importShare_0 : decode cX0_importShare 0 = .ok (.aload_n 2, 1) := dk_44 (dk_at dksX0_importShare_0 0 rfl rfl)
theorem dX0_importShare_1 : decode cX0_importShare 1 = .ok (.iconst 0, 1) := dk_3 (dk_at dksX0_importShare_0 1 rfl rfl)
theorem dX0_importShare_2 : decode cX0_importShare 2 = .ok (.aload_n 0, 1) := dk_42 (dk_at dksX0_importShare_0 2 rfl rfl)
theorem dX0_importShare_3 : decode cX0_importShare 3 = .ok (.iload_n 1, 1) := dk_27 (dk_at dksX0_importShare_0 3 rfl rfl)
theorem dX0_importShare_4 : decode cX0_importShare 4 = .ok (.invokevirtual 75, 3) := dk_182 0 75 (dk_at dksX0_importShare_0 4 rfl rfl)
theorem dX0_importShare_7 : decode cX0_importShare 7 = .ok (.i2l, 1) := dk_133 (dk_at dksX0_importShare_0 7 rfl rfl)
theorem dX0_importShare_8 : decode cX0_importShare 8 = .ok (.lastore, 1) := dk_80 (dk_at dksX0_importShare_0 8 rfl rfl)
theorem dX0_importShare_9 : decode cX0_importShare 9 = .ok (.goto 12, 3) := dk_167 0 12 (dk_at dksX0_importShare_0 9 rfl rfl)
theorem dX0_importShare_12 : decode cX0_importShare 12 = .ok (.astore_n 3, 1) := dk_78 (dk_at dksX0_importShare_0 12 rfl rfl)
theorem dX0_importShare_13 : decode cX0_importShare 13 = .ok (.iconst 1, 1) := dk_4 (dk_at dksX0_importShare_0 13 rfl rfl)
theorem dX0_importShare_14 : decode cX0_importShare 14 = .ok (.ireturn, 1) := dk_172 (dk_at dksX0_importShare_0 14 rfl rfl)
theorem dX0_importShare_15 : decode cX0_importShare 15 = .ok (.astore_n 3, 1) := dk_78 (dk_at dksX0_importShare_0 15 rfl rfl)
theorem dX0_importShare_16 : decode cX0_importShare 16 = .ok (.iconst 2, 1) := dk_5 (dk_at dksX0_importShare_0 16 rfl rfl)
theorem dX0_importShare_17 : decode cX0_importShare 17 = .ok (.ireturn, 1) := dk_172 (dk_at dksX0_importShare_0 17 rfl rfl)
theorem dX0_importShare_18 : decode cX0_importShare 18 = .ok (.astore_n 3, 1) := dk_78 (dk_at dksX0_importShare_0 18 rfl rfl)
theorem dX0_importShare_19 : decode cX0_importShare 19 = .ok (.iconst 3, 1) := dk_6 (dk_at dksX0_importShare_0 19 rfl rfl)
theorem dX0_importShare_20 : decode cX0_importShare 20 = .ok (.ireturn, 1) := dk_172 (dk_at dksX0_importShare_0 20 rfl rfl)
theorem dX0_importShare_21 : decode cX0_importShare 21 = .ok (.iconst 0, 1) := dk_3 (dk_at dksX0_importShare_0 21 rfl rfl)
theorem dX0_importShare_22 : decode cX0_importShare 22 = .ok (.ireturn, 1) := dk_172 (dk_at dksX0_importShare_0 22 rfl rfl)
abbrev cX0_bad : ByteArray := method_21_code
def yX0_bad : MethodName := ⟨RX0, "bad", "(LSecretVault;II[J)I"⟩
def dkwX0_bad_0 : List UInt8 := [45, 3, 42, 27, 28, 182, 0, 78, 133, 80, 167, 0, 11, 58, 4, 4, 172, 58, 4, 5, 172, 3, 172]
abbrev dktX0_bad_0 : List UInt8 := dkwX0_bad_0 ++ []
theorem dksX0_bad_0 : cX0_bad.data.toList.drop 0 = dktX0_bad_0 := by decide +kernel
theorem dX0_bad_0 : decode cX0_bad 0 = .ok (.aload_n 3, 1) := dk_45 (dk_at dksX0_bad_0 0 rfl rfl)
theorem dX0_bad_1 : decode cX0_bad 1 = .ok (.iconst 0, 1) := dk_3 (dk_at dksX0_bad_0 1 rfl rfl)
theorem dX0_bad_2 : decode cX0_bad 2 = .ok (.aload_n 0, 1) := dk_42 (dk_at dksX0_bad_0 2 rfl rfl)
theorem dX0_bad_3 : decode cX0_bad 3 = .ok (.iload_n 1, 1) := dk_27 (dk_at dksX0_bad_0 3 rfl rfl)
theorem dX0_bad_4 : decode cX0_bad 4 = .ok (.iload_n 2, 1) := dk_28 (dk_at dksX0_bad_0 4 rfl rfl)
theorem dX0_bad_5 : decode cX0_bad 5 = .ok (.invokevirtual 78, 3) := dk_182 0 78 (dk_at dksX0_bad_0 5 rfl rfl)
theorem dX0_bad_8 : decode cX0_bad 8 = .ok (.i2l, 1) := dk_133 (dk_at dksX0_bad_0 8 rfl rfl)
theorem dX0_bad_9 : decode cX0_bad 9 = .ok (.lastore, 1) := dk_80 (dk_at dksX0_bad_0 9 rfl rfl)
theorem dX0_bad_10 : decode cX0_bad 10 = .ok (.goto 11, 3) := dk_167 0 11 (dk_at dksX0_bad_0 10 rfl rfl)
theorem dX0_bad_13 : decode cX0_bad 13 = .ok (.astore 4, 2) := dk_58 4 (dk_at dksX0_bad_0 13 rfl rfl)
theorem dX0_bad_15 : decode cX0_bad 15 = .ok (.iconst 1, 1) := dk_4 (dk_at dksX0_bad_0 15 rfl rfl)
theorem dX0_bad_16 : decode cX0_bad 16 = .ok (.ireturn, 1) := dk_172 (dk_at dksX0_bad_0 16 rfl rfl)
theorem dX0_bad_17 : decode cX0_bad 17 = .ok (.astore 4, 2) := dk_58 4 (dk_at dksX0_bad_0 17 rfl rfl)
theorem dX0_bad_19 : decode cX0_bad 19 = .ok (.iconst 2, 1) := dk_5 (dk_at dksX0_bad_0 19 rfl rfl)
theorem dX0_bad_20 : decode cX0_bad 20 = .ok (.ireturn, 1) := dk_172 (dk_at dksX0_bad_0 20 rfl rfl)
theorem dX0_bad_21 : decode cX0_bad 21 = .ok (.iconst 0, 1) := dk_3 (dk_at dksX0_bad_0 21 rfl rfl)
theorem dX0_bad_22 : decode cX0_bad 22 = .ok (.ireturn, 1) := dk_172 (dk_at dksX0_bad_0 22 rfl rfl)
abbrev cX0_append : ByteArray := method_22_code
def yX0_append : MethodName := ⟨RX0, "append", "(LSecretVault;I[J)I"⟩
def dkwX0_append_0 : List UInt8 := [44, 3, 42, 27, 182, 0, 81, 133, 80, 167, 0, 9, 78, 4, 172, 78, 5, 172, 3, 172]
abbrev dktX0_append_0 : List UInt8 := dkwX0_append_0 ++ []
theorem dksX0_append_0 : cX0_append.data.toList.drop 0 = dktX0_append_0 := by decide +kernel
theorem dX0_append_0 : decode cX0_append 0 = .ok (.aload_n 2, 1) := dk_44 (dk_at dksX0_append_0 0 rfl rfl)
theorem dX0_append_1 : decode cX0_append 1 = .ok (.iconst 0, 1) := dk_3 (dk_at dksX0_append_0 1 rfl rfl)
theorem dX0_append_2 : decode cX0_append 2 = .ok (.aload_n 0, 1) := dk_42 (dk_at dksX0_append_0 2 rfl rfl)
theorem dX0_append_3 : decode cX0_append 3 = .ok (.iload_n 1, 1) := dk_27 (dk_at dksX0_append_0 3 rfl rfl)
theorem dX0_append_4 : decode cX0_append 4 = .ok (.invokevirtual 81, 3) := dk_182 0 81 (dk_at dksX0_append_0 4 rfl rfl)
theorem dX0_append_7 : decode cX0_append 7 = .ok (.i2l, 1) := dk_133 (dk_at dksX0_append_0 7 rfl rfl)
theorem dX0_append_8 : decode cX0_append 8 = .ok (.lastore, 1) := dk_80 (dk_at dksX0_append_0 8 rfl rfl)
theorem dX0_append_9 : decode cX0_append 9 = .ok (.goto 9, 3) := dk_167 0 9 (dk_at dksX0_append_0 9 rfl rfl)
theorem dX0_append_12 : decode cX0_append 12 = .ok (.astore_n 3, 1) := dk_78 (dk_at dksX0_append_0 12 rfl rfl)
theorem dX0_append_13 : decode cX0_append 13 = .ok (.iconst 1, 1) := dk_4 (dk_at dksX0_append_0 13 rfl rfl)
theorem dX0_append_14 : decode cX0_append 14 = .ok (.ireturn, 1) := dk_172 (dk_at dksX0_append_0 14 rfl rfl)
theorem dX0_append_15 : decode cX0_append 15 = .ok (.astore_n 3, 1) := dk_78 (dk_at dksX0_append_0 15 rfl rfl)
theorem dX0_append_16 : decode cX0_append 16 = .ok (.iconst 2, 1) := dk_5 (dk_at dksX0_append_0 16 rfl rfl)
theorem dX0_append_17 : decode cX0_append 17 = .ok (.ireturn, 1) := dk_172 (dk_at dksX0_append_0 17 rfl rfl)
theorem dX0_append_18 : decode cX0_append 18 = .ok (.iconst 0, 1) := dk_3 (dk_at dksX0_append_0 18 rfl rfl)
theorem dX0_append_19 : decode cX0_append 19 = .ok (.ireturn, 1) := dk_172 (dk_at dksX0_append_0 19 rfl rfl)
abbrev cX0_setPolicy : ByteArray := method_23_code
def yX0_setPolicy : MethodName := ⟨RX0, "setPolicy", "(LSecretVault;I[J)I"⟩
def dkwX0_setPolicy_1 : List UInt8 := [172, 78, 6, 172, 3, 172]
abbrev dktX0_setPolicy_1 : List UInt8 := dkwX0_setPolicy_1 ++ []
def dkwX0_setPolicy_0 : List UInt8 := [44, 3, 42, 27, 182, 0, 84, 153, 0, 7, 10, 167, 0, 4, 9, 80, 167, 0, 12, 78, 4, 172, 78, 5]
abbrev dktX0_setPolicy_0 : List UInt8 := dkwX0_setPolicy_0 ++ dktX0_setPolicy_1
theorem dksX0_setPolicy_0 : cX0_setPolicy.data.toList.drop 0 = dktX0_setPolicy_0 := by decide +kernel
theorem dksX0_setPolicy_1 : cX0_setPolicy.data.toList.drop 24 = dktX0_setPolicy_1 := dk_seg dksX0_setPolicy_0 24 rfl rfl
theorem dX0_setPolicy_0 : decode cX0_setPolicy 0 = .ok (.aload_n 2, 1) := dk_44 (dk_at dksX0_setPolicy_0 0 rfl rfl)
theorem dX0_setPolicy_1 : decode cX0_setPolicy 1 = .ok (.iconst 0, 1) := dk_3 (dk_at dksX0_setPolicy_0 1 rfl rfl)
theorem dX0_setPolicy_2 : decode cX0_setPolicy 2 = .ok (.aload_n 0, 1) := dk_42 (dk_at dksX0_setPolicy_0 2 rfl rfl)
theorem dX0_setPolicy_3 : decode cX0_setPolicy 3 = .ok (.iload_n 1, 1) := dk_27 (dk_at dksX0_setPolicy_0 3 rfl rfl)
theorem dX0_setPolicy_4 : decode cX0_setPolicy 4 = .ok (.invokevirtual 84, 3) := dk_182 0 84 (dk_at dksX0_setPolicy_0 4 rfl rfl)
theorem dX0_setPolicy_7 : decode cX0_setPolicy 7 = .ok (.ifCond .eq 7, 3) := dk_153 0 7 (dk_at dksX0_setPolicy_0 7 rfl rfl)
theorem dX0_setPolicy_10 : decode cX0_setPolicy 10 = .ok (.lconst 1, 1) := dk_10 (dk_at dksX0_setPolicy_0 10 rfl rfl)
theorem dX0_setPolicy_11 : decode cX0_setPolicy 11 = .ok (.goto 4, 3) := dk_167 0 4 (dk_at dksX0_setPolicy_0 11 rfl rfl)
theorem dX0_setPolicy_14 : decode cX0_setPolicy 14 = .ok (.lconst 0, 1) := dk_9 (dk_at dksX0_setPolicy_0 14 rfl rfl)
theorem dX0_setPolicy_15 : decode cX0_setPolicy 15 = .ok (.lastore, 1) := dk_80 (dk_at dksX0_setPolicy_0 15 rfl rfl)
theorem dX0_setPolicy_16 : decode cX0_setPolicy 16 = .ok (.goto 12, 3) := dk_167 0 12 (dk_at dksX0_setPolicy_0 16 rfl rfl)
theorem dX0_setPolicy_19 : decode cX0_setPolicy 19 = .ok (.astore_n 3, 1) := dk_78 (dk_at dksX0_setPolicy_0 19 rfl rfl)
theorem dX0_setPolicy_20 : decode cX0_setPolicy 20 = .ok (.iconst 1, 1) := dk_4 (dk_at dksX0_setPolicy_0 20 rfl rfl)
theorem dX0_setPolicy_21 : decode cX0_setPolicy 21 = .ok (.ireturn, 1) := dk_172 (dk_at dksX0_setPolicy_0 21 rfl rfl)
theorem dX0_setPolicy_22 : decode cX0_setPolicy 22 = .ok (.astore_n 3, 1) := dk_78 (dk_at dksX0_setPolicy_0 22 rfl rfl)
theorem dX0_setPolicy_23 : decode cX0_setPolicy 23 = .ok (.iconst 2, 1) := dk_5 (dk_at dksX0_setPolicy_0 23 rfl rfl)
theorem dX0_setPolicy_24 : decode cX0_setPolicy 24 = .ok (.ireturn, 1) := dk_172 (dk_at dksX0_setPolicy_1 0 rfl rfl)
theorem dX0_setPolicy_25 : decode cX0_setPolicy 25 = .ok (.astore_n 3, 1) := dk_78 (dk_at dksX0_setPolicy_1 1 rfl rfl)
theorem dX0_setPolicy_26 : decode cX0_setPolicy 26 = .ok (.iconst 3, 1) := dk_6 (dk_at dksX0_setPolicy_1 2 rfl rfl)
theorem dX0_setPolicy_27 : decode cX0_setPolicy 27 = .ok (.ireturn, 1) := dk_172 (dk_at dksX0_setPolicy_1 3 rfl rfl)
theorem dX0_setPolicy_28 : decode cX0_setPolicy 28 = .ok (.iconst 0, 1) := dk_3 (dk_at dksX0_setPolicy_1 4 rfl rfl)
theorem dX0_setPolicy_29 : decode cX0_setPolicy 29 = .ok (.ireturn, 1) := dk_172 (dk_at dksX0_setPolicy_1 5 rfl rfl)
abbrev cX0_fulfils : ByteArray := method_24_code
def yX0_fulfils : MethodName := ⟨RX0, "fulfils", "(LSecretVault;II[J)I"⟩
def dkwX0_fulfils_1 : List UInt8 := [58, 4, 5, 172, 58, 4, 6, 172, 3, 172]
abbrev dktX0_fulfils_1 : List UInt8 := dkwX0_fulfils_1 ++ []
def dkwX0_fulfils_0 : List UInt8 := [45, 3, 42, 27, 28, 182, 0, 88, 153, 0, 7, 10, 167, 0, 4, 9, 80, 167, 0, 15, 58, 4, 4, 172]
abbrev dktX0_fulfils_0 : List UInt8 := dkwX0_fulfils_0 ++ dktX0_fulfils_1
theorem dksX0_fulfils_0 : cX0_fulfils.data.toList.drop 0 = dktX0_fulfils_0 := by decide +kernel
theorem dksX0_fulfils_1 : cX0_fulfils.data.toList.drop 24 = dktX0_fulfils_1 := dk_seg dksX0_fulfils_0 24 rfl rfl
theorem dX0_fulfils_0 : decode cX0_fulfils 0 = .ok (.aload_n 3, 1) := dk_45 (dk_at dksX0_fulfils_0 0 rfl rfl)
theorem dX0_fulfils_1 : decode cX0_fulfils 1 = .ok (.iconst 0, 1) := dk_3 (dk_at dksX0_fulfils_0 1 rfl rfl)
theorem dX0_fulfils_2 : decode cX0_fulfils 2 = .ok (.aload_n 0, 1) := dk_42 (dk_at dksX0_fulfils_0 2 rfl rfl)
theorem dX0_fulfils_3 : decode cX0_fulfils 3 = .ok (.iload_n 1, 1) := dk_27 (dk_at dksX0_fulfils_0 3 rfl rfl)
theorem dX0_fulfils_4 : decode cX0_fulfils 4 = .ok (.iload_n 2, 1) := dk_28 (dk_at dksX0_fulfils_0 4 rfl rfl)
theorem dX0_fulfils_5 : decode cX0_fulfils 5 = .ok (.invokevirtual 88, 3) := dk_182 0 88 (dk_at dksX0_fulfils_0 5 rfl rfl)
theorem dX0_fulfils_8 : decode cX0_fulfils 8 = .ok (.ifCond .eq 7, 3) := dk_153 0 7 (dk_at dksX0_fulfils_0 8 rfl rfl)
theorem dX0_fulfils_11 : decode cX0_fulfils 11 = .ok (.lconst 1, 1) := dk_10 (dk_at dksX0_fulfils_0 11 rfl rfl)
theorem dX0_fulfils_12 : decode cX0_fulfils 12 = .ok (.goto 4, 3) := dk_167 0 4 (dk_at dksX0_fulfils_0 12 rfl rfl)
theorem dX0_fulfils_15 : decode cX0_fulfils 15 = .ok (.lconst 0, 1) := dk_9 (dk_at dksX0_fulfils_0 15 rfl rfl)
theorem dX0_fulfils_16 : decode cX0_fulfils 16 = .ok (.lastore, 1) := dk_80 (dk_at dksX0_fulfils_0 16 rfl rfl)
theorem dX0_fulfils_17 : decode cX0_fulfils 17 = .ok (.goto 15, 3) := dk_167 0 15 (dk_at dksX0_fulfils_0 17 rfl rfl)
theorem dX0_fulfils_20 : decode cX0_fulfils 20 = .ok (.astore 4, 2) := dk_58 4 (dk_at dksX0_fulfils_0 20 rfl rfl)
theorem dX0_fulfils_22 : decode cX0_fulfils 22 = .ok (.iconst 1, 1) := dk_4 (dk_at dksX0_fulfils_0 22 rfl rfl)
theorem dX0_fulfils_23 : decode cX0_fulfils 23 = .ok (.ireturn, 1) := dk_172 (dk_at dksX0_fulfils_0 23 rfl rfl)
theorem dX0_fulfils_24 : decode cX0_fulfils 24 = .ok (.astore 4, 2) := dk_58 4 (dk_at dksX0_fulfils_1 0 rfl rfl)
theorem dX0_fulfils_26 : decode cX0_fulfils 26 = .ok (.iconst 2, 1) := dk_5 (dk_at dksX0_fulfils_1 2 rfl rfl)
theorem dX0_fulfils_27 : decode cX0_fulfils 27 = .ok (.ireturn, 1) := dk_172 (dk_at dksX0_fulfils_1 3 rfl rfl)
theorem dX0_fulfils_28 : decode cX0_fulfils 28 = .ok (.astore 4, 2) := dk_58 4 (dk_at dksX0_fulfils_1 4 rfl rfl)
theorem dX0_fulfils_30 : decode cX0_fulfils 30 = .ok (.iconst 3, 1) := dk_6 (dk_at dksX0_fulfils_1 6 rfl rfl)
theorem dX0_fulfils_31 : decode cX0_fulfils 31 = .ok (.ireturn, 1) := dk_172 (dk_at dksX0_fulfils_1 7 rfl rfl)
theorem dX0_fulfils_32 : decode cX0_fulfils 32 = .ok (.iconst 0, 1) := dk_3 (dk_at dksX0_fulfils_1 8 rfl rfl)
theorem dX0_fulfils_33 : decode cX0_fulfils 33 = .ok (.ireturn, 1) := dk_172 (dk_at dksX0_fulfils_1 9 rfl rfl)
abbrev cX0_policyText : ByteArray := method_25_code
def yX0_policyText : MethodName := ⟨RX0, "policyText", "(LSecretVault;II[J)I"⟩
def dkwX0_policyText_0 : List UInt8 := [45, 3, 42, 27, 28, 182, 0, 91, 133, 80, 167, 0, 11, 58, 4, 4, 172, 58, 4, 5, 172, 3, 172]
abbrev dktX0_policyText_0 : List UInt8 := dkwX0_policyText_0 ++ []
theorem dksX0_policyText_0 : cX0_policyText.data.toList.drop 0 = dktX0_policyText_0 := by decide +kernel
theorem dX0_policyText_0 : decode cX0_policyText 0 = .ok (.aload_n 3, 1) := dk_45 (dk_at dksX0_policyText_0 0 rfl rfl)
theorem dX0_policyText_1 : decode cX0_policyText 1 = .ok (.iconst 0, 1) := dk_3 (dk_at dksX0_policyText_0 1 rfl rfl)
theorem dX0_policyText_2 : decode cX0_policyText 2 = .ok (.aload_n 0, 1) := dk_42 (dk_at dksX0_policyText_0 2 rfl rfl)
theorem dX0_policyText_3 : decode cX0_policyText 3 = .ok (.iload_n 1, 1) := dk_27 (dk_at dksX0_policyText_0 3 rfl rfl)
theorem dX0_policyText_4 : decode cX0_policyText 4 = .ok (.iload_n 2, 1) := dk_28 (dk_at dksX0_policyText_0 4 rfl rfl)
theorem dX0_policyText_5 : decode cX0_policyText 5 = .ok (.invokevirtual 91, 3) := dk_182 0 91 (dk_at dksX0_policyText_0 5 rfl rfl)
theorem dX0_policyText_8 : decode cX0_policyText 8 = .ok (.i2l, 1) := dk_133 (dk_at dksX0_policyText_0 8 rfl rfl)
theorem dX0_policyText_9 : decode cX0_policyText 9 = .ok (.lastore, 1) := dk_80 (dk_at dksX0_policyText_0 9 rfl rfl)
theorem dX0_policyText_10 : decode cX0_policyText 10 = .ok (.goto 11, 3) := dk_167 0 11 (dk_at dksX0_policyText_0 10 rfl rfl)
theorem dX0_policyText_13 : decode cX0_policyText 13 = .ok (.astore 4, 2) := dk_58 4 (dk_at dksX0_policyText_0 13 rfl rfl)
theorem dX0_policyText_15 : decode cX0_policyText 15 = .ok (.iconst 1, 1) := dk_4 (dk_at dksX0_policyText_0 15 rfl rfl)
theorem dX0_policyText_16 : decode cX0_policyText 16 = .ok (.ireturn, 1) := dk_172 (dk_at dksX0_policyText_0 16 rfl rfl)
theorem dX0_policyText_17 : decode cX0_policyText 17 = .ok (.astore 4, 2) := dk_58 4 (dk_at dksX0_policyText_0 17 rfl rfl)
theorem dX0_policyText_19 : decode cX0_policyText 19 = .ok (.iconst 2, 1) := dk_5 (dk_at dksX0_policyText_0 19 rfl rfl)
theorem dX0_policyText_20 : decode cX0_policyText 20 = .ok (.ireturn, 1) := dk_172 (dk_at dksX0_policyText_0 20 rfl rfl)
theorem dX0_policyText_21 : decode cX0_policyText 21 = .ok (.iconst 0, 1) := dk_3 (dk_at dksX0_policyText_0 21 rfl rfl)
theorem dX0_policyText_22 : decode cX0_policyText 22 = .ok (.ireturn, 1) := dk_172 (dk_at dksX0_policyText_0 22 rfl rfl)
abbrev cX0_policy : ByteArray := method_26_code
def yX0_policy : MethodName := ⟨RX0, "policy", "(LSecretVault;II[J)I"⟩
def dkwX0_policy_1 : List UInt8 := [172, 3, 172]
abbrev dktX0_policy_1 : List UInt8 := dkwX0_policy_1 ++ []
def dkwX0_policy_0 : List UInt8 := [45, 3, 42, 27, 28, 182, 0, 94, 133, 80, 167, 0, 15, 58, 4, 4, 172, 58, 4, 5, 172, 58, 4, 6]
abbrev dktX0_policy_0 : List UInt8 := dkwX0_policy_0 ++ dktX0_policy_1
theorem dksX0_policy_0 : cX0_policy.data.toList.drop 0 = dktX0_policy_0 := by decide +kernel
theorem dksX0_policy_1 : cX0_policy.data.toList.drop 24 = dktX0_policy_1 := dk_seg dksX0_policy_0 24 rfl rfl
theorem dX0_policy_0 : decode cX0_policy 0 = .ok (.aload_n 3, 1) := dk_45 (dk_at dksX0_policy_0 0 rfl rfl)
theorem dX0_policy_1 : decode cX0_policy 1 = .ok (.iconst 0, 1) := dk_3 (dk_at dksX0_policy_0 1 rfl rfl)
theorem dX0_policy_2 : decode cX0_policy 2 = .ok (.aload_n 0, 1) := dk_42 (dk_at dksX0_policy_0 2 rfl rfl)
theorem dX0_policy_3 : decode cX0_policy 3 = .ok (.iload_n 1, 1) := dk_27 (dk_at dksX0_policy_0 3 rfl rfl)
theorem dX0_policy_4 : decode cX0_policy 4 = .ok (.iload_n 2, 1) := dk_28 (dk_at dksX0_policy_0 4 rfl rfl)
theorem dX0_policy_5 : decode cX0_policy 5 = .ok (.invokevirtual 94, 3) := dk_182 0 94 (dk_at dksX0_policy_0 5 rfl rfl)
theorem dX0_policy_8 : decode cX0_policy 8 = .ok (.i2l, 1) := dk_133 (dk_at dksX0_policy_0 8 rfl rfl)
theorem dX0_policy_9 : decode cX0_policy 9 = .ok (.lastore, 1) := dk_80 (dk_at dksX0_policy_0 9 rfl rfl)
theorem dX0_policy_10 : decode cX0_policy 10 = .ok (.goto 15, 3) := dk_167 0 15 (dk_at dksX0_policy_0 10 rfl rfl)
theorem dX0_policy_13 : decode cX0_policy 13 = .ok (.astore 4, 2) := dk_58 4 (dk_at dksX0_policy_0 13 rfl rfl)
theorem dX0_policy_15 : decode cX0_policy 15 = .ok (.iconst 1, 1) := dk_4 (dk_at dksX0_policy_0 15 rfl rfl)
theorem dX0_policy_16 : decode cX0_policy 16 = .ok (.ireturn, 1) := dk_172 (dk_at dksX0_policy_0 16 rfl rfl)
theorem dX0_policy_17 : decode cX0_policy 17 = .ok (.astore 4, 2) := dk_58 4 (dk_at dksX0_policy_0 17 rfl rfl)
theorem dX0_policy_19 : decode cX0_policy 19 = .ok (.iconst 2, 1) := dk_5 (dk_at dksX0_policy_0 19 rfl rfl)
theorem dX0_policy_20 : decode cX0_policy 20 = .ok (.ireturn, 1) := dk_172 (dk_at dksX0_policy_0 20 rfl rfl)
theorem dX0_policy_21 : decode cX0_policy 21 = .ok (.astore 4, 2) := dk_58 4 (dk_at dksX0_policy_0 21 rfl rfl)
theorem dX0_policy_23 : decode cX0_policy 23 = .ok (.iconst 3, 1) := dk_6 (dk_at dksX0_policy_0 23 rfl rfl)
theorem dX0_policy_24 : decode cX0_policy 24 = .ok (.ireturn, 1) := dk_172 (dk_at dksX0_policy_1 0 rfl rfl)
theorem dX0_policy_25 : decode cX0_policy 25 = .ok (.iconst 0, 1) := dk_3 (dk_at dksX0_policy_1 1 rfl rfl)
theorem dX0_policy_26 : decode cX0_policy 26 = .ok (.ireturn, 1) := dk_172 (dk_at dksX0_policy_1 2 rfl rfl)
abbrev cX0_groups : ByteArray := method_27_code
def yX0_groups : MethodName := ⟨RX0, "groups", "(LSecretVault;I[J)I"⟩
def dkwX0_groups_0 : List UInt8 := [44, 3, 42, 27, 182, 0, 97, 133, 80, 167, 0, 9, 78, 4, 172, 78, 5, 172, 3, 172]
abbrev dktX0_groups_0 : List UInt8 := dkwX0_groups_0 ++ []
theorem dksX0_groups_0 : cX0_groups.data.toList.drop 0 = dktX0_groups_0 := by decide +kernel
theorem dX0_groups_0 : decode cX0_groups 0 = .ok (.aload_n 2, 1) := dk_44 (dk_at dksX0_groups_0 0 rfl rfl)
theorem dX0_groups_1 : decode cX0_groups 1 = .ok (.iconst 0, 1) := dk_3 (dk_at dksX0_groups_0 1 rfl rfl)
theorem dX0_groups_2 : decode cX0_groups 2 = .ok (.aload_n 0, 1) := dk_42 (dk_at dksX0_groups_0 2 rfl rfl)
theorem dX0_groups_3 : decode cX0_groups 3 = .ok (.iload_n 1, 1) := dk_27 (dk_at dksX0_groups_0 3 rfl rfl)
theorem dX0_groups_4 : decode cX0_groups 4 = .ok (.invokevirtual 97, 3) := dk_182 0 97 (dk_at dksX0_groups_0 4 rfl rfl)
theorem dX0_groups_7 : decode cX0_groups 7 = .ok (.i2l, 1) := dk_133 (dk_at dksX0_groups_0 7 rfl rfl)
theorem dX0_groups_8 : decode cX0_groups 8 = .ok (.lastore, 1) := dk_80 (dk_at dksX0_groups_0 8 rfl rfl)
theorem dX0_groups_9 : decode cX0_groups 9 = .ok (.goto 9, 3) := dk_167 0 9 (dk_at dksX0_groups_0 9 rfl rfl)
theorem dX0_groups_12 : decode cX0_groups 12 = .ok (.astore_n 3, 1) := dk_78 (dk_at dksX0_groups_0 12 rfl rfl)
theorem dX0_groups_13 : decode cX0_groups 13 = .ok (.iconst 1, 1) := dk_4 (dk_at dksX0_groups_0 13 rfl rfl)
theorem dX0_groups_14 : decode cX0_groups 14 = .ok (.ireturn, 1) := dk_172 (dk_at dksX0_groups_0 14 rfl rfl)
theorem dX0_groups_15 : decode cX0_groups 15 = .ok (.astore_n 3, 1) := dk_78 (dk_at dksX0_groups_0 15 rfl rfl)
theorem dX0_groups_16 : decode cX0_groups 16 = .ok (.iconst 2, 1) := dk_5 (dk_at dksX0_groups_0 16 rfl rfl)
theorem dX0_groups_17 : decode cX0_groups 17 = .ok (.ireturn, 1) := dk_172 (dk_at dksX0_groups_0 17 rfl rfl)
theorem dX0_groups_18 : decode cX0_groups 18 = .ok (.iconst 0, 1) := dk_3 (dk_at dksX0_groups_0 18 rfl rfl)
theorem dX0_groups_19 : decode cX0_groups 19 = .ok (.ireturn, 1) := dk_172 (dk_at dksX0_groups_0 19 rfl rfl)
abbrev cX0_smallest : ByteArray := method_28_code
def yX0_smallest : MethodName := ⟨RX0, "smallest", "(LSecretVault;II[J)I"⟩
def dkwX0_smallest_0 : List UInt8 := [45, 3, 42, 27, 28, 182, 0, 100, 133, 80, 167, 0, 11, 58, 4, 4, 172, 58, 4, 5, 172, 3, 172]
abbrev dktX0_smallest_0 : List UInt8 := dkwX0_smallest_0 ++ []
theorem dksX0_smallest_0 : cX0_smallest.data.toList.drop 0 = dktX0_smallest_0 := by decide +kernel
theorem dX0_smallest_0 : decode cX0_smallest 0 = .ok (.aload_n 3, 1) := dk_45 (dk_at dksX0_smallest_0 0 rfl rfl)
theorem dX0_smallest_1 : decode cX0_smallest 1 = .ok (.iconst 0, 1) := dk_3 (dk_at dksX0_smallest_0 1 rfl rfl)
theorem dX0_smallest_2 : decode cX0_smallest 2 = .ok (.aload_n 0, 1) := dk_42 (dk_at dksX0_smallest_0 2 rfl rfl)
theorem dX0_smallest_3 : decode cX0_smallest 3 = .ok (.iload_n 1, 1) := dk_27 (dk_at dksX0_smallest_0 3 rfl rfl)
theorem dX0_smallest_4 : decode cX0_smallest 4 = .ok (.iload_n 2, 1) := dk_28 (dk_at dksX0_smallest_0 4 rfl rfl)
theorem dX0_smallest_5 : decode cX0_smallest 5 = .ok (.invokevirtual 100, 3) := dk_182 0 100 (dk_at dksX0_smallest_0 5 rfl rfl)
theorem dX0_smallest_8 : decode cX0_smallest 8 = .ok (.i2l, 1) := dk_133 (dk_at dksX0_smallest_0 8 rfl rfl)
theorem dX0_smallest_9 : decode cX0_smallest 9 = .ok (.lastore, 1) := dk_80 (dk_at dksX0_smallest_0 9 rfl rfl)
theorem dX0_smallest_10 : decode cX0_smallest 10 = .ok (.goto 11, 3) := dk_167 0 11 (dk_at dksX0_smallest_0 10 rfl rfl)
theorem dX0_smallest_13 : decode cX0_smallest 13 = .ok (.astore 4, 2) := dk_58 4 (dk_at dksX0_smallest_0 13 rfl rfl)
theorem dX0_smallest_15 : decode cX0_smallest 15 = .ok (.iconst 1, 1) := dk_4 (dk_at dksX0_smallest_0 15 rfl rfl)
theorem dX0_smallest_16 : decode cX0_smallest 16 = .ok (.ireturn, 1) := dk_172 (dk_at dksX0_smallest_0 16 rfl rfl)
theorem dX0_smallest_17 : decode cX0_smallest 17 = .ok (.astore 4, 2) := dk_58 4 (dk_at dksX0_smallest_0 17 rfl rfl)
theorem dX0_smallest_19 : decode cX0_smallest 19 = .ok (.iconst 2, 1) := dk_5 (dk_at dksX0_smallest_0 19 rfl rfl)
theorem dX0_smallest_20 : decode cX0_smallest 20 = .ok (.ireturn, 1) := dk_172 (dk_at dksX0_smallest_0 20 rfl rfl)
theorem dX0_smallest_21 : decode cX0_smallest 21 = .ok (.iconst 0, 1) := dk_3 (dk_at dksX0_smallest_0 21 rfl rfl)
theorem dX0_smallest_22 : decode cX0_smallest 22 = .ok (.ireturn, 1) := dk_172 (dk_at dksX0_smallest_0 22 rfl rfl)
abbrev cX0_powerBits : ByteArray := method_29_code
def yX0_powerBits : MethodName := ⟨RX0, "powerBits", "(LSecretVault;II[J)I"⟩
def dkwX0_powerBits_0 : List UInt8 := [45, 3, 42, 27, 28, 182, 0, 103, 80, 167, 0, 11, 58, 4, 4, 172, 58, 4, 5, 172, 3, 172]
abbrev dktX0_powerBits_0 : List UInt8 := dkwX0_powerBits_0 ++ []
theorem dksX0_powerBits_0 : cX0_powerBits.data.toList.drop 0 = dktX0_powerBits_0 := by decide +kernel
theorem dX0_powerBits_0 : decode cX0_powerBits 0 = .ok (.aload_n 3, 1) := dk_45 (dk_at dksX0_powerBits_0 0 rfl rfl)
theorem dX0_powerBits_1 : decode cX0_powerBits 1 = .ok (.iconst 0, 1) := dk_3 (dk_at dksX0_powerBits_0 1 rfl rfl)
theorem dX0_powerBits_2 : decode cX0_powerBits 2 = .ok (.aload_n 0, 1) := dk_42 (dk_at dksX0_powerBits_0 2 rfl rfl)
theorem dX0_powerBits_3 : decode cX0_powerBits 3 = .ok (.iload_n 1, 1) := dk_27 (dk_at dksX0_powerBits_0 3 rfl rfl)
theorem dX0_powerBits_4 : decode cX0_powerBits 4 = .ok (.iload_n 2, 1) := dk_28 (dk_at dksX0_powerBits_0 4 rfl rfl)
theorem dX0_powerBits_5 : decode cX0_powerBits 5 = .ok (.invokevirtual 103, 3) := dk_182 0 103 (dk_at dksX0_powerBits_0 5 rfl rfl)
theorem dX0_powerBits_8 : decode cX0_powerBits 8 = .ok (.lastore, 1) := dk_80 (dk_at dksX0_powerBits_0 8 rfl rfl)
theorem dX0_powerBits_9 : decode cX0_powerBits 9 = .ok (.goto 11, 3) := dk_167 0 11 (dk_at dksX0_powerBits_0 9 rfl rfl)
theorem dX0_powerBits_12 : decode cX0_powerBits 12 = .ok (.astore 4, 2) := dk_58 4 (dk_at dksX0_powerBits_0 12 rfl rfl)
theorem dX0_powerBits_14 : decode cX0_powerBits 14 = .ok (.iconst 1, 1) := dk_4 (dk_at dksX0_powerBits_0 14 rfl rfl)
theorem dX0_powerBits_15 : decode cX0_powerBits 15 = .ok (.ireturn, 1) := dk_172 (dk_at dksX0_powerBits_0 15 rfl rfl)
theorem dX0_powerBits_16 : decode cX0_powerBits 16 = .ok (.astore 4, 2) := dk_58 4 (dk_at dksX0_powerBits_0 16 rfl rfl)
theorem dX0_powerBits_18 : decode cX0_powerBits 18 = .ok (.iconst 2, 1) := dk_5 (dk_at dksX0_powerBits_0 18 rfl rfl)
theorem dX0_powerBits_19 : decode cX0_powerBits 19 = .ok (.ireturn, 1) := dk_172 (dk_at dksX0_powerBits_0 19 rfl rfl)
theorem dX0_powerBits_20 : decode cX0_powerBits 20 = .ok (.iconst 0, 1) := dk_3 (dk_at dksX0_powerBits_0 20 rfl rfl)
theorem dX0_powerBits_21 : decode cX0_powerBits 21 = .ok (.ireturn, 1) := dk_172 (dk_at dksX0_powerBits_0 21 rfl rfl)
abbrev cX0_healthBits : ByteArray := method_30_code
def yX0_healthBits : MethodName := ⟨RX0, "healthBits", "(LSecretVault;I[J)I"⟩
def dkwX0_healthBits_0 : List UInt8 := [44, 3, 42, 27, 182, 0, 107, 133, 80, 167, 0, 12, 78, 4, 172, 78, 5, 172, 78, 6, 172, 3, 172]
abbrev dktX0_healthBits_0 : List UInt8 := dkwX0_healthBits_0 ++ []
theorem dksX0_healthBits_0 : cX0_healthBits.data.toList.drop 0 = dktX0_healthBits_0 := by decide +kernel
theorem dX0_healthBits_0 : decode cX0_healthBits 0 = .ok (.aload_n 2, 1) := dk_44 (dk_at dksX0_healthBits_0 0 rfl rfl)
theorem dX0_healthBits_1 : decode cX0_healthBits 1 = .ok (.iconst 0, 1) := dk_3 (dk_at dksX0_healthBits_0 1 rfl rfl)
theorem dX0_healthBits_2 : decode cX0_healthBits 2 = .ok (.aload_n 0, 1) := dk_42 (dk_at dksX0_healthBits_0 2 rfl rfl)
theorem dX0_healthBits_3 : decode cX0_healthBits 3 = .ok (.iload_n 1, 1) := dk_27 (dk_at dksX0_healthBits_0 3 rfl rfl)
theorem dX0_healthBits_4 : decode cX0_healthBits 4 = .ok (.invokevirtual 107, 3) := dk_182 0 107 (dk_at dksX0_healthBits_0 4 rfl rfl)
theorem dX0_healthBits_7 : decode cX0_healthBits 7 = .ok (.i2l, 1) := dk_133 (dk_at dksX0_healthBits_0 7 rfl rfl)
theorem dX0_healthBits_8 : decode cX0_healthBits 8 = .ok (.lastore, 1) := dk_80 (dk_at dksX0_healthBits_0 8 rfl rfl)
theorem dX0_healthBits_9 : decode cX0_healthBits 9 = .ok (.goto 12, 3) := dk_167 0 12 (dk_at dksX0_healthBits_0 9 rfl rfl)
theorem dX0_healthBits_12 : decode cX0_healthBits 12 = .ok (.astore_n 3, 1) := dk_78 (dk_at dksX0_healthBits_0 12 rfl rfl)
theorem dX0_healthBits_13 : decode cX0_healthBits 13 = .ok (.iconst 1, 1) := dk_4 (dk_at dksX0_healthBits_0 13 rfl rfl)
theorem dX0_healthBits_14 : decode cX0_healthBits 14 = .ok (.ireturn, 1) := dk_172 (dk_at dksX0_healthBits_0 14 rfl rfl)
theorem dX0_healthBits_15 : decode cX0_healthBits 15 = .ok (.astore_n 3, 1) := dk_78 (dk_at dksX0_healthBits_0 15 rfl rfl)
theorem dX0_healthBits_16 : decode cX0_healthBits 16 = .ok (.iconst 2, 1) := dk_5 (dk_at dksX0_healthBits_0 16 rfl rfl)
theorem dX0_healthBits_17 : decode cX0_healthBits 17 = .ok (.ireturn, 1) := dk_172 (dk_at dksX0_healthBits_0 17 rfl rfl)
theorem dX0_healthBits_18 : decode cX0_healthBits 18 = .ok (.astore_n 3, 1) := dk_78 (dk_at dksX0_healthBits_0 18 rfl rfl)
theorem dX0_healthBits_19 : decode cX0_healthBits 19 = .ok (.iconst 3, 1) := dk_6 (dk_at dksX0_healthBits_0 19 rfl rfl)
theorem dX0_healthBits_20 : decode cX0_healthBits 20 = .ok (.ireturn, 1) := dk_172 (dk_at dksX0_healthBits_0 20 rfl rfl)
theorem dX0_healthBits_21 : decode cX0_healthBits 21 = .ok (.iconst 0, 1) := dk_3 (dk_at dksX0_healthBits_0 21 rfl rfl)
theorem dX0_healthBits_22 : decode cX0_healthBits 22 = .ok (.ireturn, 1) := dk_172 (dk_at dksX0_healthBits_0 22 rfl rfl)
abbrev cX0_report : ByteArray := method_31_code
def yX0_report : MethodName := ⟨RX0, "report", "(LSecretVault;II[J)I"⟩
def dkwX0_report_0 : List UInt8 := [45, 3, 42, 27, 28, 182, 0, 112, 133, 80, 167, 0, 11, 58, 4, 4, 172, 58, 4, 5, 172, 3, 172]
abbrev dktX0_report_0 : List UInt8 := dkwX0_report_0 ++ []
theorem dksX0_report_0 : cX0_report.data.toList.drop 0 = dktX0_report_0 := by decide +kernel
theorem dX0_report_0 : decode cX0_report 0 = .ok (.aload_n 3, 1) := dk_45 (dk_at dksX0_report_0 0 rfl rfl)
theorem dX0_report_1 : decode cX0_report 1 = .ok (.iconst 0, 1) := dk_3 (dk_at dksX0_report_0 1 rfl rfl)
theorem dX0_report_2 : decode cX0_report 2 = .ok (.aload_n 0, 1) := dk_42 (dk_at dksX0_report_0 2 rfl rfl)
theorem dX0_report_3 : decode cX0_report 3 = .ok (.iload_n 1, 1) := dk_27 (dk_at dksX0_report_0 3 rfl rfl)
theorem dX0_report_4 : decode cX0_report 4 = .ok (.iload_n 2, 1) := dk_28 (dk_at dksX0_report_0 4 rfl rfl)
theorem dX0_report_5 : decode cX0_report 5 = .ok (.invokevirtual 112, 3) := dk_182 0 112 (dk_at dksX0_report_0 5 rfl rfl)
theorem dX0_report_8 : decode cX0_report 8 = .ok (.i2l, 1) := dk_133 (dk_at dksX0_report_0 8 rfl rfl)
theorem dX0_report_9 : decode cX0_report 9 = .ok (.lastore, 1) := dk_80 (dk_at dksX0_report_0 9 rfl rfl)
theorem dX0_report_10 : decode cX0_report 10 = .ok (.goto 11, 3) := dk_167 0 11 (dk_at dksX0_report_0 10 rfl rfl)
theorem dX0_report_13 : decode cX0_report 13 = .ok (.astore 4, 2) := dk_58 4 (dk_at dksX0_report_0 13 rfl rfl)
theorem dX0_report_15 : decode cX0_report 15 = .ok (.iconst 1, 1) := dk_4 (dk_at dksX0_report_0 15 rfl rfl)
theorem dX0_report_16 : decode cX0_report 16 = .ok (.ireturn, 1) := dk_172 (dk_at dksX0_report_0 16 rfl rfl)
theorem dX0_report_17 : decode cX0_report 17 = .ok (.astore 4, 2) := dk_58 4 (dk_at dksX0_report_0 17 rfl rfl)
theorem dX0_report_19 : decode cX0_report 19 = .ok (.iconst 2, 1) := dk_5 (dk_at dksX0_report_0 19 rfl rfl)
theorem dX0_report_20 : decode cX0_report 20 = .ok (.ireturn, 1) := dk_172 (dk_at dksX0_report_0 20 rfl rfl)
theorem dX0_report_21 : decode cX0_report 21 = .ok (.iconst 0, 1) := dk_3 (dk_at dksX0_report_0 21 rfl rfl)
theorem dX0_report_22 : decode cX0_report 22 = .ok (.ireturn, 1) := dk_172 (dk_at dksX0_report_0 22 rfl rfl)
abbrev cX0_event : ByteArray := method_32_code
def yX0_event : MethodName := ⟨RX0, "event", "(LSecretVault;I[J)I"⟩
def dkwX0_event_0 : List UInt8 := [44, 3, 42, 27, 182, 0, 115, 133, 80, 167, 0, 6, 78, 4, 172, 3, 172]
abbrev dktX0_event_0 : List UInt8 := dkwX0_event_0 ++ []
theorem dksX0_event_0 : cX0_event.data.toList.drop 0 = dktX0_event_0 := by decide +kernel
theorem dX0_event_0 : decode cX0_event 0 = .ok (.aload_n 2, 1) := dk_44 (dk_at dksX0_event_0 0 rfl rfl)
theorem dX0_event_1 : decode cX0_event 1 = .ok (.iconst 0, 1) := dk_3 (dk_at dksX0_event_0 1 rfl rfl)
theorem dX0_event_2 : decode cX0_event 2 = .ok (.aload_n 0, 1) := dk_42 (dk_at dksX0_event_0 2 rfl rfl)
theorem dX0_event_3 : decode cX0_event 3 = .ok (.iload_n 1, 1) := dk_27 (dk_at dksX0_event_0 3 rfl rfl)
theorem dX0_event_4 : decode cX0_event 4 = .ok (.invokevirtual 115, 3) := dk_182 0 115 (dk_at dksX0_event_0 4 rfl rfl)
theorem dX0_event_7 : decode cX0_event 7 = .ok (.i2l, 1) := dk_133 (dk_at dksX0_event_0 7 rfl rfl)
theorem dX0_event_8 : decode cX0_event 8 = .ok (.lastore, 1) := dk_80 (dk_at dksX0_event_0 8 rfl rfl)
theorem dX0_event_9 : decode cX0_event 9 = .ok (.goto 6, 3) := dk_167 0 6 (dk_at dksX0_event_0 9 rfl rfl)
theorem dX0_event_12 : decode cX0_event 12 = .ok (.astore_n 3, 1) := dk_78 (dk_at dksX0_event_0 12 rfl rfl)
theorem dX0_event_13 : decode cX0_event 13 = .ok (.iconst 1, 1) := dk_4 (dk_at dksX0_event_0 13 rfl rfl)
theorem dX0_event_14 : decode cX0_event 14 = .ok (.ireturn, 1) := dk_172 (dk_at dksX0_event_0 14 rfl rfl)
theorem dX0_event_15 : decode cX0_event 15 = .ok (.iconst 0, 1) := dk_3 (dk_at dksX0_event_0 15 rfl rfl)
theorem dX0_event_16 : decode cX0_event 16 = .ok (.ireturn, 1) := dk_172 (dk_at dksX0_event_0 16 rfl rfl)
abbrev cX0_restore : ByteArray := method_33_code
def yX0_restore : MethodName := ⟨RX0, "restore", "(LSecretVault;[J)I"⟩
def dkwX0_restore_0 : List UInt8 := [43, 3, 42, 182, 0, 118, 133, 80, 167, 0, 6, 77, 4, 172, 3, 172]
abbrev dktX0_restore_0 : List UInt8 := dkwX0_restore_0 ++ []
theorem dksX0_restore_0 : cX0_restore.data.toList.drop 0 = dktX0_restore_0 := by decide +kernel
theorem dX0_restore_0 : decode cX0_restore 0 = .ok (.aload_n 1, 1) := dk_43 (dk_at dksX0_restore_0 0 rfl rfl)
theorem dX0_restore_1 : decode cX0_restore 1 = .ok (.iconst 0, 1) := dk_3 (dk_at dksX0_restore_0 1 rfl rfl)
theorem dX0_restore_2 : decode cX0_restore 2 = .ok (.aload_n 0, 1) := dk_42 (dk_at dksX0_restore_0 2 rfl rfl)
theorem dX0_restore_3 : decode cX0_restore 3 = .ok (.invokevirtual 118, 3) := dk_182 0 118 (dk_at dksX0_restore_0 3 rfl rfl)
theorem dX0_restore_6 : decode cX0_restore 6 = .ok (.i2l, 1) := dk_133 (dk_at dksX0_restore_0 6 rfl rfl)
theorem dX0_restore_7 : decode cX0_restore 7 = .ok (.lastore, 1) := dk_80 (dk_at dksX0_restore_0 7 rfl rfl)
theorem dX0_restore_8 : decode cX0_restore 8 = .ok (.goto 6, 3) := dk_167 0 6 (dk_at dksX0_restore_0 8 rfl rfl)
theorem dX0_restore_11 : decode cX0_restore 11 = .ok (.astore_n 2, 1) := dk_77 (dk_at dksX0_restore_0 11 rfl rfl)
theorem dX0_restore_12 : decode cX0_restore 12 = .ok (.iconst 1, 1) := dk_4 (dk_at dksX0_restore_0 12 rfl rfl)
theorem dX0_restore_13 : decode cX0_restore 13 = .ok (.ireturn, 1) := dk_172 (dk_at dksX0_restore_0 13 rfl rfl)
theorem dX0_restore_14 : decode cX0_restore 14 = .ok (.iconst 0, 1) := dk_3 (dk_at dksX0_restore_0 14 rfl rfl)
theorem dX0_restore_15 : decode cX0_restore 15 = .ok (.ireturn, 1) := dk_172 (dk_at dksX0_restore_0 15 rfl rfl)
theorem q66 : (Jvm.Cond.initialized "SecretVaultLaw") ∈ lw_all := lw_g (lw_at lw_m1 0 rfl) rfl
theorem q123 : (Jvm.Cond.classLink "SecretVaultLaw" (8 : Nat) "SecretVault") ∈ lw_all := lw_g (lw_at lw_m1 57 rfl) rfl
theorem q125 : (Jvm.Cond.methodLink "SecretVaultLaw" (122 : Nat) ({ cls := "SecretVault", name := "<init>", desc := "()V" } : Jvm.MethodName)) ∈ lw_all := lw_g (lw_at lw_m1 59 rfl) rfl
theorem q593 : (Jvm.Cond.methodLink "SecretVaultLaw" (126 : Nat) ({ cls := "SecretVault", name := "seed", desc := "(I)I" } : Jvm.MethodName)) ∈ lw_all := lw_g (lw_at lw_m3 47 rfl) rfl
theorem q597 : (Jvm.Cond.methodLink "SecretVaultLaw" (130 : Nat) ({ cls := "SecretVault", name := "draw", desc := "()I" } : Jvm.MethodName)) ∈ lw_all := lw_g (lw_at lw_m3 51 rfl) rfl
theorem q606 : (Jvm.Cond.methodLink "SecretVaultLaw" (206 : Nat) ({ cls := "SecretVault", name := "errorPosition", desc := "()I" } : Jvm.MethodName)) ∈ lw_all := lw_g (lw_at lw_m3 60 rfl) rfl
theorem q610 : (Jvm.Cond.methodLink "SecretVaultLaw" (231 : Nat) ({ cls := "SecretVault", name := "levels", desc := "()I" } : Jvm.MethodName)) ∈ lw_all := lw_g (lw_at lw_m3 64 rfl) rfl
theorem q631 : (Jvm.Cond.methodLink "SecretVaultLaw" (241 : Nat) ({ cls := "SecretVault", name := "save", desc := "()I" } : Jvm.MethodName)) ∈ lw_all := lw_g (lw_at lw_m3 85 rfl) rfl
theorem q903 : (Jvm.Cond.methodLink "SecretVaultLaw" (134 : Nat) ({ cls := "SecretVaultLaw", name := "setWeight", desc := "(LSecretVault;II[J)I" } : Jvm.MethodName)) ∈ lw_all := lw_g (lw_at lw_m4 117 rfl) rfl
theorem q904 : (Jvm.Cond.static ({ cls := "SecretVaultLaw", name := "setWeight", desc := "(LSecretVault;II[J)I" } : Jvm.MethodName)) ∈ lw_all := lw_g (lw_at lw_m4 118 rfl) rfl
theorem q905 : (Jvm.Cond.codeWith ({ cls := "SecretVaultLaw", name := "setWeight", desc := "(LSecretVault;II[J)I" } : Jvm.MethodName) method_3_code (5 : Nat) (Option.some Jvm.ClassFile.FieldType.int) [((0 : Nat), (10 : Nat), (13 : Nat), (13 : Nat)), ((0 : Nat), (10 : Nat), (17 : Nat), (15 : Nat))]) ∈ lw_all := lw_g (lw_at lw_m4 119 rfl) rfl
theorem q906 : (Jvm.Cond.classLink "SecretVaultLaw" (13 : Nat) "java/lang/IndexOutOfBoundsException") ∈ lw_all := lw_g (lw_at lw_m4 120 rfl) rfl
theorem q909 : (Jvm.Cond.classLink "SecretVaultLaw" (15 : Nat) "java/lang/IllegalArgumentException") ∈ lw_all := lw_g (lw_at lw_m4 123 rfl) rfl
theorem q910 : (Jvm.Cond.methodLink "SecretVaultLaw" (7 : Nat) ({ cls := "SecretVault", name := "setWeight", desc := "(II)I" } : Jvm.MethodName)) ∈ lw_all := lw_g (lw_at lw_m4 124 rfl) rfl
theorem q946 : (Jvm.Cond.methodLink "SecretVaultLaw" (143 : Nat) ({ cls := "SecretVaultLaw", name := "setPresent", desc := "(LSecretVault;IZ[J)I" } : Jvm.MethodName)) ∈ lw_all := lw_g (lw_at lw_m4 160 rfl) rfl
theorem q947 : (Jvm.Cond.static ({ cls := "SecretVaultLaw", name := "setPresent", desc := "(LSecretVault;IZ[J)I" } : Jvm.MethodName)) ∈ lw_all := lw_g (lw_at lw_m4 161 rfl) rfl
theorem q948 : (Jvm.Cond.codeWith ({ cls := "SecretVaultLaw", name := "setPresent", desc := "(LSecretVault;IZ[J)I" } : Jvm.MethodName) method_4_code (5 : Nat) (Option.some Jvm.ClassFile.FieldType.int) [((0 : Nat), (17 : Nat), (20 : Nat), (13 : Nat))]) ∈ lw_all := lw_g (lw_at lw_m4 162 rfl) rfl
theorem q949 : (Jvm.Cond.methodLink "SecretVaultLaw" (17 : Nat) ({ cls := "SecretVault", name := "setPresent", desc := "(IZ)Z" } : Jvm.MethodName)) ∈ lw_all := lw_g (lw_at lw_m4 163 rfl) rfl
theorem q953 : (Jvm.Cond.methodLink "SecretVaultLaw" (147 : Nat) ({ cls := "SecretVaultLaw", name := "member", desc := "(LSecretVault;II[J)I" } : Jvm.MethodName)) ∈ lw_all := lw_g (lw_at lw_m4 167 rfl) rfl
theorem q954 : (Jvm.Cond.static ({ cls := "SecretVaultLaw", name := "member", desc := "(LSecretVault;II[J)I" } : Jvm.MethodName)) ∈ lw_all := lw_g (lw_at lw_m4 168 rfl) rfl
theorem q955 : (Jvm.Cond.codeWith ({ cls := "SecretVaultLaw", name := "member", desc := "(LSecretVault;II[J)I" } : Jvm.MethodName) method_5_code (5 : Nat) (Option.some Jvm.ClassFile.FieldType.int) [((0 : Nat), (10 : Nat), (13 : Nat), (13 : Nat)), ((0 : Nat), (10 : Nat), (17 : Nat), (15 : Nat))]) ∈ lw_all := lw_g (lw_at lw_m4 169 rfl) rfl
theorem q956 : (Jvm.Cond.methodLink "SecretVaultLaw" (21 : Nat) ({ cls := "SecretVault", name := "member", desc := "(II)I" } : Jvm.MethodName)) ∈ lw_all := lw_g (lw_at lw_m4 170 rfl) rfl
theorem q1062 : (Jvm.Cond.methodLink "SecretVaultLaw" (150 : Nat) ({ cls := "SecretVaultLaw", name := "put", desc := "(LSecretVault;III[J)I" } : Jvm.MethodName)) ∈ lw_all := lw_g (lw_at lw_m5 36 rfl) rfl
theorem q1063 : (Jvm.Cond.static ({ cls := "SecretVaultLaw", name := "put", desc := "(LSecretVault;III[J)I" } : Jvm.MethodName)) ∈ lw_all := lw_g (lw_at lw_m5 37 rfl) rfl
theorem q1064 : (Jvm.Cond.codeWith ({ cls := "SecretVaultLaw", name := "put", desc := "(LSecretVault;III[J)I" } : Jvm.MethodName) method_6_code (6 : Nat) (Option.some Jvm.ClassFile.FieldType.int) [((0 : Nat), (12 : Nat), (15 : Nat), (13 : Nat)), ((0 : Nat), (12 : Nat), (19 : Nat), (15 : Nat)), ((0 : Nat), (12 : Nat), (23 : Nat), (28 : Nat))]) ∈ lw_all := lw_g (lw_at lw_m5 38 rfl) rfl
theorem q1065 : (Jvm.Cond.classLink "SecretVaultLaw" (28 : Nat) "java/lang/IllegalStateException") ∈ lw_all := lw_g (lw_at lw_m5 39 rfl) rfl
theorem q1066 : (Jvm.Cond.methodLink "SecretVaultLaw" (24 : Nat) ({ cls := "SecretVault", name := "put", desc := "(III)I" } : Jvm.MethodName)) ∈ lw_all := lw_g (lw_at lw_m5 40 rfl) rfl
theorem q1127 : (Jvm.Cond.methodLink "SecretVaultLaw" (154 : Nat) ({ cls := "SecretVaultLaw", name := "remove", desc := "(LSecretVault;I[J)I" } : Jvm.MethodName)) ∈ lw_all := lw_g (lw_at lw_m5 101 rfl) rfl
theorem q1128 : (Jvm.Cond.static ({ cls := "SecretVaultLaw", name := "remove", desc := "(LSecretVault;I[J)I" } : Jvm.MethodName)) ∈ lw_all := lw_g (lw_at lw_m5 102 rfl) rfl
theorem q1129 : (Jvm.Cond.codeWith ({ cls := "SecretVaultLaw", name := "remove", desc := "(LSecretVault;I[J)I" } : Jvm.MethodName) method_7_code (4 : Nat) (Option.some Jvm.ClassFile.FieldType.int) [((0 : Nat), (9 : Nat), (12 : Nat), (13 : Nat)), ((0 : Nat), (9 : Nat), (15 : Nat), (34 : Nat))]) ∈ lw_all := lw_g (lw_at lw_m5 103 rfl) rfl
theorem q1130 : (Jvm.Cond.classLink "SecretVaultLaw" (34 : Nat) "java/util/NoSuchElementException") ∈ lw_all := lw_g (lw_at lw_m5 104 rfl) rfl
theorem q1131 : (Jvm.Cond.methodLink "SecretVaultLaw" (30 : Nat) ({ cls := "SecretVault", name := "remove", desc := "(I)I" } : Jvm.MethodName)) ∈ lw_all := lw_g (lw_at lw_m5 105 rfl) rfl
theorem q1144 : (Jvm.Cond.methodLink "SecretVaultLaw" (158 : Nat) ({ cls := "SecretVaultLaw", name := "refresh", desc := "(LSecretVault;I[J)I" } : Jvm.MethodName)) ∈ lw_all := lw_g (lw_at lw_m5 118 rfl) rfl
theorem q1145 : (Jvm.Cond.static ({ cls := "SecretVaultLaw", name := "refresh", desc := "(LSecretVault;I[J)I" } : Jvm.MethodName)) ∈ lw_all := lw_g (lw_at lw_m5 119 rfl) rfl
theorem q1146 : (Jvm.Cond.codeWith ({ cls := "SecretVaultLaw", name := "refresh", desc := "(LSecretVault;I[J)I" } : Jvm.MethodName) method_8_code (4 : Nat) (Option.some Jvm.ClassFile.FieldType.int) [((0 : Nat), (9 : Nat), (12 : Nat), (13 : Nat)), ((0 : Nat), (9 : Nat), (15 : Nat), (34 : Nat))]) ∈ lw_all := lw_g (lw_at lw_m5 120 rfl) rfl
theorem q1147 : (Jvm.Cond.methodLink "SecretVaultLaw" (36 : Nat) ({ cls := "SecretVault", name := "refresh", desc := "(I)I" } : Jvm.MethodName)) ∈ lw_all := lw_g (lw_at lw_m5 121 rfl) rfl
theorem q1156 : (Jvm.Cond.methodLink "SecretVaultLaw" (161 : Nat) ({ cls := "SecretVaultLaw", name := "reshare", desc := "(LSecretVault;III[J)I" } : Jvm.MethodName)) ∈ lw_all := lw_g (lw_at lw_m5 130 rfl) rfl
theorem q1157 : (Jvm.Cond.static ({ cls := "SecretVaultLaw", name := "reshare", desc := "(LSecretVault;III[J)I" } : Jvm.MethodName)) ∈ lw_all := lw_g (lw_at lw_m5 131 rfl) rfl
theorem q1158 : (Jvm.Cond.codeWith ({ cls := "SecretVaultLaw", name := "reshare", desc := "(LSecretVault;III[J)I" } : Jvm.MethodName) method_9_code (6 : Nat) (Option.some Jvm.ClassFile.FieldType.int) [((0 : Nat), (12 : Nat), (15 : Nat), (13 : Nat)), ((0 : Nat), (12 : Nat), (19 : Nat), (15 : Nat)), ((0 : Nat), (12 : Nat), (23 : Nat), (34 : Nat)), ((0 : Nat), (12 : Nat), (27 : Nat), (42 : Nat)), ((0 : Nat), (12 : Nat), (31 : Nat), (28 : Nat))]) ∈ lw_all := lw_g (lw_at lw_m5 132 rfl) rfl
theorem q1159 : (Jvm.Cond.classLink "SecretVaultLaw" (42 : Nat) "java/lang/UnsupportedOperationException") ∈ lw_all := lw_g (lw_at lw_m5 133 rfl) rfl
theorem q1160 : (Jvm.Cond.methodLink "SecretVaultLaw" (39 : Nat) ({ cls := "SecretVault", name := "reshare", desc := "(III)I" } : Jvm.MethodName)) ∈ lw_all := lw_g (lw_at lw_m5 134 rfl) rfl
theorem q1456 : (Jvm.Cond.methodLink "SecretVaultLaw" (164 : Nat) ({ cls := "SecretVaultLaw", name := "enroll", desc := "(LSecretVault;III[J)I" } : Jvm.MethodName)) ∈ lw_all := lw_g (lw_at lw_m6 190 rfl) rfl
theorem q1457 : (Jvm.Cond.static ({ cls := "SecretVaultLaw", name := "enroll", desc := "(LSecretVault;III[J)I" } : Jvm.MethodName)) ∈ lw_all := lw_g (lw_at lw_m6 191 rfl) rfl
theorem q1458 : (Jvm.Cond.codeWith ({ cls := "SecretVaultLaw", name := "enroll", desc := "(LSecretVault;III[J)I" } : Jvm.MethodName) method_10_code (6 : Nat) (Option.some Jvm.ClassFile.FieldType.int) [((0 : Nat), (12 : Nat), (15 : Nat), (13 : Nat)), ((0 : Nat), (12 : Nat), (19 : Nat), (15 : Nat)), ((0 : Nat), (12 : Nat), (23 : Nat), (34 : Nat)), ((0 : Nat), (12 : Nat), (27 : Nat), (42 : Nat))]) ∈ lw_all := lw_g (lw_at lw_m6 192 rfl) rfl
theorem q1459 : (Jvm.Cond.methodLink "SecretVaultLaw" (44 : Nat) ({ cls := "SecretVault", name := "enroll", desc := "(III)I" } : Jvm.MethodName)) ∈ lw_all := lw_g (lw_at lw_m6 193 rfl) rfl
theorem q1469 : (Jvm.Cond.methodLink "SecretVaultLaw" (167 : Nat) ({ cls := "SecretVaultLaw", name := "expel", desc := "(LSecretVault;II[J)I" } : Jvm.MethodName)) ∈ lw_all := lw_g (lw_at lw_m6 203 rfl) rfl
theorem q1470 : (Jvm.Cond.static ({ cls := "SecretVaultLaw", name := "expel", desc := "(LSecretVault;II[J)I" } : Jvm.MethodName)) ∈ lw_all := lw_g (lw_at lw_m6 204 rfl) rfl
theorem q1471 : (Jvm.Cond.codeWith ({ cls := "SecretVaultLaw", name := "expel", desc := "(LSecretVault;II[J)I" } : Jvm.MethodName) method_11_code (5 : Nat) (Option.some Jvm.ClassFile.FieldType.int) [((0 : Nat), (10 : Nat), (13 : Nat), (13 : Nat)), ((0 : Nat), (10 : Nat), (17 : Nat), (34 : Nat))]) ∈ lw_all := lw_g (lw_at lw_m6 205 rfl) rfl
theorem q1472 : (Jvm.Cond.methodLink "SecretVaultLaw" (47 : Nat) ({ cls := "SecretVault", name := "expel", desc := "(II)I" } : Jvm.MethodName)) ∈ lw_all := lw_g (lw_at lw_m6 206 rfl) rfl
theorem q1477 : (Jvm.Cond.methodLink "SecretVaultLaw" (170 : Nat) ({ cls := "SecretVaultLaw", name := "open", desc := "(LSecretVault;II[J)I" } : Jvm.MethodName)) ∈ lw_all := lw_g (lw_at lw_m6 211 rfl) rfl
theorem q1478 : (Jvm.Cond.static ({ cls := "SecretVaultLaw", name := "open", desc := "(LSecretVault;II[J)I" } : Jvm.MethodName)) ∈ lw_all := lw_g (lw_at lw_m6 212 rfl) rfl
theorem q1479 : (Jvm.Cond.codeWith ({ cls := "SecretVaultLaw", name := "open", desc := "(LSecretVault;II[J)I" } : Jvm.MethodName) method_12_code (5 : Nat) (Option.some Jvm.ClassFile.FieldType.int) [((0 : Nat), (10 : Nat), (13 : Nat), (13 : Nat)), ((0 : Nat), (10 : Nat), (17 : Nat), (15 : Nat)), ((0 : Nat), (10 : Nat), (21 : Nat), (34 : Nat)), ((0 : Nat), (10 : Nat), (25 : Nat), (42 : Nat))]) ∈ lw_all := lw_g (lw_at lw_m6 213 rfl) rfl
theorem q1480 : (Jvm.Cond.methodLink "SecretVaultLaw" (50 : Nat) ({ cls := "SecretVault", name := "open", desc := "(II)I" } : Jvm.MethodName)) ∈ lw_all := lw_g (lw_at lw_m6 214 rfl) rfl
theorem q1484 : (Jvm.Cond.methodLink "SecretVaultLaw" (173 : Nat) ({ cls := "SecretVaultLaw", name := "combine", desc := "(LSecretVault;II[J)I" } : Jvm.MethodName)) ∈ lw_all := lw_g (lw_at lw_m6 218 rfl) rfl
theorem q1485 : (Jvm.Cond.static ({ cls := "SecretVaultLaw", name := "combine", desc := "(LSecretVault;II[J)I" } : Jvm.MethodName)) ∈ lw_all := lw_g (lw_at lw_m6 219 rfl) rfl
theorem q1486 : (Jvm.Cond.codeWith ({ cls := "SecretVaultLaw", name := "combine", desc := "(LSecretVault;II[J)I" } : Jvm.MethodName) method_13_code (5 : Nat) (Option.some Jvm.ClassFile.FieldType.int) [((0 : Nat), (10 : Nat), (13 : Nat), (13 : Nat)), ((0 : Nat), (10 : Nat), (17 : Nat), (15 : Nat)), ((0 : Nat), (10 : Nat), (21 : Nat), (34 : Nat)), ((0 : Nat), (10 : Nat), (25 : Nat), (28 : Nat))]) ∈ lw_all := lw_g (lw_at lw_m6 220 rfl) rfl
theorem q1487 : (Jvm.Cond.methodLink "SecretVaultLaw" (53 : Nat) ({ cls := "SecretVault", name := "combine", desc := "(II)I" } : Jvm.MethodName)) ∈ lw_all := lw_g (lw_at lw_m6 221 rfl) rfl
theorem q1491 : (Jvm.Cond.methodLink "SecretVaultLaw" (176 : Nat) ({ cls := "SecretVaultLaw", name := "agree", desc := "(LSecretVault;II[J)I" } : Jvm.MethodName)) ∈ lw_all := lw_g (lw_at lw_m6 225 rfl) rfl
theorem q1492 : (Jvm.Cond.static ({ cls := "SecretVaultLaw", name := "agree", desc := "(LSecretVault;II[J)I" } : Jvm.MethodName)) ∈ lw_all := lw_g (lw_at lw_m6 226 rfl) rfl
theorem q1493 : (Jvm.Cond.codeWith ({ cls := "SecretVaultLaw", name := "agree", desc := "(LSecretVault;II[J)I" } : Jvm.MethodName) method_14_code (5 : Nat) (Option.some Jvm.ClassFile.FieldType.int) [((0 : Nat), (17 : Nat), (20 : Nat), (13 : Nat)), ((0 : Nat), (17 : Nat), (24 : Nat), (15 : Nat)), ((0 : Nat), (17 : Nat), (28 : Nat), (34 : Nat))]) ∈ lw_all := lw_g (lw_at lw_m6 227 rfl) rfl
theorem q1494 : (Jvm.Cond.methodLink "SecretVaultLaw" (56 : Nat) ({ cls := "SecretVault", name := "agree", desc := "(II)Z" } : Jvm.MethodName)) ∈ lw_all := lw_g (lw_at lw_m6 228 rfl) rfl
theorem q1505 : (Jvm.Cond.methodLink "SecretVaultLaw" (179 : Nat) ({ cls := "SecretVaultLaw", name := "secret", desc := "(LSecretVault;II[J)I" } : Jvm.MethodName)) ∈ lw_all := lw_g (lw_at lw_m6 239 rfl) rfl
theorem q1506 : (Jvm.Cond.static ({ cls := "SecretVaultLaw", name := "secret", desc := "(LSecretVault;II[J)I" } : Jvm.MethodName)) ∈ lw_all := lw_g (lw_at lw_m7 0 rfl) rfl
theorem q1507 : (Jvm.Cond.codeWith ({ cls := "SecretVaultLaw", name := "secret", desc := "(LSecretVault;II[J)I" } : Jvm.MethodName) method_15_code (5 : Nat) (Option.some Jvm.ClassFile.FieldType.int) [((0 : Nat), (10 : Nat), (13 : Nat), (13 : Nat)), ((0 : Nat), (10 : Nat), (17 : Nat), (15 : Nat)), ((0 : Nat), (10 : Nat), (21 : Nat), (34 : Nat))]) ∈ lw_all := lw_g (lw_at lw_m7 1 rfl) rfl
theorem q1508 : (Jvm.Cond.methodLink "SecretVaultLaw" (60 : Nat) ({ cls := "SecretVault", name := "secret", desc := "(II)I" } : Jvm.MethodName)) ∈ lw_all := lw_g (lw_at lw_m7 2 rfl) rfl
theorem q1521 : (Jvm.Cond.methodLink "SecretVaultLaw" (182 : Nat) ({ cls := "SecretVaultLaw", name := "commitment", desc := "(LSecretVault;II[J)I" } : Jvm.MethodName)) ∈ lw_all := lw_g (lw_at lw_m7 15 rfl) rfl
theorem q1522 : (Jvm.Cond.static ({ cls := "SecretVaultLaw", name := "commitment", desc := "(LSecretVault;II[J)I" } : Jvm.MethodName)) ∈ lw_all := lw_g (lw_at lw_m7 16 rfl) rfl
theorem q1523 : (Jvm.Cond.codeWith ({ cls := "SecretVaultLaw", name := "commitment", desc := "(LSecretVault;II[J)I" } : Jvm.MethodName) method_16_code (5 : Nat) (Option.some Jvm.ClassFile.FieldType.int) [((0 : Nat), (10 : Nat), (13 : Nat), (13 : Nat)), ((0 : Nat), (10 : Nat), (17 : Nat), (34 : Nat))]) ∈ lw_all := lw_g (lw_at lw_m7 17 rfl) rfl
theorem q1524 : (Jvm.Cond.methodLink "SecretVaultLaw" (63 : Nat) ({ cls := "SecretVault", name := "commitment", desc := "(II)I" } : Jvm.MethodName)) ∈ lw_all := lw_g (lw_at lw_m7 18 rfl) rfl
theorem q1528 : (Jvm.Cond.methodLink "SecretVaultLaw" (185 : Nat) ({ cls := "SecretVaultLaw", name := "share", desc := "(LSecretVault;III[J)I" } : Jvm.MethodName)) ∈ lw_all := lw_g (lw_at lw_m7 22 rfl) rfl
theorem q1529 : (Jvm.Cond.static ({ cls := "SecretVaultLaw", name := "share", desc := "(LSecretVault;III[J)I" } : Jvm.MethodName)) ∈ lw_all := lw_g (lw_at lw_m7 23 rfl) rfl
theorem q1530 : (Jvm.Cond.codeWith ({ cls := "SecretVaultLaw", name := "share", desc := "(LSecretVault;III[J)I" } : Jvm.MethodName) method_17_code (6 : Nat) (Option.some Jvm.ClassFile.FieldType.int) [((0 : Nat), (12 : Nat), (15 : Nat), (13 : Nat)), ((0 : Nat), (12 : Nat), (19 : Nat), (15 : Nat)), ((0 : Nat), (12 : Nat), (23 : Nat), (34 : Nat))]) ∈ lw_all := lw_g (lw_at lw_m7 24 rfl) rfl
theorem q1531 : (Jvm.Cond.methodLink "SecretVaultLaw" (66 : Nat) ({ cls := "SecretVault", name := "share", desc := "(III)I" } : Jvm.MethodName)) ∈ lw_all := lw_g (lw_at lw_m7 25 rfl) rfl
theorem q1551 : (Jvm.Cond.methodLink "SecretVaultLaw" (188 : Nat) ({ cls := "SecretVaultLaw", name := "setShare", desc := "(LSecretVault;III[J)I" } : Jvm.MethodName)) ∈ lw_all := lw_g (lw_at lw_m7 45 rfl) rfl
theorem q1552 : (Jvm.Cond.static ({ cls := "SecretVaultLaw", name := "setShare", desc := "(LSecretVault;III[J)I" } : Jvm.MethodName)) ∈ lw_all := lw_g (lw_at lw_m7 46 rfl) rfl
theorem q1553 : (Jvm.Cond.codeWith ({ cls := "SecretVaultLaw", name := "setShare", desc := "(LSecretVault;III[J)I" } : Jvm.MethodName) method_18_code (6 : Nat) (Option.some Jvm.ClassFile.FieldType.int) [((0 : Nat), (12 : Nat), (15 : Nat), (13 : Nat)), ((0 : Nat), (12 : Nat), (19 : Nat), (15 : Nat)), ((0 : Nat), (12 : Nat), (23 : Nat), (34 : Nat))]) ∈ lw_all := lw_g (lw_at lw_m7 47 rfl) rfl
theorem q1554 : (Jvm.Cond.methodLink "SecretVaultLaw" (69 : Nat) ({ cls := "SecretVault", name := "setShare", desc := "(III)I" } : Jvm.MethodName)) ∈ lw_all := lw_g (lw_at lw_m7 48 rfl) rfl
theorem q1558 : (Jvm.Cond.methodLink "SecretVaultLaw" (191 : Nat) ({ cls := "SecretVaultLaw", name := "shareText", desc := "(LSecretVault;III[J)I" } : Jvm.MethodName)) ∈ lw_all := lw_g (lw_at lw_m7 52 rfl) rfl
theorem q1559 : (Jvm.Cond.static ({ cls := "SecretVaultLaw", name := "shareText", desc := "(LSecretVault;III[J)I" } : Jvm.MethodName)) ∈ lw_all := lw_g (lw_at lw_m7 53 rfl) rfl
theorem q1560 : (Jvm.Cond.codeWith ({ cls := "SecretVaultLaw", name := "shareText", desc := "(LSecretVault;III[J)I" } : Jvm.MethodName) method_19_code (6 : Nat) (Option.some Jvm.ClassFile.FieldType.int) [((0 : Nat), (12 : Nat), (15 : Nat), (13 : Nat)), ((0 : Nat), (12 : Nat), (19 : Nat), (34 : Nat))]) ∈ lw_all := lw_g (lw_at lw_m7 54 rfl) rfl
theorem q1561 : (Jvm.Cond.methodLink "SecretVaultLaw" (72 : Nat) ({ cls := "SecretVault", name := "shareText", desc := "(III)I" } : Jvm.MethodName)) ∈ lw_all := lw_g (lw_at lw_m7 55 rfl) rfl
theorem q1604 : (Jvm.Cond.methodLink "SecretVaultLaw" (194 : Nat) ({ cls := "SecretVaultLaw", name := "importShare", desc := "(LSecretVault;I[J)I" } : Jvm.MethodName)) ∈ lw_all := lw_g (lw_at lw_m7 98 rfl) rfl
theorem q1605 : (Jvm.Cond.static ({ cls := "SecretVaultLaw", name := "importShare", desc := "(LSecretVault;I[J)I" } : Jvm.MethodName)) ∈ lw_all := lw_g (lw_at lw_m7 99 rfl) rfl
theorem q1606 : (Jvm.Cond.codeWith ({ cls := "SecretVaultLaw", name := "importShare", desc := "(LSecretVault;I[J)I" } : Jvm.MethodName) method_20_code (4 : Nat) (Option.some Jvm.ClassFile.FieldType.int) [((0 : Nat), (9 : Nat), (12 : Nat), (13 : Nat)), ((0 : Nat), (9 : Nat), (15 : Nat), (34 : Nat)), ((0 : Nat), (9 : Nat), (18 : Nat), (15 : Nat))]) ∈ lw_all := lw_g (lw_at lw_m7 100 rfl) rfl
theorem q1607 : (Jvm.Cond.methodLink "SecretVaultLaw" (75 : Nat) ({ cls := "SecretVault", name := "importShare", desc := "(I)I" } : Jvm.MethodName)) ∈ lw_all := lw_g (lw_at lw_m7 101 rfl) rfl
theorem q1692 : (Jvm.Cond.methodLink "SecretVaultLaw" (197 : Nat) ({ cls := "SecretVaultLaw", name := "bad", desc := "(LSecretVault;II[J)I" } : Jvm.MethodName)) ∈ lw_all := lw_g (lw_at lw_m7 186 rfl) rfl
theorem q1693 : (Jvm.Cond.static ({ cls := "SecretVaultLaw", name := "bad", desc := "(LSecretVault;II[J)I" } : Jvm.MethodName)) ∈ lw_all := lw_g (lw_at lw_m7 187 rfl) rfl
theorem q1694 : (Jvm.Cond.codeWith ({ cls := "SecretVaultLaw", name := "bad", desc := "(LSecretVault;II[J)I" } : Jvm.MethodName) method_21_code (5 : Nat) (Option.some Jvm.ClassFile.FieldType.int) [((0 : Nat), (10 : Nat), (13 : Nat), (13 : Nat)), ((0 : Nat), (10 : Nat), (17 : Nat), (34 : Nat))]) ∈ lw_all := lw_g (lw_at lw_m7 188 rfl) rfl
theorem q1695 : (Jvm.Cond.methodLink "SecretVaultLaw" (78 : Nat) ({ cls := "SecretVault", name := "bad", desc := "(II)I" } : Jvm.MethodName)) ∈ lw_all := lw_g (lw_at lw_m7 189 rfl) rfl
theorem q1700 : (Jvm.Cond.methodLink "SecretVaultLaw" (200 : Nat) ({ cls := "SecretVaultLaw", name := "append", desc := "(LSecretVault;I[J)I" } : Jvm.MethodName)) ∈ lw_all := lw_g (lw_at lw_m7 194 rfl) rfl
theorem q1701 : (Jvm.Cond.static ({ cls := "SecretVaultLaw", name := "append", desc := "(LSecretVault;I[J)I" } : Jvm.MethodName)) ∈ lw_all := lw_g (lw_at lw_m7 195 rfl) rfl
theorem q1702 : (Jvm.Cond.codeWith ({ cls := "SecretVaultLaw", name := "append", desc := "(LSecretVault;I[J)I" } : Jvm.MethodName) method_22_code (4 : Nat) (Option.some Jvm.ClassFile.FieldType.int) [((0 : Nat), (9 : Nat), (12 : Nat), (15 : Nat)), ((0 : Nat), (9 : Nat), (15 : Nat), (28 : Nat))]) ∈ lw_all := lw_g (lw_at lw_m7 196 rfl) rfl
theorem q1703 : (Jvm.Cond.methodLink "SecretVaultLaw" (81 : Nat) ({ cls := "SecretVault", name := "append", desc := "(I)I" } : Jvm.MethodName)) ∈ lw_all := lw_g (lw_at lw_m7 197 rfl) rfl
theorem q1799 : (Jvm.Cond.methodLink "SecretVaultLaw" (203 : Nat) ({ cls := "SecretVaultLaw", name := "setPolicy", desc := "(LSecretVault;I[J)I" } : Jvm.MethodName)) ∈ lw_all := lw_g (lw_at lw_m8 53 rfl) rfl
theorem q1800 : (Jvm.Cond.static ({ cls := "SecretVaultLaw", name := "setPolicy", desc := "(LSecretVault;I[J)I" } : Jvm.MethodName)) ∈ lw_all := lw_g (lw_at lw_m8 54 rfl) rfl
theorem q1801 : (Jvm.Cond.codeWith ({ cls := "SecretVaultLaw", name := "setPolicy", desc := "(LSecretVault;I[J)I" } : Jvm.MethodName) method_23_code (4 : Nat) (Option.some Jvm.ClassFile.FieldType.int) [((0 : Nat), (16 : Nat), (19 : Nat), (13 : Nat)), ((0 : Nat), (16 : Nat), (22 : Nat), (34 : Nat)), ((0 : Nat), (16 : Nat), (25 : Nat), (15 : Nat))]) ∈ lw_all := lw_g (lw_at lw_m8 55 rfl) rfl
theorem q1802 : (Jvm.Cond.methodLink "SecretVaultLaw" (84 : Nat) ({ cls := "SecretVault", name := "setPolicy", desc := "(I)Z" } : Jvm.MethodName)) ∈ lw_all := lw_g (lw_at lw_m8 56 rfl) rfl
theorem q1888 : (Jvm.Cond.methodLink "SecretVaultLaw" (210 : Nat) ({ cls := "SecretVaultLaw", name := "fulfils", desc := "(LSecretVault;II[J)I" } : Jvm.MethodName)) ∈ lw_all := lw_g (lw_at lw_m8 142 rfl) rfl
theorem q1889 : (Jvm.Cond.static ({ cls := "SecretVaultLaw", name := "fulfils", desc := "(LSecretVault;II[J)I" } : Jvm.MethodName)) ∈ lw_all := lw_g (lw_at lw_m8 143 rfl) rfl
theorem q1890 : (Jvm.Cond.codeWith ({ cls := "SecretVaultLaw", name := "fulfils", desc := "(LSecretVault;II[J)I" } : Jvm.MethodName) method_24_code (5 : Nat) (Option.some Jvm.ClassFile.FieldType.int) [((0 : Nat), (17 : Nat), (20 : Nat), (13 : Nat)), ((0 : Nat), (17 : Nat), (24 : Nat), (15 : Nat)), ((0 : Nat), (17 : Nat), (28 : Nat), (34 : Nat))]) ∈ lw_all := lw_g (lw_at lw_m8 144 rfl) rfl
theorem q1891 : (Jvm.Cond.methodLink "SecretVaultLaw" (88 : Nat) ({ cls := "SecretVault", name := "fulfils", desc := "(II)Z" } : Jvm.MethodName)) ∈ lw_all := lw_g (lw_at lw_m8 145 rfl) rfl
theorem q1896 : (Jvm.Cond.methodLink "SecretVaultLaw" (213 : Nat) ({ cls := "SecretVaultLaw", name := "policyText", desc := "(LSecretVault;II[J)I" } : Jvm.MethodName)) ∈ lw_all := lw_g (lw_at lw_m8 150 rfl) rfl
theorem q1897 : (Jvm.Cond.static ({ cls := "SecretVaultLaw", name := "policyText", desc := "(LSecretVault;II[J)I" } : Jvm.MethodName)) ∈ lw_all := lw_g (lw_at lw_m8 151 rfl) rfl
theorem q1898 : (Jvm.Cond.codeWith ({ cls := "SecretVaultLaw", name := "policyText", desc := "(LSecretVault;II[J)I" } : Jvm.MethodName) method_25_code (5 : Nat) (Option.some Jvm.ClassFile.FieldType.int) [((0 : Nat), (10 : Nat), (13 : Nat), (13 : Nat)), ((0 : Nat), (10 : Nat), (17 : Nat), (34 : Nat))]) ∈ lw_all := lw_g (lw_at lw_m8 152 rfl) rfl
theorem q1899 : (Jvm.Cond.methodLink "SecretVaultLaw" (91 : Nat) ({ cls := "SecretVault", name := "policyText", desc := "(II)I" } : Jvm.MethodName)) ∈ lw_all := lw_g (lw_at lw_m8 153 rfl) rfl
theorem q1925 : (Jvm.Cond.methodLink "SecretVaultLaw" (216 : Nat) ({ cls := "SecretVaultLaw", name := "policy", desc := "(LSecretVault;II[J)I" } : Jvm.MethodName)) ∈ lw_all := lw_g (lw_at lw_m8 179 rfl) rfl
theorem q1926 : (Jvm.Cond.static ({ cls := "SecretVaultLaw", name := "policy", desc := "(LSecretVault;II[J)I" } : Jvm.MethodName)) ∈ lw_all := lw_g (lw_at lw_m8 180 rfl) rfl
theorem q1927 : (Jvm.Cond.codeWith ({ cls := "SecretVaultLaw", name := "policy", desc := "(LSecretVault;II[J)I" } : Jvm.MethodName) method_26_code (5 : Nat) (Option.some Jvm.ClassFile.FieldType.int) [((0 : Nat), (10 : Nat), (13 : Nat), (13 : Nat)), ((0 : Nat), (10 : Nat), (17 : Nat), (15 : Nat)), ((0 : Nat), (10 : Nat), (21 : Nat), (34 : Nat))]) ∈ lw_all := lw_g (lw_at lw_m8 181 rfl) rfl
theorem q1928 : (Jvm.Cond.methodLink "SecretVaultLaw" (94 : Nat) ({ cls := "SecretVault", name := "policy", desc := "(II)I" } : Jvm.MethodName)) ∈ lw_all := lw_g (lw_at lw_m8 182 rfl) rfl
theorem q1968 : (Jvm.Cond.methodLink "SecretVaultLaw" (219 : Nat) ({ cls := "SecretVaultLaw", name := "groups", desc := "(LSecretVault;I[J)I" } : Jvm.MethodName)) ∈ lw_all := lw_g (lw_at lw_m8 222 rfl) rfl
theorem q1969 : (Jvm.Cond.static ({ cls := "SecretVaultLaw", name := "groups", desc := "(LSecretVault;I[J)I" } : Jvm.MethodName)) ∈ lw_all := lw_g (lw_at lw_m8 223 rfl) rfl
theorem q1970 : (Jvm.Cond.codeWith ({ cls := "SecretVaultLaw", name := "groups", desc := "(LSecretVault;I[J)I" } : Jvm.MethodName) method_27_code (4 : Nat) (Option.some Jvm.ClassFile.FieldType.int) [((0 : Nat), (9 : Nat), (12 : Nat), (13 : Nat)), ((0 : Nat), (9 : Nat), (15 : Nat), (34 : Nat))]) ∈ lw_all := lw_g (lw_at lw_m8 224 rfl) rfl
theorem q1971 : (Jvm.Cond.methodLink "SecretVaultLaw" (97 : Nat) ({ cls := "SecretVault", name := "groups", desc := "(I)I" } : Jvm.MethodName)) ∈ lw_all := lw_g (lw_at lw_m8 225 rfl) rfl
theorem q1992 : (Jvm.Cond.methodLink "SecretVaultLaw" (222 : Nat) ({ cls := "SecretVaultLaw", name := "smallest", desc := "(LSecretVault;II[J)I" } : Jvm.MethodName)) ∈ lw_all := lw_g (lw_at lw_m9 6 rfl) rfl
theorem q1993 : (Jvm.Cond.static ({ cls := "SecretVaultLaw", name := "smallest", desc := "(LSecretVault;II[J)I" } : Jvm.MethodName)) ∈ lw_all := lw_g (lw_at lw_m9 7 rfl) rfl
theorem q1994 : (Jvm.Cond.codeWith ({ cls := "SecretVaultLaw", name := "smallest", desc := "(LSecretVault;II[J)I" } : Jvm.MethodName) method_28_code (5 : Nat) (Option.some Jvm.ClassFile.FieldType.int) [((0 : Nat), (10 : Nat), (13 : Nat), (13 : Nat)), ((0 : Nat), (10 : Nat), (17 : Nat), (34 : Nat))]) ∈ lw_all := lw_g (lw_at lw_m9 8 rfl) rfl
theorem q1995 : (Jvm.Cond.methodLink "SecretVaultLaw" (100 : Nat) ({ cls := "SecretVault", name := "smallest", desc := "(II)I" } : Jvm.MethodName)) ∈ lw_all := lw_g (lw_at lw_m9 9 rfl) rfl
theorem q2003 : (Jvm.Cond.methodLink "SecretVaultLaw" (225 : Nat) ({ cls := "SecretVaultLaw", name := "powerBits", desc := "(LSecretVault;II[J)I" } : Jvm.MethodName)) ∈ lw_all := lw_g (lw_at lw_m9 17 rfl) rfl
theorem q2004 : (Jvm.Cond.static ({ cls := "SecretVaultLaw", name := "powerBits", desc := "(LSecretVault;II[J)I" } : Jvm.MethodName)) ∈ lw_all := lw_g (lw_at lw_m9 18 rfl) rfl
theorem q2005 : (Jvm.Cond.codeWith ({ cls := "SecretVaultLaw", name := "powerBits", desc := "(LSecretVault;II[J)I" } : Jvm.MethodName) method_29_code (5 : Nat) (Option.some Jvm.ClassFile.FieldType.int) [((0 : Nat), (9 : Nat), (12 : Nat), (13 : Nat)), ((0 : Nat), (9 : Nat), (16 : Nat), (34 : Nat))]) ∈ lw_all := lw_g (lw_at lw_m9 19 rfl) rfl
theorem q2006 : (Jvm.Cond.methodLink "SecretVaultLaw" (103 : Nat) ({ cls := "SecretVault", name := "powerBits", desc := "(II)J" } : Jvm.MethodName)) ∈ lw_all := lw_g (lw_at lw_m9 20 rfl) rfl
theorem q2025 : (Jvm.Cond.methodLink "SecretVaultLaw" (228 : Nat) ({ cls := "SecretVaultLaw", name := "healthBits", desc := "(LSecretVault;I[J)I" } : Jvm.MethodName)) ∈ lw_all := lw_g (lw_at lw_m9 39 rfl) rfl
theorem q2026 : (Jvm.Cond.static ({ cls := "SecretVaultLaw", name := "healthBits", desc := "(LSecretVault;I[J)I" } : Jvm.MethodName)) ∈ lw_all := lw_g (lw_at lw_m9 40 rfl) rfl
theorem q2027 : (Jvm.Cond.codeWith ({ cls := "SecretVaultLaw", name := "healthBits", desc := "(LSecretVault;I[J)I" } : Jvm.MethodName) method_30_code (4 : Nat) (Option.some Jvm.ClassFile.FieldType.int) [((0 : Nat), (9 : Nat), (12 : Nat), (13 : Nat)), ((0 : Nat), (9 : Nat), (15 : Nat), (34 : Nat)), ((0 : Nat), (9 : Nat), (18 : Nat), (110 : Nat))]) ∈ lw_all := lw_g (lw_at lw_m9 41 rfl) rfl
theorem q2028 : (Jvm.Cond.classLink "SecretVaultLaw" (110 : Nat) "java/lang/ArithmeticException") ∈ lw_all := lw_g (lw_at lw_m9 42 rfl) rfl
theorem q2042 : (Jvm.Cond.methodLink "SecretVaultLaw" (107 : Nat) ({ cls := "SecretVault", name := "healthBits", desc := "(I)I" } : Jvm.MethodName)) ∈ lw_all := lw_g (lw_at lw_m9 56 rfl) rfl
theorem q2061 : (Jvm.Cond.methodLink "SecretVaultLaw" (235 : Nat) ({ cls := "SecretVaultLaw", name := "report", desc := "(LSecretVault;II[J)I" } : Jvm.MethodName)) ∈ lw_all := lw_g (lw_at lw_m9 75 rfl) rfl
theorem q2062 : (Jvm.Cond.static ({ cls := "SecretVaultLaw", name := "report", desc := "(LSecretVault;II[J)I" } : Jvm.MethodName)) ∈ lw_all := lw_g (lw_at lw_m9 76 rfl) rfl
theorem q2063 : (Jvm.Cond.codeWith ({ cls := "SecretVaultLaw", name := "report", desc := "(LSecretVault;II[J)I" } : Jvm.MethodName) method_31_code (5 : Nat) (Option.some Jvm.ClassFile.FieldType.int) [((0 : Nat), (10 : Nat), (13 : Nat), (34 : Nat)), ((0 : Nat), (10 : Nat), (17 : Nat), (15 : Nat))]) ∈ lw_all := lw_g (lw_at lw_m9 77 rfl) rfl
theorem q2064 : (Jvm.Cond.methodLink "SecretVaultLaw" (112 : Nat) ({ cls := "SecretVault", name := "report", desc := "(II)I" } : Jvm.MethodName)) ∈ lw_all := lw_g (lw_at lw_m9 78 rfl) rfl
theorem q2070 : (Jvm.Cond.methodLink "SecretVaultLaw" (238 : Nat) ({ cls := "SecretVaultLaw", name := "event", desc := "(LSecretVault;I[J)I" } : Jvm.MethodName)) ∈ lw_all := lw_g (lw_at lw_m9 84 rfl) rfl
theorem q2071 : (Jvm.Cond.static ({ cls := "SecretVaultLaw", name := "event", desc := "(LSecretVault;I[J)I" } : Jvm.MethodName)) ∈ lw_all := lw_g (lw_at lw_m9 85 rfl) rfl
theorem q2072 : (Jvm.Cond.codeWith ({ cls := "SecretVaultLaw", name := "event", desc := "(LSecretVault;I[J)I" } : Jvm.MethodName) method_32_code (4 : Nat) (Option.some Jvm.ClassFile.FieldType.int) [((0 : Nat), (9 : Nat), (12 : Nat), (34 : Nat))]) ∈ lw_all := lw_g (lw_at lw_m9 86 rfl) rfl
theorem q2073 : (Jvm.Cond.methodLink "SecretVaultLaw" (115 : Nat) ({ cls := "SecretVault", name := "event", desc := "(I)I" } : Jvm.MethodName)) ∈ lw_all := lw_g (lw_at lw_m9 87 rfl) rfl
theorem q2085 : (Jvm.Cond.methodLink "SecretVaultLaw" (245 : Nat) ({ cls := "SecretVaultLaw", name := "restore", desc := "(LSecretVault;[J)I" } : Jvm.MethodName)) ∈ lw_all := lw_g (lw_at lw_m9 99 rfl) rfl
theorem q2086 : (Jvm.Cond.static ({ cls := "SecretVaultLaw", name := "restore", desc := "(LSecretVault;[J)I" } : Jvm.MethodName)) ∈ lw_all := lw_g (lw_at lw_m9 100 rfl) rfl
theorem q2087 : (Jvm.Cond.codeWith ({ cls := "SecretVaultLaw", name := "restore", desc := "(LSecretVault;[J)I" } : Jvm.MethodName) method_33_code (3 : Nat) (Option.some Jvm.ClassFile.FieldType.int) [((0 : Nat), (8 : Nat), (11 : Nat), (28 : Nat))]) ∈ lw_all := lw_g (lw_at lw_m9 101 rfl) rfl
theorem q2088 : (Jvm.Cond.methodLink "SecretVaultLaw" (118 : Nat) ({ cls := "SecretVault", name := "restore", desc := "()I" } : Jvm.MethodName)) ∈ lw_all := lw_g (lw_at lw_m9 102 rfl) rfl
theorem q2092 : (Jvm.Cond.classLink "SecretVaultLaw" (123 : Nat) "SecretVaultModel") ∈ lw_all := lw_g (lw_at lw_m9 106 rfl) rfl
theorem q2094 : (Jvm.Cond.methodLink "SecretVaultLaw" (125 : Nat) ({ cls := "SecretVaultModel", name := "<init>", desc := "()V" } : Jvm.MethodName)) ∈ lw_all := lw_g (lw_at lw_m9 108 rfl) rfl
theorem q2165 : (Jvm.Cond.methodLink "SecretVaultLaw" (140 : Nat) ({ cls := "SecretVaultModel", name := "thrown", desc := "()I" } : Jvm.MethodName)) ∈ lw_all := lw_g (lw_at lw_m9 179 rfl) rfl
theorem q2169 : (Jvm.Cond.methodLink "SecretVaultLaw" (129 : Nat) ({ cls := "SecretVaultModel", name := "seed", desc := "(I)I" } : Jvm.MethodName)) ∈ lw_all := lw_g (lw_at lw_m9 183 rfl) rfl
theorem q2177 : (Jvm.Cond.methodLink "SecretVaultLaw" (133 : Nat) ({ cls := "SecretVaultModel", name := "draw", desc := "()I" } : Jvm.MethodName)) ∈ lw_all := lw_g (lw_at lw_m9 191 rfl) rfl
theorem q2186 : (Jvm.Cond.methodLink "SecretVaultLaw" (139 : Nat) ({ cls := "SecretVaultModel", name := "setWeight", desc := "(II)I" } : Jvm.MethodName)) ∈ lw_all := lw_g (lw_at lw_m9 200 rfl) rfl
theorem q2200 : (Jvm.Cond.methodLink "SecretVaultLaw" (146 : Nat) ({ cls := "SecretVaultModel", name := "setPresent", desc := "(IZ)Z" } : Jvm.MethodName)) ∈ lw_all := lw_g (lw_at lw_m9 214 rfl) rfl
theorem q2208 : (Jvm.Cond.methodLink "SecretVaultLaw" (149 : Nat) ({ cls := "SecretVaultModel", name := "member", desc := "(II)I" } : Jvm.MethodName)) ∈ lw_all := lw_g (lw_at lw_m9 222 rfl) rfl
theorem q2231 : (Jvm.Cond.methodLink "SecretVaultLaw" (153 : Nat) ({ cls := "SecretVaultModel", name := "put", desc := "(III)I" } : Jvm.MethodName)) ∈ lw_all := lw_g (lw_at lw_m10 5 rfl) rfl
theorem q2273 : (Jvm.Cond.methodLink "SecretVaultLaw" (157 : Nat) ({ cls := "SecretVaultModel", name := "remove", desc := "(I)I" } : Jvm.MethodName)) ∈ lw_all := lw_g (lw_at lw_m10 47 rfl) rfl
theorem q2281 : (Jvm.Cond.methodLink "SecretVaultLaw" (160 : Nat) ({ cls := "SecretVaultModel", name := "refresh", desc := "(I)I" } : Jvm.MethodName)) ∈ lw_all := lw_g (lw_at lw_m10 55 rfl) rfl
theorem q2285 : (Jvm.Cond.methodLink "SecretVaultLaw" (163 : Nat) ({ cls := "SecretVaultModel", name := "reshare", desc := "(III)I" } : Jvm.MethodName)) ∈ lw_all := lw_g (lw_at lw_m10 59 rfl) rfl
theorem q2342 : (Jvm.Cond.methodLink "SecretVaultLaw" (166 : Nat) ({ cls := "SecretVaultModel", name := "enroll", desc := "(III)I" } : Jvm.MethodName)) ∈ lw_all := lw_g (lw_at lw_m10 116 rfl) rfl
theorem q2350 : (Jvm.Cond.methodLink "SecretVaultLaw" (169 : Nat) ({ cls := "SecretVaultModel", name := "expel", desc := "(II)I" } : Jvm.MethodName)) ∈ lw_all := lw_g (lw_at lw_m10 124 rfl) rfl
theorem q2354 : (Jvm.Cond.methodLink "SecretVaultLaw" (172 : Nat) ({ cls := "SecretVaultModel", name := "open", desc := "(II)I" } : Jvm.MethodName)) ∈ lw_all := lw_g (lw_at lw_m10 128 rfl) rfl
theorem q2358 : (Jvm.Cond.methodLink "SecretVaultLaw" (175 : Nat) ({ cls := "SecretVaultModel", name := "combine", desc := "(II)I" } : Jvm.MethodName)) ∈ lw_all := lw_g (lw_at lw_m10 132 rfl) rfl
theorem q2366 : (Jvm.Cond.methodLink "SecretVaultLaw" (178 : Nat) ({ cls := "SecretVaultModel", name := "agree", desc := "(II)Z" } : Jvm.MethodName)) ∈ lw_all := lw_g (lw_at lw_m10 140 rfl) rfl
theorem q2370 : (Jvm.Cond.methodLink "SecretVaultLaw" (181 : Nat) ({ cls := "SecretVaultModel", name := "secret", desc := "(II)I" } : Jvm.MethodName)) ∈ lw_all := lw_g (lw_at lw_m10 144 rfl) rfl
theorem q2378 : (Jvm.Cond.methodLink "SecretVaultLaw" (184 : Nat) ({ cls := "SecretVaultModel", name := "commitment", desc := "(II)I" } : Jvm.MethodName)) ∈ lw_all := lw_g (lw_at lw_m10 152 rfl) rfl
theorem q2382 : (Jvm.Cond.methodLink "SecretVaultLaw" (187 : Nat) ({ cls := "SecretVaultModel", name := "share", desc := "(III)I" } : Jvm.MethodName)) ∈ lw_all := lw_g (lw_at lw_m10 156 rfl) rfl
theorem q2389 : (Jvm.Cond.methodLink "SecretVaultLaw" (190 : Nat) ({ cls := "SecretVaultModel", name := "setShare", desc := "(III)I" } : Jvm.MethodName)) ∈ lw_all := lw_g (lw_at lw_m10 163 rfl) rfl
theorem q2393 : (Jvm.Cond.methodLink "SecretVaultLaw" (193 : Nat) ({ cls := "SecretVaultModel", name := "shareText", desc := "(III)I" } : Jvm.MethodName)) ∈ lw_all := lw_g (lw_at lw_m10 167 rfl) rfl
theorem q2412 : (Jvm.Cond.methodLink "SecretVaultLaw" (202 : Nat) ({ cls := "SecretVaultModel", name := "append", desc := "(I)I" } : Jvm.MethodName)) ∈ lw_all := lw_g (lw_at lw_m10 186 rfl) rfl
theorem q2416 : (Jvm.Cond.methodLink "SecretVaultLaw" (196 : Nat) ({ cls := "SecretVaultModel", name := "importShare", desc := "(I)I" } : Jvm.MethodName)) ∈ lw_all := lw_g (lw_at lw_m10 190 rfl) rfl
theorem q2436 : (Jvm.Cond.methodLink "SecretVaultLaw" (199 : Nat) ({ cls := "SecretVaultModel", name := "bad", desc := "(II)I" } : Jvm.MethodName)) ∈ lw_all := lw_g (lw_at lw_m10 210 rfl) rfl
theorem q2440 : (Jvm.Cond.methodLink "SecretVaultLaw" (205 : Nat) ({ cls := "SecretVaultModel", name := "setPolicy", desc := "(I)Z" } : Jvm.MethodName)) ∈ lw_all := lw_g (lw_at lw_m10 214 rfl) rfl
theorem q2453 : (Jvm.Cond.methodLink "SecretVaultLaw" (209 : Nat) ({ cls := "SecretVaultModel", name := "errorPosition", desc := "()I" } : Jvm.MethodName)) ∈ lw_all := lw_g (lw_at lw_m10 227 rfl) rfl
theorem q2457 : (Jvm.Cond.methodLink "SecretVaultLaw" (212 : Nat) ({ cls := "SecretVaultModel", name := "fulfils", desc := "(II)Z" } : Jvm.MethodName)) ∈ lw_all := lw_g (lw_at lw_m10 231 rfl) rfl
theorem q2461 : (Jvm.Cond.methodLink "SecretVaultLaw" (215 : Nat) ({ cls := "SecretVaultModel", name := "policyText", desc := "(II)I" } : Jvm.MethodName)) ∈ lw_all := lw_g (lw_at lw_m10 235 rfl) rfl
theorem q2474 : (Jvm.Cond.methodLink "SecretVaultLaw" (218 : Nat) ({ cls := "SecretVaultModel", name := "policy", desc := "(II)I" } : Jvm.MethodName)) ∈ lw_all := lw_g (lw_at lw_m11 8 rfl) rfl
theorem q2486 : (Jvm.Cond.methodLink "SecretVaultLaw" (221 : Nat) ({ cls := "SecretVaultModel", name := "groups", desc := "(I)I" } : Jvm.MethodName)) ∈ lw_all := lw_g (lw_at lw_m11 20 rfl) rfl
theorem q2490 : (Jvm.Cond.methodLink "SecretVaultLaw" (224 : Nat) ({ cls := "SecretVaultModel", name := "smallest", desc := "(II)I" } : Jvm.MethodName)) ∈ lw_all := lw_g (lw_at lw_m11 24 rfl) rfl
theorem q2498 : (Jvm.Cond.methodLink "SecretVaultLaw" (227 : Nat) ({ cls := "SecretVaultModel", name := "powerBits", desc := "(II)J" } : Jvm.MethodName)) ∈ lw_all := lw_g (lw_at lw_m11 32 rfl) rfl
theorem q2504 : (Jvm.Cond.methodLink "SecretVaultLaw" (230 : Nat) ({ cls := "SecretVaultModel", name := "healthBits", desc := "(I)I" } : Jvm.MethodName)) ∈ lw_all := lw_g (lw_at lw_m11 38 rfl) rfl
theorem q2509 : (Jvm.Cond.methodLink "SecretVaultLaw" (234 : Nat) ({ cls := "SecretVaultModel", name := "levels", desc := "()I" } : Jvm.MethodName)) ∈ lw_all := lw_g (lw_at lw_m11 43 rfl) rfl
theorem q2513 : (Jvm.Cond.methodLink "SecretVaultLaw" (237 : Nat) ({ cls := "SecretVaultModel", name := "report", desc := "(II)I" } : Jvm.MethodName)) ∈ lw_all := lw_g (lw_at lw_m11 47 rfl) rfl
theorem q2517 : (Jvm.Cond.methodLink "SecretVaultLaw" (240 : Nat) ({ cls := "SecretVaultModel", name := "event", desc := "(I)I" } : Jvm.MethodName)) ∈ lw_all := lw_g (lw_at lw_m11 51 rfl) rfl
theorem q2521 : (Jvm.Cond.methodLink "SecretVaultLaw" (244 : Nat) ({ cls := "SecretVaultModel", name := "save", desc := "()I" } : Jvm.MethodName)) ∈ lw_all := lw_g (lw_at lw_m11 55 rfl) rfl
theorem q2529 : (Jvm.Cond.methodLink "SecretVaultLaw" (248 : Nat) ({ cls := "SecretVaultModel", name := "restore", desc := "()I" } : Jvm.MethodName)) ∈ lw_all := lw_g (lw_at lw_m11 63 rfl) rfl

/-! SecretVault -/
set_option maxRecDepth 100000
def RX1 : String := "SecretVault"
def TX1 : u_T := fun k => match k with
  | 0 => ("SecretVault", "world", "LSecretVault$World;", false)
  | 1 => ("SecretVault", "saved", "LSecretVault$World;", false)
  | 2 => ("SecretVault", "buffer", "Ljava/lang/StringBuilder;", true)
  | 3 => ("SecretVault", "errorPosition", "I", false)
  | _ => ("SecretVault", "report", "Ljava/lang/Throwable;", false)
def tyX1 : Nat → FieldType := fun k => match k with
  | 0 => .object "SecretVault$World"
  | 1 => .object "SecretVault$World"
  | 2 => .object "java/lang/StringBuilder"
  | 3 => .int
  | _ => .object "java/lang/Throwable"
abbrev wsX10 : List Cond := u_ws RX1 TX1 5
theorem nmX1 : ∀ a, a < 5 → ∀ b, b < 5 → a ≠ b → (TX1 a).2.1 ≠ (TX1 b).2.1 := by decide +kernel
theorem tyX1_ok : ∀ k, k < 5 → parseFieldDescriptor (TX1 k).2.2.1 = some (tyX1 k) := by decide +kernel
abbrev cX1_init : ByteArray := prog_1_method_19_code
def yX1_init : MethodName := ⟨RX1, "<init>", "()V"⟩
def dkwX1_init_1 : List UInt8 := [181, 0, 127, 42, 2, 181, 0, 131, 42, 180, 0, 127, 3, 182, 0, 134, 177]
abbrev dktX1_init_1 : List UInt8 := dkwX1_init_1 ++ []
def dkwX1_init_0 : List UInt8 := [42, 183, 0, 117, 42, 187, 0, 120, 89, 183, 0, 122, 181, 0, 123, 42, 187, 0, 86, 89, 183, 0, 101]
abbrev dktX1_init_0 : List UInt8 := dkwX1_init_0 ++ dktX1_init_1
theorem dksX1_init_0 : cX1_init.data.toList.drop 0 = dktX1_init_0 := by decide +kernel
theorem dksX1_init_1 : cX1_init.data.toList.drop 23 = dktX1_init_1 := dk_seg dksX1_init_0 23 rfl rfl
theorem dX1_init_0 : decode cX1_init 0 = .ok (.aload_n 0, 1) := dk_42 (dk_at dksX1_init_0 0 rfl rfl)
theorem dX1_init_1 : decode cX1_init 1 = .ok (.invokespecial 117, 3) := dk_183 0 117 (dk_at dksX1_init_0 1 rfl rfl)
theorem dX1_init_4 : decode cX1_init 4 = .ok (.aload_n 0, 1) := dk_42 (dk_at dksX1_init_0 4 rfl rfl)
theorem dX1_init_5 : decode cX1_init 5 = .ok (.new 120, 3) := dk_187 0 120 (dk_at dksX1_init_0 5 rfl rfl)
theorem dX1_init_8 : decode cX1_init 8 = .ok (.dup, 1) := dk_89 (dk_at dksX1_init_0 8 rfl rfl)
theorem dX1_init_9 : decode cX1_init 9 = .ok (.invokespecial 122, 3) := dk_183 0 122 (dk_at dksX1_init_0 9 rfl rfl)
theorem dX1_init_12 : decode cX1_init 12 = .ok (.putfield 123, 3) := dk_181 0 123 (dk_at dksX1_init_0 12 rfl rfl)
theorem dX1_init_15 : decode cX1_init 15 = .ok (.aload_n 0, 1) := dk_42 (dk_at dksX1_init_0 15 rfl rfl)
theorem dX1_init_16 : decode cX1_init 16 = .ok (.new 86, 3) := dk_187 0 86 (dk_at dksX1_init_0 16 rfl rfl)
theorem dX1_init_19 : decode cX1_init 19 = .ok (.dup, 1) := dk_89 (dk_at dksX1_init_0 19 rfl rfl)
theorem dX1_init_20 : decode cX1_init 20 = .ok (.invokespecial 101, 3) := dk_183 0 101 (dk_at dksX1_init_0 20 rfl rfl)
theorem dX1_init_23 : decode cX1_init 23 = .ok (.putfield 127, 3) := dk_181 0 127 (dk_at dksX1_init_1 0 rfl rfl)
theorem dX1_init_26 : decode cX1_init 26 = .ok (.aload_n 0, 1) := dk_42 (dk_at dksX1_init_1 3 rfl rfl)
theorem dX1_init_27 : decode cX1_init 27 = .ok (.iconst (-1), 1) := dk_2 (dk_at dksX1_init_1 4 rfl rfl)
theorem dX1_init_28 : decode cX1_init 28 = .ok (.putfield 131, 3) := dk_181 0 131 (dk_at dksX1_init_1 5 rfl rfl)
theorem dX1_init_31 : decode cX1_init 31 = .ok (.aload_n 0, 1) := dk_42 (dk_at dksX1_init_1 8 rfl rfl)
theorem dX1_init_32 : decode cX1_init 32 = .ok (.getfield 127, 3) := dk_180 0 127 (dk_at dksX1_init_1 9 rfl rfl)
theorem dX1_init_35 : decode cX1_init 35 = .ok (.iconst 0, 1) := dk_3 (dk_at dksX1_init_1 12 rfl rfl)
theorem dX1_init_36 : decode cX1_init 36 = .ok (.invokevirtual 134, 3) := dk_182 0 134 (dk_at dksX1_init_1 13 rfl rfl)
theorem dX1_init_39 : decode cX1_init 39 = .ok (.return_, 1) := dk_177 (dk_at dksX1_init_1 16 rfl rfl)
abbrev cX1_seed : ByteArray := prog_1_method_26_code
def yX1_seed : MethodName := ⟨RX1, "seed", "(I)I"⟩
def dkwX1_seed_0 : List UInt8 := [42, 180, 0, 123, 180, 0, 171, 61, 42, 180, 0, 123, 27, 181, 0, 171, 28, 172]
abbrev dktX1_seed_0 : List UInt8 := dkwX1_seed_0 ++ []
theorem dksX1_seed_0 : cX1_seed.data.toList.drop 0 = dktX1_seed_0 := by decide +kernel
theorem dX1_seed_0 : decode cX1_seed 0 = .ok (.aload_n 0, 1) := dk_42 (dk_at dksX1_seed_0 0 rfl rfl)
theorem dX1_seed_1 : decode cX1_seed 1 = .ok (.getfield 123, 3) := dk_180 0 123 (dk_at dksX1_seed_0 1 rfl rfl)
theorem dX1_seed_4 : decode cX1_seed 4 = .ok (.getfield 171, 3) := dk_180 0 171 (dk_at dksX1_seed_0 4 rfl rfl)
theorem dX1_seed_7 : decode cX1_seed 7 = .ok (.istore_n 2, 1) := dk_61 (dk_at dksX1_seed_0 7 rfl rfl)
theorem dX1_seed_8 : decode cX1_seed 8 = .ok (.aload_n 0, 1) := dk_42 (dk_at dksX1_seed_0 8 rfl rfl)
theorem dX1_seed_9 : decode cX1_seed 9 = .ok (.getfield 123, 3) := dk_180 0 123 (dk_at dksX1_seed_0 9 rfl rfl)
theorem dX1_seed_12 : decode cX1_seed 12 = .ok (.iload_n 1, 1) := dk_27 (dk_at dksX1_seed_0 12 rfl rfl)
theorem dX1_seed_13 : decode cX1_seed 13 = .ok (.putfield 171, 3) := dk_181 0 171 (dk_at dksX1_seed_0 13 rfl rfl)
theorem dX1_seed_16 : decode cX1_seed 16 = .ok (.iload_n 2, 1) := dk_28 (dk_at dksX1_seed_0 16 rfl rfl)
theorem dX1_seed_17 : decode cX1_seed 17 = .ok (.ireturn, 1) := dk_172 (dk_at dksX1_seed_0 17 rfl rfl)
abbrev cX1_draw : ByteArray := prog_1_method_27_code
def yX1_draw : MethodName := ⟨RX1, "draw", "()I"⟩
def dkwX1_draw_0 : List UInt8 := [42, 180, 0, 123, 182, 0, 174, 172]
abbrev dktX1_draw_0 : List UInt8 := dkwX1_draw_0 ++ []
theorem dksX1_draw_0 : cX1_draw.data.toList.drop 0 = dktX1_draw_0 := by decide +kernel
theorem dX1_draw_0 : decode cX1_draw 0 = .ok (.aload_n 0, 1) := dk_42 (dk_at dksX1_draw_0 0 rfl rfl)
theorem dX1_draw_1 : decode cX1_draw 1 = .ok (.getfield 123, 3) := dk_180 0 123 (dk_at dksX1_draw_0 1 rfl rfl)
theorem dX1_draw_4 : decode cX1_draw 4 = .ok (.invokevirtual 174, 3) := dk_182 0 174 (dk_at dksX1_draw_0 4 rfl rfl)
theorem dX1_draw_7 : decode cX1_draw 7 = .ok (.ireturn, 1) := dk_172 (dk_at dksX1_draw_0 7 rfl rfl)
abbrev cX1_errorPosition : ByteArray := prog_1_method_52_code
def yX1_errorPosition : MethodName := ⟨RX1, "errorPosition", "()I"⟩
theorem dX1_errorPosition_0 : decode cX1_errorPosition 0 = .ok (.aload_n 0, 1) := by decide +kernel
theorem dX1_errorPosition_1 : decode cX1_errorPosition 1 = .ok (.getfield 131, 3) := by decide +kernel
theorem dX1_errorPosition_4 : decode cX1_errorPosition 4 = .ok (.ireturn, 1) := by decide +kernel
abbrev cX1_levels : ByteArray := prog_1_method_61_code
def yX1_levels : MethodName := ⟨RX1, "levels", "()I"⟩
def dkwX1_levels_0 : List UInt8 := [3, 60, 42, 180, 0, 157, 77, 44, 198, 0, 14, 132, 1, 1, 44, 182, 1, 126, 77, 167, 255, 244, 27, 172]
abbrev dktX1_levels_0 : List UInt8 := dkwX1_levels_0 ++ []
theorem dksX1_levels_0 : cX1_levels.data.toList.drop 0 = dktX1_levels_0 := by decide +kernel
theorem dX1_levels_0 : decode cX1_levels 0 = .ok (.iconst 0, 1) := dk_3 (dk_at dksX1_levels_0 0 rfl rfl)
theorem dX1_levels_1 : decode cX1_levels 1 = .ok (.istore_n 1, 1) := dk_60 (dk_at dksX1_levels_0 1 rfl rfl)
theorem dX1_levels_2 : decode cX1_levels 2 = .ok (.aload_n 0, 1) := dk_42 (dk_at dksX1_levels_0 2 rfl rfl)
theorem dX1_levels_3 : decode cX1_levels 3 = .ok (.getfield 157, 3) := dk_180 0 157 (dk_at dksX1_levels_0 3 rfl rfl)
theorem dX1_levels_6 : decode cX1_levels 6 = .ok (.astore_n 2, 1) := dk_77 (dk_at dksX1_levels_0 6 rfl rfl)
theorem dX1_levels_7 : decode cX1_levels 7 = .ok (.aload_n 2, 1) := dk_44 (dk_at dksX1_levels_0 7 rfl rfl)
theorem dX1_levels_8 : decode cX1_levels 8 = .ok (.ifnull 14, 3) := dk_198 0 14 (dk_at dksX1_levels_0 8 rfl rfl)
theorem dX1_levels_11 : decode cX1_levels 11 = .ok (.iinc 1 1, 3) := dk_132 1 1 (dk_at dksX1_levels_0 11 rfl rfl)
theorem dX1_levels_14 : decode cX1_levels 14 = .ok (.aload_n 2, 1) := dk_44 (dk_at dksX1_levels_0 14 rfl rfl)
theorem dX1_levels_15 : decode cX1_levels 15 = .ok (.invokevirtual 382, 3) := dk_182 1 126 (dk_at dksX1_levels_0 15 rfl rfl)
theorem dX1_levels_18 : decode cX1_levels 18 = .ok (.astore_n 2, 1) := dk_77 (dk_at dksX1_levels_0 18 rfl rfl)
theorem dX1_levels_19 : decode cX1_levels 19 = .ok (.goto (-12), 3) := dk_167 255 244 (dk_at dksX1_levels_0 19 rfl rfl)
theorem dX1_levels_22 : decode cX1_levels 22 = .ok (.iload_n 1, 1) := dk_27 (dk_at dksX1_levels_0 22 rfl rfl)
theorem dX1_levels_23 : decode cX1_levels 23 = .ok (.ireturn, 1) := dk_172 (dk_at dksX1_levels_0 23 rfl rfl)
abbrev cX1_save : ByteArray := prog_1_method_65_code
def yX1_save : MethodName := ⟨RX1, "save", "()I"⟩
def dkwX1_save_0 : List UInt8 := [42, 42, 180, 0, 123, 182, 1, 169, 181, 1, 173, 42, 180, 0, 123, 184, 1, 176, 172]
abbrev dktX1_save_0 : List UInt8 := dkwX1_save_0 ++ []
theorem dksX1_save_0 : cX1_save.data.toList.drop 0 = dktX1_save_0 := by decide +kernel
theorem dX1_save_0 : decode cX1_save 0 = .ok (.aload_n 0, 1) := dk_42 (dk_at dksX1_save_0 0 rfl rfl)
theorem dX1_save_1 : decode cX1_save 1 = .ok (.aload_n 0, 1) := dk_42 (dk_at dksX1_save_0 1 rfl rfl)
theorem dX1_save_2 : decode cX1_save 2 = .ok (.getfield 123, 3) := dk_180 0 123 (dk_at dksX1_save_0 2 rfl rfl)
theorem dX1_save_5 : decode cX1_save 5 = .ok (.invokevirtual 425, 3) := dk_182 1 169 (dk_at dksX1_save_0 5 rfl rfl)
theorem dX1_save_8 : decode cX1_save 8 = .ok (.putfield 429, 3) := dk_181 1 173 (dk_at dksX1_save_0 8 rfl rfl)
theorem dX1_save_11 : decode cX1_save 11 = .ok (.aload_n 0, 1) := dk_42 (dk_at dksX1_save_0 11 rfl rfl)
theorem dX1_save_12 : decode cX1_save 12 = .ok (.getfield 123, 3) := dk_180 0 123 (dk_at dksX1_save_0 12 rfl rfl)
theorem dX1_save_15 : decode cX1_save 15 = .ok (.invokestatic 432, 3) := dk_184 1 176 (dk_at dksX1_save_0 15 rfl rfl)
theorem dX1_save_18 : decode cX1_save 18 = .ok (.ireturn, 1) := dk_172 (dk_at dksX1_save_0 18 rfl rfl)
abbrev cX1_secretsOf : ByteArray := prog_1_method_64_code
def yX1_secretsOf : MethodName := ⟨RX1, "secretsOf", "(LSecretVault$World;)I"⟩
def dkwX1_secretsOf_1 : List UInt8 := [58, 5, 27, 25, 5, 199, 0, 7, 3, 167, 0, 4, 4, 96, 60, 132, 4, 1, 167, 255, 228, 27, 172]
abbrev dktX1_secretsOf_1 : List UInt8 := dkwX1_secretsOf_1 ++ []
def dkwX1_secretsOf_0 : List UInt8 := [3, 60, 42, 180, 0, 150, 77, 44, 190, 62, 3, 54, 4, 21, 4, 29, 162, 0, 28, 44, 21, 4, 50]
abbrev dktX1_secretsOf_0 : List UInt8 := dkwX1_secretsOf_0 ++ dktX1_secretsOf_1
theorem dksX1_secretsOf_0 : cX1_secretsOf.data.toList.drop 0 = dktX1_secretsOf_0 := by decide +kernel
theorem dksX1_secretsOf_1 : cX1_secretsOf.data.toList.drop 23 = dktX1_secretsOf_1 := dk_seg dksX1_secretsOf_0 23 rfl rfl
theorem dX1_secretsOf_0 : decode cX1_secretsOf 0 = .ok (.iconst 0, 1) := dk_3 (dk_at dksX1_secretsOf_0 0 rfl rfl)
theorem dX1_secretsOf_1 : decode cX1_secretsOf 1 = .ok (.istore_n 1, 1) := dk_60 (dk_at dksX1_secretsOf_0 1 rfl rfl)
theorem dX1_secretsOf_2 : decode cX1_secretsOf 2 = .ok (.aload_n 0, 1) := dk_42 (dk_at dksX1_secretsOf_0 2 rfl rfl)
theorem dX1_secretsOf_3 : decode cX1_secretsOf 3 = .ok (.getfield 150, 3) := dk_180 0 150 (dk_at dksX1_secretsOf_0 3 rfl rfl)
theorem dX1_secretsOf_6 : decode cX1_secretsOf 6 = .ok (.astore_n 2, 1) := dk_77 (dk_at dksX1_secretsOf_0 6 rfl rfl)
theorem dX1_secretsOf_7 : decode cX1_secretsOf 7 = .ok (.aload_n 2, 1) := dk_44 (dk_at dksX1_secretsOf_0 7 rfl rfl)
theorem dX1_secretsOf_8 : decode cX1_secretsOf 8 = .ok (.arraylength, 1) := dk_190 (dk_at dksX1_secretsOf_0 8 rfl rfl)
theorem dX1_secretsOf_9 : decode cX1_secretsOf 9 = .ok (.istore_n 3, 1) := dk_62 (dk_at dksX1_secretsOf_0 9 rfl rfl)
theorem dX1_secretsOf_10 : decode cX1_secretsOf 10 = .ok (.iconst 0, 1) := dk_3 (dk_at dksX1_secretsOf_0 10 rfl rfl)
theorem dX1_secretsOf_11 : decode cX1_secretsOf 11 = .ok (.istore 4, 2) := dk_54 4 (dk_at dksX1_secretsOf_0 11 rfl rfl)
theorem dX1_secretsOf_13 : decode cX1_secretsOf 13 = .ok (.iload 4, 2) := dk_21 4 (dk_at dksX1_secretsOf_0 13 rfl rfl)
theorem dX1_secretsOf_15 : decode cX1_secretsOf 15 = .ok (.iload_n 3, 1) := dk_29 (dk_at dksX1_secretsOf_0 15 rfl rfl)
theorem dX1_secretsOf_16 : decode cX1_secretsOf 16 = .ok (.if_icmp .ge 28, 3) := dk_162 0 28 (dk_at dksX1_secretsOf_0 16 rfl rfl)
theorem dX1_secretsOf_19 : decode cX1_secretsOf 19 = .ok (.aload_n 2, 1) := dk_44 (dk_at dksX1_secretsOf_0 19 rfl rfl)
theorem dX1_secretsOf_20 : decode cX1_secretsOf 20 = .ok (.iload 4, 2) := dk_21 4 (dk_at dksX1_secretsOf_0 20 rfl rfl)
theorem dX1_secretsOf_22 : decode cX1_secretsOf 22 = .ok (.aaload, 1) := dk_50 (dk_at dksX1_secretsOf_0 22 rfl rfl)
theorem dX1_secretsOf_23 : decode cX1_secretsOf 23 = .ok (.astore 5, 2) := dk_58 5 (dk_at dksX1_secretsOf_1 0 rfl rfl)
theorem dX1_secretsOf_25 : decode cX1_secretsOf 25 = .ok (.iload_n 1, 1) := dk_27 (dk_at dksX1_secretsOf_1 2 rfl rfl)
theorem dX1_secretsOf_26 : decode cX1_secretsOf 26 = .ok (.aload 5, 2) := dk_25 5 (dk_at dksX1_secretsOf_1 3 rfl rfl)
theorem dX1_secretsOf_28 : decode cX1_secretsOf 28 = .ok (.ifnonnull 7, 3) := dk_199 0 7 (dk_at dksX1_secretsOf_1 5 rfl rfl)
theorem dX1_secretsOf_31 : decode cX1_secretsOf 31 = .ok (.iconst 0, 1) := dk_3 (dk_at dksX1_secretsOf_1 8 rfl rfl)
theorem dX1_secretsOf_32 : decode cX1_secretsOf 32 = .ok (.goto 4, 3) := dk_167 0 4 (dk_at dksX1_secretsOf_1 9 rfl rfl)
theorem dX1_secretsOf_35 : decode cX1_secretsOf 35 = .ok (.iconst 1, 1) := dk_4 (dk_at dksX1_secretsOf_1 12 rfl rfl)
theorem dX1_secretsOf_36 : decode cX1_secretsOf 36 = .ok (.iadd, 1) := dk_96 (dk_at dksX1_secretsOf_1 13 rfl rfl)
theorem dX1_secretsOf_37 : decode cX1_secretsOf 37 = .ok (.istore_n 1, 1) := dk_60 (dk_at dksX1_secretsOf_1 14 rfl rfl)
theorem dX1_secretsOf_38 : decode cX1_secretsOf 38 = .ok (.iinc 4 1, 3) := dk_132 4 1 (dk_at dksX1_secretsOf_1 15 rfl rfl)
theorem dX1_secretsOf_41 : decode cX1_secretsOf 41 = .ok (.goto (-28), 3) := dk_167 255 228 (dk_at dksX1_secretsOf_1 18 rfl rfl)
theorem dX1_secretsOf_44 : decode cX1_secretsOf 44 = .ok (.iload_n 1, 1) := dk_27 (dk_at dksX1_secretsOf_1 21 rfl rfl)
theorem dX1_secretsOf_45 : decode cX1_secretsOf 45 = .ok (.ireturn, 1) := dk_172 (dk_at dksX1_secretsOf_1 22 rfl rfl)
abbrev cX1_setWeight : ByteArray := prog_1_method_28_code
def yX1_setWeight : MethodName := ⟨RX1, "setWeight", "(II)I"⟩
def dkwX1_setWeight_1 : List UInt8 := [180, 0, 123, 180, 0, 180, 27, 28, 79, 29, 172]
abbrev dktX1_setWeight_1 : List UInt8 := dkwX1_setWeight_1 ++ []
def dkwX1_setWeight_0 : List UInt8 := [27, 184, 0, 177, 28, 3, 6, 184, 0, 142, 184, 0, 146, 42, 180, 0, 123, 180, 0, 180, 27, 46, 62, 42]
abbrev dktX1_setWeight_0 : List UInt8 := dkwX1_setWeight_0 ++ dktX1_setWeight_1
theorem dksX1_setWeight_0 : cX1_setWeight.data.toList.drop 0 = dktX1_setWeight_0 := by decide +kernel
theorem dksX1_setWeight_1 : cX1_setWeight.data.toList.drop 24 = dktX1_setWeight_1 := dk_seg dksX1_setWeight_0 24 rfl rfl
theorem dX1_setWeight_0 : decode cX1_setWeight 0 = .ok (.iload_n 1, 1) := dk_27 (dk_at dksX1_setWeight_0 0 rfl rfl)
theorem dX1_setWeight_1 : decode cX1_setWeight 1 = .ok (.invokestatic 177, 3) := dk_184 0 177 (dk_at dksX1_setWeight_0 1 rfl rfl)
theorem dX1_setWeight_4 : decode cX1_setWeight 4 = .ok (.iload_n 2, 1) := dk_28 (dk_at dksX1_setWeight_0 4 rfl rfl)
theorem dX1_setWeight_5 : decode cX1_setWeight 5 = .ok (.iconst 0, 1) := dk_3 (dk_at dksX1_setWeight_0 5 rfl rfl)
theorem dX1_setWeight_6 : decode cX1_setWeight 6 = .ok (.iconst 3, 1) := dk_6 (dk_at dksX1_setWeight_0 6 rfl rfl)
theorem dX1_setWeight_7 : decode cX1_setWeight 7 = .ok (.invokestatic 142, 3) := dk_184 0 142 (dk_at dksX1_setWeight_0 7 rfl rfl)
theorem dX1_setWeight_10 : decode cX1_setWeight 10 = .ok (.invokestatic 146, 3) := dk_184 0 146 (dk_at dksX1_setWeight_0 10 rfl rfl)
theorem dX1_setWeight_13 : decode cX1_setWeight 13 = .ok (.aload_n 0, 1) := dk_42 (dk_at dksX1_setWeight_0 13 rfl rfl)
theorem dX1_setWeight_14 : decode cX1_setWeight 14 = .ok (.getfield 123, 3) := dk_180 0 123 (dk_at dksX1_setWeight_0 14 rfl rfl)
theorem dX1_setWeight_17 : decode cX1_setWeight 17 = .ok (.getfield 180, 3) := dk_180 0 180 (dk_at dksX1_setWeight_0 17 rfl rfl)
theorem dX1_setWeight_20 : decode cX1_setWeight 20 = .ok (.iload_n 1, 1) := dk_27 (dk_at dksX1_setWeight_0 20 rfl rfl)
theorem dX1_setWeight_21 : decode cX1_setWeight 21 = .ok (.iaload, 1) := dk_46 (dk_at dksX1_setWeight_0 21 rfl rfl)
theorem dX1_setWeight_22 : decode cX1_setWeight 22 = .ok (.istore_n 3, 1) := dk_62 (dk_at dksX1_setWeight_0 22 rfl rfl)
theorem dX1_setWeight_23 : decode cX1_setWeight 23 = .ok (.aload_n 0, 1) := dk_42 (dk_at dksX1_setWeight_0 23 rfl rfl)
theorem dX1_setWeight_24 : decode cX1_setWeight 24 = .ok (.getfield 123, 3) := dk_180 0 123 (dk_at dksX1_setWeight_1 0 rfl rfl)
theorem dX1_setWeight_27 : decode cX1_setWeight 27 = .ok (.getfield 180, 3) := dk_180 0 180 (dk_at dksX1_setWeight_1 3 rfl rfl)
theorem dX1_setWeight_30 : decode cX1_setWeight 30 = .ok (.iload_n 1, 1) := dk_27 (dk_at dksX1_setWeight_1 6 rfl rfl)
theorem dX1_setWeight_31 : decode cX1_setWeight 31 = .ok (.iload_n 2, 1) := dk_28 (dk_at dksX1_setWeight_1 7 rfl rfl)
theorem dX1_setWeight_32 : decode cX1_setWeight 32 = .ok (.iastore, 1) := dk_79 (dk_at dksX1_setWeight_1 8 rfl rfl)
theorem dX1_setWeight_33 : decode cX1_setWeight 33 = .ok (.iload_n 3, 1) := dk_29 (dk_at dksX1_setWeight_1 9 rfl rfl)
theorem dX1_setWeight_34 : decode cX1_setWeight 34 = .ok (.ireturn, 1) := dk_172 (dk_at dksX1_setWeight_1 10 rfl rfl)
abbrev cX1_requireMember : ByteArray := prog_1_method_20_code
def yX1_requireMember : MethodName := ⟨RX1, "requireMember", "(I)V"⟩
def dkwX1_requireMember_0 : List UInt8 := [26, 16, 8, 184, 0, 138, 177]
abbrev dktX1_requireMember_0 : List UInt8 := dkwX1_requireMember_0 ++ []
theorem dksX1_requireMember_0 : cX1_requireMember.data.toList.drop 0 = dktX1_requireMember_0 := by decide +kernel
theorem dX1_requireMember_0 : decode cX1_requireMember 0 = .ok (.iload_n 0, 1) := dk_26 (dk_at dksX1_requireMember_0 0 rfl rfl)
theorem dX1_requireMember_1 : decode cX1_requireMember 1 = .ok (.bipush 8, 2) := dk_16 8 (dk_at dksX1_requireMember_0 1 rfl rfl)
theorem dX1_requireMember_3 : decode cX1_requireMember 3 = .ok (.invokestatic 138, 3) := dk_184 0 138 (dk_at dksX1_requireMember_0 3 rfl rfl)
theorem dX1_requireMember_6 : decode cX1_requireMember 6 = .ok (.return_, 1) := dk_177 (dk_at dksX1_requireMember_0 6 rfl rfl)
abbrev cX1_requireIndex : ByteArray := prog_1_method_4_code
def yX1_requireIndex : MethodName := ⟨RX1, "requireIndex", "(II)V"⟩
def dkwX1_requireIndex_0 : List UInt8 := [26, 155, 0, 8, 26, 27, 161, 0, 11, 187, 0, 10, 89, 183, 0, 12, 191, 177]
abbrev dktX1_requireIndex_0 : List UInt8 := dkwX1_requireIndex_0 ++ []
theorem dksX1_requireIndex_0 : cX1_requireIndex.data.toList.drop 0 = dktX1_requireIndex_0 := by decide +kernel
theorem dX1_requireIndex_0 : decode cX1_requireIndex 0 = .ok (.iload_n 0, 1) := dk_26 (dk_at dksX1_requireIndex_0 0 rfl rfl)
theorem dX1_requireIndex_1 : decode cX1_requireIndex 1 = .ok (.ifCond .lt 8, 3) := dk_155 0 8 (dk_at dksX1_requireIndex_0 1 rfl rfl)
theorem dX1_requireIndex_4 : decode cX1_requireIndex 4 = .ok (.iload_n 0, 1) := dk_26 (dk_at dksX1_requireIndex_0 4 rfl rfl)
theorem dX1_requireIndex_5 : decode cX1_requireIndex 5 = .ok (.iload_n 1, 1) := dk_27 (dk_at dksX1_requireIndex_0 5 rfl rfl)
theorem dX1_requireIndex_6 : decode cX1_requireIndex 6 = .ok (.if_icmp .lt 11, 3) := dk_161 0 11 (dk_at dksX1_requireIndex_0 6 rfl rfl)
theorem dX1_requireIndex_9 : decode cX1_requireIndex 9 = .ok (.new 10, 3) := dk_187 0 10 (dk_at dksX1_requireIndex_0 9 rfl rfl)
theorem dX1_requireIndex_12 : decode cX1_requireIndex 12 = .ok (.dup, 1) := dk_89 (dk_at dksX1_requireIndex_0 12 rfl rfl)
theorem dX1_requireIndex_13 : decode cX1_requireIndex 13 = .ok (.invokespecial 12, 3) := dk_183 0 12 (dk_at dksX1_requireIndex_0 13 rfl rfl)
theorem dX1_requireIndex_16 : decode cX1_requireIndex 16 = .ok (.athrow, 1) := dk_191 (dk_at dksX1_requireIndex_0 16 rfl rfl)
theorem dX1_requireIndex_17 : decode cX1_requireIndex 17 = .ok (.return_, 1) := dk_177 (dk_at dksX1_requireIndex_0 17 rfl rfl)
abbrev cX1_in : ByteArray := prog_1_method_1_code
def yX1_in : MethodName := ⟨RX1, "in", "(III)Z"⟩
def dkwX1_in_0 : List UInt8 := [26, 27, 161, 0, 12, 26, 28, 163, 0, 7, 4, 167, 0, 4, 3, 172]
abbrev dktX1_in_0 : List UInt8 := dkwX1_in_0 ++ []
theorem dksX1_in_0 : cX1_in.data.toList.drop 0 = dktX1_in_0 := by decide +kernel
theorem dX1_in_0 : decode cX1_in 0 = .ok (.iload_n 0, 1) := dk_26 (dk_at dksX1_in_0 0 rfl rfl)
theorem dX1_in_1 : decode cX1_in 1 = .ok (.iload_n 1, 1) := dk_27 (dk_at dksX1_in_0 1 rfl rfl)
theorem dX1_in_2 : decode cX1_in 2 = .ok (.if_icmp .lt 12, 3) := dk_161 0 12 (dk_at dksX1_in_0 2 rfl rfl)
theorem dX1_in_5 : decode cX1_in 5 = .ok (.iload_n 0, 1) := dk_26 (dk_at dksX1_in_0 5 rfl rfl)
theorem dX1_in_6 : decode cX1_in 6 = .ok (.iload_n 2, 1) := dk_28 (dk_at dksX1_in_0 6 rfl rfl)
theorem dX1_in_7 : decode cX1_in 7 = .ok (.if_icmp .gt 7, 3) := dk_163 0 7 (dk_at dksX1_in_0 7 rfl rfl)
theorem dX1_in_10 : decode cX1_in 10 = .ok (.iconst 1, 1) := dk_4 (dk_at dksX1_in_0 10 rfl rfl)
theorem dX1_in_11 : decode cX1_in 11 = .ok (.goto 4, 3) := dk_167 0 4 (dk_at dksX1_in_0 11 rfl rfl)
theorem dX1_in_14 : decode cX1_in 14 = .ok (.iconst 0, 1) := dk_3 (dk_at dksX1_in_0 14 rfl rfl)
theorem dX1_in_15 : decode cX1_in 15 = .ok (.ireturn, 1) := dk_172 (dk_at dksX1_in_0 15 rfl rfl)
abbrev cX1_require : ByteArray := prog_1_method_2_code
def yX1_require : MethodName := ⟨RX1, "require", "(Z)V"⟩
def dkwX1_require_0 : List UInt8 := [26, 154, 0, 11, 187, 0, 1, 89, 183, 0, 3, 191, 177]
abbrev dktX1_require_0 : List UInt8 := dkwX1_require_0 ++ []
theorem dksX1_require_0 : cX1_require.data.toList.drop 0 = dktX1_require_0 := by decide +kernel
theorem dX1_require_0 : decode cX1_require 0 = .ok (.iload_n 0, 1) := dk_26 (dk_at dksX1_require_0 0 rfl rfl)
theorem dX1_require_1 : decode cX1_require 1 = .ok (.ifCond .ne 11, 3) := dk_154 0 11 (dk_at dksX1_require_0 1 rfl rfl)
theorem dX1_require_4 : decode cX1_require 4 = .ok (.new 1, 3) := dk_187 0 1 (dk_at dksX1_require_0 4 rfl rfl)
theorem dX1_require_7 : decode cX1_require 7 = .ok (.dup, 1) := dk_89 (dk_at dksX1_require_0 7 rfl rfl)
theorem dX1_require_8 : decode cX1_require 8 = .ok (.invokespecial 3, 3) := dk_183 0 3 (dk_at dksX1_require_0 8 rfl rfl)
theorem dX1_require_11 : decode cX1_require 11 = .ok (.athrow, 1) := dk_191 (dk_at dksX1_require_0 11 rfl rfl)
theorem dX1_require_12 : decode cX1_require 12 = .ok (.return_, 1) := dk_177 (dk_at dksX1_require_0 12 rfl rfl)
abbrev cX1_setPresent : ByteArray := prog_1_method_29_code
def yX1_setPresent : MethodName := ⟨RX1, "setPresent", "(IZ)Z"⟩
def dkwX1_setPresent_1 : List UInt8 := [29, 172]
abbrev dktX1_setPresent_1 : List UInt8 := dkwX1_setPresent_1 ++ []
def dkwX1_setPresent_0 : List UInt8 := [27, 184, 0, 177, 42, 180, 0, 123, 180, 0, 184, 27, 51, 62, 42, 180, 0, 123, 180, 0, 184, 27, 28, 84]
abbrev dktX1_setPresent_0 : List UInt8 := dkwX1_setPresent_0 ++ dktX1_setPresent_1
theorem dksX1_setPresent_0 : cX1_setPresent.data.toList.drop 0 = dktX1_setPresent_0 := by decide +kernel
theorem dksX1_setPresent_1 : cX1_setPresent.data.toList.drop 24 = dktX1_setPresent_1 := dk_seg dksX1_setPresent_0 24 rfl rfl
theorem dX1_setPresent_0 : decode cX1_setPresent 0 = .ok (.iload_n 1, 1) := dk_27 (dk_at dksX1_setPresent_0 0 rfl rfl)
theorem dX1_setPresent_1 : decode cX1_setPresent 1 = .ok (.invokestatic 177, 3) := dk_184 0 177 (dk_at dksX1_setPresent_0 1 rfl rfl)
theorem dX1_setPresent_4 : decode cX1_setPresent 4 = .ok (.aload_n 0, 1) := dk_42 (dk_at dksX1_setPresent_0 4 rfl rfl)
theorem dX1_setPresent_5 : decode cX1_setPresent 5 = .ok (.getfield 123, 3) := dk_180 0 123 (dk_at dksX1_setPresent_0 5 rfl rfl)
theorem dX1_setPresent_8 : decode cX1_setPresent 8 = .ok (.getfield 184, 3) := dk_180 0 184 (dk_at dksX1_setPresent_0 8 rfl rfl)
theorem dX1_setPresent_11 : decode cX1_setPresent 11 = .ok (.iload_n 1, 1) := dk_27 (dk_at dksX1_setPresent_0 11 rfl rfl)
theorem dX1_setPresent_12 : decode cX1_setPresent 12 = .ok (.baload, 1) := dk_51 (dk_at dksX1_setPresent_0 12 rfl rfl)
theorem dX1_setPresent_13 : decode cX1_setPresent 13 = .ok (.istore_n 3, 1) := dk_62 (dk_at dksX1_setPresent_0 13 rfl rfl)
theorem dX1_setPresent_14 : decode cX1_setPresent 14 = .ok (.aload_n 0, 1) := dk_42 (dk_at dksX1_setPresent_0 14 rfl rfl)
theorem dX1_setPresent_15 : decode cX1_setPresent 15 = .ok (.getfield 123, 3) := dk_180 0 123 (dk_at dksX1_setPresent_0 15 rfl rfl)
theorem dX1_setPresent_18 : decode cX1_setPresent 18 = .ok (.getfield 184, 3) := dk_180 0 184 (dk_at dksX1_setPresent_0 18 rfl rfl)
theorem dX1_setPresent_21 : decode cX1_setPresent 21 = .ok (.iload_n 1, 1) := dk_27 (dk_at dksX1_setPresent_0 21 rfl rfl)
theorem dX1_setPresent_22 : decode cX1_setPresent 22 = .ok (.iload_n 2, 1) := dk_28 (dk_at dksX1_setPresent_0 22 rfl rfl)
theorem dX1_setPresent_23 : decode cX1_setPresent 23 = .ok (.bastore, 1) := dk_84 (dk_at dksX1_setPresent_0 23 rfl rfl)
theorem dX1_setPresent_24 : decode cX1_setPresent 24 = .ok (.iload_n 3, 1) := dk_29 (dk_at dksX1_setPresent_1 0 rfl rfl)
theorem dX1_setPresent_25 : decode cX1_setPresent 25 = .ok (.ireturn, 1) := dk_172 (dk_at dksX1_setPresent_1 1 rfl rfl)
abbrev cX1_member : ByteArray := prog_1_method_30_code
def yX1_member : MethodName := ⟨RX1, "member", "(II)I"⟩
def dkwX1_member_5 : List UInt8 := [25, 7, 27, 182, 0, 194, 100, 96, 62, 132, 6, 1, 167, 255, 197, 29, 172]
abbrev dktX1_member_5 : List UInt8 := dkwX1_member_5 ++ []
def dkwX1_member_4 : List UInt8 := [182, 0, 188, 185, 0, 31, 1, 0, 54, 8, 29, 28, 5, 160, 0, 8, 21, 8, 167, 0, 12, 21, 8]
abbrev dktX1_member_4 : List UInt8 := dkwX1_member_4 ++ dktX1_member_5
def dkwX1_member_3 : List UInt8 := [21, 6, 21, 5, 162, 0, 58, 25, 4, 21, 6, 50, 58, 7, 25, 7, 198, 0, 40, 25, 7, 4, 27, 120]
abbrev dktX1_member_3 : List UInt8 := dkwX1_member_3 ++ dktX1_member_4
def dkwX1_member_2 : List UInt8 := [167, 0, 4, 3, 172, 3, 62, 42, 180, 0, 123, 180, 0, 150, 58, 4, 25, 4, 190, 54, 5, 3, 54, 6]
abbrev dktX1_member_2 : List UInt8 := dkwX1_member_2 ++ dktX1_member_3
def dkwX1_member_1 : List UInt8 := [180, 0, 123, 180, 0, 180, 27, 46, 167, 0, 20, 42, 180, 0, 123, 180, 0, 184, 27, 51, 153, 0, 7, 4]
abbrev dktX1_member_1 : List UInt8 := dkwX1_member_1 ++ dktX1_member_2
def dkwX1_member_0 : List UInt8 := [27, 184, 0, 177, 28, 3, 6, 184, 0, 142, 184, 0, 146, 28, 5, 162, 0, 37, 28, 154, 0, 15, 42]
abbrev dktX1_member_0 : List UInt8 := dkwX1_member_0 ++ dktX1_member_1
theorem dksX1_member_0 : cX1_member.data.toList.drop 0 = dktX1_member_0 := by decide +kernel
theorem dksX1_member_1 : cX1_member.data.toList.drop 23 = dktX1_member_1 := dk_seg dksX1_member_0 23 rfl rfl
theorem dksX1_member_2 : cX1_member.data.toList.drop 47 = dktX1_member_2 := dk_seg dksX1_member_1 24 rfl rfl
theorem dksX1_member_3 : cX1_member.data.toList.drop 71 = dktX1_member_3 := dk_seg dksX1_member_2 24 rfl rfl
theorem dksX1_member_4 : cX1_member.data.toList.drop 95 = dktX1_member_4 := dk_seg dksX1_member_3 24 rfl rfl
theorem dksX1_member_5 : cX1_member.data.toList.drop 118 = dktX1_member_5 := dk_seg dksX1_member_4 23 rfl rfl
theorem dX1_member_0 : decode cX1_member 0 = .ok (.iload_n 1, 1) := dk_27 (dk_at dksX1_member_0 0 rfl rfl)
theorem dX1_member_1 : decode cX1_member 1 = .ok (.invokestatic 177, 3) := dk_184 0 177 (dk_at dksX1_member_0 1 rfl rfl)
theorem dX1_member_4 : decode cX1_member 4 = .ok (.iload_n 2, 1) := dk_28 (dk_at dksX1_member_0 4 rfl rfl)
theorem dX1_member_5 : decode cX1_member 5 = .ok (.iconst 0, 1) := dk_3 (dk_at dksX1_member_0 5 rfl rfl)
theorem dX1_member_6 : decode cX1_member 6 = .ok (.iconst 3, 1) := dk_6 (dk_at dksX1_member_0 6 rfl rfl)
theorem dX1_member_7 : decode cX1_member 7 = .ok (.invokestatic 142, 3) := dk_184 0 142 (dk_at dksX1_member_0 7 rfl rfl)
theorem dX1_member_10 : decode cX1_member 10 = .ok (.invokestatic 146, 3) := dk_184 0 146 (dk_at dksX1_member_0 10 rfl rfl)
theorem dX1_member_13 : decode cX1_member 13 = .ok (.iload_n 2, 1) := dk_28 (dk_at dksX1_member_0 13 rfl rfl)
theorem dX1_member_14 : decode cX1_member 14 = .ok (.iconst 2, 1) := dk_5 (dk_at dksX1_member_0 14 rfl rfl)
theorem dX1_member_15 : decode cX1_member 15 = .ok (.if_icmp .ge 37, 3) := dk_162 0 37 (dk_at dksX1_member_0 15 rfl rfl)
theorem dX1_member_18 : decode cX1_member 18 = .ok (.iload_n 2, 1) := dk_28 (dk_at dksX1_member_0 18 rfl rfl)
theorem dX1_member_19 : decode cX1_member 19 = .ok (.ifCond .ne 15, 3) := dk_154 0 15 (dk_at dksX1_member_0 19 rfl rfl)
theorem dX1_member_22 : decode cX1_member 22 = .ok (.aload_n 0, 1) := dk_42 (dk_at dksX1_member_0 22 rfl rfl)
theorem dX1_member_23 : decode cX1_member 23 = .ok (.getfield 123, 3) := dk_180 0 123 (dk_at dksX1_member_1 0 rfl rfl)
theorem dX1_member_26 : decode cX1_member 26 = .ok (.getfield 180, 3) := dk_180 0 180 (dk_at dksX1_member_1 3 rfl rfl)
theorem dX1_member_29 : decode cX1_member 29 = .ok (.iload_n 1, 1) := dk_27 (dk_at dksX1_member_1 6 rfl rfl)
theorem dX1_member_30 : decode cX1_member 30 = .ok (.iaload, 1) := dk_46 (dk_at dksX1_member_1 7 rfl rfl)
theorem dX1_member_31 : decode cX1_member 31 = .ok (.goto 20, 3) := dk_167 0 20 (dk_at dksX1_member_1 8 rfl rfl)
theorem dX1_member_34 : decode cX1_member 34 = .ok (.aload_n 0, 1) := dk_42 (dk_at dksX1_member_1 11 rfl rfl)
theorem dX1_member_35 : decode cX1_member 35 = .ok (.getfield 123, 3) := dk_180 0 123 (dk_at dksX1_member_1 12 rfl rfl)
theorem dX1_member_38 : decode cX1_member 38 = .ok (.getfield 184, 3) := dk_180 0 184 (dk_at dksX1_member_1 15 rfl rfl)
theorem dX1_member_41 : decode cX1_member 41 = .ok (.iload_n 1, 1) := dk_27 (dk_at dksX1_member_1 18 rfl rfl)
theorem dX1_member_42 : decode cX1_member 42 = .ok (.baload, 1) := dk_51 (dk_at dksX1_member_1 19 rfl rfl)
theorem dX1_member_43 : decode cX1_member 43 = .ok (.ifCond .eq 7, 3) := dk_153 0 7 (dk_at dksX1_member_1 20 rfl rfl)
theorem dX1_member_46 : decode cX1_member 46 = .ok (.iconst 1, 1) := dk_4 (dk_at dksX1_member_1 23 rfl rfl)
theorem dX1_member_47 : decode cX1_member 47 = .ok (.goto 4, 3) := dk_167 0 4 (dk_at dksX1_member_2 0 rfl rfl)
theorem dX1_member_50 : decode cX1_member 50 = .ok (.iconst 0, 1) := dk_3 (dk_at dksX1_member_2 3 rfl rfl)
theorem dX1_member_51 : decode cX1_member 51 = .ok (.ireturn, 1) := dk_172 (dk_at dksX1_member_2 4 rfl rfl)
theorem dX1_member_52 : decode cX1_member 52 = .ok (.iconst 0, 1) := dk_3 (dk_at dksX1_member_2 5 rfl rfl)
theorem dX1_member_53 : decode cX1_member 53 = .ok (.istore_n 3, 1) := dk_62 (dk_at dksX1_member_2 6 rfl rfl)
theorem dX1_member_54 : decode cX1_member 54 = .ok (.aload_n 0, 1) := dk_42 (dk_at dksX1_member_2 7 rfl rfl)
theorem dX1_member_55 : decode cX1_member 55 = .ok (.getfield 123, 3) := dk_180 0 123 (dk_at dksX1_member_2 8 rfl rfl)
theorem dX1_member_58 : decode cX1_member 58 = .ok (.getfield 150, 3) := dk_180 0 150 (dk_at dksX1_member_2 11 rfl rfl)
theorem dX1_member_61 : decode cX1_member 61 = .ok (.astore 4, 2) := dk_58 4 (dk_at dksX1_member_2 14 rfl rfl)
theorem dX1_member_63 : decode cX1_member 63 = .ok (.aload 4, 2) := dk_25 4 (dk_at dksX1_member_2 16 rfl rfl)
theorem dX1_member_65 : decode cX1_member 65 = .ok (.arraylength, 1) := dk_190 (dk_at dksX1_member_2 18 rfl rfl)
theorem dX1_member_66 : decode cX1_member 66 = .ok (.istore 5, 2) := dk_54 5 (dk_at dksX1_member_2 19 rfl rfl)
theorem dX1_member_68 : decode cX1_member 68 = .ok (.iconst 0, 1) := dk_3 (dk_at dksX1_member_2 21 rfl rfl)
theorem dX1_member_69 : decode cX1_member 69 = .ok (.istore 6, 2) := dk_54 6 (dk_at dksX1_member_2 22 rfl rfl)
theorem dX1_member_71 : decode cX1_member 71 = .ok (.iload 6, 2) := dk_21 6 (dk_at dksX1_member_3 0 rfl rfl)
theorem dX1_member_73 : decode cX1_member 73 = .ok (.iload 5, 2) := dk_21 5 (dk_at dksX1_member_3 2 rfl rfl)
theorem dX1_member_75 : decode cX1_member 75 = .ok (.if_icmp .ge 58, 3) := dk_162 0 58 (dk_at dksX1_member_3 4 rfl rfl)
theorem dX1_member_78 : decode cX1_member 78 = .ok (.aload 4, 2) := dk_25 4 (dk_at dksX1_member_3 7 rfl rfl)
theorem dX1_member_80 : decode cX1_member 80 = .ok (.iload 6, 2) := dk_21 6 (dk_at dksX1_member_3 9 rfl rfl)
theorem dX1_member_82 : decode cX1_member 82 = .ok (.aaload, 1) := dk_50 (dk_at dksX1_member_3 11 rfl rfl)
theorem dX1_member_83 : decode cX1_member 83 = .ok (.astore 7, 2) := dk_58 7 (dk_at dksX1_member_3 12 rfl rfl)
theorem dX1_member_85 : decode cX1_member 85 = .ok (.aload 7, 2) := dk_25 7 (dk_at dksX1_member_3 14 rfl rfl)
theorem dX1_member_87 : decode cX1_member 87 = .ok (.ifnull 40, 3) := dk_198 0 40 (dk_at dksX1_member_3 16 rfl rfl)
theorem dX1_member_90 : decode cX1_member 90 = .ok (.aload 7, 2) := dk_25 7 (dk_at dksX1_member_3 19 rfl rfl)
theorem dX1_member_92 : decode cX1_member 92 = .ok (.iconst 1, 1) := dk_4 (dk_at dksX1_member_3 21 rfl rfl)
theorem dX1_member_93 : decode cX1_member 93 = .ok (.iload_n 1, 1) := dk_27 (dk_at dksX1_member_3 22 rfl rfl)
theorem dX1_member_94 : decode cX1_member 94 = .ok (.ishl, 1) := dk_120 (dk_at dksX1_member_3 23 rfl rfl)
theorem dX1_member_95 : decode cX1_member 95 = .ok (.invokevirtual 188, 3) := dk_182 0 188 (dk_at dksX1_member_4 0 rfl rfl)
theorem dX1_member_98 : decode cX1_member 98 = .ok (.invokeinterface 31 1, 5) := by decide +kernel
theorem dX1_member_103 : decode cX1_member 103 = .ok (.istore 8, 2) := dk_54 8 (dk_at dksX1_member_4 8 rfl rfl)
theorem dX1_member_105 : decode cX1_member 105 = .ok (.iload_n 3, 1) := dk_29 (dk_at dksX1_member_4 10 rfl rfl)
theorem dX1_member_106 : decode cX1_member 106 = .ok (.iload_n 2, 1) := dk_28 (dk_at dksX1_member_4 11 rfl rfl)
theorem dX1_member_107 : decode cX1_member 107 = .ok (.iconst 2, 1) := dk_5 (dk_at dksX1_member_4 12 rfl rfl)
theorem dX1_member_108 : decode cX1_member 108 = .ok (.if_icmp .ne 8, 3) := dk_160 0 8 (dk_at dksX1_member_4 13 rfl rfl)
theorem dX1_member_111 : decode cX1_member 111 = .ok (.iload 8, 2) := dk_21 8 (dk_at dksX1_member_4 16 rfl rfl)
theorem dX1_member_113 : decode cX1_member 113 = .ok (.goto 12, 3) := dk_167 0 12 (dk_at dksX1_member_4 18 rfl rfl)
theorem dX1_member_116 : decode cX1_member 116 = .ok (.iload 8, 2) := dk_21 8 (dk_at dksX1_member_4 21 rfl rfl)
theorem dX1_member_118 : decode cX1_member 118 = .ok (.aload 7, 2) := dk_25 7 (dk_at dksX1_member_5 0 rfl rfl)
theorem dX1_member_120 : decode cX1_member 120 = .ok (.iload_n 1, 1) := dk_27 (dk_at dksX1_member_5 2 rfl rfl)
theorem dX1_member_121 : decode cX1_member 121 = .ok (.invokevirtual 194, 3) := dk_182 0 194 (dk_at dksX1_member_5 3 rfl rfl)
theorem dX1_member_124 : decode cX1_member 124 = .ok (.isub, 1) := dk_100 (dk_at dksX1_member_5 6 rfl rfl)
theorem dX1_member_125 : decode cX1_member 125 = .ok (.iadd, 1) := dk_96 (dk_at dksX1_member_5 7 rfl rfl)
theorem dX1_member_126 : decode cX1_member 126 = .ok (.istore_n 3, 1) := dk_62 (dk_at dksX1_member_5 8 rfl rfl)
theorem dX1_member_127 : decode cX1_member 127 = .ok (.iinc 6 1, 3) := dk_132 6 1 (dk_at dksX1_member_5 9 rfl rfl)
theorem dX1_member_130 : decode cX1_member 130 = .ok (.goto (-59), 3) := dk_167 255 197 (dk_at dksX1_member_5 12 rfl rfl)
theorem dX1_member_133 : decode cX1_member 133 = .ok (.iload_n 3, 1) := dk_29 (dk_at dksX1_member_5 15 rfl rfl)
theorem dX1_member_134 : decode cX1_member 134 = .ok (.ireturn, 1) := dk_172 (dk_at dksX1_member_5 16 rfl rfl)
abbrev cX1_ownerOf : ByteArray := prog_1_method_18_code
def yX1_ownerOf : MethodName := ⟨RX1, "ownerOf", "(I)I"⟩
def dkwX1_ownerOf_0 : List UInt8 := [26, 4, 100, 6, 108, 172]
abbrev dktX1_ownerOf_0 : List UInt8 := dkwX1_ownerOf_0 ++ []
theorem dksX1_ownerOf_0 : cX1_ownerOf.data.toList.drop 0 = dktX1_ownerOf_0 := by decide +kernel
theorem dX1_ownerOf_0 : decode cX1_ownerOf 0 = .ok (.iload_n 0, 1) := dk_26 (dk_at dksX1_ownerOf_0 0 rfl rfl)
theorem dX1_ownerOf_1 : decode cX1_ownerOf 1 = .ok (.iconst 1, 1) := dk_4 (dk_at dksX1_ownerOf_0 1 rfl rfl)
theorem dX1_ownerOf_2 : decode cX1_ownerOf 2 = .ok (.isub, 1) := dk_100 (dk_at dksX1_ownerOf_0 2 rfl rfl)
theorem dX1_ownerOf_3 : decode cX1_ownerOf 3 = .ok (.iconst 3, 1) := dk_6 (dk_at dksX1_ownerOf_0 3 rfl rfl)
theorem dX1_ownerOf_4 : decode cX1_ownerOf 4 = .ok (.idiv, 1) := dk_108 (dk_at dksX1_ownerOf_0 4 rfl rfl)
theorem dX1_ownerOf_5 : decode cX1_ownerOf 5 = .ok (.ireturn, 1) := dk_172 (dk_at dksX1_ownerOf_0 5 rfl rfl)
abbrev cX1_firstPlace : ByteArray := prog_1_method_17_code
def yX1_firstPlace : MethodName := ⟨RX1, "firstPlace", "(I)I"⟩
def dkwX1_firstPlace_0 : List UInt8 := [6, 26, 104, 4, 96, 172]
abbrev dktX1_firstPlace_0 : List UInt8 := dkwX1_firstPlace_0 ++ []
theorem dksX1_firstPlace_0 : cX1_firstPlace.data.toList.drop 0 = dktX1_firstPlace_0 := by decide +kernel
theorem dX1_firstPlace_0 : decode cX1_firstPlace 0 = .ok (.iconst 3, 1) := dk_6 (dk_at dksX1_firstPlace_0 0 rfl rfl)
theorem dX1_firstPlace_1 : decode cX1_firstPlace 1 = .ok (.iload_n 0, 1) := dk_26 (dk_at dksX1_firstPlace_0 1 rfl rfl)
theorem dX1_firstPlace_2 : decode cX1_firstPlace 2 = .ok (.imul, 1) := dk_104 (dk_at dksX1_firstPlace_0 2 rfl rfl)
theorem dX1_firstPlace_3 : decode cX1_firstPlace 3 = .ok (.iconst 1, 1) := dk_4 (dk_at dksX1_firstPlace_0 3 rfl rfl)
theorem dX1_firstPlace_4 : decode cX1_firstPlace 4 = .ok (.iadd, 1) := dk_96 (dk_at dksX1_firstPlace_0 4 rfl rfl)
theorem dX1_firstPlace_5 : decode cX1_firstPlace 5 = .ok (.ireturn, 1) := dk_172 (dk_at dksX1_firstPlace_0 5 rfl rfl)
abbrev cX1_power : ByteArray := prog_1_method_7_code
def yX1_power : MethodName := ⟨RX1, "power", "(III)I"⟩
def dkwX1_power_2 : List UInt8 := [108, 54, 5, 167, 255, 215, 29, 172]
abbrev dktX1_power_2 : List UInt8 := dkwX1_power_2 ++ []
def dkwX1_power_1 : List UInt8 := [21, 4, 28, 184, 0, 16, 167, 0, 4, 29, 62, 21, 4, 21, 4, 28, 184, 0, 16, 54, 4, 21, 5, 5]
abbrev dktX1_power_1 : List UInt8 := dkwX1_power_1 ++ dktX1_power_2
def dkwX1_power_0 : List UInt8 := [4, 62, 26, 28, 112, 54, 4, 27, 54, 5, 21, 5, 158, 0, 42, 21, 5, 5, 112, 4, 160, 0, 13, 29]
abbrev dktX1_power_0 : List UInt8 := dkwX1_power_0 ++ dktX1_power_1
theorem dksX1_power_0 : cX1_power.data.toList.drop 0 = dktX1_power_0 := by decide +kernel
theorem dksX1_power_1 : cX1_power.data.toList.drop 24 = dktX1_power_1 := dk_seg dksX1_power_0 24 rfl rfl
theorem dksX1_power_2 : cX1_power.data.toList.drop 48 = dktX1_power_2 := dk_seg dksX1_power_1 24 rfl rfl
theorem dX1_power_0 : decode cX1_power 0 = .ok (.iconst 1, 1) := dk_4 (dk_at dksX1_power_0 0 rfl rfl)
theorem dX1_power_1 : decode cX1_power 1 = .ok (.istore_n 3, 1) := dk_62 (dk_at dksX1_power_0 1 rfl rfl)
theorem dX1_power_2 : decode cX1_power 2 = .ok (.iload_n 0, 1) := dk_26 (dk_at dksX1_power_0 2 rfl rfl)
theorem dX1_power_3 : decode cX1_power 3 = .ok (.iload_n 2, 1) := dk_28 (dk_at dksX1_power_0 3 rfl rfl)
theorem dX1_power_4 : decode cX1_power 4 = .ok (.irem, 1) := dk_112 (dk_at dksX1_power_0 4 rfl rfl)
theorem dX1_power_5 : decode cX1_power 5 = .ok (.istore 4, 2) := dk_54 4 (dk_at dksX1_power_0 5 rfl rfl)
theorem dX1_power_7 : decode cX1_power 7 = .ok (.iload_n 1, 1) := dk_27 (dk_at dksX1_power_0 7 rfl rfl)
theorem dX1_power_8 : decode cX1_power 8 = .ok (.istore 5, 2) := dk_54 5 (dk_at dksX1_power_0 8 rfl rfl)
theorem dX1_power_10 : decode cX1_power 10 = .ok (.iload 5, 2) := dk_21 5 (dk_at dksX1_power_0 10 rfl rfl)
theorem dX1_power_12 : decode cX1_power 12 = .ok (.ifCond .le 42, 3) := dk_158 0 42 (dk_at dksX1_power_0 12 rfl rfl)
theorem dX1_power_15 : decode cX1_power 15 = .ok (.iload 5, 2) := dk_21 5 (dk_at dksX1_power_0 15 rfl rfl)
theorem dX1_power_17 : decode cX1_power 17 = .ok (.iconst 2, 1) := dk_5 (dk_at dksX1_power_0 17 rfl rfl)
theorem dX1_power_18 : decode cX1_power 18 = .ok (.irem, 1) := dk_112 (dk_at dksX1_power_0 18 rfl rfl)
theorem dX1_power_19 : decode cX1_power 19 = .ok (.iconst 1, 1) := dk_4 (dk_at dksX1_power_0 19 rfl rfl)
theorem dX1_power_20 : decode cX1_power 20 = .ok (.if_icmp .ne 13, 3) := dk_160 0 13 (dk_at dksX1_power_0 20 rfl rfl)
theorem dX1_power_23 : decode cX1_power 23 = .ok (.iload_n 3, 1) := dk_29 (dk_at dksX1_power_0 23 rfl rfl)
theorem dX1_power_24 : decode cX1_power 24 = .ok (.iload 4, 2) := dk_21 4 (dk_at dksX1_power_1 0 rfl rfl)
theorem dX1_power_26 : decode cX1_power 26 = .ok (.iload_n 2, 1) := dk_28 (dk_at dksX1_power_1 2 rfl rfl)
theorem dX1_power_27 : decode cX1_power 27 = .ok (.invokestatic 16, 3) := dk_184 0 16 (dk_at dksX1_power_1 3 rfl rfl)
theorem dX1_power_30 : decode cX1_power 30 = .ok (.goto 4, 3) := dk_167 0 4 (dk_at dksX1_power_1 6 rfl rfl)
theorem dX1_power_33 : decode cX1_power 33 = .ok (.iload_n 3, 1) := dk_29 (dk_at dksX1_power_1 9 rfl rfl)
theorem dX1_power_34 : decode cX1_power 34 = .ok (.istore_n 3, 1) := dk_62 (dk_at dksX1_power_1 10 rfl rfl)
theorem dX1_power_35 : decode cX1_power 35 = .ok (.iload 4, 2) := dk_21 4 (dk_at dksX1_power_1 11 rfl rfl)
theorem dX1_power_37 : decode cX1_power 37 = .ok (.iload 4, 2) := dk_21 4 (dk_at dksX1_power_1 13 rfl rfl)
theorem dX1_power_39 : decode cX1_power 39 = .ok (.iload_n 2, 1) := dk_28 (dk_at dksX1_power_1 15 rfl rfl)
theorem dX1_power_40 : decode cX1_power 40 = .ok (.invokestatic 16, 3) := dk_184 0 16 (dk_at dksX1_power_1 16 rfl rfl)
theorem dX1_power_43 : decode cX1_power 43 = .ok (.istore 4, 2) := dk_54 4 (dk_at dksX1_power_1 19 rfl rfl)
theorem dX1_power_45 : decode cX1_power 45 = .ok (.iload 5, 2) := dk_21 5 (dk_at dksX1_power_1 21 rfl rfl)
theorem dX1_power_47 : decode cX1_power 47 = .ok (.iconst 2, 1) := dk_5 (dk_at dksX1_power_1 23 rfl rfl)
theorem dX1_power_48 : decode cX1_power 48 = .ok (.idiv, 1) := dk_108 (dk_at dksX1_power_2 0 rfl rfl)
theorem dX1_power_49 : decode cX1_power 49 = .ok (.istore 5, 2) := dk_54 5 (dk_at dksX1_power_2 1 rfl rfl)
theorem dX1_power_51 : decode cX1_power 51 = .ok (.goto (-41), 3) := dk_167 255 215 (dk_at dksX1_power_2 3 rfl rfl)
theorem dX1_power_54 : decode cX1_power 54 = .ok (.iload_n 3, 1) := dk_29 (dk_at dksX1_power_2 6 rfl rfl)
theorem dX1_power_55 : decode cX1_power 55 = .ok (.ireturn, 1) := dk_172 (dk_at dksX1_power_2 7 rfl rfl)
abbrev cX1_times : ByteArray := prog_1_method_6_code
def yX1_times : MethodName := ⟨RX1, "times", "(III)I"⟩
def dkwX1_times_0 : List UInt8 := [26, 133, 27, 133, 105, 28, 133, 113, 136, 172]
abbrev dktX1_times_0 : List UInt8 := dkwX1_times_0 ++ []
theorem dksX1_times_0 : cX1_times.data.toList.drop 0 = dktX1_times_0 := by decide +kernel
theorem dX1_times_0 : decode cX1_times 0 = .ok (.iload_n 0, 1) := dk_26 (dk_at dksX1_times_0 0 rfl rfl)
theorem dX1_times_1 : decode cX1_times 1 = .ok (.i2l, 1) := dk_133 (dk_at dksX1_times_0 1 rfl rfl)
theorem dX1_times_2 : decode cX1_times 2 = .ok (.iload_n 1, 1) := dk_27 (dk_at dksX1_times_0 2 rfl rfl)
theorem dX1_times_3 : decode cX1_times 3 = .ok (.i2l, 1) := dk_133 (dk_at dksX1_times_0 3 rfl rfl)
theorem dX1_times_4 : decode cX1_times 4 = .ok (.lmul, 1) := dk_105 (dk_at dksX1_times_0 4 rfl rfl)
theorem dX1_times_5 : decode cX1_times 5 = .ok (.iload_n 2, 1) := dk_28 (dk_at dksX1_times_0 5 rfl rfl)
theorem dX1_times_6 : decode cX1_times 6 = .ok (.i2l, 1) := dk_133 (dk_at dksX1_times_0 6 rfl rfl)
theorem dX1_times_7 : decode cX1_times 7 = .ok (.lrem, 1) := dk_113 (dk_at dksX1_times_0 7 rfl rfl)
theorem dX1_times_8 : decode cX1_times 8 = .ok (.l2i, 1) := dk_136 (dk_at dksX1_times_0 8 rfl rfl)
theorem dX1_times_9 : decode cX1_times 9 = .ok (.ireturn, 1) := dk_172 (dk_at dksX1_times_0 9 rfl rfl)
abbrev cX1_put : ByteArray := prog_1_method_31_code
def yX1_put : MethodName := ⟨RX1, "put", "(III)I"⟩
def dkwX1_put_4 : List UInt8 := [182, 0, 209, 25, 4, 182, 0, 212, 172]
abbrev dktX1_put_4 : List UInt8 := dkwX1_put_4 ++ []
def dkwX1_put_3 : List UInt8 := [182, 0, 205, 42, 180, 0, 123, 180, 0, 150, 27, 25, 4, 83, 42, 180, 0, 123, 16, 100, 27, 96]
abbrev dktX1_put_3 : List UInt8 := dkwX1_put_3 ++ dktX1_put_4
def dkwX1_put_2 : List UInt8 := [167, 0, 4, 3, 184, 0, 201, 187, 0, 189, 89, 183, 0, 204, 58, 4, 42, 180, 0, 123, 25, 4, 28, 29]
abbrev dktX1_put_2 : List UInt8 := dkwX1_put_2 ++ dktX1_put_3
def dkwX1_put_1 : List UInt8 := [153, 0, 7, 4, 167, 0, 4, 3, 184, 0, 146, 42, 180, 0, 123, 182, 0, 198, 29, 161, 0, 7, 4]
abbrev dktX1_put_1 : List UInt8 := dkwX1_put_1 ++ dktX1_put_2
def dkwX1_put_0 : List UInt8 := [27, 7, 184, 0, 138, 28, 3, 17, 3, 250, 184, 0, 142, 153, 0, 17, 29, 4, 16, 8, 184, 0, 142]
abbrev dktX1_put_0 : List UInt8 := dkwX1_put_0 ++ dktX1_put_1
theorem dksX1_put_0 : cX1_put.data.toList.drop 0 = dktX1_put_0 := by decide +kernel
theorem dksX1_put_1 : cX1_put.data.toList.drop 23 = dktX1_put_1 := dk_seg dksX1_put_0 23 rfl rfl
theorem dksX1_put_2 : cX1_put.data.toList.drop 46 = dktX1_put_2 := dk_seg dksX1_put_1 23 rfl rfl
theorem dksX1_put_3 : cX1_put.data.toList.drop 70 = dktX1_put_3 := dk_seg dksX1_put_2 24 rfl rfl
theorem dksX1_put_4 : cX1_put.data.toList.drop 92 = dktX1_put_4 := dk_seg dksX1_put_3 22 rfl rfl
theorem dX1_put_0 : decode cX1_put 0 = .ok (.iload_n 1, 1) := dk_27 (dk_at dksX1_put_0 0 rfl rfl)
theorem dX1_put_1 : decode cX1_put 1 = .ok (.iconst 4, 1) := dk_7 (dk_at dksX1_put_0 1 rfl rfl)
theorem dX1_put_2 : decode cX1_put 2 = .ok (.invokestatic 138, 3) := dk_184 0 138 (dk_at dksX1_put_0 2 rfl rfl)
theorem dX1_put_5 : decode cX1_put 5 = .ok (.iload_n 2, 1) := dk_28 (dk_at dksX1_put_0 5 rfl rfl)
theorem dX1_put_6 : decode cX1_put 6 = .ok (.iconst 0, 1) := dk_3 (dk_at dksX1_put_0 6 rfl rfl)
theorem dX1_put_7 : decode cX1_put 7 = .ok (.sipush 1018, 3) := dk_17 3 250 (dk_at dksX1_put_0 7 rfl rfl)
theorem dX1_put_10 : decode cX1_put 10 = .ok (.invokestatic 142, 3) := dk_184 0 142 (dk_at dksX1_put_0 10 rfl rfl)
theorem dX1_put_13 : decode cX1_put 13 = .ok (.ifCond .eq 17, 3) := dk_153 0 17 (dk_at dksX1_put_0 13 rfl rfl)
theorem dX1_put_16 : decode cX1_put 16 = .ok (.iload_n 3, 1) := dk_29 (dk_at dksX1_put_0 16 rfl rfl)
theorem dX1_put_17 : decode cX1_put 17 = .ok (.iconst 1, 1) := dk_4 (dk_at dksX1_put_0 17 rfl rfl)
theorem dX1_put_18 : decode cX1_put 18 = .ok (.bipush 8, 2) := dk_16 8 (dk_at dksX1_put_0 18 rfl rfl)
theorem dX1_put_20 : decode cX1_put 20 = .ok (.invokestatic 142, 3) := dk_184 0 142 (dk_at dksX1_put_0 20 rfl rfl)
theorem dX1_put_23 : decode cX1_put 23 = .ok (.ifCond .eq 7, 3) := dk_153 0 7 (dk_at dksX1_put_1 0 rfl rfl)
theorem dX1_put_26 : decode cX1_put 26 = .ok (.iconst 1, 1) := dk_4 (dk_at dksX1_put_1 3 rfl rfl)
theorem dX1_put_27 : decode cX1_put 27 = .ok (.goto 4, 3) := dk_167 0 4 (dk_at dksX1_put_1 4 rfl rfl)
theorem dX1_put_30 : decode cX1_put 30 = .ok (.iconst 0, 1) := dk_3 (dk_at dksX1_put_1 7 rfl rfl)
theorem dX1_put_31 : decode cX1_put 31 = .ok (.invokestatic 146, 3) := dk_184 0 146 (dk_at dksX1_put_1 8 rfl rfl)
theorem dX1_put_34 : decode cX1_put 34 = .ok (.aload_n 0, 1) := dk_42 (dk_at dksX1_put_1 11 rfl rfl)
theorem dX1_put_35 : decode cX1_put 35 = .ok (.getfield 123, 3) := dk_180 0 123 (dk_at dksX1_put_1 12 rfl rfl)
theorem dX1_put_38 : decode cX1_put 38 = .ok (.invokevirtual 198, 3) := dk_182 0 198 (dk_at dksX1_put_1 15 rfl rfl)
theorem dX1_put_41 : decode cX1_put 41 = .ok (.iload_n 3, 1) := dk_29 (dk_at dksX1_put_1 18 rfl rfl)
theorem dX1_put_42 : decode cX1_put 42 = .ok (.if_icmp .lt 7, 3) := dk_161 0 7 (dk_at dksX1_put_1 19 rfl rfl)
theorem dX1_put_45 : decode cX1_put 45 = .ok (.iconst 1, 1) := dk_4 (dk_at dksX1_put_1 22 rfl rfl)
theorem dX1_put_46 : decode cX1_put 46 = .ok (.goto 4, 3) := dk_167 0 4 (dk_at dksX1_put_2 0 rfl rfl)
theorem dX1_put_49 : decode cX1_put 49 = .ok (.iconst 0, 1) := dk_3 (dk_at dksX1_put_2 3 rfl rfl)
theorem dX1_put_50 : decode cX1_put 50 = .ok (.invokestatic 201, 3) := dk_184 0 201 (dk_at dksX1_put_2 4 rfl rfl)
theorem dX1_put_53 : decode cX1_put 53 = .ok (.new 189, 3) := dk_187 0 189 (dk_at dksX1_put_2 7 rfl rfl)
theorem dX1_put_56 : decode cX1_put 56 = .ok (.dup, 1) := dk_89 (dk_at dksX1_put_2 10 rfl rfl)
theorem dX1_put_57 : decode cX1_put 57 = .ok (.invokespecial 204, 3) := dk_183 0 204 (dk_at dksX1_put_2 11 rfl rfl)
theorem dX1_put_60 : decode cX1_put 60 = .ok (.astore 4, 2) := dk_58 4 (dk_at dksX1_put_2 14 rfl rfl)
theorem dX1_put_62 : decode cX1_put 62 = .ok (.aload_n 0, 1) := dk_42 (dk_at dksX1_put_2 16 rfl rfl)
theorem dX1_put_63 : decode cX1_put 63 = .ok (.getfield 123, 3) := dk_180 0 123 (dk_at dksX1_put_2 17 rfl rfl)
theorem dX1_put_66 : decode cX1_put 66 = .ok (.aload 4, 2) := dk_25 4 (dk_at dksX1_put_2 20 rfl rfl)
theorem dX1_put_68 : decode cX1_put 68 = .ok (.iload_n 2, 1) := dk_28 (dk_at dksX1_put_2 22 rfl rfl)
theorem dX1_put_69 : decode cX1_put 69 = .ok (.iload_n 3, 1) := dk_29 (dk_at dksX1_put_2 23 rfl rfl)
theorem dX1_put_70 : decode cX1_put 70 = .ok (.invokevirtual 205, 3) := dk_182 0 205 (dk_at dksX1_put_3 0 rfl rfl)
theorem dX1_put_73 : decode cX1_put 73 = .ok (.aload_n 0, 1) := dk_42 (dk_at dksX1_put_3 3 rfl rfl)
theorem dX1_put_74 : decode cX1_put 74 = .ok (.getfield 123, 3) := dk_180 0 123 (dk_at dksX1_put_3 4 rfl rfl)
theorem dX1_put_77 : decode cX1_put 77 = .ok (.getfield 150, 3) := dk_180 0 150 (dk_at dksX1_put_3 7 rfl rfl)
theorem dX1_put_80 : decode cX1_put 80 = .ok (.iload_n 1, 1) := dk_27 (dk_at dksX1_put_3 10 rfl rfl)
theorem dX1_put_81 : decode cX1_put 81 = .ok (.aload 4, 2) := dk_25 4 (dk_at dksX1_put_3 11 rfl rfl)
theorem dX1_put_83 : decode cX1_put 83 = .ok (.aastore, 1) := dk_83 (dk_at dksX1_put_3 13 rfl rfl)
theorem dX1_put_84 : decode cX1_put 84 = .ok (.aload_n 0, 1) := dk_42 (dk_at dksX1_put_3 14 rfl rfl)
theorem dX1_put_85 : decode cX1_put 85 = .ok (.getfield 123, 3) := dk_180 0 123 (dk_at dksX1_put_3 15 rfl rfl)
theorem dX1_put_88 : decode cX1_put 88 = .ok (.bipush 100, 2) := dk_16 100 (dk_at dksX1_put_3 18 rfl rfl)
theorem dX1_put_90 : decode cX1_put 90 = .ok (.iload_n 1, 1) := dk_27 (dk_at dksX1_put_3 20 rfl rfl)
theorem dX1_put_91 : decode cX1_put 91 = .ok (.iadd, 1) := dk_96 (dk_at dksX1_put_3 21 rfl rfl)
theorem dX1_put_92 : decode cX1_put 92 = .ok (.invokevirtual 209, 3) := dk_182 0 209 (dk_at dksX1_put_4 0 rfl rfl)
theorem dX1_put_95 : decode cX1_put 95 = .ok (.aload 4, 2) := dk_25 4 (dk_at dksX1_put_4 3 rfl rfl)
theorem dX1_put_97 : decode cX1_put 97 = .ok (.invokevirtual 212, 3) := dk_182 0 212 (dk_at dksX1_put_4 5 rfl rfl)
theorem dX1_put_100 : decode cX1_put 100 = .ok (.ireturn, 1) := dk_172 (dk_at dksX1_put_4 8 rfl rfl)
abbrev cX1_requireState : ByteArray := prog_1_method_3_code
def yX1_requireState : MethodName := ⟨RX1, "requireState", "(Z)V"⟩
def dkwX1_requireState_0 : List UInt8 := [26, 154, 0, 11, 187, 0, 7, 89, 183, 0, 9, 191, 177]
abbrev dktX1_requireState_0 : List UInt8 := dkwX1_requireState_0 ++ []
theorem dksX1_requireState_0 : cX1_requireState.data.toList.drop 0 = dktX1_requireState_0 := by decide +kernel
theorem dX1_requireState_0 : decode cX1_requireState 0 = .ok (.iload_n 0, 1) := dk_26 (dk_at dksX1_requireState_0 0 rfl rfl)
theorem dX1_requireState_1 : decode cX1_requireState 1 = .ok (.ifCond .ne 11, 3) := dk_154 0 11 (dk_at dksX1_requireState_0 1 rfl rfl)
theorem dX1_requireState_4 : decode cX1_requireState 4 = .ok (.new 7, 3) := dk_187 0 7 (dk_at dksX1_requireState_0 4 rfl rfl)
theorem dX1_requireState_7 : decode cX1_requireState 7 = .ok (.dup, 1) := dk_89 (dk_at dksX1_requireState_0 7 rfl rfl)
theorem dX1_requireState_8 : decode cX1_requireState 8 = .ok (.invokespecial 9, 3) := dk_183 0 9 (dk_at dksX1_requireState_0 8 rfl rfl)
theorem dX1_requireState_11 : decode cX1_requireState 11 = .ok (.athrow, 1) := dk_191 (dk_at dksX1_requireState_0 11 rfl rfl)
theorem dX1_requireState_12 : decode cX1_requireState 12 = .ok (.return_, 1) := dk_177 (dk_at dksX1_requireState_0 12 rfl rfl)
abbrev cX1_valueAt : ByteArray := prog_1_method_10_code
def yX1_valueAt : MethodName := ⟨RX1, "valueAt", "([II)I"⟩
def dkwX1_valueAt_1 : List UInt8 := [17, 3, 251, 112, 61, 132, 3, 255, 167, 255, 232, 28, 172]
abbrev dktX1_valueAt_1 : List UInt8 := dkwX1_valueAt_1 ++ []
def dkwX1_valueAt_0 : List UInt8 := [3, 61, 42, 190, 4, 100, 62, 29, 155, 0, 26, 28, 27, 17, 3, 251, 184, 0, 16, 42, 29, 46, 96]
abbrev dktX1_valueAt_0 : List UInt8 := dkwX1_valueAt_0 ++ dktX1_valueAt_1
theorem dksX1_valueAt_0 : cX1_valueAt.data.toList.drop 0 = dktX1_valueAt_0 := by decide +kernel
theorem dksX1_valueAt_1 : cX1_valueAt.data.toList.drop 23 = dktX1_valueAt_1 := dk_seg dksX1_valueAt_0 23 rfl rfl
theorem dX1_valueAt_0 : decode cX1_valueAt 0 = .ok (.iconst 0, 1) := dk_3 (dk_at dksX1_valueAt_0 0 rfl rfl)
theorem dX1_valueAt_1 : decode cX1_valueAt 1 = .ok (.istore_n 2, 1) := dk_61 (dk_at dksX1_valueAt_0 1 rfl rfl)
theorem dX1_valueAt_2 : decode cX1_valueAt 2 = .ok (.aload_n 0, 1) := dk_42 (dk_at dksX1_valueAt_0 2 rfl rfl)
theorem dX1_valueAt_3 : decode cX1_valueAt 3 = .ok (.arraylength, 1) := dk_190 (dk_at dksX1_valueAt_0 3 rfl rfl)
theorem dX1_valueAt_4 : decode cX1_valueAt 4 = .ok (.iconst 1, 1) := dk_4 (dk_at dksX1_valueAt_0 4 rfl rfl)
theorem dX1_valueAt_5 : decode cX1_valueAt 5 = .ok (.isub, 1) := dk_100 (dk_at dksX1_valueAt_0 5 rfl rfl)
theorem dX1_valueAt_6 : decode cX1_valueAt 6 = .ok (.istore_n 3, 1) := dk_62 (dk_at dksX1_valueAt_0 6 rfl rfl)
theorem dX1_valueAt_7 : decode cX1_valueAt 7 = .ok (.iload_n 3, 1) := dk_29 (dk_at dksX1_valueAt_0 7 rfl rfl)
theorem dX1_valueAt_8 : decode cX1_valueAt 8 = .ok (.ifCond .lt 26, 3) := dk_155 0 26 (dk_at dksX1_valueAt_0 8 rfl rfl)
theorem dX1_valueAt_11 : decode cX1_valueAt 11 = .ok (.iload_n 2, 1) := dk_28 (dk_at dksX1_valueAt_0 11 rfl rfl)
theorem dX1_valueAt_12 : decode cX1_valueAt 12 = .ok (.iload_n 1, 1) := dk_27 (dk_at dksX1_valueAt_0 12 rfl rfl)
theorem dX1_valueAt_13 : decode cX1_valueAt 13 = .ok (.sipush 1019, 3) := dk_17 3 251 (dk_at dksX1_valueAt_0 13 rfl rfl)
theorem dX1_valueAt_16 : decode cX1_valueAt 16 = .ok (.invokestatic 16, 3) := dk_184 0 16 (dk_at dksX1_valueAt_0 16 rfl rfl)
theorem dX1_valueAt_19 : decode cX1_valueAt 19 = .ok (.aload_n 0, 1) := dk_42 (dk_at dksX1_valueAt_0 19 rfl rfl)
theorem dX1_valueAt_20 : decode cX1_valueAt 20 = .ok (.iload_n 3, 1) := dk_29 (dk_at dksX1_valueAt_0 20 rfl rfl)
theorem dX1_valueAt_21 : decode cX1_valueAt 21 = .ok (.iaload, 1) := dk_46 (dk_at dksX1_valueAt_0 21 rfl rfl)
theorem dX1_valueAt_22 : decode cX1_valueAt 22 = .ok (.iadd, 1) := dk_96 (dk_at dksX1_valueAt_0 22 rfl rfl)
theorem dX1_valueAt_23 : decode cX1_valueAt 23 = .ok (.sipush 1019, 3) := dk_17 3 251 (dk_at dksX1_valueAt_1 0 rfl rfl)
theorem dX1_valueAt_26 : decode cX1_valueAt 26 = .ok (.irem, 1) := dk_112 (dk_at dksX1_valueAt_1 3 rfl rfl)
theorem dX1_valueAt_27 : decode cX1_valueAt 27 = .ok (.istore_n 2, 1) := dk_61 (dk_at dksX1_valueAt_1 4 rfl rfl)
theorem dX1_valueAt_28 : decode cX1_valueAt 28 = .ok (.iinc 3 (-1), 3) := dk_132 3 255 (dk_at dksX1_valueAt_1 5 rfl rfl)
theorem dX1_valueAt_31 : decode cX1_valueAt 31 = .ok (.goto (-24), 3) := dk_167 255 232 (dk_at dksX1_valueAt_1 8 rfl rfl)
theorem dX1_valueAt_34 : decode cX1_valueAt 34 = .ok (.iload_n 2, 1) := dk_28 (dk_at dksX1_valueAt_1 11 rfl rfl)
theorem dX1_valueAt_35 : decode cX1_valueAt 35 = .ok (.ireturn, 1) := dk_172 (dk_at dksX1_valueAt_1 12 rfl rfl)
abbrev cX1_remove : ByteArray := prog_1_method_32_code
def yX1_remove : MethodName := ⟨RX1, "remove", "(I)I"⟩
def dkwX1_remove_1 : List UInt8 := [42, 180, 0, 123, 17, 0, 200, 27, 96, 182, 0, 209, 28, 172]
abbrev dktX1_remove_1 : List UInt8 := dkwX1_remove_1 ++ []
def dkwX1_remove_0 : List UInt8 := [27, 7, 184, 0, 138, 42, 27, 182, 0, 214, 180, 0, 218, 61, 42, 180, 0, 123, 180, 0, 150, 27, 1, 83]
abbrev dktX1_remove_0 : List UInt8 := dkwX1_remove_0 ++ dktX1_remove_1
theorem dksX1_remove_0 : cX1_remove.data.toList.drop 0 = dktX1_remove_0 := by decide +kernel
theorem dksX1_remove_1 : cX1_remove.data.toList.drop 24 = dktX1_remove_1 := dk_seg dksX1_remove_0 24 rfl rfl
theorem dX1_remove_0 : decode cX1_remove 0 = .ok (.iload_n 1, 1) := dk_27 (dk_at dksX1_remove_0 0 rfl rfl)
theorem dX1_remove_1 : decode cX1_remove 1 = .ok (.iconst 4, 1) := dk_7 (dk_at dksX1_remove_0 1 rfl rfl)
theorem dX1_remove_2 : decode cX1_remove 2 = .ok (.invokestatic 138, 3) := dk_184 0 138 (dk_at dksX1_remove_0 2 rfl rfl)
theorem dX1_remove_5 : decode cX1_remove 5 = .ok (.aload_n 0, 1) := dk_42 (dk_at dksX1_remove_0 5 rfl rfl)
theorem dX1_remove_6 : decode cX1_remove 6 = .ok (.iload_n 1, 1) := dk_27 (dk_at dksX1_remove_0 6 rfl rfl)
theorem dX1_remove_7 : decode cX1_remove 7 = .ok (.invokevirtual 214, 3) := dk_182 0 214 (dk_at dksX1_remove_0 7 rfl rfl)
theorem dX1_remove_10 : decode cX1_remove 10 = .ok (.getfield 218, 3) := dk_180 0 218 (dk_at dksX1_remove_0 10 rfl rfl)
theorem dX1_remove_13 : decode cX1_remove 13 = .ok (.istore_n 2, 1) := dk_61 (dk_at dksX1_remove_0 13 rfl rfl)
theorem dX1_remove_14 : decode cX1_remove 14 = .ok (.aload_n 0, 1) := dk_42 (dk_at dksX1_remove_0 14 rfl rfl)
theorem dX1_remove_15 : decode cX1_remove 15 = .ok (.getfield 123, 3) := dk_180 0 123 (dk_at dksX1_remove_0 15 rfl rfl)
theorem dX1_remove_18 : decode cX1_remove 18 = .ok (.getfield 150, 3) := dk_180 0 150 (dk_at dksX1_remove_0 18 rfl rfl)
theorem dX1_remove_21 : decode cX1_remove 21 = .ok (.iload_n 1, 1) := dk_27 (dk_at dksX1_remove_0 21 rfl rfl)
theorem dX1_remove_22 : decode cX1_remove 22 = .ok (.aconst_null, 1) := dk_1 (dk_at dksX1_remove_0 22 rfl rfl)
theorem dX1_remove_23 : decode cX1_remove 23 = .ok (.aastore, 1) := dk_83 (dk_at dksX1_remove_0 23 rfl rfl)
theorem dX1_remove_24 : decode cX1_remove 24 = .ok (.aload_n 0, 1) := dk_42 (dk_at dksX1_remove_1 0 rfl rfl)
theorem dX1_remove_25 : decode cX1_remove 25 = .ok (.getfield 123, 3) := dk_180 0 123 (dk_at dksX1_remove_1 1 rfl rfl)
theorem dX1_remove_28 : decode cX1_remove 28 = .ok (.sipush 200, 3) := dk_17 0 200 (dk_at dksX1_remove_1 4 rfl rfl)
theorem dX1_remove_31 : decode cX1_remove 31 = .ok (.iload_n 1, 1) := dk_27 (dk_at dksX1_remove_1 7 rfl rfl)
theorem dX1_remove_32 : decode cX1_remove 32 = .ok (.iadd, 1) := dk_96 (dk_at dksX1_remove_1 8 rfl rfl)
theorem dX1_remove_33 : decode cX1_remove 33 = .ok (.invokevirtual 209, 3) := dk_182 0 209 (dk_at dksX1_remove_1 9 rfl rfl)
theorem dX1_remove_36 : decode cX1_remove 36 = .ok (.iload_n 2, 1) := dk_28 (dk_at dksX1_remove_1 12 rfl rfl)
theorem dX1_remove_37 : decode cX1_remove 37 = .ok (.ireturn, 1) := dk_172 (dk_at dksX1_remove_1 13 rfl rfl)
abbrev cX1_secretIn : ByteArray := prog_1_method_23_code
def yX1_secretIn : MethodName := ⟨RX1, "secretIn", "(I)LSecretVault$Secret;"⟩
def dkwX1_secretIn_1 : List UInt8 := [180, 0, 150, 27, 50, 176]
abbrev dktX1_secretIn_1 : List UInt8 := dkwX1_secretIn_1 ++ []
def dkwX1_secretIn_0 : List UInt8 := [42, 180, 0, 123, 180, 0, 150, 27, 50, 198, 0, 7, 4, 167, 0, 4, 3, 184, 0, 154, 42, 180, 0, 123]
abbrev dktX1_secretIn_0 : List UInt8 := dkwX1_secretIn_0 ++ dktX1_secretIn_1
theorem dksX1_secretIn_0 : cX1_secretIn.data.toList.drop 0 = dktX1_secretIn_0 := by decide +kernel
theorem dksX1_secretIn_1 : cX1_secretIn.data.toList.drop 24 = dktX1_secretIn_1 := dk_seg dksX1_secretIn_0 24 rfl rfl
theorem dX1_secretIn_0 : decode cX1_secretIn 0 = .ok (.aload_n 0, 1) := dk_42 (dk_at dksX1_secretIn_0 0 rfl rfl)
theorem dX1_secretIn_1 : decode cX1_secretIn 1 = .ok (.getfield 123, 3) := dk_180 0 123 (dk_at dksX1_secretIn_0 1 rfl rfl)
theorem dX1_secretIn_4 : decode cX1_secretIn 4 = .ok (.getfield 150, 3) := dk_180 0 150 (dk_at dksX1_secretIn_0 4 rfl rfl)
theorem dX1_secretIn_7 : decode cX1_secretIn 7 = .ok (.iload_n 1, 1) := dk_27 (dk_at dksX1_secretIn_0 7 rfl rfl)
theorem dX1_secretIn_8 : decode cX1_secretIn 8 = .ok (.aaload, 1) := dk_50 (dk_at dksX1_secretIn_0 8 rfl rfl)
theorem dX1_secretIn_9 : decode cX1_secretIn 9 = .ok (.ifnull 7, 3) := dk_198 0 7 (dk_at dksX1_secretIn_0 9 rfl rfl)
theorem dX1_secretIn_12 : decode cX1_secretIn 12 = .ok (.iconst 1, 1) := dk_4 (dk_at dksX1_secretIn_0 12 rfl rfl)
theorem dX1_secretIn_13 : decode cX1_secretIn 13 = .ok (.goto 4, 3) := dk_167 0 4 (dk_at dksX1_secretIn_0 13 rfl rfl)
theorem dX1_secretIn_16 : decode cX1_secretIn 16 = .ok (.iconst 0, 1) := dk_3 (dk_at dksX1_secretIn_0 16 rfl rfl)
theorem dX1_secretIn_17 : decode cX1_secretIn 17 = .ok (.invokestatic 154, 3) := dk_184 0 154 (dk_at dksX1_secretIn_0 17 rfl rfl)
theorem dX1_secretIn_20 : decode cX1_secretIn 20 = .ok (.aload_n 0, 1) := dk_42 (dk_at dksX1_secretIn_0 20 rfl rfl)
theorem dX1_secretIn_21 : decode cX1_secretIn 21 = .ok (.getfield 123, 3) := dk_180 0 123 (dk_at dksX1_secretIn_0 21 rfl rfl)
theorem dX1_secretIn_24 : decode cX1_secretIn 24 = .ok (.getfield 150, 3) := dk_180 0 150 (dk_at dksX1_secretIn_1 0 rfl rfl)
theorem dX1_secretIn_27 : decode cX1_secretIn 27 = .ok (.iload_n 1, 1) := dk_27 (dk_at dksX1_secretIn_1 3 rfl rfl)
theorem dX1_secretIn_28 : decode cX1_secretIn 28 = .ok (.aaload, 1) := dk_50 (dk_at dksX1_secretIn_1 4 rfl rfl)
theorem dX1_secretIn_29 : decode cX1_secretIn 29 = .ok (.areturn, 1) := dk_176 (dk_at dksX1_secretIn_1 5 rfl rfl)
abbrev cX1_requireElement : ByteArray := prog_1_method_5_code
def yX1_requireElement : MethodName := ⟨RX1, "requireElement", "(Z)V"⟩
def dkwX1_requireElement_0 : List UInt8 := [26, 154, 0, 11, 187, 0, 13, 89, 183, 0, 15, 191, 177]
abbrev dktX1_requireElement_0 : List UInt8 := dkwX1_requireElement_0 ++ []
theorem dksX1_requireElement_0 : cX1_requireElement.data.toList.drop 0 = dktX1_requireElement_0 := by decide +kernel
theorem dX1_requireElement_0 : decode cX1_requireElement 0 = .ok (.iload_n 0, 1) := dk_26 (dk_at dksX1_requireElement_0 0 rfl rfl)
theorem dX1_requireElement_1 : decode cX1_requireElement 1 = .ok (.ifCond .ne 11, 3) := dk_154 0 11 (dk_at dksX1_requireElement_0 1 rfl rfl)
theorem dX1_requireElement_4 : decode cX1_requireElement 4 = .ok (.new 13, 3) := dk_187 0 13 (dk_at dksX1_requireElement_0 4 rfl rfl)
theorem dX1_requireElement_7 : decode cX1_requireElement 7 = .ok (.dup, 1) := dk_89 (dk_at dksX1_requireElement_0 7 rfl rfl)
theorem dX1_requireElement_8 : decode cX1_requireElement 8 = .ok (.invokespecial 15, 3) := dk_183 0 15 (dk_at dksX1_requireElement_0 8 rfl rfl)
theorem dX1_requireElement_11 : decode cX1_requireElement 11 = .ok (.athrow, 1) := dk_191 (dk_at dksX1_requireElement_0 11 rfl rfl)
theorem dX1_requireElement_12 : decode cX1_requireElement 12 = .ok (.return_, 1) := dk_177 (dk_at dksX1_requireElement_0 12 rfl rfl)
abbrev cX1_refresh : ByteArray := prog_1_method_33_code
def yX1_refresh : MethodName := ⟨RX1, "refresh", "(I)I"⟩
def dkwX1_refresh_1 : List UInt8 := [17, 1, 44, 27, 96, 182, 0, 209, 28, 172]
abbrev dktX1_refresh_1 : List UInt8 := dkwX1_refresh_1 ++ []
def dkwX1_refresh_0 : List UInt8 := [27, 7, 184, 0, 138, 42, 180, 0, 123, 42, 27, 182, 0, 214, 182, 0, 221, 61, 42, 180, 0, 123]
abbrev dktX1_refresh_0 : List UInt8 := dkwX1_refresh_0 ++ dktX1_refresh_1
theorem dksX1_refresh_0 : cX1_refresh.data.toList.drop 0 = dktX1_refresh_0 := by decide +kernel
theorem dksX1_refresh_1 : cX1_refresh.data.toList.drop 22 = dktX1_refresh_1 := dk_seg dksX1_refresh_0 22 rfl rfl
theorem dX1_refresh_0 : decode cX1_refresh 0 = .ok (.iload_n 1, 1) := dk_27 (dk_at dksX1_refresh_0 0 rfl rfl)
theorem dX1_refresh_1 : decode cX1_refresh 1 = .ok (.iconst 4, 1) := dk_7 (dk_at dksX1_refresh_0 1 rfl rfl)
theorem dX1_refresh_2 : decode cX1_refresh 2 = .ok (.invokestatic 138, 3) := dk_184 0 138 (dk_at dksX1_refresh_0 2 rfl rfl)
theorem dX1_refresh_5 : decode cX1_refresh 5 = .ok (.aload_n 0, 1) := dk_42 (dk_at dksX1_refresh_0 5 rfl rfl)
theorem dX1_refresh_6 : decode cX1_refresh 6 = .ok (.getfield 123, 3) := dk_180 0 123 (dk_at dksX1_refresh_0 6 rfl rfl)
theorem dX1_refresh_9 : decode cX1_refresh 9 = .ok (.aload_n 0, 1) := dk_42 (dk_at dksX1_refresh_0 9 rfl rfl)
theorem dX1_refresh_10 : decode cX1_refresh 10 = .ok (.iload_n 1, 1) := dk_27 (dk_at dksX1_refresh_0 10 rfl rfl)
theorem dX1_refresh_11 : decode cX1_refresh 11 = .ok (.invokevirtual 214, 3) := dk_182 0 214 (dk_at dksX1_refresh_0 11 rfl rfl)
theorem dX1_refresh_14 : decode cX1_refresh 14 = .ok (.invokevirtual 221, 3) := dk_182 0 221 (dk_at dksX1_refresh_0 14 rfl rfl)
theorem dX1_refresh_17 : decode cX1_refresh 17 = .ok (.istore_n 2, 1) := dk_61 (dk_at dksX1_refresh_0 17 rfl rfl)
theorem dX1_refresh_18 : decode cX1_refresh 18 = .ok (.aload_n 0, 1) := dk_42 (dk_at dksX1_refresh_0 18 rfl rfl)
theorem dX1_refresh_19 : decode cX1_refresh 19 = .ok (.getfield 123, 3) := dk_180 0 123 (dk_at dksX1_refresh_0 19 rfl rfl)
theorem dX1_refresh_22 : decode cX1_refresh 22 = .ok (.sipush 300, 3) := dk_17 1 44 (dk_at dksX1_refresh_1 0 rfl rfl)
theorem dX1_refresh_25 : decode cX1_refresh 25 = .ok (.iload_n 1, 1) := dk_27 (dk_at dksX1_refresh_1 3 rfl rfl)
theorem dX1_refresh_26 : decode cX1_refresh 26 = .ok (.iadd, 1) := dk_96 (dk_at dksX1_refresh_1 4 rfl rfl)
theorem dX1_refresh_27 : decode cX1_refresh 27 = .ok (.invokevirtual 209, 3) := dk_182 0 209 (dk_at dksX1_refresh_1 5 rfl rfl)
theorem dX1_refresh_30 : decode cX1_refresh 30 = .ok (.iload_n 2, 1) := dk_28 (dk_at dksX1_refresh_1 8 rfl rfl)
theorem dX1_refresh_31 : decode cX1_refresh 31 = .ok (.ireturn, 1) := dk_172 (dk_at dksX1_refresh_1 9 rfl rfl)
abbrev cX1_reshare : ByteArray := prog_1_method_35_code
def yX1_reshare : MethodName := ⟨RX1, "reshare", "(III)I"⟩
def dkwX1_reshare_3 : List UInt8 := [180, 0, 123, 17, 1, 144, 27, 96, 182, 0, 209, 25, 4, 182, 0, 212, 172]
abbrev dktX1_reshare_3 : List UInt8 := dkwX1_reshare_3 ++ []
def dkwX1_reshare_2 : List UInt8 := [161, 0, 7, 4, 167, 0, 4, 3, 184, 0, 201, 42, 180, 0, 123, 25, 4, 21, 5, 29, 182, 0, 205, 42]
abbrev dktX1_reshare_2 : List UInt8 := dkwX1_reshare_2 ++ dktX1_reshare_3
def dkwX1_reshare_1 : List UInt8 := [58, 4, 25, 4, 42, 27, 28, 182, 0, 240, 3, 182, 0, 243, 54, 5, 42, 180, 0, 123, 182, 0, 198, 29]
abbrev dktX1_reshare_1 : List UInt8 := dkwX1_reshare_1 ++ dktX1_reshare_2
def dkwX1_reshare_0 : List UInt8 := [27, 7, 184, 0, 138, 28, 184, 0, 237, 29, 4, 16, 8, 184, 0, 142, 184, 0, 146, 42, 27, 182, 0, 214]
abbrev dktX1_reshare_0 : List UInt8 := dkwX1_reshare_0 ++ dktX1_reshare_1
theorem dksX1_reshare_0 : cX1_reshare.data.toList.drop 0 = dktX1_reshare_0 := by decide +kernel
theorem dksX1_reshare_1 : cX1_reshare.data.toList.drop 24 = dktX1_reshare_1 := dk_seg dksX1_reshare_0 24 rfl rfl
theorem dksX1_reshare_2 : cX1_reshare.data.toList.drop 48 = dktX1_reshare_2 := dk_seg dksX1_reshare_1 24 rfl rfl
theorem dksX1_reshare_3 : cX1_reshare.data.toList.drop 72 = dktX1_reshare_3 := dk_seg dksX1_reshare_2 24 rfl rfl
theorem dX1_reshare_0 : decode cX1_reshare 0 = .ok (.iload_n 1, 1) := dk_27 (dk_at dksX1_reshare_0 0 rfl rfl)
theorem dX1_reshare_1 : decode cX1_reshare 1 = .ok (.iconst 4, 1) := dk_7 (dk_at dksX1_reshare_0 1 rfl rfl)
theorem dX1_reshare_2 : decode cX1_reshare 2 = .ok (.invokestatic 138, 3) := dk_184 0 138 (dk_at dksX1_reshare_0 2 rfl rfl)
theorem dX1_reshare_5 : decode cX1_reshare 5 = .ok (.iload_n 2, 1) := dk_28 (dk_at dksX1_reshare_0 5 rfl rfl)
theorem dX1_reshare_6 : decode cX1_reshare 6 = .ok (.invokestatic 237, 3) := dk_184 0 237 (dk_at dksX1_reshare_0 6 rfl rfl)
theorem dX1_reshare_9 : decode cX1_reshare 9 = .ok (.iload_n 3, 1) := dk_29 (dk_at dksX1_reshare_0 9 rfl rfl)
theorem dX1_reshare_10 : decode cX1_reshare 10 = .ok (.iconst 1, 1) := dk_4 (dk_at dksX1_reshare_0 10 rfl rfl)
theorem dX1_reshare_11 : decode cX1_reshare 11 = .ok (.bipush 8, 2) := dk_16 8 (dk_at dksX1_reshare_0 11 rfl rfl)
theorem dX1_reshare_13 : decode cX1_reshare 13 = .ok (.invokestatic 142, 3) := dk_184 0 142 (dk_at dksX1_reshare_0 13 rfl rfl)
theorem dX1_reshare_16 : decode cX1_reshare 16 = .ok (.invokestatic 146, 3) := dk_184 0 146 (dk_at dksX1_reshare_0 16 rfl rfl)
theorem dX1_reshare_19 : decode cX1_reshare 19 = .ok (.aload_n 0, 1) := dk_42 (dk_at dksX1_reshare_0 19 rfl rfl)
theorem dX1_reshare_20 : decode cX1_reshare 20 = .ok (.iload_n 1, 1) := dk_27 (dk_at dksX1_reshare_0 20 rfl rfl)
theorem dX1_reshare_21 : decode cX1_reshare 21 = .ok (.invokevirtual 214, 3) := dk_182 0 214 (dk_at dksX1_reshare_0 21 rfl rfl)
theorem dX1_reshare_24 : decode cX1_reshare 24 = .ok (.astore 4, 2) := dk_58 4 (dk_at dksX1_reshare_1 0 rfl rfl)
theorem dX1_reshare_26 : decode cX1_reshare 26 = .ok (.aload 4, 2) := dk_25 4 (dk_at dksX1_reshare_1 2 rfl rfl)
theorem dX1_reshare_28 : decode cX1_reshare 28 = .ok (.aload_n 0, 1) := dk_42 (dk_at dksX1_reshare_1 4 rfl rfl)
theorem dX1_reshare_29 : decode cX1_reshare 29 = .ok (.iload_n 1, 1) := dk_27 (dk_at dksX1_reshare_1 5 rfl rfl)
theorem dX1_reshare_30 : decode cX1_reshare 30 = .ok (.iload_n 2, 1) := dk_28 (dk_at dksX1_reshare_1 6 rfl rfl)
theorem dX1_reshare_31 : decode cX1_reshare 31 = .ok (.invokevirtual 240, 3) := dk_182 0 240 (dk_at dksX1_reshare_1 7 rfl rfl)
theorem dX1_reshare_34 : decode cX1_reshare 34 = .ok (.iconst 0, 1) := dk_3 (dk_at dksX1_reshare_1 10 rfl rfl)
theorem dX1_reshare_35 : decode cX1_reshare 35 = .ok (.invokevirtual 243, 3) := dk_182 0 243 (dk_at dksX1_reshare_1 11 rfl rfl)
theorem dX1_reshare_38 : decode cX1_reshare 38 = .ok (.istore 5, 2) := dk_54 5 (dk_at dksX1_reshare_1 14 rfl rfl)
theorem dX1_reshare_40 : decode cX1_reshare 40 = .ok (.aload_n 0, 1) := dk_42 (dk_at dksX1_reshare_1 16 rfl rfl)
theorem dX1_reshare_41 : decode cX1_reshare 41 = .ok (.getfield 123, 3) := dk_180 0 123 (dk_at dksX1_reshare_1 17 rfl rfl)
theorem dX1_reshare_44 : decode cX1_reshare 44 = .ok (.invokevirtual 198, 3) := dk_182 0 198 (dk_at dksX1_reshare_1 20 rfl rfl)
theorem dX1_reshare_47 : decode cX1_reshare 47 = .ok (.iload_n 3, 1) := dk_29 (dk_at dksX1_reshare_1 23 rfl rfl)
theorem dX1_reshare_48 : decode cX1_reshare 48 = .ok (.if_icmp .lt 7, 3) := dk_161 0 7 (dk_at dksX1_reshare_2 0 rfl rfl)
theorem dX1_reshare_51 : decode cX1_reshare 51 = .ok (.iconst 1, 1) := dk_4 (dk_at dksX1_reshare_2 3 rfl rfl)
theorem dX1_reshare_52 : decode cX1_reshare 52 = .ok (.goto 4, 3) := dk_167 0 4 (dk_at dksX1_reshare_2 4 rfl rfl)
theorem dX1_reshare_55 : decode cX1_reshare 55 = .ok (.iconst 0, 1) := dk_3 (dk_at dksX1_reshare_2 7 rfl rfl)
theorem dX1_reshare_56 : decode cX1_reshare 56 = .ok (.invokestatic 201, 3) := dk_184 0 201 (dk_at dksX1_reshare_2 8 rfl rfl)
theorem dX1_reshare_59 : decode cX1_reshare 59 = .ok (.aload_n 0, 1) := dk_42 (dk_at dksX1_reshare_2 11 rfl rfl)
theorem dX1_reshare_60 : decode cX1_reshare 60 = .ok (.getfield 123, 3) := dk_180 0 123 (dk_at dksX1_reshare_2 12 rfl rfl)
theorem dX1_reshare_63 : decode cX1_reshare 63 = .ok (.aload 4, 2) := dk_25 4 (dk_at dksX1_reshare_2 15 rfl rfl)
theorem dX1_reshare_65 : decode cX1_reshare 65 = .ok (.iload 5, 2) := dk_21 5 (dk_at dksX1_reshare_2 17 rfl rfl)
theorem dX1_reshare_67 : decode cX1_reshare 67 = .ok (.iload_n 3, 1) := dk_29 (dk_at dksX1_reshare_2 19 rfl rfl)
theorem dX1_reshare_68 : decode cX1_reshare 68 = .ok (.invokevirtual 205, 3) := dk_182 0 205 (dk_at dksX1_reshare_2 20 rfl rfl)
theorem dX1_reshare_71 : decode cX1_reshare 71 = .ok (.aload_n 0, 1) := dk_42 (dk_at dksX1_reshare_2 23 rfl rfl)
theorem dX1_reshare_72 : decode cX1_reshare 72 = .ok (.getfield 123, 3) := dk_180 0 123 (dk_at dksX1_reshare_3 0 rfl rfl)
theorem dX1_reshare_75 : decode cX1_reshare 75 = .ok (.sipush 400, 3) := dk_17 1 144 (dk_at dksX1_reshare_3 3 rfl rfl)
theorem dX1_reshare_78 : decode cX1_reshare 78 = .ok (.iload_n 1, 1) := dk_27 (dk_at dksX1_reshare_3 6 rfl rfl)
theorem dX1_reshare_79 : decode cX1_reshare 79 = .ok (.iadd, 1) := dk_96 (dk_at dksX1_reshare_3 7 rfl rfl)
theorem dX1_reshare_80 : decode cX1_reshare 80 = .ok (.invokevirtual 209, 3) := dk_182 0 209 (dk_at dksX1_reshare_3 8 rfl rfl)
theorem dX1_reshare_83 : decode cX1_reshare 83 = .ok (.aload 4, 2) := dk_25 4 (dk_at dksX1_reshare_3 11 rfl rfl)
theorem dX1_reshare_85 : decode cX1_reshare 85 = .ok (.invokevirtual 212, 3) := dk_182 0 212 (dk_at dksX1_reshare_3 13 rfl rfl)
theorem dX1_reshare_88 : decode cX1_reshare 88 = .ok (.ireturn, 1) := dk_172 (dk_at dksX1_reshare_3 16 rfl rfl)
abbrev cX1_requireMembers : ByteArray := prog_1_method_21_code
def yX1_requireMembers : MethodName := ⟨RX1, "requireMembers", "(I)V"⟩
def dkwX1_requireMembers_0 : List UInt8 := [26, 3, 17, 0, 255, 184, 0, 142, 184, 0, 146, 177]
abbrev dktX1_requireMembers_0 : List UInt8 := dkwX1_requireMembers_0 ++ []
theorem dksX1_requireMembers_0 : cX1_requireMembers.data.toList.drop 0 = dktX1_requireMembers_0 := by decide +kernel
theorem dX1_requireMembers_0 : decode cX1_requireMembers 0 = .ok (.iload_n 0, 1) := dk_26 (dk_at dksX1_requireMembers_0 0 rfl rfl)
theorem dX1_requireMembers_1 : decode cX1_requireMembers 1 = .ok (.iconst 0, 1) := dk_3 (dk_at dksX1_requireMembers_0 1 rfl rfl)
theorem dX1_requireMembers_2 : decode cX1_requireMembers 2 = .ok (.sipush 255, 3) := dk_17 0 255 (dk_at dksX1_requireMembers_0 2 rfl rfl)
theorem dX1_requireMembers_5 : decode cX1_requireMembers 5 = .ok (.invokestatic 142, 3) := dk_184 0 142 (dk_at dksX1_requireMembers_0 5 rfl rfl)
theorem dX1_requireMembers_8 : decode cX1_requireMembers 8 = .ok (.invokestatic 146, 3) := dk_184 0 146 (dk_at dksX1_requireMembers_0 8 rfl rfl)
theorem dX1_requireMembers_11 : decode cX1_requireMembers 11 = .ok (.return_, 1) := dk_177 (dk_at dksX1_requireMembers_0 11 rfl rfl)
abbrev cX1_used : ByteArray := prog_1_method_34_code
def yX1_used : MethodName := ⟨RX1, "used", "(II)Ljava/util/List;"⟩
def dkwX1_used_0 : List UInt8 := [42, 180, 0, 123, 27, 28, 182, 0, 225, 176, 78, 42, 45, 182, 0, 233, 191]
abbrev dktX1_used_0 : List UInt8 := dkwX1_used_0 ++ []
theorem dksX1_used_0 : cX1_used.data.toList.drop 0 = dktX1_used_0 := by decide +kernel
theorem dX1_used_0 : decode cX1_used 0 = .ok (.aload_n 0, 1) := dk_42 (dk_at dksX1_used_0 0 rfl rfl)
theorem dX1_used_1 : decode cX1_used 1 = .ok (.getfield 123, 3) := dk_180 0 123 (dk_at dksX1_used_0 1 rfl rfl)
theorem dX1_used_4 : decode cX1_used 4 = .ok (.iload_n 1, 1) := dk_27 (dk_at dksX1_used_0 4 rfl rfl)
theorem dX1_used_5 : decode cX1_used 5 = .ok (.iload_n 2, 1) := dk_28 (dk_at dksX1_used_0 5 rfl rfl)
theorem dX1_used_6 : decode cX1_used 6 = .ok (.invokevirtual 225, 3) := dk_182 0 225 (dk_at dksX1_used_0 6 rfl rfl)
theorem dX1_used_9 : decode cX1_used 9 = .ok (.areturn, 1) := dk_176 (dk_at dksX1_used_0 9 rfl rfl)
theorem dX1_used_10 : decode cX1_used 10 = .ok (.astore_n 3, 1) := dk_78 (dk_at dksX1_used_0 10 rfl rfl)
theorem dX1_used_11 : decode cX1_used 11 = .ok (.aload_n 0, 1) := dk_42 (dk_at dksX1_used_0 11 rfl rfl)
theorem dX1_used_12 : decode cX1_used 12 = .ok (.aload_n 3, 1) := dk_45 (dk_at dksX1_used_0 12 rfl rfl)
theorem dX1_used_13 : decode cX1_used 13 = .ok (.invokevirtual 233, 3) := dk_182 0 233 (dk_at dksX1_used_0 13 rfl rfl)
theorem dX1_used_16 : decode cX1_used 16 = .ok (.athrow, 1) := dk_191 (dk_at dksX1_used_0 16 rfl rfl)
abbrev cX1_fulfilledOf : ByteArray := prog_1_method_12_code
def yX1_fulfilledOf : MethodName := ⟨RX1, "fulfilledOf", "(Ljava/util/List;I)I"⟩
def dkwX1_fulfilledOf_2 : List UInt8 := [167, 255, 216, 28, 172]
abbrev dktX1_fulfilledOf_2 : List UInt8 := dkwX1_fulfilledOf_2 ++ []
def dkwX1_fulfilledOf_1 : List UInt8 := [192, 0, 41, 27, 185, 0, 46, 2, 0, 153, 0, 7, 4, 167, 0, 4, 3, 96, 61, 132, 3, 1]
abbrev dktX1_fulfilledOf_1 : List UInt8 := dkwX1_fulfilledOf_1 ++ dktX1_fulfilledOf_2
def dkwX1_fulfilledOf_0 : List UInt8 := [3, 61, 3, 62, 29, 42, 185, 0, 31, 1, 0, 162, 0, 36, 28, 42, 29, 185, 0, 37, 2, 0]
abbrev dktX1_fulfilledOf_0 : List UInt8 := dkwX1_fulfilledOf_0 ++ dktX1_fulfilledOf_1
theorem dksX1_fulfilledOf_0 : cX1_fulfilledOf.data.toList.drop 0 = dktX1_fulfilledOf_0 := by decide +kernel
theorem dksX1_fulfilledOf_1 : cX1_fulfilledOf.data.toList.drop 22 = dktX1_fulfilledOf_1 := dk_seg dksX1_fulfilledOf_0 22 rfl rfl
theorem dksX1_fulfilledOf_2 : cX1_fulfilledOf.data.toList.drop 44 = dktX1_fulfilledOf_2 := dk_seg dksX1_fulfilledOf_1 22 rfl rfl
theorem dX1_fulfilledOf_0 : decode cX1_fulfilledOf 0 = .ok (.iconst 0, 1) := dk_3 (dk_at dksX1_fulfilledOf_0 0 rfl rfl)
theorem dX1_fulfilledOf_1 : decode cX1_fulfilledOf 1 = .ok (.istore_n 2, 1) := dk_61 (dk_at dksX1_fulfilledOf_0 1 rfl rfl)
theorem dX1_fulfilledOf_2 : decode cX1_fulfilledOf 2 = .ok (.iconst 0, 1) := dk_3 (dk_at dksX1_fulfilledOf_0 2 rfl rfl)
theorem dX1_fulfilledOf_3 : decode cX1_fulfilledOf 3 = .ok (.istore_n 3, 1) := dk_62 (dk_at dksX1_fulfilledOf_0 3 rfl rfl)
theorem dX1_fulfilledOf_4 : decode cX1_fulfilledOf 4 = .ok (.iload_n 3, 1) := dk_29 (dk_at dksX1_fulfilledOf_0 4 rfl rfl)
theorem dX1_fulfilledOf_5 : decode cX1_fulfilledOf 5 = .ok (.aload_n 0, 1) := dk_42 (dk_at dksX1_fulfilledOf_0 5 rfl rfl)
theorem dX1_fulfilledOf_6 : decode cX1_fulfilledOf 6 = .ok (.invokeinterface 31 1, 5) := by decide +kernel
theorem dX1_fulfilledOf_11 : decode cX1_fulfilledOf 11 = .ok (.if_icmp .ge 36, 3) := dk_162 0 36 (dk_at dksX1_fulfilledOf_0 11 rfl rfl)
theorem dX1_fulfilledOf_14 : decode cX1_fulfilledOf 14 = .ok (.iload_n 2, 1) := dk_28 (dk_at dksX1_fulfilledOf_0 14 rfl rfl)
theorem dX1_fulfilledOf_15 : decode cX1_fulfilledOf 15 = .ok (.aload_n 0, 1) := dk_42 (dk_at dksX1_fulfilledOf_0 15 rfl rfl)
theorem dX1_fulfilledOf_16 : decode cX1_fulfilledOf 16 = .ok (.iload_n 3, 1) := dk_29 (dk_at dksX1_fulfilledOf_0 16 rfl rfl)
theorem dX1_fulfilledOf_17 : decode cX1_fulfilledOf 17 = .ok (.invokeinterface 37 2, 5) := by decide +kernel
theorem dX1_fulfilledOf_22 : decode cX1_fulfilledOf 22 = .ok (.checkcast 41, 3) := dk_192 0 41 (dk_at dksX1_fulfilledOf_1 0 rfl rfl)
theorem dX1_fulfilledOf_25 : decode cX1_fulfilledOf 25 = .ok (.iload_n 1, 1) := dk_27 (dk_at dksX1_fulfilledOf_1 3 rfl rfl)
theorem dX1_fulfilledOf_26 : decode cX1_fulfilledOf 26 = .ok (.invokeinterface 46 2, 5) := by decide +kernel
theorem dX1_fulfilledOf_31 : decode cX1_fulfilledOf 31 = .ok (.ifCond .eq 7, 3) := dk_153 0 7 (dk_at dksX1_fulfilledOf_1 9 rfl rfl)
theorem dX1_fulfilledOf_34 : decode cX1_fulfilledOf 34 = .ok (.iconst 1, 1) := dk_4 (dk_at dksX1_fulfilledOf_1 12 rfl rfl)
theorem dX1_fulfilledOf_35 : decode cX1_fulfilledOf 35 = .ok (.goto 4, 3) := dk_167 0 4 (dk_at dksX1_fulfilledOf_1 13 rfl rfl)
theorem dX1_fulfilledOf_38 : decode cX1_fulfilledOf 38 = .ok (.iconst 0, 1) := dk_3 (dk_at dksX1_fulfilledOf_1 16 rfl rfl)
theorem dX1_fulfilledOf_39 : decode cX1_fulfilledOf 39 = .ok (.iadd, 1) := dk_96 (dk_at dksX1_fulfilledOf_1 17 rfl rfl)
theorem dX1_fulfilledOf_40 : decode cX1_fulfilledOf 40 = .ok (.istore_n 2, 1) := dk_61 (dk_at dksX1_fulfilledOf_1 18 rfl rfl)
theorem dX1_fulfilledOf_41 : decode cX1_fulfilledOf 41 = .ok (.iinc 3 1, 3) := dk_132 3 1 (dk_at dksX1_fulfilledOf_1 19 rfl rfl)
theorem dX1_fulfilledOf_44 : decode cX1_fulfilledOf 44 = .ok (.goto (-40), 3) := dk_167 255 216 (dk_at dksX1_fulfilledOf_2 0 rfl rfl)
theorem dX1_fulfilledOf_47 : decode cX1_fulfilledOf 47 = .ok (.iload_n 2, 1) := dk_28 (dk_at dksX1_fulfilledOf_2 3 rfl rfl)
theorem dX1_fulfilledOf_48 : decode cX1_fulfilledOf 48 = .ok (.ireturn, 1) := dk_172 (dk_at dksX1_fulfilledOf_2 4 rfl rfl)
abbrev cX1_failed : ByteArray := prog_1_method_24_code
def yX1_failed : MethodName := ⟨RX1, "failed", "(LSecretVault$Failure;)Ljava/lang/UnsupportedOperationException;"⟩
def dkwX1_failed_0 : List UInt8 := [42, 43, 181, 0, 157, 187, 0, 161, 89, 183, 0, 163, 176]
abbrev dktX1_failed_0 : List UInt8 := dkwX1_failed_0 ++ []
theorem dksX1_failed_0 : cX1_failed.data.toList.drop 0 = dktX1_failed_0 := by decide +kernel
theorem dX1_failed_0 : decode cX1_failed 0 = .ok (.aload_n 0, 1) := dk_42 (dk_at dksX1_failed_0 0 rfl rfl)
theorem dX1_failed_1 : decode cX1_failed 1 = .ok (.aload_n 1, 1) := dk_43 (dk_at dksX1_failed_0 1 rfl rfl)
theorem dX1_failed_2 : decode cX1_failed 2 = .ok (.putfield 157, 3) := dk_181 0 157 (dk_at dksX1_failed_0 2 rfl rfl)
theorem dX1_failed_5 : decode cX1_failed 5 = .ok (.new 161, 3) := dk_187 0 161 (dk_at dksX1_failed_0 5 rfl rfl)
theorem dX1_failed_8 : decode cX1_failed 8 = .ok (.dup, 1) := dk_89 (dk_at dksX1_failed_0 8 rfl rfl)
theorem dX1_failed_9 : decode cX1_failed 9 = .ok (.invokespecial 163, 3) := dk_183 0 163 (dk_at dksX1_failed_0 9 rfl rfl)
theorem dX1_failed_12 : decode cX1_failed 12 = .ok (.areturn, 1) := dk_176 (dk_at dksX1_failed_0 12 rfl rfl)
abbrev cX1_minus : ByteArray := prog_1_method_9_code
def yX1_minus : MethodName := ⟨RX1, "minus", "(II)I"⟩
def dkwX1_minus_0 : List UInt8 := [26, 27, 100, 17, 3, 251, 184, 0, 25, 172]
abbrev dktX1_minus_0 : List UInt8 := dkwX1_minus_0 ++ []
theorem dksX1_minus_0 : cX1_minus.data.toList.drop 0 = dktX1_minus_0 := by decide +kernel
theorem dX1_minus_0 : decode cX1_minus 0 = .ok (.iload_n 0, 1) := dk_26 (dk_at dksX1_minus_0 0 rfl rfl)
theorem dX1_minus_1 : decode cX1_minus 1 = .ok (.iload_n 1, 1) := dk_27 (dk_at dksX1_minus_0 1 rfl rfl)
theorem dX1_minus_2 : decode cX1_minus 2 = .ok (.isub, 1) := dk_100 (dk_at dksX1_minus_0 2 rfl rfl)
theorem dX1_minus_3 : decode cX1_minus 3 = .ok (.sipush 1019, 3) := dk_17 3 251 (dk_at dksX1_minus_0 3 rfl rfl)
theorem dX1_minus_6 : decode cX1_minus 6 = .ok (.invokestatic 25, 3) := dk_184 0 25 (dk_at dksX1_minus_0 6 rfl rfl)
theorem dX1_minus_9 : decode cX1_minus 9 = .ok (.ireturn, 1) := dk_172 (dk_at dksX1_minus_0 9 rfl rfl)
abbrev cX1_inverse : ByteArray := prog_1_method_8_code
def yX1_inverse : MethodName := ⟨RX1, "inverse", "(I)I"⟩
def dkwX1_inverse_0 : List UInt8 := [26, 17, 3, 249, 17, 3, 251, 184, 0, 22, 172]
abbrev dktX1_inverse_0 : List UInt8 := dkwX1_inverse_0 ++ []
theorem dksX1_inverse_0 : cX1_inverse.data.toList.drop 0 = dktX1_inverse_0 := by decide +kernel
theorem dX1_inverse_0 : decode cX1_inverse 0 = .ok (.iload_n 0, 1) := dk_26 (dk_at dksX1_inverse_0 0 rfl rfl)
theorem dX1_inverse_1 : decode cX1_inverse 1 = .ok (.sipush 1017, 3) := dk_17 3 249 (dk_at dksX1_inverse_0 1 rfl rfl)
theorem dX1_inverse_4 : decode cX1_inverse 4 = .ok (.sipush 1019, 3) := dk_17 3 251 (dk_at dksX1_inverse_0 4 rfl rfl)
theorem dX1_inverse_7 : decode cX1_inverse 7 = .ok (.invokestatic 22, 3) := dk_184 0 22 (dk_at dksX1_inverse_0 7 rfl rfl)
theorem dX1_inverse_10 : decode cX1_inverse 10 = .ok (.ireturn, 1) := dk_172 (dk_at dksX1_inverse_0 10 rfl rfl)
abbrev cX1_enroll : ByteArray := prog_1_method_36_code
def yX1_enroll : MethodName := ⟨RX1, "enroll", "(III)I"⟩
def dkwX1_enroll_2 : List UInt8 := [182, 0, 209, 21, 4, 172]
abbrev dktX1_enroll_2 : List UInt8 := dkwX1_enroll_2 ++ []
def dkwX1_enroll_1 : List UInt8 := [28, 182, 0, 240, 29, 182, 0, 247, 54, 4, 42, 180, 0, 123, 17, 1, 244, 16, 10, 27, 104, 96, 29, 96]
abbrev dktX1_enroll_1 : List UInt8 := dkwX1_enroll_1 ++ dktX1_enroll_2
def dkwX1_enroll_0 : List UInt8 := [27, 7, 184, 0, 138, 29, 184, 0, 177, 28, 184, 0, 237, 42, 180, 0, 123, 42, 27, 182, 0, 214, 42, 27]
abbrev dktX1_enroll_0 : List UInt8 := dkwX1_enroll_0 ++ dktX1_enroll_1
theorem dksX1_enroll_0 : cX1_enroll.data.toList.drop 0 = dktX1_enroll_0 := by decide +kernel
theorem dksX1_enroll_1 : cX1_enroll.data.toList.drop 24 = dktX1_enroll_1 := dk_seg dksX1_enroll_0 24 rfl rfl
theorem dksX1_enroll_2 : cX1_enroll.data.toList.drop 48 = dktX1_enroll_2 := dk_seg dksX1_enroll_1 24 rfl rfl
theorem dX1_enroll_0 : decode cX1_enroll 0 = .ok (.iload_n 1, 1) := dk_27 (dk_at dksX1_enroll_0 0 rfl rfl)
theorem dX1_enroll_1 : decode cX1_enroll 1 = .ok (.iconst 4, 1) := dk_7 (dk_at dksX1_enroll_0 1 rfl rfl)
theorem dX1_enroll_2 : decode cX1_enroll 2 = .ok (.invokestatic 138, 3) := dk_184 0 138 (dk_at dksX1_enroll_0 2 rfl rfl)
theorem dX1_enroll_5 : decode cX1_enroll 5 = .ok (.iload_n 3, 1) := dk_29 (dk_at dksX1_enroll_0 5 rfl rfl)
theorem dX1_enroll_6 : decode cX1_enroll 6 = .ok (.invokestatic 177, 3) := dk_184 0 177 (dk_at dksX1_enroll_0 6 rfl rfl)
theorem dX1_enroll_9 : decode cX1_enroll 9 = .ok (.iload_n 2, 1) := dk_28 (dk_at dksX1_enroll_0 9 rfl rfl)
theorem dX1_enroll_10 : decode cX1_enroll 10 = .ok (.invokestatic 237, 3) := dk_184 0 237 (dk_at dksX1_enroll_0 10 rfl rfl)
theorem dX1_enroll_13 : decode cX1_enroll 13 = .ok (.aload_n 0, 1) := dk_42 (dk_at dksX1_enroll_0 13 rfl rfl)
theorem dX1_enroll_14 : decode cX1_enroll 14 = .ok (.getfield 123, 3) := dk_180 0 123 (dk_at dksX1_enroll_0 14 rfl rfl)
theorem dX1_enroll_17 : decode cX1_enroll 17 = .ok (.aload_n 0, 1) := dk_42 (dk_at dksX1_enroll_0 17 rfl rfl)
theorem dX1_enroll_18 : decode cX1_enroll 18 = .ok (.iload_n 1, 1) := dk_27 (dk_at dksX1_enroll_0 18 rfl rfl)
theorem dX1_enroll_19 : decode cX1_enroll 19 = .ok (.invokevirtual 214, 3) := dk_182 0 214 (dk_at dksX1_enroll_0 19 rfl rfl)
theorem dX1_enroll_22 : decode cX1_enroll 22 = .ok (.aload_n 0, 1) := dk_42 (dk_at dksX1_enroll_0 22 rfl rfl)
theorem dX1_enroll_23 : decode cX1_enroll 23 = .ok (.iload_n 1, 1) := dk_27 (dk_at dksX1_enroll_0 23 rfl rfl)
theorem dX1_enroll_24 : decode cX1_enroll 24 = .ok (.iload_n 2, 1) := dk_28 (dk_at dksX1_enroll_1 0 rfl rfl)
theorem dX1_enroll_25 : decode cX1_enroll 25 = .ok (.invokevirtual 240, 3) := dk_182 0 240 (dk_at dksX1_enroll_1 1 rfl rfl)
theorem dX1_enroll_28 : decode cX1_enroll 28 = .ok (.iload_n 3, 1) := dk_29 (dk_at dksX1_enroll_1 4 rfl rfl)
theorem dX1_enroll_29 : decode cX1_enroll 29 = .ok (.invokevirtual 247, 3) := dk_182 0 247 (dk_at dksX1_enroll_1 5 rfl rfl)
theorem dX1_enroll_32 : decode cX1_enroll 32 = .ok (.istore 4, 2) := dk_54 4 (dk_at dksX1_enroll_1 8 rfl rfl)
theorem dX1_enroll_34 : decode cX1_enroll 34 = .ok (.aload_n 0, 1) := dk_42 (dk_at dksX1_enroll_1 10 rfl rfl)
theorem dX1_enroll_35 : decode cX1_enroll 35 = .ok (.getfield 123, 3) := dk_180 0 123 (dk_at dksX1_enroll_1 11 rfl rfl)
theorem dX1_enroll_38 : decode cX1_enroll 38 = .ok (.sipush 500, 3) := dk_17 1 244 (dk_at dksX1_enroll_1 14 rfl rfl)
theorem dX1_enroll_41 : decode cX1_enroll 41 = .ok (.bipush 10, 2) := dk_16 10 (dk_at dksX1_enroll_1 17 rfl rfl)
theorem dX1_enroll_43 : decode cX1_enroll 43 = .ok (.iload_n 1, 1) := dk_27 (dk_at dksX1_enroll_1 19 rfl rfl)
theorem dX1_enroll_44 : decode cX1_enroll 44 = .ok (.imul, 1) := dk_104 (dk_at dksX1_enroll_1 20 rfl rfl)
theorem dX1_enroll_45 : decode cX1_enroll 45 = .ok (.iadd, 1) := dk_96 (dk_at dksX1_enroll_1 21 rfl rfl)
theorem dX1_enroll_46 : decode cX1_enroll 46 = .ok (.iload_n 3, 1) := dk_29 (dk_at dksX1_enroll_1 22 rfl rfl)
theorem dX1_enroll_47 : decode cX1_enroll 47 = .ok (.iadd, 1) := dk_96 (dk_at dksX1_enroll_1 23 rfl rfl)
theorem dX1_enroll_48 : decode cX1_enroll 48 = .ok (.invokevirtual 209, 3) := dk_182 0 209 (dk_at dksX1_enroll_2 0 rfl rfl)
theorem dX1_enroll_51 : decode cX1_enroll 51 = .ok (.iload 4, 2) := dk_21 4 (dk_at dksX1_enroll_2 3 rfl rfl)
theorem dX1_enroll_53 : decode cX1_enroll 53 = .ok (.ireturn, 1) := dk_172 (dk_at dksX1_enroll_2 5 rfl rfl)
abbrev cX1_expel : ByteArray := prog_1_method_37_code
def yX1_expel : MethodName := ⟨RX1, "expel", "(II)I"⟩
def dkwX1_expel_3 : List UInt8 := [104, 96, 28, 96, 182, 0, 209, 21, 4, 172]
abbrev dktX1_expel_3 : List UInt8 := dkwX1_expel_3 ++ []
def dkwX1_expel_2 : List UInt8 := [45, 180, 0, 254, 21, 5, 1, 83, 132, 5, 1, 167, 255, 234, 42, 180, 0, 123, 17, 2, 88, 16, 10, 27]
abbrev dktX1_expel_2 : List UInt8 := dkwX1_expel_2 ++ dktX1_expel_3
def dkwX1_expel_1 : List UInt8 := [185, 0, 31, 1, 0, 54, 4, 28, 184, 0, 251, 54, 5, 21, 5, 28, 4, 96, 184, 0, 251, 162, 0, 17]
abbrev dktX1_expel_1 : List UInt8 := dkwX1_expel_1 ++ dktX1_expel_2
def dkwX1_expel_0 : List UInt8 := [27, 7, 184, 0, 138, 28, 184, 0, 177, 42, 27, 182, 0, 214, 78, 45, 4, 28, 120, 182, 0, 188]
abbrev dktX1_expel_0 : List UInt8 := dkwX1_expel_0 ++ dktX1_expel_1
theorem dksX1_expel_0 : cX1_expel.data.toList.drop 0 = dktX1_expel_0 := by decide +kernel
theorem dksX1_expel_1 : cX1_expel.data.toList.drop 22 = dktX1_expel_1 := dk_seg dksX1_expel_0 22 rfl rfl
theorem dksX1_expel_2 : cX1_expel.data.toList.drop 46 = dktX1_expel_2 := dk_seg dksX1_expel_1 24 rfl rfl
theorem dksX1_expel_3 : cX1_expel.data.toList.drop 70 = dktX1_expel_3 := dk_seg dksX1_expel_2 24 rfl rfl
theorem dX1_expel_0 : decode cX1_expel 0 = .ok (.iload_n 1, 1) := dk_27 (dk_at dksX1_expel_0 0 rfl rfl)
theorem dX1_expel_1 : decode cX1_expel 1 = .ok (.iconst 4, 1) := dk_7 (dk_at dksX1_expel_0 1 rfl rfl)
theorem dX1_expel_2 : decode cX1_expel 2 = .ok (.invokestatic 138, 3) := dk_184 0 138 (dk_at dksX1_expel_0 2 rfl rfl)
theorem dX1_expel_5 : decode cX1_expel 5 = .ok (.iload_n 2, 1) := dk_28 (dk_at dksX1_expel_0 5 rfl rfl)
theorem dX1_expel_6 : decode cX1_expel 6 = .ok (.invokestatic 177, 3) := dk_184 0 177 (dk_at dksX1_expel_0 6 rfl rfl)
theorem dX1_expel_9 : decode cX1_expel 9 = .ok (.aload_n 0, 1) := dk_42 (dk_at dksX1_expel_0 9 rfl rfl)
theorem dX1_expel_10 : decode cX1_expel 10 = .ok (.iload_n 1, 1) := dk_27 (dk_at dksX1_expel_0 10 rfl rfl)
theorem dX1_expel_11 : decode cX1_expel 11 = .ok (.invokevirtual 214, 3) := dk_182 0 214 (dk_at dksX1_expel_0 11 rfl rfl)
theorem dX1_expel_14 : decode cX1_expel 14 = .ok (.astore_n 3, 1) := dk_78 (dk_at dksX1_expel_0 14 rfl rfl)
theorem dX1_expel_15 : decode cX1_expel 15 = .ok (.aload_n 3, 1) := dk_45 (dk_at dksX1_expel_0 15 rfl rfl)
theorem dX1_expel_16 : decode cX1_expel 16 = .ok (.iconst 1, 1) := dk_4 (dk_at dksX1_expel_0 16 rfl rfl)
theorem dX1_expel_17 : decode cX1_expel 17 = .ok (.iload_n 2, 1) := dk_28 (dk_at dksX1_expel_0 17 rfl rfl)
theorem dX1_expel_18 : decode cX1_expel 18 = .ok (.ishl, 1) := dk_120 (dk_at dksX1_expel_0 18 rfl rfl)
theorem dX1_expel_19 : decode cX1_expel 19 = .ok (.invokevirtual 188, 3) := dk_182 0 188 (dk_at dksX1_expel_0 19 rfl rfl)
theorem dX1_expel_22 : decode cX1_expel 22 = .ok (.invokeinterface 31 1, 5) := by decide +kernel
theorem dX1_expel_27 : decode cX1_expel 27 = .ok (.istore 4, 2) := dk_54 4 (dk_at dksX1_expel_1 5 rfl rfl)
theorem dX1_expel_29 : decode cX1_expel 29 = .ok (.iload_n 2, 1) := dk_28 (dk_at dksX1_expel_1 7 rfl rfl)
theorem dX1_expel_30 : decode cX1_expel 30 = .ok (.invokestatic 251, 3) := dk_184 0 251 (dk_at dksX1_expel_1 8 rfl rfl)
theorem dX1_expel_33 : decode cX1_expel 33 = .ok (.istore 5, 2) := dk_54 5 (dk_at dksX1_expel_1 11 rfl rfl)
theorem dX1_expel_35 : decode cX1_expel 35 = .ok (.iload 5, 2) := dk_21 5 (dk_at dksX1_expel_1 13 rfl rfl)
theorem dX1_expel_37 : decode cX1_expel 37 = .ok (.iload_n 2, 1) := dk_28 (dk_at dksX1_expel_1 15 rfl rfl)
theorem dX1_expel_38 : decode cX1_expel 38 = .ok (.iconst 1, 1) := dk_4 (dk_at dksX1_expel_1 16 rfl rfl)
theorem dX1_expel_39 : decode cX1_expel 39 = .ok (.iadd, 1) := dk_96 (dk_at dksX1_expel_1 17 rfl rfl)
theorem dX1_expel_40 : decode cX1_expel 40 = .ok (.invokestatic 251, 3) := dk_184 0 251 (dk_at dksX1_expel_1 18 rfl rfl)
theorem dX1_expel_43 : decode cX1_expel 43 = .ok (.if_icmp .ge 17, 3) := dk_162 0 17 (dk_at dksX1_expel_1 21 rfl rfl)
theorem dX1_expel_46 : decode cX1_expel 46 = .ok (.aload_n 3, 1) := dk_45 (dk_at dksX1_expel_2 0 rfl rfl)
theorem dX1_expel_47 : decode cX1_expel 47 = .ok (.getfield 254, 3) := dk_180 0 254 (dk_at dksX1_expel_2 1 rfl rfl)
theorem dX1_expel_50 : decode cX1_expel 50 = .ok (.iload 5, 2) := dk_21 5 (dk_at dksX1_expel_2 4 rfl rfl)
theorem dX1_expel_52 : decode cX1_expel 52 = .ok (.aconst_null, 1) := dk_1 (dk_at dksX1_expel_2 6 rfl rfl)
theorem dX1_expel_53 : decode cX1_expel 53 = .ok (.aastore, 1) := dk_83 (dk_at dksX1_expel_2 7 rfl rfl)
theorem dX1_expel_54 : decode cX1_expel 54 = .ok (.iinc 5 1, 3) := dk_132 5 1 (dk_at dksX1_expel_2 8 rfl rfl)
theorem dX1_expel_57 : decode cX1_expel 57 = .ok (.goto (-22), 3) := dk_167 255 234 (dk_at dksX1_expel_2 11 rfl rfl)
theorem dX1_expel_60 : decode cX1_expel 60 = .ok (.aload_n 0, 1) := dk_42 (dk_at dksX1_expel_2 14 rfl rfl)
theorem dX1_expel_61 : decode cX1_expel 61 = .ok (.getfield 123, 3) := dk_180 0 123 (dk_at dksX1_expel_2 15 rfl rfl)
theorem dX1_expel_64 : decode cX1_expel 64 = .ok (.sipush 600, 3) := dk_17 2 88 (dk_at dksX1_expel_2 18 rfl rfl)
theorem dX1_expel_67 : decode cX1_expel 67 = .ok (.bipush 10, 2) := dk_16 10 (dk_at dksX1_expel_2 21 rfl rfl)
theorem dX1_expel_69 : decode cX1_expel 69 = .ok (.iload_n 1, 1) := dk_27 (dk_at dksX1_expel_2 23 rfl rfl)
theorem dX1_expel_70 : decode cX1_expel 70 = .ok (.imul, 1) := dk_104 (dk_at dksX1_expel_3 0 rfl rfl)
theorem dX1_expel_71 : decode cX1_expel 71 = .ok (.iadd, 1) := dk_96 (dk_at dksX1_expel_3 1 rfl rfl)
theorem dX1_expel_72 : decode cX1_expel 72 = .ok (.iload_n 2, 1) := dk_28 (dk_at dksX1_expel_3 2 rfl rfl)
theorem dX1_expel_73 : decode cX1_expel 73 = .ok (.iadd, 1) := dk_96 (dk_at dksX1_expel_3 3 rfl rfl)
theorem dX1_expel_74 : decode cX1_expel 74 = .ok (.invokevirtual 209, 3) := dk_182 0 209 (dk_at dksX1_expel_3 4 rfl rfl)
theorem dX1_expel_77 : decode cX1_expel 77 = .ok (.iload 4, 2) := dk_21 4 (dk_at dksX1_expel_3 7 rfl rfl)
theorem dX1_expel_79 : decode cX1_expel 79 = .ok (.ireturn, 1) := dk_172 (dk_at dksX1_expel_3 9 rfl rfl)
abbrev cX1_open : ByteArray := prog_1_method_38_code
def yX1_open : MethodName := ⟨RX1, "open", "(II)I"⟩
def dkwX1_open_1 : List UInt8 := [62, 42, 180, 0, 123, 17, 2, 188, 27, 96, 182, 0, 209, 29, 172]
abbrev dktX1_open_1 : List UInt8 := dkwX1_open_1 ++ []
def dkwX1_open_0 : List UInt8 := [27, 7, 184, 0, 138, 28, 184, 0, 237, 42, 27, 182, 0, 214, 42, 27, 28, 182, 0, 240, 3, 182, 0, 243]
abbrev dktX1_open_0 : List UInt8 := dkwX1_open_0 ++ dktX1_open_1
theorem dksX1_open_0 : cX1_open.data.toList.drop 0 = dktX1_open_0 := by decide +kernel
theorem dksX1_open_1 : cX1_open.data.toList.drop 24 = dktX1_open_1 := dk_seg dksX1_open_0 24 rfl rfl
theorem dX1_open_0 : decode cX1_open 0 = .ok (.iload_n 1, 1) := dk_27 (dk_at dksX1_open_0 0 rfl rfl)
theorem dX1_open_1 : decode cX1_open 1 = .ok (.iconst 4, 1) := dk_7 (dk_at dksX1_open_0 1 rfl rfl)
theorem dX1_open_2 : decode cX1_open 2 = .ok (.invokestatic 138, 3) := dk_184 0 138 (dk_at dksX1_open_0 2 rfl rfl)
theorem dX1_open_5 : decode cX1_open 5 = .ok (.iload_n 2, 1) := dk_28 (dk_at dksX1_open_0 5 rfl rfl)
theorem dX1_open_6 : decode cX1_open 6 = .ok (.invokestatic 237, 3) := dk_184 0 237 (dk_at dksX1_open_0 6 rfl rfl)
theorem dX1_open_9 : decode cX1_open 9 = .ok (.aload_n 0, 1) := dk_42 (dk_at dksX1_open_0 9 rfl rfl)
theorem dX1_open_10 : decode cX1_open 10 = .ok (.iload_n 1, 1) := dk_27 (dk_at dksX1_open_0 10 rfl rfl)
theorem dX1_open_11 : decode cX1_open 11 = .ok (.invokevirtual 214, 3) := dk_182 0 214 (dk_at dksX1_open_0 11 rfl rfl)
theorem dX1_open_14 : decode cX1_open 14 = .ok (.aload_n 0, 1) := dk_42 (dk_at dksX1_open_0 14 rfl rfl)
theorem dX1_open_15 : decode cX1_open 15 = .ok (.iload_n 1, 1) := dk_27 (dk_at dksX1_open_0 15 rfl rfl)
theorem dX1_open_16 : decode cX1_open 16 = .ok (.iload_n 2, 1) := dk_28 (dk_at dksX1_open_0 16 rfl rfl)
theorem dX1_open_17 : decode cX1_open 17 = .ok (.invokevirtual 240, 3) := dk_182 0 240 (dk_at dksX1_open_0 17 rfl rfl)
theorem dX1_open_20 : decode cX1_open 20 = .ok (.iconst 0, 1) := dk_3 (dk_at dksX1_open_0 20 rfl rfl)
theorem dX1_open_21 : decode cX1_open 21 = .ok (.invokevirtual 243, 3) := dk_182 0 243 (dk_at dksX1_open_0 21 rfl rfl)
theorem dX1_open_24 : decode cX1_open 24 = .ok (.istore_n 3, 1) := dk_62 (dk_at dksX1_open_1 0 rfl rfl)
theorem dX1_open_25 : decode cX1_open 25 = .ok (.aload_n 0, 1) := dk_42 (dk_at dksX1_open_1 1 rfl rfl)
theorem dX1_open_26 : decode cX1_open 26 = .ok (.getfield 123, 3) := dk_180 0 123 (dk_at dksX1_open_1 2 rfl rfl)
theorem dX1_open_29 : decode cX1_open 29 = .ok (.sipush 700, 3) := dk_17 2 188 (dk_at dksX1_open_1 5 rfl rfl)
theorem dX1_open_32 : decode cX1_open 32 = .ok (.iload_n 1, 1) := dk_27 (dk_at dksX1_open_1 8 rfl rfl)
theorem dX1_open_33 : decode cX1_open 33 = .ok (.iadd, 1) := dk_96 (dk_at dksX1_open_1 9 rfl rfl)
theorem dX1_open_34 : decode cX1_open 34 = .ok (.invokevirtual 209, 3) := dk_182 0 209 (dk_at dksX1_open_1 10 rfl rfl)
theorem dX1_open_37 : decode cX1_open 37 = .ok (.iload_n 3, 1) := dk_29 (dk_at dksX1_open_1 13 rfl rfl)
theorem dX1_open_38 : decode cX1_open 38 = .ok (.ireturn, 1) := dk_172 (dk_at dksX1_open_1 14 rfl rfl)
abbrev cX1_combine : ByteArray := prog_1_method_39_code
def yX1_combine : MethodName := ⟨RX1, "combine", "(II)I"⟩
def dkwX1_combine_2 : List UInt8 := [182, 0, 243, 172]
abbrev dktX1_combine_2 : List UInt8 := dkwX1_combine_2 ++ []
def dkwX1_combine_1 : List UInt8 := [185, 0, 31, 1, 0, 45, 180, 1, 2, 161, 0, 7, 4, 167, 0, 4, 3, 184, 0, 201, 45, 25, 4, 3]
abbrev dktX1_combine_1 : List UInt8 := dkwX1_combine_1 ++ dktX1_combine_2
def dkwX1_combine_0 : List UInt8 := [27, 7, 184, 0, 138, 28, 184, 0, 237, 42, 27, 182, 0, 214, 78, 45, 28, 182, 0, 188, 58, 4, 25, 4]
abbrev dktX1_combine_0 : List UInt8 := dkwX1_combine_0 ++ dktX1_combine_1
theorem dksX1_combine_0 : cX1_combine.data.toList.drop 0 = dktX1_combine_0 := by decide +kernel
theorem dksX1_combine_1 : cX1_combine.data.toList.drop 24 = dktX1_combine_1 := dk_seg dksX1_combine_0 24 rfl rfl
theorem dksX1_combine_2 : cX1_combine.data.toList.drop 48 = dktX1_combine_2 := dk_seg dksX1_combine_1 24 rfl rfl
theorem dX1_combine_0 : decode cX1_combine 0 = .ok (.iload_n 1, 1) := dk_27 (dk_at dksX1_combine_0 0 rfl rfl)
theorem dX1_combine_1 : decode cX1_combine 1 = .ok (.iconst 4, 1) := dk_7 (dk_at dksX1_combine_0 1 rfl rfl)
theorem dX1_combine_2 : decode cX1_combine 2 = .ok (.invokestatic 138, 3) := dk_184 0 138 (dk_at dksX1_combine_0 2 rfl rfl)
theorem dX1_combine_5 : decode cX1_combine 5 = .ok (.iload_n 2, 1) := dk_28 (dk_at dksX1_combine_0 5 rfl rfl)
theorem dX1_combine_6 : decode cX1_combine 6 = .ok (.invokestatic 237, 3) := dk_184 0 237 (dk_at dksX1_combine_0 6 rfl rfl)
theorem dX1_combine_9 : decode cX1_combine 9 = .ok (.aload_n 0, 1) := dk_42 (dk_at dksX1_combine_0 9 rfl rfl)
theorem dX1_combine_10 : decode cX1_combine 10 = .ok (.iload_n 1, 1) := dk_27 (dk_at dksX1_combine_0 10 rfl rfl)
theorem dX1_combine_11 : decode cX1_combine 11 = .ok (.invokevirtual 214, 3) := dk_182 0 214 (dk_at dksX1_combine_0 11 rfl rfl)
theorem dX1_combine_14 : decode cX1_combine 14 = .ok (.astore_n 3, 1) := dk_78 (dk_at dksX1_combine_0 14 rfl rfl)
theorem dX1_combine_15 : decode cX1_combine 15 = .ok (.aload_n 3, 1) := dk_45 (dk_at dksX1_combine_0 15 rfl rfl)
theorem dX1_combine_16 : decode cX1_combine 16 = .ok (.iload_n 2, 1) := dk_28 (dk_at dksX1_combine_0 16 rfl rfl)
theorem dX1_combine_17 : decode cX1_combine 17 = .ok (.invokevirtual 188, 3) := dk_182 0 188 (dk_at dksX1_combine_0 17 rfl rfl)
theorem dX1_combine_20 : decode cX1_combine 20 = .ok (.astore 4, 2) := dk_58 4 (dk_at dksX1_combine_0 20 rfl rfl)
theorem dX1_combine_22 : decode cX1_combine 22 = .ok (.aload 4, 2) := dk_25 4 (dk_at dksX1_combine_0 22 rfl rfl)
theorem dX1_combine_24 : decode cX1_combine 24 = .ok (.invokeinterface 31 1, 5) := by decide +kernel
theorem dX1_combine_29 : decode cX1_combine 29 = .ok (.aload_n 3, 1) := dk_45 (dk_at dksX1_combine_1 5 rfl rfl)
theorem dX1_combine_30 : decode cX1_combine 30 = .ok (.getfield 258, 3) := dk_180 1 2 (dk_at dksX1_combine_1 6 rfl rfl)
theorem dX1_combine_33 : decode cX1_combine 33 = .ok (.if_icmp .lt 7, 3) := dk_161 0 7 (dk_at dksX1_combine_1 9 rfl rfl)
theorem dX1_combine_36 : decode cX1_combine 36 = .ok (.iconst 1, 1) := dk_4 (dk_at dksX1_combine_1 12 rfl rfl)
theorem dX1_combine_37 : decode cX1_combine 37 = .ok (.goto 4, 3) := dk_167 0 4 (dk_at dksX1_combine_1 13 rfl rfl)
theorem dX1_combine_40 : decode cX1_combine 40 = .ok (.iconst 0, 1) := dk_3 (dk_at dksX1_combine_1 16 rfl rfl)
theorem dX1_combine_41 : decode cX1_combine 41 = .ok (.invokestatic 201, 3) := dk_184 0 201 (dk_at dksX1_combine_1 17 rfl rfl)
theorem dX1_combine_44 : decode cX1_combine 44 = .ok (.aload_n 3, 1) := dk_45 (dk_at dksX1_combine_1 20 rfl rfl)
theorem dX1_combine_45 : decode cX1_combine 45 = .ok (.aload 4, 2) := dk_25 4 (dk_at dksX1_combine_1 21 rfl rfl)
theorem dX1_combine_47 : decode cX1_combine 47 = .ok (.iconst 0, 1) := dk_3 (dk_at dksX1_combine_1 23 rfl rfl)
theorem dX1_combine_48 : decode cX1_combine 48 = .ok (.invokevirtual 243, 3) := dk_182 0 243 (dk_at dksX1_combine_2 0 rfl rfl)
theorem dX1_combine_51 : decode cX1_combine 51 = .ok (.ireturn, 1) := dk_172 (dk_at dksX1_combine_2 3 rfl rfl)
abbrev cX1_agree : ByteArray := prog_1_method_40_code
def yX1_agree : MethodName := ⟨RX1, "agree", "(II)Z"⟩
def dkwX1_agree_1 : List UInt8 := [172]
abbrev dktX1_agree_1 : List UInt8 := dkwX1_agree_1 ++ []
def dkwX1_agree_0 : List UInt8 := [27, 7, 184, 0, 138, 28, 184, 0, 237, 42, 27, 182, 0, 214, 78, 45, 45, 28, 182, 0, 188, 182, 1, 5]
abbrev dktX1_agree_0 : List UInt8 := dkwX1_agree_0 ++ dktX1_agree_1
theorem dksX1_agree_0 : cX1_agree.data.toList.drop 0 = dktX1_agree_0 := by decide +kernel
theorem dksX1_agree_1 : cX1_agree.data.toList.drop 24 = dktX1_agree_1 := dk_seg dksX1_agree_0 24 rfl rfl
theorem dX1_agree_0 : decode cX1_agree 0 = .ok (.iload_n 1, 1) := dk_27 (dk_at dksX1_agree_0 0 rfl rfl)
theorem dX1_agree_1 : decode cX1_agree 1 = .ok (.iconst 4, 1) := dk_7 (dk_at dksX1_agree_0 1 rfl rfl)
theorem dX1_agree_2 : decode cX1_agree 2 = .ok (.invokestatic 138, 3) := dk_184 0 138 (dk_at dksX1_agree_0 2 rfl rfl)
theorem dX1_agree_5 : decode cX1_agree 5 = .ok (.iload_n 2, 1) := dk_28 (dk_at dksX1_agree_0 5 rfl rfl)
theorem dX1_agree_6 : decode cX1_agree 6 = .ok (.invokestatic 237, 3) := dk_184 0 237 (dk_at dksX1_agree_0 6 rfl rfl)
theorem dX1_agree_9 : decode cX1_agree 9 = .ok (.aload_n 0, 1) := dk_42 (dk_at dksX1_agree_0 9 rfl rfl)
theorem dX1_agree_10 : decode cX1_agree 10 = .ok (.iload_n 1, 1) := dk_27 (dk_at dksX1_agree_0 10 rfl rfl)
theorem dX1_agree_11 : decode cX1_agree 11 = .ok (.invokevirtual 214, 3) := dk_182 0 214 (dk_at dksX1_agree_0 11 rfl rfl)
theorem dX1_agree_14 : decode cX1_agree 14 = .ok (.astore_n 3, 1) := dk_78 (dk_at dksX1_agree_0 14 rfl rfl)
theorem dX1_agree_15 : decode cX1_agree 15 = .ok (.aload_n 3, 1) := dk_45 (dk_at dksX1_agree_0 15 rfl rfl)
theorem dX1_agree_16 : decode cX1_agree 16 = .ok (.aload_n 3, 1) := dk_45 (dk_at dksX1_agree_0 16 rfl rfl)
theorem dX1_agree_17 : decode cX1_agree 17 = .ok (.iload_n 2, 1) := dk_28 (dk_at dksX1_agree_0 17 rfl rfl)
theorem dX1_agree_18 : decode cX1_agree 18 = .ok (.invokevirtual 188, 3) := dk_182 0 188 (dk_at dksX1_agree_0 18 rfl rfl)
theorem dX1_agree_21 : decode cX1_agree 21 = .ok (.invokevirtual 261, 3) := dk_182 1 5 (dk_at dksX1_agree_0 21 rfl rfl)
theorem dX1_agree_24 : decode cX1_agree 24 = .ok (.ireturn, 1) := dk_172 (dk_at dksX1_agree_1 0 rfl rfl)
abbrev cX1_secret : ByteArray := prog_1_method_41_code
def yX1_secret : MethodName := ⟨RX1, "secret", "(II)I"⟩
def dkwX1_secret_4 : List UInt8 := [182, 1, 15, 167, 0, 15, 45, 180, 1, 25, 199, 0, 7, 3, 167, 0, 4, 4, 172]
abbrev dktX1_secret_4 : List UInt8 := dkwX1_secret_4 ++ []
def dkwX1_secret_3 : List UInt8 := [178, 1, 9, 182, 1, 15, 167, 0, 35, 45, 178, 1, 19, 182, 1, 15, 167, 0, 25, 45, 178, 1, 22]
abbrev dktX1_secret_3 : List UInt8 := dkwX1_secret_3 ++ dktX1_secret_4
def dkwX1_secret_2 : List UInt8 := [45, 180, 1, 2, 167, 0, 59, 45, 180, 0, 218, 167, 0, 52, 45, 182, 0, 212, 167, 0, 45, 45]
abbrev dktX1_secret_2 : List UInt8 := dkwX1_secret_2 ++ dktX1_secret_3
def dkwX1_secret_1 : List UInt8 := [170, 0, 0, 0, 0, 89, 0, 0, 0, 0, 0, 0, 0, 5, 0, 0, 0, 38, 0, 0, 0, 45, 0, 0, 0, 52, 0, 0, 0, 59, 0, 0, 0, 69, 0, 0, 0, 79]
abbrev dktX1_secret_1 : List UInt8 := dkwX1_secret_1 ++ dktX1_secret_2
def dkwX1_secret_0 : List UInt8 := [27, 7, 184, 0, 138, 28, 3, 16, 6, 184, 0, 142, 184, 0, 146, 42, 27, 182, 0, 214, 78, 28]
abbrev dktX1_secret_0 : List UInt8 := dkwX1_secret_0 ++ dktX1_secret_1
theorem dksX1_secret_0 : cX1_secret.data.toList.drop 0 = dktX1_secret_0 := by decide +kernel
theorem dksX1_secret_1 : cX1_secret.data.toList.drop 22 = dktX1_secret_1 := dk_seg dksX1_secret_0 22 rfl rfl
theorem dksX1_secret_2 : cX1_secret.data.toList.drop 60 = dktX1_secret_2 := dk_seg dksX1_secret_1 38 rfl rfl
theorem dksX1_secret_3 : cX1_secret.data.toList.drop 82 = dktX1_secret_3 := dk_seg dksX1_secret_2 22 rfl rfl
theorem dksX1_secret_4 : cX1_secret.data.toList.drop 105 = dktX1_secret_4 := dk_seg dksX1_secret_3 23 rfl rfl
theorem dX1_secret_0 : decode cX1_secret 0 = .ok (.iload_n 1, 1) := dk_27 (dk_at dksX1_secret_0 0 rfl rfl)
theorem dX1_secret_1 : decode cX1_secret 1 = .ok (.iconst 4, 1) := dk_7 (dk_at dksX1_secret_0 1 rfl rfl)
theorem dX1_secret_2 : decode cX1_secret 2 = .ok (.invokestatic 138, 3) := dk_184 0 138 (dk_at dksX1_secret_0 2 rfl rfl)
theorem dX1_secret_5 : decode cX1_secret 5 = .ok (.iload_n 2, 1) := dk_28 (dk_at dksX1_secret_0 5 rfl rfl)
theorem dX1_secret_6 : decode cX1_secret 6 = .ok (.iconst 0, 1) := dk_3 (dk_at dksX1_secret_0 6 rfl rfl)
theorem dX1_secret_7 : decode cX1_secret 7 = .ok (.bipush 6, 2) := dk_16 6 (dk_at dksX1_secret_0 7 rfl rfl)
theorem dX1_secret_9 : decode cX1_secret 9 = .ok (.invokestatic 142, 3) := dk_184 0 142 (dk_at dksX1_secret_0 9 rfl rfl)
theorem dX1_secret_12 : decode cX1_secret 12 = .ok (.invokestatic 146, 3) := dk_184 0 146 (dk_at dksX1_secret_0 12 rfl rfl)
theorem dX1_secret_15 : decode cX1_secret 15 = .ok (.aload_n 0, 1) := dk_42 (dk_at dksX1_secret_0 15 rfl rfl)
theorem dX1_secret_16 : decode cX1_secret 16 = .ok (.iload_n 1, 1) := dk_27 (dk_at dksX1_secret_0 16 rfl rfl)
theorem dX1_secret_17 : decode cX1_secret 17 = .ok (.invokevirtual 214, 3) := dk_182 0 214 (dk_at dksX1_secret_0 17 rfl rfl)
theorem dX1_secret_20 : decode cX1_secret 20 = .ok (.astore_n 3, 1) := dk_78 (dk_at dksX1_secret_0 20 rfl rfl)
theorem dX1_secret_21 : decode cX1_secret 21 = .ok (.iload_n 2, 1) := dk_28 (dk_at dksX1_secret_0 21 rfl rfl)
theorem dX1_secret_22 : decode cX1_secret 22 = .ok (.tableswitch 89 0 5 #[38, 45, 52, 59, 69, 79], 38) := by decide +kernel
theorem dX1_secret_60 : decode cX1_secret 60 = .ok (.aload_n 3, 1) := dk_45 (dk_at dksX1_secret_2 0 rfl rfl)
theorem dX1_secret_61 : decode cX1_secret 61 = .ok (.getfield 258, 3) := dk_180 1 2 (dk_at dksX1_secret_2 1 rfl rfl)
theorem dX1_secret_64 : decode cX1_secret 64 = .ok (.goto 59, 3) := dk_167 0 59 (dk_at dksX1_secret_2 4 rfl rfl)
theorem dX1_secret_67 : decode cX1_secret 67 = .ok (.aload_n 3, 1) := dk_45 (dk_at dksX1_secret_2 7 rfl rfl)
theorem dX1_secret_68 : decode cX1_secret 68 = .ok (.getfield 218, 3) := dk_180 0 218 (dk_at dksX1_secret_2 8 rfl rfl)
theorem dX1_secret_71 : decode cX1_secret 71 = .ok (.goto 52, 3) := dk_167 0 52 (dk_at dksX1_secret_2 11 rfl rfl)
theorem dX1_secret_74 : decode cX1_secret 74 = .ok (.aload_n 3, 1) := dk_45 (dk_at dksX1_secret_2 14 rfl rfl)
theorem dX1_secret_75 : decode cX1_secret 75 = .ok (.invokevirtual 212, 3) := dk_182 0 212 (dk_at dksX1_secret_2 15 rfl rfl)
theorem dX1_secret_78 : decode cX1_secret 78 = .ok (.goto 45, 3) := dk_167 0 45 (dk_at dksX1_secret_2 18 rfl rfl)
theorem dX1_secret_81 : decode cX1_secret 81 = .ok (.aload_n 3, 1) := dk_45 (dk_at dksX1_secret_2 21 rfl rfl)
theorem dX1_secret_82 : decode cX1_secret 82 = .ok (.getstatic 265, 3) := dk_178 1 9 (dk_at dksX1_secret_3 0 rfl rfl)
theorem dX1_secret_85 : decode cX1_secret 85 = .ok (.invokevirtual 271, 3) := dk_182 1 15 (dk_at dksX1_secret_3 3 rfl rfl)
theorem dX1_secret_88 : decode cX1_secret 88 = .ok (.goto 35, 3) := dk_167 0 35 (dk_at dksX1_secret_3 6 rfl rfl)
theorem dX1_secret_91 : decode cX1_secret 91 = .ok (.aload_n 3, 1) := dk_45 (dk_at dksX1_secret_3 9 rfl rfl)
theorem dX1_secret_92 : decode cX1_secret 92 = .ok (.getstatic 275, 3) := dk_178 1 19 (dk_at dksX1_secret_3 10 rfl rfl)
theorem dX1_secret_95 : decode cX1_secret 95 = .ok (.invokevirtual 271, 3) := dk_182 1 15 (dk_at dksX1_secret_3 13 rfl rfl)
theorem dX1_secret_98 : decode cX1_secret 98 = .ok (.goto 25, 3) := dk_167 0 25 (dk_at dksX1_secret_3 16 rfl rfl)
theorem dX1_secret_101 : decode cX1_secret 101 = .ok (.aload_n 3, 1) := dk_45 (dk_at dksX1_secret_3 19 rfl rfl)
theorem dX1_secret_102 : decode cX1_secret 102 = .ok (.getstatic 278, 3) := dk_178 1 22 (dk_at dksX1_secret_3 20 rfl rfl)
theorem dX1_secret_105 : decode cX1_secret 105 = .ok (.invokevirtual 271, 3) := dk_182 1 15 (dk_at dksX1_secret_4 0 rfl rfl)
theorem dX1_secret_108 : decode cX1_secret 108 = .ok (.goto 15, 3) := dk_167 0 15 (dk_at dksX1_secret_4 3 rfl rfl)
theorem dX1_secret_111 : decode cX1_secret 111 = .ok (.aload_n 3, 1) := dk_45 (dk_at dksX1_secret_4 6 rfl rfl)
theorem dX1_secret_112 : decode cX1_secret 112 = .ok (.getfield 281, 3) := dk_180 1 25 (dk_at dksX1_secret_4 7 rfl rfl)
theorem dX1_secret_115 : decode cX1_secret 115 = .ok (.ifnonnull 7, 3) := dk_199 0 7 (dk_at dksX1_secret_4 10 rfl rfl)
theorem dX1_secret_118 : decode cX1_secret 118 = .ok (.iconst 0, 1) := dk_3 (dk_at dksX1_secret_4 13 rfl rfl)
theorem dX1_secret_119 : decode cX1_secret 119 = .ok (.goto 4, 3) := dk_167 0 4 (dk_at dksX1_secret_4 14 rfl rfl)
theorem dX1_secret_122 : decode cX1_secret 122 = .ok (.iconst 1, 1) := dk_4 (dk_at dksX1_secret_4 17 rfl rfl)
theorem dX1_secret_123 : decode cX1_secret 123 = .ok (.ireturn, 1) := dk_172 (dk_at dksX1_secret_4 18 rfl rfl)
abbrev cX1_commitment : ByteArray := prog_1_method_42_code
def yX1_commitment : MethodName := ⟨RX1, "commitment", "(II)I"⟩
def dkwX1_commitment_1 : List UInt8 := [184, 0, 154, 45, 180, 1, 29, 28, 46, 172]
abbrev dktX1_commitment_1 : List UInt8 := dkwX1_commitment_1 ++ []
def dkwX1_commitment_0 : List UInt8 := [27, 7, 184, 0, 138, 42, 27, 182, 0, 214, 78, 28, 3, 45, 180, 1, 2, 4, 100, 184, 0, 142]
abbrev dktX1_commitment_0 : List UInt8 := dkwX1_commitment_0 ++ dktX1_commitment_1
theorem dksX1_commitment_0 : cX1_commitment.data.toList.drop 0 = dktX1_commitment_0 := by decide +kernel
theorem dksX1_commitment_1 : cX1_commitment.data.toList.drop 22 = dktX1_commitment_1 := dk_seg dksX1_commitment_0 22 rfl rfl
theorem dX1_commitment_0 : decode cX1_commitment 0 = .ok (.iload_n 1, 1) := dk_27 (dk_at dksX1_commitment_0 0 rfl rfl)
theorem dX1_commitment_1 : decode cX1_commitment 1 = .ok (.iconst 4, 1) := dk_7 (dk_at dksX1_commitment_0 1 rfl rfl)
theorem dX1_commitment_2 : decode cX1_commitment 2 = .ok (.invokestatic 138, 3) := dk_184 0 138 (dk_at dksX1_commitment_0 2 rfl rfl)
theorem dX1_commitment_5 : decode cX1_commitment 5 = .ok (.aload_n 0, 1) := dk_42 (dk_at dksX1_commitment_0 5 rfl rfl)
theorem dX1_commitment_6 : decode cX1_commitment 6 = .ok (.iload_n 1, 1) := dk_27 (dk_at dksX1_commitment_0 6 rfl rfl)
theorem dX1_commitment_7 : decode cX1_commitment 7 = .ok (.invokevirtual 214, 3) := dk_182 0 214 (dk_at dksX1_commitment_0 7 rfl rfl)
theorem dX1_commitment_10 : decode cX1_commitment 10 = .ok (.astore_n 3, 1) := dk_78 (dk_at dksX1_commitment_0 10 rfl rfl)
theorem dX1_commitment_11 : decode cX1_commitment 11 = .ok (.iload_n 2, 1) := dk_28 (dk_at dksX1_commitment_0 11 rfl rfl)
theorem dX1_commitment_12 : decode cX1_commitment 12 = .ok (.iconst 0, 1) := dk_3 (dk_at dksX1_commitment_0 12 rfl rfl)
theorem dX1_commitment_13 : decode cX1_commitment 13 = .ok (.aload_n 3, 1) := dk_45 (dk_at dksX1_commitment_0 13 rfl rfl)
theorem dX1_commitment_14 : decode cX1_commitment 14 = .ok (.getfield 258, 3) := dk_180 1 2 (dk_at dksX1_commitment_0 14 rfl rfl)
theorem dX1_commitment_17 : decode cX1_commitment 17 = .ok (.iconst 1, 1) := dk_4 (dk_at dksX1_commitment_0 17 rfl rfl)
theorem dX1_commitment_18 : decode cX1_commitment 18 = .ok (.isub, 1) := dk_100 (dk_at dksX1_commitment_0 18 rfl rfl)
theorem dX1_commitment_19 : decode cX1_commitment 19 = .ok (.invokestatic 142, 3) := dk_184 0 142 (dk_at dksX1_commitment_0 19 rfl rfl)
theorem dX1_commitment_22 : decode cX1_commitment 22 = .ok (.invokestatic 154, 3) := dk_184 0 154 (dk_at dksX1_commitment_1 0 rfl rfl)
theorem dX1_commitment_25 : decode cX1_commitment 25 = .ok (.aload_n 3, 1) := dk_45 (dk_at dksX1_commitment_1 3 rfl rfl)
theorem dX1_commitment_26 : decode cX1_commitment 26 = .ok (.getfield 285, 3) := dk_180 1 29 (dk_at dksX1_commitment_1 4 rfl rfl)
theorem dX1_commitment_29 : decode cX1_commitment 29 = .ok (.iload_n 2, 1) := dk_28 (dk_at dksX1_commitment_1 7 rfl rfl)
theorem dX1_commitment_30 : decode cX1_commitment 30 = .ok (.iaload, 1) := dk_46 (dk_at dksX1_commitment_1 8 rfl rfl)
theorem dX1_commitment_31 : decode cX1_commitment 31 = .ok (.ireturn, 1) := dk_172 (dk_at dksX1_commitment_1 9 rfl rfl)
abbrev cX1_share : ByteArray := prog_1_method_44_code
def yX1_share : MethodName := ⟨RX1, "share", "(III)I"⟩
def dkwX1_share_2 : List UInt8 := [167, 0, 16, 42, 27, 182, 0, 214, 25, 4, 182, 1, 45, 182, 1, 49, 172]
abbrev dktX1_share_2 : List UInt8 := dkwX1_share_2 ++ []
def dkwX1_share_1 : List UInt8 := [58, 4, 29, 154, 0, 11, 25, 4, 180, 1, 39, 167, 0, 29, 29, 4, 160, 0, 11, 25, 4, 180, 1, 44]
abbrev dktX1_share_1 : List UInt8 := dkwX1_share_1 ++ dktX1_share_2
def dkwX1_share_0 : List UInt8 := [27, 7, 184, 0, 138, 28, 184, 1, 32, 29, 3, 5, 184, 0, 142, 184, 0, 146, 42, 27, 28, 182, 1, 35]
abbrev dktX1_share_0 : List UInt8 := dkwX1_share_0 ++ dktX1_share_1
theorem dksX1_share_0 : cX1_share.data.toList.drop 0 = dktX1_share_0 := by decide +kernel
theorem dksX1_share_1 : cX1_share.data.toList.drop 24 = dktX1_share_1 := dk_seg dksX1_share_0 24 rfl rfl
theorem dksX1_share_2 : cX1_share.data.toList.drop 48 = dktX1_share_2 := dk_seg dksX1_share_1 24 rfl rfl
theorem dX1_share_0 : decode cX1_share 0 = .ok (.iload_n 1, 1) := dk_27 (dk_at dksX1_share_0 0 rfl rfl)
theorem dX1_share_1 : decode cX1_share 1 = .ok (.iconst 4, 1) := dk_7 (dk_at dksX1_share_0 1 rfl rfl)
theorem dX1_share_2 : decode cX1_share 2 = .ok (.invokestatic 138, 3) := dk_184 0 138 (dk_at dksX1_share_0 2 rfl rfl)
theorem dX1_share_5 : decode cX1_share 5 = .ok (.iload_n 2, 1) := dk_28 (dk_at dksX1_share_0 5 rfl rfl)
theorem dX1_share_6 : decode cX1_share 6 = .ok (.invokestatic 288, 3) := dk_184 1 32 (dk_at dksX1_share_0 6 rfl rfl)
theorem dX1_share_9 : decode cX1_share 9 = .ok (.iload_n 3, 1) := dk_29 (dk_at dksX1_share_0 9 rfl rfl)
theorem dX1_share_10 : decode cX1_share 10 = .ok (.iconst 0, 1) := dk_3 (dk_at dksX1_share_0 10 rfl rfl)
theorem dX1_share_11 : decode cX1_share 11 = .ok (.iconst 2, 1) := dk_5 (dk_at dksX1_share_0 11 rfl rfl)
theorem dX1_share_12 : decode cX1_share 12 = .ok (.invokestatic 142, 3) := dk_184 0 142 (dk_at dksX1_share_0 12 rfl rfl)
theorem dX1_share_15 : decode cX1_share 15 = .ok (.invokestatic 146, 3) := dk_184 0 146 (dk_at dksX1_share_0 15 rfl rfl)
theorem dX1_share_18 : decode cX1_share 18 = .ok (.aload_n 0, 1) := dk_42 (dk_at dksX1_share_0 18 rfl rfl)
theorem dX1_share_19 : decode cX1_share 19 = .ok (.iload_n 1, 1) := dk_27 (dk_at dksX1_share_0 19 rfl rfl)
theorem dX1_share_20 : decode cX1_share 20 = .ok (.iload_n 2, 1) := dk_28 (dk_at dksX1_share_0 20 rfl rfl)
theorem dX1_share_21 : decode cX1_share 21 = .ok (.invokevirtual 291, 3) := dk_182 1 35 (dk_at dksX1_share_0 21 rfl rfl)
theorem dX1_share_24 : decode cX1_share 24 = .ok (.astore 4, 2) := dk_58 4 (dk_at dksX1_share_1 0 rfl rfl)
theorem dX1_share_26 : decode cX1_share 26 = .ok (.iload_n 3, 1) := dk_29 (dk_at dksX1_share_1 2 rfl rfl)
theorem dX1_share_27 : decode cX1_share 27 = .ok (.ifCond .ne 11, 3) := dk_154 0 11 (dk_at dksX1_share_1 3 rfl rfl)
theorem dX1_share_30 : decode cX1_share 30 = .ok (.aload 4, 2) := dk_25 4 (dk_at dksX1_share_1 6 rfl rfl)
theorem dX1_share_32 : decode cX1_share 32 = .ok (.getfield 295, 3) := dk_180 1 39 (dk_at dksX1_share_1 8 rfl rfl)
theorem dX1_share_35 : decode cX1_share 35 = .ok (.goto 29, 3) := dk_167 0 29 (dk_at dksX1_share_1 11 rfl rfl)
theorem dX1_share_38 : decode cX1_share 38 = .ok (.iload_n 3, 1) := dk_29 (dk_at dksX1_share_1 14 rfl rfl)
theorem dX1_share_39 : decode cX1_share 39 = .ok (.iconst 1, 1) := dk_4 (dk_at dksX1_share_1 15 rfl rfl)
theorem dX1_share_40 : decode cX1_share 40 = .ok (.if_icmp .ne 11, 3) := dk_160 0 11 (dk_at dksX1_share_1 16 rfl rfl)
theorem dX1_share_43 : decode cX1_share 43 = .ok (.aload 4, 2) := dk_25 4 (dk_at dksX1_share_1 19 rfl rfl)
theorem dX1_share_45 : decode cX1_share 45 = .ok (.getfield 300, 3) := dk_180 1 44 (dk_at dksX1_share_1 21 rfl rfl)
theorem dX1_share_48 : decode cX1_share 48 = .ok (.goto 16, 3) := dk_167 0 16 (dk_at dksX1_share_2 0 rfl rfl)
theorem dX1_share_51 : decode cX1_share 51 = .ok (.aload_n 0, 1) := dk_42 (dk_at dksX1_share_2 3 rfl rfl)
theorem dX1_share_52 : decode cX1_share 52 = .ok (.iload_n 1, 1) := dk_27 (dk_at dksX1_share_2 4 rfl rfl)
theorem dX1_share_53 : decode cX1_share 53 = .ok (.invokevirtual 214, 3) := dk_182 0 214 (dk_at dksX1_share_2 5 rfl rfl)
theorem dX1_share_56 : decode cX1_share 56 = .ok (.aload 4, 2) := dk_25 4 (dk_at dksX1_share_2 8 rfl rfl)
theorem dX1_share_58 : decode cX1_share 58 = .ok (.invokevirtual 301, 3) := dk_182 1 45 (dk_at dksX1_share_2 10 rfl rfl)
theorem dX1_share_61 : decode cX1_share 61 = .ok (.invokevirtual 305, 3) := dk_182 1 49 (dk_at dksX1_share_2 13 rfl rfl)
theorem dX1_share_64 : decode cX1_share 64 = .ok (.ireturn, 1) := dk_172 (dk_at dksX1_share_2 16 rfl rfl)
abbrev cX1_requirePlace : ByteArray := prog_1_method_22_code
def yX1_requirePlace : MethodName := ⟨RX1, "requirePlace", "(I)V"⟩
def dkwX1_requirePlace_0 : List UInt8 := [26, 4, 100, 16, 24, 184, 0, 138, 177]
abbrev dktX1_requirePlace_0 : List UInt8 := dkwX1_requirePlace_0 ++ []
theorem dksX1_requirePlace_0 : cX1_requirePlace.data.toList.drop 0 = dktX1_requirePlace_0 := by decide +kernel
theorem dX1_requirePlace_0 : decode cX1_requirePlace 0 = .ok (.iload_n 0, 1) := dk_26 (dk_at dksX1_requirePlace_0 0 rfl rfl)
theorem dX1_requirePlace_1 : decode cX1_requirePlace 1 = .ok (.iconst 1, 1) := dk_4 (dk_at dksX1_requirePlace_0 1 rfl rfl)
theorem dX1_requirePlace_2 : decode cX1_requirePlace 2 = .ok (.isub, 1) := dk_100 (dk_at dksX1_requirePlace_0 2 rfl rfl)
theorem dX1_requirePlace_3 : decode cX1_requirePlace 3 = .ok (.bipush 24, 2) := dk_16 24 (dk_at dksX1_requirePlace_0 3 rfl rfl)
theorem dX1_requirePlace_5 : decode cX1_requirePlace 5 = .ok (.invokestatic 138, 3) := dk_184 0 138 (dk_at dksX1_requirePlace_0 5 rfl rfl)
theorem dX1_requirePlace_8 : decode cX1_requirePlace 8 = .ok (.return_, 1) := dk_177 (dk_at dksX1_requirePlace_0 8 rfl rfl)
abbrev cX1_shareAt : ByteArray := prog_1_method_43_code
def yX1_shareAt : MethodName := ⟨RX1, "shareAt", "(II)LSecretVault$Share;"⟩
def dkwX1_shareAt_1 : List UInt8 := [176]
abbrev dktX1_shareAt_1 : List UInt8 := dkwX1_shareAt_1 ++ []
def dkwX1_shareAt_0 : List UInt8 := [42, 27, 182, 0, 214, 180, 0, 254, 28, 50, 78, 45, 198, 0, 7, 4, 167, 0, 4, 3, 184, 0, 154, 45]
abbrev dktX1_shareAt_0 : List UInt8 := dkwX1_shareAt_0 ++ dktX1_shareAt_1
theorem dksX1_shareAt_0 : cX1_shareAt.data.toList.drop 0 = dktX1_shareAt_0 := by decide +kernel
theorem dksX1_shareAt_1 : cX1_shareAt.data.toList.drop 24 = dktX1_shareAt_1 := dk_seg dksX1_shareAt_0 24 rfl rfl
theorem dX1_shareAt_0 : decode cX1_shareAt 0 = .ok (.aload_n 0, 1) := dk_42 (dk_at dksX1_shareAt_0 0 rfl rfl)
theorem dX1_shareAt_1 : decode cX1_shareAt 1 = .ok (.iload_n 1, 1) := dk_27 (dk_at dksX1_shareAt_0 1 rfl rfl)
theorem dX1_shareAt_2 : decode cX1_shareAt 2 = .ok (.invokevirtual 214, 3) := dk_182 0 214 (dk_at dksX1_shareAt_0 2 rfl rfl)
theorem dX1_shareAt_5 : decode cX1_shareAt 5 = .ok (.getfield 254, 3) := dk_180 0 254 (dk_at dksX1_shareAt_0 5 rfl rfl)
theorem dX1_shareAt_8 : decode cX1_shareAt 8 = .ok (.iload_n 2, 1) := dk_28 (dk_at dksX1_shareAt_0 8 rfl rfl)
theorem dX1_shareAt_9 : decode cX1_shareAt 9 = .ok (.aaload, 1) := dk_50 (dk_at dksX1_shareAt_0 9 rfl rfl)
theorem dX1_shareAt_10 : decode cX1_shareAt 10 = .ok (.astore_n 3, 1) := dk_78 (dk_at dksX1_shareAt_0 10 rfl rfl)
theorem dX1_shareAt_11 : decode cX1_shareAt 11 = .ok (.aload_n 3, 1) := dk_45 (dk_at dksX1_shareAt_0 11 rfl rfl)
theorem dX1_shareAt_12 : decode cX1_shareAt 12 = .ok (.ifnull 7, 3) := dk_198 0 7 (dk_at dksX1_shareAt_0 12 rfl rfl)
theorem dX1_shareAt_15 : decode cX1_shareAt 15 = .ok (.iconst 1, 1) := dk_4 (dk_at dksX1_shareAt_0 15 rfl rfl)
theorem dX1_shareAt_16 : decode cX1_shareAt 16 = .ok (.goto 4, 3) := dk_167 0 4 (dk_at dksX1_shareAt_0 16 rfl rfl)
theorem dX1_shareAt_19 : decode cX1_shareAt 19 = .ok (.iconst 0, 1) := dk_3 (dk_at dksX1_shareAt_0 19 rfl rfl)
theorem dX1_shareAt_20 : decode cX1_shareAt 20 = .ok (.invokestatic 154, 3) := dk_184 0 154 (dk_at dksX1_shareAt_0 20 rfl rfl)
theorem dX1_shareAt_23 : decode cX1_shareAt 23 = .ok (.aload_n 3, 1) := dk_45 (dk_at dksX1_shareAt_0 23 rfl rfl)
theorem dX1_shareAt_24 : decode cX1_shareAt 24 = .ok (.areturn, 1) := dk_176 (dk_at dksX1_shareAt_1 0 rfl rfl)
abbrev cX1_setShare : ByteArray := prog_1_method_45_code
def yX1_setShare : MethodName := ⟨RX1, "setShare", "(III)I"⟩
def dkwX1_setShare_1 : List UInt8 := [182, 1, 35, 58, 4, 25, 4, 180, 1, 39, 54, 5, 25, 4, 29, 181, 1, 39, 21, 5, 172]
abbrev dktX1_setShare_1 : List UInt8 := dkwX1_setShare_1 ++ []
def dkwX1_setShare_0 : List UInt8 := [27, 7, 184, 0, 138, 28, 184, 1, 32, 29, 3, 17, 3, 250, 184, 0, 142, 184, 0, 146, 42, 27, 28]
abbrev dktX1_setShare_0 : List UInt8 := dkwX1_setShare_0 ++ dktX1_setShare_1
theorem dksX1_setShare_0 : cX1_setShare.data.toList.drop 0 = dktX1_setShare_0 := by decide +kernel
theorem dksX1_setShare_1 : cX1_setShare.data.toList.drop 23 = dktX1_setShare_1 := dk_seg dksX1_setShare_0 23 rfl rfl
theorem dX1_setShare_0 : decode cX1_setShare 0 = .ok (.iload_n 1, 1) := dk_27 (dk_at dksX1_setShare_0 0 rfl rfl)
theorem dX1_setShare_1 : decode cX1_setShare 1 = .ok (.iconst 4, 1) := dk_7 (dk_at dksX1_setShare_0 1 rfl rfl)
theorem dX1_setShare_2 : decode cX1_setShare 2 = .ok (.invokestatic 138, 3) := dk_184 0 138 (dk_at dksX1_setShare_0 2 rfl rfl)
theorem dX1_setShare_5 : decode cX1_setShare 5 = .ok (.iload_n 2, 1) := dk_28 (dk_at dksX1_setShare_0 5 rfl rfl)
theorem dX1_setShare_6 : decode cX1_setShare 6 = .ok (.invokestatic 288, 3) := dk_184 1 32 (dk_at dksX1_setShare_0 6 rfl rfl)
theorem dX1_setShare_9 : decode cX1_setShare 9 = .ok (.iload_n 3, 1) := dk_29 (dk_at dksX1_setShare_0 9 rfl rfl)
theorem dX1_setShare_10 : decode cX1_setShare 10 = .ok (.iconst 0, 1) := dk_3 (dk_at dksX1_setShare_0 10 rfl rfl)
theorem dX1_setShare_11 : decode cX1_setShare 11 = .ok (.sipush 1018, 3) := dk_17 3 250 (dk_at dksX1_setShare_0 11 rfl rfl)
theorem dX1_setShare_14 : decode cX1_setShare 14 = .ok (.invokestatic 142, 3) := dk_184 0 142 (dk_at dksX1_setShare_0 14 rfl rfl)
theorem dX1_setShare_17 : decode cX1_setShare 17 = .ok (.invokestatic 146, 3) := dk_184 0 146 (dk_at dksX1_setShare_0 17 rfl rfl)
theorem dX1_setShare_20 : decode cX1_setShare 20 = .ok (.aload_n 0, 1) := dk_42 (dk_at dksX1_setShare_0 20 rfl rfl)
theorem dX1_setShare_21 : decode cX1_setShare 21 = .ok (.iload_n 1, 1) := dk_27 (dk_at dksX1_setShare_0 21 rfl rfl)
theorem dX1_setShare_22 : decode cX1_setShare 22 = .ok (.iload_n 2, 1) := dk_28 (dk_at dksX1_setShare_0 22 rfl rfl)
theorem dX1_setShare_23 : decode cX1_setShare 23 = .ok (.invokevirtual 291, 3) := dk_182 1 35 (dk_at dksX1_setShare_1 0 rfl rfl)
theorem dX1_setShare_26 : decode cX1_setShare 26 = .ok (.astore 4, 2) := dk_58 4 (dk_at dksX1_setShare_1 3 rfl rfl)
theorem dX1_setShare_28 : decode cX1_setShare 28 = .ok (.aload 4, 2) := dk_25 4 (dk_at dksX1_setShare_1 5 rfl rfl)
theorem dX1_setShare_30 : decode cX1_setShare 30 = .ok (.getfield 295, 3) := dk_180 1 39 (dk_at dksX1_setShare_1 7 rfl rfl)
theorem dX1_setShare_33 : decode cX1_setShare 33 = .ok (.istore 5, 2) := dk_54 5 (dk_at dksX1_setShare_1 10 rfl rfl)
theorem dX1_setShare_35 : decode cX1_setShare 35 = .ok (.aload 4, 2) := dk_25 4 (dk_at dksX1_setShare_1 12 rfl rfl)
theorem dX1_setShare_37 : decode cX1_setShare 37 = .ok (.iload_n 3, 1) := dk_29 (dk_at dksX1_setShare_1 14 rfl rfl)
theorem dX1_setShare_38 : decode cX1_setShare 38 = .ok (.putfield 295, 3) := dk_181 1 39 (dk_at dksX1_setShare_1 15 rfl rfl)
theorem dX1_setShare_41 : decode cX1_setShare 41 = .ok (.iload 5, 2) := dk_21 5 (dk_at dksX1_setShare_1 18 rfl rfl)
theorem dX1_setShare_43 : decode cX1_setShare 43 = .ok (.ireturn, 1) := dk_172 (dk_at dksX1_setShare_1 20 rfl rfl)
abbrev cX1_shareText : ByteArray := prog_1_method_46_code
def yX1_shareText : MethodName := ⟨RX1, "shareText", "(III)I"⟩
def dkwX1_shareText_2 : List UInt8 := [184, 1, 55, 172]
abbrev dktX1_shareText_2 : List UInt8 := dkwX1_shareText_2 ++ []
def dkwX1_shareText_1 : List UInt8 := [187, 0, 86, 89, 183, 0, 101, 58, 4, 42, 27, 28, 182, 1, 35, 25, 4, 182, 1, 52, 25, 4, 29]
abbrev dktX1_shareText_1 : List UInt8 := dkwX1_shareText_1 ++ dktX1_shareText_2
def dkwX1_shareText_0 : List UInt8 := [27, 7, 184, 0, 138, 28, 184, 1, 32, 29, 2, 162, 0, 11, 187, 0, 10, 89, 183, 0, 12, 191]
abbrev dktX1_shareText_0 : List UInt8 := dkwX1_shareText_0 ++ dktX1_shareText_1
theorem dksX1_shareText_0 : cX1_shareText.data.toList.drop 0 = dktX1_shareText_0 := by decide +kernel
theorem dksX1_shareText_1 : cX1_shareText.data.toList.drop 22 = dktX1_shareText_1 := dk_seg dksX1_shareText_0 22 rfl rfl
theorem dksX1_shareText_2 : cX1_shareText.data.toList.drop 45 = dktX1_shareText_2 := dk_seg dksX1_shareText_1 23 rfl rfl
theorem dX1_shareText_0 : decode cX1_shareText 0 = .ok (.iload_n 1, 1) := dk_27 (dk_at dksX1_shareText_0 0 rfl rfl)
theorem dX1_shareText_1 : decode cX1_shareText 1 = .ok (.iconst 4, 1) := dk_7 (dk_at dksX1_shareText_0 1 rfl rfl)
theorem dX1_shareText_2 : decode cX1_shareText 2 = .ok (.invokestatic 138, 3) := dk_184 0 138 (dk_at dksX1_shareText_0 2 rfl rfl)
theorem dX1_shareText_5 : decode cX1_shareText 5 = .ok (.iload_n 2, 1) := dk_28 (dk_at dksX1_shareText_0 5 rfl rfl)
theorem dX1_shareText_6 : decode cX1_shareText 6 = .ok (.invokestatic 288, 3) := dk_184 1 32 (dk_at dksX1_shareText_0 6 rfl rfl)
theorem dX1_shareText_9 : decode cX1_shareText 9 = .ok (.iload_n 3, 1) := dk_29 (dk_at dksX1_shareText_0 9 rfl rfl)
theorem dX1_shareText_10 : decode cX1_shareText 10 = .ok (.iconst (-1), 1) := dk_2 (dk_at dksX1_shareText_0 10 rfl rfl)
theorem dX1_shareText_11 : decode cX1_shareText 11 = .ok (.if_icmp .ge 11, 3) := dk_162 0 11 (dk_at dksX1_shareText_0 11 rfl rfl)
theorem dX1_shareText_14 : decode cX1_shareText 14 = .ok (.new 10, 3) := dk_187 0 10 (dk_at dksX1_shareText_0 14 rfl rfl)
theorem dX1_shareText_17 : decode cX1_shareText 17 = .ok (.dup, 1) := dk_89 (dk_at dksX1_shareText_0 17 rfl rfl)
theorem dX1_shareText_18 : decode cX1_shareText 18 = .ok (.invokespecial 12, 3) := dk_183 0 12 (dk_at dksX1_shareText_0 18 rfl rfl)
theorem dX1_shareText_21 : decode cX1_shareText 21 = .ok (.athrow, 1) := dk_191 (dk_at dksX1_shareText_0 21 rfl rfl)
theorem dX1_shareText_22 : decode cX1_shareText 22 = .ok (.new 86, 3) := dk_187 0 86 (dk_at dksX1_shareText_1 0 rfl rfl)
theorem dX1_shareText_25 : decode cX1_shareText 25 = .ok (.dup, 1) := dk_89 (dk_at dksX1_shareText_1 3 rfl rfl)
theorem dX1_shareText_26 : decode cX1_shareText 26 = .ok (.invokespecial 101, 3) := dk_183 0 101 (dk_at dksX1_shareText_1 4 rfl rfl)
theorem dX1_shareText_29 : decode cX1_shareText 29 = .ok (.astore 4, 2) := dk_58 4 (dk_at dksX1_shareText_1 7 rfl rfl)
theorem dX1_shareText_31 : decode cX1_shareText 31 = .ok (.aload_n 0, 1) := dk_42 (dk_at dksX1_shareText_1 9 rfl rfl)
theorem dX1_shareText_32 : decode cX1_shareText 32 = .ok (.iload_n 1, 1) := dk_27 (dk_at dksX1_shareText_1 10 rfl rfl)
theorem dX1_shareText_33 : decode cX1_shareText 33 = .ok (.iload_n 2, 1) := dk_28 (dk_at dksX1_shareText_1 11 rfl rfl)
theorem dX1_shareText_34 : decode cX1_shareText 34 = .ok (.invokevirtual 291, 3) := dk_182 1 35 (dk_at dksX1_shareText_1 12 rfl rfl)
theorem dX1_shareText_37 : decode cX1_shareText 37 = .ok (.aload 4, 2) := dk_25 4 (dk_at dksX1_shareText_1 15 rfl rfl)
theorem dX1_shareText_39 : decode cX1_shareText 39 = .ok (.invokevirtual 308, 3) := dk_182 1 52 (dk_at dksX1_shareText_1 17 rfl rfl)
theorem dX1_shareText_42 : decode cX1_shareText 42 = .ok (.aload 4, 2) := dk_25 4 (dk_at dksX1_shareText_1 20 rfl rfl)
theorem dX1_shareText_44 : decode cX1_shareText 44 = .ok (.iload_n 3, 1) := dk_29 (dk_at dksX1_shareText_1 22 rfl rfl)
theorem dX1_shareText_45 : decode cX1_shareText 45 = .ok (.invokestatic 311, 3) := dk_184 1 55 (dk_at dksX1_shareText_2 0 rfl rfl)
theorem dX1_shareText_48 : decode cX1_shareText 48 = .ok (.ireturn, 1) := dk_172 (dk_at dksX1_shareText_2 3 rfl rfl)
abbrev cX1_characterOf : ByteArray := prog_1_method_25_code
def yX1_characterOf : MethodName := ⟨RX1, "characterOf", "(Ljava/lang/StringBuilder;I)I"⟩
def dkwX1_characterOf_1 : List UInt8 := [184, 0, 154, 42, 27, 182, 0, 167, 172]
abbrev dktX1_characterOf_1 : List UInt8 := dkwX1_characterOf_1 ++ []
def dkwX1_characterOf_0 : List UInt8 := [27, 2, 160, 0, 8, 42, 182, 0, 164, 172, 27, 42, 182, 0, 164, 162, 0, 7, 4, 167, 0, 4, 3]
abbrev dktX1_characterOf_0 : List UInt8 := dkwX1_characterOf_0 ++ dktX1_characterOf_1
theorem dksX1_characterOf_0 : cX1_characterOf.data.toList.drop 0 = dktX1_characterOf_0 := by decide +kernel
theorem dksX1_characterOf_1 : cX1_characterOf.data.toList.drop 23 = dktX1_characterOf_1 := dk_seg dksX1_characterOf_0 23 rfl rfl
theorem dX1_characterOf_0 : decode cX1_characterOf 0 = .ok (.iload_n 1, 1) := dk_27 (dk_at dksX1_characterOf_0 0 rfl rfl)
theorem dX1_characterOf_1 : decode cX1_characterOf 1 = .ok (.iconst (-1), 1) := dk_2 (dk_at dksX1_characterOf_0 1 rfl rfl)
theorem dX1_characterOf_2 : decode cX1_characterOf 2 = .ok (.if_icmp .ne 8, 3) := dk_160 0 8 (dk_at dksX1_characterOf_0 2 rfl rfl)
theorem dX1_characterOf_5 : decode cX1_characterOf 5 = .ok (.aload_n 0, 1) := dk_42 (dk_at dksX1_characterOf_0 5 rfl rfl)
theorem dX1_characterOf_6 : decode cX1_characterOf 6 = .ok (.invokevirtual 164, 3) := dk_182 0 164 (dk_at dksX1_characterOf_0 6 rfl rfl)
theorem dX1_characterOf_9 : decode cX1_characterOf 9 = .ok (.ireturn, 1) := dk_172 (dk_at dksX1_characterOf_0 9 rfl rfl)
theorem dX1_characterOf_10 : decode cX1_characterOf 10 = .ok (.iload_n 1, 1) := dk_27 (dk_at dksX1_characterOf_0 10 rfl rfl)
theorem dX1_characterOf_11 : decode cX1_characterOf 11 = .ok (.aload_n 0, 1) := dk_42 (dk_at dksX1_characterOf_0 11 rfl rfl)
theorem dX1_characterOf_12 : decode cX1_characterOf 12 = .ok (.invokevirtual 164, 3) := dk_182 0 164 (dk_at dksX1_characterOf_0 12 rfl rfl)
theorem dX1_characterOf_15 : decode cX1_characterOf 15 = .ok (.if_icmp .ge 7, 3) := dk_162 0 7 (dk_at dksX1_characterOf_0 15 rfl rfl)
theorem dX1_characterOf_18 : decode cX1_characterOf 18 = .ok (.iconst 1, 1) := dk_4 (dk_at dksX1_characterOf_0 18 rfl rfl)
theorem dX1_characterOf_19 : decode cX1_characterOf 19 = .ok (.goto 4, 3) := dk_167 0 4 (dk_at dksX1_characterOf_0 19 rfl rfl)
theorem dX1_characterOf_22 : decode cX1_characterOf 22 = .ok (.iconst 0, 1) := dk_3 (dk_at dksX1_characterOf_0 22 rfl rfl)
theorem dX1_characterOf_23 : decode cX1_characterOf 23 = .ok (.invokestatic 154, 3) := dk_184 0 154 (dk_at dksX1_characterOf_1 0 rfl rfl)
theorem dX1_characterOf_26 : decode cX1_characterOf 26 = .ok (.aload_n 0, 1) := dk_42 (dk_at dksX1_characterOf_1 3 rfl rfl)
theorem dX1_characterOf_27 : decode cX1_characterOf 27 = .ok (.iload_n 1, 1) := dk_27 (dk_at dksX1_characterOf_1 4 rfl rfl)
theorem dX1_characterOf_28 : decode cX1_characterOf 28 = .ok (.invokevirtual 167, 3) := dk_182 0 167 (dk_at dksX1_characterOf_1 5 rfl rfl)
theorem dX1_characterOf_31 : decode cX1_characterOf 31 = .ok (.ireturn, 1) := dk_172 (dk_at dksX1_characterOf_1 8 rfl rfl)
abbrev cX1_importShare : ByteArray := prog_1_method_48_code
def yX1_importShare : MethodName := ⟨RX1, "importShare", "(I)I"⟩
def dkwX1_importShare_2 : List UInt8 := [45, 180, 1, 76, 181, 0, 131, 187, 0, 1, 89, 183, 0, 3, 191]
abbrev dktX1_importShare_2 : List UInt8 := dkwX1_importShare_2 ++ []
def dkwX1_importShare_1 : List UInt8 := [183, 1, 64, 182, 1, 67, 78, 44, 180, 0, 254, 45, 180, 1, 71, 45, 83, 45, 180, 1, 71, 172, 78, 42]
abbrev dktX1_importShare_1 : List UInt8 := dkwX1_importShare_1 ++ dktX1_importShare_2
def dkwX1_importShare_0 : List UInt8 := [27, 7, 184, 0, 138, 42, 27, 182, 0, 214, 77, 42, 2, 181, 0, 131, 187, 1, 59, 89, 42, 182, 1, 61]
abbrev dktX1_importShare_0 : List UInt8 := dkwX1_importShare_0 ++ dktX1_importShare_1
theorem dksX1_importShare_0 : cX1_importShare.data.toList.drop 0 = dktX1_importShare_0 := by decide +kernel
theorem dksX1_importShare_1 : cX1_importShare.data.toList.drop 24 = dktX1_importShare_1 := dk_seg dksX1_importShare_0 24 rfl rfl
theorem dksX1_importShare_2 : cX1_importShare.data.toList.drop 48 = dktX1_importShare_2 := dk_seg dksX1_importShare_1 24 rfl rfl
theorem dX1_importShare_0 : decode cX1_importShare 0 = .ok (.iload_n 1, 1) := dk_27 (dk_at dksX1_importShare_0 0 rfl rfl)
theorem dX1_importShare_1 : decode cX1_importShare 1 = .ok (.iconst 4, 1) := dk_7 (dk_at dksX1_importShare_0 1 rfl rfl)
theorem dX1_importShare_2 : decode cX1_importShare 2 = .ok (.invokestatic 138, 3) := dk_184 0 138 (dk_at dksX1_importShare_0 2 rfl rfl)
theorem dX1_importShare_5 : decode cX1_importShare 5 = .ok (.aload_n 0, 1) := dk_42 (dk_at dksX1_importShare_0 5 rfl rfl)
theorem dX1_importShare_6 : decode cX1_importShare 6 = .ok (.iload_n 1, 1) := dk_27 (dk_at dksX1_importShare_0 6 rfl rfl)
theorem dX1_importShare_7 : decode cX1_importShare 7 = .ok (.invokevirtual 214, 3) := dk_182 0 214 (dk_at dksX1_importShare_0 7 rfl rfl)
theorem dX1_importShare_10 : decode cX1_importShare 10 = .ok (.astore_n 2, 1) := dk_77 (dk_at dksX1_importShare_0 10 rfl rfl)
theorem dX1_importShare_11 : decode cX1_importShare 11 = .ok (.aload_n 0, 1) := dk_42 (dk_at dksX1_importShare_0 11 rfl rfl)
theorem dX1_importShare_12 : decode cX1_importShare 12 = .ok (.iconst (-1), 1) := dk_2 (dk_at dksX1_importShare_0 12 rfl rfl)
theorem dX1_importShare_13 : decode cX1_importShare 13 = .ok (.putfield 131, 3) := dk_181 0 131 (dk_at dksX1_importShare_0 13 rfl rfl)
theorem dX1_importShare_16 : decode cX1_importShare 16 = .ok (.new 315, 3) := dk_187 1 59 (dk_at dksX1_importShare_0 16 rfl rfl)
theorem dX1_importShare_19 : decode cX1_importShare 19 = .ok (.dup, 1) := dk_89 (dk_at dksX1_importShare_0 19 rfl rfl)
theorem dX1_importShare_20 : decode cX1_importShare 20 = .ok (.aload_n 0, 1) := dk_42 (dk_at dksX1_importShare_0 20 rfl rfl)
theorem dX1_importShare_21 : decode cX1_importShare 21 = .ok (.invokevirtual 317, 3) := dk_182 1 61 (dk_at dksX1_importShare_0 21 rfl rfl)
theorem dX1_importShare_24 : decode cX1_importShare 24 = .ok (.invokespecial 320, 3) := dk_183 1 64 (dk_at dksX1_importShare_1 0 rfl rfl)
theorem dX1_importShare_27 : decode cX1_importShare 27 = .ok (.invokevirtual 323, 3) := dk_182 1 67 (dk_at dksX1_importShare_1 3 rfl rfl)
theorem dX1_importShare_30 : decode cX1_importShare 30 = .ok (.astore_n 3, 1) := dk_78 (dk_at dksX1_importShare_1 6 rfl rfl)
theorem dX1_importShare_31 : decode cX1_importShare 31 = .ok (.aload_n 2, 1) := dk_44 (dk_at dksX1_importShare_1 7 rfl rfl)
theorem dX1_importShare_32 : decode cX1_importShare 32 = .ok (.getfield 254, 3) := dk_180 0 254 (dk_at dksX1_importShare_1 8 rfl rfl)
theorem dX1_importShare_35 : decode cX1_importShare 35 = .ok (.aload_n 3, 1) := dk_45 (dk_at dksX1_importShare_1 11 rfl rfl)
theorem dX1_importShare_36 : decode cX1_importShare 36 = .ok (.getfield 327, 3) := dk_180 1 71 (dk_at dksX1_importShare_1 12 rfl rfl)
theorem dX1_importShare_39 : decode cX1_importShare 39 = .ok (.aload_n 3, 1) := dk_45 (dk_at dksX1_importShare_1 15 rfl rfl)
theorem dX1_importShare_40 : decode cX1_importShare 40 = .ok (.aastore, 1) := dk_83 (dk_at dksX1_importShare_1 16 rfl rfl)
theorem dX1_importShare_41 : decode cX1_importShare 41 = .ok (.aload_n 3, 1) := dk_45 (dk_at dksX1_importShare_1 17 rfl rfl)
theorem dX1_importShare_42 : decode cX1_importShare 42 = .ok (.getfield 327, 3) := dk_180 1 71 (dk_at dksX1_importShare_1 18 rfl rfl)
theorem dX1_importShare_45 : decode cX1_importShare 45 = .ok (.ireturn, 1) := dk_172 (dk_at dksX1_importShare_1 21 rfl rfl)
theorem dX1_importShare_46 : decode cX1_importShare 46 = .ok (.astore_n 3, 1) := dk_78 (dk_at dksX1_importShare_1 22 rfl rfl)
theorem dX1_importShare_47 : decode cX1_importShare 47 = .ok (.aload_n 0, 1) := dk_42 (dk_at dksX1_importShare_1 23 rfl rfl)
theorem dX1_importShare_48 : decode cX1_importShare 48 = .ok (.aload_n 3, 1) := dk_45 (dk_at dksX1_importShare_2 0 rfl rfl)
theorem dX1_importShare_49 : decode cX1_importShare 49 = .ok (.getfield 332, 3) := dk_180 1 76 (dk_at dksX1_importShare_2 1 rfl rfl)
theorem dX1_importShare_52 : decode cX1_importShare 52 = .ok (.putfield 131, 3) := dk_181 0 131 (dk_at dksX1_importShare_2 4 rfl rfl)
theorem dX1_importShare_55 : decode cX1_importShare 55 = .ok (.new 1, 3) := dk_187 0 1 (dk_at dksX1_importShare_2 7 rfl rfl)
theorem dX1_importShare_58 : decode cX1_importShare 58 = .ok (.dup, 1) := dk_89 (dk_at dksX1_importShare_2 10 rfl rfl)
theorem dX1_importShare_59 : decode cX1_importShare 59 = .ok (.invokespecial 3, 3) := dk_183 0 3 (dk_at dksX1_importShare_2 11 rfl rfl)
theorem dX1_importShare_62 : decode cX1_importShare 62 = .ok (.athrow, 1) := dk_191 (dk_at dksX1_importShare_2 14 rfl rfl)
abbrev cX1_takeBuffer : ByteArray := prog_1_method_47_code
def yX1_takeBuffer : MethodName := ⟨RX1, "takeBuffer", "()Ljava/lang/String;"⟩
def dkwX1_takeBuffer_0 : List UInt8 := [42, 180, 0, 127, 182, 0, 105, 76, 42, 180, 0, 127, 3, 182, 0, 134, 43, 176]
abbrev dktX1_takeBuffer_0 : List UInt8 := dkwX1_takeBuffer_0 ++ []
theorem dksX1_takeBuffer_0 : cX1_takeBuffer.data.toList.drop 0 = dktX1_takeBuffer_0 := by decide +kernel
theorem dX1_takeBuffer_0 : decode cX1_takeBuffer 0 = .ok (.aload_n 0, 1) := dk_42 (dk_at dksX1_takeBuffer_0 0 rfl rfl)
theorem dX1_takeBuffer_1 : decode cX1_takeBuffer 1 = .ok (.getfield 127, 3) := dk_180 0 127 (dk_at dksX1_takeBuffer_0 1 rfl rfl)
theorem dX1_takeBuffer_4 : decode cX1_takeBuffer 4 = .ok (.invokevirtual 105, 3) := dk_182 0 105 (dk_at dksX1_takeBuffer_0 4 rfl rfl)
theorem dX1_takeBuffer_7 : decode cX1_takeBuffer 7 = .ok (.astore_n 1, 1) := dk_76 (dk_at dksX1_takeBuffer_0 7 rfl rfl)
theorem dX1_takeBuffer_8 : decode cX1_takeBuffer 8 = .ok (.aload_n 0, 1) := dk_42 (dk_at dksX1_takeBuffer_0 8 rfl rfl)
theorem dX1_takeBuffer_9 : decode cX1_takeBuffer 9 = .ok (.getfield 127, 3) := dk_180 0 127 (dk_at dksX1_takeBuffer_0 9 rfl rfl)
theorem dX1_takeBuffer_12 : decode cX1_takeBuffer 12 = .ok (.iconst 0, 1) := dk_3 (dk_at dksX1_takeBuffer_0 12 rfl rfl)
theorem dX1_takeBuffer_13 : decode cX1_takeBuffer 13 = .ok (.invokevirtual 134, 3) := dk_182 0 134 (dk_at dksX1_takeBuffer_0 13 rfl rfl)
theorem dX1_takeBuffer_16 : decode cX1_takeBuffer 16 = .ok (.aload_n 1, 1) := dk_43 (dk_at dksX1_takeBuffer_0 16 rfl rfl)
theorem dX1_takeBuffer_17 : decode cX1_takeBuffer 17 = .ok (.areturn, 1) := dk_176 (dk_at dksX1_takeBuffer_0 17 rfl rfl)
abbrev cX1_bad : ByteArray := prog_1_method_49_code
def yX1_bad : MethodName := ⟨RX1, "bad", "(II)I"⟩
def dkwX1_bad_2 : List UInt8 := [21, 5, 172, 132, 4, 255, 132, 5, 1, 167, 255, 216, 187, 0, 13, 89, 183, 0, 15, 191]
abbrev dktX1_bad_2 : List UInt8 := dkwX1_bad_2 ++ []
def dkwX1_bad_1 : List UInt8 := [45, 180, 0, 254, 21, 5, 50, 198, 0, 23, 45, 21, 5, 182, 1, 79, 154, 0, 14, 21, 4, 154, 0, 6]
abbrev dktX1_bad_1 : List UInt8 := dkwX1_bad_1 ++ dktX1_bad_2
def dkwX1_bad_0 : List UInt8 := [27, 7, 184, 0, 138, 42, 27, 182, 0, 214, 78, 28, 54, 4, 4, 54, 5, 21, 5, 16, 24, 163, 0, 39]
abbrev dktX1_bad_0 : List UInt8 := dkwX1_bad_0 ++ dktX1_bad_1
theorem dksX1_bad_0 : cX1_bad.data.toList.drop 0 = dktX1_bad_0 := by decide +kernel
theorem dksX1_bad_1 : cX1_bad.data.toList.drop 24 = dktX1_bad_1 := dk_seg dksX1_bad_0 24 rfl rfl
theorem dksX1_bad_2 : cX1_bad.data.toList.drop 48 = dktX1_bad_2 := dk_seg dksX1_bad_1 24 rfl rfl
theorem dX1_bad_0 : decode cX1_bad 0 = .ok (.iload_n 1, 1) := dk_27 (dk_at dksX1_bad_0 0 rfl rfl)
theorem dX1_bad_1 : decode cX1_bad 1 = .ok (.iconst 4, 1) := dk_7 (dk_at dksX1_bad_0 1 rfl rfl)
theorem dX1_bad_2 : decode cX1_bad 2 = .ok (.invokestatic 138, 3) := dk_184 0 138 (dk_at dksX1_bad_0 2 rfl rfl)
theorem dX1_bad_5 : decode cX1_bad 5 = .ok (.aload_n 0, 1) := dk_42 (dk_at dksX1_bad_0 5 rfl rfl)
theorem dX1_bad_6 : decode cX1_bad 6 = .ok (.iload_n 1, 1) := dk_27 (dk_at dksX1_bad_0 6 rfl rfl)
theorem dX1_bad_7 : decode cX1_bad 7 = .ok (.invokevirtual 214, 3) := dk_182 0 214 (dk_at dksX1_bad_0 7 rfl rfl)
theorem dX1_bad_10 : decode cX1_bad 10 = .ok (.astore_n 3, 1) := dk_78 (dk_at dksX1_bad_0 10 rfl rfl)
theorem dX1_bad_11 : decode cX1_bad 11 = .ok (.iload_n 2, 1) := dk_28 (dk_at dksX1_bad_0 11 rfl rfl)
theorem dX1_bad_12 : decode cX1_bad 12 = .ok (.istore 4, 2) := dk_54 4 (dk_at dksX1_bad_0 12 rfl rfl)
theorem dX1_bad_14 : decode cX1_bad 14 = .ok (.iconst 1, 1) := dk_4 (dk_at dksX1_bad_0 14 rfl rfl)
theorem dX1_bad_15 : decode cX1_bad 15 = .ok (.istore 5, 2) := dk_54 5 (dk_at dksX1_bad_0 15 rfl rfl)
theorem dX1_bad_17 : decode cX1_bad 17 = .ok (.iload 5, 2) := dk_21 5 (dk_at dksX1_bad_0 17 rfl rfl)
theorem dX1_bad_19 : decode cX1_bad 19 = .ok (.bipush 24, 2) := dk_16 24 (dk_at dksX1_bad_0 19 rfl rfl)
theorem dX1_bad_21 : decode cX1_bad 21 = .ok (.if_icmp .gt 39, 3) := dk_163 0 39 (dk_at dksX1_bad_0 21 rfl rfl)
theorem dX1_bad_24 : decode cX1_bad 24 = .ok (.aload_n 3, 1) := dk_45 (dk_at dksX1_bad_1 0 rfl rfl)
theorem dX1_bad_25 : decode cX1_bad 25 = .ok (.getfield 254, 3) := dk_180 0 254 (dk_at dksX1_bad_1 1 rfl rfl)
theorem dX1_bad_28 : decode cX1_bad 28 = .ok (.iload 5, 2) := dk_21 5 (dk_at dksX1_bad_1 4 rfl rfl)
theorem dX1_bad_30 : decode cX1_bad 30 = .ok (.aaload, 1) := dk_50 (dk_at dksX1_bad_1 6 rfl rfl)
theorem dX1_bad_31 : decode cX1_bad 31 = .ok (.ifnull 23, 3) := dk_198 0 23 (dk_at dksX1_bad_1 7 rfl rfl)
theorem dX1_bad_34 : decode cX1_bad 34 = .ok (.aload_n 3, 1) := dk_45 (dk_at dksX1_bad_1 10 rfl rfl)
theorem dX1_bad_35 : decode cX1_bad 35 = .ok (.iload 5, 2) := dk_21 5 (dk_at dksX1_bad_1 11 rfl rfl)
theorem dX1_bad_37 : decode cX1_bad 37 = .ok (.invokevirtual 335, 3) := dk_182 1 79 (dk_at dksX1_bad_1 13 rfl rfl)
theorem dX1_bad_40 : decode cX1_bad 40 = .ok (.ifCond .ne 14, 3) := dk_154 0 14 (dk_at dksX1_bad_1 16 rfl rfl)
theorem dX1_bad_43 : decode cX1_bad 43 = .ok (.iload 4, 2) := dk_21 4 (dk_at dksX1_bad_1 19 rfl rfl)
theorem dX1_bad_45 : decode cX1_bad 45 = .ok (.ifCond .ne 6, 3) := dk_154 0 6 (dk_at dksX1_bad_1 21 rfl rfl)
theorem dX1_bad_48 : decode cX1_bad 48 = .ok (.iload 5, 2) := dk_21 5 (dk_at dksX1_bad_2 0 rfl rfl)
theorem dX1_bad_50 : decode cX1_bad 50 = .ok (.ireturn, 1) := dk_172 (dk_at dksX1_bad_2 2 rfl rfl)
theorem dX1_bad_51 : decode cX1_bad 51 = .ok (.iinc 4 (-1), 3) := dk_132 4 255 (dk_at dksX1_bad_2 3 rfl rfl)
theorem dX1_bad_54 : decode cX1_bad 54 = .ok (.iinc 5 1, 3) := dk_132 5 1 (dk_at dksX1_bad_2 6 rfl rfl)
theorem dX1_bad_57 : decode cX1_bad 57 = .ok (.goto (-40), 3) := dk_167 255 216 (dk_at dksX1_bad_2 9 rfl rfl)
theorem dX1_bad_60 : decode cX1_bad 60 = .ok (.new 13, 3) := dk_187 0 13 (dk_at dksX1_bad_2 12 rfl rfl)
theorem dX1_bad_63 : decode cX1_bad 63 = .ok (.dup, 1) := dk_89 (dk_at dksX1_bad_2 15 rfl rfl)
theorem dX1_bad_64 : decode cX1_bad 64 = .ok (.invokespecial 15, 3) := dk_183 0 15 (dk_at dksX1_bad_2 16 rfl rfl)
theorem dX1_bad_67 : decode cX1_bad 67 = .ok (.athrow, 1) := dk_191 (dk_at dksX1_bad_2 19 rfl rfl)
abbrev cX1_append : ByteArray := prog_1_method_50_code
def yX1_append : MethodName := ⟨RX1, "append", "(I)I"⟩
def dkwX1_append_4 : List UInt8 := [42, 180, 0, 127, 44, 182, 1, 82, 87, 42, 180, 0, 127, 182, 0, 164, 172]
abbrev dktX1_append_4 : List UInt8 := dkwX1_append_4 ++ []
def dkwX1_append_3 : List UInt8 := [180, 0, 127, 182, 0, 164, 44, 182, 0, 164, 96, 16, 40, 163, 0, 7, 4, 167, 0, 4, 3, 184, 0, 201]
abbrev dktX1_append_3 : List UInt8 := dkwX1_append_3 ++ dktX1_append_4
def dkwX1_append_2 : List UInt8 := [184, 0, 146, 21, 4, 153, 0, 11, 44, 21, 4, 146, 182, 0, 102, 87, 132, 3, 248, 167, 255, 202, 42]
abbrev dktX1_append_2 : List UInt8 := dkwX1_append_2 ++ dktX1_append_3
def dkwX1_append_1 : List UInt8 := [21, 4, 153, 0, 15, 21, 4, 16, 33, 16, 126, 184, 0, 142, 153, 0, 7, 4, 167, 0, 4, 3]
abbrev dktX1_append_1 : List UInt8 := dkwX1_append_1 ++ dktX1_append_2
def dkwX1_append_0 : List UInt8 := [187, 0, 86, 89, 183, 0, 101, 77, 16, 24, 62, 29, 155, 0, 56, 27, 29, 124, 17, 0, 255, 126, 54, 4]
abbrev dktX1_append_0 : List UInt8 := dkwX1_append_0 ++ dktX1_append_1
theorem dksX1_append_0 : cX1_append.data.toList.drop 0 = dktX1_append_0 := by decide +kernel
theorem dksX1_append_1 : cX1_append.data.toList.drop 24 = dktX1_append_1 := dk_seg dksX1_append_0 24 rfl rfl
theorem dksX1_append_2 : cX1_append.data.toList.drop 46 = dktX1_append_2 := dk_seg dksX1_append_1 22 rfl rfl
theorem dksX1_append_3 : cX1_append.data.toList.drop 69 = dktX1_append_3 := dk_seg dksX1_append_2 23 rfl rfl
theorem dksX1_append_4 : cX1_append.data.toList.drop 93 = dktX1_append_4 := dk_seg dksX1_append_3 24 rfl rfl
theorem dX1_append_0 : decode cX1_append 0 = .ok (.new 86, 3) := dk_187 0 86 (dk_at dksX1_append_0 0 rfl rfl)
theorem dX1_append_3 : decode cX1_append 3 = .ok (.dup, 1) := dk_89 (dk_at dksX1_append_0 3 rfl rfl)
theorem dX1_append_4 : decode cX1_append 4 = .ok (.invokespecial 101, 3) := dk_183 0 101 (dk_at dksX1_append_0 4 rfl rfl)
theorem dX1_append_7 : decode cX1_append 7 = .ok (.astore_n 2, 1) := dk_77 (dk_at dksX1_append_0 7 rfl rfl)
theorem dX1_append_8 : decode cX1_append 8 = .ok (.bipush 24, 2) := dk_16 24 (dk_at dksX1_append_0 8 rfl rfl)
theorem dX1_append_10 : decode cX1_append 10 = .ok (.istore_n 3, 1) := dk_62 (dk_at dksX1_append_0 10 rfl rfl)
theorem dX1_append_11 : decode cX1_append 11 = .ok (.iload_n 3, 1) := dk_29 (dk_at dksX1_append_0 11 rfl rfl)
theorem dX1_append_12 : decode cX1_append 12 = .ok (.ifCond .lt 56, 3) := dk_155 0 56 (dk_at dksX1_append_0 12 rfl rfl)
theorem dX1_append_15 : decode cX1_append 15 = .ok (.iload_n 1, 1) := dk_27 (dk_at dksX1_append_0 15 rfl rfl)
theorem dX1_append_16 : decode cX1_append 16 = .ok (.iload_n 3, 1) := dk_29 (dk_at dksX1_append_0 16 rfl rfl)
theorem dX1_append_17 : decode cX1_append 17 = .ok (.iushr, 1) := dk_124 (dk_at dksX1_append_0 17 rfl rfl)
theorem dX1_append_18 : decode cX1_append 18 = .ok (.sipush 255, 3) := dk_17 0 255 (dk_at dksX1_append_0 18 rfl rfl)
theorem dX1_append_21 : decode cX1_append 21 = .ok (.iand, 1) := dk_126 (dk_at dksX1_append_0 21 rfl rfl)
theorem dX1_append_22 : decode cX1_append 22 = .ok (.istore 4, 2) := dk_54 4 (dk_at dksX1_append_0 22 rfl rfl)
theorem dX1_append_24 : decode cX1_append 24 = .ok (.iload 4, 2) := dk_21 4 (dk_at dksX1_append_1 0 rfl rfl)
theorem dX1_append_26 : decode cX1_append 26 = .ok (.ifCond .eq 15, 3) := dk_153 0 15 (dk_at dksX1_append_1 2 rfl rfl)
theorem dX1_append_29 : decode cX1_append 29 = .ok (.iload 4, 2) := dk_21 4 (dk_at dksX1_append_1 5 rfl rfl)
theorem dX1_append_31 : decode cX1_append 31 = .ok (.bipush 33, 2) := dk_16 33 (dk_at dksX1_append_1 7 rfl rfl)
theorem dX1_append_33 : decode cX1_append 33 = .ok (.bipush 126, 2) := dk_16 126 (dk_at dksX1_append_1 9 rfl rfl)
theorem dX1_append_35 : decode cX1_append 35 = .ok (.invokestatic 142, 3) := dk_184 0 142 (dk_at dksX1_append_1 11 rfl rfl)
theorem dX1_append_38 : decode cX1_append 38 = .ok (.ifCond .eq 7, 3) := dk_153 0 7 (dk_at dksX1_append_1 14 rfl rfl)
theorem dX1_append_41 : decode cX1_append 41 = .ok (.iconst 1, 1) := dk_4 (dk_at dksX1_append_1 17 rfl rfl)
theorem dX1_append_42 : decode cX1_append 42 = .ok (.goto 4, 3) := dk_167 0 4 (dk_at dksX1_append_1 18 rfl rfl)
theorem dX1_append_45 : decode cX1_append 45 = .ok (.iconst 0, 1) := dk_3 (dk_at dksX1_append_1 21 rfl rfl)
theorem dX1_append_46 : decode cX1_append 46 = .ok (.invokestatic 146, 3) := dk_184 0 146 (dk_at dksX1_append_2 0 rfl rfl)
theorem dX1_append_49 : decode cX1_append 49 = .ok (.iload 4, 2) := dk_21 4 (dk_at dksX1_append_2 3 rfl rfl)
theorem dX1_append_51 : decode cX1_append 51 = .ok (.ifCond .eq 11, 3) := dk_153 0 11 (dk_at dksX1_append_2 5 rfl rfl)
theorem dX1_append_54 : decode cX1_append 54 = .ok (.aload_n 2, 1) := dk_44 (dk_at dksX1_append_2 8 rfl rfl)
theorem dX1_append_55 : decode cX1_append 55 = .ok (.iload 4, 2) := dk_21 4 (dk_at dksX1_append_2 9 rfl rfl)
theorem dX1_append_57 : decode cX1_append 57 = .ok (.i2c, 1) := dk_146 (dk_at dksX1_append_2 11 rfl rfl)
theorem dX1_append_58 : decode cX1_append 58 = .ok (.invokevirtual 102, 3) := dk_182 0 102 (dk_at dksX1_append_2 12 rfl rfl)
theorem dX1_append_61 : decode cX1_append 61 = .ok (.pop, 1) := dk_87 (dk_at dksX1_append_2 15 rfl rfl)
theorem dX1_append_62 : decode cX1_append 62 = .ok (.iinc 3 (-8), 3) := dk_132 3 248 (dk_at dksX1_append_2 16 rfl rfl)
theorem dX1_append_65 : decode cX1_append 65 = .ok (.goto (-54), 3) := dk_167 255 202 (dk_at dksX1_append_2 19 rfl rfl)
theorem dX1_append_68 : decode cX1_append 68 = .ok (.aload_n 0, 1) := dk_42 (dk_at dksX1_append_2 22 rfl rfl)
theorem dX1_append_69 : decode cX1_append 69 = .ok (.getfield 127, 3) := dk_180 0 127 (dk_at dksX1_append_3 0 rfl rfl)
theorem dX1_append_72 : decode cX1_append 72 = .ok (.invokevirtual 164, 3) := dk_182 0 164 (dk_at dksX1_append_3 3 rfl rfl)
theorem dX1_append_75 : decode cX1_append 75 = .ok (.aload_n 2, 1) := dk_44 (dk_at dksX1_append_3 6 rfl rfl)
theorem dX1_append_76 : decode cX1_append 76 = .ok (.invokevirtual 164, 3) := dk_182 0 164 (dk_at dksX1_append_3 7 rfl rfl)
theorem dX1_append_79 : decode cX1_append 79 = .ok (.iadd, 1) := dk_96 (dk_at dksX1_append_3 10 rfl rfl)
theorem dX1_append_80 : decode cX1_append 80 = .ok (.bipush 40, 2) := dk_16 40 (dk_at dksX1_append_3 11 rfl rfl)
theorem dX1_append_82 : decode cX1_append 82 = .ok (.if_icmp .gt 7, 3) := dk_163 0 7 (dk_at dksX1_append_3 13 rfl rfl)
theorem dX1_append_85 : decode cX1_append 85 = .ok (.iconst 1, 1) := dk_4 (dk_at dksX1_append_3 16 rfl rfl)
theorem dX1_append_86 : decode cX1_append 86 = .ok (.goto 4, 3) := dk_167 0 4 (dk_at dksX1_append_3 17 rfl rfl)
theorem dX1_append_89 : decode cX1_append 89 = .ok (.iconst 0, 1) := dk_3 (dk_at dksX1_append_3 20 rfl rfl)
theorem dX1_append_90 : decode cX1_append 90 = .ok (.invokestatic 201, 3) := dk_184 0 201 (dk_at dksX1_append_3 21 rfl rfl)
theorem dX1_append_93 : decode cX1_append 93 = .ok (.aload_n 0, 1) := dk_42 (dk_at dksX1_append_4 0 rfl rfl)
theorem dX1_append_94 : decode cX1_append 94 = .ok (.getfield 127, 3) := dk_180 0 127 (dk_at dksX1_append_4 1 rfl rfl)
theorem dX1_append_97 : decode cX1_append 97 = .ok (.aload_n 2, 1) := dk_44 (dk_at dksX1_append_4 4 rfl rfl)
theorem dX1_append_98 : decode cX1_append 98 = .ok (.invokevirtual 338, 3) := dk_182 1 82 (dk_at dksX1_append_4 5 rfl rfl)
theorem dX1_append_101 : decode cX1_append 101 = .ok (.pop, 1) := dk_87 (dk_at dksX1_append_4 8 rfl rfl)
theorem dX1_append_102 : decode cX1_append 102 = .ok (.aload_n 0, 1) := dk_42 (dk_at dksX1_append_4 9 rfl rfl)
theorem dX1_append_103 : decode cX1_append 103 = .ok (.getfield 127, 3) := dk_180 0 127 (dk_at dksX1_append_4 10 rfl rfl)
theorem dX1_append_106 : decode cX1_append 106 = .ok (.invokevirtual 164, 3) := dk_182 0 164 (dk_at dksX1_append_4 13 rfl rfl)
theorem dX1_append_109 : decode cX1_append 109 = .ok (.ireturn, 1) := dk_172 (dk_at dksX1_append_4 16 rfl rfl)
abbrev cX1_setPolicy : ByteArray := prog_1_method_51_code
def yX1_setPolicy : MethodName := ⟨RX1, "setPolicy", "(I)Z"⟩
def dkwX1_setPolicy_3 : List UInt8 := [180, 1, 76, 181, 0, 131, 187, 0, 1, 89, 183, 0, 3, 191, 21, 4, 172]
abbrev dktX1_setPolicy_3 : List UInt8 := dkwX1_setPolicy_3 ++ []
def dkwX1_setPolicy_2 : List UInt8 := [187, 1, 59, 89, 45, 183, 1, 64, 182, 1, 88, 181, 1, 25, 167, 0, 22, 58, 5, 42, 25, 5]
abbrev dktX1_setPolicy_2 : List UInt8 := dkwX1_setPolicy_2 ++ dktX1_setPolicy_3
def dkwX1_setPolicy_1 : List UInt8 := [167, 0, 4, 3, 54, 4, 42, 2, 181, 0, 131, 44, 45, 182, 1, 85, 154, 0, 7, 1, 167, 0, 14]
abbrev dktX1_setPolicy_1 : List UInt8 := dkwX1_setPolicy_1 ++ dktX1_setPolicy_2
def dkwX1_setPolicy_0 : List UInt8 := [27, 7, 184, 0, 138, 42, 27, 182, 0, 214, 77, 42, 182, 1, 61, 78, 44, 180, 1, 25, 198, 0, 7, 4]
abbrev dktX1_setPolicy_0 : List UInt8 := dkwX1_setPolicy_0 ++ dktX1_setPolicy_1
theorem dksX1_setPolicy_0 : cX1_setPolicy.data.toList.drop 0 = dktX1_setPolicy_0 := by decide +kernel
theorem dksX1_setPolicy_1 : cX1_setPolicy.data.toList.drop 24 = dktX1_setPolicy_1 := dk_seg dksX1_setPolicy_0 24 rfl rfl
theorem dksX1_setPolicy_2 : cX1_setPolicy.data.toList.drop 47 = dktX1_setPolicy_2 := dk_seg dksX1_setPolicy_1 23 rfl rfl
theorem dksX1_setPolicy_3 : cX1_setPolicy.data.toList.drop 69 = dktX1_setPolicy_3 := dk_seg dksX1_setPolicy_2 22 rfl rfl
theorem dX1_setPolicy_0 : decode cX1_setPolicy 0 = .ok (.iload_n 1, 1) := dk_27 (dk_at dksX1_setPolicy_0 0 rfl rfl)
theorem dX1_setPolicy_1 : decode cX1_setPolicy 1 = .ok (.iconst 4, 1) := dk_7 (dk_at dksX1_setPolicy_0 1 rfl rfl)
theorem dX1_setPolicy_2 : decode cX1_setPolicy 2 = .ok (.invokestatic 138, 3) := dk_184 0 138 (dk_at dksX1_setPolicy_0 2 rfl rfl)
theorem dX1_setPolicy_5 : decode cX1_setPolicy 5 = .ok (.aload_n 0, 1) := dk_42 (dk_at dksX1_setPolicy_0 5 rfl rfl)
theorem dX1_setPolicy_6 : decode cX1_setPolicy 6 = .ok (.iload_n 1, 1) := dk_27 (dk_at dksX1_setPolicy_0 6 rfl rfl)
theorem dX1_setPolicy_7 : decode cX1_setPolicy 7 = .ok (.invokevirtual 214, 3) := dk_182 0 214 (dk_at dksX1_setPolicy_0 7 rfl rfl)
theorem dX1_setPolicy_10 : decode cX1_setPolicy 10 = .ok (.astore_n 2, 1) := dk_77 (dk_at dksX1_setPolicy_0 10 rfl rfl)
theorem dX1_setPolicy_11 : decode cX1_setPolicy 11 = .ok (.aload_n 0, 1) := dk_42 (dk_at dksX1_setPolicy_0 11 rfl rfl)
theorem dX1_setPolicy_12 : decode cX1_setPolicy 12 = .ok (.invokevirtual 317, 3) := dk_182 1 61 (dk_at dksX1_setPolicy_0 12 rfl rfl)
theorem dX1_setPolicy_15 : decode cX1_setPolicy 15 = .ok (.astore_n 3, 1) := dk_78 (dk_at dksX1_setPolicy_0 15 rfl rfl)
theorem dX1_setPolicy_16 : decode cX1_setPolicy 16 = .ok (.aload_n 2, 1) := dk_44 (dk_at dksX1_setPolicy_0 16 rfl rfl)
theorem dX1_setPolicy_17 : decode cX1_setPolicy 17 = .ok (.getfield 281, 3) := dk_180 1 25 (dk_at dksX1_setPolicy_0 17 rfl rfl)
theorem dX1_setPolicy_20 : decode cX1_setPolicy 20 = .ok (.ifnull 7, 3) := dk_198 0 7 (dk_at dksX1_setPolicy_0 20 rfl rfl)
theorem dX1_setPolicy_23 : decode cX1_setPolicy 23 = .ok (.iconst 1, 1) := dk_4 (dk_at dksX1_setPolicy_0 23 rfl rfl)
theorem dX1_setPolicy_24 : decode cX1_setPolicy 24 = .ok (.goto 4, 3) := dk_167 0 4 (dk_at dksX1_setPolicy_1 0 rfl rfl)
theorem dX1_setPolicy_27 : decode cX1_setPolicy 27 = .ok (.iconst 0, 1) := dk_3 (dk_at dksX1_setPolicy_1 3 rfl rfl)
theorem dX1_setPolicy_28 : decode cX1_setPolicy 28 = .ok (.istore 4, 2) := dk_54 4 (dk_at dksX1_setPolicy_1 4 rfl rfl)
theorem dX1_setPolicy_30 : decode cX1_setPolicy 30 = .ok (.aload_n 0, 1) := dk_42 (dk_at dksX1_setPolicy_1 6 rfl rfl)
theorem dX1_setPolicy_31 : decode cX1_setPolicy 31 = .ok (.iconst (-1), 1) := dk_2 (dk_at dksX1_setPolicy_1 7 rfl rfl)
theorem dX1_setPolicy_32 : decode cX1_setPolicy 32 = .ok (.putfield 131, 3) := dk_181 0 131 (dk_at dksX1_setPolicy_1 8 rfl rfl)
theorem dX1_setPolicy_35 : decode cX1_setPolicy 35 = .ok (.aload_n 2, 1) := dk_44 (dk_at dksX1_setPolicy_1 11 rfl rfl)
theorem dX1_setPolicy_36 : decode cX1_setPolicy 36 = .ok (.aload_n 3, 1) := dk_45 (dk_at dksX1_setPolicy_1 12 rfl rfl)
theorem dX1_setPolicy_37 : decode cX1_setPolicy 37 = .ok (.invokevirtual 341, 3) := dk_182 1 85 (dk_at dksX1_setPolicy_1 13 rfl rfl)
theorem dX1_setPolicy_40 : decode cX1_setPolicy 40 = .ok (.ifCond .ne 7, 3) := dk_154 0 7 (dk_at dksX1_setPolicy_1 16 rfl rfl)
theorem dX1_setPolicy_43 : decode cX1_setPolicy 43 = .ok (.aconst_null, 1) := dk_1 (dk_at dksX1_setPolicy_1 19 rfl rfl)
theorem dX1_setPolicy_44 : decode cX1_setPolicy 44 = .ok (.goto 14, 3) := dk_167 0 14 (dk_at dksX1_setPolicy_1 20 rfl rfl)
theorem dX1_setPolicy_47 : decode cX1_setPolicy 47 = .ok (.new 315, 3) := dk_187 1 59 (dk_at dksX1_setPolicy_2 0 rfl rfl)
theorem dX1_setPolicy_50 : decode cX1_setPolicy 50 = .ok (.dup, 1) := dk_89 (dk_at dksX1_setPolicy_2 3 rfl rfl)
theorem dX1_setPolicy_51 : decode cX1_setPolicy 51 = .ok (.aload_n 3, 1) := dk_45 (dk_at dksX1_setPolicy_2 4 rfl rfl)
theorem dX1_setPolicy_52 : decode cX1_setPolicy 52 = .ok (.invokespecial 320, 3) := dk_183 1 64 (dk_at dksX1_setPolicy_2 5 rfl rfl)
theorem dX1_setPolicy_55 : decode cX1_setPolicy 55 = .ok (.invokevirtual 344, 3) := dk_182 1 88 (dk_at dksX1_setPolicy_2 8 rfl rfl)
theorem dX1_setPolicy_58 : decode cX1_setPolicy 58 = .ok (.putfield 281, 3) := dk_181 1 25 (dk_at dksX1_setPolicy_2 11 rfl rfl)
theorem dX1_setPolicy_61 : decode cX1_setPolicy 61 = .ok (.goto 22, 3) := dk_167 0 22 (dk_at dksX1_setPolicy_2 14 rfl rfl)
theorem dX1_setPolicy_64 : decode cX1_setPolicy 64 = .ok (.astore 5, 2) := dk_58 5 (dk_at dksX1_setPolicy_2 17 rfl rfl)
theorem dX1_setPolicy_66 : decode cX1_setPolicy 66 = .ok (.aload_n 0, 1) := dk_42 (dk_at dksX1_setPolicy_2 19 rfl rfl)
theorem dX1_setPolicy_67 : decode cX1_setPolicy 67 = .ok (.aload 5, 2) := dk_25 5 (dk_at dksX1_setPolicy_2 20 rfl rfl)
theorem dX1_setPolicy_69 : decode cX1_setPolicy 69 = .ok (.getfield 332, 3) := dk_180 1 76 (dk_at dksX1_setPolicy_3 0 rfl rfl)
theorem dX1_setPolicy_72 : decode cX1_setPolicy 72 = .ok (.putfield 131, 3) := dk_181 0 131 (dk_at dksX1_setPolicy_3 3 rfl rfl)
theorem dX1_setPolicy_75 : decode cX1_setPolicy 75 = .ok (.new 1, 3) := dk_187 0 1 (dk_at dksX1_setPolicy_3 6 rfl rfl)
theorem dX1_setPolicy_78 : decode cX1_setPolicy 78 = .ok (.dup, 1) := dk_89 (dk_at dksX1_setPolicy_3 9 rfl rfl)
theorem dX1_setPolicy_79 : decode cX1_setPolicy 79 = .ok (.invokespecial 3, 3) := dk_183 0 3 (dk_at dksX1_setPolicy_3 10 rfl rfl)
theorem dX1_setPolicy_82 : decode cX1_setPolicy 82 = .ok (.athrow, 1) := dk_191 (dk_at dksX1_setPolicy_3 13 rfl rfl)
theorem dX1_setPolicy_83 : decode cX1_setPolicy 83 = .ok (.iload 4, 2) := dk_21 4 (dk_at dksX1_setPolicy_3 14 rfl rfl)
theorem dX1_setPolicy_85 : decode cX1_setPolicy 85 = .ok (.ireturn, 1) := dk_172 (dk_at dksX1_setPolicy_3 16 rfl rfl)
abbrev cX1_fulfils : ByteArray := prog_1_method_53_code
def yX1_fulfils : MethodName := ⟨RX1, "fulfils", "(II)Z"⟩
def dkwX1_fulfils_0 : List UInt8 := [27, 7, 184, 0, 138, 28, 184, 0, 237, 42, 27, 182, 0, 214, 28, 182, 1, 92, 172]
abbrev dktX1_fulfils_0 : List UInt8 := dkwX1_fulfils_0 ++ []
theorem dksX1_fulfils_0 : cX1_fulfils.data.toList.drop 0 = dktX1_fulfils_0 := by decide +kernel
theorem dX1_fulfils_0 : decode cX1_fulfils 0 = .ok (.iload_n 1, 1) := dk_27 (dk_at dksX1_fulfils_0 0 rfl rfl)
theorem dX1_fulfils_1 : decode cX1_fulfils 1 = .ok (.iconst 4, 1) := dk_7 (dk_at dksX1_fulfils_0 1 rfl rfl)
theorem dX1_fulfils_2 : decode cX1_fulfils 2 = .ok (.invokestatic 138, 3) := dk_184 0 138 (dk_at dksX1_fulfils_0 2 rfl rfl)
theorem dX1_fulfils_5 : decode cX1_fulfils 5 = .ok (.iload_n 2, 1) := dk_28 (dk_at dksX1_fulfils_0 5 rfl rfl)
theorem dX1_fulfils_6 : decode cX1_fulfils 6 = .ok (.invokestatic 237, 3) := dk_184 0 237 (dk_at dksX1_fulfils_0 6 rfl rfl)
theorem dX1_fulfils_9 : decode cX1_fulfils 9 = .ok (.aload_n 0, 1) := dk_42 (dk_at dksX1_fulfils_0 9 rfl rfl)
theorem dX1_fulfils_10 : decode cX1_fulfils 10 = .ok (.iload_n 1, 1) := dk_27 (dk_at dksX1_fulfils_0 10 rfl rfl)
theorem dX1_fulfils_11 : decode cX1_fulfils 11 = .ok (.invokevirtual 214, 3) := dk_182 0 214 (dk_at dksX1_fulfils_0 11 rfl rfl)
theorem dX1_fulfils_14 : decode cX1_fulfils 14 = .ok (.iload_n 2, 1) := dk_28 (dk_at dksX1_fulfils_0 14 rfl rfl)
theorem dX1_fulfils_15 : decode cX1_fulfils 15 = .ok (.invokevirtual 348, 3) := dk_182 1 92 (dk_at dksX1_fulfils_0 15 rfl rfl)
theorem dX1_fulfils_18 : decode cX1_fulfils 18 = .ok (.ireturn, 1) := dk_172 (dk_at dksX1_fulfils_0 18 rfl rfl)
abbrev cX1_policyText : ByteArray := prog_1_method_55_code
def yX1_policyText : MethodName := ⟨RX1, "policyText", "(II)I"⟩
def dkwX1_policyText_1 : List UInt8 := [183, 0, 101, 78, 42, 27, 182, 1, 93, 45, 184, 0, 111, 45, 28, 184, 1, 55, 172]
abbrev dktX1_policyText_1 : List UInt8 := dkwX1_policyText_1 ++ []
def dkwX1_policyText_0 : List UInt8 := [27, 7, 184, 0, 138, 28, 2, 162, 0, 11, 187, 0, 10, 89, 183, 0, 12, 191, 187, 0, 86, 89]
abbrev dktX1_policyText_0 : List UInt8 := dkwX1_policyText_0 ++ dktX1_policyText_1
theorem dksX1_policyText_0 : cX1_policyText.data.toList.drop 0 = dktX1_policyText_0 := by decide +kernel
theorem dksX1_policyText_1 : cX1_policyText.data.toList.drop 22 = dktX1_policyText_1 := dk_seg dksX1_policyText_0 22 rfl rfl
theorem dX1_policyText_0 : decode cX1_policyText 0 = .ok (.iload_n 1, 1) := dk_27 (dk_at dksX1_policyText_0 0 rfl rfl)
theorem dX1_policyText_1 : decode cX1_policyText 1 = .ok (.iconst 4, 1) := dk_7 (dk_at dksX1_policyText_0 1 rfl rfl)
theorem dX1_policyText_2 : decode cX1_policyText 2 = .ok (.invokestatic 138, 3) := dk_184 0 138 (dk_at dksX1_policyText_0 2 rfl rfl)
theorem dX1_policyText_5 : decode cX1_policyText 5 = .ok (.iload_n 2, 1) := dk_28 (dk_at dksX1_policyText_0 5 rfl rfl)
theorem dX1_policyText_6 : decode cX1_policyText 6 = .ok (.iconst (-1), 1) := dk_2 (dk_at dksX1_policyText_0 6 rfl rfl)
theorem dX1_policyText_7 : decode cX1_policyText 7 = .ok (.if_icmp .ge 11, 3) := dk_162 0 11 (dk_at dksX1_policyText_0 7 rfl rfl)
theorem dX1_policyText_10 : decode cX1_policyText 10 = .ok (.new 10, 3) := dk_187 0 10 (dk_at dksX1_policyText_0 10 rfl rfl)
theorem dX1_policyText_13 : decode cX1_policyText 13 = .ok (.dup, 1) := dk_89 (dk_at dksX1_policyText_0 13 rfl rfl)
theorem dX1_policyText_14 : decode cX1_policyText 14 = .ok (.invokespecial 12, 3) := dk_183 0 12 (dk_at dksX1_policyText_0 14 rfl rfl)
theorem dX1_policyText_17 : decode cX1_policyText 17 = .ok (.athrow, 1) := dk_191 (dk_at dksX1_policyText_0 17 rfl rfl)
theorem dX1_policyText_18 : decode cX1_policyText 18 = .ok (.new 86, 3) := dk_187 0 86 (dk_at dksX1_policyText_0 18 rfl rfl)
theorem dX1_policyText_21 : decode cX1_policyText 21 = .ok (.dup, 1) := dk_89 (dk_at dksX1_policyText_0 21 rfl rfl)
theorem dX1_policyText_22 : decode cX1_policyText 22 = .ok (.invokespecial 101, 3) := dk_183 0 101 (dk_at dksX1_policyText_1 0 rfl rfl)
theorem dX1_policyText_25 : decode cX1_policyText 25 = .ok (.astore_n 3, 1) := dk_78 (dk_at dksX1_policyText_1 3 rfl rfl)
theorem dX1_policyText_26 : decode cX1_policyText 26 = .ok (.aload_n 0, 1) := dk_42 (dk_at dksX1_policyText_1 4 rfl rfl)
theorem dX1_policyText_27 : decode cX1_policyText 27 = .ok (.iload_n 1, 1) := dk_27 (dk_at dksX1_policyText_1 5 rfl rfl)
theorem dX1_policyText_28 : decode cX1_policyText 28 = .ok (.invokevirtual 349, 3) := dk_182 1 93 (dk_at dksX1_policyText_1 6 rfl rfl)
theorem dX1_policyText_31 : decode cX1_policyText 31 = .ok (.aload_n 3, 1) := dk_45 (dk_at dksX1_policyText_1 9 rfl rfl)
theorem dX1_policyText_32 : decode cX1_policyText 32 = .ok (.invokestatic 111, 3) := dk_184 0 111 (dk_at dksX1_policyText_1 10 rfl rfl)
theorem dX1_policyText_35 : decode cX1_policyText 35 = .ok (.aload_n 3, 1) := dk_45 (dk_at dksX1_policyText_1 13 rfl rfl)
theorem dX1_policyText_36 : decode cX1_policyText 36 = .ok (.iload_n 2, 1) := dk_28 (dk_at dksX1_policyText_1 14 rfl rfl)
theorem dX1_policyText_37 : decode cX1_policyText 37 = .ok (.invokestatic 311, 3) := dk_184 1 55 (dk_at dksX1_policyText_1 15 rfl rfl)
theorem dX1_policyText_40 : decode cX1_policyText 40 = .ok (.ireturn, 1) := dk_172 (dk_at dksX1_policyText_1 18 rfl rfl)
abbrev cX1_policyOf : ByteArray := prog_1_method_54_code
def yX1_policyOf : MethodName := ⟨RX1, "policyOf", "(I)LSecretVault$Policy;"⟩
def dkwX1_policyOf_0 : List UInt8 := [42, 27, 182, 0, 214, 180, 1, 25, 77, 44, 198, 0, 7, 4, 167, 0, 4, 3, 184, 0, 154, 44, 176]
abbrev dktX1_policyOf_0 : List UInt8 := dkwX1_policyOf_0 ++ []
theorem dksX1_policyOf_0 : cX1_policyOf.data.toList.drop 0 = dktX1_policyOf_0 := by decide +kernel
theorem dX1_policyOf_0 : decode cX1_policyOf 0 = .ok (.aload_n 0, 1) := dk_42 (dk_at dksX1_policyOf_0 0 rfl rfl)
theorem dX1_policyOf_1 : decode cX1_policyOf 1 = .ok (.iload_n 1, 1) := dk_27 (dk_at dksX1_policyOf_0 1 rfl rfl)
theorem dX1_policyOf_2 : decode cX1_policyOf 2 = .ok (.invokevirtual 214, 3) := dk_182 0 214 (dk_at dksX1_policyOf_0 2 rfl rfl)
theorem dX1_policyOf_5 : decode cX1_policyOf 5 = .ok (.getfield 281, 3) := dk_180 1 25 (dk_at dksX1_policyOf_0 5 rfl rfl)
theorem dX1_policyOf_8 : decode cX1_policyOf 8 = .ok (.astore_n 2, 1) := dk_77 (dk_at dksX1_policyOf_0 8 rfl rfl)
theorem dX1_policyOf_9 : decode cX1_policyOf 9 = .ok (.aload_n 2, 1) := dk_44 (dk_at dksX1_policyOf_0 9 rfl rfl)
theorem dX1_policyOf_10 : decode cX1_policyOf 10 = .ok (.ifnull 7, 3) := dk_198 0 7 (dk_at dksX1_policyOf_0 10 rfl rfl)
theorem dX1_policyOf_13 : decode cX1_policyOf 13 = .ok (.iconst 1, 1) := dk_4 (dk_at dksX1_policyOf_0 13 rfl rfl)
theorem dX1_policyOf_14 : decode cX1_policyOf 14 = .ok (.goto 4, 3) := dk_167 0 4 (dk_at dksX1_policyOf_0 14 rfl rfl)
theorem dX1_policyOf_17 : decode cX1_policyOf 17 = .ok (.iconst 0, 1) := dk_3 (dk_at dksX1_policyOf_0 17 rfl rfl)
theorem dX1_policyOf_18 : decode cX1_policyOf 18 = .ok (.invokestatic 154, 3) := dk_184 0 154 (dk_at dksX1_policyOf_0 18 rfl rfl)
theorem dX1_policyOf_21 : decode cX1_policyOf 21 = .ok (.aload_n 2, 1) := dk_44 (dk_at dksX1_policyOf_0 21 rfl rfl)
theorem dX1_policyOf_22 : decode cX1_policyOf 22 = .ok (.areturn, 1) := dk_176 (dk_at dksX1_policyOf_0 22 rfl rfl)
abbrev cX1_write : ByteArray := prog_1_method_16_code
def yX1_write : MethodName := ⟨RX1, "write", "(LSecretVault$Policy;Ljava/lang/StringBuilder;)V"⟩
def dkwX1_write_9 : List UInt8 := [167, 255, 133, 43, 42, 193, 0, 59, 153, 0, 8, 18, 115, 167, 0, 5, 18, 99, 182, 0, 96, 87, 177]
abbrev dktX1_write_9 : List UInt8 := dkwX1_write_9 ++ []
def dkwX1_write_8 : List UInt8 := [184, 0, 111, 43, 21, 5, 153, 0, 8, 18, 115, 167, 0, 5, 18, 99, 182, 0, 96, 87, 132, 4, 1]
abbrev dktX1_write_8 : List UInt8 := dkwX1_write_8 ++ dktX1_write_9
def dkwX1_write_7 : List UInt8 := [18, 109, 167, 0, 5, 18, 99, 182, 0, 96, 87, 45, 21, 4, 185, 0, 37, 2, 0, 192, 0, 41, 43]
abbrev dktX1_write_7 : List UInt8 := dkwX1_write_7 ++ dktX1_write_8
def dkwX1_write_6 : List UInt8 := [183, 0, 101, 18, 99, 182, 0, 96, 28, 182, 0, 102, 182, 0, 105, 182, 0, 96, 21, 5, 153, 0, 8]
abbrev dktX1_write_6 : List UInt8 := dkwX1_write_6 ++ dktX1_write_7
def dkwX1_write_5 : List UInt8 := [4, 167, 0, 4, 3, 54, 5, 43, 21, 4, 154, 0, 8, 18, 99, 167, 0, 22, 187, 0, 86, 89]
abbrev dktX1_write_5 : List UInt8 := dkwX1_write_5 ++ dktX1_write_6
def dkwX1_write_4 : List UInt8 := [162, 0, 118, 42, 193, 0, 56, 153, 0, 21, 45, 21, 4, 185, 0, 37, 2, 0, 193, 0, 50, 153, 0, 7]
abbrev dktX1_write_4 : List UInt8 := dkwX1_write_4 ++ dktX1_write_5
def dkwX1_write_3 : List UInt8 := [167, 0, 5, 16, 44, 61, 42, 184, 0, 67, 78, 3, 54, 4, 21, 4, 45, 185, 0, 31, 1, 0]
abbrev dktX1_write_3 : List UInt8 := dkwX1_write_3 ++ dktX1_write_4
def dkwX1_write_2 : List UInt8 := [87, 42, 193, 0, 50, 153, 0, 8, 16, 124, 167, 0, 17, 42, 193, 0, 56, 153, 0, 8, 16, 38]
abbrev dktX1_write_2 : List UInt8 := dkwX1_write_2 ++ dktX1_write_3
def dkwX1_write_1 : List UInt8 := [193, 0, 59, 153, 0, 22, 42, 192, 0, 59, 77, 43, 44, 180, 0, 91, 182, 0, 85, 18, 94, 182, 0, 96]
abbrev dktX1_write_1 : List UInt8 := dkwX1_write_1 ++ dktX1_write_2
def dkwX1_write_0 : List UInt8 := [42, 193, 0, 65, 153, 0, 18, 42, 192, 0, 65, 77, 43, 44, 180, 0, 81, 182, 0, 85, 87, 177, 42]
abbrev dktX1_write_0 : List UInt8 := dkwX1_write_0 ++ dktX1_write_1
theorem dksX1_write_0 : cX1_write.data.toList.drop 0 = dktX1_write_0 := by decide +kernel
theorem dksX1_write_1 : cX1_write.data.toList.drop 23 = dktX1_write_1 := dk_seg dksX1_write_0 23 rfl rfl
theorem dksX1_write_2 : cX1_write.data.toList.drop 47 = dktX1_write_2 := dk_seg dksX1_write_1 24 rfl rfl
theorem dksX1_write_3 : cX1_write.data.toList.drop 69 = dktX1_write_3 := dk_seg dksX1_write_2 22 rfl rfl
theorem dksX1_write_4 : cX1_write.data.toList.drop 91 = dktX1_write_4 := dk_seg dksX1_write_3 22 rfl rfl
theorem dksX1_write_5 : cX1_write.data.toList.drop 115 = dktX1_write_5 := dk_seg dksX1_write_4 24 rfl rfl
theorem dksX1_write_6 : cX1_write.data.toList.drop 137 = dktX1_write_6 := dk_seg dksX1_write_5 22 rfl rfl
theorem dksX1_write_7 : cX1_write.data.toList.drop 160 = dktX1_write_7 := dk_seg dksX1_write_6 23 rfl rfl
theorem dksX1_write_8 : cX1_write.data.toList.drop 183 = dktX1_write_8 := dk_seg dksX1_write_7 23 rfl rfl
theorem dksX1_write_9 : cX1_write.data.toList.drop 206 = dktX1_write_9 := dk_seg dksX1_write_8 23 rfl rfl
theorem dX1_write_0 : decode cX1_write 0 = .ok (.aload_n 0, 1) := dk_42 (dk_at dksX1_write_0 0 rfl rfl)
theorem dX1_write_1 : decode cX1_write 1 = .ok (.instanceof 65, 3) := dk_193 0 65 (dk_at dksX1_write_0 1 rfl rfl)
theorem dX1_write_4 : decode cX1_write 4 = .ok (.ifCond .eq 18, 3) := dk_153 0 18 (dk_at dksX1_write_0 4 rfl rfl)
theorem dX1_write_7 : decode cX1_write 7 = .ok (.aload_n 0, 1) := dk_42 (dk_at dksX1_write_0 7 rfl rfl)
theorem dX1_write_8 : decode cX1_write 8 = .ok (.checkcast 65, 3) := dk_192 0 65 (dk_at dksX1_write_0 8 rfl rfl)
theorem dX1_write_11 : decode cX1_write 11 = .ok (.astore_n 2, 1) := dk_77 (dk_at dksX1_write_0 11 rfl rfl)
theorem dX1_write_12 : decode cX1_write 12 = .ok (.aload_n 1, 1) := dk_43 (dk_at dksX1_write_0 12 rfl rfl)
theorem dX1_write_13 : decode cX1_write 13 = .ok (.aload_n 2, 1) := dk_44 (dk_at dksX1_write_0 13 rfl rfl)
theorem dX1_write_14 : decode cX1_write 14 = .ok (.getfield 81, 3) := dk_180 0 81 (dk_at dksX1_write_0 14 rfl rfl)
theorem dX1_write_17 : decode cX1_write 17 = .ok (.invokevirtual 85, 3) := dk_182 0 85 (dk_at dksX1_write_0 17 rfl rfl)
theorem dX1_write_20 : decode cX1_write 20 = .ok (.pop, 1) := dk_87 (dk_at dksX1_write_0 20 rfl rfl)
theorem dX1_write_21 : decode cX1_write 21 = .ok (.return_, 1) := dk_177 (dk_at dksX1_write_0 21 rfl rfl)
theorem dX1_write_22 : decode cX1_write 22 = .ok (.aload_n 0, 1) := dk_42 (dk_at dksX1_write_0 22 rfl rfl)
theorem dX1_write_23 : decode cX1_write 23 = .ok (.instanceof 59, 3) := dk_193 0 59 (dk_at dksX1_write_1 0 rfl rfl)
theorem dX1_write_26 : decode cX1_write 26 = .ok (.ifCond .eq 22, 3) := dk_153 0 22 (dk_at dksX1_write_1 3 rfl rfl)
theorem dX1_write_29 : decode cX1_write 29 = .ok (.aload_n 0, 1) := dk_42 (dk_at dksX1_write_1 6 rfl rfl)
theorem dX1_write_30 : decode cX1_write 30 = .ok (.checkcast 59, 3) := dk_192 0 59 (dk_at dksX1_write_1 7 rfl rfl)
theorem dX1_write_33 : decode cX1_write 33 = .ok (.astore_n 2, 1) := dk_77 (dk_at dksX1_write_1 10 rfl rfl)
theorem dX1_write_34 : decode cX1_write 34 = .ok (.aload_n 1, 1) := dk_43 (dk_at dksX1_write_1 11 rfl rfl)
theorem dX1_write_35 : decode cX1_write 35 = .ok (.aload_n 2, 1) := dk_44 (dk_at dksX1_write_1 12 rfl rfl)
theorem dX1_write_36 : decode cX1_write 36 = .ok (.getfield 91, 3) := dk_180 0 91 (dk_at dksX1_write_1 13 rfl rfl)
theorem dX1_write_39 : decode cX1_write 39 = .ok (.invokevirtual 85, 3) := dk_182 0 85 (dk_at dksX1_write_1 16 rfl rfl)
theorem dX1_write_42 : decode cX1_write 42 = .ok (.ldc 94, 2) := dk_18 94 (dk_at dksX1_write_1 19 rfl rfl)
theorem dX1_write_44 : decode cX1_write 44 = .ok (.invokevirtual 96, 3) := dk_182 0 96 (dk_at dksX1_write_1 21 rfl rfl)
theorem dX1_write_47 : decode cX1_write 47 = .ok (.pop, 1) := dk_87 (dk_at dksX1_write_2 0 rfl rfl)
theorem dX1_write_48 : decode cX1_write 48 = .ok (.aload_n 0, 1) := dk_42 (dk_at dksX1_write_2 1 rfl rfl)
theorem dX1_write_49 : decode cX1_write 49 = .ok (.instanceof 50, 3) := dk_193 0 50 (dk_at dksX1_write_2 2 rfl rfl)
theorem dX1_write_52 : decode cX1_write 52 = .ok (.ifCond .eq 8, 3) := dk_153 0 8 (dk_at dksX1_write_2 5 rfl rfl)
theorem dX1_write_55 : decode cX1_write 55 = .ok (.bipush 124, 2) := dk_16 124 (dk_at dksX1_write_2 8 rfl rfl)
theorem dX1_write_57 : decode cX1_write 57 = .ok (.goto 17, 3) := dk_167 0 17 (dk_at dksX1_write_2 10 rfl rfl)
theorem dX1_write_60 : decode cX1_write 60 = .ok (.aload_n 0, 1) := dk_42 (dk_at dksX1_write_2 13 rfl rfl)
theorem dX1_write_61 : decode cX1_write 61 = .ok (.instanceof 56, 3) := dk_193 0 56 (dk_at dksX1_write_2 14 rfl rfl)
theorem dX1_write_64 : decode cX1_write 64 = .ok (.ifCond .eq 8, 3) := dk_153 0 8 (dk_at dksX1_write_2 17 rfl rfl)
theorem dX1_write_67 : decode cX1_write 67 = .ok (.bipush 38, 2) := dk_16 38 (dk_at dksX1_write_2 20 rfl rfl)
theorem dX1_write_69 : decode cX1_write 69 = .ok (.goto 5, 3) := dk_167 0 5 (dk_at dksX1_write_3 0 rfl rfl)
theorem dX1_write_72 : decode cX1_write 72 = .ok (.bipush 44, 2) := dk_16 44 (dk_at dksX1_write_3 3 rfl rfl)
theorem dX1_write_74 : decode cX1_write 74 = .ok (.istore_n 2, 1) := dk_61 (dk_at dksX1_write_3 5 rfl rfl)
theorem dX1_write_75 : decode cX1_write 75 = .ok (.aload_n 0, 1) := dk_42 (dk_at dksX1_write_3 6 rfl rfl)
theorem dX1_write_76 : decode cX1_write 76 = .ok (.invokestatic 67, 3) := dk_184 0 67 (dk_at dksX1_write_3 7 rfl rfl)
theorem dX1_write_79 : decode cX1_write 79 = .ok (.astore_n 3, 1) := dk_78 (dk_at dksX1_write_3 10 rfl rfl)
theorem dX1_write_80 : decode cX1_write 80 = .ok (.iconst 0, 1) := dk_3 (dk_at dksX1_write_3 11 rfl rfl)
theorem dX1_write_81 : decode cX1_write 81 = .ok (.istore 4, 2) := dk_54 4 (dk_at dksX1_write_3 12 rfl rfl)
theorem dX1_write_83 : decode cX1_write 83 = .ok (.iload 4, 2) := dk_21 4 (dk_at dksX1_write_3 14 rfl rfl)
theorem dX1_write_85 : decode cX1_write 85 = .ok (.aload_n 3, 1) := dk_45 (dk_at dksX1_write_3 16 rfl rfl)
theorem dX1_write_86 : decode cX1_write 86 = .ok (.invokeinterface 31 1, 5) := by decide +kernel
theorem dX1_write_91 : decode cX1_write 91 = .ok (.if_icmp .ge 118, 3) := dk_162 0 118 (dk_at dksX1_write_4 0 rfl rfl)
theorem dX1_write_94 : decode cX1_write 94 = .ok (.aload_n 0, 1) := dk_42 (dk_at dksX1_write_4 3 rfl rfl)
theorem dX1_write_95 : decode cX1_write 95 = .ok (.instanceof 56, 3) := dk_193 0 56 (dk_at dksX1_write_4 4 rfl rfl)
theorem dX1_write_98 : decode cX1_write 98 = .ok (.ifCond .eq 21, 3) := dk_153 0 21 (dk_at dksX1_write_4 7 rfl rfl)
theorem dX1_write_101 : decode cX1_write 101 = .ok (.aload_n 3, 1) := dk_45 (dk_at dksX1_write_4 10 rfl rfl)
theorem dX1_write_102 : decode cX1_write 102 = .ok (.iload 4, 2) := dk_21 4 (dk_at dksX1_write_4 11 rfl rfl)
theorem dX1_write_104 : decode cX1_write 104 = .ok (.invokeinterface 37 2, 5) := by decide +kernel
theorem dX1_write_109 : decode cX1_write 109 = .ok (.instanceof 50, 3) := dk_193 0 50 (dk_at dksX1_write_4 18 rfl rfl)
theorem dX1_write_112 : decode cX1_write 112 = .ok (.ifCond .eq 7, 3) := dk_153 0 7 (dk_at dksX1_write_4 21 rfl rfl)
theorem dX1_write_115 : decode cX1_write 115 = .ok (.iconst 1, 1) := dk_4 (dk_at dksX1_write_5 0 rfl rfl)
theorem dX1_write_116 : decode cX1_write 116 = .ok (.goto 4, 3) := dk_167 0 4 (dk_at dksX1_write_5 1 rfl rfl)
theorem dX1_write_119 : decode cX1_write 119 = .ok (.iconst 0, 1) := dk_3 (dk_at dksX1_write_5 4 rfl rfl)
theorem dX1_write_120 : decode cX1_write 120 = .ok (.istore 5, 2) := dk_54 5 (dk_at dksX1_write_5 5 rfl rfl)
theorem dX1_write_122 : decode cX1_write 122 = .ok (.aload_n 1, 1) := dk_43 (dk_at dksX1_write_5 7 rfl rfl)
theorem dX1_write_123 : decode cX1_write 123 = .ok (.iload 4, 2) := dk_21 4 (dk_at dksX1_write_5 8 rfl rfl)
theorem dX1_write_125 : decode cX1_write 125 = .ok (.ifCond .ne 8, 3) := dk_154 0 8 (dk_at dksX1_write_5 10 rfl rfl)
theorem dX1_write_128 : decode cX1_write 128 = .ok (.ldc 99, 2) := dk_18 99 (dk_at dksX1_write_5 13 rfl rfl)
theorem dX1_write_130 : decode cX1_write 130 = .ok (.goto 22, 3) := dk_167 0 22 (dk_at dksX1_write_5 15 rfl rfl)
theorem dX1_write_133 : decode cX1_write 133 = .ok (.new 86, 3) := dk_187 0 86 (dk_at dksX1_write_5 18 rfl rfl)
theorem dX1_write_136 : decode cX1_write 136 = .ok (.dup, 1) := dk_89 (dk_at dksX1_write_5 21 rfl rfl)
theorem dX1_write_137 : decode cX1_write 137 = .ok (.invokespecial 101, 3) := dk_183 0 101 (dk_at dksX1_write_6 0 rfl rfl)
theorem dX1_write_140 : decode cX1_write 140 = .ok (.ldc 99, 2) := dk_18 99 (dk_at dksX1_write_6 3 rfl rfl)
theorem dX1_write_142 : decode cX1_write 142 = .ok (.invokevirtual 96, 3) := dk_182 0 96 (dk_at dksX1_write_6 5 rfl rfl)
theorem dX1_write_145 : decode cX1_write 145 = .ok (.iload_n 2, 1) := dk_28 (dk_at dksX1_write_6 8 rfl rfl)
theorem dX1_write_146 : decode cX1_write 146 = .ok (.invokevirtual 102, 3) := dk_182 0 102 (dk_at dksX1_write_6 9 rfl rfl)
theorem dX1_write_149 : decode cX1_write 149 = .ok (.invokevirtual 105, 3) := dk_182 0 105 (dk_at dksX1_write_6 12 rfl rfl)
theorem dX1_write_152 : decode cX1_write 152 = .ok (.invokevirtual 96, 3) := dk_182 0 96 (dk_at dksX1_write_6 15 rfl rfl)
theorem dX1_write_155 : decode cX1_write 155 = .ok (.iload 5, 2) := dk_21 5 (dk_at dksX1_write_6 18 rfl rfl)
theorem dX1_write_157 : decode cX1_write 157 = .ok (.ifCond .eq 8, 3) := dk_153 0 8 (dk_at dksX1_write_6 20 rfl rfl)
theorem dX1_write_160 : decode cX1_write 160 = .ok (.ldc 109, 2) := dk_18 109 (dk_at dksX1_write_7 0 rfl rfl)
theorem dX1_write_162 : decode cX1_write 162 = .ok (.goto 5, 3) := dk_167 0 5 (dk_at dksX1_write_7 2 rfl rfl)
theorem dX1_write_165 : decode cX1_write 165 = .ok (.ldc 99, 2) := dk_18 99 (dk_at dksX1_write_7 5 rfl rfl)
theorem dX1_write_167 : decode cX1_write 167 = .ok (.invokevirtual 96, 3) := dk_182 0 96 (dk_at dksX1_write_7 7 rfl rfl)
theorem dX1_write_170 : decode cX1_write 170 = .ok (.pop, 1) := dk_87 (dk_at dksX1_write_7 10 rfl rfl)
theorem dX1_write_171 : decode cX1_write 171 = .ok (.aload_n 3, 1) := dk_45 (dk_at dksX1_write_7 11 rfl rfl)
theorem dX1_write_172 : decode cX1_write 172 = .ok (.iload 4, 2) := dk_21 4 (dk_at dksX1_write_7 12 rfl rfl)
theorem dX1_write_174 : decode cX1_write 174 = .ok (.invokeinterface 37 2, 5) := by decide +kernel
theorem dX1_write_179 : decode cX1_write 179 = .ok (.checkcast 41, 3) := dk_192 0 41 (dk_at dksX1_write_7 19 rfl rfl)
theorem dX1_write_182 : decode cX1_write 182 = .ok (.aload_n 1, 1) := dk_43 (dk_at dksX1_write_7 22 rfl rfl)
theorem dX1_write_183 : decode cX1_write 183 = .ok (.invokestatic 111, 3) := dk_184 0 111 (dk_at dksX1_write_8 0 rfl rfl)
theorem dX1_write_186 : decode cX1_write 186 = .ok (.aload_n 1, 1) := dk_43 (dk_at dksX1_write_8 3 rfl rfl)
theorem dX1_write_187 : decode cX1_write 187 = .ok (.iload 5, 2) := dk_21 5 (dk_at dksX1_write_8 4 rfl rfl)
theorem dX1_write_189 : decode cX1_write 189 = .ok (.ifCond .eq 8, 3) := dk_153 0 8 (dk_at dksX1_write_8 6 rfl rfl)
theorem dX1_write_192 : decode cX1_write 192 = .ok (.ldc 115, 2) := dk_18 115 (dk_at dksX1_write_8 9 rfl rfl)
theorem dX1_write_194 : decode cX1_write 194 = .ok (.goto 5, 3) := dk_167 0 5 (dk_at dksX1_write_8 11 rfl rfl)
theorem dX1_write_197 : decode cX1_write 197 = .ok (.ldc 99, 2) := dk_18 99 (dk_at dksX1_write_8 14 rfl rfl)
theorem dX1_write_199 : decode cX1_write 199 = .ok (.invokevirtual 96, 3) := dk_182 0 96 (dk_at dksX1_write_8 16 rfl rfl)
theorem dX1_write_202 : decode cX1_write 202 = .ok (.pop, 1) := dk_87 (dk_at dksX1_write_8 19 rfl rfl)
theorem dX1_write_203 : decode cX1_write 203 = .ok (.iinc 4 1, 3) := dk_132 4 1 (dk_at dksX1_write_8 20 rfl rfl)
theorem dX1_write_206 : decode cX1_write 206 = .ok (.goto (-123), 3) := dk_167 255 133 (dk_at dksX1_write_9 0 rfl rfl)
theorem dX1_write_209 : decode cX1_write 209 = .ok (.aload_n 1, 1) := dk_43 (dk_at dksX1_write_9 3 rfl rfl)
theorem dX1_write_210 : decode cX1_write 210 = .ok (.aload_n 0, 1) := dk_42 (dk_at dksX1_write_9 4 rfl rfl)
theorem dX1_write_211 : decode cX1_write 211 = .ok (.instanceof 59, 3) := dk_193 0 59 (dk_at dksX1_write_9 5 rfl rfl)
theorem dX1_write_214 : decode cX1_write 214 = .ok (.ifCond .eq 8, 3) := dk_153 0 8 (dk_at dksX1_write_9 8 rfl rfl)
theorem dX1_write_217 : decode cX1_write 217 = .ok (.ldc 115, 2) := dk_18 115 (dk_at dksX1_write_9 11 rfl rfl)
theorem dX1_write_219 : decode cX1_write 219 = .ok (.goto 5, 3) := dk_167 0 5 (dk_at dksX1_write_9 13 rfl rfl)
theorem dX1_write_222 : decode cX1_write 222 = .ok (.ldc 99, 2) := dk_18 99 (dk_at dksX1_write_9 16 rfl rfl)
theorem dX1_write_224 : decode cX1_write 224 = .ok (.invokevirtual 96, 3) := dk_182 0 96 (dk_at dksX1_write_9 18 rfl rfl)
theorem dX1_write_227 : decode cX1_write 227 = .ok (.pop, 1) := dk_87 (dk_at dksX1_write_9 21 rfl rfl)
theorem dX1_write_228 : decode cX1_write 228 = .ok (.return_, 1) := dk_177 (dk_at dksX1_write_9 22 rfl rfl)
abbrev cX1_partsOf : ByteArray := prog_1_method_13_code
def yX1_partsOf : MethodName := ⟨RX1, "partsOf", "(LSecretVault$Policy;)Ljava/util/List;"⟩
def dkwX1_partsOf_2 : List UInt8 := [180, 0, 61, 167, 0, 10, 187, 0, 62, 89, 183, 0, 64, 176]
abbrev dktX1_partsOf_2 : List UInt8 := dkwX1_partsOf_2 ++ []
def dkwX1_partsOf_1 : List UInt8 := [42, 192, 0, 56, 76, 43, 180, 0, 58, 176, 42, 193, 0, 59, 153, 0, 15, 42, 192, 0, 59, 76, 43]
abbrev dktX1_partsOf_1 : List UInt8 := dkwX1_partsOf_1 ++ dktX1_partsOf_2
def dkwX1_partsOf_0 : List UInt8 := [42, 193, 0, 50, 153, 0, 13, 42, 192, 0, 50, 76, 43, 180, 0, 52, 176, 42, 193, 0, 56, 153, 0, 13]
abbrev dktX1_partsOf_0 : List UInt8 := dkwX1_partsOf_0 ++ dktX1_partsOf_1
theorem dksX1_partsOf_0 : cX1_partsOf.data.toList.drop 0 = dktX1_partsOf_0 := by decide +kernel
theorem dksX1_partsOf_1 : cX1_partsOf.data.toList.drop 24 = dktX1_partsOf_1 := dk_seg dksX1_partsOf_0 24 rfl rfl
theorem dksX1_partsOf_2 : cX1_partsOf.data.toList.drop 47 = dktX1_partsOf_2 := dk_seg dksX1_partsOf_1 23 rfl rfl
theorem dX1_partsOf_0 : decode cX1_partsOf 0 = .ok (.aload_n 0, 1) := dk_42 (dk_at dksX1_partsOf_0 0 rfl rfl)
theorem dX1_partsOf_1 : decode cX1_partsOf 1 = .ok (.instanceof 50, 3) := dk_193 0 50 (dk_at dksX1_partsOf_0 1 rfl rfl)
theorem dX1_partsOf_4 : decode cX1_partsOf 4 = .ok (.ifCond .eq 13, 3) := dk_153 0 13 (dk_at dksX1_partsOf_0 4 rfl rfl)
theorem dX1_partsOf_7 : decode cX1_partsOf 7 = .ok (.aload_n 0, 1) := dk_42 (dk_at dksX1_partsOf_0 7 rfl rfl)
theorem dX1_partsOf_8 : decode cX1_partsOf 8 = .ok (.checkcast 50, 3) := dk_192 0 50 (dk_at dksX1_partsOf_0 8 rfl rfl)
theorem dX1_partsOf_11 : decode cX1_partsOf 11 = .ok (.astore_n 1, 1) := dk_76 (dk_at dksX1_partsOf_0 11 rfl rfl)
theorem dX1_partsOf_12 : decode cX1_partsOf 12 = .ok (.aload_n 1, 1) := dk_43 (dk_at dksX1_partsOf_0 12 rfl rfl)
theorem dX1_partsOf_13 : decode cX1_partsOf 13 = .ok (.getfield 52, 3) := dk_180 0 52 (dk_at dksX1_partsOf_0 13 rfl rfl)
theorem dX1_partsOf_16 : decode cX1_partsOf 16 = .ok (.areturn, 1) := dk_176 (dk_at dksX1_partsOf_0 16 rfl rfl)
theorem dX1_partsOf_17 : decode cX1_partsOf 17 = .ok (.aload_n 0, 1) := dk_42 (dk_at dksX1_partsOf_0 17 rfl rfl)
theorem dX1_partsOf_18 : decode cX1_partsOf 18 = .ok (.instanceof 56, 3) := dk_193 0 56 (dk_at dksX1_partsOf_0 18 rfl rfl)
theorem dX1_partsOf_21 : decode cX1_partsOf 21 = .ok (.ifCond .eq 13, 3) := dk_153 0 13 (dk_at dksX1_partsOf_0 21 rfl rfl)
theorem dX1_partsOf_24 : decode cX1_partsOf 24 = .ok (.aload_n 0, 1) := dk_42 (dk_at dksX1_partsOf_1 0 rfl rfl)
theorem dX1_partsOf_25 : decode cX1_partsOf 25 = .ok (.checkcast 56, 3) := dk_192 0 56 (dk_at dksX1_partsOf_1 1 rfl rfl)
theorem dX1_partsOf_28 : decode cX1_partsOf 28 = .ok (.astore_n 1, 1) := dk_76 (dk_at dksX1_partsOf_1 4 rfl rfl)
theorem dX1_partsOf_29 : decode cX1_partsOf 29 = .ok (.aload_n 1, 1) := dk_43 (dk_at dksX1_partsOf_1 5 rfl rfl)
theorem dX1_partsOf_30 : decode cX1_partsOf 30 = .ok (.getfield 58, 3) := dk_180 0 58 (dk_at dksX1_partsOf_1 6 rfl rfl)
theorem dX1_partsOf_33 : decode cX1_partsOf 33 = .ok (.areturn, 1) := dk_176 (dk_at dksX1_partsOf_1 9 rfl rfl)
theorem dX1_partsOf_34 : decode cX1_partsOf 34 = .ok (.aload_n 0, 1) := dk_42 (dk_at dksX1_partsOf_1 10 rfl rfl)
theorem dX1_partsOf_35 : decode cX1_partsOf 35 = .ok (.instanceof 59, 3) := dk_193 0 59 (dk_at dksX1_partsOf_1 11 rfl rfl)
theorem dX1_partsOf_38 : decode cX1_partsOf 38 = .ok (.ifCond .eq 15, 3) := dk_153 0 15 (dk_at dksX1_partsOf_1 14 rfl rfl)
theorem dX1_partsOf_41 : decode cX1_partsOf 41 = .ok (.aload_n 0, 1) := dk_42 (dk_at dksX1_partsOf_1 17 rfl rfl)
theorem dX1_partsOf_42 : decode cX1_partsOf 42 = .ok (.checkcast 59, 3) := dk_192 0 59 (dk_at dksX1_partsOf_1 18 rfl rfl)
theorem dX1_partsOf_45 : decode cX1_partsOf 45 = .ok (.astore_n 1, 1) := dk_76 (dk_at dksX1_partsOf_1 21 rfl rfl)
theorem dX1_partsOf_46 : decode cX1_partsOf 46 = .ok (.aload_n 1, 1) := dk_43 (dk_at dksX1_partsOf_1 22 rfl rfl)
theorem dX1_partsOf_47 : decode cX1_partsOf 47 = .ok (.getfield 61, 3) := dk_180 0 61 (dk_at dksX1_partsOf_2 0 rfl rfl)
theorem dX1_partsOf_50 : decode cX1_partsOf 50 = .ok (.goto 10, 3) := dk_167 0 10 (dk_at dksX1_partsOf_2 3 rfl rfl)
theorem dX1_partsOf_53 : decode cX1_partsOf 53 = .ok (.new 62, 3) := dk_187 0 62 (dk_at dksX1_partsOf_2 6 rfl rfl)
theorem dX1_partsOf_56 : decode cX1_partsOf 56 = .ok (.dup, 1) := dk_89 (dk_at dksX1_partsOf_2 9 rfl rfl)
theorem dX1_partsOf_57 : decode cX1_partsOf 57 = .ok (.invokespecial 64, 3) := dk_183 0 64 (dk_at dksX1_partsOf_2 10 rfl rfl)
theorem dX1_partsOf_60 : decode cX1_partsOf 60 = .ok (.areturn, 1) := dk_176 (dk_at dksX1_partsOf_2 13 rfl rfl)
abbrev cX1_policy : ByteArray := prog_1_method_56_code
def yX1_policy : MethodName := ⟨RX1, "policy", "(II)I"⟩
def dkwX1_policy_2 : List UInt8 := [185, 0, 43, 1, 0, 172]
abbrev dktX1_policy_2 : List UInt8 := dkwX1_policy_2 ++ []
def dkwX1_policy_1 : List UInt8 := [45, 184, 0, 71, 167, 0, 21, 28, 4, 160, 0, 10, 45, 184, 0, 75, 167, 0, 9, 45]
abbrev dktX1_policy_1 : List UInt8 := dkwX1_policy_1 ++ dktX1_policy_2
def dkwX1_policy_0 : List UInt8 := [27, 7, 184, 0, 138, 28, 3, 5, 184, 0, 142, 184, 0, 146, 42, 27, 182, 1, 93, 78, 28, 154, 0, 10]
abbrev dktX1_policy_0 : List UInt8 := dkwX1_policy_0 ++ dktX1_policy_1
theorem dksX1_policy_0 : cX1_policy.data.toList.drop 0 = dktX1_policy_0 := by decide +kernel
theorem dksX1_policy_1 : cX1_policy.data.toList.drop 24 = dktX1_policy_1 := dk_seg dksX1_policy_0 24 rfl rfl
theorem dksX1_policy_2 : cX1_policy.data.toList.drop 44 = dktX1_policy_2 := dk_seg dksX1_policy_1 20 rfl rfl
theorem dX1_policy_0 : decode cX1_policy 0 = .ok (.iload_n 1, 1) := dk_27 (dk_at dksX1_policy_0 0 rfl rfl)
theorem dX1_policy_1 : decode cX1_policy 1 = .ok (.iconst 4, 1) := dk_7 (dk_at dksX1_policy_0 1 rfl rfl)
theorem dX1_policy_2 : decode cX1_policy 2 = .ok (.invokestatic 138, 3) := dk_184 0 138 (dk_at dksX1_policy_0 2 rfl rfl)
theorem dX1_policy_5 : decode cX1_policy 5 = .ok (.iload_n 2, 1) := dk_28 (dk_at dksX1_policy_0 5 rfl rfl)
theorem dX1_policy_6 : decode cX1_policy 6 = .ok (.iconst 0, 1) := dk_3 (dk_at dksX1_policy_0 6 rfl rfl)
theorem dX1_policy_7 : decode cX1_policy 7 = .ok (.iconst 2, 1) := dk_5 (dk_at dksX1_policy_0 7 rfl rfl)
theorem dX1_policy_8 : decode cX1_policy 8 = .ok (.invokestatic 142, 3) := dk_184 0 142 (dk_at dksX1_policy_0 8 rfl rfl)
theorem dX1_policy_11 : decode cX1_policy 11 = .ok (.invokestatic 146, 3) := dk_184 0 146 (dk_at dksX1_policy_0 11 rfl rfl)
theorem dX1_policy_14 : decode cX1_policy 14 = .ok (.aload_n 0, 1) := dk_42 (dk_at dksX1_policy_0 14 rfl rfl)
theorem dX1_policy_15 : decode cX1_policy 15 = .ok (.iload_n 1, 1) := dk_27 (dk_at dksX1_policy_0 15 rfl rfl)
theorem dX1_policy_16 : decode cX1_policy 16 = .ok (.invokevirtual 349, 3) := dk_182 1 93 (dk_at dksX1_policy_0 16 rfl rfl)
theorem dX1_policy_19 : decode cX1_policy 19 = .ok (.astore_n 3, 1) := dk_78 (dk_at dksX1_policy_0 19 rfl rfl)
theorem dX1_policy_20 : decode cX1_policy 20 = .ok (.iload_n 2, 1) := dk_28 (dk_at dksX1_policy_0 20 rfl rfl)
theorem dX1_policy_21 : decode cX1_policy 21 = .ok (.ifCond .ne 10, 3) := dk_154 0 10 (dk_at dksX1_policy_0 21 rfl rfl)
theorem dX1_policy_24 : decode cX1_policy 24 = .ok (.aload_n 3, 1) := dk_45 (dk_at dksX1_policy_1 0 rfl rfl)
theorem dX1_policy_25 : decode cX1_policy 25 = .ok (.invokestatic 71, 3) := dk_184 0 71 (dk_at dksX1_policy_1 1 rfl rfl)
theorem dX1_policy_28 : decode cX1_policy 28 = .ok (.goto 21, 3) := dk_167 0 21 (dk_at dksX1_policy_1 4 rfl rfl)
theorem dX1_policy_31 : decode cX1_policy 31 = .ok (.iload_n 2, 1) := dk_28 (dk_at dksX1_policy_1 7 rfl rfl)
theorem dX1_policy_32 : decode cX1_policy 32 = .ok (.iconst 1, 1) := dk_4 (dk_at dksX1_policy_1 8 rfl rfl)
theorem dX1_policy_33 : decode cX1_policy 33 = .ok (.if_icmp .ne 10, 3) := dk_160 0 10 (dk_at dksX1_policy_1 9 rfl rfl)
theorem dX1_policy_36 : decode cX1_policy 36 = .ok (.aload_n 3, 1) := dk_45 (dk_at dksX1_policy_1 12 rfl rfl)
theorem dX1_policy_37 : decode cX1_policy 37 = .ok (.invokestatic 75, 3) := dk_184 0 75 (dk_at dksX1_policy_1 13 rfl rfl)
theorem dX1_policy_40 : decode cX1_policy 40 = .ok (.goto 9, 3) := dk_167 0 9 (dk_at dksX1_policy_1 16 rfl rfl)
theorem dX1_policy_43 : decode cX1_policy 43 = .ok (.aload_n 3, 1) := dk_45 (dk_at dksX1_policy_1 19 rfl rfl)
theorem dX1_policy_44 : decode cX1_policy 44 = .ok (.invokeinterface 43 1, 5) := by decide +kernel
theorem dX1_policy_49 : decode cX1_policy 49 = .ok (.ireturn, 1) := dk_172 (dk_at dksX1_policy_2 5 rfl rfl)
abbrev cX1_sizeOf : ByteArray := prog_1_method_14_code
def yX1_sizeOf : MethodName := ⟨RX1, "sizeOf", "(LSecretVault$Policy;)I"⟩
def dkwX1_sizeOf_2 : List UInt8 := [184, 0, 71, 96, 60, 132, 3, 1, 167, 255, 227, 27, 172]
abbrev dktX1_sizeOf_2 : List UInt8 := dkwX1_sizeOf_2 ++ []
def dkwX1_sizeOf_1 : List UInt8 := [77, 3, 62, 29, 44, 185, 0, 31, 1, 0, 162, 0, 25, 27, 44, 29, 185, 0, 37, 2, 0, 192, 0, 41]
abbrev dktX1_sizeOf_1 : List UInt8 := dkwX1_sizeOf_1 ++ dktX1_sizeOf_2
def dkwX1_sizeOf_0 : List UInt8 := [42, 193, 0, 65, 154, 0, 10, 42, 193, 0, 59, 153, 0, 7, 4, 167, 0, 4, 3, 60, 42, 184, 0, 67]
abbrev dktX1_sizeOf_0 : List UInt8 := dkwX1_sizeOf_0 ++ dktX1_sizeOf_1
theorem dksX1_sizeOf_0 : cX1_sizeOf.data.toList.drop 0 = dktX1_sizeOf_0 := by decide +kernel
theorem dksX1_sizeOf_1 : cX1_sizeOf.data.toList.drop 24 = dktX1_sizeOf_1 := dk_seg dksX1_sizeOf_0 24 rfl rfl
theorem dksX1_sizeOf_2 : cX1_sizeOf.data.toList.drop 48 = dktX1_sizeOf_2 := dk_seg dksX1_sizeOf_1 24 rfl rfl
theorem dX1_sizeOf_0 : decode cX1_sizeOf 0 = .ok (.aload_n 0, 1) := dk_42 (dk_at dksX1_sizeOf_0 0 rfl rfl)
theorem dX1_sizeOf_1 : decode cX1_sizeOf 1 = .ok (.instanceof 65, 3) := dk_193 0 65 (dk_at dksX1_sizeOf_0 1 rfl rfl)
theorem dX1_sizeOf_4 : decode cX1_sizeOf 4 = .ok (.ifCond .ne 10, 3) := dk_154 0 10 (dk_at dksX1_sizeOf_0 4 rfl rfl)
theorem dX1_sizeOf_7 : decode cX1_sizeOf 7 = .ok (.aload_n 0, 1) := dk_42 (dk_at dksX1_sizeOf_0 7 rfl rfl)
theorem dX1_sizeOf_8 : decode cX1_sizeOf 8 = .ok (.instanceof 59, 3) := dk_193 0 59 (dk_at dksX1_sizeOf_0 8 rfl rfl)
theorem dX1_sizeOf_11 : decode cX1_sizeOf 11 = .ok (.ifCond .eq 7, 3) := dk_153 0 7 (dk_at dksX1_sizeOf_0 11 rfl rfl)
theorem dX1_sizeOf_14 : decode cX1_sizeOf 14 = .ok (.iconst 1, 1) := dk_4 (dk_at dksX1_sizeOf_0 14 rfl rfl)
theorem dX1_sizeOf_15 : decode cX1_sizeOf 15 = .ok (.goto 4, 3) := dk_167 0 4 (dk_at dksX1_sizeOf_0 15 rfl rfl)
theorem dX1_sizeOf_18 : decode cX1_sizeOf 18 = .ok (.iconst 0, 1) := dk_3 (dk_at dksX1_sizeOf_0 18 rfl rfl)
theorem dX1_sizeOf_19 : decode cX1_sizeOf 19 = .ok (.istore_n 1, 1) := dk_60 (dk_at dksX1_sizeOf_0 19 rfl rfl)
theorem dX1_sizeOf_20 : decode cX1_sizeOf 20 = .ok (.aload_n 0, 1) := dk_42 (dk_at dksX1_sizeOf_0 20 rfl rfl)
theorem dX1_sizeOf_21 : decode cX1_sizeOf 21 = .ok (.invokestatic 67, 3) := dk_184 0 67 (dk_at dksX1_sizeOf_0 21 rfl rfl)
theorem dX1_sizeOf_24 : decode cX1_sizeOf 24 = .ok (.astore_n 2, 1) := dk_77 (dk_at dksX1_sizeOf_1 0 rfl rfl)
theorem dX1_sizeOf_25 : decode cX1_sizeOf 25 = .ok (.iconst 0, 1) := dk_3 (dk_at dksX1_sizeOf_1 1 rfl rfl)
theorem dX1_sizeOf_26 : decode cX1_sizeOf 26 = .ok (.istore_n 3, 1) := dk_62 (dk_at dksX1_sizeOf_1 2 rfl rfl)
theorem dX1_sizeOf_27 : decode cX1_sizeOf 27 = .ok (.iload_n 3, 1) := dk_29 (dk_at dksX1_sizeOf_1 3 rfl rfl)
theorem dX1_sizeOf_28 : decode cX1_sizeOf 28 = .ok (.aload_n 2, 1) := dk_44 (dk_at dksX1_sizeOf_1 4 rfl rfl)
theorem dX1_sizeOf_29 : decode cX1_sizeOf 29 = .ok (.invokeinterface 31 1, 5) := by decide +kernel
theorem dX1_sizeOf_34 : decode cX1_sizeOf 34 = .ok (.if_icmp .ge 25, 3) := dk_162 0 25 (dk_at dksX1_sizeOf_1 10 rfl rfl)
theorem dX1_sizeOf_37 : decode cX1_sizeOf 37 = .ok (.iload_n 1, 1) := dk_27 (dk_at dksX1_sizeOf_1 13 rfl rfl)
theorem dX1_sizeOf_38 : decode cX1_sizeOf 38 = .ok (.aload_n 2, 1) := dk_44 (dk_at dksX1_sizeOf_1 14 rfl rfl)
theorem dX1_sizeOf_39 : decode cX1_sizeOf 39 = .ok (.iload_n 3, 1) := dk_29 (dk_at dksX1_sizeOf_1 15 rfl rfl)
theorem dX1_sizeOf_40 : decode cX1_sizeOf 40 = .ok (.invokeinterface 37 2, 5) := by decide +kernel
theorem dX1_sizeOf_45 : decode cX1_sizeOf 45 = .ok (.checkcast 41, 3) := dk_192 0 41 (dk_at dksX1_sizeOf_1 21 rfl rfl)
theorem dX1_sizeOf_48 : decode cX1_sizeOf 48 = .ok (.invokestatic 71, 3) := dk_184 0 71 (dk_at dksX1_sizeOf_2 0 rfl rfl)
theorem dX1_sizeOf_51 : decode cX1_sizeOf 51 = .ok (.iadd, 1) := dk_96 (dk_at dksX1_sizeOf_2 3 rfl rfl)
theorem dX1_sizeOf_52 : decode cX1_sizeOf 52 = .ok (.istore_n 1, 1) := dk_60 (dk_at dksX1_sizeOf_2 4 rfl rfl)
theorem dX1_sizeOf_53 : decode cX1_sizeOf 53 = .ok (.iinc 3 1, 3) := dk_132 3 1 (dk_at dksX1_sizeOf_2 5 rfl rfl)
theorem dX1_sizeOf_56 : decode cX1_sizeOf 56 = .ok (.goto (-29), 3) := dk_167 255 227 (dk_at dksX1_sizeOf_2 8 rfl rfl)
theorem dX1_sizeOf_59 : decode cX1_sizeOf 59 = .ok (.iload_n 1, 1) := dk_27 (dk_at dksX1_sizeOf_2 11 rfl rfl)
theorem dX1_sizeOf_60 : decode cX1_sizeOf 60 = .ok (.ireturn, 1) := dk_172 (dk_at dksX1_sizeOf_2 12 rfl rfl)
abbrev cX1_depthOf : ByteArray := prog_1_method_15_code
def yX1_depthOf : MethodName := ⟨RX1, "depthOf", "(LSecretVault$Policy;)I"⟩
def dkwX1_depthOf_2 : List UInt8 := [193, 0, 59, 153, 0, 9, 27, 4, 96, 167, 0, 4, 27, 172]
abbrev dktX1_depthOf_2 : List UInt8 := dkwX1_depthOf_2 ++ []
def dkwX1_depthOf_1 : List UInt8 := [185, 0, 37, 2, 0, 192, 0, 41, 184, 0, 75, 184, 0, 78, 60, 132, 3, 1, 167, 255, 225, 42]
abbrev dktX1_depthOf_1 : List UInt8 := dkwX1_depthOf_1 ++ dktX1_depthOf_2
def dkwX1_depthOf_0 : List UInt8 := [3, 60, 42, 184, 0, 67, 77, 3, 62, 29, 44, 185, 0, 31, 1, 0, 162, 0, 27, 27, 44, 29]
abbrev dktX1_depthOf_0 : List UInt8 := dkwX1_depthOf_0 ++ dktX1_depthOf_1
theorem dksX1_depthOf_0 : cX1_depthOf.data.toList.drop 0 = dktX1_depthOf_0 := by decide +kernel
theorem dksX1_depthOf_1 : cX1_depthOf.data.toList.drop 22 = dktX1_depthOf_1 := dk_seg dksX1_depthOf_0 22 rfl rfl
theorem dksX1_depthOf_2 : cX1_depthOf.data.toList.drop 44 = dktX1_depthOf_2 := dk_seg dksX1_depthOf_1 22 rfl rfl
theorem dX1_depthOf_0 : decode cX1_depthOf 0 = .ok (.iconst 0, 1) := dk_3 (dk_at dksX1_depthOf_0 0 rfl rfl)
theorem dX1_depthOf_1 : decode cX1_depthOf 1 = .ok (.istore_n 1, 1) := dk_60 (dk_at dksX1_depthOf_0 1 rfl rfl)
theorem dX1_depthOf_2 : decode cX1_depthOf 2 = .ok (.aload_n 0, 1) := dk_42 (dk_at dksX1_depthOf_0 2 rfl rfl)
theorem dX1_depthOf_3 : decode cX1_depthOf 3 = .ok (.invokestatic 67, 3) := dk_184 0 67 (dk_at dksX1_depthOf_0 3 rfl rfl)
theorem dX1_depthOf_6 : decode cX1_depthOf 6 = .ok (.astore_n 2, 1) := dk_77 (dk_at dksX1_depthOf_0 6 rfl rfl)
theorem dX1_depthOf_7 : decode cX1_depthOf 7 = .ok (.iconst 0, 1) := dk_3 (dk_at dksX1_depthOf_0 7 rfl rfl)
theorem dX1_depthOf_8 : decode cX1_depthOf 8 = .ok (.istore_n 3, 1) := dk_62 (dk_at dksX1_depthOf_0 8 rfl rfl)
theorem dX1_depthOf_9 : decode cX1_depthOf 9 = .ok (.iload_n 3, 1) := dk_29 (dk_at dksX1_depthOf_0 9 rfl rfl)
theorem dX1_depthOf_10 : decode cX1_depthOf 10 = .ok (.aload_n 2, 1) := dk_44 (dk_at dksX1_depthOf_0 10 rfl rfl)
theorem dX1_depthOf_11 : decode cX1_depthOf 11 = .ok (.invokeinterface 31 1, 5) := by decide +kernel
theorem dX1_depthOf_16 : decode cX1_depthOf 16 = .ok (.if_icmp .ge 27, 3) := dk_162 0 27 (dk_at dksX1_depthOf_0 16 rfl rfl)
theorem dX1_depthOf_19 : decode cX1_depthOf 19 = .ok (.iload_n 1, 1) := dk_27 (dk_at dksX1_depthOf_0 19 rfl rfl)
theorem dX1_depthOf_20 : decode cX1_depthOf 20 = .ok (.aload_n 2, 1) := dk_44 (dk_at dksX1_depthOf_0 20 rfl rfl)
theorem dX1_depthOf_21 : decode cX1_depthOf 21 = .ok (.iload_n 3, 1) := dk_29 (dk_at dksX1_depthOf_0 21 rfl rfl)
theorem dX1_depthOf_22 : decode cX1_depthOf 22 = .ok (.invokeinterface 37 2, 5) := by decide +kernel
theorem dX1_depthOf_27 : decode cX1_depthOf 27 = .ok (.checkcast 41, 3) := dk_192 0 41 (dk_at dksX1_depthOf_1 5 rfl rfl)
theorem dX1_depthOf_30 : decode cX1_depthOf 30 = .ok (.invokestatic 75, 3) := dk_184 0 75 (dk_at dksX1_depthOf_1 8 rfl rfl)
theorem dX1_depthOf_33 : decode cX1_depthOf 33 = .ok (.invokestatic 78, 3) := dk_184 0 78 (dk_at dksX1_depthOf_1 11 rfl rfl)
theorem dX1_depthOf_36 : decode cX1_depthOf 36 = .ok (.istore_n 1, 1) := dk_60 (dk_at dksX1_depthOf_1 14 rfl rfl)
theorem dX1_depthOf_37 : decode cX1_depthOf 37 = .ok (.iinc 3 1, 3) := dk_132 3 1 (dk_at dksX1_depthOf_1 15 rfl rfl)
theorem dX1_depthOf_40 : decode cX1_depthOf 40 = .ok (.goto (-31), 3) := dk_167 255 225 (dk_at dksX1_depthOf_1 18 rfl rfl)
theorem dX1_depthOf_43 : decode cX1_depthOf 43 = .ok (.aload_n 0, 1) := dk_42 (dk_at dksX1_depthOf_1 21 rfl rfl)
theorem dX1_depthOf_44 : decode cX1_depthOf 44 = .ok (.instanceof 59, 3) := dk_193 0 59 (dk_at dksX1_depthOf_2 0 rfl rfl)
theorem dX1_depthOf_47 : decode cX1_depthOf 47 = .ok (.ifCond .eq 9, 3) := dk_153 0 9 (dk_at dksX1_depthOf_2 3 rfl rfl)
theorem dX1_depthOf_50 : decode cX1_depthOf 50 = .ok (.iload_n 1, 1) := dk_27 (dk_at dksX1_depthOf_2 6 rfl rfl)
theorem dX1_depthOf_51 : decode cX1_depthOf 51 = .ok (.iconst 1, 1) := dk_4 (dk_at dksX1_depthOf_2 7 rfl rfl)
theorem dX1_depthOf_52 : decode cX1_depthOf 52 = .ok (.iadd, 1) := dk_96 (dk_at dksX1_depthOf_2 8 rfl rfl)
theorem dX1_depthOf_53 : decode cX1_depthOf 53 = .ok (.goto 4, 3) := dk_167 0 4 (dk_at dksX1_depthOf_2 9 rfl rfl)
theorem dX1_depthOf_56 : decode cX1_depthOf 56 = .ok (.iload_n 1, 1) := dk_27 (dk_at dksX1_depthOf_2 12 rfl rfl)
theorem dX1_depthOf_57 : decode cX1_depthOf 57 = .ok (.ireturn, 1) := dk_172 (dk_at dksX1_depthOf_2 13 rfl rfl)
abbrev cX1_membersOf : ByteArray := prog_1_method_11_code
def yX1_membersOf : MethodName := ⟨RX1, "membersOf", "(Ljava/util/List;)I"⟩
def dkwX1_membersOf_1 : List UInt8 := [192, 0, 41, 185, 0, 43, 1, 0, 128, 60, 132, 2, 1, 167, 255, 225, 27, 172]
abbrev dktX1_membersOf_1 : List UInt8 := dkwX1_membersOf_1 ++ []
def dkwX1_membersOf_0 : List UInt8 := [3, 60, 3, 61, 28, 42, 185, 0, 31, 1, 0, 162, 0, 27, 27, 42, 28, 185, 0, 37, 2, 0]
abbrev dktX1_membersOf_0 : List UInt8 := dkwX1_membersOf_0 ++ dktX1_membersOf_1
theorem dksX1_membersOf_0 : cX1_membersOf.data.toList.drop 0 = dktX1_membersOf_0 := by decide +kernel
theorem dksX1_membersOf_1 : cX1_membersOf.data.toList.drop 22 = dktX1_membersOf_1 := dk_seg dksX1_membersOf_0 22 rfl rfl
theorem dX1_membersOf_0 : decode cX1_membersOf 0 = .ok (.iconst 0, 1) := dk_3 (dk_at dksX1_membersOf_0 0 rfl rfl)
theorem dX1_membersOf_1 : decode cX1_membersOf 1 = .ok (.istore_n 1, 1) := dk_60 (dk_at dksX1_membersOf_0 1 rfl rfl)
theorem dX1_membersOf_2 : decode cX1_membersOf 2 = .ok (.iconst 0, 1) := dk_3 (dk_at dksX1_membersOf_0 2 rfl rfl)
theorem dX1_membersOf_3 : decode cX1_membersOf 3 = .ok (.istore_n 2, 1) := dk_61 (dk_at dksX1_membersOf_0 3 rfl rfl)
theorem dX1_membersOf_4 : decode cX1_membersOf 4 = .ok (.iload_n 2, 1) := dk_28 (dk_at dksX1_membersOf_0 4 rfl rfl)
theorem dX1_membersOf_5 : decode cX1_membersOf 5 = .ok (.aload_n 0, 1) := dk_42 (dk_at dksX1_membersOf_0 5 rfl rfl)
theorem dX1_membersOf_6 : decode cX1_membersOf 6 = .ok (.invokeinterface 31 1, 5) := by decide +kernel
theorem dX1_membersOf_11 : decode cX1_membersOf 11 = .ok (.if_icmp .ge 27, 3) := dk_162 0 27 (dk_at dksX1_membersOf_0 11 rfl rfl)
theorem dX1_membersOf_14 : decode cX1_membersOf 14 = .ok (.iload_n 1, 1) := dk_27 (dk_at dksX1_membersOf_0 14 rfl rfl)
theorem dX1_membersOf_15 : decode cX1_membersOf 15 = .ok (.aload_n 0, 1) := dk_42 (dk_at dksX1_membersOf_0 15 rfl rfl)
theorem dX1_membersOf_16 : decode cX1_membersOf 16 = .ok (.iload_n 2, 1) := dk_28 (dk_at dksX1_membersOf_0 16 rfl rfl)
theorem dX1_membersOf_17 : decode cX1_membersOf 17 = .ok (.invokeinterface 37 2, 5) := by decide +kernel
theorem dX1_membersOf_22 : decode cX1_membersOf 22 = .ok (.checkcast 41, 3) := dk_192 0 41 (dk_at dksX1_membersOf_1 0 rfl rfl)
theorem dX1_membersOf_25 : decode cX1_membersOf 25 = .ok (.invokeinterface 43 1, 5) := by decide +kernel
theorem dX1_membersOf_30 : decode cX1_membersOf 30 = .ok (.ior, 1) := dk_128 (dk_at dksX1_membersOf_1 8 rfl rfl)
theorem dX1_membersOf_31 : decode cX1_membersOf 31 = .ok (.istore_n 1, 1) := dk_60 (dk_at dksX1_membersOf_1 9 rfl rfl)
theorem dX1_membersOf_32 : decode cX1_membersOf 32 = .ok (.iinc 2 1, 3) := dk_132 2 1 (dk_at dksX1_membersOf_1 10 rfl rfl)
theorem dX1_membersOf_35 : decode cX1_membersOf 35 = .ok (.goto (-31), 3) := dk_167 255 225 (dk_at dksX1_membersOf_1 13 rfl rfl)
theorem dX1_membersOf_38 : decode cX1_membersOf 38 = .ok (.iload_n 1, 1) := dk_27 (dk_at dksX1_membersOf_1 16 rfl rfl)
theorem dX1_membersOf_39 : decode cX1_membersOf 39 = .ok (.ireturn, 1) := dk_172 (dk_at dksX1_membersOf_1 17 rfl rfl)
abbrev cX1_groups : ByteArray := prog_1_method_57_code
def yX1_groups : MethodName := ⟨RX1, "groups", "(I)I"⟩
def dkwX1_groups_1 : List UInt8 := [172]
abbrev dktX1_groups_1 : List UInt8 := dkwX1_groups_1 ++ []
def dkwX1_groups_0 : List UInt8 := [27, 7, 184, 0, 138, 187, 1, 97, 89, 42, 180, 0, 123, 42, 27, 182, 0, 214, 183, 1, 99, 182, 1, 102]
abbrev dktX1_groups_0 : List UInt8 := dkwX1_groups_0 ++ dktX1_groups_1
theorem dksX1_groups_0 : cX1_groups.data.toList.drop 0 = dktX1_groups_0 := by decide +kernel
theorem dksX1_groups_1 : cX1_groups.data.toList.drop 24 = dktX1_groups_1 := dk_seg dksX1_groups_0 24 rfl rfl
theorem dX1_groups_0 : decode cX1_groups 0 = .ok (.iload_n 1, 1) := dk_27 (dk_at dksX1_groups_0 0 rfl rfl)
theorem dX1_groups_1 : decode cX1_groups 1 = .ok (.iconst 4, 1) := dk_7 (dk_at dksX1_groups_0 1 rfl rfl)
theorem dX1_groups_2 : decode cX1_groups 2 = .ok (.invokestatic 138, 3) := dk_184 0 138 (dk_at dksX1_groups_0 2 rfl rfl)
theorem dX1_groups_5 : decode cX1_groups 5 = .ok (.new 353, 3) := dk_187 1 97 (dk_at dksX1_groups_0 5 rfl rfl)
theorem dX1_groups_8 : decode cX1_groups 8 = .ok (.dup, 1) := dk_89 (dk_at dksX1_groups_0 8 rfl rfl)
theorem dX1_groups_9 : decode cX1_groups 9 = .ok (.aload_n 0, 1) := dk_42 (dk_at dksX1_groups_0 9 rfl rfl)
theorem dX1_groups_10 : decode cX1_groups 10 = .ok (.getfield 123, 3) := dk_180 0 123 (dk_at dksX1_groups_0 10 rfl rfl)
theorem dX1_groups_13 : decode cX1_groups 13 = .ok (.aload_n 0, 1) := dk_42 (dk_at dksX1_groups_0 13 rfl rfl)
theorem dX1_groups_14 : decode cX1_groups 14 = .ok (.iload_n 1, 1) := dk_27 (dk_at dksX1_groups_0 14 rfl rfl)
theorem dX1_groups_15 : decode cX1_groups 15 = .ok (.invokevirtual 214, 3) := dk_182 0 214 (dk_at dksX1_groups_0 15 rfl rfl)
theorem dX1_groups_18 : decode cX1_groups 18 = .ok (.invokespecial 355, 3) := dk_183 1 99 (dk_at dksX1_groups_0 18 rfl rfl)
theorem dX1_groups_21 : decode cX1_groups 21 = .ok (.invokevirtual 358, 3) := dk_182 1 102 (dk_at dksX1_groups_0 21 rfl rfl)
theorem dX1_groups_24 : decode cX1_groups 24 = .ok (.ireturn, 1) := dk_172 (dk_at dksX1_groups_1 0 rfl rfl)
abbrev cX1_smallest : ByteArray := prog_1_method_58_code
def yX1_smallest : MethodName := ⟨RX1, "smallest", "(II)I"⟩
def dkwX1_smallest_2 : List UInt8 := [154, 0, 6, 21, 5, 172, 132, 4, 255, 132, 5, 1, 167, 255, 225, 187, 0, 13, 89, 183, 0, 15, 191]
abbrev dktX1_smallest_2 : List UInt8 := dkwX1_smallest_2 ++ []
def dkwX1_smallest_1 : List UInt8 := [54, 4, 3, 54, 5, 21, 5, 17, 1, 0, 162, 0, 29, 45, 21, 5, 182, 1, 103, 153, 0, 14, 21, 4]
abbrev dktX1_smallest_1 : List UInt8 := dkwX1_smallest_1 ++ dktX1_smallest_2
def dkwX1_smallest_0 : List UInt8 := [27, 7, 184, 0, 138, 187, 1, 97, 89, 42, 180, 0, 123, 42, 27, 182, 0, 214, 183, 1, 99, 78, 28]
abbrev dktX1_smallest_0 : List UInt8 := dkwX1_smallest_0 ++ dktX1_smallest_1
theorem dksX1_smallest_0 : cX1_smallest.data.toList.drop 0 = dktX1_smallest_0 := by decide +kernel
theorem dksX1_smallest_1 : cX1_smallest.data.toList.drop 23 = dktX1_smallest_1 := dk_seg dksX1_smallest_0 23 rfl rfl
theorem dksX1_smallest_2 : cX1_smallest.data.toList.drop 47 = dktX1_smallest_2 := dk_seg dksX1_smallest_1 24 rfl rfl
theorem dX1_smallest_0 : decode cX1_smallest 0 = .ok (.iload_n 1, 1) := dk_27 (dk_at dksX1_smallest_0 0 rfl rfl)
theorem dX1_smallest_1 : decode cX1_smallest 1 = .ok (.iconst 4, 1) := dk_7 (dk_at dksX1_smallest_0 1 rfl rfl)
theorem dX1_smallest_2 : decode cX1_smallest 2 = .ok (.invokestatic 138, 3) := dk_184 0 138 (dk_at dksX1_smallest_0 2 rfl rfl)
theorem dX1_smallest_5 : decode cX1_smallest 5 = .ok (.new 353, 3) := dk_187 1 97 (dk_at dksX1_smallest_0 5 rfl rfl)
theorem dX1_smallest_8 : decode cX1_smallest 8 = .ok (.dup, 1) := dk_89 (dk_at dksX1_smallest_0 8 rfl rfl)
theorem dX1_smallest_9 : decode cX1_smallest 9 = .ok (.aload_n 0, 1) := dk_42 (dk_at dksX1_smallest_0 9 rfl rfl)
theorem dX1_smallest_10 : decode cX1_smallest 10 = .ok (.getfield 123, 3) := dk_180 0 123 (dk_at dksX1_smallest_0 10 rfl rfl)
theorem dX1_smallest_13 : decode cX1_smallest 13 = .ok (.aload_n 0, 1) := dk_42 (dk_at dksX1_smallest_0 13 rfl rfl)
theorem dX1_smallest_14 : decode cX1_smallest 14 = .ok (.iload_n 1, 1) := dk_27 (dk_at dksX1_smallest_0 14 rfl rfl)
theorem dX1_smallest_15 : decode cX1_smallest 15 = .ok (.invokevirtual 214, 3) := dk_182 0 214 (dk_at dksX1_smallest_0 15 rfl rfl)
theorem dX1_smallest_18 : decode cX1_smallest 18 = .ok (.invokespecial 355, 3) := dk_183 1 99 (dk_at dksX1_smallest_0 18 rfl rfl)
theorem dX1_smallest_21 : decode cX1_smallest 21 = .ok (.astore_n 3, 1) := dk_78 (dk_at dksX1_smallest_0 21 rfl rfl)
theorem dX1_smallest_22 : decode cX1_smallest 22 = .ok (.iload_n 2, 1) := dk_28 (dk_at dksX1_smallest_0 22 rfl rfl)
theorem dX1_smallest_23 : decode cX1_smallest 23 = .ok (.istore 4, 2) := dk_54 4 (dk_at dksX1_smallest_1 0 rfl rfl)
theorem dX1_smallest_25 : decode cX1_smallest 25 = .ok (.iconst 0, 1) := dk_3 (dk_at dksX1_smallest_1 2 rfl rfl)
theorem dX1_smallest_26 : decode cX1_smallest 26 = .ok (.istore 5, 2) := dk_54 5 (dk_at dksX1_smallest_1 3 rfl rfl)
theorem dX1_smallest_28 : decode cX1_smallest 28 = .ok (.iload 5, 2) := dk_21 5 (dk_at dksX1_smallest_1 5 rfl rfl)
theorem dX1_smallest_30 : decode cX1_smallest 30 = .ok (.sipush 256, 3) := dk_17 1 0 (dk_at dksX1_smallest_1 7 rfl rfl)
theorem dX1_smallest_33 : decode cX1_smallest 33 = .ok (.if_icmp .ge 29, 3) := dk_162 0 29 (dk_at dksX1_smallest_1 10 rfl rfl)
theorem dX1_smallest_36 : decode cX1_smallest 36 = .ok (.aload_n 3, 1) := dk_45 (dk_at dksX1_smallest_1 13 rfl rfl)
theorem dX1_smallest_37 : decode cX1_smallest 37 = .ok (.iload 5, 2) := dk_21 5 (dk_at dksX1_smallest_1 14 rfl rfl)
theorem dX1_smallest_39 : decode cX1_smallest 39 = .ok (.invokevirtual 359, 3) := dk_182 1 103 (dk_at dksX1_smallest_1 16 rfl rfl)
theorem dX1_smallest_42 : decode cX1_smallest 42 = .ok (.ifCond .eq 14, 3) := dk_153 0 14 (dk_at dksX1_smallest_1 19 rfl rfl)
theorem dX1_smallest_45 : decode cX1_smallest 45 = .ok (.iload 4, 2) := dk_21 4 (dk_at dksX1_smallest_1 22 rfl rfl)
theorem dX1_smallest_47 : decode cX1_smallest 47 = .ok (.ifCond .ne 6, 3) := dk_154 0 6 (dk_at dksX1_smallest_2 0 rfl rfl)
theorem dX1_smallest_50 : decode cX1_smallest 50 = .ok (.iload 5, 2) := dk_21 5 (dk_at dksX1_smallest_2 3 rfl rfl)
theorem dX1_smallest_52 : decode cX1_smallest 52 = .ok (.ireturn, 1) := dk_172 (dk_at dksX1_smallest_2 5 rfl rfl)
theorem dX1_smallest_53 : decode cX1_smallest 53 = .ok (.iinc 4 (-1), 3) := dk_132 4 255 (dk_at dksX1_smallest_2 6 rfl rfl)
theorem dX1_smallest_56 : decode cX1_smallest 56 = .ok (.iinc 5 1, 3) := dk_132 5 1 (dk_at dksX1_smallest_2 9 rfl rfl)
theorem dX1_smallest_59 : decode cX1_smallest 59 = .ok (.goto (-31), 3) := dk_167 255 225 (dk_at dksX1_smallest_2 12 rfl rfl)
theorem dX1_smallest_62 : decode cX1_smallest 62 = .ok (.new 13, 3) := dk_187 0 13 (dk_at dksX1_smallest_2 15 rfl rfl)
theorem dX1_smallest_65 : decode cX1_smallest 65 = .ok (.dup, 1) := dk_89 (dk_at dksX1_smallest_2 18 rfl rfl)
theorem dX1_smallest_66 : decode cX1_smallest 66 = .ok (.invokespecial 15, 3) := dk_183 0 15 (dk_at dksX1_smallest_2 19 rfl rfl)
theorem dX1_smallest_69 : decode cX1_smallest 69 = .ok (.athrow, 1) := dk_191 (dk_at dksX1_smallest_2 22 rfl rfl)
abbrev cX1_powerBits : ByteArray := prog_1_method_59_code
def yX1_powerBits : MethodName := ⟨RX1, "powerBits", "(II)J"⟩
def dkwX1_powerBits_1 : List UInt8 := [183, 1, 99, 28, 182, 1, 106, 62, 29, 135, 20, 1, 109, 111, 184, 1, 111, 173]
abbrev dktX1_powerBits_1 : List UInt8 := dkwX1_powerBits_1 ++ []
def dkwX1_powerBits_0 : List UInt8 := [27, 7, 184, 0, 138, 28, 184, 0, 177, 187, 1, 97, 89, 42, 180, 0, 123, 42, 27, 182, 0, 214]
abbrev dktX1_powerBits_0 : List UInt8 := dkwX1_powerBits_0 ++ dktX1_powerBits_1
theorem dksX1_powerBits_0 : cX1_powerBits.data.toList.drop 0 = dktX1_powerBits_0 := by decide +kernel
theorem dksX1_powerBits_1 : cX1_powerBits.data.toList.drop 22 = dktX1_powerBits_1 := dk_seg dksX1_powerBits_0 22 rfl rfl
theorem dX1_powerBits_0 : decode cX1_powerBits 0 = .ok (.iload_n 1, 1) := dk_27 (dk_at dksX1_powerBits_0 0 rfl rfl)
theorem dX1_powerBits_1 : decode cX1_powerBits 1 = .ok (.iconst 4, 1) := dk_7 (dk_at dksX1_powerBits_0 1 rfl rfl)
theorem dX1_powerBits_2 : decode cX1_powerBits 2 = .ok (.invokestatic 138, 3) := dk_184 0 138 (dk_at dksX1_powerBits_0 2 rfl rfl)
theorem dX1_powerBits_5 : decode cX1_powerBits 5 = .ok (.iload_n 2, 1) := dk_28 (dk_at dksX1_powerBits_0 5 rfl rfl)
theorem dX1_powerBits_6 : decode cX1_powerBits 6 = .ok (.invokestatic 177, 3) := dk_184 0 177 (dk_at dksX1_powerBits_0 6 rfl rfl)
theorem dX1_powerBits_9 : decode cX1_powerBits 9 = .ok (.new 353, 3) := dk_187 1 97 (dk_at dksX1_powerBits_0 9 rfl rfl)
theorem dX1_powerBits_12 : decode cX1_powerBits 12 = .ok (.dup, 1) := dk_89 (dk_at dksX1_powerBits_0 12 rfl rfl)
theorem dX1_powerBits_13 : decode cX1_powerBits 13 = .ok (.aload_n 0, 1) := dk_42 (dk_at dksX1_powerBits_0 13 rfl rfl)
theorem dX1_powerBits_14 : decode cX1_powerBits 14 = .ok (.getfield 123, 3) := dk_180 0 123 (dk_at dksX1_powerBits_0 14 rfl rfl)
theorem dX1_powerBits_17 : decode cX1_powerBits 17 = .ok (.aload_n 0, 1) := dk_42 (dk_at dksX1_powerBits_0 17 rfl rfl)
theorem dX1_powerBits_18 : decode cX1_powerBits 18 = .ok (.iload_n 1, 1) := dk_27 (dk_at dksX1_powerBits_0 18 rfl rfl)
theorem dX1_powerBits_19 : decode cX1_powerBits 19 = .ok (.invokevirtual 214, 3) := dk_182 0 214 (dk_at dksX1_powerBits_0 19 rfl rfl)
theorem dX1_powerBits_22 : decode cX1_powerBits 22 = .ok (.invokespecial 355, 3) := dk_183 1 99 (dk_at dksX1_powerBits_1 0 rfl rfl)
theorem dX1_powerBits_25 : decode cX1_powerBits 25 = .ok (.iload_n 2, 1) := dk_28 (dk_at dksX1_powerBits_1 3 rfl rfl)
theorem dX1_powerBits_26 : decode cX1_powerBits 26 = .ok (.invokevirtual 362, 3) := dk_182 1 106 (dk_at dksX1_powerBits_1 4 rfl rfl)
theorem dX1_powerBits_29 : decode cX1_powerBits 29 = .ok (.istore_n 3, 1) := dk_62 (dk_at dksX1_powerBits_1 7 rfl rfl)
theorem dX1_powerBits_30 : decode cX1_powerBits 30 = .ok (.iload_n 3, 1) := dk_29 (dk_at dksX1_powerBits_1 8 rfl rfl)
theorem dX1_powerBits_31 : decode cX1_powerBits 31 = .ok (.i2d, 1) := dk_135 (dk_at dksX1_powerBits_1 9 rfl rfl)
theorem dX1_powerBits_32 : decode cX1_powerBits 32 = .ok (.ldc2_w 365, 3) := dk_20 1 109 (dk_at dksX1_powerBits_1 10 rfl rfl)
theorem dX1_powerBits_35 : decode cX1_powerBits 35 = .ok (.ddiv, 1) := dk_111 (dk_at dksX1_powerBits_1 13 rfl rfl)
theorem dX1_powerBits_36 : decode cX1_powerBits 36 = .ok (.invokestatic 367, 3) := dk_184 1 111 (dk_at dksX1_powerBits_1 14 rfl rfl)
theorem dX1_powerBits_39 : decode cX1_powerBits 39 = .ok (.lreturn, 1) := dk_173 (dk_at dksX1_powerBits_1 17 rfl rfl)
abbrev cX1_healthBits : ByteArray := prog_1_method_60_code
def yX1_healthBits : MethodName := ⟨RX1, "healthBits", "(I)I"⟩
def dkwX1_healthBits_1 : List UInt8 := [183, 1, 119, 191, 44, 178, 1, 9, 182, 1, 15, 134, 44, 182, 0, 212, 134, 110, 184, 1, 120, 172]
abbrev dktX1_healthBits_1 : List UInt8 := dkwX1_healthBits_1 ++ []
def dkwX1_healthBits_0 : List UInt8 := [27, 7, 184, 0, 138, 42, 27, 182, 0, 214, 77, 44, 182, 0, 212, 154, 0, 11, 187, 1, 117, 89]
abbrev dktX1_healthBits_0 : List UInt8 := dkwX1_healthBits_0 ++ dktX1_healthBits_1
theorem dksX1_healthBits_0 : cX1_healthBits.data.toList.drop 0 = dktX1_healthBits_0 := by decide +kernel
theorem dksX1_healthBits_1 : cX1_healthBits.data.toList.drop 22 = dktX1_healthBits_1 := dk_seg dksX1_healthBits_0 22 rfl rfl
theorem dX1_healthBits_0 : decode cX1_healthBits 0 = .ok (.iload_n 1, 1) := dk_27 (dk_at dksX1_healthBits_0 0 rfl rfl)
theorem dX1_healthBits_1 : decode cX1_healthBits 1 = .ok (.iconst 4, 1) := dk_7 (dk_at dksX1_healthBits_0 1 rfl rfl)
theorem dX1_healthBits_2 : decode cX1_healthBits 2 = .ok (.invokestatic 138, 3) := dk_184 0 138 (dk_at dksX1_healthBits_0 2 rfl rfl)
theorem dX1_healthBits_5 : decode cX1_healthBits 5 = .ok (.aload_n 0, 1) := dk_42 (dk_at dksX1_healthBits_0 5 rfl rfl)
theorem dX1_healthBits_6 : decode cX1_healthBits 6 = .ok (.iload_n 1, 1) := dk_27 (dk_at dksX1_healthBits_0 6 rfl rfl)
theorem dX1_healthBits_7 : decode cX1_healthBits 7 = .ok (.invokevirtual 214, 3) := dk_182 0 214 (dk_at dksX1_healthBits_0 7 rfl rfl)
theorem dX1_healthBits_10 : decode cX1_healthBits 10 = .ok (.astore_n 2, 1) := dk_77 (dk_at dksX1_healthBits_0 10 rfl rfl)
theorem dX1_healthBits_11 : decode cX1_healthBits 11 = .ok (.aload_n 2, 1) := dk_44 (dk_at dksX1_healthBits_0 11 rfl rfl)
theorem dX1_healthBits_12 : decode cX1_healthBits 12 = .ok (.invokevirtual 212, 3) := dk_182 0 212 (dk_at dksX1_healthBits_0 12 rfl rfl)
theorem dX1_healthBits_15 : decode cX1_healthBits 15 = .ok (.ifCond .ne 11, 3) := dk_154 0 11 (dk_at dksX1_healthBits_0 15 rfl rfl)
theorem dX1_healthBits_18 : decode cX1_healthBits 18 = .ok (.new 373, 3) := dk_187 1 117 (dk_at dksX1_healthBits_0 18 rfl rfl)
theorem dX1_healthBits_21 : decode cX1_healthBits 21 = .ok (.dup, 1) := dk_89 (dk_at dksX1_healthBits_0 21 rfl rfl)
theorem dX1_healthBits_22 : decode cX1_healthBits 22 = .ok (.invokespecial 375, 3) := dk_183 1 119 (dk_at dksX1_healthBits_1 0 rfl rfl)
theorem dX1_healthBits_25 : decode cX1_healthBits 25 = .ok (.athrow, 1) := dk_191 (dk_at dksX1_healthBits_1 3 rfl rfl)
theorem dX1_healthBits_26 : decode cX1_healthBits 26 = .ok (.aload_n 2, 1) := dk_44 (dk_at dksX1_healthBits_1 4 rfl rfl)
theorem dX1_healthBits_27 : decode cX1_healthBits 27 = .ok (.getstatic 265, 3) := dk_178 1 9 (dk_at dksX1_healthBits_1 5 rfl rfl)
theorem dX1_healthBits_30 : decode cX1_healthBits 30 = .ok (.invokevirtual 271, 3) := dk_182 1 15 (dk_at dksX1_healthBits_1 8 rfl rfl)
theorem dX1_healthBits_33 : decode cX1_healthBits 33 = .ok (.i2f, 1) := dk_134 (dk_at dksX1_healthBits_1 11 rfl rfl)
theorem dX1_healthBits_34 : decode cX1_healthBits 34 = .ok (.aload_n 2, 1) := dk_44 (dk_at dksX1_healthBits_1 12 rfl rfl)
theorem dX1_healthBits_35 : decode cX1_healthBits 35 = .ok (.invokevirtual 212, 3) := dk_182 0 212 (dk_at dksX1_healthBits_1 13 rfl rfl)
theorem dX1_healthBits_38 : decode cX1_healthBits 38 = .ok (.i2f, 1) := dk_134 (dk_at dksX1_healthBits_1 16 rfl rfl)
theorem dX1_healthBits_39 : decode cX1_healthBits 39 = .ok (.fdiv, 1) := dk_110 (dk_at dksX1_healthBits_1 17 rfl rfl)
theorem dX1_healthBits_40 : decode cX1_healthBits 40 = .ok (.invokestatic 376, 3) := dk_184 1 120 (dk_at dksX1_healthBits_1 18 rfl rfl)
theorem dX1_healthBits_43 : decode cX1_healthBits 43 = .ok (.ireturn, 1) := dk_172 (dk_at dksX1_healthBits_1 21 rfl rfl)
abbrev cX1_report : ByteArray := prog_1_method_62_code
def yX1_report : MethodName := ⟨RX1, "report", "(II)I"⟩
def dkwX1_report_3 : List UInt8 := [167, 0, 12, 25, 4, 180, 1, 140, 167, 0, 4, 3, 172]
abbrev dktX1_report_3 : List UInt8 := dkwX1_report_3 ++ []
def dkwX1_report_2 : List UInt8 := [45, 193, 1, 135, 153, 0, 29, 45, 192, 1, 135, 58, 4, 28, 154, 0, 11, 25, 4, 180, 1, 137]
abbrev dktX1_report_2 : List UInt8 := dkwX1_report_2 ++ dktX1_report_3
def dkwX1_report_1 : List UInt8 := [180, 0, 157, 78, 3, 54, 4, 21, 4, 27, 162, 0, 14, 45, 182, 1, 126, 78, 132, 4, 1, 167, 255, 242]
abbrev dktX1_report_1 : List UInt8 := dkwX1_report_1 ++ dktX1_report_2
def dkwX1_report_0 : List UInt8 := [27, 3, 42, 182, 1, 132, 4, 100, 184, 0, 142, 184, 0, 154, 28, 3, 4, 184, 0, 142, 184, 0, 146, 42]
abbrev dktX1_report_0 : List UInt8 := dkwX1_report_0 ++ dktX1_report_1
theorem dksX1_report_0 : cX1_report.data.toList.drop 0 = dktX1_report_0 := by decide +kernel
theorem dksX1_report_1 : cX1_report.data.toList.drop 24 = dktX1_report_1 := dk_seg dksX1_report_0 24 rfl rfl
theorem dksX1_report_2 : cX1_report.data.toList.drop 48 = dktX1_report_2 := dk_seg dksX1_report_1 24 rfl rfl
theorem dksX1_report_3 : cX1_report.data.toList.drop 70 = dktX1_report_3 := dk_seg dksX1_report_2 22 rfl rfl
theorem dX1_report_0 : decode cX1_report 0 = .ok (.iload_n 1, 1) := dk_27 (dk_at dksX1_report_0 0 rfl rfl)
theorem dX1_report_1 : decode cX1_report 1 = .ok (.iconst 0, 1) := dk_3 (dk_at dksX1_report_0 1 rfl rfl)
theorem dX1_report_2 : decode cX1_report 2 = .ok (.aload_n 0, 1) := dk_42 (dk_at dksX1_report_0 2 rfl rfl)
theorem dX1_report_3 : decode cX1_report 3 = .ok (.invokevirtual 388, 3) := dk_182 1 132 (dk_at dksX1_report_0 3 rfl rfl)
theorem dX1_report_6 : decode cX1_report 6 = .ok (.iconst 1, 1) := dk_4 (dk_at dksX1_report_0 6 rfl rfl)
theorem dX1_report_7 : decode cX1_report 7 = .ok (.isub, 1) := dk_100 (dk_at dksX1_report_0 7 rfl rfl)
theorem dX1_report_8 : decode cX1_report 8 = .ok (.invokestatic 142, 3) := dk_184 0 142 (dk_at dksX1_report_0 8 rfl rfl)
theorem dX1_report_11 : decode cX1_report 11 = .ok (.invokestatic 154, 3) := dk_184 0 154 (dk_at dksX1_report_0 11 rfl rfl)
theorem dX1_report_14 : decode cX1_report 14 = .ok (.iload_n 2, 1) := dk_28 (dk_at dksX1_report_0 14 rfl rfl)
theorem dX1_report_15 : decode cX1_report 15 = .ok (.iconst 0, 1) := dk_3 (dk_at dksX1_report_0 15 rfl rfl)
theorem dX1_report_16 : decode cX1_report 16 = .ok (.iconst 1, 1) := dk_4 (dk_at dksX1_report_0 16 rfl rfl)
theorem dX1_report_17 : decode cX1_report 17 = .ok (.invokestatic 142, 3) := dk_184 0 142 (dk_at dksX1_report_0 17 rfl rfl)
theorem dX1_report_20 : decode cX1_report 20 = .ok (.invokestatic 146, 3) := dk_184 0 146 (dk_at dksX1_report_0 20 rfl rfl)
theorem dX1_report_23 : decode cX1_report 23 = .ok (.aload_n 0, 1) := dk_42 (dk_at dksX1_report_0 23 rfl rfl)
theorem dX1_report_24 : decode cX1_report 24 = .ok (.getfield 157, 3) := dk_180 0 157 (dk_at dksX1_report_1 0 rfl rfl)
theorem dX1_report_27 : decode cX1_report 27 = .ok (.astore_n 3, 1) := dk_78 (dk_at dksX1_report_1 3 rfl rfl)
theorem dX1_report_28 : decode cX1_report 28 = .ok (.iconst 0, 1) := dk_3 (dk_at dksX1_report_1 4 rfl rfl)
theorem dX1_report_29 : decode cX1_report 29 = .ok (.istore 4, 2) := dk_54 4 (dk_at dksX1_report_1 5 rfl rfl)
theorem dX1_report_31 : decode cX1_report 31 = .ok (.iload 4, 2) := dk_21 4 (dk_at dksX1_report_1 7 rfl rfl)
theorem dX1_report_33 : decode cX1_report 33 = .ok (.iload_n 1, 1) := dk_27 (dk_at dksX1_report_1 9 rfl rfl)
theorem dX1_report_34 : decode cX1_report 34 = .ok (.if_icmp .ge 14, 3) := dk_162 0 14 (dk_at dksX1_report_1 10 rfl rfl)
theorem dX1_report_37 : decode cX1_report 37 = .ok (.aload_n 3, 1) := dk_45 (dk_at dksX1_report_1 13 rfl rfl)
theorem dX1_report_38 : decode cX1_report 38 = .ok (.invokevirtual 382, 3) := dk_182 1 126 (dk_at dksX1_report_1 14 rfl rfl)
theorem dX1_report_41 : decode cX1_report 41 = .ok (.astore_n 3, 1) := dk_78 (dk_at dksX1_report_1 17 rfl rfl)
theorem dX1_report_42 : decode cX1_report 42 = .ok (.iinc 4 1, 3) := dk_132 4 1 (dk_at dksX1_report_1 18 rfl rfl)
theorem dX1_report_45 : decode cX1_report 45 = .ok (.goto (-14), 3) := dk_167 255 242 (dk_at dksX1_report_1 21 rfl rfl)
theorem dX1_report_48 : decode cX1_report 48 = .ok (.aload_n 3, 1) := dk_45 (dk_at dksX1_report_2 0 rfl rfl)
theorem dX1_report_49 : decode cX1_report 49 = .ok (.instanceof 391, 3) := dk_193 1 135 (dk_at dksX1_report_2 1 rfl rfl)
theorem dX1_report_52 : decode cX1_report 52 = .ok (.ifCond .eq 29, 3) := dk_153 0 29 (dk_at dksX1_report_2 4 rfl rfl)
theorem dX1_report_55 : decode cX1_report 55 = .ok (.aload_n 3, 1) := dk_45 (dk_at dksX1_report_2 7 rfl rfl)
theorem dX1_report_56 : decode cX1_report 56 = .ok (.checkcast 391, 3) := dk_192 1 135 (dk_at dksX1_report_2 8 rfl rfl)
theorem dX1_report_59 : decode cX1_report 59 = .ok (.astore 4, 2) := dk_58 4 (dk_at dksX1_report_2 11 rfl rfl)
theorem dX1_report_61 : decode cX1_report 61 = .ok (.iload_n 2, 1) := dk_28 (dk_at dksX1_report_2 13 rfl rfl)
theorem dX1_report_62 : decode cX1_report 62 = .ok (.ifCond .ne 11, 3) := dk_154 0 11 (dk_at dksX1_report_2 14 rfl rfl)
theorem dX1_report_65 : decode cX1_report 65 = .ok (.aload 4, 2) := dk_25 4 (dk_at dksX1_report_2 17 rfl rfl)
theorem dX1_report_67 : decode cX1_report 67 = .ok (.getfield 393, 3) := dk_180 1 137 (dk_at dksX1_report_2 19 rfl rfl)
theorem dX1_report_70 : decode cX1_report 70 = .ok (.goto 12, 3) := dk_167 0 12 (dk_at dksX1_report_3 0 rfl rfl)
theorem dX1_report_73 : decode cX1_report 73 = .ok (.aload 4, 2) := dk_25 4 (dk_at dksX1_report_3 3 rfl rfl)
theorem dX1_report_75 : decode cX1_report 75 = .ok (.getfield 396, 3) := dk_180 1 140 (dk_at dksX1_report_3 5 rfl rfl)
theorem dX1_report_78 : decode cX1_report 78 = .ok (.goto 4, 3) := dk_167 0 4 (dk_at dksX1_report_3 8 rfl rfl)
theorem dX1_report_81 : decode cX1_report 81 = .ok (.iconst 0, 1) := dk_3 (dk_at dksX1_report_3 11 rfl rfl)
theorem dX1_report_82 : decode cX1_report 82 = .ok (.ireturn, 1) := dk_172 (dk_at dksX1_report_3 12 rfl rfl)
abbrev cX1_event : ByteArray := prog_1_method_63_code
def yX1_event : MethodName := ⟨RX1, "event", "(I)I"⟩
def dkwX1_event_3 : List UInt8 := [182, 1, 166, 54, 5, 28, 154, 0, 8, 21, 5, 167, 0, 4, 29, 62, 132, 2, 255, 167, 255, 217, 29, 172]
abbrev dktX1_event_3 : List UInt8 := dkwX1_event_3 ++ []
def dkwX1_event_2 : List UInt8 := [58, 4, 25, 4, 185, 1, 154, 1, 0, 153, 0, 35, 25, 4, 185, 1, 160, 1, 0, 192, 1, 164]
abbrev dktX1_event_2 : List UInt8 := dkwX1_event_2 ++ dktX1_event_3
def dkwX1_event_1 : List UInt8 := [180, 1, 143, 182, 1, 147, 4, 100, 27, 100, 61, 3, 62, 42, 180, 0, 123, 180, 1, 143, 182, 1, 150]
abbrev dktX1_event_1 : List UInt8 := dkwX1_event_1 ++ dktX1_event_2
def dkwX1_event_0 : List UInt8 := [27, 3, 42, 180, 0, 123, 180, 1, 143, 182, 1, 147, 4, 100, 184, 0, 142, 184, 0, 154, 42, 180, 0, 123]
abbrev dktX1_event_0 : List UInt8 := dkwX1_event_0 ++ dktX1_event_1
theorem dksX1_event_0 : cX1_event.data.toList.drop 0 = dktX1_event_0 := by decide +kernel
theorem dksX1_event_1 : cX1_event.data.toList.drop 24 = dktX1_event_1 := dk_seg dksX1_event_0 24 rfl rfl
theorem dksX1_event_2 : cX1_event.data.toList.drop 47 = dktX1_event_2 := dk_seg dksX1_event_1 23 rfl rfl
theorem dksX1_event_3 : cX1_event.data.toList.drop 69 = dktX1_event_3 := dk_seg dksX1_event_2 22 rfl rfl
theorem dX1_event_0 : decode cX1_event 0 = .ok (.iload_n 1, 1) := dk_27 (dk_at dksX1_event_0 0 rfl rfl)
theorem dX1_event_1 : decode cX1_event 1 = .ok (.iconst 0, 1) := dk_3 (dk_at dksX1_event_0 1 rfl rfl)
theorem dX1_event_2 : decode cX1_event 2 = .ok (.aload_n 0, 1) := dk_42 (dk_at dksX1_event_0 2 rfl rfl)
theorem dX1_event_3 : decode cX1_event 3 = .ok (.getfield 123, 3) := dk_180 0 123 (dk_at dksX1_event_0 3 rfl rfl)
theorem dX1_event_6 : decode cX1_event 6 = .ok (.getfield 399, 3) := dk_180 1 143 (dk_at dksX1_event_0 6 rfl rfl)
theorem dX1_event_9 : decode cX1_event 9 = .ok (.invokevirtual 403, 3) := dk_182 1 147 (dk_at dksX1_event_0 9 rfl rfl)
theorem dX1_event_12 : decode cX1_event 12 = .ok (.iconst 1, 1) := dk_4 (dk_at dksX1_event_0 12 rfl rfl)
theorem dX1_event_13 : decode cX1_event 13 = .ok (.isub, 1) := dk_100 (dk_at dksX1_event_0 13 rfl rfl)
theorem dX1_event_14 : decode cX1_event 14 = .ok (.invokestatic 142, 3) := dk_184 0 142 (dk_at dksX1_event_0 14 rfl rfl)
theorem dX1_event_17 : decode cX1_event 17 = .ok (.invokestatic 154, 3) := dk_184 0 154 (dk_at dksX1_event_0 17 rfl rfl)
theorem dX1_event_20 : decode cX1_event 20 = .ok (.aload_n 0, 1) := dk_42 (dk_at dksX1_event_0 20 rfl rfl)
theorem dX1_event_21 : decode cX1_event 21 = .ok (.getfield 123, 3) := dk_180 0 123 (dk_at dksX1_event_0 21 rfl rfl)
theorem dX1_event_24 : decode cX1_event 24 = .ok (.getfield 399, 3) := dk_180 1 143 (dk_at dksX1_event_1 0 rfl rfl)
theorem dX1_event_27 : decode cX1_event 27 = .ok (.invokevirtual 403, 3) := dk_182 1 147 (dk_at dksX1_event_1 3 rfl rfl)
theorem dX1_event_30 : decode cX1_event 30 = .ok (.iconst 1, 1) := dk_4 (dk_at dksX1_event_1 6 rfl rfl)
theorem dX1_event_31 : decode cX1_event 31 = .ok (.isub, 1) := dk_100 (dk_at dksX1_event_1 7 rfl rfl)
theorem dX1_event_32 : decode cX1_event 32 = .ok (.iload_n 1, 1) := dk_27 (dk_at dksX1_event_1 8 rfl rfl)
theorem dX1_event_33 : decode cX1_event 33 = .ok (.isub, 1) := dk_100 (dk_at dksX1_event_1 9 rfl rfl)
theorem dX1_event_34 : decode cX1_event 34 = .ok (.istore_n 2, 1) := dk_61 (dk_at dksX1_event_1 10 rfl rfl)
theorem dX1_event_35 : decode cX1_event 35 = .ok (.iconst 0, 1) := dk_3 (dk_at dksX1_event_1 11 rfl rfl)
theorem dX1_event_36 : decode cX1_event 36 = .ok (.istore_n 3, 1) := dk_62 (dk_at dksX1_event_1 12 rfl rfl)
theorem dX1_event_37 : decode cX1_event 37 = .ok (.aload_n 0, 1) := dk_42 (dk_at dksX1_event_1 13 rfl rfl)
theorem dX1_event_38 : decode cX1_event 38 = .ok (.getfield 123, 3) := dk_180 0 123 (dk_at dksX1_event_1 14 rfl rfl)
theorem dX1_event_41 : decode cX1_event 41 = .ok (.getfield 399, 3) := dk_180 1 143 (dk_at dksX1_event_1 17 rfl rfl)
theorem dX1_event_44 : decode cX1_event 44 = .ok (.invokevirtual 406, 3) := dk_182 1 150 (dk_at dksX1_event_1 20 rfl rfl)
theorem dX1_event_47 : decode cX1_event 47 = .ok (.astore 4, 2) := dk_58 4 (dk_at dksX1_event_2 0 rfl rfl)
theorem dX1_event_49 : decode cX1_event 49 = .ok (.aload 4, 2) := dk_25 4 (dk_at dksX1_event_2 2 rfl rfl)
theorem dX1_event_51 : decode cX1_event 51 = .ok (.invokeinterface 410 1, 5) := by decide +kernel
theorem dX1_event_56 : decode cX1_event 56 = .ok (.ifCond .eq 35, 3) := dk_153 0 35 (dk_at dksX1_event_2 9 rfl rfl)
theorem dX1_event_59 : decode cX1_event 59 = .ok (.aload 4, 2) := dk_25 4 (dk_at dksX1_event_2 12 rfl rfl)
theorem dX1_event_61 : decode cX1_event 61 = .ok (.invokeinterface 416 1, 5) := by decide +kernel
theorem dX1_event_66 : decode cX1_event 66 = .ok (.checkcast 420, 3) := dk_192 1 164 (dk_at dksX1_event_2 19 rfl rfl)
theorem dX1_event_69 : decode cX1_event 69 = .ok (.invokevirtual 422, 3) := dk_182 1 166 (dk_at dksX1_event_3 0 rfl rfl)
theorem dX1_event_72 : decode cX1_event 72 = .ok (.istore 5, 2) := dk_54 5 (dk_at dksX1_event_3 3 rfl rfl)
theorem dX1_event_74 : decode cX1_event 74 = .ok (.iload_n 2, 1) := dk_28 (dk_at dksX1_event_3 5 rfl rfl)
theorem dX1_event_75 : decode cX1_event 75 = .ok (.ifCond .ne 8, 3) := dk_154 0 8 (dk_at dksX1_event_3 6 rfl rfl)
theorem dX1_event_78 : decode cX1_event 78 = .ok (.iload 5, 2) := dk_21 5 (dk_at dksX1_event_3 9 rfl rfl)
theorem dX1_event_80 : decode cX1_event 80 = .ok (.goto 4, 3) := dk_167 0 4 (dk_at dksX1_event_3 11 rfl rfl)
theorem dX1_event_83 : decode cX1_event 83 = .ok (.iload_n 3, 1) := dk_29 (dk_at dksX1_event_3 14 rfl rfl)
theorem dX1_event_84 : decode cX1_event 84 = .ok (.istore_n 3, 1) := dk_62 (dk_at dksX1_event_3 15 rfl rfl)
theorem dX1_event_85 : decode cX1_event 85 = .ok (.iinc 2 (-1), 3) := dk_132 2 255 (dk_at dksX1_event_3 16 rfl rfl)
theorem dX1_event_88 : decode cX1_event 88 = .ok (.goto (-39), 3) := dk_167 255 217 (dk_at dksX1_event_3 19 rfl rfl)
theorem dX1_event_91 : decode cX1_event 91 = .ok (.iload_n 3, 1) := dk_29 (dk_at dksX1_event_3 22 rfl rfl)
theorem dX1_event_92 : decode cX1_event 92 = .ok (.ireturn, 1) := dk_172 (dk_at dksX1_event_3 23 rfl rfl)
abbrev cX1_restore : ByteArray := prog_1_method_66_code
def yX1_restore : MethodName := ⟨RX1, "restore", "()I"⟩
def dkwX1_restore_1 : List UInt8 := [181, 0, 123, 42, 180, 0, 123, 184, 1, 176, 172]
abbrev dktX1_restore_1 : List UInt8 := dkwX1_restore_1 ++ []
def dkwX1_restore_0 : List UInt8 := [42, 180, 1, 173, 198, 0, 7, 4, 167, 0, 4, 3, 184, 0, 201, 42, 42, 180, 1, 173, 182, 1, 169]
abbrev dktX1_restore_0 : List UInt8 := dkwX1_restore_0 ++ dktX1_restore_1
theorem dksX1_restore_0 : cX1_restore.data.toList.drop 0 = dktX1_restore_0 := by decide +kernel
theorem dksX1_restore_1 : cX1_restore.data.toList.drop 23 = dktX1_restore_1 := dk_seg dksX1_restore_0 23 rfl rfl
theorem dX1_restore_0 : decode cX1_restore 0 = .ok (.aload_n 0, 1) := dk_42 (dk_at dksX1_restore_0 0 rfl rfl)
theorem dX1_restore_1 : decode cX1_restore 1 = .ok (.getfield 429, 3) := dk_180 1 173 (dk_at dksX1_restore_0 1 rfl rfl)
theorem dX1_restore_4 : decode cX1_restore 4 = .ok (.ifnull 7, 3) := dk_198 0 7 (dk_at dksX1_restore_0 4 rfl rfl)
theorem dX1_restore_7 : decode cX1_restore 7 = .ok (.iconst 1, 1) := dk_4 (dk_at dksX1_restore_0 7 rfl rfl)
theorem dX1_restore_8 : decode cX1_restore 8 = .ok (.goto 4, 3) := dk_167 0 4 (dk_at dksX1_restore_0 8 rfl rfl)
theorem dX1_restore_11 : decode cX1_restore 11 = .ok (.iconst 0, 1) := dk_3 (dk_at dksX1_restore_0 11 rfl rfl)
theorem dX1_restore_12 : decode cX1_restore 12 = .ok (.invokestatic 201, 3) := dk_184 0 201 (dk_at dksX1_restore_0 12 rfl rfl)
theorem dX1_restore_15 : decode cX1_restore 15 = .ok (.aload_n 0, 1) := dk_42 (dk_at dksX1_restore_0 15 rfl rfl)
theorem dX1_restore_16 : decode cX1_restore 16 = .ok (.aload_n 0, 1) := dk_42 (dk_at dksX1_restore_0 16 rfl rfl)
theorem dX1_restore_17 : decode cX1_restore 17 = .ok (.getfield 429, 3) := dk_180 1 173 (dk_at dksX1_restore_0 17 rfl rfl)
theorem dX1_restore_20 : decode cX1_restore 20 = .ok (.invokevirtual 425, 3) := dk_182 1 169 (dk_at dksX1_restore_0 20 rfl rfl)
theorem dX1_restore_23 : decode cX1_restore 23 = .ok (.putfield 123, 3) := dk_181 0 123 (dk_at dksX1_restore_1 0 rfl rfl)
theorem dX1_restore_26 : decode cX1_restore 26 = .ok (.aload_n 0, 1) := dk_42 (dk_at dksX1_restore_1 3 rfl rfl)
theorem dX1_restore_27 : decode cX1_restore 27 = .ok (.getfield 123, 3) := dk_180 0 123 (dk_at dksX1_restore_1 4 rfl rfl)
theorem dX1_restore_30 : decode cX1_restore 30 = .ok (.invokestatic 432, 3) := dk_184 1 176 (dk_at dksX1_restore_1 7 rfl rfl)
theorem dX1_restore_33 : decode cX1_restore 33 = .ok (.ireturn, 1) := dk_172 (dk_at dksX1_restore_1 10 rfl rfl)
theorem q67 : (Jvm.Cond.initialized "SecretVault") ∈ lw_all := lw_g (lw_at lw_m1 1 rfl) rfl
theorem q124 : (Jvm.Cond.instantiable "SecretVault" (5 : Nat)) ∈ lw_all := lw_g (lw_at lw_m1 58 rfl) rfl
theorem q126 : (Jvm.Cond.instanceMethod ({ cls := "SecretVault", name := "<init>", desc := "()V" } : Jvm.MethodName)) ∈ lw_all := lw_g (lw_at lw_m1 60 rfl) rfl
theorem q127 : (Jvm.Cond.code ({ cls := "SecretVault", name := "<init>", desc := "()V" } : Jvm.MethodName) prog_1_method_19_code (1 : Nat) (Option.none : Option Jvm.ClassFile.FieldType)) ∈ lw_all := lw_g (lw_at lw_m1 61 rfl) rfl
theorem q128 : (Jvm.Cond.methodLink "SecretVault" (117 : Nat) ({ cls := "java/lang/Object", name := "<init>", desc := "()V" } : Jvm.MethodName)) ∈ lw_all := lw_g (lw_at lw_m1 62 rfl) rfl
theorem q131 : (Jvm.Cond.classLink "SecretVault" (120 : Nat) "SecretVault$World") ∈ lw_all := lw_g (lw_at lw_m1 65 rfl) rfl
theorem q133 : (Jvm.Cond.methodLink "SecretVault" (122 : Nat) ({ cls := "SecretVault$World", name := "<init>", desc := "()V" } : Jvm.MethodName)) ∈ lw_all := lw_g (lw_at lw_m1 67 rfl) rfl
theorem q171 : (Jvm.Cond.fieldLinkNest "SecretVault" (180 : Nat) "SecretVault$World" "weights" "[I" "SecretVault") ∈ lw_tbl := lw_at lw_m1 105 rfl
theorem q174 : (Jvm.Cond.fieldLinkNest "SecretVault" (184 : Nat) "SecretVault$World" "present" "[Z" "SecretVault") ∈ lw_tbl := lw_at lw_m1 108 rfl
theorem q176 : (Jvm.Cond.fieldLinkNest "SecretVault" (150 : Nat) "SecretVault$World" "secrets" "[LSecretVault$Secret;" "SecretVault") ∈ lw_tbl := lw_at lw_m1 110 rfl
theorem q178 : (Jvm.Cond.fieldLinkNest "SecretVault" (399 : Nat) "SecretVault$World" "events" "Ljava/util/ArrayDeque;" "SecretVault") ∈ lw_tbl := lw_at lw_m1 112 rfl
theorem q180 : (Jvm.Cond.fieldLinkNest "SecretVault" (171 : Nat) "SecretVault$World" "z" "I" "SecretVault") ∈ lw_tbl := lw_at lw_m1 114 rfl
theorem q192 : (Jvm.Cond.classLink "SecretVault" (86 : Nat) "java/lang/StringBuilder") ∈ lw_all := lw_g (lw_at lw_m1 126 rfl) rfl
theorem q194 : (Jvm.Cond.methodLink "SecretVault" (101 : Nat) ({ cls := "java/lang/StringBuilder", name := "<init>", desc := "()V" } : Jvm.MethodName)) ∈ lw_all := lw_g (lw_at lw_m1 128 rfl) rfl
theorem q225 : (Jvm.Cond.methodLink "SecretVault" (134 : Nat) ({ cls := "java/lang/StringBuilder", name := "setLength", desc := "(I)V" } : Jvm.MethodName)) ∈ lw_all := lw_g (lw_at lw_m1 159 rfl) rfl
theorem q577 : (Jvm.Cond.fieldLink "SecretVault" (123 : Nat) "SecretVault" "world" "LSecretVault$World;") ∈ lw_all := lw_g (lw_at lw_m3 31 rfl) rfl
theorem q578 : (Jvm.Cond.fieldLink "SecretVault" (429 : Nat) "SecretVault" "saved" "LSecretVault$World;") ∈ lw_all := lw_g (lw_at lw_m3 32 rfl) rfl
theorem q579 : (Jvm.Cond.fieldLink "SecretVault" (127 : Nat) "SecretVault" "buffer" "Ljava/lang/StringBuilder;") ∈ lw_all := lw_g (lw_at lw_m3 33 rfl) rfl
theorem q580 : (Jvm.Cond.fieldLink "SecretVault" (131 : Nat) "SecretVault" "errorPosition" "I") ∈ lw_all := lw_g (lw_at lw_m3 34 rfl) rfl
theorem q581 : (Jvm.Cond.fieldLink "SecretVault" (157 : Nat) "SecretVault" "report" "Ljava/lang/Throwable;") ∈ lw_all := lw_g (lw_at lw_m3 35 rfl) rfl
theorem q582 : (Jvm.Cond.lays "SecretVault" "SecretVault" "world" "LSecretVault$World;") ∈ lw_all := lw_g (lw_at lw_m3 36 rfl) rfl
theorem q583 : (Jvm.Cond.soleField "SecretVault" "world") ∈ lw_all := lw_g (lw_at lw_m3 37 rfl) rfl
theorem q584 : (Jvm.Cond.lays "SecretVault" "SecretVault" "saved" "LSecretVault$World;") ∈ lw_all := lw_g (lw_at lw_m3 38 rfl) rfl
theorem q585 : (Jvm.Cond.soleField "SecretVault" "saved") ∈ lw_all := lw_g (lw_at lw_m3 39 rfl) rfl
theorem q586 : (Jvm.Cond.laysFinal "SecretVault" "SecretVault" "buffer" "Ljava/lang/StringBuilder;") ∈ lw_all := lw_g (lw_at lw_m3 40 rfl) rfl
theorem q587 : (Jvm.Cond.soleField "SecretVault" "buffer") ∈ lw_all := lw_g (lw_at lw_m3 41 rfl) rfl
theorem q588 : (Jvm.Cond.lays "SecretVault" "SecretVault" "errorPosition" "I") ∈ lw_all := lw_g (lw_at lw_m3 42 rfl) rfl
theorem q589 : (Jvm.Cond.soleField "SecretVault" "errorPosition") ∈ lw_all := lw_g (lw_at lw_m3 43 rfl) rfl
theorem q590 : (Jvm.Cond.lays "SecretVault" "SecretVault" "report" "Ljava/lang/Throwable;") ∈ lw_all := lw_g (lw_at lw_m3 44 rfl) rfl
theorem q591 : (Jvm.Cond.soleField "SecretVault" "report") ∈ lw_all := lw_g (lw_at lw_m3 45 rfl) rfl
theorem q592 : (Jvm.Cond.superclass "SecretVault" "java/lang/Object") ∈ lw_all := lw_g (lw_at lw_m3 46 rfl) rfl
theorem q594 : (Jvm.Cond.instanceMethod ({ cls := "SecretVault", name := "seed", desc := "(I)I" } : Jvm.MethodName)) ∈ lw_all := lw_g (lw_at lw_m3 48 rfl) rfl
theorem q595 : (Jvm.Cond.selects "SecretVault" ({ cls := "SecretVault", name := "seed", desc := "(I)I" } : Jvm.MethodName) ({ cls := "SecretVault", name := "seed", desc := "(I)I" } : Jvm.MethodName)) ∈ lw_all := lw_g (lw_at lw_m3 49 rfl) rfl
theorem q596 : (Jvm.Cond.code ({ cls := "SecretVault", name := "seed", desc := "(I)I" } : Jvm.MethodName) prog_1_method_26_code (3 : Nat) (Option.some Jvm.ClassFile.FieldType.int)) ∈ lw_all := lw_g (lw_at lw_m3 50 rfl) rfl
theorem q598 : (Jvm.Cond.instanceMethod ({ cls := "SecretVault", name := "draw", desc := "()I" } : Jvm.MethodName)) ∈ lw_all := lw_g (lw_at lw_m3 52 rfl) rfl
theorem q599 : (Jvm.Cond.selects "SecretVault" ({ cls := "SecretVault", name := "draw", desc := "()I" } : Jvm.MethodName) ({ cls := "SecretVault", name := "draw", desc := "()I" } : Jvm.MethodName)) ∈ lw_all := lw_g (lw_at lw_m3 53 rfl) rfl
theorem q600 : (Jvm.Cond.code ({ cls := "SecretVault", name := "draw", desc := "()I" } : Jvm.MethodName) prog_1_method_27_code (1 : Nat) (Option.some Jvm.ClassFile.FieldType.int)) ∈ lw_all := lw_g (lw_at lw_m3 54 rfl) rfl
theorem q601 : (Jvm.Cond.methodLink "SecretVault" (174 : Nat) ({ cls := "SecretVault$World", name := "draw", desc := "()I" } : Jvm.MethodName)) ∈ lw_all := lw_g (lw_at lw_m3 55 rfl) rfl
theorem q607 : (Jvm.Cond.instanceMethod ({ cls := "SecretVault", name := "errorPosition", desc := "()I" } : Jvm.MethodName)) ∈ lw_all := lw_g (lw_at lw_m3 61 rfl) rfl
theorem q608 : (Jvm.Cond.selects "SecretVault" ({ cls := "SecretVault", name := "errorPosition", desc := "()I" } : Jvm.MethodName) ({ cls := "SecretVault", name := "errorPosition", desc := "()I" } : Jvm.MethodName)) ∈ lw_all := lw_g (lw_at lw_m3 62 rfl) rfl
theorem q609 : (Jvm.Cond.code ({ cls := "SecretVault", name := "errorPosition", desc := "()I" } : Jvm.MethodName) prog_1_method_52_code (1 : Nat) (Option.some Jvm.ClassFile.FieldType.int)) ∈ lw_all := lw_g (lw_at lw_m3 63 rfl) rfl
theorem q611 : (Jvm.Cond.instanceMethod ({ cls := "SecretVault", name := "levels", desc := "()I" } : Jvm.MethodName)) ∈ lw_all := lw_g (lw_at lw_m3 65 rfl) rfl
theorem q612 : (Jvm.Cond.selects "SecretVault" ({ cls := "SecretVault", name := "levels", desc := "()I" } : Jvm.MethodName) ({ cls := "SecretVault", name := "levels", desc := "()I" } : Jvm.MethodName)) ∈ lw_all := lw_g (lw_at lw_m3 66 rfl) rfl
theorem q613 : (Jvm.Cond.code ({ cls := "SecretVault", name := "levels", desc := "()I" } : Jvm.MethodName) prog_1_method_61_code (3 : Nat) (Option.some Jvm.ClassFile.FieldType.int)) ∈ lw_all := lw_g (lw_at lw_m3 67 rfl) rfl
theorem q614 : (Jvm.Cond.methodLink "SecretVault" (382 : Nat) ({ cls := "java/lang/Throwable", name := "getCause", desc := "()Ljava/lang/Throwable;" } : Jvm.MethodName)) ∈ lw_all := lw_g (lw_at lw_m3 68 rfl) rfl
theorem q632 : (Jvm.Cond.instanceMethod ({ cls := "SecretVault", name := "save", desc := "()I" } : Jvm.MethodName)) ∈ lw_all := lw_g (lw_at lw_m3 86 rfl) rfl
theorem q633 : (Jvm.Cond.selects "SecretVault" ({ cls := "SecretVault", name := "save", desc := "()I" } : Jvm.MethodName) ({ cls := "SecretVault", name := "save", desc := "()I" } : Jvm.MethodName)) ∈ lw_all := lw_g (lw_at lw_m3 87 rfl) rfl
theorem q634 : (Jvm.Cond.code ({ cls := "SecretVault", name := "save", desc := "()I" } : Jvm.MethodName) prog_1_method_65_code (1 : Nat) (Option.some Jvm.ClassFile.FieldType.int)) ∈ lw_all := lw_g (lw_at lw_m3 88 rfl) rfl
theorem q635 : (Jvm.Cond.methodLink "SecretVault" (425 : Nat) ({ cls := "SecretVault$World", name := "copy", desc := "()LSecretVault$World;" } : Jvm.MethodName)) ∈ lw_all := lw_g (lw_at lw_m3 89 rfl) rfl
theorem q657 : (Jvm.Cond.fieldLinkNest "SecretVault" (258 : Nat) "SecretVault$Secret" "threshold" "I" "SecretVault") ∈ lw_tbl := lw_at lw_m3 111 rfl
theorem q663 : (Jvm.Cond.fieldLinkNest "SecretVault" (218 : Nat) "SecretVault$Secret" "epoch" "I" "SecretVault") ∈ lw_tbl := lw_at lw_m3 117 rfl
theorem q666 : (Jvm.Cond.fieldLinkNest "SecretVault" (285 : Nat) "SecretVault$Secret" "commitments" "[I" "SecretVault") ∈ lw_tbl := lw_at lw_m3 120 rfl
theorem q668 : (Jvm.Cond.fieldLinkNest "SecretVault" (281 : Nat) "SecretVault$Secret" "policy" "LSecretVault$Policy;" "SecretVault") ∈ lw_tbl := lw_at lw_m3 122 rfl
theorem q671 : (Jvm.Cond.fieldLinkNest "SecretVault" (254 : Nat) "SecretVault$Secret" "shares" "[LSecretVault$Share;" "SecretVault") ∈ lw_tbl := lw_at lw_m3 125 rfl
theorem q701 : (Jvm.Cond.fieldLink "SecretVault" (327 : Nat) "SecretVault$Share" "place" "I") ∈ lw_all := lw_g (lw_at lw_m3 155 rfl) rfl
theorem q705 : (Jvm.Cond.fieldLinkNest "SecretVault" (295 : Nat) "SecretVault$Share" "value" "I" "SecretVault") ∈ lw_tbl := lw_at lw_m3 159 rfl
theorem q711 : (Jvm.Cond.fieldLinkNest "SecretVault" (300 : Nat) "SecretVault$Share" "epoch" "I" "SecretVault") ∈ lw_tbl := lw_at lw_m3 165 rfl
theorem q857 : (Jvm.Cond.selects "SecretVault" ({ cls := "java/lang/Object", name := "getClass", desc := "()Ljava/lang/Class;" } : Jvm.MethodName) ({ cls := "java/lang/Object", name := "getClass", desc := "()Ljava/lang/Class;" } : Jvm.MethodName)) ∈ lw_all := lw_g (lw_at lw_m4 71 rfl) rfl
theorem q900 : (Jvm.Cond.methodLink "SecretVault" (432 : Nat) ({ cls := "SecretVault", name := "secretsOf", desc := "(LSecretVault$World;)I" } : Jvm.MethodName)) ∈ lw_all := lw_g (lw_at lw_m4 114 rfl) rfl
theorem q901 : (Jvm.Cond.static ({ cls := "SecretVault", name := "secretsOf", desc := "(LSecretVault$World;)I" } : Jvm.MethodName)) ∈ lw_all := lw_g (lw_at lw_m4 115 rfl) rfl
theorem q902 : (Jvm.Cond.code ({ cls := "SecretVault", name := "secretsOf", desc := "(LSecretVault$World;)I" } : Jvm.MethodName) prog_1_method_64_code (6 : Nat) (Option.some Jvm.ClassFile.FieldType.int)) ∈ lw_all := lw_g (lw_at lw_m4 116 rfl) rfl
theorem q911 : (Jvm.Cond.instanceMethod ({ cls := "SecretVault", name := "setWeight", desc := "(II)I" } : Jvm.MethodName)) ∈ lw_all := lw_g (lw_at lw_m4 125 rfl) rfl
theorem q912 : (Jvm.Cond.selects "SecretVault" ({ cls := "SecretVault", name := "setWeight", desc := "(II)I" } : Jvm.MethodName) ({ cls := "SecretVault", name := "setWeight", desc := "(II)I" } : Jvm.MethodName)) ∈ lw_all := lw_g (lw_at lw_m4 126 rfl) rfl
theorem q913 : (Jvm.Cond.code ({ cls := "SecretVault", name := "setWeight", desc := "(II)I" } : Jvm.MethodName) prog_1_method_28_code (4 : Nat) (Option.some Jvm.ClassFile.FieldType.int)) ∈ lw_all := lw_g (lw_at lw_m4 127 rfl) rfl
theorem q914 : (Jvm.Cond.methodLink "SecretVault" (177 : Nat) ({ cls := "SecretVault", name := "requireMember", desc := "(I)V" } : Jvm.MethodName)) ∈ lw_all := lw_g (lw_at lw_m4 128 rfl) rfl
theorem q915 : (Jvm.Cond.static ({ cls := "SecretVault", name := "requireMember", desc := "(I)V" } : Jvm.MethodName)) ∈ lw_all := lw_g (lw_at lw_m4 129 rfl) rfl
theorem q916 : (Jvm.Cond.code ({ cls := "SecretVault", name := "requireMember", desc := "(I)V" } : Jvm.MethodName) prog_1_method_20_code (1 : Nat) (Option.none : Option Jvm.ClassFile.FieldType)) ∈ lw_all := lw_g (lw_at lw_m4 130 rfl) rfl
theorem q917 : (Jvm.Cond.methodLink "SecretVault" (138 : Nat) ({ cls := "SecretVault", name := "requireIndex", desc := "(II)V" } : Jvm.MethodName)) ∈ lw_all := lw_g (lw_at lw_m4 131 rfl) rfl
theorem q918 : (Jvm.Cond.static ({ cls := "SecretVault", name := "requireIndex", desc := "(II)V" } : Jvm.MethodName)) ∈ lw_all := lw_g (lw_at lw_m4 132 rfl) rfl
theorem q919 : (Jvm.Cond.code ({ cls := "SecretVault", name := "requireIndex", desc := "(II)V" } : Jvm.MethodName) prog_1_method_4_code (2 : Nat) (Option.none : Option Jvm.ClassFile.FieldType)) ∈ lw_all := lw_g (lw_at lw_m4 133 rfl) rfl
theorem q920 : (Jvm.Cond.classLink "SecretVault" (10 : Nat) "java/lang/IndexOutOfBoundsException") ∈ lw_all := lw_g (lw_at lw_m4 134 rfl) rfl
theorem q929 : (Jvm.Cond.methodLink "SecretVault" (12 : Nat) ({ cls := "java/lang/IndexOutOfBoundsException", name := "<init>", desc := "()V" } : Jvm.MethodName)) ∈ lw_all := lw_g (lw_at lw_m4 143 rfl) rfl
theorem q935 : (Jvm.Cond.methodLink "SecretVault" (142 : Nat) ({ cls := "SecretVault", name := "in", desc := "(III)Z" } : Jvm.MethodName)) ∈ lw_all := lw_g (lw_at lw_m4 149 rfl) rfl
theorem q936 : (Jvm.Cond.static ({ cls := "SecretVault", name := "in", desc := "(III)Z" } : Jvm.MethodName)) ∈ lw_all := lw_g (lw_at lw_m4 150 rfl) rfl
theorem q937 : (Jvm.Cond.code ({ cls := "SecretVault", name := "in", desc := "(III)Z" } : Jvm.MethodName) prog_1_method_1_code (3 : Nat) (Option.some Jvm.ClassFile.FieldType.boolean)) ∈ lw_all := lw_g (lw_at lw_m4 151 rfl) rfl
theorem q938 : (Jvm.Cond.methodLink "SecretVault" (146 : Nat) ({ cls := "SecretVault", name := "require", desc := "(Z)V" } : Jvm.MethodName)) ∈ lw_all := lw_g (lw_at lw_m4 152 rfl) rfl
theorem q939 : (Jvm.Cond.static ({ cls := "SecretVault", name := "require", desc := "(Z)V" } : Jvm.MethodName)) ∈ lw_all := lw_g (lw_at lw_m4 153 rfl) rfl
theorem q940 : (Jvm.Cond.code ({ cls := "SecretVault", name := "require", desc := "(Z)V" } : Jvm.MethodName) prog_1_method_2_code (1 : Nat) (Option.none : Option Jvm.ClassFile.FieldType)) ∈ lw_all := lw_g (lw_at lw_m4 154 rfl) rfl
theorem q941 : (Jvm.Cond.classLink "SecretVault" (1 : Nat) "java/lang/IllegalArgumentException") ∈ lw_all := lw_g (lw_at lw_m4 155 rfl) rfl
theorem q942 : (Jvm.Cond.methodLink "SecretVault" (3 : Nat) ({ cls := "java/lang/IllegalArgumentException", name := "<init>", desc := "()V" } : Jvm.MethodName)) ∈ lw_all := lw_g (lw_at lw_m4 156 rfl) rfl
theorem q950 : (Jvm.Cond.instanceMethod ({ cls := "SecretVault", name := "setPresent", desc := "(IZ)Z" } : Jvm.MethodName)) ∈ lw_all := lw_g (lw_at lw_m4 164 rfl) rfl
theorem q951 : (Jvm.Cond.selects "SecretVault" ({ cls := "SecretVault", name := "setPresent", desc := "(IZ)Z" } : Jvm.MethodName) ({ cls := "SecretVault", name := "setPresent", desc := "(IZ)Z" } : Jvm.MethodName)) ∈ lw_all := lw_g (lw_at lw_m4 165 rfl) rfl
theorem q952 : (Jvm.Cond.code ({ cls := "SecretVault", name := "setPresent", desc := "(IZ)Z" } : Jvm.MethodName) prog_1_method_29_code (4 : Nat) (Option.some Jvm.ClassFile.FieldType.boolean)) ∈ lw_all := lw_g (lw_at lw_m4 166 rfl) rfl
theorem q957 : (Jvm.Cond.instanceMethod ({ cls := "SecretVault", name := "member", desc := "(II)I" } : Jvm.MethodName)) ∈ lw_all := lw_g (lw_at lw_m4 171 rfl) rfl
theorem q958 : (Jvm.Cond.selects "SecretVault" ({ cls := "SecretVault", name := "member", desc := "(II)I" } : Jvm.MethodName) ({ cls := "SecretVault", name := "member", desc := "(II)I" } : Jvm.MethodName)) ∈ lw_all := lw_g (lw_at lw_m4 172 rfl) rfl
theorem q959 : (Jvm.Cond.code ({ cls := "SecretVault", name := "member", desc := "(II)I" } : Jvm.MethodName) prog_1_method_30_code (9 : Nat) (Option.some Jvm.ClassFile.FieldType.int)) ∈ lw_all := lw_g (lw_at lw_m4 173 rfl) rfl
theorem q960 : (Jvm.Cond.methodLink "SecretVault" (188 : Nat) ({ cls := "SecretVault$Secret", name := "sharesOf", desc := "(I)Ljava/util/List;" } : Jvm.MethodName)) ∈ lw_all := lw_g (lw_at lw_m4 174 rfl) rfl
theorem q988 : (Jvm.Cond.static ({ cls := "SecretVault", name := "ownerOf", desc := "(I)I" } : Jvm.MethodName)) ∈ lw_all := lw_g (lw_at lw_m4 202 rfl) rfl
theorem q989 : (Jvm.Cond.code ({ cls := "SecretVault", name := "ownerOf", desc := "(I)I" } : Jvm.MethodName) prog_1_method_18_code (1 : Nat) (Option.some Jvm.ClassFile.FieldType.int)) ∈ lw_all := lw_g (lw_at lw_m4 203 rfl) rfl
theorem q1016 : (Jvm.Cond.interfaceEntry "SecretVault" (31 : Nat)) ∈ lw_tbl := lw_at lw_m4 230 rfl
theorem q1017 : (Jvm.Cond.methodLink "SecretVault" (31 : Nat) ({ cls := "java/util/List", name := "size", desc := "()I" } : Jvm.MethodName)) ∈ lw_all := lw_g (lw_at lw_m4 231 rfl) rfl
theorem q1025 : (Jvm.Cond.methodLink "SecretVault" (194 : Nat) ({ cls := "SecretVault$Secret", name := "goodOf", desc := "(I)I" } : Jvm.MethodName)) ∈ lw_all := lw_g (lw_at lw_m4 239 rfl) rfl
theorem q1030 : (Jvm.Cond.static ({ cls := "SecretVault", name := "firstPlace", desc := "(I)I" } : Jvm.MethodName)) ∈ lw_all := lw_g (lw_at lw_m5 4 rfl) rfl
theorem q1031 : (Jvm.Cond.code ({ cls := "SecretVault", name := "firstPlace", desc := "(I)I" } : Jvm.MethodName) prog_1_method_17_code (1 : Nat) (Option.some Jvm.ClassFile.FieldType.int)) ∈ lw_all := lw_g (lw_at lw_m5 5 rfl) rfl
theorem q1049 : (Jvm.Cond.static ({ cls := "SecretVault", name := "power", desc := "(III)I" } : Jvm.MethodName)) ∈ lw_all := lw_g (lw_at lw_m5 23 rfl) rfl
theorem q1050 : (Jvm.Cond.code ({ cls := "SecretVault", name := "power", desc := "(III)I" } : Jvm.MethodName) prog_1_method_7_code (6 : Nat) (Option.some Jvm.ClassFile.FieldType.int)) ∈ lw_all := lw_g (lw_at lw_m5 24 rfl) rfl
theorem q1051 : (Jvm.Cond.methodLink "SecretVault" (16 : Nat) ({ cls := "SecretVault", name := "times", desc := "(III)I" } : Jvm.MethodName)) ∈ lw_all := lw_g (lw_at lw_m5 25 rfl) rfl
theorem q1052 : (Jvm.Cond.static ({ cls := "SecretVault", name := "times", desc := "(III)I" } : Jvm.MethodName)) ∈ lw_all := lw_g (lw_at lw_m5 26 rfl) rfl
theorem q1053 : (Jvm.Cond.code ({ cls := "SecretVault", name := "times", desc := "(III)I" } : Jvm.MethodName) prog_1_method_6_code (3 : Nat) (Option.some Jvm.ClassFile.FieldType.int)) ∈ lw_all := lw_g (lw_at lw_m5 27 rfl) rfl
theorem q1067 : (Jvm.Cond.instanceMethod ({ cls := "SecretVault", name := "put", desc := "(III)I" } : Jvm.MethodName)) ∈ lw_all := lw_g (lw_at lw_m5 41 rfl) rfl
theorem q1068 : (Jvm.Cond.selects "SecretVault" ({ cls := "SecretVault", name := "put", desc := "(III)I" } : Jvm.MethodName) ({ cls := "SecretVault", name := "put", desc := "(III)I" } : Jvm.MethodName)) ∈ lw_all := lw_g (lw_at lw_m5 42 rfl) rfl
theorem q1069 : (Jvm.Cond.code ({ cls := "SecretVault", name := "put", desc := "(III)I" } : Jvm.MethodName) prog_1_method_31_code (5 : Nat) (Option.some Jvm.ClassFile.FieldType.int)) ∈ lw_all := lw_g (lw_at lw_m5 43 rfl) rfl
theorem q1070 : (Jvm.Cond.methodLink "SecretVault" (198 : Nat) ({ cls := "SecretVault$World", name := "usedPlaces", desc := "()I" } : Jvm.MethodName)) ∈ lw_all := lw_g (lw_at lw_m5 44 rfl) rfl
theorem q1080 : (Jvm.Cond.methodLink "SecretVault" (201 : Nat) ({ cls := "SecretVault", name := "requireState", desc := "(Z)V" } : Jvm.MethodName)) ∈ lw_all := lw_g (lw_at lw_m5 54 rfl) rfl
theorem q1081 : (Jvm.Cond.static ({ cls := "SecretVault", name := "requireState", desc := "(Z)V" } : Jvm.MethodName)) ∈ lw_all := lw_g (lw_at lw_m5 55 rfl) rfl
theorem q1082 : (Jvm.Cond.code ({ cls := "SecretVault", name := "requireState", desc := "(Z)V" } : Jvm.MethodName) prog_1_method_3_code (1 : Nat) (Option.none : Option Jvm.ClassFile.FieldType)) ∈ lw_all := lw_g (lw_at lw_m5 56 rfl) rfl
theorem q1083 : (Jvm.Cond.classLink "SecretVault" (7 : Nat) "java/lang/IllegalStateException") ∈ lw_all := lw_g (lw_at lw_m5 57 rfl) rfl
theorem q1084 : (Jvm.Cond.methodLink "SecretVault" (9 : Nat) ({ cls := "java/lang/IllegalStateException", name := "<init>", desc := "()V" } : Jvm.MethodName)) ∈ lw_all := lw_g (lw_at lw_m5 58 rfl) rfl
theorem q1088 : (Jvm.Cond.classLink "SecretVault" (189 : Nat) "SecretVault$Secret") ∈ lw_all := lw_g (lw_at lw_m5 62 rfl) rfl
theorem q1089 : (Jvm.Cond.methodLinkNest "SecretVault" (204 : Nat) ({ cls := "SecretVault$Secret", name := "<init>", desc := "()V" } : Jvm.MethodName) "SecretVault") ∈ lw_tbl := lw_at lw_m5 63 rfl
theorem q1090 : (Jvm.Cond.methodLink "SecretVault" (205 : Nat) ({ cls := "SecretVault$World", name := "deal", desc := "(LSecretVault$Secret;II)V" } : Jvm.MethodName)) ∈ lw_all := lw_g (lw_at lw_m5 64 rfl) rfl
theorem q1102 : (Jvm.Cond.static ({ cls := "SecretVault", name := "valueAt", desc := "([II)I" } : Jvm.MethodName)) ∈ lw_all := lw_g (lw_at lw_m5 76 rfl) rfl
theorem q1103 : (Jvm.Cond.code ({ cls := "SecretVault", name := "valueAt", desc := "([II)I" } : Jvm.MethodName) prog_1_method_10_code (4 : Nat) (Option.some Jvm.ClassFile.FieldType.int)) ∈ lw_all := lw_g (lw_at lw_m5 77 rfl) rfl
theorem q1105 : (Jvm.Cond.methodLink "SecretVault" (209 : Nat) ({ cls := "SecretVault$World", name := "note", desc := "(I)V" } : Jvm.MethodName)) ∈ lw_all := lw_g (lw_at lw_m5 79 rfl) rfl
theorem q1123 : (Jvm.Cond.methodLink "SecretVault" (212 : Nat) ({ cls := "SecretVault$Secret", name := "count", desc := "()I" } : Jvm.MethodName)) ∈ lw_all := lw_g (lw_at lw_m5 97 rfl) rfl
theorem q1132 : (Jvm.Cond.instanceMethod ({ cls := "SecretVault", name := "remove", desc := "(I)I" } : Jvm.MethodName)) ∈ lw_all := lw_g (lw_at lw_m5 106 rfl) rfl
theorem q1133 : (Jvm.Cond.selects "SecretVault" ({ cls := "SecretVault", name := "remove", desc := "(I)I" } : Jvm.MethodName) ({ cls := "SecretVault", name := "remove", desc := "(I)I" } : Jvm.MethodName)) ∈ lw_all := lw_g (lw_at lw_m5 107 rfl) rfl
theorem q1134 : (Jvm.Cond.code ({ cls := "SecretVault", name := "remove", desc := "(I)I" } : Jvm.MethodName) prog_1_method_32_code (3 : Nat) (Option.some Jvm.ClassFile.FieldType.int)) ∈ lw_all := lw_g (lw_at lw_m5 108 rfl) rfl
theorem q1135 : (Jvm.Cond.methodLink "SecretVault" (214 : Nat) ({ cls := "SecretVault", name := "secretIn", desc := "(I)LSecretVault$Secret;" } : Jvm.MethodName)) ∈ lw_all := lw_g (lw_at lw_m5 109 rfl) rfl
theorem q1136 : (Jvm.Cond.privateMethod ({ cls := "SecretVault", name := "secretIn", desc := "(I)LSecretVault$Secret;" } : Jvm.MethodName)) ∈ lw_tbl := lw_at lw_m5 110 rfl
theorem q1137 : (Jvm.Cond.instanceMethod ({ cls := "SecretVault", name := "secretIn", desc := "(I)LSecretVault$Secret;" } : Jvm.MethodName)) ∈ lw_all := lw_g (lw_at lw_m5 111 rfl) rfl
theorem q1138 : (Jvm.Cond.code ({ cls := "SecretVault", name := "secretIn", desc := "(I)LSecretVault$Secret;" } : Jvm.MethodName) prog_1_method_23_code (2 : Nat) (Option.some (Jvm.ClassFile.FieldType.object "SecretVault$Secret"))) ∈ lw_all := lw_g (lw_at lw_m5 112 rfl) rfl
theorem q1139 : (Jvm.Cond.methodLink "SecretVault" (154 : Nat) ({ cls := "SecretVault", name := "requireElement", desc := "(Z)V" } : Jvm.MethodName)) ∈ lw_all := lw_g (lw_at lw_m5 113 rfl) rfl
theorem q1140 : (Jvm.Cond.static ({ cls := "SecretVault", name := "requireElement", desc := "(Z)V" } : Jvm.MethodName)) ∈ lw_all := lw_g (lw_at lw_m5 114 rfl) rfl
theorem q1141 : (Jvm.Cond.code ({ cls := "SecretVault", name := "requireElement", desc := "(Z)V" } : Jvm.MethodName) prog_1_method_5_code (1 : Nat) (Option.none : Option Jvm.ClassFile.FieldType)) ∈ lw_all := lw_g (lw_at lw_m5 115 rfl) rfl
theorem q1142 : (Jvm.Cond.classLink "SecretVault" (13 : Nat) "java/util/NoSuchElementException") ∈ lw_all := lw_g (lw_at lw_m5 116 rfl) rfl
theorem q1143 : (Jvm.Cond.methodLink "SecretVault" (15 : Nat) ({ cls := "java/util/NoSuchElementException", name := "<init>", desc := "()V" } : Jvm.MethodName)) ∈ lw_all := lw_g (lw_at lw_m5 117 rfl) rfl
theorem q1148 : (Jvm.Cond.instanceMethod ({ cls := "SecretVault", name := "refresh", desc := "(I)I" } : Jvm.MethodName)) ∈ lw_all := lw_g (lw_at lw_m5 122 rfl) rfl
theorem q1149 : (Jvm.Cond.selects "SecretVault" ({ cls := "SecretVault", name := "refresh", desc := "(I)I" } : Jvm.MethodName) ({ cls := "SecretVault", name := "refresh", desc := "(I)I" } : Jvm.MethodName)) ∈ lw_all := lw_g (lw_at lw_m5 123 rfl) rfl
theorem q1150 : (Jvm.Cond.code ({ cls := "SecretVault", name := "refresh", desc := "(I)I" } : Jvm.MethodName) prog_1_method_33_code (3 : Nat) (Option.some Jvm.ClassFile.FieldType.int)) ∈ lw_all := lw_g (lw_at lw_m5 124 rfl) rfl
theorem q1151 : (Jvm.Cond.methodLink "SecretVault" (221 : Nat) ({ cls := "SecretVault$World", name := "refresh", desc := "(LSecretVault$Secret;)I" } : Jvm.MethodName)) ∈ lw_all := lw_g (lw_at lw_m5 125 rfl) rfl
theorem q1161 : (Jvm.Cond.instanceMethod ({ cls := "SecretVault", name := "reshare", desc := "(III)I" } : Jvm.MethodName)) ∈ lw_all := lw_g (lw_at lw_m5 135 rfl) rfl
theorem q1162 : (Jvm.Cond.selects "SecretVault" ({ cls := "SecretVault", name := "reshare", desc := "(III)I" } : Jvm.MethodName) ({ cls := "SecretVault", name := "reshare", desc := "(III)I" } : Jvm.MethodName)) ∈ lw_all := lw_g (lw_at lw_m5 136 rfl) rfl
theorem q1163 : (Jvm.Cond.code ({ cls := "SecretVault", name := "reshare", desc := "(III)I" } : Jvm.MethodName) prog_1_method_35_code (6 : Nat) (Option.some Jvm.ClassFile.FieldType.int)) ∈ lw_all := lw_g (lw_at lw_m5 137 rfl) rfl
theorem q1164 : (Jvm.Cond.methodLink "SecretVault" (237 : Nat) ({ cls := "SecretVault", name := "requireMembers", desc := "(I)V" } : Jvm.MethodName)) ∈ lw_all := lw_g (lw_at lw_m5 138 rfl) rfl
theorem q1165 : (Jvm.Cond.static ({ cls := "SecretVault", name := "requireMembers", desc := "(I)V" } : Jvm.MethodName)) ∈ lw_all := lw_g (lw_at lw_m5 139 rfl) rfl
theorem q1166 : (Jvm.Cond.code ({ cls := "SecretVault", name := "requireMembers", desc := "(I)V" } : Jvm.MethodName) prog_1_method_21_code (1 : Nat) (Option.none : Option Jvm.ClassFile.FieldType)) ∈ lw_all := lw_g (lw_at lw_m5 140 rfl) rfl
theorem q1167 : (Jvm.Cond.methodLink "SecretVault" (240 : Nat) ({ cls := "SecretVault", name := "used", desc := "(II)Ljava/util/List;" } : Jvm.MethodName)) ∈ lw_all := lw_g (lw_at lw_m5 141 rfl) rfl
theorem q1168 : (Jvm.Cond.privateMethod ({ cls := "SecretVault", name := "used", desc := "(II)Ljava/util/List;" } : Jvm.MethodName)) ∈ lw_tbl := lw_at lw_m5 142 rfl
theorem q1169 : (Jvm.Cond.instanceMethod ({ cls := "SecretVault", name := "used", desc := "(II)Ljava/util/List;" } : Jvm.MethodName)) ∈ lw_all := lw_g (lw_at lw_m5 143 rfl) rfl
theorem q1170 : (Jvm.Cond.codeWith ({ cls := "SecretVault", name := "used", desc := "(II)Ljava/util/List;" } : Jvm.MethodName) prog_1_method_34_code (4 : Nat) (Option.some (Jvm.ClassFile.FieldType.object "java/util/List")) [((0 : Nat), (9 : Nat), (10 : Nat), (229 : Nat)), ((0 : Nat), (9 : Nat), (10 : Nat), (231 : Nat))]) ∈ lw_all := lw_g (lw_at lw_m5 144 rfl) rfl
theorem q1171 : (Jvm.Cond.classLink "SecretVault" (229 : Nat) "SecretVault$PolicyFailure") ∈ lw_all := lw_g (lw_at lw_m5 145 rfl) rfl
theorem q1172 : (Jvm.Cond.classLink "SecretVault" (231 : Nat) "SecretVault$ShareFailure") ∈ lw_all := lw_g (lw_at lw_m5 146 rfl) rfl
theorem q1173 : (Jvm.Cond.methodLink "SecretVault" (225 : Nat) ({ cls := "SecretVault$World", name := "opened", desc := "(II)Ljava/util/List;" } : Jvm.MethodName)) ∈ lw_all := lw_g (lw_at lw_m5 147 rfl) rfl
theorem q1210 : (Jvm.Cond.static ({ cls := "SecretVault", name := "fulfilledOf", desc := "(Ljava/util/List;I)I" } : Jvm.MethodName)) ∈ lw_all := lw_g (lw_at lw_m5 184 rfl) rfl
theorem q1211 : (Jvm.Cond.code ({ cls := "SecretVault", name := "fulfilledOf", desc := "(Ljava/util/List;I)I" } : Jvm.MethodName) prog_1_method_12_code (4 : Nat) (Option.some Jvm.ClassFile.FieldType.int)) ∈ lw_all := lw_g (lw_at lw_m5 185 rfl) rfl
theorem q1212 : (Jvm.Cond.interfaceEntry "SecretVault" (37 : Nat)) ∈ lw_tbl := lw_at lw_m5 186 rfl
theorem q1213 : (Jvm.Cond.methodLink "SecretVault" (37 : Nat) ({ cls := "java/util/List", name := "get", desc := "(I)Ljava/lang/Object;" } : Jvm.MethodName)) ∈ lw_all := lw_g (lw_at lw_m5 187 rfl) rfl
theorem q1231 : (Jvm.Cond.classLink "SecretVault" (41 : Nat) "SecretVault$Policy") ∈ lw_all := lw_g (lw_at lw_m5 205 rfl) rfl
theorem q1232 : (Jvm.Cond.interfaceEntry "SecretVault" (46 : Nat)) ∈ lw_tbl := lw_at lw_m5 206 rfl
theorem q1233 : (Jvm.Cond.methodLink "SecretVault" (46 : Nat) ({ cls := "SecretVault$Policy", name := "isFulfilled", desc := "(I)Z" } : Jvm.MethodName)) ∈ lw_all := lw_g (lw_at lw_m5 207 rfl) rfl
theorem q1290 : (Jvm.Cond.fieldLink "SecretVault" (393 : Nat) "SecretVault$Failure" "code" "I") ∈ lw_all := lw_g (lw_at lw_m6 24 rfl) rfl
theorem q1292 : (Jvm.Cond.fieldLink "SecretVault" (396 : Nat) "SecretVault$Failure" "detail" "I") ∈ lw_all := lw_g (lw_at lw_m6 26 rfl) rfl
theorem q1421 : (Jvm.Cond.methodLink "SecretVault" (233 : Nat) ({ cls := "SecretVault", name := "failed", desc := "(LSecretVault$Failure;)Ljava/lang/UnsupportedOperationException;" } : Jvm.MethodName)) ∈ lw_all := lw_g (lw_at lw_m6 155 rfl) rfl
theorem q1422 : (Jvm.Cond.privateMethod ({ cls := "SecretVault", name := "failed", desc := "(LSecretVault$Failure;)Ljava/lang/UnsupportedOperationException;" } : Jvm.MethodName)) ∈ lw_tbl := lw_at lw_m6 156 rfl
theorem q1423 : (Jvm.Cond.instanceMethod ({ cls := "SecretVault", name := "failed", desc := "(LSecretVault$Failure;)Ljava/lang/UnsupportedOperationException;" } : Jvm.MethodName)) ∈ lw_all := lw_g (lw_at lw_m6 157 rfl) rfl
theorem q1424 : (Jvm.Cond.code ({ cls := "SecretVault", name := "failed", desc := "(LSecretVault$Failure;)Ljava/lang/UnsupportedOperationException;" } : Jvm.MethodName) prog_1_method_24_code (2 : Nat) (Option.some (Jvm.ClassFile.FieldType.object "java/lang/UnsupportedOperationException"))) ∈ lw_all := lw_g (lw_at lw_m6 158 rfl) rfl
theorem q1425 : (Jvm.Cond.classLink "SecretVault" (161 : Nat) "java/lang/UnsupportedOperationException") ∈ lw_all := lw_g (lw_at lw_m6 159 rfl) rfl
theorem q1434 : (Jvm.Cond.methodLink "SecretVault" (163 : Nat) ({ cls := "java/lang/UnsupportedOperationException", name := "<init>", desc := "()V" } : Jvm.MethodName)) ∈ lw_all := lw_g (lw_at lw_m6 168 rfl) rfl
theorem q1440 : (Jvm.Cond.methodLink "SecretVault" (243 : Nat) ({ cls := "SecretVault$Secret", name := "interpolated", desc := "(Ljava/util/List;I)I" } : Jvm.MethodName)) ∈ lw_all := lw_g (lw_at lw_m6 174 rfl) rfl
theorem q1447 : (Jvm.Cond.static ({ cls := "SecretVault", name := "minus", desc := "(II)I" } : Jvm.MethodName)) ∈ lw_all := lw_g (lw_at lw_m6 181 rfl) rfl
theorem q1448 : (Jvm.Cond.code ({ cls := "SecretVault", name := "minus", desc := "(II)I" } : Jvm.MethodName) prog_1_method_9_code (2 : Nat) (Option.some Jvm.ClassFile.FieldType.int)) ∈ lw_all := lw_g (lw_at lw_m6 182 rfl) rfl
theorem q1449 : (Jvm.Cond.methodLink "SecretVault" (25 : Nat) ({ cls := "java/lang/Math", name := "floorMod", desc := "(II)I" } : Jvm.MethodName)) ∈ lw_all := lw_g (lw_at lw_m6 183 rfl) rfl
theorem q1453 : (Jvm.Cond.static ({ cls := "SecretVault", name := "inverse", desc := "(I)I" } : Jvm.MethodName)) ∈ lw_all := lw_g (lw_at lw_m6 187 rfl) rfl
theorem q1454 : (Jvm.Cond.code ({ cls := "SecretVault", name := "inverse", desc := "(I)I" } : Jvm.MethodName) prog_1_method_8_code (1 : Nat) (Option.some Jvm.ClassFile.FieldType.int)) ∈ lw_all := lw_g (lw_at lw_m6 188 rfl) rfl
theorem q1455 : (Jvm.Cond.methodLink "SecretVault" (22 : Nat) ({ cls := "SecretVault", name := "power", desc := "(III)I" } : Jvm.MethodName)) ∈ lw_all := lw_g (lw_at lw_m6 189 rfl) rfl
theorem q1460 : (Jvm.Cond.instanceMethod ({ cls := "SecretVault", name := "enroll", desc := "(III)I" } : Jvm.MethodName)) ∈ lw_all := lw_g (lw_at lw_m6 194 rfl) rfl
theorem q1461 : (Jvm.Cond.selects "SecretVault" ({ cls := "SecretVault", name := "enroll", desc := "(III)I" } : Jvm.MethodName) ({ cls := "SecretVault", name := "enroll", desc := "(III)I" } : Jvm.MethodName)) ∈ lw_all := lw_g (lw_at lw_m6 195 rfl) rfl
theorem q1462 : (Jvm.Cond.code ({ cls := "SecretVault", name := "enroll", desc := "(III)I" } : Jvm.MethodName) prog_1_method_36_code (5 : Nat) (Option.some Jvm.ClassFile.FieldType.int)) ∈ lw_all := lw_g (lw_at lw_m6 196 rfl) rfl
theorem q1463 : (Jvm.Cond.methodLink "SecretVault" (247 : Nat) ({ cls := "SecretVault$World", name := "enroll", desc := "(LSecretVault$Secret;Ljava/util/List;I)I" } : Jvm.MethodName)) ∈ lw_all := lw_g (lw_at lw_m6 197 rfl) rfl
theorem q1473 : (Jvm.Cond.instanceMethod ({ cls := "SecretVault", name := "expel", desc := "(II)I" } : Jvm.MethodName)) ∈ lw_all := lw_g (lw_at lw_m6 207 rfl) rfl
theorem q1474 : (Jvm.Cond.selects "SecretVault" ({ cls := "SecretVault", name := "expel", desc := "(II)I" } : Jvm.MethodName) ({ cls := "SecretVault", name := "expel", desc := "(II)I" } : Jvm.MethodName)) ∈ lw_all := lw_g (lw_at lw_m6 208 rfl) rfl
theorem q1475 : (Jvm.Cond.code ({ cls := "SecretVault", name := "expel", desc := "(II)I" } : Jvm.MethodName) prog_1_method_37_code (6 : Nat) (Option.some Jvm.ClassFile.FieldType.int)) ∈ lw_all := lw_g (lw_at lw_m6 209 rfl) rfl
theorem q1476 : (Jvm.Cond.methodLink "SecretVault" (251 : Nat) ({ cls := "SecretVault", name := "firstPlace", desc := "(I)I" } : Jvm.MethodName)) ∈ lw_all := lw_g (lw_at lw_m6 210 rfl) rfl
theorem q1481 : (Jvm.Cond.instanceMethod ({ cls := "SecretVault", name := "open", desc := "(II)I" } : Jvm.MethodName)) ∈ lw_all := lw_g (lw_at lw_m6 215 rfl) rfl
theorem q1482 : (Jvm.Cond.selects "SecretVault" ({ cls := "SecretVault", name := "open", desc := "(II)I" } : Jvm.MethodName) ({ cls := "SecretVault", name := "open", desc := "(II)I" } : Jvm.MethodName)) ∈ lw_all := lw_g (lw_at lw_m6 216 rfl) rfl
theorem q1483 : (Jvm.Cond.code ({ cls := "SecretVault", name := "open", desc := "(II)I" } : Jvm.MethodName) prog_1_method_38_code (4 : Nat) (Option.some Jvm.ClassFile.FieldType.int)) ∈ lw_all := lw_g (lw_at lw_m6 217 rfl) rfl
theorem q1488 : (Jvm.Cond.instanceMethod ({ cls := "SecretVault", name := "combine", desc := "(II)I" } : Jvm.MethodName)) ∈ lw_all := lw_g (lw_at lw_m6 222 rfl) rfl
theorem q1489 : (Jvm.Cond.selects "SecretVault" ({ cls := "SecretVault", name := "combine", desc := "(II)I" } : Jvm.MethodName) ({ cls := "SecretVault", name := "combine", desc := "(II)I" } : Jvm.MethodName)) ∈ lw_all := lw_g (lw_at lw_m6 223 rfl) rfl
theorem q1490 : (Jvm.Cond.code ({ cls := "SecretVault", name := "combine", desc := "(II)I" } : Jvm.MethodName) prog_1_method_39_code (5 : Nat) (Option.some Jvm.ClassFile.FieldType.int)) ∈ lw_all := lw_g (lw_at lw_m6 224 rfl) rfl
theorem q1495 : (Jvm.Cond.instanceMethod ({ cls := "SecretVault", name := "agree", desc := "(II)Z" } : Jvm.MethodName)) ∈ lw_all := lw_g (lw_at lw_m6 229 rfl) rfl
theorem q1496 : (Jvm.Cond.selects "SecretVault" ({ cls := "SecretVault", name := "agree", desc := "(II)Z" } : Jvm.MethodName) ({ cls := "SecretVault", name := "agree", desc := "(II)Z" } : Jvm.MethodName)) ∈ lw_all := lw_g (lw_at lw_m6 230 rfl) rfl
theorem q1497 : (Jvm.Cond.code ({ cls := "SecretVault", name := "agree", desc := "(II)Z" } : Jvm.MethodName) prog_1_method_40_code (4 : Nat) (Option.some Jvm.ClassFile.FieldType.boolean)) ∈ lw_all := lw_g (lw_at lw_m6 231 rfl) rfl
theorem q1498 : (Jvm.Cond.methodLink "SecretVault" (261 : Nat) ({ cls := "SecretVault$Secret", name := "agrees", desc := "(Ljava/util/List;)Z" } : Jvm.MethodName)) ∈ lw_all := lw_g (lw_at lw_m6 232 rfl) rfl
theorem q1509 : (Jvm.Cond.instanceMethod ({ cls := "SecretVault", name := "secret", desc := "(II)I" } : Jvm.MethodName)) ∈ lw_all := lw_g (lw_at lw_m7 3 rfl) rfl
theorem q1510 : (Jvm.Cond.selects "SecretVault" ({ cls := "SecretVault", name := "secret", desc := "(II)I" } : Jvm.MethodName) ({ cls := "SecretVault", name := "secret", desc := "(II)I" } : Jvm.MethodName)) ∈ lw_all := lw_g (lw_at lw_m7 4 rfl) rfl
theorem q1511 : (Jvm.Cond.code ({ cls := "SecretVault", name := "secret", desc := "(II)I" } : Jvm.MethodName) prog_1_method_41_code (4 : Nat) (Option.some Jvm.ClassFile.FieldType.int)) ∈ lw_all := lw_g (lw_at lw_m7 5 rfl) rfl
theorem q1512 : (Jvm.Cond.fieldLink "SecretVault" (265 : Nat) "SecretVault$State" "GOOD" "LSecretVault$State;") ∈ lw_all := lw_g (lw_at lw_m7 6 rfl) rfl
theorem q1513 : (Jvm.Cond.methodLink "SecretVault" (271 : Nat) ({ cls := "SecretVault$Secret", name := "countOf", desc := "(LSecretVault$State;)I" } : Jvm.MethodName)) ∈ lw_all := lw_g (lw_at lw_m7 7 rfl) rfl
theorem q1517 : (Jvm.Cond.fieldLink "SecretVault" (275 : Nat) "SecretVault$State" "STALE" "LSecretVault$State;") ∈ lw_all := lw_g (lw_at lw_m7 11 rfl) rfl
theorem q1519 : (Jvm.Cond.fieldLink "SecretVault" (278 : Nat) "SecretVault$State" "WRONG" "LSecretVault$State;") ∈ lw_all := lw_g (lw_at lw_m7 13 rfl) rfl
theorem q1525 : (Jvm.Cond.instanceMethod ({ cls := "SecretVault", name := "commitment", desc := "(II)I" } : Jvm.MethodName)) ∈ lw_all := lw_g (lw_at lw_m7 19 rfl) rfl
theorem q1526 : (Jvm.Cond.selects "SecretVault" ({ cls := "SecretVault", name := "commitment", desc := "(II)I" } : Jvm.MethodName) ({ cls := "SecretVault", name := "commitment", desc := "(II)I" } : Jvm.MethodName)) ∈ lw_all := lw_g (lw_at lw_m7 20 rfl) rfl
theorem q1527 : (Jvm.Cond.code ({ cls := "SecretVault", name := "commitment", desc := "(II)I" } : Jvm.MethodName) prog_1_method_42_code (4 : Nat) (Option.some Jvm.ClassFile.FieldType.int)) ∈ lw_all := lw_g (lw_at lw_m7 21 rfl) rfl
theorem q1532 : (Jvm.Cond.instanceMethod ({ cls := "SecretVault", name := "share", desc := "(III)I" } : Jvm.MethodName)) ∈ lw_all := lw_g (lw_at lw_m7 26 rfl) rfl
theorem q1533 : (Jvm.Cond.selects "SecretVault" ({ cls := "SecretVault", name := "share", desc := "(III)I" } : Jvm.MethodName) ({ cls := "SecretVault", name := "share", desc := "(III)I" } : Jvm.MethodName)) ∈ lw_all := lw_g (lw_at lw_m7 27 rfl) rfl
theorem q1534 : (Jvm.Cond.code ({ cls := "SecretVault", name := "share", desc := "(III)I" } : Jvm.MethodName) prog_1_method_44_code (5 : Nat) (Option.some Jvm.ClassFile.FieldType.int)) ∈ lw_all := lw_g (lw_at lw_m7 28 rfl) rfl
theorem q1535 : (Jvm.Cond.methodLink "SecretVault" (288 : Nat) ({ cls := "SecretVault", name := "requirePlace", desc := "(I)V" } : Jvm.MethodName)) ∈ lw_all := lw_g (lw_at lw_m7 29 rfl) rfl
theorem q1536 : (Jvm.Cond.static ({ cls := "SecretVault", name := "requirePlace", desc := "(I)V" } : Jvm.MethodName)) ∈ lw_all := lw_g (lw_at lw_m7 30 rfl) rfl
theorem q1537 : (Jvm.Cond.code ({ cls := "SecretVault", name := "requirePlace", desc := "(I)V" } : Jvm.MethodName) prog_1_method_22_code (1 : Nat) (Option.none : Option Jvm.ClassFile.FieldType)) ∈ lw_all := lw_g (lw_at lw_m7 31 rfl) rfl
theorem q1538 : (Jvm.Cond.methodLink "SecretVault" (291 : Nat) ({ cls := "SecretVault", name := "shareAt", desc := "(II)LSecretVault$Share;" } : Jvm.MethodName)) ∈ lw_all := lw_g (lw_at lw_m7 32 rfl) rfl
theorem q1539 : (Jvm.Cond.privateMethod ({ cls := "SecretVault", name := "shareAt", desc := "(II)LSecretVault$Share;" } : Jvm.MethodName)) ∈ lw_tbl := lw_at lw_m7 33 rfl
theorem q1540 : (Jvm.Cond.instanceMethod ({ cls := "SecretVault", name := "shareAt", desc := "(II)LSecretVault$Share;" } : Jvm.MethodName)) ∈ lw_all := lw_g (lw_at lw_m7 34 rfl) rfl
theorem q1541 : (Jvm.Cond.code ({ cls := "SecretVault", name := "shareAt", desc := "(II)LSecretVault$Share;" } : Jvm.MethodName) prog_1_method_43_code (4 : Nat) (Option.some (Jvm.ClassFile.FieldType.object "SecretVault$Share"))) ∈ lw_all := lw_g (lw_at lw_m7 35 rfl) rfl
theorem q1542 : (Jvm.Cond.methodLink "SecretVault" (301 : Nat) ({ cls := "SecretVault$Secret", name := "stateOf", desc := "(LSecretVault$Share;)LSecretVault$State;" } : Jvm.MethodName)) ∈ lw_all := lw_g (lw_at lw_m7 36 rfl) rfl
theorem q1543 : (Jvm.Cond.methodLink "SecretVault" (305 : Nat) ({ cls := "SecretVault$State", name := "ordinal", desc := "()I" } : Jvm.MethodName)) ∈ lw_all := lw_g (lw_at lw_m7 37 rfl) rfl
theorem q1555 : (Jvm.Cond.instanceMethod ({ cls := "SecretVault", name := "setShare", desc := "(III)I" } : Jvm.MethodName)) ∈ lw_all := lw_g (lw_at lw_m7 49 rfl) rfl
theorem q1556 : (Jvm.Cond.selects "SecretVault" ({ cls := "SecretVault", name := "setShare", desc := "(III)I" } : Jvm.MethodName) ({ cls := "SecretVault", name := "setShare", desc := "(III)I" } : Jvm.MethodName)) ∈ lw_all := lw_g (lw_at lw_m7 50 rfl) rfl
theorem q1557 : (Jvm.Cond.code ({ cls := "SecretVault", name := "setShare", desc := "(III)I" } : Jvm.MethodName) prog_1_method_45_code (6 : Nat) (Option.some Jvm.ClassFile.FieldType.int)) ∈ lw_all := lw_g (lw_at lw_m7 51 rfl) rfl
theorem q1562 : (Jvm.Cond.instanceMethod ({ cls := "SecretVault", name := "shareText", desc := "(III)I" } : Jvm.MethodName)) ∈ lw_all := lw_g (lw_at lw_m7 56 rfl) rfl
theorem q1563 : (Jvm.Cond.selects "SecretVault" ({ cls := "SecretVault", name := "shareText", desc := "(III)I" } : Jvm.MethodName) ({ cls := "SecretVault", name := "shareText", desc := "(III)I" } : Jvm.MethodName)) ∈ lw_all := lw_g (lw_at lw_m7 57 rfl) rfl
theorem q1564 : (Jvm.Cond.code ({ cls := "SecretVault", name := "shareText", desc := "(III)I" } : Jvm.MethodName) prog_1_method_46_code (5 : Nat) (Option.some Jvm.ClassFile.FieldType.int)) ∈ lw_all := lw_g (lw_at lw_m7 58 rfl) rfl
theorem q1565 : (Jvm.Cond.methodLink "SecretVault" (308 : Nat) ({ cls := "SecretVault$Share", name := "write", desc := "(Ljava/lang/StringBuilder;)V" } : Jvm.MethodName)) ∈ lw_all := lw_g (lw_at lw_m7 59 rfl) rfl
theorem q1590 : (Jvm.Cond.methodLink "SecretVault" (311 : Nat) ({ cls := "SecretVault", name := "characterOf", desc := "(Ljava/lang/StringBuilder;I)I" } : Jvm.MethodName)) ∈ lw_all := lw_g (lw_at lw_m7 84 rfl) rfl
theorem q1591 : (Jvm.Cond.static ({ cls := "SecretVault", name := "characterOf", desc := "(Ljava/lang/StringBuilder;I)I" } : Jvm.MethodName)) ∈ lw_all := lw_g (lw_at lw_m7 85 rfl) rfl
theorem q1592 : (Jvm.Cond.code ({ cls := "SecretVault", name := "characterOf", desc := "(Ljava/lang/StringBuilder;I)I" } : Jvm.MethodName) prog_1_method_25_code (2 : Nat) (Option.some Jvm.ClassFile.FieldType.int)) ∈ lw_all := lw_g (lw_at lw_m7 86 rfl) rfl
theorem q1593 : (Jvm.Cond.methodLink "SecretVault" (164 : Nat) ({ cls := "java/lang/StringBuilder", name := "length", desc := "()I" } : Jvm.MethodName)) ∈ lw_all := lw_g (lw_at lw_m7 87 rfl) rfl
theorem q1594 : (Jvm.Cond.methodLink "SecretVault" (167 : Nat) ({ cls := "java/lang/StringBuilder", name := "charAt", desc := "(I)C" } : Jvm.MethodName)) ∈ lw_all := lw_g (lw_at lw_m7 88 rfl) rfl
theorem q1608 : (Jvm.Cond.instanceMethod ({ cls := "SecretVault", name := "importShare", desc := "(I)I" } : Jvm.MethodName)) ∈ lw_all := lw_g (lw_at lw_m7 102 rfl) rfl
theorem q1609 : (Jvm.Cond.selects "SecretVault" ({ cls := "SecretVault", name := "importShare", desc := "(I)I" } : Jvm.MethodName) ({ cls := "SecretVault", name := "importShare", desc := "(I)I" } : Jvm.MethodName)) ∈ lw_all := lw_g (lw_at lw_m7 103 rfl) rfl
theorem q1610 : (Jvm.Cond.codeWith ({ cls := "SecretVault", name := "importShare", desc := "(I)I" } : Jvm.MethodName) prog_1_method_48_code (4 : Nat) (Option.some Jvm.ClassFile.FieldType.int) [((16 : Nat), (45 : Nat), (46 : Nat), (330 : Nat))]) ∈ lw_all := lw_g (lw_at lw_m7 104 rfl) rfl
theorem q1611 : (Jvm.Cond.classLink "SecretVault" (330 : Nat) "SecretVault$TextError") ∈ lw_all := lw_g (lw_at lw_m7 105 rfl) rfl
theorem q1612 : (Jvm.Cond.classLink "SecretVault" (315 : Nat) "SecretVault$Reader") ∈ lw_all := lw_g (lw_at lw_m7 106 rfl) rfl
theorem q1614 : (Jvm.Cond.methodLink "SecretVault" (317 : Nat) ({ cls := "SecretVault", name := "takeBuffer", desc := "()Ljava/lang/String;" } : Jvm.MethodName)) ∈ lw_all := lw_g (lw_at lw_m7 108 rfl) rfl
theorem q1615 : (Jvm.Cond.privateMethod ({ cls := "SecretVault", name := "takeBuffer", desc := "()Ljava/lang/String;" } : Jvm.MethodName)) ∈ lw_tbl := lw_at lw_m7 109 rfl
theorem q1616 : (Jvm.Cond.instanceMethod ({ cls := "SecretVault", name := "takeBuffer", desc := "()Ljava/lang/String;" } : Jvm.MethodName)) ∈ lw_all := lw_g (lw_at lw_m7 110 rfl) rfl
theorem q1617 : (Jvm.Cond.code ({ cls := "SecretVault", name := "takeBuffer", desc := "()Ljava/lang/String;" } : Jvm.MethodName) prog_1_method_47_code (2 : Nat) (Option.some (Jvm.ClassFile.FieldType.object "java/lang/String"))) ∈ lw_all := lw_g (lw_at lw_m7 111 rfl) rfl
theorem q1618 : (Jvm.Cond.methodLink "SecretVault" (105 : Nat) ({ cls := "java/lang/StringBuilder", name := "toString", desc := "()Ljava/lang/String;" } : Jvm.MethodName)) ∈ lw_all := lw_g (lw_at lw_m7 112 rfl) rfl
theorem q1619 : (Jvm.Cond.methodLink "SecretVault" (320 : Nat) ({ cls := "SecretVault$Reader", name := "<init>", desc := "(Ljava/lang/String;)V" } : Jvm.MethodName)) ∈ lw_all := lw_g (lw_at lw_m7 113 rfl) rfl
theorem q1630 : (Jvm.Cond.methodLink "SecretVault" (323 : Nat) ({ cls := "SecretVault$Reader", name := "wholeShare", desc := "()LSecretVault$Share;" } : Jvm.MethodName)) ∈ lw_all := lw_g (lw_at lw_m7 124 rfl) rfl
theorem q1681 : (Jvm.Cond.fieldLink "SecretVault" (332 : Nat) "SecretVault$TextError" "position" "I") ∈ lw_all := lw_g (lw_at lw_m7 175 rfl) rfl
theorem q1696 : (Jvm.Cond.instanceMethod ({ cls := "SecretVault", name := "bad", desc := "(II)I" } : Jvm.MethodName)) ∈ lw_all := lw_g (lw_at lw_m7 190 rfl) rfl
theorem q1697 : (Jvm.Cond.selects "SecretVault" ({ cls := "SecretVault", name := "bad", desc := "(II)I" } : Jvm.MethodName) ({ cls := "SecretVault", name := "bad", desc := "(II)I" } : Jvm.MethodName)) ∈ lw_all := lw_g (lw_at lw_m7 191 rfl) rfl
theorem q1698 : (Jvm.Cond.code ({ cls := "SecretVault", name := "bad", desc := "(II)I" } : Jvm.MethodName) prog_1_method_49_code (6 : Nat) (Option.some Jvm.ClassFile.FieldType.int)) ∈ lw_all := lw_g (lw_at lw_m7 192 rfl) rfl
theorem q1699 : (Jvm.Cond.methodLink "SecretVault" (335 : Nat) ({ cls := "SecretVault$Secret", name := "isGood", desc := "(I)Z" } : Jvm.MethodName)) ∈ lw_all := lw_g (lw_at lw_m7 193 rfl) rfl
theorem q1704 : (Jvm.Cond.instanceMethod ({ cls := "SecretVault", name := "append", desc := "(I)I" } : Jvm.MethodName)) ∈ lw_all := lw_g (lw_at lw_m7 198 rfl) rfl
theorem q1705 : (Jvm.Cond.selects "SecretVault" ({ cls := "SecretVault", name := "append", desc := "(I)I" } : Jvm.MethodName) ({ cls := "SecretVault", name := "append", desc := "(I)I" } : Jvm.MethodName)) ∈ lw_all := lw_g (lw_at lw_m7 199 rfl) rfl
theorem q1706 : (Jvm.Cond.code ({ cls := "SecretVault", name := "append", desc := "(I)I" } : Jvm.MethodName) prog_1_method_50_code (5 : Nat) (Option.some Jvm.ClassFile.FieldType.int)) ∈ lw_all := lw_g (lw_at lw_m7 200 rfl) rfl
theorem q1707 : (Jvm.Cond.methodLink "SecretVault" (102 : Nat) ({ cls := "java/lang/StringBuilder", name := "append", desc := "(C)Ljava/lang/StringBuilder;" } : Jvm.MethodName)) ∈ lw_all := lw_g (lw_at lw_m7 201 rfl) rfl
theorem q1708 : (Jvm.Cond.methodLink "SecretVault" (338 : Nat) ({ cls := "java/lang/StringBuilder", name := "append", desc := "(Ljava/lang/CharSequence;)Ljava/lang/StringBuilder;" } : Jvm.MethodName)) ∈ lw_all := lw_g (lw_at lw_m7 202 rfl) rfl
theorem q1803 : (Jvm.Cond.instanceMethod ({ cls := "SecretVault", name := "setPolicy", desc := "(I)Z" } : Jvm.MethodName)) ∈ lw_all := lw_g (lw_at lw_m8 57 rfl) rfl
theorem q1804 : (Jvm.Cond.selects "SecretVault" ({ cls := "SecretVault", name := "setPolicy", desc := "(I)Z" } : Jvm.MethodName) ({ cls := "SecretVault", name := "setPolicy", desc := "(I)Z" } : Jvm.MethodName)) ∈ lw_all := lw_g (lw_at lw_m8 58 rfl) rfl
theorem q1805 : (Jvm.Cond.codeWith ({ cls := "SecretVault", name := "setPolicy", desc := "(I)Z" } : Jvm.MethodName) prog_1_method_51_code (6 : Nat) (Option.some Jvm.ClassFile.FieldType.boolean) [((35 : Nat), (61 : Nat), (64 : Nat), (330 : Nat))]) ∈ lw_all := lw_g (lw_at lw_m8 59 rfl) rfl
theorem q1806 : (Jvm.Cond.methodLink "SecretVault" (341 : Nat) ({ cls := "java/lang/String", name := "length", desc := "()I" } : Jvm.MethodName)) ∈ lw_all := lw_g (lw_at lw_m8 60 rfl) rfl
theorem q1807 : (Jvm.Cond.methodLink "SecretVault" (344 : Nat) ({ cls := "SecretVault$Reader", name := "wholePolicy", desc := "()LSecretVault$Policy;" } : Jvm.MethodName)) ∈ lw_all := lw_g (lw_at lw_m8 61 rfl) rfl
theorem q1842 : (Jvm.Cond.fieldLinkNest "SecretVault" (91 : Nat) "SecretVault$Some" "count" "I" "SecretVault") ∈ lw_tbl := lw_at lw_m8 96 rfl
theorem q1844 : (Jvm.Cond.fieldLinkNest "SecretVault" (61 : Nat) "SecretVault$Some" "parts" "Ljava/util/List;" "SecretVault") ∈ lw_tbl := lw_at lw_m8 98 rfl
theorem q1857 : (Jvm.Cond.fieldLinkNest "SecretVault" (81 : Nat) "SecretVault$One" "member" "I" "SecretVault") ∈ lw_tbl := lw_at lw_m8 111 rfl
theorem q1873 : (Jvm.Cond.fieldLinkNest "SecretVault" (58 : Nat) "SecretVault$All" "parts" "Ljava/util/List;" "SecretVault") ∈ lw_tbl := lw_at lw_m8 127 rfl
theorem q1884 : (Jvm.Cond.fieldLinkNest "SecretVault" (52 : Nat) "SecretVault$Any" "parts" "Ljava/util/List;" "SecretVault") ∈ lw_tbl := lw_at lw_m8 138 rfl
theorem q1892 : (Jvm.Cond.instanceMethod ({ cls := "SecretVault", name := "fulfils", desc := "(II)Z" } : Jvm.MethodName)) ∈ lw_all := lw_g (lw_at lw_m8 146 rfl) rfl
theorem q1893 : (Jvm.Cond.selects "SecretVault" ({ cls := "SecretVault", name := "fulfils", desc := "(II)Z" } : Jvm.MethodName) ({ cls := "SecretVault", name := "fulfils", desc := "(II)Z" } : Jvm.MethodName)) ∈ lw_all := lw_g (lw_at lw_m8 147 rfl) rfl
theorem q1894 : (Jvm.Cond.code ({ cls := "SecretVault", name := "fulfils", desc := "(II)Z" } : Jvm.MethodName) prog_1_method_53_code (3 : Nat) (Option.some Jvm.ClassFile.FieldType.boolean)) ∈ lw_all := lw_g (lw_at lw_m8 148 rfl) rfl
theorem q1895 : (Jvm.Cond.methodLink "SecretVault" (348 : Nat) ({ cls := "SecretVault$Secret", name := "isFulfilled", desc := "(I)Z" } : Jvm.MethodName)) ∈ lw_all := lw_g (lw_at lw_m8 149 rfl) rfl
theorem q1900 : (Jvm.Cond.instanceMethod ({ cls := "SecretVault", name := "policyText", desc := "(II)I" } : Jvm.MethodName)) ∈ lw_all := lw_g (lw_at lw_m8 154 rfl) rfl
theorem q1901 : (Jvm.Cond.selects "SecretVault" ({ cls := "SecretVault", name := "policyText", desc := "(II)I" } : Jvm.MethodName) ({ cls := "SecretVault", name := "policyText", desc := "(II)I" } : Jvm.MethodName)) ∈ lw_all := lw_g (lw_at lw_m8 155 rfl) rfl
theorem q1902 : (Jvm.Cond.code ({ cls := "SecretVault", name := "policyText", desc := "(II)I" } : Jvm.MethodName) prog_1_method_55_code (4 : Nat) (Option.some Jvm.ClassFile.FieldType.int)) ∈ lw_all := lw_g (lw_at lw_m8 156 rfl) rfl
theorem q1903 : (Jvm.Cond.methodLink "SecretVault" (349 : Nat) ({ cls := "SecretVault", name := "policyOf", desc := "(I)LSecretVault$Policy;" } : Jvm.MethodName)) ∈ lw_all := lw_g (lw_at lw_m8 157 rfl) rfl
theorem q1904 : (Jvm.Cond.privateMethod ({ cls := "SecretVault", name := "policyOf", desc := "(I)LSecretVault$Policy;" } : Jvm.MethodName)) ∈ lw_tbl := lw_at lw_m8 158 rfl
theorem q1905 : (Jvm.Cond.instanceMethod ({ cls := "SecretVault", name := "policyOf", desc := "(I)LSecretVault$Policy;" } : Jvm.MethodName)) ∈ lw_all := lw_g (lw_at lw_m8 159 rfl) rfl
theorem q1906 : (Jvm.Cond.code ({ cls := "SecretVault", name := "policyOf", desc := "(I)LSecretVault$Policy;" } : Jvm.MethodName) prog_1_method_54_code (3 : Nat) (Option.some (Jvm.ClassFile.FieldType.object "SecretVault$Policy"))) ∈ lw_all := lw_g (lw_at lw_m8 160 rfl) rfl
theorem q1907 : (Jvm.Cond.methodLink "SecretVault" (111 : Nat) ({ cls := "SecretVault", name := "write", desc := "(LSecretVault$Policy;Ljava/lang/StringBuilder;)V" } : Jvm.MethodName)) ∈ lw_all := lw_g (lw_at lw_m8 161 rfl) rfl
theorem q1908 : (Jvm.Cond.static ({ cls := "SecretVault", name := "write", desc := "(LSecretVault$Policy;Ljava/lang/StringBuilder;)V" } : Jvm.MethodName)) ∈ lw_all := lw_g (lw_at lw_m8 162 rfl) rfl
theorem q1909 : (Jvm.Cond.code ({ cls := "SecretVault", name := "write", desc := "(LSecretVault$Policy;Ljava/lang/StringBuilder;)V" } : Jvm.MethodName) prog_1_method_16_code (6 : Nat) (Option.none : Option Jvm.ClassFile.FieldType)) ∈ lw_all := lw_g (lw_at lw_m8 163 rfl) rfl
theorem q1910 : (Jvm.Cond.classLink "SecretVault" (65 : Nat) "SecretVault$One") ∈ lw_all := lw_g (lw_at lw_m8 164 rfl) rfl
theorem q1911 : (Jvm.Cond.methodLink "SecretVault" (85 : Nat) ({ cls := "java/lang/StringBuilder", name := "append", desc := "(I)Ljava/lang/StringBuilder;" } : Jvm.MethodName)) ∈ lw_all := lw_g (lw_at lw_m8 165 rfl) rfl
theorem q1912 : (Jvm.Cond.classLink "SecretVault" (59 : Nat) "SecretVault$Some") ∈ lw_all := lw_g (lw_at lw_m8 166 rfl) rfl
theorem q1913 : (Jvm.Cond.stringRef "SecretVault" (94 : Nat) "of(") ∈ lw_tbl := lw_at lw_m8 167 rfl
theorem q1914 : (Jvm.Cond.methodLink "SecretVault" (96 : Nat) ({ cls := "java/lang/StringBuilder", name := "append", desc := "(Ljava/lang/String;)Ljava/lang/StringBuilder;" } : Jvm.MethodName)) ∈ lw_all := lw_g (lw_at lw_m8 168 rfl) rfl
theorem q1915 : (Jvm.Cond.classLink "SecretVault" (50 : Nat) "SecretVault$Any") ∈ lw_all := lw_g (lw_at lw_m8 169 rfl) rfl
theorem q1916 : (Jvm.Cond.classLink "SecretVault" (56 : Nat) "SecretVault$All") ∈ lw_all := lw_g (lw_at lw_m8 170 rfl) rfl
theorem q1917 : (Jvm.Cond.methodLink "SecretVault" (67 : Nat) ({ cls := "SecretVault", name := "partsOf", desc := "(LSecretVault$Policy;)Ljava/util/List;" } : Jvm.MethodName)) ∈ lw_all := lw_g (lw_at lw_m8 171 rfl) rfl
theorem q1918 : (Jvm.Cond.static ({ cls := "SecretVault", name := "partsOf", desc := "(LSecretVault$Policy;)Ljava/util/List;" } : Jvm.MethodName)) ∈ lw_all := lw_g (lw_at lw_m8 172 rfl) rfl
theorem q1919 : (Jvm.Cond.code ({ cls := "SecretVault", name := "partsOf", desc := "(LSecretVault$Policy;)Ljava/util/List;" } : Jvm.MethodName) prog_1_method_13_code (2 : Nat) (Option.some (Jvm.ClassFile.FieldType.object "java/util/List"))) ∈ lw_all := lw_g (lw_at lw_m8 173 rfl) rfl
theorem q1920 : (Jvm.Cond.classLink "SecretVault" (62 : Nat) "java/util/ArrayList") ∈ lw_all := lw_g (lw_at lw_m8 174 rfl) rfl
theorem q1921 : (Jvm.Cond.methodLink "SecretVault" (64 : Nat) ({ cls := "java/util/ArrayList", name := "<init>", desc := "()V" } : Jvm.MethodName)) ∈ lw_all := lw_g (lw_at lw_m8 175 rfl) rfl
theorem q1922 : (Jvm.Cond.stringRef "SecretVault" (99 : Nat) "") ∈ lw_tbl := lw_at lw_m8 176 rfl
theorem q1923 : (Jvm.Cond.stringRef "SecretVault" (109 : Nat) "(") ∈ lw_tbl := lw_at lw_m8 177 rfl
theorem q1924 : (Jvm.Cond.stringRef "SecretVault" (115 : Nat) ")") ∈ lw_tbl := lw_at lw_m8 178 rfl
theorem q1929 : (Jvm.Cond.instanceMethod ({ cls := "SecretVault", name := "policy", desc := "(II)I" } : Jvm.MethodName)) ∈ lw_all := lw_g (lw_at lw_m8 183 rfl) rfl
theorem q1930 : (Jvm.Cond.selects "SecretVault" ({ cls := "SecretVault", name := "policy", desc := "(II)I" } : Jvm.MethodName) ({ cls := "SecretVault", name := "policy", desc := "(II)I" } : Jvm.MethodName)) ∈ lw_all := lw_g (lw_at lw_m8 184 rfl) rfl
theorem q1931 : (Jvm.Cond.code ({ cls := "SecretVault", name := "policy", desc := "(II)I" } : Jvm.MethodName) prog_1_method_56_code (4 : Nat) (Option.some Jvm.ClassFile.FieldType.int)) ∈ lw_all := lw_g (lw_at lw_m8 185 rfl) rfl
theorem q1932 : (Jvm.Cond.methodLink "SecretVault" (71 : Nat) ({ cls := "SecretVault", name := "sizeOf", desc := "(LSecretVault$Policy;)I" } : Jvm.MethodName)) ∈ lw_all := lw_g (lw_at lw_m8 186 rfl) rfl
theorem q1933 : (Jvm.Cond.static ({ cls := "SecretVault", name := "sizeOf", desc := "(LSecretVault$Policy;)I" } : Jvm.MethodName)) ∈ lw_all := lw_g (lw_at lw_m8 187 rfl) rfl
theorem q1934 : (Jvm.Cond.code ({ cls := "SecretVault", name := "sizeOf", desc := "(LSecretVault$Policy;)I" } : Jvm.MethodName) prog_1_method_14_code (4 : Nat) (Option.some Jvm.ClassFile.FieldType.int)) ∈ lw_all := lw_g (lw_at lw_m8 188 rfl) rfl
theorem q1935 : (Jvm.Cond.methodLink "SecretVault" (75 : Nat) ({ cls := "SecretVault", name := "depthOf", desc := "(LSecretVault$Policy;)I" } : Jvm.MethodName)) ∈ lw_all := lw_g (lw_at lw_m8 189 rfl) rfl
theorem q1936 : (Jvm.Cond.static ({ cls := "SecretVault", name := "depthOf", desc := "(LSecretVault$Policy;)I" } : Jvm.MethodName)) ∈ lw_all := lw_g (lw_at lw_m8 190 rfl) rfl
theorem q1937 : (Jvm.Cond.code ({ cls := "SecretVault", name := "depthOf", desc := "(LSecretVault$Policy;)I" } : Jvm.MethodName) prog_1_method_15_code (4 : Nat) (Option.some Jvm.ClassFile.FieldType.int)) ∈ lw_all := lw_g (lw_at lw_m8 191 rfl) rfl
theorem q1938 : (Jvm.Cond.methodLink "SecretVault" (78 : Nat) ({ cls := "java/lang/Math", name := "max", desc := "(II)I" } : Jvm.MethodName)) ∈ lw_all := lw_g (lw_at lw_m8 192 rfl) rfl
theorem q1939 : (Jvm.Cond.interfaceEntry "SecretVault" (43 : Nat)) ∈ lw_tbl := lw_at lw_m8 193 rfl
theorem q1940 : (Jvm.Cond.methodLink "SecretVault" (43 : Nat) ({ cls := "SecretVault$Policy", name := "members", desc := "()I" } : Jvm.MethodName)) ∈ lw_all := lw_g (lw_at lw_m8 194 rfl) rfl
theorem q1949 : (Jvm.Cond.static ({ cls := "SecretVault", name := "membersOf", desc := "(Ljava/util/List;)I" } : Jvm.MethodName)) ∈ lw_all := lw_g (lw_at lw_m8 203 rfl) rfl
theorem q1950 : (Jvm.Cond.code ({ cls := "SecretVault", name := "membersOf", desc := "(Ljava/util/List;)I" } : Jvm.MethodName) prog_1_method_11_code (3 : Nat) (Option.some Jvm.ClassFile.FieldType.int)) ∈ lw_all := lw_g (lw_at lw_m8 204 rfl) rfl
theorem q1972 : (Jvm.Cond.instanceMethod ({ cls := "SecretVault", name := "groups", desc := "(I)I" } : Jvm.MethodName)) ∈ lw_all := lw_g (lw_at lw_m8 226 rfl) rfl
theorem q1973 : (Jvm.Cond.selects "SecretVault" ({ cls := "SecretVault", name := "groups", desc := "(I)I" } : Jvm.MethodName) ({ cls := "SecretVault", name := "groups", desc := "(I)I" } : Jvm.MethodName)) ∈ lw_all := lw_g (lw_at lw_m8 227 rfl) rfl
theorem q1974 : (Jvm.Cond.code ({ cls := "SecretVault", name := "groups", desc := "(I)I" } : Jvm.MethodName) prog_1_method_57_code (2 : Nat) (Option.some Jvm.ClassFile.FieldType.int)) ∈ lw_all := lw_g (lw_at lw_m8 228 rfl) rfl
theorem q1975 : (Jvm.Cond.classLink "SecretVault" (353 : Nat) "SecretVault$Groups") ∈ lw_all := lw_g (lw_at lw_m8 229 rfl) rfl
theorem q1977 : (Jvm.Cond.methodLink "SecretVault" (355 : Nat) ({ cls := "SecretVault$Groups", name := "<init>", desc := "(LSecretVault$World;LSecretVault$Secret;)V" } : Jvm.MethodName)) ∈ lw_all := lw_g (lw_at lw_m8 231 rfl) rfl
theorem q1988 : (Jvm.Cond.methodLink "SecretVault" (358 : Nat) ({ cls := "SecretVault$Groups", name := "count", desc := "()I" } : Jvm.MethodName)) ∈ lw_all := lw_g (lw_at lw_m9 2 rfl) rfl
theorem q1996 : (Jvm.Cond.instanceMethod ({ cls := "SecretVault", name := "smallest", desc := "(II)I" } : Jvm.MethodName)) ∈ lw_all := lw_g (lw_at lw_m9 10 rfl) rfl
theorem q1997 : (Jvm.Cond.selects "SecretVault" ({ cls := "SecretVault", name := "smallest", desc := "(II)I" } : Jvm.MethodName) ({ cls := "SecretVault", name := "smallest", desc := "(II)I" } : Jvm.MethodName)) ∈ lw_all := lw_g (lw_at lw_m9 11 rfl) rfl
theorem q1998 : (Jvm.Cond.code ({ cls := "SecretVault", name := "smallest", desc := "(II)I" } : Jvm.MethodName) prog_1_method_58_code (6 : Nat) (Option.some Jvm.ClassFile.FieldType.int)) ∈ lw_all := lw_g (lw_at lw_m9 12 rfl) rfl
theorem q1999 : (Jvm.Cond.methodLink "SecretVault" (359 : Nat) ({ cls := "SecretVault$Groups", name := "isSmallest", desc := "(I)Z" } : Jvm.MethodName)) ∈ lw_all := lw_g (lw_at lw_m9 13 rfl) rfl
theorem q2007 : (Jvm.Cond.instanceMethod ({ cls := "SecretVault", name := "powerBits", desc := "(II)J" } : Jvm.MethodName)) ∈ lw_all := lw_g (lw_at lw_m9 21 rfl) rfl
theorem q2008 : (Jvm.Cond.selects "SecretVault" ({ cls := "SecretVault", name := "powerBits", desc := "(II)J" } : Jvm.MethodName) ({ cls := "SecretVault", name := "powerBits", desc := "(II)J" } : Jvm.MethodName)) ∈ lw_all := lw_g (lw_at lw_m9 22 rfl) rfl
theorem q2009 : (Jvm.Cond.code ({ cls := "SecretVault", name := "powerBits", desc := "(II)J" } : Jvm.MethodName) prog_1_method_59_code (4 : Nat) (Option.some Jvm.ClassFile.FieldType.long)) ∈ lw_all := lw_g (lw_at lw_m9 23 rfl) rfl
theorem q2010 : (Jvm.Cond.methodLink "SecretVault" (362 : Nat) ({ cls := "SecretVault$Groups", name := "decisions", desc := "(I)I" } : Jvm.MethodName)) ∈ lw_all := lw_g (lw_at lw_m9 24 rfl) rfl
theorem q2014 : (Jvm.Cond.constantDouble "SecretVault" (365 : Nat) (4638707616191610880 : UInt64)) ∈ lw_all := lw_g (lw_at lw_m9 28 rfl) rfl
theorem q2015 : (Jvm.Cond.methodLink "SecretVault" (367 : Nat) ({ cls := "java/lang/Double", name := "doubleToLongBits", desc := "(D)J" } : Jvm.MethodName)) ∈ lw_all := lw_g (lw_at lw_m9 29 rfl) rfl
theorem q2043 : (Jvm.Cond.instanceMethod ({ cls := "SecretVault", name := "healthBits", desc := "(I)I" } : Jvm.MethodName)) ∈ lw_all := lw_g (lw_at lw_m9 57 rfl) rfl
theorem q2044 : (Jvm.Cond.selects "SecretVault" ({ cls := "SecretVault", name := "healthBits", desc := "(I)I" } : Jvm.MethodName) ({ cls := "SecretVault", name := "healthBits", desc := "(I)I" } : Jvm.MethodName)) ∈ lw_all := lw_g (lw_at lw_m9 58 rfl) rfl
theorem q2045 : (Jvm.Cond.code ({ cls := "SecretVault", name := "healthBits", desc := "(I)I" } : Jvm.MethodName) prog_1_method_60_code (3 : Nat) (Option.some Jvm.ClassFile.FieldType.int)) ∈ lw_all := lw_g (lw_at lw_m9 59 rfl) rfl
theorem q2046 : (Jvm.Cond.classLink "SecretVault" (373 : Nat) "java/lang/ArithmeticException") ∈ lw_all := lw_g (lw_at lw_m9 60 rfl) rfl
theorem q2047 : (Jvm.Cond.methodLink "SecretVault" (375 : Nat) ({ cls := "java/lang/ArithmeticException", name := "<init>", desc := "()V" } : Jvm.MethodName)) ∈ lw_all := lw_g (lw_at lw_m9 61 rfl) rfl
theorem q2051 : (Jvm.Cond.methodLink "SecretVault" (376 : Nat) ({ cls := "java/lang/Float", name := "floatToIntBits", desc := "(F)I" } : Jvm.MethodName)) ∈ lw_all := lw_g (lw_at lw_m9 65 rfl) rfl
theorem q2065 : (Jvm.Cond.instanceMethod ({ cls := "SecretVault", name := "report", desc := "(II)I" } : Jvm.MethodName)) ∈ lw_all := lw_g (lw_at lw_m9 79 rfl) rfl
theorem q2066 : (Jvm.Cond.selects "SecretVault" ({ cls := "SecretVault", name := "report", desc := "(II)I" } : Jvm.MethodName) ({ cls := "SecretVault", name := "report", desc := "(II)I" } : Jvm.MethodName)) ∈ lw_all := lw_g (lw_at lw_m9 80 rfl) rfl
theorem q2067 : (Jvm.Cond.code ({ cls := "SecretVault", name := "report", desc := "(II)I" } : Jvm.MethodName) prog_1_method_62_code (5 : Nat) (Option.some Jvm.ClassFile.FieldType.int)) ∈ lw_all := lw_g (lw_at lw_m9 81 rfl) rfl
theorem q2068 : (Jvm.Cond.methodLink "SecretVault" (388 : Nat) ({ cls := "SecretVault", name := "levels", desc := "()I" } : Jvm.MethodName)) ∈ lw_all := lw_g (lw_at lw_m9 82 rfl) rfl
theorem q2069 : (Jvm.Cond.classLink "SecretVault" (391 : Nat) "SecretVault$Failure") ∈ lw_all := lw_g (lw_at lw_m9 83 rfl) rfl
theorem q2074 : (Jvm.Cond.instanceMethod ({ cls := "SecretVault", name := "event", desc := "(I)I" } : Jvm.MethodName)) ∈ lw_all := lw_g (lw_at lw_m9 88 rfl) rfl
theorem q2075 : (Jvm.Cond.selects "SecretVault" ({ cls := "SecretVault", name := "event", desc := "(I)I" } : Jvm.MethodName) ({ cls := "SecretVault", name := "event", desc := "(I)I" } : Jvm.MethodName)) ∈ lw_all := lw_g (lw_at lw_m9 89 rfl) rfl
theorem q2076 : (Jvm.Cond.code ({ cls := "SecretVault", name := "event", desc := "(I)I" } : Jvm.MethodName) prog_1_method_63_code (6 : Nat) (Option.some Jvm.ClassFile.FieldType.int)) ∈ lw_all := lw_g (lw_at lw_m9 90 rfl) rfl
theorem q2077 : (Jvm.Cond.methodLink "SecretVault" (403 : Nat) ({ cls := "java/util/ArrayDeque", name := "size", desc := "()I" } : Jvm.MethodName)) ∈ lw_all := lw_g (lw_at lw_m9 91 rfl) rfl
theorem q2078 : (Jvm.Cond.methodLink "SecretVault" (406 : Nat) ({ cls := "java/util/ArrayDeque", name := "iterator", desc := "()Ljava/util/Iterator;" } : Jvm.MethodName)) ∈ lw_all := lw_g (lw_at lw_m9 92 rfl) rfl
theorem q2079 : (Jvm.Cond.interfaceEntry "SecretVault" (410 : Nat)) ∈ lw_tbl := lw_at lw_m9 93 rfl
theorem q2080 : (Jvm.Cond.methodLink "SecretVault" (410 : Nat) ({ cls := "java/util/Iterator", name := "hasNext", desc := "()Z" } : Jvm.MethodName)) ∈ lw_all := lw_g (lw_at lw_m9 94 rfl) rfl
theorem q2081 : (Jvm.Cond.interfaceEntry "SecretVault" (416 : Nat)) ∈ lw_tbl := lw_at lw_m9 95 rfl
theorem q2082 : (Jvm.Cond.methodLink "SecretVault" (416 : Nat) ({ cls := "java/util/Iterator", name := "next", desc := "()Ljava/lang/Object;" } : Jvm.MethodName)) ∈ lw_all := lw_g (lw_at lw_m9 96 rfl) rfl
theorem q2083 : (Jvm.Cond.classLink "SecretVault" (420 : Nat) "java/lang/Integer") ∈ lw_all := lw_g (lw_at lw_m9 97 rfl) rfl
theorem q2084 : (Jvm.Cond.methodLink "SecretVault" (422 : Nat) ({ cls := "java/lang/Integer", name := "intValue", desc := "()I" } : Jvm.MethodName)) ∈ lw_all := lw_g (lw_at lw_m9 98 rfl) rfl
theorem q2089 : (Jvm.Cond.instanceMethod ({ cls := "SecretVault", name := "restore", desc := "()I" } : Jvm.MethodName)) ∈ lw_all := lw_g (lw_at lw_m9 103 rfl) rfl
theorem q2090 : (Jvm.Cond.selects "SecretVault" ({ cls := "SecretVault", name := "restore", desc := "()I" } : Jvm.MethodName) ({ cls := "SecretVault", name := "restore", desc := "()I" } : Jvm.MethodName)) ∈ lw_all := lw_g (lw_at lw_m9 104 rfl) rfl
theorem q2091 : (Jvm.Cond.code ({ cls := "SecretVault", name := "restore", desc := "()I" } : Jvm.MethodName) prog_1_method_66_code (1 : Nat) (Option.some Jvm.ClassFile.FieldType.int)) ∈ lw_all := lw_g (lw_at lw_m9 105 rfl) rfl
theorem q2566 : (Jvm.Cond.castable "SecretVault" "java/lang/Object") ∈ lw_tbl := lw_at lw_m11 100 rfl
theorem in_X1 : ∀ w ∈ wsX10, w ∈ lw_all := lw_in wsX10 [582, 584, 586, 588, 590] (by decide +kernel) (by decide +kernel)

/-! SecretVault$World -/
set_option maxRecDepth 100000
def RX2 : String := "SecretVault$World"
def TX2 : u_T := fun k => match k with
  | 0 => ("SecretVault$World", "weights", "[I", true)
  | 1 => ("SecretVault$World", "present", "[Z", true)
  | 2 => ("SecretVault$World", "secrets", "[LSecretVault$Secret;", true)
  | 3 => ("SecretVault$World", "events", "Ljava/util/ArrayDeque;", true)
  | _ => ("SecretVault$World", "z", "I", false)
def tyX2 : Nat → FieldType := fun k => match k with
  | 0 => .array .int
  | 1 => .array .boolean
  | 2 => .array (.object "SecretVault$Secret")
  | 3 => .object "java/util/ArrayDeque"
  | _ => .int
abbrev wsX20 : List Cond := u_ws RX2 TX2 5
theorem nmX2 : ∀ a, a < 5 → ∀ b, b < 5 → a ≠ b → (TX2 a).2.1 ≠ (TX2 b).2.1 := by decide +kernel
theorem tyX2_ok : ∀ k, k < 5 → parseFieldDescriptor (TX2 k).2.2.1 = some (tyX2 k) := by decide +kernel
abbrev cX2_init : ByteArray := prog_24_method_1_code
def yX2_init : MethodName := ⟨RX2, "<init>", "()V"⟩
def dkwX2_init_2 : List UInt8 := [180, 0, 9, 4, 184, 0, 36, 42, 180, 0, 15, 4, 184, 0, 42, 177]
abbrev dktX2_init_2 : List UInt8 := dkwX2_init_2 ++ []
def dkwX2_init_1 : List UInt8 := [189, 0, 19, 181, 0, 21, 42, 187, 0, 25, 89, 183, 0, 27, 181, 0, 28, 42, 4, 181, 0, 32, 42]
abbrev dktX2_init_1 : List UInt8 := dkwX2_init_1 ++ dktX2_init_2
def dkwX2_init_0 : List UInt8 := [42, 183, 0, 3, 42, 16, 8, 188, 10, 181, 0, 9, 42, 16, 8, 188, 4, 181, 0, 15, 42, 7]
abbrev dktX2_init_0 : List UInt8 := dkwX2_init_0 ++ dktX2_init_1
theorem dksX2_init_0 : cX2_init.data.toList.drop 0 = dktX2_init_0 := by decide +kernel
theorem dksX2_init_1 : cX2_init.data.toList.drop 22 = dktX2_init_1 := dk_seg dksX2_init_0 22 rfl rfl
theorem dksX2_init_2 : cX2_init.data.toList.drop 45 = dktX2_init_2 := dk_seg dksX2_init_1 23 rfl rfl
theorem dX2_init_0 : decode cX2_init 0 = .ok (.aload_n 0, 1) := dk_42 (dk_at dksX2_init_0 0 rfl rfl)
theorem dX2_init_1 : decode cX2_init 1 = .ok (.invokespecial 3, 3) := dk_183 0 3 (dk_at dksX2_init_0 1 rfl rfl)
theorem dX2_init_4 : decode cX2_init 4 = .ok (.aload_n 0, 1) := dk_42 (dk_at dksX2_init_0 4 rfl rfl)
theorem dX2_init_5 : decode cX2_init 5 = .ok (.bipush 8, 2) := dk_16 8 (dk_at dksX2_init_0 5 rfl rfl)
theorem dX2_init_7 : decode cX2_init 7 = .ok (.newarray .int, 2) := dk_188_10 (dk_at dksX2_init_0 7 rfl rfl)
theorem dX2_init_9 : decode cX2_init 9 = .ok (.putfield 9, 3) := dk_181 0 9 (dk_at dksX2_init_0 9 rfl rfl)
theorem dX2_init_12 : decode cX2_init 12 = .ok (.aload_n 0, 1) := dk_42 (dk_at dksX2_init_0 12 rfl rfl)
theorem dX2_init_13 : decode cX2_init 13 = .ok (.bipush 8, 2) := dk_16 8 (dk_at dksX2_init_0 13 rfl rfl)
theorem dX2_init_15 : decode cX2_init 15 = .ok (.newarray .boolean, 2) := dk_188_4 (dk_at dksX2_init_0 15 rfl rfl)
theorem dX2_init_17 : decode cX2_init 17 = .ok (.putfield 15, 3) := dk_181 0 15 (dk_at dksX2_init_0 17 rfl rfl)
theorem dX2_init_20 : decode cX2_init 20 = .ok (.aload_n 0, 1) := dk_42 (dk_at dksX2_init_0 20 rfl rfl)
theorem dX2_init_21 : decode cX2_init 21 = .ok (.iconst 4, 1) := dk_7 (dk_at dksX2_init_0 21 rfl rfl)
theorem dX2_init_22 : decode cX2_init 22 = .ok (.anewarray 19, 3) := dk_189 0 19 (dk_at dksX2_init_1 0 rfl rfl)
theorem dX2_init_25 : decode cX2_init 25 = .ok (.putfield 21, 3) := dk_181 0 21 (dk_at dksX2_init_1 3 rfl rfl)
theorem dX2_init_28 : decode cX2_init 28 = .ok (.aload_n 0, 1) := dk_42 (dk_at dksX2_init_1 6 rfl rfl)
theorem dX2_init_29 : decode cX2_init 29 = .ok (.new 25, 3) := dk_187 0 25 (dk_at dksX2_init_1 7 rfl rfl)
theorem dX2_init_32 : decode cX2_init 32 = .ok (.dup, 1) := dk_89 (dk_at dksX2_init_1 10 rfl rfl)
theorem dX2_init_33 : decode cX2_init 33 = .ok (.invokespecial 27, 3) := dk_183 0 27 (dk_at dksX2_init_1 11 rfl rfl)
theorem dX2_init_36 : decode cX2_init 36 = .ok (.putfield 28, 3) := dk_181 0 28 (dk_at dksX2_init_1 14 rfl rfl)
theorem dX2_init_39 : decode cX2_init 39 = .ok (.aload_n 0, 1) := dk_42 (dk_at dksX2_init_1 17 rfl rfl)
theorem dX2_init_40 : decode cX2_init 40 = .ok (.iconst 1, 1) := dk_4 (dk_at dksX2_init_1 18 rfl rfl)
theorem dX2_init_41 : decode cX2_init 41 = .ok (.putfield 32, 3) := dk_181 0 32 (dk_at dksX2_init_1 19 rfl rfl)
theorem dX2_init_44 : decode cX2_init 44 = .ok (.aload_n 0, 1) := dk_42 (dk_at dksX2_init_1 22 rfl rfl)
theorem dX2_init_45 : decode cX2_init 45 = .ok (.getfield 9, 3) := dk_180 0 9 (dk_at dksX2_init_2 0 rfl rfl)
theorem dX2_init_48 : decode cX2_init 48 = .ok (.iconst 1, 1) := dk_4 (dk_at dksX2_init_2 3 rfl rfl)
theorem dX2_init_49 : decode cX2_init 49 = .ok (.invokestatic 36, 3) := dk_184 0 36 (dk_at dksX2_init_2 4 rfl rfl)
theorem dX2_init_52 : decode cX2_init 52 = .ok (.aload_n 0, 1) := dk_42 (dk_at dksX2_init_2 7 rfl rfl)
theorem dX2_init_53 : decode cX2_init 53 = .ok (.getfield 15, 3) := dk_180 0 15 (dk_at dksX2_init_2 8 rfl rfl)
theorem dX2_init_56 : decode cX2_init 56 = .ok (.iconst 1, 1) := dk_4 (dk_at dksX2_init_2 11 rfl rfl)
theorem dX2_init_57 : decode cX2_init 57 = .ok (.invokestatic 42, 3) := dk_184 0 42 (dk_at dksX2_init_2 12 rfl rfl)
theorem dX2_init_60 : decode cX2_init 60 = .ok (.return_, 1) := dk_177 (dk_at dksX2_init_2 15 rfl rfl)
abbrev cX2_draw : ByteArray := prog_24_method_3_code
def yX2_draw : MethodName := ⟨RX2, "draw", "()I"⟩
def dkwX2_draw_1 : List UInt8 := [17, 3, 251, 112, 172]
abbrev dktX2_draw_1 : List UInt8 := dkwX2_draw_1 ++ []
def dkwX2_draw_0 : List UInt8 := [42, 42, 180, 0, 32, 18, 84, 104, 17, 48, 57, 96, 181, 0, 32, 42, 180, 0, 32, 16, 16, 124]
abbrev dktX2_draw_0 : List UInt8 := dkwX2_draw_0 ++ dktX2_draw_1
theorem dksX2_draw_0 : cX2_draw.data.toList.drop 0 = dktX2_draw_0 := by decide +kernel
theorem dksX2_draw_1 : cX2_draw.data.toList.drop 22 = dktX2_draw_1 := dk_seg dksX2_draw_0 22 rfl rfl
theorem dX2_draw_0 : decode cX2_draw 0 = .ok (.aload_n 0, 1) := dk_42 (dk_at dksX2_draw_0 0 rfl rfl)
theorem dX2_draw_1 : decode cX2_draw 1 = .ok (.aload_n 0, 1) := dk_42 (dk_at dksX2_draw_0 1 rfl rfl)
theorem dX2_draw_2 : decode cX2_draw 2 = .ok (.getfield 32, 3) := dk_180 0 32 (dk_at dksX2_draw_0 2 rfl rfl)
theorem dX2_draw_5 : decode cX2_draw 5 = .ok (.ldc 84, 2) := dk_18 84 (dk_at dksX2_draw_0 5 rfl rfl)
theorem dX2_draw_7 : decode cX2_draw 7 = .ok (.imul, 1) := dk_104 (dk_at dksX2_draw_0 7 rfl rfl)
theorem dX2_draw_8 : decode cX2_draw 8 = .ok (.sipush 12345, 3) := dk_17 48 57 (dk_at dksX2_draw_0 8 rfl rfl)
theorem dX2_draw_11 : decode cX2_draw 11 = .ok (.iadd, 1) := dk_96 (dk_at dksX2_draw_0 11 rfl rfl)
theorem dX2_draw_12 : decode cX2_draw 12 = .ok (.putfield 32, 3) := dk_181 0 32 (dk_at dksX2_draw_0 12 rfl rfl)
theorem dX2_draw_15 : decode cX2_draw 15 = .ok (.aload_n 0, 1) := dk_42 (dk_at dksX2_draw_0 15 rfl rfl)
theorem dX2_draw_16 : decode cX2_draw 16 = .ok (.getfield 32, 3) := dk_180 0 32 (dk_at dksX2_draw_0 16 rfl rfl)
theorem dX2_draw_19 : decode cX2_draw 19 = .ok (.bipush 16, 2) := dk_16 16 (dk_at dksX2_draw_0 19 rfl rfl)
theorem dX2_draw_21 : decode cX2_draw 21 = .ok (.iushr, 1) := dk_124 (dk_at dksX2_draw_0 21 rfl rfl)
theorem dX2_draw_22 : decode cX2_draw 22 = .ok (.sipush 1019, 3) := dk_17 3 251 (dk_at dksX2_draw_1 0 rfl rfl)
theorem dX2_draw_25 : decode cX2_draw 25 = .ok (.irem, 1) := dk_112 (dk_at dksX2_draw_1 3 rfl rfl)
theorem dX2_draw_26 : decode cX2_draw 26 = .ok (.ireturn, 1) := dk_172 (dk_at dksX2_draw_1 4 rfl rfl)
abbrev cX2_copy : ByteArray := prog_24_method_2_code
def yX2_copy : MethodName := ⟨RX2, "copy", "()LSecretVault$World;"⟩
def dkwX2_copy_5 : List UInt8 := [182, 0, 80, 167, 255, 223, 43, 42, 180, 0, 32, 181, 0, 32, 43, 176]
abbrev dktX2_copy_5 : List UInt8 := dkwX2_copy_5 ++ []
def dkwX2_copy_4 : List UInt8 := [153, 0, 30, 44, 185, 0, 66, 1, 0, 192, 0, 70, 182, 0, 72, 62, 43, 180, 0, 28, 29, 184, 0, 76]
abbrev dktX2_copy_4 : List UInt8 := dkwX2_copy_4 ++ dktX2_copy_5
def dkwX2_copy_3 : List UInt8 := [182, 0, 52, 83, 132, 2, 1, 167, 255, 220, 42, 180, 0, 28, 182, 0, 56, 77, 44, 185, 0, 60, 1, 0]
abbrev dktX2_copy_3 : List UInt8 := dkwX2_copy_3 ++ dktX2_copy_4
def dkwX2_copy_2 : List UInt8 := [180, 0, 21, 28, 42, 180, 0, 21, 28, 50, 199, 0, 7, 1, 167, 0, 12, 42, 180, 0, 21, 28, 50]
abbrev dktX2_copy_2 : List UInt8 := dkwX2_copy_2 ++ dktX2_copy_3
def dkwX2_copy_1 : List UInt8 := [180, 0, 15, 3, 43, 180, 0, 15, 3, 16, 8, 184, 0, 46, 3, 61, 28, 7, 162, 0, 37, 43]
abbrev dktX2_copy_1 : List UInt8 := dkwX2_copy_1 ++ dktX2_copy_2
def dkwX2_copy_0 : List UInt8 := [187, 0, 10, 89, 183, 0, 45, 76, 42, 180, 0, 9, 3, 43, 180, 0, 9, 3, 16, 8, 184, 0, 46, 42]
abbrev dktX2_copy_0 : List UInt8 := dkwX2_copy_0 ++ dktX2_copy_1
theorem dksX2_copy_0 : cX2_copy.data.toList.drop 0 = dktX2_copy_0 := by decide +kernel
theorem dksX2_copy_1 : cX2_copy.data.toList.drop 24 = dktX2_copy_1 := dk_seg dksX2_copy_0 24 rfl rfl
theorem dksX2_copy_2 : cX2_copy.data.toList.drop 46 = dktX2_copy_2 := dk_seg dksX2_copy_1 22 rfl rfl
theorem dksX2_copy_3 : cX2_copy.data.toList.drop 69 = dktX2_copy_3 := dk_seg dksX2_copy_2 23 rfl rfl
theorem dksX2_copy_4 : cX2_copy.data.toList.drop 93 = dktX2_copy_4 := dk_seg dksX2_copy_3 24 rfl rfl
theorem dksX2_copy_5 : cX2_copy.data.toList.drop 117 = dktX2_copy_5 := dk_seg dksX2_copy_4 24 rfl rfl
theorem dX2_copy_0 : decode cX2_copy 0 = .ok (.new 10, 3) := dk_187 0 10 (dk_at dksX2_copy_0 0 rfl rfl)
theorem dX2_copy_3 : decode cX2_copy 3 = .ok (.dup, 1) := dk_89 (dk_at dksX2_copy_0 3 rfl rfl)
theorem dX2_copy_4 : decode cX2_copy 4 = .ok (.invokespecial 45, 3) := dk_183 0 45 (dk_at dksX2_copy_0 4 rfl rfl)
theorem dX2_copy_7 : decode cX2_copy 7 = .ok (.astore_n 1, 1) := dk_76 (dk_at dksX2_copy_0 7 rfl rfl)
theorem dX2_copy_8 : decode cX2_copy 8 = .ok (.aload_n 0, 1) := dk_42 (dk_at dksX2_copy_0 8 rfl rfl)
theorem dX2_copy_9 : decode cX2_copy 9 = .ok (.getfield 9, 3) := dk_180 0 9 (dk_at dksX2_copy_0 9 rfl rfl)
theorem dX2_copy_12 : decode cX2_copy 12 = .ok (.iconst 0, 1) := dk_3 (dk_at dksX2_copy_0 12 rfl rfl)
theorem dX2_copy_13 : decode cX2_copy 13 = .ok (.aload_n 1, 1) := dk_43 (dk_at dksX2_copy_0 13 rfl rfl)
theorem dX2_copy_14 : decode cX2_copy 14 = .ok (.getfield 9, 3) := dk_180 0 9 (dk_at dksX2_copy_0 14 rfl rfl)
theorem dX2_copy_17 : decode cX2_copy 17 = .ok (.iconst 0, 1) := dk_3 (dk_at dksX2_copy_0 17 rfl rfl)
theorem dX2_copy_18 : decode cX2_copy 18 = .ok (.bipush 8, 2) := dk_16 8 (dk_at dksX2_copy_0 18 rfl rfl)
theorem dX2_copy_20 : decode cX2_copy 20 = .ok (.invokestatic 46, 3) := dk_184 0 46 (dk_at dksX2_copy_0 20 rfl rfl)
theorem dX2_copy_23 : decode cX2_copy 23 = .ok (.aload_n 0, 1) := dk_42 (dk_at dksX2_copy_0 23 rfl rfl)
theorem dX2_copy_24 : decode cX2_copy 24 = .ok (.getfield 15, 3) := dk_180 0 15 (dk_at dksX2_copy_1 0 rfl rfl)
theorem dX2_copy_27 : decode cX2_copy 27 = .ok (.iconst 0, 1) := dk_3 (dk_at dksX2_copy_1 3 rfl rfl)
theorem dX2_copy_28 : decode cX2_copy 28 = .ok (.aload_n 1, 1) := dk_43 (dk_at dksX2_copy_1 4 rfl rfl)
theorem dX2_copy_29 : decode cX2_copy 29 = .ok (.getfield 15, 3) := dk_180 0 15 (dk_at dksX2_copy_1 5 rfl rfl)
theorem dX2_copy_32 : decode cX2_copy 32 = .ok (.iconst 0, 1) := dk_3 (dk_at dksX2_copy_1 8 rfl rfl)
theorem dX2_copy_33 : decode cX2_copy 33 = .ok (.bipush 8, 2) := dk_16 8 (dk_at dksX2_copy_1 9 rfl rfl)
theorem dX2_copy_35 : decode cX2_copy 35 = .ok (.invokestatic 46, 3) := dk_184 0 46 (dk_at dksX2_copy_1 11 rfl rfl)
theorem dX2_copy_38 : decode cX2_copy 38 = .ok (.iconst 0, 1) := dk_3 (dk_at dksX2_copy_1 14 rfl rfl)
theorem dX2_copy_39 : decode cX2_copy 39 = .ok (.istore_n 2, 1) := dk_61 (dk_at dksX2_copy_1 15 rfl rfl)
theorem dX2_copy_40 : decode cX2_copy 40 = .ok (.iload_n 2, 1) := dk_28 (dk_at dksX2_copy_1 16 rfl rfl)
theorem dX2_copy_41 : decode cX2_copy 41 = .ok (.iconst 4, 1) := dk_7 (dk_at dksX2_copy_1 17 rfl rfl)
theorem dX2_copy_42 : decode cX2_copy 42 = .ok (.if_icmp .ge 37, 3) := dk_162 0 37 (dk_at dksX2_copy_1 18 rfl rfl)
theorem dX2_copy_45 : decode cX2_copy 45 = .ok (.aload_n 1, 1) := dk_43 (dk_at dksX2_copy_1 21 rfl rfl)
theorem dX2_copy_46 : decode cX2_copy 46 = .ok (.getfield 21, 3) := dk_180 0 21 (dk_at dksX2_copy_2 0 rfl rfl)
theorem dX2_copy_49 : decode cX2_copy 49 = .ok (.iload_n 2, 1) := dk_28 (dk_at dksX2_copy_2 3 rfl rfl)
theorem dX2_copy_50 : decode cX2_copy 50 = .ok (.aload_n 0, 1) := dk_42 (dk_at dksX2_copy_2 4 rfl rfl)
theorem dX2_copy_51 : decode cX2_copy 51 = .ok (.getfield 21, 3) := dk_180 0 21 (dk_at dksX2_copy_2 5 rfl rfl)
theorem dX2_copy_54 : decode cX2_copy 54 = .ok (.iload_n 2, 1) := dk_28 (dk_at dksX2_copy_2 8 rfl rfl)
theorem dX2_copy_55 : decode cX2_copy 55 = .ok (.aaload, 1) := dk_50 (dk_at dksX2_copy_2 9 rfl rfl)
theorem dX2_copy_56 : decode cX2_copy 56 = .ok (.ifnonnull 7, 3) := dk_199 0 7 (dk_at dksX2_copy_2 10 rfl rfl)
theorem dX2_copy_59 : decode cX2_copy 59 = .ok (.aconst_null, 1) := dk_1 (dk_at dksX2_copy_2 13 rfl rfl)
theorem dX2_copy_60 : decode cX2_copy 60 = .ok (.goto 12, 3) := dk_167 0 12 (dk_at dksX2_copy_2 14 rfl rfl)
theorem dX2_copy_63 : decode cX2_copy 63 = .ok (.aload_n 0, 1) := dk_42 (dk_at dksX2_copy_2 17 rfl rfl)
theorem dX2_copy_64 : decode cX2_copy 64 = .ok (.getfield 21, 3) := dk_180 0 21 (dk_at dksX2_copy_2 18 rfl rfl)
theorem dX2_copy_67 : decode cX2_copy 67 = .ok (.iload_n 2, 1) := dk_28 (dk_at dksX2_copy_2 21 rfl rfl)
theorem dX2_copy_68 : decode cX2_copy 68 = .ok (.aaload, 1) := dk_50 (dk_at dksX2_copy_2 22 rfl rfl)
theorem dX2_copy_69 : decode cX2_copy 69 = .ok (.invokevirtual 52, 3) := dk_182 0 52 (dk_at dksX2_copy_3 0 rfl rfl)
theorem dX2_copy_72 : decode cX2_copy 72 = .ok (.aastore, 1) := dk_83 (dk_at dksX2_copy_3 3 rfl rfl)
theorem dX2_copy_73 : decode cX2_copy 73 = .ok (.iinc 2 1, 3) := dk_132 2 1 (dk_at dksX2_copy_3 4 rfl rfl)
theorem dX2_copy_76 : decode cX2_copy 76 = .ok (.goto (-36), 3) := dk_167 255 220 (dk_at dksX2_copy_3 7 rfl rfl)
theorem dX2_copy_79 : decode cX2_copy 79 = .ok (.aload_n 0, 1) := dk_42 (dk_at dksX2_copy_3 10 rfl rfl)
theorem dX2_copy_80 : decode cX2_copy 80 = .ok (.getfield 28, 3) := dk_180 0 28 (dk_at dksX2_copy_3 11 rfl rfl)
theorem dX2_copy_83 : decode cX2_copy 83 = .ok (.invokevirtual 56, 3) := dk_182 0 56 (dk_at dksX2_copy_3 14 rfl rfl)
theorem dX2_copy_86 : decode cX2_copy 86 = .ok (.astore_n 2, 1) := dk_77 (dk_at dksX2_copy_3 17 rfl rfl)
theorem dX2_copy_87 : decode cX2_copy 87 = .ok (.aload_n 2, 1) := dk_44 (dk_at dksX2_copy_3 18 rfl rfl)
theorem dX2_copy_88 : decode cX2_copy 88 = .ok (.invokeinterface 60 1, 5) := by decide +kernel
theorem dX2_copy_93 : decode cX2_copy 93 = .ok (.ifCond .eq 30, 3) := dk_153 0 30 (dk_at dksX2_copy_4 0 rfl rfl)
theorem dX2_copy_96 : decode cX2_copy 96 = .ok (.aload_n 2, 1) := dk_44 (dk_at dksX2_copy_4 3 rfl rfl)
theorem dX2_copy_97 : decode cX2_copy 97 = .ok (.invokeinterface 66 1, 5) := by decide +kernel
theorem dX2_copy_102 : decode cX2_copy 102 = .ok (.checkcast 70, 3) := dk_192 0 70 (dk_at dksX2_copy_4 9 rfl rfl)
theorem dX2_copy_105 : decode cX2_copy 105 = .ok (.invokevirtual 72, 3) := dk_182 0 72 (dk_at dksX2_copy_4 12 rfl rfl)
theorem dX2_copy_108 : decode cX2_copy 108 = .ok (.istore_n 3, 1) := dk_62 (dk_at dksX2_copy_4 15 rfl rfl)
theorem dX2_copy_109 : decode cX2_copy 109 = .ok (.aload_n 1, 1) := dk_43 (dk_at dksX2_copy_4 16 rfl rfl)
theorem dX2_copy_110 : decode cX2_copy 110 = .ok (.getfield 28, 3) := dk_180 0 28 (dk_at dksX2_copy_4 17 rfl rfl)
theorem dX2_copy_113 : decode cX2_copy 113 = .ok (.iload_n 3, 1) := dk_29 (dk_at dksX2_copy_4 20 rfl rfl)
theorem dX2_copy_114 : decode cX2_copy 114 = .ok (.invokestatic 76, 3) := dk_184 0 76 (dk_at dksX2_copy_4 21 rfl rfl)
theorem dX2_copy_117 : decode cX2_copy 117 = .ok (.invokevirtual 80, 3) := dk_182 0 80 (dk_at dksX2_copy_5 0 rfl rfl)
theorem dX2_copy_120 : decode cX2_copy 120 = .ok (.goto (-33), 3) := dk_167 255 223 (dk_at dksX2_copy_5 3 rfl rfl)
theorem dX2_copy_123 : decode cX2_copy 123 = .ok (.aload_n 1, 1) := dk_43 (dk_at dksX2_copy_5 6 rfl rfl)
theorem dX2_copy_124 : decode cX2_copy 124 = .ok (.aload_n 0, 1) := dk_42 (dk_at dksX2_copy_5 7 rfl rfl)
theorem dX2_copy_125 : decode cX2_copy 125 = .ok (.getfield 32, 3) := dk_180 0 32 (dk_at dksX2_copy_5 8 rfl rfl)
theorem dX2_copy_128 : decode cX2_copy 128 = .ok (.putfield 32, 3) := dk_181 0 32 (dk_at dksX2_copy_5 11 rfl rfl)
theorem dX2_copy_131 : decode cX2_copy 131 = .ok (.aload_n 1, 1) := dk_43 (dk_at dksX2_copy_5 14 rfl rfl)
theorem dX2_copy_132 : decode cX2_copy 132 = .ok (.areturn, 1) := dk_176 (dk_at dksX2_copy_5 15 rfl rfl)
abbrev cX2_usedPlaces : ByteArray := prog_24_method_7_code
def yX2_usedPlaces : MethodName := ⟨RX2, "usedPlaces", "()I"⟩
def dkwX2_usedPlaces_1 : List UInt8 := [28, 182, 0, 98, 153, 0, 7, 4, 167, 0, 4, 3, 96, 60, 132, 2, 1, 167, 255, 219, 27, 172]
abbrev dktX2_usedPlaces_1 : List UInt8 := dkwX2_usedPlaces_1 ++ []
def dkwX2_usedPlaces_0 : List UInt8 := [3, 60, 4, 61, 28, 16, 24, 163, 0, 37, 27, 42, 180, 0, 15, 28, 184, 0, 91, 51, 153, 0, 15, 42]
abbrev dktX2_usedPlaces_0 : List UInt8 := dkwX2_usedPlaces_0 ++ dktX2_usedPlaces_1
theorem dksX2_usedPlaces_0 : cX2_usedPlaces.data.toList.drop 0 = dktX2_usedPlaces_0 := by decide +kernel
theorem dksX2_usedPlaces_1 : cX2_usedPlaces.data.toList.drop 24 = dktX2_usedPlaces_1 := dk_seg dksX2_usedPlaces_0 24 rfl rfl
theorem dX2_usedPlaces_0 : decode cX2_usedPlaces 0 = .ok (.iconst 0, 1) := dk_3 (dk_at dksX2_usedPlaces_0 0 rfl rfl)
theorem dX2_usedPlaces_1 : decode cX2_usedPlaces 1 = .ok (.istore_n 1, 1) := dk_60 (dk_at dksX2_usedPlaces_0 1 rfl rfl)
theorem dX2_usedPlaces_2 : decode cX2_usedPlaces 2 = .ok (.iconst 1, 1) := dk_4 (dk_at dksX2_usedPlaces_0 2 rfl rfl)
theorem dX2_usedPlaces_3 : decode cX2_usedPlaces 3 = .ok (.istore_n 2, 1) := dk_61 (dk_at dksX2_usedPlaces_0 3 rfl rfl)
theorem dX2_usedPlaces_4 : decode cX2_usedPlaces 4 = .ok (.iload_n 2, 1) := dk_28 (dk_at dksX2_usedPlaces_0 4 rfl rfl)
theorem dX2_usedPlaces_5 : decode cX2_usedPlaces 5 = .ok (.bipush 24, 2) := dk_16 24 (dk_at dksX2_usedPlaces_0 5 rfl rfl)
theorem dX2_usedPlaces_7 : decode cX2_usedPlaces 7 = .ok (.if_icmp .gt 37, 3) := dk_163 0 37 (dk_at dksX2_usedPlaces_0 7 rfl rfl)
theorem dX2_usedPlaces_10 : decode cX2_usedPlaces 10 = .ok (.iload_n 1, 1) := dk_27 (dk_at dksX2_usedPlaces_0 10 rfl rfl)
theorem dX2_usedPlaces_11 : decode cX2_usedPlaces 11 = .ok (.aload_n 0, 1) := dk_42 (dk_at dksX2_usedPlaces_0 11 rfl rfl)
theorem dX2_usedPlaces_12 : decode cX2_usedPlaces 12 = .ok (.getfield 15, 3) := dk_180 0 15 (dk_at dksX2_usedPlaces_0 12 rfl rfl)
theorem dX2_usedPlaces_15 : decode cX2_usedPlaces 15 = .ok (.iload_n 2, 1) := dk_28 (dk_at dksX2_usedPlaces_0 15 rfl rfl)
theorem dX2_usedPlaces_16 : decode cX2_usedPlaces 16 = .ok (.invokestatic 91, 3) := dk_184 0 91 (dk_at dksX2_usedPlaces_0 16 rfl rfl)
theorem dX2_usedPlaces_19 : decode cX2_usedPlaces 19 = .ok (.baload, 1) := dk_51 (dk_at dksX2_usedPlaces_0 19 rfl rfl)
theorem dX2_usedPlaces_20 : decode cX2_usedPlaces 20 = .ok (.ifCond .eq 15, 3) := dk_153 0 15 (dk_at dksX2_usedPlaces_0 20 rfl rfl)
theorem dX2_usedPlaces_23 : decode cX2_usedPlaces 23 = .ok (.aload_n 0, 1) := dk_42 (dk_at dksX2_usedPlaces_0 23 rfl rfl)
theorem dX2_usedPlaces_24 : decode cX2_usedPlaces 24 = .ok (.iload_n 2, 1) := dk_28 (dk_at dksX2_usedPlaces_1 0 rfl rfl)
theorem dX2_usedPlaces_25 : decode cX2_usedPlaces 25 = .ok (.invokevirtual 98, 3) := dk_182 0 98 (dk_at dksX2_usedPlaces_1 1 rfl rfl)
theorem dX2_usedPlaces_28 : decode cX2_usedPlaces 28 = .ok (.ifCond .eq 7, 3) := dk_153 0 7 (dk_at dksX2_usedPlaces_1 4 rfl rfl)
theorem dX2_usedPlaces_31 : decode cX2_usedPlaces 31 = .ok (.iconst 1, 1) := dk_4 (dk_at dksX2_usedPlaces_1 7 rfl rfl)
theorem dX2_usedPlaces_32 : decode cX2_usedPlaces 32 = .ok (.goto 4, 3) := dk_167 0 4 (dk_at dksX2_usedPlaces_1 8 rfl rfl)
theorem dX2_usedPlaces_35 : decode cX2_usedPlaces 35 = .ok (.iconst 0, 1) := dk_3 (dk_at dksX2_usedPlaces_1 11 rfl rfl)
theorem dX2_usedPlaces_36 : decode cX2_usedPlaces 36 = .ok (.iadd, 1) := dk_96 (dk_at dksX2_usedPlaces_1 12 rfl rfl)
theorem dX2_usedPlaces_37 : decode cX2_usedPlaces 37 = .ok (.istore_n 1, 1) := dk_60 (dk_at dksX2_usedPlaces_1 13 rfl rfl)
theorem dX2_usedPlaces_38 : decode cX2_usedPlaces 38 = .ok (.iinc 2 1, 3) := dk_132 2 1 (dk_at dksX2_usedPlaces_1 14 rfl rfl)
theorem dX2_usedPlaces_41 : decode cX2_usedPlaces 41 = .ok (.goto (-37), 3) := dk_167 255 219 (dk_at dksX2_usedPlaces_1 17 rfl rfl)
theorem dX2_usedPlaces_44 : decode cX2_usedPlaces 44 = .ok (.iload_n 1, 1) := dk_27 (dk_at dksX2_usedPlaces_1 20 rfl rfl)
theorem dX2_usedPlaces_45 : decode cX2_usedPlaces 45 = .ok (.ireturn, 1) := dk_172 (dk_at dksX2_usedPlaces_1 21 rfl rfl)
abbrev cX2_isUsed : ByteArray := prog_24_method_6_code
def yX2_isUsed : MethodName := ⟨RX2, "isUsed", "(I)Z"⟩
def dkwX2_isUsed_1 : List UInt8 := [3, 172]
abbrev dktX2_isUsed_1 : List UInt8 := dkwX2_isUsed_1 ++ []
def dkwX2_isUsed_0 : List UInt8 := [27, 184, 0, 91, 61, 27, 28, 184, 0, 95, 100, 42, 180, 0, 9, 28, 46, 162, 0, 7, 4, 167, 0, 4]
abbrev dktX2_isUsed_0 : List UInt8 := dkwX2_isUsed_0 ++ dktX2_isUsed_1
theorem dksX2_isUsed_0 : cX2_isUsed.data.toList.drop 0 = dktX2_isUsed_0 := by decide +kernel
theorem dksX2_isUsed_1 : cX2_isUsed.data.toList.drop 24 = dktX2_isUsed_1 := dk_seg dksX2_isUsed_0 24 rfl rfl
theorem dX2_isUsed_0 : decode cX2_isUsed 0 = .ok (.iload_n 1, 1) := dk_27 (dk_at dksX2_isUsed_0 0 rfl rfl)
theorem dX2_isUsed_1 : decode cX2_isUsed 1 = .ok (.invokestatic 91, 3) := dk_184 0 91 (dk_at dksX2_isUsed_0 1 rfl rfl)
theorem dX2_isUsed_4 : decode cX2_isUsed 4 = .ok (.istore_n 2, 1) := dk_61 (dk_at dksX2_isUsed_0 4 rfl rfl)
theorem dX2_isUsed_5 : decode cX2_isUsed 5 = .ok (.iload_n 1, 1) := dk_27 (dk_at dksX2_isUsed_0 5 rfl rfl)
theorem dX2_isUsed_6 : decode cX2_isUsed 6 = .ok (.iload_n 2, 1) := dk_28 (dk_at dksX2_isUsed_0 6 rfl rfl)
theorem dX2_isUsed_7 : decode cX2_isUsed 7 = .ok (.invokestatic 95, 3) := dk_184 0 95 (dk_at dksX2_isUsed_0 7 rfl rfl)
theorem dX2_isUsed_10 : decode cX2_isUsed 10 = .ok (.isub, 1) := dk_100 (dk_at dksX2_isUsed_0 10 rfl rfl)
theorem dX2_isUsed_11 : decode cX2_isUsed 11 = .ok (.aload_n 0, 1) := dk_42 (dk_at dksX2_isUsed_0 11 rfl rfl)
theorem dX2_isUsed_12 : decode cX2_isUsed 12 = .ok (.getfield 9, 3) := dk_180 0 9 (dk_at dksX2_isUsed_0 12 rfl rfl)
theorem dX2_isUsed_15 : decode cX2_isUsed 15 = .ok (.iload_n 2, 1) := dk_28 (dk_at dksX2_isUsed_0 15 rfl rfl)
theorem dX2_isUsed_16 : decode cX2_isUsed 16 = .ok (.iaload, 1) := dk_46 (dk_at dksX2_isUsed_0 16 rfl rfl)
theorem dX2_isUsed_17 : decode cX2_isUsed 17 = .ok (.if_icmp .ge 7, 3) := dk_162 0 7 (dk_at dksX2_isUsed_0 17 rfl rfl)
theorem dX2_isUsed_20 : decode cX2_isUsed 20 = .ok (.iconst 1, 1) := dk_4 (dk_at dksX2_isUsed_0 20 rfl rfl)
theorem dX2_isUsed_21 : decode cX2_isUsed 21 = .ok (.goto 4, 3) := dk_167 0 4 (dk_at dksX2_isUsed_0 21 rfl rfl)
theorem dX2_isUsed_24 : decode cX2_isUsed 24 = .ok (.iconst 0, 1) := dk_3 (dk_at dksX2_isUsed_1 0 rfl rfl)
theorem dX2_isUsed_25 : decode cX2_isUsed 25 = .ok (.ireturn, 1) := dk_172 (dk_at dksX2_isUsed_1 1 rfl rfl)
abbrev cX2_deal : ByteArray := prog_24_method_9_code
def yX2_deal : MethodName := ⟨RX2, "deal", "(LSecretVault$Secret;II)V"⟩
def dkwX2_deal_6 : List UInt8 := [132, 5, 1, 167, 255, 181, 177]
abbrev dktX2_deal_6 : List UInt8 := dkwX2_deal_6 ++ []
def dkwX2_deal_5 : List UInt8 := [89, 21, 5, 25, 4, 21, 5, 184, 0, 128, 43, 180, 0, 112, 183, 0, 132, 167, 0, 4, 1, 83]
abbrev dktX2_deal_5 : List UInt8 := dkwX2_deal_5 ++ dktX2_deal_6
def dkwX2_deal_4 : List UInt8 := [153, 0, 7, 4, 167, 0, 4, 3, 54, 6, 43, 180, 0, 122, 21, 5, 21, 6, 153, 0, 26, 187, 0, 126]
abbrev dktX2_deal_4 : List UInt8 := dkwX2_deal_4 ++ dktX2_deal_5
def dkwX2_deal_3 : List UInt8 := [163, 0, 74, 42, 180, 0, 15, 21, 5, 184, 0, 91, 51, 153, 0, 16, 42, 21, 5, 182, 0, 98]
abbrev dktX2_deal_3 : List UInt8 := dkwX2_deal_3 ++ dktX2_deal_4
def dkwX2_deal_2 : List UInt8 := [21, 5, 46, 17, 7, 247, 184, 0, 118, 79, 132, 5, 1, 167, 255, 228, 4, 54, 5, 21, 5, 16, 24]
abbrev dktX2_deal_2 : List UInt8 := dkwX2_deal_2 ++ dktX2_deal_3
def dkwX2_deal_1 : List UInt8 := [29, 188, 10, 181, 0, 115, 3, 54, 5, 21, 5, 29, 162, 0, 28, 43, 180, 0, 115, 21, 5, 7, 25, 4]
abbrev dktX2_deal_1 : List UInt8 := dkwX2_deal_1 ++ dktX2_deal_2
def dkwX2_deal_0 : List UInt8 := [42, 28, 29, 182, 0, 105, 58, 4, 43, 29, 181, 0, 109, 43, 89, 180, 0, 112, 4, 96, 181, 0, 112, 43]
abbrev dktX2_deal_0 : List UInt8 := dkwX2_deal_0 ++ dktX2_deal_1
theorem dksX2_deal_0 : cX2_deal.data.toList.drop 0 = dktX2_deal_0 := by decide +kernel
theorem dksX2_deal_1 : cX2_deal.data.toList.drop 24 = dktX2_deal_1 := dk_seg dksX2_deal_0 24 rfl rfl
theorem dksX2_deal_2 : cX2_deal.data.toList.drop 48 = dktX2_deal_2 := dk_seg dksX2_deal_1 24 rfl rfl
theorem dksX2_deal_3 : cX2_deal.data.toList.drop 71 = dktX2_deal_3 := dk_seg dksX2_deal_2 23 rfl rfl
theorem dksX2_deal_4 : cX2_deal.data.toList.drop 93 = dktX2_deal_4 := dk_seg dksX2_deal_3 22 rfl rfl
theorem dksX2_deal_5 : cX2_deal.data.toList.drop 117 = dktX2_deal_5 := dk_seg dksX2_deal_4 24 rfl rfl
theorem dksX2_deal_6 : cX2_deal.data.toList.drop 139 = dktX2_deal_6 := dk_seg dksX2_deal_5 22 rfl rfl
theorem dX2_deal_0 : decode cX2_deal 0 = .ok (.aload_n 0, 1) := dk_42 (dk_at dksX2_deal_0 0 rfl rfl)
theorem dX2_deal_1 : decode cX2_deal 1 = .ok (.iload_n 2, 1) := dk_28 (dk_at dksX2_deal_0 1 rfl rfl)
theorem dX2_deal_2 : decode cX2_deal 2 = .ok (.iload_n 3, 1) := dk_29 (dk_at dksX2_deal_0 2 rfl rfl)
theorem dX2_deal_3 : decode cX2_deal 3 = .ok (.invokevirtual 105, 3) := dk_182 0 105 (dk_at dksX2_deal_0 3 rfl rfl)
theorem dX2_deal_6 : decode cX2_deal 6 = .ok (.astore 4, 2) := dk_58 4 (dk_at dksX2_deal_0 6 rfl rfl)
theorem dX2_deal_8 : decode cX2_deal 8 = .ok (.aload_n 1, 1) := dk_43 (dk_at dksX2_deal_0 8 rfl rfl)
theorem dX2_deal_9 : decode cX2_deal 9 = .ok (.iload_n 3, 1) := dk_29 (dk_at dksX2_deal_0 9 rfl rfl)
theorem dX2_deal_10 : decode cX2_deal 10 = .ok (.putfield 109, 3) := dk_181 0 109 (dk_at dksX2_deal_0 10 rfl rfl)
theorem dX2_deal_13 : decode cX2_deal 13 = .ok (.aload_n 1, 1) := dk_43 (dk_at dksX2_deal_0 13 rfl rfl)
theorem dX2_deal_14 : decode cX2_deal 14 = .ok (.dup, 1) := dk_89 (dk_at dksX2_deal_0 14 rfl rfl)
theorem dX2_deal_15 : decode cX2_deal 15 = .ok (.getfield 112, 3) := dk_180 0 112 (dk_at dksX2_deal_0 15 rfl rfl)
theorem dX2_deal_18 : decode cX2_deal 18 = .ok (.iconst 1, 1) := dk_4 (dk_at dksX2_deal_0 18 rfl rfl)
theorem dX2_deal_19 : decode cX2_deal 19 = .ok (.iadd, 1) := dk_96 (dk_at dksX2_deal_0 19 rfl rfl)
theorem dX2_deal_20 : decode cX2_deal 20 = .ok (.putfield 112, 3) := dk_181 0 112 (dk_at dksX2_deal_0 20 rfl rfl)
theorem dX2_deal_23 : decode cX2_deal 23 = .ok (.aload_n 1, 1) := dk_43 (dk_at dksX2_deal_0 23 rfl rfl)
theorem dX2_deal_24 : decode cX2_deal 24 = .ok (.iload_n 3, 1) := dk_29 (dk_at dksX2_deal_1 0 rfl rfl)
theorem dX2_deal_25 : decode cX2_deal 25 = .ok (.newarray .int, 2) := dk_188_10 (dk_at dksX2_deal_1 1 rfl rfl)
theorem dX2_deal_27 : decode cX2_deal 27 = .ok (.putfield 115, 3) := dk_181 0 115 (dk_at dksX2_deal_1 3 rfl rfl)
theorem dX2_deal_30 : decode cX2_deal 30 = .ok (.iconst 0, 1) := dk_3 (dk_at dksX2_deal_1 6 rfl rfl)
theorem dX2_deal_31 : decode cX2_deal 31 = .ok (.istore 5, 2) := dk_54 5 (dk_at dksX2_deal_1 7 rfl rfl)
theorem dX2_deal_33 : decode cX2_deal 33 = .ok (.iload 5, 2) := dk_21 5 (dk_at dksX2_deal_1 9 rfl rfl)
theorem dX2_deal_35 : decode cX2_deal 35 = .ok (.iload_n 3, 1) := dk_29 (dk_at dksX2_deal_1 11 rfl rfl)
theorem dX2_deal_36 : decode cX2_deal 36 = .ok (.if_icmp .ge 28, 3) := dk_162 0 28 (dk_at dksX2_deal_1 12 rfl rfl)
theorem dX2_deal_39 : decode cX2_deal 39 = .ok (.aload_n 1, 1) := dk_43 (dk_at dksX2_deal_1 15 rfl rfl)
theorem dX2_deal_40 : decode cX2_deal 40 = .ok (.getfield 115, 3) := dk_180 0 115 (dk_at dksX2_deal_1 16 rfl rfl)
theorem dX2_deal_43 : decode cX2_deal 43 = .ok (.iload 5, 2) := dk_21 5 (dk_at dksX2_deal_1 19 rfl rfl)
theorem dX2_deal_45 : decode cX2_deal 45 = .ok (.iconst 4, 1) := dk_7 (dk_at dksX2_deal_1 21 rfl rfl)
theorem dX2_deal_46 : decode cX2_deal 46 = .ok (.aload 4, 2) := dk_25 4 (dk_at dksX2_deal_1 22 rfl rfl)
theorem dX2_deal_48 : decode cX2_deal 48 = .ok (.iload 5, 2) := dk_21 5 (dk_at dksX2_deal_2 0 rfl rfl)
theorem dX2_deal_50 : decode cX2_deal 50 = .ok (.iaload, 1) := dk_46 (dk_at dksX2_deal_2 2 rfl rfl)
theorem dX2_deal_51 : decode cX2_deal 51 = .ok (.sipush 2039, 3) := dk_17 7 247 (dk_at dksX2_deal_2 3 rfl rfl)
theorem dX2_deal_54 : decode cX2_deal 54 = .ok (.invokestatic 118, 3) := dk_184 0 118 (dk_at dksX2_deal_2 6 rfl rfl)
theorem dX2_deal_57 : decode cX2_deal 57 = .ok (.iastore, 1) := dk_79 (dk_at dksX2_deal_2 9 rfl rfl)
theorem dX2_deal_58 : decode cX2_deal 58 = .ok (.iinc 5 1, 3) := dk_132 5 1 (dk_at dksX2_deal_2 10 rfl rfl)
theorem dX2_deal_61 : decode cX2_deal 61 = .ok (.goto (-28), 3) := dk_167 255 228 (dk_at dksX2_deal_2 13 rfl rfl)
theorem dX2_deal_64 : decode cX2_deal 64 = .ok (.iconst 1, 1) := dk_4 (dk_at dksX2_deal_2 16 rfl rfl)
theorem dX2_deal_65 : decode cX2_deal 65 = .ok (.istore 5, 2) := dk_54 5 (dk_at dksX2_deal_2 17 rfl rfl)
theorem dX2_deal_67 : decode cX2_deal 67 = .ok (.iload 5, 2) := dk_21 5 (dk_at dksX2_deal_2 19 rfl rfl)
theorem dX2_deal_69 : decode cX2_deal 69 = .ok (.bipush 24, 2) := dk_16 24 (dk_at dksX2_deal_2 21 rfl rfl)
theorem dX2_deal_71 : decode cX2_deal 71 = .ok (.if_icmp .gt 74, 3) := dk_163 0 74 (dk_at dksX2_deal_3 0 rfl rfl)
theorem dX2_deal_74 : decode cX2_deal 74 = .ok (.aload_n 0, 1) := dk_42 (dk_at dksX2_deal_3 3 rfl rfl)
theorem dX2_deal_75 : decode cX2_deal 75 = .ok (.getfield 15, 3) := dk_180 0 15 (dk_at dksX2_deal_3 4 rfl rfl)
theorem dX2_deal_78 : decode cX2_deal 78 = .ok (.iload 5, 2) := dk_21 5 (dk_at dksX2_deal_3 7 rfl rfl)
theorem dX2_deal_80 : decode cX2_deal 80 = .ok (.invokestatic 91, 3) := dk_184 0 91 (dk_at dksX2_deal_3 9 rfl rfl)
theorem dX2_deal_83 : decode cX2_deal 83 = .ok (.baload, 1) := dk_51 (dk_at dksX2_deal_3 12 rfl rfl)
theorem dX2_deal_84 : decode cX2_deal 84 = .ok (.ifCond .eq 16, 3) := dk_153 0 16 (dk_at dksX2_deal_3 13 rfl rfl)
theorem dX2_deal_87 : decode cX2_deal 87 = .ok (.aload_n 0, 1) := dk_42 (dk_at dksX2_deal_3 16 rfl rfl)
theorem dX2_deal_88 : decode cX2_deal 88 = .ok (.iload 5, 2) := dk_21 5 (dk_at dksX2_deal_3 17 rfl rfl)
theorem dX2_deal_90 : decode cX2_deal 90 = .ok (.invokevirtual 98, 3) := dk_182 0 98 (dk_at dksX2_deal_3 19 rfl rfl)
theorem dX2_deal_93 : decode cX2_deal 93 = .ok (.ifCond .eq 7, 3) := dk_153 0 7 (dk_at dksX2_deal_4 0 rfl rfl)
theorem dX2_deal_96 : decode cX2_deal 96 = .ok (.iconst 1, 1) := dk_4 (dk_at dksX2_deal_4 3 rfl rfl)
theorem dX2_deal_97 : decode cX2_deal 97 = .ok (.goto 4, 3) := dk_167 0 4 (dk_at dksX2_deal_4 4 rfl rfl)
theorem dX2_deal_100 : decode cX2_deal 100 = .ok (.iconst 0, 1) := dk_3 (dk_at dksX2_deal_4 7 rfl rfl)
theorem dX2_deal_101 : decode cX2_deal 101 = .ok (.istore 6, 2) := dk_54 6 (dk_at dksX2_deal_4 8 rfl rfl)
theorem dX2_deal_103 : decode cX2_deal 103 = .ok (.aload_n 1, 1) := dk_43 (dk_at dksX2_deal_4 10 rfl rfl)
theorem dX2_deal_104 : decode cX2_deal 104 = .ok (.getfield 122, 3) := dk_180 0 122 (dk_at dksX2_deal_4 11 rfl rfl)
theorem dX2_deal_107 : decode cX2_deal 107 = .ok (.iload 5, 2) := dk_21 5 (dk_at dksX2_deal_4 14 rfl rfl)
theorem dX2_deal_109 : decode cX2_deal 109 = .ok (.iload 6, 2) := dk_21 6 (dk_at dksX2_deal_4 16 rfl rfl)
theorem dX2_deal_111 : decode cX2_deal 111 = .ok (.ifCond .eq 26, 3) := dk_153 0 26 (dk_at dksX2_deal_4 18 rfl rfl)
theorem dX2_deal_114 : decode cX2_deal 114 = .ok (.new 126, 3) := dk_187 0 126 (dk_at dksX2_deal_4 21 rfl rfl)
theorem dX2_deal_117 : decode cX2_deal 117 = .ok (.dup, 1) := dk_89 (dk_at dksX2_deal_5 0 rfl rfl)
theorem dX2_deal_118 : decode cX2_deal 118 = .ok (.iload 5, 2) := dk_21 5 (dk_at dksX2_deal_5 1 rfl rfl)
theorem dX2_deal_120 : decode cX2_deal 120 = .ok (.aload 4, 2) := dk_25 4 (dk_at dksX2_deal_5 3 rfl rfl)
theorem dX2_deal_122 : decode cX2_deal 122 = .ok (.iload 5, 2) := dk_21 5 (dk_at dksX2_deal_5 5 rfl rfl)
theorem dX2_deal_124 : decode cX2_deal 124 = .ok (.invokestatic 128, 3) := dk_184 0 128 (dk_at dksX2_deal_5 7 rfl rfl)
theorem dX2_deal_127 : decode cX2_deal 127 = .ok (.aload_n 1, 1) := dk_43 (dk_at dksX2_deal_5 10 rfl rfl)
theorem dX2_deal_128 : decode cX2_deal 128 = .ok (.getfield 112, 3) := dk_180 0 112 (dk_at dksX2_deal_5 11 rfl rfl)
theorem dX2_deal_131 : decode cX2_deal 131 = .ok (.invokespecial 132, 3) := dk_183 0 132 (dk_at dksX2_deal_5 14 rfl rfl)
theorem dX2_deal_134 : decode cX2_deal 134 = .ok (.goto 4, 3) := dk_167 0 4 (dk_at dksX2_deal_5 17 rfl rfl)
theorem dX2_deal_137 : decode cX2_deal 137 = .ok (.aconst_null, 1) := dk_1 (dk_at dksX2_deal_5 20 rfl rfl)
theorem dX2_deal_138 : decode cX2_deal 138 = .ok (.aastore, 1) := dk_83 (dk_at dksX2_deal_5 21 rfl rfl)
theorem dX2_deal_139 : decode cX2_deal 139 = .ok (.iinc 5 1, 3) := dk_132 5 1 (dk_at dksX2_deal_6 0 rfl rfl)
theorem dX2_deal_142 : decode cX2_deal 142 = .ok (.goto (-75), 3) := dk_167 255 181 (dk_at dksX2_deal_6 3 rfl rfl)
theorem dX2_deal_145 : decode cX2_deal 145 = .ok (.return_, 1) := dk_177 (dk_at dksX2_deal_6 6 rfl rfl)
abbrev cX2_drawn : ByteArray := prog_24_method_8_code
def yX2_drawn : MethodName := ⟨RX2, "drawn", "(II)[I"⟩
def dkwX2_drawn_1 : List UInt8 := [79, 132, 4, 1, 167, 255, 239, 45, 176]
abbrev dktX2_drawn_1 : List UInt8 := dkwX2_drawn_1 ++ []
def dkwX2_drawn_0 : List UInt8 := [28, 188, 10, 78, 45, 3, 27, 79, 4, 54, 4, 21, 4, 28, 162, 0, 17, 45, 21, 4, 42, 182, 0, 102]
abbrev dktX2_drawn_0 : List UInt8 := dkwX2_drawn_0 ++ dktX2_drawn_1
theorem dksX2_drawn_0 : cX2_drawn.data.toList.drop 0 = dktX2_drawn_0 := by decide +kernel
theorem dksX2_drawn_1 : cX2_drawn.data.toList.drop 24 = dktX2_drawn_1 := dk_seg dksX2_drawn_0 24 rfl rfl
theorem dX2_drawn_0 : decode cX2_drawn 0 = .ok (.iload_n 2, 1) := dk_28 (dk_at dksX2_drawn_0 0 rfl rfl)
theorem dX2_drawn_1 : decode cX2_drawn 1 = .ok (.newarray .int, 2) := dk_188_10 (dk_at dksX2_drawn_0 1 rfl rfl)
theorem dX2_drawn_3 : decode cX2_drawn 3 = .ok (.astore_n 3, 1) := dk_78 (dk_at dksX2_drawn_0 3 rfl rfl)
theorem dX2_drawn_4 : decode cX2_drawn 4 = .ok (.aload_n 3, 1) := dk_45 (dk_at dksX2_drawn_0 4 rfl rfl)
theorem dX2_drawn_5 : decode cX2_drawn 5 = .ok (.iconst 0, 1) := dk_3 (dk_at dksX2_drawn_0 5 rfl rfl)
theorem dX2_drawn_6 : decode cX2_drawn 6 = .ok (.iload_n 1, 1) := dk_27 (dk_at dksX2_drawn_0 6 rfl rfl)
theorem dX2_drawn_7 : decode cX2_drawn 7 = .ok (.iastore, 1) := dk_79 (dk_at dksX2_drawn_0 7 rfl rfl)
theorem dX2_drawn_8 : decode cX2_drawn 8 = .ok (.iconst 1, 1) := dk_4 (dk_at dksX2_drawn_0 8 rfl rfl)
theorem dX2_drawn_9 : decode cX2_drawn 9 = .ok (.istore 4, 2) := dk_54 4 (dk_at dksX2_drawn_0 9 rfl rfl)
theorem dX2_drawn_11 : decode cX2_drawn 11 = .ok (.iload 4, 2) := dk_21 4 (dk_at dksX2_drawn_0 11 rfl rfl)
theorem dX2_drawn_13 : decode cX2_drawn 13 = .ok (.iload_n 2, 1) := dk_28 (dk_at dksX2_drawn_0 13 rfl rfl)
theorem dX2_drawn_14 : decode cX2_drawn 14 = .ok (.if_icmp .ge 17, 3) := dk_162 0 17 (dk_at dksX2_drawn_0 14 rfl rfl)
theorem dX2_drawn_17 : decode cX2_drawn 17 = .ok (.aload_n 3, 1) := dk_45 (dk_at dksX2_drawn_0 17 rfl rfl)
theorem dX2_drawn_18 : decode cX2_drawn 18 = .ok (.iload 4, 2) := dk_21 4 (dk_at dksX2_drawn_0 18 rfl rfl)
theorem dX2_drawn_20 : decode cX2_drawn 20 = .ok (.aload_n 0, 1) := dk_42 (dk_at dksX2_drawn_0 20 rfl rfl)
theorem dX2_drawn_21 : decode cX2_drawn 21 = .ok (.invokevirtual 102, 3) := dk_182 0 102 (dk_at dksX2_drawn_0 21 rfl rfl)
theorem dX2_drawn_24 : decode cX2_drawn 24 = .ok (.iastore, 1) := dk_79 (dk_at dksX2_drawn_1 0 rfl rfl)
theorem dX2_drawn_25 : decode cX2_drawn 25 = .ok (.iinc 4 1, 3) := dk_132 4 1 (dk_at dksX2_drawn_1 1 rfl rfl)
theorem dX2_drawn_28 : decode cX2_drawn 28 = .ok (.goto (-17), 3) := dk_167 255 239 (dk_at dksX2_drawn_1 4 rfl rfl)
theorem dX2_drawn_31 : decode cX2_drawn 31 = .ok (.aload_n 3, 1) := dk_45 (dk_at dksX2_drawn_1 7 rfl rfl)
theorem dX2_drawn_32 : decode cX2_drawn 32 = .ok (.areturn, 1) := dk_176 (dk_at dksX2_drawn_1 8 rfl rfl)
abbrev cX2_note : ByteArray := prog_24_method_4_code
def yX2_note : MethodName := ⟨RX2, "note", "(I)V"⟩
def dkwX2_note_1 : List UInt8 := [27, 184, 0, 76, 182, 0, 80, 177]
abbrev dktX2_note_1 : List UInt8 := dkwX2_note_1 ++ []
def dkwX2_note_0 : List UInt8 := [42, 180, 0, 28, 182, 0, 85, 16, 20, 160, 0, 11, 42, 180, 0, 28, 182, 0, 88, 87, 42, 180, 0, 28]
abbrev dktX2_note_0 : List UInt8 := dkwX2_note_0 ++ dktX2_note_1
theorem dksX2_note_0 : cX2_note.data.toList.drop 0 = dktX2_note_0 := by decide +kernel
theorem dksX2_note_1 : cX2_note.data.toList.drop 24 = dktX2_note_1 := dk_seg dksX2_note_0 24 rfl rfl
theorem dX2_note_0 : decode cX2_note 0 = .ok (.aload_n 0, 1) := dk_42 (dk_at dksX2_note_0 0 rfl rfl)
theorem dX2_note_1 : decode cX2_note 1 = .ok (.getfield 28, 3) := dk_180 0 28 (dk_at dksX2_note_0 1 rfl rfl)
theorem dX2_note_4 : decode cX2_note 4 = .ok (.invokevirtual 85, 3) := dk_182 0 85 (dk_at dksX2_note_0 4 rfl rfl)
theorem dX2_note_7 : decode cX2_note 7 = .ok (.bipush 20, 2) := dk_16 20 (dk_at dksX2_note_0 7 rfl rfl)
theorem dX2_note_9 : decode cX2_note 9 = .ok (.if_icmp .ne 11, 3) := dk_160 0 11 (dk_at dksX2_note_0 9 rfl rfl)
theorem dX2_note_12 : decode cX2_note 12 = .ok (.aload_n 0, 1) := dk_42 (dk_at dksX2_note_0 12 rfl rfl)
theorem dX2_note_13 : decode cX2_note 13 = .ok (.getfield 28, 3) := dk_180 0 28 (dk_at dksX2_note_0 13 rfl rfl)
theorem dX2_note_16 : decode cX2_note 16 = .ok (.invokevirtual 88, 3) := dk_182 0 88 (dk_at dksX2_note_0 16 rfl rfl)
theorem dX2_note_19 : decode cX2_note 19 = .ok (.pop, 1) := dk_87 (dk_at dksX2_note_0 19 rfl rfl)
theorem dX2_note_20 : decode cX2_note 20 = .ok (.aload_n 0, 1) := dk_42 (dk_at dksX2_note_0 20 rfl rfl)
theorem dX2_note_21 : decode cX2_note 21 = .ok (.getfield 28, 3) := dk_180 0 28 (dk_at dksX2_note_0 21 rfl rfl)
theorem dX2_note_24 : decode cX2_note 24 = .ok (.iload_n 1, 1) := dk_27 (dk_at dksX2_note_1 0 rfl rfl)
theorem dX2_note_25 : decode cX2_note 25 = .ok (.invokestatic 76, 3) := dk_184 0 76 (dk_at dksX2_note_1 1 rfl rfl)
theorem dX2_note_28 : decode cX2_note 28 = .ok (.invokevirtual 80, 3) := dk_182 0 80 (dk_at dksX2_note_1 4 rfl rfl)
theorem dX2_note_31 : decode cX2_note 31 = .ok (.return_, 1) := dk_177 (dk_at dksX2_note_1 7 rfl rfl)
abbrev cX2_refresh : ByteArray := prog_24_method_10_code
def yX2_refresh : MethodName := ⟨RX2, "refresh", "(LSecretVault$Secret;)I"⟩
def dkwX2_refresh_6 : List UInt8 := [46, 17, 7, 247, 184, 0, 118, 17, 7, 247, 184, 0, 139, 79, 132, 4, 1, 167, 255, 213, 29, 172]
abbrev dktX2_refresh_6 : List UInt8 := dkwX2_refresh_6 ++ []
def dkwX2_refresh_5 : List UInt8 := [43, 180, 0, 109, 162, 0, 40, 43, 180, 0, 115, 21, 4, 43, 180, 0, 115, 21, 4, 46, 7, 44, 21, 4]
abbrev dktX2_refresh_5 : List UInt8 := dkwX2_refresh_5 ++ dktX2_refresh_6
def dkwX2_refresh_4 : List UInt8 := [132, 3, 1, 132, 4, 1, 167, 255, 172, 43, 89, 180, 0, 112, 4, 96, 181, 0, 112, 3, 54, 4, 21, 4]
abbrev dktX2_refresh_4 : List UInt8 := dkwX2_refresh_4 ++ dktX2_refresh_5
def dkwX2_refresh_3 : List UInt8 := [21, 4, 184, 0, 128, 96, 17, 3, 251, 112, 181, 0, 136, 25, 5, 89, 180, 0, 135, 4, 96, 181, 0, 135]
abbrev dktX2_refresh_3 : List UInt8 := dkwX2_refresh_3 ++ dktX2_refresh_4
def dkwX2_refresh_2 : List UInt8 := [153, 0, 50, 25, 5, 180, 0, 135, 43, 180, 0, 112, 160, 0, 38, 25, 5, 25, 5, 180, 0, 136, 44]
abbrev dktX2_refresh_2 : List UInt8 := dkwX2_refresh_2 ++ dktX2_refresh_3
def dkwX2_refresh_1 : List UInt8 := [180, 0, 122, 21, 4, 50, 58, 5, 25, 5, 198, 0, 63, 42, 180, 0, 15, 21, 4, 184, 0, 91, 51]
abbrev dktX2_refresh_1 : List UInt8 := dkwX2_refresh_1 ++ dktX2_refresh_2
def dkwX2_refresh_0 : List UInt8 := [42, 3, 43, 180, 0, 109, 182, 0, 105, 77, 3, 62, 4, 54, 4, 21, 4, 16, 24, 163, 0, 83, 43]
abbrev dktX2_refresh_0 : List UInt8 := dkwX2_refresh_0 ++ dktX2_refresh_1
theorem dksX2_refresh_0 : cX2_refresh.data.toList.drop 0 = dktX2_refresh_0 := by decide +kernel
theorem dksX2_refresh_1 : cX2_refresh.data.toList.drop 23 = dktX2_refresh_1 := dk_seg dksX2_refresh_0 23 rfl rfl
theorem dksX2_refresh_2 : cX2_refresh.data.toList.drop 46 = dktX2_refresh_2 := dk_seg dksX2_refresh_1 23 rfl rfl
theorem dksX2_refresh_3 : cX2_refresh.data.toList.drop 69 = dktX2_refresh_3 := dk_seg dksX2_refresh_2 23 rfl rfl
theorem dksX2_refresh_4 : cX2_refresh.data.toList.drop 93 = dktX2_refresh_4 := dk_seg dksX2_refresh_3 24 rfl rfl
theorem dksX2_refresh_5 : cX2_refresh.data.toList.drop 117 = dktX2_refresh_5 := dk_seg dksX2_refresh_4 24 rfl rfl
theorem dksX2_refresh_6 : cX2_refresh.data.toList.drop 141 = dktX2_refresh_6 := dk_seg dksX2_refresh_5 24 rfl rfl
theorem dX2_refresh_0 : decode cX2_refresh 0 = .ok (.aload_n 0, 1) := dk_42 (dk_at dksX2_refresh_0 0 rfl rfl)
theorem dX2_refresh_1 : decode cX2_refresh 1 = .ok (.iconst 0, 1) := dk_3 (dk_at dksX2_refresh_0 1 rfl rfl)
theorem dX2_refresh_2 : decode cX2_refresh 2 = .ok (.aload_n 1, 1) := dk_43 (dk_at dksX2_refresh_0 2 rfl rfl)
theorem dX2_refresh_3 : decode cX2_refresh 3 = .ok (.getfield 109, 3) := dk_180 0 109 (dk_at dksX2_refresh_0 3 rfl rfl)
theorem dX2_refresh_6 : decode cX2_refresh 6 = .ok (.invokevirtual 105, 3) := dk_182 0 105 (dk_at dksX2_refresh_0 6 rfl rfl)
theorem dX2_refresh_9 : decode cX2_refresh 9 = .ok (.astore_n 2, 1) := dk_77 (dk_at dksX2_refresh_0 9 rfl rfl)
theorem dX2_refresh_10 : decode cX2_refresh 10 = .ok (.iconst 0, 1) := dk_3 (dk_at dksX2_refresh_0 10 rfl rfl)
theorem dX2_refresh_11 : decode cX2_refresh 11 = .ok (.istore_n 3, 1) := dk_62 (dk_at dksX2_refresh_0 11 rfl rfl)
theorem dX2_refresh_12 : decode cX2_refresh 12 = .ok (.iconst 1, 1) := dk_4 (dk_at dksX2_refresh_0 12 rfl rfl)
theorem dX2_refresh_13 : decode cX2_refresh 13 = .ok (.istore 4, 2) := dk_54 4 (dk_at dksX2_refresh_0 13 rfl rfl)
theorem dX2_refresh_15 : decode cX2_refresh 15 = .ok (.iload 4, 2) := dk_21 4 (dk_at dksX2_refresh_0 15 rfl rfl)
theorem dX2_refresh_17 : decode cX2_refresh 17 = .ok (.bipush 24, 2) := dk_16 24 (dk_at dksX2_refresh_0 17 rfl rfl)
theorem dX2_refresh_19 : decode cX2_refresh 19 = .ok (.if_icmp .gt 83, 3) := dk_163 0 83 (dk_at dksX2_refresh_0 19 rfl rfl)
theorem dX2_refresh_22 : decode cX2_refresh 22 = .ok (.aload_n 1, 1) := dk_43 (dk_at dksX2_refresh_0 22 rfl rfl)
theorem dX2_refresh_23 : decode cX2_refresh 23 = .ok (.getfield 122, 3) := dk_180 0 122 (dk_at dksX2_refresh_1 0 rfl rfl)
theorem dX2_refresh_26 : decode cX2_refresh 26 = .ok (.iload 4, 2) := dk_21 4 (dk_at dksX2_refresh_1 3 rfl rfl)
theorem dX2_refresh_28 : decode cX2_refresh 28 = .ok (.aaload, 1) := dk_50 (dk_at dksX2_refresh_1 5 rfl rfl)
theorem dX2_refresh_29 : decode cX2_refresh 29 = .ok (.astore 5, 2) := dk_58 5 (dk_at dksX2_refresh_1 6 rfl rfl)
theorem dX2_refresh_31 : decode cX2_refresh 31 = .ok (.aload 5, 2) := dk_25 5 (dk_at dksX2_refresh_1 8 rfl rfl)
theorem dX2_refresh_33 : decode cX2_refresh 33 = .ok (.ifnull 63, 3) := dk_198 0 63 (dk_at dksX2_refresh_1 10 rfl rfl)
theorem dX2_refresh_36 : decode cX2_refresh 36 = .ok (.aload_n 0, 1) := dk_42 (dk_at dksX2_refresh_1 13 rfl rfl)
theorem dX2_refresh_37 : decode cX2_refresh 37 = .ok (.getfield 15, 3) := dk_180 0 15 (dk_at dksX2_refresh_1 14 rfl rfl)
theorem dX2_refresh_40 : decode cX2_refresh 40 = .ok (.iload 4, 2) := dk_21 4 (dk_at dksX2_refresh_1 17 rfl rfl)
theorem dX2_refresh_42 : decode cX2_refresh 42 = .ok (.invokestatic 91, 3) := dk_184 0 91 (dk_at dksX2_refresh_1 19 rfl rfl)
theorem dX2_refresh_45 : decode cX2_refresh 45 = .ok (.baload, 1) := dk_51 (dk_at dksX2_refresh_1 22 rfl rfl)
theorem dX2_refresh_46 : decode cX2_refresh 46 = .ok (.ifCond .eq 50, 3) := dk_153 0 50 (dk_at dksX2_refresh_2 0 rfl rfl)
theorem dX2_refresh_49 : decode cX2_refresh 49 = .ok (.aload 5, 2) := dk_25 5 (dk_at dksX2_refresh_2 3 rfl rfl)
theorem dX2_refresh_51 : decode cX2_refresh 51 = .ok (.getfield 135, 3) := dk_180 0 135 (dk_at dksX2_refresh_2 5 rfl rfl)
theorem dX2_refresh_54 : decode cX2_refresh 54 = .ok (.aload_n 1, 1) := dk_43 (dk_at dksX2_refresh_2 8 rfl rfl)
theorem dX2_refresh_55 : decode cX2_refresh 55 = .ok (.getfield 112, 3) := dk_180 0 112 (dk_at dksX2_refresh_2 9 rfl rfl)
theorem dX2_refresh_58 : decode cX2_refresh 58 = .ok (.if_icmp .ne 38, 3) := dk_160 0 38 (dk_at dksX2_refresh_2 12 rfl rfl)
theorem dX2_refresh_61 : decode cX2_refresh 61 = .ok (.aload 5, 2) := dk_25 5 (dk_at dksX2_refresh_2 15 rfl rfl)
theorem dX2_refresh_63 : decode cX2_refresh 63 = .ok (.aload 5, 2) := dk_25 5 (dk_at dksX2_refresh_2 17 rfl rfl)
theorem dX2_refresh_65 : decode cX2_refresh 65 = .ok (.getfield 136, 3) := dk_180 0 136 (dk_at dksX2_refresh_2 19 rfl rfl)
theorem dX2_refresh_68 : decode cX2_refresh 68 = .ok (.aload_n 2, 1) := dk_44 (dk_at dksX2_refresh_2 22 rfl rfl)
theorem dX2_refresh_69 : decode cX2_refresh 69 = .ok (.iload 4, 2) := dk_21 4 (dk_at dksX2_refresh_3 0 rfl rfl)
theorem dX2_refresh_71 : decode cX2_refresh 71 = .ok (.invokestatic 128, 3) := dk_184 0 128 (dk_at dksX2_refresh_3 2 rfl rfl)
theorem dX2_refresh_74 : decode cX2_refresh 74 = .ok (.iadd, 1) := dk_96 (dk_at dksX2_refresh_3 5 rfl rfl)
theorem dX2_refresh_75 : decode cX2_refresh 75 = .ok (.sipush 1019, 3) := dk_17 3 251 (dk_at dksX2_refresh_3 6 rfl rfl)
theorem dX2_refresh_78 : decode cX2_refresh 78 = .ok (.irem, 1) := dk_112 (dk_at dksX2_refresh_3 9 rfl rfl)
theorem dX2_refresh_79 : decode cX2_refresh 79 = .ok (.putfield 136, 3) := dk_181 0 136 (dk_at dksX2_refresh_3 10 rfl rfl)
theorem dX2_refresh_82 : decode cX2_refresh 82 = .ok (.aload 5, 2) := dk_25 5 (dk_at dksX2_refresh_3 13 rfl rfl)
theorem dX2_refresh_84 : decode cX2_refresh 84 = .ok (.dup, 1) := dk_89 (dk_at dksX2_refresh_3 15 rfl rfl)
theorem dX2_refresh_85 : decode cX2_refresh 85 = .ok (.getfield 135, 3) := dk_180 0 135 (dk_at dksX2_refresh_3 16 rfl rfl)
theorem dX2_refresh_88 : decode cX2_refresh 88 = .ok (.iconst 1, 1) := dk_4 (dk_at dksX2_refresh_3 19 rfl rfl)
theorem dX2_refresh_89 : decode cX2_refresh 89 = .ok (.iadd, 1) := dk_96 (dk_at dksX2_refresh_3 20 rfl rfl)
theorem dX2_refresh_90 : decode cX2_refresh 90 = .ok (.putfield 135, 3) := dk_181 0 135 (dk_at dksX2_refresh_3 21 rfl rfl)
theorem dX2_refresh_93 : decode cX2_refresh 93 = .ok (.iinc 3 1, 3) := dk_132 3 1 (dk_at dksX2_refresh_4 0 rfl rfl)
theorem dX2_refresh_96 : decode cX2_refresh 96 = .ok (.iinc 4 1, 3) := dk_132 4 1 (dk_at dksX2_refresh_4 3 rfl rfl)
theorem dX2_refresh_99 : decode cX2_refresh 99 = .ok (.goto (-84), 3) := dk_167 255 172 (dk_at dksX2_refresh_4 6 rfl rfl)
theorem dX2_refresh_102 : decode cX2_refresh 102 = .ok (.aload_n 1, 1) := dk_43 (dk_at dksX2_refresh_4 9 rfl rfl)
theorem dX2_refresh_103 : decode cX2_refresh 103 = .ok (.dup, 1) := dk_89 (dk_at dksX2_refresh_4 10 rfl rfl)
theorem dX2_refresh_104 : decode cX2_refresh 104 = .ok (.getfield 112, 3) := dk_180 0 112 (dk_at dksX2_refresh_4 11 rfl rfl)
theorem dX2_refresh_107 : decode cX2_refresh 107 = .ok (.iconst 1, 1) := dk_4 (dk_at dksX2_refresh_4 14 rfl rfl)
theorem dX2_refresh_108 : decode cX2_refresh 108 = .ok (.iadd, 1) := dk_96 (dk_at dksX2_refresh_4 15 rfl rfl)
theorem dX2_refresh_109 : decode cX2_refresh 109 = .ok (.putfield 112, 3) := dk_181 0 112 (dk_at dksX2_refresh_4 16 rfl rfl)
theorem dX2_refresh_112 : decode cX2_refresh 112 = .ok (.iconst 0, 1) := dk_3 (dk_at dksX2_refresh_4 19 rfl rfl)
theorem dX2_refresh_113 : decode cX2_refresh 113 = .ok (.istore 4, 2) := dk_54 4 (dk_at dksX2_refresh_4 20 rfl rfl)
theorem dX2_refresh_115 : decode cX2_refresh 115 = .ok (.iload 4, 2) := dk_21 4 (dk_at dksX2_refresh_4 22 rfl rfl)
theorem dX2_refresh_117 : decode cX2_refresh 117 = .ok (.aload_n 1, 1) := dk_43 (dk_at dksX2_refresh_5 0 rfl rfl)
theorem dX2_refresh_118 : decode cX2_refresh 118 = .ok (.getfield 109, 3) := dk_180 0 109 (dk_at dksX2_refresh_5 1 rfl rfl)
theorem dX2_refresh_121 : decode cX2_refresh 121 = .ok (.if_icmp .ge 40, 3) := dk_162 0 40 (dk_at dksX2_refresh_5 4 rfl rfl)
theorem dX2_refresh_124 : decode cX2_refresh 124 = .ok (.aload_n 1, 1) := dk_43 (dk_at dksX2_refresh_5 7 rfl rfl)
theorem dX2_refresh_125 : decode cX2_refresh 125 = .ok (.getfield 115, 3) := dk_180 0 115 (dk_at dksX2_refresh_5 8 rfl rfl)
theorem dX2_refresh_128 : decode cX2_refresh 128 = .ok (.iload 4, 2) := dk_21 4 (dk_at dksX2_refresh_5 11 rfl rfl)
theorem dX2_refresh_130 : decode cX2_refresh 130 = .ok (.aload_n 1, 1) := dk_43 (dk_at dksX2_refresh_5 13 rfl rfl)
theorem dX2_refresh_131 : decode cX2_refresh 131 = .ok (.getfield 115, 3) := dk_180 0 115 (dk_at dksX2_refresh_5 14 rfl rfl)
theorem dX2_refresh_134 : decode cX2_refresh 134 = .ok (.iload 4, 2) := dk_21 4 (dk_at dksX2_refresh_5 17 rfl rfl)
theorem dX2_refresh_136 : decode cX2_refresh 136 = .ok (.iaload, 1) := dk_46 (dk_at dksX2_refresh_5 19 rfl rfl)
theorem dX2_refresh_137 : decode cX2_refresh 137 = .ok (.iconst 4, 1) := dk_7 (dk_at dksX2_refresh_5 20 rfl rfl)
theorem dX2_refresh_138 : decode cX2_refresh 138 = .ok (.aload_n 2, 1) := dk_44 (dk_at dksX2_refresh_5 21 rfl rfl)
theorem dX2_refresh_139 : decode cX2_refresh 139 = .ok (.iload 4, 2) := dk_21 4 (dk_at dksX2_refresh_5 22 rfl rfl)
theorem dX2_refresh_141 : decode cX2_refresh 141 = .ok (.iaload, 1) := dk_46 (dk_at dksX2_refresh_6 0 rfl rfl)
theorem dX2_refresh_142 : decode cX2_refresh 142 = .ok (.sipush 2039, 3) := dk_17 7 247 (dk_at dksX2_refresh_6 1 rfl rfl)
theorem dX2_refresh_145 : decode cX2_refresh 145 = .ok (.invokestatic 118, 3) := dk_184 0 118 (dk_at dksX2_refresh_6 4 rfl rfl)
theorem dX2_refresh_148 : decode cX2_refresh 148 = .ok (.sipush 2039, 3) := dk_17 7 247 (dk_at dksX2_refresh_6 7 rfl rfl)
theorem dX2_refresh_151 : decode cX2_refresh 151 = .ok (.invokestatic 139, 3) := dk_184 0 139 (dk_at dksX2_refresh_6 10 rfl rfl)
theorem dX2_refresh_154 : decode cX2_refresh 154 = .ok (.iastore, 1) := dk_79 (dk_at dksX2_refresh_6 13 rfl rfl)
theorem dX2_refresh_155 : decode cX2_refresh 155 = .ok (.iinc 4 1, 3) := dk_132 4 1 (dk_at dksX2_refresh_6 14 rfl rfl)
theorem dX2_refresh_158 : decode cX2_refresh 158 = .ok (.goto (-43), 3) := dk_167 255 213 (dk_at dksX2_refresh_6 17 rfl rfl)
theorem dX2_refresh_161 : decode cX2_refresh 161 = .ok (.iload_n 3, 1) := dk_29 (dk_at dksX2_refresh_6 20 rfl rfl)
theorem dX2_refresh_162 : decode cX2_refresh 162 = .ok (.ireturn, 1) := dk_172 (dk_at dksX2_refresh_6 21 rfl rfl)
abbrev cX2_opened : ByteArray := prog_24_method_11_code
def yX2_opened : MethodName := ⟨RX2, "opened", "(II)Ljava/util/List;"⟩
def dkwX2_opened_12 : List UInt8 := [185, 0, 181, 2, 0, 87, 132, 10, 1, 167, 255, 228, 25, 9, 176]
abbrev dktX2_opened_12 : List UInt8 := dkwX2_opened_12 ++ []
def dkwX2_opened_11 : List UInt8 := [54, 10, 21, 10, 45, 180, 0, 109, 162, 0, 25, 25, 9, 25, 6, 21, 10, 50, 180, 0, 192]
abbrev dktX2_opened_11 : List UInt8 := dkwX2_opened_11 ++ dktX2_opened_12
def dkwX2_opened_10 : List UInt8 := [45, 180, 0, 109, 21, 8, 100, 25, 9, 183, 0, 204, 191, 187, 0, 162, 89, 183, 0, 164, 58, 9, 3]
abbrev dktX2_opened_10 : List UInt8 := dkwX2_opened_10 ++ dktX2_opened_11
def dkwX2_opened_9 : List UInt8 := [180, 0, 192, 180, 0, 196, 25, 9, 183, 0, 199, 58, 9, 132, 10, 255, 167, 255, 204, 187, 0, 202, 89, 27]
abbrev dktX2_opened_9 : List UInt8 := dkwX2_opened_9 ++ dktX2_opened_10
def dkwX2_opened_8 : List UInt8 := [185, 0, 165, 2, 0, 192, 0, 187, 182, 0, 189, 25, 7, 21, 10, 185, 0, 165, 2, 0, 192, 0, 187]
abbrev dktX2_opened_8 : List UInt8 := dkwX2_opened_8 ++ dktX2_opened_9
def dkwX2_opened_7 : List UInt8 := [185, 0, 157, 1, 0, 4, 100, 54, 10, 21, 10, 155, 0, 53, 187, 0, 185, 89, 25, 7, 21, 10]
abbrev dktX2_opened_7 : List UInt8 := dkwX2_opened_7 ++ dktX2_opened_8
def dkwX2_opened_6 : List UInt8 := [87, 132, 9, 1, 167, 255, 183, 21, 8, 45, 180, 0, 109, 162, 0, 90, 1, 58, 9, 25, 7]
abbrev dktX2_opened_6 : List UInt8 := dkwX2_opened_6 ++ dktX2_opened_7
def dkwX2_opened_5 : List UInt8 := [25, 6, 21, 8, 25, 10, 83, 132, 8, 1, 167, 0, 15, 58, 11, 25, 7, 25, 10, 185, 0, 181, 2, 0]
abbrev dktX2_opened_5 : List UInt8 := dkwX2_opened_5 ++ dktX2_opened_6
def dkwX2_opened_4 : List UInt8 := [192, 0, 126, 182, 0, 169, 25, 5, 21, 9, 185, 0, 165, 2, 0, 192, 0, 126, 182, 0, 173, 58, 10]
abbrev dktX2_opened_4 : List UInt8 := dkwX2_opened_4 ++ dktX2_opened_5
def dkwX2_opened_3 : List UInt8 := [54, 9, 21, 9, 25, 5, 185, 0, 157, 1, 0, 162, 0, 67, 45, 25, 5, 21, 9, 185, 0, 165, 2, 0]
abbrev dktX2_opened_3 : List UInt8 := dkwX2_opened_3 ++ dktX2_opened_4
def dkwX2_opened_2 : List UInt8 := [185, 0, 157, 1, 0, 189, 0, 160, 58, 6, 187, 0, 162, 89, 183, 0, 164, 58, 7, 3, 54, 8, 3]
abbrev dktX2_opened_2 : List UInt8 := dkwX2_opened_2 ++ dktX2_opened_3
def dkwX2_opened_1 : List UInt8 := [187, 0, 148, 89, 27, 21, 4, 183, 0, 150, 191, 45, 21, 4, 182, 0, 153, 58, 5, 25, 5]
abbrev dktX2_opened_1 : List UInt8 := dkwX2_opened_1 ++ dktX2_opened_2
def dkwX2_opened_0 : List UInt8 := [42, 180, 0, 21, 27, 50, 78, 28, 42, 182, 0, 142, 126, 54, 4, 45, 21, 4, 182, 0, 145, 154, 0, 14]
abbrev dktX2_opened_0 : List UInt8 := dkwX2_opened_0 ++ dktX2_opened_1
theorem dksX2_opened_0 : cX2_opened.data.toList.drop 0 = dktX2_opened_0 := by decide +kernel
theorem dksX2_opened_1 : cX2_opened.data.toList.drop 24 = dktX2_opened_1 := dk_seg dksX2_opened_0 24 rfl rfl
theorem dksX2_opened_2 : cX2_opened.data.toList.drop 45 = dktX2_opened_2 := dk_seg dksX2_opened_1 21 rfl rfl
theorem dksX2_opened_3 : cX2_opened.data.toList.drop 68 = dktX2_opened_3 := dk_seg dksX2_opened_2 23 rfl rfl
theorem dksX2_opened_4 : cX2_opened.data.toList.drop 92 = dktX2_opened_4 := dk_seg dksX2_opened_3 24 rfl rfl
theorem dksX2_opened_5 : cX2_opened.data.toList.drop 115 = dktX2_opened_5 := dk_seg dksX2_opened_4 23 rfl rfl
theorem dksX2_opened_6 : cX2_opened.data.toList.drop 139 = dktX2_opened_6 := dk_seg dksX2_opened_5 24 rfl rfl
theorem dksX2_opened_7 : cX2_opened.data.toList.drop 160 = dktX2_opened_7 := dk_seg dksX2_opened_6 21 rfl rfl
theorem dksX2_opened_8 : cX2_opened.data.toList.drop 182 = dktX2_opened_8 := dk_seg dksX2_opened_7 22 rfl rfl
theorem dksX2_opened_9 : cX2_opened.data.toList.drop 205 = dktX2_opened_9 := dk_seg dksX2_opened_8 23 rfl rfl
theorem dksX2_opened_10 : cX2_opened.data.toList.drop 229 = dktX2_opened_10 := dk_seg dksX2_opened_9 24 rfl rfl
theorem dksX2_opened_11 : cX2_opened.data.toList.drop 252 = dktX2_opened_11 := dk_seg dksX2_opened_10 23 rfl rfl
theorem dksX2_opened_12 : cX2_opened.data.toList.drop 273 = dktX2_opened_12 := dk_seg dksX2_opened_11 21 rfl rfl
theorem dX2_opened_0 : decode cX2_opened 0 = .ok (.aload_n 0, 1) := dk_42 (dk_at dksX2_opened_0 0 rfl rfl)
theorem dX2_opened_1 : decode cX2_opened 1 = .ok (.getfield 21, 3) := dk_180 0 21 (dk_at dksX2_opened_0 1 rfl rfl)
theorem dX2_opened_4 : decode cX2_opened 4 = .ok (.iload_n 1, 1) := dk_27 (dk_at dksX2_opened_0 4 rfl rfl)
theorem dX2_opened_5 : decode cX2_opened 5 = .ok (.aaload, 1) := dk_50 (dk_at dksX2_opened_0 5 rfl rfl)
theorem dX2_opened_6 : decode cX2_opened 6 = .ok (.astore_n 3, 1) := dk_78 (dk_at dksX2_opened_0 6 rfl rfl)
theorem dX2_opened_7 : decode cX2_opened 7 = .ok (.iload_n 2, 1) := dk_28 (dk_at dksX2_opened_0 7 rfl rfl)
theorem dX2_opened_8 : decode cX2_opened 8 = .ok (.aload_n 0, 1) := dk_42 (dk_at dksX2_opened_0 8 rfl rfl)
theorem dX2_opened_9 : decode cX2_opened 9 = .ok (.invokevirtual 142, 3) := dk_182 0 142 (dk_at dksX2_opened_0 9 rfl rfl)
theorem dX2_opened_12 : decode cX2_opened 12 = .ok (.iand, 1) := dk_126 (dk_at dksX2_opened_0 12 rfl rfl)
theorem dX2_opened_13 : decode cX2_opened 13 = .ok (.istore 4, 2) := dk_54 4 (dk_at dksX2_opened_0 13 rfl rfl)
theorem dX2_opened_15 : decode cX2_opened 15 = .ok (.aload_n 3, 1) := dk_45 (dk_at dksX2_opened_0 15 rfl rfl)
theorem dX2_opened_16 : decode cX2_opened 16 = .ok (.iload 4, 2) := dk_21 4 (dk_at dksX2_opened_0 16 rfl rfl)
theorem dX2_opened_18 : decode cX2_opened 18 = .ok (.invokevirtual 145, 3) := dk_182 0 145 (dk_at dksX2_opened_0 18 rfl rfl)
theorem dX2_opened_21 : decode cX2_opened 21 = .ok (.ifCond .ne 14, 3) := dk_154 0 14 (dk_at dksX2_opened_0 21 rfl rfl)
theorem dX2_opened_24 : decode cX2_opened 24 = .ok (.new 148, 3) := dk_187 0 148 (dk_at dksX2_opened_1 0 rfl rfl)
theorem dX2_opened_27 : decode cX2_opened 27 = .ok (.dup, 1) := dk_89 (dk_at dksX2_opened_1 3 rfl rfl)
theorem dX2_opened_28 : decode cX2_opened 28 = .ok (.iload_n 1, 1) := dk_27 (dk_at dksX2_opened_1 4 rfl rfl)
theorem dX2_opened_29 : decode cX2_opened 29 = .ok (.iload 4, 2) := dk_21 4 (dk_at dksX2_opened_1 5 rfl rfl)
theorem dX2_opened_31 : decode cX2_opened 31 = .ok (.invokespecial 150, 3) := dk_183 0 150 (dk_at dksX2_opened_1 7 rfl rfl)
theorem dX2_opened_34 : decode cX2_opened 34 = .ok (.athrow, 1) := dk_191 (dk_at dksX2_opened_1 10 rfl rfl)
theorem dX2_opened_35 : decode cX2_opened 35 = .ok (.aload_n 3, 1) := dk_45 (dk_at dksX2_opened_1 11 rfl rfl)
theorem dX2_opened_36 : decode cX2_opened 36 = .ok (.iload 4, 2) := dk_21 4 (dk_at dksX2_opened_1 12 rfl rfl)
theorem dX2_opened_38 : decode cX2_opened 38 = .ok (.invokevirtual 153, 3) := dk_182 0 153 (dk_at dksX2_opened_1 14 rfl rfl)
theorem dX2_opened_41 : decode cX2_opened 41 = .ok (.astore 5, 2) := dk_58 5 (dk_at dksX2_opened_1 17 rfl rfl)
theorem dX2_opened_43 : decode cX2_opened 43 = .ok (.aload 5, 2) := dk_25 5 (dk_at dksX2_opened_1 19 rfl rfl)
theorem dX2_opened_45 : decode cX2_opened 45 = .ok (.invokeinterface 157 1, 5) := by decide +kernel
theorem dX2_opened_50 : decode cX2_opened 50 = .ok (.anewarray 160, 3) := dk_189 0 160 (dk_at dksX2_opened_2 5 rfl rfl)
theorem dX2_opened_53 : decode cX2_opened 53 = .ok (.astore 6, 2) := dk_58 6 (dk_at dksX2_opened_2 8 rfl rfl)
theorem dX2_opened_55 : decode cX2_opened 55 = .ok (.new 162, 3) := dk_187 0 162 (dk_at dksX2_opened_2 10 rfl rfl)
theorem dX2_opened_58 : decode cX2_opened 58 = .ok (.dup, 1) := dk_89 (dk_at dksX2_opened_2 13 rfl rfl)
theorem dX2_opened_59 : decode cX2_opened 59 = .ok (.invokespecial 164, 3) := dk_183 0 164 (dk_at dksX2_opened_2 14 rfl rfl)
theorem dX2_opened_62 : decode cX2_opened 62 = .ok (.astore 7, 2) := dk_58 7 (dk_at dksX2_opened_2 17 rfl rfl)
theorem dX2_opened_64 : decode cX2_opened 64 = .ok (.iconst 0, 1) := dk_3 (dk_at dksX2_opened_2 19 rfl rfl)
theorem dX2_opened_65 : decode cX2_opened 65 = .ok (.istore 8, 2) := dk_54 8 (dk_at dksX2_opened_2 20 rfl rfl)
theorem dX2_opened_67 : decode cX2_opened 67 = .ok (.iconst 0, 1) := dk_3 (dk_at dksX2_opened_2 22 rfl rfl)
theorem dX2_opened_68 : decode cX2_opened 68 = .ok (.istore 9, 2) := dk_54 9 (dk_at dksX2_opened_3 0 rfl rfl)
theorem dX2_opened_70 : decode cX2_opened 70 = .ok (.iload 9, 2) := dk_21 9 (dk_at dksX2_opened_3 2 rfl rfl)
theorem dX2_opened_72 : decode cX2_opened 72 = .ok (.aload 5, 2) := dk_25 5 (dk_at dksX2_opened_3 4 rfl rfl)
theorem dX2_opened_74 : decode cX2_opened 74 = .ok (.invokeinterface 157 1, 5) := by decide +kernel
theorem dX2_opened_79 : decode cX2_opened 79 = .ok (.if_icmp .ge 67, 3) := dk_162 0 67 (dk_at dksX2_opened_3 11 rfl rfl)
theorem dX2_opened_82 : decode cX2_opened 82 = .ok (.aload_n 3, 1) := dk_45 (dk_at dksX2_opened_3 14 rfl rfl)
theorem dX2_opened_83 : decode cX2_opened 83 = .ok (.aload 5, 2) := dk_25 5 (dk_at dksX2_opened_3 15 rfl rfl)
theorem dX2_opened_85 : decode cX2_opened 85 = .ok (.iload 9, 2) := dk_21 9 (dk_at dksX2_opened_3 17 rfl rfl)
theorem dX2_opened_87 : decode cX2_opened 87 = .ok (.invokeinterface 165 2, 5) := by decide +kernel
theorem dX2_opened_92 : decode cX2_opened 92 = .ok (.checkcast 126, 3) := dk_192 0 126 (dk_at dksX2_opened_4 0 rfl rfl)
theorem dX2_opened_95 : decode cX2_opened 95 = .ok (.invokevirtual 169, 3) := dk_182 0 169 (dk_at dksX2_opened_4 3 rfl rfl)
theorem dX2_opened_98 : decode cX2_opened 98 = .ok (.aload 5, 2) := dk_25 5 (dk_at dksX2_opened_4 6 rfl rfl)
theorem dX2_opened_100 : decode cX2_opened 100 = .ok (.iload 9, 2) := dk_21 9 (dk_at dksX2_opened_4 8 rfl rfl)
theorem dX2_opened_102 : decode cX2_opened 102 = .ok (.invokeinterface 165 2, 5) := by decide +kernel
theorem dX2_opened_107 : decode cX2_opened 107 = .ok (.checkcast 126, 3) := dk_192 0 126 (dk_at dksX2_opened_4 15 rfl rfl)
theorem dX2_opened_110 : decode cX2_opened 110 = .ok (.invokevirtual 173, 3) := dk_182 0 173 (dk_at dksX2_opened_4 18 rfl rfl)
theorem dX2_opened_113 : decode cX2_opened 113 = .ok (.astore 10, 2) := dk_58 10 (dk_at dksX2_opened_4 21 rfl rfl)
theorem dX2_opened_115 : decode cX2_opened 115 = .ok (.aload 6, 2) := dk_25 6 (dk_at dksX2_opened_5 0 rfl rfl)
theorem dX2_opened_117 : decode cX2_opened 117 = .ok (.iload 8, 2) := dk_21 8 (dk_at dksX2_opened_5 2 rfl rfl)
theorem dX2_opened_119 : decode cX2_opened 119 = .ok (.aload 10, 2) := dk_25 10 (dk_at dksX2_opened_5 4 rfl rfl)
theorem dX2_opened_121 : decode cX2_opened 121 = .ok (.aastore, 1) := dk_83 (dk_at dksX2_opened_5 6 rfl rfl)
theorem dX2_opened_122 : decode cX2_opened 122 = .ok (.iinc 8 1, 3) := dk_132 8 1 (dk_at dksX2_opened_5 7 rfl rfl)
theorem dX2_opened_125 : decode cX2_opened 125 = .ok (.goto 15, 3) := dk_167 0 15 (dk_at dksX2_opened_5 10 rfl rfl)
theorem dX2_opened_128 : decode cX2_opened 128 = .ok (.astore 11, 2) := dk_58 11 (dk_at dksX2_opened_5 13 rfl rfl)
theorem dX2_opened_130 : decode cX2_opened 130 = .ok (.aload 7, 2) := dk_25 7 (dk_at dksX2_opened_5 15 rfl rfl)
theorem dX2_opened_132 : decode cX2_opened 132 = .ok (.aload 10, 2) := dk_25 10 (dk_at dksX2_opened_5 17 rfl rfl)
theorem dX2_opened_134 : decode cX2_opened 134 = .ok (.invokeinterface 181 2, 5) := by decide +kernel
theorem dX2_opened_139 : decode cX2_opened 139 = .ok (.pop, 1) := dk_87 (dk_at dksX2_opened_6 0 rfl rfl)
theorem dX2_opened_140 : decode cX2_opened 140 = .ok (.iinc 9 1, 3) := dk_132 9 1 (dk_at dksX2_opened_6 1 rfl rfl)
theorem dX2_opened_143 : decode cX2_opened 143 = .ok (.goto (-73), 3) := dk_167 255 183 (dk_at dksX2_opened_6 4 rfl rfl)
theorem dX2_opened_146 : decode cX2_opened 146 = .ok (.iload 8, 2) := dk_21 8 (dk_at dksX2_opened_6 7 rfl rfl)
theorem dX2_opened_148 : decode cX2_opened 148 = .ok (.aload_n 3, 1) := dk_45 (dk_at dksX2_opened_6 9 rfl rfl)
theorem dX2_opened_149 : decode cX2_opened 149 = .ok (.getfield 109, 3) := dk_180 0 109 (dk_at dksX2_opened_6 10 rfl rfl)
theorem dX2_opened_152 : decode cX2_opened 152 = .ok (.if_icmp .ge 90, 3) := dk_162 0 90 (dk_at dksX2_opened_6 13 rfl rfl)
theorem dX2_opened_155 : decode cX2_opened 155 = .ok (.aconst_null, 1) := dk_1 (dk_at dksX2_opened_6 16 rfl rfl)
theorem dX2_opened_156 : decode cX2_opened 156 = .ok (.astore 9, 2) := dk_58 9 (dk_at dksX2_opened_6 17 rfl rfl)
theorem dX2_opened_158 : decode cX2_opened 158 = .ok (.aload 7, 2) := dk_25 7 (dk_at dksX2_opened_6 19 rfl rfl)
theorem dX2_opened_160 : decode cX2_opened 160 = .ok (.invokeinterface 157 1, 5) := by decide +kernel
theorem dX2_opened_165 : decode cX2_opened 165 = .ok (.iconst 1, 1) := dk_4 (dk_at dksX2_opened_7 5 rfl rfl)
theorem dX2_opened_166 : decode cX2_opened 166 = .ok (.isub, 1) := dk_100 (dk_at dksX2_opened_7 6 rfl rfl)
theorem dX2_opened_167 : decode cX2_opened 167 = .ok (.istore 10, 2) := dk_54 10 (dk_at dksX2_opened_7 7 rfl rfl)
theorem dX2_opened_169 : decode cX2_opened 169 = .ok (.iload 10, 2) := dk_21 10 (dk_at dksX2_opened_7 9 rfl rfl)
theorem dX2_opened_171 : decode cX2_opened 171 = .ok (.ifCond .lt 53, 3) := dk_155 0 53 (dk_at dksX2_opened_7 11 rfl rfl)
theorem dX2_opened_174 : decode cX2_opened 174 = .ok (.new 185, 3) := dk_187 0 185 (dk_at dksX2_opened_7 14 rfl rfl)
theorem dX2_opened_177 : decode cX2_opened 177 = .ok (.dup, 1) := dk_89 (dk_at dksX2_opened_7 17 rfl rfl)
theorem dX2_opened_178 : decode cX2_opened 178 = .ok (.aload 7, 2) := dk_25 7 (dk_at dksX2_opened_7 18 rfl rfl)
theorem dX2_opened_180 : decode cX2_opened 180 = .ok (.iload 10, 2) := dk_21 10 (dk_at dksX2_opened_7 20 rfl rfl)
theorem dX2_opened_182 : decode cX2_opened 182 = .ok (.invokeinterface 165 2, 5) := by decide +kernel
theorem dX2_opened_187 : decode cX2_opened 187 = .ok (.checkcast 187, 3) := dk_192 0 187 (dk_at dksX2_opened_8 5 rfl rfl)
theorem dX2_opened_190 : decode cX2_opened 190 = .ok (.invokevirtual 189, 3) := dk_182 0 189 (dk_at dksX2_opened_8 8 rfl rfl)
theorem dX2_opened_193 : decode cX2_opened 193 = .ok (.aload 7, 2) := dk_25 7 (dk_at dksX2_opened_8 11 rfl rfl)
theorem dX2_opened_195 : decode cX2_opened 195 = .ok (.iload 10, 2) := dk_21 10 (dk_at dksX2_opened_8 13 rfl rfl)
theorem dX2_opened_197 : decode cX2_opened 197 = .ok (.invokeinterface 165 2, 5) := by decide +kernel
theorem dX2_opened_202 : decode cX2_opened 202 = .ok (.checkcast 187, 3) := dk_192 0 187 (dk_at dksX2_opened_8 20 rfl rfl)
theorem dX2_opened_205 : decode cX2_opened 205 = .ok (.getfield 192, 3) := dk_180 0 192 (dk_at dksX2_opened_9 0 rfl rfl)
theorem dX2_opened_208 : decode cX2_opened 208 = .ok (.getfield 196, 3) := dk_180 0 196 (dk_at dksX2_opened_9 3 rfl rfl)
theorem dX2_opened_211 : decode cX2_opened 211 = .ok (.aload 9, 2) := dk_25 9 (dk_at dksX2_opened_9 6 rfl rfl)
theorem dX2_opened_213 : decode cX2_opened 213 = .ok (.invokespecial 199, 3) := dk_183 0 199 (dk_at dksX2_opened_9 8 rfl rfl)
theorem dX2_opened_216 : decode cX2_opened 216 = .ok (.astore 9, 2) := dk_58 9 (dk_at dksX2_opened_9 11 rfl rfl)
theorem dX2_opened_218 : decode cX2_opened 218 = .ok (.iinc 10 (-1), 3) := dk_132 10 255 (dk_at dksX2_opened_9 13 rfl rfl)
theorem dX2_opened_221 : decode cX2_opened 221 = .ok (.goto (-52), 3) := dk_167 255 204 (dk_at dksX2_opened_9 16 rfl rfl)
theorem dX2_opened_224 : decode cX2_opened 224 = .ok (.new 202, 3) := dk_187 0 202 (dk_at dksX2_opened_9 19 rfl rfl)
theorem dX2_opened_227 : decode cX2_opened 227 = .ok (.dup, 1) := dk_89 (dk_at dksX2_opened_9 22 rfl rfl)
theorem dX2_opened_228 : decode cX2_opened 228 = .ok (.iload_n 1, 1) := dk_27 (dk_at dksX2_opened_9 23 rfl rfl)
theorem dX2_opened_229 : decode cX2_opened 229 = .ok (.aload_n 3, 1) := dk_45 (dk_at dksX2_opened_10 0 rfl rfl)
theorem dX2_opened_230 : decode cX2_opened 230 = .ok (.getfield 109, 3) := dk_180 0 109 (dk_at dksX2_opened_10 1 rfl rfl)
theorem dX2_opened_233 : decode cX2_opened 233 = .ok (.iload 8, 2) := dk_21 8 (dk_at dksX2_opened_10 4 rfl rfl)
theorem dX2_opened_235 : decode cX2_opened 235 = .ok (.isub, 1) := dk_100 (dk_at dksX2_opened_10 6 rfl rfl)
theorem dX2_opened_236 : decode cX2_opened 236 = .ok (.aload 9, 2) := dk_25 9 (dk_at dksX2_opened_10 7 rfl rfl)
theorem dX2_opened_238 : decode cX2_opened 238 = .ok (.invokespecial 204, 3) := dk_183 0 204 (dk_at dksX2_opened_10 9 rfl rfl)
theorem dX2_opened_241 : decode cX2_opened 241 = .ok (.athrow, 1) := dk_191 (dk_at dksX2_opened_10 12 rfl rfl)
theorem dX2_opened_242 : decode cX2_opened 242 = .ok (.new 162, 3) := dk_187 0 162 (dk_at dksX2_opened_10 13 rfl rfl)
theorem dX2_opened_245 : decode cX2_opened 245 = .ok (.dup, 1) := dk_89 (dk_at dksX2_opened_10 16 rfl rfl)
theorem dX2_opened_246 : decode cX2_opened 246 = .ok (.invokespecial 164, 3) := dk_183 0 164 (dk_at dksX2_opened_10 17 rfl rfl)
theorem dX2_opened_249 : decode cX2_opened 249 = .ok (.astore 9, 2) := dk_58 9 (dk_at dksX2_opened_10 20 rfl rfl)
theorem dX2_opened_251 : decode cX2_opened 251 = .ok (.iconst 0, 1) := dk_3 (dk_at dksX2_opened_10 22 rfl rfl)
theorem dX2_opened_252 : decode cX2_opened 252 = .ok (.istore 10, 2) := dk_54 10 (dk_at dksX2_opened_11 0 rfl rfl)
theorem dX2_opened_254 : decode cX2_opened 254 = .ok (.iload 10, 2) := dk_21 10 (dk_at dksX2_opened_11 2 rfl rfl)
theorem dX2_opened_256 : decode cX2_opened 256 = .ok (.aload_n 3, 1) := dk_45 (dk_at dksX2_opened_11 4 rfl rfl)
theorem dX2_opened_257 : decode cX2_opened 257 = .ok (.getfield 109, 3) := dk_180 0 109 (dk_at dksX2_opened_11 5 rfl rfl)
theorem dX2_opened_260 : decode cX2_opened 260 = .ok (.if_icmp .ge 25, 3) := dk_162 0 25 (dk_at dksX2_opened_11 8 rfl rfl)
theorem dX2_opened_263 : decode cX2_opened 263 = .ok (.aload 9, 2) := dk_25 9 (dk_at dksX2_opened_11 11 rfl rfl)
theorem dX2_opened_265 : decode cX2_opened 265 = .ok (.aload 6, 2) := dk_25 6 (dk_at dksX2_opened_11 13 rfl rfl)
theorem dX2_opened_267 : decode cX2_opened 267 = .ok (.iload 10, 2) := dk_21 10 (dk_at dksX2_opened_11 15 rfl rfl)
theorem dX2_opened_269 : decode cX2_opened 269 = .ok (.aaload, 1) := dk_50 (dk_at dksX2_opened_11 17 rfl rfl)
theorem dX2_opened_270 : decode cX2_opened 270 = .ok (.getfield 192, 3) := dk_180 0 192 (dk_at dksX2_opened_11 18 rfl rfl)
theorem dX2_opened_273 : decode cX2_opened 273 = .ok (.invokeinterface 181 2, 5) := by decide +kernel
theorem dX2_opened_278 : decode cX2_opened 278 = .ok (.pop, 1) := dk_87 (dk_at dksX2_opened_12 5 rfl rfl)
theorem dX2_opened_279 : decode cX2_opened 279 = .ok (.iinc 10 1, 3) := dk_132 10 1 (dk_at dksX2_opened_12 6 rfl rfl)
theorem dX2_opened_282 : decode cX2_opened 282 = .ok (.goto (-28), 3) := dk_167 255 228 (dk_at dksX2_opened_12 9 rfl rfl)
theorem dX2_opened_285 : decode cX2_opened 285 = .ok (.aload 9, 2) := dk_25 9 (dk_at dksX2_opened_12 12 rfl rfl)
theorem dX2_opened_287 : decode cX2_opened 287 = .ok (.areturn, 1) := dk_176 (dk_at dksX2_opened_12 14 rfl rfl)
abbrev cX2_presentMembers : ByteArray := prog_24_method_5_code
def yX2_presentMembers : MethodName := ⟨RX2, "presentMembers", "()I"⟩
def dkwX2_presentMembers_1 : List UInt8 := [167, 0, 4, 3, 128, 60, 132, 2, 1, 167, 255, 228, 27, 172]
abbrev dktX2_presentMembers_1 : List UInt8 := dkwX2_presentMembers_1 ++ []
def dkwX2_presentMembers_0 : List UInt8 := [3, 60, 3, 61, 28, 16, 8, 162, 0, 28, 27, 42, 180, 0, 15, 28, 51, 153, 0, 9, 4, 28, 120]
abbrev dktX2_presentMembers_0 : List UInt8 := dkwX2_presentMembers_0 ++ dktX2_presentMembers_1
theorem dksX2_presentMembers_0 : cX2_presentMembers.data.toList.drop 0 = dktX2_presentMembers_0 := by decide +kernel
theorem dksX2_presentMembers_1 : cX2_presentMembers.data.toList.drop 23 = dktX2_presentMembers_1 := dk_seg dksX2_presentMembers_0 23 rfl rfl
theorem dX2_presentMembers_0 : decode cX2_presentMembers 0 = .ok (.iconst 0, 1) := dk_3 (dk_at dksX2_presentMembers_0 0 rfl rfl)
theorem dX2_presentMembers_1 : decode cX2_presentMembers 1 = .ok (.istore_n 1, 1) := dk_60 (dk_at dksX2_presentMembers_0 1 rfl rfl)
theorem dX2_presentMembers_2 : decode cX2_presentMembers 2 = .ok (.iconst 0, 1) := dk_3 (dk_at dksX2_presentMembers_0 2 rfl rfl)
theorem dX2_presentMembers_3 : decode cX2_presentMembers 3 = .ok (.istore_n 2, 1) := dk_61 (dk_at dksX2_presentMembers_0 3 rfl rfl)
theorem dX2_presentMembers_4 : decode cX2_presentMembers 4 = .ok (.iload_n 2, 1) := dk_28 (dk_at dksX2_presentMembers_0 4 rfl rfl)
theorem dX2_presentMembers_5 : decode cX2_presentMembers 5 = .ok (.bipush 8, 2) := dk_16 8 (dk_at dksX2_presentMembers_0 5 rfl rfl)
theorem dX2_presentMembers_7 : decode cX2_presentMembers 7 = .ok (.if_icmp .ge 28, 3) := dk_162 0 28 (dk_at dksX2_presentMembers_0 7 rfl rfl)
theorem dX2_presentMembers_10 : decode cX2_presentMembers 10 = .ok (.iload_n 1, 1) := dk_27 (dk_at dksX2_presentMembers_0 10 rfl rfl)
theorem dX2_presentMembers_11 : decode cX2_presentMembers 11 = .ok (.aload_n 0, 1) := dk_42 (dk_at dksX2_presentMembers_0 11 rfl rfl)
theorem dX2_presentMembers_12 : decode cX2_presentMembers 12 = .ok (.getfield 15, 3) := dk_180 0 15 (dk_at dksX2_presentMembers_0 12 rfl rfl)
theorem dX2_presentMembers_15 : decode cX2_presentMembers 15 = .ok (.iload_n 2, 1) := dk_28 (dk_at dksX2_presentMembers_0 15 rfl rfl)
theorem dX2_presentMembers_16 : decode cX2_presentMembers 16 = .ok (.baload, 1) := dk_51 (dk_at dksX2_presentMembers_0 16 rfl rfl)
theorem dX2_presentMembers_17 : decode cX2_presentMembers 17 = .ok (.ifCond .eq 9, 3) := dk_153 0 9 (dk_at dksX2_presentMembers_0 17 rfl rfl)
theorem dX2_presentMembers_20 : decode cX2_presentMembers 20 = .ok (.iconst 1, 1) := dk_4 (dk_at dksX2_presentMembers_0 20 rfl rfl)
theorem dX2_presentMembers_21 : decode cX2_presentMembers 21 = .ok (.iload_n 2, 1) := dk_28 (dk_at dksX2_presentMembers_0 21 rfl rfl)
theorem dX2_presentMembers_22 : decode cX2_presentMembers 22 = .ok (.ishl, 1) := dk_120 (dk_at dksX2_presentMembers_0 22 rfl rfl)
theorem dX2_presentMembers_23 : decode cX2_presentMembers 23 = .ok (.goto 4, 3) := dk_167 0 4 (dk_at dksX2_presentMembers_1 0 rfl rfl)
theorem dX2_presentMembers_26 : decode cX2_presentMembers 26 = .ok (.iconst 0, 1) := dk_3 (dk_at dksX2_presentMembers_1 3 rfl rfl)
theorem dX2_presentMembers_27 : decode cX2_presentMembers 27 = .ok (.ior, 1) := dk_128 (dk_at dksX2_presentMembers_1 4 rfl rfl)
theorem dX2_presentMembers_28 : decode cX2_presentMembers 28 = .ok (.istore_n 1, 1) := dk_60 (dk_at dksX2_presentMembers_1 5 rfl rfl)
theorem dX2_presentMembers_29 : decode cX2_presentMembers 29 = .ok (.iinc 2 1, 3) := dk_132 2 1 (dk_at dksX2_presentMembers_1 6 rfl rfl)
theorem dX2_presentMembers_32 : decode cX2_presentMembers 32 = .ok (.goto (-28), 3) := dk_167 255 228 (dk_at dksX2_presentMembers_1 9 rfl rfl)
theorem dX2_presentMembers_35 : decode cX2_presentMembers 35 = .ok (.iload_n 1, 1) := dk_27 (dk_at dksX2_presentMembers_1 12 rfl rfl)
theorem dX2_presentMembers_36 : decode cX2_presentMembers 36 = .ok (.ireturn, 1) := dk_172 (dk_at dksX2_presentMembers_1 13 rfl rfl)
abbrev cX2_enroll : ByteArray := prog_24_method_12_code
def yX2_enroll : MethodName := ⟨RX2, "enroll", "(LSecretVault$Secret;Ljava/util/List;I)I"⟩
def dkwX2_enroll_3 : List UInt8 := [167, 255, 194, 21, 4, 172]
abbrev dktX2_enroll_3 : List UInt8 := dkwX2_enroll_3 ++ []
def dkwX2_enroll_2 : List UInt8 := [89, 21, 5, 43, 44, 21, 5, 182, 0, 208, 43, 180, 0, 112, 183, 0, 132, 83, 132, 4, 1, 132, 5, 1]
abbrev dktX2_enroll_2 : List UInt8 := dkwX2_enroll_2 ++ dktX2_enroll_3
def dkwX2_enroll_1 : List UInt8 := [182, 0, 98, 153, 0, 42, 43, 21, 5, 182, 0, 205, 154, 0, 33, 43, 180, 0, 122, 21, 5, 187, 0, 126]
abbrev dktX2_enroll_1 : List UInt8 := dkwX2_enroll_1 ++ dktX2_enroll_2
def dkwX2_enroll_0 : List UInt8 := [3, 54, 4, 29, 184, 0, 95, 54, 5, 21, 5, 29, 4, 96, 184, 0, 95, 162, 0, 57, 42, 21, 5]
abbrev dktX2_enroll_0 : List UInt8 := dkwX2_enroll_0 ++ dktX2_enroll_1
theorem dksX2_enroll_0 : cX2_enroll.data.toList.drop 0 = dktX2_enroll_0 := by decide +kernel
theorem dksX2_enroll_1 : cX2_enroll.data.toList.drop 23 = dktX2_enroll_1 := dk_seg dksX2_enroll_0 23 rfl rfl
theorem dksX2_enroll_2 : cX2_enroll.data.toList.drop 47 = dktX2_enroll_2 := dk_seg dksX2_enroll_1 24 rfl rfl
theorem dksX2_enroll_3 : cX2_enroll.data.toList.drop 71 = dktX2_enroll_3 := dk_seg dksX2_enroll_2 24 rfl rfl
theorem dX2_enroll_0 : decode cX2_enroll 0 = .ok (.iconst 0, 1) := dk_3 (dk_at dksX2_enroll_0 0 rfl rfl)
theorem dX2_enroll_1 : decode cX2_enroll 1 = .ok (.istore 4, 2) := dk_54 4 (dk_at dksX2_enroll_0 1 rfl rfl)
theorem dX2_enroll_3 : decode cX2_enroll 3 = .ok (.iload_n 3, 1) := dk_29 (dk_at dksX2_enroll_0 3 rfl rfl)
theorem dX2_enroll_4 : decode cX2_enroll 4 = .ok (.invokestatic 95, 3) := dk_184 0 95 (dk_at dksX2_enroll_0 4 rfl rfl)
theorem dX2_enroll_7 : decode cX2_enroll 7 = .ok (.istore 5, 2) := dk_54 5 (dk_at dksX2_enroll_0 7 rfl rfl)
theorem dX2_enroll_9 : decode cX2_enroll 9 = .ok (.iload 5, 2) := dk_21 5 (dk_at dksX2_enroll_0 9 rfl rfl)
theorem dX2_enroll_11 : decode cX2_enroll 11 = .ok (.iload_n 3, 1) := dk_29 (dk_at dksX2_enroll_0 11 rfl rfl)
theorem dX2_enroll_12 : decode cX2_enroll 12 = .ok (.iconst 1, 1) := dk_4 (dk_at dksX2_enroll_0 12 rfl rfl)
theorem dX2_enroll_13 : decode cX2_enroll 13 = .ok (.iadd, 1) := dk_96 (dk_at dksX2_enroll_0 13 rfl rfl)
theorem dX2_enroll_14 : decode cX2_enroll 14 = .ok (.invokestatic 95, 3) := dk_184 0 95 (dk_at dksX2_enroll_0 14 rfl rfl)
theorem dX2_enroll_17 : decode cX2_enroll 17 = .ok (.if_icmp .ge 57, 3) := dk_162 0 57 (dk_at dksX2_enroll_0 17 rfl rfl)
theorem dX2_enroll_20 : decode cX2_enroll 20 = .ok (.aload_n 0, 1) := dk_42 (dk_at dksX2_enroll_0 20 rfl rfl)
theorem dX2_enroll_21 : decode cX2_enroll 21 = .ok (.iload 5, 2) := dk_21 5 (dk_at dksX2_enroll_0 21 rfl rfl)
theorem dX2_enroll_23 : decode cX2_enroll 23 = .ok (.invokevirtual 98, 3) := dk_182 0 98 (dk_at dksX2_enroll_1 0 rfl rfl)
theorem dX2_enroll_26 : decode cX2_enroll 26 = .ok (.ifCond .eq 42, 3) := dk_153 0 42 (dk_at dksX2_enroll_1 3 rfl rfl)
theorem dX2_enroll_29 : decode cX2_enroll 29 = .ok (.aload_n 1, 1) := dk_43 (dk_at dksX2_enroll_1 6 rfl rfl)
theorem dX2_enroll_30 : decode cX2_enroll 30 = .ok (.iload 5, 2) := dk_21 5 (dk_at dksX2_enroll_1 7 rfl rfl)
theorem dX2_enroll_32 : decode cX2_enroll 32 = .ok (.invokevirtual 205, 3) := dk_182 0 205 (dk_at dksX2_enroll_1 9 rfl rfl)
theorem dX2_enroll_35 : decode cX2_enroll 35 = .ok (.ifCond .ne 33, 3) := dk_154 0 33 (dk_at dksX2_enroll_1 12 rfl rfl)
theorem dX2_enroll_38 : decode cX2_enroll 38 = .ok (.aload_n 1, 1) := dk_43 (dk_at dksX2_enroll_1 15 rfl rfl)
theorem dX2_enroll_39 : decode cX2_enroll 39 = .ok (.getfield 122, 3) := dk_180 0 122 (dk_at dksX2_enroll_1 16 rfl rfl)
theorem dX2_enroll_42 : decode cX2_enroll 42 = .ok (.iload 5, 2) := dk_21 5 (dk_at dksX2_enroll_1 19 rfl rfl)
theorem dX2_enroll_44 : decode cX2_enroll 44 = .ok (.new 126, 3) := dk_187 0 126 (dk_at dksX2_enroll_1 21 rfl rfl)
theorem dX2_enroll_47 : decode cX2_enroll 47 = .ok (.dup, 1) := dk_89 (dk_at dksX2_enroll_2 0 rfl rfl)
theorem dX2_enroll_48 : decode cX2_enroll 48 = .ok (.iload 5, 2) := dk_21 5 (dk_at dksX2_enroll_2 1 rfl rfl)
theorem dX2_enroll_50 : decode cX2_enroll 50 = .ok (.aload_n 1, 1) := dk_43 (dk_at dksX2_enroll_2 3 rfl rfl)
theorem dX2_enroll_51 : decode cX2_enroll 51 = .ok (.aload_n 2, 1) := dk_44 (dk_at dksX2_enroll_2 4 rfl rfl)
theorem dX2_enroll_52 : decode cX2_enroll 52 = .ok (.iload 5, 2) := dk_21 5 (dk_at dksX2_enroll_2 5 rfl rfl)
theorem dX2_enroll_54 : decode cX2_enroll 54 = .ok (.invokevirtual 208, 3) := dk_182 0 208 (dk_at dksX2_enroll_2 7 rfl rfl)
theorem dX2_enroll_57 : decode cX2_enroll 57 = .ok (.aload_n 1, 1) := dk_43 (dk_at dksX2_enroll_2 10 rfl rfl)
theorem dX2_enroll_58 : decode cX2_enroll 58 = .ok (.getfield 112, 3) := dk_180 0 112 (dk_at dksX2_enroll_2 11 rfl rfl)
theorem dX2_enroll_61 : decode cX2_enroll 61 = .ok (.invokespecial 132, 3) := dk_183 0 132 (dk_at dksX2_enroll_2 14 rfl rfl)
theorem dX2_enroll_64 : decode cX2_enroll 64 = .ok (.aastore, 1) := dk_83 (dk_at dksX2_enroll_2 17 rfl rfl)
theorem dX2_enroll_65 : decode cX2_enroll 65 = .ok (.iinc 4 1, 3) := dk_132 4 1 (dk_at dksX2_enroll_2 18 rfl rfl)
theorem dX2_enroll_68 : decode cX2_enroll 68 = .ok (.iinc 5 1, 3) := dk_132 5 1 (dk_at dksX2_enroll_2 21 rfl rfl)
theorem dX2_enroll_71 : decode cX2_enroll 71 = .ok (.goto (-62), 3) := dk_167 255 194 (dk_at dksX2_enroll_3 0 rfl rfl)
theorem dX2_enroll_74 : decode cX2_enroll 74 = .ok (.iload 4, 2) := dk_21 4 (dk_at dksX2_enroll_3 3 rfl rfl)
theorem dX2_enroll_76 : decode cX2_enroll 76 = .ok (.ireturn, 1) := dk_172 (dk_at dksX2_enroll_3 5 rfl rfl)
theorem q68 : (Jvm.Cond.initialized "SecretVault$World") ∈ lw_all := lw_g (lw_at lw_m1 2 rfl) rfl
theorem q132 : (Jvm.Cond.instantiable "SecretVault$World" (5 : Nat)) ∈ lw_all := lw_g (lw_at lw_m1 66 rfl) rfl
theorem q134 : (Jvm.Cond.instanceMethod ({ cls := "SecretVault$World", name := "<init>", desc := "()V" } : Jvm.MethodName)) ∈ lw_all := lw_g (lw_at lw_m1 68 rfl) rfl
theorem q135 : (Jvm.Cond.code ({ cls := "SecretVault$World", name := "<init>", desc := "()V" } : Jvm.MethodName) prog_24_method_1_code (1 : Nat) (Option.none : Option Jvm.ClassFile.FieldType)) ∈ lw_all := lw_g (lw_at lw_m1 69 rfl) rfl
theorem q136 : (Jvm.Cond.methodLink "SecretVault$World" (3 : Nat) ({ cls := "java/lang/Object", name := "<init>", desc := "()V" } : Jvm.MethodName)) ∈ lw_all := lw_g (lw_at lw_m1 70 rfl) rfl
theorem q137 : (Jvm.Cond.classLink "SecretVault$World" (19 : Nat) "SecretVault$Secret") ∈ lw_all := lw_g (lw_at lw_m1 71 rfl) rfl
theorem q139 : (Jvm.Cond.classLink "SecretVault$World" (25 : Nat) "java/util/ArrayDeque") ∈ lw_all := lw_g (lw_at lw_m1 73 rfl) rfl
theorem q141 : (Jvm.Cond.methodLink "SecretVault$World" (27 : Nat) ({ cls := "java/util/ArrayDeque", name := "<init>", desc := "()V" } : Jvm.MethodName)) ∈ lw_all := lw_g (lw_at lw_m1 75 rfl) rfl
theorem q164 : (Jvm.Cond.methodLink "SecretVault$World" (36 : Nat) ({ cls := "java/util/Arrays", name := "fill", desc := "([II)V" } : Jvm.MethodName)) ∈ lw_all := lw_g (lw_at lw_m1 98 rfl) rfl
theorem q167 : (Jvm.Cond.methodLink "SecretVault$World" (42 : Nat) ({ cls := "java/util/Arrays", name := "fill", desc := "([ZZ)V" } : Jvm.MethodName)) ∈ lw_all := lw_g (lw_at lw_m1 101 rfl) rfl
theorem q170 : (Jvm.Cond.fieldLink "SecretVault$World" (9 : Nat) "SecretVault$World" "weights" "[I") ∈ lw_all := lw_g (lw_at lw_m1 104 rfl) rfl
theorem q172 : (Jvm.Cond.fieldLink "SecretVault$World" (15 : Nat) "SecretVault$World" "present" "[Z") ∈ lw_all := lw_g (lw_at lw_m1 106 rfl) rfl
theorem q175 : (Jvm.Cond.fieldLink "SecretVault$World" (21 : Nat) "SecretVault$World" "secrets" "[LSecretVault$Secret;") ∈ lw_all := lw_g (lw_at lw_m1 109 rfl) rfl
theorem q177 : (Jvm.Cond.fieldLink "SecretVault$World" (28 : Nat) "SecretVault$World" "events" "Ljava/util/ArrayDeque;") ∈ lw_all := lw_g (lw_at lw_m1 111 rfl) rfl
theorem q179 : (Jvm.Cond.fieldLink "SecretVault$World" (32 : Nat) "SecretVault$World" "z" "I") ∈ lw_all := lw_g (lw_at lw_m1 113 rfl) rfl
theorem q181 : (Jvm.Cond.laysFinal "SecretVault$World" "SecretVault$World" "weights" "[I") ∈ lw_all := lw_g (lw_at lw_m1 115 rfl) rfl
theorem q182 : (Jvm.Cond.soleField "SecretVault$World" "weights") ∈ lw_all := lw_g (lw_at lw_m1 116 rfl) rfl
theorem q183 : (Jvm.Cond.laysFinal "SecretVault$World" "SecretVault$World" "present" "[Z") ∈ lw_all := lw_g (lw_at lw_m1 117 rfl) rfl
theorem q184 : (Jvm.Cond.soleField "SecretVault$World" "present") ∈ lw_all := lw_g (lw_at lw_m1 118 rfl) rfl
theorem q185 : (Jvm.Cond.laysFinal "SecretVault$World" "SecretVault$World" "secrets" "[LSecretVault$Secret;") ∈ lw_all := lw_g (lw_at lw_m1 119 rfl) rfl
theorem q186 : (Jvm.Cond.soleField "SecretVault$World" "secrets") ∈ lw_all := lw_g (lw_at lw_m1 120 rfl) rfl
theorem q187 : (Jvm.Cond.laysFinal "SecretVault$World" "SecretVault$World" "events" "Ljava/util/ArrayDeque;") ∈ lw_all := lw_g (lw_at lw_m1 121 rfl) rfl
theorem q188 : (Jvm.Cond.soleField "SecretVault$World" "events") ∈ lw_all := lw_g (lw_at lw_m1 122 rfl) rfl
theorem q189 : (Jvm.Cond.lays "SecretVault$World" "SecretVault$World" "z" "I") ∈ lw_all := lw_g (lw_at lw_m1 123 rfl) rfl
theorem q190 : (Jvm.Cond.soleField "SecretVault$World" "z") ∈ lw_all := lw_g (lw_at lw_m1 124 rfl) rfl
theorem q191 : (Jvm.Cond.superclass "SecretVault$World" "java/lang/Object") ∈ lw_all := lw_g (lw_at lw_m1 125 rfl) rfl
theorem q602 : (Jvm.Cond.instanceMethod ({ cls := "SecretVault$World", name := "draw", desc := "()I" } : Jvm.MethodName)) ∈ lw_all := lw_g (lw_at lw_m3 56 rfl) rfl
theorem q603 : (Jvm.Cond.selects "SecretVault$World" ({ cls := "SecretVault$World", name := "draw", desc := "()I" } : Jvm.MethodName) ({ cls := "SecretVault$World", name := "draw", desc := "()I" } : Jvm.MethodName)) ∈ lw_all := lw_g (lw_at lw_m3 57 rfl) rfl
theorem q604 : (Jvm.Cond.code ({ cls := "SecretVault$World", name := "draw", desc := "()I" } : Jvm.MethodName) prog_24_method_3_code (1 : Nat) (Option.some Jvm.ClassFile.FieldType.int)) ∈ lw_all := lw_g (lw_at lw_m3 58 rfl) rfl
theorem q605 : (Jvm.Cond.constant "SecretVault$World" (84 : Nat) (1103515245 : Int32)) ∈ lw_all := lw_g (lw_at lw_m3 59 rfl) rfl
theorem q636 : (Jvm.Cond.instanceMethod ({ cls := "SecretVault$World", name := "copy", desc := "()LSecretVault$World;" } : Jvm.MethodName)) ∈ lw_all := lw_g (lw_at lw_m3 90 rfl) rfl
theorem q637 : (Jvm.Cond.selects "SecretVault$World" ({ cls := "SecretVault$World", name := "copy", desc := "()LSecretVault$World;" } : Jvm.MethodName) ({ cls := "SecretVault$World", name := "copy", desc := "()LSecretVault$World;" } : Jvm.MethodName)) ∈ lw_all := lw_g (lw_at lw_m3 91 rfl) rfl
theorem q638 : (Jvm.Cond.code ({ cls := "SecretVault$World", name := "copy", desc := "()LSecretVault$World;" } : Jvm.MethodName) prog_24_method_2_code (4 : Nat) (Option.some (Jvm.ClassFile.FieldType.object "SecretVault$World"))) ∈ lw_all := lw_g (lw_at lw_m3 92 rfl) rfl
theorem q639 : (Jvm.Cond.classLink "SecretVault$World" (10 : Nat) "SecretVault$World") ∈ lw_all := lw_g (lw_at lw_m3 93 rfl) rfl
theorem q640 : (Jvm.Cond.methodLink "SecretVault$World" (45 : Nat) ({ cls := "SecretVault$World", name := "<init>", desc := "()V" } : Jvm.MethodName)) ∈ lw_all := lw_g (lw_at lw_m3 94 rfl) rfl
theorem q641 : (Jvm.Cond.methodLink "SecretVault$World" (46 : Nat) ({ cls := "java/lang/System", name := "arraycopy", desc := "(Ljava/lang/Object;ILjava/lang/Object;II)V" } : Jvm.MethodName)) ∈ lw_all := lw_g (lw_at lw_m3 95 rfl) rfl
theorem q642 : (Jvm.Cond.methodLink "SecretVault$World" (52 : Nat) ({ cls := "SecretVault$Secret", name := "copy", desc := "()LSecretVault$Secret;" } : Jvm.MethodName)) ∈ lw_all := lw_g (lw_at lw_m3 96 rfl) rfl
theorem q656 : (Jvm.Cond.fieldLinkNest "SecretVault$World" (109 : Nat) "SecretVault$Secret" "threshold" "I" "SecretVault") ∈ lw_tbl := lw_at lw_m3 110 rfl
theorem q662 : (Jvm.Cond.fieldLinkNest "SecretVault$World" (112 : Nat) "SecretVault$Secret" "epoch" "I" "SecretVault") ∈ lw_tbl := lw_at lw_m3 116 rfl
theorem q665 : (Jvm.Cond.fieldLinkNest "SecretVault$World" (115 : Nat) "SecretVault$Secret" "commitments" "[I" "SecretVault") ∈ lw_tbl := lw_at lw_m3 119 rfl
theorem q670 : (Jvm.Cond.fieldLinkNest "SecretVault$World" (122 : Nat) "SecretVault$Secret" "shares" "[LSecretVault$Share;" "SecretVault") ∈ lw_tbl := lw_at lw_m3 124 rfl
theorem q700 : (Jvm.Cond.fieldLink "SecretVault$World" (196 : Nat) "SecretVault$Share" "place" "I") ∈ lw_all := lw_g (lw_at lw_m3 154 rfl) rfl
theorem q704 : (Jvm.Cond.fieldLinkNest "SecretVault$World" (136 : Nat) "SecretVault$Share" "value" "I" "SecretVault") ∈ lw_tbl := lw_at lw_m3 158 rfl
theorem q710 : (Jvm.Cond.fieldLinkNest "SecretVault$World" (135 : Nat) "SecretVault$Share" "epoch" "I" "SecretVault") ∈ lw_tbl := lw_at lw_m3 164 rfl
theorem q719 : (Jvm.Cond.methodLink "SecretVault$World" (56 : Nat) ({ cls := "java/util/ArrayDeque", name := "iterator", desc := "()Ljava/util/Iterator;" } : Jvm.MethodName)) ∈ lw_all := lw_g (lw_at lw_m3 173 rfl) rfl
theorem q749 : (Jvm.Cond.interfaceEntry "SecretVault$World" (60 : Nat)) ∈ lw_tbl := lw_at lw_m3 203 rfl
theorem q750 : (Jvm.Cond.methodLink "SecretVault$World" (60 : Nat) ({ cls := "java/util/Iterator", name := "hasNext", desc := "()Z" } : Jvm.MethodName)) ∈ lw_all := lw_g (lw_at lw_m3 204 rfl) rfl
theorem q759 : (Jvm.Cond.interfaceEntry "SecretVault$World" (66 : Nat)) ∈ lw_tbl := lw_at lw_m3 213 rfl
theorem q760 : (Jvm.Cond.methodLink "SecretVault$World" (66 : Nat) ({ cls := "java/util/Iterator", name := "next", desc := "()Ljava/lang/Object;" } : Jvm.MethodName)) ∈ lw_all := lw_g (lw_at lw_m3 214 rfl) rfl
theorem q795 : (Jvm.Cond.classLink "SecretVault$World" (70 : Nat) "java/lang/Integer") ∈ lw_all := lw_g (lw_at lw_m4 9 rfl) rfl
theorem q796 : (Jvm.Cond.methodLink "SecretVault$World" (72 : Nat) ({ cls := "java/lang/Integer", name := "intValue", desc := "()I" } : Jvm.MethodName)) ∈ lw_all := lw_g (lw_at lw_m4 10 rfl) rfl
theorem q800 : (Jvm.Cond.methodLink "SecretVault$World" (76 : Nat) ({ cls := "java/lang/Integer", name := "valueOf", desc := "(I)Ljava/lang/Integer;" } : Jvm.MethodName)) ∈ lw_all := lw_g (lw_at lw_m4 14 rfl) rfl
theorem q820 : (Jvm.Cond.methodLink "SecretVault$World" (80 : Nat) ({ cls := "java/util/ArrayDeque", name := "addLast", desc := "(Ljava/lang/Object;)V" } : Jvm.MethodName)) ∈ lw_all := lw_g (lw_at lw_m4 34 rfl) rfl
theorem q875 : (Jvm.Cond.selects "SecretVault$World" ({ cls := "java/lang/Object", name := "getClass", desc := "()Ljava/lang/Class;" } : Jvm.MethodName) ({ cls := "java/lang/Object", name := "getClass", desc := "()Ljava/lang/Class;" } : Jvm.MethodName)) ∈ lw_all := lw_g (lw_at lw_m4 89 rfl) rfl
theorem q1071 : (Jvm.Cond.instanceMethod ({ cls := "SecretVault$World", name := "usedPlaces", desc := "()I" } : Jvm.MethodName)) ∈ lw_all := lw_g (lw_at lw_m5 45 rfl) rfl
theorem q1072 : (Jvm.Cond.selects "SecretVault$World" ({ cls := "SecretVault$World", name := "usedPlaces", desc := "()I" } : Jvm.MethodName) ({ cls := "SecretVault$World", name := "usedPlaces", desc := "()I" } : Jvm.MethodName)) ∈ lw_all := lw_g (lw_at lw_m5 46 rfl) rfl
theorem q1073 : (Jvm.Cond.code ({ cls := "SecretVault$World", name := "usedPlaces", desc := "()I" } : Jvm.MethodName) prog_24_method_7_code (3 : Nat) (Option.some Jvm.ClassFile.FieldType.int)) ∈ lw_all := lw_g (lw_at lw_m5 47 rfl) rfl
theorem q1074 : (Jvm.Cond.methodLinkNest "SecretVault$World" (91 : Nat) ({ cls := "SecretVault", name := "ownerOf", desc := "(I)I" } : Jvm.MethodName) "SecretVault") ∈ lw_tbl := lw_at lw_m5 48 rfl
theorem q1075 : (Jvm.Cond.methodLink "SecretVault$World" (98 : Nat) ({ cls := "SecretVault$World", name := "isUsed", desc := "(I)Z" } : Jvm.MethodName)) ∈ lw_all := lw_g (lw_at lw_m5 49 rfl) rfl
theorem q1076 : (Jvm.Cond.privateMethod ({ cls := "SecretVault$World", name := "isUsed", desc := "(I)Z" } : Jvm.MethodName)) ∈ lw_tbl := lw_at lw_m5 50 rfl
theorem q1077 : (Jvm.Cond.instanceMethod ({ cls := "SecretVault$World", name := "isUsed", desc := "(I)Z" } : Jvm.MethodName)) ∈ lw_all := lw_g (lw_at lw_m5 51 rfl) rfl
theorem q1078 : (Jvm.Cond.code ({ cls := "SecretVault$World", name := "isUsed", desc := "(I)Z" } : Jvm.MethodName) prog_24_method_6_code (3 : Nat) (Option.some Jvm.ClassFile.FieldType.boolean)) ∈ lw_all := lw_g (lw_at lw_m5 52 rfl) rfl
theorem q1079 : (Jvm.Cond.methodLinkNest "SecretVault$World" (95 : Nat) ({ cls := "SecretVault", name := "firstPlace", desc := "(I)I" } : Jvm.MethodName) "SecretVault") ∈ lw_tbl := lw_at lw_m5 53 rfl
theorem q1091 : (Jvm.Cond.instanceMethod ({ cls := "SecretVault$World", name := "deal", desc := "(LSecretVault$Secret;II)V" } : Jvm.MethodName)) ∈ lw_all := lw_g (lw_at lw_m5 65 rfl) rfl
theorem q1092 : (Jvm.Cond.selects "SecretVault$World" ({ cls := "SecretVault$World", name := "deal", desc := "(LSecretVault$Secret;II)V" } : Jvm.MethodName) ({ cls := "SecretVault$World", name := "deal", desc := "(LSecretVault$Secret;II)V" } : Jvm.MethodName)) ∈ lw_all := lw_g (lw_at lw_m5 66 rfl) rfl
theorem q1093 : (Jvm.Cond.code ({ cls := "SecretVault$World", name := "deal", desc := "(LSecretVault$Secret;II)V" } : Jvm.MethodName) prog_24_method_9_code (7 : Nat) (Option.none : Option Jvm.ClassFile.FieldType)) ∈ lw_all := lw_g (lw_at lw_m5 67 rfl) rfl
theorem q1094 : (Jvm.Cond.methodLink "SecretVault$World" (105 : Nat) ({ cls := "SecretVault$World", name := "drawn", desc := "(II)[I" } : Jvm.MethodName)) ∈ lw_all := lw_g (lw_at lw_m5 68 rfl) rfl
theorem q1095 : (Jvm.Cond.privateMethod ({ cls := "SecretVault$World", name := "drawn", desc := "(II)[I" } : Jvm.MethodName)) ∈ lw_tbl := lw_at lw_m5 69 rfl
theorem q1096 : (Jvm.Cond.instanceMethod ({ cls := "SecretVault$World", name := "drawn", desc := "(II)[I" } : Jvm.MethodName)) ∈ lw_all := lw_g (lw_at lw_m5 70 rfl) rfl
theorem q1097 : (Jvm.Cond.code ({ cls := "SecretVault$World", name := "drawn", desc := "(II)[I" } : Jvm.MethodName) prog_24_method_8_code (5 : Nat) (Option.some (Jvm.ClassFile.FieldType.array Jvm.ClassFile.FieldType.int))) ∈ lw_all := lw_g (lw_at lw_m5 71 rfl) rfl
theorem q1098 : (Jvm.Cond.methodLink "SecretVault$World" (102 : Nat) ({ cls := "SecretVault$World", name := "draw", desc := "()I" } : Jvm.MethodName)) ∈ lw_all := lw_g (lw_at lw_m5 72 rfl) rfl
theorem q1099 : (Jvm.Cond.methodLinkNest "SecretVault$World" (118 : Nat) ({ cls := "SecretVault", name := "power", desc := "(III)I" } : Jvm.MethodName) "SecretVault") ∈ lw_tbl := lw_at lw_m5 73 rfl
theorem q1100 : (Jvm.Cond.classLink "SecretVault$World" (126 : Nat) "SecretVault$Share") ∈ lw_all := lw_g (lw_at lw_m5 74 rfl) rfl
theorem q1101 : (Jvm.Cond.methodLinkNest "SecretVault$World" (128 : Nat) ({ cls := "SecretVault", name := "valueAt", desc := "([II)I" } : Jvm.MethodName) "SecretVault") ∈ lw_tbl := lw_at lw_m5 75 rfl
theorem q1104 : (Jvm.Cond.methodLink "SecretVault$World" (132 : Nat) ({ cls := "SecretVault$Share", name := "<init>", desc := "(III)V" } : Jvm.MethodName)) ∈ lw_all := lw_g (lw_at lw_m5 78 rfl) rfl
theorem q1106 : (Jvm.Cond.instanceMethod ({ cls := "SecretVault$World", name := "note", desc := "(I)V" } : Jvm.MethodName)) ∈ lw_all := lw_g (lw_at lw_m5 80 rfl) rfl
theorem q1107 : (Jvm.Cond.selects "SecretVault$World" ({ cls := "SecretVault$World", name := "note", desc := "(I)V" } : Jvm.MethodName) ({ cls := "SecretVault$World", name := "note", desc := "(I)V" } : Jvm.MethodName)) ∈ lw_all := lw_g (lw_at lw_m5 81 rfl) rfl
theorem q1108 : (Jvm.Cond.code ({ cls := "SecretVault$World", name := "note", desc := "(I)V" } : Jvm.MethodName) prog_24_method_4_code (2 : Nat) (Option.none : Option Jvm.ClassFile.FieldType)) ∈ lw_all := lw_g (lw_at lw_m5 82 rfl) rfl
theorem q1109 : (Jvm.Cond.methodLink "SecretVault$World" (85 : Nat) ({ cls := "java/util/ArrayDeque", name := "size", desc := "()I" } : Jvm.MethodName)) ∈ lw_all := lw_g (lw_at lw_m5 83 rfl) rfl
theorem q1110 : (Jvm.Cond.methodLink "SecretVault$World" (88 : Nat) ({ cls := "java/util/ArrayDeque", name := "removeFirst", desc := "()Ljava/lang/Object;" } : Jvm.MethodName)) ∈ lw_all := lw_g (lw_at lw_m5 84 rfl) rfl
theorem q1152 : (Jvm.Cond.instanceMethod ({ cls := "SecretVault$World", name := "refresh", desc := "(LSecretVault$Secret;)I" } : Jvm.MethodName)) ∈ lw_all := lw_g (lw_at lw_m5 126 rfl) rfl
theorem q1153 : (Jvm.Cond.selects "SecretVault$World" ({ cls := "SecretVault$World", name := "refresh", desc := "(LSecretVault$Secret;)I" } : Jvm.MethodName) ({ cls := "SecretVault$World", name := "refresh", desc := "(LSecretVault$Secret;)I" } : Jvm.MethodName)) ∈ lw_all := lw_g (lw_at lw_m5 127 rfl) rfl
theorem q1154 : (Jvm.Cond.code ({ cls := "SecretVault$World", name := "refresh", desc := "(LSecretVault$Secret;)I" } : Jvm.MethodName) prog_24_method_10_code (6 : Nat) (Option.some Jvm.ClassFile.FieldType.int)) ∈ lw_all := lw_g (lw_at lw_m5 128 rfl) rfl
theorem q1155 : (Jvm.Cond.methodLinkNest "SecretVault$World" (139 : Nat) ({ cls := "SecretVault", name := "times", desc := "(III)I" } : Jvm.MethodName) "SecretVault") ∈ lw_tbl := lw_at lw_m5 129 rfl
theorem q1174 : (Jvm.Cond.instanceMethod ({ cls := "SecretVault$World", name := "opened", desc := "(II)Ljava/util/List;" } : Jvm.MethodName)) ∈ lw_all := lw_g (lw_at lw_m5 148 rfl) rfl
theorem q1175 : (Jvm.Cond.selects "SecretVault$World" ({ cls := "SecretVault$World", name := "opened", desc := "(II)Ljava/util/List;" } : Jvm.MethodName) ({ cls := "SecretVault$World", name := "opened", desc := "(II)Ljava/util/List;" } : Jvm.MethodName)) ∈ lw_all := lw_g (lw_at lw_m5 149 rfl) rfl
theorem q1176 : (Jvm.Cond.codeWith ({ cls := "SecretVault$World", name := "opened", desc := "(II)Ljava/util/List;" } : Jvm.MethodName) prog_24_method_11_code (12 : Nat) (Option.some (Jvm.ClassFile.FieldType.object "java/util/List")) [((115 : Nat), (125 : Nat), (128 : Nat), (179 : Nat))]) ∈ lw_all := lw_g (lw_at lw_m5 150 rfl) rfl
theorem q1177 : (Jvm.Cond.classLink "SecretVault$World" (179 : Nat) "java/lang/ArrayStoreException") ∈ lw_all := lw_g (lw_at lw_m5 151 rfl) rfl
theorem q1191 : (Jvm.Cond.methodLink "SecretVault$World" (142 : Nat) ({ cls := "SecretVault$World", name := "presentMembers", desc := "()I" } : Jvm.MethodName)) ∈ lw_all := lw_g (lw_at lw_m5 165 rfl) rfl
theorem q1192 : (Jvm.Cond.instanceMethod ({ cls := "SecretVault$World", name := "presentMembers", desc := "()I" } : Jvm.MethodName)) ∈ lw_all := lw_g (lw_at lw_m5 166 rfl) rfl
theorem q1193 : (Jvm.Cond.selects "SecretVault$World" ({ cls := "SecretVault$World", name := "presentMembers", desc := "()I" } : Jvm.MethodName) ({ cls := "SecretVault$World", name := "presentMembers", desc := "()I" } : Jvm.MethodName)) ∈ lw_all := lw_g (lw_at lw_m5 167 rfl) rfl
theorem q1194 : (Jvm.Cond.code ({ cls := "SecretVault$World", name := "presentMembers", desc := "()I" } : Jvm.MethodName) prog_24_method_5_code (3 : Nat) (Option.some Jvm.ClassFile.FieldType.int)) ∈ lw_all := lw_g (lw_at lw_m5 168 rfl) rfl
theorem q1195 : (Jvm.Cond.methodLink "SecretVault$World" (145 : Nat) ({ cls := "SecretVault$Secret", name := "isFulfilled", desc := "(I)Z" } : Jvm.MethodName)) ∈ lw_all := lw_g (lw_at lw_m5 169 rfl) rfl
theorem q1256 : (Jvm.Cond.classLink "SecretVault$World" (148 : Nat) "SecretVault$PolicyFailure") ∈ lw_all := lw_g (lw_at lw_m5 230 rfl) rfl
theorem q1265 : (Jvm.Cond.methodLink "SecretVault$World" (150 : Nat) ({ cls := "SecretVault$PolicyFailure", name := "<init>", desc := "(II)V" } : Jvm.MethodName)) ∈ lw_all := lw_g (lw_at lw_m5 239 rfl) rfl
theorem q1304 : (Jvm.Cond.methodLink "SecretVault$World" (153 : Nat) ({ cls := "SecretVault$Secret", name := "sharesOf", desc := "(I)Ljava/util/List;" } : Jvm.MethodName)) ∈ lw_all := lw_g (lw_at lw_m6 38 rfl) rfl
theorem q1305 : (Jvm.Cond.interfaceEntry "SecretVault$World" (157 : Nat)) ∈ lw_tbl := lw_at lw_m6 39 rfl
theorem q1306 : (Jvm.Cond.methodLink "SecretVault$World" (157 : Nat) ({ cls := "java/util/List", name := "size", desc := "()I" } : Jvm.MethodName)) ∈ lw_all := lw_g (lw_at lw_m6 40 rfl) rfl
theorem q1307 : (Jvm.Cond.classLink "SecretVault$World" (160 : Nat) "SecretVault$Usable") ∈ lw_all := lw_g (lw_at lw_m6 41 rfl) rfl
theorem q1309 : (Jvm.Cond.classLink "SecretVault$World" (162 : Nat) "java/util/ArrayList") ∈ lw_all := lw_g (lw_at lw_m6 43 rfl) rfl
theorem q1310 : (Jvm.Cond.methodLink "SecretVault$World" (164 : Nat) ({ cls := "java/util/ArrayList", name := "<init>", desc := "()V" } : Jvm.MethodName)) ∈ lw_all := lw_g (lw_at lw_m6 44 rfl) rfl
theorem q1311 : (Jvm.Cond.interfaceEntry "SecretVault$World" (165 : Nat)) ∈ lw_tbl := lw_at lw_m6 45 rfl
theorem q1312 : (Jvm.Cond.methodLink "SecretVault$World" (165 : Nat) ({ cls := "java/util/List", name := "get", desc := "(I)Ljava/lang/Object;" } : Jvm.MethodName)) ∈ lw_all := lw_g (lw_at lw_m6 46 rfl) rfl
theorem q1313 : (Jvm.Cond.methodLink "SecretVault$World" (169 : Nat) ({ cls := "SecretVault$Secret", name := "stateOf", desc := "(LSecretVault$Share;)LSecretVault$State;" } : Jvm.MethodName)) ∈ lw_all := lw_g (lw_at lw_m6 47 rfl) rfl
theorem q1328 : (Jvm.Cond.methodLink "SecretVault$World" (173 : Nat) ({ cls := "SecretVault$State", name := "judge", desc := "(LSecretVault$Share;)LSecretVault$Judged;" } : Jvm.MethodName)) ∈ lw_all := lw_g (lw_at lw_m6 62 rfl) rfl
theorem q1344 : (Jvm.Cond.fieldLink "SecretVault$World" (192 : Nat) "SecretVault$Judged" "share" "LSecretVault$Share;") ∈ lw_all := lw_g (lw_at lw_m6 78 rfl) rfl
theorem q1373 : (Jvm.Cond.interfaceEntry "SecretVault$World" (181 : Nat)) ∈ lw_tbl := lw_at lw_m6 107 rfl
theorem q1374 : (Jvm.Cond.methodLink "SecretVault$World" (181 : Nat) ({ cls := "java/util/List", name := "add", desc := "(Ljava/lang/Object;)Z" } : Jvm.MethodName)) ∈ lw_all := lw_g (lw_at lw_m6 108 rfl) rfl
theorem q1375 : (Jvm.Cond.classLink "SecretVault$World" (185 : Nat) "SecretVault$Cause") ∈ lw_all := lw_g (lw_at lw_m6 109 rfl) rfl
theorem q1376 : (Jvm.Cond.classLink "SecretVault$World" (187 : Nat) "SecretVault$Judged") ∈ lw_all := lw_g (lw_at lw_m6 110 rfl) rfl
theorem q1377 : (Jvm.Cond.methodLink "SecretVault$World" (189 : Nat) ({ cls := "SecretVault$Judged", name := "code", desc := "()I" } : Jvm.MethodName)) ∈ lw_all := lw_g (lw_at lw_m6 111 rfl) rfl
theorem q1401 : (Jvm.Cond.methodLink "SecretVault$World" (199 : Nat) ({ cls := "SecretVault$Cause", name := "<init>", desc := "(IILSecretVault$Cause;)V" } : Jvm.MethodName)) ∈ lw_all := lw_g (lw_at lw_m6 135 rfl) rfl
theorem q1402 : (Jvm.Cond.classLink "SecretVault$World" (202 : Nat) "SecretVault$ShareFailure") ∈ lw_all := lw_g (lw_at lw_m6 136 rfl) rfl
theorem q1411 : (Jvm.Cond.methodLink "SecretVault$World" (204 : Nat) ({ cls := "SecretVault$ShareFailure", name := "<init>", desc := "(IILSecretVault$Cause;)V" } : Jvm.MethodName)) ∈ lw_all := lw_g (lw_at lw_m6 145 rfl) rfl
theorem q1464 : (Jvm.Cond.instanceMethod ({ cls := "SecretVault$World", name := "enroll", desc := "(LSecretVault$Secret;Ljava/util/List;I)I" } : Jvm.MethodName)) ∈ lw_all := lw_g (lw_at lw_m6 198 rfl) rfl
theorem q1465 : (Jvm.Cond.selects "SecretVault$World" ({ cls := "SecretVault$World", name := "enroll", desc := "(LSecretVault$Secret;Ljava/util/List;I)I" } : Jvm.MethodName) ({ cls := "SecretVault$World", name := "enroll", desc := "(LSecretVault$Secret;Ljava/util/List;I)I" } : Jvm.MethodName)) ∈ lw_all := lw_g (lw_at lw_m6 199 rfl) rfl
theorem q1466 : (Jvm.Cond.code ({ cls := "SecretVault$World", name := "enroll", desc := "(LSecretVault$Secret;Ljava/util/List;I)I" } : Jvm.MethodName) prog_24_method_12_code (6 : Nat) (Option.some Jvm.ClassFile.FieldType.int)) ∈ lw_all := lw_g (lw_at lw_m6 200 rfl) rfl
theorem q1467 : (Jvm.Cond.methodLink "SecretVault$World" (205 : Nat) ({ cls := "SecretVault$Secret", name := "isGood", desc := "(I)Z" } : Jvm.MethodName)) ∈ lw_all := lw_g (lw_at lw_m6 201 rfl) rfl
theorem q1468 : (Jvm.Cond.methodLink "SecretVault$World" (208 : Nat) ({ cls := "SecretVault$Secret", name := "interpolated", desc := "(Ljava/util/List;I)I" } : Jvm.MethodName)) ∈ lw_all := lw_g (lw_at lw_m6 202 rfl) rfl
theorem q2567 : (Jvm.Cond.castable "SecretVault$World" "java/lang/Object") ∈ lw_tbl := lw_at lw_m11 101 rfl
theorem in_X2 : ∀ w ∈ wsX20, w ∈ lw_all := lw_in wsX20 [181, 183, 185, 187, 189] (by decide +kernel) (by decide +kernel)

/-! SecretVault$State -/
set_option maxRecDepth 100000
def RX4 : String := "SecretVault$State"
abbrev cX4_values : ByteArray := prog_17_method_1_code
def yX4_values : MethodName := ⟨RX4, "values", "()[LSecretVault$State;"⟩
def dkwX4_values_0 : List UInt8 := [178, 0, 13, 182, 0, 17, 192, 0, 18, 176]
abbrev dktX4_values_0 : List UInt8 := dkwX4_values_0 ++ []
theorem dksX4_values_0 : cX4_values.data.toList.drop 0 = dktX4_values_0 := by decide +kernel
theorem dX4_values_0 : decode cX4_values 0 = .ok (.getstatic 13, 3) := dk_178 0 13 (dk_at dksX4_values_0 0 rfl rfl)
theorem dX4_values_3 : decode cX4_values 3 = .ok (.invokevirtual 17, 3) := dk_182 0 17 (dk_at dksX4_values_0 3 rfl rfl)
theorem dX4_values_6 : decode cX4_values 6 = .ok (.checkcast 18, 3) := dk_192 0 18 (dk_at dksX4_values_0 6 rfl rfl)
theorem dX4_values_9 : decode cX4_values 9 = .ok (.areturn, 1) := dk_176 (dk_at dksX4_values_0 9 rfl rfl)
theorem q94 : (Jvm.Cond.initialized "SecretVault$State") ∈ lw_all := lw_g (lw_at lw_m1 28 rfl) rfl
theorem q1037 : (Jvm.Cond.laysStatic "SecretVault$State" "GOOD" "LSecretVault$State;") ∈ lw_tbl := lw_at lw_m5 11 rfl
theorem q1039 : (Jvm.Cond.declares ({ cls := "SecretVault$State", name := "fits", desc := "(LSecretVault$Share;LSecretVault$Secret;)Z" } : Jvm.MethodName)) ∈ lw_tbl := lw_at lw_m5 13 rfl
theorem q1040 : (Jvm.Cond.sameMethod "SecretVault$State" "SecretVault$State" "fits" "(LSecretVault$Share;LSecretVault$Secret;)Z") ∈ lw_all := lw_g (lw_at lw_m5 14 rfl) rfl
theorem q1318 : (Jvm.Cond.static ({ cls := "SecretVault$State", name := "values", desc := "()[LSecretVault$State;" } : Jvm.MethodName)) ∈ lw_all := lw_g (lw_at lw_m6 52 rfl) rfl
theorem q1319 : (Jvm.Cond.code ({ cls := "SecretVault$State", name := "values", desc := "()[LSecretVault$State;" } : Jvm.MethodName) prog_17_method_1_code (0 : Nat) (Option.some (Jvm.ClassFile.FieldType.array (Jvm.ClassFile.FieldType.object "SecretVault$State")))) ∈ lw_all := lw_g (lw_at lw_m6 53 rfl) rfl
theorem q1320 : (Jvm.Cond.fieldLink "SecretVault$State" (13 : Nat) "SecretVault$State" "$VALUES" "[LSecretVault$State;") ∈ lw_all := lw_g (lw_at lw_m6 54 rfl) rfl
theorem q1321 : (Jvm.Cond.laysStatic "SecretVault$State" "$VALUES" "[LSecretVault$State;") ∈ lw_tbl := lw_at lw_m6 55 rfl
theorem q1322 : (Jvm.Cond.methodLink "SecretVault$State" (17 : Nat) ({ cls := "[LSecretVault$State;", name := "clone", desc := "()Ljava/lang/Object;" } : Jvm.MethodName)) ∈ lw_all := lw_g (lw_at lw_m6 56 rfl) rfl
theorem q1327 : (Jvm.Cond.classLink "SecretVault$State" (18 : Nat) "[LSecretVault$State;") ∈ lw_all := lw_g (lw_at lw_m6 61 rfl) rfl
theorem q1329 : (Jvm.Cond.declares ({ cls := "SecretVault$State", name := "judge", desc := "(LSecretVault$Share;)LSecretVault$Judged;" } : Jvm.MethodName)) ∈ lw_tbl := lw_at lw_m6 63 rfl
theorem q1330 : (Jvm.Cond.sameMethod "SecretVault$State" "SecretVault$State" "judge" "(LSecretVault$Share;)LSecretVault$Judged;") ∈ lw_all := lw_g (lw_at lw_m6 64 rfl) rfl
theorem q1518 : (Jvm.Cond.laysStatic "SecretVault$State" "STALE" "LSecretVault$State;") ∈ lw_tbl := lw_at lw_m7 12 rfl
theorem q1520 : (Jvm.Cond.laysStatic "SecretVault$State" "WRONG" "LSecretVault$State;") ∈ lw_tbl := lw_at lw_m7 14 rfl
theorem q1544 : (Jvm.Cond.sameMethod "SecretVault$State" "java/lang/Enum" "ordinal" "()I") ∈ lw_all := lw_g (lw_at lw_m7 38 rfl) rfl
theorem q2565 : (Jvm.Cond.castable "SecretVault$State" "java/lang/Object") ∈ lw_tbl := lw_at lw_m11 99 rfl

/-! SecretVault$Secret -/
set_option maxRecDepth 100000
def RX5 : String := "SecretVault$Secret"
def TX5 : u_T := fun k => match k with
  | 0 => ("SecretVault$Secret", "threshold", "I", false)
  | 1 => ("SecretVault$Secret", "epoch", "I", false)
  | 2 => ("SecretVault$Secret", "commitments", "[I", false)
  | 3 => ("SecretVault$Secret", "policy", "LSecretVault$Policy;", false)
  | _ => ("SecretVault$Secret", "shares", "[LSecretVault$Share;", true)
def tyX5 : Nat → FieldType := fun k => match k with
  | 0 => .int
  | 1 => .int
  | 2 => .array .int
  | 3 => .object "SecretVault$Policy"
  | _ => .array (.object "SecretVault$Share")
abbrev wsX50 : List Cond := u_ws RX5 TX5 5
theorem nmX5 : ∀ a, a < 5 → ∀ b, b < 5 → a ≠ b → (TX5 a).2.1 ≠ (TX5 b).2.1 := by decide +kernel
theorem tyX5_ok : ∀ k, k < 5 → parseFieldDescriptor (TX5 k).2.2.1 = some (tyX5 k) := by decide +kernel
abbrev cX5_copy : ByteArray := prog_12_method_2_code
def yX5_copy : MethodName := ⟨RX5, "copy", "()LSecretVault$Secret;"⟩
def dkwX5_copy_3 : List UInt8 := [42, 180, 0, 11, 28, 50, 182, 0, 38, 83, 132, 2, 1, 167, 255, 219, 43, 176]
abbrev dktX5_copy_3 : List UInt8 := dkwX5_copy_3 ++ []
def dkwX5_copy_2 : List UInt8 := [28, 16, 24, 163, 0, 37, 43, 180, 0, 11, 28, 42, 180, 0, 11, 28, 50, 199, 0, 7, 1, 167, 0, 12]
abbrev dktX5_copy_2 : List UInt8 := dkwX5_copy_2 ++ dktX5_copy_3
def dkwX5_copy_1 : List UInt8 := [43, 42, 180, 0, 25, 182, 0, 29, 192, 0, 30, 181, 0, 25, 43, 42, 180, 0, 34, 181, 0, 34, 4, 61]
abbrev dktX5_copy_1 : List UInt8 := dkwX5_copy_1 ++ dktX5_copy_2
def dkwX5_copy_0 : List UInt8 := [187, 0, 12, 89, 183, 0, 17, 76, 43, 42, 180, 0, 18, 181, 0, 18, 43, 42, 180, 0, 22, 181, 0, 22]
abbrev dktX5_copy_0 : List UInt8 := dkwX5_copy_0 ++ dktX5_copy_1
theorem dksX5_copy_0 : cX5_copy.data.toList.drop 0 = dktX5_copy_0 := by decide +kernel
theorem dksX5_copy_1 : cX5_copy.data.toList.drop 24 = dktX5_copy_1 := dk_seg dksX5_copy_0 24 rfl rfl
theorem dksX5_copy_2 : cX5_copy.data.toList.drop 48 = dktX5_copy_2 := dk_seg dksX5_copy_1 24 rfl rfl
theorem dksX5_copy_3 : cX5_copy.data.toList.drop 72 = dktX5_copy_3 := dk_seg dksX5_copy_2 24 rfl rfl
theorem dX5_copy_0 : decode cX5_copy 0 = .ok (.new 12, 3) := dk_187 0 12 (dk_at dksX5_copy_0 0 rfl rfl)
theorem dX5_copy_3 : decode cX5_copy 3 = .ok (.dup, 1) := dk_89 (dk_at dksX5_copy_0 3 rfl rfl)
theorem dX5_copy_4 : decode cX5_copy 4 = .ok (.invokespecial 17, 3) := dk_183 0 17 (dk_at dksX5_copy_0 4 rfl rfl)
theorem dX5_copy_7 : decode cX5_copy 7 = .ok (.astore_n 1, 1) := dk_76 (dk_at dksX5_copy_0 7 rfl rfl)
theorem dX5_copy_8 : decode cX5_copy 8 = .ok (.aload_n 1, 1) := dk_43 (dk_at dksX5_copy_0 8 rfl rfl)
theorem dX5_copy_9 : decode cX5_copy 9 = .ok (.aload_n 0, 1) := dk_42 (dk_at dksX5_copy_0 9 rfl rfl)
theorem dX5_copy_10 : decode cX5_copy 10 = .ok (.getfield 18, 3) := dk_180 0 18 (dk_at dksX5_copy_0 10 rfl rfl)
theorem dX5_copy_13 : decode cX5_copy 13 = .ok (.putfield 18, 3) := dk_181 0 18 (dk_at dksX5_copy_0 13 rfl rfl)
theorem dX5_copy_16 : decode cX5_copy 16 = .ok (.aload_n 1, 1) := dk_43 (dk_at dksX5_copy_0 16 rfl rfl)
theorem dX5_copy_17 : decode cX5_copy 17 = .ok (.aload_n 0, 1) := dk_42 (dk_at dksX5_copy_0 17 rfl rfl)
theorem dX5_copy_18 : decode cX5_copy 18 = .ok (.getfield 22, 3) := dk_180 0 22 (dk_at dksX5_copy_0 18 rfl rfl)
theorem dX5_copy_21 : decode cX5_copy 21 = .ok (.putfield 22, 3) := dk_181 0 22 (dk_at dksX5_copy_0 21 rfl rfl)
theorem dX5_copy_24 : decode cX5_copy 24 = .ok (.aload_n 1, 1) := dk_43 (dk_at dksX5_copy_1 0 rfl rfl)
theorem dX5_copy_25 : decode cX5_copy 25 = .ok (.aload_n 0, 1) := dk_42 (dk_at dksX5_copy_1 1 rfl rfl)
theorem dX5_copy_26 : decode cX5_copy 26 = .ok (.getfield 25, 3) := dk_180 0 25 (dk_at dksX5_copy_1 2 rfl rfl)
theorem dX5_copy_29 : decode cX5_copy 29 = .ok (.invokevirtual 29, 3) := dk_182 0 29 (dk_at dksX5_copy_1 5 rfl rfl)
theorem dX5_copy_32 : decode cX5_copy 32 = .ok (.checkcast 30, 3) := dk_192 0 30 (dk_at dksX5_copy_1 8 rfl rfl)
theorem dX5_copy_35 : decode cX5_copy 35 = .ok (.putfield 25, 3) := dk_181 0 25 (dk_at dksX5_copy_1 11 rfl rfl)
theorem dX5_copy_38 : decode cX5_copy 38 = .ok (.aload_n 1, 1) := dk_43 (dk_at dksX5_copy_1 14 rfl rfl)
theorem dX5_copy_39 : decode cX5_copy 39 = .ok (.aload_n 0, 1) := dk_42 (dk_at dksX5_copy_1 15 rfl rfl)
theorem dX5_copy_40 : decode cX5_copy 40 = .ok (.getfield 34, 3) := dk_180 0 34 (dk_at dksX5_copy_1 16 rfl rfl)
theorem dX5_copy_43 : decode cX5_copy 43 = .ok (.putfield 34, 3) := dk_181 0 34 (dk_at dksX5_copy_1 19 rfl rfl)
theorem dX5_copy_46 : decode cX5_copy 46 = .ok (.iconst 1, 1) := dk_4 (dk_at dksX5_copy_1 22 rfl rfl)
theorem dX5_copy_47 : decode cX5_copy 47 = .ok (.istore_n 2, 1) := dk_61 (dk_at dksX5_copy_1 23 rfl rfl)
theorem dX5_copy_48 : decode cX5_copy 48 = .ok (.iload_n 2, 1) := dk_28 (dk_at dksX5_copy_2 0 rfl rfl)
theorem dX5_copy_49 : decode cX5_copy 49 = .ok (.bipush 24, 2) := dk_16 24 (dk_at dksX5_copy_2 1 rfl rfl)
theorem dX5_copy_51 : decode cX5_copy 51 = .ok (.if_icmp .gt 37, 3) := dk_163 0 37 (dk_at dksX5_copy_2 3 rfl rfl)
theorem dX5_copy_54 : decode cX5_copy 54 = .ok (.aload_n 1, 1) := dk_43 (dk_at dksX5_copy_2 6 rfl rfl)
theorem dX5_copy_55 : decode cX5_copy 55 = .ok (.getfield 11, 3) := dk_180 0 11 (dk_at dksX5_copy_2 7 rfl rfl)
theorem dX5_copy_58 : decode cX5_copy 58 = .ok (.iload_n 2, 1) := dk_28 (dk_at dksX5_copy_2 10 rfl rfl)
theorem dX5_copy_59 : decode cX5_copy 59 = .ok (.aload_n 0, 1) := dk_42 (dk_at dksX5_copy_2 11 rfl rfl)
theorem dX5_copy_60 : decode cX5_copy 60 = .ok (.getfield 11, 3) := dk_180 0 11 (dk_at dksX5_copy_2 12 rfl rfl)
theorem dX5_copy_63 : decode cX5_copy 63 = .ok (.iload_n 2, 1) := dk_28 (dk_at dksX5_copy_2 15 rfl rfl)
theorem dX5_copy_64 : decode cX5_copy 64 = .ok (.aaload, 1) := dk_50 (dk_at dksX5_copy_2 16 rfl rfl)
theorem dX5_copy_65 : decode cX5_copy 65 = .ok (.ifnonnull 7, 3) := dk_199 0 7 (dk_at dksX5_copy_2 17 rfl rfl)
theorem dX5_copy_68 : decode cX5_copy 68 = .ok (.aconst_null, 1) := dk_1 (dk_at dksX5_copy_2 20 rfl rfl)
theorem dX5_copy_69 : decode cX5_copy 69 = .ok (.goto 12, 3) := dk_167 0 12 (dk_at dksX5_copy_2 21 rfl rfl)
theorem dX5_copy_72 : decode cX5_copy 72 = .ok (.aload_n 0, 1) := dk_42 (dk_at dksX5_copy_3 0 rfl rfl)
theorem dX5_copy_73 : decode cX5_copy 73 = .ok (.getfield 11, 3) := dk_180 0 11 (dk_at dksX5_copy_3 1 rfl rfl)
theorem dX5_copy_76 : decode cX5_copy 76 = .ok (.iload_n 2, 1) := dk_28 (dk_at dksX5_copy_3 4 rfl rfl)
theorem dX5_copy_77 : decode cX5_copy 77 = .ok (.aaload, 1) := dk_50 (dk_at dksX5_copy_3 5 rfl rfl)
theorem dX5_copy_78 : decode cX5_copy 78 = .ok (.invokevirtual 38, 3) := dk_182 0 38 (dk_at dksX5_copy_3 6 rfl rfl)
theorem dX5_copy_81 : decode cX5_copy 81 = .ok (.aastore, 1) := dk_83 (dk_at dksX5_copy_3 9 rfl rfl)
theorem dX5_copy_82 : decode cX5_copy 82 = .ok (.iinc 2 1, 3) := dk_132 2 1 (dk_at dksX5_copy_3 10 rfl rfl)
theorem dX5_copy_85 : decode cX5_copy 85 = .ok (.goto (-37), 3) := dk_167 255 219 (dk_at dksX5_copy_3 13 rfl rfl)
theorem dX5_copy_88 : decode cX5_copy 88 = .ok (.aload_n 1, 1) := dk_43 (dk_at dksX5_copy_3 16 rfl rfl)
theorem dX5_copy_89 : decode cX5_copy 89 = .ok (.areturn, 1) := dk_176 (dk_at dksX5_copy_3 17 rfl rfl)
abbrev cX5_init : ByteArray := prog_12_method_1_code
def yX5_init : MethodName := ⟨RX5, "<init>", "()V"⟩
def dkwX5_init_0 : List UInt8 := [42, 183, 0, 3, 42, 16, 25, 189, 0, 9, 181, 0, 11, 177]
abbrev dktX5_init_0 : List UInt8 := dkwX5_init_0 ++ []
theorem dksX5_init_0 : cX5_init.data.toList.drop 0 = dktX5_init_0 := by decide +kernel
theorem dX5_init_0 : decode cX5_init 0 = .ok (.aload_n 0, 1) := dk_42 (dk_at dksX5_init_0 0 rfl rfl)
theorem dX5_init_1 : decode cX5_init 1 = .ok (.invokespecial 3, 3) := dk_183 0 3 (dk_at dksX5_init_0 1 rfl rfl)
theorem dX5_init_4 : decode cX5_init 4 = .ok (.aload_n 0, 1) := dk_42 (dk_at dksX5_init_0 4 rfl rfl)
theorem dX5_init_5 : decode cX5_init 5 = .ok (.bipush 25, 2) := dk_16 25 (dk_at dksX5_init_0 5 rfl rfl)
theorem dX5_init_7 : decode cX5_init 7 = .ok (.anewarray 9, 3) := dk_189 0 9 (dk_at dksX5_init_0 7 rfl rfl)
theorem dX5_init_10 : decode cX5_init 10 = .ok (.putfield 11, 3) := dk_181 0 11 (dk_at dksX5_init_0 10 rfl rfl)
theorem dX5_init_13 : decode cX5_init 13 = .ok (.return_, 1) := dk_177 (dk_at dksX5_init_0 13 rfl rfl)
abbrev cX5_sharesOf : ByteArray := prog_12_method_10_code
def yX5_sharesOf : MethodName := ⟨RX5, "sharesOf", "(I)Ljava/util/List;"⟩
def dkwX5_sharesOf_2 : List UInt8 := [185, 0, 88, 2, 0, 87, 132, 3, 1, 167, 255, 213, 44, 176]
abbrev dktX5_sharesOf_2 : List UInt8 := dkwX5_sharesOf_2 ++ []
def dkwX5_sharesOf_1 : List UInt8 := [198, 0, 28, 27, 29, 184, 0, 85, 122, 4, 126, 4, 160, 0, 16, 44, 42, 180, 0, 11, 29, 50]
abbrev dktX5_sharesOf_1 : List UInt8 := dkwX5_sharesOf_1 ++ dktX5_sharesOf_2
def dkwX5_sharesOf_0 : List UInt8 := [187, 0, 82, 89, 183, 0, 84, 77, 4, 62, 29, 16, 24, 163, 0, 43, 42, 180, 0, 11, 29, 50]
abbrev dktX5_sharesOf_0 : List UInt8 := dkwX5_sharesOf_0 ++ dktX5_sharesOf_1
theorem dksX5_sharesOf_0 : cX5_sharesOf.data.toList.drop 0 = dktX5_sharesOf_0 := by decide +kernel
theorem dksX5_sharesOf_1 : cX5_sharesOf.data.toList.drop 22 = dktX5_sharesOf_1 := dk_seg dksX5_sharesOf_0 22 rfl rfl
theorem dksX5_sharesOf_2 : cX5_sharesOf.data.toList.drop 44 = dktX5_sharesOf_2 := dk_seg dksX5_sharesOf_1 22 rfl rfl
theorem dX5_sharesOf_0 : decode cX5_sharesOf 0 = .ok (.new 82, 3) := dk_187 0 82 (dk_at dksX5_sharesOf_0 0 rfl rfl)
theorem dX5_sharesOf_3 : decode cX5_sharesOf 3 = .ok (.dup, 1) := dk_89 (dk_at dksX5_sharesOf_0 3 rfl rfl)
theorem dX5_sharesOf_4 : decode cX5_sharesOf 4 = .ok (.invokespecial 84, 3) := dk_183 0 84 (dk_at dksX5_sharesOf_0 4 rfl rfl)
theorem dX5_sharesOf_7 : decode cX5_sharesOf 7 = .ok (.astore_n 2, 1) := dk_77 (dk_at dksX5_sharesOf_0 7 rfl rfl)
theorem dX5_sharesOf_8 : decode cX5_sharesOf 8 = .ok (.iconst 1, 1) := dk_4 (dk_at dksX5_sharesOf_0 8 rfl rfl)
theorem dX5_sharesOf_9 : decode cX5_sharesOf 9 = .ok (.istore_n 3, 1) := dk_62 (dk_at dksX5_sharesOf_0 9 rfl rfl)
theorem dX5_sharesOf_10 : decode cX5_sharesOf 10 = .ok (.iload_n 3, 1) := dk_29 (dk_at dksX5_sharesOf_0 10 rfl rfl)
theorem dX5_sharesOf_11 : decode cX5_sharesOf 11 = .ok (.bipush 24, 2) := dk_16 24 (dk_at dksX5_sharesOf_0 11 rfl rfl)
theorem dX5_sharesOf_13 : decode cX5_sharesOf 13 = .ok (.if_icmp .gt 43, 3) := dk_163 0 43 (dk_at dksX5_sharesOf_0 13 rfl rfl)
theorem dX5_sharesOf_16 : decode cX5_sharesOf 16 = .ok (.aload_n 0, 1) := dk_42 (dk_at dksX5_sharesOf_0 16 rfl rfl)
theorem dX5_sharesOf_17 : decode cX5_sharesOf 17 = .ok (.getfield 11, 3) := dk_180 0 11 (dk_at dksX5_sharesOf_0 17 rfl rfl)
theorem dX5_sharesOf_20 : decode cX5_sharesOf 20 = .ok (.iload_n 3, 1) := dk_29 (dk_at dksX5_sharesOf_0 20 rfl rfl)
theorem dX5_sharesOf_21 : decode cX5_sharesOf 21 = .ok (.aaload, 1) := dk_50 (dk_at dksX5_sharesOf_0 21 rfl rfl)
theorem dX5_sharesOf_22 : decode cX5_sharesOf 22 = .ok (.ifnull 28, 3) := dk_198 0 28 (dk_at dksX5_sharesOf_1 0 rfl rfl)
theorem dX5_sharesOf_25 : decode cX5_sharesOf 25 = .ok (.iload_n 1, 1) := dk_27 (dk_at dksX5_sharesOf_1 3 rfl rfl)
theorem dX5_sharesOf_26 : decode cX5_sharesOf 26 = .ok (.iload_n 3, 1) := dk_29 (dk_at dksX5_sharesOf_1 4 rfl rfl)
theorem dX5_sharesOf_27 : decode cX5_sharesOf 27 = .ok (.invokestatic 85, 3) := dk_184 0 85 (dk_at dksX5_sharesOf_1 5 rfl rfl)
theorem dX5_sharesOf_30 : decode cX5_sharesOf 30 = .ok (.ishr, 1) := dk_122 (dk_at dksX5_sharesOf_1 8 rfl rfl)
theorem dX5_sharesOf_31 : decode cX5_sharesOf 31 = .ok (.iconst 1, 1) := dk_4 (dk_at dksX5_sharesOf_1 9 rfl rfl)
theorem dX5_sharesOf_32 : decode cX5_sharesOf 32 = .ok (.iand, 1) := dk_126 (dk_at dksX5_sharesOf_1 10 rfl rfl)
theorem dX5_sharesOf_33 : decode cX5_sharesOf 33 = .ok (.iconst 1, 1) := dk_4 (dk_at dksX5_sharesOf_1 11 rfl rfl)
theorem dX5_sharesOf_34 : decode cX5_sharesOf 34 = .ok (.if_icmp .ne 16, 3) := dk_160 0 16 (dk_at dksX5_sharesOf_1 12 rfl rfl)
theorem dX5_sharesOf_37 : decode cX5_sharesOf 37 = .ok (.aload_n 2, 1) := dk_44 (dk_at dksX5_sharesOf_1 15 rfl rfl)
theorem dX5_sharesOf_38 : decode cX5_sharesOf 38 = .ok (.aload_n 0, 1) := dk_42 (dk_at dksX5_sharesOf_1 16 rfl rfl)
theorem dX5_sharesOf_39 : decode cX5_sharesOf 39 = .ok (.getfield 11, 3) := dk_180 0 11 (dk_at dksX5_sharesOf_1 17 rfl rfl)
theorem dX5_sharesOf_42 : decode cX5_sharesOf 42 = .ok (.iload_n 3, 1) := dk_29 (dk_at dksX5_sharesOf_1 20 rfl rfl)
theorem dX5_sharesOf_43 : decode cX5_sharesOf 43 = .ok (.aaload, 1) := dk_50 (dk_at dksX5_sharesOf_1 21 rfl rfl)
theorem dX5_sharesOf_44 : decode cX5_sharesOf 44 = .ok (.invokeinterface 88 2, 5) := by decide +kernel
theorem dX5_sharesOf_49 : decode cX5_sharesOf 49 = .ok (.pop, 1) := dk_87 (dk_at dksX5_sharesOf_2 5 rfl rfl)
theorem dX5_sharesOf_50 : decode cX5_sharesOf 50 = .ok (.iinc 3 1, 3) := dk_132 3 1 (dk_at dksX5_sharesOf_2 6 rfl rfl)
theorem dX5_sharesOf_53 : decode cX5_sharesOf 53 = .ok (.goto (-43), 3) := dk_167 255 213 (dk_at dksX5_sharesOf_2 9 rfl rfl)
theorem dX5_sharesOf_56 : decode cX5_sharesOf 56 = .ok (.aload_n 2, 1) := dk_44 (dk_at dksX5_sharesOf_2 12 rfl rfl)
theorem dX5_sharesOf_57 : decode cX5_sharesOf 57 = .ok (.areturn, 1) := dk_176 (dk_at dksX5_sharesOf_2 13 rfl rfl)
abbrev cX5_goodOf : ByteArray := prog_12_method_8_code
def yX5_goodOf : MethodName := ⟨RX5, "goodOf", "(I)I"⟩
def dkwX5_goodOf_1 : List UInt8 := [153, 0, 7, 4, 167, 0, 4, 3, 96, 61, 132, 3, 1, 167, 255, 227, 28, 172]
abbrev dktX5_goodOf_1 : List UInt8 := dkwX5_goodOf_1 ++ []
def dkwX5_goodOf_0 : List UInt8 := [3, 61, 27, 184, 0, 69, 62, 29, 27, 4, 96, 184, 0, 69, 162, 0, 25, 28, 42, 29, 182, 0, 73]
abbrev dktX5_goodOf_0 : List UInt8 := dkwX5_goodOf_0 ++ dktX5_goodOf_1
theorem dksX5_goodOf_0 : cX5_goodOf.data.toList.drop 0 = dktX5_goodOf_0 := by decide +kernel
theorem dksX5_goodOf_1 : cX5_goodOf.data.toList.drop 23 = dktX5_goodOf_1 := dk_seg dksX5_goodOf_0 23 rfl rfl
theorem dX5_goodOf_0 : decode cX5_goodOf 0 = .ok (.iconst 0, 1) := dk_3 (dk_at dksX5_goodOf_0 0 rfl rfl)
theorem dX5_goodOf_1 : decode cX5_goodOf 1 = .ok (.istore_n 2, 1) := dk_61 (dk_at dksX5_goodOf_0 1 rfl rfl)
theorem dX5_goodOf_2 : decode cX5_goodOf 2 = .ok (.iload_n 1, 1) := dk_27 (dk_at dksX5_goodOf_0 2 rfl rfl)
theorem dX5_goodOf_3 : decode cX5_goodOf 3 = .ok (.invokestatic 69, 3) := dk_184 0 69 (dk_at dksX5_goodOf_0 3 rfl rfl)
theorem dX5_goodOf_6 : decode cX5_goodOf 6 = .ok (.istore_n 3, 1) := dk_62 (dk_at dksX5_goodOf_0 6 rfl rfl)
theorem dX5_goodOf_7 : decode cX5_goodOf 7 = .ok (.iload_n 3, 1) := dk_29 (dk_at dksX5_goodOf_0 7 rfl rfl)
theorem dX5_goodOf_8 : decode cX5_goodOf 8 = .ok (.iload_n 1, 1) := dk_27 (dk_at dksX5_goodOf_0 8 rfl rfl)
theorem dX5_goodOf_9 : decode cX5_goodOf 9 = .ok (.iconst 1, 1) := dk_4 (dk_at dksX5_goodOf_0 9 rfl rfl)
theorem dX5_goodOf_10 : decode cX5_goodOf 10 = .ok (.iadd, 1) := dk_96 (dk_at dksX5_goodOf_0 10 rfl rfl)
theorem dX5_goodOf_11 : decode cX5_goodOf 11 = .ok (.invokestatic 69, 3) := dk_184 0 69 (dk_at dksX5_goodOf_0 11 rfl rfl)
theorem dX5_goodOf_14 : decode cX5_goodOf 14 = .ok (.if_icmp .ge 25, 3) := dk_162 0 25 (dk_at dksX5_goodOf_0 14 rfl rfl)
theorem dX5_goodOf_17 : decode cX5_goodOf 17 = .ok (.iload_n 2, 1) := dk_28 (dk_at dksX5_goodOf_0 17 rfl rfl)
theorem dX5_goodOf_18 : decode cX5_goodOf 18 = .ok (.aload_n 0, 1) := dk_42 (dk_at dksX5_goodOf_0 18 rfl rfl)
theorem dX5_goodOf_19 : decode cX5_goodOf 19 = .ok (.iload_n 3, 1) := dk_29 (dk_at dksX5_goodOf_0 19 rfl rfl)
theorem dX5_goodOf_20 : decode cX5_goodOf 20 = .ok (.invokevirtual 73, 3) := dk_182 0 73 (dk_at dksX5_goodOf_0 20 rfl rfl)
theorem dX5_goodOf_23 : decode cX5_goodOf 23 = .ok (.ifCond .eq 7, 3) := dk_153 0 7 (dk_at dksX5_goodOf_1 0 rfl rfl)
theorem dX5_goodOf_26 : decode cX5_goodOf 26 = .ok (.iconst 1, 1) := dk_4 (dk_at dksX5_goodOf_1 3 rfl rfl)
theorem dX5_goodOf_27 : decode cX5_goodOf 27 = .ok (.goto 4, 3) := dk_167 0 4 (dk_at dksX5_goodOf_1 4 rfl rfl)
theorem dX5_goodOf_30 : decode cX5_goodOf 30 = .ok (.iconst 0, 1) := dk_3 (dk_at dksX5_goodOf_1 7 rfl rfl)
theorem dX5_goodOf_31 : decode cX5_goodOf 31 = .ok (.iadd, 1) := dk_96 (dk_at dksX5_goodOf_1 8 rfl rfl)
theorem dX5_goodOf_32 : decode cX5_goodOf 32 = .ok (.istore_n 2, 1) := dk_61 (dk_at dksX5_goodOf_1 9 rfl rfl)
theorem dX5_goodOf_33 : decode cX5_goodOf 33 = .ok (.iinc 3 1, 3) := dk_132 3 1 (dk_at dksX5_goodOf_1 10 rfl rfl)
theorem dX5_goodOf_36 : decode cX5_goodOf 36 = .ok (.goto (-29), 3) := dk_167 255 227 (dk_at dksX5_goodOf_1 13 rfl rfl)
theorem dX5_goodOf_39 : decode cX5_goodOf 39 = .ok (.iload_n 2, 1) := dk_28 (dk_at dksX5_goodOf_1 16 rfl rfl)
theorem dX5_goodOf_40 : decode cX5_goodOf 40 = .ok (.ireturn, 1) := dk_172 (dk_at dksX5_goodOf_1 17 rfl rfl)
abbrev cX5_isGood : ByteArray := prog_12_method_5_code
def yX5_isGood : MethodName := ⟨RX5, "isGood", "(I)Z"⟩
def dkwX5_isGood_1 : List UInt8 := [153, 0, 7, 4, 167, 0, 4, 3, 172]
abbrev dktX5_isGood_1 : List UInt8 := dkwX5_isGood_1 ++ []
def dkwX5_isGood_0 : List UInt8 := [42, 180, 0, 11, 27, 50, 198, 0, 23, 178, 0, 55, 42, 180, 0, 11, 27, 50, 42, 182, 0, 65]
abbrev dktX5_isGood_0 : List UInt8 := dkwX5_isGood_0 ++ dktX5_isGood_1
theorem dksX5_isGood_0 : cX5_isGood.data.toList.drop 0 = dktX5_isGood_0 := by decide +kernel
theorem dksX5_isGood_1 : cX5_isGood.data.toList.drop 22 = dktX5_isGood_1 := dk_seg dksX5_isGood_0 22 rfl rfl
theorem dX5_isGood_0 : decode cX5_isGood 0 = .ok (.aload_n 0, 1) := dk_42 (dk_at dksX5_isGood_0 0 rfl rfl)
theorem dX5_isGood_1 : decode cX5_isGood 1 = .ok (.getfield 11, 3) := dk_180 0 11 (dk_at dksX5_isGood_0 1 rfl rfl)
theorem dX5_isGood_4 : decode cX5_isGood 4 = .ok (.iload_n 1, 1) := dk_27 (dk_at dksX5_isGood_0 4 rfl rfl)
theorem dX5_isGood_5 : decode cX5_isGood 5 = .ok (.aaload, 1) := dk_50 (dk_at dksX5_isGood_0 5 rfl rfl)
theorem dX5_isGood_6 : decode cX5_isGood 6 = .ok (.ifnull 23, 3) := dk_198 0 23 (dk_at dksX5_isGood_0 6 rfl rfl)
theorem dX5_isGood_9 : decode cX5_isGood 9 = .ok (.getstatic 55, 3) := dk_178 0 55 (dk_at dksX5_isGood_0 9 rfl rfl)
theorem dX5_isGood_12 : decode cX5_isGood 12 = .ok (.aload_n 0, 1) := dk_42 (dk_at dksX5_isGood_0 12 rfl rfl)
theorem dX5_isGood_13 : decode cX5_isGood 13 = .ok (.getfield 11, 3) := dk_180 0 11 (dk_at dksX5_isGood_0 13 rfl rfl)
theorem dX5_isGood_16 : decode cX5_isGood 16 = .ok (.iload_n 1, 1) := dk_27 (dk_at dksX5_isGood_0 16 rfl rfl)
theorem dX5_isGood_17 : decode cX5_isGood 17 = .ok (.aaload, 1) := dk_50 (dk_at dksX5_isGood_0 17 rfl rfl)
theorem dX5_isGood_18 : decode cX5_isGood 18 = .ok (.aload_n 0, 1) := dk_42 (dk_at dksX5_isGood_0 18 rfl rfl)
theorem dX5_isGood_19 : decode cX5_isGood 19 = .ok (.invokevirtual 65, 3) := dk_182 0 65 (dk_at dksX5_isGood_0 19 rfl rfl)
theorem dX5_isGood_22 : decode cX5_isGood 22 = .ok (.ifCond .eq 7, 3) := dk_153 0 7 (dk_at dksX5_isGood_1 0 rfl rfl)
theorem dX5_isGood_25 : decode cX5_isGood 25 = .ok (.iconst 1, 1) := dk_4 (dk_at dksX5_isGood_1 3 rfl rfl)
theorem dX5_isGood_26 : decode cX5_isGood 26 = .ok (.goto 4, 3) := dk_167 0 4 (dk_at dksX5_isGood_1 4 rfl rfl)
theorem dX5_isGood_29 : decode cX5_isGood 29 = .ok (.iconst 0, 1) := dk_3 (dk_at dksX5_isGood_1 7 rfl rfl)
theorem dX5_isGood_30 : decode cX5_isGood 30 = .ok (.ireturn, 1) := dk_172 (dk_at dksX5_isGood_1 8 rfl rfl)
abbrev cX5_isCommitted : ByteArray := prog_12_method_3_code
def yX5_isCommitted : MethodName := ⟨RX5, "isCommitted", "(LSecretVault$Share;)Z"⟩
def dkwX5_isCommitted_3 : List UInt8 := [180, 0, 52, 17, 7, 247, 184, 0, 42, 28, 160, 0, 7, 4, 167, 0, 4, 3, 172]
abbrev dktX5_isCommitted_3 : List UInt8 := dkwX5_isCommitted_3 ++ []
def dkwX5_isCommitted_2 : List UInt8 := [184, 0, 46, 61, 29, 43, 180, 0, 49, 17, 3, 251, 184, 0, 46, 62, 132, 6, 1, 167, 255, 210, 7, 43]
abbrev dktX5_isCommitted_2 : List UInt8 := dkwX5_isCommitted_2 ++ dktX5_isCommitted_3
def dkwX5_isCommitted_1 : List UInt8 := [162, 0, 45, 25, 4, 21, 6, 46, 54, 7, 28, 21, 7, 29, 17, 7, 247, 184, 0, 42, 17, 7, 247]
abbrev dktX5_isCommitted_1 : List UInt8 := dkwX5_isCommitted_1 ++ dktX5_isCommitted_2
def dkwX5_isCommitted_0 : List UInt8 := [4, 61, 4, 62, 42, 180, 0, 25, 58, 4, 25, 4, 190, 54, 5, 3, 54, 6, 21, 6, 21, 5]
abbrev dktX5_isCommitted_0 : List UInt8 := dkwX5_isCommitted_0 ++ dktX5_isCommitted_1
theorem dksX5_isCommitted_0 : cX5_isCommitted.data.toList.drop 0 = dktX5_isCommitted_0 := by decide +kernel
theorem dksX5_isCommitted_1 : cX5_isCommitted.data.toList.drop 22 = dktX5_isCommitted_1 := dk_seg dksX5_isCommitted_0 22 rfl rfl
theorem dksX5_isCommitted_2 : cX5_isCommitted.data.toList.drop 45 = dktX5_isCommitted_2 := dk_seg dksX5_isCommitted_1 23 rfl rfl
theorem dksX5_isCommitted_3 : cX5_isCommitted.data.toList.drop 69 = dktX5_isCommitted_3 := dk_seg dksX5_isCommitted_2 24 rfl rfl
theorem dX5_isCommitted_0 : decode cX5_isCommitted 0 = .ok (.iconst 1, 1) := dk_4 (dk_at dksX5_isCommitted_0 0 rfl rfl)
theorem dX5_isCommitted_1 : decode cX5_isCommitted 1 = .ok (.istore_n 2, 1) := dk_61 (dk_at dksX5_isCommitted_0 1 rfl rfl)
theorem dX5_isCommitted_2 : decode cX5_isCommitted 2 = .ok (.iconst 1, 1) := dk_4 (dk_at dksX5_isCommitted_0 2 rfl rfl)
theorem dX5_isCommitted_3 : decode cX5_isCommitted 3 = .ok (.istore_n 3, 1) := dk_62 (dk_at dksX5_isCommitted_0 3 rfl rfl)
theorem dX5_isCommitted_4 : decode cX5_isCommitted 4 = .ok (.aload_n 0, 1) := dk_42 (dk_at dksX5_isCommitted_0 4 rfl rfl)
theorem dX5_isCommitted_5 : decode cX5_isCommitted 5 = .ok (.getfield 25, 3) := dk_180 0 25 (dk_at dksX5_isCommitted_0 5 rfl rfl)
theorem dX5_isCommitted_8 : decode cX5_isCommitted 8 = .ok (.astore 4, 2) := dk_58 4 (dk_at dksX5_isCommitted_0 8 rfl rfl)
theorem dX5_isCommitted_10 : decode cX5_isCommitted 10 = .ok (.aload 4, 2) := dk_25 4 (dk_at dksX5_isCommitted_0 10 rfl rfl)
theorem dX5_isCommitted_12 : decode cX5_isCommitted 12 = .ok (.arraylength, 1) := dk_190 (dk_at dksX5_isCommitted_0 12 rfl rfl)
theorem dX5_isCommitted_13 : decode cX5_isCommitted 13 = .ok (.istore 5, 2) := dk_54 5 (dk_at dksX5_isCommitted_0 13 rfl rfl)
theorem dX5_isCommitted_15 : decode cX5_isCommitted 15 = .ok (.iconst 0, 1) := dk_3 (dk_at dksX5_isCommitted_0 15 rfl rfl)
theorem dX5_isCommitted_16 : decode cX5_isCommitted 16 = .ok (.istore 6, 2) := dk_54 6 (dk_at dksX5_isCommitted_0 16 rfl rfl)
theorem dX5_isCommitted_18 : decode cX5_isCommitted 18 = .ok (.iload 6, 2) := dk_21 6 (dk_at dksX5_isCommitted_0 18 rfl rfl)
theorem dX5_isCommitted_20 : decode cX5_isCommitted 20 = .ok (.iload 5, 2) := dk_21 5 (dk_at dksX5_isCommitted_0 20 rfl rfl)
theorem dX5_isCommitted_22 : decode cX5_isCommitted 22 = .ok (.if_icmp .ge 45, 3) := dk_162 0 45 (dk_at dksX5_isCommitted_1 0 rfl rfl)
theorem dX5_isCommitted_25 : decode cX5_isCommitted 25 = .ok (.aload 4, 2) := dk_25 4 (dk_at dksX5_isCommitted_1 3 rfl rfl)
theorem dX5_isCommitted_27 : decode cX5_isCommitted 27 = .ok (.iload 6, 2) := dk_21 6 (dk_at dksX5_isCommitted_1 5 rfl rfl)
theorem dX5_isCommitted_29 : decode cX5_isCommitted 29 = .ok (.iaload, 1) := dk_46 (dk_at dksX5_isCommitted_1 7 rfl rfl)
theorem dX5_isCommitted_30 : decode cX5_isCommitted 30 = .ok (.istore 7, 2) := dk_54 7 (dk_at dksX5_isCommitted_1 8 rfl rfl)
theorem dX5_isCommitted_32 : decode cX5_isCommitted 32 = .ok (.iload_n 2, 1) := dk_28 (dk_at dksX5_isCommitted_1 10 rfl rfl)
theorem dX5_isCommitted_33 : decode cX5_isCommitted 33 = .ok (.iload 7, 2) := dk_21 7 (dk_at dksX5_isCommitted_1 11 rfl rfl)
theorem dX5_isCommitted_35 : decode cX5_isCommitted 35 = .ok (.iload_n 3, 1) := dk_29 (dk_at dksX5_isCommitted_1 13 rfl rfl)
theorem dX5_isCommitted_36 : decode cX5_isCommitted 36 = .ok (.sipush 2039, 3) := dk_17 7 247 (dk_at dksX5_isCommitted_1 14 rfl rfl)
theorem dX5_isCommitted_39 : decode cX5_isCommitted 39 = .ok (.invokestatic 42, 3) := dk_184 0 42 (dk_at dksX5_isCommitted_1 17 rfl rfl)
theorem dX5_isCommitted_42 : decode cX5_isCommitted 42 = .ok (.sipush 2039, 3) := dk_17 7 247 (dk_at dksX5_isCommitted_1 20 rfl rfl)
theorem dX5_isCommitted_45 : decode cX5_isCommitted 45 = .ok (.invokestatic 46, 3) := dk_184 0 46 (dk_at dksX5_isCommitted_2 0 rfl rfl)
theorem dX5_isCommitted_48 : decode cX5_isCommitted 48 = .ok (.istore_n 2, 1) := dk_61 (dk_at dksX5_isCommitted_2 3 rfl rfl)
theorem dX5_isCommitted_49 : decode cX5_isCommitted 49 = .ok (.iload_n 3, 1) := dk_29 (dk_at dksX5_isCommitted_2 4 rfl rfl)
theorem dX5_isCommitted_50 : decode cX5_isCommitted 50 = .ok (.aload_n 1, 1) := dk_43 (dk_at dksX5_isCommitted_2 5 rfl rfl)
theorem dX5_isCommitted_51 : decode cX5_isCommitted 51 = .ok (.getfield 49, 3) := dk_180 0 49 (dk_at dksX5_isCommitted_2 6 rfl rfl)
theorem dX5_isCommitted_54 : decode cX5_isCommitted 54 = .ok (.sipush 1019, 3) := dk_17 3 251 (dk_at dksX5_isCommitted_2 9 rfl rfl)
theorem dX5_isCommitted_57 : decode cX5_isCommitted 57 = .ok (.invokestatic 46, 3) := dk_184 0 46 (dk_at dksX5_isCommitted_2 12 rfl rfl)
theorem dX5_isCommitted_60 : decode cX5_isCommitted 60 = .ok (.istore_n 3, 1) := dk_62 (dk_at dksX5_isCommitted_2 15 rfl rfl)
theorem dX5_isCommitted_61 : decode cX5_isCommitted 61 = .ok (.iinc 6 1, 3) := dk_132 6 1 (dk_at dksX5_isCommitted_2 16 rfl rfl)
theorem dX5_isCommitted_64 : decode cX5_isCommitted 64 = .ok (.goto (-46), 3) := dk_167 255 210 (dk_at dksX5_isCommitted_2 19 rfl rfl)
theorem dX5_isCommitted_67 : decode cX5_isCommitted 67 = .ok (.iconst 4, 1) := dk_7 (dk_at dksX5_isCommitted_2 22 rfl rfl)
theorem dX5_isCommitted_68 : decode cX5_isCommitted 68 = .ok (.aload_n 1, 1) := dk_43 (dk_at dksX5_isCommitted_2 23 rfl rfl)
theorem dX5_isCommitted_69 : decode cX5_isCommitted 69 = .ok (.getfield 52, 3) := dk_180 0 52 (dk_at dksX5_isCommitted_3 0 rfl rfl)
theorem dX5_isCommitted_72 : decode cX5_isCommitted 72 = .ok (.sipush 2039, 3) := dk_17 7 247 (dk_at dksX5_isCommitted_3 3 rfl rfl)
theorem dX5_isCommitted_75 : decode cX5_isCommitted 75 = .ok (.invokestatic 42, 3) := dk_184 0 42 (dk_at dksX5_isCommitted_3 6 rfl rfl)
theorem dX5_isCommitted_78 : decode cX5_isCommitted 78 = .ok (.iload_n 2, 1) := dk_28 (dk_at dksX5_isCommitted_3 9 rfl rfl)
theorem dX5_isCommitted_79 : decode cX5_isCommitted 79 = .ok (.if_icmp .ne 7, 3) := dk_160 0 7 (dk_at dksX5_isCommitted_3 10 rfl rfl)
theorem dX5_isCommitted_82 : decode cX5_isCommitted 82 = .ok (.iconst 1, 1) := dk_4 (dk_at dksX5_isCommitted_3 13 rfl rfl)
theorem dX5_isCommitted_83 : decode cX5_isCommitted 83 = .ok (.goto 4, 3) := dk_167 0 4 (dk_at dksX5_isCommitted_3 14 rfl rfl)
theorem dX5_isCommitted_86 : decode cX5_isCommitted 86 = .ok (.iconst 0, 1) := dk_3 (dk_at dksX5_isCommitted_3 17 rfl rfl)
theorem dX5_isCommitted_87 : decode cX5_isCommitted 87 = .ok (.ireturn, 1) := dk_172 (dk_at dksX5_isCommitted_3 18 rfl rfl)
abbrev cX5_count : ByteArray := prog_12_method_6_code
def yX5_count : MethodName := ⟨RX5, "count", "()I"⟩
def dkwX5_count_1 : List UInt8 := [4, 96, 60, 132, 2, 1, 167, 255, 230, 27, 172]
abbrev dktX5_count_1 : List UInt8 := dkwX5_count_1 ++ []
def dkwX5_count_0 : List UInt8 := [3, 60, 4, 61, 28, 16, 24, 163, 0, 26, 27, 42, 180, 0, 11, 28, 50, 199, 0, 7, 3, 167, 0, 4]
abbrev dktX5_count_0 : List UInt8 := dkwX5_count_0 ++ dktX5_count_1
theorem dksX5_count_0 : cX5_count.data.toList.drop 0 = dktX5_count_0 := by decide +kernel
theorem dksX5_count_1 : cX5_count.data.toList.drop 24 = dktX5_count_1 := dk_seg dksX5_count_0 24 rfl rfl
theorem dX5_count_0 : decode cX5_count 0 = .ok (.iconst 0, 1) := dk_3 (dk_at dksX5_count_0 0 rfl rfl)
theorem dX5_count_1 : decode cX5_count 1 = .ok (.istore_n 1, 1) := dk_60 (dk_at dksX5_count_0 1 rfl rfl)
theorem dX5_count_2 : decode cX5_count 2 = .ok (.iconst 1, 1) := dk_4 (dk_at dksX5_count_0 2 rfl rfl)
theorem dX5_count_3 : decode cX5_count 3 = .ok (.istore_n 2, 1) := dk_61 (dk_at dksX5_count_0 3 rfl rfl)
theorem dX5_count_4 : decode cX5_count 4 = .ok (.iload_n 2, 1) := dk_28 (dk_at dksX5_count_0 4 rfl rfl)
theorem dX5_count_5 : decode cX5_count 5 = .ok (.bipush 24, 2) := dk_16 24 (dk_at dksX5_count_0 5 rfl rfl)
theorem dX5_count_7 : decode cX5_count 7 = .ok (.if_icmp .gt 26, 3) := dk_163 0 26 (dk_at dksX5_count_0 7 rfl rfl)
theorem dX5_count_10 : decode cX5_count 10 = .ok (.iload_n 1, 1) := dk_27 (dk_at dksX5_count_0 10 rfl rfl)
theorem dX5_count_11 : decode cX5_count 11 = .ok (.aload_n 0, 1) := dk_42 (dk_at dksX5_count_0 11 rfl rfl)
theorem dX5_count_12 : decode cX5_count 12 = .ok (.getfield 11, 3) := dk_180 0 11 (dk_at dksX5_count_0 12 rfl rfl)
theorem dX5_count_15 : decode cX5_count 15 = .ok (.iload_n 2, 1) := dk_28 (dk_at dksX5_count_0 15 rfl rfl)
theorem dX5_count_16 : decode cX5_count 16 = .ok (.aaload, 1) := dk_50 (dk_at dksX5_count_0 16 rfl rfl)
theorem dX5_count_17 : decode cX5_count 17 = .ok (.ifnonnull 7, 3) := dk_199 0 7 (dk_at dksX5_count_0 17 rfl rfl)
theorem dX5_count_20 : decode cX5_count 20 = .ok (.iconst 0, 1) := dk_3 (dk_at dksX5_count_0 20 rfl rfl)
theorem dX5_count_21 : decode cX5_count 21 = .ok (.goto 4, 3) := dk_167 0 4 (dk_at dksX5_count_0 21 rfl rfl)
theorem dX5_count_24 : decode cX5_count 24 = .ok (.iconst 1, 1) := dk_4 (dk_at dksX5_count_1 0 rfl rfl)
theorem dX5_count_25 : decode cX5_count 25 = .ok (.iadd, 1) := dk_96 (dk_at dksX5_count_1 1 rfl rfl)
theorem dX5_count_26 : decode cX5_count 26 = .ok (.istore_n 1, 1) := dk_60 (dk_at dksX5_count_1 2 rfl rfl)
theorem dX5_count_27 : decode cX5_count 27 = .ok (.iinc 2 1, 3) := dk_132 2 1 (dk_at dksX5_count_1 3 rfl rfl)
theorem dX5_count_30 : decode cX5_count 30 = .ok (.goto (-26), 3) := dk_167 255 230 (dk_at dksX5_count_1 6 rfl rfl)
theorem dX5_count_33 : decode cX5_count 33 = .ok (.iload_n 1, 1) := dk_27 (dk_at dksX5_count_1 9 rfl rfl)
theorem dX5_count_34 : decode cX5_count 34 = .ok (.ireturn, 1) := dk_172 (dk_at dksX5_count_1 10 rfl rfl)
abbrev cX5_isFulfilled : ByteArray := prog_12_method_9_code
def yX5_isFulfilled : MethodName := ⟨RX5, "isFulfilled", "(I)Z"⟩
def dkwX5_isFulfilled_1 : List UInt8 := [3, 172]
abbrev dktX5_isFulfilled_1 : List UInt8 := dkwX5_isFulfilled_1 ++ []
def dkwX5_isFulfilled_0 : List UInt8 := [42, 180, 0, 34, 198, 0, 16, 42, 180, 0, 34, 27, 185, 0, 77, 2, 0, 153, 0, 7, 4, 167, 0, 4]
abbrev dktX5_isFulfilled_0 : List UInt8 := dkwX5_isFulfilled_0 ++ dktX5_isFulfilled_1
theorem dksX5_isFulfilled_0 : cX5_isFulfilled.data.toList.drop 0 = dktX5_isFulfilled_0 := by decide +kernel
theorem dksX5_isFulfilled_1 : cX5_isFulfilled.data.toList.drop 24 = dktX5_isFulfilled_1 := dk_seg dksX5_isFulfilled_0 24 rfl rfl
theorem dX5_isFulfilled_0 : decode cX5_isFulfilled 0 = .ok (.aload_n 0, 1) := dk_42 (dk_at dksX5_isFulfilled_0 0 rfl rfl)
theorem dX5_isFulfilled_1 : decode cX5_isFulfilled 1 = .ok (.getfield 34, 3) := dk_180 0 34 (dk_at dksX5_isFulfilled_0 1 rfl rfl)
theorem dX5_isFulfilled_4 : decode cX5_isFulfilled 4 = .ok (.ifnull 16, 3) := dk_198 0 16 (dk_at dksX5_isFulfilled_0 4 rfl rfl)
theorem dX5_isFulfilled_7 : decode cX5_isFulfilled 7 = .ok (.aload_n 0, 1) := dk_42 (dk_at dksX5_isFulfilled_0 7 rfl rfl)
theorem dX5_isFulfilled_8 : decode cX5_isFulfilled 8 = .ok (.getfield 34, 3) := dk_180 0 34 (dk_at dksX5_isFulfilled_0 8 rfl rfl)
theorem dX5_isFulfilled_11 : decode cX5_isFulfilled 11 = .ok (.iload_n 1, 1) := dk_27 (dk_at dksX5_isFulfilled_0 11 rfl rfl)
theorem dX5_isFulfilled_12 : decode cX5_isFulfilled 12 = .ok (.invokeinterface 77 2, 5) := by decide +kernel
theorem dX5_isFulfilled_17 : decode cX5_isFulfilled 17 = .ok (.ifCond .eq 7, 3) := dk_153 0 7 (dk_at dksX5_isFulfilled_0 17 rfl rfl)
theorem dX5_isFulfilled_20 : decode cX5_isFulfilled 20 = .ok (.iconst 1, 1) := dk_4 (dk_at dksX5_isFulfilled_0 20 rfl rfl)
theorem dX5_isFulfilled_21 : decode cX5_isFulfilled 21 = .ok (.goto 4, 3) := dk_167 0 4 (dk_at dksX5_isFulfilled_0 21 rfl rfl)
theorem dX5_isFulfilled_24 : decode cX5_isFulfilled 24 = .ok (.iconst 0, 1) := dk_3 (dk_at dksX5_isFulfilled_1 0 rfl rfl)
theorem dX5_isFulfilled_25 : decode cX5_isFulfilled 25 = .ok (.ireturn, 1) := dk_172 (dk_at dksX5_isFulfilled_1 1 rfl rfl)
abbrev cX5_stateOf : ByteArray := prog_12_method_4_code
def yX5_stateOf : MethodName := ⟨RX5, "stateOf", "(LSecretVault$Share;)LSecretVault$State;"⟩
def dkwX5_stateOf_2 : List UInt8 := [132, 5, 1, 167, 255, 223, 44, 176]
abbrev dktX5_stateOf_2 : List UInt8 := dkwX5_stateOf_2 ++ []
def dkwX5_stateOf_1 : List UInt8 := [21, 5, 50, 58, 6, 25, 6, 43, 42, 182, 0, 65, 153, 0, 8, 25, 6, 167, 0, 4, 44, 77]
abbrev dktX5_stateOf_1 : List UInt8 := dkwX5_stateOf_1 ++ dktX5_stateOf_2
def dkwX5_stateOf_0 : List UInt8 := [178, 0, 55, 77, 184, 0, 61, 78, 45, 190, 54, 4, 3, 54, 5, 21, 5, 21, 4, 162, 0, 32, 45]
abbrev dktX5_stateOf_0 : List UInt8 := dkwX5_stateOf_0 ++ dktX5_stateOf_1
theorem dksX5_stateOf_0 : cX5_stateOf.data.toList.drop 0 = dktX5_stateOf_0 := by decide +kernel
theorem dksX5_stateOf_1 : cX5_stateOf.data.toList.drop 23 = dktX5_stateOf_1 := dk_seg dksX5_stateOf_0 23 rfl rfl
theorem dksX5_stateOf_2 : cX5_stateOf.data.toList.drop 45 = dktX5_stateOf_2 := dk_seg dksX5_stateOf_1 22 rfl rfl
theorem dX5_stateOf_0 : decode cX5_stateOf 0 = .ok (.getstatic 55, 3) := dk_178 0 55 (dk_at dksX5_stateOf_0 0 rfl rfl)
theorem dX5_stateOf_3 : decode cX5_stateOf 3 = .ok (.astore_n 2, 1) := dk_77 (dk_at dksX5_stateOf_0 3 rfl rfl)
theorem dX5_stateOf_4 : decode cX5_stateOf 4 = .ok (.invokestatic 61, 3) := dk_184 0 61 (dk_at dksX5_stateOf_0 4 rfl rfl)
theorem dX5_stateOf_7 : decode cX5_stateOf 7 = .ok (.astore_n 3, 1) := dk_78 (dk_at dksX5_stateOf_0 7 rfl rfl)
theorem dX5_stateOf_8 : decode cX5_stateOf 8 = .ok (.aload_n 3, 1) := dk_45 (dk_at dksX5_stateOf_0 8 rfl rfl)
theorem dX5_stateOf_9 : decode cX5_stateOf 9 = .ok (.arraylength, 1) := dk_190 (dk_at dksX5_stateOf_0 9 rfl rfl)
theorem dX5_stateOf_10 : decode cX5_stateOf 10 = .ok (.istore 4, 2) := dk_54 4 (dk_at dksX5_stateOf_0 10 rfl rfl)
theorem dX5_stateOf_12 : decode cX5_stateOf 12 = .ok (.iconst 0, 1) := dk_3 (dk_at dksX5_stateOf_0 12 rfl rfl)
theorem dX5_stateOf_13 : decode cX5_stateOf 13 = .ok (.istore 5, 2) := dk_54 5 (dk_at dksX5_stateOf_0 13 rfl rfl)
theorem dX5_stateOf_15 : decode cX5_stateOf 15 = .ok (.iload 5, 2) := dk_21 5 (dk_at dksX5_stateOf_0 15 rfl rfl)
theorem dX5_stateOf_17 : decode cX5_stateOf 17 = .ok (.iload 4, 2) := dk_21 4 (dk_at dksX5_stateOf_0 17 rfl rfl)
theorem dX5_stateOf_19 : decode cX5_stateOf 19 = .ok (.if_icmp .ge 32, 3) := dk_162 0 32 (dk_at dksX5_stateOf_0 19 rfl rfl)
theorem dX5_stateOf_22 : decode cX5_stateOf 22 = .ok (.aload_n 3, 1) := dk_45 (dk_at dksX5_stateOf_0 22 rfl rfl)
theorem dX5_stateOf_23 : decode cX5_stateOf 23 = .ok (.iload 5, 2) := dk_21 5 (dk_at dksX5_stateOf_1 0 rfl rfl)
theorem dX5_stateOf_25 : decode cX5_stateOf 25 = .ok (.aaload, 1) := dk_50 (dk_at dksX5_stateOf_1 2 rfl rfl)
theorem dX5_stateOf_26 : decode cX5_stateOf 26 = .ok (.astore 6, 2) := dk_58 6 (dk_at dksX5_stateOf_1 3 rfl rfl)
theorem dX5_stateOf_28 : decode cX5_stateOf 28 = .ok (.aload 6, 2) := dk_25 6 (dk_at dksX5_stateOf_1 5 rfl rfl)
theorem dX5_stateOf_30 : decode cX5_stateOf 30 = .ok (.aload_n 1, 1) := dk_43 (dk_at dksX5_stateOf_1 7 rfl rfl)
theorem dX5_stateOf_31 : decode cX5_stateOf 31 = .ok (.aload_n 0, 1) := dk_42 (dk_at dksX5_stateOf_1 8 rfl rfl)
theorem dX5_stateOf_32 : decode cX5_stateOf 32 = .ok (.invokevirtual 65, 3) := dk_182 0 65 (dk_at dksX5_stateOf_1 9 rfl rfl)
theorem dX5_stateOf_35 : decode cX5_stateOf 35 = .ok (.ifCond .eq 8, 3) := dk_153 0 8 (dk_at dksX5_stateOf_1 12 rfl rfl)
theorem dX5_stateOf_38 : decode cX5_stateOf 38 = .ok (.aload 6, 2) := dk_25 6 (dk_at dksX5_stateOf_1 15 rfl rfl)
theorem dX5_stateOf_40 : decode cX5_stateOf 40 = .ok (.goto 4, 3) := dk_167 0 4 (dk_at dksX5_stateOf_1 17 rfl rfl)
theorem dX5_stateOf_43 : decode cX5_stateOf 43 = .ok (.aload_n 2, 1) := dk_44 (dk_at dksX5_stateOf_1 20 rfl rfl)
theorem dX5_stateOf_44 : decode cX5_stateOf 44 = .ok (.astore_n 2, 1) := dk_77 (dk_at dksX5_stateOf_1 21 rfl rfl)
theorem dX5_stateOf_45 : decode cX5_stateOf 45 = .ok (.iinc 5 1, 3) := dk_132 5 1 (dk_at dksX5_stateOf_2 0 rfl rfl)
theorem dX5_stateOf_48 : decode cX5_stateOf 48 = .ok (.goto (-33), 3) := dk_167 255 223 (dk_at dksX5_stateOf_2 3 rfl rfl)
theorem dX5_stateOf_51 : decode cX5_stateOf 51 = .ok (.aload_n 2, 1) := dk_44 (dk_at dksX5_stateOf_2 6 rfl rfl)
theorem dX5_stateOf_52 : decode cX5_stateOf 52 = .ok (.areturn, 1) := dk_176 (dk_at dksX5_stateOf_2 7 rfl rfl)
abbrev cX5_interpolated : ByteArray := prog_12_method_11_code
def yX5_interpolated : MethodName := ⟨RX5, "interpolated", "(Ljava/util/List;I)I"⟩
def dkwX5_interpolated_6 : List UInt8 := [184, 0, 46, 96, 17, 3, 251, 112, 62, 132, 4, 1, 167, 255, 111, 29, 172]
abbrev dktX5_interpolated_6 : List UInt8 := dkwX5_interpolated_6 ++ []
def dkwX5_interpolated_5 : List UInt8 := [184, 0, 46, 54, 6, 132, 7, 1, 167, 255, 168, 29, 21, 5, 21, 6, 184, 0, 102, 17, 3, 251]
abbrev dktX5_interpolated_5 : List UInt8 := dkwX5_interpolated_5 ++ dktX5_interpolated_6
def dkwX5_interpolated_4 : List UInt8 := [180, 0, 49, 43, 21, 7, 185, 0, 94, 2, 0, 192, 0, 9, 180, 0, 49, 184, 0, 98, 17, 3, 251]
abbrev dktX5_interpolated_4 : List UInt8 := dkwX5_interpolated_4 ++ dktX5_interpolated_5
def dkwX5_interpolated_3 : List UInt8 := [184, 0, 98, 17, 3, 251, 184, 0, 46, 54, 5, 21, 6, 43, 21, 4, 185, 0, 94, 2, 0, 192, 0, 9]
abbrev dktX5_interpolated_3 : List UInt8 := dkwX5_interpolated_3 ++ dktX5_interpolated_4
def dkwX5_interpolated_2 : List UInt8 := [21, 7, 21, 4, 159, 0, 72, 21, 5, 28, 43, 21, 7, 185, 0, 94, 2, 0, 192, 0, 9, 180, 0, 49]
abbrev dktX5_interpolated_2 : List UInt8 := dkwX5_interpolated_2 ++ dktX5_interpolated_3
def dkwX5_interpolated_1 : List UInt8 := [192, 0, 9, 180, 0, 52, 54, 5, 4, 54, 6, 3, 54, 7, 21, 7, 42, 180, 0, 18, 162, 0, 85]
abbrev dktX5_interpolated_1 : List UInt8 := dkwX5_interpolated_1 ++ dktX5_interpolated_2
def dkwX5_interpolated_0 : List UInt8 := [3, 62, 3, 54, 4, 21, 4, 42, 180, 0, 18, 162, 0, 142, 43, 21, 4, 185, 0, 94, 2, 0]
abbrev dktX5_interpolated_0 : List UInt8 := dkwX5_interpolated_0 ++ dktX5_interpolated_1
theorem dksX5_interpolated_0 : cX5_interpolated.data.toList.drop 0 = dktX5_interpolated_0 := by decide +kernel
theorem dksX5_interpolated_1 : cX5_interpolated.data.toList.drop 22 = dktX5_interpolated_1 := dk_seg dksX5_interpolated_0 22 rfl rfl
theorem dksX5_interpolated_2 : cX5_interpolated.data.toList.drop 45 = dktX5_interpolated_2 := dk_seg dksX5_interpolated_1 23 rfl rfl
theorem dksX5_interpolated_3 : cX5_interpolated.data.toList.drop 69 = dktX5_interpolated_3 := dk_seg dksX5_interpolated_2 24 rfl rfl
theorem dksX5_interpolated_4 : cX5_interpolated.data.toList.drop 93 = dktX5_interpolated_4 := dk_seg dksX5_interpolated_3 24 rfl rfl
theorem dksX5_interpolated_5 : cX5_interpolated.data.toList.drop 116 = dktX5_interpolated_5 := dk_seg dksX5_interpolated_4 23 rfl rfl
theorem dksX5_interpolated_6 : cX5_interpolated.data.toList.drop 138 = dktX5_interpolated_6 := dk_seg dksX5_interpolated_5 22 rfl rfl
theorem dX5_interpolated_0 : decode cX5_interpolated 0 = .ok (.iconst 0, 1) := dk_3 (dk_at dksX5_interpolated_0 0 rfl rfl)
theorem dX5_interpolated_1 : decode cX5_interpolated 1 = .ok (.istore_n 3, 1) := dk_62 (dk_at dksX5_interpolated_0 1 rfl rfl)
theorem dX5_interpolated_2 : decode cX5_interpolated 2 = .ok (.iconst 0, 1) := dk_3 (dk_at dksX5_interpolated_0 2 rfl rfl)
theorem dX5_interpolated_3 : decode cX5_interpolated 3 = .ok (.istore 4, 2) := dk_54 4 (dk_at dksX5_interpolated_0 3 rfl rfl)
theorem dX5_interpolated_5 : decode cX5_interpolated 5 = .ok (.iload 4, 2) := dk_21 4 (dk_at dksX5_interpolated_0 5 rfl rfl)
theorem dX5_interpolated_7 : decode cX5_interpolated 7 = .ok (.aload_n 0, 1) := dk_42 (dk_at dksX5_interpolated_0 7 rfl rfl)
theorem dX5_interpolated_8 : decode cX5_interpolated 8 = .ok (.getfield 18, 3) := dk_180 0 18 (dk_at dksX5_interpolated_0 8 rfl rfl)
theorem dX5_interpolated_11 : decode cX5_interpolated 11 = .ok (.if_icmp .ge 142, 3) := dk_162 0 142 (dk_at dksX5_interpolated_0 11 rfl rfl)
theorem dX5_interpolated_14 : decode cX5_interpolated 14 = .ok (.aload_n 1, 1) := dk_43 (dk_at dksX5_interpolated_0 14 rfl rfl)
theorem dX5_interpolated_15 : decode cX5_interpolated 15 = .ok (.iload 4, 2) := dk_21 4 (dk_at dksX5_interpolated_0 15 rfl rfl)
theorem dX5_interpolated_17 : decode cX5_interpolated 17 = .ok (.invokeinterface 94 2, 5) := by decide +kernel
theorem dX5_interpolated_22 : decode cX5_interpolated 22 = .ok (.checkcast 9, 3) := dk_192 0 9 (dk_at dksX5_interpolated_1 0 rfl rfl)
theorem dX5_interpolated_25 : decode cX5_interpolated 25 = .ok (.getfield 52, 3) := dk_180 0 52 (dk_at dksX5_interpolated_1 3 rfl rfl)
theorem dX5_interpolated_28 : decode cX5_interpolated 28 = .ok (.istore 5, 2) := dk_54 5 (dk_at dksX5_interpolated_1 6 rfl rfl)
theorem dX5_interpolated_30 : decode cX5_interpolated 30 = .ok (.iconst 1, 1) := dk_4 (dk_at dksX5_interpolated_1 8 rfl rfl)
theorem dX5_interpolated_31 : decode cX5_interpolated 31 = .ok (.istore 6, 2) := dk_54 6 (dk_at dksX5_interpolated_1 9 rfl rfl)
theorem dX5_interpolated_33 : decode cX5_interpolated 33 = .ok (.iconst 0, 1) := dk_3 (dk_at dksX5_interpolated_1 11 rfl rfl)
theorem dX5_interpolated_34 : decode cX5_interpolated 34 = .ok (.istore 7, 2) := dk_54 7 (dk_at dksX5_interpolated_1 12 rfl rfl)
theorem dX5_interpolated_36 : decode cX5_interpolated 36 = .ok (.iload 7, 2) := dk_21 7 (dk_at dksX5_interpolated_1 14 rfl rfl)
theorem dX5_interpolated_38 : decode cX5_interpolated 38 = .ok (.aload_n 0, 1) := dk_42 (dk_at dksX5_interpolated_1 16 rfl rfl)
theorem dX5_interpolated_39 : decode cX5_interpolated 39 = .ok (.getfield 18, 3) := dk_180 0 18 (dk_at dksX5_interpolated_1 17 rfl rfl)
theorem dX5_interpolated_42 : decode cX5_interpolated 42 = .ok (.if_icmp .ge 85, 3) := dk_162 0 85 (dk_at dksX5_interpolated_1 20 rfl rfl)
theorem dX5_interpolated_45 : decode cX5_interpolated 45 = .ok (.iload 7, 2) := dk_21 7 (dk_at dksX5_interpolated_2 0 rfl rfl)
theorem dX5_interpolated_47 : decode cX5_interpolated 47 = .ok (.iload 4, 2) := dk_21 4 (dk_at dksX5_interpolated_2 2 rfl rfl)
theorem dX5_interpolated_49 : decode cX5_interpolated 49 = .ok (.if_icmp .eq 72, 3) := dk_159 0 72 (dk_at dksX5_interpolated_2 4 rfl rfl)
theorem dX5_interpolated_52 : decode cX5_interpolated 52 = .ok (.iload 5, 2) := dk_21 5 (dk_at dksX5_interpolated_2 7 rfl rfl)
theorem dX5_interpolated_54 : decode cX5_interpolated 54 = .ok (.iload_n 2, 1) := dk_28 (dk_at dksX5_interpolated_2 9 rfl rfl)
theorem dX5_interpolated_55 : decode cX5_interpolated 55 = .ok (.aload_n 1, 1) := dk_43 (dk_at dksX5_interpolated_2 10 rfl rfl)
theorem dX5_interpolated_56 : decode cX5_interpolated 56 = .ok (.iload 7, 2) := dk_21 7 (dk_at dksX5_interpolated_2 11 rfl rfl)
theorem dX5_interpolated_58 : decode cX5_interpolated 58 = .ok (.invokeinterface 94 2, 5) := by decide +kernel
theorem dX5_interpolated_63 : decode cX5_interpolated 63 = .ok (.checkcast 9, 3) := dk_192 0 9 (dk_at dksX5_interpolated_2 18 rfl rfl)
theorem dX5_interpolated_66 : decode cX5_interpolated 66 = .ok (.getfield 49, 3) := dk_180 0 49 (dk_at dksX5_interpolated_2 21 rfl rfl)
theorem dX5_interpolated_69 : decode cX5_interpolated 69 = .ok (.invokestatic 98, 3) := dk_184 0 98 (dk_at dksX5_interpolated_3 0 rfl rfl)
theorem dX5_interpolated_72 : decode cX5_interpolated 72 = .ok (.sipush 1019, 3) := dk_17 3 251 (dk_at dksX5_interpolated_3 3 rfl rfl)
theorem dX5_interpolated_75 : decode cX5_interpolated 75 = .ok (.invokestatic 46, 3) := dk_184 0 46 (dk_at dksX5_interpolated_3 6 rfl rfl)
theorem dX5_interpolated_78 : decode cX5_interpolated 78 = .ok (.istore 5, 2) := dk_54 5 (dk_at dksX5_interpolated_3 9 rfl rfl)
theorem dX5_interpolated_80 : decode cX5_interpolated 80 = .ok (.iload 6, 2) := dk_21 6 (dk_at dksX5_interpolated_3 11 rfl rfl)
theorem dX5_interpolated_82 : decode cX5_interpolated 82 = .ok (.aload_n 1, 1) := dk_43 (dk_at dksX5_interpolated_3 13 rfl rfl)
theorem dX5_interpolated_83 : decode cX5_interpolated 83 = .ok (.iload 4, 2) := dk_21 4 (dk_at dksX5_interpolated_3 14 rfl rfl)
theorem dX5_interpolated_85 : decode cX5_interpolated 85 = .ok (.invokeinterface 94 2, 5) := by decide +kernel
theorem dX5_interpolated_90 : decode cX5_interpolated 90 = .ok (.checkcast 9, 3) := dk_192 0 9 (dk_at dksX5_interpolated_3 21 rfl rfl)
theorem dX5_interpolated_93 : decode cX5_interpolated 93 = .ok (.getfield 49, 3) := dk_180 0 49 (dk_at dksX5_interpolated_4 0 rfl rfl)
theorem dX5_interpolated_96 : decode cX5_interpolated 96 = .ok (.aload_n 1, 1) := dk_43 (dk_at dksX5_interpolated_4 3 rfl rfl)
theorem dX5_interpolated_97 : decode cX5_interpolated 97 = .ok (.iload 7, 2) := dk_21 7 (dk_at dksX5_interpolated_4 4 rfl rfl)
theorem dX5_interpolated_99 : decode cX5_interpolated 99 = .ok (.invokeinterface 94 2, 5) := by decide +kernel
theorem dX5_interpolated_104 : decode cX5_interpolated 104 = .ok (.checkcast 9, 3) := dk_192 0 9 (dk_at dksX5_interpolated_4 11 rfl rfl)
theorem dX5_interpolated_107 : decode cX5_interpolated 107 = .ok (.getfield 49, 3) := dk_180 0 49 (dk_at dksX5_interpolated_4 14 rfl rfl)
theorem dX5_interpolated_110 : decode cX5_interpolated 110 = .ok (.invokestatic 98, 3) := dk_184 0 98 (dk_at dksX5_interpolated_4 17 rfl rfl)
theorem dX5_interpolated_113 : decode cX5_interpolated 113 = .ok (.sipush 1019, 3) := dk_17 3 251 (dk_at dksX5_interpolated_4 20 rfl rfl)
theorem dX5_interpolated_116 : decode cX5_interpolated 116 = .ok (.invokestatic 46, 3) := dk_184 0 46 (dk_at dksX5_interpolated_5 0 rfl rfl)
theorem dX5_interpolated_119 : decode cX5_interpolated 119 = .ok (.istore 6, 2) := dk_54 6 (dk_at dksX5_interpolated_5 3 rfl rfl)
theorem dX5_interpolated_121 : decode cX5_interpolated 121 = .ok (.iinc 7 1, 3) := dk_132 7 1 (dk_at dksX5_interpolated_5 5 rfl rfl)
theorem dX5_interpolated_124 : decode cX5_interpolated 124 = .ok (.goto (-88), 3) := dk_167 255 168 (dk_at dksX5_interpolated_5 8 rfl rfl)
theorem dX5_interpolated_127 : decode cX5_interpolated 127 = .ok (.iload_n 3, 1) := dk_29 (dk_at dksX5_interpolated_5 11 rfl rfl)
theorem dX5_interpolated_128 : decode cX5_interpolated 128 = .ok (.iload 5, 2) := dk_21 5 (dk_at dksX5_interpolated_5 12 rfl rfl)
theorem dX5_interpolated_130 : decode cX5_interpolated 130 = .ok (.iload 6, 2) := dk_21 6 (dk_at dksX5_interpolated_5 14 rfl rfl)
theorem dX5_interpolated_132 : decode cX5_interpolated 132 = .ok (.invokestatic 102, 3) := dk_184 0 102 (dk_at dksX5_interpolated_5 16 rfl rfl)
theorem dX5_interpolated_135 : decode cX5_interpolated 135 = .ok (.sipush 1019, 3) := dk_17 3 251 (dk_at dksX5_interpolated_5 19 rfl rfl)
theorem dX5_interpolated_138 : decode cX5_interpolated 138 = .ok (.invokestatic 46, 3) := dk_184 0 46 (dk_at dksX5_interpolated_6 0 rfl rfl)
theorem dX5_interpolated_141 : decode cX5_interpolated 141 = .ok (.iadd, 1) := dk_96 (dk_at dksX5_interpolated_6 3 rfl rfl)
theorem dX5_interpolated_142 : decode cX5_interpolated 142 = .ok (.sipush 1019, 3) := dk_17 3 251 (dk_at dksX5_interpolated_6 4 rfl rfl)
theorem dX5_interpolated_145 : decode cX5_interpolated 145 = .ok (.irem, 1) := dk_112 (dk_at dksX5_interpolated_6 7 rfl rfl)
theorem dX5_interpolated_146 : decode cX5_interpolated 146 = .ok (.istore_n 3, 1) := dk_62 (dk_at dksX5_interpolated_6 8 rfl rfl)
theorem dX5_interpolated_147 : decode cX5_interpolated 147 = .ok (.iinc 4 1, 3) := dk_132 4 1 (dk_at dksX5_interpolated_6 9 rfl rfl)
theorem dX5_interpolated_150 : decode cX5_interpolated 150 = .ok (.goto (-145), 3) := dk_167 255 111 (dk_at dksX5_interpolated_6 12 rfl rfl)
theorem dX5_interpolated_153 : decode cX5_interpolated 153 = .ok (.iload_n 3, 1) := dk_29 (dk_at dksX5_interpolated_6 15 rfl rfl)
theorem dX5_interpolated_154 : decode cX5_interpolated 154 = .ok (.ireturn, 1) := dk_172 (dk_at dksX5_interpolated_6 16 rfl rfl)
abbrev cX5_agrees : ByteArray := prog_12_method_12_code
def yX5_agrees : MethodName := ⟨RX5, "agrees", "(Ljava/util/List;)Z"⟩
def dkwX5_agrees_2 : List UInt8 := [180, 0, 52, 160, 0, 7, 4, 167, 0, 4, 3, 126, 61, 132, 3, 1, 167, 255, 201, 28, 172]
abbrev dktX5_agrees_2 : List UInt8 := dkwX5_agrees_2 ++ []
def dkwX5_agrees_1 : List UInt8 := [185, 0, 94, 2, 0, 192, 0, 9, 180, 0, 49, 182, 0, 109, 43, 29, 185, 0, 94, 2, 0, 192, 0, 9]
abbrev dktX5_agrees_1 : List UInt8 := dkwX5_agrees_1 ++ dktX5_agrees_2
def dkwX5_agrees_0 : List UInt8 := [4, 61, 42, 180, 0, 18, 62, 29, 43, 185, 0, 105, 1, 0, 162, 0, 51, 28, 42, 43, 43, 29]
abbrev dktX5_agrees_0 : List UInt8 := dkwX5_agrees_0 ++ dktX5_agrees_1
theorem dksX5_agrees_0 : cX5_agrees.data.toList.drop 0 = dktX5_agrees_0 := by decide +kernel
theorem dksX5_agrees_1 : cX5_agrees.data.toList.drop 22 = dktX5_agrees_1 := dk_seg dksX5_agrees_0 22 rfl rfl
theorem dksX5_agrees_2 : cX5_agrees.data.toList.drop 46 = dktX5_agrees_2 := dk_seg dksX5_agrees_1 24 rfl rfl
theorem dX5_agrees_0 : decode cX5_agrees 0 = .ok (.iconst 1, 1) := dk_4 (dk_at dksX5_agrees_0 0 rfl rfl)
theorem dX5_agrees_1 : decode cX5_agrees 1 = .ok (.istore_n 2, 1) := dk_61 (dk_at dksX5_agrees_0 1 rfl rfl)
theorem dX5_agrees_2 : decode cX5_agrees 2 = .ok (.aload_n 0, 1) := dk_42 (dk_at dksX5_agrees_0 2 rfl rfl)
theorem dX5_agrees_3 : decode cX5_agrees 3 = .ok (.getfield 18, 3) := dk_180 0 18 (dk_at dksX5_agrees_0 3 rfl rfl)
theorem dX5_agrees_6 : decode cX5_agrees 6 = .ok (.istore_n 3, 1) := dk_62 (dk_at dksX5_agrees_0 6 rfl rfl)
theorem dX5_agrees_7 : decode cX5_agrees 7 = .ok (.iload_n 3, 1) := dk_29 (dk_at dksX5_agrees_0 7 rfl rfl)
theorem dX5_agrees_8 : decode cX5_agrees 8 = .ok (.aload_n 1, 1) := dk_43 (dk_at dksX5_agrees_0 8 rfl rfl)
theorem dX5_agrees_9 : decode cX5_agrees 9 = .ok (.invokeinterface 105 1, 5) := by decide +kernel
theorem dX5_agrees_14 : decode cX5_agrees 14 = .ok (.if_icmp .ge 51, 3) := dk_162 0 51 (dk_at dksX5_agrees_0 14 rfl rfl)
theorem dX5_agrees_17 : decode cX5_agrees 17 = .ok (.iload_n 2, 1) := dk_28 (dk_at dksX5_agrees_0 17 rfl rfl)
theorem dX5_agrees_18 : decode cX5_agrees 18 = .ok (.aload_n 0, 1) := dk_42 (dk_at dksX5_agrees_0 18 rfl rfl)
theorem dX5_agrees_19 : decode cX5_agrees 19 = .ok (.aload_n 1, 1) := dk_43 (dk_at dksX5_agrees_0 19 rfl rfl)
theorem dX5_agrees_20 : decode cX5_agrees 20 = .ok (.aload_n 1, 1) := dk_43 (dk_at dksX5_agrees_0 20 rfl rfl)
theorem dX5_agrees_21 : decode cX5_agrees 21 = .ok (.iload_n 3, 1) := dk_29 (dk_at dksX5_agrees_0 21 rfl rfl)
theorem dX5_agrees_22 : decode cX5_agrees 22 = .ok (.invokeinterface 94 2, 5) := by decide +kernel
theorem dX5_agrees_27 : decode cX5_agrees 27 = .ok (.checkcast 9, 3) := dk_192 0 9 (dk_at dksX5_agrees_1 5 rfl rfl)
theorem dX5_agrees_30 : decode cX5_agrees 30 = .ok (.getfield 49, 3) := dk_180 0 49 (dk_at dksX5_agrees_1 8 rfl rfl)
theorem dX5_agrees_33 : decode cX5_agrees 33 = .ok (.invokevirtual 109, 3) := dk_182 0 109 (dk_at dksX5_agrees_1 11 rfl rfl)
theorem dX5_agrees_36 : decode cX5_agrees 36 = .ok (.aload_n 1, 1) := dk_43 (dk_at dksX5_agrees_1 14 rfl rfl)
theorem dX5_agrees_37 : decode cX5_agrees 37 = .ok (.iload_n 3, 1) := dk_29 (dk_at dksX5_agrees_1 15 rfl rfl)
theorem dX5_agrees_38 : decode cX5_agrees 38 = .ok (.invokeinterface 94 2, 5) := by decide +kernel
theorem dX5_agrees_43 : decode cX5_agrees 43 = .ok (.checkcast 9, 3) := dk_192 0 9 (dk_at dksX5_agrees_1 21 rfl rfl)
theorem dX5_agrees_46 : decode cX5_agrees 46 = .ok (.getfield 52, 3) := dk_180 0 52 (dk_at dksX5_agrees_2 0 rfl rfl)
theorem dX5_agrees_49 : decode cX5_agrees 49 = .ok (.if_icmp .ne 7, 3) := dk_160 0 7 (dk_at dksX5_agrees_2 3 rfl rfl)
theorem dX5_agrees_52 : decode cX5_agrees 52 = .ok (.iconst 1, 1) := dk_4 (dk_at dksX5_agrees_2 6 rfl rfl)
theorem dX5_agrees_53 : decode cX5_agrees 53 = .ok (.goto 4, 3) := dk_167 0 4 (dk_at dksX5_agrees_2 7 rfl rfl)
theorem dX5_agrees_56 : decode cX5_agrees 56 = .ok (.iconst 0, 1) := dk_3 (dk_at dksX5_agrees_2 10 rfl rfl)
theorem dX5_agrees_57 : decode cX5_agrees 57 = .ok (.iand, 1) := dk_126 (dk_at dksX5_agrees_2 11 rfl rfl)
theorem dX5_agrees_58 : decode cX5_agrees 58 = .ok (.istore_n 2, 1) := dk_61 (dk_at dksX5_agrees_2 12 rfl rfl)
theorem dX5_agrees_59 : decode cX5_agrees 59 = .ok (.iinc 3 1, 3) := dk_132 3 1 (dk_at dksX5_agrees_2 13 rfl rfl)
theorem dX5_agrees_62 : decode cX5_agrees 62 = .ok (.goto (-55), 3) := dk_167 255 201 (dk_at dksX5_agrees_2 16 rfl rfl)
theorem dX5_agrees_65 : decode cX5_agrees 65 = .ok (.iload_n 2, 1) := dk_28 (dk_at dksX5_agrees_2 19 rfl rfl)
theorem dX5_agrees_66 : decode cX5_agrees 66 = .ok (.ireturn, 1) := dk_172 (dk_at dksX5_agrees_2 20 rfl rfl)
abbrev cX5_countOf : ByteArray := prog_12_method_7_code
def yX5_countOf : MethodName := ⟨RX5, "countOf", "(LSecretVault$State;)I"⟩
def dkwX5_countOf_2 : List UInt8 := [167, 255, 216, 28, 172]
abbrev dktX5_countOf_2 : List UInt8 := dkwX5_countOf_2 ++ []
def dkwX5_countOf_1 : List UInt8 := [180, 0, 11, 29, 50, 42, 182, 0, 65, 153, 0, 7, 4, 167, 0, 4, 3, 96, 61, 132, 3, 1]
abbrev dktX5_countOf_1 : List UInt8 := dkwX5_countOf_1 ++ dktX5_countOf_2
def dkwX5_countOf_0 : List UInt8 := [3, 61, 4, 62, 29, 16, 24, 163, 0, 40, 28, 42, 180, 0, 11, 29, 50, 198, 0, 21, 43, 42]
abbrev dktX5_countOf_0 : List UInt8 := dkwX5_countOf_0 ++ dktX5_countOf_1
theorem dksX5_countOf_0 : cX5_countOf.data.toList.drop 0 = dktX5_countOf_0 := by decide +kernel
theorem dksX5_countOf_1 : cX5_countOf.data.toList.drop 22 = dktX5_countOf_1 := dk_seg dksX5_countOf_0 22 rfl rfl
theorem dksX5_countOf_2 : cX5_countOf.data.toList.drop 44 = dktX5_countOf_2 := dk_seg dksX5_countOf_1 22 rfl rfl
theorem dX5_countOf_0 : decode cX5_countOf 0 = .ok (.iconst 0, 1) := dk_3 (dk_at dksX5_countOf_0 0 rfl rfl)
theorem dX5_countOf_1 : decode cX5_countOf 1 = .ok (.istore_n 2, 1) := dk_61 (dk_at dksX5_countOf_0 1 rfl rfl)
theorem dX5_countOf_2 : decode cX5_countOf 2 = .ok (.iconst 1, 1) := dk_4 (dk_at dksX5_countOf_0 2 rfl rfl)
theorem dX5_countOf_3 : decode cX5_countOf 3 = .ok (.istore_n 3, 1) := dk_62 (dk_at dksX5_countOf_0 3 rfl rfl)
theorem dX5_countOf_4 : decode cX5_countOf 4 = .ok (.iload_n 3, 1) := dk_29 (dk_at dksX5_countOf_0 4 rfl rfl)
theorem dX5_countOf_5 : decode cX5_countOf 5 = .ok (.bipush 24, 2) := dk_16 24 (dk_at dksX5_countOf_0 5 rfl rfl)
theorem dX5_countOf_7 : decode cX5_countOf 7 = .ok (.if_icmp .gt 40, 3) := dk_163 0 40 (dk_at dksX5_countOf_0 7 rfl rfl)
theorem dX5_countOf_10 : decode cX5_countOf 10 = .ok (.iload_n 2, 1) := dk_28 (dk_at dksX5_countOf_0 10 rfl rfl)
theorem dX5_countOf_11 : decode cX5_countOf 11 = .ok (.aload_n 0, 1) := dk_42 (dk_at dksX5_countOf_0 11 rfl rfl)
theorem dX5_countOf_12 : decode cX5_countOf 12 = .ok (.getfield 11, 3) := dk_180 0 11 (dk_at dksX5_countOf_0 12 rfl rfl)
theorem dX5_countOf_15 : decode cX5_countOf 15 = .ok (.iload_n 3, 1) := dk_29 (dk_at dksX5_countOf_0 15 rfl rfl)
theorem dX5_countOf_16 : decode cX5_countOf 16 = .ok (.aaload, 1) := dk_50 (dk_at dksX5_countOf_0 16 rfl rfl)
theorem dX5_countOf_17 : decode cX5_countOf 17 = .ok (.ifnull 21, 3) := dk_198 0 21 (dk_at dksX5_countOf_0 17 rfl rfl)
theorem dX5_countOf_20 : decode cX5_countOf 20 = .ok (.aload_n 1, 1) := dk_43 (dk_at dksX5_countOf_0 20 rfl rfl)
theorem dX5_countOf_21 : decode cX5_countOf 21 = .ok (.aload_n 0, 1) := dk_42 (dk_at dksX5_countOf_0 21 rfl rfl)
theorem dX5_countOf_22 : decode cX5_countOf 22 = .ok (.getfield 11, 3) := dk_180 0 11 (dk_at dksX5_countOf_1 0 rfl rfl)
theorem dX5_countOf_25 : decode cX5_countOf 25 = .ok (.iload_n 3, 1) := dk_29 (dk_at dksX5_countOf_1 3 rfl rfl)
theorem dX5_countOf_26 : decode cX5_countOf 26 = .ok (.aaload, 1) := dk_50 (dk_at dksX5_countOf_1 4 rfl rfl)
theorem dX5_countOf_27 : decode cX5_countOf 27 = .ok (.aload_n 0, 1) := dk_42 (dk_at dksX5_countOf_1 5 rfl rfl)
theorem dX5_countOf_28 : decode cX5_countOf 28 = .ok (.invokevirtual 65, 3) := dk_182 0 65 (dk_at dksX5_countOf_1 6 rfl rfl)
theorem dX5_countOf_31 : decode cX5_countOf 31 = .ok (.ifCond .eq 7, 3) := dk_153 0 7 (dk_at dksX5_countOf_1 9 rfl rfl)
theorem dX5_countOf_34 : decode cX5_countOf 34 = .ok (.iconst 1, 1) := dk_4 (dk_at dksX5_countOf_1 12 rfl rfl)
theorem dX5_countOf_35 : decode cX5_countOf 35 = .ok (.goto 4, 3) := dk_167 0 4 (dk_at dksX5_countOf_1 13 rfl rfl)
theorem dX5_countOf_38 : decode cX5_countOf 38 = .ok (.iconst 0, 1) := dk_3 (dk_at dksX5_countOf_1 16 rfl rfl)
theorem dX5_countOf_39 : decode cX5_countOf 39 = .ok (.iadd, 1) := dk_96 (dk_at dksX5_countOf_1 17 rfl rfl)
theorem dX5_countOf_40 : decode cX5_countOf 40 = .ok (.istore_n 2, 1) := dk_61 (dk_at dksX5_countOf_1 18 rfl rfl)
theorem dX5_countOf_41 : decode cX5_countOf 41 = .ok (.iinc 3 1, 3) := dk_132 3 1 (dk_at dksX5_countOf_1 19 rfl rfl)
theorem dX5_countOf_44 : decode cX5_countOf 44 = .ok (.goto (-40), 3) := dk_167 255 216 (dk_at dksX5_countOf_2 0 rfl rfl)
theorem dX5_countOf_47 : decode cX5_countOf 47 = .ok (.iload_n 2, 1) := dk_28 (dk_at dksX5_countOf_2 3 rfl rfl)
theorem dX5_countOf_48 : decode cX5_countOf 48 = .ok (.ireturn, 1) := dk_172 (dk_at dksX5_countOf_2 4 rfl rfl)
theorem q96 : (Jvm.Cond.initialized "SecretVault$Secret") ∈ lw_all := lw_g (lw_at lw_m1 30 rfl) rfl
theorem q643 : (Jvm.Cond.instanceMethod ({ cls := "SecretVault$Secret", name := "copy", desc := "()LSecretVault$Secret;" } : Jvm.MethodName)) ∈ lw_all := lw_g (lw_at lw_m3 97 rfl) rfl
theorem q644 : (Jvm.Cond.selects "SecretVault$Secret" ({ cls := "SecretVault$Secret", name := "copy", desc := "()LSecretVault$Secret;" } : Jvm.MethodName) ({ cls := "SecretVault$Secret", name := "copy", desc := "()LSecretVault$Secret;" } : Jvm.MethodName)) ∈ lw_all := lw_g (lw_at lw_m3 98 rfl) rfl
theorem q645 : (Jvm.Cond.code ({ cls := "SecretVault$Secret", name := "copy", desc := "()LSecretVault$Secret;" } : Jvm.MethodName) prog_12_method_2_code (3 : Nat) (Option.some (Jvm.ClassFile.FieldType.object "SecretVault$Secret"))) ∈ lw_all := lw_g (lw_at lw_m3 99 rfl) rfl
theorem q646 : (Jvm.Cond.classLink "SecretVault$Secret" (12 : Nat) "SecretVault$Secret") ∈ lw_all := lw_g (lw_at lw_m3 100 rfl) rfl
theorem q647 : (Jvm.Cond.instantiable "SecretVault$Secret" (5 : Nat)) ∈ lw_all := lw_g (lw_at lw_m3 101 rfl) rfl
theorem q648 : (Jvm.Cond.methodLink "SecretVault$Secret" (17 : Nat) ({ cls := "SecretVault$Secret", name := "<init>", desc := "()V" } : Jvm.MethodName)) ∈ lw_all := lw_g (lw_at lw_m3 102 rfl) rfl
theorem q649 : (Jvm.Cond.instanceMethod ({ cls := "SecretVault$Secret", name := "<init>", desc := "()V" } : Jvm.MethodName)) ∈ lw_all := lw_g (lw_at lw_m3 103 rfl) rfl
theorem q650 : (Jvm.Cond.code ({ cls := "SecretVault$Secret", name := "<init>", desc := "()V" } : Jvm.MethodName) prog_12_method_1_code (1 : Nat) (Option.none : Option Jvm.ClassFile.FieldType)) ∈ lw_all := lw_g (lw_at lw_m3 104 rfl) rfl
theorem q651 : (Jvm.Cond.methodLink "SecretVault$Secret" (3 : Nat) ({ cls := "java/lang/Object", name := "<init>", desc := "()V" } : Jvm.MethodName)) ∈ lw_all := lw_g (lw_at lw_m3 105 rfl) rfl
theorem q652 : (Jvm.Cond.classLink "SecretVault$Secret" (9 : Nat) "SecretVault$Share") ∈ lw_all := lw_g (lw_at lw_m3 106 rfl) rfl
theorem q655 : (Jvm.Cond.fieldLink "SecretVault$Secret" (18 : Nat) "SecretVault$Secret" "threshold" "I") ∈ lw_all := lw_g (lw_at lw_m3 109 rfl) rfl
theorem q661 : (Jvm.Cond.fieldLink "SecretVault$Secret" (22 : Nat) "SecretVault$Secret" "epoch" "I") ∈ lw_all := lw_g (lw_at lw_m3 115 rfl) rfl
theorem q664 : (Jvm.Cond.fieldLink "SecretVault$Secret" (25 : Nat) "SecretVault$Secret" "commitments" "[I") ∈ lw_all := lw_g (lw_at lw_m3 118 rfl) rfl
theorem q667 : (Jvm.Cond.fieldLink "SecretVault$Secret" (34 : Nat) "SecretVault$Secret" "policy" "LSecretVault$Policy;") ∈ lw_all := lw_g (lw_at lw_m3 121 rfl) rfl
theorem q669 : (Jvm.Cond.fieldLink "SecretVault$Secret" (11 : Nat) "SecretVault$Secret" "shares" "[LSecretVault$Share;") ∈ lw_all := lw_g (lw_at lw_m3 123 rfl) rfl
theorem q672 : (Jvm.Cond.lays "SecretVault$Secret" "SecretVault$Secret" "threshold" "I") ∈ lw_all := lw_g (lw_at lw_m3 126 rfl) rfl
theorem q673 : (Jvm.Cond.soleField "SecretVault$Secret" "threshold") ∈ lw_all := lw_g (lw_at lw_m3 127 rfl) rfl
theorem q674 : (Jvm.Cond.lays "SecretVault$Secret" "SecretVault$Secret" "epoch" "I") ∈ lw_all := lw_g (lw_at lw_m3 128 rfl) rfl
theorem q675 : (Jvm.Cond.soleField "SecretVault$Secret" "epoch") ∈ lw_all := lw_g (lw_at lw_m3 129 rfl) rfl
theorem q676 : (Jvm.Cond.lays "SecretVault$Secret" "SecretVault$Secret" "commitments" "[I") ∈ lw_all := lw_g (lw_at lw_m3 130 rfl) rfl
theorem q677 : (Jvm.Cond.soleField "SecretVault$Secret" "commitments") ∈ lw_all := lw_g (lw_at lw_m3 131 rfl) rfl
theorem q678 : (Jvm.Cond.lays "SecretVault$Secret" "SecretVault$Secret" "policy" "LSecretVault$Policy;") ∈ lw_all := lw_g (lw_at lw_m3 132 rfl) rfl
theorem q679 : (Jvm.Cond.soleField "SecretVault$Secret" "policy") ∈ lw_all := lw_g (lw_at lw_m3 133 rfl) rfl
theorem q680 : (Jvm.Cond.laysFinal "SecretVault$Secret" "SecretVault$Secret" "shares" "[LSecretVault$Share;") ∈ lw_all := lw_g (lw_at lw_m3 134 rfl) rfl
theorem q681 : (Jvm.Cond.soleField "SecretVault$Secret" "shares") ∈ lw_all := lw_g (lw_at lw_m3 135 rfl) rfl
theorem q682 : (Jvm.Cond.superclass "SecretVault$Secret" "java/lang/Object") ∈ lw_all := lw_g (lw_at lw_m3 136 rfl) rfl
theorem q683 : (Jvm.Cond.methodLink "SecretVault$Secret" (29 : Nat) ({ cls := "[I", name := "clone", desc := "()Ljava/lang/Object;" } : Jvm.MethodName)) ∈ lw_all := lw_g (lw_at lw_m3 137 rfl) rfl
theorem q687 : (Jvm.Cond.classLink "SecretVault$Secret" (30 : Nat) "[I") ∈ lw_all := lw_g (lw_at lw_m3 141 rfl) rfl
theorem q688 : (Jvm.Cond.methodLink "SecretVault$Secret" (38 : Nat) ({ cls := "SecretVault$Share", name := "copy", desc := "()LSecretVault$Share;" } : Jvm.MethodName)) ∈ lw_all := lw_g (lw_at lw_m3 142 rfl) rfl
theorem q699 : (Jvm.Cond.fieldLink "SecretVault$Secret" (49 : Nat) "SecretVault$Share" "place" "I") ∈ lw_all := lw_g (lw_at lw_m3 153 rfl) rfl
theorem q703 : (Jvm.Cond.fieldLinkNest "SecretVault$Secret" (52 : Nat) "SecretVault$Share" "value" "I" "SecretVault") ∈ lw_tbl := lw_at lw_m3 157 rfl
theorem q865 : (Jvm.Cond.selects "SecretVault$Secret" ({ cls := "java/lang/Object", name := "getClass", desc := "()Ljava/lang/Class;" } : Jvm.MethodName) ({ cls := "java/lang/Object", name := "getClass", desc := "()Ljava/lang/Class;" } : Jvm.MethodName)) ∈ lw_all := lw_g (lw_at lw_m4 79 rfl) rfl
theorem q961 : (Jvm.Cond.instanceMethod ({ cls := "SecretVault$Secret", name := "sharesOf", desc := "(I)Ljava/util/List;" } : Jvm.MethodName)) ∈ lw_all := lw_g (lw_at lw_m4 175 rfl) rfl
theorem q962 : (Jvm.Cond.selects "SecretVault$Secret" ({ cls := "SecretVault$Secret", name := "sharesOf", desc := "(I)Ljava/util/List;" } : Jvm.MethodName) ({ cls := "SecretVault$Secret", name := "sharesOf", desc := "(I)Ljava/util/List;" } : Jvm.MethodName)) ∈ lw_all := lw_g (lw_at lw_m4 176 rfl) rfl
theorem q963 : (Jvm.Cond.code ({ cls := "SecretVault$Secret", name := "sharesOf", desc := "(I)Ljava/util/List;" } : Jvm.MethodName) prog_12_method_10_code (4 : Nat) (Option.some (Jvm.ClassFile.FieldType.object "java/util/List"))) ∈ lw_all := lw_g (lw_at lw_m4 177 rfl) rfl
theorem q964 : (Jvm.Cond.classLink "SecretVault$Secret" (82 : Nat) "java/util/ArrayList") ∈ lw_all := lw_g (lw_at lw_m4 178 rfl) rfl
theorem q966 : (Jvm.Cond.methodLink "SecretVault$Secret" (84 : Nat) ({ cls := "java/util/ArrayList", name := "<init>", desc := "()V" } : Jvm.MethodName)) ∈ lw_all := lw_g (lw_at lw_m4 180 rfl) rfl
theorem q987 : (Jvm.Cond.methodLinkNest "SecretVault$Secret" (85 : Nat) ({ cls := "SecretVault", name := "ownerOf", desc := "(I)I" } : Jvm.MethodName) "SecretVault") ∈ lw_tbl := lw_at lw_m4 201 rfl
theorem q990 : (Jvm.Cond.interfaceEntry "SecretVault$Secret" (88 : Nat)) ∈ lw_tbl := lw_at lw_m4 204 rfl
theorem q991 : (Jvm.Cond.methodLink "SecretVault$Secret" (88 : Nat) ({ cls := "java/util/List", name := "add", desc := "(Ljava/lang/Object;)Z" } : Jvm.MethodName)) ∈ lw_all := lw_g (lw_at lw_m4 205 rfl) rfl
theorem q1026 : (Jvm.Cond.instanceMethod ({ cls := "SecretVault$Secret", name := "goodOf", desc := "(I)I" } : Jvm.MethodName)) ∈ lw_all := lw_g (lw_at lw_m5 0 rfl) rfl
theorem q1027 : (Jvm.Cond.selects "SecretVault$Secret" ({ cls := "SecretVault$Secret", name := "goodOf", desc := "(I)I" } : Jvm.MethodName) ({ cls := "SecretVault$Secret", name := "goodOf", desc := "(I)I" } : Jvm.MethodName)) ∈ lw_all := lw_g (lw_at lw_m5 1 rfl) rfl
theorem q1028 : (Jvm.Cond.code ({ cls := "SecretVault$Secret", name := "goodOf", desc := "(I)I" } : Jvm.MethodName) prog_12_method_8_code (4 : Nat) (Option.some Jvm.ClassFile.FieldType.int)) ∈ lw_all := lw_g (lw_at lw_m5 2 rfl) rfl
theorem q1029 : (Jvm.Cond.methodLinkNest "SecretVault$Secret" (69 : Nat) ({ cls := "SecretVault", name := "firstPlace", desc := "(I)I" } : Jvm.MethodName) "SecretVault") ∈ lw_tbl := lw_at lw_m5 3 rfl
theorem q1032 : (Jvm.Cond.methodLink "SecretVault$Secret" (73 : Nat) ({ cls := "SecretVault$Secret", name := "isGood", desc := "(I)Z" } : Jvm.MethodName)) ∈ lw_all := lw_g (lw_at lw_m5 6 rfl) rfl
theorem q1033 : (Jvm.Cond.instanceMethod ({ cls := "SecretVault$Secret", name := "isGood", desc := "(I)Z" } : Jvm.MethodName)) ∈ lw_all := lw_g (lw_at lw_m5 7 rfl) rfl
theorem q1034 : (Jvm.Cond.selects "SecretVault$Secret" ({ cls := "SecretVault$Secret", name := "isGood", desc := "(I)Z" } : Jvm.MethodName) ({ cls := "SecretVault$Secret", name := "isGood", desc := "(I)Z" } : Jvm.MethodName)) ∈ lw_all := lw_g (lw_at lw_m5 8 rfl) rfl
theorem q1035 : (Jvm.Cond.code ({ cls := "SecretVault$Secret", name := "isGood", desc := "(I)Z" } : Jvm.MethodName) prog_12_method_5_code (2 : Nat) (Option.some Jvm.ClassFile.FieldType.boolean)) ∈ lw_all := lw_g (lw_at lw_m5 9 rfl) rfl
theorem q1036 : (Jvm.Cond.fieldLink "SecretVault$Secret" (55 : Nat) "SecretVault$State" "GOOD" "LSecretVault$State;") ∈ lw_all := lw_g (lw_at lw_m5 10 rfl) rfl
theorem q1038 : (Jvm.Cond.methodLink "SecretVault$Secret" (65 : Nat) ({ cls := "SecretVault$State", name := "fits", desc := "(LSecretVault$Share;LSecretVault$Secret;)Z" } : Jvm.MethodName)) ∈ lw_all := lw_g (lw_at lw_m5 12 rfl) rfl
theorem q1045 : (Jvm.Cond.instanceMethod ({ cls := "SecretVault$Secret", name := "isCommitted", desc := "(LSecretVault$Share;)Z" } : Jvm.MethodName)) ∈ lw_all := lw_g (lw_at lw_m5 19 rfl) rfl
theorem q1046 : (Jvm.Cond.selects "SecretVault$Secret" ({ cls := "SecretVault$Secret", name := "isCommitted", desc := "(LSecretVault$Share;)Z" } : Jvm.MethodName) ({ cls := "SecretVault$Secret", name := "isCommitted", desc := "(LSecretVault$Share;)Z" } : Jvm.MethodName)) ∈ lw_all := lw_g (lw_at lw_m5 20 rfl) rfl
theorem q1047 : (Jvm.Cond.code ({ cls := "SecretVault$Secret", name := "isCommitted", desc := "(LSecretVault$Share;)Z" } : Jvm.MethodName) prog_12_method_3_code (8 : Nat) (Option.some Jvm.ClassFile.FieldType.boolean)) ∈ lw_all := lw_g (lw_at lw_m5 21 rfl) rfl
theorem q1048 : (Jvm.Cond.methodLinkNest "SecretVault$Secret" (42 : Nat) ({ cls := "SecretVault", name := "power", desc := "(III)I" } : Jvm.MethodName) "SecretVault") ∈ lw_tbl := lw_at lw_m5 22 rfl
theorem q1054 : (Jvm.Cond.methodLinkNest "SecretVault$Secret" (46 : Nat) ({ cls := "SecretVault", name := "times", desc := "(III)I" } : Jvm.MethodName) "SecretVault") ∈ lw_tbl := lw_at lw_m5 28 rfl
theorem q1124 : (Jvm.Cond.instanceMethod ({ cls := "SecretVault$Secret", name := "count", desc := "()I" } : Jvm.MethodName)) ∈ lw_all := lw_g (lw_at lw_m5 98 rfl) rfl
theorem q1125 : (Jvm.Cond.selects "SecretVault$Secret" ({ cls := "SecretVault$Secret", name := "count", desc := "()I" } : Jvm.MethodName) ({ cls := "SecretVault$Secret", name := "count", desc := "()I" } : Jvm.MethodName)) ∈ lw_all := lw_g (lw_at lw_m5 99 rfl) rfl
theorem q1126 : (Jvm.Cond.code ({ cls := "SecretVault$Secret", name := "count", desc := "()I" } : Jvm.MethodName) prog_12_method_6_code (3 : Nat) (Option.some Jvm.ClassFile.FieldType.int)) ∈ lw_all := lw_g (lw_at lw_m5 100 rfl) rfl
theorem q1196 : (Jvm.Cond.instanceMethod ({ cls := "SecretVault$Secret", name := "isFulfilled", desc := "(I)Z" } : Jvm.MethodName)) ∈ lw_all := lw_g (lw_at lw_m5 170 rfl) rfl
theorem q1197 : (Jvm.Cond.selects "SecretVault$Secret" ({ cls := "SecretVault$Secret", name := "isFulfilled", desc := "(I)Z" } : Jvm.MethodName) ({ cls := "SecretVault$Secret", name := "isFulfilled", desc := "(I)Z" } : Jvm.MethodName)) ∈ lw_all := lw_g (lw_at lw_m5 171 rfl) rfl
theorem q1198 : (Jvm.Cond.code ({ cls := "SecretVault$Secret", name := "isFulfilled", desc := "(I)Z" } : Jvm.MethodName) prog_12_method_9_code (2 : Nat) (Option.some Jvm.ClassFile.FieldType.boolean)) ∈ lw_all := lw_g (lw_at lw_m5 172 rfl) rfl
theorem q1199 : (Jvm.Cond.interfaceEntry "SecretVault$Secret" (77 : Nat)) ∈ lw_tbl := lw_at lw_m5 173 rfl
theorem q1200 : (Jvm.Cond.methodLink "SecretVault$Secret" (77 : Nat) ({ cls := "SecretVault$Policy", name := "isFulfilled", desc := "(I)Z" } : Jvm.MethodName)) ∈ lw_all := lw_g (lw_at lw_m5 174 rfl) rfl
theorem q1314 : (Jvm.Cond.instanceMethod ({ cls := "SecretVault$Secret", name := "stateOf", desc := "(LSecretVault$Share;)LSecretVault$State;" } : Jvm.MethodName)) ∈ lw_all := lw_g (lw_at lw_m6 48 rfl) rfl
theorem q1315 : (Jvm.Cond.selects "SecretVault$Secret" ({ cls := "SecretVault$Secret", name := "stateOf", desc := "(LSecretVault$Share;)LSecretVault$State;" } : Jvm.MethodName) ({ cls := "SecretVault$Secret", name := "stateOf", desc := "(LSecretVault$Share;)LSecretVault$State;" } : Jvm.MethodName)) ∈ lw_all := lw_g (lw_at lw_m6 49 rfl) rfl
theorem q1316 : (Jvm.Cond.code ({ cls := "SecretVault$Secret", name := "stateOf", desc := "(LSecretVault$Share;)LSecretVault$State;" } : Jvm.MethodName) prog_12_method_4_code (7 : Nat) (Option.some (Jvm.ClassFile.FieldType.object "SecretVault$State"))) ∈ lw_all := lw_g (lw_at lw_m6 50 rfl) rfl
theorem q1317 : (Jvm.Cond.methodLink "SecretVault$Secret" (61 : Nat) ({ cls := "SecretVault$State", name := "values", desc := "()[LSecretVault$State;" } : Jvm.MethodName)) ∈ lw_all := lw_g (lw_at lw_m6 51 rfl) rfl
theorem q1441 : (Jvm.Cond.instanceMethod ({ cls := "SecretVault$Secret", name := "interpolated", desc := "(Ljava/util/List;I)I" } : Jvm.MethodName)) ∈ lw_all := lw_g (lw_at lw_m6 175 rfl) rfl
theorem q1442 : (Jvm.Cond.selects "SecretVault$Secret" ({ cls := "SecretVault$Secret", name := "interpolated", desc := "(Ljava/util/List;I)I" } : Jvm.MethodName) ({ cls := "SecretVault$Secret", name := "interpolated", desc := "(Ljava/util/List;I)I" } : Jvm.MethodName)) ∈ lw_all := lw_g (lw_at lw_m6 176 rfl) rfl
theorem q1443 : (Jvm.Cond.code ({ cls := "SecretVault$Secret", name := "interpolated", desc := "(Ljava/util/List;I)I" } : Jvm.MethodName) prog_12_method_11_code (8 : Nat) (Option.some Jvm.ClassFile.FieldType.int)) ∈ lw_all := lw_g (lw_at lw_m6 177 rfl) rfl
theorem q1444 : (Jvm.Cond.interfaceEntry "SecretVault$Secret" (94 : Nat)) ∈ lw_tbl := lw_at lw_m6 178 rfl
theorem q1445 : (Jvm.Cond.methodLink "SecretVault$Secret" (94 : Nat) ({ cls := "java/util/List", name := "get", desc := "(I)Ljava/lang/Object;" } : Jvm.MethodName)) ∈ lw_all := lw_g (lw_at lw_m6 179 rfl) rfl
theorem q1446 : (Jvm.Cond.methodLinkNest "SecretVault$Secret" (98 : Nat) ({ cls := "SecretVault", name := "minus", desc := "(II)I" } : Jvm.MethodName) "SecretVault") ∈ lw_tbl := lw_at lw_m6 180 rfl
theorem q1452 : (Jvm.Cond.methodLinkNest "SecretVault$Secret" (102 : Nat) ({ cls := "SecretVault", name := "inverse", desc := "(I)I" } : Jvm.MethodName) "SecretVault") ∈ lw_tbl := lw_at lw_m6 186 rfl
theorem q1499 : (Jvm.Cond.instanceMethod ({ cls := "SecretVault$Secret", name := "agrees", desc := "(Ljava/util/List;)Z" } : Jvm.MethodName)) ∈ lw_all := lw_g (lw_at lw_m6 233 rfl) rfl
theorem q1500 : (Jvm.Cond.selects "SecretVault$Secret" ({ cls := "SecretVault$Secret", name := "agrees", desc := "(Ljava/util/List;)Z" } : Jvm.MethodName) ({ cls := "SecretVault$Secret", name := "agrees", desc := "(Ljava/util/List;)Z" } : Jvm.MethodName)) ∈ lw_all := lw_g (lw_at lw_m6 234 rfl) rfl
theorem q1501 : (Jvm.Cond.code ({ cls := "SecretVault$Secret", name := "agrees", desc := "(Ljava/util/List;)Z" } : Jvm.MethodName) prog_12_method_12_code (4 : Nat) (Option.some Jvm.ClassFile.FieldType.boolean)) ∈ lw_all := lw_g (lw_at lw_m6 235 rfl) rfl
theorem q1502 : (Jvm.Cond.interfaceEntry "SecretVault$Secret" (105 : Nat)) ∈ lw_tbl := lw_at lw_m6 236 rfl
theorem q1503 : (Jvm.Cond.methodLink "SecretVault$Secret" (105 : Nat) ({ cls := "java/util/List", name := "size", desc := "()I" } : Jvm.MethodName)) ∈ lw_all := lw_g (lw_at lw_m6 237 rfl) rfl
theorem q1504 : (Jvm.Cond.methodLink "SecretVault$Secret" (109 : Nat) ({ cls := "SecretVault$Secret", name := "interpolated", desc := "(Ljava/util/List;I)I" } : Jvm.MethodName)) ∈ lw_all := lw_g (lw_at lw_m6 238 rfl) rfl
theorem q1514 : (Jvm.Cond.instanceMethod ({ cls := "SecretVault$Secret", name := "countOf", desc := "(LSecretVault$State;)I" } : Jvm.MethodName)) ∈ lw_all := lw_g (lw_at lw_m7 8 rfl) rfl
theorem q1515 : (Jvm.Cond.selects "SecretVault$Secret" ({ cls := "SecretVault$Secret", name := "countOf", desc := "(LSecretVault$State;)I" } : Jvm.MethodName) ({ cls := "SecretVault$Secret", name := "countOf", desc := "(LSecretVault$State;)I" } : Jvm.MethodName)) ∈ lw_all := lw_g (lw_at lw_m7 9 rfl) rfl
theorem q1516 : (Jvm.Cond.code ({ cls := "SecretVault$Secret", name := "countOf", desc := "(LSecretVault$State;)I" } : Jvm.MethodName) prog_12_method_7_code (4 : Nat) (Option.some Jvm.ClassFile.FieldType.int)) ∈ lw_all := lw_g (lw_at lw_m7 10 rfl) rfl
theorem q2562 : (Jvm.Cond.castable "SecretVault$Secret" "java/lang/Object") ∈ lw_tbl := lw_at lw_m11 96 rfl
theorem in_X5 : ∀ w ∈ wsX50, w ∈ lw_all := lw_in wsX50 [672, 674, 676, 678, 680] (by decide +kernel) (by decide +kernel)

/-! SecretVault$Share -/
set_option maxRecDepth 100000
def RX6 : String := "SecretVault$Share"
def TX6 : u_T := fun k => match k with
  | 0 => ("SecretVault$Share", "place", "I", true)
  | 1 => ("SecretVault$Share", "value", "I", false)
  | _ => ("SecretVault$Share", "epoch", "I", false)
def tyX6 : Nat → FieldType := fun k => match k with
  | 0 => .int
  | 1 => .int
  | _ => .int
abbrev wsX60 : List Cond := u_ws RX6 TX6 3
theorem nmX6 : ∀ a, a < 3 → ∀ b, b < 3 → a ≠ b → (TX6 a).2.1 ≠ (TX6 b).2.1 := by decide +kernel
theorem tyX6_ok : ∀ k, k < 3 → parseFieldDescriptor (TX6 k).2.2.1 = some (tyX6 k) := by decide +kernel
abbrev cX6_copy : ByteArray := prog_13_method_2_code
def yX6_copy : MethodName := ⟨RX6, "copy", "()LSecretVault$Share;"⟩
def dkwX6_copy_0 : List UInt8 := [187, 0, 8, 89, 42, 180, 0, 7, 42, 180, 0, 13, 42, 180, 0, 16, 183, 0, 19, 176]
abbrev dktX6_copy_0 : List UInt8 := dkwX6_copy_0 ++ []
theorem dksX6_copy_0 : cX6_copy.data.toList.drop 0 = dktX6_copy_0 := by decide +kernel
theorem dX6_copy_0 : decode cX6_copy 0 = .ok (.new 8, 3) := dk_187 0 8 (dk_at dksX6_copy_0 0 rfl rfl)
theorem dX6_copy_3 : decode cX6_copy 3 = .ok (.dup, 1) := dk_89 (dk_at dksX6_copy_0 3 rfl rfl)
theorem dX6_copy_4 : decode cX6_copy 4 = .ok (.aload_n 0, 1) := dk_42 (dk_at dksX6_copy_0 4 rfl rfl)
theorem dX6_copy_5 : decode cX6_copy 5 = .ok (.getfield 7, 3) := dk_180 0 7 (dk_at dksX6_copy_0 5 rfl rfl)
theorem dX6_copy_8 : decode cX6_copy 8 = .ok (.aload_n 0, 1) := dk_42 (dk_at dksX6_copy_0 8 rfl rfl)
theorem dX6_copy_9 : decode cX6_copy 9 = .ok (.getfield 13, 3) := dk_180 0 13 (dk_at dksX6_copy_0 9 rfl rfl)
theorem dX6_copy_12 : decode cX6_copy 12 = .ok (.aload_n 0, 1) := dk_42 (dk_at dksX6_copy_0 12 rfl rfl)
theorem dX6_copy_13 : decode cX6_copy 13 = .ok (.getfield 16, 3) := dk_180 0 16 (dk_at dksX6_copy_0 13 rfl rfl)
theorem dX6_copy_16 : decode cX6_copy 16 = .ok (.invokespecial 19, 3) := dk_183 0 19 (dk_at dksX6_copy_0 16 rfl rfl)
theorem dX6_copy_19 : decode cX6_copy 19 = .ok (.areturn, 1) := dk_176 (dk_at dksX6_copy_0 19 rfl rfl)
abbrev cX6_init : ByteArray := prog_13_method_1_code
def yX6_init : MethodName := ⟨RX6, "<init>", "(III)V"⟩
def dkwX6_init_0 : List UInt8 := [42, 183, 0, 1, 42, 27, 181, 0, 7, 42, 28, 181, 0, 13, 42, 29, 181, 0, 16, 177]
abbrev dktX6_init_0 : List UInt8 := dkwX6_init_0 ++ []
theorem dksX6_init_0 : cX6_init.data.toList.drop 0 = dktX6_init_0 := by decide +kernel
theorem dX6_init_0 : decode cX6_init 0 = .ok (.aload_n 0, 1) := dk_42 (dk_at dksX6_init_0 0 rfl rfl)
theorem dX6_init_1 : decode cX6_init 1 = .ok (.invokespecial 1, 3) := dk_183 0 1 (dk_at dksX6_init_0 1 rfl rfl)
theorem dX6_init_4 : decode cX6_init 4 = .ok (.aload_n 0, 1) := dk_42 (dk_at dksX6_init_0 4 rfl rfl)
theorem dX6_init_5 : decode cX6_init 5 = .ok (.iload_n 1, 1) := dk_27 (dk_at dksX6_init_0 5 rfl rfl)
theorem dX6_init_6 : decode cX6_init 6 = .ok (.putfield 7, 3) := dk_181 0 7 (dk_at dksX6_init_0 6 rfl rfl)
theorem dX6_init_9 : decode cX6_init 9 = .ok (.aload_n 0, 1) := dk_42 (dk_at dksX6_init_0 9 rfl rfl)
theorem dX6_init_10 : decode cX6_init 10 = .ok (.iload_n 2, 1) := dk_28 (dk_at dksX6_init_0 10 rfl rfl)
theorem dX6_init_11 : decode cX6_init 11 = .ok (.putfield 13, 3) := dk_181 0 13 (dk_at dksX6_init_0 11 rfl rfl)
theorem dX6_init_14 : decode cX6_init 14 = .ok (.aload_n 0, 1) := dk_42 (dk_at dksX6_init_0 14 rfl rfl)
theorem dX6_init_15 : decode cX6_init 15 = .ok (.iload_n 3, 1) := dk_29 (dk_at dksX6_init_0 15 rfl rfl)
theorem dX6_init_16 : decode cX6_init 16 = .ok (.putfield 16, 3) := dk_181 0 16 (dk_at dksX6_init_0 16 rfl rfl)
theorem dX6_init_19 : decode cX6_init 19 = .ok (.return_, 1) := dk_177 (dk_at dksX6_init_0 19 rfl rfl)
abbrev cX6_write : ByteArray := prog_13_method_3_code
def yX6_write : MethodName := ⟨RX6, "write", "(Ljava/lang/StringBuilder;)V"⟩
def dkwX6_write_2 : List UInt8 := [180, 0, 13, 104, 96, 42, 180, 0, 16, 96, 16, 10, 112, 182, 0, 22, 87, 177]
abbrev dktX6_write_2 : List UInt8 := dkwX6_write_2 ++ []
def dkwX6_write_1 : List UInt8 := [182, 0, 28, 42, 180, 0, 16, 182, 0, 22, 16, 35, 182, 0, 28, 16, 7, 42, 180, 0, 7, 104, 6, 42]
abbrev dktX6_write_1 : List UInt8 := dkwX6_write_1 ++ dktX6_write_2
def dkwX6_write_0 : List UInt8 := [43, 42, 180, 0, 7, 182, 0, 22, 16, 58, 182, 0, 28, 42, 180, 0, 13, 182, 0, 22, 16, 64]
abbrev dktX6_write_0 : List UInt8 := dkwX6_write_0 ++ dktX6_write_1
theorem dksX6_write_0 : cX6_write.data.toList.drop 0 = dktX6_write_0 := by decide +kernel
theorem dksX6_write_1 : cX6_write.data.toList.drop 22 = dktX6_write_1 := dk_seg dksX6_write_0 22 rfl rfl
theorem dksX6_write_2 : cX6_write.data.toList.drop 46 = dktX6_write_2 := dk_seg dksX6_write_1 24 rfl rfl
theorem dX6_write_0 : decode cX6_write 0 = .ok (.aload_n 1, 1) := dk_43 (dk_at dksX6_write_0 0 rfl rfl)
theorem dX6_write_1 : decode cX6_write 1 = .ok (.aload_n 0, 1) := dk_42 (dk_at dksX6_write_0 1 rfl rfl)
theorem dX6_write_2 : decode cX6_write 2 = .ok (.getfield 7, 3) := dk_180 0 7 (dk_at dksX6_write_0 2 rfl rfl)
theorem dX6_write_5 : decode cX6_write 5 = .ok (.invokevirtual 22, 3) := dk_182 0 22 (dk_at dksX6_write_0 5 rfl rfl)
theorem dX6_write_8 : decode cX6_write 8 = .ok (.bipush 58, 2) := dk_16 58 (dk_at dksX6_write_0 8 rfl rfl)
theorem dX6_write_10 : decode cX6_write 10 = .ok (.invokevirtual 28, 3) := dk_182 0 28 (dk_at dksX6_write_0 10 rfl rfl)
theorem dX6_write_13 : decode cX6_write 13 = .ok (.aload_n 0, 1) := dk_42 (dk_at dksX6_write_0 13 rfl rfl)
theorem dX6_write_14 : decode cX6_write 14 = .ok (.getfield 13, 3) := dk_180 0 13 (dk_at dksX6_write_0 14 rfl rfl)
theorem dX6_write_17 : decode cX6_write 17 = .ok (.invokevirtual 22, 3) := dk_182 0 22 (dk_at dksX6_write_0 17 rfl rfl)
theorem dX6_write_20 : decode cX6_write 20 = .ok (.bipush 64, 2) := dk_16 64 (dk_at dksX6_write_0 20 rfl rfl)
theorem dX6_write_22 : decode cX6_write 22 = .ok (.invokevirtual 28, 3) := dk_182 0 28 (dk_at dksX6_write_1 0 rfl rfl)
theorem dX6_write_25 : decode cX6_write 25 = .ok (.aload_n 0, 1) := dk_42 (dk_at dksX6_write_1 3 rfl rfl)
theorem dX6_write_26 : decode cX6_write 26 = .ok (.getfield 16, 3) := dk_180 0 16 (dk_at dksX6_write_1 4 rfl rfl)
theorem dX6_write_29 : decode cX6_write 29 = .ok (.invokevirtual 22, 3) := dk_182 0 22 (dk_at dksX6_write_1 7 rfl rfl)
theorem dX6_write_32 : decode cX6_write 32 = .ok (.bipush 35, 2) := dk_16 35 (dk_at dksX6_write_1 10 rfl rfl)
theorem dX6_write_34 : decode cX6_write 34 = .ok (.invokevirtual 28, 3) := dk_182 0 28 (dk_at dksX6_write_1 12 rfl rfl)
theorem dX6_write_37 : decode cX6_write 37 = .ok (.bipush 7, 2) := dk_16 7 (dk_at dksX6_write_1 15 rfl rfl)
theorem dX6_write_39 : decode cX6_write 39 = .ok (.aload_n 0, 1) := dk_42 (dk_at dksX6_write_1 17 rfl rfl)
theorem dX6_write_40 : decode cX6_write 40 = .ok (.getfield 7, 3) := dk_180 0 7 (dk_at dksX6_write_1 18 rfl rfl)
theorem dX6_write_43 : decode cX6_write 43 = .ok (.imul, 1) := dk_104 (dk_at dksX6_write_1 21 rfl rfl)
theorem dX6_write_44 : decode cX6_write 44 = .ok (.iconst 3, 1) := dk_6 (dk_at dksX6_write_1 22 rfl rfl)
theorem dX6_write_45 : decode cX6_write 45 = .ok (.aload_n 0, 1) := dk_42 (dk_at dksX6_write_1 23 rfl rfl)
theorem dX6_write_46 : decode cX6_write 46 = .ok (.getfield 13, 3) := dk_180 0 13 (dk_at dksX6_write_2 0 rfl rfl)
theorem dX6_write_49 : decode cX6_write 49 = .ok (.imul, 1) := dk_104 (dk_at dksX6_write_2 3 rfl rfl)
theorem dX6_write_50 : decode cX6_write 50 = .ok (.iadd, 1) := dk_96 (dk_at dksX6_write_2 4 rfl rfl)
theorem dX6_write_51 : decode cX6_write 51 = .ok (.aload_n 0, 1) := dk_42 (dk_at dksX6_write_2 5 rfl rfl)
theorem dX6_write_52 : decode cX6_write 52 = .ok (.getfield 16, 3) := dk_180 0 16 (dk_at dksX6_write_2 6 rfl rfl)
theorem dX6_write_55 : decode cX6_write 55 = .ok (.iadd, 1) := dk_96 (dk_at dksX6_write_2 9 rfl rfl)
theorem dX6_write_56 : decode cX6_write 56 = .ok (.bipush 10, 2) := dk_16 10 (dk_at dksX6_write_2 10 rfl rfl)
theorem dX6_write_58 : decode cX6_write 58 = .ok (.irem, 1) := dk_112 (dk_at dksX6_write_2 12 rfl rfl)
theorem dX6_write_59 : decode cX6_write 59 = .ok (.invokevirtual 22, 3) := dk_182 0 22 (dk_at dksX6_write_2 13 rfl rfl)
theorem dX6_write_62 : decode cX6_write 62 = .ok (.pop, 1) := dk_87 (dk_at dksX6_write_2 16 rfl rfl)
theorem dX6_write_63 : decode cX6_write 63 = .ok (.return_, 1) := dk_177 (dk_at dksX6_write_2 17 rfl rfl)
theorem q97 : (Jvm.Cond.initialized "SecretVault$Share") ∈ lw_all := lw_g (lw_at lw_m1 31 rfl) rfl
theorem q689 : (Jvm.Cond.instanceMethod ({ cls := "SecretVault$Share", name := "copy", desc := "()LSecretVault$Share;" } : Jvm.MethodName)) ∈ lw_all := lw_g (lw_at lw_m3 143 rfl) rfl
theorem q690 : (Jvm.Cond.selects "SecretVault$Share" ({ cls := "SecretVault$Share", name := "copy", desc := "()LSecretVault$Share;" } : Jvm.MethodName) ({ cls := "SecretVault$Share", name := "copy", desc := "()LSecretVault$Share;" } : Jvm.MethodName)) ∈ lw_all := lw_g (lw_at lw_m3 144 rfl) rfl
theorem q691 : (Jvm.Cond.code ({ cls := "SecretVault$Share", name := "copy", desc := "()LSecretVault$Share;" } : Jvm.MethodName) prog_13_method_2_code (1 : Nat) (Option.some (Jvm.ClassFile.FieldType.object "SecretVault$Share"))) ∈ lw_all := lw_g (lw_at lw_m3 145 rfl) rfl
theorem q692 : (Jvm.Cond.classLink "SecretVault$Share" (8 : Nat) "SecretVault$Share") ∈ lw_all := lw_g (lw_at lw_m3 146 rfl) rfl
theorem q693 : (Jvm.Cond.instantiable "SecretVault$Share" (3 : Nat)) ∈ lw_all := lw_g (lw_at lw_m3 147 rfl) rfl
theorem q694 : (Jvm.Cond.methodLink "SecretVault$Share" (19 : Nat) ({ cls := "SecretVault$Share", name := "<init>", desc := "(III)V" } : Jvm.MethodName)) ∈ lw_all := lw_g (lw_at lw_m3 148 rfl) rfl
theorem q695 : (Jvm.Cond.instanceMethod ({ cls := "SecretVault$Share", name := "<init>", desc := "(III)V" } : Jvm.MethodName)) ∈ lw_all := lw_g (lw_at lw_m3 149 rfl) rfl
theorem q696 : (Jvm.Cond.code ({ cls := "SecretVault$Share", name := "<init>", desc := "(III)V" } : Jvm.MethodName) prog_13_method_1_code (4 : Nat) (Option.none : Option Jvm.ClassFile.FieldType)) ∈ lw_all := lw_g (lw_at lw_m3 150 rfl) rfl
theorem q697 : (Jvm.Cond.methodLink "SecretVault$Share" (1 : Nat) ({ cls := "java/lang/Object", name := "<init>", desc := "()V" } : Jvm.MethodName)) ∈ lw_all := lw_g (lw_at lw_m3 151 rfl) rfl
theorem q698 : (Jvm.Cond.fieldLink "SecretVault$Share" (7 : Nat) "SecretVault$Share" "place" "I") ∈ lw_all := lw_g (lw_at lw_m3 152 rfl) rfl
theorem q702 : (Jvm.Cond.fieldLink "SecretVault$Share" (13 : Nat) "SecretVault$Share" "value" "I") ∈ lw_all := lw_g (lw_at lw_m3 156 rfl) rfl
theorem q706 : (Jvm.Cond.fieldLink "SecretVault$Share" (16 : Nat) "SecretVault$Share" "epoch" "I") ∈ lw_all := lw_g (lw_at lw_m3 160 rfl) rfl
theorem q712 : (Jvm.Cond.laysFinal "SecretVault$Share" "SecretVault$Share" "place" "I") ∈ lw_all := lw_g (lw_at lw_m3 166 rfl) rfl
theorem q713 : (Jvm.Cond.soleField "SecretVault$Share" "place") ∈ lw_all := lw_g (lw_at lw_m3 167 rfl) rfl
theorem q714 : (Jvm.Cond.lays "SecretVault$Share" "SecretVault$Share" "value" "I") ∈ lw_all := lw_g (lw_at lw_m3 168 rfl) rfl
theorem q715 : (Jvm.Cond.soleField "SecretVault$Share" "value") ∈ lw_all := lw_g (lw_at lw_m3 169 rfl) rfl
theorem q716 : (Jvm.Cond.lays "SecretVault$Share" "SecretVault$Share" "epoch" "I") ∈ lw_all := lw_g (lw_at lw_m3 170 rfl) rfl
theorem q717 : (Jvm.Cond.soleField "SecretVault$Share" "epoch") ∈ lw_all := lw_g (lw_at lw_m3 171 rfl) rfl
theorem q718 : (Jvm.Cond.superclass "SecretVault$Share" "java/lang/Object") ∈ lw_all := lw_g (lw_at lw_m3 172 rfl) rfl
theorem q866 : (Jvm.Cond.selects "SecretVault$Share" ({ cls := "java/lang/Object", name := "getClass", desc := "()Ljava/lang/Class;" } : Jvm.MethodName) ({ cls := "java/lang/Object", name := "getClass", desc := "()Ljava/lang/Class;" } : Jvm.MethodName)) ∈ lw_all := lw_g (lw_at lw_m4 80 rfl) rfl
theorem q1566 : (Jvm.Cond.instanceMethod ({ cls := "SecretVault$Share", name := "write", desc := "(Ljava/lang/StringBuilder;)V" } : Jvm.MethodName)) ∈ lw_all := lw_g (lw_at lw_m7 60 rfl) rfl
theorem q1567 : (Jvm.Cond.selects "SecretVault$Share" ({ cls := "SecretVault$Share", name := "write", desc := "(Ljava/lang/StringBuilder;)V" } : Jvm.MethodName) ({ cls := "SecretVault$Share", name := "write", desc := "(Ljava/lang/StringBuilder;)V" } : Jvm.MethodName)) ∈ lw_all := lw_g (lw_at lw_m7 61 rfl) rfl
theorem q1568 : (Jvm.Cond.code ({ cls := "SecretVault$Share", name := "write", desc := "(Ljava/lang/StringBuilder;)V" } : Jvm.MethodName) prog_13_method_3_code (2 : Nat) (Option.none : Option Jvm.ClassFile.FieldType)) ∈ lw_all := lw_g (lw_at lw_m7 62 rfl) rfl
theorem q1569 : (Jvm.Cond.methodLink "SecretVault$Share" (22 : Nat) ({ cls := "java/lang/StringBuilder", name := "append", desc := "(I)Ljava/lang/StringBuilder;" } : Jvm.MethodName)) ∈ lw_all := lw_g (lw_at lw_m7 63 rfl) rfl
theorem q1570 : (Jvm.Cond.methodLink "SecretVault$Share" (28 : Nat) ({ cls := "java/lang/StringBuilder", name := "append", desc := "(C)Ljava/lang/StringBuilder;" } : Jvm.MethodName)) ∈ lw_all := lw_g (lw_at lw_m7 64 rfl) rfl
theorem q2563 : (Jvm.Cond.castable "SecretVault$Share" "java/lang/Object") ∈ lw_tbl := lw_at lw_m11 97 rfl
theorem in_X6 : ∀ w ∈ wsX60, w ∈ lw_all := lw_in wsX60 [712, 714, 716] (by decide +kernel) (by decide +kernel)

/-! SecretVault$Failure -/
set_option maxRecDepth 100000
def RX7 : String := "SecretVault$Failure"
abbrev cX7_init : ByteArray := prog_5_method_1_code
def yX7_init : MethodName := ⟨RX7, "<init>", "(IILSecretVault$Failure;)V"⟩
def dkwX7_init_0 : List UInt8 := [42, 1, 45, 183, 0, 1, 42, 27, 181, 0, 7, 42, 28, 181, 0, 13, 177]
abbrev dktX7_init_0 : List UInt8 := dkwX7_init_0 ++ []
theorem dksX7_init_0 : cX7_init.data.toList.drop 0 = dktX7_init_0 := by decide +kernel
theorem dX7_init_0 : decode cX7_init 0 = .ok (.aload_n 0, 1) := dk_42 (dk_at dksX7_init_0 0 rfl rfl)
theorem dX7_init_1 : decode cX7_init 1 = .ok (.aconst_null, 1) := dk_1 (dk_at dksX7_init_0 1 rfl rfl)
theorem dX7_init_2 : decode cX7_init 2 = .ok (.aload_n 3, 1) := dk_45 (dk_at dksX7_init_0 2 rfl rfl)
theorem dX7_init_3 : decode cX7_init 3 = .ok (.invokespecial 1, 3) := dk_183 0 1 (dk_at dksX7_init_0 3 rfl rfl)
theorem dX7_init_6 : decode cX7_init 6 = .ok (.aload_n 0, 1) := dk_42 (dk_at dksX7_init_0 6 rfl rfl)
theorem dX7_init_7 : decode cX7_init 7 = .ok (.iload_n 1, 1) := dk_27 (dk_at dksX7_init_0 7 rfl rfl)
theorem dX7_init_8 : decode cX7_init 8 = .ok (.putfield 7, 3) := dk_181 0 7 (dk_at dksX7_init_0 8 rfl rfl)
theorem dX7_init_11 : decode cX7_init 11 = .ok (.aload_n 0, 1) := dk_42 (dk_at dksX7_init_0 11 rfl rfl)
theorem dX7_init_12 : decode cX7_init 12 = .ok (.iload_n 2, 1) := dk_28 (dk_at dksX7_init_0 12 rfl rfl)
theorem dX7_init_13 : decode cX7_init 13 = .ok (.putfield 13, 3) := dk_181 0 13 (dk_at dksX7_init_0 13 rfl rfl)
theorem dX7_init_16 : decode cX7_init 16 = .ok (.return_, 1) := dk_177 (dk_at dksX7_init_0 16 rfl rfl)
theorem q102 : (Jvm.Cond.initialized "SecretVault$Failure") ∈ lw_all := lw_g (lw_at lw_m1 36 rfl) rfl
theorem q1281 : (Jvm.Cond.instanceMethod ({ cls := "SecretVault$Failure", name := "<init>", desc := "(IILSecretVault$Failure;)V" } : Jvm.MethodName)) ∈ lw_all := lw_g (lw_at lw_m6 15 rfl) rfl
theorem q1282 : (Jvm.Cond.code ({ cls := "SecretVault$Failure", name := "<init>", desc := "(IILSecretVault$Failure;)V" } : Jvm.MethodName) prog_5_method_1_code (4 : Nat) (Option.none : Option Jvm.ClassFile.FieldType)) ∈ lw_all := lw_g (lw_at lw_m6 16 rfl) rfl
theorem q1283 : (Jvm.Cond.methodLink "SecretVault$Failure" (1 : Nat) ({ cls := "java/lang/Exception", name := "<init>", desc := "(Ljava/lang/String;Ljava/lang/Throwable;)V" } : Jvm.MethodName)) ∈ lw_all := lw_g (lw_at lw_m6 17 rfl) rfl
theorem q1289 : (Jvm.Cond.fieldLink "SecretVault$Failure" (7 : Nat) "SecretVault$Failure" "code" "I") ∈ lw_all := lw_g (lw_at lw_m6 23 rfl) rfl
theorem q1291 : (Jvm.Cond.fieldLink "SecretVault$Failure" (13 : Nat) "SecretVault$Failure" "detail" "I") ∈ lw_all := lw_g (lw_at lw_m6 25 rfl) rfl
theorem q1294 : (Jvm.Cond.soleField "SecretVault$Failure" "code") ∈ lw_all := lw_g (lw_at lw_m6 28 rfl) rfl
theorem q1296 : (Jvm.Cond.soleField "SecretVault$Failure" "detail") ∈ lw_all := lw_g (lw_at lw_m6 30 rfl) rfl

/-! SecretVault$PolicyFailure -/
set_option maxRecDepth 100000
def RX8 : String := "SecretVault$PolicyFailure"
def TX8 : u_T := fun k => match k with
  | 0 => ("SecretVault$Failure", "code", "I", true)
  | 1 => ("SecretVault$Failure", "detail", "I", true)
  | 2 => ("java/lang/Throwable", "cause", "Ljava/lang/Throwable;", false)
  | 3 => ("java/lang/Throwable", "stackTrace", "[Ljava/lang/StackTraceElement;", false)
  | 4 => ("java/lang/Throwable", "suppressedExceptions", "Ljava/util/List;", false)
  | 5 => ("java/lang/Throwable", "detailMessage", "Ljava/lang/String;", false)
  | 6 => ("java/lang/Throwable", "backtrace", "Ljava/lang/Object;", false)
  | _ => ("java/lang/Throwable", "depth", "I", false)
def tyX8 : Nat → FieldType := fun k => match k with
  | 0 => .int
  | 1 => .int
  | 2 => .object "java/lang/Throwable"
  | 3 => .array (.object "java/lang/StackTraceElement")
  | 4 => .object "java/util/List"
  | 5 => .object "java/lang/String"
  | 6 => .object "java/lang/Object"
  | _ => .int
abbrev wsX80 : List Cond := u_ws RX8 TX8 8
theorem nmX8 : ∀ a, a < 8 → ∀ b, b < 8 → a ≠ b → (TX8 a).2.1 ≠ (TX8 b).2.1 := by decide +kernel
theorem tyX8_ok : ∀ k, k < 8 → parseFieldDescriptor (TX8 k).2.2.1 = some (tyX8 k) := by decide +kernel
abbrev cX8_init : ByteArray := prog_10_method_1_code
def yX8_init : MethodName := ⟨RX8, "<init>", "(II)V"⟩
def dkwX8_init_0 : List UInt8 := [42, 4, 27, 187, 0, 1, 89, 5, 28, 1, 183, 0, 3, 183, 0, 7, 177]
abbrev dktX8_init_0 : List UInt8 := dkwX8_init_0 ++ []
theorem dksX8_init_0 : cX8_init.data.toList.drop 0 = dktX8_init_0 := by decide +kernel
theorem dX8_init_0 : decode cX8_init 0 = .ok (.aload_n 0, 1) := dk_42 (dk_at dksX8_init_0 0 rfl rfl)
theorem dX8_init_1 : decode cX8_init 1 = .ok (.iconst 1, 1) := dk_4 (dk_at dksX8_init_0 1 rfl rfl)
theorem dX8_init_2 : decode cX8_init 2 = .ok (.iload_n 1, 1) := dk_27 (dk_at dksX8_init_0 2 rfl rfl)
theorem dX8_init_3 : decode cX8_init 3 = .ok (.new 1, 3) := dk_187 0 1 (dk_at dksX8_init_0 3 rfl rfl)
theorem dX8_init_6 : decode cX8_init 6 = .ok (.dup, 1) := dk_89 (dk_at dksX8_init_0 6 rfl rfl)
theorem dX8_init_7 : decode cX8_init 7 = .ok (.iconst 2, 1) := dk_5 (dk_at dksX8_init_0 7 rfl rfl)
theorem dX8_init_8 : decode cX8_init 8 = .ok (.iload_n 2, 1) := dk_28 (dk_at dksX8_init_0 8 rfl rfl)
theorem dX8_init_9 : decode cX8_init 9 = .ok (.aconst_null, 1) := dk_1 (dk_at dksX8_init_0 9 rfl rfl)
theorem dX8_init_10 : decode cX8_init 10 = .ok (.invokespecial 3, 3) := dk_183 0 3 (dk_at dksX8_init_0 10 rfl rfl)
theorem dX8_init_13 : decode cX8_init 13 = .ok (.invokespecial 7, 3) := dk_183 0 7 (dk_at dksX8_init_0 13 rfl rfl)
theorem dX8_init_16 : decode cX8_init 16 = .ok (.return_, 1) := dk_177 (dk_at dksX8_init_0 16 rfl rfl)
theorem q103 : (Jvm.Cond.initialized "SecretVault$PolicyFailure") ∈ lw_all := lw_g (lw_at lw_m1 37 rfl) rfl
theorem q455 : (Jvm.Cond.selects "SecretVault$PolicyFailure" ({ cls := "java/lang/Throwable", name := "fillInStackTrace", desc := "()Ljava/lang/Throwable;" } : Jvm.MethodName) ({ cls := "java/lang/Throwable", name := "fillInStackTrace", desc := "()Ljava/lang/Throwable;" } : Jvm.MethodName)) ∈ lw_all := lw_g (lw_at lw_m2 149 rfl) rfl
theorem q618 : (Jvm.Cond.selects "SecretVault$PolicyFailure" ({ cls := "java/lang/Throwable", name := "getCause", desc := "()Ljava/lang/Throwable;" } : Jvm.MethodName) ({ cls := "java/lang/Throwable", name := "getCause", desc := "()Ljava/lang/Throwable;" } : Jvm.MethodName)) ∈ lw_all := lw_g (lw_at lw_m3 72 rfl) rfl
theorem q863 : (Jvm.Cond.selects "SecretVault$PolicyFailure" ({ cls := "java/lang/Object", name := "getClass", desc := "()Ljava/lang/Class;" } : Jvm.MethodName) ({ cls := "java/lang/Object", name := "getClass", desc := "()Ljava/lang/Class;" } : Jvm.MethodName)) ∈ lw_all := lw_g (lw_at lw_m4 77 rfl) rfl
theorem q1257 : (Jvm.Cond.instantiable "SecretVault$PolicyFailure" (8 : Nat)) ∈ lw_all := lw_g (lw_at lw_m5 231 rfl) rfl
theorem q1258 : (Jvm.Cond.castable "SecretVault$PolicyFailure" "SecretVault$PolicyFailure") ∈ lw_tbl := lw_at lw_m5 232 rfl
theorem q1259 : (Jvm.Cond.selects "SecretVault$PolicyFailure" ({ cls := "java/lang/Throwable", name := "fillInStackTrace", desc := "(I)Ljava/lang/Throwable;" } : Jvm.MethodName) ({ cls := "java/lang/Throwable", name := "fillInStackTrace", desc := "(I)Ljava/lang/Throwable;" } : Jvm.MethodName)) ∈ lw_all := lw_g (lw_at lw_m5 233 rfl) rfl
theorem q1260 : (Jvm.Cond.lays "SecretVault$PolicyFailure" "java/lang/Throwable" "cause" "Ljava/lang/Throwable;") ∈ lw_all := lw_g (lw_at lw_m5 234 rfl) rfl
theorem q1261 : (Jvm.Cond.lays "SecretVault$PolicyFailure" "java/lang/Throwable" "stackTrace" "[Ljava/lang/StackTraceElement;") ∈ lw_all := lw_g (lw_at lw_m5 235 rfl) rfl
theorem q1262 : (Jvm.Cond.lays "SecretVault$PolicyFailure" "java/lang/Throwable" "suppressedExceptions" "Ljava/util/List;") ∈ lw_all := lw_g (lw_at lw_m5 236 rfl) rfl
theorem q1263 : (Jvm.Cond.lays "SecretVault$PolicyFailure" "java/lang/Throwable" "detailMessage" "Ljava/lang/String;") ∈ lw_all := lw_g (lw_at lw_m5 237 rfl) rfl
theorem q1264 : (Jvm.Cond.lays "SecretVault$PolicyFailure" "java/lang/Throwable" "backtrace" "Ljava/lang/Object;") ∈ lw_all := lw_g (lw_at lw_m5 238 rfl) rfl
theorem q1266 : (Jvm.Cond.instanceMethod ({ cls := "SecretVault$PolicyFailure", name := "<init>", desc := "(II)V" } : Jvm.MethodName)) ∈ lw_all := lw_g (lw_at lw_m6 0 rfl) rfl
theorem q1267 : (Jvm.Cond.code ({ cls := "SecretVault$PolicyFailure", name := "<init>", desc := "(II)V" } : Jvm.MethodName) prog_10_method_1_code (3 : Nat) (Option.none : Option Jvm.ClassFile.FieldType)) ∈ lw_all := lw_g (lw_at lw_m6 1 rfl) rfl
theorem q1268 : (Jvm.Cond.classLink "SecretVault$PolicyFailure" (1 : Nat) "SecretVault$Cause") ∈ lw_all := lw_g (lw_at lw_m6 2 rfl) rfl
theorem q1277 : (Jvm.Cond.methodLink "SecretVault$PolicyFailure" (3 : Nat) ({ cls := "SecretVault$Cause", name := "<init>", desc := "(IILSecretVault$Cause;)V" } : Jvm.MethodName)) ∈ lw_all := lw_g (lw_at lw_m6 11 rfl) rfl
theorem q1299 : (Jvm.Cond.methodLink "SecretVault$PolicyFailure" (7 : Nat) ({ cls := "SecretVault$Failure", name := "<init>", desc := "(IILSecretVault$Failure;)V" } : Jvm.MethodName)) ∈ lw_all := lw_g (lw_at lw_m6 33 rfl) rfl
theorem q1300 : (Jvm.Cond.laysFinal "SecretVault$PolicyFailure" "SecretVault$Failure" "code" "I") ∈ lw_all := lw_g (lw_at lw_m6 34 rfl) rfl
theorem q1301 : (Jvm.Cond.laysFinal "SecretVault$PolicyFailure" "SecretVault$Failure" "detail" "I") ∈ lw_all := lw_g (lw_at lw_m6 35 rfl) rfl
theorem q1302 : (Jvm.Cond.lays "SecretVault$PolicyFailure" "java/lang/Throwable" "depth" "I") ∈ lw_all := lw_g (lw_at lw_m6 36 rfl) rfl
theorem q1303 : (Jvm.Cond.superclass "SecretVault$PolicyFailure" "SecretVault$Failure") ∈ lw_all := lw_g (lw_at lw_m6 37 rfl) rfl
theorem q2560 : (Jvm.Cond.castable "SecretVault$PolicyFailure" "SecretVault$Failure") ∈ lw_tbl := lw_at lw_m11 94 rfl
theorem q2582 : (Jvm.Cond.castable "SecretVault$PolicyFailure" "java/lang/Object") ∈ lw_tbl := lw_at lw_m11 116 rfl
theorem in_X8 : ∀ w ∈ wsX80, w ∈ lw_all := lw_in wsX80 [1300, 1301, 1260, 1261, 1262, 1263, 1264, 1302] (by decide +kernel) (by decide +kernel)

/-! SecretVault$Cause -/
set_option maxRecDepth 100000
def RX9 : String := "SecretVault$Cause"
def TX9 : u_T := fun k => match k with
  | 0 => ("SecretVault$Failure", "code", "I", true)
  | 1 => ("SecretVault$Failure", "detail", "I", true)
  | 2 => ("java/lang/Throwable", "cause", "Ljava/lang/Throwable;", false)
  | 3 => ("java/lang/Throwable", "stackTrace", "[Ljava/lang/StackTraceElement;", false)
  | 4 => ("java/lang/Throwable", "suppressedExceptions", "Ljava/util/List;", false)
  | 5 => ("java/lang/Throwable", "detailMessage", "Ljava/lang/String;", false)
  | 6 => ("java/lang/Throwable", "backtrace", "Ljava/lang/Object;", false)
  | _ => ("java/lang/Throwable", "depth", "I", false)
def tyX9 : Nat → FieldType := fun k => match k with
  | 0 => .int
  | 1 => .int
  | 2 => .object "java/lang/Throwable"
  | 3 => .array (.object "java/lang/StackTraceElement")
  | 4 => .object "java/util/List"
  | 5 => .object "java/lang/String"
  | 6 => .object "java/lang/Object"
  | _ => .int
abbrev wsX90 : List Cond := u_ws RX9 TX9 8
theorem nmX9 : ∀ a, a < 8 → ∀ b, b < 8 → a ≠ b → (TX9 a).2.1 ≠ (TX9 b).2.1 := by decide +kernel
theorem tyX9_ok : ∀ k, k < 8 → parseFieldDescriptor (TX9 k).2.2.1 = some (tyX9 k) := by decide +kernel
abbrev cX9_init : ByteArray := prog_4_method_1_code
def yX9_init : MethodName := ⟨RX9, "<init>", "(IILSecretVault$Cause;)V"⟩
def dkwX9_init_0 : List UInt8 := [42, 27, 28, 45, 183, 0, 1, 177]
abbrev dktX9_init_0 : List UInt8 := dkwX9_init_0 ++ []
theorem dksX9_init_0 : cX9_init.data.toList.drop 0 = dktX9_init_0 := by decide +kernel
theorem dX9_init_0 : decode cX9_init 0 = .ok (.aload_n 0, 1) := dk_42 (dk_at dksX9_init_0 0 rfl rfl)
theorem dX9_init_1 : decode cX9_init 1 = .ok (.iload_n 1, 1) := dk_27 (dk_at dksX9_init_0 1 rfl rfl)
theorem dX9_init_2 : decode cX9_init 2 = .ok (.iload_n 2, 1) := dk_28 (dk_at dksX9_init_0 2 rfl rfl)
theorem dX9_init_3 : decode cX9_init 3 = .ok (.aload_n 3, 1) := dk_45 (dk_at dksX9_init_0 3 rfl rfl)
theorem dX9_init_4 : decode cX9_init 4 = .ok (.invokespecial 1, 3) := dk_183 0 1 (dk_at dksX9_init_0 4 rfl rfl)
theorem dX9_init_7 : decode cX9_init 7 = .ok (.return_, 1) := dk_177 (dk_at dksX9_init_0 7 rfl rfl)
theorem q104 : (Jvm.Cond.initialized "SecretVault$Cause") ∈ lw_all := lw_g (lw_at lw_m1 38 rfl) rfl
theorem q454 : (Jvm.Cond.selects "SecretVault$Cause" ({ cls := "java/lang/Throwable", name := "fillInStackTrace", desc := "()Ljava/lang/Throwable;" } : Jvm.MethodName) ({ cls := "java/lang/Throwable", name := "fillInStackTrace", desc := "()Ljava/lang/Throwable;" } : Jvm.MethodName)) ∈ lw_all := lw_g (lw_at lw_m2 148 rfl) rfl
theorem q617 : (Jvm.Cond.selects "SecretVault$Cause" ({ cls := "java/lang/Throwable", name := "getCause", desc := "()Ljava/lang/Throwable;" } : Jvm.MethodName) ({ cls := "java/lang/Throwable", name := "getCause", desc := "()Ljava/lang/Throwable;" } : Jvm.MethodName)) ∈ lw_all := lw_g (lw_at lw_m3 71 rfl) rfl
theorem q860 : (Jvm.Cond.selects "SecretVault$Cause" ({ cls := "java/lang/Object", name := "getClass", desc := "()Ljava/lang/Class;" } : Jvm.MethodName) ({ cls := "java/lang/Object", name := "getClass", desc := "()Ljava/lang/Class;" } : Jvm.MethodName)) ∈ lw_all := lw_g (lw_at lw_m4 74 rfl) rfl
theorem q1269 : (Jvm.Cond.instantiable "SecretVault$Cause" (8 : Nat)) ∈ lw_all := lw_g (lw_at lw_m6 3 rfl) rfl
theorem q1270 : (Jvm.Cond.castable "SecretVault$Cause" "SecretVault$Cause") ∈ lw_tbl := lw_at lw_m6 4 rfl
theorem q1271 : (Jvm.Cond.selects "SecretVault$Cause" ({ cls := "java/lang/Throwable", name := "fillInStackTrace", desc := "(I)Ljava/lang/Throwable;" } : Jvm.MethodName) ({ cls := "java/lang/Throwable", name := "fillInStackTrace", desc := "(I)Ljava/lang/Throwable;" } : Jvm.MethodName)) ∈ lw_all := lw_g (lw_at lw_m6 5 rfl) rfl
theorem q1272 : (Jvm.Cond.lays "SecretVault$Cause" "java/lang/Throwable" "cause" "Ljava/lang/Throwable;") ∈ lw_all := lw_g (lw_at lw_m6 6 rfl) rfl
theorem q1273 : (Jvm.Cond.lays "SecretVault$Cause" "java/lang/Throwable" "stackTrace" "[Ljava/lang/StackTraceElement;") ∈ lw_all := lw_g (lw_at lw_m6 7 rfl) rfl
theorem q1274 : (Jvm.Cond.lays "SecretVault$Cause" "java/lang/Throwable" "suppressedExceptions" "Ljava/util/List;") ∈ lw_all := lw_g (lw_at lw_m6 8 rfl) rfl
theorem q1275 : (Jvm.Cond.lays "SecretVault$Cause" "java/lang/Throwable" "detailMessage" "Ljava/lang/String;") ∈ lw_all := lw_g (lw_at lw_m6 9 rfl) rfl
theorem q1276 : (Jvm.Cond.lays "SecretVault$Cause" "java/lang/Throwable" "backtrace" "Ljava/lang/Object;") ∈ lw_all := lw_g (lw_at lw_m6 10 rfl) rfl
theorem q1278 : (Jvm.Cond.instanceMethod ({ cls := "SecretVault$Cause", name := "<init>", desc := "(IILSecretVault$Cause;)V" } : Jvm.MethodName)) ∈ lw_all := lw_g (lw_at lw_m6 12 rfl) rfl
theorem q1279 : (Jvm.Cond.code ({ cls := "SecretVault$Cause", name := "<init>", desc := "(IILSecretVault$Cause;)V" } : Jvm.MethodName) prog_4_method_1_code (4 : Nat) (Option.none : Option Jvm.ClassFile.FieldType)) ∈ lw_all := lw_g (lw_at lw_m6 13 rfl) rfl
theorem q1280 : (Jvm.Cond.methodLink "SecretVault$Cause" (1 : Nat) ({ cls := "SecretVault$Failure", name := "<init>", desc := "(IILSecretVault$Failure;)V" } : Jvm.MethodName)) ∈ lw_all := lw_g (lw_at lw_m6 14 rfl) rfl
theorem q1293 : (Jvm.Cond.laysFinal "SecretVault$Cause" "SecretVault$Failure" "code" "I") ∈ lw_all := lw_g (lw_at lw_m6 27 rfl) rfl
theorem q1295 : (Jvm.Cond.laysFinal "SecretVault$Cause" "SecretVault$Failure" "detail" "I") ∈ lw_all := lw_g (lw_at lw_m6 29 rfl) rfl
theorem q1297 : (Jvm.Cond.lays "SecretVault$Cause" "java/lang/Throwable" "depth" "I") ∈ lw_all := lw_g (lw_at lw_m6 31 rfl) rfl
theorem q1298 : (Jvm.Cond.superclass "SecretVault$Cause" "SecretVault$Failure") ∈ lw_all := lw_g (lw_at lw_m6 32 rfl) rfl
theorem q2559 : (Jvm.Cond.castable "SecretVault$Cause" "SecretVault$Failure") ∈ lw_tbl := lw_at lw_m11 93 rfl
theorem q2583 : (Jvm.Cond.castable "SecretVault$Cause" "java/lang/Object") ∈ lw_tbl := lw_at lw_m11 117 rfl
theorem in_X9 : ∀ w ∈ wsX90, w ∈ lw_all := lw_in wsX90 [1293, 1295, 1272, 1273, 1274, 1275, 1276, 1297] (by decide +kernel) (by decide +kernel)

/-! SecretVault$Judged -/
set_option maxRecDepth 100000
def RX10 : String := "SecretVault$Judged"
abbrev cX10_init : ByteArray := prog_7_method_1_code
def yX10_init : MethodName := ⟨RX10, "<init>", "(LSecretVault$Share;)V"⟩
def dkwX10_init_0 : List UInt8 := [42, 183, 0, 1, 42, 43, 181, 0, 7, 177]
abbrev dktX10_init_0 : List UInt8 := dkwX10_init_0 ++ []
theorem dksX10_init_0 : cX10_init.data.toList.drop 0 = dktX10_init_0 := by decide +kernel
theorem dX10_init_0 : decode cX10_init 0 = .ok (.aload_n 0, 1) := dk_42 (dk_at dksX10_init_0 0 rfl rfl)
theorem dX10_init_1 : decode cX10_init 1 = .ok (.invokespecial 1, 3) := dk_183 0 1 (dk_at dksX10_init_0 1 rfl rfl)
theorem dX10_init_4 : decode cX10_init 4 = .ok (.aload_n 0, 1) := dk_42 (dk_at dksX10_init_0 4 rfl rfl)
theorem dX10_init_5 : decode cX10_init 5 = .ok (.aload_n 1, 1) := dk_43 (dk_at dksX10_init_0 5 rfl rfl)
theorem dX10_init_6 : decode cX10_init 6 = .ok (.putfield 7, 3) := dk_181 0 7 (dk_at dksX10_init_0 6 rfl rfl)
theorem dX10_init_9 : decode cX10_init 9 = .ok (.return_, 1) := dk_177 (dk_at dksX10_init_0 9 rfl rfl)
abbrev cX10_code : ByteArray := prog_7_method_2_code
def yX10_code : MethodName := ⟨RX10, "code", "()I"⟩
theorem dX10_code_0 : decode cX10_code 0 = .ok (.iconst 0, 1) := by decide +kernel
theorem dX10_code_1 : decode cX10_code 1 = .ok (.ireturn, 1) := by decide +kernel
theorem q105 : (Jvm.Cond.initialized "SecretVault$Judged") ∈ lw_all := lw_g (lw_at lw_m1 39 rfl) rfl
theorem q1340 : (Jvm.Cond.instanceMethod ({ cls := "SecretVault$Judged", name := "<init>", desc := "(LSecretVault$Share;)V" } : Jvm.MethodName)) ∈ lw_all := lw_g (lw_at lw_m6 74 rfl) rfl
theorem q1341 : (Jvm.Cond.code ({ cls := "SecretVault$Judged", name := "<init>", desc := "(LSecretVault$Share;)V" } : Jvm.MethodName) prog_7_method_1_code (2 : Nat) (Option.none : Option Jvm.ClassFile.FieldType)) ∈ lw_all := lw_g (lw_at lw_m6 75 rfl) rfl
theorem q1342 : (Jvm.Cond.methodLink "SecretVault$Judged" (1 : Nat) ({ cls := "java/lang/Object", name := "<init>", desc := "()V" } : Jvm.MethodName)) ∈ lw_all := lw_g (lw_at lw_m6 76 rfl) rfl
theorem q1343 : (Jvm.Cond.fieldLink "SecretVault$Judged" (7 : Nat) "SecretVault$Judged" "share" "LSecretVault$Share;") ∈ lw_all := lw_g (lw_at lw_m6 77 rfl) rfl
theorem q1346 : (Jvm.Cond.soleField "SecretVault$Judged" "share") ∈ lw_all := lw_g (lw_at lw_m6 80 rfl) rfl
theorem q1378 : (Jvm.Cond.instanceMethod ({ cls := "SecretVault$Judged", name := "code", desc := "()I" } : Jvm.MethodName)) ∈ lw_all := lw_g (lw_at lw_m6 112 rfl) rfl
theorem q1379 : (Jvm.Cond.sameMethod "SecretVault$Judged" "SecretVault$Judged" "code" "()I") ∈ lw_all := lw_g (lw_at lw_m6 113 rfl) rfl
theorem q1385 : (Jvm.Cond.declares ({ cls := "SecretVault$Judged", name := "code", desc := "()I" } : Jvm.MethodName)) ∈ lw_tbl := lw_at lw_m6 119 rfl
theorem q1387 : (Jvm.Cond.code ({ cls := "SecretVault$Judged", name := "code", desc := "()I" } : Jvm.MethodName) prog_7_method_2_code (1 : Nat) (Option.some Jvm.ClassFile.FieldType.int)) ∈ lw_all := lw_g (lw_at lw_m6 121 rfl) rfl

/-! SecretVault$Usable -/
set_option maxRecDepth 100000
def RX11 : String := "SecretVault$Usable"
def TX11 : u_T := fun k => match k with
  | _ => ("SecretVault$Judged", "share", "LSecretVault$Share;", true)
def tyX11 : Nat → FieldType := fun k => match k with
  | _ => .object "SecretVault$Share"
abbrev wsX110 : List Cond := u_ws RX11 TX11 1
theorem nmX11 : ∀ a, a < 1 → ∀ b, b < 1 → a ≠ b → (TX11 a).2.1 ≠ (TX11 b).2.1 := by decide +kernel
theorem tyX11_ok : ∀ k, k < 1 → parseFieldDescriptor (TX11 k).2.2.1 = some (tyX11 k) := by decide +kernel
abbrev cX11_init : ByteArray := prog_23_method_1_code
def yX11_init : MethodName := ⟨RX11, "<init>", "(LSecretVault$Share;)V"⟩
def dkwX11_init_0 : List UInt8 := [42, 43, 183, 0, 1, 177]
abbrev dktX11_init_0 : List UInt8 := dkwX11_init_0 ++ []
theorem dksX11_init_0 : cX11_init.data.toList.drop 0 = dktX11_init_0 := by decide +kernel
theorem dX11_init_0 : decode cX11_init 0 = .ok (.aload_n 0, 1) := dk_42 (dk_at dksX11_init_0 0 rfl rfl)
theorem dX11_init_1 : decode cX11_init 1 = .ok (.aload_n 1, 1) := dk_43 (dk_at dksX11_init_0 1 rfl rfl)
theorem dX11_init_2 : decode cX11_init 2 = .ok (.invokespecial 1, 3) := dk_183 0 1 (dk_at dksX11_init_0 2 rfl rfl)
theorem dX11_init_5 : decode cX11_init 5 = .ok (.return_, 1) := dk_177 (dk_at dksX11_init_0 5 rfl rfl)
theorem q106 : (Jvm.Cond.initialized "SecretVault$Usable") ∈ lw_all := lw_g (lw_at lw_m1 40 rfl) rfl
theorem q874 : (Jvm.Cond.selects "SecretVault$Usable" ({ cls := "java/lang/Object", name := "getClass", desc := "()Ljava/lang/Class;" } : Jvm.MethodName) ({ cls := "java/lang/Object", name := "getClass", desc := "()Ljava/lang/Class;" } : Jvm.MethodName)) ∈ lw_all := lw_g (lw_at lw_m4 88 rfl) rfl
theorem q1335 : (Jvm.Cond.instantiable "SecretVault$Usable" (1 : Nat)) ∈ lw_all := lw_g (lw_at lw_m6 69 rfl) rfl
theorem q1337 : (Jvm.Cond.instanceMethod ({ cls := "SecretVault$Usable", name := "<init>", desc := "(LSecretVault$Share;)V" } : Jvm.MethodName)) ∈ lw_all := lw_g (lw_at lw_m6 71 rfl) rfl
theorem q1338 : (Jvm.Cond.code ({ cls := "SecretVault$Usable", name := "<init>", desc := "(LSecretVault$Share;)V" } : Jvm.MethodName) prog_23_method_1_code (2 : Nat) (Option.none : Option Jvm.ClassFile.FieldType)) ∈ lw_all := lw_g (lw_at lw_m6 72 rfl) rfl
theorem q1339 : (Jvm.Cond.methodLink "SecretVault$Usable" (1 : Nat) ({ cls := "SecretVault$Judged", name := "<init>", desc := "(LSecretVault$Share;)V" } : Jvm.MethodName)) ∈ lw_all := lw_g (lw_at lw_m6 73 rfl) rfl
theorem q1345 : (Jvm.Cond.laysFinal "SecretVault$Usable" "SecretVault$Judged" "share" "LSecretVault$Share;") ∈ lw_all := lw_g (lw_at lw_m6 79 rfl) rfl
theorem q1347 : (Jvm.Cond.superclass "SecretVault$Usable" "SecretVault$Judged") ∈ lw_all := lw_g (lw_at lw_m6 81 rfl) rfl
theorem q1392 : (Jvm.Cond.selects "SecretVault$Usable" ({ cls := "SecretVault$Judged", name := "code", desc := "()I" } : Jvm.MethodName) ({ cls := "SecretVault$Judged", name := "code", desc := "()I" } : Jvm.MethodName)) ∈ lw_all := lw_g (lw_at lw_m6 126 rfl) rfl
theorem q2556 : (Jvm.Cond.castable "SecretVault$Usable" "SecretVault$Judged") ∈ lw_tbl := lw_at lw_m11 90 rfl
theorem q2564 : (Jvm.Cond.castable "SecretVault$Usable" "java/lang/Object") ∈ lw_tbl := lw_at lw_m11 98 rfl
theorem in_X11 : ∀ w ∈ wsX110, w ∈ lw_all := lw_in wsX110 [1345] (by decide +kernel) (by decide +kernel)

/-! SecretVault$Unusable -/
set_option maxRecDepth 100000
def RX12 : String := "SecretVault$Unusable"
abbrev cX12_init : ByteArray := prog_22_method_1_code
def yX12_init : MethodName := ⟨RX12, "<init>", "(LSecretVault$Share;)V"⟩
def dkwX12_init_0 : List UInt8 := [42, 43, 183, 0, 1, 177]
abbrev dktX12_init_0 : List UInt8 := dkwX12_init_0 ++ []
theorem dksX12_init_0 : cX12_init.data.toList.drop 0 = dktX12_init_0 := by decide +kernel
theorem dX12_init_0 : decode cX12_init 0 = .ok (.aload_n 0, 1) := dk_42 (dk_at dksX12_init_0 0 rfl rfl)
theorem dX12_init_1 : decode cX12_init 1 = .ok (.aload_n 1, 1) := dk_43 (dk_at dksX12_init_0 1 rfl rfl)
theorem dX12_init_2 : decode cX12_init 2 = .ok (.invokespecial 1, 3) := dk_183 0 1 (dk_at dksX12_init_0 2 rfl rfl)
theorem dX12_init_5 : decode cX12_init 5 = .ok (.return_, 1) := dk_177 (dk_at dksX12_init_0 5 rfl rfl)
theorem q107 : (Jvm.Cond.initialized "SecretVault$Unusable") ∈ lw_all := lw_g (lw_at lw_m1 41 rfl) rfl
theorem q1357 : (Jvm.Cond.instanceMethod ({ cls := "SecretVault$Unusable", name := "<init>", desc := "(LSecretVault$Share;)V" } : Jvm.MethodName)) ∈ lw_all := lw_g (lw_at lw_m6 91 rfl) rfl
theorem q1358 : (Jvm.Cond.code ({ cls := "SecretVault$Unusable", name := "<init>", desc := "(LSecretVault$Share;)V" } : Jvm.MethodName) prog_22_method_1_code (2 : Nat) (Option.none : Option Jvm.ClassFile.FieldType)) ∈ lw_all := lw_g (lw_at lw_m6 92 rfl) rfl
theorem q1359 : (Jvm.Cond.methodLink "SecretVault$Unusable" (1 : Nat) ({ cls := "SecretVault$Judged", name := "<init>", desc := "(LSecretVault$Share;)V" } : Jvm.MethodName)) ∈ lw_all := lw_g (lw_at lw_m6 93 rfl) rfl
theorem q1384 : (Jvm.Cond.sameMethod "SecretVault$Unusable" "SecretVault$Judged" "code" "()I") ∈ lw_all := lw_g (lw_at lw_m6 118 rfl) rfl
theorem q1386 : (Jvm.Cond.superclass "SecretVault$Unusable" "SecretVault$Judged") ∈ lw_all := lw_g (lw_at lw_m6 120 rfl) rfl

/-! SecretVault$Stale -/
set_option maxRecDepth 100000
def RX13 : String := "SecretVault$Stale"
def TX13 : u_T := fun k => match k with
  | _ => ("SecretVault$Judged", "share", "LSecretVault$Share;", true)
def tyX13 : Nat → FieldType := fun k => match k with
  | _ => .object "SecretVault$Share"
abbrev wsX130 : List Cond := u_ws RX13 TX13 1
theorem nmX13 : ∀ a, a < 1 → ∀ b, b < 1 → a ≠ b → (TX13 a).2.1 ≠ (TX13 b).2.1 := by decide +kernel
theorem tyX13_ok : ∀ k, k < 1 → parseFieldDescriptor (TX13 k).2.2.1 = some (tyX13 k) := by decide +kernel
abbrev cX13_init : ByteArray := prog_16_method_1_code
def yX13_init : MethodName := ⟨RX13, "<init>", "(LSecretVault$Share;)V"⟩
def dkwX13_init_0 : List UInt8 := [42, 43, 183, 0, 1, 177]
abbrev dktX13_init_0 : List UInt8 := dkwX13_init_0 ++ []
theorem dksX13_init_0 : cX13_init.data.toList.drop 0 = dktX13_init_0 := by decide +kernel
theorem dX13_init_0 : decode cX13_init 0 = .ok (.aload_n 0, 1) := dk_42 (dk_at dksX13_init_0 0 rfl rfl)
theorem dX13_init_1 : decode cX13_init 1 = .ok (.aload_n 1, 1) := dk_43 (dk_at dksX13_init_0 1 rfl rfl)
theorem dX13_init_2 : decode cX13_init 2 = .ok (.invokespecial 1, 3) := dk_183 0 1 (dk_at dksX13_init_0 2 rfl rfl)
theorem dX13_init_5 : decode cX13_init 5 = .ok (.return_, 1) := dk_177 (dk_at dksX13_init_0 5 rfl rfl)
abbrev cX13_code : ByteArray := prog_16_method_3_code
def yX13_code : MethodName := ⟨RX13, "code", "()I"⟩
def dkwX13_code_0 : List UInt8 := [42, 183, 0, 7, 42, 182, 0, 11, 96, 172]
abbrev dktX13_code_0 : List UInt8 := dkwX13_code_0 ++ []
theorem dksX13_code_0 : cX13_code.data.toList.drop 0 = dktX13_code_0 := by decide +kernel
theorem dX13_code_0 : decode cX13_code 0 = .ok (.aload_n 0, 1) := dk_42 (dk_at dksX13_code_0 0 rfl rfl)
theorem dX13_code_1 : decode cX13_code 1 = .ok (.invokespecial 7, 3) := dk_183 0 7 (dk_at dksX13_code_0 1 rfl rfl)
theorem dX13_code_4 : decode cX13_code 4 = .ok (.aload_n 0, 1) := dk_42 (dk_at dksX13_code_0 4 rfl rfl)
theorem dX13_code_5 : decode cX13_code 5 = .ok (.invokevirtual 11, 3) := dk_182 0 11 (dk_at dksX13_code_0 5 rfl rfl)
theorem dX13_code_8 : decode cX13_code 8 = .ok (.iadd, 1) := dk_96 (dk_at dksX13_code_0 8 rfl rfl)
theorem dX13_code_9 : decode cX13_code 9 = .ok (.ireturn, 1) := dk_172 (dk_at dksX13_code_0 9 rfl rfl)
abbrev cX13_reason : ByteArray := prog_16_method_2_code
def yX13_reason : MethodName := ⟨RX13, "reason", "()I"⟩
theorem dX13_reason_0 : decode cX13_reason 0 = .ok (.iconst 4, 1) := by decide +kernel
theorem dX13_reason_1 : decode cX13_reason 1 = .ok (.ireturn, 1) := by decide +kernel
theorem q108 : (Jvm.Cond.initialized "SecretVault$Stale") ∈ lw_all := lw_g (lw_at lw_m1 42 rfl) rfl
theorem q869 : (Jvm.Cond.selects "SecretVault$Stale" ({ cls := "java/lang/Object", name := "getClass", desc := "()Ljava/lang/Class;" } : Jvm.MethodName) ({ cls := "java/lang/Object", name := "getClass", desc := "()Ljava/lang/Class;" } : Jvm.MethodName)) ∈ lw_all := lw_g (lw_at lw_m4 83 rfl) rfl
theorem q1352 : (Jvm.Cond.instantiable "SecretVault$Stale" (1 : Nat)) ∈ lw_all := lw_g (lw_at lw_m6 86 rfl) rfl
theorem q1354 : (Jvm.Cond.instanceMethod ({ cls := "SecretVault$Stale", name := "<init>", desc := "(LSecretVault$Share;)V" } : Jvm.MethodName)) ∈ lw_all := lw_g (lw_at lw_m6 88 rfl) rfl
theorem q1355 : (Jvm.Cond.code ({ cls := "SecretVault$Stale", name := "<init>", desc := "(LSecretVault$Share;)V" } : Jvm.MethodName) prog_16_method_1_code (2 : Nat) (Option.none : Option Jvm.ClassFile.FieldType)) ∈ lw_all := lw_g (lw_at lw_m6 89 rfl) rfl
theorem q1356 : (Jvm.Cond.methodLink "SecretVault$Stale" (1 : Nat) ({ cls := "SecretVault$Unusable", name := "<init>", desc := "(LSecretVault$Share;)V" } : Jvm.MethodName)) ∈ lw_all := lw_g (lw_at lw_m6 90 rfl) rfl
theorem q1360 : (Jvm.Cond.laysFinal "SecretVault$Stale" "SecretVault$Judged" "share" "LSecretVault$Share;") ∈ lw_all := lw_g (lw_at lw_m6 94 rfl) rfl
theorem q1361 : (Jvm.Cond.superclass "SecretVault$Stale" "SecretVault$Unusable") ∈ lw_all := lw_g (lw_at lw_m6 95 rfl) rfl
theorem q1380 : (Jvm.Cond.selects "SecretVault$Stale" ({ cls := "SecretVault$Judged", name := "code", desc := "()I" } : Jvm.MethodName) ({ cls := "SecretVault$Stale", name := "code", desc := "()I" } : Jvm.MethodName)) ∈ lw_all := lw_g (lw_at lw_m6 114 rfl) rfl
theorem q1381 : (Jvm.Cond.instanceMethod ({ cls := "SecretVault$Stale", name := "code", desc := "()I" } : Jvm.MethodName)) ∈ lw_all := lw_g (lw_at lw_m6 115 rfl) rfl
theorem q1382 : (Jvm.Cond.code ({ cls := "SecretVault$Stale", name := "code", desc := "()I" } : Jvm.MethodName) prog_16_method_3_code (1 : Nat) (Option.some Jvm.ClassFile.FieldType.int)) ∈ lw_all := lw_g (lw_at lw_m6 116 rfl) rfl
theorem q1383 : (Jvm.Cond.methodLink "SecretVault$Stale" (7 : Nat) ({ cls := "SecretVault$Unusable", name := "code", desc := "()I" } : Jvm.MethodName)) ∈ lw_all := lw_g (lw_at lw_m6 117 rfl) rfl
theorem q1388 : (Jvm.Cond.methodLink "SecretVault$Stale" (11 : Nat) ({ cls := "SecretVault$Stale", name := "reason", desc := "()I" } : Jvm.MethodName)) ∈ lw_all := lw_g (lw_at lw_m6 122 rfl) rfl
theorem q1389 : (Jvm.Cond.instanceMethod ({ cls := "SecretVault$Stale", name := "reason", desc := "()I" } : Jvm.MethodName)) ∈ lw_all := lw_g (lw_at lw_m6 123 rfl) rfl
theorem q1390 : (Jvm.Cond.selects "SecretVault$Stale" ({ cls := "SecretVault$Stale", name := "reason", desc := "()I" } : Jvm.MethodName) ({ cls := "SecretVault$Stale", name := "reason", desc := "()I" } : Jvm.MethodName)) ∈ lw_all := lw_g (lw_at lw_m6 124 rfl) rfl
theorem q1391 : (Jvm.Cond.code ({ cls := "SecretVault$Stale", name := "reason", desc := "()I" } : Jvm.MethodName) prog_16_method_2_code (1 : Nat) (Option.some Jvm.ClassFile.FieldType.int)) ∈ lw_all := lw_g (lw_at lw_m6 125 rfl) rfl
theorem q2555 : (Jvm.Cond.castable "SecretVault$Stale" "SecretVault$Judged") ∈ lw_tbl := lw_at lw_m11 89 rfl
theorem q2586 : (Jvm.Cond.castable "SecretVault$Stale" "java/lang/Object") ∈ lw_tbl := lw_at lw_m11 120 rfl
theorem in_X13 : ∀ w ∈ wsX130, w ∈ lw_all := lw_in wsX130 [1360] (by decide +kernel) (by decide +kernel)

/-! SecretVault$Wrong -/
set_option maxRecDepth 100000
def RX14 : String := "SecretVault$Wrong"
def TX14 : u_T := fun k => match k with
  | _ => ("SecretVault$Judged", "share", "LSecretVault$Share;", true)
def tyX14 : Nat → FieldType := fun k => match k with
  | _ => .object "SecretVault$Share"
abbrev wsX140 : List Cond := u_ws RX14 TX14 1
theorem nmX14 : ∀ a, a < 1 → ∀ b, b < 1 → a ≠ b → (TX14 a).2.1 ≠ (TX14 b).2.1 := by decide +kernel
theorem tyX14_ok : ∀ k, k < 1 → parseFieldDescriptor (TX14 k).2.2.1 = some (tyX14 k) := by decide +kernel
abbrev cX14_init : ByteArray := prog_25_method_1_code
def yX14_init : MethodName := ⟨RX14, "<init>", "(LSecretVault$Share;)V"⟩
def dkwX14_init_0 : List UInt8 := [42, 43, 183, 0, 1, 177]
abbrev dktX14_init_0 : List UInt8 := dkwX14_init_0 ++ []
theorem dksX14_init_0 : cX14_init.data.toList.drop 0 = dktX14_init_0 := by decide +kernel
theorem dX14_init_0 : decode cX14_init 0 = .ok (.aload_n 0, 1) := dk_42 (dk_at dksX14_init_0 0 rfl rfl)
theorem dX14_init_1 : decode cX14_init 1 = .ok (.aload_n 1, 1) := dk_43 (dk_at dksX14_init_0 1 rfl rfl)
theorem dX14_init_2 : decode cX14_init 2 = .ok (.invokespecial 1, 3) := dk_183 0 1 (dk_at dksX14_init_0 2 rfl rfl)
theorem dX14_init_5 : decode cX14_init 5 = .ok (.return_, 1) := dk_177 (dk_at dksX14_init_0 5 rfl rfl)
abbrev cX14_code : ByteArray := prog_25_method_3_code
def yX14_code : MethodName := ⟨RX14, "code", "()I"⟩
def dkwX14_code_0 : List UInt8 := [42, 183, 0, 7, 42, 182, 0, 11, 96, 172]
abbrev dktX14_code_0 : List UInt8 := dkwX14_code_0 ++ []
theorem dksX14_code_0 : cX14_code.data.toList.drop 0 = dktX14_code_0 := by decide +kernel
theorem dX14_code_0 : decode cX14_code 0 = .ok (.aload_n 0, 1) := dk_42 (dk_at dksX14_code_0 0 rfl rfl)
theorem dX14_code_1 : decode cX14_code 1 = .ok (.invokespecial 7, 3) := dk_183 0 7 (dk_at dksX14_code_0 1 rfl rfl)
theorem dX14_code_4 : decode cX14_code 4 = .ok (.aload_n 0, 1) := dk_42 (dk_at dksX14_code_0 4 rfl rfl)
theorem dX14_code_5 : decode cX14_code 5 = .ok (.invokevirtual 11, 3) := dk_182 0 11 (dk_at dksX14_code_0 5 rfl rfl)
theorem dX14_code_8 : decode cX14_code 8 = .ok (.iadd, 1) := dk_96 (dk_at dksX14_code_0 8 rfl rfl)
theorem dX14_code_9 : decode cX14_code 9 = .ok (.ireturn, 1) := dk_172 (dk_at dksX14_code_0 9 rfl rfl)
abbrev cX14_reason : ByteArray := prog_25_method_2_code
def yX14_reason : MethodName := ⟨RX14, "reason", "()I"⟩
theorem dX14_reason_0 : decode cX14_reason 0 = .ok (.iconst 5, 1) := by decide +kernel
theorem dX14_reason_1 : decode cX14_reason 1 = .ok (.ireturn, 1) := by decide +kernel
theorem q109 : (Jvm.Cond.initialized "SecretVault$Wrong") ∈ lw_all := lw_g (lw_at lw_m1 43 rfl) rfl
theorem q876 : (Jvm.Cond.selects "SecretVault$Wrong" ({ cls := "java/lang/Object", name := "getClass", desc := "()Ljava/lang/Class;" } : Jvm.MethodName) ({ cls := "java/lang/Object", name := "getClass", desc := "()Ljava/lang/Class;" } : Jvm.MethodName)) ∈ lw_all := lw_g (lw_at lw_m4 90 rfl) rfl
theorem q1366 : (Jvm.Cond.instantiable "SecretVault$Wrong" (1 : Nat)) ∈ lw_all := lw_g (lw_at lw_m6 100 rfl) rfl
theorem q1368 : (Jvm.Cond.instanceMethod ({ cls := "SecretVault$Wrong", name := "<init>", desc := "(LSecretVault$Share;)V" } : Jvm.MethodName)) ∈ lw_all := lw_g (lw_at lw_m6 102 rfl) rfl
theorem q1369 : (Jvm.Cond.code ({ cls := "SecretVault$Wrong", name := "<init>", desc := "(LSecretVault$Share;)V" } : Jvm.MethodName) prog_25_method_1_code (2 : Nat) (Option.none : Option Jvm.ClassFile.FieldType)) ∈ lw_all := lw_g (lw_at lw_m6 103 rfl) rfl
theorem q1370 : (Jvm.Cond.methodLink "SecretVault$Wrong" (1 : Nat) ({ cls := "SecretVault$Unusable", name := "<init>", desc := "(LSecretVault$Share;)V" } : Jvm.MethodName)) ∈ lw_all := lw_g (lw_at lw_m6 104 rfl) rfl
theorem q1371 : (Jvm.Cond.laysFinal "SecretVault$Wrong" "SecretVault$Judged" "share" "LSecretVault$Share;") ∈ lw_all := lw_g (lw_at lw_m6 105 rfl) rfl
theorem q1372 : (Jvm.Cond.superclass "SecretVault$Wrong" "SecretVault$Unusable") ∈ lw_all := lw_g (lw_at lw_m6 106 rfl) rfl
theorem q1393 : (Jvm.Cond.selects "SecretVault$Wrong" ({ cls := "SecretVault$Judged", name := "code", desc := "()I" } : Jvm.MethodName) ({ cls := "SecretVault$Wrong", name := "code", desc := "()I" } : Jvm.MethodName)) ∈ lw_all := lw_g (lw_at lw_m6 127 rfl) rfl
theorem q1394 : (Jvm.Cond.instanceMethod ({ cls := "SecretVault$Wrong", name := "code", desc := "()I" } : Jvm.MethodName)) ∈ lw_all := lw_g (lw_at lw_m6 128 rfl) rfl
theorem q1395 : (Jvm.Cond.code ({ cls := "SecretVault$Wrong", name := "code", desc := "()I" } : Jvm.MethodName) prog_25_method_3_code (1 : Nat) (Option.some Jvm.ClassFile.FieldType.int)) ∈ lw_all := lw_g (lw_at lw_m6 129 rfl) rfl
theorem q1396 : (Jvm.Cond.methodLink "SecretVault$Wrong" (7 : Nat) ({ cls := "SecretVault$Unusable", name := "code", desc := "()I" } : Jvm.MethodName)) ∈ lw_all := lw_g (lw_at lw_m6 130 rfl) rfl
theorem q1397 : (Jvm.Cond.methodLink "SecretVault$Wrong" (11 : Nat) ({ cls := "SecretVault$Wrong", name := "reason", desc := "()I" } : Jvm.MethodName)) ∈ lw_all := lw_g (lw_at lw_m6 131 rfl) rfl
theorem q1398 : (Jvm.Cond.instanceMethod ({ cls := "SecretVault$Wrong", name := "reason", desc := "()I" } : Jvm.MethodName)) ∈ lw_all := lw_g (lw_at lw_m6 132 rfl) rfl
theorem q1399 : (Jvm.Cond.selects "SecretVault$Wrong" ({ cls := "SecretVault$Wrong", name := "reason", desc := "()I" } : Jvm.MethodName) ({ cls := "SecretVault$Wrong", name := "reason", desc := "()I" } : Jvm.MethodName)) ∈ lw_all := lw_g (lw_at lw_m6 133 rfl) rfl
theorem q1400 : (Jvm.Cond.code ({ cls := "SecretVault$Wrong", name := "reason", desc := "()I" } : Jvm.MethodName) prog_25_method_2_code (1 : Nat) (Option.some Jvm.ClassFile.FieldType.int)) ∈ lw_all := lw_g (lw_at lw_m6 134 rfl) rfl
theorem q2557 : (Jvm.Cond.castable "SecretVault$Wrong" "SecretVault$Judged") ∈ lw_tbl := lw_at lw_m11 91 rfl
theorem q2587 : (Jvm.Cond.castable "SecretVault$Wrong" "java/lang/Object") ∈ lw_tbl := lw_at lw_m11 121 rfl
theorem in_X14 : ∀ w ∈ wsX140, w ∈ lw_all := lw_in wsX140 [1371] (by decide +kernel) (by decide +kernel)

/-! SecretVault$ShareFailure -/
set_option maxRecDepth 100000
def RX15 : String := "SecretVault$ShareFailure"
def TX15 : u_T := fun k => match k with
  | 0 => ("SecretVault$Failure", "code", "I", true)
  | 1 => ("SecretVault$Failure", "detail", "I", true)
  | 2 => ("java/lang/Throwable", "cause", "Ljava/lang/Throwable;", false)
  | 3 => ("java/lang/Throwable", "stackTrace", "[Ljava/lang/StackTraceElement;", false)
  | 4 => ("java/lang/Throwable", "suppressedExceptions", "Ljava/util/List;", false)
  | 5 => ("java/lang/Throwable", "detailMessage", "Ljava/lang/String;", false)
  | 6 => ("java/lang/Throwable", "backtrace", "Ljava/lang/Object;", false)
  | _ => ("java/lang/Throwable", "depth", "I", false)
def tyX15 : Nat → FieldType := fun k => match k with
  | 0 => .int
  | 1 => .int
  | 2 => .object "java/lang/Throwable"
  | 3 => .array (.object "java/lang/StackTraceElement")
  | 4 => .object "java/util/List"
  | 5 => .object "java/lang/String"
  | 6 => .object "java/lang/Object"
  | _ => .int
abbrev wsX150 : List Cond := u_ws RX15 TX15 8
theorem nmX15 : ∀ a, a < 8 → ∀ b, b < 8 → a ≠ b → (TX15 a).2.1 ≠ (TX15 b).2.1 := by decide +kernel
theorem tyX15_ok : ∀ k, k < 8 → parseFieldDescriptor (TX15 k).2.2.1 = some (tyX15 k) := by decide +kernel
abbrev cX15_init : ByteArray := prog_14_method_1_code
def yX15_init : MethodName := ⟨RX15, "<init>", "(IILSecretVault$Cause;)V"⟩
def dkwX15_init_0 : List UInt8 := [42, 4, 27, 187, 0, 1, 89, 6, 28, 45, 183, 0, 3, 183, 0, 7, 177]
abbrev dktX15_init_0 : List UInt8 := dkwX15_init_0 ++ []
theorem dksX15_init_0 : cX15_init.data.toList.drop 0 = dktX15_init_0 := by decide +kernel
theorem dX15_init_0 : decode cX15_init 0 = .ok (.aload_n 0, 1) := dk_42 (dk_at dksX15_init_0 0 rfl rfl)
theorem dX15_init_1 : decode cX15_init 1 = .ok (.iconst 1, 1) := dk_4 (dk_at dksX15_init_0 1 rfl rfl)
theorem dX15_init_2 : decode cX15_init 2 = .ok (.iload_n 1, 1) := dk_27 (dk_at dksX15_init_0 2 rfl rfl)
theorem dX15_init_3 : decode cX15_init 3 = .ok (.new 1, 3) := dk_187 0 1 (dk_at dksX15_init_0 3 rfl rfl)
theorem dX15_init_6 : decode cX15_init 6 = .ok (.dup, 1) := dk_89 (dk_at dksX15_init_0 6 rfl rfl)
theorem dX15_init_7 : decode cX15_init 7 = .ok (.iconst 3, 1) := dk_6 (dk_at dksX15_init_0 7 rfl rfl)
theorem dX15_init_8 : decode cX15_init 8 = .ok (.iload_n 2, 1) := dk_28 (dk_at dksX15_init_0 8 rfl rfl)
theorem dX15_init_9 : decode cX15_init 9 = .ok (.aload_n 3, 1) := dk_45 (dk_at dksX15_init_0 9 rfl rfl)
theorem dX15_init_10 : decode cX15_init 10 = .ok (.invokespecial 3, 3) := dk_183 0 3 (dk_at dksX15_init_0 10 rfl rfl)
theorem dX15_init_13 : decode cX15_init 13 = .ok (.invokespecial 7, 3) := dk_183 0 7 (dk_at dksX15_init_0 13 rfl rfl)
theorem dX15_init_16 : decode cX15_init 16 = .ok (.return_, 1) := dk_177 (dk_at dksX15_init_0 16 rfl rfl)
theorem q110 : (Jvm.Cond.initialized "SecretVault$ShareFailure") ∈ lw_all := lw_g (lw_at lw_m1 44 rfl) rfl
theorem q456 : (Jvm.Cond.selects "SecretVault$ShareFailure" ({ cls := "java/lang/Throwable", name := "fillInStackTrace", desc := "()Ljava/lang/Throwable;" } : Jvm.MethodName) ({ cls := "java/lang/Throwable", name := "fillInStackTrace", desc := "()Ljava/lang/Throwable;" } : Jvm.MethodName)) ∈ lw_all := lw_g (lw_at lw_m2 150 rfl) rfl
theorem q619 : (Jvm.Cond.selects "SecretVault$ShareFailure" ({ cls := "java/lang/Throwable", name := "getCause", desc := "()Ljava/lang/Throwable;" } : Jvm.MethodName) ({ cls := "java/lang/Throwable", name := "getCause", desc := "()Ljava/lang/Throwable;" } : Jvm.MethodName)) ∈ lw_all := lw_g (lw_at lw_m3 73 rfl) rfl
theorem q867 : (Jvm.Cond.selects "SecretVault$ShareFailure" ({ cls := "java/lang/Object", name := "getClass", desc := "()Ljava/lang/Class;" } : Jvm.MethodName) ({ cls := "java/lang/Object", name := "getClass", desc := "()Ljava/lang/Class;" } : Jvm.MethodName)) ∈ lw_all := lw_g (lw_at lw_m4 81 rfl) rfl
theorem q1403 : (Jvm.Cond.instantiable "SecretVault$ShareFailure" (8 : Nat)) ∈ lw_all := lw_g (lw_at lw_m6 137 rfl) rfl
theorem q1404 : (Jvm.Cond.castable "SecretVault$ShareFailure" "SecretVault$ShareFailure") ∈ lw_tbl := lw_at lw_m6 138 rfl
theorem q1405 : (Jvm.Cond.selects "SecretVault$ShareFailure" ({ cls := "java/lang/Throwable", name := "fillInStackTrace", desc := "(I)Ljava/lang/Throwable;" } : Jvm.MethodName) ({ cls := "java/lang/Throwable", name := "fillInStackTrace", desc := "(I)Ljava/lang/Throwable;" } : Jvm.MethodName)) ∈ lw_all := lw_g (lw_at lw_m6 139 rfl) rfl
theorem q1406 : (Jvm.Cond.lays "SecretVault$ShareFailure" "java/lang/Throwable" "cause" "Ljava/lang/Throwable;") ∈ lw_all := lw_g (lw_at lw_m6 140 rfl) rfl
theorem q1407 : (Jvm.Cond.lays "SecretVault$ShareFailure" "java/lang/Throwable" "stackTrace" "[Ljava/lang/StackTraceElement;") ∈ lw_all := lw_g (lw_at lw_m6 141 rfl) rfl
theorem q1408 : (Jvm.Cond.lays "SecretVault$ShareFailure" "java/lang/Throwable" "suppressedExceptions" "Ljava/util/List;") ∈ lw_all := lw_g (lw_at lw_m6 142 rfl) rfl
theorem q1409 : (Jvm.Cond.lays "SecretVault$ShareFailure" "java/lang/Throwable" "detailMessage" "Ljava/lang/String;") ∈ lw_all := lw_g (lw_at lw_m6 143 rfl) rfl
theorem q1410 : (Jvm.Cond.lays "SecretVault$ShareFailure" "java/lang/Throwable" "backtrace" "Ljava/lang/Object;") ∈ lw_all := lw_g (lw_at lw_m6 144 rfl) rfl
theorem q1412 : (Jvm.Cond.instanceMethod ({ cls := "SecretVault$ShareFailure", name := "<init>", desc := "(IILSecretVault$Cause;)V" } : Jvm.MethodName)) ∈ lw_all := lw_g (lw_at lw_m6 146 rfl) rfl
theorem q1413 : (Jvm.Cond.code ({ cls := "SecretVault$ShareFailure", name := "<init>", desc := "(IILSecretVault$Cause;)V" } : Jvm.MethodName) prog_14_method_1_code (4 : Nat) (Option.none : Option Jvm.ClassFile.FieldType)) ∈ lw_all := lw_g (lw_at lw_m6 147 rfl) rfl
theorem q1414 : (Jvm.Cond.classLink "SecretVault$ShareFailure" (1 : Nat) "SecretVault$Cause") ∈ lw_all := lw_g (lw_at lw_m6 148 rfl) rfl
theorem q1415 : (Jvm.Cond.methodLink "SecretVault$ShareFailure" (3 : Nat) ({ cls := "SecretVault$Cause", name := "<init>", desc := "(IILSecretVault$Cause;)V" } : Jvm.MethodName)) ∈ lw_all := lw_g (lw_at lw_m6 149 rfl) rfl
theorem q1416 : (Jvm.Cond.methodLink "SecretVault$ShareFailure" (7 : Nat) ({ cls := "SecretVault$Failure", name := "<init>", desc := "(IILSecretVault$Failure;)V" } : Jvm.MethodName)) ∈ lw_all := lw_g (lw_at lw_m6 150 rfl) rfl
theorem q1417 : (Jvm.Cond.laysFinal "SecretVault$ShareFailure" "SecretVault$Failure" "code" "I") ∈ lw_all := lw_g (lw_at lw_m6 151 rfl) rfl
theorem q1418 : (Jvm.Cond.laysFinal "SecretVault$ShareFailure" "SecretVault$Failure" "detail" "I") ∈ lw_all := lw_g (lw_at lw_m6 152 rfl) rfl
theorem q1419 : (Jvm.Cond.lays "SecretVault$ShareFailure" "java/lang/Throwable" "depth" "I") ∈ lw_all := lw_g (lw_at lw_m6 153 rfl) rfl
theorem q1420 : (Jvm.Cond.superclass "SecretVault$ShareFailure" "SecretVault$Failure") ∈ lw_all := lw_g (lw_at lw_m6 154 rfl) rfl
theorem q2561 : (Jvm.Cond.castable "SecretVault$ShareFailure" "SecretVault$Failure") ∈ lw_tbl := lw_at lw_m11 95 rfl
theorem q2588 : (Jvm.Cond.castable "SecretVault$ShareFailure" "java/lang/Object") ∈ lw_tbl := lw_at lw_m11 122 rfl
theorem in_X15 : ∀ w ∈ wsX150, w ∈ lw_all := lw_in wsX150 [1417, 1418, 1406, 1407, 1408, 1409, 1410, 1419] (by decide +kernel) (by decide +kernel)

/-! SecretVault$Reader -/
set_option maxRecDepth 100000
def RX16 : String := "SecretVault$Reader"
def TX16 : u_T := fun k => match k with
  | 0 => ("SecretVault$Reader", "text", "Ljava/lang/String;", true)
  | _ => ("SecretVault$Reader", "at", "I", false)
def tyX16 : Nat → FieldType := fun k => match k with
  | 0 => .object "java/lang/String"
  | _ => .int
abbrev wsX160 : List Cond := u_ws RX16 TX16 2
theorem nmX16 : ∀ a, a < 2 → ∀ b, b < 2 → a ≠ b → (TX16 a).2.1 ≠ (TX16 b).2.1 := by decide +kernel
theorem tyX16_ok : ∀ k, k < 2 → parseFieldDescriptor (TX16 k).2.2.1 = some (tyX16 k) := by decide +kernel
abbrev cX16_init : ByteArray := prog_11_method_1_code
def yX16_init : MethodName := ⟨RX16, "<init>", "(Ljava/lang/String;)V"⟩
def dkwX16_init_0 : List UInt8 := [42, 183, 0, 3, 42, 43, 181, 0, 9, 177]
abbrev dktX16_init_0 : List UInt8 := dkwX16_init_0 ++ []
theorem dksX16_init_0 : cX16_init.data.toList.drop 0 = dktX16_init_0 := by decide +kernel
theorem dX16_init_0 : decode cX16_init 0 = .ok (.aload_n 0, 1) := dk_42 (dk_at dksX16_init_0 0 rfl rfl)
theorem dX16_init_1 : decode cX16_init 1 = .ok (.invokespecial 3, 3) := dk_183 0 3 (dk_at dksX16_init_0 1 rfl rfl)
theorem dX16_init_4 : decode cX16_init 4 = .ok (.aload_n 0, 1) := dk_42 (dk_at dksX16_init_0 4 rfl rfl)
theorem dX16_init_5 : decode cX16_init 5 = .ok (.aload_n 1, 1) := dk_43 (dk_at dksX16_init_0 5 rfl rfl)
theorem dX16_init_6 : decode cX16_init 6 = .ok (.putfield 9, 3) := dk_181 0 9 (dk_at dksX16_init_0 6 rfl rfl)
theorem dX16_init_9 : decode cX16_init 9 = .ok (.return_, 1) := dk_177 (dk_at dksX16_init_0 9 rfl rfl)
abbrev cX16_wholeShare : ByteArray := prog_11_method_13_code
def yX16_wholeShare : MethodName := ⟨RX16, "wholeShare", "()LSecretVault$Share;"⟩
def dkwX16_wholeShare_4 : List UInt8 := [183, 0, 108, 176]
abbrev dktX16_wholeShare_4 : List UInt8 := dkwX16_wholeShare_4 ++ []
def dkwX16_wholeShare_3 : List UInt8 := [182, 0, 34, 2, 160, 0, 7, 4, 167, 0, 4, 3, 182, 0, 37, 187, 0, 106, 89, 27, 28, 29]
abbrev dktX16_wholeShare_3 : List UInt8 := dkwX16_wholeShare_3 ++ dktX16_wholeShare_4
def dkwX16_wholeShare_2 : List UInt8 := [6, 28, 104, 96, 29, 96, 16, 10, 112, 54, 4, 42, 21, 4, 21, 4, 182, 0, 93, 87, 42, 42]
abbrev dktX16_wholeShare_2 : List UInt8 := dkwX16_wholeShare_2 ++ dktX16_wholeShare_3
def dkwX16_wholeShare_1 : List UInt8 := [16, 64, 182, 0, 81, 42, 4, 17, 39, 15, 182, 0, 103, 62, 42, 16, 35, 182, 0, 81, 16, 7, 27, 104]
abbrev dktX16_wholeShare_1 : List UInt8 := dkwX16_wholeShare_1 ++ dktX16_wholeShare_2
def dkwX16_wholeShare_0 : List UInt8 := [42, 4, 16, 24, 182, 0, 103, 60, 42, 16, 58, 182, 0, 81, 42, 3, 17, 3, 250, 182, 0, 103, 61, 42]
abbrev dktX16_wholeShare_0 : List UInt8 := dkwX16_wholeShare_0 ++ dktX16_wholeShare_1
theorem dksX16_wholeShare_0 : cX16_wholeShare.data.toList.drop 0 = dktX16_wholeShare_0 := by decide +kernel
theorem dksX16_wholeShare_1 : cX16_wholeShare.data.toList.drop 24 = dktX16_wholeShare_1 := dk_seg dksX16_wholeShare_0 24 rfl rfl
theorem dksX16_wholeShare_2 : cX16_wholeShare.data.toList.drop 48 = dktX16_wholeShare_2 := dk_seg dksX16_wholeShare_1 24 rfl rfl
theorem dksX16_wholeShare_3 : cX16_wholeShare.data.toList.drop 70 = dktX16_wholeShare_3 := dk_seg dksX16_wholeShare_2 22 rfl rfl
theorem dksX16_wholeShare_4 : cX16_wholeShare.data.toList.drop 92 = dktX16_wholeShare_4 := dk_seg dksX16_wholeShare_3 22 rfl rfl
theorem dX16_wholeShare_0 : decode cX16_wholeShare 0 = .ok (.aload_n 0, 1) := dk_42 (dk_at dksX16_wholeShare_0 0 rfl rfl)
theorem dX16_wholeShare_1 : decode cX16_wholeShare 1 = .ok (.iconst 1, 1) := dk_4 (dk_at dksX16_wholeShare_0 1 rfl rfl)
theorem dX16_wholeShare_2 : decode cX16_wholeShare 2 = .ok (.bipush 24, 2) := dk_16 24 (dk_at dksX16_wholeShare_0 2 rfl rfl)
theorem dX16_wholeShare_4 : decode cX16_wholeShare 4 = .ok (.invokevirtual 103, 3) := dk_182 0 103 (dk_at dksX16_wholeShare_0 4 rfl rfl)
theorem dX16_wholeShare_7 : decode cX16_wholeShare 7 = .ok (.istore_n 1, 1) := dk_60 (dk_at dksX16_wholeShare_0 7 rfl rfl)
theorem dX16_wholeShare_8 : decode cX16_wholeShare 8 = .ok (.aload_n 0, 1) := dk_42 (dk_at dksX16_wholeShare_0 8 rfl rfl)
theorem dX16_wholeShare_9 : decode cX16_wholeShare 9 = .ok (.bipush 58, 2) := dk_16 58 (dk_at dksX16_wholeShare_0 9 rfl rfl)
theorem dX16_wholeShare_11 : decode cX16_wholeShare 11 = .ok (.invokevirtual 81, 3) := dk_182 0 81 (dk_at dksX16_wholeShare_0 11 rfl rfl)
theorem dX16_wholeShare_14 : decode cX16_wholeShare 14 = .ok (.aload_n 0, 1) := dk_42 (dk_at dksX16_wholeShare_0 14 rfl rfl)
theorem dX16_wholeShare_15 : decode cX16_wholeShare 15 = .ok (.iconst 0, 1) := dk_3 (dk_at dksX16_wholeShare_0 15 rfl rfl)
theorem dX16_wholeShare_16 : decode cX16_wholeShare 16 = .ok (.sipush 1018, 3) := dk_17 3 250 (dk_at dksX16_wholeShare_0 16 rfl rfl)
theorem dX16_wholeShare_19 : decode cX16_wholeShare 19 = .ok (.invokevirtual 103, 3) := dk_182 0 103 (dk_at dksX16_wholeShare_0 19 rfl rfl)
theorem dX16_wholeShare_22 : decode cX16_wholeShare 22 = .ok (.istore_n 2, 1) := dk_61 (dk_at dksX16_wholeShare_0 22 rfl rfl)
theorem dX16_wholeShare_23 : decode cX16_wholeShare 23 = .ok (.aload_n 0, 1) := dk_42 (dk_at dksX16_wholeShare_0 23 rfl rfl)
theorem dX16_wholeShare_24 : decode cX16_wholeShare 24 = .ok (.bipush 64, 2) := dk_16 64 (dk_at dksX16_wholeShare_1 0 rfl rfl)
theorem dX16_wholeShare_26 : decode cX16_wholeShare 26 = .ok (.invokevirtual 81, 3) := dk_182 0 81 (dk_at dksX16_wholeShare_1 2 rfl rfl)
theorem dX16_wholeShare_29 : decode cX16_wholeShare 29 = .ok (.aload_n 0, 1) := dk_42 (dk_at dksX16_wholeShare_1 5 rfl rfl)
theorem dX16_wholeShare_30 : decode cX16_wholeShare 30 = .ok (.iconst 1, 1) := dk_4 (dk_at dksX16_wholeShare_1 6 rfl rfl)
theorem dX16_wholeShare_31 : decode cX16_wholeShare 31 = .ok (.sipush 9999, 3) := dk_17 39 15 (dk_at dksX16_wholeShare_1 7 rfl rfl)
theorem dX16_wholeShare_34 : decode cX16_wholeShare 34 = .ok (.invokevirtual 103, 3) := dk_182 0 103 (dk_at dksX16_wholeShare_1 10 rfl rfl)
theorem dX16_wholeShare_37 : decode cX16_wholeShare 37 = .ok (.istore_n 3, 1) := dk_62 (dk_at dksX16_wholeShare_1 13 rfl rfl)
theorem dX16_wholeShare_38 : decode cX16_wholeShare 38 = .ok (.aload_n 0, 1) := dk_42 (dk_at dksX16_wholeShare_1 14 rfl rfl)
theorem dX16_wholeShare_39 : decode cX16_wholeShare 39 = .ok (.bipush 35, 2) := dk_16 35 (dk_at dksX16_wholeShare_1 15 rfl rfl)
theorem dX16_wholeShare_41 : decode cX16_wholeShare 41 = .ok (.invokevirtual 81, 3) := dk_182 0 81 (dk_at dksX16_wholeShare_1 17 rfl rfl)
theorem dX16_wholeShare_44 : decode cX16_wholeShare 44 = .ok (.bipush 7, 2) := dk_16 7 (dk_at dksX16_wholeShare_1 20 rfl rfl)
theorem dX16_wholeShare_46 : decode cX16_wholeShare 46 = .ok (.iload_n 1, 1) := dk_27 (dk_at dksX16_wholeShare_1 22 rfl rfl)
theorem dX16_wholeShare_47 : decode cX16_wholeShare 47 = .ok (.imul, 1) := dk_104 (dk_at dksX16_wholeShare_1 23 rfl rfl)
theorem dX16_wholeShare_48 : decode cX16_wholeShare 48 = .ok (.iconst 3, 1) := dk_6 (dk_at dksX16_wholeShare_2 0 rfl rfl)
theorem dX16_wholeShare_49 : decode cX16_wholeShare 49 = .ok (.iload_n 2, 1) := dk_28 (dk_at dksX16_wholeShare_2 1 rfl rfl)
theorem dX16_wholeShare_50 : decode cX16_wholeShare 50 = .ok (.imul, 1) := dk_104 (dk_at dksX16_wholeShare_2 2 rfl rfl)
theorem dX16_wholeShare_51 : decode cX16_wholeShare 51 = .ok (.iadd, 1) := dk_96 (dk_at dksX16_wholeShare_2 3 rfl rfl)
theorem dX16_wholeShare_52 : decode cX16_wholeShare 52 = .ok (.iload_n 3, 1) := dk_29 (dk_at dksX16_wholeShare_2 4 rfl rfl)
theorem dX16_wholeShare_53 : decode cX16_wholeShare 53 = .ok (.iadd, 1) := dk_96 (dk_at dksX16_wholeShare_2 5 rfl rfl)
theorem dX16_wholeShare_54 : decode cX16_wholeShare 54 = .ok (.bipush 10, 2) := dk_16 10 (dk_at dksX16_wholeShare_2 6 rfl rfl)
theorem dX16_wholeShare_56 : decode cX16_wholeShare 56 = .ok (.irem, 1) := dk_112 (dk_at dksX16_wholeShare_2 8 rfl rfl)
theorem dX16_wholeShare_57 : decode cX16_wholeShare 57 = .ok (.istore 4, 2) := dk_54 4 (dk_at dksX16_wholeShare_2 9 rfl rfl)
theorem dX16_wholeShare_59 : decode cX16_wholeShare 59 = .ok (.aload_n 0, 1) := dk_42 (dk_at dksX16_wholeShare_2 11 rfl rfl)
theorem dX16_wholeShare_60 : decode cX16_wholeShare 60 = .ok (.iload 4, 2) := dk_21 4 (dk_at dksX16_wholeShare_2 12 rfl rfl)
theorem dX16_wholeShare_62 : decode cX16_wholeShare 62 = .ok (.iload 4, 2) := dk_21 4 (dk_at dksX16_wholeShare_2 14 rfl rfl)
theorem dX16_wholeShare_64 : decode cX16_wholeShare 64 = .ok (.invokevirtual 93, 3) := dk_182 0 93 (dk_at dksX16_wholeShare_2 16 rfl rfl)
theorem dX16_wholeShare_67 : decode cX16_wholeShare 67 = .ok (.pop, 1) := dk_87 (dk_at dksX16_wholeShare_2 19 rfl rfl)
theorem dX16_wholeShare_68 : decode cX16_wholeShare 68 = .ok (.aload_n 0, 1) := dk_42 (dk_at dksX16_wholeShare_2 20 rfl rfl)
theorem dX16_wholeShare_69 : decode cX16_wholeShare 69 = .ok (.aload_n 0, 1) := dk_42 (dk_at dksX16_wholeShare_2 21 rfl rfl)
theorem dX16_wholeShare_70 : decode cX16_wholeShare 70 = .ok (.invokevirtual 34, 3) := dk_182 0 34 (dk_at dksX16_wholeShare_3 0 rfl rfl)
theorem dX16_wholeShare_73 : decode cX16_wholeShare 73 = .ok (.iconst (-1), 1) := dk_2 (dk_at dksX16_wholeShare_3 3 rfl rfl)
theorem dX16_wholeShare_74 : decode cX16_wholeShare 74 = .ok (.if_icmp .ne 7, 3) := dk_160 0 7 (dk_at dksX16_wholeShare_3 4 rfl rfl)
theorem dX16_wholeShare_77 : decode cX16_wholeShare 77 = .ok (.iconst 1, 1) := dk_4 (dk_at dksX16_wholeShare_3 7 rfl rfl)
theorem dX16_wholeShare_78 : decode cX16_wholeShare 78 = .ok (.goto 4, 3) := dk_167 0 4 (dk_at dksX16_wholeShare_3 8 rfl rfl)
theorem dX16_wholeShare_81 : decode cX16_wholeShare 81 = .ok (.iconst 0, 1) := dk_3 (dk_at dksX16_wholeShare_3 11 rfl rfl)
theorem dX16_wholeShare_82 : decode cX16_wholeShare 82 = .ok (.invokevirtual 37, 3) := dk_182 0 37 (dk_at dksX16_wholeShare_3 12 rfl rfl)
theorem dX16_wholeShare_85 : decode cX16_wholeShare 85 = .ok (.new 106, 3) := dk_187 0 106 (dk_at dksX16_wholeShare_3 15 rfl rfl)
theorem dX16_wholeShare_88 : decode cX16_wholeShare 88 = .ok (.dup, 1) := dk_89 (dk_at dksX16_wholeShare_3 18 rfl rfl)
theorem dX16_wholeShare_89 : decode cX16_wholeShare 89 = .ok (.iload_n 1, 1) := dk_27 (dk_at dksX16_wholeShare_3 19 rfl rfl)
theorem dX16_wholeShare_90 : decode cX16_wholeShare 90 = .ok (.iload_n 2, 1) := dk_28 (dk_at dksX16_wholeShare_3 20 rfl rfl)
theorem dX16_wholeShare_91 : decode cX16_wholeShare 91 = .ok (.iload_n 3, 1) := dk_29 (dk_at dksX16_wholeShare_3 21 rfl rfl)
theorem dX16_wholeShare_92 : decode cX16_wholeShare 92 = .ok (.invokespecial 108, 3) := dk_183 0 108 (dk_at dksX16_wholeShare_4 0 rfl rfl)
theorem dX16_wholeShare_95 : decode cX16_wholeShare 95 = .ok (.areturn, 1) := dk_176 (dk_at dksX16_wholeShare_4 3 rfl rfl)
abbrev cX16_number : ByteArray := prog_11_method_12_code
def yX16_number : MethodName := ⟨RX16, "number", "(II)I"⟩
def dkwX16_number_3 : List UInt8 := [187, 0, 29, 89, 29, 183, 0, 31, 191, 21, 4, 172]
abbrev dktX16_number_3 : List UInt8 := dkwX16_number_3 ++ []
def dkwX16_number_2 : List UInt8 := [42, 3, 16, 9, 182, 0, 93, 96, 54, 4, 167, 255, 212, 21, 4, 27, 28, 184, 0, 41, 154, 0, 12]
abbrev dktX16_number_2 : List UInt8 := dkwX16_number_2 ++ dktX16_number_3
def dkwX16_number_1 : List UInt8 := [7, 96, 162, 0, 35, 42, 182, 0, 34, 16, 48, 16, 57, 184, 0, 41, 153, 0, 21, 16, 10, 21, 4, 104]
abbrev dktX16_number_1 : List UInt8 := dkwX16_number_1 ++ dktX16_number_2
def dkwX16_number_0 : List UInt8 := [42, 180, 0, 15, 62, 42, 3, 16, 9, 182, 0, 93, 54, 4, 21, 4, 158, 0, 45, 42, 180, 0, 15, 29]
abbrev dktX16_number_0 : List UInt8 := dkwX16_number_0 ++ dktX16_number_1
theorem dksX16_number_0 : cX16_number.data.toList.drop 0 = dktX16_number_0 := by decide +kernel
theorem dksX16_number_1 : cX16_number.data.toList.drop 24 = dktX16_number_1 := dk_seg dksX16_number_0 24 rfl rfl
theorem dksX16_number_2 : cX16_number.data.toList.drop 48 = dktX16_number_2 := dk_seg dksX16_number_1 24 rfl rfl
theorem dksX16_number_3 : cX16_number.data.toList.drop 71 = dktX16_number_3 := dk_seg dksX16_number_2 23 rfl rfl
theorem dX16_number_0 : decode cX16_number 0 = .ok (.aload_n 0, 1) := dk_42 (dk_at dksX16_number_0 0 rfl rfl)
theorem dX16_number_1 : decode cX16_number 1 = .ok (.getfield 15, 3) := dk_180 0 15 (dk_at dksX16_number_0 1 rfl rfl)
theorem dX16_number_4 : decode cX16_number 4 = .ok (.istore_n 3, 1) := dk_62 (dk_at dksX16_number_0 4 rfl rfl)
theorem dX16_number_5 : decode cX16_number 5 = .ok (.aload_n 0, 1) := dk_42 (dk_at dksX16_number_0 5 rfl rfl)
theorem dX16_number_6 : decode cX16_number 6 = .ok (.iconst 0, 1) := dk_3 (dk_at dksX16_number_0 6 rfl rfl)
theorem dX16_number_7 : decode cX16_number 7 = .ok (.bipush 9, 2) := dk_16 9 (dk_at dksX16_number_0 7 rfl rfl)
theorem dX16_number_9 : decode cX16_number 9 = .ok (.invokevirtual 93, 3) := dk_182 0 93 (dk_at dksX16_number_0 9 rfl rfl)
theorem dX16_number_12 : decode cX16_number 12 = .ok (.istore 4, 2) := dk_54 4 (dk_at dksX16_number_0 12 rfl rfl)
theorem dX16_number_14 : decode cX16_number 14 = .ok (.iload 4, 2) := dk_21 4 (dk_at dksX16_number_0 14 rfl rfl)
theorem dX16_number_16 : decode cX16_number 16 = .ok (.ifCond .le 45, 3) := dk_158 0 45 (dk_at dksX16_number_0 16 rfl rfl)
theorem dX16_number_19 : decode cX16_number 19 = .ok (.aload_n 0, 1) := dk_42 (dk_at dksX16_number_0 19 rfl rfl)
theorem dX16_number_20 : decode cX16_number 20 = .ok (.getfield 15, 3) := dk_180 0 15 (dk_at dksX16_number_0 20 rfl rfl)
theorem dX16_number_23 : decode cX16_number 23 = .ok (.iload_n 3, 1) := dk_29 (dk_at dksX16_number_0 23 rfl rfl)
theorem dX16_number_24 : decode cX16_number 24 = .ok (.iconst 4, 1) := dk_7 (dk_at dksX16_number_1 0 rfl rfl)
theorem dX16_number_25 : decode cX16_number 25 = .ok (.iadd, 1) := dk_96 (dk_at dksX16_number_1 1 rfl rfl)
theorem dX16_number_26 : decode cX16_number 26 = .ok (.if_icmp .ge 35, 3) := dk_162 0 35 (dk_at dksX16_number_1 2 rfl rfl)
theorem dX16_number_29 : decode cX16_number 29 = .ok (.aload_n 0, 1) := dk_42 (dk_at dksX16_number_1 5 rfl rfl)
theorem dX16_number_30 : decode cX16_number 30 = .ok (.invokevirtual 34, 3) := dk_182 0 34 (dk_at dksX16_number_1 6 rfl rfl)
theorem dX16_number_33 : decode cX16_number 33 = .ok (.bipush 48, 2) := dk_16 48 (dk_at dksX16_number_1 9 rfl rfl)
theorem dX16_number_35 : decode cX16_number 35 = .ok (.bipush 57, 2) := dk_16 57 (dk_at dksX16_number_1 11 rfl rfl)
theorem dX16_number_37 : decode cX16_number 37 = .ok (.invokestatic 41, 3) := dk_184 0 41 (dk_at dksX16_number_1 13 rfl rfl)
theorem dX16_number_40 : decode cX16_number 40 = .ok (.ifCond .eq 21, 3) := dk_153 0 21 (dk_at dksX16_number_1 16 rfl rfl)
theorem dX16_number_43 : decode cX16_number 43 = .ok (.bipush 10, 2) := dk_16 10 (dk_at dksX16_number_1 19 rfl rfl)
theorem dX16_number_45 : decode cX16_number 45 = .ok (.iload 4, 2) := dk_21 4 (dk_at dksX16_number_1 21 rfl rfl)
theorem dX16_number_47 : decode cX16_number 47 = .ok (.imul, 1) := dk_104 (dk_at dksX16_number_1 23 rfl rfl)
theorem dX16_number_48 : decode cX16_number 48 = .ok (.aload_n 0, 1) := dk_42 (dk_at dksX16_number_2 0 rfl rfl)
theorem dX16_number_49 : decode cX16_number 49 = .ok (.iconst 0, 1) := dk_3 (dk_at dksX16_number_2 1 rfl rfl)
theorem dX16_number_50 : decode cX16_number 50 = .ok (.bipush 9, 2) := dk_16 9 (dk_at dksX16_number_2 2 rfl rfl)
theorem dX16_number_52 : decode cX16_number 52 = .ok (.invokevirtual 93, 3) := dk_182 0 93 (dk_at dksX16_number_2 4 rfl rfl)
theorem dX16_number_55 : decode cX16_number 55 = .ok (.iadd, 1) := dk_96 (dk_at dksX16_number_2 7 rfl rfl)
theorem dX16_number_56 : decode cX16_number 56 = .ok (.istore 4, 2) := dk_54 4 (dk_at dksX16_number_2 8 rfl rfl)
theorem dX16_number_58 : decode cX16_number 58 = .ok (.goto (-44), 3) := dk_167 255 212 (dk_at dksX16_number_2 10 rfl rfl)
theorem dX16_number_61 : decode cX16_number 61 = .ok (.iload 4, 2) := dk_21 4 (dk_at dksX16_number_2 13 rfl rfl)
theorem dX16_number_63 : decode cX16_number 63 = .ok (.iload_n 1, 1) := dk_27 (dk_at dksX16_number_2 15 rfl rfl)
theorem dX16_number_64 : decode cX16_number 64 = .ok (.iload_n 2, 1) := dk_28 (dk_at dksX16_number_2 16 rfl rfl)
theorem dX16_number_65 : decode cX16_number 65 = .ok (.invokestatic 41, 3) := dk_184 0 41 (dk_at dksX16_number_2 17 rfl rfl)
theorem dX16_number_68 : decode cX16_number 68 = .ok (.ifCond .ne 12, 3) := dk_154 0 12 (dk_at dksX16_number_2 20 rfl rfl)
theorem dX16_number_71 : decode cX16_number 71 = .ok (.new 29, 3) := dk_187 0 29 (dk_at dksX16_number_3 0 rfl rfl)
theorem dX16_number_74 : decode cX16_number 74 = .ok (.dup, 1) := dk_89 (dk_at dksX16_number_3 3 rfl rfl)
theorem dX16_number_75 : decode cX16_number 75 = .ok (.iload_n 3, 1) := dk_29 (dk_at dksX16_number_3 4 rfl rfl)
theorem dX16_number_76 : decode cX16_number 76 = .ok (.invokespecial 31, 3) := dk_183 0 31 (dk_at dksX16_number_3 5 rfl rfl)
theorem dX16_number_79 : decode cX16_number 79 = .ok (.athrow, 1) := dk_191 (dk_at dksX16_number_3 8 rfl rfl)
theorem dX16_number_80 : decode cX16_number 80 = .ok (.iload 4, 2) := dk_21 4 (dk_at dksX16_number_3 9 rfl rfl)
theorem dX16_number_82 : decode cX16_number 82 = .ok (.ireturn, 1) := dk_172 (dk_at dksX16_number_3 11 rfl rfl)
abbrev cX16_digit : ByteArray := prog_11_method_6_code
def yX16_digit : MethodName := ⟨RX16, "digit", "(II)I"⟩
def dkwX16_digit_1 : List UInt8 := [4, 96, 181, 0, 15, 42, 180, 0, 9, 42, 180, 0, 15, 4, 100, 182, 0, 25, 16, 48, 100, 172]
abbrev dktX16_digit_1 : List UInt8 := dkwX16_digit_1 ++ []
def dkwX16_digit_0 : List UInt8 := [42, 42, 182, 0, 34, 16, 48, 27, 96, 16, 48, 28, 96, 184, 0, 41, 182, 0, 37, 42, 89, 180, 0, 15]
abbrev dktX16_digit_0 : List UInt8 := dkwX16_digit_0 ++ dktX16_digit_1
theorem dksX16_digit_0 : cX16_digit.data.toList.drop 0 = dktX16_digit_0 := by decide +kernel
theorem dksX16_digit_1 : cX16_digit.data.toList.drop 24 = dktX16_digit_1 := dk_seg dksX16_digit_0 24 rfl rfl
theorem dX16_digit_0 : decode cX16_digit 0 = .ok (.aload_n 0, 1) := dk_42 (dk_at dksX16_digit_0 0 rfl rfl)
theorem dX16_digit_1 : decode cX16_digit 1 = .ok (.aload_n 0, 1) := dk_42 (dk_at dksX16_digit_0 1 rfl rfl)
theorem dX16_digit_2 : decode cX16_digit 2 = .ok (.invokevirtual 34, 3) := dk_182 0 34 (dk_at dksX16_digit_0 2 rfl rfl)
theorem dX16_digit_5 : decode cX16_digit 5 = .ok (.bipush 48, 2) := dk_16 48 (dk_at dksX16_digit_0 5 rfl rfl)
theorem dX16_digit_7 : decode cX16_digit 7 = .ok (.iload_n 1, 1) := dk_27 (dk_at dksX16_digit_0 7 rfl rfl)
theorem dX16_digit_8 : decode cX16_digit 8 = .ok (.iadd, 1) := dk_96 (dk_at dksX16_digit_0 8 rfl rfl)
theorem dX16_digit_9 : decode cX16_digit 9 = .ok (.bipush 48, 2) := dk_16 48 (dk_at dksX16_digit_0 9 rfl rfl)
theorem dX16_digit_11 : decode cX16_digit 11 = .ok (.iload_n 2, 1) := dk_28 (dk_at dksX16_digit_0 11 rfl rfl)
theorem dX16_digit_12 : decode cX16_digit 12 = .ok (.iadd, 1) := dk_96 (dk_at dksX16_digit_0 12 rfl rfl)
theorem dX16_digit_13 : decode cX16_digit 13 = .ok (.invokestatic 41, 3) := dk_184 0 41 (dk_at dksX16_digit_0 13 rfl rfl)
theorem dX16_digit_16 : decode cX16_digit 16 = .ok (.invokevirtual 37, 3) := dk_182 0 37 (dk_at dksX16_digit_0 16 rfl rfl)
theorem dX16_digit_19 : decode cX16_digit 19 = .ok (.aload_n 0, 1) := dk_42 (dk_at dksX16_digit_0 19 rfl rfl)
theorem dX16_digit_20 : decode cX16_digit 20 = .ok (.dup, 1) := dk_89 (dk_at dksX16_digit_0 20 rfl rfl)
theorem dX16_digit_21 : decode cX16_digit 21 = .ok (.getfield 15, 3) := dk_180 0 15 (dk_at dksX16_digit_0 21 rfl rfl)
theorem dX16_digit_24 : decode cX16_digit 24 = .ok (.iconst 1, 1) := dk_4 (dk_at dksX16_digit_1 0 rfl rfl)
theorem dX16_digit_25 : decode cX16_digit 25 = .ok (.iadd, 1) := dk_96 (dk_at dksX16_digit_1 1 rfl rfl)
theorem dX16_digit_26 : decode cX16_digit 26 = .ok (.putfield 15, 3) := dk_181 0 15 (dk_at dksX16_digit_1 2 rfl rfl)
theorem dX16_digit_29 : decode cX16_digit 29 = .ok (.aload_n 0, 1) := dk_42 (dk_at dksX16_digit_1 5 rfl rfl)
theorem dX16_digit_30 : decode cX16_digit 30 = .ok (.getfield 9, 3) := dk_180 0 9 (dk_at dksX16_digit_1 6 rfl rfl)
theorem dX16_digit_33 : decode cX16_digit 33 = .ok (.aload_n 0, 1) := dk_42 (dk_at dksX16_digit_1 9 rfl rfl)
theorem dX16_digit_34 : decode cX16_digit 34 = .ok (.getfield 15, 3) := dk_180 0 15 (dk_at dksX16_digit_1 10 rfl rfl)
theorem dX16_digit_37 : decode cX16_digit 37 = .ok (.iconst 1, 1) := dk_4 (dk_at dksX16_digit_1 13 rfl rfl)
theorem dX16_digit_38 : decode cX16_digit 38 = .ok (.isub, 1) := dk_100 (dk_at dksX16_digit_1 14 rfl rfl)
theorem dX16_digit_39 : decode cX16_digit 39 = .ok (.invokevirtual 25, 3) := dk_182 0 25 (dk_at dksX16_digit_1 15 rfl rfl)
theorem dX16_digit_42 : decode cX16_digit 42 = .ok (.bipush 48, 2) := dk_16 48 (dk_at dksX16_digit_1 18 rfl rfl)
theorem dX16_digit_44 : decode cX16_digit 44 = .ok (.isub, 1) := dk_100 (dk_at dksX16_digit_1 20 rfl rfl)
theorem dX16_digit_45 : decode cX16_digit 45 = .ok (.ireturn, 1) := dk_172 (dk_at dksX16_digit_1 21 rfl rfl)
abbrev cX16_here : ByteArray := prog_11_method_2_code
def yX16_here : MethodName := ⟨RX16, "here", "()I"⟩
def dkwX16_here_1 : List UInt8 := [182, 0, 25, 167, 0, 4, 2, 172]
abbrev dktX16_here_1 : List UInt8 := dkwX16_here_1 ++ []
def dkwX16_here_0 : List UInt8 := [42, 180, 0, 15, 42, 180, 0, 9, 182, 0, 19, 162, 0, 17, 42, 180, 0, 9, 42, 180, 0, 15]
abbrev dktX16_here_0 : List UInt8 := dkwX16_here_0 ++ dktX16_here_1
theorem dksX16_here_0 : cX16_here.data.toList.drop 0 = dktX16_here_0 := by decide +kernel
theorem dksX16_here_1 : cX16_here.data.toList.drop 22 = dktX16_here_1 := dk_seg dksX16_here_0 22 rfl rfl
theorem dX16_here_0 : decode cX16_here 0 = .ok (.aload_n 0, 1) := dk_42 (dk_at dksX16_here_0 0 rfl rfl)
theorem dX16_here_1 : decode cX16_here 1 = .ok (.getfield 15, 3) := dk_180 0 15 (dk_at dksX16_here_0 1 rfl rfl)
theorem dX16_here_4 : decode cX16_here 4 = .ok (.aload_n 0, 1) := dk_42 (dk_at dksX16_here_0 4 rfl rfl)
theorem dX16_here_5 : decode cX16_here 5 = .ok (.getfield 9, 3) := dk_180 0 9 (dk_at dksX16_here_0 5 rfl rfl)
theorem dX16_here_8 : decode cX16_here 8 = .ok (.invokevirtual 19, 3) := dk_182 0 19 (dk_at dksX16_here_0 8 rfl rfl)
theorem dX16_here_11 : decode cX16_here 11 = .ok (.if_icmp .ge 17, 3) := dk_162 0 17 (dk_at dksX16_here_0 11 rfl rfl)
theorem dX16_here_14 : decode cX16_here 14 = .ok (.aload_n 0, 1) := dk_42 (dk_at dksX16_here_0 14 rfl rfl)
theorem dX16_here_15 : decode cX16_here 15 = .ok (.getfield 9, 3) := dk_180 0 9 (dk_at dksX16_here_0 15 rfl rfl)
theorem dX16_here_18 : decode cX16_here 18 = .ok (.aload_n 0, 1) := dk_42 (dk_at dksX16_here_0 18 rfl rfl)
theorem dX16_here_19 : decode cX16_here 19 = .ok (.getfield 15, 3) := dk_180 0 15 (dk_at dksX16_here_0 19 rfl rfl)
theorem dX16_here_22 : decode cX16_here 22 = .ok (.invokevirtual 25, 3) := dk_182 0 25 (dk_at dksX16_here_1 0 rfl rfl)
theorem dX16_here_25 : decode cX16_here 25 = .ok (.goto 4, 3) := dk_167 0 4 (dk_at dksX16_here_1 3 rfl rfl)
theorem dX16_here_28 : decode cX16_here 28 = .ok (.iconst (-1), 1) := dk_2 (dk_at dksX16_here_1 6 rfl rfl)
theorem dX16_here_29 : decode cX16_here 29 = .ok (.ireturn, 1) := dk_172 (dk_at dksX16_here_1 7 rfl rfl)
abbrev cX16_need : ByteArray := prog_11_method_4_code
def yX16_need : MethodName := ⟨RX16, "need", "(Z)V"⟩
def dkwX16_need_0 : List UInt8 := [27, 154, 0, 15, 187, 0, 29, 89, 42, 180, 0, 15, 183, 0, 31, 191, 177]
abbrev dktX16_need_0 : List UInt8 := dkwX16_need_0 ++ []
theorem dksX16_need_0 : cX16_need.data.toList.drop 0 = dktX16_need_0 := by decide +kernel
theorem dX16_need_0 : decode cX16_need 0 = .ok (.iload_n 1, 1) := dk_27 (dk_at dksX16_need_0 0 rfl rfl)
theorem dX16_need_1 : decode cX16_need 1 = .ok (.ifCond .ne 15, 3) := dk_154 0 15 (dk_at dksX16_need_0 1 rfl rfl)
theorem dX16_need_4 : decode cX16_need 4 = .ok (.new 29, 3) := dk_187 0 29 (dk_at dksX16_need_0 4 rfl rfl)
theorem dX16_need_7 : decode cX16_need 7 = .ok (.dup, 1) := dk_89 (dk_at dksX16_need_0 7 rfl rfl)
theorem dX16_need_8 : decode cX16_need 8 = .ok (.aload_n 0, 1) := dk_42 (dk_at dksX16_need_0 8 rfl rfl)
theorem dX16_need_9 : decode cX16_need 9 = .ok (.getfield 15, 3) := dk_180 0 15 (dk_at dksX16_need_0 9 rfl rfl)
theorem dX16_need_12 : decode cX16_need 12 = .ok (.invokespecial 31, 3) := dk_183 0 31 (dk_at dksX16_need_0 12 rfl rfl)
theorem dX16_need_15 : decode cX16_need 15 = .ok (.athrow, 1) := dk_191 (dk_at dksX16_need_0 15 rfl rfl)
theorem dX16_need_16 : decode cX16_need 16 = .ok (.return_, 1) := dk_177 (dk_at dksX16_need_0 16 rfl rfl)
abbrev cX16_take : ByteArray := prog_11_method_5_code
def yX16_take : MethodName := ⟨RX16, "take", "(C)V"⟩
def dkwX16_take_1 : List UInt8 := [181, 0, 15, 177]
abbrev dktX16_take_1 : List UInt8 := dkwX16_take_1 ++ []
def dkwX16_take_0 : List UInt8 := [42, 42, 182, 0, 34, 27, 160, 0, 7, 4, 167, 0, 4, 3, 182, 0, 37, 42, 89, 180, 0, 15, 4, 96]
abbrev dktX16_take_0 : List UInt8 := dkwX16_take_0 ++ dktX16_take_1
theorem dksX16_take_0 : cX16_take.data.toList.drop 0 = dktX16_take_0 := by decide +kernel
theorem dksX16_take_1 : cX16_take.data.toList.drop 24 = dktX16_take_1 := dk_seg dksX16_take_0 24 rfl rfl
theorem dX16_take_0 : decode cX16_take 0 = .ok (.aload_n 0, 1) := dk_42 (dk_at dksX16_take_0 0 rfl rfl)
theorem dX16_take_1 : decode cX16_take 1 = .ok (.aload_n 0, 1) := dk_42 (dk_at dksX16_take_0 1 rfl rfl)
theorem dX16_take_2 : decode cX16_take 2 = .ok (.invokevirtual 34, 3) := dk_182 0 34 (dk_at dksX16_take_0 2 rfl rfl)
theorem dX16_take_5 : decode cX16_take 5 = .ok (.iload_n 1, 1) := dk_27 (dk_at dksX16_take_0 5 rfl rfl)
theorem dX16_take_6 : decode cX16_take 6 = .ok (.if_icmp .ne 7, 3) := dk_160 0 7 (dk_at dksX16_take_0 6 rfl rfl)
theorem dX16_take_9 : decode cX16_take 9 = .ok (.iconst 1, 1) := dk_4 (dk_at dksX16_take_0 9 rfl rfl)
theorem dX16_take_10 : decode cX16_take 10 = .ok (.goto 4, 3) := dk_167 0 4 (dk_at dksX16_take_0 10 rfl rfl)
theorem dX16_take_13 : decode cX16_take 13 = .ok (.iconst 0, 1) := dk_3 (dk_at dksX16_take_0 13 rfl rfl)
theorem dX16_take_14 : decode cX16_take 14 = .ok (.invokevirtual 37, 3) := dk_182 0 37 (dk_at dksX16_take_0 14 rfl rfl)
theorem dX16_take_17 : decode cX16_take 17 = .ok (.aload_n 0, 1) := dk_42 (dk_at dksX16_take_0 17 rfl rfl)
theorem dX16_take_18 : decode cX16_take 18 = .ok (.dup, 1) := dk_89 (dk_at dksX16_take_0 18 rfl rfl)
theorem dX16_take_19 : decode cX16_take 19 = .ok (.getfield 15, 3) := dk_180 0 15 (dk_at dksX16_take_0 19 rfl rfl)
theorem dX16_take_22 : decode cX16_take 22 = .ok (.iconst 1, 1) := dk_4 (dk_at dksX16_take_0 22 rfl rfl)
theorem dX16_take_23 : decode cX16_take 23 = .ok (.iadd, 1) := dk_96 (dk_at dksX16_take_0 23 rfl rfl)
theorem dX16_take_24 : decode cX16_take 24 = .ok (.putfield 15, 3) := dk_181 0 15 (dk_at dksX16_take_1 0 rfl rfl)
theorem dX16_take_27 : decode cX16_take 27 = .ok (.return_, 1) := dk_177 (dk_at dksX16_take_1 3 rfl rfl)
abbrev cX16_wholePolicy : ByteArray := prog_11_method_7_code
def yX16_wholePolicy : MethodName := ⟨RX16, "wholePolicy", "()LSecretVault$Policy;"⟩
def dkwX16_wholePolicy_0 : List UInt8 := [42, 182, 0, 45, 76, 42, 42, 182, 0, 34, 2, 160, 0, 7, 4, 167, 0, 4, 3, 182, 0, 37, 43, 176]
abbrev dktX16_wholePolicy_0 : List UInt8 := dkwX16_wholePolicy_0 ++ []
theorem dksX16_wholePolicy_0 : cX16_wholePolicy.data.toList.drop 0 = dktX16_wholePolicy_0 := by decide +kernel
theorem dX16_wholePolicy_0 : decode cX16_wholePolicy 0 = .ok (.aload_n 0, 1) := dk_42 (dk_at dksX16_wholePolicy_0 0 rfl rfl)
theorem dX16_wholePolicy_1 : decode cX16_wholePolicy 1 = .ok (.invokevirtual 45, 3) := dk_182 0 45 (dk_at dksX16_wholePolicy_0 1 rfl rfl)
theorem dX16_wholePolicy_4 : decode cX16_wholePolicy 4 = .ok (.astore_n 1, 1) := dk_76 (dk_at dksX16_wholePolicy_0 4 rfl rfl)
theorem dX16_wholePolicy_5 : decode cX16_wholePolicy 5 = .ok (.aload_n 0, 1) := dk_42 (dk_at dksX16_wholePolicy_0 5 rfl rfl)
theorem dX16_wholePolicy_6 : decode cX16_wholePolicy 6 = .ok (.aload_n 0, 1) := dk_42 (dk_at dksX16_wholePolicy_0 6 rfl rfl)
theorem dX16_wholePolicy_7 : decode cX16_wholePolicy 7 = .ok (.invokevirtual 34, 3) := dk_182 0 34 (dk_at dksX16_wholePolicy_0 7 rfl rfl)
theorem dX16_wholePolicy_10 : decode cX16_wholePolicy 10 = .ok (.iconst (-1), 1) := dk_2 (dk_at dksX16_wholePolicy_0 10 rfl rfl)
theorem dX16_wholePolicy_11 : decode cX16_wholePolicy 11 = .ok (.if_icmp .ne 7, 3) := dk_160 0 7 (dk_at dksX16_wholePolicy_0 11 rfl rfl)
theorem dX16_wholePolicy_14 : decode cX16_wholePolicy 14 = .ok (.iconst 1, 1) := dk_4 (dk_at dksX16_wholePolicy_0 14 rfl rfl)
theorem dX16_wholePolicy_15 : decode cX16_wholePolicy 15 = .ok (.goto 4, 3) := dk_167 0 4 (dk_at dksX16_wholePolicy_0 15 rfl rfl)
theorem dX16_wholePolicy_18 : decode cX16_wholePolicy 18 = .ok (.iconst 0, 1) := dk_3 (dk_at dksX16_wholePolicy_0 18 rfl rfl)
theorem dX16_wholePolicy_19 : decode cX16_wholePolicy 19 = .ok (.invokevirtual 37, 3) := dk_182 0 37 (dk_at dksX16_wholePolicy_0 19 rfl rfl)
theorem dX16_wholePolicy_22 : decode cX16_wholePolicy 22 = .ok (.aload_n 1, 1) := dk_43 (dk_at dksX16_wholePolicy_0 22 rfl rfl)
theorem dX16_wholePolicy_23 : decode cX16_wholePolicy 23 = .ok (.areturn, 1) := dk_176 (dk_at dksX16_wholePolicy_0 23 rfl rfl)
abbrev cX16_policy : ByteArray := prog_11_method_8_code
def yX16_policy : MethodName := ⟨RX16, "policy", "()LSecretVault$Policy;"⟩
def dkwX16_policy_3 : List UInt8 := [185, 0, 64, 2, 0, 192, 0, 68, 167, 0, 11, 187, 0, 70, 89, 43, 183, 0, 72, 176]
abbrev dktX16_policy_3 : List UInt8 := dkwX16_policy_3 ++ []
def dkwX16_policy_2 : List UInt8 := [185, 0, 55, 2, 0, 87, 167, 255, 226, 43, 185, 0, 61, 1, 0, 4, 160, 0, 16, 43, 3]
abbrev dktX16_policy_2 : List UInt8 := dkwX16_policy_2 ++ dktX16_policy_3
def dkwX16_policy_1 : List UInt8 := [16, 124, 160, 0, 27, 42, 89, 180, 0, 15, 4, 96, 181, 0, 15, 43, 42, 182, 0, 52]
abbrev dktX16_policy_1 : List UInt8 := dkwX16_policy_1 ++ dktX16_policy_2
def dkwX16_policy_0 : List UInt8 := [187, 0, 49, 89, 183, 0, 51, 76, 43, 42, 182, 0, 52, 185, 0, 55, 2, 0, 87, 42, 182, 0, 34]
abbrev dktX16_policy_0 : List UInt8 := dkwX16_policy_0 ++ dktX16_policy_1
theorem dksX16_policy_0 : cX16_policy.data.toList.drop 0 = dktX16_policy_0 := by decide +kernel
theorem dksX16_policy_1 : cX16_policy.data.toList.drop 23 = dktX16_policy_1 := dk_seg dksX16_policy_0 23 rfl rfl
theorem dksX16_policy_2 : cX16_policy.data.toList.drop 43 = dktX16_policy_2 := dk_seg dksX16_policy_1 20 rfl rfl
theorem dksX16_policy_3 : cX16_policy.data.toList.drop 64 = dktX16_policy_3 := dk_seg dksX16_policy_2 21 rfl rfl
theorem dX16_policy_0 : decode cX16_policy 0 = .ok (.new 49, 3) := dk_187 0 49 (dk_at dksX16_policy_0 0 rfl rfl)
theorem dX16_policy_3 : decode cX16_policy 3 = .ok (.dup, 1) := dk_89 (dk_at dksX16_policy_0 3 rfl rfl)
theorem dX16_policy_4 : decode cX16_policy 4 = .ok (.invokespecial 51, 3) := dk_183 0 51 (dk_at dksX16_policy_0 4 rfl rfl)
theorem dX16_policy_7 : decode cX16_policy 7 = .ok (.astore_n 1, 1) := dk_76 (dk_at dksX16_policy_0 7 rfl rfl)
theorem dX16_policy_8 : decode cX16_policy 8 = .ok (.aload_n 1, 1) := dk_43 (dk_at dksX16_policy_0 8 rfl rfl)
theorem dX16_policy_9 : decode cX16_policy 9 = .ok (.aload_n 0, 1) := dk_42 (dk_at dksX16_policy_0 9 rfl rfl)
theorem dX16_policy_10 : decode cX16_policy 10 = .ok (.invokevirtual 52, 3) := dk_182 0 52 (dk_at dksX16_policy_0 10 rfl rfl)
theorem dX16_policy_13 : decode cX16_policy 13 = .ok (.invokeinterface 55 2, 5) := by decide +kernel
theorem dX16_policy_18 : decode cX16_policy 18 = .ok (.pop, 1) := dk_87 (dk_at dksX16_policy_0 18 rfl rfl)
theorem dX16_policy_19 : decode cX16_policy 19 = .ok (.aload_n 0, 1) := dk_42 (dk_at dksX16_policy_0 19 rfl rfl)
theorem dX16_policy_20 : decode cX16_policy 20 = .ok (.invokevirtual 34, 3) := dk_182 0 34 (dk_at dksX16_policy_0 20 rfl rfl)
theorem dX16_policy_23 : decode cX16_policy 23 = .ok (.bipush 124, 2) := dk_16 124 (dk_at dksX16_policy_1 0 rfl rfl)
theorem dX16_policy_25 : decode cX16_policy 25 = .ok (.if_icmp .ne 27, 3) := dk_160 0 27 (dk_at dksX16_policy_1 2 rfl rfl)
theorem dX16_policy_28 : decode cX16_policy 28 = .ok (.aload_n 0, 1) := dk_42 (dk_at dksX16_policy_1 5 rfl rfl)
theorem dX16_policy_29 : decode cX16_policy 29 = .ok (.dup, 1) := dk_89 (dk_at dksX16_policy_1 6 rfl rfl)
theorem dX16_policy_30 : decode cX16_policy 30 = .ok (.getfield 15, 3) := dk_180 0 15 (dk_at dksX16_policy_1 7 rfl rfl)
theorem dX16_policy_33 : decode cX16_policy 33 = .ok (.iconst 1, 1) := dk_4 (dk_at dksX16_policy_1 10 rfl rfl)
theorem dX16_policy_34 : decode cX16_policy 34 = .ok (.iadd, 1) := dk_96 (dk_at dksX16_policy_1 11 rfl rfl)
theorem dX16_policy_35 : decode cX16_policy 35 = .ok (.putfield 15, 3) := dk_181 0 15 (dk_at dksX16_policy_1 12 rfl rfl)
theorem dX16_policy_38 : decode cX16_policy 38 = .ok (.aload_n 1, 1) := dk_43 (dk_at dksX16_policy_1 15 rfl rfl)
theorem dX16_policy_39 : decode cX16_policy 39 = .ok (.aload_n 0, 1) := dk_42 (dk_at dksX16_policy_1 16 rfl rfl)
theorem dX16_policy_40 : decode cX16_policy 40 = .ok (.invokevirtual 52, 3) := dk_182 0 52 (dk_at dksX16_policy_1 17 rfl rfl)
theorem dX16_policy_43 : decode cX16_policy 43 = .ok (.invokeinterface 55 2, 5) := by decide +kernel
theorem dX16_policy_48 : decode cX16_policy 48 = .ok (.pop, 1) := dk_87 (dk_at dksX16_policy_2 5 rfl rfl)
theorem dX16_policy_49 : decode cX16_policy 49 = .ok (.goto (-30), 3) := dk_167 255 226 (dk_at dksX16_policy_2 6 rfl rfl)
theorem dX16_policy_52 : decode cX16_policy 52 = .ok (.aload_n 1, 1) := dk_43 (dk_at dksX16_policy_2 9 rfl rfl)
theorem dX16_policy_53 : decode cX16_policy 53 = .ok (.invokeinterface 61 1, 5) := by decide +kernel
theorem dX16_policy_58 : decode cX16_policy 58 = .ok (.iconst 1, 1) := dk_4 (dk_at dksX16_policy_2 15 rfl rfl)
theorem dX16_policy_59 : decode cX16_policy 59 = .ok (.if_icmp .ne 16, 3) := dk_160 0 16 (dk_at dksX16_policy_2 16 rfl rfl)
theorem dX16_policy_62 : decode cX16_policy 62 = .ok (.aload_n 1, 1) := dk_43 (dk_at dksX16_policy_2 19 rfl rfl)
theorem dX16_policy_63 : decode cX16_policy 63 = .ok (.iconst 0, 1) := dk_3 (dk_at dksX16_policy_2 20 rfl rfl)
theorem dX16_policy_64 : decode cX16_policy 64 = .ok (.invokeinterface 64 2, 5) := by decide +kernel
theorem dX16_policy_69 : decode cX16_policy 69 = .ok (.checkcast 68, 3) := dk_192 0 68 (dk_at dksX16_policy_3 5 rfl rfl)
theorem dX16_policy_72 : decode cX16_policy 72 = .ok (.goto 11, 3) := dk_167 0 11 (dk_at dksX16_policy_3 8 rfl rfl)
theorem dX16_policy_75 : decode cX16_policy 75 = .ok (.new 70, 3) := dk_187 0 70 (dk_at dksX16_policy_3 11 rfl rfl)
theorem dX16_policy_78 : decode cX16_policy 78 = .ok (.dup, 1) := dk_89 (dk_at dksX16_policy_3 14 rfl rfl)
theorem dX16_policy_79 : decode cX16_policy 79 = .ok (.aload_n 1, 1) := dk_43 (dk_at dksX16_policy_3 15 rfl rfl)
theorem dX16_policy_80 : decode cX16_policy 80 = .ok (.invokespecial 72, 3) := dk_183 0 72 (dk_at dksX16_policy_3 16 rfl rfl)
theorem dX16_policy_83 : decode cX16_policy 83 = .ok (.areturn, 1) := dk_176 (dk_at dksX16_policy_3 19 rfl rfl)
abbrev cX16_all : ByteArray := prog_11_method_9_code
def yX16_all : MethodName := ⟨RX16, "all", "()LSecretVault$Policy;"⟩
def dkwX16_all_3 : List UInt8 := [185, 0, 64, 2, 0, 192, 0, 68, 167, 0, 11, 187, 0, 78, 89, 43, 183, 0, 80, 176]
abbrev dktX16_all_3 : List UInt8 := dkwX16_all_3 ++ []
def dkwX16_all_2 : List UInt8 := [185, 0, 55, 2, 0, 87, 167, 255, 226, 43, 185, 0, 61, 1, 0, 4, 160, 0, 16, 43, 3]
abbrev dktX16_all_2 : List UInt8 := dkwX16_all_2 ++ dktX16_all_3
def dkwX16_all_1 : List UInt8 := [16, 38, 160, 0, 27, 42, 89, 180, 0, 15, 4, 96, 181, 0, 15, 43, 42, 182, 0, 75]
abbrev dktX16_all_1 : List UInt8 := dkwX16_all_1 ++ dktX16_all_2
def dkwX16_all_0 : List UInt8 := [187, 0, 49, 89, 183, 0, 51, 76, 43, 42, 182, 0, 75, 185, 0, 55, 2, 0, 87, 42, 182, 0, 34]
abbrev dktX16_all_0 : List UInt8 := dkwX16_all_0 ++ dktX16_all_1
theorem dksX16_all_0 : cX16_all.data.toList.drop 0 = dktX16_all_0 := by decide +kernel
theorem dksX16_all_1 : cX16_all.data.toList.drop 23 = dktX16_all_1 := dk_seg dksX16_all_0 23 rfl rfl
theorem dksX16_all_2 : cX16_all.data.toList.drop 43 = dktX16_all_2 := dk_seg dksX16_all_1 20 rfl rfl
theorem dksX16_all_3 : cX16_all.data.toList.drop 64 = dktX16_all_3 := dk_seg dksX16_all_2 21 rfl rfl
theorem dX16_all_0 : decode cX16_all 0 = .ok (.new 49, 3) := dk_187 0 49 (dk_at dksX16_all_0 0 rfl rfl)
theorem dX16_all_3 : decode cX16_all 3 = .ok (.dup, 1) := dk_89 (dk_at dksX16_all_0 3 rfl rfl)
theorem dX16_all_4 : decode cX16_all 4 = .ok (.invokespecial 51, 3) := dk_183 0 51 (dk_at dksX16_all_0 4 rfl rfl)
theorem dX16_all_7 : decode cX16_all 7 = .ok (.astore_n 1, 1) := dk_76 (dk_at dksX16_all_0 7 rfl rfl)
theorem dX16_all_8 : decode cX16_all 8 = .ok (.aload_n 1, 1) := dk_43 (dk_at dksX16_all_0 8 rfl rfl)
theorem dX16_all_9 : decode cX16_all 9 = .ok (.aload_n 0, 1) := dk_42 (dk_at dksX16_all_0 9 rfl rfl)
theorem dX16_all_10 : decode cX16_all 10 = .ok (.invokevirtual 75, 3) := dk_182 0 75 (dk_at dksX16_all_0 10 rfl rfl)
theorem dX16_all_13 : decode cX16_all 13 = .ok (.invokeinterface 55 2, 5) := by decide +kernel
theorem dX16_all_18 : decode cX16_all 18 = .ok (.pop, 1) := dk_87 (dk_at dksX16_all_0 18 rfl rfl)
theorem dX16_all_19 : decode cX16_all 19 = .ok (.aload_n 0, 1) := dk_42 (dk_at dksX16_all_0 19 rfl rfl)
theorem dX16_all_20 : decode cX16_all 20 = .ok (.invokevirtual 34, 3) := dk_182 0 34 (dk_at dksX16_all_0 20 rfl rfl)
theorem dX16_all_23 : decode cX16_all 23 = .ok (.bipush 38, 2) := dk_16 38 (dk_at dksX16_all_1 0 rfl rfl)
theorem dX16_all_25 : decode cX16_all 25 = .ok (.if_icmp .ne 27, 3) := dk_160 0 27 (dk_at dksX16_all_1 2 rfl rfl)
theorem dX16_all_28 : decode cX16_all 28 = .ok (.aload_n 0, 1) := dk_42 (dk_at dksX16_all_1 5 rfl rfl)
theorem dX16_all_29 : decode cX16_all 29 = .ok (.dup, 1) := dk_89 (dk_at dksX16_all_1 6 rfl rfl)
theorem dX16_all_30 : decode cX16_all 30 = .ok (.getfield 15, 3) := dk_180 0 15 (dk_at dksX16_all_1 7 rfl rfl)
theorem dX16_all_33 : decode cX16_all 33 = .ok (.iconst 1, 1) := dk_4 (dk_at dksX16_all_1 10 rfl rfl)
theorem dX16_all_34 : decode cX16_all 34 = .ok (.iadd, 1) := dk_96 (dk_at dksX16_all_1 11 rfl rfl)
theorem dX16_all_35 : decode cX16_all 35 = .ok (.putfield 15, 3) := dk_181 0 15 (dk_at dksX16_all_1 12 rfl rfl)
theorem dX16_all_38 : decode cX16_all 38 = .ok (.aload_n 1, 1) := dk_43 (dk_at dksX16_all_1 15 rfl rfl)
theorem dX16_all_39 : decode cX16_all 39 = .ok (.aload_n 0, 1) := dk_42 (dk_at dksX16_all_1 16 rfl rfl)
theorem dX16_all_40 : decode cX16_all 40 = .ok (.invokevirtual 75, 3) := dk_182 0 75 (dk_at dksX16_all_1 17 rfl rfl)
theorem dX16_all_43 : decode cX16_all 43 = .ok (.invokeinterface 55 2, 5) := by decide +kernel
theorem dX16_all_48 : decode cX16_all 48 = .ok (.pop, 1) := dk_87 (dk_at dksX16_all_2 5 rfl rfl)
theorem dX16_all_49 : decode cX16_all 49 = .ok (.goto (-30), 3) := dk_167 255 226 (dk_at dksX16_all_2 6 rfl rfl)
theorem dX16_all_52 : decode cX16_all 52 = .ok (.aload_n 1, 1) := dk_43 (dk_at dksX16_all_2 9 rfl rfl)
theorem dX16_all_53 : decode cX16_all 53 = .ok (.invokeinterface 61 1, 5) := by decide +kernel
theorem dX16_all_58 : decode cX16_all 58 = .ok (.iconst 1, 1) := dk_4 (dk_at dksX16_all_2 15 rfl rfl)
theorem dX16_all_59 : decode cX16_all 59 = .ok (.if_icmp .ne 16, 3) := dk_160 0 16 (dk_at dksX16_all_2 16 rfl rfl)
theorem dX16_all_62 : decode cX16_all 62 = .ok (.aload_n 1, 1) := dk_43 (dk_at dksX16_all_2 19 rfl rfl)
theorem dX16_all_63 : decode cX16_all 63 = .ok (.iconst 0, 1) := dk_3 (dk_at dksX16_all_2 20 rfl rfl)
theorem dX16_all_64 : decode cX16_all 64 = .ok (.invokeinterface 64 2, 5) := by decide +kernel
theorem dX16_all_69 : decode cX16_all 69 = .ok (.checkcast 68, 3) := dk_192 0 68 (dk_at dksX16_all_3 5 rfl rfl)
theorem dX16_all_72 : decode cX16_all 72 = .ok (.goto 11, 3) := dk_167 0 11 (dk_at dksX16_all_3 8 rfl rfl)
theorem dX16_all_75 : decode cX16_all 75 = .ok (.new 78, 3) := dk_187 0 78 (dk_at dksX16_all_3 11 rfl rfl)
theorem dX16_all_78 : decode cX16_all 78 = .ok (.dup, 1) := dk_89 (dk_at dksX16_all_3 14 rfl rfl)
theorem dX16_all_79 : decode cX16_all 79 = .ok (.aload_n 1, 1) := dk_43 (dk_at dksX16_all_3 15 rfl rfl)
theorem dX16_all_80 : decode cX16_all 80 = .ok (.invokespecial 80, 3) := dk_183 0 80 (dk_at dksX16_all_3 16 rfl rfl)
theorem dX16_all_83 : decode cX16_all 83 = .ok (.areturn, 1) := dk_176 (dk_at dksX16_all_3 19 rfl rfl)
abbrev cX16_part : ByteArray := prog_11_method_10_code
def yX16_part : MethodName := ⟨RX16, "part", "()LSecretVault$Policy;"⟩
def dkwX16_part_4 : List UInt8 := [182, 0, 93, 183, 0, 97, 176]
abbrev dktX16_part_4 : List UInt8 := dkwX16_part_4 ++ []
def dkwX16_part_3 : List UInt8 := [167, 0, 4, 3, 60, 27, 153, 0, 10, 42, 182, 0, 88, 167, 0, 17, 187, 0, 91, 89, 42, 3, 16, 7]
abbrev dktX16_part_3 : List UInt8 := dkwX16_part_3 ++ dktX16_part_4
def dkwX16_part_2 : List UInt8 := [182, 0, 85, 16, 111, 160, 0, 21, 42, 182, 0, 34, 16, 49, 16, 55, 184, 0, 41, 153, 0, 7, 4]
abbrev dktX16_part_2 : List UInt8 := dkwX16_part_2 ++ dktX16_part_3
def dkwX16_part_1 : List UInt8 := [42, 16, 41, 182, 0, 81, 43, 176, 42, 182, 0, 34, 16, 56, 16, 57, 184, 0, 41, 154, 0, 26, 42]
abbrev dktX16_part_1 : List UInt8 := dkwX16_part_1 ++ dktX16_part_2
def dkwX16_part_0 : List UInt8 := [42, 182, 0, 34, 16, 40, 160, 0, 26, 42, 89, 180, 0, 15, 4, 96, 181, 0, 15, 42, 182, 0, 45, 76]
abbrev dktX16_part_0 : List UInt8 := dkwX16_part_0 ++ dktX16_part_1
theorem dksX16_part_0 : cX16_part.data.toList.drop 0 = dktX16_part_0 := by decide +kernel
theorem dksX16_part_1 : cX16_part.data.toList.drop 24 = dktX16_part_1 := dk_seg dksX16_part_0 24 rfl rfl
theorem dksX16_part_2 : cX16_part.data.toList.drop 47 = dktX16_part_2 := dk_seg dksX16_part_1 23 rfl rfl
theorem dksX16_part_3 : cX16_part.data.toList.drop 70 = dktX16_part_3 := dk_seg dksX16_part_2 23 rfl rfl
theorem dksX16_part_4 : cX16_part.data.toList.drop 94 = dktX16_part_4 := dk_seg dksX16_part_3 24 rfl rfl
theorem dX16_part_0 : decode cX16_part 0 = .ok (.aload_n 0, 1) := dk_42 (dk_at dksX16_part_0 0 rfl rfl)
theorem dX16_part_1 : decode cX16_part 1 = .ok (.invokevirtual 34, 3) := dk_182 0 34 (dk_at dksX16_part_0 1 rfl rfl)
theorem dX16_part_4 : decode cX16_part 4 = .ok (.bipush 40, 2) := dk_16 40 (dk_at dksX16_part_0 4 rfl rfl)
theorem dX16_part_6 : decode cX16_part 6 = .ok (.if_icmp .ne 26, 3) := dk_160 0 26 (dk_at dksX16_part_0 6 rfl rfl)
theorem dX16_part_9 : decode cX16_part 9 = .ok (.aload_n 0, 1) := dk_42 (dk_at dksX16_part_0 9 rfl rfl)
theorem dX16_part_10 : decode cX16_part 10 = .ok (.dup, 1) := dk_89 (dk_at dksX16_part_0 10 rfl rfl)
theorem dX16_part_11 : decode cX16_part 11 = .ok (.getfield 15, 3) := dk_180 0 15 (dk_at dksX16_part_0 11 rfl rfl)
theorem dX16_part_14 : decode cX16_part 14 = .ok (.iconst 1, 1) := dk_4 (dk_at dksX16_part_0 14 rfl rfl)
theorem dX16_part_15 : decode cX16_part 15 = .ok (.iadd, 1) := dk_96 (dk_at dksX16_part_0 15 rfl rfl)
theorem dX16_part_16 : decode cX16_part 16 = .ok (.putfield 15, 3) := dk_181 0 15 (dk_at dksX16_part_0 16 rfl rfl)
theorem dX16_part_19 : decode cX16_part 19 = .ok (.aload_n 0, 1) := dk_42 (dk_at dksX16_part_0 19 rfl rfl)
theorem dX16_part_20 : decode cX16_part 20 = .ok (.invokevirtual 45, 3) := dk_182 0 45 (dk_at dksX16_part_0 20 rfl rfl)
theorem dX16_part_23 : decode cX16_part 23 = .ok (.astore_n 1, 1) := dk_76 (dk_at dksX16_part_0 23 rfl rfl)
theorem dX16_part_24 : decode cX16_part 24 = .ok (.aload_n 0, 1) := dk_42 (dk_at dksX16_part_1 0 rfl rfl)
theorem dX16_part_25 : decode cX16_part 25 = .ok (.bipush 41, 2) := dk_16 41 (dk_at dksX16_part_1 1 rfl rfl)
theorem dX16_part_27 : decode cX16_part 27 = .ok (.invokevirtual 81, 3) := dk_182 0 81 (dk_at dksX16_part_1 3 rfl rfl)
theorem dX16_part_30 : decode cX16_part 30 = .ok (.aload_n 1, 1) := dk_43 (dk_at dksX16_part_1 6 rfl rfl)
theorem dX16_part_31 : decode cX16_part 31 = .ok (.areturn, 1) := dk_176 (dk_at dksX16_part_1 7 rfl rfl)
theorem dX16_part_32 : decode cX16_part 32 = .ok (.aload_n 0, 1) := dk_42 (dk_at dksX16_part_1 8 rfl rfl)
theorem dX16_part_33 : decode cX16_part 33 = .ok (.invokevirtual 34, 3) := dk_182 0 34 (dk_at dksX16_part_1 9 rfl rfl)
theorem dX16_part_36 : decode cX16_part 36 = .ok (.bipush 56, 2) := dk_16 56 (dk_at dksX16_part_1 12 rfl rfl)
theorem dX16_part_38 : decode cX16_part 38 = .ok (.bipush 57, 2) := dk_16 57 (dk_at dksX16_part_1 14 rfl rfl)
theorem dX16_part_40 : decode cX16_part 40 = .ok (.invokestatic 41, 3) := dk_184 0 41 (dk_at dksX16_part_1 16 rfl rfl)
theorem dX16_part_43 : decode cX16_part 43 = .ok (.ifCond .ne 26, 3) := dk_154 0 26 (dk_at dksX16_part_1 19 rfl rfl)
theorem dX16_part_46 : decode cX16_part 46 = .ok (.aload_n 0, 1) := dk_42 (dk_at dksX16_part_1 22 rfl rfl)
theorem dX16_part_47 : decode cX16_part 47 = .ok (.invokevirtual 85, 3) := dk_182 0 85 (dk_at dksX16_part_2 0 rfl rfl)
theorem dX16_part_50 : decode cX16_part 50 = .ok (.bipush 111, 2) := dk_16 111 (dk_at dksX16_part_2 3 rfl rfl)
theorem dX16_part_52 : decode cX16_part 52 = .ok (.if_icmp .ne 21, 3) := dk_160 0 21 (dk_at dksX16_part_2 5 rfl rfl)
theorem dX16_part_55 : decode cX16_part 55 = .ok (.aload_n 0, 1) := dk_42 (dk_at dksX16_part_2 8 rfl rfl)
theorem dX16_part_56 : decode cX16_part 56 = .ok (.invokevirtual 34, 3) := dk_182 0 34 (dk_at dksX16_part_2 9 rfl rfl)
theorem dX16_part_59 : decode cX16_part 59 = .ok (.bipush 49, 2) := dk_16 49 (dk_at dksX16_part_2 12 rfl rfl)
theorem dX16_part_61 : decode cX16_part 61 = .ok (.bipush 55, 2) := dk_16 55 (dk_at dksX16_part_2 14 rfl rfl)
theorem dX16_part_63 : decode cX16_part 63 = .ok (.invokestatic 41, 3) := dk_184 0 41 (dk_at dksX16_part_2 16 rfl rfl)
theorem dX16_part_66 : decode cX16_part 66 = .ok (.ifCond .eq 7, 3) := dk_153 0 7 (dk_at dksX16_part_2 19 rfl rfl)
theorem dX16_part_69 : decode cX16_part 69 = .ok (.iconst 1, 1) := dk_4 (dk_at dksX16_part_2 22 rfl rfl)
theorem dX16_part_70 : decode cX16_part 70 = .ok (.goto 4, 3) := dk_167 0 4 (dk_at dksX16_part_3 0 rfl rfl)
theorem dX16_part_73 : decode cX16_part 73 = .ok (.iconst 0, 1) := dk_3 (dk_at dksX16_part_3 3 rfl rfl)
theorem dX16_part_74 : decode cX16_part 74 = .ok (.istore_n 1, 1) := dk_60 (dk_at dksX16_part_3 4 rfl rfl)
theorem dX16_part_75 : decode cX16_part 75 = .ok (.iload_n 1, 1) := dk_27 (dk_at dksX16_part_3 5 rfl rfl)
theorem dX16_part_76 : decode cX16_part 76 = .ok (.ifCond .eq 10, 3) := dk_153 0 10 (dk_at dksX16_part_3 6 rfl rfl)
theorem dX16_part_79 : decode cX16_part 79 = .ok (.aload_n 0, 1) := dk_42 (dk_at dksX16_part_3 9 rfl rfl)
theorem dX16_part_80 : decode cX16_part 80 = .ok (.invokevirtual 88, 3) := dk_182 0 88 (dk_at dksX16_part_3 10 rfl rfl)
theorem dX16_part_83 : decode cX16_part 83 = .ok (.goto 17, 3) := dk_167 0 17 (dk_at dksX16_part_3 13 rfl rfl)
theorem dX16_part_86 : decode cX16_part 86 = .ok (.new 91, 3) := dk_187 0 91 (dk_at dksX16_part_3 16 rfl rfl)
theorem dX16_part_89 : decode cX16_part 89 = .ok (.dup, 1) := dk_89 (dk_at dksX16_part_3 19 rfl rfl)
theorem dX16_part_90 : decode cX16_part 90 = .ok (.aload_n 0, 1) := dk_42 (dk_at dksX16_part_3 20 rfl rfl)
theorem dX16_part_91 : decode cX16_part 91 = .ok (.iconst 0, 1) := dk_3 (dk_at dksX16_part_3 21 rfl rfl)
theorem dX16_part_92 : decode cX16_part 92 = .ok (.bipush 7, 2) := dk_16 7 (dk_at dksX16_part_3 22 rfl rfl)
theorem dX16_part_94 : decode cX16_part 94 = .ok (.invokevirtual 93, 3) := dk_182 0 93 (dk_at dksX16_part_4 0 rfl rfl)
theorem dX16_part_97 : decode cX16_part 97 = .ok (.invokespecial 97, 3) := dk_183 0 97 (dk_at dksX16_part_4 3 rfl rfl)
theorem dX16_part_100 : decode cX16_part 100 = .ok (.areturn, 1) := dk_176 (dk_at dksX16_part_4 6 rfl rfl)
abbrev cX16_after : ByteArray := prog_11_method_3_code
def yX16_after : MethodName := ⟨RX16, "after", "()I"⟩
def dkwX16_after_1 : List UInt8 := [4, 96, 182, 0, 25, 167, 0, 4, 2, 172]
abbrev dktX16_after_1 : List UInt8 := dkwX16_after_1 ++ []
def dkwX16_after_0 : List UInt8 := [42, 180, 0, 15, 4, 96, 42, 180, 0, 9, 182, 0, 19, 162, 0, 19, 42, 180, 0, 9, 42, 180, 0, 15]
abbrev dktX16_after_0 : List UInt8 := dkwX16_after_0 ++ dktX16_after_1
theorem dksX16_after_0 : cX16_after.data.toList.drop 0 = dktX16_after_0 := by decide +kernel
theorem dksX16_after_1 : cX16_after.data.toList.drop 24 = dktX16_after_1 := dk_seg dksX16_after_0 24 rfl rfl
theorem dX16_after_0 : decode cX16_after 0 = .ok (.aload_n 0, 1) := dk_42 (dk_at dksX16_after_0 0 rfl rfl)
theorem dX16_after_1 : decode cX16_after 1 = .ok (.getfield 15, 3) := dk_180 0 15 (dk_at dksX16_after_0 1 rfl rfl)
theorem dX16_after_4 : decode cX16_after 4 = .ok (.iconst 1, 1) := dk_4 (dk_at dksX16_after_0 4 rfl rfl)
theorem dX16_after_5 : decode cX16_after 5 = .ok (.iadd, 1) := dk_96 (dk_at dksX16_after_0 5 rfl rfl)
theorem dX16_after_6 : decode cX16_after 6 = .ok (.aload_n 0, 1) := dk_42 (dk_at dksX16_after_0 6 rfl rfl)
theorem dX16_after_7 : decode cX16_after 7 = .ok (.getfield 9, 3) := dk_180 0 9 (dk_at dksX16_after_0 7 rfl rfl)
theorem dX16_after_10 : decode cX16_after 10 = .ok (.invokevirtual 19, 3) := dk_182 0 19 (dk_at dksX16_after_0 10 rfl rfl)
theorem dX16_after_13 : decode cX16_after 13 = .ok (.if_icmp .ge 19, 3) := dk_162 0 19 (dk_at dksX16_after_0 13 rfl rfl)
theorem dX16_after_16 : decode cX16_after 16 = .ok (.aload_n 0, 1) := dk_42 (dk_at dksX16_after_0 16 rfl rfl)
theorem dX16_after_17 : decode cX16_after 17 = .ok (.getfield 9, 3) := dk_180 0 9 (dk_at dksX16_after_0 17 rfl rfl)
theorem dX16_after_20 : decode cX16_after 20 = .ok (.aload_n 0, 1) := dk_42 (dk_at dksX16_after_0 20 rfl rfl)
theorem dX16_after_21 : decode cX16_after 21 = .ok (.getfield 15, 3) := dk_180 0 15 (dk_at dksX16_after_0 21 rfl rfl)
theorem dX16_after_24 : decode cX16_after 24 = .ok (.iconst 1, 1) := dk_4 (dk_at dksX16_after_1 0 rfl rfl)
theorem dX16_after_25 : decode cX16_after 25 = .ok (.iadd, 1) := dk_96 (dk_at dksX16_after_1 1 rfl rfl)
theorem dX16_after_26 : decode cX16_after 26 = .ok (.invokevirtual 25, 3) := dk_182 0 25 (dk_at dksX16_after_1 2 rfl rfl)
theorem dX16_after_29 : decode cX16_after 29 = .ok (.goto 4, 3) := dk_167 0 4 (dk_at dksX16_after_1 5 rfl rfl)
theorem dX16_after_32 : decode cX16_after 32 = .ok (.iconst (-1), 1) := dk_2 (dk_at dksX16_after_1 8 rfl rfl)
theorem dX16_after_33 : decode cX16_after 33 = .ok (.ireturn, 1) := dk_172 (dk_at dksX16_after_1 9 rfl rfl)
abbrev cX16_some : ByteArray := prog_11_method_11_code
def yX16_some : MethodName := ⟨RX16, "some", "()LSecretVault$Policy;"⟩
def dkwX16_some_4 : List UInt8 := [176]
abbrev dktX16_some_4 : List UInt8 := dkwX16_some_4 ++ []
def dkwX16_some_3 : List UInt8 := [185, 0, 55, 2, 0, 87, 167, 255, 226, 42, 16, 41, 182, 0, 81, 187, 0, 98, 89, 27, 44, 183, 0, 100]
abbrev dktX16_some_3 : List UInt8 := dkwX16_some_3 ++ dktX16_some_4
def dkwX16_some_2 : List UInt8 := [182, 0, 34, 16, 44, 160, 0, 27, 42, 89, 180, 0, 15, 4, 96, 181, 0, 15, 44, 42, 182, 0, 45]
abbrev dktX16_some_2 : List UInt8 := dkwX16_some_2 ++ dktX16_some_3
def dkwX16_some_1 : List UInt8 := [182, 0, 81, 187, 0, 49, 89, 183, 0, 51, 77, 44, 42, 182, 0, 45, 185, 0, 55, 2, 0, 87, 42]
abbrev dktX16_some_1 : List UInt8 := dkwX16_some_1 ++ dktX16_some_2
def dkwX16_some_0 : List UInt8 := [42, 4, 16, 9, 182, 0, 93, 60, 42, 16, 111, 182, 0, 81, 42, 16, 102, 182, 0, 81, 42, 16, 40]
abbrev dktX16_some_0 : List UInt8 := dkwX16_some_0 ++ dktX16_some_1
theorem dksX16_some_0 : cX16_some.data.toList.drop 0 = dktX16_some_0 := by decide +kernel
theorem dksX16_some_1 : cX16_some.data.toList.drop 23 = dktX16_some_1 := dk_seg dksX16_some_0 23 rfl rfl
theorem dksX16_some_2 : cX16_some.data.toList.drop 46 = dktX16_some_2 := dk_seg dksX16_some_1 23 rfl rfl
theorem dksX16_some_3 : cX16_some.data.toList.drop 69 = dktX16_some_3 := dk_seg dksX16_some_2 23 rfl rfl
theorem dksX16_some_4 : cX16_some.data.toList.drop 93 = dktX16_some_4 := dk_seg dksX16_some_3 24 rfl rfl
theorem dX16_some_0 : decode cX16_some 0 = .ok (.aload_n 0, 1) := dk_42 (dk_at dksX16_some_0 0 rfl rfl)
theorem dX16_some_1 : decode cX16_some 1 = .ok (.iconst 1, 1) := dk_4 (dk_at dksX16_some_0 1 rfl rfl)
theorem dX16_some_2 : decode cX16_some 2 = .ok (.bipush 9, 2) := dk_16 9 (dk_at dksX16_some_0 2 rfl rfl)
theorem dX16_some_4 : decode cX16_some 4 = .ok (.invokevirtual 93, 3) := dk_182 0 93 (dk_at dksX16_some_0 4 rfl rfl)
theorem dX16_some_7 : decode cX16_some 7 = .ok (.istore_n 1, 1) := dk_60 (dk_at dksX16_some_0 7 rfl rfl)
theorem dX16_some_8 : decode cX16_some 8 = .ok (.aload_n 0, 1) := dk_42 (dk_at dksX16_some_0 8 rfl rfl)
theorem dX16_some_9 : decode cX16_some 9 = .ok (.bipush 111, 2) := dk_16 111 (dk_at dksX16_some_0 9 rfl rfl)
theorem dX16_some_11 : decode cX16_some 11 = .ok (.invokevirtual 81, 3) := dk_182 0 81 (dk_at dksX16_some_0 11 rfl rfl)
theorem dX16_some_14 : decode cX16_some 14 = .ok (.aload_n 0, 1) := dk_42 (dk_at dksX16_some_0 14 rfl rfl)
theorem dX16_some_15 : decode cX16_some 15 = .ok (.bipush 102, 2) := dk_16 102 (dk_at dksX16_some_0 15 rfl rfl)
theorem dX16_some_17 : decode cX16_some 17 = .ok (.invokevirtual 81, 3) := dk_182 0 81 (dk_at dksX16_some_0 17 rfl rfl)
theorem dX16_some_20 : decode cX16_some 20 = .ok (.aload_n 0, 1) := dk_42 (dk_at dksX16_some_0 20 rfl rfl)
theorem dX16_some_21 : decode cX16_some 21 = .ok (.bipush 40, 2) := dk_16 40 (dk_at dksX16_some_0 21 rfl rfl)
theorem dX16_some_23 : decode cX16_some 23 = .ok (.invokevirtual 81, 3) := dk_182 0 81 (dk_at dksX16_some_1 0 rfl rfl)
theorem dX16_some_26 : decode cX16_some 26 = .ok (.new 49, 3) := dk_187 0 49 (dk_at dksX16_some_1 3 rfl rfl)
theorem dX16_some_29 : decode cX16_some 29 = .ok (.dup, 1) := dk_89 (dk_at dksX16_some_1 6 rfl rfl)
theorem dX16_some_30 : decode cX16_some 30 = .ok (.invokespecial 51, 3) := dk_183 0 51 (dk_at dksX16_some_1 7 rfl rfl)
theorem dX16_some_33 : decode cX16_some 33 = .ok (.astore_n 2, 1) := dk_77 (dk_at dksX16_some_1 10 rfl rfl)
theorem dX16_some_34 : decode cX16_some 34 = .ok (.aload_n 2, 1) := dk_44 (dk_at dksX16_some_1 11 rfl rfl)
theorem dX16_some_35 : decode cX16_some 35 = .ok (.aload_n 0, 1) := dk_42 (dk_at dksX16_some_1 12 rfl rfl)
theorem dX16_some_36 : decode cX16_some 36 = .ok (.invokevirtual 45, 3) := dk_182 0 45 (dk_at dksX16_some_1 13 rfl rfl)
theorem dX16_some_39 : decode cX16_some 39 = .ok (.invokeinterface 55 2, 5) := by decide +kernel
theorem dX16_some_44 : decode cX16_some 44 = .ok (.pop, 1) := dk_87 (dk_at dksX16_some_1 21 rfl rfl)
theorem dX16_some_45 : decode cX16_some 45 = .ok (.aload_n 0, 1) := dk_42 (dk_at dksX16_some_1 22 rfl rfl)
theorem dX16_some_46 : decode cX16_some 46 = .ok (.invokevirtual 34, 3) := dk_182 0 34 (dk_at dksX16_some_2 0 rfl rfl)
theorem dX16_some_49 : decode cX16_some 49 = .ok (.bipush 44, 2) := dk_16 44 (dk_at dksX16_some_2 3 rfl rfl)
theorem dX16_some_51 : decode cX16_some 51 = .ok (.if_icmp .ne 27, 3) := dk_160 0 27 (dk_at dksX16_some_2 5 rfl rfl)
theorem dX16_some_54 : decode cX16_some 54 = .ok (.aload_n 0, 1) := dk_42 (dk_at dksX16_some_2 8 rfl rfl)
theorem dX16_some_55 : decode cX16_some 55 = .ok (.dup, 1) := dk_89 (dk_at dksX16_some_2 9 rfl rfl)
theorem dX16_some_56 : decode cX16_some 56 = .ok (.getfield 15, 3) := dk_180 0 15 (dk_at dksX16_some_2 10 rfl rfl)
theorem dX16_some_59 : decode cX16_some 59 = .ok (.iconst 1, 1) := dk_4 (dk_at dksX16_some_2 13 rfl rfl)
theorem dX16_some_60 : decode cX16_some 60 = .ok (.iadd, 1) := dk_96 (dk_at dksX16_some_2 14 rfl rfl)
theorem dX16_some_61 : decode cX16_some 61 = .ok (.putfield 15, 3) := dk_181 0 15 (dk_at dksX16_some_2 15 rfl rfl)
theorem dX16_some_64 : decode cX16_some 64 = .ok (.aload_n 2, 1) := dk_44 (dk_at dksX16_some_2 18 rfl rfl)
theorem dX16_some_65 : decode cX16_some 65 = .ok (.aload_n 0, 1) := dk_42 (dk_at dksX16_some_2 19 rfl rfl)
theorem dX16_some_66 : decode cX16_some 66 = .ok (.invokevirtual 45, 3) := dk_182 0 45 (dk_at dksX16_some_2 20 rfl rfl)
theorem dX16_some_69 : decode cX16_some 69 = .ok (.invokeinterface 55 2, 5) := by decide +kernel
theorem dX16_some_74 : decode cX16_some 74 = .ok (.pop, 1) := dk_87 (dk_at dksX16_some_3 5 rfl rfl)
theorem dX16_some_75 : decode cX16_some 75 = .ok (.goto (-30), 3) := dk_167 255 226 (dk_at dksX16_some_3 6 rfl rfl)
theorem dX16_some_78 : decode cX16_some 78 = .ok (.aload_n 0, 1) := dk_42 (dk_at dksX16_some_3 9 rfl rfl)
theorem dX16_some_79 : decode cX16_some 79 = .ok (.bipush 41, 2) := dk_16 41 (dk_at dksX16_some_3 10 rfl rfl)
theorem dX16_some_81 : decode cX16_some 81 = .ok (.invokevirtual 81, 3) := dk_182 0 81 (dk_at dksX16_some_3 12 rfl rfl)
theorem dX16_some_84 : decode cX16_some 84 = .ok (.new 98, 3) := dk_187 0 98 (dk_at dksX16_some_3 15 rfl rfl)
theorem dX16_some_87 : decode cX16_some 87 = .ok (.dup, 1) := dk_89 (dk_at dksX16_some_3 18 rfl rfl)
theorem dX16_some_88 : decode cX16_some 88 = .ok (.iload_n 1, 1) := dk_27 (dk_at dksX16_some_3 19 rfl rfl)
theorem dX16_some_89 : decode cX16_some 89 = .ok (.aload_n 2, 1) := dk_44 (dk_at dksX16_some_3 20 rfl rfl)
theorem dX16_some_90 : decode cX16_some 90 = .ok (.invokespecial 100, 3) := dk_183 0 100 (dk_at dksX16_some_3 21 rfl rfl)
theorem dX16_some_93 : decode cX16_some 93 = .ok (.areturn, 1) := dk_176 (dk_at dksX16_some_4 0 rfl rfl)
theorem q112 : (Jvm.Cond.initialized "SecretVault$Reader") ∈ lw_all := lw_g (lw_at lw_m1 46 rfl) rfl
theorem q864 : (Jvm.Cond.selects "SecretVault$Reader" ({ cls := "java/lang/Object", name := "getClass", desc := "()Ljava/lang/Class;" } : Jvm.MethodName) ({ cls := "java/lang/Object", name := "getClass", desc := "()Ljava/lang/Class;" } : Jvm.MethodName)) ∈ lw_all := lw_g (lw_at lw_m4 78 rfl) rfl
theorem q1613 : (Jvm.Cond.instantiable "SecretVault$Reader" (2 : Nat)) ∈ lw_all := lw_g (lw_at lw_m7 107 rfl) rfl
theorem q1620 : (Jvm.Cond.instanceMethod ({ cls := "SecretVault$Reader", name := "<init>", desc := "(Ljava/lang/String;)V" } : Jvm.MethodName)) ∈ lw_all := lw_g (lw_at lw_m7 114 rfl) rfl
theorem q1621 : (Jvm.Cond.code ({ cls := "SecretVault$Reader", name := "<init>", desc := "(Ljava/lang/String;)V" } : Jvm.MethodName) prog_11_method_1_code (2 : Nat) (Option.none : Option Jvm.ClassFile.FieldType)) ∈ lw_all := lw_g (lw_at lw_m7 115 rfl) rfl
theorem q1622 : (Jvm.Cond.methodLink "SecretVault$Reader" (3 : Nat) ({ cls := "java/lang/Object", name := "<init>", desc := "()V" } : Jvm.MethodName)) ∈ lw_all := lw_g (lw_at lw_m7 116 rfl) rfl
theorem q1623 : (Jvm.Cond.fieldLink "SecretVault$Reader" (9 : Nat) "SecretVault$Reader" "text" "Ljava/lang/String;") ∈ lw_all := lw_g (lw_at lw_m7 117 rfl) rfl
theorem q1624 : (Jvm.Cond.fieldLink "SecretVault$Reader" (15 : Nat) "SecretVault$Reader" "at" "I") ∈ lw_all := lw_g (lw_at lw_m7 118 rfl) rfl
theorem q1625 : (Jvm.Cond.laysFinal "SecretVault$Reader" "SecretVault$Reader" "text" "Ljava/lang/String;") ∈ lw_all := lw_g (lw_at lw_m7 119 rfl) rfl
theorem q1626 : (Jvm.Cond.soleField "SecretVault$Reader" "text") ∈ lw_all := lw_g (lw_at lw_m7 120 rfl) rfl
theorem q1627 : (Jvm.Cond.lays "SecretVault$Reader" "SecretVault$Reader" "at" "I") ∈ lw_all := lw_g (lw_at lw_m7 121 rfl) rfl
theorem q1628 : (Jvm.Cond.soleField "SecretVault$Reader" "at") ∈ lw_all := lw_g (lw_at lw_m7 122 rfl) rfl
theorem q1629 : (Jvm.Cond.superclass "SecretVault$Reader" "java/lang/Object") ∈ lw_all := lw_g (lw_at lw_m7 123 rfl) rfl
theorem q1631 : (Jvm.Cond.instanceMethod ({ cls := "SecretVault$Reader", name := "wholeShare", desc := "()LSecretVault$Share;" } : Jvm.MethodName)) ∈ lw_all := lw_g (lw_at lw_m7 125 rfl) rfl
theorem q1632 : (Jvm.Cond.selects "SecretVault$Reader" ({ cls := "SecretVault$Reader", name := "wholeShare", desc := "()LSecretVault$Share;" } : Jvm.MethodName) ({ cls := "SecretVault$Reader", name := "wholeShare", desc := "()LSecretVault$Share;" } : Jvm.MethodName)) ∈ lw_all := lw_g (lw_at lw_m7 126 rfl) rfl
theorem q1633 : (Jvm.Cond.code ({ cls := "SecretVault$Reader", name := "wholeShare", desc := "()LSecretVault$Share;" } : Jvm.MethodName) prog_11_method_13_code (5 : Nat) (Option.some (Jvm.ClassFile.FieldType.object "SecretVault$Share"))) ∈ lw_all := lw_g (lw_at lw_m7 127 rfl) rfl
theorem q1634 : (Jvm.Cond.methodLink "SecretVault$Reader" (103 : Nat) ({ cls := "SecretVault$Reader", name := "number", desc := "(II)I" } : Jvm.MethodName)) ∈ lw_all := lw_g (lw_at lw_m7 128 rfl) rfl
theorem q1635 : (Jvm.Cond.privateMethod ({ cls := "SecretVault$Reader", name := "number", desc := "(II)I" } : Jvm.MethodName)) ∈ lw_tbl := lw_at lw_m7 129 rfl
theorem q1636 : (Jvm.Cond.instanceMethod ({ cls := "SecretVault$Reader", name := "number", desc := "(II)I" } : Jvm.MethodName)) ∈ lw_all := lw_g (lw_at lw_m7 130 rfl) rfl
theorem q1637 : (Jvm.Cond.code ({ cls := "SecretVault$Reader", name := "number", desc := "(II)I" } : Jvm.MethodName) prog_11_method_12_code (5 : Nat) (Option.some Jvm.ClassFile.FieldType.int)) ∈ lw_all := lw_g (lw_at lw_m7 131 rfl) rfl
theorem q1638 : (Jvm.Cond.methodLink "SecretVault$Reader" (93 : Nat) ({ cls := "SecretVault$Reader", name := "digit", desc := "(II)I" } : Jvm.MethodName)) ∈ lw_all := lw_g (lw_at lw_m7 132 rfl) rfl
theorem q1639 : (Jvm.Cond.privateMethod ({ cls := "SecretVault$Reader", name := "digit", desc := "(II)I" } : Jvm.MethodName)) ∈ lw_tbl := lw_at lw_m7 133 rfl
theorem q1640 : (Jvm.Cond.instanceMethod ({ cls := "SecretVault$Reader", name := "digit", desc := "(II)I" } : Jvm.MethodName)) ∈ lw_all := lw_g (lw_at lw_m7 134 rfl) rfl
theorem q1641 : (Jvm.Cond.code ({ cls := "SecretVault$Reader", name := "digit", desc := "(II)I" } : Jvm.MethodName) prog_11_method_6_code (3 : Nat) (Option.some Jvm.ClassFile.FieldType.int)) ∈ lw_all := lw_g (lw_at lw_m7 135 rfl) rfl
theorem q1642 : (Jvm.Cond.methodLink "SecretVault$Reader" (34 : Nat) ({ cls := "SecretVault$Reader", name := "here", desc := "()I" } : Jvm.MethodName)) ∈ lw_all := lw_g (lw_at lw_m7 136 rfl) rfl
theorem q1643 : (Jvm.Cond.privateMethod ({ cls := "SecretVault$Reader", name := "here", desc := "()I" } : Jvm.MethodName)) ∈ lw_tbl := lw_at lw_m7 137 rfl
theorem q1644 : (Jvm.Cond.instanceMethod ({ cls := "SecretVault$Reader", name := "here", desc := "()I" } : Jvm.MethodName)) ∈ lw_all := lw_g (lw_at lw_m7 138 rfl) rfl
theorem q1645 : (Jvm.Cond.code ({ cls := "SecretVault$Reader", name := "here", desc := "()I" } : Jvm.MethodName) prog_11_method_2_code (1 : Nat) (Option.some Jvm.ClassFile.FieldType.int)) ∈ lw_all := lw_g (lw_at lw_m7 139 rfl) rfl
theorem q1646 : (Jvm.Cond.methodLink "SecretVault$Reader" (19 : Nat) ({ cls := "java/lang/String", name := "length", desc := "()I" } : Jvm.MethodName)) ∈ lw_all := lw_g (lw_at lw_m7 140 rfl) rfl
theorem q1647 : (Jvm.Cond.methodLink "SecretVault$Reader" (25 : Nat) ({ cls := "java/lang/String", name := "charAt", desc := "(I)C" } : Jvm.MethodName)) ∈ lw_all := lw_g (lw_at lw_m7 141 rfl) rfl
theorem q1662 : (Jvm.Cond.methodLinkNest "SecretVault$Reader" (41 : Nat) ({ cls := "SecretVault", name := "in", desc := "(III)Z" } : Jvm.MethodName) "SecretVault") ∈ lw_tbl := lw_at lw_m7 156 rfl
theorem q1663 : (Jvm.Cond.methodLink "SecretVault$Reader" (37 : Nat) ({ cls := "SecretVault$Reader", name := "need", desc := "(Z)V" } : Jvm.MethodName)) ∈ lw_all := lw_g (lw_at lw_m7 157 rfl) rfl
theorem q1664 : (Jvm.Cond.privateMethod ({ cls := "SecretVault$Reader", name := "need", desc := "(Z)V" } : Jvm.MethodName)) ∈ lw_tbl := lw_at lw_m7 158 rfl
theorem q1665 : (Jvm.Cond.instanceMethod ({ cls := "SecretVault$Reader", name := "need", desc := "(Z)V" } : Jvm.MethodName)) ∈ lw_all := lw_g (lw_at lw_m7 159 rfl) rfl
theorem q1666 : (Jvm.Cond.code ({ cls := "SecretVault$Reader", name := "need", desc := "(Z)V" } : Jvm.MethodName) prog_11_method_4_code (2 : Nat) (Option.none : Option Jvm.ClassFile.FieldType)) ∈ lw_all := lw_g (lw_at lw_m7 160 rfl) rfl
theorem q1667 : (Jvm.Cond.classLink "SecretVault$Reader" (29 : Nat) "SecretVault$TextError") ∈ lw_all := lw_g (lw_at lw_m7 161 rfl) rfl
theorem q1676 : (Jvm.Cond.methodLink "SecretVault$Reader" (31 : Nat) ({ cls := "SecretVault$TextError", name := "<init>", desc := "(I)V" } : Jvm.MethodName)) ∈ lw_all := lw_g (lw_at lw_m7 170 rfl) rfl
theorem q1686 : (Jvm.Cond.methodLink "SecretVault$Reader" (81 : Nat) ({ cls := "SecretVault$Reader", name := "take", desc := "(C)V" } : Jvm.MethodName)) ∈ lw_all := lw_g (lw_at lw_m7 180 rfl) rfl
theorem q1687 : (Jvm.Cond.privateMethod ({ cls := "SecretVault$Reader", name := "take", desc := "(C)V" } : Jvm.MethodName)) ∈ lw_tbl := lw_at lw_m7 181 rfl
theorem q1688 : (Jvm.Cond.instanceMethod ({ cls := "SecretVault$Reader", name := "take", desc := "(C)V" } : Jvm.MethodName)) ∈ lw_all := lw_g (lw_at lw_m7 182 rfl) rfl
theorem q1689 : (Jvm.Cond.code ({ cls := "SecretVault$Reader", name := "take", desc := "(C)V" } : Jvm.MethodName) prog_11_method_5_code (2 : Nat) (Option.none : Option Jvm.ClassFile.FieldType)) ∈ lw_all := lw_g (lw_at lw_m7 183 rfl) rfl
theorem q1690 : (Jvm.Cond.classLink "SecretVault$Reader" (106 : Nat) "SecretVault$Share") ∈ lw_all := lw_g (lw_at lw_m7 184 rfl) rfl
theorem q1691 : (Jvm.Cond.methodLink "SecretVault$Reader" (108 : Nat) ({ cls := "SecretVault$Share", name := "<init>", desc := "(III)V" } : Jvm.MethodName)) ∈ lw_all := lw_g (lw_at lw_m7 185 rfl) rfl
theorem q1808 : (Jvm.Cond.instanceMethod ({ cls := "SecretVault$Reader", name := "wholePolicy", desc := "()LSecretVault$Policy;" } : Jvm.MethodName)) ∈ lw_all := lw_g (lw_at lw_m8 62 rfl) rfl
theorem q1809 : (Jvm.Cond.selects "SecretVault$Reader" ({ cls := "SecretVault$Reader", name := "wholePolicy", desc := "()LSecretVault$Policy;" } : Jvm.MethodName) ({ cls := "SecretVault$Reader", name := "wholePolicy", desc := "()LSecretVault$Policy;" } : Jvm.MethodName)) ∈ lw_all := lw_g (lw_at lw_m8 63 rfl) rfl
theorem q1810 : (Jvm.Cond.code ({ cls := "SecretVault$Reader", name := "wholePolicy", desc := "()LSecretVault$Policy;" } : Jvm.MethodName) prog_11_method_7_code (2 : Nat) (Option.some (Jvm.ClassFile.FieldType.object "SecretVault$Policy"))) ∈ lw_all := lw_g (lw_at lw_m8 64 rfl) rfl
theorem q1811 : (Jvm.Cond.methodLink "SecretVault$Reader" (45 : Nat) ({ cls := "SecretVault$Reader", name := "policy", desc := "()LSecretVault$Policy;" } : Jvm.MethodName)) ∈ lw_all := lw_g (lw_at lw_m8 65 rfl) rfl
theorem q1812 : (Jvm.Cond.privateMethod ({ cls := "SecretVault$Reader", name := "policy", desc := "()LSecretVault$Policy;" } : Jvm.MethodName)) ∈ lw_tbl := lw_at lw_m8 66 rfl
theorem q1813 : (Jvm.Cond.instanceMethod ({ cls := "SecretVault$Reader", name := "policy", desc := "()LSecretVault$Policy;" } : Jvm.MethodName)) ∈ lw_all := lw_g (lw_at lw_m8 67 rfl) rfl
theorem q1814 : (Jvm.Cond.code ({ cls := "SecretVault$Reader", name := "policy", desc := "()LSecretVault$Policy;" } : Jvm.MethodName) prog_11_method_8_code (2 : Nat) (Option.some (Jvm.ClassFile.FieldType.object "SecretVault$Policy"))) ∈ lw_all := lw_g (lw_at lw_m8 68 rfl) rfl
theorem q1815 : (Jvm.Cond.classLink "SecretVault$Reader" (49 : Nat) "java/util/ArrayList") ∈ lw_all := lw_g (lw_at lw_m8 69 rfl) rfl
theorem q1816 : (Jvm.Cond.methodLink "SecretVault$Reader" (51 : Nat) ({ cls := "java/util/ArrayList", name := "<init>", desc := "()V" } : Jvm.MethodName)) ∈ lw_all := lw_g (lw_at lw_m8 70 rfl) rfl
theorem q1817 : (Jvm.Cond.methodLink "SecretVault$Reader" (52 : Nat) ({ cls := "SecretVault$Reader", name := "all", desc := "()LSecretVault$Policy;" } : Jvm.MethodName)) ∈ lw_all := lw_g (lw_at lw_m8 71 rfl) rfl
theorem q1818 : (Jvm.Cond.privateMethod ({ cls := "SecretVault$Reader", name := "all", desc := "()LSecretVault$Policy;" } : Jvm.MethodName)) ∈ lw_tbl := lw_at lw_m8 72 rfl
theorem q1819 : (Jvm.Cond.instanceMethod ({ cls := "SecretVault$Reader", name := "all", desc := "()LSecretVault$Policy;" } : Jvm.MethodName)) ∈ lw_all := lw_g (lw_at lw_m8 73 rfl) rfl
theorem q1820 : (Jvm.Cond.code ({ cls := "SecretVault$Reader", name := "all", desc := "()LSecretVault$Policy;" } : Jvm.MethodName) prog_11_method_9_code (2 : Nat) (Option.some (Jvm.ClassFile.FieldType.object "SecretVault$Policy"))) ∈ lw_all := lw_g (lw_at lw_m8 74 rfl) rfl
theorem q1821 : (Jvm.Cond.methodLink "SecretVault$Reader" (75 : Nat) ({ cls := "SecretVault$Reader", name := "part", desc := "()LSecretVault$Policy;" } : Jvm.MethodName)) ∈ lw_all := lw_g (lw_at lw_m8 75 rfl) rfl
theorem q1822 : (Jvm.Cond.privateMethod ({ cls := "SecretVault$Reader", name := "part", desc := "()LSecretVault$Policy;" } : Jvm.MethodName)) ∈ lw_tbl := lw_at lw_m8 76 rfl
theorem q1823 : (Jvm.Cond.instanceMethod ({ cls := "SecretVault$Reader", name := "part", desc := "()LSecretVault$Policy;" } : Jvm.MethodName)) ∈ lw_all := lw_g (lw_at lw_m8 77 rfl) rfl
theorem q1824 : (Jvm.Cond.code ({ cls := "SecretVault$Reader", name := "part", desc := "()LSecretVault$Policy;" } : Jvm.MethodName) prog_11_method_10_code (2 : Nat) (Option.some (Jvm.ClassFile.FieldType.object "SecretVault$Policy"))) ∈ lw_all := lw_g (lw_at lw_m8 78 rfl) rfl
theorem q1825 : (Jvm.Cond.methodLink "SecretVault$Reader" (85 : Nat) ({ cls := "SecretVault$Reader", name := "after", desc := "()I" } : Jvm.MethodName)) ∈ lw_all := lw_g (lw_at lw_m8 79 rfl) rfl
theorem q1826 : (Jvm.Cond.privateMethod ({ cls := "SecretVault$Reader", name := "after", desc := "()I" } : Jvm.MethodName)) ∈ lw_tbl := lw_at lw_m8 80 rfl
theorem q1827 : (Jvm.Cond.instanceMethod ({ cls := "SecretVault$Reader", name := "after", desc := "()I" } : Jvm.MethodName)) ∈ lw_all := lw_g (lw_at lw_m8 81 rfl) rfl
theorem q1828 : (Jvm.Cond.code ({ cls := "SecretVault$Reader", name := "after", desc := "()I" } : Jvm.MethodName) prog_11_method_3_code (1 : Nat) (Option.some Jvm.ClassFile.FieldType.int)) ∈ lw_all := lw_g (lw_at lw_m8 82 rfl) rfl
theorem q1829 : (Jvm.Cond.methodLink "SecretVault$Reader" (88 : Nat) ({ cls := "SecretVault$Reader", name := "some", desc := "()LSecretVault$Policy;" } : Jvm.MethodName)) ∈ lw_all := lw_g (lw_at lw_m8 83 rfl) rfl
theorem q1830 : (Jvm.Cond.privateMethod ({ cls := "SecretVault$Reader", name := "some", desc := "()LSecretVault$Policy;" } : Jvm.MethodName)) ∈ lw_tbl := lw_at lw_m8 84 rfl
theorem q1831 : (Jvm.Cond.instanceMethod ({ cls := "SecretVault$Reader", name := "some", desc := "()LSecretVault$Policy;" } : Jvm.MethodName)) ∈ lw_all := lw_g (lw_at lw_m8 85 rfl) rfl
theorem q1832 : (Jvm.Cond.code ({ cls := "SecretVault$Reader", name := "some", desc := "()LSecretVault$Policy;" } : Jvm.MethodName) prog_11_method_11_code (3 : Nat) (Option.some (Jvm.ClassFile.FieldType.object "SecretVault$Policy"))) ∈ lw_all := lw_g (lw_at lw_m8 86 rfl) rfl
theorem q1833 : (Jvm.Cond.interfaceEntry "SecretVault$Reader" (55 : Nat)) ∈ lw_tbl := lw_at lw_m8 87 rfl
theorem q1834 : (Jvm.Cond.methodLink "SecretVault$Reader" (55 : Nat) ({ cls := "java/util/List", name := "add", desc := "(Ljava/lang/Object;)Z" } : Jvm.MethodName)) ∈ lw_all := lw_g (lw_at lw_m8 88 rfl) rfl
theorem q1835 : (Jvm.Cond.classLink "SecretVault$Reader" (98 : Nat) "SecretVault$Some") ∈ lw_all := lw_g (lw_at lw_m8 89 rfl) rfl
theorem q1837 : (Jvm.Cond.methodLink "SecretVault$Reader" (100 : Nat) ({ cls := "SecretVault$Some", name := "<init>", desc := "(ILjava/util/List;)V" } : Jvm.MethodName)) ∈ lw_all := lw_g (lw_at lw_m8 91 rfl) rfl
theorem q1850 : (Jvm.Cond.classLink "SecretVault$Reader" (91 : Nat) "SecretVault$One") ∈ lw_all := lw_g (lw_at lw_m8 104 rfl) rfl
theorem q1852 : (Jvm.Cond.methodLink "SecretVault$Reader" (97 : Nat) ({ cls := "SecretVault$One", name := "<init>", desc := "(I)V" } : Jvm.MethodName)) ∈ lw_all := lw_g (lw_at lw_m8 106 rfl) rfl
theorem q1861 : (Jvm.Cond.interfaceEntry "SecretVault$Reader" (61 : Nat)) ∈ lw_tbl := lw_at lw_m8 115 rfl
theorem q1862 : (Jvm.Cond.methodLink "SecretVault$Reader" (61 : Nat) ({ cls := "java/util/List", name := "size", desc := "()I" } : Jvm.MethodName)) ∈ lw_all := lw_g (lw_at lw_m8 116 rfl) rfl
theorem q1863 : (Jvm.Cond.interfaceEntry "SecretVault$Reader" (64 : Nat)) ∈ lw_tbl := lw_at lw_m8 117 rfl
theorem q1864 : (Jvm.Cond.methodLink "SecretVault$Reader" (64 : Nat) ({ cls := "java/util/List", name := "get", desc := "(I)Ljava/lang/Object;" } : Jvm.MethodName)) ∈ lw_all := lw_g (lw_at lw_m8 118 rfl) rfl
theorem q1865 : (Jvm.Cond.classLink "SecretVault$Reader" (68 : Nat) "SecretVault$Policy") ∈ lw_all := lw_g (lw_at lw_m8 119 rfl) rfl
theorem q1866 : (Jvm.Cond.classLink "SecretVault$Reader" (78 : Nat) "SecretVault$All") ∈ lw_all := lw_g (lw_at lw_m8 120 rfl) rfl
theorem q1868 : (Jvm.Cond.methodLink "SecretVault$Reader" (80 : Nat) ({ cls := "SecretVault$All", name := "<init>", desc := "(Ljava/util/List;)V" } : Jvm.MethodName)) ∈ lw_all := lw_g (lw_at lw_m8 122 rfl) rfl
theorem q1877 : (Jvm.Cond.classLink "SecretVault$Reader" (70 : Nat) "SecretVault$Any") ∈ lw_all := lw_g (lw_at lw_m8 131 rfl) rfl
theorem q1879 : (Jvm.Cond.methodLink "SecretVault$Reader" (72 : Nat) ({ cls := "SecretVault$Any", name := "<init>", desc := "(Ljava/util/List;)V" } : Jvm.MethodName)) ∈ lw_all := lw_g (lw_at lw_m8 133 rfl) rfl
theorem q2590 : (Jvm.Cond.castable "SecretVault$Reader" "java/lang/Object") ∈ lw_tbl := lw_at lw_m11 124 rfl
theorem in_X16 : ∀ w ∈ wsX160, w ∈ lw_all := lw_in wsX160 [1625, 1627] (by decide +kernel) (by decide +kernel)

/-! SecretVault$TextError -/
set_option maxRecDepth 100000
def RX17 : String := "SecretVault$TextError"
def TX17 : u_T := fun k => match k with
  | 0 => ("java/lang/Throwable", "cause", "Ljava/lang/Throwable;", false)
  | 1 => ("java/lang/Throwable", "stackTrace", "[Ljava/lang/StackTraceElement;", false)
  | 2 => ("java/lang/Throwable", "suppressedExceptions", "Ljava/util/List;", false)
  | 3 => ("java/lang/Throwable", "detailMessage", "Ljava/lang/String;", false)
  | 4 => ("java/lang/Throwable", "backtrace", "Ljava/lang/Object;", false)
  | 5 => ("java/lang/Throwable", "depth", "I", false)
  | _ => ("SecretVault$TextError", "position", "I", true)
def tyX17 : Nat → FieldType := fun k => match k with
  | 0 => .object "java/lang/Throwable"
  | 1 => .array (.object "java/lang/StackTraceElement")
  | 2 => .object "java/util/List"
  | 3 => .object "java/lang/String"
  | 4 => .object "java/lang/Object"
  | 5 => .int
  | _ => .int
abbrev wsX170 : List Cond := u_ws RX17 TX17 7
theorem nmX17 : ∀ a, a < 7 → ∀ b, b < 7 → a ≠ b → (TX17 a).2.1 ≠ (TX17 b).2.1 := by decide +kernel
theorem tyX17_ok : ∀ k, k < 7 → parseFieldDescriptor (TX17 k).2.2.1 = some (tyX17 k) := by decide +kernel
abbrev cX17_init : ByteArray := prog_21_method_1_code
def yX17_init : MethodName := ⟨RX17, "<init>", "(I)V"⟩
def dkwX17_init_0 : List UInt8 := [42, 183, 0, 1, 42, 27, 181, 0, 7, 177]
abbrev dktX17_init_0 : List UInt8 := dkwX17_init_0 ++ []
theorem dksX17_init_0 : cX17_init.data.toList.drop 0 = dktX17_init_0 := by decide +kernel
theorem dX17_init_0 : decode cX17_init 0 = .ok (.aload_n 0, 1) := dk_42 (dk_at dksX17_init_0 0 rfl rfl)
theorem dX17_init_1 : decode cX17_init 1 = .ok (.invokespecial 1, 3) := dk_183 0 1 (dk_at dksX17_init_0 1 rfl rfl)
theorem dX17_init_4 : decode cX17_init 4 = .ok (.aload_n 0, 1) := dk_42 (dk_at dksX17_init_0 4 rfl rfl)
theorem dX17_init_5 : decode cX17_init 5 = .ok (.iload_n 1, 1) := dk_27 (dk_at dksX17_init_0 5 rfl rfl)
theorem dX17_init_6 : decode cX17_init 6 = .ok (.putfield 7, 3) := dk_181 0 7 (dk_at dksX17_init_0 6 rfl rfl)
theorem dX17_init_9 : decode cX17_init 9 = .ok (.return_, 1) := dk_177 (dk_at dksX17_init_0 9 rfl rfl)
theorem q113 : (Jvm.Cond.initialized "SecretVault$TextError") ∈ lw_all := lw_g (lw_at lw_m1 47 rfl) rfl
theorem q457 : (Jvm.Cond.selects "SecretVault$TextError" ({ cls := "java/lang/Throwable", name := "fillInStackTrace", desc := "()Ljava/lang/Throwable;" } : Jvm.MethodName) ({ cls := "java/lang/Throwable", name := "fillInStackTrace", desc := "()Ljava/lang/Throwable;" } : Jvm.MethodName)) ∈ lw_all := lw_g (lw_at lw_m2 151 rfl) rfl
theorem q620 : (Jvm.Cond.selects "SecretVault$TextError" ({ cls := "java/lang/Throwable", name := "getCause", desc := "()Ljava/lang/Throwable;" } : Jvm.MethodName) ({ cls := "java/lang/Throwable", name := "getCause", desc := "()Ljava/lang/Throwable;" } : Jvm.MethodName)) ∈ lw_all := lw_g (lw_at lw_m3 74 rfl) rfl
theorem q873 : (Jvm.Cond.selects "SecretVault$TextError" ({ cls := "java/lang/Object", name := "getClass", desc := "()Ljava/lang/Class;" } : Jvm.MethodName) ({ cls := "java/lang/Object", name := "getClass", desc := "()Ljava/lang/Class;" } : Jvm.MethodName)) ∈ lw_all := lw_g (lw_at lw_m4 87 rfl) rfl
theorem q1668 : (Jvm.Cond.instantiable "SecretVault$TextError" (7 : Nat)) ∈ lw_all := lw_g (lw_at lw_m7 162 rfl) rfl
theorem q1669 : (Jvm.Cond.castable "SecretVault$TextError" "SecretVault$TextError") ∈ lw_tbl := lw_at lw_m7 163 rfl
theorem q1670 : (Jvm.Cond.selects "SecretVault$TextError" ({ cls := "java/lang/Throwable", name := "fillInStackTrace", desc := "(I)Ljava/lang/Throwable;" } : Jvm.MethodName) ({ cls := "java/lang/Throwable", name := "fillInStackTrace", desc := "(I)Ljava/lang/Throwable;" } : Jvm.MethodName)) ∈ lw_all := lw_g (lw_at lw_m7 164 rfl) rfl
theorem q1671 : (Jvm.Cond.lays "SecretVault$TextError" "java/lang/Throwable" "cause" "Ljava/lang/Throwable;") ∈ lw_all := lw_g (lw_at lw_m7 165 rfl) rfl
theorem q1672 : (Jvm.Cond.lays "SecretVault$TextError" "java/lang/Throwable" "stackTrace" "[Ljava/lang/StackTraceElement;") ∈ lw_all := lw_g (lw_at lw_m7 166 rfl) rfl
theorem q1673 : (Jvm.Cond.lays "SecretVault$TextError" "java/lang/Throwable" "suppressedExceptions" "Ljava/util/List;") ∈ lw_all := lw_g (lw_at lw_m7 167 rfl) rfl
theorem q1674 : (Jvm.Cond.lays "SecretVault$TextError" "java/lang/Throwable" "detailMessage" "Ljava/lang/String;") ∈ lw_all := lw_g (lw_at lw_m7 168 rfl) rfl
theorem q1675 : (Jvm.Cond.lays "SecretVault$TextError" "java/lang/Throwable" "backtrace" "Ljava/lang/Object;") ∈ lw_all := lw_g (lw_at lw_m7 169 rfl) rfl
theorem q1677 : (Jvm.Cond.instanceMethod ({ cls := "SecretVault$TextError", name := "<init>", desc := "(I)V" } : Jvm.MethodName)) ∈ lw_all := lw_g (lw_at lw_m7 171 rfl) rfl
theorem q1678 : (Jvm.Cond.code ({ cls := "SecretVault$TextError", name := "<init>", desc := "(I)V" } : Jvm.MethodName) prog_21_method_1_code (2 : Nat) (Option.none : Option Jvm.ClassFile.FieldType)) ∈ lw_all := lw_g (lw_at lw_m7 172 rfl) rfl
theorem q1679 : (Jvm.Cond.methodLink "SecretVault$TextError" (1 : Nat) ({ cls := "java/lang/Exception", name := "<init>", desc := "()V" } : Jvm.MethodName)) ∈ lw_all := lw_g (lw_at lw_m7 173 rfl) rfl
theorem q1680 : (Jvm.Cond.fieldLink "SecretVault$TextError" (7 : Nat) "SecretVault$TextError" "position" "I") ∈ lw_all := lw_g (lw_at lw_m7 174 rfl) rfl
theorem q1682 : (Jvm.Cond.laysFinal "SecretVault$TextError" "SecretVault$TextError" "position" "I") ∈ lw_all := lw_g (lw_at lw_m7 176 rfl) rfl
theorem q1683 : (Jvm.Cond.soleField "SecretVault$TextError" "position") ∈ lw_all := lw_g (lw_at lw_m7 177 rfl) rfl
theorem q1684 : (Jvm.Cond.lays "SecretVault$TextError" "java/lang/Throwable" "depth" "I") ∈ lw_all := lw_g (lw_at lw_m7 178 rfl) rfl
theorem q1685 : (Jvm.Cond.superclass "SecretVault$TextError" "java/lang/Exception") ∈ lw_all := lw_g (lw_at lw_m7 179 rfl) rfl
theorem q2591 : (Jvm.Cond.castable "SecretVault$TextError" "java/lang/Object") ∈ lw_tbl := lw_at lw_m11 125 rfl
theorem in_X17 : ∀ w ∈ wsX170, w ∈ lw_all := lw_in wsX170 [1671, 1672, 1673, 1674, 1675, 1684, 1682] (by decide +kernel) (by decide +kernel)

/-! SecretVault$Some -/
set_option maxRecDepth 100000
def RX18 : String := "SecretVault$Some"
def TX18 : u_T := fun k => match k with
  | 0 => ("SecretVault$Some", "count", "I", true)
  | _ => ("SecretVault$Some", "parts", "Ljava/util/List;", true)
def tyX18 : Nat → FieldType := fun k => match k with
  | 0 => .int
  | _ => .object "java/util/List"
abbrev wsX180 : List Cond := u_ws RX18 TX18 2
theorem nmX18 : ∀ a, a < 2 → ∀ b, b < 2 → a ≠ b → (TX18 a).2.1 ≠ (TX18 b).2.1 := by decide +kernel
theorem tyX18_ok : ∀ k, k < 2 → parseFieldDescriptor (TX18 k).2.2.1 = some (tyX18 k) := by decide +kernel
abbrev cX18_isFulfilled : ByteArray := prog_15_method_2_code
def yX18_isFulfilled : MethodName := ⟨RX18, "isFulfilled", "(I)Z"⟩
def dkwX18_isFulfilled_0 : List UInt8 := [42, 180, 0, 13, 27, 184, 0, 17, 42, 180, 0, 7, 161, 0, 7, 4, 167, 0, 4, 3, 172]
abbrev dktX18_isFulfilled_0 : List UInt8 := dkwX18_isFulfilled_0 ++ []
theorem dksX18_isFulfilled_0 : cX18_isFulfilled.data.toList.drop 0 = dktX18_isFulfilled_0 := by decide +kernel
theorem dX18_isFulfilled_0 : decode cX18_isFulfilled 0 = .ok (.aload_n 0, 1) := dk_42 (dk_at dksX18_isFulfilled_0 0 rfl rfl)
theorem dX18_isFulfilled_1 : decode cX18_isFulfilled 1 = .ok (.getfield 13, 3) := dk_180 0 13 (dk_at dksX18_isFulfilled_0 1 rfl rfl)
theorem dX18_isFulfilled_4 : decode cX18_isFulfilled 4 = .ok (.iload_n 1, 1) := dk_27 (dk_at dksX18_isFulfilled_0 4 rfl rfl)
theorem dX18_isFulfilled_5 : decode cX18_isFulfilled 5 = .ok (.invokestatic 17, 3) := dk_184 0 17 (dk_at dksX18_isFulfilled_0 5 rfl rfl)
theorem dX18_isFulfilled_8 : decode cX18_isFulfilled 8 = .ok (.aload_n 0, 1) := dk_42 (dk_at dksX18_isFulfilled_0 8 rfl rfl)
theorem dX18_isFulfilled_9 : decode cX18_isFulfilled 9 = .ok (.getfield 7, 3) := dk_180 0 7 (dk_at dksX18_isFulfilled_0 9 rfl rfl)
theorem dX18_isFulfilled_12 : decode cX18_isFulfilled 12 = .ok (.if_icmp .lt 7, 3) := dk_161 0 7 (dk_at dksX18_isFulfilled_0 12 rfl rfl)
theorem dX18_isFulfilled_15 : decode cX18_isFulfilled 15 = .ok (.iconst 1, 1) := dk_4 (dk_at dksX18_isFulfilled_0 15 rfl rfl)
theorem dX18_isFulfilled_16 : decode cX18_isFulfilled 16 = .ok (.goto 4, 3) := dk_167 0 4 (dk_at dksX18_isFulfilled_0 16 rfl rfl)
theorem dX18_isFulfilled_19 : decode cX18_isFulfilled 19 = .ok (.iconst 0, 1) := dk_3 (dk_at dksX18_isFulfilled_0 19 rfl rfl)
theorem dX18_isFulfilled_20 : decode cX18_isFulfilled 20 = .ok (.ireturn, 1) := dk_172 (dk_at dksX18_isFulfilled_0 20 rfl rfl)
abbrev cX18_init : ByteArray := prog_15_method_1_code
def yX18_init : MethodName := ⟨RX18, "<init>", "(ILjava/util/List;)V"⟩
def dkwX18_init_0 : List UInt8 := [42, 183, 0, 1, 42, 27, 181, 0, 7, 42, 44, 181, 0, 13, 177]
abbrev dktX18_init_0 : List UInt8 := dkwX18_init_0 ++ []
theorem dksX18_init_0 : cX18_init.data.toList.drop 0 = dktX18_init_0 := by decide +kernel
theorem dX18_init_0 : decode cX18_init 0 = .ok (.aload_n 0, 1) := dk_42 (dk_at dksX18_init_0 0 rfl rfl)
theorem dX18_init_1 : decode cX18_init 1 = .ok (.invokespecial 1, 3) := dk_183 0 1 (dk_at dksX18_init_0 1 rfl rfl)
theorem dX18_init_4 : decode cX18_init 4 = .ok (.aload_n 0, 1) := dk_42 (dk_at dksX18_init_0 4 rfl rfl)
theorem dX18_init_5 : decode cX18_init 5 = .ok (.iload_n 1, 1) := dk_27 (dk_at dksX18_init_0 5 rfl rfl)
theorem dX18_init_6 : decode cX18_init 6 = .ok (.putfield 7, 3) := dk_181 0 7 (dk_at dksX18_init_0 6 rfl rfl)
theorem dX18_init_9 : decode cX18_init 9 = .ok (.aload_n 0, 1) := dk_42 (dk_at dksX18_init_0 9 rfl rfl)
theorem dX18_init_10 : decode cX18_init 10 = .ok (.aload_n 2, 1) := dk_44 (dk_at dksX18_init_0 10 rfl rfl)
theorem dX18_init_11 : decode cX18_init 11 = .ok (.putfield 13, 3) := dk_181 0 13 (dk_at dksX18_init_0 11 rfl rfl)
theorem dX18_init_14 : decode cX18_init 14 = .ok (.return_, 1) := dk_177 (dk_at dksX18_init_0 14 rfl rfl)
abbrev cX18_members : ByteArray := prog_15_method_3_code
def yX18_members : MethodName := ⟨RX18, "members", "()I"⟩
def dkwX18_members_0 : List UInt8 := [42, 180, 0, 13, 184, 0, 23, 172]
abbrev dktX18_members_0 : List UInt8 := dkwX18_members_0 ++ []
theorem dksX18_members_0 : cX18_members.data.toList.drop 0 = dktX18_members_0 := by decide +kernel
theorem dX18_members_0 : decode cX18_members 0 = .ok (.aload_n 0, 1) := dk_42 (dk_at dksX18_members_0 0 rfl rfl)
theorem dX18_members_1 : decode cX18_members 1 = .ok (.getfield 13, 3) := dk_180 0 13 (dk_at dksX18_members_0 1 rfl rfl)
theorem dX18_members_4 : decode cX18_members 4 = .ok (.invokestatic 23, 3) := dk_184 0 23 (dk_at dksX18_members_0 4 rfl rfl)
theorem dX18_members_7 : decode cX18_members 7 = .ok (.ireturn, 1) := dk_172 (dk_at dksX18_members_0 7 rfl rfl)
theorem q114 : (Jvm.Cond.initialized "SecretVault$Some") ∈ lw_all := lw_g (lw_at lw_m1 48 rfl) rfl
theorem q868 : (Jvm.Cond.selects "SecretVault$Some" ({ cls := "java/lang/Object", name := "getClass", desc := "()Ljava/lang/Class;" } : Jvm.MethodName) ({ cls := "java/lang/Object", name := "getClass", desc := "()Ljava/lang/Class;" } : Jvm.MethodName)) ∈ lw_all := lw_g (lw_at lw_m4 82 rfl) rfl
theorem q1247 : (Jvm.Cond.castable "SecretVault$Some" "SecretVault$Policy") ∈ lw_tbl := lw_at lw_m5 221 rfl
theorem q1248 : (Jvm.Cond.selects "SecretVault$Some" ({ cls := "SecretVault$Policy", name := "isFulfilled", desc := "(I)Z" } : Jvm.MethodName) ({ cls := "SecretVault$Some", name := "isFulfilled", desc := "(I)Z" } : Jvm.MethodName)) ∈ lw_all := lw_g (lw_at lw_m5 222 rfl) rfl
theorem q1249 : (Jvm.Cond.unhidden "SecretVault$Some" "isFulfilled" "(I)Z") ∈ lw_tbl := lw_at lw_m5 223 rfl
theorem q1250 : (Jvm.Cond.instanceMethod ({ cls := "SecretVault$Some", name := "isFulfilled", desc := "(I)Z" } : Jvm.MethodName)) ∈ lw_all := lw_g (lw_at lw_m5 224 rfl) rfl
theorem q1251 : (Jvm.Cond.publicMethod ({ cls := "SecretVault$Some", name := "isFulfilled", desc := "(I)Z" } : Jvm.MethodName)) ∈ lw_tbl := lw_at lw_m5 225 rfl
theorem q1252 : (Jvm.Cond.code ({ cls := "SecretVault$Some", name := "isFulfilled", desc := "(I)Z" } : Jvm.MethodName) prog_15_method_2_code (2 : Nat) (Option.some Jvm.ClassFile.FieldType.boolean)) ∈ lw_all := lw_g (lw_at lw_m5 226 rfl) rfl
theorem q1253 : (Jvm.Cond.methodLinkNest "SecretVault$Some" (17 : Nat) ({ cls := "SecretVault", name := "fulfilledOf", desc := "(Ljava/util/List;I)I" } : Jvm.MethodName) "SecretVault") ∈ lw_tbl := lw_at lw_m5 227 rfl
theorem q1836 : (Jvm.Cond.instantiable "SecretVault$Some" (2 : Nat)) ∈ lw_all := lw_g (lw_at lw_m8 90 rfl) rfl
theorem q1838 : (Jvm.Cond.instanceMethod ({ cls := "SecretVault$Some", name := "<init>", desc := "(ILjava/util/List;)V" } : Jvm.MethodName)) ∈ lw_all := lw_g (lw_at lw_m8 92 rfl) rfl
theorem q1839 : (Jvm.Cond.code ({ cls := "SecretVault$Some", name := "<init>", desc := "(ILjava/util/List;)V" } : Jvm.MethodName) prog_15_method_1_code (3 : Nat) (Option.none : Option Jvm.ClassFile.FieldType)) ∈ lw_all := lw_g (lw_at lw_m8 93 rfl) rfl
theorem q1840 : (Jvm.Cond.methodLink "SecretVault$Some" (1 : Nat) ({ cls := "java/lang/Object", name := "<init>", desc := "()V" } : Jvm.MethodName)) ∈ lw_all := lw_g (lw_at lw_m8 94 rfl) rfl
theorem q1841 : (Jvm.Cond.fieldLink "SecretVault$Some" (7 : Nat) "SecretVault$Some" "count" "I") ∈ lw_all := lw_g (lw_at lw_m8 95 rfl) rfl
theorem q1843 : (Jvm.Cond.fieldLink "SecretVault$Some" (13 : Nat) "SecretVault$Some" "parts" "Ljava/util/List;") ∈ lw_all := lw_g (lw_at lw_m8 97 rfl) rfl
theorem q1845 : (Jvm.Cond.laysFinal "SecretVault$Some" "SecretVault$Some" "count" "I") ∈ lw_all := lw_g (lw_at lw_m8 99 rfl) rfl
theorem q1846 : (Jvm.Cond.soleField "SecretVault$Some" "count") ∈ lw_all := lw_g (lw_at lw_m8 100 rfl) rfl
theorem q1847 : (Jvm.Cond.laysFinal "SecretVault$Some" "SecretVault$Some" "parts" "Ljava/util/List;") ∈ lw_all := lw_g (lw_at lw_m8 101 rfl) rfl
theorem q1848 : (Jvm.Cond.soleField "SecretVault$Some" "parts") ∈ lw_all := lw_g (lw_at lw_m8 102 rfl) rfl
theorem q1849 : (Jvm.Cond.superclass "SecretVault$Some" "java/lang/Object") ∈ lw_all := lw_g (lw_at lw_m8 103 rfl) rfl
theorem q1962 : (Jvm.Cond.selects "SecretVault$Some" ({ cls := "SecretVault$Policy", name := "members", desc := "()I" } : Jvm.MethodName) ({ cls := "SecretVault$Some", name := "members", desc := "()I" } : Jvm.MethodName)) ∈ lw_all := lw_g (lw_at lw_m8 216 rfl) rfl
theorem q1963 : (Jvm.Cond.unhidden "SecretVault$Some" "members" "()I") ∈ lw_tbl := lw_at lw_m8 217 rfl
theorem q1964 : (Jvm.Cond.instanceMethod ({ cls := "SecretVault$Some", name := "members", desc := "()I" } : Jvm.MethodName)) ∈ lw_all := lw_g (lw_at lw_m8 218 rfl) rfl
theorem q1965 : (Jvm.Cond.publicMethod ({ cls := "SecretVault$Some", name := "members", desc := "()I" } : Jvm.MethodName)) ∈ lw_tbl := lw_at lw_m8 219 rfl
theorem q1966 : (Jvm.Cond.code ({ cls := "SecretVault$Some", name := "members", desc := "()I" } : Jvm.MethodName) prog_15_method_3_code (1 : Nat) (Option.some Jvm.ClassFile.FieldType.int)) ∈ lw_all := lw_g (lw_at lw_m8 220 rfl) rfl
theorem q1967 : (Jvm.Cond.methodLinkNest "SecretVault$Some" (23 : Nat) ({ cls := "SecretVault", name := "membersOf", desc := "(Ljava/util/List;)I" } : Jvm.MethodName) "SecretVault") ∈ lw_tbl := lw_at lw_m8 221 rfl
theorem q2592 : (Jvm.Cond.castable "SecretVault$Some" "java/lang/Object") ∈ lw_tbl := lw_at lw_m11 126 rfl
theorem in_X18 : ∀ w ∈ wsX180, w ∈ lw_all := lw_in wsX180 [1845, 1847] (by decide +kernel) (by decide +kernel)

/-! SecretVault$One -/
set_option maxRecDepth 100000
def RX19 : String := "SecretVault$One"
def TX19 : u_T := fun k => match k with
  | _ => ("SecretVault$One", "member", "I", true)
def tyX19 : Nat → FieldType := fun k => match k with
  | _ => .int
abbrev wsX190 : List Cond := u_ws RX19 TX19 1
theorem nmX19 : ∀ a, a < 1 → ∀ b, b < 1 → a ≠ b → (TX19 a).2.1 ≠ (TX19 b).2.1 := by decide +kernel
theorem tyX19_ok : ∀ k, k < 1 → parseFieldDescriptor (TX19 k).2.2.1 = some (tyX19 k) := by decide +kernel
abbrev cX19_isFulfilled : ByteArray := prog_8_method_2_code
def yX19_isFulfilled : MethodName := ⟨RX19, "isFulfilled", "(I)Z"⟩
def dkwX19_isFulfilled_0 : List UInt8 := [27, 42, 180, 0, 7, 122, 4, 126, 4, 160, 0, 7, 4, 167, 0, 4, 3, 172]
abbrev dktX19_isFulfilled_0 : List UInt8 := dkwX19_isFulfilled_0 ++ []
theorem dksX19_isFulfilled_0 : cX19_isFulfilled.data.toList.drop 0 = dktX19_isFulfilled_0 := by decide +kernel
theorem dX19_isFulfilled_0 : decode cX19_isFulfilled 0 = .ok (.iload_n 1, 1) := dk_27 (dk_at dksX19_isFulfilled_0 0 rfl rfl)
theorem dX19_isFulfilled_1 : decode cX19_isFulfilled 1 = .ok (.aload_n 0, 1) := dk_42 (dk_at dksX19_isFulfilled_0 1 rfl rfl)
theorem dX19_isFulfilled_2 : decode cX19_isFulfilled 2 = .ok (.getfield 7, 3) := dk_180 0 7 (dk_at dksX19_isFulfilled_0 2 rfl rfl)
theorem dX19_isFulfilled_5 : decode cX19_isFulfilled 5 = .ok (.ishr, 1) := dk_122 (dk_at dksX19_isFulfilled_0 5 rfl rfl)
theorem dX19_isFulfilled_6 : decode cX19_isFulfilled 6 = .ok (.iconst 1, 1) := dk_4 (dk_at dksX19_isFulfilled_0 6 rfl rfl)
theorem dX19_isFulfilled_7 : decode cX19_isFulfilled 7 = .ok (.iand, 1) := dk_126 (dk_at dksX19_isFulfilled_0 7 rfl rfl)
theorem dX19_isFulfilled_8 : decode cX19_isFulfilled 8 = .ok (.iconst 1, 1) := dk_4 (dk_at dksX19_isFulfilled_0 8 rfl rfl)
theorem dX19_isFulfilled_9 : decode cX19_isFulfilled 9 = .ok (.if_icmp .ne 7, 3) := dk_160 0 7 (dk_at dksX19_isFulfilled_0 9 rfl rfl)
theorem dX19_isFulfilled_12 : decode cX19_isFulfilled 12 = .ok (.iconst 1, 1) := dk_4 (dk_at dksX19_isFulfilled_0 12 rfl rfl)
theorem dX19_isFulfilled_13 : decode cX19_isFulfilled 13 = .ok (.goto 4, 3) := dk_167 0 4 (dk_at dksX19_isFulfilled_0 13 rfl rfl)
theorem dX19_isFulfilled_16 : decode cX19_isFulfilled 16 = .ok (.iconst 0, 1) := dk_3 (dk_at dksX19_isFulfilled_0 16 rfl rfl)
theorem dX19_isFulfilled_17 : decode cX19_isFulfilled 17 = .ok (.ireturn, 1) := dk_172 (dk_at dksX19_isFulfilled_0 17 rfl rfl)
abbrev cX19_init : ByteArray := prog_8_method_1_code
def yX19_init : MethodName := ⟨RX19, "<init>", "(I)V"⟩
def dkwX19_init_0 : List UInt8 := [42, 183, 0, 1, 42, 27, 181, 0, 7, 177]
abbrev dktX19_init_0 : List UInt8 := dkwX19_init_0 ++ []
theorem dksX19_init_0 : cX19_init.data.toList.drop 0 = dktX19_init_0 := by decide +kernel
theorem dX19_init_0 : decode cX19_init 0 = .ok (.aload_n 0, 1) := dk_42 (dk_at dksX19_init_0 0 rfl rfl)
theorem dX19_init_1 : decode cX19_init 1 = .ok (.invokespecial 1, 3) := dk_183 0 1 (dk_at dksX19_init_0 1 rfl rfl)
theorem dX19_init_4 : decode cX19_init 4 = .ok (.aload_n 0, 1) := dk_42 (dk_at dksX19_init_0 4 rfl rfl)
theorem dX19_init_5 : decode cX19_init 5 = .ok (.iload_n 1, 1) := dk_27 (dk_at dksX19_init_0 5 rfl rfl)
theorem dX19_init_6 : decode cX19_init 6 = .ok (.putfield 7, 3) := dk_181 0 7 (dk_at dksX19_init_0 6 rfl rfl)
theorem dX19_init_9 : decode cX19_init 9 = .ok (.return_, 1) := dk_177 (dk_at dksX19_init_0 9 rfl rfl)
abbrev cX19_members : ByteArray := prog_8_method_3_code
def yX19_members : MethodName := ⟨RX19, "members", "()I"⟩
def dkwX19_members_0 : List UInt8 := [4, 42, 180, 0, 7, 120, 172]
abbrev dktX19_members_0 : List UInt8 := dkwX19_members_0 ++ []
theorem dksX19_members_0 : cX19_members.data.toList.drop 0 = dktX19_members_0 := by decide +kernel
theorem dX19_members_0 : decode cX19_members 0 = .ok (.iconst 1, 1) := dk_4 (dk_at dksX19_members_0 0 rfl rfl)
theorem dX19_members_1 : decode cX19_members 1 = .ok (.aload_n 0, 1) := dk_42 (dk_at dksX19_members_0 1 rfl rfl)
theorem dX19_members_2 : decode cX19_members 2 = .ok (.getfield 7, 3) := dk_180 0 7 (dk_at dksX19_members_0 2 rfl rfl)
theorem dX19_members_5 : decode cX19_members 5 = .ok (.ishl, 1) := dk_120 (dk_at dksX19_members_0 5 rfl rfl)
theorem dX19_members_6 : decode cX19_members 6 = .ok (.ireturn, 1) := dk_172 (dk_at dksX19_members_0 6 rfl rfl)
theorem q115 : (Jvm.Cond.initialized "SecretVault$One") ∈ lw_all := lw_g (lw_at lw_m1 49 rfl) rfl
theorem q862 : (Jvm.Cond.selects "SecretVault$One" ({ cls := "java/lang/Object", name := "getClass", desc := "()Ljava/lang/Class;" } : Jvm.MethodName) ({ cls := "java/lang/Object", name := "getClass", desc := "()Ljava/lang/Class;" } : Jvm.MethodName)) ∈ lw_all := lw_g (lw_at lw_m4 76 rfl) rfl
theorem q1241 : (Jvm.Cond.castable "SecretVault$One" "SecretVault$Policy") ∈ lw_tbl := lw_at lw_m5 215 rfl
theorem q1242 : (Jvm.Cond.selects "SecretVault$One" ({ cls := "SecretVault$Policy", name := "isFulfilled", desc := "(I)Z" } : Jvm.MethodName) ({ cls := "SecretVault$One", name := "isFulfilled", desc := "(I)Z" } : Jvm.MethodName)) ∈ lw_all := lw_g (lw_at lw_m5 216 rfl) rfl
theorem q1243 : (Jvm.Cond.unhidden "SecretVault$One" "isFulfilled" "(I)Z") ∈ lw_tbl := lw_at lw_m5 217 rfl
theorem q1244 : (Jvm.Cond.instanceMethod ({ cls := "SecretVault$One", name := "isFulfilled", desc := "(I)Z" } : Jvm.MethodName)) ∈ lw_all := lw_g (lw_at lw_m5 218 rfl) rfl
theorem q1245 : (Jvm.Cond.publicMethod ({ cls := "SecretVault$One", name := "isFulfilled", desc := "(I)Z" } : Jvm.MethodName)) ∈ lw_tbl := lw_at lw_m5 219 rfl
theorem q1246 : (Jvm.Cond.code ({ cls := "SecretVault$One", name := "isFulfilled", desc := "(I)Z" } : Jvm.MethodName) prog_8_method_2_code (2 : Nat) (Option.some Jvm.ClassFile.FieldType.boolean)) ∈ lw_all := lw_g (lw_at lw_m5 220 rfl) rfl
theorem q1851 : (Jvm.Cond.instantiable "SecretVault$One" (1 : Nat)) ∈ lw_all := lw_g (lw_at lw_m8 105 rfl) rfl
theorem q1853 : (Jvm.Cond.instanceMethod ({ cls := "SecretVault$One", name := "<init>", desc := "(I)V" } : Jvm.MethodName)) ∈ lw_all := lw_g (lw_at lw_m8 107 rfl) rfl
theorem q1854 : (Jvm.Cond.code ({ cls := "SecretVault$One", name := "<init>", desc := "(I)V" } : Jvm.MethodName) prog_8_method_1_code (2 : Nat) (Option.none : Option Jvm.ClassFile.FieldType)) ∈ lw_all := lw_g (lw_at lw_m8 108 rfl) rfl
theorem q1855 : (Jvm.Cond.methodLink "SecretVault$One" (1 : Nat) ({ cls := "java/lang/Object", name := "<init>", desc := "()V" } : Jvm.MethodName)) ∈ lw_all := lw_g (lw_at lw_m8 109 rfl) rfl
theorem q1856 : (Jvm.Cond.fieldLink "SecretVault$One" (7 : Nat) "SecretVault$One" "member" "I") ∈ lw_all := lw_g (lw_at lw_m8 110 rfl) rfl
theorem q1858 : (Jvm.Cond.laysFinal "SecretVault$One" "SecretVault$One" "member" "I") ∈ lw_all := lw_g (lw_at lw_m8 112 rfl) rfl
theorem q1859 : (Jvm.Cond.soleField "SecretVault$One" "member") ∈ lw_all := lw_g (lw_at lw_m8 113 rfl) rfl
theorem q1860 : (Jvm.Cond.superclass "SecretVault$One" "java/lang/Object") ∈ lw_all := lw_g (lw_at lw_m8 114 rfl) rfl
theorem q1957 : (Jvm.Cond.selects "SecretVault$One" ({ cls := "SecretVault$Policy", name := "members", desc := "()I" } : Jvm.MethodName) ({ cls := "SecretVault$One", name := "members", desc := "()I" } : Jvm.MethodName)) ∈ lw_all := lw_g (lw_at lw_m8 211 rfl) rfl
theorem q1958 : (Jvm.Cond.unhidden "SecretVault$One" "members" "()I") ∈ lw_tbl := lw_at lw_m8 212 rfl
theorem q1959 : (Jvm.Cond.instanceMethod ({ cls := "SecretVault$One", name := "members", desc := "()I" } : Jvm.MethodName)) ∈ lw_all := lw_g (lw_at lw_m8 213 rfl) rfl
theorem q1960 : (Jvm.Cond.publicMethod ({ cls := "SecretVault$One", name := "members", desc := "()I" } : Jvm.MethodName)) ∈ lw_tbl := lw_at lw_m8 214 rfl
theorem q1961 : (Jvm.Cond.code ({ cls := "SecretVault$One", name := "members", desc := "()I" } : Jvm.MethodName) prog_8_method_3_code (1 : Nat) (Option.some Jvm.ClassFile.FieldType.int)) ∈ lw_all := lw_g (lw_at lw_m8 215 rfl) rfl
theorem q2593 : (Jvm.Cond.castable "SecretVault$One" "java/lang/Object") ∈ lw_tbl := lw_at lw_m11 127 rfl
theorem in_X19 : ∀ w ∈ wsX190, w ∈ lw_all := lw_in wsX190 [1858] (by decide +kernel) (by decide +kernel)

/-! SecretVault$All -/
set_option maxRecDepth 100000
def RX20 : String := "SecretVault$All"
def TX20 : u_T := fun k => match k with
  | _ => ("SecretVault$All", "parts", "Ljava/util/List;", true)
def tyX20 : Nat → FieldType := fun k => match k with
  | _ => .object "java/util/List"
abbrev wsX200 : List Cond := u_ws RX20 TX20 1
theorem nmX20 : ∀ a, a < 1 → ∀ b, b < 1 → a ≠ b → (TX20 a).2.1 ≠ (TX20 b).2.1 := by decide +kernel
theorem tyX20_ok : ∀ k, k < 1 → parseFieldDescriptor (TX20 k).2.2.1 = some (tyX20 k) := by decide +kernel
abbrev cX20_isFulfilled : ByteArray := prog_2_method_2_code
def yX20_isFulfilled : MethodName := ⟨RX20, "isFulfilled", "(I)Z"⟩
def dkwX20_isFulfilled_1 : List UInt8 := [3, 172]
abbrev dktX20_isFulfilled_1 : List UInt8 := dkwX20_isFulfilled_1 ++ []
def dkwX20_isFulfilled_0 : List UInt8 := [42, 180, 0, 7, 27, 184, 0, 13, 42, 180, 0, 7, 185, 0, 19, 1, 0, 160, 0, 7, 4, 167, 0, 4]
abbrev dktX20_isFulfilled_0 : List UInt8 := dkwX20_isFulfilled_0 ++ dktX20_isFulfilled_1
theorem dksX20_isFulfilled_0 : cX20_isFulfilled.data.toList.drop 0 = dktX20_isFulfilled_0 := by decide +kernel
theorem dksX20_isFulfilled_1 : cX20_isFulfilled.data.toList.drop 24 = dktX20_isFulfilled_1 := dk_seg dksX20_isFulfilled_0 24 rfl rfl
theorem dX20_isFulfilled_0 : decode cX20_isFulfilled 0 = .ok (.aload_n 0, 1) := dk_42 (dk_at dksX20_isFulfilled_0 0 rfl rfl)
theorem dX20_isFulfilled_1 : decode cX20_isFulfilled 1 = .ok (.getfield 7, 3) := dk_180 0 7 (dk_at dksX20_isFulfilled_0 1 rfl rfl)
theorem dX20_isFulfilled_4 : decode cX20_isFulfilled 4 = .ok (.iload_n 1, 1) := dk_27 (dk_at dksX20_isFulfilled_0 4 rfl rfl)
theorem dX20_isFulfilled_5 : decode cX20_isFulfilled 5 = .ok (.invokestatic 13, 3) := dk_184 0 13 (dk_at dksX20_isFulfilled_0 5 rfl rfl)
theorem dX20_isFulfilled_8 : decode cX20_isFulfilled 8 = .ok (.aload_n 0, 1) := dk_42 (dk_at dksX20_isFulfilled_0 8 rfl rfl)
theorem dX20_isFulfilled_9 : decode cX20_isFulfilled 9 = .ok (.getfield 7, 3) := dk_180 0 7 (dk_at dksX20_isFulfilled_0 9 rfl rfl)
theorem dX20_isFulfilled_12 : decode cX20_isFulfilled 12 = .ok (.invokeinterface 19 1, 5) := by decide +kernel
theorem dX20_isFulfilled_17 : decode cX20_isFulfilled 17 = .ok (.if_icmp .ne 7, 3) := dk_160 0 7 (dk_at dksX20_isFulfilled_0 17 rfl rfl)
theorem dX20_isFulfilled_20 : decode cX20_isFulfilled 20 = .ok (.iconst 1, 1) := dk_4 (dk_at dksX20_isFulfilled_0 20 rfl rfl)
theorem dX20_isFulfilled_21 : decode cX20_isFulfilled 21 = .ok (.goto 4, 3) := dk_167 0 4 (dk_at dksX20_isFulfilled_0 21 rfl rfl)
theorem dX20_isFulfilled_24 : decode cX20_isFulfilled 24 = .ok (.iconst 0, 1) := dk_3 (dk_at dksX20_isFulfilled_1 0 rfl rfl)
theorem dX20_isFulfilled_25 : decode cX20_isFulfilled 25 = .ok (.ireturn, 1) := dk_172 (dk_at dksX20_isFulfilled_1 1 rfl rfl)
abbrev cX20_init : ByteArray := prog_2_method_1_code
def yX20_init : MethodName := ⟨RX20, "<init>", "(Ljava/util/List;)V"⟩
def dkwX20_init_0 : List UInt8 := [42, 183, 0, 1, 42, 43, 181, 0, 7, 177]
abbrev dktX20_init_0 : List UInt8 := dkwX20_init_0 ++ []
theorem dksX20_init_0 : cX20_init.data.toList.drop 0 = dktX20_init_0 := by decide +kernel
theorem dX20_init_0 : decode cX20_init 0 = .ok (.aload_n 0, 1) := dk_42 (dk_at dksX20_init_0 0 rfl rfl)
theorem dX20_init_1 : decode cX20_init 1 = .ok (.invokespecial 1, 3) := dk_183 0 1 (dk_at dksX20_init_0 1 rfl rfl)
theorem dX20_init_4 : decode cX20_init 4 = .ok (.aload_n 0, 1) := dk_42 (dk_at dksX20_init_0 4 rfl rfl)
theorem dX20_init_5 : decode cX20_init 5 = .ok (.aload_n 1, 1) := dk_43 (dk_at dksX20_init_0 5 rfl rfl)
theorem dX20_init_6 : decode cX20_init 6 = .ok (.putfield 7, 3) := dk_181 0 7 (dk_at dksX20_init_0 6 rfl rfl)
theorem dX20_init_9 : decode cX20_init 9 = .ok (.return_, 1) := dk_177 (dk_at dksX20_init_0 9 rfl rfl)
abbrev cX20_members : ByteArray := prog_2_method_3_code
def yX20_members : MethodName := ⟨RX20, "members", "()I"⟩
def dkwX20_members_0 : List UInt8 := [42, 180, 0, 7, 184, 0, 25, 172]
abbrev dktX20_members_0 : List UInt8 := dkwX20_members_0 ++ []
theorem dksX20_members_0 : cX20_members.data.toList.drop 0 = dktX20_members_0 := by decide +kernel
theorem dX20_members_0 : decode cX20_members 0 = .ok (.aload_n 0, 1) := dk_42 (dk_at dksX20_members_0 0 rfl rfl)
theorem dX20_members_1 : decode cX20_members 1 = .ok (.getfield 7, 3) := dk_180 0 7 (dk_at dksX20_members_0 1 rfl rfl)
theorem dX20_members_4 : decode cX20_members 4 = .ok (.invokestatic 25, 3) := dk_184 0 25 (dk_at dksX20_members_0 4 rfl rfl)
theorem dX20_members_7 : decode cX20_members 7 = .ok (.ireturn, 1) := dk_172 (dk_at dksX20_members_0 7 rfl rfl)
theorem q116 : (Jvm.Cond.initialized "SecretVault$All") ∈ lw_all := lw_g (lw_at lw_m1 50 rfl) rfl
theorem q858 : (Jvm.Cond.selects "SecretVault$All" ({ cls := "java/lang/Object", name := "getClass", desc := "()Ljava/lang/Class;" } : Jvm.MethodName) ({ cls := "java/lang/Object", name := "getClass", desc := "()Ljava/lang/Class;" } : Jvm.MethodName)) ∈ lw_all := lw_g (lw_at lw_m4 72 rfl) rfl
theorem q1203 : (Jvm.Cond.castable "SecretVault$All" "SecretVault$Policy") ∈ lw_tbl := lw_at lw_m5 177 rfl
theorem q1204 : (Jvm.Cond.selects "SecretVault$All" ({ cls := "SecretVault$Policy", name := "isFulfilled", desc := "(I)Z" } : Jvm.MethodName) ({ cls := "SecretVault$All", name := "isFulfilled", desc := "(I)Z" } : Jvm.MethodName)) ∈ lw_all := lw_g (lw_at lw_m5 178 rfl) rfl
theorem q1205 : (Jvm.Cond.unhidden "SecretVault$All" "isFulfilled" "(I)Z") ∈ lw_tbl := lw_at lw_m5 179 rfl
theorem q1206 : (Jvm.Cond.instanceMethod ({ cls := "SecretVault$All", name := "isFulfilled", desc := "(I)Z" } : Jvm.MethodName)) ∈ lw_all := lw_g (lw_at lw_m5 180 rfl) rfl
theorem q1207 : (Jvm.Cond.publicMethod ({ cls := "SecretVault$All", name := "isFulfilled", desc := "(I)Z" } : Jvm.MethodName)) ∈ lw_tbl := lw_at lw_m5 181 rfl
theorem q1208 : (Jvm.Cond.code ({ cls := "SecretVault$All", name := "isFulfilled", desc := "(I)Z" } : Jvm.MethodName) prog_2_method_2_code (2 : Nat) (Option.some Jvm.ClassFile.FieldType.boolean)) ∈ lw_all := lw_g (lw_at lw_m5 182 rfl) rfl
theorem q1209 : (Jvm.Cond.methodLinkNest "SecretVault$All" (13 : Nat) ({ cls := "SecretVault", name := "fulfilledOf", desc := "(Ljava/util/List;I)I" } : Jvm.MethodName) "SecretVault") ∈ lw_tbl := lw_at lw_m5 183 rfl
theorem q1254 : (Jvm.Cond.interfaceEntry "SecretVault$All" (19 : Nat)) ∈ lw_tbl := lw_at lw_m5 228 rfl
theorem q1255 : (Jvm.Cond.methodLink "SecretVault$All" (19 : Nat) ({ cls := "java/util/List", name := "size", desc := "()I" } : Jvm.MethodName)) ∈ lw_all := lw_g (lw_at lw_m5 229 rfl) rfl
theorem q1867 : (Jvm.Cond.instantiable "SecretVault$All" (1 : Nat)) ∈ lw_all := lw_g (lw_at lw_m8 121 rfl) rfl
theorem q1869 : (Jvm.Cond.instanceMethod ({ cls := "SecretVault$All", name := "<init>", desc := "(Ljava/util/List;)V" } : Jvm.MethodName)) ∈ lw_all := lw_g (lw_at lw_m8 123 rfl) rfl
theorem q1870 : (Jvm.Cond.code ({ cls := "SecretVault$All", name := "<init>", desc := "(Ljava/util/List;)V" } : Jvm.MethodName) prog_2_method_1_code (2 : Nat) (Option.none : Option Jvm.ClassFile.FieldType)) ∈ lw_all := lw_g (lw_at lw_m8 124 rfl) rfl
theorem q1871 : (Jvm.Cond.methodLink "SecretVault$All" (1 : Nat) ({ cls := "java/lang/Object", name := "<init>", desc := "()V" } : Jvm.MethodName)) ∈ lw_all := lw_g (lw_at lw_m8 125 rfl) rfl
theorem q1872 : (Jvm.Cond.fieldLink "SecretVault$All" (7 : Nat) "SecretVault$All" "parts" "Ljava/util/List;") ∈ lw_all := lw_g (lw_at lw_m8 126 rfl) rfl
theorem q1874 : (Jvm.Cond.laysFinal "SecretVault$All" "SecretVault$All" "parts" "Ljava/util/List;") ∈ lw_all := lw_g (lw_at lw_m8 128 rfl) rfl
theorem q1875 : (Jvm.Cond.soleField "SecretVault$All" "parts") ∈ lw_all := lw_g (lw_at lw_m8 129 rfl) rfl
theorem q1876 : (Jvm.Cond.superclass "SecretVault$All" "java/lang/Object") ∈ lw_all := lw_g (lw_at lw_m8 130 rfl) rfl
theorem q1943 : (Jvm.Cond.selects "SecretVault$All" ({ cls := "SecretVault$Policy", name := "members", desc := "()I" } : Jvm.MethodName) ({ cls := "SecretVault$All", name := "members", desc := "()I" } : Jvm.MethodName)) ∈ lw_all := lw_g (lw_at lw_m8 197 rfl) rfl
theorem q1944 : (Jvm.Cond.unhidden "SecretVault$All" "members" "()I") ∈ lw_tbl := lw_at lw_m8 198 rfl
theorem q1945 : (Jvm.Cond.instanceMethod ({ cls := "SecretVault$All", name := "members", desc := "()I" } : Jvm.MethodName)) ∈ lw_all := lw_g (lw_at lw_m8 199 rfl) rfl
theorem q1946 : (Jvm.Cond.publicMethod ({ cls := "SecretVault$All", name := "members", desc := "()I" } : Jvm.MethodName)) ∈ lw_tbl := lw_at lw_m8 200 rfl
theorem q1947 : (Jvm.Cond.code ({ cls := "SecretVault$All", name := "members", desc := "()I" } : Jvm.MethodName) prog_2_method_3_code (1 : Nat) (Option.some Jvm.ClassFile.FieldType.int)) ∈ lw_all := lw_g (lw_at lw_m8 201 rfl) rfl
theorem q1948 : (Jvm.Cond.methodLinkNest "SecretVault$All" (25 : Nat) ({ cls := "SecretVault", name := "membersOf", desc := "(Ljava/util/List;)I" } : Jvm.MethodName) "SecretVault") ∈ lw_tbl := lw_at lw_m8 202 rfl
theorem q2594 : (Jvm.Cond.castable "SecretVault$All" "java/lang/Object") ∈ lw_tbl := lw_at lw_m11 128 rfl
theorem in_X20 : ∀ w ∈ wsX200, w ∈ lw_all := lw_in wsX200 [1874] (by decide +kernel) (by decide +kernel)

/-! SecretVault$Any -/
set_option maxRecDepth 100000
def RX21 : String := "SecretVault$Any"
def TX21 : u_T := fun k => match k with
  | _ => ("SecretVault$Any", "parts", "Ljava/util/List;", true)
def tyX21 : Nat → FieldType := fun k => match k with
  | _ => .object "java/util/List"
abbrev wsX210 : List Cond := u_ws RX21 TX21 1
theorem nmX21 : ∀ a, a < 1 → ∀ b, b < 1 → a ≠ b → (TX21 a).2.1 ≠ (TX21 b).2.1 := by decide +kernel
theorem tyX21_ok : ∀ k, k < 1 → parseFieldDescriptor (TX21 k).2.2.1 = some (tyX21 k) := by decide +kernel
abbrev cX21_isFulfilled : ByteArray := prog_3_method_2_code
def yX21_isFulfilled : MethodName := ⟨RX21, "isFulfilled", "(I)Z"⟩
def dkwX21_isFulfilled_0 : List UInt8 := [42, 180, 0, 7, 27, 184, 0, 13, 158, 0, 7, 4, 167, 0, 4, 3, 172]
abbrev dktX21_isFulfilled_0 : List UInt8 := dkwX21_isFulfilled_0 ++ []
theorem dksX21_isFulfilled_0 : cX21_isFulfilled.data.toList.drop 0 = dktX21_isFulfilled_0 := by decide +kernel
theorem dX21_isFulfilled_0 : decode cX21_isFulfilled 0 = .ok (.aload_n 0, 1) := dk_42 (dk_at dksX21_isFulfilled_0 0 rfl rfl)
theorem dX21_isFulfilled_1 : decode cX21_isFulfilled 1 = .ok (.getfield 7, 3) := dk_180 0 7 (dk_at dksX21_isFulfilled_0 1 rfl rfl)
theorem dX21_isFulfilled_4 : decode cX21_isFulfilled 4 = .ok (.iload_n 1, 1) := dk_27 (dk_at dksX21_isFulfilled_0 4 rfl rfl)
theorem dX21_isFulfilled_5 : decode cX21_isFulfilled 5 = .ok (.invokestatic 13, 3) := dk_184 0 13 (dk_at dksX21_isFulfilled_0 5 rfl rfl)
theorem dX21_isFulfilled_8 : decode cX21_isFulfilled 8 = .ok (.ifCond .le 7, 3) := dk_158 0 7 (dk_at dksX21_isFulfilled_0 8 rfl rfl)
theorem dX21_isFulfilled_11 : decode cX21_isFulfilled 11 = .ok (.iconst 1, 1) := dk_4 (dk_at dksX21_isFulfilled_0 11 rfl rfl)
theorem dX21_isFulfilled_12 : decode cX21_isFulfilled 12 = .ok (.goto 4, 3) := dk_167 0 4 (dk_at dksX21_isFulfilled_0 12 rfl rfl)
theorem dX21_isFulfilled_15 : decode cX21_isFulfilled 15 = .ok (.iconst 0, 1) := dk_3 (dk_at dksX21_isFulfilled_0 15 rfl rfl)
theorem dX21_isFulfilled_16 : decode cX21_isFulfilled 16 = .ok (.ireturn, 1) := dk_172 (dk_at dksX21_isFulfilled_0 16 rfl rfl)
abbrev cX21_init : ByteArray := prog_3_method_1_code
def yX21_init : MethodName := ⟨RX21, "<init>", "(Ljava/util/List;)V"⟩
def dkwX21_init_0 : List UInt8 := [42, 183, 0, 1, 42, 43, 181, 0, 7, 177]
abbrev dktX21_init_0 : List UInt8 := dkwX21_init_0 ++ []
theorem dksX21_init_0 : cX21_init.data.toList.drop 0 = dktX21_init_0 := by decide +kernel
theorem dX21_init_0 : decode cX21_init 0 = .ok (.aload_n 0, 1) := dk_42 (dk_at dksX21_init_0 0 rfl rfl)
theorem dX21_init_1 : decode cX21_init 1 = .ok (.invokespecial 1, 3) := dk_183 0 1 (dk_at dksX21_init_0 1 rfl rfl)
theorem dX21_init_4 : decode cX21_init 4 = .ok (.aload_n 0, 1) := dk_42 (dk_at dksX21_init_0 4 rfl rfl)
theorem dX21_init_5 : decode cX21_init 5 = .ok (.aload_n 1, 1) := dk_43 (dk_at dksX21_init_0 5 rfl rfl)
theorem dX21_init_6 : decode cX21_init 6 = .ok (.putfield 7, 3) := dk_181 0 7 (dk_at dksX21_init_0 6 rfl rfl)
theorem dX21_init_9 : decode cX21_init 9 = .ok (.return_, 1) := dk_177 (dk_at dksX21_init_0 9 rfl rfl)
abbrev cX21_members : ByteArray := prog_3_method_3_code
def yX21_members : MethodName := ⟨RX21, "members", "()I"⟩
def dkwX21_members_0 : List UInt8 := [42, 180, 0, 7, 184, 0, 19, 172]
abbrev dktX21_members_0 : List UInt8 := dkwX21_members_0 ++ []
theorem dksX21_members_0 : cX21_members.data.toList.drop 0 = dktX21_members_0 := by decide +kernel
theorem dX21_members_0 : decode cX21_members 0 = .ok (.aload_n 0, 1) := dk_42 (dk_at dksX21_members_0 0 rfl rfl)
theorem dX21_members_1 : decode cX21_members 1 = .ok (.getfield 7, 3) := dk_180 0 7 (dk_at dksX21_members_0 1 rfl rfl)
theorem dX21_members_4 : decode cX21_members 4 = .ok (.invokestatic 19, 3) := dk_184 0 19 (dk_at dksX21_members_0 4 rfl rfl)
theorem dX21_members_7 : decode cX21_members 7 = .ok (.ireturn, 1) := dk_172 (dk_at dksX21_members_0 7 rfl rfl)
theorem q117 : (Jvm.Cond.initialized "SecretVault$Any") ∈ lw_all := lw_g (lw_at lw_m1 51 rfl) rfl
theorem q859 : (Jvm.Cond.selects "SecretVault$Any" ({ cls := "java/lang/Object", name := "getClass", desc := "()Ljava/lang/Class;" } : Jvm.MethodName) ({ cls := "java/lang/Object", name := "getClass", desc := "()Ljava/lang/Class;" } : Jvm.MethodName)) ∈ lw_all := lw_g (lw_at lw_m4 73 rfl) rfl
theorem q1234 : (Jvm.Cond.castable "SecretVault$Any" "SecretVault$Policy") ∈ lw_tbl := lw_at lw_m5 208 rfl
theorem q1235 : (Jvm.Cond.selects "SecretVault$Any" ({ cls := "SecretVault$Policy", name := "isFulfilled", desc := "(I)Z" } : Jvm.MethodName) ({ cls := "SecretVault$Any", name := "isFulfilled", desc := "(I)Z" } : Jvm.MethodName)) ∈ lw_all := lw_g (lw_at lw_m5 209 rfl) rfl
theorem q1236 : (Jvm.Cond.unhidden "SecretVault$Any" "isFulfilled" "(I)Z") ∈ lw_tbl := lw_at lw_m5 210 rfl
theorem q1237 : (Jvm.Cond.instanceMethod ({ cls := "SecretVault$Any", name := "isFulfilled", desc := "(I)Z" } : Jvm.MethodName)) ∈ lw_all := lw_g (lw_at lw_m5 211 rfl) rfl
theorem q1238 : (Jvm.Cond.publicMethod ({ cls := "SecretVault$Any", name := "isFulfilled", desc := "(I)Z" } : Jvm.MethodName)) ∈ lw_tbl := lw_at lw_m5 212 rfl
theorem q1239 : (Jvm.Cond.code ({ cls := "SecretVault$Any", name := "isFulfilled", desc := "(I)Z" } : Jvm.MethodName) prog_3_method_2_code (2 : Nat) (Option.some Jvm.ClassFile.FieldType.boolean)) ∈ lw_all := lw_g (lw_at lw_m5 213 rfl) rfl
theorem q1240 : (Jvm.Cond.methodLinkNest "SecretVault$Any" (13 : Nat) ({ cls := "SecretVault", name := "fulfilledOf", desc := "(Ljava/util/List;I)I" } : Jvm.MethodName) "SecretVault") ∈ lw_tbl := lw_at lw_m5 214 rfl
theorem q1878 : (Jvm.Cond.instantiable "SecretVault$Any" (1 : Nat)) ∈ lw_all := lw_g (lw_at lw_m8 132 rfl) rfl
theorem q1880 : (Jvm.Cond.instanceMethod ({ cls := "SecretVault$Any", name := "<init>", desc := "(Ljava/util/List;)V" } : Jvm.MethodName)) ∈ lw_all := lw_g (lw_at lw_m8 134 rfl) rfl
theorem q1881 : (Jvm.Cond.code ({ cls := "SecretVault$Any", name := "<init>", desc := "(Ljava/util/List;)V" } : Jvm.MethodName) prog_3_method_1_code (2 : Nat) (Option.none : Option Jvm.ClassFile.FieldType)) ∈ lw_all := lw_g (lw_at lw_m8 135 rfl) rfl
theorem q1882 : (Jvm.Cond.methodLink "SecretVault$Any" (1 : Nat) ({ cls := "java/lang/Object", name := "<init>", desc := "()V" } : Jvm.MethodName)) ∈ lw_all := lw_g (lw_at lw_m8 136 rfl) rfl
theorem q1883 : (Jvm.Cond.fieldLink "SecretVault$Any" (7 : Nat) "SecretVault$Any" "parts" "Ljava/util/List;") ∈ lw_all := lw_g (lw_at lw_m8 137 rfl) rfl
theorem q1885 : (Jvm.Cond.laysFinal "SecretVault$Any" "SecretVault$Any" "parts" "Ljava/util/List;") ∈ lw_all := lw_g (lw_at lw_m8 139 rfl) rfl
theorem q1886 : (Jvm.Cond.soleField "SecretVault$Any" "parts") ∈ lw_all := lw_g (lw_at lw_m8 140 rfl) rfl
theorem q1887 : (Jvm.Cond.superclass "SecretVault$Any" "java/lang/Object") ∈ lw_all := lw_g (lw_at lw_m8 141 rfl) rfl
theorem q1951 : (Jvm.Cond.selects "SecretVault$Any" ({ cls := "SecretVault$Policy", name := "members", desc := "()I" } : Jvm.MethodName) ({ cls := "SecretVault$Any", name := "members", desc := "()I" } : Jvm.MethodName)) ∈ lw_all := lw_g (lw_at lw_m8 205 rfl) rfl
theorem q1952 : (Jvm.Cond.unhidden "SecretVault$Any" "members" "()I") ∈ lw_tbl := lw_at lw_m8 206 rfl
theorem q1953 : (Jvm.Cond.instanceMethod ({ cls := "SecretVault$Any", name := "members", desc := "()I" } : Jvm.MethodName)) ∈ lw_all := lw_g (lw_at lw_m8 207 rfl) rfl
theorem q1954 : (Jvm.Cond.publicMethod ({ cls := "SecretVault$Any", name := "members", desc := "()I" } : Jvm.MethodName)) ∈ lw_tbl := lw_at lw_m8 208 rfl
theorem q1955 : (Jvm.Cond.code ({ cls := "SecretVault$Any", name := "members", desc := "()I" } : Jvm.MethodName) prog_3_method_3_code (1 : Nat) (Option.some Jvm.ClassFile.FieldType.int)) ∈ lw_all := lw_g (lw_at lw_m8 209 rfl) rfl
theorem q1956 : (Jvm.Cond.methodLinkNest "SecretVault$Any" (19 : Nat) ({ cls := "SecretVault", name := "membersOf", desc := "(Ljava/util/List;)I" } : Jvm.MethodName) "SecretVault") ∈ lw_tbl := lw_at lw_m8 210 rfl
theorem q2595 : (Jvm.Cond.castable "SecretVault$Any" "java/lang/Object") ∈ lw_tbl := lw_at lw_m11 129 rfl
theorem in_X21 : ∀ w ∈ wsX210, w ∈ lw_all := lw_in wsX210 [1885] (by decide +kernel) (by decide +kernel)

/-! SecretVault$Groups -/
set_option maxRecDepth 100000
def RX22 : String := "SecretVault$Groups"
def TX22 : u_T := fun k => match k with
  | _ => ("SecretVault$Groups", "open", "[Z", true)
def tyX22 : Nat → FieldType := fun k => match k with
  | _ => .array .boolean
abbrev wsX220 : List Cond := u_ws RX22 TX22 1
theorem nmX22 : ∀ a, a < 1 → ∀ b, b < 1 → a ≠ b → (TX22 a).2.1 ≠ (TX22 b).2.1 := by decide +kernel
theorem tyX22_ok : ∀ k, k < 1 → parseFieldDescriptor (TX22 k).2.2.1 = some (tyX22 k) := by decide +kernel
abbrev cX22_init : ByteArray := prog_6_method_1_code
def yX22_init : MethodName := ⟨RX22, "<init>", "(LSecretVault$World;LSecretVault$Secret;)V"⟩
def dkwX22_init_6 : List UInt8 := [153, 0, 7, 4, 167, 0, 4, 3, 84, 132, 4, 1, 167, 255, 165, 177]
abbrev dktX22_init_6 : List UInt8 := dkwX22_init_6 ++ []
def dkwX22_init_5 : List UInt8 := [21, 4, 21, 5, 44, 180, 0, 26, 161, 0, 21, 44, 21, 4, 43, 182, 0, 30, 126, 182, 0, 34]
abbrev dktX22_init_5 : List UInt8 := dkwX22_init_5 ++ dktX22_init_6
def dkwX22_init_4 : List UInt8 := [160, 0, 10, 45, 21, 6, 46, 167, 0, 4, 3, 96, 54, 5, 132, 6, 1, 167, 255, 222, 42, 180, 0, 9]
abbrev dktX22_init_4 : List UInt8 := dkwX22_init_4 ++ dktX22_init_5
def dkwX22_init_3 : List UInt8 := [3, 54, 5, 3, 54, 6, 21, 6, 16, 8, 162, 0, 33, 21, 5, 21, 4, 21, 6, 122, 4, 126, 4]
abbrev dktX22_init_3 : List UInt8 := dkwX22_init_3 ++ dktX22_init_4
def dkwX22_init_2 : List UInt8 := [167, 0, 4, 3, 79, 132, 4, 1, 167, 255, 222, 3, 54, 4, 21, 4, 42, 180, 0, 9, 190, 162, 0, 87]
abbrev dktX22_init_2 : List UInt8 := dkwX22_init_2 ++ dktX22_init_3
def dkwX22_init_1 : List UInt8 := [16, 8, 162, 0, 33, 45, 21, 4, 43, 180, 0, 15, 21, 4, 51, 153, 0, 12, 44, 21, 4, 182, 0, 20]
abbrev dktX22_init_1 : List UInt8 := dkwX22_init_1 ++ dktX22_init_2
def dkwX22_init_0 : List UInt8 := [42, 183, 0, 3, 42, 17, 1, 0, 188, 4, 181, 0, 9, 16, 8, 188, 10, 78, 3, 54, 4, 21, 4]
abbrev dktX22_init_0 : List UInt8 := dkwX22_init_0 ++ dktX22_init_1
theorem dksX22_init_0 : cX22_init.data.toList.drop 0 = dktX22_init_0 := by decide +kernel
theorem dksX22_init_1 : cX22_init.data.toList.drop 23 = dktX22_init_1 := dk_seg dksX22_init_0 23 rfl rfl
theorem dksX22_init_2 : cX22_init.data.toList.drop 47 = dktX22_init_2 := dk_seg dksX22_init_1 24 rfl rfl
theorem dksX22_init_3 : cX22_init.data.toList.drop 71 = dktX22_init_3 := dk_seg dksX22_init_2 24 rfl rfl
theorem dksX22_init_4 : cX22_init.data.toList.drop 94 = dktX22_init_4 := dk_seg dksX22_init_3 23 rfl rfl
theorem dksX22_init_5 : cX22_init.data.toList.drop 118 = dktX22_init_5 := dk_seg dksX22_init_4 24 rfl rfl
theorem dksX22_init_6 : cX22_init.data.toList.drop 140 = dktX22_init_6 := dk_seg dksX22_init_5 22 rfl rfl
theorem dX22_init_0 : decode cX22_init 0 = .ok (.aload_n 0, 1) := dk_42 (dk_at dksX22_init_0 0 rfl rfl)
theorem dX22_init_1 : decode cX22_init 1 = .ok (.invokespecial 3, 3) := dk_183 0 3 (dk_at dksX22_init_0 1 rfl rfl)
theorem dX22_init_4 : decode cX22_init 4 = .ok (.aload_n 0, 1) := dk_42 (dk_at dksX22_init_0 4 rfl rfl)
theorem dX22_init_5 : decode cX22_init 5 = .ok (.sipush 256, 3) := dk_17 1 0 (dk_at dksX22_init_0 5 rfl rfl)
theorem dX22_init_8 : decode cX22_init 8 = .ok (.newarray .boolean, 2) := dk_188_4 (dk_at dksX22_init_0 8 rfl rfl)
theorem dX22_init_10 : decode cX22_init 10 = .ok (.putfield 9, 3) := dk_181 0 9 (dk_at dksX22_init_0 10 rfl rfl)
theorem dX22_init_13 : decode cX22_init 13 = .ok (.bipush 8, 2) := dk_16 8 (dk_at dksX22_init_0 13 rfl rfl)
theorem dX22_init_15 : decode cX22_init 15 = .ok (.newarray .int, 2) := dk_188_10 (dk_at dksX22_init_0 15 rfl rfl)
theorem dX22_init_17 : decode cX22_init 17 = .ok (.astore_n 3, 1) := dk_78 (dk_at dksX22_init_0 17 rfl rfl)
theorem dX22_init_18 : decode cX22_init 18 = .ok (.iconst 0, 1) := dk_3 (dk_at dksX22_init_0 18 rfl rfl)
theorem dX22_init_19 : decode cX22_init 19 = .ok (.istore 4, 2) := dk_54 4 (dk_at dksX22_init_0 19 rfl rfl)
theorem dX22_init_21 : decode cX22_init 21 = .ok (.iload 4, 2) := dk_21 4 (dk_at dksX22_init_0 21 rfl rfl)
theorem dX22_init_23 : decode cX22_init 23 = .ok (.bipush 8, 2) := dk_16 8 (dk_at dksX22_init_1 0 rfl rfl)
theorem dX22_init_25 : decode cX22_init 25 = .ok (.if_icmp .ge 33, 3) := dk_162 0 33 (dk_at dksX22_init_1 2 rfl rfl)
theorem dX22_init_28 : decode cX22_init 28 = .ok (.aload_n 3, 1) := dk_45 (dk_at dksX22_init_1 5 rfl rfl)
theorem dX22_init_29 : decode cX22_init 29 = .ok (.iload 4, 2) := dk_21 4 (dk_at dksX22_init_1 6 rfl rfl)
theorem dX22_init_31 : decode cX22_init 31 = .ok (.aload_n 1, 1) := dk_43 (dk_at dksX22_init_1 8 rfl rfl)
theorem dX22_init_32 : decode cX22_init 32 = .ok (.getfield 15, 3) := dk_180 0 15 (dk_at dksX22_init_1 9 rfl rfl)
theorem dX22_init_35 : decode cX22_init 35 = .ok (.iload 4, 2) := dk_21 4 (dk_at dksX22_init_1 12 rfl rfl)
theorem dX22_init_37 : decode cX22_init 37 = .ok (.baload, 1) := dk_51 (dk_at dksX22_init_1 14 rfl rfl)
theorem dX22_init_38 : decode cX22_init 38 = .ok (.ifCond .eq 12, 3) := dk_153 0 12 (dk_at dksX22_init_1 15 rfl rfl)
theorem dX22_init_41 : decode cX22_init 41 = .ok (.aload_n 2, 1) := dk_44 (dk_at dksX22_init_1 18 rfl rfl)
theorem dX22_init_42 : decode cX22_init 42 = .ok (.iload 4, 2) := dk_21 4 (dk_at dksX22_init_1 19 rfl rfl)
theorem dX22_init_44 : decode cX22_init 44 = .ok (.invokevirtual 20, 3) := dk_182 0 20 (dk_at dksX22_init_1 21 rfl rfl)
theorem dX22_init_47 : decode cX22_init 47 = .ok (.goto 4, 3) := dk_167 0 4 (dk_at dksX22_init_2 0 rfl rfl)
theorem dX22_init_50 : decode cX22_init 50 = .ok (.iconst 0, 1) := dk_3 (dk_at dksX22_init_2 3 rfl rfl)
theorem dX22_init_51 : decode cX22_init 51 = .ok (.iastore, 1) := dk_79 (dk_at dksX22_init_2 4 rfl rfl)
theorem dX22_init_52 : decode cX22_init 52 = .ok (.iinc 4 1, 3) := dk_132 4 1 (dk_at dksX22_init_2 5 rfl rfl)
theorem dX22_init_55 : decode cX22_init 55 = .ok (.goto (-34), 3) := dk_167 255 222 (dk_at dksX22_init_2 8 rfl rfl)
theorem dX22_init_58 : decode cX22_init 58 = .ok (.iconst 0, 1) := dk_3 (dk_at dksX22_init_2 11 rfl rfl)
theorem dX22_init_59 : decode cX22_init 59 = .ok (.istore 4, 2) := dk_54 4 (dk_at dksX22_init_2 12 rfl rfl)
theorem dX22_init_61 : decode cX22_init 61 = .ok (.iload 4, 2) := dk_21 4 (dk_at dksX22_init_2 14 rfl rfl)
theorem dX22_init_63 : decode cX22_init 63 = .ok (.aload_n 0, 1) := dk_42 (dk_at dksX22_init_2 16 rfl rfl)
theorem dX22_init_64 : decode cX22_init 64 = .ok (.getfield 9, 3) := dk_180 0 9 (dk_at dksX22_init_2 17 rfl rfl)
theorem dX22_init_67 : decode cX22_init 67 = .ok (.arraylength, 1) := dk_190 (dk_at dksX22_init_2 20 rfl rfl)
theorem dX22_init_68 : decode cX22_init 68 = .ok (.if_icmp .ge 87, 3) := dk_162 0 87 (dk_at dksX22_init_2 21 rfl rfl)
theorem dX22_init_71 : decode cX22_init 71 = .ok (.iconst 0, 1) := dk_3 (dk_at dksX22_init_3 0 rfl rfl)
theorem dX22_init_72 : decode cX22_init 72 = .ok (.istore 5, 2) := dk_54 5 (dk_at dksX22_init_3 1 rfl rfl)
theorem dX22_init_74 : decode cX22_init 74 = .ok (.iconst 0, 1) := dk_3 (dk_at dksX22_init_3 3 rfl rfl)
theorem dX22_init_75 : decode cX22_init 75 = .ok (.istore 6, 2) := dk_54 6 (dk_at dksX22_init_3 4 rfl rfl)
theorem dX22_init_77 : decode cX22_init 77 = .ok (.iload 6, 2) := dk_21 6 (dk_at dksX22_init_3 6 rfl rfl)
theorem dX22_init_79 : decode cX22_init 79 = .ok (.bipush 8, 2) := dk_16 8 (dk_at dksX22_init_3 8 rfl rfl)
theorem dX22_init_81 : decode cX22_init 81 = .ok (.if_icmp .ge 33, 3) := dk_162 0 33 (dk_at dksX22_init_3 10 rfl rfl)
theorem dX22_init_84 : decode cX22_init 84 = .ok (.iload 5, 2) := dk_21 5 (dk_at dksX22_init_3 13 rfl rfl)
theorem dX22_init_86 : decode cX22_init 86 = .ok (.iload 4, 2) := dk_21 4 (dk_at dksX22_init_3 15 rfl rfl)
theorem dX22_init_88 : decode cX22_init 88 = .ok (.iload 6, 2) := dk_21 6 (dk_at dksX22_init_3 17 rfl rfl)
theorem dX22_init_90 : decode cX22_init 90 = .ok (.ishr, 1) := dk_122 (dk_at dksX22_init_3 19 rfl rfl)
theorem dX22_init_91 : decode cX22_init 91 = .ok (.iconst 1, 1) := dk_4 (dk_at dksX22_init_3 20 rfl rfl)
theorem dX22_init_92 : decode cX22_init 92 = .ok (.iand, 1) := dk_126 (dk_at dksX22_init_3 21 rfl rfl)
theorem dX22_init_93 : decode cX22_init 93 = .ok (.iconst 1, 1) := dk_4 (dk_at dksX22_init_3 22 rfl rfl)
theorem dX22_init_94 : decode cX22_init 94 = .ok (.if_icmp .ne 10, 3) := dk_160 0 10 (dk_at dksX22_init_4 0 rfl rfl)
theorem dX22_init_97 : decode cX22_init 97 = .ok (.aload_n 3, 1) := dk_45 (dk_at dksX22_init_4 3 rfl rfl)
theorem dX22_init_98 : decode cX22_init 98 = .ok (.iload 6, 2) := dk_21 6 (dk_at dksX22_init_4 4 rfl rfl)
theorem dX22_init_100 : decode cX22_init 100 = .ok (.iaload, 1) := dk_46 (dk_at dksX22_init_4 6 rfl rfl)
theorem dX22_init_101 : decode cX22_init 101 = .ok (.goto 4, 3) := dk_167 0 4 (dk_at dksX22_init_4 7 rfl rfl)
theorem dX22_init_104 : decode cX22_init 104 = .ok (.iconst 0, 1) := dk_3 (dk_at dksX22_init_4 10 rfl rfl)
theorem dX22_init_105 : decode cX22_init 105 = .ok (.iadd, 1) := dk_96 (dk_at dksX22_init_4 11 rfl rfl)
theorem dX22_init_106 : decode cX22_init 106 = .ok (.istore 5, 2) := dk_54 5 (dk_at dksX22_init_4 12 rfl rfl)
theorem dX22_init_108 : decode cX22_init 108 = .ok (.iinc 6 1, 3) := dk_132 6 1 (dk_at dksX22_init_4 14 rfl rfl)
theorem dX22_init_111 : decode cX22_init 111 = .ok (.goto (-34), 3) := dk_167 255 222 (dk_at dksX22_init_4 17 rfl rfl)
theorem dX22_init_114 : decode cX22_init 114 = .ok (.aload_n 0, 1) := dk_42 (dk_at dksX22_init_4 20 rfl rfl)
theorem dX22_init_115 : decode cX22_init 115 = .ok (.getfield 9, 3) := dk_180 0 9 (dk_at dksX22_init_4 21 rfl rfl)
theorem dX22_init_118 : decode cX22_init 118 = .ok (.iload 4, 2) := dk_21 4 (dk_at dksX22_init_5 0 rfl rfl)
theorem dX22_init_120 : decode cX22_init 120 = .ok (.iload 5, 2) := dk_21 5 (dk_at dksX22_init_5 2 rfl rfl)
theorem dX22_init_122 : decode cX22_init 122 = .ok (.aload_n 2, 1) := dk_44 (dk_at dksX22_init_5 4 rfl rfl)
theorem dX22_init_123 : decode cX22_init 123 = .ok (.getfield 26, 3) := dk_180 0 26 (dk_at dksX22_init_5 5 rfl rfl)
theorem dX22_init_126 : decode cX22_init 126 = .ok (.if_icmp .lt 21, 3) := dk_161 0 21 (dk_at dksX22_init_5 8 rfl rfl)
theorem dX22_init_129 : decode cX22_init 129 = .ok (.aload_n 2, 1) := dk_44 (dk_at dksX22_init_5 11 rfl rfl)
theorem dX22_init_130 : decode cX22_init 130 = .ok (.iload 4, 2) := dk_21 4 (dk_at dksX22_init_5 12 rfl rfl)
theorem dX22_init_132 : decode cX22_init 132 = .ok (.aload_n 1, 1) := dk_43 (dk_at dksX22_init_5 14 rfl rfl)
theorem dX22_init_133 : decode cX22_init 133 = .ok (.invokevirtual 30, 3) := dk_182 0 30 (dk_at dksX22_init_5 15 rfl rfl)
theorem dX22_init_136 : decode cX22_init 136 = .ok (.iand, 1) := dk_126 (dk_at dksX22_init_5 18 rfl rfl)
theorem dX22_init_137 : decode cX22_init 137 = .ok (.invokevirtual 34, 3) := dk_182 0 34 (dk_at dksX22_init_5 19 rfl rfl)
theorem dX22_init_140 : decode cX22_init 140 = .ok (.ifCond .eq 7, 3) := dk_153 0 7 (dk_at dksX22_init_6 0 rfl rfl)
theorem dX22_init_143 : decode cX22_init 143 = .ok (.iconst 1, 1) := dk_4 (dk_at dksX22_init_6 3 rfl rfl)
theorem dX22_init_144 : decode cX22_init 144 = .ok (.goto 4, 3) := dk_167 0 4 (dk_at dksX22_init_6 4 rfl rfl)
theorem dX22_init_147 : decode cX22_init 147 = .ok (.iconst 0, 1) := dk_3 (dk_at dksX22_init_6 7 rfl rfl)
theorem dX22_init_148 : decode cX22_init 148 = .ok (.bastore, 1) := dk_84 (dk_at dksX22_init_6 8 rfl rfl)
theorem dX22_init_149 : decode cX22_init 149 = .ok (.iinc 4 1, 3) := dk_132 4 1 (dk_at dksX22_init_6 9 rfl rfl)
theorem dX22_init_152 : decode cX22_init 152 = .ok (.goto (-91), 3) := dk_167 255 165 (dk_at dksX22_init_6 12 rfl rfl)
theorem dX22_init_155 : decode cX22_init 155 = .ok (.return_, 1) := dk_177 (dk_at dksX22_init_6 15 rfl rfl)
abbrev cX22_count : ByteArray := prog_6_method_2_code
def yX22_count : MethodName := ⟨RX22, "count", "()I"⟩
def dkwX22_count_1 : List UInt8 := [54, 5, 27, 21, 5, 153, 0, 7, 4, 167, 0, 4, 3, 96, 60, 132, 4, 1, 167, 255, 228, 27, 172]
abbrev dktX22_count_1 : List UInt8 := dkwX22_count_1 ++ []
def dkwX22_count_0 : List UInt8 := [3, 60, 42, 180, 0, 9, 77, 44, 190, 62, 3, 54, 4, 21, 4, 29, 162, 0, 28, 44, 21, 4, 51]
abbrev dktX22_count_0 : List UInt8 := dkwX22_count_0 ++ dktX22_count_1
theorem dksX22_count_0 : cX22_count.data.toList.drop 0 = dktX22_count_0 := by decide +kernel
theorem dksX22_count_1 : cX22_count.data.toList.drop 23 = dktX22_count_1 := dk_seg dksX22_count_0 23 rfl rfl
theorem dX22_count_0 : decode cX22_count 0 = .ok (.iconst 0, 1) := dk_3 (dk_at dksX22_count_0 0 rfl rfl)
theorem dX22_count_1 : decode cX22_count 1 = .ok (.istore_n 1, 1) := dk_60 (dk_at dksX22_count_0 1 rfl rfl)
theorem dX22_count_2 : decode cX22_count 2 = .ok (.aload_n 0, 1) := dk_42 (dk_at dksX22_count_0 2 rfl rfl)
theorem dX22_count_3 : decode cX22_count 3 = .ok (.getfield 9, 3) := dk_180 0 9 (dk_at dksX22_count_0 3 rfl rfl)
theorem dX22_count_6 : decode cX22_count 6 = .ok (.astore_n 2, 1) := dk_77 (dk_at dksX22_count_0 6 rfl rfl)
theorem dX22_count_7 : decode cX22_count 7 = .ok (.aload_n 2, 1) := dk_44 (dk_at dksX22_count_0 7 rfl rfl)
theorem dX22_count_8 : decode cX22_count 8 = .ok (.arraylength, 1) := dk_190 (dk_at dksX22_count_0 8 rfl rfl)
theorem dX22_count_9 : decode cX22_count 9 = .ok (.istore_n 3, 1) := dk_62 (dk_at dksX22_count_0 9 rfl rfl)
theorem dX22_count_10 : decode cX22_count 10 = .ok (.iconst 0, 1) := dk_3 (dk_at dksX22_count_0 10 rfl rfl)
theorem dX22_count_11 : decode cX22_count 11 = .ok (.istore 4, 2) := dk_54 4 (dk_at dksX22_count_0 11 rfl rfl)
theorem dX22_count_13 : decode cX22_count 13 = .ok (.iload 4, 2) := dk_21 4 (dk_at dksX22_count_0 13 rfl rfl)
theorem dX22_count_15 : decode cX22_count 15 = .ok (.iload_n 3, 1) := dk_29 (dk_at dksX22_count_0 15 rfl rfl)
theorem dX22_count_16 : decode cX22_count 16 = .ok (.if_icmp .ge 28, 3) := dk_162 0 28 (dk_at dksX22_count_0 16 rfl rfl)
theorem dX22_count_19 : decode cX22_count 19 = .ok (.aload_n 2, 1) := dk_44 (dk_at dksX22_count_0 19 rfl rfl)
theorem dX22_count_20 : decode cX22_count 20 = .ok (.iload 4, 2) := dk_21 4 (dk_at dksX22_count_0 20 rfl rfl)
theorem dX22_count_22 : decode cX22_count 22 = .ok (.baload, 1) := dk_51 (dk_at dksX22_count_0 22 rfl rfl)
theorem dX22_count_23 : decode cX22_count 23 = .ok (.istore 5, 2) := dk_54 5 (dk_at dksX22_count_1 0 rfl rfl)
theorem dX22_count_25 : decode cX22_count 25 = .ok (.iload_n 1, 1) := dk_27 (dk_at dksX22_count_1 2 rfl rfl)
theorem dX22_count_26 : decode cX22_count 26 = .ok (.iload 5, 2) := dk_21 5 (dk_at dksX22_count_1 3 rfl rfl)
theorem dX22_count_28 : decode cX22_count 28 = .ok (.ifCond .eq 7, 3) := dk_153 0 7 (dk_at dksX22_count_1 5 rfl rfl)
theorem dX22_count_31 : decode cX22_count 31 = .ok (.iconst 1, 1) := dk_4 (dk_at dksX22_count_1 8 rfl rfl)
theorem dX22_count_32 : decode cX22_count 32 = .ok (.goto 4, 3) := dk_167 0 4 (dk_at dksX22_count_1 9 rfl rfl)
theorem dX22_count_35 : decode cX22_count 35 = .ok (.iconst 0, 1) := dk_3 (dk_at dksX22_count_1 12 rfl rfl)
theorem dX22_count_36 : decode cX22_count 36 = .ok (.iadd, 1) := dk_96 (dk_at dksX22_count_1 13 rfl rfl)
theorem dX22_count_37 : decode cX22_count 37 = .ok (.istore_n 1, 1) := dk_60 (dk_at dksX22_count_1 14 rfl rfl)
theorem dX22_count_38 : decode cX22_count 38 = .ok (.iinc 4 1, 3) := dk_132 4 1 (dk_at dksX22_count_1 15 rfl rfl)
theorem dX22_count_41 : decode cX22_count 41 = .ok (.goto (-28), 3) := dk_167 255 228 (dk_at dksX22_count_1 18 rfl rfl)
theorem dX22_count_44 : decode cX22_count 44 = .ok (.iload_n 1, 1) := dk_27 (dk_at dksX22_count_1 21 rfl rfl)
theorem dX22_count_45 : decode cX22_count 45 = .ok (.ireturn, 1) := dk_172 (dk_at dksX22_count_1 22 rfl rfl)
abbrev cX22_isSmallest : ByteArray := prog_6_method_3_code
def yX22_isSmallest : MethodName := ⟨RX22, "isSmallest", "(I)Z"⟩
def dkwX22_isSmallest_2 : List UInt8 := [132, 3, 1, 167, 255, 216, 28, 172]
abbrev dktX22_isSmallest_2 : List UInt8 := dkwX22_isSmallest_2 ++ []
def dkwX22_isSmallest_1 : List UInt8 := [42, 180, 0, 9, 27, 4, 29, 120, 2, 130, 126, 51, 154, 0, 7, 4, 167, 0, 4, 3, 126, 61]
abbrev dktX22_isSmallest_1 : List UInt8 := dkwX22_isSmallest_1 ++ dktX22_isSmallest_2
def dkwX22_isSmallest_0 : List UInt8 := [42, 180, 0, 9, 27, 51, 61, 3, 62, 29, 16, 8, 162, 0, 40, 28, 27, 29, 122, 4, 126, 153, 0, 18]
abbrev dktX22_isSmallest_0 : List UInt8 := dkwX22_isSmallest_0 ++ dktX22_isSmallest_1
theorem dksX22_isSmallest_0 : cX22_isSmallest.data.toList.drop 0 = dktX22_isSmallest_0 := by decide +kernel
theorem dksX22_isSmallest_1 : cX22_isSmallest.data.toList.drop 24 = dktX22_isSmallest_1 := dk_seg dksX22_isSmallest_0 24 rfl rfl
theorem dksX22_isSmallest_2 : cX22_isSmallest.data.toList.drop 46 = dktX22_isSmallest_2 := dk_seg dksX22_isSmallest_1 22 rfl rfl
theorem dX22_isSmallest_0 : decode cX22_isSmallest 0 = .ok (.aload_n 0, 1) := dk_42 (dk_at dksX22_isSmallest_0 0 rfl rfl)
theorem dX22_isSmallest_1 : decode cX22_isSmallest 1 = .ok (.getfield 9, 3) := dk_180 0 9 (dk_at dksX22_isSmallest_0 1 rfl rfl)
theorem dX22_isSmallest_4 : decode cX22_isSmallest 4 = .ok (.iload_n 1, 1) := dk_27 (dk_at dksX22_isSmallest_0 4 rfl rfl)
theorem dX22_isSmallest_5 : decode cX22_isSmallest 5 = .ok (.baload, 1) := dk_51 (dk_at dksX22_isSmallest_0 5 rfl rfl)
theorem dX22_isSmallest_6 : decode cX22_isSmallest 6 = .ok (.istore_n 2, 1) := dk_61 (dk_at dksX22_isSmallest_0 6 rfl rfl)
theorem dX22_isSmallest_7 : decode cX22_isSmallest 7 = .ok (.iconst 0, 1) := dk_3 (dk_at dksX22_isSmallest_0 7 rfl rfl)
theorem dX22_isSmallest_8 : decode cX22_isSmallest 8 = .ok (.istore_n 3, 1) := dk_62 (dk_at dksX22_isSmallest_0 8 rfl rfl)
theorem dX22_isSmallest_9 : decode cX22_isSmallest 9 = .ok (.iload_n 3, 1) := dk_29 (dk_at dksX22_isSmallest_0 9 rfl rfl)
theorem dX22_isSmallest_10 : decode cX22_isSmallest 10 = .ok (.bipush 8, 2) := dk_16 8 (dk_at dksX22_isSmallest_0 10 rfl rfl)
theorem dX22_isSmallest_12 : decode cX22_isSmallest 12 = .ok (.if_icmp .ge 40, 3) := dk_162 0 40 (dk_at dksX22_isSmallest_0 12 rfl rfl)
theorem dX22_isSmallest_15 : decode cX22_isSmallest 15 = .ok (.iload_n 2, 1) := dk_28 (dk_at dksX22_isSmallest_0 15 rfl rfl)
theorem dX22_isSmallest_16 : decode cX22_isSmallest 16 = .ok (.iload_n 1, 1) := dk_27 (dk_at dksX22_isSmallest_0 16 rfl rfl)
theorem dX22_isSmallest_17 : decode cX22_isSmallest 17 = .ok (.iload_n 3, 1) := dk_29 (dk_at dksX22_isSmallest_0 17 rfl rfl)
theorem dX22_isSmallest_18 : decode cX22_isSmallest 18 = .ok (.ishr, 1) := dk_122 (dk_at dksX22_isSmallest_0 18 rfl rfl)
theorem dX22_isSmallest_19 : decode cX22_isSmallest 19 = .ok (.iconst 1, 1) := dk_4 (dk_at dksX22_isSmallest_0 19 rfl rfl)
theorem dX22_isSmallest_20 : decode cX22_isSmallest 20 = .ok (.iand, 1) := dk_126 (dk_at dksX22_isSmallest_0 20 rfl rfl)
theorem dX22_isSmallest_21 : decode cX22_isSmallest 21 = .ok (.ifCond .eq 18, 3) := dk_153 0 18 (dk_at dksX22_isSmallest_0 21 rfl rfl)
theorem dX22_isSmallest_24 : decode cX22_isSmallest 24 = .ok (.aload_n 0, 1) := dk_42 (dk_at dksX22_isSmallest_1 0 rfl rfl)
theorem dX22_isSmallest_25 : decode cX22_isSmallest 25 = .ok (.getfield 9, 3) := dk_180 0 9 (dk_at dksX22_isSmallest_1 1 rfl rfl)
theorem dX22_isSmallest_28 : decode cX22_isSmallest 28 = .ok (.iload_n 1, 1) := dk_27 (dk_at dksX22_isSmallest_1 4 rfl rfl)
theorem dX22_isSmallest_29 : decode cX22_isSmallest 29 = .ok (.iconst 1, 1) := dk_4 (dk_at dksX22_isSmallest_1 5 rfl rfl)
theorem dX22_isSmallest_30 : decode cX22_isSmallest 30 = .ok (.iload_n 3, 1) := dk_29 (dk_at dksX22_isSmallest_1 6 rfl rfl)
theorem dX22_isSmallest_31 : decode cX22_isSmallest 31 = .ok (.ishl, 1) := dk_120 (dk_at dksX22_isSmallest_1 7 rfl rfl)
theorem dX22_isSmallest_32 : decode cX22_isSmallest 32 = .ok (.iconst (-1), 1) := dk_2 (dk_at dksX22_isSmallest_1 8 rfl rfl)
theorem dX22_isSmallest_33 : decode cX22_isSmallest 33 = .ok (.ixor, 1) := dk_130 (dk_at dksX22_isSmallest_1 9 rfl rfl)
theorem dX22_isSmallest_34 : decode cX22_isSmallest 34 = .ok (.iand, 1) := dk_126 (dk_at dksX22_isSmallest_1 10 rfl rfl)
theorem dX22_isSmallest_35 : decode cX22_isSmallest 35 = .ok (.baload, 1) := dk_51 (dk_at dksX22_isSmallest_1 11 rfl rfl)
theorem dX22_isSmallest_36 : decode cX22_isSmallest 36 = .ok (.ifCond .ne 7, 3) := dk_154 0 7 (dk_at dksX22_isSmallest_1 12 rfl rfl)
theorem dX22_isSmallest_39 : decode cX22_isSmallest 39 = .ok (.iconst 1, 1) := dk_4 (dk_at dksX22_isSmallest_1 15 rfl rfl)
theorem dX22_isSmallest_40 : decode cX22_isSmallest 40 = .ok (.goto 4, 3) := dk_167 0 4 (dk_at dksX22_isSmallest_1 16 rfl rfl)
theorem dX22_isSmallest_43 : decode cX22_isSmallest 43 = .ok (.iconst 0, 1) := dk_3 (dk_at dksX22_isSmallest_1 19 rfl rfl)
theorem dX22_isSmallest_44 : decode cX22_isSmallest 44 = .ok (.iand, 1) := dk_126 (dk_at dksX22_isSmallest_1 20 rfl rfl)
theorem dX22_isSmallest_45 : decode cX22_isSmallest 45 = .ok (.istore_n 2, 1) := dk_61 (dk_at dksX22_isSmallest_1 21 rfl rfl)
theorem dX22_isSmallest_46 : decode cX22_isSmallest 46 = .ok (.iinc 3 1, 3) := dk_132 3 1 (dk_at dksX22_isSmallest_2 0 rfl rfl)
theorem dX22_isSmallest_49 : decode cX22_isSmallest 49 = .ok (.goto (-40), 3) := dk_167 255 216 (dk_at dksX22_isSmallest_2 3 rfl rfl)
theorem dX22_isSmallest_52 : decode cX22_isSmallest 52 = .ok (.iload_n 2, 1) := dk_28 (dk_at dksX22_isSmallest_2 6 rfl rfl)
theorem dX22_isSmallest_53 : decode cX22_isSmallest 53 = .ok (.ireturn, 1) := dk_172 (dk_at dksX22_isSmallest_2 7 rfl rfl)
abbrev cX22_decisions : ByteArray := prog_6_method_4_code
def yX22_decisions : MethodName := ⟨RX22, "decisions", "(I)I"⟩
def dkwX22_decisions_2 : List UInt8 := [167, 0, 4, 3, 96, 61, 132, 3, 1, 167, 255, 203, 28, 172]
abbrev dktX22_decisions_2 : List UInt8 := dkwX22_decisions_2 ++ []
def dkwX22_decisions_1 : List UInt8 := [180, 0, 9, 29, 51, 153, 0, 22, 42, 180, 0, 9, 29, 4, 27, 120, 2, 130, 126, 51, 154, 0, 7, 4]
abbrev dktX22_decisions_1 : List UInt8 := dkwX22_decisions_1 ++ dktX22_decisions_2
def dkwX22_decisions_0 : List UInt8 := [3, 61, 3, 62, 29, 42, 180, 0, 9, 190, 162, 0, 50, 28, 29, 27, 122, 4, 126, 4, 160, 0, 31, 42]
abbrev dktX22_decisions_0 : List UInt8 := dkwX22_decisions_0 ++ dktX22_decisions_1
theorem dksX22_decisions_0 : cX22_decisions.data.toList.drop 0 = dktX22_decisions_0 := by decide +kernel
theorem dksX22_decisions_1 : cX22_decisions.data.toList.drop 24 = dktX22_decisions_1 := dk_seg dksX22_decisions_0 24 rfl rfl
theorem dksX22_decisions_2 : cX22_decisions.data.toList.drop 48 = dktX22_decisions_2 := dk_seg dksX22_decisions_1 24 rfl rfl
theorem dX22_decisions_0 : decode cX22_decisions 0 = .ok (.iconst 0, 1) := dk_3 (dk_at dksX22_decisions_0 0 rfl rfl)
theorem dX22_decisions_1 : decode cX22_decisions 1 = .ok (.istore_n 2, 1) := dk_61 (dk_at dksX22_decisions_0 1 rfl rfl)
theorem dX22_decisions_2 : decode cX22_decisions 2 = .ok (.iconst 0, 1) := dk_3 (dk_at dksX22_decisions_0 2 rfl rfl)
theorem dX22_decisions_3 : decode cX22_decisions 3 = .ok (.istore_n 3, 1) := dk_62 (dk_at dksX22_decisions_0 3 rfl rfl)
theorem dX22_decisions_4 : decode cX22_decisions 4 = .ok (.iload_n 3, 1) := dk_29 (dk_at dksX22_decisions_0 4 rfl rfl)
theorem dX22_decisions_5 : decode cX22_decisions 5 = .ok (.aload_n 0, 1) := dk_42 (dk_at dksX22_decisions_0 5 rfl rfl)
theorem dX22_decisions_6 : decode cX22_decisions 6 = .ok (.getfield 9, 3) := dk_180 0 9 (dk_at dksX22_decisions_0 6 rfl rfl)
theorem dX22_decisions_9 : decode cX22_decisions 9 = .ok (.arraylength, 1) := dk_190 (dk_at dksX22_decisions_0 9 rfl rfl)
theorem dX22_decisions_10 : decode cX22_decisions 10 = .ok (.if_icmp .ge 50, 3) := dk_162 0 50 (dk_at dksX22_decisions_0 10 rfl rfl)
theorem dX22_decisions_13 : decode cX22_decisions 13 = .ok (.iload_n 2, 1) := dk_28 (dk_at dksX22_decisions_0 13 rfl rfl)
theorem dX22_decisions_14 : decode cX22_decisions 14 = .ok (.iload_n 3, 1) := dk_29 (dk_at dksX22_decisions_0 14 rfl rfl)
theorem dX22_decisions_15 : decode cX22_decisions 15 = .ok (.iload_n 1, 1) := dk_27 (dk_at dksX22_decisions_0 15 rfl rfl)
theorem dX22_decisions_16 : decode cX22_decisions 16 = .ok (.ishr, 1) := dk_122 (dk_at dksX22_decisions_0 16 rfl rfl)
theorem dX22_decisions_17 : decode cX22_decisions 17 = .ok (.iconst 1, 1) := dk_4 (dk_at dksX22_decisions_0 17 rfl rfl)
theorem dX22_decisions_18 : decode cX22_decisions 18 = .ok (.iand, 1) := dk_126 (dk_at dksX22_decisions_0 18 rfl rfl)
theorem dX22_decisions_19 : decode cX22_decisions 19 = .ok (.iconst 1, 1) := dk_4 (dk_at dksX22_decisions_0 19 rfl rfl)
theorem dX22_decisions_20 : decode cX22_decisions 20 = .ok (.if_icmp .ne 31, 3) := dk_160 0 31 (dk_at dksX22_decisions_0 20 rfl rfl)
theorem dX22_decisions_23 : decode cX22_decisions 23 = .ok (.aload_n 0, 1) := dk_42 (dk_at dksX22_decisions_0 23 rfl rfl)
theorem dX22_decisions_24 : decode cX22_decisions 24 = .ok (.getfield 9, 3) := dk_180 0 9 (dk_at dksX22_decisions_1 0 rfl rfl)
theorem dX22_decisions_27 : decode cX22_decisions 27 = .ok (.iload_n 3, 1) := dk_29 (dk_at dksX22_decisions_1 3 rfl rfl)
theorem dX22_decisions_28 : decode cX22_decisions 28 = .ok (.baload, 1) := dk_51 (dk_at dksX22_decisions_1 4 rfl rfl)
theorem dX22_decisions_29 : decode cX22_decisions 29 = .ok (.ifCond .eq 22, 3) := dk_153 0 22 (dk_at dksX22_decisions_1 5 rfl rfl)
theorem dX22_decisions_32 : decode cX22_decisions 32 = .ok (.aload_n 0, 1) := dk_42 (dk_at dksX22_decisions_1 8 rfl rfl)
theorem dX22_decisions_33 : decode cX22_decisions 33 = .ok (.getfield 9, 3) := dk_180 0 9 (dk_at dksX22_decisions_1 9 rfl rfl)
theorem dX22_decisions_36 : decode cX22_decisions 36 = .ok (.iload_n 3, 1) := dk_29 (dk_at dksX22_decisions_1 12 rfl rfl)
theorem dX22_decisions_37 : decode cX22_decisions 37 = .ok (.iconst 1, 1) := dk_4 (dk_at dksX22_decisions_1 13 rfl rfl)
theorem dX22_decisions_38 : decode cX22_decisions 38 = .ok (.iload_n 1, 1) := dk_27 (dk_at dksX22_decisions_1 14 rfl rfl)
theorem dX22_decisions_39 : decode cX22_decisions 39 = .ok (.ishl, 1) := dk_120 (dk_at dksX22_decisions_1 15 rfl rfl)
theorem dX22_decisions_40 : decode cX22_decisions 40 = .ok (.iconst (-1), 1) := dk_2 (dk_at dksX22_decisions_1 16 rfl rfl)
theorem dX22_decisions_41 : decode cX22_decisions 41 = .ok (.ixor, 1) := dk_130 (dk_at dksX22_decisions_1 17 rfl rfl)
theorem dX22_decisions_42 : decode cX22_decisions 42 = .ok (.iand, 1) := dk_126 (dk_at dksX22_decisions_1 18 rfl rfl)
theorem dX22_decisions_43 : decode cX22_decisions 43 = .ok (.baload, 1) := dk_51 (dk_at dksX22_decisions_1 19 rfl rfl)
theorem dX22_decisions_44 : decode cX22_decisions 44 = .ok (.ifCond .ne 7, 3) := dk_154 0 7 (dk_at dksX22_decisions_1 20 rfl rfl)
theorem dX22_decisions_47 : decode cX22_decisions 47 = .ok (.iconst 1, 1) := dk_4 (dk_at dksX22_decisions_1 23 rfl rfl)
theorem dX22_decisions_48 : decode cX22_decisions 48 = .ok (.goto 4, 3) := dk_167 0 4 (dk_at dksX22_decisions_2 0 rfl rfl)
theorem dX22_decisions_51 : decode cX22_decisions 51 = .ok (.iconst 0, 1) := dk_3 (dk_at dksX22_decisions_2 3 rfl rfl)
theorem dX22_decisions_52 : decode cX22_decisions 52 = .ok (.iadd, 1) := dk_96 (dk_at dksX22_decisions_2 4 rfl rfl)
theorem dX22_decisions_53 : decode cX22_decisions 53 = .ok (.istore_n 2, 1) := dk_61 (dk_at dksX22_decisions_2 5 rfl rfl)
theorem dX22_decisions_54 : decode cX22_decisions 54 = .ok (.iinc 3 1, 3) := dk_132 3 1 (dk_at dksX22_decisions_2 6 rfl rfl)
theorem dX22_decisions_57 : decode cX22_decisions 57 = .ok (.goto (-53), 3) := dk_167 255 203 (dk_at dksX22_decisions_2 9 rfl rfl)
theorem dX22_decisions_60 : decode cX22_decisions 60 = .ok (.iload_n 2, 1) := dk_28 (dk_at dksX22_decisions_2 12 rfl rfl)
theorem dX22_decisions_61 : decode cX22_decisions 61 = .ok (.ireturn, 1) := dk_172 (dk_at dksX22_decisions_2 13 rfl rfl)
theorem q118 : (Jvm.Cond.initialized "SecretVault$Groups") ∈ lw_all := lw_g (lw_at lw_m1 52 rfl) rfl
theorem q173 : (Jvm.Cond.fieldLinkNest "SecretVault$Groups" (15 : Nat) "SecretVault$World" "present" "[Z" "SecretVault") ∈ lw_tbl := lw_at lw_m1 107 rfl
theorem q654 : (Jvm.Cond.fieldLinkNest "SecretVault$Groups" (26 : Nat) "SecretVault$Secret" "threshold" "I" "SecretVault") ∈ lw_tbl := lw_at lw_m3 108 rfl
theorem q861 : (Jvm.Cond.selects "SecretVault$Groups" ({ cls := "java/lang/Object", name := "getClass", desc := "()Ljava/lang/Class;" } : Jvm.MethodName) ({ cls := "java/lang/Object", name := "getClass", desc := "()Ljava/lang/Class;" } : Jvm.MethodName)) ∈ lw_all := lw_g (lw_at lw_m4 75 rfl) rfl
theorem q1976 : (Jvm.Cond.instantiable "SecretVault$Groups" (1 : Nat)) ∈ lw_all := lw_g (lw_at lw_m8 230 rfl) rfl
theorem q1978 : (Jvm.Cond.instanceMethod ({ cls := "SecretVault$Groups", name := "<init>", desc := "(LSecretVault$World;LSecretVault$Secret;)V" } : Jvm.MethodName)) ∈ lw_all := lw_g (lw_at lw_m8 232 rfl) rfl
theorem q1979 : (Jvm.Cond.code ({ cls := "SecretVault$Groups", name := "<init>", desc := "(LSecretVault$World;LSecretVault$Secret;)V" } : Jvm.MethodName) prog_6_method_1_code (7 : Nat) (Option.none : Option Jvm.ClassFile.FieldType)) ∈ lw_all := lw_g (lw_at lw_m8 233 rfl) rfl
theorem q1980 : (Jvm.Cond.methodLink "SecretVault$Groups" (3 : Nat) ({ cls := "java/lang/Object", name := "<init>", desc := "()V" } : Jvm.MethodName)) ∈ lw_all := lw_g (lw_at lw_m8 234 rfl) rfl
theorem q1981 : (Jvm.Cond.methodLink "SecretVault$Groups" (20 : Nat) ({ cls := "SecretVault$Secret", name := "goodOf", desc := "(I)I" } : Jvm.MethodName)) ∈ lw_all := lw_g (lw_at lw_m8 235 rfl) rfl
theorem q1982 : (Jvm.Cond.methodLink "SecretVault$Groups" (30 : Nat) ({ cls := "SecretVault$World", name := "presentMembers", desc := "()I" } : Jvm.MethodName)) ∈ lw_all := lw_g (lw_at lw_m8 236 rfl) rfl
theorem q1983 : (Jvm.Cond.methodLink "SecretVault$Groups" (34 : Nat) ({ cls := "SecretVault$Secret", name := "isFulfilled", desc := "(I)Z" } : Jvm.MethodName)) ∈ lw_all := lw_g (lw_at lw_m8 237 rfl) rfl
theorem q1984 : (Jvm.Cond.fieldLink "SecretVault$Groups" (9 : Nat) "SecretVault$Groups" "open" "[Z") ∈ lw_all := lw_g (lw_at lw_m8 238 rfl) rfl
theorem q1985 : (Jvm.Cond.laysFinal "SecretVault$Groups" "SecretVault$Groups" "open" "[Z") ∈ lw_all := lw_g (lw_at lw_m8 239 rfl) rfl
theorem q1986 : (Jvm.Cond.soleField "SecretVault$Groups" "open") ∈ lw_all := lw_g (lw_at lw_m9 0 rfl) rfl
theorem q1987 : (Jvm.Cond.superclass "SecretVault$Groups" "java/lang/Object") ∈ lw_all := lw_g (lw_at lw_m9 1 rfl) rfl
theorem q1989 : (Jvm.Cond.instanceMethod ({ cls := "SecretVault$Groups", name := "count", desc := "()I" } : Jvm.MethodName)) ∈ lw_all := lw_g (lw_at lw_m9 3 rfl) rfl
theorem q1990 : (Jvm.Cond.selects "SecretVault$Groups" ({ cls := "SecretVault$Groups", name := "count", desc := "()I" } : Jvm.MethodName) ({ cls := "SecretVault$Groups", name := "count", desc := "()I" } : Jvm.MethodName)) ∈ lw_all := lw_g (lw_at lw_m9 4 rfl) rfl
theorem q1991 : (Jvm.Cond.code ({ cls := "SecretVault$Groups", name := "count", desc := "()I" } : Jvm.MethodName) prog_6_method_2_code (6 : Nat) (Option.some Jvm.ClassFile.FieldType.int)) ∈ lw_all := lw_g (lw_at lw_m9 5 rfl) rfl
theorem q2000 : (Jvm.Cond.instanceMethod ({ cls := "SecretVault$Groups", name := "isSmallest", desc := "(I)Z" } : Jvm.MethodName)) ∈ lw_all := lw_g (lw_at lw_m9 14 rfl) rfl
theorem q2001 : (Jvm.Cond.selects "SecretVault$Groups" ({ cls := "SecretVault$Groups", name := "isSmallest", desc := "(I)Z" } : Jvm.MethodName) ({ cls := "SecretVault$Groups", name := "isSmallest", desc := "(I)Z" } : Jvm.MethodName)) ∈ lw_all := lw_g (lw_at lw_m9 15 rfl) rfl
theorem q2002 : (Jvm.Cond.code ({ cls := "SecretVault$Groups", name := "isSmallest", desc := "(I)Z" } : Jvm.MethodName) prog_6_method_3_code (4 : Nat) (Option.some Jvm.ClassFile.FieldType.boolean)) ∈ lw_all := lw_g (lw_at lw_m9 16 rfl) rfl
theorem q2011 : (Jvm.Cond.instanceMethod ({ cls := "SecretVault$Groups", name := "decisions", desc := "(I)I" } : Jvm.MethodName)) ∈ lw_all := lw_g (lw_at lw_m9 25 rfl) rfl
theorem q2012 : (Jvm.Cond.selects "SecretVault$Groups" ({ cls := "SecretVault$Groups", name := "decisions", desc := "(I)I" } : Jvm.MethodName) ({ cls := "SecretVault$Groups", name := "decisions", desc := "(I)I" } : Jvm.MethodName)) ∈ lw_all := lw_g (lw_at lw_m9 26 rfl) rfl
theorem q2013 : (Jvm.Cond.code ({ cls := "SecretVault$Groups", name := "decisions", desc := "(I)I" } : Jvm.MethodName) prog_6_method_4_code (4 : Nat) (Option.some Jvm.ClassFile.FieldType.int)) ∈ lw_all := lw_g (lw_at lw_m9 27 rfl) rfl
theorem q2596 : (Jvm.Cond.castable "SecretVault$Groups" "java/lang/Object") ∈ lw_tbl := lw_at lw_m11 130 rfl
theorem in_X22 : ∀ w ∈ wsX220, w ∈ lw_all := lw_in wsX220 [1985] (by decide +kernel) (by decide +kernel)

/-! SecretVault$State$1 -/
set_option maxRecDepth 100000
def RX23 : String := "SecretVault$State$1"
abbrev cX23_fits : ByteArray := prog_18_method_2_code
def yX23_fits : MethodName := ⟨RX23, "fits", "(LSecretVault$Share;LSecretVault$Secret;)Z"⟩
def dkwX23_fits_1 : List UInt8 := [172]
abbrev dktX23_fits_1 : List UInt8 := dkwX23_fits_1 ++ []
def dkwX23_fits_0 : List UInt8 := [43, 180, 0, 7, 44, 180, 0, 13, 160, 0, 15, 44, 43, 182, 0, 16, 153, 0, 7, 4, 167, 0, 4, 3]
abbrev dktX23_fits_0 : List UInt8 := dkwX23_fits_0 ++ dktX23_fits_1
theorem dksX23_fits_0 : cX23_fits.data.toList.drop 0 = dktX23_fits_0 := by decide +kernel
theorem dksX23_fits_1 : cX23_fits.data.toList.drop 24 = dktX23_fits_1 := dk_seg dksX23_fits_0 24 rfl rfl
theorem dX23_fits_0 : decode cX23_fits 0 = .ok (.aload_n 1, 1) := dk_43 (dk_at dksX23_fits_0 0 rfl rfl)
theorem dX23_fits_1 : decode cX23_fits 1 = .ok (.getfield 7, 3) := dk_180 0 7 (dk_at dksX23_fits_0 1 rfl rfl)
theorem dX23_fits_4 : decode cX23_fits 4 = .ok (.aload_n 2, 1) := dk_44 (dk_at dksX23_fits_0 4 rfl rfl)
theorem dX23_fits_5 : decode cX23_fits 5 = .ok (.getfield 13, 3) := dk_180 0 13 (dk_at dksX23_fits_0 5 rfl rfl)
theorem dX23_fits_8 : decode cX23_fits 8 = .ok (.if_icmp .ne 15, 3) := dk_160 0 15 (dk_at dksX23_fits_0 8 rfl rfl)
theorem dX23_fits_11 : decode cX23_fits 11 = .ok (.aload_n 2, 1) := dk_44 (dk_at dksX23_fits_0 11 rfl rfl)
theorem dX23_fits_12 : decode cX23_fits 12 = .ok (.aload_n 1, 1) := dk_43 (dk_at dksX23_fits_0 12 rfl rfl)
theorem dX23_fits_13 : decode cX23_fits 13 = .ok (.invokevirtual 16, 3) := dk_182 0 16 (dk_at dksX23_fits_0 13 rfl rfl)
theorem dX23_fits_16 : decode cX23_fits 16 = .ok (.ifCond .eq 7, 3) := dk_153 0 7 (dk_at dksX23_fits_0 16 rfl rfl)
theorem dX23_fits_19 : decode cX23_fits 19 = .ok (.iconst 1, 1) := dk_4 (dk_at dksX23_fits_0 19 rfl rfl)
theorem dX23_fits_20 : decode cX23_fits 20 = .ok (.goto 4, 3) := dk_167 0 4 (dk_at dksX23_fits_0 20 rfl rfl)
theorem dX23_fits_23 : decode cX23_fits 23 = .ok (.iconst 0, 1) := dk_3 (dk_at dksX23_fits_0 23 rfl rfl)
theorem dX23_fits_24 : decode cX23_fits 24 = .ok (.ireturn, 1) := dk_172 (dk_at dksX23_fits_1 0 rfl rfl)
abbrev cX23_judge : ByteArray := prog_18_method_3_code
def yX23_judge : MethodName := ⟨RX23, "judge", "(LSecretVault$Share;)LSecretVault$Judged;"⟩
def dkwX23_judge_0 : List UInt8 := [187, 0, 20, 89, 43, 183, 0, 22, 176]
abbrev dktX23_judge_0 : List UInt8 := dkwX23_judge_0 ++ []
theorem dksX23_judge_0 : cX23_judge.data.toList.drop 0 = dktX23_judge_0 := by decide +kernel
theorem dX23_judge_0 : decode cX23_judge 0 = .ok (.new 20, 3) := dk_187 0 20 (dk_at dksX23_judge_0 0 rfl rfl)
theorem dX23_judge_3 : decode cX23_judge 3 = .ok (.dup, 1) := dk_89 (dk_at dksX23_judge_0 3 rfl rfl)
theorem dX23_judge_4 : decode cX23_judge 4 = .ok (.aload_n 1, 1) := dk_43 (dk_at dksX23_judge_0 4 rfl rfl)
theorem dX23_judge_5 : decode cX23_judge 5 = .ok (.invokespecial 22, 3) := dk_183 0 22 (dk_at dksX23_judge_0 5 rfl rfl)
theorem dX23_judge_8 : decode cX23_judge 8 = .ok (.areturn, 1) := dk_176 (dk_at dksX23_judge_0 8 rfl rfl)
theorem q658 : (Jvm.Cond.fieldLinkNest "SecretVault$State$1" (13 : Nat) "SecretVault$Secret" "epoch" "I" "SecretVault") ∈ lw_tbl := lw_at lw_m3 112 rfl
theorem q707 : (Jvm.Cond.fieldLinkNest "SecretVault$State$1" (7 : Nat) "SecretVault$Share" "epoch" "I" "SecretVault") ∈ lw_tbl := lw_at lw_m3 161 rfl
theorem q870 : (Jvm.Cond.selects "SecretVault$State$1" ({ cls := "java/lang/Object", name := "getClass", desc := "()Ljava/lang/Class;" } : Jvm.MethodName) ({ cls := "java/lang/Object", name := "getClass", desc := "()Ljava/lang/Class;" } : Jvm.MethodName)) ∈ lw_all := lw_g (lw_at lw_m4 84 rfl) rfl
theorem q1041 : (Jvm.Cond.selects "SecretVault$State$1" ({ cls := "SecretVault$State", name := "fits", desc := "(LSecretVault$Share;LSecretVault$Secret;)Z" } : Jvm.MethodName) ({ cls := "SecretVault$State$1", name := "fits", desc := "(LSecretVault$Share;LSecretVault$Secret;)Z" } : Jvm.MethodName)) ∈ lw_all := lw_g (lw_at lw_m5 15 rfl) rfl
theorem q1042 : (Jvm.Cond.instanceMethod ({ cls := "SecretVault$State$1", name := "fits", desc := "(LSecretVault$Share;LSecretVault$Secret;)Z" } : Jvm.MethodName)) ∈ lw_all := lw_g (lw_at lw_m5 16 rfl) rfl
theorem q1043 : (Jvm.Cond.code ({ cls := "SecretVault$State$1", name := "fits", desc := "(LSecretVault$Share;LSecretVault$Secret;)Z" } : Jvm.MethodName) prog_18_method_2_code (3 : Nat) (Option.some Jvm.ClassFile.FieldType.boolean)) ∈ lw_all := lw_g (lw_at lw_m5 17 rfl) rfl
theorem q1044 : (Jvm.Cond.methodLink "SecretVault$State$1" (16 : Nat) ({ cls := "SecretVault$Secret", name := "isCommitted", desc := "(LSecretVault$Share;)Z" } : Jvm.MethodName)) ∈ lw_all := lw_g (lw_at lw_m5 18 rfl) rfl
theorem q1331 : (Jvm.Cond.selects "SecretVault$State$1" ({ cls := "SecretVault$State", name := "judge", desc := "(LSecretVault$Share;)LSecretVault$Judged;" } : Jvm.MethodName) ({ cls := "SecretVault$State$1", name := "judge", desc := "(LSecretVault$Share;)LSecretVault$Judged;" } : Jvm.MethodName)) ∈ lw_all := lw_g (lw_at lw_m6 65 rfl) rfl
theorem q1332 : (Jvm.Cond.instanceMethod ({ cls := "SecretVault$State$1", name := "judge", desc := "(LSecretVault$Share;)LSecretVault$Judged;" } : Jvm.MethodName)) ∈ lw_all := lw_g (lw_at lw_m6 66 rfl) rfl
theorem q1333 : (Jvm.Cond.code ({ cls := "SecretVault$State$1", name := "judge", desc := "(LSecretVault$Share;)LSecretVault$Judged;" } : Jvm.MethodName) prog_18_method_3_code (2 : Nat) (Option.some (Jvm.ClassFile.FieldType.object "SecretVault$Judged"))) ∈ lw_all := lw_g (lw_at lw_m6 67 rfl) rfl
theorem q1334 : (Jvm.Cond.classLink "SecretVault$State$1" (20 : Nat) "SecretVault$Usable") ∈ lw_all := lw_g (lw_at lw_m6 68 rfl) rfl
theorem q1336 : (Jvm.Cond.methodLink "SecretVault$State$1" (22 : Nat) ({ cls := "SecretVault$Usable", name := "<init>", desc := "(LSecretVault$Share;)V" } : Jvm.MethodName)) ∈ lw_all := lw_g (lw_at lw_m6 70 rfl) rfl
theorem q1546 : (Jvm.Cond.selects "SecretVault$State$1" ({ cls := "SecretVault$State", name := "ordinal", desc := "()I" } : Jvm.MethodName) ({ cls := "java/lang/Enum", name := "ordinal", desc := "()I" } : Jvm.MethodName)) ∈ lw_all := lw_g (lw_at lw_m7 40 rfl) rfl
theorem q2577 : (Jvm.Cond.castable "SecretVault$State$1" "java/lang/Object") ∈ lw_tbl := lw_at lw_m11 111 rfl
theorem q2600 : (Jvm.Cond.castable "SecretVault$State$1" "SecretVault$State") ∈ lw_tbl := lw_at lw_m11 134 rfl

/-! SecretVault$State$2 -/
set_option maxRecDepth 100000
def RX24 : String := "SecretVault$State$2"
abbrev cX24_fits : ByteArray := prog_19_method_2_code
def yX24_fits : MethodName := ⟨RX24, "fits", "(LSecretVault$Share;LSecretVault$Secret;)Z"⟩
def dkwX24_fits_0 : List UInt8 := [43, 180, 0, 7, 44, 180, 0, 13, 159, 0, 7, 4, 167, 0, 4, 3, 172]
abbrev dktX24_fits_0 : List UInt8 := dkwX24_fits_0 ++ []
theorem dksX24_fits_0 : cX24_fits.data.toList.drop 0 = dktX24_fits_0 := by decide +kernel
theorem dX24_fits_0 : decode cX24_fits 0 = .ok (.aload_n 1, 1) := dk_43 (dk_at dksX24_fits_0 0 rfl rfl)
theorem dX24_fits_1 : decode cX24_fits 1 = .ok (.getfield 7, 3) := dk_180 0 7 (dk_at dksX24_fits_0 1 rfl rfl)
theorem dX24_fits_4 : decode cX24_fits 4 = .ok (.aload_n 2, 1) := dk_44 (dk_at dksX24_fits_0 4 rfl rfl)
theorem dX24_fits_5 : decode cX24_fits 5 = .ok (.getfield 13, 3) := dk_180 0 13 (dk_at dksX24_fits_0 5 rfl rfl)
theorem dX24_fits_8 : decode cX24_fits 8 = .ok (.if_icmp .eq 7, 3) := dk_159 0 7 (dk_at dksX24_fits_0 8 rfl rfl)
theorem dX24_fits_11 : decode cX24_fits 11 = .ok (.iconst 1, 1) := dk_4 (dk_at dksX24_fits_0 11 rfl rfl)
theorem dX24_fits_12 : decode cX24_fits 12 = .ok (.goto 4, 3) := dk_167 0 4 (dk_at dksX24_fits_0 12 rfl rfl)
theorem dX24_fits_15 : decode cX24_fits 15 = .ok (.iconst 0, 1) := dk_3 (dk_at dksX24_fits_0 15 rfl rfl)
theorem dX24_fits_16 : decode cX24_fits 16 = .ok (.ireturn, 1) := dk_172 (dk_at dksX24_fits_0 16 rfl rfl)
abbrev cX24_judge : ByteArray := prog_19_method_3_code
def yX24_judge : MethodName := ⟨RX24, "judge", "(LSecretVault$Share;)LSecretVault$Judged;"⟩
def dkwX24_judge_0 : List UInt8 := [187, 0, 16, 89, 43, 183, 0, 18, 176]
abbrev dktX24_judge_0 : List UInt8 := dkwX24_judge_0 ++ []
theorem dksX24_judge_0 : cX24_judge.data.toList.drop 0 = dktX24_judge_0 := by decide +kernel
theorem dX24_judge_0 : decode cX24_judge 0 = .ok (.new 16, 3) := dk_187 0 16 (dk_at dksX24_judge_0 0 rfl rfl)
theorem dX24_judge_3 : decode cX24_judge 3 = .ok (.dup, 1) := dk_89 (dk_at dksX24_judge_0 3 rfl rfl)
theorem dX24_judge_4 : decode cX24_judge 4 = .ok (.aload_n 1, 1) := dk_43 (dk_at dksX24_judge_0 4 rfl rfl)
theorem dX24_judge_5 : decode cX24_judge 5 = .ok (.invokespecial 18, 3) := dk_183 0 18 (dk_at dksX24_judge_0 5 rfl rfl)
theorem dX24_judge_8 : decode cX24_judge 8 = .ok (.areturn, 1) := dk_176 (dk_at dksX24_judge_0 8 rfl rfl)
theorem q659 : (Jvm.Cond.fieldLinkNest "SecretVault$State$2" (13 : Nat) "SecretVault$Secret" "epoch" "I" "SecretVault") ∈ lw_tbl := lw_at lw_m3 113 rfl
theorem q708 : (Jvm.Cond.fieldLinkNest "SecretVault$State$2" (7 : Nat) "SecretVault$Share" "epoch" "I" "SecretVault") ∈ lw_tbl := lw_at lw_m3 162 rfl
theorem q871 : (Jvm.Cond.selects "SecretVault$State$2" ({ cls := "java/lang/Object", name := "getClass", desc := "()Ljava/lang/Class;" } : Jvm.MethodName) ({ cls := "java/lang/Object", name := "getClass", desc := "()Ljava/lang/Class;" } : Jvm.MethodName)) ∈ lw_all := lw_g (lw_at lw_m4 85 rfl) rfl
theorem q1055 : (Jvm.Cond.selects "SecretVault$State$2" ({ cls := "SecretVault$State", name := "fits", desc := "(LSecretVault$Share;LSecretVault$Secret;)Z" } : Jvm.MethodName) ({ cls := "SecretVault$State$2", name := "fits", desc := "(LSecretVault$Share;LSecretVault$Secret;)Z" } : Jvm.MethodName)) ∈ lw_all := lw_g (lw_at lw_m5 29 rfl) rfl
theorem q1056 : (Jvm.Cond.instanceMethod ({ cls := "SecretVault$State$2", name := "fits", desc := "(LSecretVault$Share;LSecretVault$Secret;)Z" } : Jvm.MethodName)) ∈ lw_all := lw_g (lw_at lw_m5 30 rfl) rfl
theorem q1057 : (Jvm.Cond.code ({ cls := "SecretVault$State$2", name := "fits", desc := "(LSecretVault$Share;LSecretVault$Secret;)Z" } : Jvm.MethodName) prog_19_method_2_code (3 : Nat) (Option.some Jvm.ClassFile.FieldType.boolean)) ∈ lw_all := lw_g (lw_at lw_m5 31 rfl) rfl
theorem q1348 : (Jvm.Cond.selects "SecretVault$State$2" ({ cls := "SecretVault$State", name := "judge", desc := "(LSecretVault$Share;)LSecretVault$Judged;" } : Jvm.MethodName) ({ cls := "SecretVault$State$2", name := "judge", desc := "(LSecretVault$Share;)LSecretVault$Judged;" } : Jvm.MethodName)) ∈ lw_all := lw_g (lw_at lw_m6 82 rfl) rfl
theorem q1349 : (Jvm.Cond.instanceMethod ({ cls := "SecretVault$State$2", name := "judge", desc := "(LSecretVault$Share;)LSecretVault$Judged;" } : Jvm.MethodName)) ∈ lw_all := lw_g (lw_at lw_m6 83 rfl) rfl
theorem q1350 : (Jvm.Cond.code ({ cls := "SecretVault$State$2", name := "judge", desc := "(LSecretVault$Share;)LSecretVault$Judged;" } : Jvm.MethodName) prog_19_method_3_code (2 : Nat) (Option.some (Jvm.ClassFile.FieldType.object "SecretVault$Judged"))) ∈ lw_all := lw_g (lw_at lw_m6 84 rfl) rfl
theorem q1351 : (Jvm.Cond.classLink "SecretVault$State$2" (16 : Nat) "SecretVault$Stale") ∈ lw_all := lw_g (lw_at lw_m6 85 rfl) rfl
theorem q1353 : (Jvm.Cond.methodLink "SecretVault$State$2" (18 : Nat) ({ cls := "SecretVault$Stale", name := "<init>", desc := "(LSecretVault$Share;)V" } : Jvm.MethodName)) ∈ lw_all := lw_g (lw_at lw_m6 87 rfl) rfl
theorem q1547 : (Jvm.Cond.selects "SecretVault$State$2" ({ cls := "SecretVault$State", name := "ordinal", desc := "()I" } : Jvm.MethodName) ({ cls := "java/lang/Enum", name := "ordinal", desc := "()I" } : Jvm.MethodName)) ∈ lw_all := lw_g (lw_at lw_m7 41 rfl) rfl
theorem q2584 : (Jvm.Cond.castable "SecretVault$State$2" "java/lang/Object") ∈ lw_tbl := lw_at lw_m11 118 rfl
theorem q2601 : (Jvm.Cond.castable "SecretVault$State$2" "SecretVault$State") ∈ lw_tbl := lw_at lw_m11 135 rfl

/-! SecretVault$State$3 -/
set_option maxRecDepth 100000
def RX25 : String := "SecretVault$State$3"
abbrev cX25_fits : ByteArray := prog_20_method_2_code
def yX25_fits : MethodName := ⟨RX25, "fits", "(LSecretVault$Share;LSecretVault$Secret;)Z"⟩
def dkwX25_fits_1 : List UInt8 := [172]
abbrev dktX25_fits_1 : List UInt8 := dkwX25_fits_1 ++ []
def dkwX25_fits_0 : List UInt8 := [43, 180, 0, 7, 44, 180, 0, 13, 160, 0, 15, 44, 43, 182, 0, 16, 154, 0, 7, 4, 167, 0, 4, 3]
abbrev dktX25_fits_0 : List UInt8 := dkwX25_fits_0 ++ dktX25_fits_1
theorem dksX25_fits_0 : cX25_fits.data.toList.drop 0 = dktX25_fits_0 := by decide +kernel
theorem dksX25_fits_1 : cX25_fits.data.toList.drop 24 = dktX25_fits_1 := dk_seg dksX25_fits_0 24 rfl rfl
theorem dX25_fits_0 : decode cX25_fits 0 = .ok (.aload_n 1, 1) := dk_43 (dk_at dksX25_fits_0 0 rfl rfl)
theorem dX25_fits_1 : decode cX25_fits 1 = .ok (.getfield 7, 3) := dk_180 0 7 (dk_at dksX25_fits_0 1 rfl rfl)
theorem dX25_fits_4 : decode cX25_fits 4 = .ok (.aload_n 2, 1) := dk_44 (dk_at dksX25_fits_0 4 rfl rfl)
theorem dX25_fits_5 : decode cX25_fits 5 = .ok (.getfield 13, 3) := dk_180 0 13 (dk_at dksX25_fits_0 5 rfl rfl)
theorem dX25_fits_8 : decode cX25_fits 8 = .ok (.if_icmp .ne 15, 3) := dk_160 0 15 (dk_at dksX25_fits_0 8 rfl rfl)
theorem dX25_fits_11 : decode cX25_fits 11 = .ok (.aload_n 2, 1) := dk_44 (dk_at dksX25_fits_0 11 rfl rfl)
theorem dX25_fits_12 : decode cX25_fits 12 = .ok (.aload_n 1, 1) := dk_43 (dk_at dksX25_fits_0 12 rfl rfl)
theorem dX25_fits_13 : decode cX25_fits 13 = .ok (.invokevirtual 16, 3) := dk_182 0 16 (dk_at dksX25_fits_0 13 rfl rfl)
theorem dX25_fits_16 : decode cX25_fits 16 = .ok (.ifCond .ne 7, 3) := dk_154 0 7 (dk_at dksX25_fits_0 16 rfl rfl)
theorem dX25_fits_19 : decode cX25_fits 19 = .ok (.iconst 1, 1) := dk_4 (dk_at dksX25_fits_0 19 rfl rfl)
theorem dX25_fits_20 : decode cX25_fits 20 = .ok (.goto 4, 3) := dk_167 0 4 (dk_at dksX25_fits_0 20 rfl rfl)
theorem dX25_fits_23 : decode cX25_fits 23 = .ok (.iconst 0, 1) := dk_3 (dk_at dksX25_fits_0 23 rfl rfl)
theorem dX25_fits_24 : decode cX25_fits 24 = .ok (.ireturn, 1) := dk_172 (dk_at dksX25_fits_1 0 rfl rfl)
abbrev cX25_judge : ByteArray := prog_20_method_3_code
def yX25_judge : MethodName := ⟨RX25, "judge", "(LSecretVault$Share;)LSecretVault$Judged;"⟩
def dkwX25_judge_0 : List UInt8 := [187, 0, 20, 89, 43, 183, 0, 22, 176]
abbrev dktX25_judge_0 : List UInt8 := dkwX25_judge_0 ++ []
theorem dksX25_judge_0 : cX25_judge.data.toList.drop 0 = dktX25_judge_0 := by decide +kernel
theorem dX25_judge_0 : decode cX25_judge 0 = .ok (.new 20, 3) := dk_187 0 20 (dk_at dksX25_judge_0 0 rfl rfl)
theorem dX25_judge_3 : decode cX25_judge 3 = .ok (.dup, 1) := dk_89 (dk_at dksX25_judge_0 3 rfl rfl)
theorem dX25_judge_4 : decode cX25_judge 4 = .ok (.aload_n 1, 1) := dk_43 (dk_at dksX25_judge_0 4 rfl rfl)
theorem dX25_judge_5 : decode cX25_judge 5 = .ok (.invokespecial 22, 3) := dk_183 0 22 (dk_at dksX25_judge_0 5 rfl rfl)
theorem dX25_judge_8 : decode cX25_judge 8 = .ok (.areturn, 1) := dk_176 (dk_at dksX25_judge_0 8 rfl rfl)
theorem q660 : (Jvm.Cond.fieldLinkNest "SecretVault$State$3" (13 : Nat) "SecretVault$Secret" "epoch" "I" "SecretVault") ∈ lw_tbl := lw_at lw_m3 114 rfl
theorem q709 : (Jvm.Cond.fieldLinkNest "SecretVault$State$3" (7 : Nat) "SecretVault$Share" "epoch" "I" "SecretVault") ∈ lw_tbl := lw_at lw_m3 163 rfl
theorem q872 : (Jvm.Cond.selects "SecretVault$State$3" ({ cls := "java/lang/Object", name := "getClass", desc := "()Ljava/lang/Class;" } : Jvm.MethodName) ({ cls := "java/lang/Object", name := "getClass", desc := "()Ljava/lang/Class;" } : Jvm.MethodName)) ∈ lw_all := lw_g (lw_at lw_m4 86 rfl) rfl
theorem q1058 : (Jvm.Cond.selects "SecretVault$State$3" ({ cls := "SecretVault$State", name := "fits", desc := "(LSecretVault$Share;LSecretVault$Secret;)Z" } : Jvm.MethodName) ({ cls := "SecretVault$State$3", name := "fits", desc := "(LSecretVault$Share;LSecretVault$Secret;)Z" } : Jvm.MethodName)) ∈ lw_all := lw_g (lw_at lw_m5 32 rfl) rfl
theorem q1059 : (Jvm.Cond.instanceMethod ({ cls := "SecretVault$State$3", name := "fits", desc := "(LSecretVault$Share;LSecretVault$Secret;)Z" } : Jvm.MethodName)) ∈ lw_all := lw_g (lw_at lw_m5 33 rfl) rfl
theorem q1060 : (Jvm.Cond.code ({ cls := "SecretVault$State$3", name := "fits", desc := "(LSecretVault$Share;LSecretVault$Secret;)Z" } : Jvm.MethodName) prog_20_method_2_code (3 : Nat) (Option.some Jvm.ClassFile.FieldType.boolean)) ∈ lw_all := lw_g (lw_at lw_m5 34 rfl) rfl
theorem q1061 : (Jvm.Cond.methodLink "SecretVault$State$3" (16 : Nat) ({ cls := "SecretVault$Secret", name := "isCommitted", desc := "(LSecretVault$Share;)Z" } : Jvm.MethodName)) ∈ lw_all := lw_g (lw_at lw_m5 35 rfl) rfl
theorem q1362 : (Jvm.Cond.selects "SecretVault$State$3" ({ cls := "SecretVault$State", name := "judge", desc := "(LSecretVault$Share;)LSecretVault$Judged;" } : Jvm.MethodName) ({ cls := "SecretVault$State$3", name := "judge", desc := "(LSecretVault$Share;)LSecretVault$Judged;" } : Jvm.MethodName)) ∈ lw_all := lw_g (lw_at lw_m6 96 rfl) rfl
theorem q1363 : (Jvm.Cond.instanceMethod ({ cls := "SecretVault$State$3", name := "judge", desc := "(LSecretVault$Share;)LSecretVault$Judged;" } : Jvm.MethodName)) ∈ lw_all := lw_g (lw_at lw_m6 97 rfl) rfl
theorem q1364 : (Jvm.Cond.code ({ cls := "SecretVault$State$3", name := "judge", desc := "(LSecretVault$Share;)LSecretVault$Judged;" } : Jvm.MethodName) prog_20_method_3_code (2 : Nat) (Option.some (Jvm.ClassFile.FieldType.object "SecretVault$Judged"))) ∈ lw_all := lw_g (lw_at lw_m6 98 rfl) rfl
theorem q1365 : (Jvm.Cond.classLink "SecretVault$State$3" (20 : Nat) "SecretVault$Wrong") ∈ lw_all := lw_g (lw_at lw_m6 99 rfl) rfl
theorem q1367 : (Jvm.Cond.methodLink "SecretVault$State$3" (22 : Nat) ({ cls := "SecretVault$Wrong", name := "<init>", desc := "(LSecretVault$Share;)V" } : Jvm.MethodName)) ∈ lw_all := lw_g (lw_at lw_m6 101 rfl) rfl
theorem q1548 : (Jvm.Cond.selects "SecretVault$State$3" ({ cls := "SecretVault$State", name := "ordinal", desc := "()I" } : Jvm.MethodName) ({ cls := "java/lang/Enum", name := "ordinal", desc := "()I" } : Jvm.MethodName)) ∈ lw_all := lw_g (lw_at lw_m7 42 rfl) rfl
theorem q2585 : (Jvm.Cond.castable "SecretVault$State$3" "java/lang/Object") ∈ lw_tbl := lw_at lw_m11 119 rfl
theorem q2602 : (Jvm.Cond.castable "SecretVault$State$3" "SecretVault$State") ∈ lw_tbl := lw_at lw_m11 136 rfl
