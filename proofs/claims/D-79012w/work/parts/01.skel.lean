-- ===== PART A: goes FIRST, ahead of the names: the tables' words, and 'selects' of the private methods out of them =====
/-- a private method of a class that the tables say can be made, by its rows of tables_1 -/
def lw_okq (q : MethodName × Nat) : Prop := (q.1.cls ≠ "java/lang/invoke/MethodHandle" ∧ q.1.cls ≠ "java/lang/invoke/VarHandle") ∧ Cond.instantiable q.1.cls q.2 ∈ tables_1 ∧ Cond.privateMethod q.1 ∈ tables_1 ∧ Cond.instanceMethod q.1 ∈ tables_1
set_option maxRecDepth 100000
theorem lw_t1 {w : Cond} (h : w ∈ tables_1_1) : w ∈ tables_1 := List.mem_append_left _ h
theorem lw_t2 {w : Cond} (h : w ∈ tables_1_2) : w ∈ tables_1 := List.mem_append_right _ (List.mem_append_left _ h)
theorem lw_t3 {w : Cond} (h : w ∈ tables_1_3) : w ∈ tables_1 := List.mem_append_right _ (List.mem_append_right _ (List.mem_append_left _ h))
theorem lw_t4 {w : Cond} (h : w ∈ tables_1_4) : w ∈ tables_1 := List.mem_append_right _ (List.mem_append_right _ (List.mem_append_right _ (List.mem_append_left _ h)))
theorem lw_t5 {w : Cond} (h : w ∈ tables_1_5) : w ∈ tables_1 := List.mem_append_right _ (List.mem_append_right _ (List.mem_append_right _ (List.mem_append_right _ (List.mem_append_left _ h))))
theorem lw_t6 {w : Cond} (h : w ∈ tables_1_6) : w ∈ tables_1 := List.mem_append_right _ (List.mem_append_right _ (List.mem_append_right _ (List.mem_append_right _ (List.mem_append_right _ (List.mem_append_left _ h)))))
theorem lw_t7 {w : Cond} (h : w ∈ tables_1_7) : w ∈ tables_1 := List.mem_append_right _ (List.mem_append_right _ (List.mem_append_right _ (List.mem_append_right _ (List.mem_append_right _ (List.mem_append_right _ (List.mem_append_left _ h))))))
theorem lw_t8 {w : Cond} (h : w ∈ tables_1_8) : w ∈ tables_1 := List.mem_append_right _ (List.mem_append_right _ (List.mem_append_right _ (List.mem_append_right _ (List.mem_append_right _ (List.mem_append_right _ (List.mem_append_right _ (List.mem_append_left _ h)))))))
theorem lw_t9 {w : Cond} (h : w ∈ tables_1_9) : w ∈ tables_1 := List.mem_append_right _ (List.mem_append_right _ (List.mem_append_right _ (List.mem_append_right _ (List.mem_append_right _ (List.mem_append_right _ (List.mem_append_right _ (List.mem_append_right _ (List.mem_append_left _ h))))))))
theorem lw_t10 {w : Cond} (h : w ∈ tables_1_10) : w ∈ tables_1 := List.mem_append_right _ (List.mem_append_right _ (List.mem_append_right _ (List.mem_append_right _ (List.mem_append_right _ (List.mem_append_right _ (List.mem_append_right _ (List.mem_append_right _ (List.mem_append_right _ (List.mem_append_left _ h)))))))))
theorem lw_t11 {w : Cond} (h : w ∈ tables_1_11) : w ∈ tables_1 := List.mem_append_right _ (List.mem_append_right _ (List.mem_append_right _ (List.mem_append_right _ (List.mem_append_right _ (List.mem_append_right _ (List.mem_append_right _ (List.mem_append_right _ (List.mem_append_right _ (List.mem_append_right _ h)))))))))
theorem lw_p0 : lw_okq (⟨"java/lang/Throwable", "fillInStackTrace", "(I)Ljava/lang/Throwable;"⟩, 6) := ⟨⟨by decide +kernel, by decide +kernel⟩, lw_t2 (List.mem_of_getElem? (i := 164) rfl), lw_t2 (List.mem_of_getElem? (i := 162) rfl), lw_t2 (List.mem_of_getElem? (i := 163) rfl)⟩
theorem lw_p1 : lw_okq (⟨"java/util/ArrayDeque", "grow", "(I)V"⟩, 3) := ⟨⟨by decide +kernel, by decide +kernel⟩, lw_t1 (List.mem_of_getElem? (i := 74) rfl), lw_t4 (List.mem_of_getElem? (i := 40) rfl), lw_t4 (List.mem_of_getElem? (i := 41) rfl)⟩
theorem lw_p2 : lw_okq (⟨"java/util/ArrayDeque", "newCapacity", "(II)I"⟩, 3) := ⟨⟨by decide +kernel, by decide +kernel⟩, lw_t1 (List.mem_of_getElem? (i := 74) rfl), lw_t4 (List.mem_of_getElem? (i := 45) rfl), lw_t4 (List.mem_of_getElem? (i := 46) rfl)⟩
theorem lw_p3 : lw_okq (⟨"java/util/ArrayList", "add", "(Ljava/lang/Object;[Ljava/lang/Object;I)V"⟩, 3) := ⟨⟨by decide +kernel, by decide +kernel⟩, lw_t4 (List.mem_of_getElem? (i := 179) rfl), lw_t4 (List.mem_of_getElem? (i := 215) rfl), lw_t4 (List.mem_of_getElem? (i := 216) rfl)⟩
theorem lw_p4 : lw_okq (⟨"java/util/ArrayList", "grow", "()[Ljava/lang/Object;"⟩, 3) := ⟨⟨by decide +kernel, by decide +kernel⟩, lw_t4 (List.mem_of_getElem? (i := 179) rfl), lw_t4 (List.mem_of_getElem? (i := 219) rfl), lw_t4 (List.mem_of_getElem? (i := 220) rfl)⟩
theorem lw_p5 : lw_okq (⟨"java/util/ArrayList", "grow", "(I)[Ljava/lang/Object;"⟩, 3) := ⟨⟨by decide +kernel, by decide +kernel⟩, lw_t4 (List.mem_of_getElem? (i := 179) rfl), lw_t4 (List.mem_of_getElem? (i := 223) rfl), lw_t4 (List.mem_of_getElem? (i := 224) rfl)⟩
theorem lw_p6 : lw_okq (⟨"SecretVault$World", "isUsed", "(I)Z"⟩, 5) := ⟨⟨by decide +kernel, by decide +kernel⟩, lw_t1 (List.mem_of_getElem? (i := 66) rfl), lw_t5 (List.mem_of_getElem? (i := 50) rfl), lw_t5 (List.mem_of_getElem? (i := 51) rfl)⟩
theorem lw_p7 : lw_okq (⟨"SecretVault$World", "drawn", "(II)[I"⟩, 5) := ⟨⟨by decide +kernel, by decide +kernel⟩, lw_t1 (List.mem_of_getElem? (i := 66) rfl), lw_t5 (List.mem_of_getElem? (i := 69) rfl), lw_t5 (List.mem_of_getElem? (i := 70) rfl)⟩
theorem lw_p8 : lw_okq (⟨"SecretVault", "secretIn", "(I)LSecretVault$Secret;"⟩, 5) := ⟨⟨by decide +kernel, by decide +kernel⟩, lw_t1 (List.mem_of_getElem? (i := 58) rfl), lw_t5 (List.mem_of_getElem? (i := 110) rfl), lw_t5 (List.mem_of_getElem? (i := 111) rfl)⟩
theorem lw_p9 : lw_okq (⟨"SecretVault", "used", "(II)Ljava/util/List;"⟩, 5) := ⟨⟨by decide +kernel, by decide +kernel⟩, lw_t1 (List.mem_of_getElem? (i := 58) rfl), lw_t5 (List.mem_of_getElem? (i := 142) rfl), lw_t5 (List.mem_of_getElem? (i := 143) rfl)⟩
theorem lw_p10 : lw_okq (⟨"SecretVault", "failed", "(LSecretVault$Failure;)Ljava/lang/UnsupportedOperationException;"⟩, 5) := ⟨⟨by decide +kernel, by decide +kernel⟩, lw_t1 (List.mem_of_getElem? (i := 58) rfl), lw_t6 (List.mem_of_getElem? (i := 156) rfl), lw_t6 (List.mem_of_getElem? (i := 157) rfl)⟩
theorem lw_p11 : lw_okq (⟨"SecretVault", "shareAt", "(II)LSecretVault$Share;"⟩, 5) := ⟨⟨by decide +kernel, by decide +kernel⟩, lw_t1 (List.mem_of_getElem? (i := 58) rfl), lw_t7 (List.mem_of_getElem? (i := 33) rfl), lw_t7 (List.mem_of_getElem? (i := 34) rfl)⟩
theorem lw_p12 : lw_okq (⟨"SecretVault", "takeBuffer", "()Ljava/lang/String;"⟩, 5) := ⟨⟨by decide +kernel, by decide +kernel⟩, lw_t1 (List.mem_of_getElem? (i := 58) rfl), lw_t7 (List.mem_of_getElem? (i := 109) rfl), lw_t7 (List.mem_of_getElem? (i := 110) rfl)⟩
theorem lw_p13 : lw_okq (⟨"SecretVault$Reader", "number", "(II)I"⟩, 2) := ⟨⟨by decide +kernel, by decide +kernel⟩, lw_t7 (List.mem_of_getElem? (i := 107) rfl), lw_t7 (List.mem_of_getElem? (i := 129) rfl), lw_t7 (List.mem_of_getElem? (i := 130) rfl)⟩
theorem lw_p14 : lw_okq (⟨"SecretVault$Reader", "digit", "(II)I"⟩, 2) := ⟨⟨by decide +kernel, by decide +kernel⟩, lw_t7 (List.mem_of_getElem? (i := 107) rfl), lw_t7 (List.mem_of_getElem? (i := 133) rfl), lw_t7 (List.mem_of_getElem? (i := 134) rfl)⟩
theorem lw_p15 : lw_okq (⟨"SecretVault$Reader", "here", "()I"⟩, 2) := ⟨⟨by decide +kernel, by decide +kernel⟩, lw_t7 (List.mem_of_getElem? (i := 107) rfl), lw_t7 (List.mem_of_getElem? (i := 137) rfl), lw_t7 (List.mem_of_getElem? (i := 138) rfl)⟩
def lw_privs_1 : List (MethodName × Nat) := [(⟨"java/lang/Throwable", "fillInStackTrace", "(I)Ljava/lang/Throwable;"⟩, 6), (⟨"java/util/ArrayDeque", "grow", "(I)V"⟩, 3), (⟨"java/util/ArrayDeque", "newCapacity", "(II)I"⟩, 3), (⟨"java/util/ArrayList", "add", "(Ljava/lang/Object;[Ljava/lang/Object;I)V"⟩, 3), (⟨"java/util/ArrayList", "grow", "()[Ljava/lang/Object;"⟩, 3), (⟨"java/util/ArrayList", "grow", "(I)[Ljava/lang/Object;"⟩, 3), (⟨"SecretVault$World", "isUsed", "(I)Z"⟩, 5), (⟨"SecretVault$World", "drawn", "(II)[I"⟩, 5), (⟨"SecretVault", "secretIn", "(I)LSecretVault$Secret;"⟩, 5), (⟨"SecretVault", "used", "(II)Ljava/util/List;"⟩, 5), (⟨"SecretVault", "failed", "(LSecretVault$Failure;)Ljava/lang/UnsupportedOperationException;"⟩, 5), (⟨"SecretVault", "shareAt", "(II)LSecretVault$Share;"⟩, 5), (⟨"SecretVault", "takeBuffer", "()Ljava/lang/String;"⟩, 5), (⟨"SecretVault$Reader", "number", "(II)I"⟩, 2), (⟨"SecretVault$Reader", "digit", "(II)I"⟩, 2), (⟨"SecretVault$Reader", "here", "()I"⟩, 2)]
theorem lw_r1 : ∀ q ∈ lw_privs_1, lw_okq q := List.forall_mem_cons.mpr ⟨lw_p0, List.forall_mem_cons.mpr ⟨lw_p1, List.forall_mem_cons.mpr ⟨lw_p2, List.forall_mem_cons.mpr ⟨lw_p3, List.forall_mem_cons.mpr ⟨lw_p4, List.forall_mem_cons.mpr ⟨lw_p5, List.forall_mem_cons.mpr ⟨lw_p6, List.forall_mem_cons.mpr ⟨lw_p7, List.forall_mem_cons.mpr ⟨lw_p8, List.forall_mem_cons.mpr ⟨lw_p9, List.forall_mem_cons.mpr ⟨lw_p10, List.forall_mem_cons.mpr ⟨lw_p11, List.forall_mem_cons.mpr ⟨lw_p12, List.forall_mem_cons.mpr ⟨lw_p13, List.forall_mem_cons.mpr ⟨lw_p14, List.forall_mem_cons.mpr ⟨lw_p15, fun _ h => absurd h List.not_mem_nil⟩⟩⟩⟩⟩⟩⟩⟩⟩⟩⟩⟩⟩⟩⟩⟩
theorem lw_p16 : lw_okq (⟨"SecretVault$Reader", "need", "(Z)V"⟩, 2) := ⟨⟨by decide +kernel, by decide +kernel⟩, lw_t7 (List.mem_of_getElem? (i := 107) rfl), lw_t7 (List.mem_of_getElem? (i := 158) rfl), lw_t7 (List.mem_of_getElem? (i := 159) rfl)⟩
theorem lw_p17 : lw_okq (⟨"SecretVault$Reader", "take", "(C)V"⟩, 2) := ⟨⟨by decide +kernel, by decide +kernel⟩, lw_t7 (List.mem_of_getElem? (i := 107) rfl), lw_t7 (List.mem_of_getElem? (i := 181) rfl), lw_t7 (List.mem_of_getElem? (i := 182) rfl)⟩
theorem lw_p18 : lw_okq (⟨"SecretVault$Reader", "policy", "()LSecretVault$Policy;"⟩, 2) := ⟨⟨by decide +kernel, by decide +kernel⟩, lw_t7 (List.mem_of_getElem? (i := 107) rfl), lw_t8 (List.mem_of_getElem? (i := 66) rfl), lw_t8 (List.mem_of_getElem? (i := 67) rfl)⟩
theorem lw_p19 : lw_okq (⟨"SecretVault$Reader", "all", "()LSecretVault$Policy;"⟩, 2) := ⟨⟨by decide +kernel, by decide +kernel⟩, lw_t7 (List.mem_of_getElem? (i := 107) rfl), lw_t8 (List.mem_of_getElem? (i := 72) rfl), lw_t8 (List.mem_of_getElem? (i := 73) rfl)⟩
theorem lw_p20 : lw_okq (⟨"SecretVault$Reader", "part", "()LSecretVault$Policy;"⟩, 2) := ⟨⟨by decide +kernel, by decide +kernel⟩, lw_t7 (List.mem_of_getElem? (i := 107) rfl), lw_t8 (List.mem_of_getElem? (i := 76) rfl), lw_t8 (List.mem_of_getElem? (i := 77) rfl)⟩
theorem lw_p21 : lw_okq (⟨"SecretVault$Reader", "after", "()I"⟩, 2) := ⟨⟨by decide +kernel, by decide +kernel⟩, lw_t7 (List.mem_of_getElem? (i := 107) rfl), lw_t8 (List.mem_of_getElem? (i := 80) rfl), lw_t8 (List.mem_of_getElem? (i := 81) rfl)⟩
theorem lw_p22 : lw_okq (⟨"SecretVault$Reader", "some", "()LSecretVault$Policy;"⟩, 2) := ⟨⟨by decide +kernel, by decide +kernel⟩, lw_t7 (List.mem_of_getElem? (i := 107) rfl), lw_t8 (List.mem_of_getElem? (i := 84) rfl), lw_t8 (List.mem_of_getElem? (i := 85) rfl)⟩
theorem lw_p23 : lw_okq (⟨"SecretVault", "policyOf", "(I)LSecretVault$Policy;"⟩, 5) := ⟨⟨by decide +kernel, by decide +kernel⟩, lw_t1 (List.mem_of_getElem? (i := 58) rfl), lw_t8 (List.mem_of_getElem? (i := 158) rfl), lw_t8 (List.mem_of_getElem? (i := 159) rfl)⟩
theorem lw_p24 : lw_okq (⟨"SecretVaultModel", "done", "(I)I"⟩, 22) := ⟨⟨by decide +kernel, by decide +kernel⟩, lw_t9 (List.mem_of_getElem? (i := 107) rfl), lw_t9 (List.mem_of_getElem? (i := 188) rfl), lw_t9 (List.mem_of_getElem? (i := 189) rfl)⟩
theorem lw_p25 : lw_okq (⟨"SecretVaultModel", "drawn", "()I"⟩, 22) := ⟨⟨by decide +kernel, by decide +kernel⟩, lw_t9 (List.mem_of_getElem? (i := 107) rfl), lw_t9 (List.mem_of_getElem? (i := 196) rfl), lw_t9 (List.mem_of_getElem? (i := 197) rfl)⟩
theorem lw_p26 : lw_okq (⟨"SecretVaultModel", "fails", "(I)I"⟩, 22) := ⟨⟨by decide +kernel, by decide +kernel⟩, lw_t9 (List.mem_of_getElem? (i := 107) rfl), lw_t9 (List.mem_of_getElem? (i := 211) rfl), lw_t9 (List.mem_of_getElem? (i := 212) rfl)⟩
theorem lw_p27 : lw_okq (⟨"SecretVaultModel", "isPresent", "(I)Z"⟩, 22) := ⟨⟨by decide +kernel, by decide +kernel⟩, lw_t9 (List.mem_of_getElem? (i := 107) rfl), lw_t9 (List.mem_of_getElem? (i := 219) rfl), lw_t9 (List.mem_of_getElem? (i := 220) rfl)⟩
theorem lw_p28 : lw_okq (⟨"SecretVaultModel", "hasShare", "(II)Z"⟩, 22) := ⟨⟨by decide +kernel, by decide +kernel⟩, lw_t9 (List.mem_of_getElem? (i := 107) rfl), lw_t9 (List.mem_of_getElem? (i := 227) rfl), lw_t9 (List.mem_of_getElem? (i := 228) rfl)⟩
theorem lw_p29 : lw_okq (⟨"SecretVaultModel", "shareOf", "(III)I"⟩, 22) := ⟨⟨by decide +kernel, by decide +kernel⟩, lw_t9 (List.mem_of_getElem? (i := 107) rfl), lw_t9 (List.mem_of_getElem? (i := 231) rfl), lw_t9 (List.mem_of_getElem? (i := 232) rfl)⟩
theorem lw_p30 : lw_okq (⟨"SecretVaultModel", "of", "(II)I"⟩, 22) := ⟨⟨by decide +kernel, by decide +kernel⟩, lw_t9 (List.mem_of_getElem? (i := 107) rfl), lw_t9 (List.mem_of_getElem? (i := 235) rfl), lw_t9 (List.mem_of_getElem? (i := 236) rfl)⟩
theorem lw_p31 : lw_okq (⟨"SecretVaultModel", "stateOf", "(II)I"⟩, 22) := ⟨⟨by decide +kernel, by decide +kernel⟩, lw_t9 (List.mem_of_getElem? (i := 107) rfl), lw_t9 (List.mem_of_getElem? (i := 239) rfl), lw_t10 (List.mem_of_getElem? (i := 0) rfl)⟩
def lw_privs_2 : List (MethodName × Nat) := [(⟨"SecretVault$Reader", "need", "(Z)V"⟩, 2), (⟨"SecretVault$Reader", "take", "(C)V"⟩, 2), (⟨"SecretVault$Reader", "policy", "()LSecretVault$Policy;"⟩, 2), (⟨"SecretVault$Reader", "all", "()LSecretVault$Policy;"⟩, 2), (⟨"SecretVault$Reader", "part", "()LSecretVault$Policy;"⟩, 2), (⟨"SecretVault$Reader", "after", "()I"⟩, 2), (⟨"SecretVault$Reader", "some", "()LSecretVault$Policy;"⟩, 2), (⟨"SecretVault", "policyOf", "(I)LSecretVault$Policy;"⟩, 5), (⟨"SecretVaultModel", "done", "(I)I"⟩, 22), (⟨"SecretVaultModel", "drawn", "()I"⟩, 22), (⟨"SecretVaultModel", "fails", "(I)I"⟩, 22), (⟨"SecretVaultModel", "isPresent", "(I)Z"⟩, 22), (⟨"SecretVaultModel", "hasShare", "(II)Z"⟩, 22), (⟨"SecretVaultModel", "shareOf", "(III)I"⟩, 22), (⟨"SecretVaultModel", "of", "(II)I"⟩, 22), (⟨"SecretVaultModel", "stateOf", "(II)I"⟩, 22)]
theorem lw_r2 : ∀ q ∈ lw_privs_2, lw_okq q := List.forall_mem_cons.mpr ⟨lw_p16, List.forall_mem_cons.mpr ⟨lw_p17, List.forall_mem_cons.mpr ⟨lw_p18, List.forall_mem_cons.mpr ⟨lw_p19, List.forall_mem_cons.mpr ⟨lw_p20, List.forall_mem_cons.mpr ⟨lw_p21, List.forall_mem_cons.mpr ⟨lw_p22, List.forall_mem_cons.mpr ⟨lw_p23, List.forall_mem_cons.mpr ⟨lw_p24, List.forall_mem_cons.mpr ⟨lw_p25, List.forall_mem_cons.mpr ⟨lw_p26, List.forall_mem_cons.mpr ⟨lw_p27, List.forall_mem_cons.mpr ⟨lw_p28, List.forall_mem_cons.mpr ⟨lw_p29, List.forall_mem_cons.mpr ⟨lw_p30, List.forall_mem_cons.mpr ⟨lw_p31, fun _ h => absurd h List.not_mem_nil⟩⟩⟩⟩⟩⟩⟩⟩⟩⟩⟩⟩⟩⟩⟩⟩
theorem lw_p32 : lw_okq (⟨"SecretVaultModel", "usedPlaces", "()I"⟩, 22) := ⟨⟨by decide +kernel, by decide +kernel⟩, lw_t9 (List.mem_of_getElem? (i := 107) rfl), lw_t10 (List.mem_of_getElem? (i := 13) rfl), lw_t10 (List.mem_of_getElem? (i := 14) rfl)⟩
theorem lw_p33 : lw_okq (⟨"SecretVaultModel", "sets", "(III)V"⟩, 22) := ⟨⟨by decide +kernel, by decide +kernel⟩, lw_t9 (List.mem_of_getElem? (i := 107) rfl), lw_t10 (List.mem_of_getElem? (i := 17) rfl), lw_t10 (List.mem_of_getElem? (i := 18) rfl)⟩
theorem lw_p34 : lw_okq (⟨"SecretVaultModel", "deals", "(IIII)I"⟩, 22) := ⟨⟨by decide +kernel, by decide +kernel⟩, lw_t9 (List.mem_of_getElem? (i := 107) rfl), lw_t10 (List.mem_of_getElem? (i := 21) rfl), lw_t10 (List.mem_of_getElem? (i := 22) rfl)⟩
theorem lw_p35 : lw_okq (⟨"SecretVaultModel", "removes", "(II)V"⟩, 22) := ⟨⟨by decide +kernel, by decide +kernel⟩, lw_t9 (List.mem_of_getElem? (i := 107) rfl), lw_t10 (List.mem_of_getElem? (i := 25) rfl), lw_t10 (List.mem_of_getElem? (i := 26) rfl)⟩
theorem lw_p36 : lw_okq (⟨"SecretVaultModel", "isUsed", "(I)Z"⟩, 22) := ⟨⟨by decide +kernel, by decide +kernel⟩, lw_t9 (List.mem_of_getElem? (i := 107) rfl), lw_t10 (List.mem_of_getElem? (i := 32) rfl), lw_t10 (List.mem_of_getElem? (i := 33) rfl)⟩
theorem lw_p37 : lw_okq (⟨"SecretVaultModel", "polynomial", "(II)I"⟩, 22) := ⟨⟨by decide +kernel, by decide +kernel⟩, lw_t9 (List.mem_of_getElem? (i := 107) rfl), lw_t10 (List.mem_of_getElem? (i := 36) rfl), lw_t10 (List.mem_of_getElem? (i := 37) rfl)⟩
theorem lw_p38 : lw_okq (⟨"SecretVaultModel", "setsShare", "(IIII)V"⟩, 22) := ⟨⟨by decide +kernel, by decide +kernel⟩, lw_t9 (List.mem_of_getElem? (i := 107) rfl), lw_t10 (List.mem_of_getElem? (i := 40) rfl), lw_t10 (List.mem_of_getElem? (i := 41) rfl)⟩
theorem lw_p39 : lw_okq (⟨"SecretVaultModel", "happens", "(I)V"⟩, 22) := ⟨⟨by decide +kernel, by decide +kernel⟩, lw_t9 (List.mem_of_getElem? (i := 107) rfl), lw_t10 (List.mem_of_getElem? (i := 44) rfl), lw_t10 (List.mem_of_getElem? (i := 45) rfl)⟩
theorem lw_p40 : lw_okq (⟨"SecretVaultModel", "lacks", "(I)I"⟩, 22) := ⟨⟨by decide +kernel, by decide +kernel⟩, lw_t9 (List.mem_of_getElem? (i := 107) rfl), lw_t10 (List.mem_of_getElem? (i := 52) rfl), lw_t10 (List.mem_of_getElem? (i := 53) rfl)⟩
theorem lw_p41 : lw_okq (⟨"SecretVaultModel", "lacksOpen", "(II)I"⟩, 22) := ⟨⟨by decide +kernel, by decide +kernel⟩, lw_t9 (List.mem_of_getElem? (i := 107) rfl), lw_t10 (List.mem_of_getElem? (i := 67) rfl), lw_t10 (List.mem_of_getElem? (i := 68) rfl)⟩
theorem lw_p42 : lw_okq (⟨"SecretVaultModel", "opens", "(II)Z"⟩, 22) := ⟨⟨by decide +kernel, by decide +kernel⟩, lw_t9 (List.mem_of_getElem? (i := 107) rfl), lw_t10 (List.mem_of_getElem? (i := 71) rfl), lw_t10 (List.mem_of_getElem? (i := 72) rfl)⟩
theorem lw_p43 : lw_okq (⟨"SecretVaultModel", "taken", "(I)I"⟩, 22) := ⟨⟨by decide +kernel, by decide +kernel⟩, lw_t9 (List.mem_of_getElem? (i := 107) rfl), lw_t10 (List.mem_of_getElem? (i := 75) rfl), lw_t10 (List.mem_of_getElem? (i := 76) rfl)⟩
theorem lw_p44 : lw_okq (⟨"SecretVaultModel", "tellNodes", "(IIZ)V"⟩, 22) := ⟨⟨by decide +kernel, by decide +kernel⟩, lw_t9 (List.mem_of_getElem? (i := 107) rfl), lw_t10 (List.mem_of_getElem? (i := 79) rfl), lw_t10 (List.mem_of_getElem? (i := 80) rfl)⟩
theorem lw_p45 : lw_okq (⟨"SecretVaultModel", "fulfilled", "(II)Z"⟩, 22) := ⟨⟨by decide +kernel, by decide +kernel⟩, lw_t9 (List.mem_of_getElem? (i := 107) rfl), lw_t10 (List.mem_of_getElem? (i := 83) rfl), lw_t10 (List.mem_of_getElem? (i := 84) rfl)⟩
theorem lw_p46 : lw_okq (⟨"SecretVaultModel", "hasPolicy", "(I)Z"⟩, 22) := ⟨⟨by decide +kernel, by decide +kernel⟩, lw_t9 (List.mem_of_getElem? (i := 107) rfl), lw_t10 (List.mem_of_getElem? (i := 87) rfl), lw_t10 (List.mem_of_getElem? (i := 88) rfl)⟩
theorem lw_p47 : lw_okq (⟨"SecretVaultModel", "next", "(IIII)I"⟩, 22) := ⟨⟨by decide +kernel, by decide +kernel⟩, lw_t9 (List.mem_of_getElem? (i := 107) rfl), lw_t10 (List.mem_of_getElem? (i := 94) rfl), lw_t10 (List.mem_of_getElem? (i := 95) rfl)⟩
def lw_privs_3 : List (MethodName × Nat) := [(⟨"SecretVaultModel", "usedPlaces", "()I"⟩, 22), (⟨"SecretVaultModel", "sets", "(III)V"⟩, 22), (⟨"SecretVaultModel", "deals", "(IIII)I"⟩, 22), (⟨"SecretVaultModel", "removes", "(II)V"⟩, 22), (⟨"SecretVaultModel", "isUsed", "(I)Z"⟩, 22), (⟨"SecretVaultModel", "polynomial", "(II)I"⟩, 22), (⟨"SecretVaultModel", "setsShare", "(IIII)V"⟩, 22), (⟨"SecretVaultModel", "happens", "(I)V"⟩, 22), (⟨"SecretVaultModel", "lacks", "(I)I"⟩, 22), (⟨"SecretVaultModel", "lacksOpen", "(II)I"⟩, 22), (⟨"SecretVaultModel", "opens", "(II)Z"⟩, 22), (⟨"SecretVaultModel", "taken", "(I)I"⟩, 22), (⟨"SecretVaultModel", "tellNodes", "(IIZ)V"⟩, 22), (⟨"SecretVaultModel", "fulfilled", "(II)Z"⟩, 22), (⟨"SecretVaultModel", "hasPolicy", "(I)Z"⟩, 22), (⟨"SecretVaultModel", "next", "(IIII)I"⟩, 22)]
theorem lw_r3 : ∀ q ∈ lw_privs_3, lw_okq q := List.forall_mem_cons.mpr ⟨lw_p32, List.forall_mem_cons.mpr ⟨lw_p33, List.forall_mem_cons.mpr ⟨lw_p34, List.forall_mem_cons.mpr ⟨lw_p35, List.forall_mem_cons.mpr ⟨lw_p36, List.forall_mem_cons.mpr ⟨lw_p37, List.forall_mem_cons.mpr ⟨lw_p38, List.forall_mem_cons.mpr ⟨lw_p39, List.forall_mem_cons.mpr ⟨lw_p40, List.forall_mem_cons.mpr ⟨lw_p41, List.forall_mem_cons.mpr ⟨lw_p42, List.forall_mem_cons.mpr ⟨lw_p43, List.forall_mem_cons.mpr ⟨lw_p44, List.forall_mem_cons.mpr ⟨lw_p45, List.forall_mem_cons.mpr ⟨lw_p46, List.forall_mem_cons.mpr ⟨lw_p47, fun _ h => absurd h List.not_mem_nil⟩⟩⟩⟩⟩⟩⟩⟩⟩⟩⟩⟩⟩⟩⟩⟩
theorem lw_p48 : lw_okq (⟨"SecretVaultModel", "isCount", "(III)Z"⟩, 22) := ⟨⟨by decide +kernel, by decide +kernel⟩, lw_t9 (List.mem_of_getElem? (i := 107) rfl), lw_t10 (List.mem_of_getElem? (i := 98) rfl), lw_t10 (List.mem_of_getElem? (i := 99) rfl)⟩
theorem lw_p49 : lw_okq (⟨"SecretVaultModel", "reports", "(II)V"⟩, 22) := ⟨⟨by decide +kernel, by decide +kernel⟩, lw_t9 (List.mem_of_getElem? (i := 107) rfl), lw_t10 (List.mem_of_getElem? (i := 102) rfl), lw_t10 (List.mem_of_getElem? (i := 103) rfl)⟩
theorem lw_p50 : lw_okq (⟨"SecretVaultModel", "level", "(II)V"⟩, 22) := ⟨⟨by decide +kernel, by decide +kernel⟩, lw_t9 (List.mem_of_getElem? (i := 107) rfl), lw_t10 (List.mem_of_getElem? (i := 106) rfl), lw_t10 (List.mem_of_getElem? (i := 107) rfl)⟩
theorem lw_p51 : lw_okq (⟨"SecretVaultModel", "valueAt", "(III)I"⟩, 22) := ⟨⟨by decide +kernel, by decide +kernel⟩, lw_t9 (List.mem_of_getElem? (i := 107) rfl), lw_t10 (List.mem_of_getElem? (i := 110) rfl), lw_t10 (List.mem_of_getElem? (i := 111) rfl)⟩
theorem lw_p52 : lw_okq (⟨"SecretVaultModel", "isGood", "(II)Z"⟩, 22) := ⟨⟨by decide +kernel, by decide +kernel⟩, lw_t9 (List.mem_of_getElem? (i := 107) rfl), lw_t10 (List.mem_of_getElem? (i := 121) rfl), lw_t10 (List.mem_of_getElem? (i := 122) rfl)⟩
theorem lw_p53 : lw_okq (⟨"SecretVaultModel", "lacksSet", "(II)I"⟩, 22) := ⟨⟨by decide +kernel, by decide +kernel⟩, lw_t9 (List.mem_of_getElem? (i := 107) rfl), lw_t10 (List.mem_of_getElem? (i := 137) rfl), lw_t10 (List.mem_of_getElem? (i := 138) rfl)⟩
theorem lw_p54 : lw_okq (⟨"SecretVaultModel", "count", "(II)I"⟩, 22) := ⟨⟨by decide +kernel, by decide +kernel⟩, lw_t9 (List.mem_of_getElem? (i := 107) rfl), lw_t10 (List.mem_of_getElem? (i := 149) rfl), lw_t10 (List.mem_of_getElem? (i := 150) rfl)⟩
theorem lw_p55 : lw_okq (⟨"SecretVaultModel", "writesNumber", "(I)V"⟩, 22) := ⟨⟨by decide +kernel, by decide +kernel⟩, lw_t9 (List.mem_of_getElem? (i := 107) rfl), lw_t10 (List.mem_of_getElem? (i := 172) rfl), lw_t10 (List.mem_of_getElem? (i := 173) rfl)⟩
theorem lw_p56 : lw_okq (⟨"SecretVaultModel", "writes", "(I)V"⟩, 22) := ⟨⟨by decide +kernel, by decide +kernel⟩, lw_t9 (List.mem_of_getElem? (i := 107) rfl), lw_t10 (List.mem_of_getElem? (i := 176) rfl), lw_t10 (List.mem_of_getElem? (i := 177) rfl)⟩
theorem lw_p57 : lw_okq (⟨"SecretVaultModel", "paperAt", "(I)I"⟩, 22) := ⟨⟨by decide +kernel, by decide +kernel⟩, lw_t9 (List.mem_of_getElem? (i := 107) rfl), lw_t10 (List.mem_of_getElem? (i := 183) rfl), lw_t10 (List.mem_of_getElem? (i := 184) rfl)⟩
theorem lw_p58 : lw_okq (⟨"SecretVaultModel", "readsShare", "()Z"⟩, 22) := ⟨⟨by decide +kernel, by decide +kernel⟩, lw_t9 (List.mem_of_getElem? (i := 107) rfl), lw_t10 (List.mem_of_getElem? (i := 195) rfl), lw_t10 (List.mem_of_getElem? (i := 196) rfl)⟩
theorem lw_p59 : lw_okq (⟨"SecretVaultModel", "readsNumber", "(II)Z"⟩, 22) := ⟨⟨by decide +kernel, by decide +kernel⟩, lw_t9 (List.mem_of_getElem? (i := 107) rfl), lw_t10 (List.mem_of_getElem? (i := 199) rfl), lw_t10 (List.mem_of_getElem? (i := 200) rfl)⟩
theorem lw_p60 : lw_okq (⟨"SecretVaultModel", "here", "()I"⟩, 22) := ⟨⟨by decide +kernel, by decide +kernel⟩, lw_t9 (List.mem_of_getElem? (i := 107) rfl), lw_t10 (List.mem_of_getElem? (i := 203) rfl), lw_t10 (List.mem_of_getElem? (i := 204) rfl)⟩
theorem lw_p61 : lw_okq (⟨"SecretVaultModel", "eats", "(I)Z"⟩, 22) := ⟨⟨by decide +kernel, by decide +kernel⟩, lw_t9 (List.mem_of_getElem? (i := 107) rfl), lw_t10 (List.mem_of_getElem? (i := 207) rfl), lw_t10 (List.mem_of_getElem? (i := 208) rfl)⟩
theorem lw_p62 : lw_okq (⟨"SecretVaultModel", "isDigitAt", "(II)Z"⟩, 22) := ⟨⟨by decide +kernel, by decide +kernel⟩, lw_t9 (List.mem_of_getElem? (i := 107) rfl), lw_t11 (List.mem_of_getElem? (i := 13) rfl), lw_t11 (List.mem_of_getElem? (i := 14) rfl)⟩
theorem lw_p63 : lw_okq (⟨"SecretVaultModel", "countsAround", "(II)I"⟩, 22) := ⟨⟨by decide +kernel, by decide +kernel⟩, lw_t9 (List.mem_of_getElem? (i := 107) rfl), lw_t11 (List.mem_of_getElem? (i := 17) rfl), lw_t11 (List.mem_of_getElem? (i := 18) rfl)⟩
def lw_privs_4 : List (MethodName × Nat) := [(⟨"SecretVaultModel", "isCount", "(III)Z"⟩, 22), (⟨"SecretVaultModel", "reports", "(II)V"⟩, 22), (⟨"SecretVaultModel", "level", "(II)V"⟩, 22), (⟨"SecretVaultModel", "valueAt", "(III)I"⟩, 22), (⟨"SecretVaultModel", "isGood", "(II)Z"⟩, 22), (⟨"SecretVaultModel", "lacksSet", "(II)I"⟩, 22), (⟨"SecretVaultModel", "count", "(II)I"⟩, 22), (⟨"SecretVaultModel", "writesNumber", "(I)V"⟩, 22), (⟨"SecretVaultModel", "writes", "(I)V"⟩, 22), (⟨"SecretVaultModel", "paperAt", "(I)I"⟩, 22), (⟨"SecretVaultModel", "readsShare", "()Z"⟩, 22), (⟨"SecretVaultModel", "readsNumber", "(II)Z"⟩, 22), (⟨"SecretVaultModel", "here", "()I"⟩, 22), (⟨"SecretVaultModel", "eats", "(I)Z"⟩, 22), (⟨"SecretVaultModel", "isDigitAt", "(II)Z"⟩, 22), (⟨"SecretVaultModel", "countsAround", "(II)I"⟩, 22)]
theorem lw_r4 : ∀ q ∈ lw_privs_4, lw_okq q := List.forall_mem_cons.mpr ⟨lw_p48, List.forall_mem_cons.mpr ⟨lw_p49, List.forall_mem_cons.mpr ⟨lw_p50, List.forall_mem_cons.mpr ⟨lw_p51, List.forall_mem_cons.mpr ⟨lw_p52, List.forall_mem_cons.mpr ⟨lw_p53, List.forall_mem_cons.mpr ⟨lw_p54, List.forall_mem_cons.mpr ⟨lw_p55, List.forall_mem_cons.mpr ⟨lw_p56, List.forall_mem_cons.mpr ⟨lw_p57, List.forall_mem_cons.mpr ⟨lw_p58, List.forall_mem_cons.mpr ⟨lw_p59, List.forall_mem_cons.mpr ⟨lw_p60, List.forall_mem_cons.mpr ⟨lw_p61, List.forall_mem_cons.mpr ⟨lw_p62, List.forall_mem_cons.mpr ⟨lw_p63, fun _ h => absurd h List.not_mem_nil⟩⟩⟩⟩⟩⟩⟩⟩⟩⟩⟩⟩⟩⟩⟩⟩
theorem lw_p64 : lw_okq (⟨"SecretVaultModel", "isSmallest", "(II)Z"⟩, 22) := ⟨⟨by decide +kernel, by decide +kernel⟩, lw_t9 (List.mem_of_getElem? (i := 107) rfl), lw_t11 (List.mem_of_getElem? (i := 29) rfl), lw_t11 (List.mem_of_getElem? (i := 30) rfl)⟩
theorem lw_p65 : lw_okq (⟨"SecretVaultModel", "secrets", "()I"⟩, 22) := ⟨⟨by decide +kernel, by decide +kernel⟩, lw_t9 (List.mem_of_getElem? (i := 107) rfl), lw_t11 (List.mem_of_getElem? (i := 60) rfl), lw_t11 (List.mem_of_getElem? (i := 61) rfl)⟩
def lw_privs_5 : List (MethodName × Nat) := [(⟨"SecretVaultModel", "isSmallest", "(II)Z"⟩, 22), (⟨"SecretVaultModel", "secrets", "()I"⟩, 22)]
theorem lw_r5 : ∀ q ∈ lw_privs_5, lw_okq q := List.forall_mem_cons.mpr ⟨lw_p64, List.forall_mem_cons.mpr ⟨lw_p65, fun _ h => absurd h List.not_mem_nil⟩⟩
def lw_privs : List (MethodName × Nat) := lw_privs_1 ++ (lw_privs_2 ++ (lw_privs_3 ++ (lw_privs_4 ++ (lw_privs_5))))
def lw_tbl : List Cond := k2_sels lw_privs ++ tables_1
theorem lw_privs_ok : ∀ q ∈ lw_privs, lw_okq q := by
  show ∀ q ∈ lw_privs_1 ++ (lw_privs_2 ++ (lw_privs_3 ++ (lw_privs_4 ++ (lw_privs_5)))), lw_okq q
  exact List.forall_mem_append.mpr ⟨lw_r1, List.forall_mem_append.mpr ⟨lw_r2, List.forall_mem_append.mpr ⟨lw_r3, List.forall_mem_append.mpr ⟨lw_r4, lw_r5⟩⟩⟩⟩
-- ===== ONE list of words for every method: the tables' words that hold all through a run =====
def lw_all : List Cond := lw_tbl.filter goodWord
/-- a word of the tables by its place: claim/WORDS.tsv -/
theorem lw_w {w : Cond} (i : Nat) (h : lw_tbl[i]? = some w) (g : goodWord w = true) : w ∈ lw_all := List.mem_filter.mpr ⟨List.mem_of_getElem? h, g⟩
theorem lw_all_tbl {w : Cond} (h : w ∈ lw_all) : w ∈ lw_tbl := (List.mem_filter.mp h).1
theorem lw_self : GoodIn lw_all lw_all := fun w h => ⟨h, good_of_word (List.mem_filter.mp h).2⟩
/-- a class's field words, by their places -/
theorem lw_in (ws : List Cond) (ps : List Nat) (hp : ws = ps.filterMap (fun i => lw_tbl[i]?)) (hg : ws.all goodWord = true) : ∀ w ∈ ws, w ∈ lw_all := by
  intro w h
  have h1 := List.all_eq_true.mp hg w h
  rw [hp] at h
  obtain ⟨i, -, hi⟩ := List.mem_filterMap.mp h
  exact lw_w i hi h1
/-- the words of a contract for the method y with code b, L locals, answer r -/
abbrev ws_ (y : MethodName) (b : ByteArray) (L : Nat) (r : Option FieldType) : List Cond := Cond.code y b L r :: lw_all
theorem lw_meth {y : MethodName} {b : ByteArray} {L : Nat} {r : Option FieldType} (h : Cond.code y b L r ∈ lw_all) : GoodIn lw_all (ws_ y b L r) := by
  intro w hw
  rcases List.mem_cons.mp hw with e | e
  · rw [e]
    exact lw_self _ h
  · exact lw_self _ e
theorem lw_app {a c : List Cond} (ha : ∀ w ∈ a, w ∈ lw_all) (hc : GoodIn lw_all c) : GoodIn lw_all (a ++ c) := by
  intro w hw
  rcases List.mem_append.mp hw with e | e
  · exact lw_self w (ha w e)
  · exact hc w e
/-- what a call through an object asks: cwV n hts (lw_V ..) -/
theorem lw_V {own : String} {idx : Nat} {C : String} {y : MethodName} {b : ByteArray} {L : Nat} {r : Option FieldType} (h1 : Cond.methodLink own idx y ∈ lw_all) (h2 : Cond.instanceMethod y ∈ lw_all) (h3 : Cond.selects C y y ∈ lw_all) (h4 : Cond.initialized C ∈ lw_all) (h5 : Cond.code y b L r ∈ lw_all) : GoodIn lw_all (wsV own idx C y (ws_ y b L r)) := by
  refine lw_app ?_ (lw_meth h5)
  intro w hw
  simp only [List.mem_cons, List.not_mem_nil, or_false] at hw
  rcases hw with e | e | e | e
  · rw [e]; exact h1
  · rw [e]; exact h2
  · rw [e]; exact h3
  · rw [e]; exact h4
/-- what a static call asks: va_cwS n hts (lw_S ..) -/
theorem lw_S {own : String} {idx : Nat} {y : MethodName} {b : ByteArray} {L : Nat} {r : Option FieldType} (h1 : Cond.methodLink own idx y ∈ lw_all) (h2 : Cond.static y ∈ lw_all) (h3 : Cond.initialized y.cls ∈ lw_all) (h4 : Cond.code y b L r ∈ lw_all) : GoodIn lw_all (va_wsS own idx y (ws_ y b L r)) := by
  refine lw_app ?_ (lw_meth h4)
  intro w hw
  simp only [List.mem_cons, List.not_mem_nil, or_false] at hw
  rcases hw with e | e | e
  · rw [e]; exact h1
  · rw [e]; exact h2
  · rw [e]; exact h3
/-- the words of a contract for a method WITH HANDLERS (hh: its table) -/
abbrev wsW_ (y : MethodName) (b : ByteArray) (L : Nat) (r : Option FieldType) (hh : List (Nat × Nat × Nat × Nat)) : List Cond := Cond.codeWith y b L r hh :: lw_all
theorem lw_methW {y : MethodName} {b : ByteArray} {L : Nat} {r : Option FieldType} {hh : List (Nat × Nat × Nat × Nat)} (h : Cond.codeWith y b L r hh ∈ lw_all) : GoodIn lw_all (wsW_ y b L r hh) := by
  intro w hw
  rcases List.mem_cons.mp hw with e | e
  · rw [e]
    exact lw_self _ h
  · exact lw_self _ e
/-- any list of words by their places (lw_in), good -/
theorem lw_good {ws : List Cond} (h : ∀ w ∈ ws, w ∈ lw_all) : GoodIn lw_all ws := fun w hw => lw_self w (h w hw)
/-- what a call of a method with handlers asks: vx_cwVW n hts (lw_VW ..), vx_cwSW n hts (lw_SW ..) -/
theorem lw_VW {own : String} {idx : Nat} {C : String} {y : MethodName} {b : ByteArray} {L : Nat} {r : Option FieldType} {hh : List (Nat × Nat × Nat × Nat)} (h1 : Cond.methodLink own idx y ∈ lw_all) (h2 : Cond.instanceMethod y ∈ lw_all) (h3 : Cond.selects C y y ∈ lw_all) (h4 : Cond.initialized C ∈ lw_all) (h5 : Cond.codeWith y b L r hh ∈ lw_all) : GoodIn lw_all (wsV own idx C y (wsW_ y b L r hh)) := by
  refine lw_app ?_ (lw_methW h5)
  intro w hw
  simp only [List.mem_cons, List.not_mem_nil, or_false] at hw
  rcases hw with e | e | e | e
  · rw [e]; exact h1
  · rw [e]; exact h2
  · rw [e]; exact h3
  · rw [e]; exact h4
theorem lw_SW {own : String} {idx : Nat} {y : MethodName} {b : ByteArray} {L : Nat} {r : Option FieldType} {hh : List (Nat × Nat × Nat × Nat)} (h1 : Cond.methodLink own idx y ∈ lw_all) (h2 : Cond.static y ∈ lw_all) (h3 : Cond.initialized y.cls ∈ lw_all) (h4 : Cond.codeWith y b L r hh ∈ lw_all) : GoodIn lw_all (va_wsS own idx y (wsW_ y b L r hh)) := by
  refine lw_app ?_ (lw_methW h4)
  intro w hw
  simp only [List.mem_cons, List.not_mem_nil, or_false] at hw
  rcases hw with e | e | e
  · rw [e]; exact h1
  · rw [e]; exact h2
  · rw [e]; exact h3
/-- a word by its place in its run of the tables -/
theorem lw_at {r : List Cond} (hr : ∀ w ∈ r, w ∈ lw_tbl) {w : Cond} (i : Nat) (h : r[i]? = some w) : w ∈ lw_tbl := hr w (List.mem_of_getElem? h)
theorem lw_g {w : Cond} (h : w ∈ lw_tbl) (g : goodWord w = true) : w ∈ lw_all := List.mem_filter.mpr ⟨h, g⟩
theorem lw_ms : ∀ w ∈ k2_sels lw_privs, w ∈ lw_tbl := fun w h => show w ∈ k2_sels lw_privs ++ tables_1 from List.mem_append_left _ h
theorem lw_m1 : ∀ w ∈ tables_1_1, w ∈ lw_tbl := fun w h => show w ∈ k2_sels lw_privs ++ tables_1 from List.mem_append_right (k2_sels lw_privs) (show w ∈ tables_1 from List.mem_append_left _ h)
theorem lw_m2 : ∀ w ∈ tables_1_2, w ∈ lw_tbl := fun w h => show w ∈ k2_sels lw_privs ++ tables_1 from List.mem_append_right (k2_sels lw_privs) (show w ∈ tables_1 from List.mem_append_right _ (List.mem_append_left _ h))
theorem lw_m3 : ∀ w ∈ tables_1_3, w ∈ lw_tbl := fun w h => show w ∈ k2_sels lw_privs ++ tables_1 from List.mem_append_right (k2_sels lw_privs) (show w ∈ tables_1 from List.mem_append_right _ (List.mem_append_right _ (List.mem_append_left _ h)))
theorem lw_m4 : ∀ w ∈ tables_1_4, w ∈ lw_tbl := fun w h => show w ∈ k2_sels lw_privs ++ tables_1 from List.mem_append_right (k2_sels lw_privs) (show w ∈ tables_1 from List.mem_append_right _ (List.mem_append_right _ (List.mem_append_right _ (List.mem_append_left _ h))))
theorem lw_m5 : ∀ w ∈ tables_1_5, w ∈ lw_tbl := fun w h => show w ∈ k2_sels lw_privs ++ tables_1 from List.mem_append_right (k2_sels lw_privs) (show w ∈ tables_1 from List.mem_append_right _ (List.mem_append_right _ (List.mem_append_right _ (List.mem_append_right _ (List.mem_append_left _ h)))))
theorem lw_m6 : ∀ w ∈ tables_1_6, w ∈ lw_tbl := fun w h => show w ∈ k2_sels lw_privs ++ tables_1 from List.mem_append_right (k2_sels lw_privs) (show w ∈ tables_1 from List.mem_append_right _ (List.mem_append_right _ (List.mem_append_right _ (List.mem_append_right _ (List.mem_append_right _ (List.mem_append_left _ h))))))
theorem lw_m7 : ∀ w ∈ tables_1_7, w ∈ lw_tbl := fun w h => show w ∈ k2_sels lw_privs ++ tables_1 from List.mem_append_right (k2_sels lw_privs) (show w ∈ tables_1 from List.mem_append_right _ (List.mem_append_right _ (List.mem_append_right _ (List.mem_append_right _ (List.mem_append_right _ (List.mem_append_right _ (List.mem_append_left _ h)))))))
theorem lw_m8 : ∀ w ∈ tables_1_8, w ∈ lw_tbl := fun w h => show w ∈ k2_sels lw_privs ++ tables_1 from List.mem_append_right (k2_sels lw_privs) (show w ∈ tables_1 from List.mem_append_right _ (List.mem_append_right _ (List.mem_append_right _ (List.mem_append_right _ (List.mem_append_right _ (List.mem_append_right _ (List.mem_append_right _ (List.mem_append_left _ h))))))))
theorem lw_m9 : ∀ w ∈ tables_1_9, w ∈ lw_tbl := fun w h => show w ∈ k2_sels lw_privs ++ tables_1 from List.mem_append_right (k2_sels lw_privs) (show w ∈ tables_1 from List.mem_append_right _ (List.mem_append_right _ (List.mem_append_right _ (List.mem_append_right _ (List.mem_append_right _ (List.mem_append_right _ (List.mem_append_right _ (List.mem_append_right _ (List.mem_append_left _ h)))))))))
theorem lw_m10 : ∀ w ∈ tables_1_10, w ∈ lw_tbl := fun w h => show w ∈ k2_sels lw_privs ++ tables_1 from List.mem_append_right (k2_sels lw_privs) (show w ∈ tables_1 from List.mem_append_right _ (List.mem_append_right _ (List.mem_append_right _ (List.mem_append_right _ (List.mem_append_right _ (List.mem_append_right _ (List.mem_append_right _ (List.mem_append_right _ (List.mem_append_right _ (List.mem_append_left _ h))))))))))
theorem lw_m11 : ∀ w ∈ tables_1_11, w ∈ lw_tbl := fun w h => show w ∈ k2_sels lw_privs ++ tables_1 from List.mem_append_right (k2_sels lw_privs) (show w ∈ tables_1 from List.mem_append_right _ (List.mem_append_right _ (List.mem_append_right _ (List.mem_append_right _ (List.mem_append_right _ (List.mem_append_right _ (List.mem_append_right _ (List.mem_append_right _ (List.mem_append_right _ (List.mem_append_right _ h))))))))))
theorem qs0 : (Cond.selects "java/lang/Throwable" ⟨"java/lang/Throwable", "fillInStackTrace", "(I)Ljava/lang/Throwable;"⟩ ⟨"java/lang/Throwable", "fillInStackTrace", "(I)Ljava/lang/Throwable;"⟩) ∈ lw_all := lw_g (lw_at lw_ms 0 rfl) rfl
theorem qs1 : (Cond.selects "java/util/ArrayDeque" ⟨"java/util/ArrayDeque", "grow", "(I)V"⟩ ⟨"java/util/ArrayDeque", "grow", "(I)V"⟩) ∈ lw_all := lw_g (lw_at lw_ms 1 rfl) rfl
theorem qs2 : (Cond.selects "java/util/ArrayDeque" ⟨"java/util/ArrayDeque", "newCapacity", "(II)I"⟩ ⟨"java/util/ArrayDeque", "newCapacity", "(II)I"⟩) ∈ lw_all := lw_g (lw_at lw_ms 2 rfl) rfl
theorem qs3 : (Cond.selects "java/util/ArrayList" ⟨"java/util/ArrayList", "add", "(Ljava/lang/Object;[Ljava/lang/Object;I)V"⟩ ⟨"java/util/ArrayList", "add", "(Ljava/lang/Object;[Ljava/lang/Object;I)V"⟩) ∈ lw_all := lw_g (lw_at lw_ms 3 rfl) rfl
theorem qs4 : (Cond.selects "java/util/ArrayList" ⟨"java/util/ArrayList", "grow", "()[Ljava/lang/Object;"⟩ ⟨"java/util/ArrayList", "grow", "()[Ljava/lang/Object;"⟩) ∈ lw_all := lw_g (lw_at lw_ms 4 rfl) rfl
theorem qs5 : (Cond.selects "java/util/ArrayList" ⟨"java/util/ArrayList", "grow", "(I)[Ljava/lang/Object;"⟩ ⟨"java/util/ArrayList", "grow", "(I)[Ljava/lang/Object;"⟩) ∈ lw_all := lw_g (lw_at lw_ms 5 rfl) rfl
theorem qs6 : (Cond.selects "SecretVault$World" ⟨"SecretVault$World", "isUsed", "(I)Z"⟩ ⟨"SecretVault$World", "isUsed", "(I)Z"⟩) ∈ lw_all := lw_g (lw_at lw_ms 6 rfl) rfl
theorem qs7 : (Cond.selects "SecretVault$World" ⟨"SecretVault$World", "drawn", "(II)[I"⟩ ⟨"SecretVault$World", "drawn", "(II)[I"⟩) ∈ lw_all := lw_g (lw_at lw_ms 7 rfl) rfl
theorem qs8 : (Cond.selects "SecretVault" ⟨"SecretVault", "secretIn", "(I)LSecretVault$Secret;"⟩ ⟨"SecretVault", "secretIn", "(I)LSecretVault$Secret;"⟩) ∈ lw_all := lw_g (lw_at lw_ms 8 rfl) rfl
theorem qs9 : (Cond.selects "SecretVault" ⟨"SecretVault", "used", "(II)Ljava/util/List;"⟩ ⟨"SecretVault", "used", "(II)Ljava/util/List;"⟩) ∈ lw_all := lw_g (lw_at lw_ms 9 rfl) rfl
theorem qs10 : (Cond.selects "SecretVault" ⟨"SecretVault", "failed", "(LSecretVault$Failure;)Ljava/lang/UnsupportedOperationException;"⟩ ⟨"SecretVault", "failed", "(LSecretVault$Failure;)Ljava/lang/UnsupportedOperationException;"⟩) ∈ lw_all := lw_g (lw_at lw_ms 10 rfl) rfl
theorem qs11 : (Cond.selects "SecretVault" ⟨"SecretVault", "shareAt", "(II)LSecretVault$Share;"⟩ ⟨"SecretVault", "shareAt", "(II)LSecretVault$Share;"⟩) ∈ lw_all := lw_g (lw_at lw_ms 11 rfl) rfl
theorem qs12 : (Cond.selects "SecretVault" ⟨"SecretVault", "takeBuffer", "()Ljava/lang/String;"⟩ ⟨"SecretVault", "takeBuffer", "()Ljava/lang/String;"⟩) ∈ lw_all := lw_g (lw_at lw_ms 12 rfl) rfl
theorem qs13 : (Cond.selects "SecretVault$Reader" ⟨"SecretVault$Reader", "number", "(II)I"⟩ ⟨"SecretVault$Reader", "number", "(II)I"⟩) ∈ lw_all := lw_g (lw_at lw_ms 13 rfl) rfl
theorem qs14 : (Cond.selects "SecretVault$Reader" ⟨"SecretVault$Reader", "digit", "(II)I"⟩ ⟨"SecretVault$Reader", "digit", "(II)I"⟩) ∈ lw_all := lw_g (lw_at lw_ms 14 rfl) rfl
theorem qs15 : (Cond.selects "SecretVault$Reader" ⟨"SecretVault$Reader", "here", "()I"⟩ ⟨"SecretVault$Reader", "here", "()I"⟩) ∈ lw_all := lw_g (lw_at lw_ms 15 rfl) rfl
theorem qs16 : (Cond.selects "SecretVault$Reader" ⟨"SecretVault$Reader", "need", "(Z)V"⟩ ⟨"SecretVault$Reader", "need", "(Z)V"⟩) ∈ lw_all := lw_g (lw_at lw_ms 16 rfl) rfl
theorem qs17 : (Cond.selects "SecretVault$Reader" ⟨"SecretVault$Reader", "take", "(C)V"⟩ ⟨"SecretVault$Reader", "take", "(C)V"⟩) ∈ lw_all := lw_g (lw_at lw_ms 17 rfl) rfl
theorem qs18 : (Cond.selects "SecretVault$Reader" ⟨"SecretVault$Reader", "policy", "()LSecretVault$Policy;"⟩ ⟨"SecretVault$Reader", "policy", "()LSecretVault$Policy;"⟩) ∈ lw_all := lw_g (lw_at lw_ms 18 rfl) rfl
theorem qs19 : (Cond.selects "SecretVault$Reader" ⟨"SecretVault$Reader", "all", "()LSecretVault$Policy;"⟩ ⟨"SecretVault$Reader", "all", "()LSecretVault$Policy;"⟩) ∈ lw_all := lw_g (lw_at lw_ms 19 rfl) rfl
theorem qs20 : (Cond.selects "SecretVault$Reader" ⟨"SecretVault$Reader", "part", "()LSecretVault$Policy;"⟩ ⟨"SecretVault$Reader", "part", "()LSecretVault$Policy;"⟩) ∈ lw_all := lw_g (lw_at lw_ms 20 rfl) rfl
theorem qs21 : (Cond.selects "SecretVault$Reader" ⟨"SecretVault$Reader", "after", "()I"⟩ ⟨"SecretVault$Reader", "after", "()I"⟩) ∈ lw_all := lw_g (lw_at lw_ms 21 rfl) rfl
theorem qs22 : (Cond.selects "SecretVault$Reader" ⟨"SecretVault$Reader", "some", "()LSecretVault$Policy;"⟩ ⟨"SecretVault$Reader", "some", "()LSecretVault$Policy;"⟩) ∈ lw_all := lw_g (lw_at lw_ms 22 rfl) rfl
theorem qs23 : (Cond.selects "SecretVault" ⟨"SecretVault", "policyOf", "(I)LSecretVault$Policy;"⟩ ⟨"SecretVault", "policyOf", "(I)LSecretVault$Policy;"⟩) ∈ lw_all := lw_g (lw_at lw_ms 23 rfl) rfl
theorem qs24 : (Cond.selects "SecretVaultModel" ⟨"SecretVaultModel", "done", "(I)I"⟩ ⟨"SecretVaultModel", "done", "(I)I"⟩) ∈ lw_all := lw_g (lw_at lw_ms 24 rfl) rfl
theorem qs25 : (Cond.selects "SecretVaultModel" ⟨"SecretVaultModel", "drawn", "()I"⟩ ⟨"SecretVaultModel", "drawn", "()I"⟩) ∈ lw_all := lw_g (lw_at lw_ms 25 rfl) rfl
theorem qs26 : (Cond.selects "SecretVaultModel" ⟨"SecretVaultModel", "fails", "(I)I"⟩ ⟨"SecretVaultModel", "fails", "(I)I"⟩) ∈ lw_all := lw_g (lw_at lw_ms 26 rfl) rfl
theorem qs27 : (Cond.selects "SecretVaultModel" ⟨"SecretVaultModel", "isPresent", "(I)Z"⟩ ⟨"SecretVaultModel", "isPresent", "(I)Z"⟩) ∈ lw_all := lw_g (lw_at lw_ms 27 rfl) rfl
theorem qs28 : (Cond.selects "SecretVaultModel" ⟨"SecretVaultModel", "hasShare", "(II)Z"⟩ ⟨"SecretVaultModel", "hasShare", "(II)Z"⟩) ∈ lw_all := lw_g (lw_at lw_ms 28 rfl) rfl
theorem qs29 : (Cond.selects "SecretVaultModel" ⟨"SecretVaultModel", "shareOf", "(III)I"⟩ ⟨"SecretVaultModel", "shareOf", "(III)I"⟩) ∈ lw_all := lw_g (lw_at lw_ms 29 rfl) rfl
theorem qs30 : (Cond.selects "SecretVaultModel" ⟨"SecretVaultModel", "of", "(II)I"⟩ ⟨"SecretVaultModel", "of", "(II)I"⟩) ∈ lw_all := lw_g (lw_at lw_ms 30 rfl) rfl
theorem qs31 : (Cond.selects "SecretVaultModel" ⟨"SecretVaultModel", "stateOf", "(II)I"⟩ ⟨"SecretVaultModel", "stateOf", "(II)I"⟩) ∈ lw_all := lw_g (lw_at lw_ms 31 rfl) rfl
theorem qs32 : (Cond.selects "SecretVaultModel" ⟨"SecretVaultModel", "usedPlaces", "()I"⟩ ⟨"SecretVaultModel", "usedPlaces", "()I"⟩) ∈ lw_all := lw_g (lw_at lw_ms 32 rfl) rfl
theorem qs33 : (Cond.selects "SecretVaultModel" ⟨"SecretVaultModel", "sets", "(III)V"⟩ ⟨"SecretVaultModel", "sets", "(III)V"⟩) ∈ lw_all := lw_g (lw_at lw_ms 33 rfl) rfl
theorem qs34 : (Cond.selects "SecretVaultModel" ⟨"SecretVaultModel", "deals", "(IIII)I"⟩ ⟨"SecretVaultModel", "deals", "(IIII)I"⟩) ∈ lw_all := lw_g (lw_at lw_ms 34 rfl) rfl
theorem qs35 : (Cond.selects "SecretVaultModel" ⟨"SecretVaultModel", "removes", "(II)V"⟩ ⟨"SecretVaultModel", "removes", "(II)V"⟩) ∈ lw_all := lw_g (lw_at lw_ms 35 rfl) rfl
theorem qs36 : (Cond.selects "SecretVaultModel" ⟨"SecretVaultModel", "isUsed", "(I)Z"⟩ ⟨"SecretVaultModel", "isUsed", "(I)Z"⟩) ∈ lw_all := lw_g (lw_at lw_ms 36 rfl) rfl
theorem qs37 : (Cond.selects "SecretVaultModel" ⟨"SecretVaultModel", "polynomial", "(II)I"⟩ ⟨"SecretVaultModel", "polynomial", "(II)I"⟩) ∈ lw_all := lw_g (lw_at lw_ms 37 rfl) rfl
theorem qs38 : (Cond.selects "SecretVaultModel" ⟨"SecretVaultModel", "setsShare", "(IIII)V"⟩ ⟨"SecretVaultModel", "setsShare", "(IIII)V"⟩) ∈ lw_all := lw_g (lw_at lw_ms 38 rfl) rfl
theorem qs39 : (Cond.selects "SecretVaultModel" ⟨"SecretVaultModel", "happens", "(I)V"⟩ ⟨"SecretVaultModel", "happens", "(I)V"⟩) ∈ lw_all := lw_g (lw_at lw_ms 39 rfl) rfl
theorem qs40 : (Cond.selects "SecretVaultModel" ⟨"SecretVaultModel", "lacks", "(I)I"⟩ ⟨"SecretVaultModel", "lacks", "(I)I"⟩) ∈ lw_all := lw_g (lw_at lw_ms 40 rfl) rfl
theorem qs41 : (Cond.selects "SecretVaultModel" ⟨"SecretVaultModel", "lacksOpen", "(II)I"⟩ ⟨"SecretVaultModel", "lacksOpen", "(II)I"⟩) ∈ lw_all := lw_g (lw_at lw_ms 41 rfl) rfl
theorem qs42 : (Cond.selects "SecretVaultModel" ⟨"SecretVaultModel", "opens", "(II)Z"⟩ ⟨"SecretVaultModel", "opens", "(II)Z"⟩) ∈ lw_all := lw_g (lw_at lw_ms 42 rfl) rfl
theorem qs43 : (Cond.selects "SecretVaultModel" ⟨"SecretVaultModel", "taken", "(I)I"⟩ ⟨"SecretVaultModel", "taken", "(I)I"⟩) ∈ lw_all := lw_g (lw_at lw_ms 43 rfl) rfl
theorem qs44 : (Cond.selects "SecretVaultModel" ⟨"SecretVaultModel", "tellNodes", "(IIZ)V"⟩ ⟨"SecretVaultModel", "tellNodes", "(IIZ)V"⟩) ∈ lw_all := lw_g (lw_at lw_ms 44 rfl) rfl
theorem qs45 : (Cond.selects "SecretVaultModel" ⟨"SecretVaultModel", "fulfilled", "(II)Z"⟩ ⟨"SecretVaultModel", "fulfilled", "(II)Z"⟩) ∈ lw_all := lw_g (lw_at lw_ms 45 rfl) rfl
theorem qs46 : (Cond.selects "SecretVaultModel" ⟨"SecretVaultModel", "hasPolicy", "(I)Z"⟩ ⟨"SecretVaultModel", "hasPolicy", "(I)Z"⟩) ∈ lw_all := lw_g (lw_at lw_ms 46 rfl) rfl
theorem qs47 : (Cond.selects "SecretVaultModel" ⟨"SecretVaultModel", "next", "(IIII)I"⟩ ⟨"SecretVaultModel", "next", "(IIII)I"⟩) ∈ lw_all := lw_g (lw_at lw_ms 47 rfl) rfl
theorem qs48 : (Cond.selects "SecretVaultModel" ⟨"SecretVaultModel", "isCount", "(III)Z"⟩ ⟨"SecretVaultModel", "isCount", "(III)Z"⟩) ∈ lw_all := lw_g (lw_at lw_ms 48 rfl) rfl
theorem qs49 : (Cond.selects "SecretVaultModel" ⟨"SecretVaultModel", "reports", "(II)V"⟩ ⟨"SecretVaultModel", "reports", "(II)V"⟩) ∈ lw_all := lw_g (lw_at lw_ms 49 rfl) rfl
theorem qs50 : (Cond.selects "SecretVaultModel" ⟨"SecretVaultModel", "level", "(II)V"⟩ ⟨"SecretVaultModel", "level", "(II)V"⟩) ∈ lw_all := lw_g (lw_at lw_ms 50 rfl) rfl
theorem qs51 : (Cond.selects "SecretVaultModel" ⟨"SecretVaultModel", "valueAt", "(III)I"⟩ ⟨"SecretVaultModel", "valueAt", "(III)I"⟩) ∈ lw_all := lw_g (lw_at lw_ms 51 rfl) rfl
theorem qs52 : (Cond.selects "SecretVaultModel" ⟨"SecretVaultModel", "isGood", "(II)Z"⟩ ⟨"SecretVaultModel", "isGood", "(II)Z"⟩) ∈ lw_all := lw_g (lw_at lw_ms 52 rfl) rfl
theorem qs53 : (Cond.selects "SecretVaultModel" ⟨"SecretVaultModel", "lacksSet", "(II)I"⟩ ⟨"SecretVaultModel", "lacksSet", "(II)I"⟩) ∈ lw_all := lw_g (lw_at lw_ms 53 rfl) rfl
theorem qs54 : (Cond.selects "SecretVaultModel" ⟨"SecretVaultModel", "count", "(II)I"⟩ ⟨"SecretVaultModel", "count", "(II)I"⟩) ∈ lw_all := lw_g (lw_at lw_ms 54 rfl) rfl
theorem qs55 : (Cond.selects "SecretVaultModel" ⟨"SecretVaultModel", "writesNumber", "(I)V"⟩ ⟨"SecretVaultModel", "writesNumber", "(I)V"⟩) ∈ lw_all := lw_g (lw_at lw_ms 55 rfl) rfl
theorem qs56 : (Cond.selects "SecretVaultModel" ⟨"SecretVaultModel", "writes", "(I)V"⟩ ⟨"SecretVaultModel", "writes", "(I)V"⟩) ∈ lw_all := lw_g (lw_at lw_ms 56 rfl) rfl
theorem qs57 : (Cond.selects "SecretVaultModel" ⟨"SecretVaultModel", "paperAt", "(I)I"⟩ ⟨"SecretVaultModel", "paperAt", "(I)I"⟩) ∈ lw_all := lw_g (lw_at lw_ms 57 rfl) rfl
theorem qs58 : (Cond.selects "SecretVaultModel" ⟨"SecretVaultModel", "readsShare", "()Z"⟩ ⟨"SecretVaultModel", "readsShare", "()Z"⟩) ∈ lw_all := lw_g (lw_at lw_ms 58 rfl) rfl
theorem qs59 : (Cond.selects "SecretVaultModel" ⟨"SecretVaultModel", "readsNumber", "(II)Z"⟩ ⟨"SecretVaultModel", "readsNumber", "(II)Z"⟩) ∈ lw_all := lw_g (lw_at lw_ms 59 rfl) rfl
theorem qs60 : (Cond.selects "SecretVaultModel" ⟨"SecretVaultModel", "here", "()I"⟩ ⟨"SecretVaultModel", "here", "()I"⟩) ∈ lw_all := lw_g (lw_at lw_ms 60 rfl) rfl
theorem qs61 : (Cond.selects "SecretVaultModel" ⟨"SecretVaultModel", "eats", "(I)Z"⟩ ⟨"SecretVaultModel", "eats", "(I)Z"⟩) ∈ lw_all := lw_g (lw_at lw_ms 61 rfl) rfl
theorem qs62 : (Cond.selects "SecretVaultModel" ⟨"SecretVaultModel", "isDigitAt", "(II)Z"⟩ ⟨"SecretVaultModel", "isDigitAt", "(II)Z"⟩) ∈ lw_all := lw_g (lw_at lw_ms 62 rfl) rfl
theorem qs63 : (Cond.selects "SecretVaultModel" ⟨"SecretVaultModel", "countsAround", "(II)I"⟩ ⟨"SecretVaultModel", "countsAround", "(II)I"⟩) ∈ lw_all := lw_g (lw_at lw_ms 63 rfl) rfl
theorem qs64 : (Cond.selects "SecretVaultModel" ⟨"SecretVaultModel", "isSmallest", "(II)Z"⟩ ⟨"SecretVaultModel", "isSmallest", "(II)Z"⟩) ∈ lw_all := lw_g (lw_at lw_ms 64 rfl) rfl
theorem qs65 : (Cond.selects "SecretVaultModel" ⟨"SecretVaultModel", "secrets", "()I"⟩ ⟨"SecretVaultModel", "secrets", "()I"⟩) ∈ lw_all := lw_g (lw_at lw_ms 65 rfl) rfl
