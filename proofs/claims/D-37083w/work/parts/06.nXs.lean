/-! ReversalCourtLaw -/
set_option maxRecDepth 100000
def RX0 : String := "ReversalCourtLaw"
abbrev cX0_letter : ByteArray := method_3_code
def yX0_letter : MethodName := ⟨RX0, "letter", "(LReversalCourt;C[J)I"⟩
def dkwX0_letter_0 : List UInt8 := [44, 3, 42, 27, 182, 0, 7, 133, 80, 167, 0, 9, 78, 4, 172, 78, 5, 172, 3, 172]
abbrev dktX0_letter_0 : List UInt8 := dkwX0_letter_0 ++ []
theorem dksX0_letter_0 : cX0_letter.data.toList.drop 0 = dktX0_letter_0 := by decide +kernel
theorem dX0_letter_0 : decode cX0_letter 0 = .ok (.aload_n 2, 1) := dk_44 (dk_at dksX0_letter_0 0 rfl rfl)
theorem dX0_letter_1 : decode cX0_letter 1 = .ok (.iconst 0, 1) := dk_3 (dk_at dksX0_letter_0 1 rfl rfl)
theorem dX0_letter_2 : decode cX0_letter 2 = .ok (.aload_n 0, 1) := dk_42 (dk_at dksX0_letter_0 2 rfl rfl)
theorem dX0_letter_3 : decode cX0_letter 3 = .ok (.iload_n 1, 1) := dk_27 (dk_at dksX0_letter_0 3 rfl rfl)
theorem dX0_letter_4 : decode cX0_letter 4 = .ok (.invokevirtual 7, 3) := dk_182 0 7 (dk_at dksX0_letter_0 4 rfl rfl)
theorem dX0_letter_7 : decode cX0_letter 7 = .ok (.i2l, 1) := dk_133 (dk_at dksX0_letter_0 7 rfl rfl)
theorem dX0_letter_8 : decode cX0_letter 8 = .ok (.lastore, 1) := dk_80 (dk_at dksX0_letter_0 8 rfl rfl)
theorem dX0_letter_9 : decode cX0_letter 9 = .ok (.goto 9, 3) := dk_167 0 9 (dk_at dksX0_letter_0 9 rfl rfl)
theorem dX0_letter_12 : decode cX0_letter 12 = .ok (.astore_n 3, 1) := dk_78 (dk_at dksX0_letter_0 12 rfl rfl)
theorem dX0_letter_13 : decode cX0_letter 13 = .ok (.iconst 1, 1) := dk_4 (dk_at dksX0_letter_0 13 rfl rfl)
theorem dX0_letter_14 : decode cX0_letter 14 = .ok (.ireturn, 1) := dk_172 (dk_at dksX0_letter_0 14 rfl rfl)
theorem dX0_letter_15 : decode cX0_letter 15 = .ok (.astore_n 3, 1) := dk_78 (dk_at dksX0_letter_0 15 rfl rfl)
theorem dX0_letter_16 : decode cX0_letter 16 = .ok (.iconst 2, 1) := dk_5 (dk_at dksX0_letter_0 16 rfl rfl)
theorem dX0_letter_17 : decode cX0_letter 17 = .ok (.ireturn, 1) := dk_172 (dk_at dksX0_letter_0 17 rfl rfl)
theorem dX0_letter_18 : decode cX0_letter 18 = .ok (.iconst 0, 1) := dk_3 (dk_at dksX0_letter_0 18 rfl rfl)
theorem dX0_letter_19 : decode cX0_letter 19 = .ok (.ireturn, 1) := dk_172 (dk_at dksX0_letter_0 19 rfl rfl)
abbrev cX0_isSo : ByteArray := method_4_code
def yX0_isSo : MethodName := ⟨RX0, "isSo", "(LReversalCourt;IIII[J)I"⟩
def dkwX0_isSo_1 : List UInt8 := [58, 6, 4, 172, 58, 6, 5, 172, 3, 172]
abbrev dktX0_isSo_1 : List UInt8 := dkwX0_isSo_1 ++ []
def dkwX0_isSo_0 : List UInt8 := [25, 5, 3, 42, 27, 28, 29, 21, 4, 182, 0, 17, 153, 0, 7, 10, 167, 0, 4, 9, 80, 167, 0, 11]
abbrev dktX0_isSo_0 : List UInt8 := dkwX0_isSo_0 ++ dktX0_isSo_1
theorem dksX0_isSo_0 : cX0_isSo.data.toList.drop 0 = dktX0_isSo_0 := by decide +kernel
theorem dksX0_isSo_1 : cX0_isSo.data.toList.drop 24 = dktX0_isSo_1 := dk_seg dksX0_isSo_0 24 rfl rfl
theorem dX0_isSo_0 : decode cX0_isSo 0 = .ok (.aload 5, 2) := dk_25 5 (dk_at dksX0_isSo_0 0 rfl rfl)
theorem dX0_isSo_2 : decode cX0_isSo 2 = .ok (.iconst 0, 1) := dk_3 (dk_at dksX0_isSo_0 2 rfl rfl)
theorem dX0_isSo_3 : decode cX0_isSo 3 = .ok (.aload_n 0, 1) := dk_42 (dk_at dksX0_isSo_0 3 rfl rfl)
theorem dX0_isSo_4 : decode cX0_isSo 4 = .ok (.iload_n 1, 1) := dk_27 (dk_at dksX0_isSo_0 4 rfl rfl)
theorem dX0_isSo_5 : decode cX0_isSo 5 = .ok (.iload_n 2, 1) := dk_28 (dk_at dksX0_isSo_0 5 rfl rfl)
theorem dX0_isSo_6 : decode cX0_isSo 6 = .ok (.iload_n 3, 1) := dk_29 (dk_at dksX0_isSo_0 6 rfl rfl)
theorem dX0_isSo_7 : decode cX0_isSo 7 = .ok (.iload 4, 2) := dk_21 4 (dk_at dksX0_isSo_0 7 rfl rfl)
theorem dX0_isSo_9 : decode cX0_isSo 9 = .ok (.invokevirtual 17, 3) := dk_182 0 17 (dk_at dksX0_isSo_0 9 rfl rfl)
theorem dX0_isSo_12 : decode cX0_isSo 12 = .ok (.ifCond .eq 7, 3) := dk_153 0 7 (dk_at dksX0_isSo_0 12 rfl rfl)
theorem dX0_isSo_15 : decode cX0_isSo 15 = .ok (.lconst 1, 1) := dk_10 (dk_at dksX0_isSo_0 15 rfl rfl)
theorem dX0_isSo_16 : decode cX0_isSo 16 = .ok (.goto 4, 3) := dk_167 0 4 (dk_at dksX0_isSo_0 16 rfl rfl)
theorem dX0_isSo_19 : decode cX0_isSo 19 = .ok (.lconst 0, 1) := dk_9 (dk_at dksX0_isSo_0 19 rfl rfl)
theorem dX0_isSo_20 : decode cX0_isSo 20 = .ok (.lastore, 1) := dk_80 (dk_at dksX0_isSo_0 20 rfl rfl)
theorem dX0_isSo_21 : decode cX0_isSo 21 = .ok (.goto 11, 3) := dk_167 0 11 (dk_at dksX0_isSo_0 21 rfl rfl)
theorem dX0_isSo_24 : decode cX0_isSo 24 = .ok (.astore 6, 2) := dk_58 6 (dk_at dksX0_isSo_1 0 rfl rfl)
theorem dX0_isSo_26 : decode cX0_isSo 26 = .ok (.iconst 1, 1) := dk_4 (dk_at dksX0_isSo_1 2 rfl rfl)
theorem dX0_isSo_27 : decode cX0_isSo 27 = .ok (.ireturn, 1) := dk_172 (dk_at dksX0_isSo_1 3 rfl rfl)
theorem dX0_isSo_28 : decode cX0_isSo 28 = .ok (.astore 6, 2) := dk_58 6 (dk_at dksX0_isSo_1 4 rfl rfl)
theorem dX0_isSo_30 : decode cX0_isSo 30 = .ok (.iconst 2, 1) := dk_5 (dk_at dksX0_isSo_1 6 rfl rfl)
theorem dX0_isSo_31 : decode cX0_isSo 31 = .ok (.ireturn, 1) := dk_172 (dk_at dksX0_isSo_1 7 rfl rfl)
theorem dX0_isSo_32 : decode cX0_isSo 32 = .ok (.iconst 0, 1) := dk_3 (dk_at dksX0_isSo_1 8 rfl rfl)
theorem dX0_isSo_33 : decode cX0_isSo 33 = .ok (.ireturn, 1) := dk_172 (dk_at dksX0_isSo_1 9 rfl rfl)
abbrev cX0_principle : ByteArray := method_5_code
def yX0_principle : MethodName := ⟨RX0, "principle", "(LReversalCourt;[J)I"⟩
def dkwX0_principle_0 : List UInt8 := [43, 3, 42, 182, 0, 21, 133, 80, 167, 0, 6, 77, 4, 172, 3, 172]
abbrev dktX0_principle_0 : List UInt8 := dkwX0_principle_0 ++ []
theorem dksX0_principle_0 : cX0_principle.data.toList.drop 0 = dktX0_principle_0 := by decide +kernel
theorem dX0_principle_0 : decode cX0_principle 0 = .ok (.aload_n 1, 1) := dk_43 (dk_at dksX0_principle_0 0 rfl rfl)
theorem dX0_principle_1 : decode cX0_principle 1 = .ok (.iconst 0, 1) := dk_3 (dk_at dksX0_principle_0 1 rfl rfl)
theorem dX0_principle_2 : decode cX0_principle 2 = .ok (.aload_n 0, 1) := dk_42 (dk_at dksX0_principle_0 2 rfl rfl)
theorem dX0_principle_3 : decode cX0_principle 3 = .ok (.invokevirtual 21, 3) := dk_182 0 21 (dk_at dksX0_principle_0 3 rfl rfl)
theorem dX0_principle_6 : decode cX0_principle 6 = .ok (.i2l, 1) := dk_133 (dk_at dksX0_principle_0 6 rfl rfl)
theorem dX0_principle_7 : decode cX0_principle 7 = .ok (.lastore, 1) := dk_80 (dk_at dksX0_principle_0 7 rfl rfl)
theorem dX0_principle_8 : decode cX0_principle 8 = .ok (.goto 6, 3) := dk_167 0 6 (dk_at dksX0_principle_0 8 rfl rfl)
theorem dX0_principle_11 : decode cX0_principle 11 = .ok (.astore_n 2, 1) := dk_77 (dk_at dksX0_principle_0 11 rfl rfl)
theorem dX0_principle_12 : decode cX0_principle 12 = .ok (.iconst 1, 1) := dk_4 (dk_at dksX0_principle_0 12 rfl rfl)
theorem dX0_principle_13 : decode cX0_principle 13 = .ok (.ireturn, 1) := dk_172 (dk_at dksX0_principle_0 13 rfl rfl)
theorem dX0_principle_14 : decode cX0_principle 14 = .ok (.iconst 0, 1) := dk_3 (dk_at dksX0_principle_0 14 rfl rfl)
theorem dX0_principle_15 : decode cX0_principle 15 = .ok (.ireturn, 1) := dk_172 (dk_at dksX0_principle_0 15 rfl rfl)
abbrev cX0_rule : ByteArray := method_6_code
def yX0_rule : MethodName := ⟨RX0, "rule", "(LReversalCourt;II[J)I"⟩
def dkwX0_rule_1 : List UInt8 := [172, 3, 172]
abbrev dktX0_rule_1 : List UInt8 := dkwX0_rule_1 ++ []
def dkwX0_rule_0 : List UInt8 := [45, 3, 42, 27, 28, 182, 0, 25, 133, 80, 167, 0, 15, 58, 4, 4, 172, 58, 4, 5, 172, 58, 4, 6]
abbrev dktX0_rule_0 : List UInt8 := dkwX0_rule_0 ++ dktX0_rule_1
theorem dksX0_rule_0 : cX0_rule.data.toList.drop 0 = dktX0_rule_0 := by decide +kernel
theorem dksX0_rule_1 : cX0_rule.data.toList.drop 24 = dktX0_rule_1 := dk_seg dksX0_rule_0 24 rfl rfl
theorem dX0_rule_0 : decode cX0_rule 0 = .ok (.aload_n 3, 1) := dk_45 (dk_at dksX0_rule_0 0 rfl rfl)
theorem dX0_rule_1 : decode cX0_rule 1 = .ok (.iconst 0, 1) := dk_3 (dk_at dksX0_rule_0 1 rfl rfl)
theorem dX0_rule_2 : decode cX0_rule 2 = .ok (.aload_n 0, 1) := dk_42 (dk_at dksX0_rule_0 2 rfl rfl)
theorem dX0_rule_3 : decode cX0_rule 3 = .ok (.iload_n 1, 1) := dk_27 (dk_at dksX0_rule_0 3 rfl rfl)
theorem dX0_rule_4 : decode cX0_rule 4 = .ok (.iload_n 2, 1) := dk_28 (dk_at dksX0_rule_0 4 rfl rfl)
theorem dX0_rule_5 : decode cX0_rule 5 = .ok (.invokevirtual 25, 3) := dk_182 0 25 (dk_at dksX0_rule_0 5 rfl rfl)
theorem dX0_rule_8 : decode cX0_rule 8 = .ok (.i2l, 1) := dk_133 (dk_at dksX0_rule_0 8 rfl rfl)
theorem dX0_rule_9 : decode cX0_rule 9 = .ok (.lastore, 1) := dk_80 (dk_at dksX0_rule_0 9 rfl rfl)
theorem dX0_rule_10 : decode cX0_rule 10 = .ok (.goto 15, 3) := dk_167 0 15 (dk_at dksX0_rule_0 10 rfl rfl)
theorem dX0_rule_13 : decode cX0_rule 13 = .ok (.astore 4, 2) := dk_58 4 (dk_at dksX0_rule_0 13 rfl rfl)
theorem dX0_rule_15 : decode cX0_rule 15 = .ok (.iconst 1, 1) := dk_4 (dk_at dksX0_rule_0 15 rfl rfl)
theorem dX0_rule_16 : decode cX0_rule 16 = .ok (.ireturn, 1) := dk_172 (dk_at dksX0_rule_0 16 rfl rfl)
theorem dX0_rule_17 : decode cX0_rule 17 = .ok (.astore 4, 2) := dk_58 4 (dk_at dksX0_rule_0 17 rfl rfl)
theorem dX0_rule_19 : decode cX0_rule 19 = .ok (.iconst 2, 1) := dk_5 (dk_at dksX0_rule_0 19 rfl rfl)
theorem dX0_rule_20 : decode cX0_rule 20 = .ok (.ireturn, 1) := dk_172 (dk_at dksX0_rule_0 20 rfl rfl)
theorem dX0_rule_21 : decode cX0_rule 21 = .ok (.astore 4, 2) := dk_58 4 (dk_at dksX0_rule_0 21 rfl rfl)
theorem dX0_rule_23 : decode cX0_rule 23 = .ok (.iconst 3, 1) := dk_6 (dk_at dksX0_rule_0 23 rfl rfl)
theorem dX0_rule_24 : decode cX0_rule 24 = .ok (.ireturn, 1) := dk_172 (dk_at dksX0_rule_1 0 rfl rfl)
theorem dX0_rule_25 : decode cX0_rule 25 = .ok (.iconst 0, 1) := dk_3 (dk_at dksX0_rule_1 1 rfl rfl)
theorem dX0_rule_26 : decode cX0_rule 26 = .ok (.ireturn, 1) := dk_172 (dk_at dksX0_rule_1 2 rfl rfl)
abbrev cX0_model : ByteArray := method_7_code
def yX0_model : MethodName := ⟨RX0, "model", "(LReversalCourt;I[J)I"⟩
def dkwX0_model_0 : List UInt8 := [44, 3, 42, 27, 182, 0, 31, 133, 80, 167, 0, 9, 78, 4, 172, 78, 5, 172, 3, 172]
abbrev dktX0_model_0 : List UInt8 := dkwX0_model_0 ++ []
theorem dksX0_model_0 : cX0_model.data.toList.drop 0 = dktX0_model_0 := by decide +kernel
theorem dX0_model_0 : decode cX0_model 0 = .ok (.aload_n 2, 1) := dk_44 (dk_at dksX0_model_0 0 rfl rfl)
theorem dX0_model_1 : decode cX0_model 1 = .ok (.iconst 0, 1) := dk_3 (dk_at dksX0_model_0 1 rfl rfl)
theorem dX0_model_2 : decode cX0_model 2 = .ok (.aload_n 0, 1) := dk_42 (dk_at dksX0_model_0 2 rfl rfl)
theorem dX0_model_3 : decode cX0_model 3 = .ok (.iload_n 1, 1) := dk_27 (dk_at dksX0_model_0 3 rfl rfl)
theorem dX0_model_4 : decode cX0_model 4 = .ok (.invokevirtual 31, 3) := dk_182 0 31 (dk_at dksX0_model_0 4 rfl rfl)
theorem dX0_model_7 : decode cX0_model 7 = .ok (.i2l, 1) := dk_133 (dk_at dksX0_model_0 7 rfl rfl)
theorem dX0_model_8 : decode cX0_model 8 = .ok (.lastore, 1) := dk_80 (dk_at dksX0_model_0 8 rfl rfl)
theorem dX0_model_9 : decode cX0_model 9 = .ok (.goto 9, 3) := dk_167 0 9 (dk_at dksX0_model_0 9 rfl rfl)
theorem dX0_model_12 : decode cX0_model 12 = .ok (.astore_n 3, 1) := dk_78 (dk_at dksX0_model_0 12 rfl rfl)
theorem dX0_model_13 : decode cX0_model 13 = .ok (.iconst 1, 1) := dk_4 (dk_at dksX0_model_0 13 rfl rfl)
theorem dX0_model_14 : decode cX0_model 14 = .ok (.ireturn, 1) := dk_172 (dk_at dksX0_model_0 14 rfl rfl)
theorem dX0_model_15 : decode cX0_model 15 = .ok (.astore_n 3, 1) := dk_78 (dk_at dksX0_model_0 15 rfl rfl)
theorem dX0_model_16 : decode cX0_model 16 = .ok (.iconst 2, 1) := dk_5 (dk_at dksX0_model_0 16 rfl rfl)
theorem dX0_model_17 : decode cX0_model 17 = .ok (.ireturn, 1) := dk_172 (dk_at dksX0_model_0 17 rfl rfl)
theorem dX0_model_18 : decode cX0_model 18 = .ok (.iconst 0, 1) := dk_3 (dk_at dksX0_model_0 18 rfl rfl)
theorem dX0_model_19 : decode cX0_model 19 = .ok (.ireturn, 1) := dk_172 (dk_at dksX0_model_0 19 rfl rfl)
abbrev cX0_proves : ByteArray := method_8_code
def yX0_proves : MethodName := ⟨RX0, "proves", "(LReversalCourt;I[J)I"⟩
def dkwX0_proves_0 : List UInt8 := [44, 3, 42, 27, 182, 0, 35, 133, 80, 167, 0, 6, 78, 4, 172, 3, 172]
abbrev dktX0_proves_0 : List UInt8 := dkwX0_proves_0 ++ []
theorem dksX0_proves_0 : cX0_proves.data.toList.drop 0 = dktX0_proves_0 := by decide +kernel
theorem dX0_proves_0 : decode cX0_proves 0 = .ok (.aload_n 2, 1) := dk_44 (dk_at dksX0_proves_0 0 rfl rfl)
theorem dX0_proves_1 : decode cX0_proves 1 = .ok (.iconst 0, 1) := dk_3 (dk_at dksX0_proves_0 1 rfl rfl)
theorem dX0_proves_2 : decode cX0_proves 2 = .ok (.aload_n 0, 1) := dk_42 (dk_at dksX0_proves_0 2 rfl rfl)
theorem dX0_proves_3 : decode cX0_proves 3 = .ok (.iload_n 1, 1) := dk_27 (dk_at dksX0_proves_0 3 rfl rfl)
theorem dX0_proves_4 : decode cX0_proves 4 = .ok (.invokevirtual 35, 3) := dk_182 0 35 (dk_at dksX0_proves_0 4 rfl rfl)
theorem dX0_proves_7 : decode cX0_proves 7 = .ok (.i2l, 1) := dk_133 (dk_at dksX0_proves_0 7 rfl rfl)
theorem dX0_proves_8 : decode cX0_proves 8 = .ok (.lastore, 1) := dk_80 (dk_at dksX0_proves_0 8 rfl rfl)
theorem dX0_proves_9 : decode cX0_proves 9 = .ok (.goto 6, 3) := dk_167 0 6 (dk_at dksX0_proves_0 9 rfl rfl)
theorem dX0_proves_12 : decode cX0_proves 12 = .ok (.astore_n 3, 1) := dk_78 (dk_at dksX0_proves_0 12 rfl rfl)
theorem dX0_proves_13 : decode cX0_proves 13 = .ok (.iconst 1, 1) := dk_4 (dk_at dksX0_proves_0 13 rfl rfl)
theorem dX0_proves_14 : decode cX0_proves 14 = .ok (.ireturn, 1) := dk_172 (dk_at dksX0_proves_0 14 rfl rfl)
theorem dX0_proves_15 : decode cX0_proves 15 = .ok (.iconst 0, 1) := dk_3 (dk_at dksX0_proves_0 15 rfl rfl)
theorem dX0_proves_16 : decode cX0_proves 16 = .ok (.ireturn, 1) := dk_172 (dk_at dksX0_proves_0 16 rfl rfl)
abbrev cX0_proof : ByteArray := method_9_code
def yX0_proof : MethodName := ⟨RX0, "proof", "(LReversalCourt;III[J)I"⟩
def dkwX0_proof_1 : List UInt8 := [172]
abbrev dktX0_proof_1 : List UInt8 := dkwX0_proof_1 ++ []
def dkwX0_proof_0 : List UInt8 := [25, 4, 3, 42, 27, 28, 29, 182, 0, 38, 133, 80, 167, 0, 11, 58, 5, 4, 172, 58, 5, 5, 172, 3]
abbrev dktX0_proof_0 : List UInt8 := dkwX0_proof_0 ++ dktX0_proof_1
theorem dksX0_proof_0 : cX0_proof.data.toList.drop 0 = dktX0_proof_0 := by decide +kernel
theorem dksX0_proof_1 : cX0_proof.data.toList.drop 24 = dktX0_proof_1 := dk_seg dksX0_proof_0 24 rfl rfl
theorem dX0_proof_0 : decode cX0_proof 0 = .ok (.aload 4, 2) := dk_25 4 (dk_at dksX0_proof_0 0 rfl rfl)
theorem dX0_proof_2 : decode cX0_proof 2 = .ok (.iconst 0, 1) := dk_3 (dk_at dksX0_proof_0 2 rfl rfl)
theorem dX0_proof_3 : decode cX0_proof 3 = .ok (.aload_n 0, 1) := dk_42 (dk_at dksX0_proof_0 3 rfl rfl)
theorem dX0_proof_4 : decode cX0_proof 4 = .ok (.iload_n 1, 1) := dk_27 (dk_at dksX0_proof_0 4 rfl rfl)
theorem dX0_proof_5 : decode cX0_proof 5 = .ok (.iload_n 2, 1) := dk_28 (dk_at dksX0_proof_0 5 rfl rfl)
theorem dX0_proof_6 : decode cX0_proof 6 = .ok (.iload_n 3, 1) := dk_29 (dk_at dksX0_proof_0 6 rfl rfl)
theorem dX0_proof_7 : decode cX0_proof 7 = .ok (.invokevirtual 38, 3) := dk_182 0 38 (dk_at dksX0_proof_0 7 rfl rfl)
theorem dX0_proof_10 : decode cX0_proof 10 = .ok (.i2l, 1) := dk_133 (dk_at dksX0_proof_0 10 rfl rfl)
theorem dX0_proof_11 : decode cX0_proof 11 = .ok (.lastore, 1) := dk_80 (dk_at dksX0_proof_0 11 rfl rfl)
theorem dX0_proof_12 : decode cX0_proof 12 = .ok (.goto 11, 3) := dk_167 0 11 (dk_at dksX0_proof_0 12 rfl rfl)
theorem dX0_proof_15 : decode cX0_proof 15 = .ok (.astore 5, 2) := dk_58 5 (dk_at dksX0_proof_0 15 rfl rfl)
theorem dX0_proof_17 : decode cX0_proof 17 = .ok (.iconst 1, 1) := dk_4 (dk_at dksX0_proof_0 17 rfl rfl)
theorem dX0_proof_18 : decode cX0_proof 18 = .ok (.ireturn, 1) := dk_172 (dk_at dksX0_proof_0 18 rfl rfl)
theorem dX0_proof_19 : decode cX0_proof 19 = .ok (.astore 5, 2) := dk_58 5 (dk_at dksX0_proof_0 19 rfl rfl)
theorem dX0_proof_21 : decode cX0_proof 21 = .ok (.iconst 2, 1) := dk_5 (dk_at dksX0_proof_0 21 rfl rfl)
theorem dX0_proof_22 : decode cX0_proof 22 = .ok (.ireturn, 1) := dk_172 (dk_at dksX0_proof_0 22 rfl rfl)
theorem dX0_proof_23 : decode cX0_proof 23 = .ok (.iconst 0, 1) := dk_3 (dk_at dksX0_proof_0 23 rfl rfl)
theorem dX0_proof_24 : decode cX0_proof 24 = .ok (.ireturn, 1) := dk_172 (dk_at dksX0_proof_1 0 rfl rfl)
abbrev cX0_known : ByteArray := method_10_code
def yX0_known : MethodName := ⟨RX0, "known", "(LReversalCourt;II[J)I"⟩
def dkwX0_known_0 : List UInt8 := [45, 3, 42, 27, 28, 182, 0, 42, 133, 80, 167, 0, 11, 58, 4, 4, 172, 58, 4, 5, 172, 3, 172]
abbrev dktX0_known_0 : List UInt8 := dkwX0_known_0 ++ []
theorem dksX0_known_0 : cX0_known.data.toList.drop 0 = dktX0_known_0 := by decide +kernel
theorem dX0_known_0 : decode cX0_known 0 = .ok (.aload_n 3, 1) := dk_45 (dk_at dksX0_known_0 0 rfl rfl)
theorem dX0_known_1 : decode cX0_known 1 = .ok (.iconst 0, 1) := dk_3 (dk_at dksX0_known_0 1 rfl rfl)
theorem dX0_known_2 : decode cX0_known 2 = .ok (.aload_n 0, 1) := dk_42 (dk_at dksX0_known_0 2 rfl rfl)
theorem dX0_known_3 : decode cX0_known 3 = .ok (.iload_n 1, 1) := dk_27 (dk_at dksX0_known_0 3 rfl rfl)
theorem dX0_known_4 : decode cX0_known 4 = .ok (.iload_n 2, 1) := dk_28 (dk_at dksX0_known_0 4 rfl rfl)
theorem dX0_known_5 : decode cX0_known 5 = .ok (.invokevirtual 42, 3) := dk_182 0 42 (dk_at dksX0_known_0 5 rfl rfl)
theorem dX0_known_8 : decode cX0_known 8 = .ok (.i2l, 1) := dk_133 (dk_at dksX0_known_0 8 rfl rfl)
theorem dX0_known_9 : decode cX0_known 9 = .ok (.lastore, 1) := dk_80 (dk_at dksX0_known_0 9 rfl rfl)
theorem dX0_known_10 : decode cX0_known 10 = .ok (.goto 11, 3) := dk_167 0 11 (dk_at dksX0_known_0 10 rfl rfl)
theorem dX0_known_13 : decode cX0_known 13 = .ok (.astore 4, 2) := dk_58 4 (dk_at dksX0_known_0 13 rfl rfl)
theorem dX0_known_15 : decode cX0_known 15 = .ok (.iconst 1, 1) := dk_4 (dk_at dksX0_known_0 15 rfl rfl)
theorem dX0_known_16 : decode cX0_known 16 = .ok (.ireturn, 1) := dk_172 (dk_at dksX0_known_0 16 rfl rfl)
theorem dX0_known_17 : decode cX0_known 17 = .ok (.astore 4, 2) := dk_58 4 (dk_at dksX0_known_0 17 rfl rfl)
theorem dX0_known_19 : decode cX0_known 19 = .ok (.iconst 2, 1) := dk_5 (dk_at dksX0_known_0 19 rfl rfl)
theorem dX0_known_20 : decode cX0_known 20 = .ok (.ireturn, 1) := dk_172 (dk_at dksX0_known_0 20 rfl rfl)
theorem dX0_known_21 : decode cX0_known 21 = .ok (.iconst 0, 1) := dk_3 (dk_at dksX0_known_0 21 rfl rfl)
theorem dX0_known_22 : decode cX0_known 22 = .ok (.ireturn, 1) := dk_172 (dk_at dksX0_known_0 22 rfl rfl)
abbrev cX0_least : ByteArray := method_11_code
def yX0_least : MethodName := ⟨RX0, "least", "(LReversalCourt;II[J)I"⟩
def dkwX0_least_0 : List UInt8 := [45, 3, 42, 27, 28, 182, 0, 45, 133, 80, 167, 0, 11, 58, 4, 4, 172, 58, 4, 5, 172, 3, 172]
abbrev dktX0_least_0 : List UInt8 := dkwX0_least_0 ++ []
theorem dksX0_least_0 : cX0_least.data.toList.drop 0 = dktX0_least_0 := by decide +kernel
theorem dX0_least_0 : decode cX0_least 0 = .ok (.aload_n 3, 1) := dk_45 (dk_at dksX0_least_0 0 rfl rfl)
theorem dX0_least_1 : decode cX0_least 1 = .ok (.iconst 0, 1) := dk_3 (dk_at dksX0_least_0 1 rfl rfl)
theorem dX0_least_2 : decode cX0_least 2 = .ok (.aload_n 0, 1) := dk_42 (dk_at dksX0_least_0 2 rfl rfl)
theorem dX0_least_3 : decode cX0_least 3 = .ok (.iload_n 1, 1) := dk_27 (dk_at dksX0_least_0 3 rfl rfl)
theorem dX0_least_4 : decode cX0_least 4 = .ok (.iload_n 2, 1) := dk_28 (dk_at dksX0_least_0 4 rfl rfl)
theorem dX0_least_5 : decode cX0_least 5 = .ok (.invokevirtual 45, 3) := dk_182 0 45 (dk_at dksX0_least_0 5 rfl rfl)
theorem dX0_least_8 : decode cX0_least 8 = .ok (.i2l, 1) := dk_133 (dk_at dksX0_least_0 8 rfl rfl)
theorem dX0_least_9 : decode cX0_least 9 = .ok (.lastore, 1) := dk_80 (dk_at dksX0_least_0 9 rfl rfl)
theorem dX0_least_10 : decode cX0_least 10 = .ok (.goto 11, 3) := dk_167 0 11 (dk_at dksX0_least_0 10 rfl rfl)
theorem dX0_least_13 : decode cX0_least 13 = .ok (.astore 4, 2) := dk_58 4 (dk_at dksX0_least_0 13 rfl rfl)
theorem dX0_least_15 : decode cX0_least 15 = .ok (.iconst 1, 1) := dk_4 (dk_at dksX0_least_0 15 rfl rfl)
theorem dX0_least_16 : decode cX0_least 16 = .ok (.ireturn, 1) := dk_172 (dk_at dksX0_least_0 16 rfl rfl)
theorem dX0_least_17 : decode cX0_least 17 = .ok (.astore 4, 2) := dk_58 4 (dk_at dksX0_least_0 17 rfl rfl)
theorem dX0_least_19 : decode cX0_least 19 = .ok (.iconst 2, 1) := dk_5 (dk_at dksX0_least_0 19 rfl rfl)
theorem dX0_least_20 : decode cX0_least 20 = .ok (.ireturn, 1) := dk_172 (dk_at dksX0_least_0 20 rfl rfl)
theorem dX0_least_21 : decode cX0_least 21 = .ok (.iconst 0, 1) := dk_3 (dk_at dksX0_least_0 21 rfl rfl)
theorem dX0_least_22 : decode cX0_least 22 = .ok (.ireturn, 1) := dk_172 (dk_at dksX0_least_0 22 rfl rfl)
abbrev cX0_leastAnew : ByteArray := method_12_code
def yX0_leastAnew : MethodName := ⟨RX0, "leastAnew", "(LReversalCourt;II[J)I"⟩
def dkwX0_leastAnew_0 : List UInt8 := [45, 3, 42, 27, 28, 182, 0, 48, 133, 80, 167, 0, 11, 58, 4, 4, 172, 58, 4, 5, 172, 3, 172]
abbrev dktX0_leastAnew_0 : List UInt8 := dkwX0_leastAnew_0 ++ []
theorem dksX0_leastAnew_0 : cX0_leastAnew.data.toList.drop 0 = dktX0_leastAnew_0 := by decide +kernel
theorem dX0_leastAnew_0 : decode cX0_leastAnew 0 = .ok (.aload_n 3, 1) := dk_45 (dk_at dksX0_leastAnew_0 0 rfl rfl)
theorem dX0_leastAnew_1 : decode cX0_leastAnew 1 = .ok (.iconst 0, 1) := dk_3 (dk_at dksX0_leastAnew_0 1 rfl rfl)
theorem dX0_leastAnew_2 : decode cX0_leastAnew 2 = .ok (.aload_n 0, 1) := dk_42 (dk_at dksX0_leastAnew_0 2 rfl rfl)
theorem dX0_leastAnew_3 : decode cX0_leastAnew 3 = .ok (.iload_n 1, 1) := dk_27 (dk_at dksX0_leastAnew_0 3 rfl rfl)
theorem dX0_leastAnew_4 : decode cX0_leastAnew 4 = .ok (.iload_n 2, 1) := dk_28 (dk_at dksX0_leastAnew_0 4 rfl rfl)
theorem dX0_leastAnew_5 : decode cX0_leastAnew 5 = .ok (.invokevirtual 48, 3) := dk_182 0 48 (dk_at dksX0_leastAnew_0 5 rfl rfl)
theorem dX0_leastAnew_8 : decode cX0_leastAnew 8 = .ok (.i2l, 1) := dk_133 (dk_at dksX0_leastAnew_0 8 rfl rfl)
theorem dX0_leastAnew_9 : decode cX0_leastAnew 9 = .ok (.lastore, 1) := dk_80 (dk_at dksX0_leastAnew_0 9 rfl rfl)
theorem dX0_leastAnew_10 : decode cX0_leastAnew 10 = .ok (.goto 11, 3) := dk_167 0 11 (dk_at dksX0_leastAnew_0 10 rfl rfl)
theorem dX0_leastAnew_13 : decode cX0_leastAnew 13 = .ok (.astore 4, 2) := dk_58 4 (dk_at dksX0_leastAnew_0 13 rfl rfl)
theorem dX0_leastAnew_15 : decode cX0_leastAnew 15 = .ok (.iconst 1, 1) := dk_4 (dk_at dksX0_leastAnew_0 15 rfl rfl)
theorem dX0_leastAnew_16 : decode cX0_leastAnew 16 = .ok (.ireturn, 1) := dk_172 (dk_at dksX0_leastAnew_0 16 rfl rfl)
theorem dX0_leastAnew_17 : decode cX0_leastAnew 17 = .ok (.astore 4, 2) := dk_58 4 (dk_at dksX0_leastAnew_0 17 rfl rfl)
theorem dX0_leastAnew_19 : decode cX0_leastAnew 19 = .ok (.iconst 2, 1) := dk_5 (dk_at dksX0_leastAnew_0 19 rfl rfl)
theorem dX0_leastAnew_20 : decode cX0_leastAnew 20 = .ok (.ireturn, 1) := dk_172 (dk_at dksX0_leastAnew_0 20 rfl rfl)
theorem dX0_leastAnew_21 : decode cX0_leastAnew 21 = .ok (.iconst 0, 1) := dk_3 (dk_at dksX0_leastAnew_0 21 rfl rfl)
theorem dX0_leastAnew_22 : decode cX0_leastAnew 22 = .ok (.ireturn, 1) := dk_172 (dk_at dksX0_leastAnew_0 22 rfl rfl)
abbrev cX0_ofPrinciple : ByteArray := method_13_code
def yX0_ofPrinciple : MethodName := ⟨RX0, "ofPrinciple", "(LReversalCourt;II[J)I"⟩
def dkwX0_ofPrinciple_0 : List UInt8 := [45, 3, 42, 27, 28, 182, 0, 51, 133, 80, 167, 0, 11, 58, 4, 4, 172, 58, 4, 5, 172, 3, 172]
abbrev dktX0_ofPrinciple_0 : List UInt8 := dkwX0_ofPrinciple_0 ++ []
theorem dksX0_ofPrinciple_0 : cX0_ofPrinciple.data.toList.drop 0 = dktX0_ofPrinciple_0 := by decide +kernel
theorem dX0_ofPrinciple_0 : decode cX0_ofPrinciple 0 = .ok (.aload_n 3, 1) := dk_45 (dk_at dksX0_ofPrinciple_0 0 rfl rfl)
theorem dX0_ofPrinciple_1 : decode cX0_ofPrinciple 1 = .ok (.iconst 0, 1) := dk_3 (dk_at dksX0_ofPrinciple_0 1 rfl rfl)
theorem dX0_ofPrinciple_2 : decode cX0_ofPrinciple 2 = .ok (.aload_n 0, 1) := dk_42 (dk_at dksX0_ofPrinciple_0 2 rfl rfl)
theorem dX0_ofPrinciple_3 : decode cX0_ofPrinciple 3 = .ok (.iload_n 1, 1) := dk_27 (dk_at dksX0_ofPrinciple_0 3 rfl rfl)
theorem dX0_ofPrinciple_4 : decode cX0_ofPrinciple 4 = .ok (.iload_n 2, 1) := dk_28 (dk_at dksX0_ofPrinciple_0 4 rfl rfl)
theorem dX0_ofPrinciple_5 : decode cX0_ofPrinciple 5 = .ok (.invokevirtual 51, 3) := dk_182 0 51 (dk_at dksX0_ofPrinciple_0 5 rfl rfl)
theorem dX0_ofPrinciple_8 : decode cX0_ofPrinciple 8 = .ok (.i2l, 1) := dk_133 (dk_at dksX0_ofPrinciple_0 8 rfl rfl)
theorem dX0_ofPrinciple_9 : decode cX0_ofPrinciple 9 = .ok (.lastore, 1) := dk_80 (dk_at dksX0_ofPrinciple_0 9 rfl rfl)
theorem dX0_ofPrinciple_10 : decode cX0_ofPrinciple 10 = .ok (.goto 11, 3) := dk_167 0 11 (dk_at dksX0_ofPrinciple_0 10 rfl rfl)
theorem dX0_ofPrinciple_13 : decode cX0_ofPrinciple 13 = .ok (.astore 4, 2) := dk_58 4 (dk_at dksX0_ofPrinciple_0 13 rfl rfl)
theorem dX0_ofPrinciple_15 : decode cX0_ofPrinciple 15 = .ok (.iconst 1, 1) := dk_4 (dk_at dksX0_ofPrinciple_0 15 rfl rfl)
theorem dX0_ofPrinciple_16 : decode cX0_ofPrinciple 16 = .ok (.ireturn, 1) := dk_172 (dk_at dksX0_ofPrinciple_0 16 rfl rfl)
theorem dX0_ofPrinciple_17 : decode cX0_ofPrinciple 17 = .ok (.astore 4, 2) := dk_58 4 (dk_at dksX0_ofPrinciple_0 17 rfl rfl)
theorem dX0_ofPrinciple_19 : decode cX0_ofPrinciple 19 = .ok (.iconst 2, 1) := dk_5 (dk_at dksX0_ofPrinciple_0 19 rfl rfl)
theorem dX0_ofPrinciple_20 : decode cX0_ofPrinciple 20 = .ok (.ireturn, 1) := dk_172 (dk_at dksX0_ofPrinciple_0 20 rfl rfl)
theorem dX0_ofPrinciple_21 : decode cX0_ofPrinciple 21 = .ok (.iconst 0, 1) := dk_3 (dk_at dksX0_ofPrinciple_0 21 rfl rfl)
theorem dX0_ofPrinciple_22 : decode cX0_ofPrinciple 22 = .ok (.ireturn, 1) := dk_172 (dk_at dksX0_ofPrinciple_0 22 rfl rfl)
abbrev cX0_problem : ByteArray := method_14_code
def yX0_problem : MethodName := ⟨RX0, "problem", "(LReversalCourt;III[J)I"⟩
def dkwX0_problem_1 : List UInt8 := [172]
abbrev dktX0_problem_1 : List UInt8 := dkwX0_problem_1 ++ []
def dkwX0_problem_0 : List UInt8 := [25, 4, 3, 42, 27, 28, 29, 182, 0, 54, 133, 80, 167, 0, 11, 58, 5, 4, 172, 58, 5, 5, 172, 3]
abbrev dktX0_problem_0 : List UInt8 := dkwX0_problem_0 ++ dktX0_problem_1
theorem dksX0_problem_0 : cX0_problem.data.toList.drop 0 = dktX0_problem_0 := by decide +kernel
theorem dksX0_problem_1 : cX0_problem.data.toList.drop 24 = dktX0_problem_1 := dk_seg dksX0_problem_0 24 rfl rfl
theorem dX0_problem_0 : decode cX0_problem 0 = .ok (.aload 4, 2) := dk_25 4 (dk_at dksX0_problem_0 0 rfl rfl)
theorem dX0_problem_2 : decode cX0_problem 2 = .ok (.iconst 0, 1) := dk_3 (dk_at dksX0_problem_0 2 rfl rfl)
theorem dX0_problem_3 : decode cX0_problem 3 = .ok (.aload_n 0, 1) := dk_42 (dk_at dksX0_problem_0 3 rfl rfl)
theorem dX0_problem_4 : decode cX0_problem 4 = .ok (.iload_n 1, 1) := dk_27 (dk_at dksX0_problem_0 4 rfl rfl)
theorem dX0_problem_5 : decode cX0_problem 5 = .ok (.iload_n 2, 1) := dk_28 (dk_at dksX0_problem_0 5 rfl rfl)
theorem dX0_problem_6 : decode cX0_problem 6 = .ok (.iload_n 3, 1) := dk_29 (dk_at dksX0_problem_0 6 rfl rfl)
theorem dX0_problem_7 : decode cX0_problem 7 = .ok (.invokevirtual 54, 3) := dk_182 0 54 (dk_at dksX0_problem_0 7 rfl rfl)
theorem dX0_problem_10 : decode cX0_problem 10 = .ok (.i2l, 1) := dk_133 (dk_at dksX0_problem_0 10 rfl rfl)
theorem dX0_problem_11 : decode cX0_problem 11 = .ok (.lastore, 1) := dk_80 (dk_at dksX0_problem_0 11 rfl rfl)
theorem dX0_problem_12 : decode cX0_problem 12 = .ok (.goto 11, 3) := dk_167 0 11 (dk_at dksX0_problem_0 12 rfl rfl)
theorem dX0_problem_15 : decode cX0_problem 15 = .ok (.astore 5, 2) := dk_58 5 (dk_at dksX0_problem_0 15 rfl rfl)
theorem dX0_problem_17 : decode cX0_problem 17 = .ok (.iconst 1, 1) := dk_4 (dk_at dksX0_problem_0 17 rfl rfl)
theorem dX0_problem_18 : decode cX0_problem 18 = .ok (.ireturn, 1) := dk_172 (dk_at dksX0_problem_0 18 rfl rfl)
theorem dX0_problem_19 : decode cX0_problem 19 = .ok (.astore 5, 2) := dk_58 5 (dk_at dksX0_problem_0 19 rfl rfl)
theorem dX0_problem_21 : decode cX0_problem 21 = .ok (.iconst 2, 1) := dk_5 (dk_at dksX0_problem_0 21 rfl rfl)
theorem dX0_problem_22 : decode cX0_problem 22 = .ok (.ireturn, 1) := dk_172 (dk_at dksX0_problem_0 22 rfl rfl)
theorem dX0_problem_23 : decode cX0_problem 23 = .ok (.iconst 0, 1) := dk_3 (dk_at dksX0_problem_0 23 rfl rfl)
theorem dX0_problem_24 : decode cX0_problem 24 = .ok (.ireturn, 1) := dk_172 (dk_at dksX0_problem_1 0 rfl rfl)
abbrev cX0_product : ByteArray := method_15_code
def yX0_product : MethodName := ⟨RX0, "product", "(LReversalCourt;II[J)I"⟩
def dkwX0_product_0 : List UInt8 := [45, 3, 42, 27, 28, 182, 0, 57, 133, 80, 167, 0, 11, 58, 4, 4, 172, 58, 4, 5, 172, 3, 172]
abbrev dktX0_product_0 : List UInt8 := dkwX0_product_0 ++ []
theorem dksX0_product_0 : cX0_product.data.toList.drop 0 = dktX0_product_0 := by decide +kernel
theorem dX0_product_0 : decode cX0_product 0 = .ok (.aload_n 3, 1) := dk_45 (dk_at dksX0_product_0 0 rfl rfl)
theorem dX0_product_1 : decode cX0_product 1 = .ok (.iconst 0, 1) := dk_3 (dk_at dksX0_product_0 1 rfl rfl)
theorem dX0_product_2 : decode cX0_product 2 = .ok (.aload_n 0, 1) := dk_42 (dk_at dksX0_product_0 2 rfl rfl)
theorem dX0_product_3 : decode cX0_product 3 = .ok (.iload_n 1, 1) := dk_27 (dk_at dksX0_product_0 3 rfl rfl)
theorem dX0_product_4 : decode cX0_product 4 = .ok (.iload_n 2, 1) := dk_28 (dk_at dksX0_product_0 4 rfl rfl)
theorem dX0_product_5 : decode cX0_product 5 = .ok (.invokevirtual 57, 3) := dk_182 0 57 (dk_at dksX0_product_0 5 rfl rfl)
theorem dX0_product_8 : decode cX0_product 8 = .ok (.i2l, 1) := dk_133 (dk_at dksX0_product_0 8 rfl rfl)
theorem dX0_product_9 : decode cX0_product 9 = .ok (.lastore, 1) := dk_80 (dk_at dksX0_product_0 9 rfl rfl)
theorem dX0_product_10 : decode cX0_product 10 = .ok (.goto 11, 3) := dk_167 0 11 (dk_at dksX0_product_0 10 rfl rfl)
theorem dX0_product_13 : decode cX0_product 13 = .ok (.astore 4, 2) := dk_58 4 (dk_at dksX0_product_0 13 rfl rfl)
theorem dX0_product_15 : decode cX0_product 15 = .ok (.iconst 1, 1) := dk_4 (dk_at dksX0_product_0 15 rfl rfl)
theorem dX0_product_16 : decode cX0_product 16 = .ok (.ireturn, 1) := dk_172 (dk_at dksX0_product_0 16 rfl rfl)
theorem dX0_product_17 : decode cX0_product 17 = .ok (.astore 4, 2) := dk_58 4 (dk_at dksX0_product_0 17 rfl rfl)
theorem dX0_product_19 : decode cX0_product 19 = .ok (.iconst 2, 1) := dk_5 (dk_at dksX0_product_0 19 rfl rfl)
theorem dX0_product_20 : decode cX0_product 20 = .ok (.ireturn, 1) := dk_172 (dk_at dksX0_product_0 20 rfl rfl)
theorem dX0_product_21 : decode cX0_product 21 = .ok (.iconst 0, 1) := dk_3 (dk_at dksX0_product_0 21 rfl rfl)
theorem dX0_product_22 : decode cX0_product 22 = .ok (.ireturn, 1) := dk_172 (dk_at dksX0_product_0 22 rfl rfl)
abbrev cX0_reduces : ByteArray := method_16_code
def yX0_reduces : MethodName := ⟨RX0, "reduces", "(LReversalCourt;II[J)I"⟩
def dkwX0_reduces_0 : List UInt8 := [45, 3, 42, 27, 28, 182, 0, 60, 133, 80, 167, 0, 7, 58, 4, 4, 172, 3, 172]
abbrev dktX0_reduces_0 : List UInt8 := dkwX0_reduces_0 ++ []
theorem dksX0_reduces_0 : cX0_reduces.data.toList.drop 0 = dktX0_reduces_0 := by decide +kernel
theorem dX0_reduces_0 : decode cX0_reduces 0 = .ok (.aload_n 3, 1) := dk_45 (dk_at dksX0_reduces_0 0 rfl rfl)
theorem dX0_reduces_1 : decode cX0_reduces 1 = .ok (.iconst 0, 1) := dk_3 (dk_at dksX0_reduces_0 1 rfl rfl)
theorem dX0_reduces_2 : decode cX0_reduces 2 = .ok (.aload_n 0, 1) := dk_42 (dk_at dksX0_reduces_0 2 rfl rfl)
theorem dX0_reduces_3 : decode cX0_reduces 3 = .ok (.iload_n 1, 1) := dk_27 (dk_at dksX0_reduces_0 3 rfl rfl)
theorem dX0_reduces_4 : decode cX0_reduces 4 = .ok (.iload_n 2, 1) := dk_28 (dk_at dksX0_reduces_0 4 rfl rfl)
theorem dX0_reduces_5 : decode cX0_reduces 5 = .ok (.invokevirtual 60, 3) := dk_182 0 60 (dk_at dksX0_reduces_0 5 rfl rfl)
theorem dX0_reduces_8 : decode cX0_reduces 8 = .ok (.i2l, 1) := dk_133 (dk_at dksX0_reduces_0 8 rfl rfl)
theorem dX0_reduces_9 : decode cX0_reduces 9 = .ok (.lastore, 1) := dk_80 (dk_at dksX0_reduces_0 9 rfl rfl)
theorem dX0_reduces_10 : decode cX0_reduces 10 = .ok (.goto 7, 3) := dk_167 0 7 (dk_at dksX0_reduces_0 10 rfl rfl)
theorem dX0_reduces_13 : decode cX0_reduces 13 = .ok (.astore 4, 2) := dk_58 4 (dk_at dksX0_reduces_0 13 rfl rfl)
theorem dX0_reduces_15 : decode cX0_reduces 15 = .ok (.iconst 1, 1) := dk_4 (dk_at dksX0_reduces_0 15 rfl rfl)
theorem dX0_reduces_16 : decode cX0_reduces 16 = .ok (.ireturn, 1) := dk_172 (dk_at dksX0_reduces_0 16 rfl rfl)
theorem dX0_reduces_17 : decode cX0_reduces 17 = .ok (.iconst 0, 1) := dk_3 (dk_at dksX0_reduces_0 17 rfl rfl)
theorem dX0_reduces_18 : decode cX0_reduces 18 = .ok (.ireturn, 1) := dk_172 (dk_at dksX0_reduces_0 18 rfl rfl)
abbrev cX0_reducesAnew : ByteArray := method_17_code
def yX0_reducesAnew : MethodName := ⟨RX0, "reducesAnew", "(LReversalCourt;II[J)I"⟩
def dkwX0_reducesAnew_0 : List UInt8 := [45, 3, 42, 27, 28, 182, 0, 63, 133, 80, 167, 0, 7, 58, 4, 4, 172, 3, 172]
abbrev dktX0_reducesAnew_0 : List UInt8 := dkwX0_reducesAnew_0 ++ []
theorem dksX0_reducesAnew_0 : cX0_reducesAnew.data.toList.drop 0 = dktX0_reducesAnew_0 := by decide +kernel
theorem dX0_reducesAnew_0 : decode cX0_reducesAnew 0 = .ok (.aload_n 3, 1) := dk_45 (dk_at dksX0_reducesAnew_0 0 rfl rfl)
theorem dX0_reducesAnew_1 : decode cX0_reducesAnew 1 = .ok (.iconst 0, 1) := dk_3 (dk_at dksX0_reducesAnew_0 1 rfl rfl)
theorem dX0_reducesAnew_2 : decode cX0_reducesAnew 2 = .ok (.aload_n 0, 1) := dk_42 (dk_at dksX0_reducesAnew_0 2 rfl rfl)
theorem dX0_reducesAnew_3 : decode cX0_reducesAnew 3 = .ok (.iload_n 1, 1) := dk_27 (dk_at dksX0_reducesAnew_0 3 rfl rfl)
theorem dX0_reducesAnew_4 : decode cX0_reducesAnew 4 = .ok (.iload_n 2, 1) := dk_28 (dk_at dksX0_reducesAnew_0 4 rfl rfl)
theorem dX0_reducesAnew_5 : decode cX0_reducesAnew 5 = .ok (.invokevirtual 63, 3) := dk_182 0 63 (dk_at dksX0_reducesAnew_0 5 rfl rfl)
theorem dX0_reducesAnew_8 : decode cX0_reducesAnew 8 = .ok (.i2l, 1) := dk_133 (dk_at dksX0_reducesAnew_0 8 rfl rfl)
theorem dX0_reducesAnew_9 : decode cX0_reducesAnew 9 = .ok (.lastore, 1) := dk_80 (dk_at dksX0_reducesAnew_0 9 rfl rfl)
theorem dX0_reducesAnew_10 : decode cX0_reducesAnew 10 = .ok (.goto 7, 3) := dk_167 0 7 (dk_at dksX0_reducesAnew_0 10 rfl rfl)
theorem dX0_reducesAnew_13 : decode cX0_reducesAnew 13 = .ok (.astore 4, 2) := dk_58 4 (dk_at dksX0_reducesAnew_0 13 rfl rfl)
theorem dX0_reducesAnew_15 : decode cX0_reducesAnew 15 = .ok (.iconst 1, 1) := dk_4 (dk_at dksX0_reducesAnew_0 15 rfl rfl)
theorem dX0_reducesAnew_16 : decode cX0_reducesAnew 16 = .ok (.ireturn, 1) := dk_172 (dk_at dksX0_reducesAnew_0 16 rfl rfl)
theorem dX0_reducesAnew_17 : decode cX0_reducesAnew 17 = .ok (.iconst 0, 1) := dk_3 (dk_at dksX0_reducesAnew_0 17 rfl rfl)
theorem dX0_reducesAnew_18 : decode cX0_reducesAnew 18 = .ok (.ireturn, 1) := dk_172 (dk_at dksX0_reducesAnew_0 18 rfl rfl)
abbrev cX0_forth : ByteArray := method_18_code
def yX0_forth : MethodName := ⟨RX0, "forth", "(LReversalCourt;III[J)I"⟩
def dkwX0_forth_0 : List UInt8 := [25, 4, 3, 42, 27, 28, 29, 182, 0, 66, 133, 80, 167, 0, 7, 58, 5, 4, 172, 3, 172]
abbrev dktX0_forth_0 : List UInt8 := dkwX0_forth_0 ++ []
theorem dksX0_forth_0 : cX0_forth.data.toList.drop 0 = dktX0_forth_0 := by decide +kernel
theorem dX0_forth_0 : decode cX0_forth 0 = .ok (.aload 4, 2) := dk_25 4 (dk_at dksX0_forth_0 0 rfl rfl)
theorem dX0_forth_2 : decode cX0_forth 2 = .ok (.iconst 0, 1) := dk_3 (dk_at dksX0_forth_0 2 rfl rfl)
theorem dX0_forth_3 : decode cX0_forth 3 = .ok (.aload_n 0, 1) := dk_42 (dk_at dksX0_forth_0 3 rfl rfl)
theorem dX0_forth_4 : decode cX0_forth 4 = .ok (.iload_n 1, 1) := dk_27 (dk_at dksX0_forth_0 4 rfl rfl)
theorem dX0_forth_5 : decode cX0_forth 5 = .ok (.iload_n 2, 1) := dk_28 (dk_at dksX0_forth_0 5 rfl rfl)
theorem dX0_forth_6 : decode cX0_forth 6 = .ok (.iload_n 3, 1) := dk_29 (dk_at dksX0_forth_0 6 rfl rfl)
theorem dX0_forth_7 : decode cX0_forth 7 = .ok (.invokevirtual 66, 3) := dk_182 0 66 (dk_at dksX0_forth_0 7 rfl rfl)
theorem dX0_forth_10 : decode cX0_forth 10 = .ok (.i2l, 1) := dk_133 (dk_at dksX0_forth_0 10 rfl rfl)
theorem dX0_forth_11 : decode cX0_forth 11 = .ok (.lastore, 1) := dk_80 (dk_at dksX0_forth_0 11 rfl rfl)
theorem dX0_forth_12 : decode cX0_forth 12 = .ok (.goto 7, 3) := dk_167 0 7 (dk_at dksX0_forth_0 12 rfl rfl)
theorem dX0_forth_15 : decode cX0_forth 15 = .ok (.astore 5, 2) := dk_58 5 (dk_at dksX0_forth_0 15 rfl rfl)
theorem dX0_forth_17 : decode cX0_forth 17 = .ok (.iconst 1, 1) := dk_4 (dk_at dksX0_forth_0 17 rfl rfl)
theorem dX0_forth_18 : decode cX0_forth 18 = .ok (.ireturn, 1) := dk_172 (dk_at dksX0_forth_0 18 rfl rfl)
theorem dX0_forth_19 : decode cX0_forth 19 = .ok (.iconst 0, 1) := dk_3 (dk_at dksX0_forth_0 19 rfl rfl)
theorem dX0_forth_20 : decode cX0_forth 20 = .ok (.ireturn, 1) := dk_172 (dk_at dksX0_forth_0 20 rfl rfl)
abbrev cX0_ofProblem : ByteArray := method_19_code
def yX0_ofProblem : MethodName := ⟨RX0, "ofProblem", "(LReversalCourt;II[J)I"⟩
def dkwX0_ofProblem_0 : List UInt8 := [45, 3, 42, 27, 28, 182, 0, 69, 133, 80, 167, 0, 11, 58, 4, 4, 172, 58, 4, 5, 172, 3, 172]
abbrev dktX0_ofProblem_0 : List UInt8 := dkwX0_ofProblem_0 ++ []
theorem dksX0_ofProblem_0 : cX0_ofProblem.data.toList.drop 0 = dktX0_ofProblem_0 := by decide +kernel
theorem dX0_ofProblem_0 : decode cX0_ofProblem 0 = .ok (.aload_n 3, 1) := dk_45 (dk_at dksX0_ofProblem_0 0 rfl rfl)
theorem dX0_ofProblem_1 : decode cX0_ofProblem 1 = .ok (.iconst 0, 1) := dk_3 (dk_at dksX0_ofProblem_0 1 rfl rfl)
theorem dX0_ofProblem_2 : decode cX0_ofProblem 2 = .ok (.aload_n 0, 1) := dk_42 (dk_at dksX0_ofProblem_0 2 rfl rfl)
theorem dX0_ofProblem_3 : decode cX0_ofProblem 3 = .ok (.iload_n 1, 1) := dk_27 (dk_at dksX0_ofProblem_0 3 rfl rfl)
theorem dX0_ofProblem_4 : decode cX0_ofProblem 4 = .ok (.iload_n 2, 1) := dk_28 (dk_at dksX0_ofProblem_0 4 rfl rfl)
theorem dX0_ofProblem_5 : decode cX0_ofProblem 5 = .ok (.invokevirtual 69, 3) := dk_182 0 69 (dk_at dksX0_ofProblem_0 5 rfl rfl)
theorem dX0_ofProblem_8 : decode cX0_ofProblem 8 = .ok (.i2l, 1) := dk_133 (dk_at dksX0_ofProblem_0 8 rfl rfl)
theorem dX0_ofProblem_9 : decode cX0_ofProblem 9 = .ok (.lastore, 1) := dk_80 (dk_at dksX0_ofProblem_0 9 rfl rfl)
theorem dX0_ofProblem_10 : decode cX0_ofProblem 10 = .ok (.goto 11, 3) := dk_167 0 11 (dk_at dksX0_ofProblem_0 10 rfl rfl)
theorem dX0_ofProblem_13 : decode cX0_ofProblem 13 = .ok (.astore 4, 2) := dk_58 4 (dk_at dksX0_ofProblem_0 13 rfl rfl)
theorem dX0_ofProblem_15 : decode cX0_ofProblem 15 = .ok (.iconst 1, 1) := dk_4 (dk_at dksX0_ofProblem_0 15 rfl rfl)
theorem dX0_ofProblem_16 : decode cX0_ofProblem 16 = .ok (.ireturn, 1) := dk_172 (dk_at dksX0_ofProblem_0 16 rfl rfl)
theorem dX0_ofProblem_17 : decode cX0_ofProblem 17 = .ok (.astore 4, 2) := dk_58 4 (dk_at dksX0_ofProblem_0 17 rfl rfl)
theorem dX0_ofProblem_19 : decode cX0_ofProblem 19 = .ok (.iconst 2, 1) := dk_5 (dk_at dksX0_ofProblem_0 19 rfl rfl)
theorem dX0_ofProblem_20 : decode cX0_ofProblem 20 = .ok (.ireturn, 1) := dk_172 (dk_at dksX0_ofProblem_0 20 rfl rfl)
theorem dX0_ofProblem_21 : decode cX0_ofProblem 21 = .ok (.iconst 0, 1) := dk_3 (dk_at dksX0_ofProblem_0 21 rfl rfl)
theorem dX0_ofProblem_22 : decode cX0_ofProblem 22 = .ok (.ireturn, 1) := dk_172 (dk_at dksX0_ofProblem_0 22 rfl rfl)
abbrev cX0_has : ByteArray := method_20_code
def yX0_has : MethodName := ⟨RX0, "has", "(LReversalCourt;II[J)I"⟩
def dkwX0_has_1 : List UInt8 := [3, 172]
abbrev dktX0_has_1 : List UInt8 := dkwX0_has_1 ++ []
def dkwX0_has_0 : List UInt8 := [45, 3, 42, 27, 28, 182, 0, 72, 153, 0, 7, 10, 167, 0, 4, 9, 80, 167, 0, 7, 58, 4, 4, 172]
abbrev dktX0_has_0 : List UInt8 := dkwX0_has_0 ++ dktX0_has_1
theorem dksX0_has_0 : cX0_has.data.toList.drop 0 = dktX0_has_0 := by decide +kernel
theorem dksX0_has_1 : cX0_has.data.toList.drop 24 = dktX0_has_1 := dk_seg dksX0_has_0 24 rfl rfl
theorem dX0_has_0 : decode cX0_has 0 = .ok (.aload_n 3, 1) := dk_45 (dk_at dksX0_has_0 0 rfl rfl)
theorem dX0_has_1 : decode cX0_has 1 = .ok (.iconst 0, 1) := dk_3 (dk_at dksX0_has_0 1 rfl rfl)
theorem dX0_has_2 : decode cX0_has 2 = .ok (.aload_n 0, 1) := dk_42 (dk_at dksX0_has_0 2 rfl rfl)
theorem dX0_has_3 : decode cX0_has 3 = .ok (.iload_n 1, 1) := dk_27 (dk_at dksX0_has_0 3 rfl rfl)
theorem dX0_has_4 : decode cX0_has 4 = .ok (.iload_n 2, 1) := dk_28 (dk_at dksX0_has_0 4 rfl rfl)
theorem dX0_has_5 : decode cX0_has 5 = .ok (.invokevirtual 72, 3) := dk_182 0 72 (dk_at dksX0_has_0 5 rfl rfl)
theorem dX0_has_8 : decode cX0_has 8 = .ok (.ifCond .eq 7, 3) := dk_153 0 7 (dk_at dksX0_has_0 8 rfl rfl)
theorem dX0_has_11 : decode cX0_has 11 = .ok (.lconst 1, 1) := dk_10 (dk_at dksX0_has_0 11 rfl rfl)
theorem dX0_has_12 : decode cX0_has 12 = .ok (.goto 4, 3) := dk_167 0 4 (dk_at dksX0_has_0 12 rfl rfl)
theorem dX0_has_15 : decode cX0_has 15 = .ok (.lconst 0, 1) := dk_9 (dk_at dksX0_has_0 15 rfl rfl)
theorem dX0_has_16 : decode cX0_has 16 = .ok (.lastore, 1) := dk_80 (dk_at dksX0_has_0 16 rfl rfl)
theorem dX0_has_17 : decode cX0_has 17 = .ok (.goto 7, 3) := dk_167 0 7 (dk_at dksX0_has_0 17 rfl rfl)
theorem dX0_has_20 : decode cX0_has 20 = .ok (.astore 4, 2) := dk_58 4 (dk_at dksX0_has_0 20 rfl rfl)
theorem dX0_has_22 : decode cX0_has 22 = .ok (.iconst 1, 1) := dk_4 (dk_at dksX0_has_0 22 rfl rfl)
theorem dX0_has_23 : decode cX0_has 23 = .ok (.ireturn, 1) := dk_172 (dk_at dksX0_has_0 23 rfl rfl)
theorem dX0_has_24 : decode cX0_has 24 = .ok (.iconst 0, 1) := dk_3 (dk_at dksX0_has_1 0 rfl rfl)
theorem dX0_has_25 : decode cX0_has 25 = .ok (.ireturn, 1) := dk_172 (dk_at dksX0_has_1 1 rfl rfl)
abbrev cX0_hasAnew : ByteArray := method_21_code
def yX0_hasAnew : MethodName := ⟨RX0, "hasAnew", "(LReversalCourt;II[J)I"⟩
def dkwX0_hasAnew_1 : List UInt8 := [3, 172]
abbrev dktX0_hasAnew_1 : List UInt8 := dkwX0_hasAnew_1 ++ []
def dkwX0_hasAnew_0 : List UInt8 := [45, 3, 42, 27, 28, 182, 0, 76, 153, 0, 7, 10, 167, 0, 4, 9, 80, 167, 0, 7, 58, 4, 4, 172]
abbrev dktX0_hasAnew_0 : List UInt8 := dkwX0_hasAnew_0 ++ dktX0_hasAnew_1
theorem dksX0_hasAnew_0 : cX0_hasAnew.data.toList.drop 0 = dktX0_hasAnew_0 := by decide +kernel
theorem dksX0_hasAnew_1 : cX0_hasAnew.data.toList.drop 24 = dktX0_hasAnew_1 := dk_seg dksX0_hasAnew_0 24 rfl rfl
theorem dX0_hasAnew_0 : decode cX0_hasAnew 0 = .ok (.aload_n 3, 1) := dk_45 (dk_at dksX0_hasAnew_0 0 rfl rfl)
theorem dX0_hasAnew_1 : decode cX0_hasAnew 1 = .ok (.iconst 0, 1) := dk_3 (dk_at dksX0_hasAnew_0 1 rfl rfl)
theorem dX0_hasAnew_2 : decode cX0_hasAnew 2 = .ok (.aload_n 0, 1) := dk_42 (dk_at dksX0_hasAnew_0 2 rfl rfl)
theorem dX0_hasAnew_3 : decode cX0_hasAnew 3 = .ok (.iload_n 1, 1) := dk_27 (dk_at dksX0_hasAnew_0 3 rfl rfl)
theorem dX0_hasAnew_4 : decode cX0_hasAnew 4 = .ok (.iload_n 2, 1) := dk_28 (dk_at dksX0_hasAnew_0 4 rfl rfl)
theorem dX0_hasAnew_5 : decode cX0_hasAnew 5 = .ok (.invokevirtual 76, 3) := dk_182 0 76 (dk_at dksX0_hasAnew_0 5 rfl rfl)
theorem dX0_hasAnew_8 : decode cX0_hasAnew 8 = .ok (.ifCond .eq 7, 3) := dk_153 0 7 (dk_at dksX0_hasAnew_0 8 rfl rfl)
theorem dX0_hasAnew_11 : decode cX0_hasAnew 11 = .ok (.lconst 1, 1) := dk_10 (dk_at dksX0_hasAnew_0 11 rfl rfl)
theorem dX0_hasAnew_12 : decode cX0_hasAnew 12 = .ok (.goto 4, 3) := dk_167 0 4 (dk_at dksX0_hasAnew_0 12 rfl rfl)
theorem dX0_hasAnew_15 : decode cX0_hasAnew 15 = .ok (.lconst 0, 1) := dk_9 (dk_at dksX0_hasAnew_0 15 rfl rfl)
theorem dX0_hasAnew_16 : decode cX0_hasAnew 16 = .ok (.lastore, 1) := dk_80 (dk_at dksX0_hasAnew_0 16 rfl rfl)
theorem dX0_hasAnew_17 : decode cX0_hasAnew 17 = .ok (.goto 7, 3) := dk_167 0 7 (dk_at dksX0_hasAnew_0 17 rfl rfl)
theorem dX0_hasAnew_20 : decode cX0_hasAnew 20 = .ok (.astore 4, 2) := dk_58 4 (dk_at dksX0_hasAnew_0 20 rfl rfl)
theorem dX0_hasAnew_22 : decode cX0_hasAnew 22 = .ok (.iconst 1, 1) := dk_4 (dk_at dksX0_hasAnew_0 22 rfl rfl)
theorem dX0_hasAnew_23 : decode cX0_hasAnew 23 = .ok (.ireturn, 1) := dk_172 (dk_at dksX0_hasAnew_0 23 rfl rfl)
theorem dX0_hasAnew_24 : decode cX0_hasAnew 24 = .ok (.iconst 0, 1) := dk_3 (dk_at dksX0_hasAnew_1 0 rfl rfl)
theorem dX0_hasAnew_25 : decode cX0_hasAnew 25 = .ok (.ireturn, 1) := dk_172 (dk_at dksX0_hasAnew_1 1 rfl rfl)
theorem q52 : (Jvm.Cond.initialized "ReversalCourtLaw") ∈ lw_all := lw_g (lw_at lw_m1 0 rfl) rfl
theorem q96 : (Jvm.Cond.classLink "ReversalCourtLaw" (8 : Nat) "ReversalCourt") ∈ lw_all := lw_g (lw_at lw_m1 44 rfl) rfl
theorem q98 : (Jvm.Cond.methodLink "ReversalCourtLaw" (79 : Nat) ({ cls := "ReversalCourt", name := "<init>", desc := "()V" } : Jvm.MethodName)) ∈ lw_all := lw_g (lw_at lw_m1 46 rfl) rfl
theorem q181 : (Jvm.Cond.methodLink "ReversalCourtLaw" (92 : Nat) ({ cls := "ReversalCourt", name := "blank", desc := "()I" } : Jvm.MethodName)) ∈ lw_all := lw_g (lw_at lw_m1 129 rfl) rfl
theorem q530 : (Jvm.Cond.methodLink "ReversalCourtLaw" (96 : Nat) ({ cls := "ReversalCourt", name := "fault", desc := "()I" } : Jvm.MethodName)) ∈ lw_all := lw_g (lw_at lw_m2 238 rfl) rfl
theorem q747 : (Jvm.Cond.methodLink "ReversalCourtLaw" (100 : Nat) ({ cls := "ReversalCourt", name := "sigma", desc := "()I" } : Jvm.MethodName)) ∈ lw_all := lw_g (lw_at lw_m3 215 rfl) rfl
theorem q801 : (Jvm.Cond.methodLink "ReversalCourtLaw" (104 : Nat) ({ cls := "ReversalCourt", name := "pi", desc := "()I" } : Jvm.MethodName)) ∈ lw_all := lw_g (lw_at lw_m4 29 rfl) rfl
theorem q806 : (Jvm.Cond.methodLink "ReversalCourtLaw" (108 : Nat) ({ cls := "ReversalCourt", name := "free", desc := "()I" } : Jvm.MethodName)) ∈ lw_all := lw_g (lw_at lw_m4 34 rfl) rfl
theorem q826 : (Jvm.Cond.methodLink "ReversalCourtLaw" (138 : Nat) ({ cls := "ReversalCourt", name := "open", desc := "()I" } : Jvm.MethodName)) ∈ lw_all := lw_g (lw_at lw_m4 54 rfl) rfl
theorem q872 : (Jvm.Cond.methodLink "ReversalCourtLaw" (83 : Nat) ({ cls := "ReversalCourtLaw", name := "letter", desc := "(LReversalCourt;C[J)I" } : Jvm.MethodName)) ∈ lw_all := lw_g (lw_at lw_m4 100 rfl) rfl
theorem q873 : (Jvm.Cond.static ({ cls := "ReversalCourtLaw", name := "letter", desc := "(LReversalCourt;C[J)I" } : Jvm.MethodName)) ∈ lw_all := lw_g (lw_at lw_m4 101 rfl) rfl
theorem q874 : (Jvm.Cond.codeWith ({ cls := "ReversalCourtLaw", name := "letter", desc := "(LReversalCourt;C[J)I" } : Jvm.MethodName) method_3_code (4 : Nat) (Option.some Jvm.ClassFile.FieldType.int) [((0 : Nat), (9 : Nat), (12 : Nat), (13 : Nat)), ((0 : Nat), (9 : Nat), (15 : Nat), (15 : Nat))]) ∈ lw_all := lw_g (lw_at lw_m4 102 rfl) rfl
theorem q875 : (Jvm.Cond.classLink "ReversalCourtLaw" (13 : Nat) "java/lang/IllegalArgumentException") ∈ lw_all := lw_g (lw_at lw_m4 103 rfl) rfl
theorem q876 : (Jvm.Cond.classLink "ReversalCourtLaw" (15 : Nat) "java/lang/IllegalStateException") ∈ lw_all := lw_g (lw_at lw_m4 104 rfl) rfl
theorem q877 : (Jvm.Cond.methodLink "ReversalCourtLaw" (7 : Nat) ({ cls := "ReversalCourt", name := "letter", desc := "(C)I" } : Jvm.MethodName)) ∈ lw_all := lw_g (lw_at lw_m4 105 rfl) rfl
theorem q932 : (Jvm.Cond.methodLink "ReversalCourtLaw" (112 : Nat) ({ cls := "ReversalCourtLaw", name := "isSo", desc := "(LReversalCourt;IIII[J)I" } : Jvm.MethodName)) ∈ lw_all := lw_g (lw_at lw_m4 160 rfl) rfl
theorem q933 : (Jvm.Cond.static ({ cls := "ReversalCourtLaw", name := "isSo", desc := "(LReversalCourt;IIII[J)I" } : Jvm.MethodName)) ∈ lw_all := lw_g (lw_at lw_m4 161 rfl) rfl
theorem q934 : (Jvm.Cond.codeWith ({ cls := "ReversalCourtLaw", name := "isSo", desc := "(LReversalCourt;IIII[J)I" } : Jvm.MethodName) method_4_code (7 : Nat) (Option.some Jvm.ClassFile.FieldType.int) [((0 : Nat), (21 : Nat), (24 : Nat), (13 : Nat)), ((0 : Nat), (21 : Nat), (28 : Nat), (15 : Nat))]) ∈ lw_all := lw_g (lw_at lw_m4 162 rfl) rfl
theorem q935 : (Jvm.Cond.methodLink "ReversalCourtLaw" (17 : Nat) ({ cls := "ReversalCourt", name := "isSo", desc := "(IIII)Z" } : Jvm.MethodName)) ∈ lw_all := lw_g (lw_at lw_m4 163 rfl) rfl
theorem q987 : (Jvm.Cond.methodLink "ReversalCourtLaw" (116 : Nat) ({ cls := "ReversalCourtLaw", name := "principle", desc := "(LReversalCourt;[J)I" } : Jvm.MethodName)) ∈ lw_all := lw_g (lw_at lw_m4 215 rfl) rfl
theorem q988 : (Jvm.Cond.static ({ cls := "ReversalCourtLaw", name := "principle", desc := "(LReversalCourt;[J)I" } : Jvm.MethodName)) ∈ lw_all := lw_g (lw_at lw_m4 216 rfl) rfl
theorem q989 : (Jvm.Cond.codeWith ({ cls := "ReversalCourtLaw", name := "principle", desc := "(LReversalCourt;[J)I" } : Jvm.MethodName) method_5_code (3 : Nat) (Option.some Jvm.ClassFile.FieldType.int) [((0 : Nat), (8 : Nat), (11 : Nat), (15 : Nat))]) ∈ lw_all := lw_g (lw_at lw_m4 217 rfl) rfl
theorem q990 : (Jvm.Cond.methodLink "ReversalCourtLaw" (21 : Nat) ({ cls := "ReversalCourt", name := "principle", desc := "()I" } : Jvm.MethodName)) ∈ lw_all := lw_g (lw_at lw_m4 218 rfl) rfl
theorem q1067 : (Jvm.Cond.methodLink "ReversalCourtLaw" (120 : Nat) ({ cls := "ReversalCourtLaw", name := "rule", desc := "(LReversalCourt;II[J)I" } : Jvm.MethodName)) ∈ lw_all := lw_g (lw_at lw_m5 55 rfl) rfl
theorem q1068 : (Jvm.Cond.static ({ cls := "ReversalCourtLaw", name := "rule", desc := "(LReversalCourt;II[J)I" } : Jvm.MethodName)) ∈ lw_all := lw_g (lw_at lw_m5 56 rfl) rfl
theorem q1069 : (Jvm.Cond.codeWith ({ cls := "ReversalCourtLaw", name := "rule", desc := "(LReversalCourt;II[J)I" } : Jvm.MethodName) method_6_code (5 : Nat) (Option.some Jvm.ClassFile.FieldType.int) [((0 : Nat), (10 : Nat), (13 : Nat), (29 : Nat)), ((0 : Nat), (10 : Nat), (17 : Nat), (13 : Nat)), ((0 : Nat), (10 : Nat), (21 : Nat), (15 : Nat))]) ∈ lw_all := lw_g (lw_at lw_m5 57 rfl) rfl
theorem q1070 : (Jvm.Cond.classLink "ReversalCourtLaw" (29 : Nat) "java/lang/IndexOutOfBoundsException") ∈ lw_all := lw_g (lw_at lw_m5 58 rfl) rfl
theorem q1073 : (Jvm.Cond.methodLink "ReversalCourtLaw" (25 : Nat) ({ cls := "ReversalCourt", name := "rule", desc := "(II)I" } : Jvm.MethodName)) ∈ lw_all := lw_g (lw_at lw_m5 61 rfl) rfl
theorem q1124 : (Jvm.Cond.methodLink "ReversalCourtLaw" (124 : Nat) ({ cls := "ReversalCourtLaw", name := "model", desc := "(LReversalCourt;I[J)I" } : Jvm.MethodName)) ∈ lw_all := lw_g (lw_at lw_m5 112 rfl) rfl
theorem q1125 : (Jvm.Cond.static ({ cls := "ReversalCourtLaw", name := "model", desc := "(LReversalCourt;I[J)I" } : Jvm.MethodName)) ∈ lw_all := lw_g (lw_at lw_m5 113 rfl) rfl
theorem q1126 : (Jvm.Cond.codeWith ({ cls := "ReversalCourtLaw", name := "model", desc := "(LReversalCourt;I[J)I" } : Jvm.MethodName) method_7_code (4 : Nat) (Option.some Jvm.ClassFile.FieldType.int) [((0 : Nat), (9 : Nat), (12 : Nat), (13 : Nat)), ((0 : Nat), (9 : Nat), (15 : Nat), (15 : Nat))]) ∈ lw_all := lw_g (lw_at lw_m5 114 rfl) rfl
theorem q1127 : (Jvm.Cond.methodLink "ReversalCourtLaw" (31 : Nat) ({ cls := "ReversalCourt", name := "model", desc := "(I)I" } : Jvm.MethodName)) ∈ lw_all := lw_g (lw_at lw_m5 115 rfl) rfl
theorem q1151 : (Jvm.Cond.methodLink "ReversalCourtLaw" (128 : Nat) ({ cls := "ReversalCourtLaw", name := "proves", desc := "(LReversalCourt;I[J)I" } : Jvm.MethodName)) ∈ lw_all := lw_g (lw_at lw_m5 139 rfl) rfl
theorem q1152 : (Jvm.Cond.static ({ cls := "ReversalCourtLaw", name := "proves", desc := "(LReversalCourt;I[J)I" } : Jvm.MethodName)) ∈ lw_all := lw_g (lw_at lw_m5 140 rfl) rfl
theorem q1153 : (Jvm.Cond.codeWith ({ cls := "ReversalCourtLaw", name := "proves", desc := "(LReversalCourt;I[J)I" } : Jvm.MethodName) method_8_code (4 : Nat) (Option.some Jvm.ClassFile.FieldType.int) [((0 : Nat), (9 : Nat), (12 : Nat), (13 : Nat))]) ∈ lw_all := lw_g (lw_at lw_m5 141 rfl) rfl
theorem q1154 : (Jvm.Cond.methodLink "ReversalCourtLaw" (35 : Nat) ({ cls := "ReversalCourt", name := "proves", desc := "(I)I" } : Jvm.MethodName)) ∈ lw_all := lw_g (lw_at lw_m5 142 rfl) rfl
theorem q1158 : (Jvm.Cond.methodLink "ReversalCourtLaw" (131 : Nat) ({ cls := "ReversalCourtLaw", name := "proof", desc := "(LReversalCourt;III[J)I" } : Jvm.MethodName)) ∈ lw_all := lw_g (lw_at lw_m5 146 rfl) rfl
theorem q1159 : (Jvm.Cond.static ({ cls := "ReversalCourtLaw", name := "proof", desc := "(LReversalCourt;III[J)I" } : Jvm.MethodName)) ∈ lw_all := lw_g (lw_at lw_m5 147 rfl) rfl
theorem q1160 : (Jvm.Cond.codeWith ({ cls := "ReversalCourtLaw", name := "proof", desc := "(LReversalCourt;III[J)I" } : Jvm.MethodName) method_9_code (6 : Nat) (Option.some Jvm.ClassFile.FieldType.int) [((0 : Nat), (12 : Nat), (15 : Nat), (29 : Nat)), ((0 : Nat), (12 : Nat), (19 : Nat), (13 : Nat))]) ∈ lw_all := lw_g (lw_at lw_m5 148 rfl) rfl
theorem q1161 : (Jvm.Cond.methodLink "ReversalCourtLaw" (38 : Nat) ({ cls := "ReversalCourt", name := "proof", desc := "(III)I" } : Jvm.MethodName)) ∈ lw_all := lw_g (lw_at lw_m5 149 rfl) rfl
theorem q1191 : (Jvm.Cond.methodLink "ReversalCourtLaw" (135 : Nat) ({ cls := "ReversalCourtLaw", name := "known", desc := "(LReversalCourt;II[J)I" } : Jvm.MethodName)) ∈ lw_all := lw_g (lw_at lw_m5 179 rfl) rfl
theorem q1192 : (Jvm.Cond.static ({ cls := "ReversalCourtLaw", name := "known", desc := "(LReversalCourt;II[J)I" } : Jvm.MethodName)) ∈ lw_all := lw_g (lw_at lw_m5 180 rfl) rfl
theorem q1193 : (Jvm.Cond.codeWith ({ cls := "ReversalCourtLaw", name := "known", desc := "(LReversalCourt;II[J)I" } : Jvm.MethodName) method_10_code (5 : Nat) (Option.some Jvm.ClassFile.FieldType.int) [((0 : Nat), (10 : Nat), (13 : Nat), (29 : Nat)), ((0 : Nat), (10 : Nat), (17 : Nat), (13 : Nat))]) ∈ lw_all := lw_g (lw_at lw_m5 181 rfl) rfl
theorem q1194 : (Jvm.Cond.methodLink "ReversalCourtLaw" (42 : Nat) ({ cls := "ReversalCourt", name := "known", desc := "(II)I" } : Jvm.MethodName)) ∈ lw_all := lw_g (lw_at lw_m5 182 rfl) rfl
theorem q1198 : (Jvm.Cond.methodLink "ReversalCourtLaw" (142 : Nat) ({ cls := "ReversalCourtLaw", name := "least", desc := "(LReversalCourt;II[J)I" } : Jvm.MethodName)) ∈ lw_all := lw_g (lw_at lw_m5 186 rfl) rfl
theorem q1199 : (Jvm.Cond.static ({ cls := "ReversalCourtLaw", name := "least", desc := "(LReversalCourt;II[J)I" } : Jvm.MethodName)) ∈ lw_all := lw_g (lw_at lw_m5 187 rfl) rfl
theorem q1200 : (Jvm.Cond.codeWith ({ cls := "ReversalCourtLaw", name := "least", desc := "(LReversalCourt;II[J)I" } : Jvm.MethodName) method_11_code (5 : Nat) (Option.some Jvm.ClassFile.FieldType.int) [((0 : Nat), (10 : Nat), (13 : Nat), (29 : Nat)), ((0 : Nat), (10 : Nat), (17 : Nat), (13 : Nat))]) ∈ lw_all := lw_g (lw_at lw_m5 188 rfl) rfl
theorem q1201 : (Jvm.Cond.methodLink "ReversalCourtLaw" (45 : Nat) ({ cls := "ReversalCourt", name := "least", desc := "(II)I" } : Jvm.MethodName)) ∈ lw_all := lw_g (lw_at lw_m5 189 rfl) rfl
theorem q1286 : (Jvm.Cond.methodLink "ReversalCourtLaw" (145 : Nat) ({ cls := "ReversalCourtLaw", name := "leastAnew", desc := "(LReversalCourt;II[J)I" } : Jvm.MethodName)) ∈ lw_all := lw_g (lw_at lw_m6 34 rfl) rfl
theorem q1287 : (Jvm.Cond.static ({ cls := "ReversalCourtLaw", name := "leastAnew", desc := "(LReversalCourt;II[J)I" } : Jvm.MethodName)) ∈ lw_all := lw_g (lw_at lw_m6 35 rfl) rfl
theorem q1288 : (Jvm.Cond.codeWith ({ cls := "ReversalCourtLaw", name := "leastAnew", desc := "(LReversalCourt;II[J)I" } : Jvm.MethodName) method_12_code (5 : Nat) (Option.some Jvm.ClassFile.FieldType.int) [((0 : Nat), (10 : Nat), (13 : Nat), (29 : Nat)), ((0 : Nat), (10 : Nat), (17 : Nat), (13 : Nat))]) ∈ lw_all := lw_g (lw_at lw_m6 36 rfl) rfl
theorem q1289 : (Jvm.Cond.methodLink "ReversalCourtLaw" (48 : Nat) ({ cls := "ReversalCourt", name := "leastAnew", desc := "(II)I" } : Jvm.MethodName)) ∈ lw_all := lw_g (lw_at lw_m6 37 rfl) rfl
theorem q1316 : (Jvm.Cond.methodLink "ReversalCourtLaw" (148 : Nat) ({ cls := "ReversalCourtLaw", name := "ofPrinciple", desc := "(LReversalCourt;II[J)I" } : Jvm.MethodName)) ∈ lw_all := lw_g (lw_at lw_m6 64 rfl) rfl
theorem q1317 : (Jvm.Cond.static ({ cls := "ReversalCourtLaw", name := "ofPrinciple", desc := "(LReversalCourt;II[J)I" } : Jvm.MethodName)) ∈ lw_all := lw_g (lw_at lw_m6 65 rfl) rfl
theorem q1318 : (Jvm.Cond.codeWith ({ cls := "ReversalCourtLaw", name := "ofPrinciple", desc := "(LReversalCourt;II[J)I" } : Jvm.MethodName) method_13_code (5 : Nat) (Option.some Jvm.ClassFile.FieldType.int) [((0 : Nat), (10 : Nat), (13 : Nat), (29 : Nat)), ((0 : Nat), (10 : Nat), (17 : Nat), (13 : Nat))]) ∈ lw_all := lw_g (lw_at lw_m6 66 rfl) rfl
theorem q1319 : (Jvm.Cond.methodLink "ReversalCourtLaw" (51 : Nat) ({ cls := "ReversalCourt", name := "ofPrinciple", desc := "(II)I" } : Jvm.MethodName)) ∈ lw_all := lw_g (lw_at lw_m6 67 rfl) rfl
theorem q1331 : (Jvm.Cond.methodLink "ReversalCourtLaw" (151 : Nat) ({ cls := "ReversalCourtLaw", name := "problem", desc := "(LReversalCourt;III[J)I" } : Jvm.MethodName)) ∈ lw_all := lw_g (lw_at lw_m6 79 rfl) rfl
theorem q1332 : (Jvm.Cond.static ({ cls := "ReversalCourtLaw", name := "problem", desc := "(LReversalCourt;III[J)I" } : Jvm.MethodName)) ∈ lw_all := lw_g (lw_at lw_m6 80 rfl) rfl
theorem q1333 : (Jvm.Cond.codeWith ({ cls := "ReversalCourtLaw", name := "problem", desc := "(LReversalCourt;III[J)I" } : Jvm.MethodName) method_14_code (6 : Nat) (Option.some Jvm.ClassFile.FieldType.int) [((0 : Nat), (12 : Nat), (15 : Nat), (13 : Nat)), ((0 : Nat), (12 : Nat), (19 : Nat), (15 : Nat))]) ∈ lw_all := lw_g (lw_at lw_m6 81 rfl) rfl
theorem q1334 : (Jvm.Cond.methodLink "ReversalCourtLaw" (54 : Nat) ({ cls := "ReversalCourt", name := "problem", desc := "(III)I" } : Jvm.MethodName)) ∈ lw_all := lw_g (lw_at lw_m6 82 rfl) rfl
theorem q1357 : (Jvm.Cond.methodLink "ReversalCourtLaw" (154 : Nat) ({ cls := "ReversalCourtLaw", name := "product", desc := "(LReversalCourt;II[J)I" } : Jvm.MethodName)) ∈ lw_all := lw_g (lw_at lw_m6 105 rfl) rfl
theorem q1358 : (Jvm.Cond.static ({ cls := "ReversalCourtLaw", name := "product", desc := "(LReversalCourt;II[J)I" } : Jvm.MethodName)) ∈ lw_all := lw_g (lw_at lw_m6 106 rfl) rfl
theorem q1359 : (Jvm.Cond.codeWith ({ cls := "ReversalCourtLaw", name := "product", desc := "(LReversalCourt;II[J)I" } : Jvm.MethodName) method_15_code (5 : Nat) (Option.some Jvm.ClassFile.FieldType.int) [((0 : Nat), (10 : Nat), (13 : Nat), (29 : Nat)), ((0 : Nat), (10 : Nat), (17 : Nat), (15 : Nat))]) ∈ lw_all := lw_g (lw_at lw_m6 107 rfl) rfl
theorem q1360 : (Jvm.Cond.methodLink "ReversalCourtLaw" (57 : Nat) ({ cls := "ReversalCourt", name := "product", desc := "(II)I" } : Jvm.MethodName)) ∈ lw_all := lw_g (lw_at lw_m6 108 rfl) rfl
theorem q1368 : (Jvm.Cond.methodLink "ReversalCourtLaw" (157 : Nat) ({ cls := "ReversalCourtLaw", name := "reduces", desc := "(LReversalCourt;II[J)I" } : Jvm.MethodName)) ∈ lw_all := lw_g (lw_at lw_m6 116 rfl) rfl
theorem q1369 : (Jvm.Cond.static ({ cls := "ReversalCourtLaw", name := "reduces", desc := "(LReversalCourt;II[J)I" } : Jvm.MethodName)) ∈ lw_all := lw_g (lw_at lw_m6 117 rfl) rfl
theorem q1370 : (Jvm.Cond.codeWith ({ cls := "ReversalCourtLaw", name := "reduces", desc := "(LReversalCourt;II[J)I" } : Jvm.MethodName) method_16_code (5 : Nat) (Option.some Jvm.ClassFile.FieldType.int) [((0 : Nat), (10 : Nat), (13 : Nat), (29 : Nat))]) ∈ lw_all := lw_g (lw_at lw_m6 118 rfl) rfl
theorem q1371 : (Jvm.Cond.methodLink "ReversalCourtLaw" (60 : Nat) ({ cls := "ReversalCourt", name := "reduces", desc := "(II)I" } : Jvm.MethodName)) ∈ lw_all := lw_g (lw_at lw_m6 119 rfl) rfl
theorem q1407 : (Jvm.Cond.methodLink "ReversalCourtLaw" (160 : Nat) ({ cls := "ReversalCourtLaw", name := "reducesAnew", desc := "(LReversalCourt;II[J)I" } : Jvm.MethodName)) ∈ lw_all := lw_g (lw_at lw_m6 155 rfl) rfl
theorem q1408 : (Jvm.Cond.static ({ cls := "ReversalCourtLaw", name := "reducesAnew", desc := "(LReversalCourt;II[J)I" } : Jvm.MethodName)) ∈ lw_all := lw_g (lw_at lw_m6 156 rfl) rfl
theorem q1409 : (Jvm.Cond.codeWith ({ cls := "ReversalCourtLaw", name := "reducesAnew", desc := "(LReversalCourt;II[J)I" } : Jvm.MethodName) method_17_code (5 : Nat) (Option.some Jvm.ClassFile.FieldType.int) [((0 : Nat), (10 : Nat), (13 : Nat), (29 : Nat))]) ∈ lw_all := lw_g (lw_at lw_m6 157 rfl) rfl
theorem q1410 : (Jvm.Cond.methodLink "ReversalCourtLaw" (63 : Nat) ({ cls := "ReversalCourt", name := "reducesAnew", desc := "(II)I" } : Jvm.MethodName)) ∈ lw_all := lw_g (lw_at lw_m6 158 rfl) rfl
theorem q1417 : (Jvm.Cond.methodLink "ReversalCourtLaw" (163 : Nat) ({ cls := "ReversalCourtLaw", name := "forth", desc := "(LReversalCourt;III[J)I" } : Jvm.MethodName)) ∈ lw_all := lw_g (lw_at lw_m6 165 rfl) rfl
theorem q1418 : (Jvm.Cond.static ({ cls := "ReversalCourtLaw", name := "forth", desc := "(LReversalCourt;III[J)I" } : Jvm.MethodName)) ∈ lw_all := lw_g (lw_at lw_m6 166 rfl) rfl
theorem q1419 : (Jvm.Cond.codeWith ({ cls := "ReversalCourtLaw", name := "forth", desc := "(LReversalCourt;III[J)I" } : Jvm.MethodName) method_18_code (6 : Nat) (Option.some Jvm.ClassFile.FieldType.int) [((0 : Nat), (12 : Nat), (15 : Nat), (29 : Nat))]) ∈ lw_all := lw_g (lw_at lw_m6 167 rfl) rfl
theorem q1420 : (Jvm.Cond.methodLink "ReversalCourtLaw" (66 : Nat) ({ cls := "ReversalCourt", name := "forth", desc := "(III)I" } : Jvm.MethodName)) ∈ lw_all := lw_g (lw_at lw_m6 168 rfl) rfl
theorem q1424 : (Jvm.Cond.methodLink "ReversalCourtLaw" (166 : Nat) ({ cls := "ReversalCourtLaw", name := "ofProblem", desc := "(LReversalCourt;II[J)I" } : Jvm.MethodName)) ∈ lw_all := lw_g (lw_at lw_m6 172 rfl) rfl
theorem q1425 : (Jvm.Cond.static ({ cls := "ReversalCourtLaw", name := "ofProblem", desc := "(LReversalCourt;II[J)I" } : Jvm.MethodName)) ∈ lw_all := lw_g (lw_at lw_m6 173 rfl) rfl
theorem q1426 : (Jvm.Cond.codeWith ({ cls := "ReversalCourtLaw", name := "ofProblem", desc := "(LReversalCourt;II[J)I" } : Jvm.MethodName) method_19_code (5 : Nat) (Option.some Jvm.ClassFile.FieldType.int) [((0 : Nat), (10 : Nat), (13 : Nat), (29 : Nat)), ((0 : Nat), (10 : Nat), (17 : Nat), (13 : Nat))]) ∈ lw_all := lw_g (lw_at lw_m6 174 rfl) rfl
theorem q1427 : (Jvm.Cond.methodLink "ReversalCourtLaw" (69 : Nat) ({ cls := "ReversalCourt", name := "ofProblem", desc := "(II)I" } : Jvm.MethodName)) ∈ lw_all := lw_g (lw_at lw_m6 175 rfl) rfl
theorem q1431 : (Jvm.Cond.methodLink "ReversalCourtLaw" (169 : Nat) ({ cls := "ReversalCourtLaw", name := "has", desc := "(LReversalCourt;II[J)I" } : Jvm.MethodName)) ∈ lw_all := lw_g (lw_at lw_m6 179 rfl) rfl
theorem q1432 : (Jvm.Cond.static ({ cls := "ReversalCourtLaw", name := "has", desc := "(LReversalCourt;II[J)I" } : Jvm.MethodName)) ∈ lw_all := lw_g (lw_at lw_m6 180 rfl) rfl
theorem q1433 : (Jvm.Cond.codeWith ({ cls := "ReversalCourtLaw", name := "has", desc := "(LReversalCourt;II[J)I" } : Jvm.MethodName) method_20_code (5 : Nat) (Option.some Jvm.ClassFile.FieldType.int) [((0 : Nat), (17 : Nat), (20 : Nat), (13 : Nat))]) ∈ lw_all := lw_g (lw_at lw_m6 181 rfl) rfl
theorem q1434 : (Jvm.Cond.methodLink "ReversalCourtLaw" (72 : Nat) ({ cls := "ReversalCourt", name := "has", desc := "(II)Z" } : Jvm.MethodName)) ∈ lw_all := lw_g (lw_at lw_m6 182 rfl) rfl
theorem q1444 : (Jvm.Cond.methodLink "ReversalCourtLaw" (172 : Nat) ({ cls := "ReversalCourtLaw", name := "hasAnew", desc := "(LReversalCourt;II[J)I" } : Jvm.MethodName)) ∈ lw_all := lw_g (lw_at lw_m6 192 rfl) rfl
theorem q1445 : (Jvm.Cond.static ({ cls := "ReversalCourtLaw", name := "hasAnew", desc := "(LReversalCourt;II[J)I" } : Jvm.MethodName)) ∈ lw_all := lw_g (lw_at lw_m6 193 rfl) rfl
theorem q1446 : (Jvm.Cond.codeWith ({ cls := "ReversalCourtLaw", name := "hasAnew", desc := "(LReversalCourt;II[J)I" } : Jvm.MethodName) method_21_code (5 : Nat) (Option.some Jvm.ClassFile.FieldType.int) [((0 : Nat), (17 : Nat), (20 : Nat), (13 : Nat))]) ∈ lw_all := lw_g (lw_at lw_m6 194 rfl) rfl
theorem q1447 : (Jvm.Cond.methodLink "ReversalCourtLaw" (76 : Nat) ({ cls := "ReversalCourt", name := "hasAnew", desc := "(II)Z" } : Jvm.MethodName)) ∈ lw_all := lw_g (lw_at lw_m6 195 rfl) rfl
theorem q1454 : (Jvm.Cond.classLink "ReversalCourtLaw" (80 : Nat) "ReversalCourtModel") ∈ lw_all := lw_g (lw_at lw_m6 202 rfl) rfl
theorem q1456 : (Jvm.Cond.methodLink "ReversalCourtLaw" (82 : Nat) ({ cls := "ReversalCourtModel", name := "<init>", desc := "()V" } : Jvm.MethodName)) ∈ lw_all := lw_g (lw_at lw_m6 204 rfl) rfl
theorem q1559 : (Jvm.Cond.methodLink "ReversalCourtLaw" (89 : Nat) ({ cls := "ReversalCourtModel", name := "thrown", desc := "()I" } : Jvm.MethodName)) ∈ lw_all := lw_g (lw_at lw_m7 67 rfl) rfl
theorem q1563 : (Jvm.Cond.methodLink "ReversalCourtLaw" (88 : Nat) ({ cls := "ReversalCourtModel", name := "letter", desc := "(C)I" } : Jvm.MethodName)) ∈ lw_all := lw_g (lw_at lw_m7 71 rfl) rfl
theorem q1580 : (Jvm.Cond.methodLink "ReversalCourtLaw" (95 : Nat) ({ cls := "ReversalCourtModel", name := "blank", desc := "()I" } : Jvm.MethodName)) ∈ lw_all := lw_g (lw_at lw_m7 88 rfl) rfl
theorem q1584 : (Jvm.Cond.methodLink "ReversalCourtLaw" (99 : Nat) ({ cls := "ReversalCourtModel", name := "fault", desc := "()I" } : Jvm.MethodName)) ∈ lw_all := lw_g (lw_at lw_m7 92 rfl) rfl
theorem q1623 : (Jvm.Cond.methodLink "ReversalCourtLaw" (103 : Nat) ({ cls := "ReversalCourtModel", name := "sigma", desc := "()I" } : Jvm.MethodName)) ∈ lw_all := lw_g (lw_at lw_m7 131 rfl) rfl
theorem q1631 : (Jvm.Cond.methodLink "ReversalCourtLaw" (107 : Nat) ({ cls := "ReversalCourtModel", name := "pi", desc := "()I" } : Jvm.MethodName)) ∈ lw_all := lw_g (lw_at lw_m7 139 rfl) rfl
theorem q1635 : (Jvm.Cond.methodLink "ReversalCourtLaw" (111 : Nat) ({ cls := "ReversalCourtModel", name := "free", desc := "()I" } : Jvm.MethodName)) ∈ lw_all := lw_g (lw_at lw_m7 143 rfl) rfl
theorem q1639 : (Jvm.Cond.methodLink "ReversalCourtLaw" (115 : Nat) ({ cls := "ReversalCourtModel", name := "isSo", desc := "(IIII)Z" } : Jvm.MethodName)) ∈ lw_all := lw_g (lw_at lw_m7 147 rfl) rfl
theorem q1665 : (Jvm.Cond.methodLink "ReversalCourtLaw" (119 : Nat) ({ cls := "ReversalCourtModel", name := "principle", desc := "()I" } : Jvm.MethodName)) ∈ lw_all := lw_g (lw_at lw_m7 173 rfl) rfl
theorem q1669 : (Jvm.Cond.methodLink "ReversalCourtLaw" (123 : Nat) ({ cls := "ReversalCourtModel", name := "rule", desc := "(II)I" } : Jvm.MethodName)) ∈ lw_all := lw_g (lw_at lw_m7 177 rfl) rfl
theorem q1684 : (Jvm.Cond.methodLink "ReversalCourtLaw" (127 : Nat) ({ cls := "ReversalCourtModel", name := "model", desc := "(I)I" } : Jvm.MethodName)) ∈ lw_all := lw_g (lw_at lw_m7 192 rfl) rfl
theorem q1688 : (Jvm.Cond.methodLink "ReversalCourtLaw" (130 : Nat) ({ cls := "ReversalCourtModel", name := "proves", desc := "(I)I" } : Jvm.MethodName)) ∈ lw_all := lw_g (lw_at lw_m7 196 rfl) rfl
theorem q1700 : (Jvm.Cond.methodLink "ReversalCourtLaw" (134 : Nat) ({ cls := "ReversalCourtModel", name := "proof", desc := "(III)I" } : Jvm.MethodName)) ∈ lw_all := lw_g (lw_at lw_m7 208 rfl) rfl
theorem q1708 : (Jvm.Cond.methodLink "ReversalCourtLaw" (137 : Nat) ({ cls := "ReversalCourtModel", name := "known", desc := "(II)I" } : Jvm.MethodName)) ∈ lw_all := lw_g (lw_at lw_m7 216 rfl) rfl
theorem q1716 : (Jvm.Cond.methodLink "ReversalCourtLaw" (141 : Nat) ({ cls := "ReversalCourtModel", name := "open", desc := "()I" } : Jvm.MethodName)) ∈ lw_all := lw_g (lw_at lw_m7 224 rfl) rfl
theorem q1720 : (Jvm.Cond.methodLink "ReversalCourtLaw" (144 : Nat) ({ cls := "ReversalCourtModel", name := "least", desc := "(II)I" } : Jvm.MethodName)) ∈ lw_all := lw_g (lw_at lw_m7 228 rfl) rfl
theorem q1731 : (Jvm.Cond.methodLink "ReversalCourtLaw" (147 : Nat) ({ cls := "ReversalCourtModel", name := "leastAnew", desc := "(II)I" } : Jvm.MethodName)) ∈ lw_all := lw_g (lw_at lw_m7 239 rfl) rfl
theorem q1735 : (Jvm.Cond.methodLink "ReversalCourtLaw" (150 : Nat) ({ cls := "ReversalCourtModel", name := "ofPrinciple", desc := "(II)I" } : Jvm.MethodName)) ∈ lw_all := lw_g (lw_at lw_m8 3 rfl) rfl
theorem q1739 : (Jvm.Cond.methodLink "ReversalCourtLaw" (153 : Nat) ({ cls := "ReversalCourtModel", name := "problem", desc := "(III)I" } : Jvm.MethodName)) ∈ lw_all := lw_g (lw_at lw_m8 7 rfl) rfl
theorem q1753 : (Jvm.Cond.methodLink "ReversalCourtLaw" (156 : Nat) ({ cls := "ReversalCourtModel", name := "product", desc := "(II)I" } : Jvm.MethodName)) ∈ lw_all := lw_g (lw_at lw_m8 21 rfl) rfl
theorem q1761 : (Jvm.Cond.methodLink "ReversalCourtLaw" (159 : Nat) ({ cls := "ReversalCourtModel", name := "reduces", desc := "(II)I" } : Jvm.MethodName)) ∈ lw_all := lw_g (lw_at lw_m8 29 rfl) rfl
theorem q1776 : (Jvm.Cond.methodLink "ReversalCourtLaw" (162 : Nat) ({ cls := "ReversalCourtModel", name := "reducesAnew", desc := "(II)I" } : Jvm.MethodName)) ∈ lw_all := lw_g (lw_at lw_m8 44 rfl) rfl
theorem q1780 : (Jvm.Cond.methodLink "ReversalCourtLaw" (165 : Nat) ({ cls := "ReversalCourtModel", name := "forth", desc := "(III)I" } : Jvm.MethodName)) ∈ lw_all := lw_g (lw_at lw_m8 48 rfl) rfl
theorem q1784 : (Jvm.Cond.methodLink "ReversalCourtLaw" (168 : Nat) ({ cls := "ReversalCourtModel", name := "ofProblem", desc := "(II)I" } : Jvm.MethodName)) ∈ lw_all := lw_g (lw_at lw_m8 52 rfl) rfl
theorem q1788 : (Jvm.Cond.methodLink "ReversalCourtLaw" (171 : Nat) ({ cls := "ReversalCourtModel", name := "has", desc := "(II)Z" } : Jvm.MethodName)) ∈ lw_all := lw_g (lw_at lw_m8 56 rfl) rfl
theorem q1800 : (Jvm.Cond.methodLink "ReversalCourtLaw" (174 : Nat) ({ cls := "ReversalCourtModel", name := "hasAnew", desc := "(II)Z" } : Jvm.MethodName)) ∈ lw_all := lw_g (lw_at lw_m8 68 rfl) rfl
/-! ReversalCourt$Reader -/
set_option maxRecDepth 100000
def RX3 : String := "ReversalCourt$Reader"
def TX3 : u_T := fun k => match k with
  | 0 => ("ReversalCourt$Reader", "place", "I", false)
  | _ => ("ReversalCourt$Reader", "this$0", "LReversalCourt;", true)
def tyX3 : Nat → FieldType := fun k => match k with
  | 0 => .int
  | _ => .object "ReversalCourt"
abbrev wsX30 : List Cond := u_ws RX3 TX3 2
theorem nmX3 : ∀ a, a < 2 → ∀ b, b < 2 → a ≠ b → (TX3 a).2.1 ≠ (TX3 b).2.1 := by decide +kernel
theorem tyX3_ok : ∀ k, k < 2 → parseFieldDescriptor (TX3 k).2.2.1 = some (tyX3 k) := by decide +kernel
abbrev cX3_init : ByteArray := prog_10_method_1_code
def yX3_init : MethodName := ⟨RX3, "<init>", "(LReversalCourt;)V"⟩
def dkwX3_init_0 : List UInt8 := [42, 43, 181, 0, 3, 42, 183, 0, 9, 177]
abbrev dktX3_init_0 : List UInt8 := dkwX3_init_0 ++ []
theorem dksX3_init_0 : cX3_init.data.toList.drop 0 = dktX3_init_0 := by decide +kernel
theorem dX3_init_0 : decode cX3_init 0 = .ok (.aload_n 0, 1) := dk_42 (dk_at dksX3_init_0 0 rfl rfl)
theorem dX3_init_1 : decode cX3_init 1 = .ok (.aload_n 1, 1) := dk_43 (dk_at dksX3_init_0 1 rfl rfl)
theorem dX3_init_2 : decode cX3_init 2 = .ok (.putfield 3, 3) := dk_181 0 3 (dk_at dksX3_init_0 2 rfl rfl)
theorem dX3_init_5 : decode cX3_init 5 = .ok (.aload_n 0, 1) := dk_42 (dk_at dksX3_init_0 5 rfl rfl)
theorem dX3_init_6 : decode cX3_init 6 = .ok (.invokespecial 9, 3) := dk_183 0 9 (dk_at dksX3_init_0 6 rfl rfl)
theorem dX3_init_9 : decode cX3_init 9 = .ok (.return_, 1) := dk_177 (dk_at dksX3_init_0 9 rfl rfl)
abbrev cX3_formula : ByteArray := prog_10_method_5_code
def yX3_formula : MethodName := ⟨RX3, "formula", "()LReversalCourt$Formula;"⟩
def dkwX3_formula_5 : List UInt8 := [159, 0, 9, 27, 16, 101, 160, 0, 7, 4, 167, 0, 4, 3, 182, 0, 56, 176, 42, 182, 0, 60, 176]
abbrev dktX3_formula_5 : List UInt8 := dkwX3_formula_5 ++ []
def dkwX3_formula_4 : List UInt8 := [181, 0, 15, 42, 27, 16, 65, 159, 0, 9, 27, 16, 97, 160, 0, 7, 4, 167, 0, 4, 3, 27, 16, 97]
abbrev dktX3_formula_4 : List UInt8 := dkwX3_formula_4 ++ dktX3_formula_5
def dkwX3_formula_3 : List UInt8 := [159, 0, 15, 27, 16, 97, 159, 0, 9, 27, 16, 101, 160, 0, 52, 42, 89, 180, 0, 15, 4, 96]
abbrev dktX3_formula_3 : List UInt8 := dkwX3_formula_3 ++ dktX3_formula_4
def dkwX3_formula_2 : List UInt8 := [42, 89, 180, 0, 15, 4, 96, 181, 0, 15, 42, 182, 0, 53, 176, 27, 16, 65, 159, 0, 21, 27, 16, 69]
abbrev dktX3_formula_2 : List UInt8 := dkwX3_formula_2 ++ dktX3_formula_3
def dkwX3_formula_1 : List UInt8 := [182, 0, 45, 77, 44, 199, 0, 7, 1, 167, 0, 8, 42, 44, 182, 0, 49, 176, 27, 16, 40, 160, 0, 18]
abbrev dktX3_formula_1 : List UInt8 := dkwX3_formula_1 ++ dktX3_formula_2
def dkwX3_formula_0 : List UInt8 := [42, 182, 0, 35, 60, 27, 16, 33, 160, 0, 32, 42, 89, 180, 0, 15, 4, 96, 181, 0, 15, 42]
abbrev dktX3_formula_0 : List UInt8 := dkwX3_formula_0 ++ dktX3_formula_1
theorem dksX3_formula_0 : cX3_formula.data.toList.drop 0 = dktX3_formula_0 := by decide +kernel
theorem dksX3_formula_1 : cX3_formula.data.toList.drop 22 = dktX3_formula_1 := dk_seg dksX3_formula_0 22 rfl rfl
theorem dksX3_formula_2 : cX3_formula.data.toList.drop 46 = dktX3_formula_2 := dk_seg dksX3_formula_1 24 rfl rfl
theorem dksX3_formula_3 : cX3_formula.data.toList.drop 70 = dktX3_formula_3 := dk_seg dksX3_formula_2 24 rfl rfl
theorem dksX3_formula_4 : cX3_formula.data.toList.drop 92 = dktX3_formula_4 := dk_seg dksX3_formula_3 22 rfl rfl
theorem dksX3_formula_5 : cX3_formula.data.toList.drop 116 = dktX3_formula_5 := dk_seg dksX3_formula_4 24 rfl rfl
theorem dX3_formula_0 : decode cX3_formula 0 = .ok (.aload_n 0, 1) := dk_42 (dk_at dksX3_formula_0 0 rfl rfl)
theorem dX3_formula_1 : decode cX3_formula 1 = .ok (.invokevirtual 35, 3) := dk_182 0 35 (dk_at dksX3_formula_0 1 rfl rfl)
theorem dX3_formula_4 : decode cX3_formula 4 = .ok (.istore_n 1, 1) := dk_60 (dk_at dksX3_formula_0 4 rfl rfl)
theorem dX3_formula_5 : decode cX3_formula 5 = .ok (.iload_n 1, 1) := dk_27 (dk_at dksX3_formula_0 5 rfl rfl)
theorem dX3_formula_6 : decode cX3_formula 6 = .ok (.bipush 33, 2) := dk_16 33 (dk_at dksX3_formula_0 6 rfl rfl)
theorem dX3_formula_8 : decode cX3_formula 8 = .ok (.if_icmp .ne 32, 3) := dk_160 0 32 (dk_at dksX3_formula_0 8 rfl rfl)
theorem dX3_formula_11 : decode cX3_formula 11 = .ok (.aload_n 0, 1) := dk_42 (dk_at dksX3_formula_0 11 rfl rfl)
theorem dX3_formula_12 : decode cX3_formula 12 = .ok (.dup, 1) := dk_89 (dk_at dksX3_formula_0 12 rfl rfl)
theorem dX3_formula_13 : decode cX3_formula 13 = .ok (.getfield 15, 3) := dk_180 0 15 (dk_at dksX3_formula_0 13 rfl rfl)
theorem dX3_formula_16 : decode cX3_formula 16 = .ok (.iconst 1, 1) := dk_4 (dk_at dksX3_formula_0 16 rfl rfl)
theorem dX3_formula_17 : decode cX3_formula 17 = .ok (.iadd, 1) := dk_96 (dk_at dksX3_formula_0 17 rfl rfl)
theorem dX3_formula_18 : decode cX3_formula 18 = .ok (.putfield 15, 3) := dk_181 0 15 (dk_at dksX3_formula_0 18 rfl rfl)
theorem dX3_formula_21 : decode cX3_formula 21 = .ok (.aload_n 0, 1) := dk_42 (dk_at dksX3_formula_0 21 rfl rfl)
theorem dX3_formula_22 : decode cX3_formula 22 = .ok (.invokevirtual 45, 3) := dk_182 0 45 (dk_at dksX3_formula_1 0 rfl rfl)
theorem dX3_formula_25 : decode cX3_formula 25 = .ok (.astore_n 2, 1) := dk_77 (dk_at dksX3_formula_1 3 rfl rfl)
theorem dX3_formula_26 : decode cX3_formula 26 = .ok (.aload_n 2, 1) := dk_44 (dk_at dksX3_formula_1 4 rfl rfl)
theorem dX3_formula_27 : decode cX3_formula 27 = .ok (.ifnonnull 7, 3) := dk_199 0 7 (dk_at dksX3_formula_1 5 rfl rfl)
theorem dX3_formula_30 : decode cX3_formula 30 = .ok (.aconst_null, 1) := dk_1 (dk_at dksX3_formula_1 8 rfl rfl)
theorem dX3_formula_31 : decode cX3_formula 31 = .ok (.goto 8, 3) := dk_167 0 8 (dk_at dksX3_formula_1 9 rfl rfl)
theorem dX3_formula_34 : decode cX3_formula 34 = .ok (.aload_n 0, 1) := dk_42 (dk_at dksX3_formula_1 12 rfl rfl)
theorem dX3_formula_35 : decode cX3_formula 35 = .ok (.aload_n 2, 1) := dk_44 (dk_at dksX3_formula_1 13 rfl rfl)
theorem dX3_formula_36 : decode cX3_formula 36 = .ok (.invokevirtual 49, 3) := dk_182 0 49 (dk_at dksX3_formula_1 14 rfl rfl)
theorem dX3_formula_39 : decode cX3_formula 39 = .ok (.areturn, 1) := dk_176 (dk_at dksX3_formula_1 17 rfl rfl)
theorem dX3_formula_40 : decode cX3_formula 40 = .ok (.iload_n 1, 1) := dk_27 (dk_at dksX3_formula_1 18 rfl rfl)
theorem dX3_formula_41 : decode cX3_formula 41 = .ok (.bipush 40, 2) := dk_16 40 (dk_at dksX3_formula_1 19 rfl rfl)
theorem dX3_formula_43 : decode cX3_formula 43 = .ok (.if_icmp .ne 18, 3) := dk_160 0 18 (dk_at dksX3_formula_1 21 rfl rfl)
theorem dX3_formula_46 : decode cX3_formula 46 = .ok (.aload_n 0, 1) := dk_42 (dk_at dksX3_formula_2 0 rfl rfl)
theorem dX3_formula_47 : decode cX3_formula 47 = .ok (.dup, 1) := dk_89 (dk_at dksX3_formula_2 1 rfl rfl)
theorem dX3_formula_48 : decode cX3_formula 48 = .ok (.getfield 15, 3) := dk_180 0 15 (dk_at dksX3_formula_2 2 rfl rfl)
theorem dX3_formula_51 : decode cX3_formula 51 = .ok (.iconst 1, 1) := dk_4 (dk_at dksX3_formula_2 5 rfl rfl)
theorem dX3_formula_52 : decode cX3_formula 52 = .ok (.iadd, 1) := dk_96 (dk_at dksX3_formula_2 6 rfl rfl)
theorem dX3_formula_53 : decode cX3_formula 53 = .ok (.putfield 15, 3) := dk_181 0 15 (dk_at dksX3_formula_2 7 rfl rfl)
theorem dX3_formula_56 : decode cX3_formula 56 = .ok (.aload_n 0, 1) := dk_42 (dk_at dksX3_formula_2 10 rfl rfl)
theorem dX3_formula_57 : decode cX3_formula 57 = .ok (.invokevirtual 53, 3) := dk_182 0 53 (dk_at dksX3_formula_2 11 rfl rfl)
theorem dX3_formula_60 : decode cX3_formula 60 = .ok (.areturn, 1) := dk_176 (dk_at dksX3_formula_2 14 rfl rfl)
theorem dX3_formula_61 : decode cX3_formula 61 = .ok (.iload_n 1, 1) := dk_27 (dk_at dksX3_formula_2 15 rfl rfl)
theorem dX3_formula_62 : decode cX3_formula 62 = .ok (.bipush 65, 2) := dk_16 65 (dk_at dksX3_formula_2 16 rfl rfl)
theorem dX3_formula_64 : decode cX3_formula 64 = .ok (.if_icmp .eq 21, 3) := dk_159 0 21 (dk_at dksX3_formula_2 18 rfl rfl)
theorem dX3_formula_67 : decode cX3_formula 67 = .ok (.iload_n 1, 1) := dk_27 (dk_at dksX3_formula_2 21 rfl rfl)
theorem dX3_formula_68 : decode cX3_formula 68 = .ok (.bipush 69, 2) := dk_16 69 (dk_at dksX3_formula_2 22 rfl rfl)
theorem dX3_formula_70 : decode cX3_formula 70 = .ok (.if_icmp .eq 15, 3) := dk_159 0 15 (dk_at dksX3_formula_3 0 rfl rfl)
theorem dX3_formula_73 : decode cX3_formula 73 = .ok (.iload_n 1, 1) := dk_27 (dk_at dksX3_formula_3 3 rfl rfl)
theorem dX3_formula_74 : decode cX3_formula 74 = .ok (.bipush 97, 2) := dk_16 97 (dk_at dksX3_formula_3 4 rfl rfl)
theorem dX3_formula_76 : decode cX3_formula 76 = .ok (.if_icmp .eq 9, 3) := dk_159 0 9 (dk_at dksX3_formula_3 6 rfl rfl)
theorem dX3_formula_79 : decode cX3_formula 79 = .ok (.iload_n 1, 1) := dk_27 (dk_at dksX3_formula_3 9 rfl rfl)
theorem dX3_formula_80 : decode cX3_formula 80 = .ok (.bipush 101, 2) := dk_16 101 (dk_at dksX3_formula_3 10 rfl rfl)
theorem dX3_formula_82 : decode cX3_formula 82 = .ok (.if_icmp .ne 52, 3) := dk_160 0 52 (dk_at dksX3_formula_3 12 rfl rfl)
theorem dX3_formula_85 : decode cX3_formula 85 = .ok (.aload_n 0, 1) := dk_42 (dk_at dksX3_formula_3 15 rfl rfl)
theorem dX3_formula_86 : decode cX3_formula 86 = .ok (.dup, 1) := dk_89 (dk_at dksX3_formula_3 16 rfl rfl)
theorem dX3_formula_87 : decode cX3_formula 87 = .ok (.getfield 15, 3) := dk_180 0 15 (dk_at dksX3_formula_3 17 rfl rfl)
theorem dX3_formula_90 : decode cX3_formula 90 = .ok (.iconst 1, 1) := dk_4 (dk_at dksX3_formula_3 20 rfl rfl)
theorem dX3_formula_91 : decode cX3_formula 91 = .ok (.iadd, 1) := dk_96 (dk_at dksX3_formula_3 21 rfl rfl)
theorem dX3_formula_92 : decode cX3_formula 92 = .ok (.putfield 15, 3) := dk_181 0 15 (dk_at dksX3_formula_4 0 rfl rfl)
theorem dX3_formula_95 : decode cX3_formula 95 = .ok (.aload_n 0, 1) := dk_42 (dk_at dksX3_formula_4 3 rfl rfl)
theorem dX3_formula_96 : decode cX3_formula 96 = .ok (.iload_n 1, 1) := dk_27 (dk_at dksX3_formula_4 4 rfl rfl)
theorem dX3_formula_97 : decode cX3_formula 97 = .ok (.bipush 65, 2) := dk_16 65 (dk_at dksX3_formula_4 5 rfl rfl)
theorem dX3_formula_99 : decode cX3_formula 99 = .ok (.if_icmp .eq 9, 3) := dk_159 0 9 (dk_at dksX3_formula_4 7 rfl rfl)
theorem dX3_formula_102 : decode cX3_formula 102 = .ok (.iload_n 1, 1) := dk_27 (dk_at dksX3_formula_4 10 rfl rfl)
theorem dX3_formula_103 : decode cX3_formula 103 = .ok (.bipush 97, 2) := dk_16 97 (dk_at dksX3_formula_4 11 rfl rfl)
theorem dX3_formula_105 : decode cX3_formula 105 = .ok (.if_icmp .ne 7, 3) := dk_160 0 7 (dk_at dksX3_formula_4 13 rfl rfl)
theorem dX3_formula_108 : decode cX3_formula 108 = .ok (.iconst 1, 1) := dk_4 (dk_at dksX3_formula_4 16 rfl rfl)
theorem dX3_formula_109 : decode cX3_formula 109 = .ok (.goto 4, 3) := dk_167 0 4 (dk_at dksX3_formula_4 17 rfl rfl)
theorem dX3_formula_112 : decode cX3_formula 112 = .ok (.iconst 0, 1) := dk_3 (dk_at dksX3_formula_4 20 rfl rfl)
theorem dX3_formula_113 : decode cX3_formula 113 = .ok (.iload_n 1, 1) := dk_27 (dk_at dksX3_formula_4 21 rfl rfl)
theorem dX3_formula_114 : decode cX3_formula 114 = .ok (.bipush 97, 2) := dk_16 97 (dk_at dksX3_formula_4 22 rfl rfl)
theorem dX3_formula_116 : decode cX3_formula 116 = .ok (.if_icmp .eq 9, 3) := dk_159 0 9 (dk_at dksX3_formula_5 0 rfl rfl)
theorem dX3_formula_119 : decode cX3_formula 119 = .ok (.iload_n 1, 1) := dk_27 (dk_at dksX3_formula_5 3 rfl rfl)
theorem dX3_formula_120 : decode cX3_formula 120 = .ok (.bipush 101, 2) := dk_16 101 (dk_at dksX3_formula_5 4 rfl rfl)
theorem dX3_formula_122 : decode cX3_formula 122 = .ok (.if_icmp .ne 7, 3) := dk_160 0 7 (dk_at dksX3_formula_5 6 rfl rfl)
theorem dX3_formula_125 : decode cX3_formula 125 = .ok (.iconst 1, 1) := dk_4 (dk_at dksX3_formula_5 9 rfl rfl)
theorem dX3_formula_126 : decode cX3_formula 126 = .ok (.goto 4, 3) := dk_167 0 4 (dk_at dksX3_formula_5 10 rfl rfl)
theorem dX3_formula_129 : decode cX3_formula 129 = .ok (.iconst 0, 1) := dk_3 (dk_at dksX3_formula_5 13 rfl rfl)
theorem dX3_formula_130 : decode cX3_formula 130 = .ok (.invokevirtual 56, 3) := dk_182 0 56 (dk_at dksX3_formula_5 14 rfl rfl)
theorem dX3_formula_133 : decode cX3_formula 133 = .ok (.areturn, 1) := dk_176 (dk_at dksX3_formula_5 17 rfl rfl)
theorem dX3_formula_134 : decode cX3_formula 134 = .ok (.aload_n 0, 1) := dk_42 (dk_at dksX3_formula_5 18 rfl rfl)
theorem dX3_formula_135 : decode cX3_formula 135 = .ok (.invokevirtual 60, 3) := dk_182 0 60 (dk_at dksX3_formula_5 19 rfl rfl)
theorem dX3_formula_138 : decode cX3_formula 138 = .ok (.areturn, 1) := dk_176 (dk_at dksX3_formula_5 22 rfl rfl)
abbrev cX3_next : ByteArray := prog_10_method_2_code
def yX3_next : MethodName := ⟨RX3, "next", "()C"⟩
def dkwX3_next_1 : List UInt8 := [42, 180, 0, 15, 182, 0, 29, 167, 0, 5, 16, 32, 172]
abbrev dktX3_next_1 : List UInt8 := dkwX3_next_1 ++ []
def dkwX3_next_0 : List UInt8 := [42, 180, 0, 15, 42, 180, 0, 3, 180, 0, 19, 182, 0, 23, 162, 0, 20, 42, 180, 0, 3, 180, 0, 19]
abbrev dktX3_next_0 : List UInt8 := dkwX3_next_0 ++ dktX3_next_1
theorem dksX3_next_0 : cX3_next.data.toList.drop 0 = dktX3_next_0 := by decide +kernel
theorem dksX3_next_1 : cX3_next.data.toList.drop 24 = dktX3_next_1 := dk_seg dksX3_next_0 24 rfl rfl
theorem dX3_next_0 : decode cX3_next 0 = .ok (.aload_n 0, 1) := dk_42 (dk_at dksX3_next_0 0 rfl rfl)
theorem dX3_next_1 : decode cX3_next 1 = .ok (.getfield 15, 3) := dk_180 0 15 (dk_at dksX3_next_0 1 rfl rfl)
theorem dX3_next_4 : decode cX3_next 4 = .ok (.aload_n 0, 1) := dk_42 (dk_at dksX3_next_0 4 rfl rfl)
theorem dX3_next_5 : decode cX3_next 5 = .ok (.getfield 3, 3) := dk_180 0 3 (dk_at dksX3_next_0 5 rfl rfl)
theorem dX3_next_8 : decode cX3_next 8 = .ok (.getfield 19, 3) := dk_180 0 19 (dk_at dksX3_next_0 8 rfl rfl)
theorem dX3_next_11 : decode cX3_next 11 = .ok (.invokevirtual 23, 3) := dk_182 0 23 (dk_at dksX3_next_0 11 rfl rfl)
theorem dX3_next_14 : decode cX3_next 14 = .ok (.if_icmp .ge 20, 3) := dk_162 0 20 (dk_at dksX3_next_0 14 rfl rfl)
theorem dX3_next_17 : decode cX3_next 17 = .ok (.aload_n 0, 1) := dk_42 (dk_at dksX3_next_0 17 rfl rfl)
theorem dX3_next_18 : decode cX3_next 18 = .ok (.getfield 3, 3) := dk_180 0 3 (dk_at dksX3_next_0 18 rfl rfl)
theorem dX3_next_21 : decode cX3_next 21 = .ok (.getfield 19, 3) := dk_180 0 19 (dk_at dksX3_next_0 21 rfl rfl)
theorem dX3_next_24 : decode cX3_next 24 = .ok (.aload_n 0, 1) := dk_42 (dk_at dksX3_next_1 0 rfl rfl)
theorem dX3_next_25 : decode cX3_next 25 = .ok (.getfield 15, 3) := dk_180 0 15 (dk_at dksX3_next_1 1 rfl rfl)
theorem dX3_next_28 : decode cX3_next 28 = .ok (.invokevirtual 29, 3) := dk_182 0 29 (dk_at dksX3_next_1 4 rfl rfl)
theorem dX3_next_31 : decode cX3_next 31 = .ok (.goto 5, 3) := dk_167 0 5 (dk_at dksX3_next_1 7 rfl rfl)
theorem dX3_next_34 : decode cX3_next 34 = .ok (.bipush 32, 2) := dk_16 32 (dk_at dksX3_next_1 10 rfl rfl)
theorem dX3_next_36 : decode cX3_next 36 = .ok (.ireturn, 1) := dk_172 (dk_at dksX3_next_1 12 rfl rfl)
abbrev cX3_not : ByteArray := prog_10_method_7_code
def yX3_not : MethodName := ⟨RX3, "not", "(LReversalCourt$Formula;)LReversalCourt$Formula;"⟩
def dkwX3_not_0 : List UInt8 := [187, 0, 71, 89, 42, 43, 43, 43, 183, 0, 73, 176]
abbrev dktX3_not_0 : List UInt8 := dkwX3_not_0 ++ []
theorem dksX3_not_0 : cX3_not.data.toList.drop 0 = dktX3_not_0 := by decide +kernel
theorem dX3_not_0 : decode cX3_not 0 = .ok (.new 71, 3) := dk_187 0 71 (dk_at dksX3_not_0 0 rfl rfl)
theorem dX3_not_3 : decode cX3_not 3 = .ok (.dup, 1) := dk_89 (dk_at dksX3_not_0 3 rfl rfl)
theorem dX3_not_4 : decode cX3_not 4 = .ok (.aload_n 0, 1) := dk_42 (dk_at dksX3_not_0 4 rfl rfl)
theorem dX3_not_5 : decode cX3_not 5 = .ok (.aload_n 1, 1) := dk_43 (dk_at dksX3_not_0 5 rfl rfl)
theorem dX3_not_6 : decode cX3_not 6 = .ok (.aload_n 1, 1) := dk_43 (dk_at dksX3_not_0 6 rfl rfl)
theorem dX3_not_7 : decode cX3_not 7 = .ok (.aload_n 1, 1) := dk_43 (dk_at dksX3_not_0 7 rfl rfl)
theorem dX3_not_8 : decode cX3_not 8 = .ok (.invokespecial 73, 3) := dk_183 0 73 (dk_at dksX3_not_0 8 rfl rfl)
theorem dX3_not_11 : decode cX3_not 11 = .ok (.areturn, 1) := dk_176 (dk_at dksX3_not_0 11 rfl rfl)
abbrev cX3_pair : ByteArray := prog_10_method_8_code
def yX3_pair : MethodName := ⟨RX3, "pair", "()LReversalCourt$Formula;"⟩
def dkwX3_pair_4 : List UInt8 := [42, 43, 182, 0, 49, 167, 0, 4, 43, 45, 183, 0, 86, 176]
abbrev dktX3_pair_4 : List UInt8 := dkwX3_pair_4 ++ []
def dkwX3_pair_3 : List UInt8 := [16, 38, 160, 0, 12, 42, 43, 45, 182, 0, 80, 167, 0, 26, 187, 0, 84, 89, 28, 16, 62, 160, 0, 11]
abbrev dktX3_pair_3 : List UInt8 := dkwX3_pair_3 ++ dktX3_pair_4
def dkwX3_pair_2 : List UInt8 := [181, 0, 15, 42, 182, 0, 45, 78, 45, 198, 0, 12, 42, 16, 41, 182, 0, 76, 154, 0, 5, 1, 176, 28]
abbrev dktX3_pair_2 : List UInt8 := dkwX3_pair_2 ++ dktX3_pair_3
def dkwX3_pair_1 : List UInt8 := [159, 0, 17, 28, 16, 124, 159, 0, 11, 28, 16, 62, 159, 0, 5, 1, 176, 42, 89, 180, 0, 15, 4, 96]
abbrev dktX3_pair_1 : List UInt8 := dkwX3_pair_1 ++ dktX3_pair_2
def dkwX3_pair_0 : List UInt8 := [42, 182, 0, 45, 76, 43, 199, 0, 8, 16, 32, 167, 0, 7, 42, 182, 0, 35, 61, 28, 16, 38]
abbrev dktX3_pair_0 : List UInt8 := dkwX3_pair_0 ++ dktX3_pair_1
theorem dksX3_pair_0 : cX3_pair.data.toList.drop 0 = dktX3_pair_0 := by decide +kernel
theorem dksX3_pair_1 : cX3_pair.data.toList.drop 22 = dktX3_pair_1 := dk_seg dksX3_pair_0 22 rfl rfl
theorem dksX3_pair_2 : cX3_pair.data.toList.drop 46 = dktX3_pair_2 := dk_seg dksX3_pair_1 24 rfl rfl
theorem dksX3_pair_3 : cX3_pair.data.toList.drop 70 = dktX3_pair_3 := dk_seg dksX3_pair_2 24 rfl rfl
theorem dksX3_pair_4 : cX3_pair.data.toList.drop 94 = dktX3_pair_4 := dk_seg dksX3_pair_3 24 rfl rfl
theorem dX3_pair_0 : decode cX3_pair 0 = .ok (.aload_n 0, 1) := dk_42 (dk_at dksX3_pair_0 0 rfl rfl)
theorem dX3_pair_1 : decode cX3_pair 1 = .ok (.invokevirtual 45, 3) := dk_182 0 45 (dk_at dksX3_pair_0 1 rfl rfl)
theorem dX3_pair_4 : decode cX3_pair 4 = .ok (.astore_n 1, 1) := dk_76 (dk_at dksX3_pair_0 4 rfl rfl)
theorem dX3_pair_5 : decode cX3_pair 5 = .ok (.aload_n 1, 1) := dk_43 (dk_at dksX3_pair_0 5 rfl rfl)
theorem dX3_pair_6 : decode cX3_pair 6 = .ok (.ifnonnull 8, 3) := dk_199 0 8 (dk_at dksX3_pair_0 6 rfl rfl)
theorem dX3_pair_9 : decode cX3_pair 9 = .ok (.bipush 32, 2) := dk_16 32 (dk_at dksX3_pair_0 9 rfl rfl)
theorem dX3_pair_11 : decode cX3_pair 11 = .ok (.goto 7, 3) := dk_167 0 7 (dk_at dksX3_pair_0 11 rfl rfl)
theorem dX3_pair_14 : decode cX3_pair 14 = .ok (.aload_n 0, 1) := dk_42 (dk_at dksX3_pair_0 14 rfl rfl)
theorem dX3_pair_15 : decode cX3_pair 15 = .ok (.invokevirtual 35, 3) := dk_182 0 35 (dk_at dksX3_pair_0 15 rfl rfl)
theorem dX3_pair_18 : decode cX3_pair 18 = .ok (.istore_n 2, 1) := dk_61 (dk_at dksX3_pair_0 18 rfl rfl)
theorem dX3_pair_19 : decode cX3_pair 19 = .ok (.iload_n 2, 1) := dk_28 (dk_at dksX3_pair_0 19 rfl rfl)
theorem dX3_pair_20 : decode cX3_pair 20 = .ok (.bipush 38, 2) := dk_16 38 (dk_at dksX3_pair_0 20 rfl rfl)
theorem dX3_pair_22 : decode cX3_pair 22 = .ok (.if_icmp .eq 17, 3) := dk_159 0 17 (dk_at dksX3_pair_1 0 rfl rfl)
theorem dX3_pair_25 : decode cX3_pair 25 = .ok (.iload_n 2, 1) := dk_28 (dk_at dksX3_pair_1 3 rfl rfl)
theorem dX3_pair_26 : decode cX3_pair 26 = .ok (.bipush 124, 2) := dk_16 124 (dk_at dksX3_pair_1 4 rfl rfl)
theorem dX3_pair_28 : decode cX3_pair 28 = .ok (.if_icmp .eq 11, 3) := dk_159 0 11 (dk_at dksX3_pair_1 6 rfl rfl)
theorem dX3_pair_31 : decode cX3_pair 31 = .ok (.iload_n 2, 1) := dk_28 (dk_at dksX3_pair_1 9 rfl rfl)
theorem dX3_pair_32 : decode cX3_pair 32 = .ok (.bipush 62, 2) := dk_16 62 (dk_at dksX3_pair_1 10 rfl rfl)
theorem dX3_pair_34 : decode cX3_pair 34 = .ok (.if_icmp .eq 5, 3) := dk_159 0 5 (dk_at dksX3_pair_1 12 rfl rfl)
theorem dX3_pair_37 : decode cX3_pair 37 = .ok (.aconst_null, 1) := dk_1 (dk_at dksX3_pair_1 15 rfl rfl)
theorem dX3_pair_38 : decode cX3_pair 38 = .ok (.areturn, 1) := dk_176 (dk_at dksX3_pair_1 16 rfl rfl)
theorem dX3_pair_39 : decode cX3_pair 39 = .ok (.aload_n 0, 1) := dk_42 (dk_at dksX3_pair_1 17 rfl rfl)
theorem dX3_pair_40 : decode cX3_pair 40 = .ok (.dup, 1) := dk_89 (dk_at dksX3_pair_1 18 rfl rfl)
theorem dX3_pair_41 : decode cX3_pair 41 = .ok (.getfield 15, 3) := dk_180 0 15 (dk_at dksX3_pair_1 19 rfl rfl)
theorem dX3_pair_44 : decode cX3_pair 44 = .ok (.iconst 1, 1) := dk_4 (dk_at dksX3_pair_1 22 rfl rfl)
theorem dX3_pair_45 : decode cX3_pair 45 = .ok (.iadd, 1) := dk_96 (dk_at dksX3_pair_1 23 rfl rfl)
theorem dX3_pair_46 : decode cX3_pair 46 = .ok (.putfield 15, 3) := dk_181 0 15 (dk_at dksX3_pair_2 0 rfl rfl)
theorem dX3_pair_49 : decode cX3_pair 49 = .ok (.aload_n 0, 1) := dk_42 (dk_at dksX3_pair_2 3 rfl rfl)
theorem dX3_pair_50 : decode cX3_pair 50 = .ok (.invokevirtual 45, 3) := dk_182 0 45 (dk_at dksX3_pair_2 4 rfl rfl)
theorem dX3_pair_53 : decode cX3_pair 53 = .ok (.astore_n 3, 1) := dk_78 (dk_at dksX3_pair_2 7 rfl rfl)
theorem dX3_pair_54 : decode cX3_pair 54 = .ok (.aload_n 3, 1) := dk_45 (dk_at dksX3_pair_2 8 rfl rfl)
theorem dX3_pair_55 : decode cX3_pair 55 = .ok (.ifnull 12, 3) := dk_198 0 12 (dk_at dksX3_pair_2 9 rfl rfl)
theorem dX3_pair_58 : decode cX3_pair 58 = .ok (.aload_n 0, 1) := dk_42 (dk_at dksX3_pair_2 12 rfl rfl)
theorem dX3_pair_59 : decode cX3_pair 59 = .ok (.bipush 41, 2) := dk_16 41 (dk_at dksX3_pair_2 13 rfl rfl)
theorem dX3_pair_61 : decode cX3_pair 61 = .ok (.invokevirtual 76, 3) := dk_182 0 76 (dk_at dksX3_pair_2 15 rfl rfl)
theorem dX3_pair_64 : decode cX3_pair 64 = .ok (.ifCond .ne 5, 3) := dk_154 0 5 (dk_at dksX3_pair_2 18 rfl rfl)
theorem dX3_pair_67 : decode cX3_pair 67 = .ok (.aconst_null, 1) := dk_1 (dk_at dksX3_pair_2 21 rfl rfl)
theorem dX3_pair_68 : decode cX3_pair 68 = .ok (.areturn, 1) := dk_176 (dk_at dksX3_pair_2 22 rfl rfl)
theorem dX3_pair_69 : decode cX3_pair 69 = .ok (.iload_n 2, 1) := dk_28 (dk_at dksX3_pair_2 23 rfl rfl)
theorem dX3_pair_70 : decode cX3_pair 70 = .ok (.bipush 38, 2) := dk_16 38 (dk_at dksX3_pair_3 0 rfl rfl)
theorem dX3_pair_72 : decode cX3_pair 72 = .ok (.if_icmp .ne 12, 3) := dk_160 0 12 (dk_at dksX3_pair_3 2 rfl rfl)
theorem dX3_pair_75 : decode cX3_pair 75 = .ok (.aload_n 0, 1) := dk_42 (dk_at dksX3_pair_3 5 rfl rfl)
theorem dX3_pair_76 : decode cX3_pair 76 = .ok (.aload_n 1, 1) := dk_43 (dk_at dksX3_pair_3 6 rfl rfl)
theorem dX3_pair_77 : decode cX3_pair 77 = .ok (.aload_n 3, 1) := dk_45 (dk_at dksX3_pair_3 7 rfl rfl)
theorem dX3_pair_78 : decode cX3_pair 78 = .ok (.invokevirtual 80, 3) := dk_182 0 80 (dk_at dksX3_pair_3 8 rfl rfl)
theorem dX3_pair_81 : decode cX3_pair 81 = .ok (.goto 26, 3) := dk_167 0 26 (dk_at dksX3_pair_3 11 rfl rfl)
theorem dX3_pair_84 : decode cX3_pair 84 = .ok (.new 84, 3) := dk_187 0 84 (dk_at dksX3_pair_3 14 rfl rfl)
theorem dX3_pair_87 : decode cX3_pair 87 = .ok (.dup, 1) := dk_89 (dk_at dksX3_pair_3 17 rfl rfl)
theorem dX3_pair_88 : decode cX3_pair 88 = .ok (.iload_n 2, 1) := dk_28 (dk_at dksX3_pair_3 18 rfl rfl)
theorem dX3_pair_89 : decode cX3_pair 89 = .ok (.bipush 62, 2) := dk_16 62 (dk_at dksX3_pair_3 19 rfl rfl)
theorem dX3_pair_91 : decode cX3_pair 91 = .ok (.if_icmp .ne 11, 3) := dk_160 0 11 (dk_at dksX3_pair_3 21 rfl rfl)
theorem dX3_pair_94 : decode cX3_pair 94 = .ok (.aload_n 0, 1) := dk_42 (dk_at dksX3_pair_4 0 rfl rfl)
theorem dX3_pair_95 : decode cX3_pair 95 = .ok (.aload_n 1, 1) := dk_43 (dk_at dksX3_pair_4 1 rfl rfl)
theorem dX3_pair_96 : decode cX3_pair 96 = .ok (.invokevirtual 49, 3) := dk_182 0 49 (dk_at dksX3_pair_4 2 rfl rfl)
theorem dX3_pair_99 : decode cX3_pair 99 = .ok (.goto 4, 3) := dk_167 0 4 (dk_at dksX3_pair_4 5 rfl rfl)
theorem dX3_pair_102 : decode cX3_pair 102 = .ok (.aload_n 1, 1) := dk_43 (dk_at dksX3_pair_4 8 rfl rfl)
theorem dX3_pair_103 : decode cX3_pair 103 = .ok (.aload_n 3, 1) := dk_45 (dk_at dksX3_pair_4 9 rfl rfl)
theorem dX3_pair_104 : decode cX3_pair 104 = .ok (.invokespecial 86, 3) := dk_183 0 86 (dk_at dksX3_pair_4 10 rfl rfl)
theorem dX3_pair_107 : decode cX3_pair 107 = .ok (.areturn, 1) := dk_176 (dk_at dksX3_pair_4 13 rfl rfl)
abbrev cX3_takes : ByteArray := prog_10_method_4_code
def yX3_takes : MethodName := ⟨RX3, "takes", "(C)Z"⟩
def dkwX3_takes_1 : List UInt8 := [167, 0, 4, 3, 96, 181, 0, 15, 28, 172]
abbrev dktX3_takes_1 : List UInt8 := dkwX3_takes_1 ++ []
def dkwX3_takes_0 : List UInt8 := [42, 182, 0, 35, 27, 160, 0, 7, 4, 167, 0, 4, 3, 61, 42, 89, 180, 0, 15, 28, 153, 0, 7, 4]
abbrev dktX3_takes_0 : List UInt8 := dkwX3_takes_0 ++ dktX3_takes_1
theorem dksX3_takes_0 : cX3_takes.data.toList.drop 0 = dktX3_takes_0 := by decide +kernel
theorem dksX3_takes_1 : cX3_takes.data.toList.drop 24 = dktX3_takes_1 := dk_seg dksX3_takes_0 24 rfl rfl
theorem dX3_takes_0 : decode cX3_takes 0 = .ok (.aload_n 0, 1) := dk_42 (dk_at dksX3_takes_0 0 rfl rfl)
theorem dX3_takes_1 : decode cX3_takes 1 = .ok (.invokevirtual 35, 3) := dk_182 0 35 (dk_at dksX3_takes_0 1 rfl rfl)
theorem dX3_takes_4 : decode cX3_takes 4 = .ok (.iload_n 1, 1) := dk_27 (dk_at dksX3_takes_0 4 rfl rfl)
theorem dX3_takes_5 : decode cX3_takes 5 = .ok (.if_icmp .ne 7, 3) := dk_160 0 7 (dk_at dksX3_takes_0 5 rfl rfl)
theorem dX3_takes_8 : decode cX3_takes 8 = .ok (.iconst 1, 1) := dk_4 (dk_at dksX3_takes_0 8 rfl rfl)
theorem dX3_takes_9 : decode cX3_takes 9 = .ok (.goto 4, 3) := dk_167 0 4 (dk_at dksX3_takes_0 9 rfl rfl)
theorem dX3_takes_12 : decode cX3_takes 12 = .ok (.iconst 0, 1) := dk_3 (dk_at dksX3_takes_0 12 rfl rfl)
theorem dX3_takes_13 : decode cX3_takes 13 = .ok (.istore_n 2, 1) := dk_61 (dk_at dksX3_takes_0 13 rfl rfl)
theorem dX3_takes_14 : decode cX3_takes 14 = .ok (.aload_n 0, 1) := dk_42 (dk_at dksX3_takes_0 14 rfl rfl)
theorem dX3_takes_15 : decode cX3_takes 15 = .ok (.dup, 1) := dk_89 (dk_at dksX3_takes_0 15 rfl rfl)
theorem dX3_takes_16 : decode cX3_takes 16 = .ok (.getfield 15, 3) := dk_180 0 15 (dk_at dksX3_takes_0 16 rfl rfl)
theorem dX3_takes_19 : decode cX3_takes 19 = .ok (.iload_n 2, 1) := dk_28 (dk_at dksX3_takes_0 19 rfl rfl)
theorem dX3_takes_20 : decode cX3_takes 20 = .ok (.ifCond .eq 7, 3) := dk_153 0 7 (dk_at dksX3_takes_0 20 rfl rfl)
theorem dX3_takes_23 : decode cX3_takes 23 = .ok (.iconst 1, 1) := dk_4 (dk_at dksX3_takes_0 23 rfl rfl)
theorem dX3_takes_24 : decode cX3_takes 24 = .ok (.goto 4, 3) := dk_167 0 4 (dk_at dksX3_takes_1 0 rfl rfl)
theorem dX3_takes_27 : decode cX3_takes 27 = .ok (.iconst 0, 1) := dk_3 (dk_at dksX3_takes_1 3 rfl rfl)
theorem dX3_takes_28 : decode cX3_takes 28 = .ok (.iadd, 1) := dk_96 (dk_at dksX3_takes_1 4 rfl rfl)
theorem dX3_takes_29 : decode cX3_takes 29 = .ok (.putfield 15, 3) := dk_181 0 15 (dk_at dksX3_takes_1 5 rfl rfl)
theorem dX3_takes_32 : decode cX3_takes 32 = .ok (.iload_n 2, 1) := dk_28 (dk_at dksX3_takes_1 8 rfl rfl)
theorem dX3_takes_33 : decode cX3_takes 33 = .ok (.ireturn, 1) := dk_172 (dk_at dksX3_takes_1 9 rfl rfl)
abbrev cX3_both : ByteArray := prog_10_method_9_code
def yX3_both : MethodName := ⟨RX3, "both", "(LReversalCourt$Formula;LReversalCourt$Formula;)LReversalCourt$Formula;"⟩
def dkwX3_both_0 : List UInt8 := [187, 0, 89, 89, 42, 43, 44, 43, 44, 183, 0, 91, 176]
abbrev dktX3_both_0 : List UInt8 := dkwX3_both_0 ++ []
theorem dksX3_both_0 : cX3_both.data.toList.drop 0 = dktX3_both_0 := by decide +kernel
theorem dX3_both_0 : decode cX3_both 0 = .ok (.new 89, 3) := dk_187 0 89 (dk_at dksX3_both_0 0 rfl rfl)
theorem dX3_both_3 : decode cX3_both 3 = .ok (.dup, 1) := dk_89 (dk_at dksX3_both_0 3 rfl rfl)
theorem dX3_both_4 : decode cX3_both 4 = .ok (.aload_n 0, 1) := dk_42 (dk_at dksX3_both_0 4 rfl rfl)
theorem dX3_both_5 : decode cX3_both 5 = .ok (.aload_n 1, 1) := dk_43 (dk_at dksX3_both_0 5 rfl rfl)
theorem dX3_both_6 : decode cX3_both 6 = .ok (.aload_n 2, 1) := dk_44 (dk_at dksX3_both_0 6 rfl rfl)
theorem dX3_both_7 : decode cX3_both 7 = .ok (.aload_n 1, 1) := dk_43 (dk_at dksX3_both_0 7 rfl rfl)
theorem dX3_both_8 : decode cX3_both 8 = .ok (.aload_n 2, 1) := dk_44 (dk_at dksX3_both_0 8 rfl rfl)
theorem dX3_both_9 : decode cX3_both 9 = .ok (.invokespecial 91, 3) := dk_183 0 91 (dk_at dksX3_both_0 9 rfl rfl)
theorem dX3_both_12 : decode cX3_both 12 = .ok (.areturn, 1) := dk_176 (dk_at dksX3_both_0 12 rfl rfl)
abbrev cX3_quantified : ByteArray := prog_10_method_10_code
def yX3_quantified : MethodName := ⟨RX3, "quantified", "(ZZ)LReversalCourt$Formula;"⟩
def dkwX3_quantified_2 : List UInt8 := [199, 0, 7, 1, 167, 0, 16, 187, 0, 94, 89, 25, 5, 27, 29, 21, 4, 183, 0, 96, 176]
abbrev dktX3_quantified_2 : List UInt8 := dkwX3_quantified_2 ++ []
def dkwX3_quantified_1 : List UInt8 := [155, 0, 12, 28, 153, 0, 10, 21, 4, 156, 0, 5, 1, 176, 42, 182, 0, 45, 58, 5, 25, 5]
abbrev dktX3_quantified_1 : List UInt8 := dkwX3_quantified_1 ++ dktX3_quantified_2
def dkwX3_quantified_0 : List UInt8 := [42, 182, 0, 63, 62, 29, 155, 0, 7, 28, 154, 0, 7, 2, 167, 0, 7, 42, 182, 0, 63, 54, 4, 29]
abbrev dktX3_quantified_0 : List UInt8 := dkwX3_quantified_0 ++ dktX3_quantified_1
theorem dksX3_quantified_0 : cX3_quantified.data.toList.drop 0 = dktX3_quantified_0 := by decide +kernel
theorem dksX3_quantified_1 : cX3_quantified.data.toList.drop 24 = dktX3_quantified_1 := dk_seg dksX3_quantified_0 24 rfl rfl
theorem dksX3_quantified_2 : cX3_quantified.data.toList.drop 46 = dktX3_quantified_2 := dk_seg dksX3_quantified_1 22 rfl rfl
theorem dX3_quantified_0 : decode cX3_quantified 0 = .ok (.aload_n 0, 1) := dk_42 (dk_at dksX3_quantified_0 0 rfl rfl)
theorem dX3_quantified_1 : decode cX3_quantified 1 = .ok (.invokevirtual 63, 3) := dk_182 0 63 (dk_at dksX3_quantified_0 1 rfl rfl)
theorem dX3_quantified_4 : decode cX3_quantified 4 = .ok (.istore_n 3, 1) := dk_62 (dk_at dksX3_quantified_0 4 rfl rfl)
theorem dX3_quantified_5 : decode cX3_quantified 5 = .ok (.iload_n 3, 1) := dk_29 (dk_at dksX3_quantified_0 5 rfl rfl)
theorem dX3_quantified_6 : decode cX3_quantified 6 = .ok (.ifCond .lt 7, 3) := dk_155 0 7 (dk_at dksX3_quantified_0 6 rfl rfl)
theorem dX3_quantified_9 : decode cX3_quantified 9 = .ok (.iload_n 2, 1) := dk_28 (dk_at dksX3_quantified_0 9 rfl rfl)
theorem dX3_quantified_10 : decode cX3_quantified 10 = .ok (.ifCond .ne 7, 3) := dk_154 0 7 (dk_at dksX3_quantified_0 10 rfl rfl)
theorem dX3_quantified_13 : decode cX3_quantified 13 = .ok (.iconst (-1), 1) := dk_2 (dk_at dksX3_quantified_0 13 rfl rfl)
theorem dX3_quantified_14 : decode cX3_quantified 14 = .ok (.goto 7, 3) := dk_167 0 7 (dk_at dksX3_quantified_0 14 rfl rfl)
theorem dX3_quantified_17 : decode cX3_quantified 17 = .ok (.aload_n 0, 1) := dk_42 (dk_at dksX3_quantified_0 17 rfl rfl)
theorem dX3_quantified_18 : decode cX3_quantified 18 = .ok (.invokevirtual 63, 3) := dk_182 0 63 (dk_at dksX3_quantified_0 18 rfl rfl)
theorem dX3_quantified_21 : decode cX3_quantified 21 = .ok (.istore 4, 2) := dk_54 4 (dk_at dksX3_quantified_0 21 rfl rfl)
theorem dX3_quantified_23 : decode cX3_quantified 23 = .ok (.iload_n 3, 1) := dk_29 (dk_at dksX3_quantified_0 23 rfl rfl)
theorem dX3_quantified_24 : decode cX3_quantified 24 = .ok (.ifCond .lt 12, 3) := dk_155 0 12 (dk_at dksX3_quantified_1 0 rfl rfl)
theorem dX3_quantified_27 : decode cX3_quantified 27 = .ok (.iload_n 2, 1) := dk_28 (dk_at dksX3_quantified_1 3 rfl rfl)
theorem dX3_quantified_28 : decode cX3_quantified 28 = .ok (.ifCond .eq 10, 3) := dk_153 0 10 (dk_at dksX3_quantified_1 4 rfl rfl)
theorem dX3_quantified_31 : decode cX3_quantified 31 = .ok (.iload 4, 2) := dk_21 4 (dk_at dksX3_quantified_1 7 rfl rfl)
theorem dX3_quantified_33 : decode cX3_quantified 33 = .ok (.ifCond .ge 5, 3) := dk_156 0 5 (dk_at dksX3_quantified_1 9 rfl rfl)
theorem dX3_quantified_36 : decode cX3_quantified 36 = .ok (.aconst_null, 1) := dk_1 (dk_at dksX3_quantified_1 12 rfl rfl)
theorem dX3_quantified_37 : decode cX3_quantified 37 = .ok (.areturn, 1) := dk_176 (dk_at dksX3_quantified_1 13 rfl rfl)
theorem dX3_quantified_38 : decode cX3_quantified 38 = .ok (.aload_n 0, 1) := dk_42 (dk_at dksX3_quantified_1 14 rfl rfl)
theorem dX3_quantified_39 : decode cX3_quantified 39 = .ok (.invokevirtual 45, 3) := dk_182 0 45 (dk_at dksX3_quantified_1 15 rfl rfl)
theorem dX3_quantified_42 : decode cX3_quantified 42 = .ok (.astore 5, 2) := dk_58 5 (dk_at dksX3_quantified_1 18 rfl rfl)
theorem dX3_quantified_44 : decode cX3_quantified 44 = .ok (.aload 5, 2) := dk_25 5 (dk_at dksX3_quantified_1 20 rfl rfl)
theorem dX3_quantified_46 : decode cX3_quantified 46 = .ok (.ifnonnull 7, 3) := dk_199 0 7 (dk_at dksX3_quantified_2 0 rfl rfl)
theorem dX3_quantified_49 : decode cX3_quantified 49 = .ok (.aconst_null, 1) := dk_1 (dk_at dksX3_quantified_2 3 rfl rfl)
theorem dX3_quantified_50 : decode cX3_quantified 50 = .ok (.goto 16, 3) := dk_167 0 16 (dk_at dksX3_quantified_2 4 rfl rfl)
theorem dX3_quantified_53 : decode cX3_quantified 53 = .ok (.new 94, 3) := dk_187 0 94 (dk_at dksX3_quantified_2 7 rfl rfl)
theorem dX3_quantified_56 : decode cX3_quantified 56 = .ok (.dup, 1) := dk_89 (dk_at dksX3_quantified_2 10 rfl rfl)
theorem dX3_quantified_57 : decode cX3_quantified 57 = .ok (.aload 5, 2) := dk_25 5 (dk_at dksX3_quantified_2 11 rfl rfl)
theorem dX3_quantified_59 : decode cX3_quantified 59 = .ok (.iload_n 1, 1) := dk_27 (dk_at dksX3_quantified_2 13 rfl rfl)
theorem dX3_quantified_60 : decode cX3_quantified 60 = .ok (.iload_n 3, 1) := dk_29 (dk_at dksX3_quantified_2 14 rfl rfl)
theorem dX3_quantified_61 : decode cX3_quantified 61 = .ok (.iload 4, 2) := dk_21 4 (dk_at dksX3_quantified_2 15 rfl rfl)
theorem dX3_quantified_63 : decode cX3_quantified 63 = .ok (.invokespecial 96, 3) := dk_183 0 96 (dk_at dksX3_quantified_2 17 rfl rfl)
theorem dX3_quantified_66 : decode cX3_quantified 66 = .ok (.areturn, 1) := dk_176 (dk_at dksX3_quantified_2 20 rfl rfl)
abbrev cX3_variable : ByteArray := prog_10_method_3_code
def yX3_variable : MethodName := ⟨RX3, "variable", "()I"⟩
def dkwX3_variable_1 : List UInt8 := [96, 181, 0, 15, 27, 172]
abbrev dktX3_variable_1 : List UInt8 := dkwX3_variable_1 ++ []
def dkwX3_variable_0 : List UInt8 := [18, 33, 42, 182, 0, 35, 182, 0, 39, 60, 42, 89, 180, 0, 15, 27, 156, 0, 7, 3, 167, 0, 4, 4]
abbrev dktX3_variable_0 : List UInt8 := dkwX3_variable_0 ++ dktX3_variable_1
theorem dksX3_variable_0 : cX3_variable.data.toList.drop 0 = dktX3_variable_0 := by decide +kernel
theorem dksX3_variable_1 : cX3_variable.data.toList.drop 24 = dktX3_variable_1 := dk_seg dksX3_variable_0 24 rfl rfl
theorem dX3_variable_0 : decode cX3_variable 0 = .ok (.ldc 33, 2) := dk_18 33 (dk_at dksX3_variable_0 0 rfl rfl)
theorem dX3_variable_2 : decode cX3_variable 2 = .ok (.aload_n 0, 1) := dk_42 (dk_at dksX3_variable_0 2 rfl rfl)
theorem dX3_variable_3 : decode cX3_variable 3 = .ok (.invokevirtual 35, 3) := dk_182 0 35 (dk_at dksX3_variable_0 3 rfl rfl)
theorem dX3_variable_6 : decode cX3_variable 6 = .ok (.invokevirtual 39, 3) := dk_182 0 39 (dk_at dksX3_variable_0 6 rfl rfl)
theorem dX3_variable_9 : decode cX3_variable 9 = .ok (.istore_n 1, 1) := dk_60 (dk_at dksX3_variable_0 9 rfl rfl)
theorem dX3_variable_10 : decode cX3_variable 10 = .ok (.aload_n 0, 1) := dk_42 (dk_at dksX3_variable_0 10 rfl rfl)
theorem dX3_variable_11 : decode cX3_variable 11 = .ok (.dup, 1) := dk_89 (dk_at dksX3_variable_0 11 rfl rfl)
theorem dX3_variable_12 : decode cX3_variable 12 = .ok (.getfield 15, 3) := dk_180 0 15 (dk_at dksX3_variable_0 12 rfl rfl)
theorem dX3_variable_15 : decode cX3_variable 15 = .ok (.iload_n 1, 1) := dk_27 (dk_at dksX3_variable_0 15 rfl rfl)
theorem dX3_variable_16 : decode cX3_variable 16 = .ok (.ifCond .ge 7, 3) := dk_156 0 7 (dk_at dksX3_variable_0 16 rfl rfl)
theorem dX3_variable_19 : decode cX3_variable 19 = .ok (.iconst 0, 1) := dk_3 (dk_at dksX3_variable_0 19 rfl rfl)
theorem dX3_variable_20 : decode cX3_variable 20 = .ok (.goto 4, 3) := dk_167 0 4 (dk_at dksX3_variable_0 20 rfl rfl)
theorem dX3_variable_23 : decode cX3_variable 23 = .ok (.iconst 1, 1) := dk_4 (dk_at dksX3_variable_0 23 rfl rfl)
theorem dX3_variable_24 : decode cX3_variable 24 = .ok (.iadd, 1) := dk_96 (dk_at dksX3_variable_1 0 rfl rfl)
theorem dX3_variable_25 : decode cX3_variable 25 = .ok (.putfield 15, 3) := dk_181 0 15 (dk_at dksX3_variable_1 1 rfl rfl)
theorem dX3_variable_28 : decode cX3_variable 28 = .ok (.iload_n 1, 1) := dk_27 (dk_at dksX3_variable_1 4 rfl rfl)
theorem dX3_variable_29 : decode cX3_variable 29 = .ok (.ireturn, 1) := dk_172 (dk_at dksX3_variable_1 5 rfl rfl)
abbrev cX3_atom : ByteArray := prog_10_method_6_code
def yX3_atom : MethodName := ⟨RX3, "atom", "()LReversalCourt$Formula;"⟩
def dkwX3_atom_3 : List UInt8 := [183, 0, 68, 176]
abbrev dktX3_atom_3 : List UInt8 := dkwX3_atom_3 ++ []
def dkwX3_atom_2 : List UInt8 := [181, 0, 15, 42, 182, 0, 63, 62, 29, 156, 0, 5, 1, 176, 187, 0, 66, 89, 42, 27, 29, 28]
abbrev dktX3_atom_2 : List UInt8 := dkwX3_atom_2 ++ dktX3_atom_3
def dkwX3_atom_1 : List UInt8 := [3, 61, 28, 154, 0, 14, 42, 182, 0, 35, 16, 61, 159, 0, 5, 1, 176, 42, 89, 180, 0, 15, 4, 96]
abbrev dktX3_atom_1 : List UInt8 := dkwX3_atom_1 ++ dktX3_atom_2
def dkwX3_atom_0 : List UInt8 := [42, 182, 0, 63, 60, 27, 156, 0, 5, 1, 176, 42, 182, 0, 35, 16, 60, 160, 0, 7, 4, 167, 0, 4]
abbrev dktX3_atom_0 : List UInt8 := dkwX3_atom_0 ++ dktX3_atom_1
theorem dksX3_atom_0 : cX3_atom.data.toList.drop 0 = dktX3_atom_0 := by decide +kernel
theorem dksX3_atom_1 : cX3_atom.data.toList.drop 24 = dktX3_atom_1 := dk_seg dksX3_atom_0 24 rfl rfl
theorem dksX3_atom_2 : cX3_atom.data.toList.drop 48 = dktX3_atom_2 := dk_seg dksX3_atom_1 24 rfl rfl
theorem dksX3_atom_3 : cX3_atom.data.toList.drop 70 = dktX3_atom_3 := dk_seg dksX3_atom_2 22 rfl rfl
theorem dX3_atom_0 : decode cX3_atom 0 = .ok (.aload_n 0, 1) := dk_42 (dk_at dksX3_atom_0 0 rfl rfl)
theorem dX3_atom_1 : decode cX3_atom 1 = .ok (.invokevirtual 63, 3) := dk_182 0 63 (dk_at dksX3_atom_0 1 rfl rfl)
theorem dX3_atom_4 : decode cX3_atom 4 = .ok (.istore_n 1, 1) := dk_60 (dk_at dksX3_atom_0 4 rfl rfl)
theorem dX3_atom_5 : decode cX3_atom 5 = .ok (.iload_n 1, 1) := dk_27 (dk_at dksX3_atom_0 5 rfl rfl)
theorem dX3_atom_6 : decode cX3_atom 6 = .ok (.ifCond .ge 5, 3) := dk_156 0 5 (dk_at dksX3_atom_0 6 rfl rfl)
theorem dX3_atom_9 : decode cX3_atom 9 = .ok (.aconst_null, 1) := dk_1 (dk_at dksX3_atom_0 9 rfl rfl)
theorem dX3_atom_10 : decode cX3_atom 10 = .ok (.areturn, 1) := dk_176 (dk_at dksX3_atom_0 10 rfl rfl)
theorem dX3_atom_11 : decode cX3_atom 11 = .ok (.aload_n 0, 1) := dk_42 (dk_at dksX3_atom_0 11 rfl rfl)
theorem dX3_atom_12 : decode cX3_atom 12 = .ok (.invokevirtual 35, 3) := dk_182 0 35 (dk_at dksX3_atom_0 12 rfl rfl)
theorem dX3_atom_15 : decode cX3_atom 15 = .ok (.bipush 60, 2) := dk_16 60 (dk_at dksX3_atom_0 15 rfl rfl)
theorem dX3_atom_17 : decode cX3_atom 17 = .ok (.if_icmp .ne 7, 3) := dk_160 0 7 (dk_at dksX3_atom_0 17 rfl rfl)
theorem dX3_atom_20 : decode cX3_atom 20 = .ok (.iconst 1, 1) := dk_4 (dk_at dksX3_atom_0 20 rfl rfl)
theorem dX3_atom_21 : decode cX3_atom 21 = .ok (.goto 4, 3) := dk_167 0 4 (dk_at dksX3_atom_0 21 rfl rfl)
theorem dX3_atom_24 : decode cX3_atom 24 = .ok (.iconst 0, 1) := dk_3 (dk_at dksX3_atom_1 0 rfl rfl)
theorem dX3_atom_25 : decode cX3_atom 25 = .ok (.istore_n 2, 1) := dk_61 (dk_at dksX3_atom_1 1 rfl rfl)
theorem dX3_atom_26 : decode cX3_atom 26 = .ok (.iload_n 2, 1) := dk_28 (dk_at dksX3_atom_1 2 rfl rfl)
theorem dX3_atom_27 : decode cX3_atom 27 = .ok (.ifCond .ne 14, 3) := dk_154 0 14 (dk_at dksX3_atom_1 3 rfl rfl)
theorem dX3_atom_30 : decode cX3_atom 30 = .ok (.aload_n 0, 1) := dk_42 (dk_at dksX3_atom_1 6 rfl rfl)
theorem dX3_atom_31 : decode cX3_atom 31 = .ok (.invokevirtual 35, 3) := dk_182 0 35 (dk_at dksX3_atom_1 7 rfl rfl)
theorem dX3_atom_34 : decode cX3_atom 34 = .ok (.bipush 61, 2) := dk_16 61 (dk_at dksX3_atom_1 10 rfl rfl)
theorem dX3_atom_36 : decode cX3_atom 36 = .ok (.if_icmp .eq 5, 3) := dk_159 0 5 (dk_at dksX3_atom_1 12 rfl rfl)
theorem dX3_atom_39 : decode cX3_atom 39 = .ok (.aconst_null, 1) := dk_1 (dk_at dksX3_atom_1 15 rfl rfl)
theorem dX3_atom_40 : decode cX3_atom 40 = .ok (.areturn, 1) := dk_176 (dk_at dksX3_atom_1 16 rfl rfl)
theorem dX3_atom_41 : decode cX3_atom 41 = .ok (.aload_n 0, 1) := dk_42 (dk_at dksX3_atom_1 17 rfl rfl)
theorem dX3_atom_42 : decode cX3_atom 42 = .ok (.dup, 1) := dk_89 (dk_at dksX3_atom_1 18 rfl rfl)
theorem dX3_atom_43 : decode cX3_atom 43 = .ok (.getfield 15, 3) := dk_180 0 15 (dk_at dksX3_atom_1 19 rfl rfl)
theorem dX3_atom_46 : decode cX3_atom 46 = .ok (.iconst 1, 1) := dk_4 (dk_at dksX3_atom_1 22 rfl rfl)
theorem dX3_atom_47 : decode cX3_atom 47 = .ok (.iadd, 1) := dk_96 (dk_at dksX3_atom_1 23 rfl rfl)
theorem dX3_atom_48 : decode cX3_atom 48 = .ok (.putfield 15, 3) := dk_181 0 15 (dk_at dksX3_atom_2 0 rfl rfl)
theorem dX3_atom_51 : decode cX3_atom 51 = .ok (.aload_n 0, 1) := dk_42 (dk_at dksX3_atom_2 3 rfl rfl)
theorem dX3_atom_52 : decode cX3_atom 52 = .ok (.invokevirtual 63, 3) := dk_182 0 63 (dk_at dksX3_atom_2 4 rfl rfl)
theorem dX3_atom_55 : decode cX3_atom 55 = .ok (.istore_n 3, 1) := dk_62 (dk_at dksX3_atom_2 7 rfl rfl)
theorem dX3_atom_56 : decode cX3_atom 56 = .ok (.iload_n 3, 1) := dk_29 (dk_at dksX3_atom_2 8 rfl rfl)
theorem dX3_atom_57 : decode cX3_atom 57 = .ok (.ifCond .ge 5, 3) := dk_156 0 5 (dk_at dksX3_atom_2 9 rfl rfl)
theorem dX3_atom_60 : decode cX3_atom 60 = .ok (.aconst_null, 1) := dk_1 (dk_at dksX3_atom_2 12 rfl rfl)
theorem dX3_atom_61 : decode cX3_atom 61 = .ok (.areturn, 1) := dk_176 (dk_at dksX3_atom_2 13 rfl rfl)
theorem dX3_atom_62 : decode cX3_atom 62 = .ok (.new 66, 3) := dk_187 0 66 (dk_at dksX3_atom_2 14 rfl rfl)
theorem dX3_atom_65 : decode cX3_atom 65 = .ok (.dup, 1) := dk_89 (dk_at dksX3_atom_2 17 rfl rfl)
theorem dX3_atom_66 : decode cX3_atom 66 = .ok (.aload_n 0, 1) := dk_42 (dk_at dksX3_atom_2 18 rfl rfl)
theorem dX3_atom_67 : decode cX3_atom 67 = .ok (.iload_n 1, 1) := dk_27 (dk_at dksX3_atom_2 19 rfl rfl)
theorem dX3_atom_68 : decode cX3_atom 68 = .ok (.iload_n 3, 1) := dk_29 (dk_at dksX3_atom_2 20 rfl rfl)
theorem dX3_atom_69 : decode cX3_atom 69 = .ok (.iload_n 2, 1) := dk_28 (dk_at dksX3_atom_2 21 rfl rfl)
theorem dX3_atom_70 : decode cX3_atom 70 = .ok (.invokespecial 68, 3) := dk_183 0 68 (dk_at dksX3_atom_3 0 rfl rfl)
theorem dX3_atom_73 : decode cX3_atom 73 = .ok (.areturn, 1) := dk_176 (dk_at dksX3_atom_3 3 rfl rfl)
theorem q79 : (Jvm.Cond.initialized "ReversalCourt$Reader") ∈ lw_all := lw_g (lw_at lw_m1 27 rfl) rfl
theorem q164 : (Jvm.Cond.fieldLinkNest "ReversalCourt$Reader" (19 : Nat) "ReversalCourt" "page" "Ljava/lang/StringBuilder;" "ReversalCourt") ∈ lw_tbl := lw_at lw_m1 112 rfl
theorem q535 : (Jvm.Cond.instantiable "ReversalCourt$Reader" (2 : Nat)) ∈ lw_all := lw_g (lw_at lw_m3 3 rfl) rfl
theorem q537 : (Jvm.Cond.instanceMethod ({ cls := "ReversalCourt$Reader", name := "<init>", desc := "(LReversalCourt;)V" } : Jvm.MethodName)) ∈ lw_all := lw_g (lw_at lw_m3 5 rfl) rfl
theorem q538 : (Jvm.Cond.code ({ cls := "ReversalCourt$Reader", name := "<init>", desc := "(LReversalCourt;)V" } : Jvm.MethodName) prog_10_method_1_code (2 : Nat) (Option.none : Option Jvm.ClassFile.FieldType)) ∈ lw_all := lw_g (lw_at lw_m3 6 rfl) rfl
theorem q539 : (Jvm.Cond.methodLink "ReversalCourt$Reader" (9 : Nat) ({ cls := "java/lang/Object", name := "<init>", desc := "()V" } : Jvm.MethodName)) ∈ lw_all := lw_g (lw_at lw_m3 7 rfl) rfl
theorem q540 : (Jvm.Cond.fieldLink "ReversalCourt$Reader" (15 : Nat) "ReversalCourt$Reader" "place" "I") ∈ lw_all := lw_g (lw_at lw_m3 8 rfl) rfl
theorem q542 : (Jvm.Cond.fieldLink "ReversalCourt$Reader" (3 : Nat) "ReversalCourt$Reader" "this$0" "LReversalCourt;") ∈ lw_all := lw_g (lw_at lw_m3 10 rfl) rfl
theorem q543 : (Jvm.Cond.lays "ReversalCourt$Reader" "ReversalCourt$Reader" "place" "I") ∈ lw_all := lw_g (lw_at lw_m3 11 rfl) rfl
theorem q544 : (Jvm.Cond.soleField "ReversalCourt$Reader" "place") ∈ lw_all := lw_g (lw_at lw_m3 12 rfl) rfl
theorem q545 : (Jvm.Cond.laysFinal "ReversalCourt$Reader" "ReversalCourt$Reader" "this$0" "LReversalCourt;") ∈ lw_all := lw_g (lw_at lw_m3 13 rfl) rfl
theorem q546 : (Jvm.Cond.soleField "ReversalCourt$Reader" "this$0") ∈ lw_all := lw_g (lw_at lw_m3 14 rfl) rfl
theorem q547 : (Jvm.Cond.superclass "ReversalCourt$Reader" "java/lang/Object") ∈ lw_all := lw_g (lw_at lw_m3 15 rfl) rfl
theorem q549 : (Jvm.Cond.instanceMethod ({ cls := "ReversalCourt$Reader", name := "formula", desc := "()LReversalCourt$Formula;" } : Jvm.MethodName)) ∈ lw_all := lw_g (lw_at lw_m3 17 rfl) rfl
theorem q550 : (Jvm.Cond.selects "ReversalCourt$Reader" ({ cls := "ReversalCourt$Reader", name := "formula", desc := "()LReversalCourt$Formula;" } : Jvm.MethodName) ({ cls := "ReversalCourt$Reader", name := "formula", desc := "()LReversalCourt$Formula;" } : Jvm.MethodName)) ∈ lw_all := lw_g (lw_at lw_m3 18 rfl) rfl
theorem q551 : (Jvm.Cond.code ({ cls := "ReversalCourt$Reader", name := "formula", desc := "()LReversalCourt$Formula;" } : Jvm.MethodName) prog_10_method_5_code (3 : Nat) (Option.some (Jvm.ClassFile.FieldType.object "ReversalCourt$Formula"))) ∈ lw_all := lw_g (lw_at lw_m3 19 rfl) rfl
theorem q552 : (Jvm.Cond.methodLink "ReversalCourt$Reader" (35 : Nat) ({ cls := "ReversalCourt$Reader", name := "next", desc := "()C" } : Jvm.MethodName)) ∈ lw_all := lw_g (lw_at lw_m3 20 rfl) rfl
theorem q553 : (Jvm.Cond.privateMethod ({ cls := "ReversalCourt$Reader", name := "next", desc := "()C" } : Jvm.MethodName)) ∈ lw_tbl := lw_at lw_m3 21 rfl
theorem q554 : (Jvm.Cond.instanceMethod ({ cls := "ReversalCourt$Reader", name := "next", desc := "()C" } : Jvm.MethodName)) ∈ lw_all := lw_g (lw_at lw_m3 22 rfl) rfl
theorem q555 : (Jvm.Cond.code ({ cls := "ReversalCourt$Reader", name := "next", desc := "()C" } : Jvm.MethodName) prog_10_method_2_code (1 : Nat) (Option.some Jvm.ClassFile.FieldType.char)) ∈ lw_all := lw_g (lw_at lw_m3 23 rfl) rfl
theorem q556 : (Jvm.Cond.methodLink "ReversalCourt$Reader" (23 : Nat) ({ cls := "java/lang/StringBuilder", name := "length", desc := "()I" } : Jvm.MethodName)) ∈ lw_all := lw_g (lw_at lw_m3 24 rfl) rfl
theorem q557 : (Jvm.Cond.methodLink "ReversalCourt$Reader" (29 : Nat) ({ cls := "java/lang/StringBuilder", name := "charAt", desc := "(I)C" } : Jvm.MethodName)) ∈ lw_all := lw_g (lw_at lw_m3 25 rfl) rfl
theorem q572 : (Jvm.Cond.methodLink "ReversalCourt$Reader" (45 : Nat) ({ cls := "ReversalCourt$Reader", name := "formula", desc := "()LReversalCourt$Formula;" } : Jvm.MethodName)) ∈ lw_all := lw_g (lw_at lw_m3 40 rfl) rfl
theorem q573 : (Jvm.Cond.methodLink "ReversalCourt$Reader" (49 : Nat) ({ cls := "ReversalCourt$Reader", name := "not", desc := "(LReversalCourt$Formula;)LReversalCourt$Formula;" } : Jvm.MethodName)) ∈ lw_all := lw_g (lw_at lw_m3 41 rfl) rfl
theorem q574 : (Jvm.Cond.privateMethod ({ cls := "ReversalCourt$Reader", name := "not", desc := "(LReversalCourt$Formula;)LReversalCourt$Formula;" } : Jvm.MethodName)) ∈ lw_tbl := lw_at lw_m3 42 rfl
theorem q575 : (Jvm.Cond.instanceMethod ({ cls := "ReversalCourt$Reader", name := "not", desc := "(LReversalCourt$Formula;)LReversalCourt$Formula;" } : Jvm.MethodName)) ∈ lw_all := lw_g (lw_at lw_m3 43 rfl) rfl
theorem q576 : (Jvm.Cond.code ({ cls := "ReversalCourt$Reader", name := "not", desc := "(LReversalCourt$Formula;)LReversalCourt$Formula;" } : Jvm.MethodName) prog_10_method_7_code (2 : Nat) (Option.some (Jvm.ClassFile.FieldType.object "ReversalCourt$Formula"))) ∈ lw_all := lw_g (lw_at lw_m3 44 rfl) rfl
theorem q577 : (Jvm.Cond.classLink "ReversalCourt$Reader" (71 : Nat) "ReversalCourt$Reader$2") ∈ lw_all := lw_g (lw_at lw_m3 45 rfl) rfl
theorem q579 : (Jvm.Cond.methodLink "ReversalCourt$Reader" (73 : Nat) ({ cls := "ReversalCourt$Reader$2", name := "<init>", desc := "(LReversalCourt$Reader;LReversalCourt$Formula;LReversalCourt$Formula;LReversalCourt$Formula;)V" } : Jvm.MethodName)) ∈ lw_all := lw_g (lw_at lw_m3 47 rfl) rfl
theorem q608 : (Jvm.Cond.methodLink "ReversalCourt$Reader" (53 : Nat) ({ cls := "ReversalCourt$Reader", name := "pair", desc := "()LReversalCourt$Formula;" } : Jvm.MethodName)) ∈ lw_all := lw_g (lw_at lw_m3 76 rfl) rfl
theorem q609 : (Jvm.Cond.privateMethod ({ cls := "ReversalCourt$Reader", name := "pair", desc := "()LReversalCourt$Formula;" } : Jvm.MethodName)) ∈ lw_tbl := lw_at lw_m3 77 rfl
theorem q610 : (Jvm.Cond.instanceMethod ({ cls := "ReversalCourt$Reader", name := "pair", desc := "()LReversalCourt$Formula;" } : Jvm.MethodName)) ∈ lw_all := lw_g (lw_at lw_m3 78 rfl) rfl
theorem q611 : (Jvm.Cond.code ({ cls := "ReversalCourt$Reader", name := "pair", desc := "()LReversalCourt$Formula;" } : Jvm.MethodName) prog_10_method_8_code (4 : Nat) (Option.some (Jvm.ClassFile.FieldType.object "ReversalCourt$Formula"))) ∈ lw_all := lw_g (lw_at lw_m3 79 rfl) rfl
theorem q612 : (Jvm.Cond.methodLink "ReversalCourt$Reader" (76 : Nat) ({ cls := "ReversalCourt$Reader", name := "takes", desc := "(C)Z" } : Jvm.MethodName)) ∈ lw_all := lw_g (lw_at lw_m3 80 rfl) rfl
theorem q613 : (Jvm.Cond.privateMethod ({ cls := "ReversalCourt$Reader", name := "takes", desc := "(C)Z" } : Jvm.MethodName)) ∈ lw_tbl := lw_at lw_m3 81 rfl
theorem q614 : (Jvm.Cond.instanceMethod ({ cls := "ReversalCourt$Reader", name := "takes", desc := "(C)Z" } : Jvm.MethodName)) ∈ lw_all := lw_g (lw_at lw_m3 82 rfl) rfl
theorem q615 : (Jvm.Cond.code ({ cls := "ReversalCourt$Reader", name := "takes", desc := "(C)Z" } : Jvm.MethodName) prog_10_method_4_code (3 : Nat) (Option.some Jvm.ClassFile.FieldType.boolean)) ∈ lw_all := lw_g (lw_at lw_m3 83 rfl) rfl
theorem q616 : (Jvm.Cond.methodLink "ReversalCourt$Reader" (80 : Nat) ({ cls := "ReversalCourt$Reader", name := "both", desc := "(LReversalCourt$Formula;LReversalCourt$Formula;)LReversalCourt$Formula;" } : Jvm.MethodName)) ∈ lw_all := lw_g (lw_at lw_m3 84 rfl) rfl
theorem q617 : (Jvm.Cond.privateMethod ({ cls := "ReversalCourt$Reader", name := "both", desc := "(LReversalCourt$Formula;LReversalCourt$Formula;)LReversalCourt$Formula;" } : Jvm.MethodName)) ∈ lw_tbl := lw_at lw_m3 85 rfl
theorem q618 : (Jvm.Cond.instanceMethod ({ cls := "ReversalCourt$Reader", name := "both", desc := "(LReversalCourt$Formula;LReversalCourt$Formula;)LReversalCourt$Formula;" } : Jvm.MethodName)) ∈ lw_all := lw_g (lw_at lw_m3 86 rfl) rfl
theorem q619 : (Jvm.Cond.code ({ cls := "ReversalCourt$Reader", name := "both", desc := "(LReversalCourt$Formula;LReversalCourt$Formula;)LReversalCourt$Formula;" } : Jvm.MethodName) prog_10_method_9_code (3 : Nat) (Option.some (Jvm.ClassFile.FieldType.object "ReversalCourt$Formula"))) ∈ lw_all := lw_g (lw_at lw_m3 87 rfl) rfl
theorem q620 : (Jvm.Cond.classLink "ReversalCourt$Reader" (89 : Nat) "ReversalCourt$Reader$3") ∈ lw_all := lw_g (lw_at lw_m3 88 rfl) rfl
theorem q622 : (Jvm.Cond.methodLink "ReversalCourt$Reader" (91 : Nat) ({ cls := "ReversalCourt$Reader$3", name := "<init>", desc := "(LReversalCourt$Reader;LReversalCourt$Formula;LReversalCourt$Formula;LReversalCourt$Formula;LReversalCourt$Formula;)V" } : Jvm.MethodName)) ∈ lw_all := lw_g (lw_at lw_m3 90 rfl) rfl
theorem q638 : (Jvm.Cond.classLink "ReversalCourt$Reader" (84 : Nat) "ReversalCourt$Either") ∈ lw_all := lw_g (lw_at lw_m3 106 rfl) rfl
theorem q640 : (Jvm.Cond.methodLink "ReversalCourt$Reader" (86 : Nat) ({ cls := "ReversalCourt$Either", name := "<init>", desc := "(LReversalCourt$Formula;LReversalCourt$Formula;)V" } : Jvm.MethodName)) ∈ lw_all := lw_g (lw_at lw_m3 108 rfl) rfl
theorem q647 : (Jvm.Cond.methodLink "ReversalCourt$Reader" (56 : Nat) ({ cls := "ReversalCourt$Reader", name := "quantified", desc := "(ZZ)LReversalCourt$Formula;" } : Jvm.MethodName)) ∈ lw_all := lw_g (lw_at lw_m3 115 rfl) rfl
theorem q648 : (Jvm.Cond.privateMethod ({ cls := "ReversalCourt$Reader", name := "quantified", desc := "(ZZ)LReversalCourt$Formula;" } : Jvm.MethodName)) ∈ lw_tbl := lw_at lw_m3 116 rfl
theorem q649 : (Jvm.Cond.instanceMethod ({ cls := "ReversalCourt$Reader", name := "quantified", desc := "(ZZ)LReversalCourt$Formula;" } : Jvm.MethodName)) ∈ lw_all := lw_g (lw_at lw_m3 117 rfl) rfl
theorem q650 : (Jvm.Cond.code ({ cls := "ReversalCourt$Reader", name := "quantified", desc := "(ZZ)LReversalCourt$Formula;" } : Jvm.MethodName) prog_10_method_10_code (6 : Nat) (Option.some (Jvm.ClassFile.FieldType.object "ReversalCourt$Formula"))) ∈ lw_all := lw_g (lw_at lw_m3 118 rfl) rfl
theorem q651 : (Jvm.Cond.methodLink "ReversalCourt$Reader" (63 : Nat) ({ cls := "ReversalCourt$Reader", name := "variable", desc := "()I" } : Jvm.MethodName)) ∈ lw_all := lw_g (lw_at lw_m3 119 rfl) rfl
theorem q652 : (Jvm.Cond.privateMethod ({ cls := "ReversalCourt$Reader", name := "variable", desc := "()I" } : Jvm.MethodName)) ∈ lw_tbl := lw_at lw_m3 120 rfl
theorem q653 : (Jvm.Cond.instanceMethod ({ cls := "ReversalCourt$Reader", name := "variable", desc := "()I" } : Jvm.MethodName)) ∈ lw_all := lw_g (lw_at lw_m3 121 rfl) rfl
theorem q654 : (Jvm.Cond.code ({ cls := "ReversalCourt$Reader", name := "variable", desc := "()I" } : Jvm.MethodName) prog_10_method_3_code (2 : Nat) (Option.some Jvm.ClassFile.FieldType.int)) ∈ lw_all := lw_g (lw_at lw_m3 122 rfl) rfl
theorem q655 : (Jvm.Cond.stringRef "ReversalCourt$Reader" (33 : Nat) "xyz") ∈ lw_tbl := lw_at lw_m3 123 rfl
theorem q656 : (Jvm.Cond.methodLink "ReversalCourt$Reader" (39 : Nat) ({ cls := "java/lang/String", name := "indexOf", desc := "(I)I" } : Jvm.MethodName)) ∈ lw_all := lw_g (lw_at lw_m3 124 rfl) rfl
theorem q706 : (Jvm.Cond.classLink "ReversalCourt$Reader" (94 : Nat) "ReversalCourt$Quantified") ∈ lw_all := lw_g (lw_at lw_m3 174 rfl) rfl
theorem q708 : (Jvm.Cond.methodLink "ReversalCourt$Reader" (96 : Nat) ({ cls := "ReversalCourt$Quantified", name := "<init>", desc := "(LReversalCourt$Formula;ZII)V" } : Jvm.MethodName)) ∈ lw_all := lw_g (lw_at lw_m3 176 rfl) rfl
theorem q724 : (Jvm.Cond.methodLink "ReversalCourt$Reader" (60 : Nat) ({ cls := "ReversalCourt$Reader", name := "atom", desc := "()LReversalCourt$Formula;" } : Jvm.MethodName)) ∈ lw_all := lw_g (lw_at lw_m3 192 rfl) rfl
theorem q725 : (Jvm.Cond.privateMethod ({ cls := "ReversalCourt$Reader", name := "atom", desc := "()LReversalCourt$Formula;" } : Jvm.MethodName)) ∈ lw_tbl := lw_at lw_m3 193 rfl
theorem q726 : (Jvm.Cond.instanceMethod ({ cls := "ReversalCourt$Reader", name := "atom", desc := "()LReversalCourt$Formula;" } : Jvm.MethodName)) ∈ lw_all := lw_g (lw_at lw_m3 194 rfl) rfl
theorem q727 : (Jvm.Cond.code ({ cls := "ReversalCourt$Reader", name := "atom", desc := "()LReversalCourt$Formula;" } : Jvm.MethodName) prog_10_method_6_code (4 : Nat) (Option.some (Jvm.ClassFile.FieldType.object "ReversalCourt$Formula"))) ∈ lw_all := lw_g (lw_at lw_m3 195 rfl) rfl
theorem q728 : (Jvm.Cond.classLink "ReversalCourt$Reader" (66 : Nat) "ReversalCourt$Reader$1") ∈ lw_all := lw_g (lw_at lw_m3 196 rfl) rfl
theorem q730 : (Jvm.Cond.methodLink "ReversalCourt$Reader" (68 : Nat) ({ cls := "ReversalCourt$Reader$1", name := "<init>", desc := "(LReversalCourt$Reader;IIZ)V" } : Jvm.MethodName)) ∈ lw_all := lw_g (lw_at lw_m3 198 rfl) rfl
theorem q1041 : (Jvm.Cond.selects "ReversalCourt$Reader" ({ cls := "java/lang/Object", name := "getClass", desc := "()Ljava/lang/Class;" } : Jvm.MethodName) ({ cls := "java/lang/Object", name := "getClass", desc := "()Ljava/lang/Class;" } : Jvm.MethodName)) ∈ lw_all := lw_g (lw_at lw_m5 29 rfl) rfl
theorem q1834 : (Jvm.Cond.castable "ReversalCourt$Reader" "java/lang/Object") ∈ lw_tbl := lw_at lw_m8 102 rfl
theorem in_X3 : ∀ w ∈ wsX30, w ∈ lw_all := lw_in wsX30 [543, 545] (by decide +kernel) (by decide +kernel)
/-! ReversalCourt$Formula -/
set_option maxRecDepth 100000
def RX4 : String := "ReversalCourt$Formula"
abbrev cX4_init : ByteArray := prog_4_method_1_code
def yX4_init : MethodName := ⟨RX4, "<init>", "()V"⟩
theorem dX4_init_0 : decode cX4_init 0 = .ok (.aload_n 0, 1) := by decide +kernel
theorem dX4_init_1 : decode cX4_init 1 = .ok (.invokespecial 1, 3) := by decide +kernel
theorem dX4_init_4 : decode cX4_init 4 = .ok (.return_, 1) := by decide +kernel
theorem q80 : (Jvm.Cond.initialized "ReversalCourt$Formula") ∈ lw_all := lw_g (lw_at lw_m1 28 rfl) rfl
theorem q586 : (Jvm.Cond.instanceMethod ({ cls := "ReversalCourt$Formula", name := "<init>", desc := "()V" } : Jvm.MethodName)) ∈ lw_all := lw_g (lw_at lw_m3 54 rfl) rfl
theorem q587 : (Jvm.Cond.code ({ cls := "ReversalCourt$Formula", name := "<init>", desc := "()V" } : Jvm.MethodName) prog_4_method_1_code (1 : Nat) (Option.none : Option Jvm.ClassFile.FieldType)) ∈ lw_all := lw_g (lw_at lw_m3 55 rfl) rfl
theorem q588 : (Jvm.Cond.methodLink "ReversalCourt$Formula" (1 : Nat) ({ cls := "java/lang/Object", name := "<init>", desc := "()V" } : Jvm.MethodName)) ∈ lw_all := lw_g (lw_at lw_m3 56 rfl) rfl
theorem q756 : (Jvm.Cond.declares ({ cls := "ReversalCourt$Formula", name := "sigma", desc := "()I" } : Jvm.MethodName)) ∈ lw_tbl := lw_at lw_m3 224 rfl
theorem q757 : (Jvm.Cond.sameMethod "ReversalCourt$Formula" "ReversalCourt$Formula" "sigma" "()I") ∈ lw_all := lw_g (lw_at lw_m3 225 rfl) rfl
theorem q770 : (Jvm.Cond.declares ({ cls := "ReversalCourt$Formula", name := "pi", desc := "()I" } : Jvm.MethodName)) ∈ lw_tbl := lw_at lw_m3 238 rfl
theorem q771 : (Jvm.Cond.sameMethod "ReversalCourt$Formula" "ReversalCourt$Formula" "pi" "()I") ∈ lw_all := lw_g (lw_at lw_m3 239 rfl) rfl
theorem q811 : (Jvm.Cond.declares ({ cls := "ReversalCourt$Formula", name := "free", desc := "()I" } : Jvm.MethodName)) ∈ lw_tbl := lw_at lw_m4 39 rfl
theorem q812 : (Jvm.Cond.sameMethod "ReversalCourt$Formula" "ReversalCourt$Formula" "free" "()I") ∈ lw_all := lw_g (lw_at lw_m4 40 rfl) rfl
theorem q943 : (Jvm.Cond.declares ({ cls := "ReversalCourt$Formula", name := "quantifiers", desc := "()I" } : Jvm.MethodName)) ∈ lw_tbl := lw_at lw_m4 171 rfl
theorem q944 : (Jvm.Cond.sameMethod "ReversalCourt$Formula" "ReversalCourt$Formula" "quantifiers" "()I") ∈ lw_all := lw_g (lw_at lw_m4 172 rfl) rfl
theorem q965 : (Jvm.Cond.declares ({ cls := "ReversalCourt$Formula", name := "isSo", desc := "(I[I)Z" } : Jvm.MethodName)) ∈ lw_tbl := lw_at lw_m4 193 rfl
theorem q966 : (Jvm.Cond.sameMethod "ReversalCourt$Formula" "ReversalCourt$Formula" "isSo" "(I[I)Z") ∈ lw_all := lw_g (lw_at lw_m4 194 rfl) rfl
/-! ReversalCourt$Node -/
set_option maxRecDepth 100000
def RX5 : String := "ReversalCourt$Node"
abbrev cX5_init : ByteArray := prog_6_method_1_code
def yX5_init : MethodName := ⟨RX5, "<init>", "(LReversalCourt$Formula;LReversalCourt$Formula;)V"⟩
def dkwX5_init_0 : List UInt8 := [42, 183, 0, 1, 42, 43, 181, 0, 7, 42, 44, 181, 0, 13, 177]
abbrev dktX5_init_0 : List UInt8 := dkwX5_init_0 ++ []
theorem dksX5_init_0 : cX5_init.data.toList.drop 0 = dktX5_init_0 := by decide +kernel
theorem dX5_init_0 : decode cX5_init 0 = .ok (.aload_n 0, 1) := dk_42 (dk_at dksX5_init_0 0 rfl rfl)
theorem dX5_init_1 : decode cX5_init 1 = .ok (.invokespecial 1, 3) := dk_183 0 1 (dk_at dksX5_init_0 1 rfl rfl)
theorem dX5_init_4 : decode cX5_init 4 = .ok (.aload_n 0, 1) := dk_42 (dk_at dksX5_init_0 4 rfl rfl)
theorem dX5_init_5 : decode cX5_init 5 = .ok (.aload_n 1, 1) := dk_43 (dk_at dksX5_init_0 5 rfl rfl)
theorem dX5_init_6 : decode cX5_init 6 = .ok (.putfield 7, 3) := dk_181 0 7 (dk_at dksX5_init_0 6 rfl rfl)
theorem dX5_init_9 : decode cX5_init 9 = .ok (.aload_n 0, 1) := dk_42 (dk_at dksX5_init_0 9 rfl rfl)
theorem dX5_init_10 : decode cX5_init 10 = .ok (.aload_n 2, 1) := dk_44 (dk_at dksX5_init_0 10 rfl rfl)
theorem dX5_init_11 : decode cX5_init 11 = .ok (.putfield 13, 3) := dk_181 0 13 (dk_at dksX5_init_0 11 rfl rfl)
theorem dX5_init_14 : decode cX5_init 14 = .ok (.return_, 1) := dk_177 (dk_at dksX5_init_0 14 rfl rfl)
abbrev cX5_sigma : ByteArray := prog_6_method_2_code
def yX5_sigma : MethodName := ⟨RX5, "sigma", "()I"⟩
def dkwX5_sigma_0 : List UInt8 := [42, 180, 0, 7, 182, 0, 16, 42, 180, 0, 13, 182, 0, 16, 184, 0, 20, 172]
abbrev dktX5_sigma_0 : List UInt8 := dkwX5_sigma_0 ++ []
theorem dksX5_sigma_0 : cX5_sigma.data.toList.drop 0 = dktX5_sigma_0 := by decide +kernel
theorem dX5_sigma_0 : decode cX5_sigma 0 = .ok (.aload_n 0, 1) := dk_42 (dk_at dksX5_sigma_0 0 rfl rfl)
theorem dX5_sigma_1 : decode cX5_sigma 1 = .ok (.getfield 7, 3) := dk_180 0 7 (dk_at dksX5_sigma_0 1 rfl rfl)
theorem dX5_sigma_4 : decode cX5_sigma 4 = .ok (.invokevirtual 16, 3) := dk_182 0 16 (dk_at dksX5_sigma_0 4 rfl rfl)
theorem dX5_sigma_7 : decode cX5_sigma 7 = .ok (.aload_n 0, 1) := dk_42 (dk_at dksX5_sigma_0 7 rfl rfl)
theorem dX5_sigma_8 : decode cX5_sigma 8 = .ok (.getfield 13, 3) := dk_180 0 13 (dk_at dksX5_sigma_0 8 rfl rfl)
theorem dX5_sigma_11 : decode cX5_sigma 11 = .ok (.invokevirtual 16, 3) := dk_182 0 16 (dk_at dksX5_sigma_0 11 rfl rfl)
theorem dX5_sigma_14 : decode cX5_sigma 14 = .ok (.invokestatic 20, 3) := dk_184 0 20 (dk_at dksX5_sigma_0 14 rfl rfl)
theorem dX5_sigma_17 : decode cX5_sigma 17 = .ok (.ireturn, 1) := dk_172 (dk_at dksX5_sigma_0 17 rfl rfl)
abbrev cX5_pi : ByteArray := prog_6_method_3_code
def yX5_pi : MethodName := ⟨RX5, "pi", "()I"⟩
def dkwX5_pi_0 : List UInt8 := [42, 180, 0, 7, 182, 0, 26, 42, 180, 0, 13, 182, 0, 26, 184, 0, 20, 172]
abbrev dktX5_pi_0 : List UInt8 := dkwX5_pi_0 ++ []
theorem dksX5_pi_0 : cX5_pi.data.toList.drop 0 = dktX5_pi_0 := by decide +kernel
theorem dX5_pi_0 : decode cX5_pi 0 = .ok (.aload_n 0, 1) := dk_42 (dk_at dksX5_pi_0 0 rfl rfl)
theorem dX5_pi_1 : decode cX5_pi 1 = .ok (.getfield 7, 3) := dk_180 0 7 (dk_at dksX5_pi_0 1 rfl rfl)
theorem dX5_pi_4 : decode cX5_pi 4 = .ok (.invokevirtual 26, 3) := dk_182 0 26 (dk_at dksX5_pi_0 4 rfl rfl)
theorem dX5_pi_7 : decode cX5_pi 7 = .ok (.aload_n 0, 1) := dk_42 (dk_at dksX5_pi_0 7 rfl rfl)
theorem dX5_pi_8 : decode cX5_pi 8 = .ok (.getfield 13, 3) := dk_180 0 13 (dk_at dksX5_pi_0 8 rfl rfl)
theorem dX5_pi_11 : decode cX5_pi 11 = .ok (.invokevirtual 26, 3) := dk_182 0 26 (dk_at dksX5_pi_0 11 rfl rfl)
theorem dX5_pi_14 : decode cX5_pi 14 = .ok (.invokestatic 20, 3) := dk_184 0 20 (dk_at dksX5_pi_0 14 rfl rfl)
theorem dX5_pi_17 : decode cX5_pi 17 = .ok (.ireturn, 1) := dk_172 (dk_at dksX5_pi_0 17 rfl rfl)
abbrev cX5_free : ByteArray := prog_6_method_4_code
def yX5_free : MethodName := ⟨RX5, "free", "()I"⟩
def dkwX5_free_0 : List UInt8 := [42, 180, 0, 7, 182, 0, 29, 42, 180, 0, 13, 182, 0, 29, 128, 172]
abbrev dktX5_free_0 : List UInt8 := dkwX5_free_0 ++ []
theorem dksX5_free_0 : cX5_free.data.toList.drop 0 = dktX5_free_0 := by decide +kernel
theorem dX5_free_0 : decode cX5_free 0 = .ok (.aload_n 0, 1) := dk_42 (dk_at dksX5_free_0 0 rfl rfl)
theorem dX5_free_1 : decode cX5_free 1 = .ok (.getfield 7, 3) := dk_180 0 7 (dk_at dksX5_free_0 1 rfl rfl)
theorem dX5_free_4 : decode cX5_free 4 = .ok (.invokevirtual 29, 3) := dk_182 0 29 (dk_at dksX5_free_0 4 rfl rfl)
theorem dX5_free_7 : decode cX5_free 7 = .ok (.aload_n 0, 1) := dk_42 (dk_at dksX5_free_0 7 rfl rfl)
theorem dX5_free_8 : decode cX5_free 8 = .ok (.getfield 13, 3) := dk_180 0 13 (dk_at dksX5_free_0 8 rfl rfl)
theorem dX5_free_11 : decode cX5_free 11 = .ok (.invokevirtual 29, 3) := dk_182 0 29 (dk_at dksX5_free_0 11 rfl rfl)
theorem dX5_free_14 : decode cX5_free 14 = .ok (.ior, 1) := dk_128 (dk_at dksX5_free_0 14 rfl rfl)
theorem dX5_free_15 : decode cX5_free 15 = .ok (.ireturn, 1) := dk_172 (dk_at dksX5_free_0 15 rfl rfl)
abbrev cX5_quantifiers : ByteArray := prog_6_method_5_code
def yX5_quantifiers : MethodName := ⟨RX5, "quantifiers", "()I"⟩
def dkwX5_quantifiers_1 : List UInt8 := [180, 0, 7, 182, 0, 32, 42, 180, 0, 13, 182, 0, 32, 96, 172]
abbrev dktX5_quantifiers_1 : List UInt8 := dkwX5_quantifiers_1 ++ []
def dkwX5_quantifiers_0 : List UInt8 := [42, 180, 0, 7, 42, 180, 0, 13, 166, 0, 13, 42, 180, 0, 7, 182, 0, 32, 167, 0, 18, 42]
abbrev dktX5_quantifiers_0 : List UInt8 := dkwX5_quantifiers_0 ++ dktX5_quantifiers_1
theorem dksX5_quantifiers_0 : cX5_quantifiers.data.toList.drop 0 = dktX5_quantifiers_0 := by decide +kernel
theorem dksX5_quantifiers_1 : cX5_quantifiers.data.toList.drop 22 = dktX5_quantifiers_1 := dk_seg dksX5_quantifiers_0 22 rfl rfl
theorem dX5_quantifiers_0 : decode cX5_quantifiers 0 = .ok (.aload_n 0, 1) := dk_42 (dk_at dksX5_quantifiers_0 0 rfl rfl)
theorem dX5_quantifiers_1 : decode cX5_quantifiers 1 = .ok (.getfield 7, 3) := dk_180 0 7 (dk_at dksX5_quantifiers_0 1 rfl rfl)
theorem dX5_quantifiers_4 : decode cX5_quantifiers 4 = .ok (.aload_n 0, 1) := dk_42 (dk_at dksX5_quantifiers_0 4 rfl rfl)
theorem dX5_quantifiers_5 : decode cX5_quantifiers 5 = .ok (.getfield 13, 3) := dk_180 0 13 (dk_at dksX5_quantifiers_0 5 rfl rfl)
theorem dX5_quantifiers_8 : decode cX5_quantifiers 8 = .ok (.if_acmp .ne 13, 3) := dk_166 0 13 (dk_at dksX5_quantifiers_0 8 rfl rfl)
theorem dX5_quantifiers_11 : decode cX5_quantifiers 11 = .ok (.aload_n 0, 1) := dk_42 (dk_at dksX5_quantifiers_0 11 rfl rfl)
theorem dX5_quantifiers_12 : decode cX5_quantifiers 12 = .ok (.getfield 7, 3) := dk_180 0 7 (dk_at dksX5_quantifiers_0 12 rfl rfl)
theorem dX5_quantifiers_15 : decode cX5_quantifiers 15 = .ok (.invokevirtual 32, 3) := dk_182 0 32 (dk_at dksX5_quantifiers_0 15 rfl rfl)
theorem dX5_quantifiers_18 : decode cX5_quantifiers 18 = .ok (.goto 18, 3) := dk_167 0 18 (dk_at dksX5_quantifiers_0 18 rfl rfl)
theorem dX5_quantifiers_21 : decode cX5_quantifiers 21 = .ok (.aload_n 0, 1) := dk_42 (dk_at dksX5_quantifiers_0 21 rfl rfl)
theorem dX5_quantifiers_22 : decode cX5_quantifiers 22 = .ok (.getfield 7, 3) := dk_180 0 7 (dk_at dksX5_quantifiers_1 0 rfl rfl)
theorem dX5_quantifiers_25 : decode cX5_quantifiers 25 = .ok (.invokevirtual 32, 3) := dk_182 0 32 (dk_at dksX5_quantifiers_1 3 rfl rfl)
theorem dX5_quantifiers_28 : decode cX5_quantifiers 28 = .ok (.aload_n 0, 1) := dk_42 (dk_at dksX5_quantifiers_1 6 rfl rfl)
theorem dX5_quantifiers_29 : decode cX5_quantifiers 29 = .ok (.getfield 13, 3) := dk_180 0 13 (dk_at dksX5_quantifiers_1 7 rfl rfl)
theorem dX5_quantifiers_32 : decode cX5_quantifiers 32 = .ok (.invokevirtual 32, 3) := dk_182 0 32 (dk_at dksX5_quantifiers_1 10 rfl rfl)
theorem dX5_quantifiers_35 : decode cX5_quantifiers 35 = .ok (.iadd, 1) := dk_96 (dk_at dksX5_quantifiers_1 13 rfl rfl)
theorem dX5_quantifiers_36 : decode cX5_quantifiers 36 = .ok (.ireturn, 1) := dk_172 (dk_at dksX5_quantifiers_1 14 rfl rfl)
theorem q81 : (Jvm.Cond.initialized "ReversalCourt$Node") ∈ lw_all := lw_g (lw_at lw_m1 29 rfl) rfl
theorem q583 : (Jvm.Cond.instanceMethod ({ cls := "ReversalCourt$Node", name := "<init>", desc := "(LReversalCourt$Formula;LReversalCourt$Formula;)V" } : Jvm.MethodName)) ∈ lw_all := lw_g (lw_at lw_m3 51 rfl) rfl
theorem q584 : (Jvm.Cond.code ({ cls := "ReversalCourt$Node", name := "<init>", desc := "(LReversalCourt$Formula;LReversalCourt$Formula;)V" } : Jvm.MethodName) prog_6_method_1_code (3 : Nat) (Option.none : Option Jvm.ClassFile.FieldType)) ∈ lw_all := lw_g (lw_at lw_m3 52 rfl) rfl
theorem q585 : (Jvm.Cond.methodLinkNest "ReversalCourt$Node" (1 : Nat) ({ cls := "ReversalCourt$Formula", name := "<init>", desc := "()V" } : Jvm.MethodName) "ReversalCourt") ∈ lw_tbl := lw_at lw_m3 53 rfl
theorem q591 : (Jvm.Cond.fieldLink "ReversalCourt$Node" (7 : Nat) "ReversalCourt$Node" "one" "LReversalCourt$Formula;") ∈ lw_all := lw_g (lw_at lw_m3 59 rfl) rfl
theorem q596 : (Jvm.Cond.fieldLink "ReversalCourt$Node" (13 : Nat) "ReversalCourt$Node" "other" "LReversalCourt$Formula;") ∈ lw_all := lw_g (lw_at lw_m3 64 rfl) rfl
theorem q604 : (Jvm.Cond.soleField "ReversalCourt$Node" "one") ∈ lw_all := lw_g (lw_at lw_m3 72 rfl) rfl
theorem q606 : (Jvm.Cond.soleField "ReversalCourt$Node" "other") ∈ lw_all := lw_g (lw_at lw_m3 74 rfl) rfl
theorem q759 : (Jvm.Cond.instanceMethod ({ cls := "ReversalCourt$Node", name := "sigma", desc := "()I" } : Jvm.MethodName)) ∈ lw_all := lw_g (lw_at lw_m3 227 rfl) rfl
theorem q760 : (Jvm.Cond.code ({ cls := "ReversalCourt$Node", name := "sigma", desc := "()I" } : Jvm.MethodName) prog_6_method_2_code (1 : Nat) (Option.some Jvm.ClassFile.FieldType.int)) ∈ lw_all := lw_g (lw_at lw_m3 228 rfl) rfl
theorem q761 : (Jvm.Cond.methodLink "ReversalCourt$Node" (16 : Nat) ({ cls := "ReversalCourt$Formula", name := "sigma", desc := "()I" } : Jvm.MethodName)) ∈ lw_all := lw_g (lw_at lw_m3 229 rfl) rfl
theorem q773 : (Jvm.Cond.instanceMethod ({ cls := "ReversalCourt$Node", name := "pi", desc := "()I" } : Jvm.MethodName)) ∈ lw_all := lw_g (lw_at lw_m4 1 rfl) rfl
theorem q774 : (Jvm.Cond.code ({ cls := "ReversalCourt$Node", name := "pi", desc := "()I" } : Jvm.MethodName) prog_6_method_3_code (1 : Nat) (Option.some Jvm.ClassFile.FieldType.int)) ∈ lw_all := lw_g (lw_at lw_m4 2 rfl) rfl
theorem q775 : (Jvm.Cond.methodLink "ReversalCourt$Node" (26 : Nat) ({ cls := "ReversalCourt$Formula", name := "pi", desc := "()I" } : Jvm.MethodName)) ∈ lw_all := lw_g (lw_at lw_m4 3 rfl) rfl
theorem q791 : (Jvm.Cond.methodLink "ReversalCourt$Node" (20 : Nat) ({ cls := "java/lang/Math", name := "max", desc := "(II)I" } : Jvm.MethodName)) ∈ lw_all := lw_g (lw_at lw_m4 19 rfl) rfl
theorem q814 : (Jvm.Cond.instanceMethod ({ cls := "ReversalCourt$Node", name := "free", desc := "()I" } : Jvm.MethodName)) ∈ lw_all := lw_g (lw_at lw_m4 42 rfl) rfl
theorem q815 : (Jvm.Cond.code ({ cls := "ReversalCourt$Node", name := "free", desc := "()I" } : Jvm.MethodName) prog_6_method_4_code (1 : Nat) (Option.some Jvm.ClassFile.FieldType.int)) ∈ lw_all := lw_g (lw_at lw_m4 43 rfl) rfl
theorem q816 : (Jvm.Cond.methodLink "ReversalCourt$Node" (29 : Nat) ({ cls := "ReversalCourt$Formula", name := "free", desc := "()I" } : Jvm.MethodName)) ∈ lw_all := lw_g (lw_at lw_m4 44 rfl) rfl
theorem q954 : (Jvm.Cond.instanceMethod ({ cls := "ReversalCourt$Node", name := "quantifiers", desc := "()I" } : Jvm.MethodName)) ∈ lw_all := lw_g (lw_at lw_m4 182 rfl) rfl
theorem q955 : (Jvm.Cond.code ({ cls := "ReversalCourt$Node", name := "quantifiers", desc := "()I" } : Jvm.MethodName) prog_6_method_5_code (1 : Nat) (Option.some Jvm.ClassFile.FieldType.int)) ∈ lw_all := lw_g (lw_at lw_m4 183 rfl) rfl
theorem q956 : (Jvm.Cond.methodLink "ReversalCourt$Node" (32 : Nat) ({ cls := "ReversalCourt$Formula", name := "quantifiers", desc := "()I" } : Jvm.MethodName)) ∈ lw_all := lw_g (lw_at lw_m4 184 rfl) rfl
/-! ReversalCourt$Reader$2 -/
set_option maxRecDepth 100000
def RX6 : String := "ReversalCourt$Reader$2"
def TX6 : u_T := fun k => match k with
  | 0 => ("ReversalCourt$Node", "one", "LReversalCourt$Formula;", true)
  | 1 => ("ReversalCourt$Node", "other", "LReversalCourt$Formula;", true)
  | 2 => ("ReversalCourt$Reader$2", "val$of", "LReversalCourt$Formula;", true)
  | _ => ("ReversalCourt$Reader$2", "this$1", "LReversalCourt$Reader;", true)
def tyX6 : Nat → FieldType := fun k => match k with
  | 0 => .object "ReversalCourt$Formula"
  | 1 => .object "ReversalCourt$Formula"
  | 2 => .object "ReversalCourt$Formula"
  | _ => .object "ReversalCourt$Reader"
abbrev wsX60 : List Cond := u_ws RX6 TX6 4
theorem nmX6 : ∀ a, a < 4 → ∀ b, b < 4 → a ≠ b → (TX6 a).2.1 ≠ (TX6 b).2.1 := by decide +kernel
theorem tyX6_ok : ∀ k, k < 4 → parseFieldDescriptor (TX6 k).2.2.1 = some (tyX6 k) := by decide +kernel
abbrev cX6_init : ByteArray := prog_12_method_1_code
def yX6_init : MethodName := ⟨RX6, "<init>", "(LReversalCourt$Reader;LReversalCourt$Formula;LReversalCourt$Formula;LReversalCourt$Formula;)V"⟩
def dkwX6_init_0 : List UInt8 := [42, 43, 181, 0, 1, 42, 25, 4, 181, 0, 7, 42, 44, 45, 183, 0, 11, 177]
abbrev dktX6_init_0 : List UInt8 := dkwX6_init_0 ++ []
theorem dksX6_init_0 : cX6_init.data.toList.drop 0 = dktX6_init_0 := by decide +kernel
theorem dX6_init_0 : decode cX6_init 0 = .ok (.aload_n 0, 1) := dk_42 (dk_at dksX6_init_0 0 rfl rfl)
theorem dX6_init_1 : decode cX6_init 1 = .ok (.aload_n 1, 1) := dk_43 (dk_at dksX6_init_0 1 rfl rfl)
theorem dX6_init_2 : decode cX6_init 2 = .ok (.putfield 1, 3) := dk_181 0 1 (dk_at dksX6_init_0 2 rfl rfl)
theorem dX6_init_5 : decode cX6_init 5 = .ok (.aload_n 0, 1) := dk_42 (dk_at dksX6_init_0 5 rfl rfl)
theorem dX6_init_6 : decode cX6_init 6 = .ok (.aload 4, 2) := dk_25 4 (dk_at dksX6_init_0 6 rfl rfl)
theorem dX6_init_8 : decode cX6_init 8 = .ok (.putfield 7, 3) := dk_181 0 7 (dk_at dksX6_init_0 8 rfl rfl)
theorem dX6_init_11 : decode cX6_init 11 = .ok (.aload_n 0, 1) := dk_42 (dk_at dksX6_init_0 11 rfl rfl)
theorem dX6_init_12 : decode cX6_init 12 = .ok (.aload_n 2, 1) := dk_44 (dk_at dksX6_init_0 12 rfl rfl)
theorem dX6_init_13 : decode cX6_init 13 = .ok (.aload_n 3, 1) := dk_45 (dk_at dksX6_init_0 13 rfl rfl)
theorem dX6_init_14 : decode cX6_init 14 = .ok (.invokespecial 11, 3) := dk_183 0 11 (dk_at dksX6_init_0 14 rfl rfl)
theorem dX6_init_17 : decode cX6_init 17 = .ok (.return_, 1) := dk_177 (dk_at dksX6_init_0 17 rfl rfl)
abbrev cX6_sigma : ByteArray := prog_12_method_2_code
def yX6_sigma : MethodName := ⟨RX6, "sigma", "()I"⟩
def dkwX6_sigma_0 : List UInt8 := [42, 180, 0, 7, 182, 0, 17, 172]
abbrev dktX6_sigma_0 : List UInt8 := dkwX6_sigma_0 ++ []
theorem dksX6_sigma_0 : cX6_sigma.data.toList.drop 0 = dktX6_sigma_0 := by decide +kernel
theorem dX6_sigma_0 : decode cX6_sigma 0 = .ok (.aload_n 0, 1) := dk_42 (dk_at dksX6_sigma_0 0 rfl rfl)
theorem dX6_sigma_1 : decode cX6_sigma 1 = .ok (.getfield 7, 3) := dk_180 0 7 (dk_at dksX6_sigma_0 1 rfl rfl)
theorem dX6_sigma_4 : decode cX6_sigma 4 = .ok (.invokevirtual 17, 3) := dk_182 0 17 (dk_at dksX6_sigma_0 4 rfl rfl)
theorem dX6_sigma_7 : decode cX6_sigma 7 = .ok (.ireturn, 1) := dk_172 (dk_at dksX6_sigma_0 7 rfl rfl)
abbrev cX6_pi : ByteArray := prog_12_method_3_code
def yX6_pi : MethodName := ⟨RX6, "pi", "()I"⟩
def dkwX6_pi_0 : List UInt8 := [42, 180, 0, 7, 182, 0, 23, 172]
abbrev dktX6_pi_0 : List UInt8 := dkwX6_pi_0 ++ []
theorem dksX6_pi_0 : cX6_pi.data.toList.drop 0 = dktX6_pi_0 := by decide +kernel
theorem dX6_pi_0 : decode cX6_pi 0 = .ok (.aload_n 0, 1) := dk_42 (dk_at dksX6_pi_0 0 rfl rfl)
theorem dX6_pi_1 : decode cX6_pi 1 = .ok (.getfield 7, 3) := dk_180 0 7 (dk_at dksX6_pi_0 1 rfl rfl)
theorem dX6_pi_4 : decode cX6_pi 4 = .ok (.invokevirtual 23, 3) := dk_182 0 23 (dk_at dksX6_pi_0 4 rfl rfl)
theorem dX6_pi_7 : decode cX6_pi 7 = .ok (.ireturn, 1) := dk_172 (dk_at dksX6_pi_0 7 rfl rfl)
abbrev cX6_isSo : ByteArray := prog_12_method_4_code
def yX6_isSo : MethodName := ⟨RX6, "isSo", "(I[I)Z"⟩
def dkwX6_isSo_0 : List UInt8 := [42, 180, 0, 7, 27, 44, 182, 0, 26, 154, 0, 7, 4, 167, 0, 4, 3, 172]
abbrev dktX6_isSo_0 : List UInt8 := dkwX6_isSo_0 ++ []
theorem dksX6_isSo_0 : cX6_isSo.data.toList.drop 0 = dktX6_isSo_0 := by decide +kernel
theorem dX6_isSo_0 : decode cX6_isSo 0 = .ok (.aload_n 0, 1) := dk_42 (dk_at dksX6_isSo_0 0 rfl rfl)
theorem dX6_isSo_1 : decode cX6_isSo 1 = .ok (.getfield 7, 3) := dk_180 0 7 (dk_at dksX6_isSo_0 1 rfl rfl)
theorem dX6_isSo_4 : decode cX6_isSo 4 = .ok (.iload_n 1, 1) := dk_27 (dk_at dksX6_isSo_0 4 rfl rfl)
theorem dX6_isSo_5 : decode cX6_isSo 5 = .ok (.aload_n 2, 1) := dk_44 (dk_at dksX6_isSo_0 5 rfl rfl)
theorem dX6_isSo_6 : decode cX6_isSo 6 = .ok (.invokevirtual 26, 3) := dk_182 0 26 (dk_at dksX6_isSo_0 6 rfl rfl)
theorem dX6_isSo_9 : decode cX6_isSo 9 = .ok (.ifCond .ne 7, 3) := dk_154 0 7 (dk_at dksX6_isSo_0 9 rfl rfl)
theorem dX6_isSo_12 : decode cX6_isSo 12 = .ok (.iconst 1, 1) := dk_4 (dk_at dksX6_isSo_0 12 rfl rfl)
theorem dX6_isSo_13 : decode cX6_isSo 13 = .ok (.goto 4, 3) := dk_167 0 4 (dk_at dksX6_isSo_0 13 rfl rfl)
theorem dX6_isSo_16 : decode cX6_isSo 16 = .ok (.iconst 0, 1) := dk_3 (dk_at dksX6_isSo_0 16 rfl rfl)
theorem dX6_isSo_17 : decode cX6_isSo 17 = .ok (.ireturn, 1) := dk_172 (dk_at dksX6_isSo_0 17 rfl rfl)
theorem q82 : (Jvm.Cond.initialized "ReversalCourt$Reader$2") ∈ lw_all := lw_g (lw_at lw_m1 30 rfl) rfl
theorem q578 : (Jvm.Cond.instantiable "ReversalCourt$Reader$2" (4 : Nat)) ∈ lw_all := lw_g (lw_at lw_m3 46 rfl) rfl
theorem q580 : (Jvm.Cond.instanceMethod ({ cls := "ReversalCourt$Reader$2", name := "<init>", desc := "(LReversalCourt$Reader;LReversalCourt$Formula;LReversalCourt$Formula;LReversalCourt$Formula;)V" } : Jvm.MethodName)) ∈ lw_all := lw_g (lw_at lw_m3 48 rfl) rfl
theorem q581 : (Jvm.Cond.code ({ cls := "ReversalCourt$Reader$2", name := "<init>", desc := "(LReversalCourt$Reader;LReversalCourt$Formula;LReversalCourt$Formula;LReversalCourt$Formula;)V" } : Jvm.MethodName) prog_12_method_1_code (5 : Nat) (Option.none : Option Jvm.ClassFile.FieldType)) ∈ lw_all := lw_g (lw_at lw_m3 49 rfl) rfl
theorem q582 : (Jvm.Cond.methodLink "ReversalCourt$Reader$2" (11 : Nat) ({ cls := "ReversalCourt$Node", name := "<init>", desc := "(LReversalCourt$Formula;LReversalCourt$Formula;)V" } : Jvm.MethodName)) ∈ lw_all := lw_g (lw_at lw_m3 50 rfl) rfl
theorem q589 : (Jvm.Cond.fieldLink "ReversalCourt$Reader$2" (7 : Nat) "ReversalCourt$Reader$2" "val$of" "LReversalCourt$Formula;") ∈ lw_all := lw_g (lw_at lw_m3 57 rfl) rfl
theorem q590 : (Jvm.Cond.fieldLink "ReversalCourt$Reader$2" (1 : Nat) "ReversalCourt$Reader$2" "this$1" "LReversalCourt$Reader;") ∈ lw_all := lw_g (lw_at lw_m3 58 rfl) rfl
theorem q599 : (Jvm.Cond.laysFinal "ReversalCourt$Reader$2" "ReversalCourt$Reader$2" "val$of" "LReversalCourt$Formula;") ∈ lw_all := lw_g (lw_at lw_m3 67 rfl) rfl
theorem q600 : (Jvm.Cond.soleField "ReversalCourt$Reader$2" "val$of") ∈ lw_all := lw_g (lw_at lw_m3 68 rfl) rfl
theorem q601 : (Jvm.Cond.laysFinal "ReversalCourt$Reader$2" "ReversalCourt$Reader$2" "this$1" "LReversalCourt$Reader;") ∈ lw_all := lw_g (lw_at lw_m3 69 rfl) rfl
theorem q602 : (Jvm.Cond.soleField "ReversalCourt$Reader$2" "this$1") ∈ lw_all := lw_g (lw_at lw_m3 70 rfl) rfl
theorem q603 : (Jvm.Cond.laysFinal "ReversalCourt$Reader$2" "ReversalCourt$Node" "one" "LReversalCourt$Formula;") ∈ lw_all := lw_g (lw_at lw_m3 71 rfl) rfl
theorem q605 : (Jvm.Cond.laysFinal "ReversalCourt$Reader$2" "ReversalCourt$Node" "other" "LReversalCourt$Formula;") ∈ lw_all := lw_g (lw_at lw_m3 73 rfl) rfl
theorem q607 : (Jvm.Cond.superclass "ReversalCourt$Reader$2" "ReversalCourt$Node") ∈ lw_all := lw_g (lw_at lw_m3 75 rfl) rfl
theorem q767 : (Jvm.Cond.instanceMethod ({ cls := "ReversalCourt$Reader$2", name := "sigma", desc := "()I" } : Jvm.MethodName)) ∈ lw_all := lw_g (lw_at lw_m3 235 rfl) rfl
theorem q768 : (Jvm.Cond.code ({ cls := "ReversalCourt$Reader$2", name := "sigma", desc := "()I" } : Jvm.MethodName) prog_12_method_2_code (1 : Nat) (Option.some Jvm.ClassFile.FieldType.int)) ∈ lw_all := lw_g (lw_at lw_m3 236 rfl) rfl
theorem q769 : (Jvm.Cond.methodLink "ReversalCourt$Reader$2" (17 : Nat) ({ cls := "ReversalCourt$Formula", name := "pi", desc := "()I" } : Jvm.MethodName)) ∈ lw_all := lw_g (lw_at lw_m3 237 rfl) rfl
theorem q781 : (Jvm.Cond.instanceMethod ({ cls := "ReversalCourt$Reader$2", name := "pi", desc := "()I" } : Jvm.MethodName)) ∈ lw_all := lw_g (lw_at lw_m4 9 rfl) rfl
theorem q782 : (Jvm.Cond.code ({ cls := "ReversalCourt$Reader$2", name := "pi", desc := "()I" } : Jvm.MethodName) prog_12_method_3_code (1 : Nat) (Option.some Jvm.ClassFile.FieldType.int)) ∈ lw_all := lw_g (lw_at lw_m4 10 rfl) rfl
theorem q783 : (Jvm.Cond.methodLink "ReversalCourt$Reader$2" (23 : Nat) ({ cls := "ReversalCourt$Formula", name := "sigma", desc := "()I" } : Jvm.MethodName)) ∈ lw_all := lw_g (lw_at lw_m4 11 rfl) rfl
theorem q794 : (Jvm.Cond.selects "ReversalCourt$Reader$2" ({ cls := "ReversalCourt$Formula", name := "pi", desc := "()I" } : Jvm.MethodName) ({ cls := "ReversalCourt$Reader$2", name := "pi", desc := "()I" } : Jvm.MethodName)) ∈ lw_all := lw_g (lw_at lw_m4 22 rfl) rfl
theorem q799 : (Jvm.Cond.selects "ReversalCourt$Reader$2" ({ cls := "ReversalCourt$Formula", name := "sigma", desc := "()I" } : Jvm.MethodName) ({ cls := "ReversalCourt$Reader$2", name := "sigma", desc := "()I" } : Jvm.MethodName)) ∈ lw_all := lw_g (lw_at lw_m4 27 rfl) rfl
theorem q824 : (Jvm.Cond.selects "ReversalCourt$Reader$2" ({ cls := "ReversalCourt$Formula", name := "free", desc := "()I" } : Jvm.MethodName) ({ cls := "ReversalCourt$Node", name := "free", desc := "()I" } : Jvm.MethodName)) ∈ lw_all := lw_g (lw_at lw_m4 52 rfl) rfl
theorem q962 : (Jvm.Cond.selects "ReversalCourt$Reader$2" ({ cls := "ReversalCourt$Formula", name := "quantifiers", desc := "()I" } : Jvm.MethodName) ({ cls := "ReversalCourt$Node", name := "quantifiers", desc := "()I" } : Jvm.MethodName)) ∈ lw_all := lw_g (lw_at lw_m4 190 rfl) rfl
theorem q976 : (Jvm.Cond.instanceMethod ({ cls := "ReversalCourt$Reader$2", name := "isSo", desc := "(I[I)Z" } : Jvm.MethodName)) ∈ lw_all := lw_g (lw_at lw_m4 204 rfl) rfl
theorem q977 : (Jvm.Cond.code ({ cls := "ReversalCourt$Reader$2", name := "isSo", desc := "(I[I)Z" } : Jvm.MethodName) prog_12_method_4_code (3 : Nat) (Option.some Jvm.ClassFile.FieldType.boolean)) ∈ lw_all := lw_g (lw_at lw_m4 205 rfl) rfl
theorem q978 : (Jvm.Cond.methodLink "ReversalCourt$Reader$2" (26 : Nat) ({ cls := "ReversalCourt$Formula", name := "isSo", desc := "(I[I)Z" } : Jvm.MethodName)) ∈ lw_all := lw_g (lw_at lw_m4 206 rfl) rfl
theorem q984 : (Jvm.Cond.selects "ReversalCourt$Reader$2" ({ cls := "ReversalCourt$Formula", name := "isSo", desc := "(I[I)Z" } : Jvm.MethodName) ({ cls := "ReversalCourt$Reader$2", name := "isSo", desc := "(I[I)Z" } : Jvm.MethodName)) ∈ lw_all := lw_g (lw_at lw_m4 212 rfl) rfl
theorem q1043 : (Jvm.Cond.selects "ReversalCourt$Reader$2" ({ cls := "java/lang/Object", name := "getClass", desc := "()Ljava/lang/Class;" } : Jvm.MethodName) ({ cls := "java/lang/Object", name := "getClass", desc := "()Ljava/lang/Class;" } : Jvm.MethodName)) ∈ lw_all := lw_g (lw_at lw_m5 31 rfl) rfl
theorem q1835 : (Jvm.Cond.castable "ReversalCourt$Reader$2" "java/lang/Object") ∈ lw_tbl := lw_at lw_m8 103 rfl
theorem in_X6 : ∀ w ∈ wsX60, w ∈ lw_all := lw_in wsX60 [603, 605, 599, 601] (by decide +kernel) (by decide +kernel)
/-! ReversalCourt$Reader$3 -/
set_option maxRecDepth 100000
def RX7 : String := "ReversalCourt$Reader$3"
def TX7 : u_T := fun k => match k with
  | 0 => ("ReversalCourt$Node", "one", "LReversalCourt$Formula;", true)
  | 1 => ("ReversalCourt$Node", "other", "LReversalCourt$Formula;", true)
  | 2 => ("ReversalCourt$Reader$3", "val$first", "LReversalCourt$Formula;", true)
  | 3 => ("ReversalCourt$Reader$3", "val$second", "LReversalCourt$Formula;", true)
  | _ => ("ReversalCourt$Reader$3", "this$1", "LReversalCourt$Reader;", true)
def tyX7 : Nat → FieldType := fun k => match k with
  | 0 => .object "ReversalCourt$Formula"
  | 1 => .object "ReversalCourt$Formula"
  | 2 => .object "ReversalCourt$Formula"
  | 3 => .object "ReversalCourt$Formula"
  | _ => .object "ReversalCourt$Reader"
abbrev wsX70 : List Cond := u_ws RX7 TX7 5
theorem nmX7 : ∀ a, a < 5 → ∀ b, b < 5 → a ≠ b → (TX7 a).2.1 ≠ (TX7 b).2.1 := by decide +kernel
theorem tyX7_ok : ∀ k, k < 5 → parseFieldDescriptor (TX7 k).2.2.1 = some (tyX7 k) := by decide +kernel
abbrev cX7_init : ByteArray := prog_13_method_1_code
def yX7_init : MethodName := ⟨RX7, "<init>", "(LReversalCourt$Reader;LReversalCourt$Formula;LReversalCourt$Formula;LReversalCourt$Formula;LReversalCourt$Formula;)V"⟩
def dkwX7_init_0 : List UInt8 := [42, 43, 181, 0, 1, 42, 25, 4, 181, 0, 7, 42, 25, 5, 181, 0, 11, 42, 44, 45, 183, 0, 14, 177]
abbrev dktX7_init_0 : List UInt8 := dkwX7_init_0 ++ []
theorem dksX7_init_0 : cX7_init.data.toList.drop 0 = dktX7_init_0 := by decide +kernel
theorem dX7_init_0 : decode cX7_init 0 = .ok (.aload_n 0, 1) := dk_42 (dk_at dksX7_init_0 0 rfl rfl)
theorem dX7_init_1 : decode cX7_init 1 = .ok (.aload_n 1, 1) := dk_43 (dk_at dksX7_init_0 1 rfl rfl)
theorem dX7_init_2 : decode cX7_init 2 = .ok (.putfield 1, 3) := dk_181 0 1 (dk_at dksX7_init_0 2 rfl rfl)
theorem dX7_init_5 : decode cX7_init 5 = .ok (.aload_n 0, 1) := dk_42 (dk_at dksX7_init_0 5 rfl rfl)
theorem dX7_init_6 : decode cX7_init 6 = .ok (.aload 4, 2) := dk_25 4 (dk_at dksX7_init_0 6 rfl rfl)
theorem dX7_init_8 : decode cX7_init 8 = .ok (.putfield 7, 3) := dk_181 0 7 (dk_at dksX7_init_0 8 rfl rfl)
theorem dX7_init_11 : decode cX7_init 11 = .ok (.aload_n 0, 1) := dk_42 (dk_at dksX7_init_0 11 rfl rfl)
theorem dX7_init_12 : decode cX7_init 12 = .ok (.aload 5, 2) := dk_25 5 (dk_at dksX7_init_0 12 rfl rfl)
theorem dX7_init_14 : decode cX7_init 14 = .ok (.putfield 11, 3) := dk_181 0 11 (dk_at dksX7_init_0 14 rfl rfl)
theorem dX7_init_17 : decode cX7_init 17 = .ok (.aload_n 0, 1) := dk_42 (dk_at dksX7_init_0 17 rfl rfl)
theorem dX7_init_18 : decode cX7_init 18 = .ok (.aload_n 2, 1) := dk_44 (dk_at dksX7_init_0 18 rfl rfl)
theorem dX7_init_19 : decode cX7_init 19 = .ok (.aload_n 3, 1) := dk_45 (dk_at dksX7_init_0 19 rfl rfl)
theorem dX7_init_20 : decode cX7_init 20 = .ok (.invokespecial 14, 3) := dk_183 0 14 (dk_at dksX7_init_0 20 rfl rfl)
theorem dX7_init_23 : decode cX7_init 23 = .ok (.return_, 1) := dk_177 (dk_at dksX7_init_0 23 rfl rfl)
abbrev cX7_quantifiers : ByteArray := prog_13_method_2_code
def yX7_quantifiers : MethodName := ⟨RX7, "quantifiers", "()I"⟩
def dkwX7_quantifiers_0 : List UInt8 := [42, 180, 0, 7, 182, 0, 20, 42, 180, 0, 11, 182, 0, 20, 96, 172]
abbrev dktX7_quantifiers_0 : List UInt8 := dkwX7_quantifiers_0 ++ []
theorem dksX7_quantifiers_0 : cX7_quantifiers.data.toList.drop 0 = dktX7_quantifiers_0 := by decide +kernel
theorem dX7_quantifiers_0 : decode cX7_quantifiers 0 = .ok (.aload_n 0, 1) := dk_42 (dk_at dksX7_quantifiers_0 0 rfl rfl)
theorem dX7_quantifiers_1 : decode cX7_quantifiers 1 = .ok (.getfield 7, 3) := dk_180 0 7 (dk_at dksX7_quantifiers_0 1 rfl rfl)
theorem dX7_quantifiers_4 : decode cX7_quantifiers 4 = .ok (.invokevirtual 20, 3) := dk_182 0 20 (dk_at dksX7_quantifiers_0 4 rfl rfl)
theorem dX7_quantifiers_7 : decode cX7_quantifiers 7 = .ok (.aload_n 0, 1) := dk_42 (dk_at dksX7_quantifiers_0 7 rfl rfl)
theorem dX7_quantifiers_8 : decode cX7_quantifiers 8 = .ok (.getfield 11, 3) := dk_180 0 11 (dk_at dksX7_quantifiers_0 8 rfl rfl)
theorem dX7_quantifiers_11 : decode cX7_quantifiers 11 = .ok (.invokevirtual 20, 3) := dk_182 0 20 (dk_at dksX7_quantifiers_0 11 rfl rfl)
theorem dX7_quantifiers_14 : decode cX7_quantifiers 14 = .ok (.iadd, 1) := dk_96 (dk_at dksX7_quantifiers_0 14 rfl rfl)
theorem dX7_quantifiers_15 : decode cX7_quantifiers 15 = .ok (.ireturn, 1) := dk_172 (dk_at dksX7_quantifiers_0 15 rfl rfl)
abbrev cX7_isSo : ByteArray := prog_13_method_3_code
def yX7_isSo : MethodName := ⟨RX7, "isSo", "(I[I)Z"⟩
def dkwX7_isSo_1 : List UInt8 := [4, 167, 0, 4, 3, 172]
abbrev dktX7_isSo_1 : List UInt8 := dkwX7_isSo_1 ++ []
def dkwX7_isSo_0 : List UInt8 := [42, 180, 0, 7, 27, 44, 182, 0, 26, 153, 0, 19, 42, 180, 0, 11, 27, 44, 182, 0, 26, 153, 0, 7]
abbrev dktX7_isSo_0 : List UInt8 := dkwX7_isSo_0 ++ dktX7_isSo_1
theorem dksX7_isSo_0 : cX7_isSo.data.toList.drop 0 = dktX7_isSo_0 := by decide +kernel
theorem dksX7_isSo_1 : cX7_isSo.data.toList.drop 24 = dktX7_isSo_1 := dk_seg dksX7_isSo_0 24 rfl rfl
theorem dX7_isSo_0 : decode cX7_isSo 0 = .ok (.aload_n 0, 1) := dk_42 (dk_at dksX7_isSo_0 0 rfl rfl)
theorem dX7_isSo_1 : decode cX7_isSo 1 = .ok (.getfield 7, 3) := dk_180 0 7 (dk_at dksX7_isSo_0 1 rfl rfl)
theorem dX7_isSo_4 : decode cX7_isSo 4 = .ok (.iload_n 1, 1) := dk_27 (dk_at dksX7_isSo_0 4 rfl rfl)
theorem dX7_isSo_5 : decode cX7_isSo 5 = .ok (.aload_n 2, 1) := dk_44 (dk_at dksX7_isSo_0 5 rfl rfl)
theorem dX7_isSo_6 : decode cX7_isSo 6 = .ok (.invokevirtual 26, 3) := dk_182 0 26 (dk_at dksX7_isSo_0 6 rfl rfl)
theorem dX7_isSo_9 : decode cX7_isSo 9 = .ok (.ifCond .eq 19, 3) := dk_153 0 19 (dk_at dksX7_isSo_0 9 rfl rfl)
theorem dX7_isSo_12 : decode cX7_isSo 12 = .ok (.aload_n 0, 1) := dk_42 (dk_at dksX7_isSo_0 12 rfl rfl)
theorem dX7_isSo_13 : decode cX7_isSo 13 = .ok (.getfield 11, 3) := dk_180 0 11 (dk_at dksX7_isSo_0 13 rfl rfl)
theorem dX7_isSo_16 : decode cX7_isSo 16 = .ok (.iload_n 1, 1) := dk_27 (dk_at dksX7_isSo_0 16 rfl rfl)
theorem dX7_isSo_17 : decode cX7_isSo 17 = .ok (.aload_n 2, 1) := dk_44 (dk_at dksX7_isSo_0 17 rfl rfl)
theorem dX7_isSo_18 : decode cX7_isSo 18 = .ok (.invokevirtual 26, 3) := dk_182 0 26 (dk_at dksX7_isSo_0 18 rfl rfl)
theorem dX7_isSo_21 : decode cX7_isSo 21 = .ok (.ifCond .eq 7, 3) := dk_153 0 7 (dk_at dksX7_isSo_0 21 rfl rfl)
theorem dX7_isSo_24 : decode cX7_isSo 24 = .ok (.iconst 1, 1) := dk_4 (dk_at dksX7_isSo_1 0 rfl rfl)
theorem dX7_isSo_25 : decode cX7_isSo 25 = .ok (.goto 4, 3) := dk_167 0 4 (dk_at dksX7_isSo_1 1 rfl rfl)
theorem dX7_isSo_28 : decode cX7_isSo 28 = .ok (.iconst 0, 1) := dk_3 (dk_at dksX7_isSo_1 4 rfl rfl)
theorem dX7_isSo_29 : decode cX7_isSo 29 = .ok (.ireturn, 1) := dk_172 (dk_at dksX7_isSo_1 5 rfl rfl)
theorem q83 : (Jvm.Cond.initialized "ReversalCourt$Reader$3") ∈ lw_all := lw_g (lw_at lw_m1 31 rfl) rfl
theorem q621 : (Jvm.Cond.instantiable "ReversalCourt$Reader$3" (5 : Nat)) ∈ lw_all := lw_g (lw_at lw_m3 89 rfl) rfl
theorem q623 : (Jvm.Cond.instanceMethod ({ cls := "ReversalCourt$Reader$3", name := "<init>", desc := "(LReversalCourt$Reader;LReversalCourt$Formula;LReversalCourt$Formula;LReversalCourt$Formula;LReversalCourt$Formula;)V" } : Jvm.MethodName)) ∈ lw_all := lw_g (lw_at lw_m3 91 rfl) rfl
theorem q624 : (Jvm.Cond.code ({ cls := "ReversalCourt$Reader$3", name := "<init>", desc := "(LReversalCourt$Reader;LReversalCourt$Formula;LReversalCourt$Formula;LReversalCourt$Formula;LReversalCourt$Formula;)V" } : Jvm.MethodName) prog_13_method_1_code (6 : Nat) (Option.none : Option Jvm.ClassFile.FieldType)) ∈ lw_all := lw_g (lw_at lw_m3 92 rfl) rfl
theorem q625 : (Jvm.Cond.methodLink "ReversalCourt$Reader$3" (14 : Nat) ({ cls := "ReversalCourt$Node", name := "<init>", desc := "(LReversalCourt$Formula;LReversalCourt$Formula;)V" } : Jvm.MethodName)) ∈ lw_all := lw_g (lw_at lw_m3 93 rfl) rfl
theorem q626 : (Jvm.Cond.fieldLink "ReversalCourt$Reader$3" (7 : Nat) "ReversalCourt$Reader$3" "val$first" "LReversalCourt$Formula;") ∈ lw_all := lw_g (lw_at lw_m3 94 rfl) rfl
theorem q627 : (Jvm.Cond.fieldLink "ReversalCourt$Reader$3" (11 : Nat) "ReversalCourt$Reader$3" "val$second" "LReversalCourt$Formula;") ∈ lw_all := lw_g (lw_at lw_m3 95 rfl) rfl
theorem q628 : (Jvm.Cond.fieldLink "ReversalCourt$Reader$3" (1 : Nat) "ReversalCourt$Reader$3" "this$1" "LReversalCourt$Reader;") ∈ lw_all := lw_g (lw_at lw_m3 96 rfl) rfl
theorem q629 : (Jvm.Cond.laysFinal "ReversalCourt$Reader$3" "ReversalCourt$Reader$3" "val$first" "LReversalCourt$Formula;") ∈ lw_all := lw_g (lw_at lw_m3 97 rfl) rfl
theorem q630 : (Jvm.Cond.soleField "ReversalCourt$Reader$3" "val$first") ∈ lw_all := lw_g (lw_at lw_m3 98 rfl) rfl
theorem q631 : (Jvm.Cond.laysFinal "ReversalCourt$Reader$3" "ReversalCourt$Reader$3" "val$second" "LReversalCourt$Formula;") ∈ lw_all := lw_g (lw_at lw_m3 99 rfl) rfl
theorem q632 : (Jvm.Cond.soleField "ReversalCourt$Reader$3" "val$second") ∈ lw_all := lw_g (lw_at lw_m3 100 rfl) rfl
theorem q633 : (Jvm.Cond.laysFinal "ReversalCourt$Reader$3" "ReversalCourt$Reader$3" "this$1" "LReversalCourt$Reader;") ∈ lw_all := lw_g (lw_at lw_m3 101 rfl) rfl
theorem q634 : (Jvm.Cond.soleField "ReversalCourt$Reader$3" "this$1") ∈ lw_all := lw_g (lw_at lw_m3 102 rfl) rfl
theorem q635 : (Jvm.Cond.laysFinal "ReversalCourt$Reader$3" "ReversalCourt$Node" "one" "LReversalCourt$Formula;") ∈ lw_all := lw_g (lw_at lw_m3 103 rfl) rfl
theorem q636 : (Jvm.Cond.laysFinal "ReversalCourt$Reader$3" "ReversalCourt$Node" "other" "LReversalCourt$Formula;") ∈ lw_all := lw_g (lw_at lw_m3 104 rfl) rfl
theorem q637 : (Jvm.Cond.superclass "ReversalCourt$Reader$3" "ReversalCourt$Node") ∈ lw_all := lw_g (lw_at lw_m3 105 rfl) rfl
theorem q795 : (Jvm.Cond.selects "ReversalCourt$Reader$3" ({ cls := "ReversalCourt$Formula", name := "pi", desc := "()I" } : Jvm.MethodName) ({ cls := "ReversalCourt$Node", name := "pi", desc := "()I" } : Jvm.MethodName)) ∈ lw_all := lw_g (lw_at lw_m4 23 rfl) rfl
theorem q800 : (Jvm.Cond.selects "ReversalCourt$Reader$3" ({ cls := "ReversalCourt$Formula", name := "sigma", desc := "()I" } : Jvm.MethodName) ({ cls := "ReversalCourt$Node", name := "sigma", desc := "()I" } : Jvm.MethodName)) ∈ lw_all := lw_g (lw_at lw_m4 28 rfl) rfl
theorem q825 : (Jvm.Cond.selects "ReversalCourt$Reader$3" ({ cls := "ReversalCourt$Formula", name := "free", desc := "()I" } : Jvm.MethodName) ({ cls := "ReversalCourt$Node", name := "free", desc := "()I" } : Jvm.MethodName)) ∈ lw_all := lw_g (lw_at lw_m4 53 rfl) rfl
theorem q957 : (Jvm.Cond.instanceMethod ({ cls := "ReversalCourt$Reader$3", name := "quantifiers", desc := "()I" } : Jvm.MethodName)) ∈ lw_all := lw_g (lw_at lw_m4 185 rfl) rfl
theorem q958 : (Jvm.Cond.code ({ cls := "ReversalCourt$Reader$3", name := "quantifiers", desc := "()I" } : Jvm.MethodName) prog_13_method_2_code (1 : Nat) (Option.some Jvm.ClassFile.FieldType.int)) ∈ lw_all := lw_g (lw_at lw_m4 186 rfl) rfl
theorem q959 : (Jvm.Cond.methodLink "ReversalCourt$Reader$3" (20 : Nat) ({ cls := "ReversalCourt$Formula", name := "quantifiers", desc := "()I" } : Jvm.MethodName)) ∈ lw_all := lw_g (lw_at lw_m4 187 rfl) rfl
theorem q963 : (Jvm.Cond.selects "ReversalCourt$Reader$3" ({ cls := "ReversalCourt$Formula", name := "quantifiers", desc := "()I" } : Jvm.MethodName) ({ cls := "ReversalCourt$Reader$3", name := "quantifiers", desc := "()I" } : Jvm.MethodName)) ∈ lw_all := lw_g (lw_at lw_m4 191 rfl) rfl
theorem q979 : (Jvm.Cond.instanceMethod ({ cls := "ReversalCourt$Reader$3", name := "isSo", desc := "(I[I)Z" } : Jvm.MethodName)) ∈ lw_all := lw_g (lw_at lw_m4 207 rfl) rfl
theorem q980 : (Jvm.Cond.code ({ cls := "ReversalCourt$Reader$3", name := "isSo", desc := "(I[I)Z" } : Jvm.MethodName) prog_13_method_3_code (3 : Nat) (Option.some Jvm.ClassFile.FieldType.boolean)) ∈ lw_all := lw_g (lw_at lw_m4 208 rfl) rfl
theorem q981 : (Jvm.Cond.methodLink "ReversalCourt$Reader$3" (26 : Nat) ({ cls := "ReversalCourt$Formula", name := "isSo", desc := "(I[I)Z" } : Jvm.MethodName)) ∈ lw_all := lw_g (lw_at lw_m4 209 rfl) rfl
theorem q985 : (Jvm.Cond.selects "ReversalCourt$Reader$3" ({ cls := "ReversalCourt$Formula", name := "isSo", desc := "(I[I)Z" } : Jvm.MethodName) ({ cls := "ReversalCourt$Reader$3", name := "isSo", desc := "(I[I)Z" } : Jvm.MethodName)) ∈ lw_all := lw_g (lw_at lw_m4 213 rfl) rfl
theorem q1044 : (Jvm.Cond.selects "ReversalCourt$Reader$3" ({ cls := "java/lang/Object", name := "getClass", desc := "()Ljava/lang/Class;" } : Jvm.MethodName) ({ cls := "java/lang/Object", name := "getClass", desc := "()Ljava/lang/Class;" } : Jvm.MethodName)) ∈ lw_all := lw_g (lw_at lw_m5 32 rfl) rfl
theorem q1836 : (Jvm.Cond.castable "ReversalCourt$Reader$3" "java/lang/Object") ∈ lw_tbl := lw_at lw_m8 104 rfl
theorem in_X7 : ∀ w ∈ wsX70, w ∈ lw_all := lw_in wsX70 [635, 636, 629, 631, 633] (by decide +kernel) (by decide +kernel)
/-! ReversalCourt$Either -/
set_option maxRecDepth 100000
def RX8 : String := "ReversalCourt$Either"
def TX8 : u_T := fun k => match k with
  | 0 => ("ReversalCourt$Node", "one", "LReversalCourt$Formula;", true)
  | _ => ("ReversalCourt$Node", "other", "LReversalCourt$Formula;", true)
def tyX8 : Nat → FieldType := fun k => match k with
  | 0 => .object "ReversalCourt$Formula"
  | _ => .object "ReversalCourt$Formula"
abbrev wsX80 : List Cond := u_ws RX8 TX8 2
theorem nmX8 : ∀ a, a < 2 → ∀ b, b < 2 → a ≠ b → (TX8 a).2.1 ≠ (TX8 b).2.1 := by decide +kernel
theorem tyX8_ok : ∀ k, k < 2 → parseFieldDescriptor (TX8 k).2.2.1 = some (tyX8 k) := by decide +kernel
abbrev cX8_init : ByteArray := prog_3_method_1_code
def yX8_init : MethodName := ⟨RX8, "<init>", "(LReversalCourt$Formula;LReversalCourt$Formula;)V"⟩
def dkwX8_init_0 : List UInt8 := [42, 43, 44, 183, 0, 1, 177]
abbrev dktX8_init_0 : List UInt8 := dkwX8_init_0 ++ []
theorem dksX8_init_0 : cX8_init.data.toList.drop 0 = dktX8_init_0 := by decide +kernel
theorem dX8_init_0 : decode cX8_init 0 = .ok (.aload_n 0, 1) := dk_42 (dk_at dksX8_init_0 0 rfl rfl)
theorem dX8_init_1 : decode cX8_init 1 = .ok (.aload_n 1, 1) := dk_43 (dk_at dksX8_init_0 1 rfl rfl)
theorem dX8_init_2 : decode cX8_init 2 = .ok (.aload_n 2, 1) := dk_44 (dk_at dksX8_init_0 2 rfl rfl)
theorem dX8_init_3 : decode cX8_init 3 = .ok (.invokespecial 1, 3) := dk_183 0 1 (dk_at dksX8_init_0 3 rfl rfl)
theorem dX8_init_6 : decode cX8_init 6 = .ok (.return_, 1) := dk_177 (dk_at dksX8_init_0 6 rfl rfl)
abbrev cX8_quantifiers : ByteArray := prog_3_method_2_code
def yX8_quantifiers : MethodName := ⟨RX8, "quantifiers", "()I"⟩
def dkwX8_quantifiers_0 : List UInt8 := [42, 180, 0, 7, 182, 0, 13, 42, 180, 0, 19, 182, 0, 13, 96, 172]
abbrev dktX8_quantifiers_0 : List UInt8 := dkwX8_quantifiers_0 ++ []
theorem dksX8_quantifiers_0 : cX8_quantifiers.data.toList.drop 0 = dktX8_quantifiers_0 := by decide +kernel
theorem dX8_quantifiers_0 : decode cX8_quantifiers 0 = .ok (.aload_n 0, 1) := dk_42 (dk_at dksX8_quantifiers_0 0 rfl rfl)
theorem dX8_quantifiers_1 : decode cX8_quantifiers 1 = .ok (.getfield 7, 3) := dk_180 0 7 (dk_at dksX8_quantifiers_0 1 rfl rfl)
theorem dX8_quantifiers_4 : decode cX8_quantifiers 4 = .ok (.invokevirtual 13, 3) := dk_182 0 13 (dk_at dksX8_quantifiers_0 4 rfl rfl)
theorem dX8_quantifiers_7 : decode cX8_quantifiers 7 = .ok (.aload_n 0, 1) := dk_42 (dk_at dksX8_quantifiers_0 7 rfl rfl)
theorem dX8_quantifiers_8 : decode cX8_quantifiers 8 = .ok (.getfield 19, 3) := dk_180 0 19 (dk_at dksX8_quantifiers_0 8 rfl rfl)
theorem dX8_quantifiers_11 : decode cX8_quantifiers 11 = .ok (.invokevirtual 13, 3) := dk_182 0 13 (dk_at dksX8_quantifiers_0 11 rfl rfl)
theorem dX8_quantifiers_14 : decode cX8_quantifiers 14 = .ok (.iadd, 1) := dk_96 (dk_at dksX8_quantifiers_0 14 rfl rfl)
theorem dX8_quantifiers_15 : decode cX8_quantifiers 15 = .ok (.ireturn, 1) := dk_172 (dk_at dksX8_quantifiers_0 15 rfl rfl)
abbrev cX8_isSo : ByteArray := prog_3_method_3_code
def yX8_isSo : MethodName := ⟨RX8, "isSo", "(I[I)Z"⟩
def dkwX8_isSo_1 : List UInt8 := [4, 167, 0, 4, 3, 172]
abbrev dktX8_isSo_1 : List UInt8 := dkwX8_isSo_1 ++ []
def dkwX8_isSo_0 : List UInt8 := [42, 180, 0, 7, 27, 44, 182, 0, 22, 154, 0, 15, 42, 180, 0, 19, 27, 44, 182, 0, 22, 153, 0, 7]
abbrev dktX8_isSo_0 : List UInt8 := dkwX8_isSo_0 ++ dktX8_isSo_1
theorem dksX8_isSo_0 : cX8_isSo.data.toList.drop 0 = dktX8_isSo_0 := by decide +kernel
theorem dksX8_isSo_1 : cX8_isSo.data.toList.drop 24 = dktX8_isSo_1 := dk_seg dksX8_isSo_0 24 rfl rfl
theorem dX8_isSo_0 : decode cX8_isSo 0 = .ok (.aload_n 0, 1) := dk_42 (dk_at dksX8_isSo_0 0 rfl rfl)
theorem dX8_isSo_1 : decode cX8_isSo 1 = .ok (.getfield 7, 3) := dk_180 0 7 (dk_at dksX8_isSo_0 1 rfl rfl)
theorem dX8_isSo_4 : decode cX8_isSo 4 = .ok (.iload_n 1, 1) := dk_27 (dk_at dksX8_isSo_0 4 rfl rfl)
theorem dX8_isSo_5 : decode cX8_isSo 5 = .ok (.aload_n 2, 1) := dk_44 (dk_at dksX8_isSo_0 5 rfl rfl)
theorem dX8_isSo_6 : decode cX8_isSo 6 = .ok (.invokevirtual 22, 3) := dk_182 0 22 (dk_at dksX8_isSo_0 6 rfl rfl)
theorem dX8_isSo_9 : decode cX8_isSo 9 = .ok (.ifCond .ne 15, 3) := dk_154 0 15 (dk_at dksX8_isSo_0 9 rfl rfl)
theorem dX8_isSo_12 : decode cX8_isSo 12 = .ok (.aload_n 0, 1) := dk_42 (dk_at dksX8_isSo_0 12 rfl rfl)
theorem dX8_isSo_13 : decode cX8_isSo 13 = .ok (.getfield 19, 3) := dk_180 0 19 (dk_at dksX8_isSo_0 13 rfl rfl)
theorem dX8_isSo_16 : decode cX8_isSo 16 = .ok (.iload_n 1, 1) := dk_27 (dk_at dksX8_isSo_0 16 rfl rfl)
theorem dX8_isSo_17 : decode cX8_isSo 17 = .ok (.aload_n 2, 1) := dk_44 (dk_at dksX8_isSo_0 17 rfl rfl)
theorem dX8_isSo_18 : decode cX8_isSo 18 = .ok (.invokevirtual 22, 3) := dk_182 0 22 (dk_at dksX8_isSo_0 18 rfl rfl)
theorem dX8_isSo_21 : decode cX8_isSo 21 = .ok (.ifCond .eq 7, 3) := dk_153 0 7 (dk_at dksX8_isSo_0 21 rfl rfl)
theorem dX8_isSo_24 : decode cX8_isSo 24 = .ok (.iconst 1, 1) := dk_4 (dk_at dksX8_isSo_1 0 rfl rfl)
theorem dX8_isSo_25 : decode cX8_isSo 25 = .ok (.goto 4, 3) := dk_167 0 4 (dk_at dksX8_isSo_1 1 rfl rfl)
theorem dX8_isSo_28 : decode cX8_isSo 28 = .ok (.iconst 0, 1) := dk_3 (dk_at dksX8_isSo_1 4 rfl rfl)
theorem dX8_isSo_29 : decode cX8_isSo 29 = .ok (.ireturn, 1) := dk_172 (dk_at dksX8_isSo_1 5 rfl rfl)
theorem q84 : (Jvm.Cond.initialized "ReversalCourt$Either") ∈ lw_all := lw_g (lw_at lw_m1 32 rfl) rfl
theorem q592 : (Jvm.Cond.fieldLink "ReversalCourt$Either" (7 : Nat) "ReversalCourt$Either" "one" "LReversalCourt$Formula;") ∈ lw_all := lw_g (lw_at lw_m3 60 rfl) rfl
theorem q593 : (Jvm.Cond.sameField "ReversalCourt$Either" "ReversalCourt$Node" "one" "LReversalCourt$Formula;") ∈ lw_all := lw_g (lw_at lw_m3 61 rfl) rfl
theorem q597 : (Jvm.Cond.fieldLink "ReversalCourt$Either" (19 : Nat) "ReversalCourt$Either" "other" "LReversalCourt$Formula;") ∈ lw_all := lw_g (lw_at lw_m3 65 rfl) rfl
theorem q598 : (Jvm.Cond.sameField "ReversalCourt$Either" "ReversalCourt$Node" "other" "LReversalCourt$Formula;") ∈ lw_all := lw_g (lw_at lw_m3 66 rfl) rfl
theorem q639 : (Jvm.Cond.instantiable "ReversalCourt$Either" (2 : Nat)) ∈ lw_all := lw_g (lw_at lw_m3 107 rfl) rfl
theorem q641 : (Jvm.Cond.instanceMethod ({ cls := "ReversalCourt$Either", name := "<init>", desc := "(LReversalCourt$Formula;LReversalCourt$Formula;)V" } : Jvm.MethodName)) ∈ lw_all := lw_g (lw_at lw_m3 109 rfl) rfl
theorem q642 : (Jvm.Cond.code ({ cls := "ReversalCourt$Either", name := "<init>", desc := "(LReversalCourt$Formula;LReversalCourt$Formula;)V" } : Jvm.MethodName) prog_3_method_1_code (3 : Nat) (Option.none : Option Jvm.ClassFile.FieldType)) ∈ lw_all := lw_g (lw_at lw_m3 110 rfl) rfl
theorem q643 : (Jvm.Cond.methodLink "ReversalCourt$Either" (1 : Nat) ({ cls := "ReversalCourt$Node", name := "<init>", desc := "(LReversalCourt$Formula;LReversalCourt$Formula;)V" } : Jvm.MethodName)) ∈ lw_all := lw_g (lw_at lw_m3 111 rfl) rfl
theorem q644 : (Jvm.Cond.laysFinal "ReversalCourt$Either" "ReversalCourt$Node" "one" "LReversalCourt$Formula;") ∈ lw_all := lw_g (lw_at lw_m3 112 rfl) rfl
theorem q645 : (Jvm.Cond.laysFinal "ReversalCourt$Either" "ReversalCourt$Node" "other" "LReversalCourt$Formula;") ∈ lw_all := lw_g (lw_at lw_m3 113 rfl) rfl
theorem q646 : (Jvm.Cond.superclass "ReversalCourt$Either" "ReversalCourt$Node") ∈ lw_all := lw_g (lw_at lw_m3 114 rfl) rfl
theorem q758 : (Jvm.Cond.selects "ReversalCourt$Either" ({ cls := "ReversalCourt$Formula", name := "sigma", desc := "()I" } : Jvm.MethodName) ({ cls := "ReversalCourt$Node", name := "sigma", desc := "()I" } : Jvm.MethodName)) ∈ lw_all := lw_g (lw_at lw_m3 226 rfl) rfl
theorem q772 : (Jvm.Cond.selects "ReversalCourt$Either" ({ cls := "ReversalCourt$Formula", name := "pi", desc := "()I" } : Jvm.MethodName) ({ cls := "ReversalCourt$Node", name := "pi", desc := "()I" } : Jvm.MethodName)) ∈ lw_all := lw_g (lw_at lw_m4 0 rfl) rfl
theorem q813 : (Jvm.Cond.selects "ReversalCourt$Either" ({ cls := "ReversalCourt$Formula", name := "free", desc := "()I" } : Jvm.MethodName) ({ cls := "ReversalCourt$Node", name := "free", desc := "()I" } : Jvm.MethodName)) ∈ lw_all := lw_g (lw_at lw_m4 41 rfl) rfl
theorem q945 : (Jvm.Cond.selects "ReversalCourt$Either" ({ cls := "ReversalCourt$Formula", name := "quantifiers", desc := "()I" } : Jvm.MethodName) ({ cls := "ReversalCourt$Either", name := "quantifiers", desc := "()I" } : Jvm.MethodName)) ∈ lw_all := lw_g (lw_at lw_m4 173 rfl) rfl
theorem q946 : (Jvm.Cond.instanceMethod ({ cls := "ReversalCourt$Either", name := "quantifiers", desc := "()I" } : Jvm.MethodName)) ∈ lw_all := lw_g (lw_at lw_m4 174 rfl) rfl
theorem q947 : (Jvm.Cond.code ({ cls := "ReversalCourt$Either", name := "quantifiers", desc := "()I" } : Jvm.MethodName) prog_3_method_2_code (1 : Nat) (Option.some Jvm.ClassFile.FieldType.int)) ∈ lw_all := lw_g (lw_at lw_m4 175 rfl) rfl
theorem q948 : (Jvm.Cond.methodLink "ReversalCourt$Either" (13 : Nat) ({ cls := "ReversalCourt$Formula", name := "quantifiers", desc := "()I" } : Jvm.MethodName)) ∈ lw_all := lw_g (lw_at lw_m4 176 rfl) rfl
theorem q967 : (Jvm.Cond.selects "ReversalCourt$Either" ({ cls := "ReversalCourt$Formula", name := "isSo", desc := "(I[I)Z" } : Jvm.MethodName) ({ cls := "ReversalCourt$Either", name := "isSo", desc := "(I[I)Z" } : Jvm.MethodName)) ∈ lw_all := lw_g (lw_at lw_m4 195 rfl) rfl
theorem q968 : (Jvm.Cond.instanceMethod ({ cls := "ReversalCourt$Either", name := "isSo", desc := "(I[I)Z" } : Jvm.MethodName)) ∈ lw_all := lw_g (lw_at lw_m4 196 rfl) rfl
theorem q969 : (Jvm.Cond.code ({ cls := "ReversalCourt$Either", name := "isSo", desc := "(I[I)Z" } : Jvm.MethodName) prog_3_method_3_code (3 : Nat) (Option.some Jvm.ClassFile.FieldType.boolean)) ∈ lw_all := lw_g (lw_at lw_m4 197 rfl) rfl
theorem q970 : (Jvm.Cond.methodLink "ReversalCourt$Either" (22 : Nat) ({ cls := "ReversalCourt$Formula", name := "isSo", desc := "(I[I)Z" } : Jvm.MethodName)) ∈ lw_all := lw_g (lw_at lw_m4 198 rfl) rfl
theorem q1036 : (Jvm.Cond.selects "ReversalCourt$Either" ({ cls := "java/lang/Object", name := "getClass", desc := "()Ljava/lang/Class;" } : Jvm.MethodName) ({ cls := "java/lang/Object", name := "getClass", desc := "()Ljava/lang/Class;" } : Jvm.MethodName)) ∈ lw_all := lw_g (lw_at lw_m5 24 rfl) rfl
theorem q1837 : (Jvm.Cond.castable "ReversalCourt$Either" "java/lang/Object") ∈ lw_tbl := lw_at lw_m8 105 rfl
theorem in_X8 : ∀ w ∈ wsX80, w ∈ lw_all := lw_in wsX80 [644, 645] (by decide +kernel) (by decide +kernel)
/-! ReversalCourt$Quantified -/
set_option maxRecDepth 100000
def RX9 : String := "ReversalCourt$Quantified"
def TX9 : u_T := fun k => match k with
  | 0 => ("ReversalCourt$Node", "one", "LReversalCourt$Formula;", true)
  | 1 => ("ReversalCourt$Node", "other", "LReversalCourt$Formula;", true)
  | 2 => ("ReversalCourt$Quantified", "forAll", "Z", true)
  | 3 => ("ReversalCourt$Quantified", "variable", "I", true)
  | _ => ("ReversalCourt$Quantified", "below", "I", true)
def tyX9 : Nat → FieldType := fun k => match k with
  | 0 => .object "ReversalCourt$Formula"
  | 1 => .object "ReversalCourt$Formula"
  | 2 => .boolean
  | 3 => .int
  | _ => .int
abbrev wsX90 : List Cond := u_ws RX9 TX9 5
theorem nmX9 : ∀ a, a < 5 → ∀ b, b < 5 → a ≠ b → (TX9 a).2.1 ≠ (TX9 b).2.1 := by decide +kernel
theorem tyX9_ok : ∀ k, k < 5 → parseFieldDescriptor (TX9 k).2.2.1 = some (tyX9 k) := by decide +kernel
abbrev cX9_init : ByteArray := prog_9_method_1_code
def yX9_init : MethodName := ⟨RX9, "<init>", "(LReversalCourt$Formula;ZII)V"⟩
def dkwX9_init_0 : List UInt8 := [42, 43, 43, 183, 0, 3, 42, 28, 181, 0, 9, 42, 29, 181, 0, 15, 42, 21, 4, 181, 0, 19, 177]
abbrev dktX9_init_0 : List UInt8 := dkwX9_init_0 ++ []
theorem dksX9_init_0 : cX9_init.data.toList.drop 0 = dktX9_init_0 := by decide +kernel
theorem dX9_init_0 : decode cX9_init 0 = .ok (.aload_n 0, 1) := dk_42 (dk_at dksX9_init_0 0 rfl rfl)
theorem dX9_init_1 : decode cX9_init 1 = .ok (.aload_n 1, 1) := dk_43 (dk_at dksX9_init_0 1 rfl rfl)
theorem dX9_init_2 : decode cX9_init 2 = .ok (.aload_n 1, 1) := dk_43 (dk_at dksX9_init_0 2 rfl rfl)
theorem dX9_init_3 : decode cX9_init 3 = .ok (.invokespecial 3, 3) := dk_183 0 3 (dk_at dksX9_init_0 3 rfl rfl)
theorem dX9_init_6 : decode cX9_init 6 = .ok (.aload_n 0, 1) := dk_42 (dk_at dksX9_init_0 6 rfl rfl)
theorem dX9_init_7 : decode cX9_init 7 = .ok (.iload_n 2, 1) := dk_28 (dk_at dksX9_init_0 7 rfl rfl)
theorem dX9_init_8 : decode cX9_init 8 = .ok (.putfield 9, 3) := dk_181 0 9 (dk_at dksX9_init_0 8 rfl rfl)
theorem dX9_init_11 : decode cX9_init 11 = .ok (.aload_n 0, 1) := dk_42 (dk_at dksX9_init_0 11 rfl rfl)
theorem dX9_init_12 : decode cX9_init 12 = .ok (.iload_n 3, 1) := dk_29 (dk_at dksX9_init_0 12 rfl rfl)
theorem dX9_init_13 : decode cX9_init 13 = .ok (.putfield 15, 3) := dk_181 0 15 (dk_at dksX9_init_0 13 rfl rfl)
theorem dX9_init_16 : decode cX9_init 16 = .ok (.aload_n 0, 1) := dk_42 (dk_at dksX9_init_0 16 rfl rfl)
theorem dX9_init_17 : decode cX9_init 17 = .ok (.iload 4, 2) := dk_21 4 (dk_at dksX9_init_0 17 rfl rfl)
theorem dX9_init_19 : decode cX9_init 19 = .ok (.putfield 19, 3) := dk_181 0 19 (dk_at dksX9_init_0 19 rfl rfl)
theorem dX9_init_22 : decode cX9_init 22 = .ok (.return_, 1) := dk_177 (dk_at dksX9_init_0 22 rfl rfl)
abbrev cX9_sigma : ByteArray := prog_9_method_3_code
def yX9_sigma : MethodName := ⟨RX9, "sigma", "()I"⟩
def dkwX9_sigma_2 : List UInt8 := [182, 0, 45, 172]
abbrev dktX9_sigma_2 : List UInt8 := dkwX9_sigma_2 ++ []
def dkwX9_sigma_1 : List UInt8 := [182, 0, 41, 4, 96, 167, 0, 21, 42, 42, 180, 0, 31, 182, 0, 35, 42, 180, 0, 31, 182, 0, 44]
abbrev dktX9_sigma_1 : List UInt8 := dkwX9_sigma_1 ++ dktX9_sigma_2
def dkwX9_sigma_0 : List UInt8 := [42, 180, 0, 19, 2, 159, 0, 11, 42, 180, 0, 31, 182, 0, 35, 172, 42, 180, 0, 9, 153, 0, 12, 42]
abbrev dktX9_sigma_0 : List UInt8 := dkwX9_sigma_0 ++ dktX9_sigma_1
theorem dksX9_sigma_0 : cX9_sigma.data.toList.drop 0 = dktX9_sigma_0 := by decide +kernel
theorem dksX9_sigma_1 : cX9_sigma.data.toList.drop 24 = dktX9_sigma_1 := dk_seg dksX9_sigma_0 24 rfl rfl
theorem dksX9_sigma_2 : cX9_sigma.data.toList.drop 47 = dktX9_sigma_2 := dk_seg dksX9_sigma_1 23 rfl rfl
theorem dX9_sigma_0 : decode cX9_sigma 0 = .ok (.aload_n 0, 1) := dk_42 (dk_at dksX9_sigma_0 0 rfl rfl)
theorem dX9_sigma_1 : decode cX9_sigma 1 = .ok (.getfield 19, 3) := dk_180 0 19 (dk_at dksX9_sigma_0 1 rfl rfl)
theorem dX9_sigma_4 : decode cX9_sigma 4 = .ok (.iconst (-1), 1) := dk_2 (dk_at dksX9_sigma_0 4 rfl rfl)
theorem dX9_sigma_5 : decode cX9_sigma 5 = .ok (.if_icmp .eq 11, 3) := dk_159 0 11 (dk_at dksX9_sigma_0 5 rfl rfl)
theorem dX9_sigma_8 : decode cX9_sigma 8 = .ok (.aload_n 0, 1) := dk_42 (dk_at dksX9_sigma_0 8 rfl rfl)
theorem dX9_sigma_9 : decode cX9_sigma 9 = .ok (.getfield 31, 3) := dk_180 0 31 (dk_at dksX9_sigma_0 9 rfl rfl)
theorem dX9_sigma_12 : decode cX9_sigma 12 = .ok (.invokevirtual 35, 3) := dk_182 0 35 (dk_at dksX9_sigma_0 12 rfl rfl)
theorem dX9_sigma_15 : decode cX9_sigma 15 = .ok (.ireturn, 1) := dk_172 (dk_at dksX9_sigma_0 15 rfl rfl)
theorem dX9_sigma_16 : decode cX9_sigma 16 = .ok (.aload_n 0, 1) := dk_42 (dk_at dksX9_sigma_0 16 rfl rfl)
theorem dX9_sigma_17 : decode cX9_sigma 17 = .ok (.getfield 9, 3) := dk_180 0 9 (dk_at dksX9_sigma_0 17 rfl rfl)
theorem dX9_sigma_20 : decode cX9_sigma 20 = .ok (.ifCond .eq 12, 3) := dk_153 0 12 (dk_at dksX9_sigma_0 20 rfl rfl)
theorem dX9_sigma_23 : decode cX9_sigma 23 = .ok (.aload_n 0, 1) := dk_42 (dk_at dksX9_sigma_0 23 rfl rfl)
theorem dX9_sigma_24 : decode cX9_sigma 24 = .ok (.invokevirtual 41, 3) := dk_182 0 41 (dk_at dksX9_sigma_1 0 rfl rfl)
theorem dX9_sigma_27 : decode cX9_sigma 27 = .ok (.iconst 1, 1) := dk_4 (dk_at dksX9_sigma_1 3 rfl rfl)
theorem dX9_sigma_28 : decode cX9_sigma 28 = .ok (.iadd, 1) := dk_96 (dk_at dksX9_sigma_1 4 rfl rfl)
theorem dX9_sigma_29 : decode cX9_sigma 29 = .ok (.goto 21, 3) := dk_167 0 21 (dk_at dksX9_sigma_1 5 rfl rfl)
theorem dX9_sigma_32 : decode cX9_sigma 32 = .ok (.aload_n 0, 1) := dk_42 (dk_at dksX9_sigma_1 8 rfl rfl)
theorem dX9_sigma_33 : decode cX9_sigma 33 = .ok (.aload_n 0, 1) := dk_42 (dk_at dksX9_sigma_1 9 rfl rfl)
theorem dX9_sigma_34 : decode cX9_sigma 34 = .ok (.getfield 31, 3) := dk_180 0 31 (dk_at dksX9_sigma_1 10 rfl rfl)
theorem dX9_sigma_37 : decode cX9_sigma 37 = .ok (.invokevirtual 35, 3) := dk_182 0 35 (dk_at dksX9_sigma_1 13 rfl rfl)
theorem dX9_sigma_40 : decode cX9_sigma 40 = .ok (.aload_n 0, 1) := dk_42 (dk_at dksX9_sigma_1 16 rfl rfl)
theorem dX9_sigma_41 : decode cX9_sigma 41 = .ok (.getfield 31, 3) := dk_180 0 31 (dk_at dksX9_sigma_1 17 rfl rfl)
theorem dX9_sigma_44 : decode cX9_sigma 44 = .ok (.invokevirtual 44, 3) := dk_182 0 44 (dk_at dksX9_sigma_1 20 rfl rfl)
theorem dX9_sigma_47 : decode cX9_sigma 47 = .ok (.invokevirtual 45, 3) := dk_182 0 45 (dk_at dksX9_sigma_2 0 rfl rfl)
theorem dX9_sigma_50 : decode cX9_sigma 50 = .ok (.ireturn, 1) := dk_172 (dk_at dksX9_sigma_2 3 rfl rfl)
abbrev cX9_pi : ByteArray := prog_9_method_4_code
def yX9_pi : MethodName := ⟨RX9, "pi", "()I"⟩
def dkwX9_pi_2 : List UInt8 := [4, 96, 172]
abbrev dktX9_pi_2 : List UInt8 := dkwX9_pi_2 ++ []
def dkwX9_pi_1 : List UInt8 := [42, 180, 0, 31, 182, 0, 44, 42, 180, 0, 31, 182, 0, 35, 182, 0, 45, 167, 0, 9, 42, 182, 0, 48]
abbrev dktX9_pi_1 : List UInt8 := dkwX9_pi_1 ++ dktX9_pi_2
def dkwX9_pi_0 : List UInt8 := [42, 180, 0, 19, 2, 159, 0, 11, 42, 180, 0, 31, 182, 0, 44, 172, 42, 180, 0, 9, 153, 0, 24, 42]
abbrev dktX9_pi_0 : List UInt8 := dkwX9_pi_0 ++ dktX9_pi_1
theorem dksX9_pi_0 : cX9_pi.data.toList.drop 0 = dktX9_pi_0 := by decide +kernel
theorem dksX9_pi_1 : cX9_pi.data.toList.drop 24 = dktX9_pi_1 := dk_seg dksX9_pi_0 24 rfl rfl
theorem dksX9_pi_2 : cX9_pi.data.toList.drop 48 = dktX9_pi_2 := dk_seg dksX9_pi_1 24 rfl rfl
theorem dX9_pi_0 : decode cX9_pi 0 = .ok (.aload_n 0, 1) := dk_42 (dk_at dksX9_pi_0 0 rfl rfl)
theorem dX9_pi_1 : decode cX9_pi 1 = .ok (.getfield 19, 3) := dk_180 0 19 (dk_at dksX9_pi_0 1 rfl rfl)
theorem dX9_pi_4 : decode cX9_pi 4 = .ok (.iconst (-1), 1) := dk_2 (dk_at dksX9_pi_0 4 rfl rfl)
theorem dX9_pi_5 : decode cX9_pi 5 = .ok (.if_icmp .eq 11, 3) := dk_159 0 11 (dk_at dksX9_pi_0 5 rfl rfl)
theorem dX9_pi_8 : decode cX9_pi 8 = .ok (.aload_n 0, 1) := dk_42 (dk_at dksX9_pi_0 8 rfl rfl)
theorem dX9_pi_9 : decode cX9_pi 9 = .ok (.getfield 31, 3) := dk_180 0 31 (dk_at dksX9_pi_0 9 rfl rfl)
theorem dX9_pi_12 : decode cX9_pi 12 = .ok (.invokevirtual 44, 3) := dk_182 0 44 (dk_at dksX9_pi_0 12 rfl rfl)
theorem dX9_pi_15 : decode cX9_pi 15 = .ok (.ireturn, 1) := dk_172 (dk_at dksX9_pi_0 15 rfl rfl)
theorem dX9_pi_16 : decode cX9_pi 16 = .ok (.aload_n 0, 1) := dk_42 (dk_at dksX9_pi_0 16 rfl rfl)
theorem dX9_pi_17 : decode cX9_pi 17 = .ok (.getfield 9, 3) := dk_180 0 9 (dk_at dksX9_pi_0 17 rfl rfl)
theorem dX9_pi_20 : decode cX9_pi 20 = .ok (.ifCond .eq 24, 3) := dk_153 0 24 (dk_at dksX9_pi_0 20 rfl rfl)
theorem dX9_pi_23 : decode cX9_pi 23 = .ok (.aload_n 0, 1) := dk_42 (dk_at dksX9_pi_0 23 rfl rfl)
theorem dX9_pi_24 : decode cX9_pi 24 = .ok (.aload_n 0, 1) := dk_42 (dk_at dksX9_pi_1 0 rfl rfl)
theorem dX9_pi_25 : decode cX9_pi 25 = .ok (.getfield 31, 3) := dk_180 0 31 (dk_at dksX9_pi_1 1 rfl rfl)
theorem dX9_pi_28 : decode cX9_pi 28 = .ok (.invokevirtual 44, 3) := dk_182 0 44 (dk_at dksX9_pi_1 4 rfl rfl)
theorem dX9_pi_31 : decode cX9_pi 31 = .ok (.aload_n 0, 1) := dk_42 (dk_at dksX9_pi_1 7 rfl rfl)
theorem dX9_pi_32 : decode cX9_pi 32 = .ok (.getfield 31, 3) := dk_180 0 31 (dk_at dksX9_pi_1 8 rfl rfl)
theorem dX9_pi_35 : decode cX9_pi 35 = .ok (.invokevirtual 35, 3) := dk_182 0 35 (dk_at dksX9_pi_1 11 rfl rfl)
theorem dX9_pi_38 : decode cX9_pi 38 = .ok (.invokevirtual 45, 3) := dk_182 0 45 (dk_at dksX9_pi_1 14 rfl rfl)
theorem dX9_pi_41 : decode cX9_pi 41 = .ok (.goto 9, 3) := dk_167 0 9 (dk_at dksX9_pi_1 17 rfl rfl)
theorem dX9_pi_44 : decode cX9_pi 44 = .ok (.aload_n 0, 1) := dk_42 (dk_at dksX9_pi_1 20 rfl rfl)
theorem dX9_pi_45 : decode cX9_pi 45 = .ok (.invokevirtual 48, 3) := dk_182 0 48 (dk_at dksX9_pi_1 21 rfl rfl)
theorem dX9_pi_48 : decode cX9_pi 48 = .ok (.iconst 1, 1) := dk_4 (dk_at dksX9_pi_2 0 rfl rfl)
theorem dX9_pi_49 : decode cX9_pi 49 = .ok (.iadd, 1) := dk_96 (dk_at dksX9_pi_2 1 rfl rfl)
theorem dX9_pi_50 : decode cX9_pi 50 = .ok (.ireturn, 1) := dk_172 (dk_at dksX9_pi_2 2 rfl rfl)
abbrev cX9_next : ByteArray := prog_9_method_2_code
def yX9_next : MethodName := ⟨RX9, "next", "(II)I"⟩
def dkwX9_next_0 : List UInt8 := [27, 4, 184, 0, 22, 28, 4, 96, 184, 0, 28, 172]
abbrev dktX9_next_0 : List UInt8 := dkwX9_next_0 ++ []
theorem dksX9_next_0 : cX9_next.data.toList.drop 0 = dktX9_next_0 := by decide +kernel
theorem dX9_next_0 : decode cX9_next 0 = .ok (.iload_n 1, 1) := dk_27 (dk_at dksX9_next_0 0 rfl rfl)
theorem dX9_next_1 : decode cX9_next 1 = .ok (.iconst 1, 1) := dk_4 (dk_at dksX9_next_0 1 rfl rfl)
theorem dX9_next_2 : decode cX9_next 2 = .ok (.invokestatic 22, 3) := dk_184 0 22 (dk_at dksX9_next_0 2 rfl rfl)
theorem dX9_next_5 : decode cX9_next 5 = .ok (.iload_n 2, 1) := dk_28 (dk_at dksX9_next_0 5 rfl rfl)
theorem dX9_next_6 : decode cX9_next 6 = .ok (.iconst 1, 1) := dk_4 (dk_at dksX9_next_0 6 rfl rfl)
theorem dX9_next_7 : decode cX9_next 7 = .ok (.iadd, 1) := dk_96 (dk_at dksX9_next_0 7 rfl rfl)
theorem dX9_next_8 : decode cX9_next 8 = .ok (.invokestatic 28, 3) := dk_184 0 28 (dk_at dksX9_next_0 8 rfl rfl)
theorem dX9_next_11 : decode cX9_next 11 = .ok (.ireturn, 1) := dk_172 (dk_at dksX9_next_0 11 rfl rfl)
abbrev cX9_free : ByteArray := prog_9_method_5_code
def yX9_free : MethodName := ⟨RX9, "free", "()I"⟩
def dkwX9_free_1 : List UInt8 := [3, 167, 0, 9, 4, 42, 180, 0, 19, 120, 128, 172]
abbrev dktX9_free_1 : List UInt8 := dkwX9_free_1 ++ []
def dkwX9_free_0 : List UInt8 := [42, 180, 0, 31, 182, 0, 49, 4, 42, 180, 0, 15, 120, 2, 130, 126, 42, 180, 0, 19, 2, 160, 0, 7]
abbrev dktX9_free_0 : List UInt8 := dkwX9_free_0 ++ dktX9_free_1
theorem dksX9_free_0 : cX9_free.data.toList.drop 0 = dktX9_free_0 := by decide +kernel
theorem dksX9_free_1 : cX9_free.data.toList.drop 24 = dktX9_free_1 := dk_seg dksX9_free_0 24 rfl rfl
theorem dX9_free_0 : decode cX9_free 0 = .ok (.aload_n 0, 1) := dk_42 (dk_at dksX9_free_0 0 rfl rfl)
theorem dX9_free_1 : decode cX9_free 1 = .ok (.getfield 31, 3) := dk_180 0 31 (dk_at dksX9_free_0 1 rfl rfl)
theorem dX9_free_4 : decode cX9_free 4 = .ok (.invokevirtual 49, 3) := dk_182 0 49 (dk_at dksX9_free_0 4 rfl rfl)
theorem dX9_free_7 : decode cX9_free 7 = .ok (.iconst 1, 1) := dk_4 (dk_at dksX9_free_0 7 rfl rfl)
theorem dX9_free_8 : decode cX9_free 8 = .ok (.aload_n 0, 1) := dk_42 (dk_at dksX9_free_0 8 rfl rfl)
theorem dX9_free_9 : decode cX9_free 9 = .ok (.getfield 15, 3) := dk_180 0 15 (dk_at dksX9_free_0 9 rfl rfl)
theorem dX9_free_12 : decode cX9_free 12 = .ok (.ishl, 1) := dk_120 (dk_at dksX9_free_0 12 rfl rfl)
theorem dX9_free_13 : decode cX9_free 13 = .ok (.iconst (-1), 1) := dk_2 (dk_at dksX9_free_0 13 rfl rfl)
theorem dX9_free_14 : decode cX9_free 14 = .ok (.ixor, 1) := dk_130 (dk_at dksX9_free_0 14 rfl rfl)
theorem dX9_free_15 : decode cX9_free 15 = .ok (.iand, 1) := dk_126 (dk_at dksX9_free_0 15 rfl rfl)
theorem dX9_free_16 : decode cX9_free 16 = .ok (.aload_n 0, 1) := dk_42 (dk_at dksX9_free_0 16 rfl rfl)
theorem dX9_free_17 : decode cX9_free 17 = .ok (.getfield 19, 3) := dk_180 0 19 (dk_at dksX9_free_0 17 rfl rfl)
theorem dX9_free_20 : decode cX9_free 20 = .ok (.iconst (-1), 1) := dk_2 (dk_at dksX9_free_0 20 rfl rfl)
theorem dX9_free_21 : decode cX9_free 21 = .ok (.if_icmp .ne 7, 3) := dk_160 0 7 (dk_at dksX9_free_0 21 rfl rfl)
theorem dX9_free_24 : decode cX9_free 24 = .ok (.iconst 0, 1) := dk_3 (dk_at dksX9_free_1 0 rfl rfl)
theorem dX9_free_25 : decode cX9_free 25 = .ok (.goto 9, 3) := dk_167 0 9 (dk_at dksX9_free_1 1 rfl rfl)
theorem dX9_free_28 : decode cX9_free 28 = .ok (.iconst 1, 1) := dk_4 (dk_at dksX9_free_1 4 rfl rfl)
theorem dX9_free_29 : decode cX9_free 29 = .ok (.aload_n 0, 1) := dk_42 (dk_at dksX9_free_1 5 rfl rfl)
theorem dX9_free_30 : decode cX9_free 30 = .ok (.getfield 19, 3) := dk_180 0 19 (dk_at dksX9_free_1 6 rfl rfl)
theorem dX9_free_33 : decode cX9_free 33 = .ok (.ishl, 1) := dk_120 (dk_at dksX9_free_1 9 rfl rfl)
theorem dX9_free_34 : decode cX9_free 34 = .ok (.ior, 1) := dk_128 (dk_at dksX9_free_1 10 rfl rfl)
theorem dX9_free_35 : decode cX9_free 35 = .ok (.ireturn, 1) := dk_172 (dk_at dksX9_free_1 11 rfl rfl)
abbrev cX9_quantifiers : ByteArray := prog_9_method_6_code
def yX9_quantifiers : MethodName := ⟨RX9, "quantifiers", "()I"⟩
def dkwX9_quantifiers_0 : List UInt8 := [4, 42, 180, 0, 31, 182, 0, 52, 96, 172]
abbrev dktX9_quantifiers_0 : List UInt8 := dkwX9_quantifiers_0 ++ []
theorem dksX9_quantifiers_0 : cX9_quantifiers.data.toList.drop 0 = dktX9_quantifiers_0 := by decide +kernel
theorem dX9_quantifiers_0 : decode cX9_quantifiers 0 = .ok (.iconst 1, 1) := dk_4 (dk_at dksX9_quantifiers_0 0 rfl rfl)
theorem dX9_quantifiers_1 : decode cX9_quantifiers 1 = .ok (.aload_n 0, 1) := dk_42 (dk_at dksX9_quantifiers_0 1 rfl rfl)
theorem dX9_quantifiers_2 : decode cX9_quantifiers 2 = .ok (.getfield 31, 3) := dk_180 0 31 (dk_at dksX9_quantifiers_0 2 rfl rfl)
theorem dX9_quantifiers_5 : decode cX9_quantifiers 5 = .ok (.invokevirtual 52, 3) := dk_182 0 52 (dk_at dksX9_quantifiers_0 5 rfl rfl)
theorem dX9_quantifiers_8 : decode cX9_quantifiers 8 = .ok (.iadd, 1) := dk_96 (dk_at dksX9_quantifiers_0 8 rfl rfl)
theorem dX9_quantifiers_9 : decode cX9_quantifiers 9 = .ok (.ireturn, 1) := dk_172 (dk_at dksX9_quantifiers_0 9 rfl rfl)
abbrev cX9_isSo : ByteArray := prog_9_method_7_code
def yX9_isSo : MethodName := ⟨RX9, "isSo", "(I[I)Z"⟩
def dkwX9_isSo_3 : List UInt8 := [54, 5, 132, 6, 1, 167, 255, 218, 44, 42, 180, 0, 15, 29, 79, 21, 5, 172]
abbrev dktX9_isSo_3 : List UInt8 := dkwX9_isSo_3 ++ []
def dkwX9_isSo_2 : List UInt8 := [180, 0, 9, 160, 0, 28, 44, 42, 180, 0, 15, 21, 6, 79, 42, 180, 0, 31, 27, 44, 182, 0, 55]
abbrev dktX9_isSo_2 : List UInt8 := dkwX9_isSo_2 ++ dktX9_isSo_3
def dkwX9_isSo_1 : List UInt8 := [46, 54, 4, 42, 180, 0, 9, 54, 5, 3, 54, 6, 21, 6, 21, 4, 162, 0, 37, 21, 5, 42]
abbrev dktX9_isSo_1 : List UInt8 := dkwX9_isSo_1 ++ dktX9_isSo_2
def dkwX9_isSo_0 : List UInt8 := [44, 42, 180, 0, 15, 46, 62, 42, 180, 0, 19, 2, 160, 0, 7, 27, 167, 0, 9, 44, 42, 180, 0, 19]
abbrev dktX9_isSo_0 : List UInt8 := dkwX9_isSo_0 ++ dktX9_isSo_1
theorem dksX9_isSo_0 : cX9_isSo.data.toList.drop 0 = dktX9_isSo_0 := by decide +kernel
theorem dksX9_isSo_1 : cX9_isSo.data.toList.drop 24 = dktX9_isSo_1 := dk_seg dksX9_isSo_0 24 rfl rfl
theorem dksX9_isSo_2 : cX9_isSo.data.toList.drop 46 = dktX9_isSo_2 := dk_seg dksX9_isSo_1 22 rfl rfl
theorem dksX9_isSo_3 : cX9_isSo.data.toList.drop 69 = dktX9_isSo_3 := dk_seg dksX9_isSo_2 23 rfl rfl
theorem dX9_isSo_0 : decode cX9_isSo 0 = .ok (.aload_n 2, 1) := dk_44 (dk_at dksX9_isSo_0 0 rfl rfl)
theorem dX9_isSo_1 : decode cX9_isSo 1 = .ok (.aload_n 0, 1) := dk_42 (dk_at dksX9_isSo_0 1 rfl rfl)
theorem dX9_isSo_2 : decode cX9_isSo 2 = .ok (.getfield 15, 3) := dk_180 0 15 (dk_at dksX9_isSo_0 2 rfl rfl)
theorem dX9_isSo_5 : decode cX9_isSo 5 = .ok (.iaload, 1) := dk_46 (dk_at dksX9_isSo_0 5 rfl rfl)
theorem dX9_isSo_6 : decode cX9_isSo 6 = .ok (.istore_n 3, 1) := dk_62 (dk_at dksX9_isSo_0 6 rfl rfl)
theorem dX9_isSo_7 : decode cX9_isSo 7 = .ok (.aload_n 0, 1) := dk_42 (dk_at dksX9_isSo_0 7 rfl rfl)
theorem dX9_isSo_8 : decode cX9_isSo 8 = .ok (.getfield 19, 3) := dk_180 0 19 (dk_at dksX9_isSo_0 8 rfl rfl)
theorem dX9_isSo_11 : decode cX9_isSo 11 = .ok (.iconst (-1), 1) := dk_2 (dk_at dksX9_isSo_0 11 rfl rfl)
theorem dX9_isSo_12 : decode cX9_isSo 12 = .ok (.if_icmp .ne 7, 3) := dk_160 0 7 (dk_at dksX9_isSo_0 12 rfl rfl)
theorem dX9_isSo_15 : decode cX9_isSo 15 = .ok (.iload_n 1, 1) := dk_27 (dk_at dksX9_isSo_0 15 rfl rfl)
theorem dX9_isSo_16 : decode cX9_isSo 16 = .ok (.goto 9, 3) := dk_167 0 9 (dk_at dksX9_isSo_0 16 rfl rfl)
theorem dX9_isSo_19 : decode cX9_isSo 19 = .ok (.aload_n 2, 1) := dk_44 (dk_at dksX9_isSo_0 19 rfl rfl)
theorem dX9_isSo_20 : decode cX9_isSo 20 = .ok (.aload_n 0, 1) := dk_42 (dk_at dksX9_isSo_0 20 rfl rfl)
theorem dX9_isSo_21 : decode cX9_isSo 21 = .ok (.getfield 19, 3) := dk_180 0 19 (dk_at dksX9_isSo_0 21 rfl rfl)
theorem dX9_isSo_24 : decode cX9_isSo 24 = .ok (.iaload, 1) := dk_46 (dk_at dksX9_isSo_1 0 rfl rfl)
theorem dX9_isSo_25 : decode cX9_isSo 25 = .ok (.istore 4, 2) := dk_54 4 (dk_at dksX9_isSo_1 1 rfl rfl)
theorem dX9_isSo_27 : decode cX9_isSo 27 = .ok (.aload_n 0, 1) := dk_42 (dk_at dksX9_isSo_1 3 rfl rfl)
theorem dX9_isSo_28 : decode cX9_isSo 28 = .ok (.getfield 9, 3) := dk_180 0 9 (dk_at dksX9_isSo_1 4 rfl rfl)
theorem dX9_isSo_31 : decode cX9_isSo 31 = .ok (.istore 5, 2) := dk_54 5 (dk_at dksX9_isSo_1 7 rfl rfl)
theorem dX9_isSo_33 : decode cX9_isSo 33 = .ok (.iconst 0, 1) := dk_3 (dk_at dksX9_isSo_1 9 rfl rfl)
theorem dX9_isSo_34 : decode cX9_isSo 34 = .ok (.istore 6, 2) := dk_54 6 (dk_at dksX9_isSo_1 10 rfl rfl)
theorem dX9_isSo_36 : decode cX9_isSo 36 = .ok (.iload 6, 2) := dk_21 6 (dk_at dksX9_isSo_1 12 rfl rfl)
theorem dX9_isSo_38 : decode cX9_isSo 38 = .ok (.iload 4, 2) := dk_21 4 (dk_at dksX9_isSo_1 14 rfl rfl)
theorem dX9_isSo_40 : decode cX9_isSo 40 = .ok (.if_icmp .ge 37, 3) := dk_162 0 37 (dk_at dksX9_isSo_1 16 rfl rfl)
theorem dX9_isSo_43 : decode cX9_isSo 43 = .ok (.iload 5, 2) := dk_21 5 (dk_at dksX9_isSo_1 19 rfl rfl)
theorem dX9_isSo_45 : decode cX9_isSo 45 = .ok (.aload_n 0, 1) := dk_42 (dk_at dksX9_isSo_1 21 rfl rfl)
theorem dX9_isSo_46 : decode cX9_isSo 46 = .ok (.getfield 9, 3) := dk_180 0 9 (dk_at dksX9_isSo_2 0 rfl rfl)
theorem dX9_isSo_49 : decode cX9_isSo 49 = .ok (.if_icmp .ne 28, 3) := dk_160 0 28 (dk_at dksX9_isSo_2 3 rfl rfl)
theorem dX9_isSo_52 : decode cX9_isSo 52 = .ok (.aload_n 2, 1) := dk_44 (dk_at dksX9_isSo_2 6 rfl rfl)
theorem dX9_isSo_53 : decode cX9_isSo 53 = .ok (.aload_n 0, 1) := dk_42 (dk_at dksX9_isSo_2 7 rfl rfl)
theorem dX9_isSo_54 : decode cX9_isSo 54 = .ok (.getfield 15, 3) := dk_180 0 15 (dk_at dksX9_isSo_2 8 rfl rfl)
theorem dX9_isSo_57 : decode cX9_isSo 57 = .ok (.iload 6, 2) := dk_21 6 (dk_at dksX9_isSo_2 11 rfl rfl)
theorem dX9_isSo_59 : decode cX9_isSo 59 = .ok (.iastore, 1) := dk_79 (dk_at dksX9_isSo_2 13 rfl rfl)
theorem dX9_isSo_60 : decode cX9_isSo 60 = .ok (.aload_n 0, 1) := dk_42 (dk_at dksX9_isSo_2 14 rfl rfl)
theorem dX9_isSo_61 : decode cX9_isSo 61 = .ok (.getfield 31, 3) := dk_180 0 31 (dk_at dksX9_isSo_2 15 rfl rfl)
theorem dX9_isSo_64 : decode cX9_isSo 64 = .ok (.iload_n 1, 1) := dk_27 (dk_at dksX9_isSo_2 18 rfl rfl)
theorem dX9_isSo_65 : decode cX9_isSo 65 = .ok (.aload_n 2, 1) := dk_44 (dk_at dksX9_isSo_2 19 rfl rfl)
theorem dX9_isSo_66 : decode cX9_isSo 66 = .ok (.invokevirtual 55, 3) := dk_182 0 55 (dk_at dksX9_isSo_2 20 rfl rfl)
theorem dX9_isSo_69 : decode cX9_isSo 69 = .ok (.istore 5, 2) := dk_54 5 (dk_at dksX9_isSo_3 0 rfl rfl)
theorem dX9_isSo_71 : decode cX9_isSo 71 = .ok (.iinc 6 1, 3) := dk_132 6 1 (dk_at dksX9_isSo_3 2 rfl rfl)
theorem dX9_isSo_74 : decode cX9_isSo 74 = .ok (.goto (-38), 3) := dk_167 255 218 (dk_at dksX9_isSo_3 5 rfl rfl)
theorem dX9_isSo_77 : decode cX9_isSo 77 = .ok (.aload_n 2, 1) := dk_44 (dk_at dksX9_isSo_3 8 rfl rfl)
theorem dX9_isSo_78 : decode cX9_isSo 78 = .ok (.aload_n 0, 1) := dk_42 (dk_at dksX9_isSo_3 9 rfl rfl)
theorem dX9_isSo_79 : decode cX9_isSo 79 = .ok (.getfield 15, 3) := dk_180 0 15 (dk_at dksX9_isSo_3 10 rfl rfl)
theorem dX9_isSo_82 : decode cX9_isSo 82 = .ok (.iload_n 3, 1) := dk_29 (dk_at dksX9_isSo_3 13 rfl rfl)
theorem dX9_isSo_83 : decode cX9_isSo 83 = .ok (.iastore, 1) := dk_79 (dk_at dksX9_isSo_3 14 rfl rfl)
theorem dX9_isSo_84 : decode cX9_isSo 84 = .ok (.iload 5, 2) := dk_21 5 (dk_at dksX9_isSo_3 15 rfl rfl)
theorem dX9_isSo_86 : decode cX9_isSo 86 = .ok (.ireturn, 1) := dk_172 (dk_at dksX9_isSo_3 17 rfl rfl)
theorem q85 : (Jvm.Cond.initialized "ReversalCourt$Quantified") ∈ lw_all := lw_g (lw_at lw_m1 33 rfl) rfl
theorem q594 : (Jvm.Cond.fieldLink "ReversalCourt$Quantified" (31 : Nat) "ReversalCourt$Quantified" "one" "LReversalCourt$Formula;") ∈ lw_all := lw_g (lw_at lw_m3 62 rfl) rfl
theorem q595 : (Jvm.Cond.sameField "ReversalCourt$Quantified" "ReversalCourt$Node" "one" "LReversalCourt$Formula;") ∈ lw_all := lw_g (lw_at lw_m3 63 rfl) rfl
theorem q707 : (Jvm.Cond.instantiable "ReversalCourt$Quantified" (5 : Nat)) ∈ lw_all := lw_g (lw_at lw_m3 175 rfl) rfl
theorem q709 : (Jvm.Cond.instanceMethod ({ cls := "ReversalCourt$Quantified", name := "<init>", desc := "(LReversalCourt$Formula;ZII)V" } : Jvm.MethodName)) ∈ lw_all := lw_g (lw_at lw_m3 177 rfl) rfl
theorem q710 : (Jvm.Cond.code ({ cls := "ReversalCourt$Quantified", name := "<init>", desc := "(LReversalCourt$Formula;ZII)V" } : Jvm.MethodName) prog_9_method_1_code (5 : Nat) (Option.none : Option Jvm.ClassFile.FieldType)) ∈ lw_all := lw_g (lw_at lw_m3 178 rfl) rfl
theorem q711 : (Jvm.Cond.methodLink "ReversalCourt$Quantified" (3 : Nat) ({ cls := "ReversalCourt$Node", name := "<init>", desc := "(LReversalCourt$Formula;LReversalCourt$Formula;)V" } : Jvm.MethodName)) ∈ lw_all := lw_g (lw_at lw_m3 179 rfl) rfl
theorem q712 : (Jvm.Cond.fieldLink "ReversalCourt$Quantified" (9 : Nat) "ReversalCourt$Quantified" "forAll" "Z") ∈ lw_all := lw_g (lw_at lw_m3 180 rfl) rfl
theorem q713 : (Jvm.Cond.fieldLink "ReversalCourt$Quantified" (15 : Nat) "ReversalCourt$Quantified" "variable" "I") ∈ lw_all := lw_g (lw_at lw_m3 181 rfl) rfl
theorem q714 : (Jvm.Cond.fieldLink "ReversalCourt$Quantified" (19 : Nat) "ReversalCourt$Quantified" "below" "I") ∈ lw_all := lw_g (lw_at lw_m3 182 rfl) rfl
theorem q715 : (Jvm.Cond.laysFinal "ReversalCourt$Quantified" "ReversalCourt$Quantified" "forAll" "Z") ∈ lw_all := lw_g (lw_at lw_m3 183 rfl) rfl
theorem q716 : (Jvm.Cond.soleField "ReversalCourt$Quantified" "forAll") ∈ lw_all := lw_g (lw_at lw_m3 184 rfl) rfl
theorem q717 : (Jvm.Cond.laysFinal "ReversalCourt$Quantified" "ReversalCourt$Quantified" "variable" "I") ∈ lw_all := lw_g (lw_at lw_m3 185 rfl) rfl
theorem q718 : (Jvm.Cond.soleField "ReversalCourt$Quantified" "variable") ∈ lw_all := lw_g (lw_at lw_m3 186 rfl) rfl
theorem q719 : (Jvm.Cond.laysFinal "ReversalCourt$Quantified" "ReversalCourt$Quantified" "below" "I") ∈ lw_all := lw_g (lw_at lw_m3 187 rfl) rfl
theorem q720 : (Jvm.Cond.soleField "ReversalCourt$Quantified" "below") ∈ lw_all := lw_g (lw_at lw_m3 188 rfl) rfl
theorem q721 : (Jvm.Cond.laysFinal "ReversalCourt$Quantified" "ReversalCourt$Node" "one" "LReversalCourt$Formula;") ∈ lw_all := lw_g (lw_at lw_m3 189 rfl) rfl
theorem q722 : (Jvm.Cond.laysFinal "ReversalCourt$Quantified" "ReversalCourt$Node" "other" "LReversalCourt$Formula;") ∈ lw_all := lw_g (lw_at lw_m3 190 rfl) rfl
theorem q723 : (Jvm.Cond.superclass "ReversalCourt$Quantified" "ReversalCourt$Node") ∈ lw_all := lw_g (lw_at lw_m3 191 rfl) rfl
theorem q762 : (Jvm.Cond.instanceMethod ({ cls := "ReversalCourt$Quantified", name := "sigma", desc := "()I" } : Jvm.MethodName)) ∈ lw_all := lw_g (lw_at lw_m3 230 rfl) rfl
theorem q763 : (Jvm.Cond.code ({ cls := "ReversalCourt$Quantified", name := "sigma", desc := "()I" } : Jvm.MethodName) prog_9_method_3_code (1 : Nat) (Option.some Jvm.ClassFile.FieldType.int)) ∈ lw_all := lw_g (lw_at lw_m3 231 rfl) rfl
theorem q764 : (Jvm.Cond.methodLink "ReversalCourt$Quantified" (35 : Nat) ({ cls := "ReversalCourt$Formula", name := "sigma", desc := "()I" } : Jvm.MethodName)) ∈ lw_all := lw_g (lw_at lw_m3 232 rfl) rfl
theorem q776 : (Jvm.Cond.instanceMethod ({ cls := "ReversalCourt$Quantified", name := "pi", desc := "()I" } : Jvm.MethodName)) ∈ lw_all := lw_g (lw_at lw_m4 4 rfl) rfl
theorem q777 : (Jvm.Cond.code ({ cls := "ReversalCourt$Quantified", name := "pi", desc := "()I" } : Jvm.MethodName) prog_9_method_4_code (1 : Nat) (Option.some Jvm.ClassFile.FieldType.int)) ∈ lw_all := lw_g (lw_at lw_m4 5 rfl) rfl
theorem q778 : (Jvm.Cond.methodLink "ReversalCourt$Quantified" (44 : Nat) ({ cls := "ReversalCourt$Formula", name := "pi", desc := "()I" } : Jvm.MethodName)) ∈ lw_all := lw_g (lw_at lw_m4 6 rfl) rfl
theorem q784 : (Jvm.Cond.methodLink "ReversalCourt$Quantified" (45 : Nat) ({ cls := "ReversalCourt$Quantified", name := "next", desc := "(II)I" } : Jvm.MethodName)) ∈ lw_all := lw_g (lw_at lw_m4 12 rfl) rfl
theorem q785 : (Jvm.Cond.privateMethod ({ cls := "ReversalCourt$Quantified", name := "next", desc := "(II)I" } : Jvm.MethodName)) ∈ lw_tbl := lw_at lw_m4 13 rfl
theorem q786 : (Jvm.Cond.instanceMethod ({ cls := "ReversalCourt$Quantified", name := "next", desc := "(II)I" } : Jvm.MethodName)) ∈ lw_all := lw_g (lw_at lw_m4 14 rfl) rfl
theorem q787 : (Jvm.Cond.code ({ cls := "ReversalCourt$Quantified", name := "next", desc := "(II)I" } : Jvm.MethodName) prog_9_method_2_code (3 : Nat) (Option.some Jvm.ClassFile.FieldType.int)) ∈ lw_all := lw_g (lw_at lw_m4 15 rfl) rfl
theorem q788 : (Jvm.Cond.methodLink "ReversalCourt$Quantified" (22 : Nat) ({ cls := "java/lang/Math", name := "max", desc := "(II)I" } : Jvm.MethodName)) ∈ lw_all := lw_g (lw_at lw_m4 16 rfl) rfl
theorem q789 : (Jvm.Cond.methodLink "ReversalCourt$Quantified" (28 : Nat) ({ cls := "java/lang/Math", name := "min", desc := "(II)I" } : Jvm.MethodName)) ∈ lw_all := lw_g (lw_at lw_m4 17 rfl) rfl
theorem q790 : (Jvm.Cond.methodLink "ReversalCourt$Quantified" (48 : Nat) ({ cls := "ReversalCourt$Quantified", name := "sigma", desc := "()I" } : Jvm.MethodName)) ∈ lw_all := lw_g (lw_at lw_m4 18 rfl) rfl
theorem q792 : (Jvm.Cond.selects "ReversalCourt$Quantified" ({ cls := "ReversalCourt$Formula", name := "pi", desc := "()I" } : Jvm.MethodName) ({ cls := "ReversalCourt$Quantified", name := "pi", desc := "()I" } : Jvm.MethodName)) ∈ lw_all := lw_g (lw_at lw_m4 20 rfl) rfl
theorem q796 : (Jvm.Cond.methodLink "ReversalCourt$Quantified" (41 : Nat) ({ cls := "ReversalCourt$Quantified", name := "pi", desc := "()I" } : Jvm.MethodName)) ∈ lw_all := lw_g (lw_at lw_m4 24 rfl) rfl
theorem q797 : (Jvm.Cond.selects "ReversalCourt$Quantified" ({ cls := "ReversalCourt$Formula", name := "sigma", desc := "()I" } : Jvm.MethodName) ({ cls := "ReversalCourt$Quantified", name := "sigma", desc := "()I" } : Jvm.MethodName)) ∈ lw_all := lw_g (lw_at lw_m4 25 rfl) rfl
theorem q817 : (Jvm.Cond.instanceMethod ({ cls := "ReversalCourt$Quantified", name := "free", desc := "()I" } : Jvm.MethodName)) ∈ lw_all := lw_g (lw_at lw_m4 45 rfl) rfl
theorem q818 : (Jvm.Cond.code ({ cls := "ReversalCourt$Quantified", name := "free", desc := "()I" } : Jvm.MethodName) prog_9_method_5_code (1 : Nat) (Option.some Jvm.ClassFile.FieldType.int)) ∈ lw_all := lw_g (lw_at lw_m4 46 rfl) rfl
theorem q819 : (Jvm.Cond.methodLink "ReversalCourt$Quantified" (49 : Nat) ({ cls := "ReversalCourt$Formula", name := "free", desc := "()I" } : Jvm.MethodName)) ∈ lw_all := lw_g (lw_at lw_m4 47 rfl) rfl
theorem q822 : (Jvm.Cond.selects "ReversalCourt$Quantified" ({ cls := "ReversalCourt$Formula", name := "free", desc := "()I" } : Jvm.MethodName) ({ cls := "ReversalCourt$Quantified", name := "free", desc := "()I" } : Jvm.MethodName)) ∈ lw_all := lw_g (lw_at lw_m4 50 rfl) rfl
theorem q949 : (Jvm.Cond.instanceMethod ({ cls := "ReversalCourt$Quantified", name := "quantifiers", desc := "()I" } : Jvm.MethodName)) ∈ lw_all := lw_g (lw_at lw_m4 177 rfl) rfl
theorem q950 : (Jvm.Cond.code ({ cls := "ReversalCourt$Quantified", name := "quantifiers", desc := "()I" } : Jvm.MethodName) prog_9_method_6_code (1 : Nat) (Option.some Jvm.ClassFile.FieldType.int)) ∈ lw_all := lw_g (lw_at lw_m4 178 rfl) rfl
theorem q951 : (Jvm.Cond.methodLink "ReversalCourt$Quantified" (52 : Nat) ({ cls := "ReversalCourt$Formula", name := "quantifiers", desc := "()I" } : Jvm.MethodName)) ∈ lw_all := lw_g (lw_at lw_m4 179 rfl) rfl
theorem q960 : (Jvm.Cond.selects "ReversalCourt$Quantified" ({ cls := "ReversalCourt$Formula", name := "quantifiers", desc := "()I" } : Jvm.MethodName) ({ cls := "ReversalCourt$Quantified", name := "quantifiers", desc := "()I" } : Jvm.MethodName)) ∈ lw_all := lw_g (lw_at lw_m4 188 rfl) rfl
theorem q971 : (Jvm.Cond.instanceMethod ({ cls := "ReversalCourt$Quantified", name := "isSo", desc := "(I[I)Z" } : Jvm.MethodName)) ∈ lw_all := lw_g (lw_at lw_m4 199 rfl) rfl
theorem q972 : (Jvm.Cond.code ({ cls := "ReversalCourt$Quantified", name := "isSo", desc := "(I[I)Z" } : Jvm.MethodName) prog_9_method_7_code (7 : Nat) (Option.some Jvm.ClassFile.FieldType.boolean)) ∈ lw_all := lw_g (lw_at lw_m4 200 rfl) rfl
theorem q973 : (Jvm.Cond.methodLink "ReversalCourt$Quantified" (55 : Nat) ({ cls := "ReversalCourt$Formula", name := "isSo", desc := "(I[I)Z" } : Jvm.MethodName)) ∈ lw_all := lw_g (lw_at lw_m4 201 rfl) rfl
theorem q982 : (Jvm.Cond.selects "ReversalCourt$Quantified" ({ cls := "ReversalCourt$Formula", name := "isSo", desc := "(I[I)Z" } : Jvm.MethodName) ({ cls := "ReversalCourt$Quantified", name := "isSo", desc := "(I[I)Z" } : Jvm.MethodName)) ∈ lw_all := lw_g (lw_at lw_m4 210 rfl) rfl
theorem q1040 : (Jvm.Cond.selects "ReversalCourt$Quantified" ({ cls := "java/lang/Object", name := "getClass", desc := "()Ljava/lang/Class;" } : Jvm.MethodName) ({ cls := "java/lang/Object", name := "getClass", desc := "()Ljava/lang/Class;" } : Jvm.MethodName)) ∈ lw_all := lw_g (lw_at lw_m5 28 rfl) rfl
theorem q1818 : (Jvm.Cond.selects "ReversalCourt$Quantified" ({ cls := "ReversalCourt$Quantified", name := "sigma", desc := "()I" } : Jvm.MethodName) ({ cls := "ReversalCourt$Quantified", name := "sigma", desc := "()I" } : Jvm.MethodName)) ∈ lw_all := lw_g (lw_at lw_m8 86 rfl) rfl
theorem q1819 : (Jvm.Cond.selects "ReversalCourt$Quantified" ({ cls := "ReversalCourt$Quantified", name := "pi", desc := "()I" } : Jvm.MethodName) ({ cls := "ReversalCourt$Quantified", name := "pi", desc := "()I" } : Jvm.MethodName)) ∈ lw_all := lw_g (lw_at lw_m8 87 rfl) rfl
theorem q1838 : (Jvm.Cond.castable "ReversalCourt$Quantified" "java/lang/Object") ∈ lw_tbl := lw_at lw_m8 106 rfl
theorem in_X9 : ∀ w ∈ wsX90, w ∈ lw_all := lw_in wsX90 [721, 722, 715, 717, 719] (by decide +kernel) (by decide +kernel)
/-! ReversalCourt$Reader$1 -/
set_option maxRecDepth 100000
def RX10 : String := "ReversalCourt$Reader$1"
def TX10 : u_T := fun k => match k with
  | 0 => ("ReversalCourt$Reader$1", "val$left", "I", true)
  | 1 => ("ReversalCourt$Reader$1", "val$right", "I", true)
  | 2 => ("ReversalCourt$Reader$1", "val$isLess", "Z", true)
  | _ => ("ReversalCourt$Reader$1", "this$1", "LReversalCourt$Reader;", true)
def tyX10 : Nat → FieldType := fun k => match k with
  | 0 => .int
  | 1 => .int
  | 2 => .boolean
  | _ => .object "ReversalCourt$Reader"
abbrev wsX100 : List Cond := u_ws RX10 TX10 4
theorem nmX10 : ∀ a, a < 4 → ∀ b, b < 4 → a ≠ b → (TX10 a).2.1 ≠ (TX10 b).2.1 := by decide +kernel
theorem tyX10_ok : ∀ k, k < 4 → parseFieldDescriptor (TX10 k).2.2.1 = some (tyX10 k) := by decide +kernel
abbrev cX10_init : ByteArray := prog_11_method_1_code
def yX10_init : MethodName := ⟨RX10, "<init>", "(LReversalCourt$Reader;IIZ)V"⟩
def dkwX10_init_1 : List UInt8 := [183, 0, 18, 177]
abbrev dktX10_init_1 : List UInt8 := dkwX10_init_1 ++ []
def dkwX10_init_0 : List UInt8 := [42, 43, 181, 0, 1, 42, 28, 181, 0, 7, 42, 29, 181, 0, 11, 42, 21, 4, 181, 0, 14, 42]
abbrev dktX10_init_0 : List UInt8 := dkwX10_init_0 ++ dktX10_init_1
theorem dksX10_init_0 : cX10_init.data.toList.drop 0 = dktX10_init_0 := by decide +kernel
theorem dksX10_init_1 : cX10_init.data.toList.drop 22 = dktX10_init_1 := dk_seg dksX10_init_0 22 rfl rfl
theorem dX10_init_0 : decode cX10_init 0 = .ok (.aload_n 0, 1) := dk_42 (dk_at dksX10_init_0 0 rfl rfl)
theorem dX10_init_1 : decode cX10_init 1 = .ok (.aload_n 1, 1) := dk_43 (dk_at dksX10_init_0 1 rfl rfl)
theorem dX10_init_2 : decode cX10_init 2 = .ok (.putfield 1, 3) := dk_181 0 1 (dk_at dksX10_init_0 2 rfl rfl)
theorem dX10_init_5 : decode cX10_init 5 = .ok (.aload_n 0, 1) := dk_42 (dk_at dksX10_init_0 5 rfl rfl)
theorem dX10_init_6 : decode cX10_init 6 = .ok (.iload_n 2, 1) := dk_28 (dk_at dksX10_init_0 6 rfl rfl)
theorem dX10_init_7 : decode cX10_init 7 = .ok (.putfield 7, 3) := dk_181 0 7 (dk_at dksX10_init_0 7 rfl rfl)
theorem dX10_init_10 : decode cX10_init 10 = .ok (.aload_n 0, 1) := dk_42 (dk_at dksX10_init_0 10 rfl rfl)
theorem dX10_init_11 : decode cX10_init 11 = .ok (.iload_n 3, 1) := dk_29 (dk_at dksX10_init_0 11 rfl rfl)
theorem dX10_init_12 : decode cX10_init 12 = .ok (.putfield 11, 3) := dk_181 0 11 (dk_at dksX10_init_0 12 rfl rfl)
theorem dX10_init_15 : decode cX10_init 15 = .ok (.aload_n 0, 1) := dk_42 (dk_at dksX10_init_0 15 rfl rfl)
theorem dX10_init_16 : decode cX10_init 16 = .ok (.iload 4, 2) := dk_21 4 (dk_at dksX10_init_0 16 rfl rfl)
theorem dX10_init_18 : decode cX10_init 18 = .ok (.putfield 14, 3) := dk_181 0 14 (dk_at dksX10_init_0 18 rfl rfl)
theorem dX10_init_21 : decode cX10_init 21 = .ok (.aload_n 0, 1) := dk_42 (dk_at dksX10_init_0 21 rfl rfl)
theorem dX10_init_22 : decode cX10_init 22 = .ok (.invokespecial 18, 3) := dk_183 0 18 (dk_at dksX10_init_1 0 rfl rfl)
theorem dX10_init_25 : decode cX10_init 25 = .ok (.return_, 1) := dk_177 (dk_at dksX10_init_1 3 rfl rfl)
abbrev cX10_sigma : ByteArray := prog_11_method_2_code
def yX10_sigma : MethodName := ⟨RX10, "sigma", "()I"⟩
theorem dX10_sigma_0 : decode cX10_sigma 0 = .ok (.iconst 0, 1) := by decide +kernel
theorem dX10_sigma_1 : decode cX10_sigma 1 = .ok (.ireturn, 1) := by decide +kernel
abbrev cX10_pi : ByteArray := prog_11_method_3_code
def yX10_pi : MethodName := ⟨RX10, "pi", "()I"⟩
theorem dX10_pi_0 : decode cX10_pi 0 = .ok (.iconst 0, 1) := by decide +kernel
theorem dX10_pi_1 : decode cX10_pi 1 = .ok (.ireturn, 1) := by decide +kernel
abbrev cX10_free : ByteArray := prog_11_method_4_code
def yX10_free : MethodName := ⟨RX10, "free", "()I"⟩
def dkwX10_free_0 : List UInt8 := [4, 42, 180, 0, 7, 120, 4, 42, 180, 0, 11, 120, 128, 172]
abbrev dktX10_free_0 : List UInt8 := dkwX10_free_0 ++ []
theorem dksX10_free_0 : cX10_free.data.toList.drop 0 = dktX10_free_0 := by decide +kernel
theorem dX10_free_0 : decode cX10_free 0 = .ok (.iconst 1, 1) := dk_4 (dk_at dksX10_free_0 0 rfl rfl)
theorem dX10_free_1 : decode cX10_free 1 = .ok (.aload_n 0, 1) := dk_42 (dk_at dksX10_free_0 1 rfl rfl)
theorem dX10_free_2 : decode cX10_free 2 = .ok (.getfield 7, 3) := dk_180 0 7 (dk_at dksX10_free_0 2 rfl rfl)
theorem dX10_free_5 : decode cX10_free 5 = .ok (.ishl, 1) := dk_120 (dk_at dksX10_free_0 5 rfl rfl)
theorem dX10_free_6 : decode cX10_free 6 = .ok (.iconst 1, 1) := dk_4 (dk_at dksX10_free_0 6 rfl rfl)
theorem dX10_free_7 : decode cX10_free 7 = .ok (.aload_n 0, 1) := dk_42 (dk_at dksX10_free_0 7 rfl rfl)
theorem dX10_free_8 : decode cX10_free 8 = .ok (.getfield 11, 3) := dk_180 0 11 (dk_at dksX10_free_0 8 rfl rfl)
theorem dX10_free_11 : decode cX10_free 11 = .ok (.ishl, 1) := dk_120 (dk_at dksX10_free_0 11 rfl rfl)
theorem dX10_free_12 : decode cX10_free 12 = .ok (.ior, 1) := dk_128 (dk_at dksX10_free_0 12 rfl rfl)
theorem dX10_free_13 : decode cX10_free 13 = .ok (.ireturn, 1) := dk_172 (dk_at dksX10_free_0 13 rfl rfl)
abbrev cX10_quantifiers : ByteArray := prog_11_method_5_code
def yX10_quantifiers : MethodName := ⟨RX10, "quantifiers", "()I"⟩
theorem dX10_quantifiers_0 : decode cX10_quantifiers 0 = .ok (.iconst 0, 1) := by decide +kernel
theorem dX10_quantifiers_1 : decode cX10_quantifiers 1 = .ok (.ireturn, 1) := by decide +kernel
abbrev cX10_isSo : ByteArray := prog_11_method_6_code
def yX10_isSo : MethodName := ⟨RX10, "isSo", "(I[I)Z"⟩
def dkwX10_isSo_2 : List UInt8 := [167, 0, 4, 3, 172]
abbrev dktX10_isSo_2 : List UInt8 := dkwX10_isSo_2 ++ []
def dkwX10_isSo_1 : List UInt8 := [167, 0, 27, 3, 167, 0, 23, 44, 42, 180, 0, 7, 46, 44, 42, 180, 0, 11, 46, 160, 0, 7, 4]
abbrev dktX10_isSo_1 : List UInt8 := dkwX10_isSo_1 ++ dktX10_isSo_2
def dkwX10_isSo_0 : List UInt8 := [42, 180, 0, 14, 153, 0, 26, 44, 42, 180, 0, 7, 46, 44, 42, 180, 0, 11, 46, 162, 0, 7, 4]
abbrev dktX10_isSo_0 : List UInt8 := dkwX10_isSo_0 ++ dktX10_isSo_1
theorem dksX10_isSo_0 : cX10_isSo.data.toList.drop 0 = dktX10_isSo_0 := by decide +kernel
theorem dksX10_isSo_1 : cX10_isSo.data.toList.drop 23 = dktX10_isSo_1 := dk_seg dksX10_isSo_0 23 rfl rfl
theorem dksX10_isSo_2 : cX10_isSo.data.toList.drop 46 = dktX10_isSo_2 := dk_seg dksX10_isSo_1 23 rfl rfl
theorem dX10_isSo_0 : decode cX10_isSo 0 = .ok (.aload_n 0, 1) := dk_42 (dk_at dksX10_isSo_0 0 rfl rfl)
theorem dX10_isSo_1 : decode cX10_isSo 1 = .ok (.getfield 14, 3) := dk_180 0 14 (dk_at dksX10_isSo_0 1 rfl rfl)
theorem dX10_isSo_4 : decode cX10_isSo 4 = .ok (.ifCond .eq 26, 3) := dk_153 0 26 (dk_at dksX10_isSo_0 4 rfl rfl)
theorem dX10_isSo_7 : decode cX10_isSo 7 = .ok (.aload_n 2, 1) := dk_44 (dk_at dksX10_isSo_0 7 rfl rfl)
theorem dX10_isSo_8 : decode cX10_isSo 8 = .ok (.aload_n 0, 1) := dk_42 (dk_at dksX10_isSo_0 8 rfl rfl)
theorem dX10_isSo_9 : decode cX10_isSo 9 = .ok (.getfield 7, 3) := dk_180 0 7 (dk_at dksX10_isSo_0 9 rfl rfl)
theorem dX10_isSo_12 : decode cX10_isSo 12 = .ok (.iaload, 1) := dk_46 (dk_at dksX10_isSo_0 12 rfl rfl)
theorem dX10_isSo_13 : decode cX10_isSo 13 = .ok (.aload_n 2, 1) := dk_44 (dk_at dksX10_isSo_0 13 rfl rfl)
theorem dX10_isSo_14 : decode cX10_isSo 14 = .ok (.aload_n 0, 1) := dk_42 (dk_at dksX10_isSo_0 14 rfl rfl)
theorem dX10_isSo_15 : decode cX10_isSo 15 = .ok (.getfield 11, 3) := dk_180 0 11 (dk_at dksX10_isSo_0 15 rfl rfl)
theorem dX10_isSo_18 : decode cX10_isSo 18 = .ok (.iaload, 1) := dk_46 (dk_at dksX10_isSo_0 18 rfl rfl)
theorem dX10_isSo_19 : decode cX10_isSo 19 = .ok (.if_icmp .ge 7, 3) := dk_162 0 7 (dk_at dksX10_isSo_0 19 rfl rfl)
theorem dX10_isSo_22 : decode cX10_isSo 22 = .ok (.iconst 1, 1) := dk_4 (dk_at dksX10_isSo_0 22 rfl rfl)
theorem dX10_isSo_23 : decode cX10_isSo 23 = .ok (.goto 27, 3) := dk_167 0 27 (dk_at dksX10_isSo_1 0 rfl rfl)
theorem dX10_isSo_26 : decode cX10_isSo 26 = .ok (.iconst 0, 1) := dk_3 (dk_at dksX10_isSo_1 3 rfl rfl)
theorem dX10_isSo_27 : decode cX10_isSo 27 = .ok (.goto 23, 3) := dk_167 0 23 (dk_at dksX10_isSo_1 4 rfl rfl)
theorem dX10_isSo_30 : decode cX10_isSo 30 = .ok (.aload_n 2, 1) := dk_44 (dk_at dksX10_isSo_1 7 rfl rfl)
theorem dX10_isSo_31 : decode cX10_isSo 31 = .ok (.aload_n 0, 1) := dk_42 (dk_at dksX10_isSo_1 8 rfl rfl)
theorem dX10_isSo_32 : decode cX10_isSo 32 = .ok (.getfield 7, 3) := dk_180 0 7 (dk_at dksX10_isSo_1 9 rfl rfl)
theorem dX10_isSo_35 : decode cX10_isSo 35 = .ok (.iaload, 1) := dk_46 (dk_at dksX10_isSo_1 12 rfl rfl)
theorem dX10_isSo_36 : decode cX10_isSo 36 = .ok (.aload_n 2, 1) := dk_44 (dk_at dksX10_isSo_1 13 rfl rfl)
theorem dX10_isSo_37 : decode cX10_isSo 37 = .ok (.aload_n 0, 1) := dk_42 (dk_at dksX10_isSo_1 14 rfl rfl)
theorem dX10_isSo_38 : decode cX10_isSo 38 = .ok (.getfield 11, 3) := dk_180 0 11 (dk_at dksX10_isSo_1 15 rfl rfl)
theorem dX10_isSo_41 : decode cX10_isSo 41 = .ok (.iaload, 1) := dk_46 (dk_at dksX10_isSo_1 18 rfl rfl)
theorem dX10_isSo_42 : decode cX10_isSo 42 = .ok (.if_icmp .ne 7, 3) := dk_160 0 7 (dk_at dksX10_isSo_1 19 rfl rfl)
theorem dX10_isSo_45 : decode cX10_isSo 45 = .ok (.iconst 1, 1) := dk_4 (dk_at dksX10_isSo_1 22 rfl rfl)
theorem dX10_isSo_46 : decode cX10_isSo 46 = .ok (.goto 4, 3) := dk_167 0 4 (dk_at dksX10_isSo_2 0 rfl rfl)
theorem dX10_isSo_49 : decode cX10_isSo 49 = .ok (.iconst 0, 1) := dk_3 (dk_at dksX10_isSo_2 3 rfl rfl)
theorem dX10_isSo_50 : decode cX10_isSo 50 = .ok (.ireturn, 1) := dk_172 (dk_at dksX10_isSo_2 4 rfl rfl)
theorem q86 : (Jvm.Cond.initialized "ReversalCourt$Reader$1") ∈ lw_all := lw_g (lw_at lw_m1 34 rfl) rfl
theorem q729 : (Jvm.Cond.instantiable "ReversalCourt$Reader$1" (4 : Nat)) ∈ lw_all := lw_g (lw_at lw_m3 197 rfl) rfl
theorem q731 : (Jvm.Cond.instanceMethod ({ cls := "ReversalCourt$Reader$1", name := "<init>", desc := "(LReversalCourt$Reader;IIZ)V" } : Jvm.MethodName)) ∈ lw_all := lw_g (lw_at lw_m3 199 rfl) rfl
theorem q732 : (Jvm.Cond.code ({ cls := "ReversalCourt$Reader$1", name := "<init>", desc := "(LReversalCourt$Reader;IIZ)V" } : Jvm.MethodName) prog_11_method_1_code (5 : Nat) (Option.none : Option Jvm.ClassFile.FieldType)) ∈ lw_all := lw_g (lw_at lw_m3 200 rfl) rfl
theorem q733 : (Jvm.Cond.methodLinkNest "ReversalCourt$Reader$1" (18 : Nat) ({ cls := "ReversalCourt$Formula", name := "<init>", desc := "()V" } : Jvm.MethodName) "ReversalCourt") ∈ lw_tbl := lw_at lw_m3 201 rfl
theorem q734 : (Jvm.Cond.fieldLink "ReversalCourt$Reader$1" (7 : Nat) "ReversalCourt$Reader$1" "val$left" "I") ∈ lw_all := lw_g (lw_at lw_m3 202 rfl) rfl
theorem q735 : (Jvm.Cond.fieldLink "ReversalCourt$Reader$1" (11 : Nat) "ReversalCourt$Reader$1" "val$right" "I") ∈ lw_all := lw_g (lw_at lw_m3 203 rfl) rfl
theorem q736 : (Jvm.Cond.fieldLink "ReversalCourt$Reader$1" (14 : Nat) "ReversalCourt$Reader$1" "val$isLess" "Z") ∈ lw_all := lw_g (lw_at lw_m3 204 rfl) rfl
theorem q737 : (Jvm.Cond.fieldLink "ReversalCourt$Reader$1" (1 : Nat) "ReversalCourt$Reader$1" "this$1" "LReversalCourt$Reader;") ∈ lw_all := lw_g (lw_at lw_m3 205 rfl) rfl
theorem q738 : (Jvm.Cond.laysFinal "ReversalCourt$Reader$1" "ReversalCourt$Reader$1" "val$left" "I") ∈ lw_all := lw_g (lw_at lw_m3 206 rfl) rfl
theorem q739 : (Jvm.Cond.soleField "ReversalCourt$Reader$1" "val$left") ∈ lw_all := lw_g (lw_at lw_m3 207 rfl) rfl
theorem q740 : (Jvm.Cond.laysFinal "ReversalCourt$Reader$1" "ReversalCourt$Reader$1" "val$right" "I") ∈ lw_all := lw_g (lw_at lw_m3 208 rfl) rfl
theorem q741 : (Jvm.Cond.soleField "ReversalCourt$Reader$1" "val$right") ∈ lw_all := lw_g (lw_at lw_m3 209 rfl) rfl
theorem q742 : (Jvm.Cond.laysFinal "ReversalCourt$Reader$1" "ReversalCourt$Reader$1" "val$isLess" "Z") ∈ lw_all := lw_g (lw_at lw_m3 210 rfl) rfl
theorem q743 : (Jvm.Cond.soleField "ReversalCourt$Reader$1" "val$isLess") ∈ lw_all := lw_g (lw_at lw_m3 211 rfl) rfl
theorem q744 : (Jvm.Cond.laysFinal "ReversalCourt$Reader$1" "ReversalCourt$Reader$1" "this$1" "LReversalCourt$Reader;") ∈ lw_all := lw_g (lw_at lw_m3 212 rfl) rfl
theorem q745 : (Jvm.Cond.soleField "ReversalCourt$Reader$1" "this$1") ∈ lw_all := lw_g (lw_at lw_m3 213 rfl) rfl
theorem q746 : (Jvm.Cond.superclass "ReversalCourt$Reader$1" "ReversalCourt$Formula") ∈ lw_all := lw_g (lw_at lw_m3 214 rfl) rfl
theorem q765 : (Jvm.Cond.instanceMethod ({ cls := "ReversalCourt$Reader$1", name := "sigma", desc := "()I" } : Jvm.MethodName)) ∈ lw_all := lw_g (lw_at lw_m3 233 rfl) rfl
theorem q766 : (Jvm.Cond.code ({ cls := "ReversalCourt$Reader$1", name := "sigma", desc := "()I" } : Jvm.MethodName) prog_11_method_2_code (1 : Nat) (Option.some Jvm.ClassFile.FieldType.int)) ∈ lw_all := lw_g (lw_at lw_m3 234 rfl) rfl
theorem q779 : (Jvm.Cond.instanceMethod ({ cls := "ReversalCourt$Reader$1", name := "pi", desc := "()I" } : Jvm.MethodName)) ∈ lw_all := lw_g (lw_at lw_m4 7 rfl) rfl
theorem q780 : (Jvm.Cond.code ({ cls := "ReversalCourt$Reader$1", name := "pi", desc := "()I" } : Jvm.MethodName) prog_11_method_3_code (1 : Nat) (Option.some Jvm.ClassFile.FieldType.int)) ∈ lw_all := lw_g (lw_at lw_m4 8 rfl) rfl
theorem q793 : (Jvm.Cond.selects "ReversalCourt$Reader$1" ({ cls := "ReversalCourt$Formula", name := "pi", desc := "()I" } : Jvm.MethodName) ({ cls := "ReversalCourt$Reader$1", name := "pi", desc := "()I" } : Jvm.MethodName)) ∈ lw_all := lw_g (lw_at lw_m4 21 rfl) rfl
theorem q798 : (Jvm.Cond.selects "ReversalCourt$Reader$1" ({ cls := "ReversalCourt$Formula", name := "sigma", desc := "()I" } : Jvm.MethodName) ({ cls := "ReversalCourt$Reader$1", name := "sigma", desc := "()I" } : Jvm.MethodName)) ∈ lw_all := lw_g (lw_at lw_m4 26 rfl) rfl
theorem q820 : (Jvm.Cond.instanceMethod ({ cls := "ReversalCourt$Reader$1", name := "free", desc := "()I" } : Jvm.MethodName)) ∈ lw_all := lw_g (lw_at lw_m4 48 rfl) rfl
theorem q821 : (Jvm.Cond.code ({ cls := "ReversalCourt$Reader$1", name := "free", desc := "()I" } : Jvm.MethodName) prog_11_method_4_code (1 : Nat) (Option.some Jvm.ClassFile.FieldType.int)) ∈ lw_all := lw_g (lw_at lw_m4 49 rfl) rfl
theorem q823 : (Jvm.Cond.selects "ReversalCourt$Reader$1" ({ cls := "ReversalCourt$Formula", name := "free", desc := "()I" } : Jvm.MethodName) ({ cls := "ReversalCourt$Reader$1", name := "free", desc := "()I" } : Jvm.MethodName)) ∈ lw_all := lw_g (lw_at lw_m4 51 rfl) rfl
theorem q952 : (Jvm.Cond.instanceMethod ({ cls := "ReversalCourt$Reader$1", name := "quantifiers", desc := "()I" } : Jvm.MethodName)) ∈ lw_all := lw_g (lw_at lw_m4 180 rfl) rfl
theorem q953 : (Jvm.Cond.code ({ cls := "ReversalCourt$Reader$1", name := "quantifiers", desc := "()I" } : Jvm.MethodName) prog_11_method_5_code (1 : Nat) (Option.some Jvm.ClassFile.FieldType.int)) ∈ lw_all := lw_g (lw_at lw_m4 181 rfl) rfl
theorem q961 : (Jvm.Cond.selects "ReversalCourt$Reader$1" ({ cls := "ReversalCourt$Formula", name := "quantifiers", desc := "()I" } : Jvm.MethodName) ({ cls := "ReversalCourt$Reader$1", name := "quantifiers", desc := "()I" } : Jvm.MethodName)) ∈ lw_all := lw_g (lw_at lw_m4 189 rfl) rfl
theorem q974 : (Jvm.Cond.instanceMethod ({ cls := "ReversalCourt$Reader$1", name := "isSo", desc := "(I[I)Z" } : Jvm.MethodName)) ∈ lw_all := lw_g (lw_at lw_m4 202 rfl) rfl
theorem q975 : (Jvm.Cond.code ({ cls := "ReversalCourt$Reader$1", name := "isSo", desc := "(I[I)Z" } : Jvm.MethodName) prog_11_method_6_code (3 : Nat) (Option.some Jvm.ClassFile.FieldType.boolean)) ∈ lw_all := lw_g (lw_at lw_m4 203 rfl) rfl
theorem q983 : (Jvm.Cond.selects "ReversalCourt$Reader$1" ({ cls := "ReversalCourt$Formula", name := "isSo", desc := "(I[I)Z" } : Jvm.MethodName) ({ cls := "ReversalCourt$Reader$1", name := "isSo", desc := "(I[I)Z" } : Jvm.MethodName)) ∈ lw_all := lw_g (lw_at lw_m4 211 rfl) rfl
theorem q1042 : (Jvm.Cond.selects "ReversalCourt$Reader$1" ({ cls := "java/lang/Object", name := "getClass", desc := "()Ljava/lang/Class;" } : Jvm.MethodName) ({ cls := "java/lang/Object", name := "getClass", desc := "()Ljava/lang/Class;" } : Jvm.MethodName)) ∈ lw_all := lw_g (lw_at lw_m5 30 rfl) rfl
theorem q1839 : (Jvm.Cond.castable "ReversalCourt$Reader$1" "java/lang/Object") ∈ lw_tbl := lw_at lw_m8 107 rfl
theorem in_X10 : ∀ w ∈ wsX100, w ∈ lw_all := lw_in wsX100 [738, 740, 742, 744] (by decide +kernel) (by decide +kernel)
/-! ReversalCourt$Principle -/
set_option maxRecDepth 100000
def RX11 : String := "ReversalCourt$Principle"
def TX11 : u_T := fun k => match k with
  | 0 => ("ReversalCourt$Principle", "sigma", "I", true)
  | _ => ("ReversalCourt$Principle", "pi", "I", true)
def tyX11 : Nat → FieldType := fun k => match k with
  | 0 => .int
  | _ => .int
abbrev wsX110 : List Cond := u_ws RX11 TX11 2
theorem nmX11 : ∀ a, a < 2 → ∀ b, b < 2 → a ≠ b → (TX11 a).2.1 ≠ (TX11 b).2.1 := by decide +kernel
theorem tyX11_ok : ∀ k, k < 2 → parseFieldDescriptor (TX11 k).2.2.1 = some (tyX11 k) := by decide +kernel
abbrev cX11_init : ByteArray := prog_7_method_1_code
def yX11_init : MethodName := ⟨RX11, "<init>", "(LReversalCourt$Formula;)V"⟩
def dkwX11_init_0 : List UInt8 := [42, 183, 0, 1, 42, 43, 182, 0, 7, 181, 0, 13, 42, 43, 182, 0, 18, 181, 0, 21, 177]
abbrev dktX11_init_0 : List UInt8 := dkwX11_init_0 ++ []
theorem dksX11_init_0 : cX11_init.data.toList.drop 0 = dktX11_init_0 := by decide +kernel
theorem dX11_init_0 : decode cX11_init 0 = .ok (.aload_n 0, 1) := dk_42 (dk_at dksX11_init_0 0 rfl rfl)
theorem dX11_init_1 : decode cX11_init 1 = .ok (.invokespecial 1, 3) := dk_183 0 1 (dk_at dksX11_init_0 1 rfl rfl)
theorem dX11_init_4 : decode cX11_init 4 = .ok (.aload_n 0, 1) := dk_42 (dk_at dksX11_init_0 4 rfl rfl)
theorem dX11_init_5 : decode cX11_init 5 = .ok (.aload_n 1, 1) := dk_43 (dk_at dksX11_init_0 5 rfl rfl)
theorem dX11_init_6 : decode cX11_init 6 = .ok (.invokevirtual 7, 3) := dk_182 0 7 (dk_at dksX11_init_0 6 rfl rfl)
theorem dX11_init_9 : decode cX11_init 9 = .ok (.putfield 13, 3) := dk_181 0 13 (dk_at dksX11_init_0 9 rfl rfl)
theorem dX11_init_12 : decode cX11_init 12 = .ok (.aload_n 0, 1) := dk_42 (dk_at dksX11_init_0 12 rfl rfl)
theorem dX11_init_13 : decode cX11_init 13 = .ok (.aload_n 1, 1) := dk_43 (dk_at dksX11_init_0 13 rfl rfl)
theorem dX11_init_14 : decode cX11_init 14 = .ok (.invokevirtual 18, 3) := dk_182 0 18 (dk_at dksX11_init_0 14 rfl rfl)
theorem dX11_init_17 : decode cX11_init 17 = .ok (.putfield 21, 3) := dk_181 0 21 (dk_at dksX11_init_0 17 rfl rfl)
theorem dX11_init_20 : decode cX11_init 20 = .ok (.return_, 1) := dk_177 (dk_at dksX11_init_0 20 rfl rfl)
theorem q87 : (Jvm.Cond.initialized "ReversalCourt$Principle") ∈ lw_all := lw_g (lw_at lw_m1 35 rfl) rfl
theorem q995 : (Jvm.Cond.instantiable "ReversalCourt$Principle" (2 : Nat)) ∈ lw_all := lw_g (lw_at lw_m4 223 rfl) rfl
theorem q997 : (Jvm.Cond.instanceMethod ({ cls := "ReversalCourt$Principle", name := "<init>", desc := "(LReversalCourt$Formula;)V" } : Jvm.MethodName)) ∈ lw_all := lw_g (lw_at lw_m4 225 rfl) rfl
theorem q998 : (Jvm.Cond.code ({ cls := "ReversalCourt$Principle", name := "<init>", desc := "(LReversalCourt$Formula;)V" } : Jvm.MethodName) prog_7_method_1_code (2 : Nat) (Option.none : Option Jvm.ClassFile.FieldType)) ∈ lw_all := lw_g (lw_at lw_m4 226 rfl) rfl
theorem q999 : (Jvm.Cond.methodLink "ReversalCourt$Principle" (1 : Nat) ({ cls := "java/lang/Object", name := "<init>", desc := "()V" } : Jvm.MethodName)) ∈ lw_all := lw_g (lw_at lw_m4 227 rfl) rfl
theorem q1000 : (Jvm.Cond.methodLink "ReversalCourt$Principle" (7 : Nat) ({ cls := "ReversalCourt$Formula", name := "sigma", desc := "()I" } : Jvm.MethodName)) ∈ lw_all := lw_g (lw_at lw_m4 228 rfl) rfl
theorem q1001 : (Jvm.Cond.methodLink "ReversalCourt$Principle" (18 : Nat) ({ cls := "ReversalCourt$Formula", name := "pi", desc := "()I" } : Jvm.MethodName)) ∈ lw_all := lw_g (lw_at lw_m4 229 rfl) rfl
theorem q1002 : (Jvm.Cond.fieldLink "ReversalCourt$Principle" (13 : Nat) "ReversalCourt$Principle" "sigma" "I") ∈ lw_all := lw_g (lw_at lw_m4 230 rfl) rfl
theorem q1004 : (Jvm.Cond.fieldLink "ReversalCourt$Principle" (21 : Nat) "ReversalCourt$Principle" "pi" "I") ∈ lw_all := lw_g (lw_at lw_m4 232 rfl) rfl
theorem q1006 : (Jvm.Cond.laysFinal "ReversalCourt$Principle" "ReversalCourt$Principle" "sigma" "I") ∈ lw_all := lw_g (lw_at lw_m4 234 rfl) rfl
theorem q1007 : (Jvm.Cond.soleField "ReversalCourt$Principle" "sigma") ∈ lw_all := lw_g (lw_at lw_m4 235 rfl) rfl
theorem q1008 : (Jvm.Cond.laysFinal "ReversalCourt$Principle" "ReversalCourt$Principle" "pi" "I") ∈ lw_all := lw_g (lw_at lw_m4 236 rfl) rfl
theorem q1009 : (Jvm.Cond.soleField "ReversalCourt$Principle" "pi") ∈ lw_all := lw_g (lw_at lw_m4 237 rfl) rfl
theorem q1010 : (Jvm.Cond.superclass "ReversalCourt$Principle" "java/lang/Object") ∈ lw_all := lw_g (lw_at lw_m4 238 rfl) rfl
theorem q1038 : (Jvm.Cond.selects "ReversalCourt$Principle" ({ cls := "java/lang/Object", name := "getClass", desc := "()Ljava/lang/Class;" } : Jvm.MethodName) ({ cls := "java/lang/Object", name := "getClass", desc := "()Ljava/lang/Class;" } : Jvm.MethodName)) ∈ lw_all := lw_g (lw_at lw_m5 26 rfl) rfl
theorem q1840 : (Jvm.Cond.castable "ReversalCourt$Principle" "java/lang/Object") ∈ lw_tbl := lw_at lw_m8 108 rfl
theorem in_X11 : ∀ w ∈ wsX110, w ∈ lw_all := lw_in wsX110 [1006, 1008] (by decide +kernel) (by decide +kernel)
/-! ReversalCourt$Rule -/
set_option maxRecDepth 100000
def RX12 : String := "ReversalCourt$Rule"
def TX12 : u_T := fun k => match k with
  | 0 => ("ReversalCourt$Rule", "number", "I", true)
  | 1 => ("ReversalCourt$Rule", "premises", "I", true)
  | 2 => ("ReversalCourt$Rule", "conclusion", "I", true)
  | _ => ("ReversalCourt$Rule", "this$0", "LReversalCourt;", true)
def tyX12 : Nat → FieldType := fun k => match k with
  | 0 => .int
  | 1 => .int
  | 2 => .int
  | _ => .object "ReversalCourt"
abbrev wsX120 : List Cond := u_ws RX12 TX12 4
theorem nmX12 : ∀ a, a < 4 → ∀ b, b < 4 → a ≠ b → (TX12 a).2.1 ≠ (TX12 b).2.1 := by decide +kernel
theorem tyX12_ok : ∀ k, k < 4 → parseFieldDescriptor (TX12 k).2.2.1 = some (tyX12 k) := by decide +kernel
abbrev cX12_adds : ByteArray := prog_14_method_2_code
def yX12_adds : MethodName := ⟨RX12, "adds", "(I)Z"⟩
def dkwX12_adds_1 : List UInt8 := [167, 0, 4, 3, 172]
abbrev dktX12_adds_1 : List UInt8 := dkwX12_adds_1 ++ []
def dkwX12_adds_0 : List UInt8 := [42, 180, 0, 29, 27, 2, 130, 126, 154, 0, 18, 27, 42, 180, 0, 32, 122, 4, 126, 154, 0, 7, 4]
abbrev dktX12_adds_0 : List UInt8 := dkwX12_adds_0 ++ dktX12_adds_1
theorem dksX12_adds_0 : cX12_adds.data.toList.drop 0 = dktX12_adds_0 := by decide +kernel
theorem dksX12_adds_1 : cX12_adds.data.toList.drop 23 = dktX12_adds_1 := dk_seg dksX12_adds_0 23 rfl rfl
theorem dX12_adds_0 : decode cX12_adds 0 = .ok (.aload_n 0, 1) := dk_42 (dk_at dksX12_adds_0 0 rfl rfl)
theorem dX12_adds_1 : decode cX12_adds 1 = .ok (.getfield 29, 3) := dk_180 0 29 (dk_at dksX12_adds_0 1 rfl rfl)
theorem dX12_adds_4 : decode cX12_adds 4 = .ok (.iload_n 1, 1) := dk_27 (dk_at dksX12_adds_0 4 rfl rfl)
theorem dX12_adds_5 : decode cX12_adds 5 = .ok (.iconst (-1), 1) := dk_2 (dk_at dksX12_adds_0 5 rfl rfl)
theorem dX12_adds_6 : decode cX12_adds 6 = .ok (.ixor, 1) := dk_130 (dk_at dksX12_adds_0 6 rfl rfl)
theorem dX12_adds_7 : decode cX12_adds 7 = .ok (.iand, 1) := dk_126 (dk_at dksX12_adds_0 7 rfl rfl)
theorem dX12_adds_8 : decode cX12_adds 8 = .ok (.ifCond .ne 18, 3) := dk_154 0 18 (dk_at dksX12_adds_0 8 rfl rfl)
theorem dX12_adds_11 : decode cX12_adds 11 = .ok (.iload_n 1, 1) := dk_27 (dk_at dksX12_adds_0 11 rfl rfl)
theorem dX12_adds_12 : decode cX12_adds 12 = .ok (.aload_n 0, 1) := dk_42 (dk_at dksX12_adds_0 12 rfl rfl)
theorem dX12_adds_13 : decode cX12_adds 13 = .ok (.getfield 32, 3) := dk_180 0 32 (dk_at dksX12_adds_0 13 rfl rfl)
theorem dX12_adds_16 : decode cX12_adds 16 = .ok (.ishr, 1) := dk_122 (dk_at dksX12_adds_0 16 rfl rfl)
theorem dX12_adds_17 : decode cX12_adds 17 = .ok (.iconst 1, 1) := dk_4 (dk_at dksX12_adds_0 17 rfl rfl)
theorem dX12_adds_18 : decode cX12_adds 18 = .ok (.iand, 1) := dk_126 (dk_at dksX12_adds_0 18 rfl rfl)
theorem dX12_adds_19 : decode cX12_adds 19 = .ok (.ifCond .ne 7, 3) := dk_154 0 7 (dk_at dksX12_adds_0 19 rfl rfl)
theorem dX12_adds_22 : decode cX12_adds 22 = .ok (.iconst 1, 1) := dk_4 (dk_at dksX12_adds_0 22 rfl rfl)
theorem dX12_adds_23 : decode cX12_adds 23 = .ok (.goto 4, 3) := dk_167 0 4 (dk_at dksX12_adds_1 0 rfl rfl)
theorem dX12_adds_26 : decode cX12_adds 26 = .ok (.iconst 0, 1) := dk_3 (dk_at dksX12_adds_1 3 rfl rfl)
theorem dX12_adds_27 : decode cX12_adds 27 = .ok (.ireturn, 1) := dk_172 (dk_at dksX12_adds_1 4 rfl rfl)
abbrev cX12_init : ByteArray := prog_14_method_1_code
def yX12_init : MethodName := ⟨RX12, "<init>", "(LReversalCourt;II)V"⟩
def dkwX12_init_1 : List UInt8 := [28, 181, 0, 29, 42, 29, 181, 0, 32, 177]
abbrev dktX12_init_1 : List UInt8 := dkwX12_init_1 ++ []
def dkwX12_init_0 : List UInt8 := [42, 43, 181, 0, 1, 42, 183, 0, 7, 42, 42, 180, 0, 1, 180, 0, 13, 182, 0, 19, 181, 0, 25, 42]
abbrev dktX12_init_0 : List UInt8 := dkwX12_init_0 ++ dktX12_init_1
theorem dksX12_init_0 : cX12_init.data.toList.drop 0 = dktX12_init_0 := by decide +kernel
theorem dksX12_init_1 : cX12_init.data.toList.drop 24 = dktX12_init_1 := dk_seg dksX12_init_0 24 rfl rfl
theorem dX12_init_0 : decode cX12_init 0 = .ok (.aload_n 0, 1) := dk_42 (dk_at dksX12_init_0 0 rfl rfl)
theorem dX12_init_1 : decode cX12_init 1 = .ok (.aload_n 1, 1) := dk_43 (dk_at dksX12_init_0 1 rfl rfl)
theorem dX12_init_2 : decode cX12_init 2 = .ok (.putfield 1, 3) := dk_181 0 1 (dk_at dksX12_init_0 2 rfl rfl)
theorem dX12_init_5 : decode cX12_init 5 = .ok (.aload_n 0, 1) := dk_42 (dk_at dksX12_init_0 5 rfl rfl)
theorem dX12_init_6 : decode cX12_init 6 = .ok (.invokespecial 7, 3) := dk_183 0 7 (dk_at dksX12_init_0 6 rfl rfl)
theorem dX12_init_9 : decode cX12_init 9 = .ok (.aload_n 0, 1) := dk_42 (dk_at dksX12_init_0 9 rfl rfl)
theorem dX12_init_10 : decode cX12_init 10 = .ok (.aload_n 0, 1) := dk_42 (dk_at dksX12_init_0 10 rfl rfl)
theorem dX12_init_11 : decode cX12_init 11 = .ok (.getfield 1, 3) := dk_180 0 1 (dk_at dksX12_init_0 11 rfl rfl)
theorem dX12_init_14 : decode cX12_init 14 = .ok (.getfield 13, 3) := dk_180 0 13 (dk_at dksX12_init_0 14 rfl rfl)
theorem dX12_init_17 : decode cX12_init 17 = .ok (.invokevirtual 19, 3) := dk_182 0 19 (dk_at dksX12_init_0 17 rfl rfl)
theorem dX12_init_20 : decode cX12_init 20 = .ok (.putfield 25, 3) := dk_181 0 25 (dk_at dksX12_init_0 20 rfl rfl)
theorem dX12_init_23 : decode cX12_init 23 = .ok (.aload_n 0, 1) := dk_42 (dk_at dksX12_init_0 23 rfl rfl)
theorem dX12_init_24 : decode cX12_init 24 = .ok (.iload_n 2, 1) := dk_28 (dk_at dksX12_init_1 0 rfl rfl)
theorem dX12_init_25 : decode cX12_init 25 = .ok (.putfield 29, 3) := dk_181 0 29 (dk_at dksX12_init_1 1 rfl rfl)
theorem dX12_init_28 : decode cX12_init 28 = .ok (.aload_n 0, 1) := dk_42 (dk_at dksX12_init_1 4 rfl rfl)
theorem dX12_init_29 : decode cX12_init 29 = .ok (.iload_n 3, 1) := dk_29 (dk_at dksX12_init_1 5 rfl rfl)
theorem dX12_init_30 : decode cX12_init 30 = .ok (.putfield 32, 3) := dk_181 0 32 (dk_at dksX12_init_1 6 rfl rfl)
theorem dX12_init_33 : decode cX12_init 33 = .ok (.return_, 1) := dk_177 (dk_at dksX12_init_1 9 rfl rfl)
theorem q89 : (Jvm.Cond.initialized "ReversalCourt$Rule") ∈ lw_all := lw_g (lw_at lw_m1 37 rfl) rfl
theorem q166 : (Jvm.Cond.fieldLinkNest "ReversalCourt$Rule" (13 : Nat) "ReversalCourt" "rules" "Ljava/util/ArrayList;" "ReversalCourt") ∈ lw_tbl := lw_at lw_m1 114 rfl
theorem q864 : (Jvm.Cond.instanceMethod ({ cls := "ReversalCourt$Rule", name := "adds", desc := "(I)Z" } : Jvm.MethodName)) ∈ lw_all := lw_g (lw_at lw_m4 92 rfl) rfl
theorem q865 : (Jvm.Cond.selects "ReversalCourt$Rule" ({ cls := "ReversalCourt$Rule", name := "adds", desc := "(I)Z" } : Jvm.MethodName) ({ cls := "ReversalCourt$Rule", name := "adds", desc := "(I)Z" } : Jvm.MethodName)) ∈ lw_all := lw_g (lw_at lw_m4 93 rfl) rfl
theorem q866 : (Jvm.Cond.code ({ cls := "ReversalCourt$Rule", name := "adds", desc := "(I)Z" } : Jvm.MethodName) prog_14_method_2_code (2 : Nat) (Option.some Jvm.ClassFile.FieldType.boolean)) ∈ lw_all := lw_g (lw_at lw_m4 94 rfl) rfl
theorem q1045 : (Jvm.Cond.selects "ReversalCourt$Rule" ({ cls := "java/lang/Object", name := "getClass", desc := "()Ljava/lang/Class;" } : Jvm.MethodName) ({ cls := "java/lang/Object", name := "getClass", desc := "()Ljava/lang/Class;" } : Jvm.MethodName)) ∈ lw_all := lw_g (lw_at lw_m5 33 rfl) rfl
theorem q1102 : (Jvm.Cond.instantiable "ReversalCourt$Rule" (4 : Nat)) ∈ lw_all := lw_g (lw_at lw_m5 90 rfl) rfl
theorem q1104 : (Jvm.Cond.instanceMethod ({ cls := "ReversalCourt$Rule", name := "<init>", desc := "(LReversalCourt;II)V" } : Jvm.MethodName)) ∈ lw_all := lw_g (lw_at lw_m5 92 rfl) rfl
theorem q1105 : (Jvm.Cond.code ({ cls := "ReversalCourt$Rule", name := "<init>", desc := "(LReversalCourt;II)V" } : Jvm.MethodName) prog_14_method_1_code (4 : Nat) (Option.none : Option Jvm.ClassFile.FieldType)) ∈ lw_all := lw_g (lw_at lw_m5 93 rfl) rfl
theorem q1106 : (Jvm.Cond.methodLink "ReversalCourt$Rule" (7 : Nat) ({ cls := "java/lang/Object", name := "<init>", desc := "()V" } : Jvm.MethodName)) ∈ lw_all := lw_g (lw_at lw_m5 94 rfl) rfl
theorem q1107 : (Jvm.Cond.methodLink "ReversalCourt$Rule" (19 : Nat) ({ cls := "java/util/ArrayList", name := "size", desc := "()I" } : Jvm.MethodName)) ∈ lw_all := lw_g (lw_at lw_m5 95 rfl) rfl
theorem q1108 : (Jvm.Cond.fieldLink "ReversalCourt$Rule" (25 : Nat) "ReversalCourt$Rule" "number" "I") ∈ lw_all := lw_g (lw_at lw_m5 96 rfl) rfl
theorem q1110 : (Jvm.Cond.fieldLink "ReversalCourt$Rule" (29 : Nat) "ReversalCourt$Rule" "premises" "I") ∈ lw_all := lw_g (lw_at lw_m5 98 rfl) rfl
theorem q1112 : (Jvm.Cond.fieldLink "ReversalCourt$Rule" (32 : Nat) "ReversalCourt$Rule" "conclusion" "I") ∈ lw_all := lw_g (lw_at lw_m5 100 rfl) rfl
theorem q1114 : (Jvm.Cond.fieldLink "ReversalCourt$Rule" (1 : Nat) "ReversalCourt$Rule" "this$0" "LReversalCourt;") ∈ lw_all := lw_g (lw_at lw_m5 102 rfl) rfl
theorem q1115 : (Jvm.Cond.laysFinal "ReversalCourt$Rule" "ReversalCourt$Rule" "number" "I") ∈ lw_all := lw_g (lw_at lw_m5 103 rfl) rfl
theorem q1116 : (Jvm.Cond.soleField "ReversalCourt$Rule" "number") ∈ lw_all := lw_g (lw_at lw_m5 104 rfl) rfl
theorem q1117 : (Jvm.Cond.laysFinal "ReversalCourt$Rule" "ReversalCourt$Rule" "premises" "I") ∈ lw_all := lw_g (lw_at lw_m5 105 rfl) rfl
theorem q1118 : (Jvm.Cond.soleField "ReversalCourt$Rule" "premises") ∈ lw_all := lw_g (lw_at lw_m5 106 rfl) rfl
theorem q1119 : (Jvm.Cond.laysFinal "ReversalCourt$Rule" "ReversalCourt$Rule" "conclusion" "I") ∈ lw_all := lw_g (lw_at lw_m5 107 rfl) rfl
theorem q1120 : (Jvm.Cond.soleField "ReversalCourt$Rule" "conclusion") ∈ lw_all := lw_g (lw_at lw_m5 108 rfl) rfl
theorem q1121 : (Jvm.Cond.laysFinal "ReversalCourt$Rule" "ReversalCourt$Rule" "this$0" "LReversalCourt;") ∈ lw_all := lw_g (lw_at lw_m5 109 rfl) rfl
theorem q1122 : (Jvm.Cond.soleField "ReversalCourt$Rule" "this$0") ∈ lw_all := lw_g (lw_at lw_m5 110 rfl) rfl
theorem q1123 : (Jvm.Cond.superclass "ReversalCourt$Rule" "java/lang/Object") ∈ lw_all := lw_g (lw_at lw_m5 111 rfl) rfl
theorem q1842 : (Jvm.Cond.castable "ReversalCourt$Rule" "java/lang/Object") ∈ lw_tbl := lw_at lw_m8 110 rfl
theorem in_X12 : ∀ w ∈ wsX120, w ∈ lw_all := lw_in wsX120 [1115, 1117, 1119, 1121] (by decide +kernel) (by decide +kernel)
/-! ReversalCourt$Sets -/
set_option maxRecDepth 100000
def RX13 : String := "ReversalCourt$Sets"
def TX13 : u_T := fun k => match k with
  | 0 => ("ReversalCourt$Sets", "pool", "I", true)
  | 1 => ("ReversalCourt$Sets", "many", "I", false)
  | _ => ("ReversalCourt$Sets", "next", "I", false)
def tyX13 : Nat → FieldType := fun k => match k with
  | 0 => .int
  | 1 => .int
  | _ => .int
abbrev wsX130 : List Cond := u_ws RX13 TX13 3
theorem nmX13 : ∀ a, a < 3 → ∀ b, b < 3 → a ≠ b → (TX13 a).2.1 ≠ (TX13 b).2.1 := by decide +kernel
theorem tyX13_ok : ∀ k, k < 3 → parseFieldDescriptor (TX13 k).2.2.1 = some (tyX13 k) := by decide +kernel
abbrev cX13_init : ByteArray := prog_15_method_1_code
def yX13_init : MethodName := ⟨RX13, "<init>", "(I)V"⟩
def dkwX13_init_0 : List UInt8 := [42, 183, 0, 1, 42, 27, 181, 0, 7, 177]
abbrev dktX13_init_0 : List UInt8 := dkwX13_init_0 ++ []
theorem dksX13_init_0 : cX13_init.data.toList.drop 0 = dktX13_init_0 := by decide +kernel
theorem dX13_init_0 : decode cX13_init 0 = .ok (.aload_n 0, 1) := dk_42 (dk_at dksX13_init_0 0 rfl rfl)
theorem dX13_init_1 : decode cX13_init 1 = .ok (.invokespecial 1, 3) := dk_183 0 1 (dk_at dksX13_init_0 1 rfl rfl)
theorem dX13_init_4 : decode cX13_init 4 = .ok (.aload_n 0, 1) := dk_42 (dk_at dksX13_init_0 4 rfl rfl)
theorem dX13_init_5 : decode cX13_init 5 = .ok (.iload_n 1, 1) := dk_27 (dk_at dksX13_init_0 5 rfl rfl)
theorem dX13_init_6 : decode cX13_init 6 = .ok (.putfield 7, 3) := dk_181 0 7 (dk_at dksX13_init_0 6 rfl rfl)
theorem dX13_init_9 : decode cX13_init 9 = .ok (.return_, 1) := dk_177 (dk_at dksX13_init_0 9 rfl rfl)
abbrev cX13_hasNext : ByteArray := prog_15_method_2_code
def yX13_hasNext : MethodName := ⟨RX13, "hasNext", "()Z"⟩
def dkwX13_hasNext_0 : List UInt8 := [42, 180, 0, 13, 42, 180, 0, 7, 184, 0, 16, 163, 0, 7, 4, 167, 0, 4, 3, 172]
abbrev dktX13_hasNext_0 : List UInt8 := dkwX13_hasNext_0 ++ []
theorem dksX13_hasNext_0 : cX13_hasNext.data.toList.drop 0 = dktX13_hasNext_0 := by decide +kernel
theorem dX13_hasNext_0 : decode cX13_hasNext 0 = .ok (.aload_n 0, 1) := dk_42 (dk_at dksX13_hasNext_0 0 rfl rfl)
theorem dX13_hasNext_1 : decode cX13_hasNext 1 = .ok (.getfield 13, 3) := dk_180 0 13 (dk_at dksX13_hasNext_0 1 rfl rfl)
theorem dX13_hasNext_4 : decode cX13_hasNext 4 = .ok (.aload_n 0, 1) := dk_42 (dk_at dksX13_hasNext_0 4 rfl rfl)
theorem dX13_hasNext_5 : decode cX13_hasNext 5 = .ok (.getfield 7, 3) := dk_180 0 7 (dk_at dksX13_hasNext_0 5 rfl rfl)
theorem dX13_hasNext_8 : decode cX13_hasNext 8 = .ok (.invokestatic 16, 3) := dk_184 0 16 (dk_at dksX13_hasNext_0 8 rfl rfl)
theorem dX13_hasNext_11 : decode cX13_hasNext 11 = .ok (.if_icmp .gt 7, 3) := dk_163 0 7 (dk_at dksX13_hasNext_0 11 rfl rfl)
theorem dX13_hasNext_14 : decode cX13_hasNext 14 = .ok (.iconst 1, 1) := dk_4 (dk_at dksX13_hasNext_0 14 rfl rfl)
theorem dX13_hasNext_15 : decode cX13_hasNext 15 = .ok (.goto 4, 3) := dk_167 0 4 (dk_at dksX13_hasNext_0 15 rfl rfl)
theorem dX13_hasNext_18 : decode cX13_hasNext 18 = .ok (.iconst 0, 1) := dk_3 (dk_at dksX13_hasNext_0 18 rfl rfl)
theorem dX13_hasNext_19 : decode cX13_hasNext 19 = .ok (.ireturn, 1) := dk_172 (dk_at dksX13_hasNext_0 19 rfl rfl)
abbrev cX13_next : ByteArray := prog_15_method_5_code
def yX13_next : MethodName := ⟨RX13, "next", "()Ljava/lang/Object;"⟩
theorem dX13_next_0 : decode cX13_next 0 = .ok (.aload_n 0, 1) := by decide +kernel
theorem dX13_next_1 : decode cX13_next 1 = .ok (.invokevirtual 39, 3) := by decide +kernel
theorem dX13_next_4 : decode cX13_next 4 = .ok (.areturn, 1) := by decide +kernel
abbrev cX13_next_2 : ByteArray := prog_15_method_3_code
def yX13_next_2 : MethodName := ⟨RX13, "next", "()Ljava/lang/Integer;"⟩
def dkwX13_next_2_1 : List UInt8 := [27, 184, 0, 35, 176]
abbrev dktX13_next_2_1 : List UInt8 := dkwX13_next_2_1 ++ []
def dkwX13_next_2_0 : List UInt8 := [42, 182, 0, 22, 154, 0, 11, 187, 0, 26, 89, 183, 0, 28, 191, 42, 180, 0, 29, 60, 42, 182, 0, 32]
abbrev dktX13_next_2_0 : List UInt8 := dkwX13_next_2_0 ++ dktX13_next_2_1
theorem dksX13_next_2_0 : cX13_next_2.data.toList.drop 0 = dktX13_next_2_0 := by decide +kernel
theorem dksX13_next_2_1 : cX13_next_2.data.toList.drop 24 = dktX13_next_2_1 := dk_seg dksX13_next_2_0 24 rfl rfl
theorem dX13_next_2_0 : decode cX13_next_2 0 = .ok (.aload_n 0, 1) := dk_42 (dk_at dksX13_next_2_0 0 rfl rfl)
theorem dX13_next_2_1 : decode cX13_next_2 1 = .ok (.invokevirtual 22, 3) := dk_182 0 22 (dk_at dksX13_next_2_0 1 rfl rfl)
theorem dX13_next_2_4 : decode cX13_next_2 4 = .ok (.ifCond .ne 11, 3) := dk_154 0 11 (dk_at dksX13_next_2_0 4 rfl rfl)
theorem dX13_next_2_7 : decode cX13_next_2 7 = .ok (.new 26, 3) := dk_187 0 26 (dk_at dksX13_next_2_0 7 rfl rfl)
theorem dX13_next_2_10 : decode cX13_next_2 10 = .ok (.dup, 1) := dk_89 (dk_at dksX13_next_2_0 10 rfl rfl)
theorem dX13_next_2_11 : decode cX13_next_2 11 = .ok (.invokespecial 28, 3) := dk_183 0 28 (dk_at dksX13_next_2_0 11 rfl rfl)
theorem dX13_next_2_14 : decode cX13_next_2 14 = .ok (.athrow, 1) := dk_191 (dk_at dksX13_next_2_0 14 rfl rfl)
theorem dX13_next_2_15 : decode cX13_next_2 15 = .ok (.aload_n 0, 1) := dk_42 (dk_at dksX13_next_2_0 15 rfl rfl)
theorem dX13_next_2_16 : decode cX13_next_2 16 = .ok (.getfield 29, 3) := dk_180 0 29 (dk_at dksX13_next_2_0 16 rfl rfl)
theorem dX13_next_2_19 : decode cX13_next_2 19 = .ok (.istore_n 1, 1) := dk_60 (dk_at dksX13_next_2_0 19 rfl rfl)
theorem dX13_next_2_20 : decode cX13_next_2 20 = .ok (.aload_n 0, 1) := dk_42 (dk_at dksX13_next_2_0 20 rfl rfl)
theorem dX13_next_2_21 : decode cX13_next_2 21 = .ok (.invokevirtual 32, 3) := dk_182 0 32 (dk_at dksX13_next_2_0 21 rfl rfl)
theorem dX13_next_2_24 : decode cX13_next_2 24 = .ok (.iload_n 1, 1) := dk_27 (dk_at dksX13_next_2_1 0 rfl rfl)
theorem dX13_next_2_25 : decode cX13_next_2 25 = .ok (.invokestatic 35, 3) := dk_184 0 35 (dk_at dksX13_next_2_1 1 rfl rfl)
theorem dX13_next_2_28 : decode cX13_next_2 28 = .ok (.areturn, 1) := dk_176 (dk_at dksX13_next_2_1 4 rfl rfl)
abbrev cX13_go : ByteArray := prog_15_method_4_code
def yX13_go : MethodName := ⟨RX13, "go", "()V"⟩
def dkwX13_go_3 : List UInt8 := [177]
abbrev dktX13_go_3 : List UInt8 := dkwX13_go_3 ++ []
def dkwX13_go_2 : List UInt8 := [42, 180, 0, 7, 2, 130, 126, 154, 255, 202, 42, 180, 0, 29, 184, 0, 16, 42, 180, 0, 13, 160, 255, 188]
abbrev dktX13_go_2 : List UInt8 := dkwX13_go_2 ++ dktX13_go_3
def dkwX13_go_1 : List UInt8 := [181, 0, 29, 42, 89, 180, 0, 13, 4, 96, 181, 0, 13, 42, 182, 0, 22, 153, 0, 31, 42, 180, 0, 29]
abbrev dktX13_go_1 : List UInt8 := dkwX13_go_1 ++ dktX13_go_2
def dkwX13_go_0 : List UInt8 := [42, 89, 180, 0, 29, 4, 96, 181, 0, 29, 42, 180, 0, 29, 42, 180, 0, 7, 164, 0, 18, 42, 3]
abbrev dktX13_go_0 : List UInt8 := dkwX13_go_0 ++ dktX13_go_1
theorem dksX13_go_0 : cX13_go.data.toList.drop 0 = dktX13_go_0 := by decide +kernel
theorem dksX13_go_1 : cX13_go.data.toList.drop 23 = dktX13_go_1 := dk_seg dksX13_go_0 23 rfl rfl
theorem dksX13_go_2 : cX13_go.data.toList.drop 47 = dktX13_go_2 := dk_seg dksX13_go_1 24 rfl rfl
theorem dksX13_go_3 : cX13_go.data.toList.drop 71 = dktX13_go_3 := dk_seg dksX13_go_2 24 rfl rfl
theorem dX13_go_0 : decode cX13_go 0 = .ok (.aload_n 0, 1) := dk_42 (dk_at dksX13_go_0 0 rfl rfl)
theorem dX13_go_1 : decode cX13_go 1 = .ok (.dup, 1) := dk_89 (dk_at dksX13_go_0 1 rfl rfl)
theorem dX13_go_2 : decode cX13_go 2 = .ok (.getfield 29, 3) := dk_180 0 29 (dk_at dksX13_go_0 2 rfl rfl)
theorem dX13_go_5 : decode cX13_go 5 = .ok (.iconst 1, 1) := dk_4 (dk_at dksX13_go_0 5 rfl rfl)
theorem dX13_go_6 : decode cX13_go 6 = .ok (.iadd, 1) := dk_96 (dk_at dksX13_go_0 6 rfl rfl)
theorem dX13_go_7 : decode cX13_go 7 = .ok (.putfield 29, 3) := dk_181 0 29 (dk_at dksX13_go_0 7 rfl rfl)
theorem dX13_go_10 : decode cX13_go 10 = .ok (.aload_n 0, 1) := dk_42 (dk_at dksX13_go_0 10 rfl rfl)
theorem dX13_go_11 : decode cX13_go 11 = .ok (.getfield 29, 3) := dk_180 0 29 (dk_at dksX13_go_0 11 rfl rfl)
theorem dX13_go_14 : decode cX13_go 14 = .ok (.aload_n 0, 1) := dk_42 (dk_at dksX13_go_0 14 rfl rfl)
theorem dX13_go_15 : decode cX13_go 15 = .ok (.getfield 7, 3) := dk_180 0 7 (dk_at dksX13_go_0 15 rfl rfl)
theorem dX13_go_18 : decode cX13_go 18 = .ok (.if_icmp .le 18, 3) := dk_164 0 18 (dk_at dksX13_go_0 18 rfl rfl)
theorem dX13_go_21 : decode cX13_go 21 = .ok (.aload_n 0, 1) := dk_42 (dk_at dksX13_go_0 21 rfl rfl)
theorem dX13_go_22 : decode cX13_go 22 = .ok (.iconst 0, 1) := dk_3 (dk_at dksX13_go_0 22 rfl rfl)
theorem dX13_go_23 : decode cX13_go 23 = .ok (.putfield 29, 3) := dk_181 0 29 (dk_at dksX13_go_1 0 rfl rfl)
theorem dX13_go_26 : decode cX13_go 26 = .ok (.aload_n 0, 1) := dk_42 (dk_at dksX13_go_1 3 rfl rfl)
theorem dX13_go_27 : decode cX13_go 27 = .ok (.dup, 1) := dk_89 (dk_at dksX13_go_1 4 rfl rfl)
theorem dX13_go_28 : decode cX13_go 28 = .ok (.getfield 13, 3) := dk_180 0 13 (dk_at dksX13_go_1 5 rfl rfl)
theorem dX13_go_31 : decode cX13_go 31 = .ok (.iconst 1, 1) := dk_4 (dk_at dksX13_go_1 8 rfl rfl)
theorem dX13_go_32 : decode cX13_go 32 = .ok (.iadd, 1) := dk_96 (dk_at dksX13_go_1 9 rfl rfl)
theorem dX13_go_33 : decode cX13_go 33 = .ok (.putfield 13, 3) := dk_181 0 13 (dk_at dksX13_go_1 10 rfl rfl)
theorem dX13_go_36 : decode cX13_go 36 = .ok (.aload_n 0, 1) := dk_42 (dk_at dksX13_go_1 13 rfl rfl)
theorem dX13_go_37 : decode cX13_go 37 = .ok (.invokevirtual 22, 3) := dk_182 0 22 (dk_at dksX13_go_1 14 rfl rfl)
theorem dX13_go_40 : decode cX13_go 40 = .ok (.ifCond .eq 31, 3) := dk_153 0 31 (dk_at dksX13_go_1 17 rfl rfl)
theorem dX13_go_43 : decode cX13_go 43 = .ok (.aload_n 0, 1) := dk_42 (dk_at dksX13_go_1 20 rfl rfl)
theorem dX13_go_44 : decode cX13_go 44 = .ok (.getfield 29, 3) := dk_180 0 29 (dk_at dksX13_go_1 21 rfl rfl)
theorem dX13_go_47 : decode cX13_go 47 = .ok (.aload_n 0, 1) := dk_42 (dk_at dksX13_go_2 0 rfl rfl)
theorem dX13_go_48 : decode cX13_go 48 = .ok (.getfield 7, 3) := dk_180 0 7 (dk_at dksX13_go_2 1 rfl rfl)
theorem dX13_go_51 : decode cX13_go 51 = .ok (.iconst (-1), 1) := dk_2 (dk_at dksX13_go_2 4 rfl rfl)
theorem dX13_go_52 : decode cX13_go 52 = .ok (.ixor, 1) := dk_130 (dk_at dksX13_go_2 5 rfl rfl)
theorem dX13_go_53 : decode cX13_go 53 = .ok (.iand, 1) := dk_126 (dk_at dksX13_go_2 6 rfl rfl)
theorem dX13_go_54 : decode cX13_go 54 = .ok (.ifCond .ne (-54), 3) := dk_154 255 202 (dk_at dksX13_go_2 7 rfl rfl)
theorem dX13_go_57 : decode cX13_go 57 = .ok (.aload_n 0, 1) := dk_42 (dk_at dksX13_go_2 10 rfl rfl)
theorem dX13_go_58 : decode cX13_go 58 = .ok (.getfield 29, 3) := dk_180 0 29 (dk_at dksX13_go_2 11 rfl rfl)
theorem dX13_go_61 : decode cX13_go 61 = .ok (.invokestatic 16, 3) := dk_184 0 16 (dk_at dksX13_go_2 14 rfl rfl)
theorem dX13_go_64 : decode cX13_go 64 = .ok (.aload_n 0, 1) := dk_42 (dk_at dksX13_go_2 17 rfl rfl)
theorem dX13_go_65 : decode cX13_go 65 = .ok (.getfield 13, 3) := dk_180 0 13 (dk_at dksX13_go_2 18 rfl rfl)
theorem dX13_go_68 : decode cX13_go 68 = .ok (.if_icmp .ne (-68), 3) := dk_160 255 188 (dk_at dksX13_go_2 21 rfl rfl)
theorem dX13_go_71 : decode cX13_go 71 = .ok (.return_, 1) := dk_177 (dk_at dksX13_go_3 0 rfl rfl)
theorem q91 : (Jvm.Cond.initialized "ReversalCourt$Sets") ∈ lw_all := lw_g (lw_at lw_m1 39 rfl) rfl
theorem q1046 : (Jvm.Cond.selects "ReversalCourt$Sets" ({ cls := "java/lang/Object", name := "getClass", desc := "()Ljava/lang/Class;" } : Jvm.MethodName) ({ cls := "java/lang/Object", name := "getClass", desc := "()Ljava/lang/Class;" } : Jvm.MethodName)) ∈ lw_all := lw_g (lw_at lw_m5 34 rfl) rfl
theorem q1206 : (Jvm.Cond.instantiable "ReversalCourt$Sets" (3 : Nat)) ∈ lw_all := lw_g (lw_at lw_m5 194 rfl) rfl
theorem q1208 : (Jvm.Cond.instanceMethod ({ cls := "ReversalCourt$Sets", name := "<init>", desc := "(I)V" } : Jvm.MethodName)) ∈ lw_all := lw_g (lw_at lw_m5 196 rfl) rfl
theorem q1209 : (Jvm.Cond.code ({ cls := "ReversalCourt$Sets", name := "<init>", desc := "(I)V" } : Jvm.MethodName) prog_15_method_1_code (2 : Nat) (Option.none : Option Jvm.ClassFile.FieldType)) ∈ lw_all := lw_g (lw_at lw_m5 197 rfl) rfl
theorem q1210 : (Jvm.Cond.methodLink "ReversalCourt$Sets" (1 : Nat) ({ cls := "java/lang/Object", name := "<init>", desc := "()V" } : Jvm.MethodName)) ∈ lw_all := lw_g (lw_at lw_m5 198 rfl) rfl
theorem q1211 : (Jvm.Cond.fieldLink "ReversalCourt$Sets" (7 : Nat) "ReversalCourt$Sets" "pool" "I") ∈ lw_all := lw_g (lw_at lw_m5 199 rfl) rfl
theorem q1212 : (Jvm.Cond.fieldLink "ReversalCourt$Sets" (13 : Nat) "ReversalCourt$Sets" "many" "I") ∈ lw_all := lw_g (lw_at lw_m5 200 rfl) rfl
theorem q1213 : (Jvm.Cond.fieldLink "ReversalCourt$Sets" (29 : Nat) "ReversalCourt$Sets" "next" "I") ∈ lw_all := lw_g (lw_at lw_m5 201 rfl) rfl
theorem q1214 : (Jvm.Cond.laysFinal "ReversalCourt$Sets" "ReversalCourt$Sets" "pool" "I") ∈ lw_all := lw_g (lw_at lw_m5 202 rfl) rfl
theorem q1215 : (Jvm.Cond.soleField "ReversalCourt$Sets" "pool") ∈ lw_all := lw_g (lw_at lw_m5 203 rfl) rfl
theorem q1216 : (Jvm.Cond.lays "ReversalCourt$Sets" "ReversalCourt$Sets" "many" "I") ∈ lw_all := lw_g (lw_at lw_m5 204 rfl) rfl
theorem q1217 : (Jvm.Cond.soleField "ReversalCourt$Sets" "many") ∈ lw_all := lw_g (lw_at lw_m5 205 rfl) rfl
theorem q1218 : (Jvm.Cond.lays "ReversalCourt$Sets" "ReversalCourt$Sets" "next" "I") ∈ lw_all := lw_g (lw_at lw_m5 206 rfl) rfl
theorem q1219 : (Jvm.Cond.soleField "ReversalCourt$Sets" "next") ∈ lw_all := lw_g (lw_at lw_m5 207 rfl) rfl
theorem q1220 : (Jvm.Cond.superclass "ReversalCourt$Sets" "java/lang/Object") ∈ lw_all := lw_g (lw_at lw_m5 208 rfl) rfl
theorem q1231 : (Jvm.Cond.castable "ReversalCourt$Sets" "java/util/Iterator") ∈ lw_tbl := lw_at lw_m5 219 rfl
theorem q1232 : (Jvm.Cond.selects "ReversalCourt$Sets" ({ cls := "java/util/Iterator", name := "hasNext", desc := "()Z" } : Jvm.MethodName) ({ cls := "ReversalCourt$Sets", name := "hasNext", desc := "()Z" } : Jvm.MethodName)) ∈ lw_all := lw_g (lw_at lw_m5 220 rfl) rfl
theorem q1233 : (Jvm.Cond.unhidden "ReversalCourt$Sets" "hasNext" "()Z") ∈ lw_tbl := lw_at lw_m5 221 rfl
theorem q1234 : (Jvm.Cond.instanceMethod ({ cls := "ReversalCourt$Sets", name := "hasNext", desc := "()Z" } : Jvm.MethodName)) ∈ lw_all := lw_g (lw_at lw_m5 222 rfl) rfl
theorem q1235 : (Jvm.Cond.publicMethod ({ cls := "ReversalCourt$Sets", name := "hasNext", desc := "()Z" } : Jvm.MethodName)) ∈ lw_tbl := lw_at lw_m5 223 rfl
theorem q1236 : (Jvm.Cond.code ({ cls := "ReversalCourt$Sets", name := "hasNext", desc := "()Z" } : Jvm.MethodName) prog_15_method_2_code (1 : Nat) (Option.some Jvm.ClassFile.FieldType.boolean)) ∈ lw_all := lw_g (lw_at lw_m5 224 rfl) rfl
theorem q1237 : (Jvm.Cond.methodLink "ReversalCourt$Sets" (16 : Nat) ({ cls := "java/lang/Integer", name := "bitCount", desc := "(I)I" } : Jvm.MethodName)) ∈ lw_all := lw_g (lw_at lw_m5 225 rfl) rfl
theorem q1256 : (Jvm.Cond.selects "ReversalCourt$Sets" ({ cls := "java/util/Iterator", name := "next", desc := "()Ljava/lang/Object;" } : Jvm.MethodName) ({ cls := "ReversalCourt$Sets", name := "next", desc := "()Ljava/lang/Object;" } : Jvm.MethodName)) ∈ lw_all := lw_g (lw_at lw_m6 4 rfl) rfl
theorem q1257 : (Jvm.Cond.unhidden "ReversalCourt$Sets" "next" "()Ljava/lang/Object;") ∈ lw_tbl := lw_at lw_m6 5 rfl
theorem q1258 : (Jvm.Cond.instanceMethod ({ cls := "ReversalCourt$Sets", name := "next", desc := "()Ljava/lang/Object;" } : Jvm.MethodName)) ∈ lw_all := lw_g (lw_at lw_m6 6 rfl) rfl
theorem q1259 : (Jvm.Cond.publicMethod ({ cls := "ReversalCourt$Sets", name := "next", desc := "()Ljava/lang/Object;" } : Jvm.MethodName)) ∈ lw_tbl := lw_at lw_m6 7 rfl
theorem q1260 : (Jvm.Cond.code ({ cls := "ReversalCourt$Sets", name := "next", desc := "()Ljava/lang/Object;" } : Jvm.MethodName) prog_15_method_5_code (1 : Nat) (Option.some (Jvm.ClassFile.FieldType.object "java/lang/Object"))) ∈ lw_all := lw_g (lw_at lw_m6 8 rfl) rfl
theorem q1261 : (Jvm.Cond.methodLink "ReversalCourt$Sets" (39 : Nat) ({ cls := "ReversalCourt$Sets", name := "next", desc := "()Ljava/lang/Integer;" } : Jvm.MethodName)) ∈ lw_all := lw_g (lw_at lw_m6 9 rfl) rfl
theorem q1262 : (Jvm.Cond.instanceMethod ({ cls := "ReversalCourt$Sets", name := "next", desc := "()Ljava/lang/Integer;" } : Jvm.MethodName)) ∈ lw_all := lw_g (lw_at lw_m6 10 rfl) rfl
theorem q1263 : (Jvm.Cond.selects "ReversalCourt$Sets" ({ cls := "ReversalCourt$Sets", name := "next", desc := "()Ljava/lang/Integer;" } : Jvm.MethodName) ({ cls := "ReversalCourt$Sets", name := "next", desc := "()Ljava/lang/Integer;" } : Jvm.MethodName)) ∈ lw_all := lw_g (lw_at lw_m6 11 rfl) rfl
theorem q1264 : (Jvm.Cond.code ({ cls := "ReversalCourt$Sets", name := "next", desc := "()Ljava/lang/Integer;" } : Jvm.MethodName) prog_15_method_3_code (2 : Nat) (Option.some (Jvm.ClassFile.FieldType.object "java/lang/Integer"))) ∈ lw_all := lw_g (lw_at lw_m6 12 rfl) rfl
theorem q1265 : (Jvm.Cond.methodLink "ReversalCourt$Sets" (22 : Nat) ({ cls := "ReversalCourt$Sets", name := "hasNext", desc := "()Z" } : Jvm.MethodName)) ∈ lw_all := lw_g (lw_at lw_m6 13 rfl) rfl
theorem q1266 : (Jvm.Cond.classLink "ReversalCourt$Sets" (26 : Nat) "java/util/NoSuchElementException") ∈ lw_all := lw_g (lw_at lw_m6 14 rfl) rfl
theorem q1275 : (Jvm.Cond.methodLink "ReversalCourt$Sets" (28 : Nat) ({ cls := "java/util/NoSuchElementException", name := "<init>", desc := "()V" } : Jvm.MethodName)) ∈ lw_all := lw_g (lw_at lw_m6 23 rfl) rfl
theorem q1281 : (Jvm.Cond.methodLink "ReversalCourt$Sets" (32 : Nat) ({ cls := "ReversalCourt$Sets", name := "go", desc := "()V" } : Jvm.MethodName)) ∈ lw_all := lw_g (lw_at lw_m6 29 rfl) rfl
theorem q1282 : (Jvm.Cond.privateMethod ({ cls := "ReversalCourt$Sets", name := "go", desc := "()V" } : Jvm.MethodName)) ∈ lw_tbl := lw_at lw_m6 30 rfl
theorem q1283 : (Jvm.Cond.instanceMethod ({ cls := "ReversalCourt$Sets", name := "go", desc := "()V" } : Jvm.MethodName)) ∈ lw_all := lw_g (lw_at lw_m6 31 rfl) rfl
theorem q1284 : (Jvm.Cond.code ({ cls := "ReversalCourt$Sets", name := "go", desc := "()V" } : Jvm.MethodName) prog_15_method_4_code (1 : Nat) (Option.none : Option Jvm.ClassFile.FieldType)) ∈ lw_all := lw_g (lw_at lw_m6 32 rfl) rfl
theorem q1285 : (Jvm.Cond.methodLink "ReversalCourt$Sets" (35 : Nat) ({ cls := "java/lang/Integer", name := "valueOf", desc := "(I)Ljava/lang/Integer;" } : Jvm.MethodName)) ∈ lw_all := lw_g (lw_at lw_m6 33 rfl) rfl
theorem q1821 : (Jvm.Cond.selects "ReversalCourt$Sets" ({ cls := "ReversalCourt$Sets", name := "hasNext", desc := "()Z" } : Jvm.MethodName) ({ cls := "ReversalCourt$Sets", name := "hasNext", desc := "()Z" } : Jvm.MethodName)) ∈ lw_all := lw_g (lw_at lw_m8 89 rfl) rfl
theorem q1844 : (Jvm.Cond.castable "ReversalCourt$Sets" "java/lang/Object") ∈ lw_tbl := lw_at lw_m8 112 rfl
theorem in_X13 : ∀ w ∈ wsX130, w ∈ lw_all := lw_in wsX130 [1214, 1216, 1218] (by decide +kernel) (by decide +kernel)
/-! ReversalCourt$1Best -/
set_option maxRecDepth 100000
def RX14 : String := "ReversalCourt$1Best"
def TX14 : u_T := fun k => match k with
  | 0 => ("ReversalCourt$1Best", "set", "I", false)
  | 1 => ("ReversalCourt$1Best", "val$goal", "I", true)
  | _ => ("ReversalCourt$1Best", "this$0", "LReversalCourt;", true)
def tyX14 : Nat → FieldType := fun k => match k with
  | 0 => .int
  | 1 => .int
  | _ => .object "ReversalCourt"
abbrev wsX140 : List Cond := u_ws RX14 TX14 3
theorem nmX14 : ∀ a, a < 3 → ∀ b, b < 3 → a ≠ b → (TX14 a).2.1 ≠ (TX14 b).2.1 := by decide +kernel
theorem tyX14_ok : ∀ k, k < 3 → parseFieldDescriptor (TX14 k).2.2.1 = some (tyX14 k) := by decide +kernel
abbrev cX14_init : ByteArray := prog_2_method_1_code
def yX14_init : MethodName := ⟨RX14, "<init>", "(LReversalCourt;I)V"⟩
def dkwX14_init_0 : List UInt8 := [42, 43, 181, 0, 3, 42, 28, 181, 0, 9, 42, 183, 0, 13, 42, 2, 181, 0, 19, 177]
abbrev dktX14_init_0 : List UInt8 := dkwX14_init_0 ++ []
theorem dksX14_init_0 : cX14_init.data.toList.drop 0 = dktX14_init_0 := by decide +kernel
theorem dX14_init_0 : decode cX14_init 0 = .ok (.aload_n 0, 1) := dk_42 (dk_at dksX14_init_0 0 rfl rfl)
theorem dX14_init_1 : decode cX14_init 1 = .ok (.aload_n 1, 1) := dk_43 (dk_at dksX14_init_0 1 rfl rfl)
theorem dX14_init_2 : decode cX14_init 2 = .ok (.putfield 3, 3) := dk_181 0 3 (dk_at dksX14_init_0 2 rfl rfl)
theorem dX14_init_5 : decode cX14_init 5 = .ok (.aload_n 0, 1) := dk_42 (dk_at dksX14_init_0 5 rfl rfl)
theorem dX14_init_6 : decode cX14_init 6 = .ok (.iload_n 2, 1) := dk_28 (dk_at dksX14_init_0 6 rfl rfl)
theorem dX14_init_7 : decode cX14_init 7 = .ok (.putfield 9, 3) := dk_181 0 9 (dk_at dksX14_init_0 7 rfl rfl)
theorem dX14_init_10 : decode cX14_init 10 = .ok (.aload_n 0, 1) := dk_42 (dk_at dksX14_init_0 10 rfl rfl)
theorem dX14_init_11 : decode cX14_init 11 = .ok (.invokespecial 13, 3) := dk_183 0 13 (dk_at dksX14_init_0 11 rfl rfl)
theorem dX14_init_14 : decode cX14_init 14 = .ok (.aload_n 0, 1) := dk_42 (dk_at dksX14_init_0 14 rfl rfl)
theorem dX14_init_15 : decode cX14_init 15 = .ok (.iconst (-1), 1) := dk_2 (dk_at dksX14_init_0 15 rfl rfl)
theorem dX14_init_16 : decode cX14_init 16 = .ok (.putfield 19, 3) := dk_181 0 19 (dk_at dksX14_init_0 16 rfl rfl)
theorem dX14_init_19 : decode cX14_init 19 = .ok (.return_, 1) := dk_177 (dk_at dksX14_init_0 19 rfl rfl)
abbrev cX14_look : ByteArray := prog_2_method_2_code
def yX14_look : MethodName := ⟨RX14, "look", "(I)V"⟩
def dkwX14_look_2 : List UInt8 := [153, 0, 7, 27, 167, 0, 7, 42, 180, 0, 19, 181, 0, 19, 177]
abbrev dktX14_look_2 : List UInt8 := dkwX14_look_2 ++ []
def dkwX14_look_1 : List UInt8 := [167, 0, 4, 3, 61, 42, 28, 153, 0, 22, 42, 180, 0, 3, 27, 42, 180, 0, 9, 182, 0, 28]
abbrev dktX14_look_1 : List UInt8 := dkwX14_look_1 ++ dktX14_look_2
def dkwX14_look_0 : List UInt8 := [42, 180, 0, 19, 2, 159, 0, 17, 27, 184, 0, 22, 42, 180, 0, 19, 184, 0, 22, 162, 0, 7, 4]
abbrev dktX14_look_0 : List UInt8 := dkwX14_look_0 ++ dktX14_look_1
theorem dksX14_look_0 : cX14_look.data.toList.drop 0 = dktX14_look_0 := by decide +kernel
theorem dksX14_look_1 : cX14_look.data.toList.drop 23 = dktX14_look_1 := dk_seg dksX14_look_0 23 rfl rfl
theorem dksX14_look_2 : cX14_look.data.toList.drop 45 = dktX14_look_2 := dk_seg dksX14_look_1 22 rfl rfl
theorem dX14_look_0 : decode cX14_look 0 = .ok (.aload_n 0, 1) := dk_42 (dk_at dksX14_look_0 0 rfl rfl)
theorem dX14_look_1 : decode cX14_look 1 = .ok (.getfield 19, 3) := dk_180 0 19 (dk_at dksX14_look_0 1 rfl rfl)
theorem dX14_look_4 : decode cX14_look 4 = .ok (.iconst (-1), 1) := dk_2 (dk_at dksX14_look_0 4 rfl rfl)
theorem dX14_look_5 : decode cX14_look 5 = .ok (.if_icmp .eq 17, 3) := dk_159 0 17 (dk_at dksX14_look_0 5 rfl rfl)
theorem dX14_look_8 : decode cX14_look 8 = .ok (.iload_n 1, 1) := dk_27 (dk_at dksX14_look_0 8 rfl rfl)
theorem dX14_look_9 : decode cX14_look 9 = .ok (.invokestatic 22, 3) := dk_184 0 22 (dk_at dksX14_look_0 9 rfl rfl)
theorem dX14_look_12 : decode cX14_look 12 = .ok (.aload_n 0, 1) := dk_42 (dk_at dksX14_look_0 12 rfl rfl)
theorem dX14_look_13 : decode cX14_look 13 = .ok (.getfield 19, 3) := dk_180 0 19 (dk_at dksX14_look_0 13 rfl rfl)
theorem dX14_look_16 : decode cX14_look 16 = .ok (.invokestatic 22, 3) := dk_184 0 22 (dk_at dksX14_look_0 16 rfl rfl)
theorem dX14_look_19 : decode cX14_look 19 = .ok (.if_icmp .ge 7, 3) := dk_162 0 7 (dk_at dksX14_look_0 19 rfl rfl)
theorem dX14_look_22 : decode cX14_look 22 = .ok (.iconst 1, 1) := dk_4 (dk_at dksX14_look_0 22 rfl rfl)
theorem dX14_look_23 : decode cX14_look 23 = .ok (.goto 4, 3) := dk_167 0 4 (dk_at dksX14_look_1 0 rfl rfl)
theorem dX14_look_26 : decode cX14_look 26 = .ok (.iconst 0, 1) := dk_3 (dk_at dksX14_look_1 3 rfl rfl)
theorem dX14_look_27 : decode cX14_look 27 = .ok (.istore_n 2, 1) := dk_61 (dk_at dksX14_look_1 4 rfl rfl)
theorem dX14_look_28 : decode cX14_look 28 = .ok (.aload_n 0, 1) := dk_42 (dk_at dksX14_look_1 5 rfl rfl)
theorem dX14_look_29 : decode cX14_look 29 = .ok (.iload_n 2, 1) := dk_28 (dk_at dksX14_look_1 6 rfl rfl)
theorem dX14_look_30 : decode cX14_look 30 = .ok (.ifCond .eq 22, 3) := dk_153 0 22 (dk_at dksX14_look_1 7 rfl rfl)
theorem dX14_look_33 : decode cX14_look 33 = .ok (.aload_n 0, 1) := dk_42 (dk_at dksX14_look_1 10 rfl rfl)
theorem dX14_look_34 : decode cX14_look 34 = .ok (.getfield 3, 3) := dk_180 0 3 (dk_at dksX14_look_1 11 rfl rfl)
theorem dX14_look_37 : decode cX14_look 37 = .ok (.iload_n 1, 1) := dk_27 (dk_at dksX14_look_1 14 rfl rfl)
theorem dX14_look_38 : decode cX14_look 38 = .ok (.aload_n 0, 1) := dk_42 (dk_at dksX14_look_1 15 rfl rfl)
theorem dX14_look_39 : decode cX14_look 39 = .ok (.getfield 9, 3) := dk_180 0 9 (dk_at dksX14_look_1 16 rfl rfl)
theorem dX14_look_42 : decode cX14_look 42 = .ok (.invokevirtual 28, 3) := dk_182 0 28 (dk_at dksX14_look_1 19 rfl rfl)
theorem dX14_look_45 : decode cX14_look 45 = .ok (.ifCond .eq 7, 3) := dk_153 0 7 (dk_at dksX14_look_2 0 rfl rfl)
theorem dX14_look_48 : decode cX14_look 48 = .ok (.iload_n 1, 1) := dk_27 (dk_at dksX14_look_2 3 rfl rfl)
theorem dX14_look_49 : decode cX14_look 49 = .ok (.goto 7, 3) := dk_167 0 7 (dk_at dksX14_look_2 4 rfl rfl)
theorem dX14_look_52 : decode cX14_look 52 = .ok (.aload_n 0, 1) := dk_42 (dk_at dksX14_look_2 7 rfl rfl)
theorem dX14_look_53 : decode cX14_look 53 = .ok (.getfield 19, 3) := dk_180 0 19 (dk_at dksX14_look_2 8 rfl rfl)
theorem dX14_look_56 : decode cX14_look 56 = .ok (.putfield 19, 3) := dk_181 0 19 (dk_at dksX14_look_2 11 rfl rfl)
theorem dX14_look_59 : decode cX14_look 59 = .ok (.return_, 1) := dk_177 (dk_at dksX14_look_2 14 rfl rfl)
theorem q93 : (Jvm.Cond.initialized "ReversalCourt$1Best") ∈ lw_all := lw_g (lw_at lw_m1 41 rfl) rfl
theorem q1035 : (Jvm.Cond.selects "ReversalCourt$1Best" ({ cls := "java/lang/Object", name := "getClass", desc := "()Ljava/lang/Class;" } : Jvm.MethodName) ({ cls := "java/lang/Object", name := "getClass", desc := "()Ljava/lang/Class;" } : Jvm.MethodName)) ∈ lw_all := lw_g (lw_at lw_m5 23 rfl) rfl
theorem q1294 : (Jvm.Cond.instantiable "ReversalCourt$1Best" (3 : Nat)) ∈ lw_all := lw_g (lw_at lw_m6 42 rfl) rfl
theorem q1296 : (Jvm.Cond.instanceMethod ({ cls := "ReversalCourt$1Best", name := "<init>", desc := "(LReversalCourt;I)V" } : Jvm.MethodName)) ∈ lw_all := lw_g (lw_at lw_m6 44 rfl) rfl
theorem q1297 : (Jvm.Cond.code ({ cls := "ReversalCourt$1Best", name := "<init>", desc := "(LReversalCourt;I)V" } : Jvm.MethodName) prog_2_method_1_code (3 : Nat) (Option.none : Option Jvm.ClassFile.FieldType)) ∈ lw_all := lw_g (lw_at lw_m6 45 rfl) rfl
theorem q1298 : (Jvm.Cond.methodLink "ReversalCourt$1Best" (13 : Nat) ({ cls := "java/lang/Object", name := "<init>", desc := "()V" } : Jvm.MethodName)) ∈ lw_all := lw_g (lw_at lw_m6 46 rfl) rfl
theorem q1299 : (Jvm.Cond.fieldLink "ReversalCourt$1Best" (19 : Nat) "ReversalCourt$1Best" "set" "I") ∈ lw_all := lw_g (lw_at lw_m6 47 rfl) rfl
theorem q1301 : (Jvm.Cond.fieldLink "ReversalCourt$1Best" (9 : Nat) "ReversalCourt$1Best" "val$goal" "I") ∈ lw_all := lw_g (lw_at lw_m6 49 rfl) rfl
theorem q1302 : (Jvm.Cond.fieldLink "ReversalCourt$1Best" (3 : Nat) "ReversalCourt$1Best" "this$0" "LReversalCourt;") ∈ lw_all := lw_g (lw_at lw_m6 50 rfl) rfl
theorem q1303 : (Jvm.Cond.lays "ReversalCourt$1Best" "ReversalCourt$1Best" "set" "I") ∈ lw_all := lw_g (lw_at lw_m6 51 rfl) rfl
theorem q1304 : (Jvm.Cond.soleField "ReversalCourt$1Best" "set") ∈ lw_all := lw_g (lw_at lw_m6 52 rfl) rfl
theorem q1305 : (Jvm.Cond.laysFinal "ReversalCourt$1Best" "ReversalCourt$1Best" "val$goal" "I") ∈ lw_all := lw_g (lw_at lw_m6 53 rfl) rfl
theorem q1306 : (Jvm.Cond.soleField "ReversalCourt$1Best" "val$goal") ∈ lw_all := lw_g (lw_at lw_m6 54 rfl) rfl
theorem q1307 : (Jvm.Cond.laysFinal "ReversalCourt$1Best" "ReversalCourt$1Best" "this$0" "LReversalCourt;") ∈ lw_all := lw_g (lw_at lw_m6 55 rfl) rfl
theorem q1308 : (Jvm.Cond.soleField "ReversalCourt$1Best" "this$0") ∈ lw_all := lw_g (lw_at lw_m6 56 rfl) rfl
theorem q1309 : (Jvm.Cond.superclass "ReversalCourt$1Best" "java/lang/Object") ∈ lw_all := lw_g (lw_at lw_m6 57 rfl) rfl
theorem q1311 : (Jvm.Cond.instanceMethod ({ cls := "ReversalCourt$1Best", name := "look", desc := "(I)V" } : Jvm.MethodName)) ∈ lw_all := lw_g (lw_at lw_m6 59 rfl) rfl
theorem q1312 : (Jvm.Cond.selects "ReversalCourt$1Best" ({ cls := "ReversalCourt$1Best", name := "look", desc := "(I)V" } : Jvm.MethodName) ({ cls := "ReversalCourt$1Best", name := "look", desc := "(I)V" } : Jvm.MethodName)) ∈ lw_all := lw_g (lw_at lw_m6 60 rfl) rfl
theorem q1313 : (Jvm.Cond.code ({ cls := "ReversalCourt$1Best", name := "look", desc := "(I)V" } : Jvm.MethodName) prog_2_method_2_code (3 : Nat) (Option.none : Option Jvm.ClassFile.FieldType)) ∈ lw_all := lw_g (lw_at lw_m6 61 rfl) rfl
theorem q1314 : (Jvm.Cond.methodLink "ReversalCourt$1Best" (22 : Nat) ({ cls := "java/lang/Integer", name := "bitCount", desc := "(I)I" } : Jvm.MethodName)) ∈ lw_all := lw_g (lw_at lw_m6 62 rfl) rfl
theorem q1315 : (Jvm.Cond.methodLinkNest "ReversalCourt$1Best" (28 : Nat) ({ cls := "ReversalCourt", name := "proves", desc := "(II)Z" } : Jvm.MethodName) "ReversalCourt") ∈ lw_tbl := lw_at lw_m6 63 rfl
theorem q1846 : (Jvm.Cond.castable "ReversalCourt$1Best" "java/lang/Object") ∈ lw_tbl := lw_at lw_m8 114 rfl
theorem in_X14 : ∀ w ∈ wsX140, w ∈ lw_all := lw_in wsX140 [1303, 1305, 1307] (by decide +kernel) (by decide +kernel)
/-! ReversalCourt$Problem -/
set_option maxRecDepth 100000
def RX15 : String := "ReversalCourt$Problem"
def TX15 : u_T := fun k => match k with
  | 0 => ("ReversalCourt$Problem", "instances", "I", true)
  | 1 => ("ReversalCourt$Problem", "answers", "I", true)
  | _ => ("ReversalCourt$Problem", "solves", "I", true)
def tyX15 : Nat → FieldType := fun k => match k with
  | 0 => .int
  | 1 => .int
  | _ => .int
abbrev wsX150 : List Cond := u_ws RX15 TX15 3
theorem nmX15 : ∀ a, a < 3 → ∀ b, b < 3 → a ≠ b → (TX15 a).2.1 ≠ (TX15 b).2.1 := by decide +kernel
theorem tyX15_ok : ∀ k, k < 3 → parseFieldDescriptor (TX15 k).2.2.1 = some (tyX15 k) := by decide +kernel
abbrev cX15_init : ByteArray := prog_8_method_1_code
def yX15_init : MethodName := ⟨RX15, "<init>", "(III)V"⟩
def dkwX15_init_0 : List UInt8 := [42, 183, 0, 3, 42, 27, 181, 0, 9, 42, 28, 181, 0, 15, 42, 29, 181, 0, 18, 177]
abbrev dktX15_init_0 : List UInt8 := dkwX15_init_0 ++ []
theorem dksX15_init_0 : cX15_init.data.toList.drop 0 = dktX15_init_0 := by decide +kernel
theorem dX15_init_0 : decode cX15_init 0 = .ok (.aload_n 0, 1) := dk_42 (dk_at dksX15_init_0 0 rfl rfl)
theorem dX15_init_1 : decode cX15_init 1 = .ok (.invokespecial 3, 3) := dk_183 0 3 (dk_at dksX15_init_0 1 rfl rfl)
theorem dX15_init_4 : decode cX15_init 4 = .ok (.aload_n 0, 1) := dk_42 (dk_at dksX15_init_0 4 rfl rfl)
theorem dX15_init_5 : decode cX15_init 5 = .ok (.iload_n 1, 1) := dk_27 (dk_at dksX15_init_0 5 rfl rfl)
theorem dX15_init_6 : decode cX15_init 6 = .ok (.putfield 9, 3) := dk_181 0 9 (dk_at dksX15_init_0 6 rfl rfl)
theorem dX15_init_9 : decode cX15_init 9 = .ok (.aload_n 0, 1) := dk_42 (dk_at dksX15_init_0 9 rfl rfl)
theorem dX15_init_10 : decode cX15_init 10 = .ok (.iload_n 2, 1) := dk_28 (dk_at dksX15_init_0 10 rfl rfl)
theorem dX15_init_11 : decode cX15_init 11 = .ok (.putfield 15, 3) := dk_181 0 15 (dk_at dksX15_init_0 11 rfl rfl)
theorem dX15_init_14 : decode cX15_init 14 = .ok (.aload_n 0, 1) := dk_42 (dk_at dksX15_init_0 14 rfl rfl)
theorem dX15_init_15 : decode cX15_init 15 = .ok (.iload_n 3, 1) := dk_29 (dk_at dksX15_init_0 15 rfl rfl)
theorem dX15_init_16 : decode cX15_init 16 = .ok (.putfield 18, 3) := dk_181 0 18 (dk_at dksX15_init_0 16 rfl rfl)
theorem dX15_init_19 : decode cX15_init 19 = .ok (.return_, 1) := dk_177 (dk_at dksX15_init_0 19 rfl rfl)
abbrev cX15_solves : ByteArray := prog_8_method_2_code
def yX15_solves : MethodName := ⟨RX15, "solves", "(II)Z"⟩
def dkwX15_solves_0 : List UInt8 := [42, 180, 0, 18, 7, 27, 104, 28, 96, 122, 4, 126, 4, 160, 0, 7, 4, 167, 0, 4, 3, 172]
abbrev dktX15_solves_0 : List UInt8 := dkwX15_solves_0 ++ []
theorem dksX15_solves_0 : cX15_solves.data.toList.drop 0 = dktX15_solves_0 := by decide +kernel
theorem dX15_solves_0 : decode cX15_solves 0 = .ok (.aload_n 0, 1) := dk_42 (dk_at dksX15_solves_0 0 rfl rfl)
theorem dX15_solves_1 : decode cX15_solves 1 = .ok (.getfield 18, 3) := dk_180 0 18 (dk_at dksX15_solves_0 1 rfl rfl)
theorem dX15_solves_4 : decode cX15_solves 4 = .ok (.iconst 4, 1) := dk_7 (dk_at dksX15_solves_0 4 rfl rfl)
theorem dX15_solves_5 : decode cX15_solves 5 = .ok (.iload_n 1, 1) := dk_27 (dk_at dksX15_solves_0 5 rfl rfl)
theorem dX15_solves_6 : decode cX15_solves 6 = .ok (.imul, 1) := dk_104 (dk_at dksX15_solves_0 6 rfl rfl)
theorem dX15_solves_7 : decode cX15_solves 7 = .ok (.iload_n 2, 1) := dk_28 (dk_at dksX15_solves_0 7 rfl rfl)
theorem dX15_solves_8 : decode cX15_solves 8 = .ok (.iadd, 1) := dk_96 (dk_at dksX15_solves_0 8 rfl rfl)
theorem dX15_solves_9 : decode cX15_solves 9 = .ok (.ishr, 1) := dk_122 (dk_at dksX15_solves_0 9 rfl rfl)
theorem dX15_solves_10 : decode cX15_solves 10 = .ok (.iconst 1, 1) := dk_4 (dk_at dksX15_solves_0 10 rfl rfl)
theorem dX15_solves_11 : decode cX15_solves 11 = .ok (.iand, 1) := dk_126 (dk_at dksX15_solves_0 11 rfl rfl)
theorem dX15_solves_12 : decode cX15_solves 12 = .ok (.iconst 1, 1) := dk_4 (dk_at dksX15_solves_0 12 rfl rfl)
theorem dX15_solves_13 : decode cX15_solves 13 = .ok (.if_icmp .ne 7, 3) := dk_160 0 7 (dk_at dksX15_solves_0 13 rfl rfl)
theorem dX15_solves_16 : decode cX15_solves 16 = .ok (.iconst 1, 1) := dk_4 (dk_at dksX15_solves_0 16 rfl rfl)
theorem dX15_solves_17 : decode cX15_solves 17 = .ok (.goto 4, 3) := dk_167 0 4 (dk_at dksX15_solves_0 17 rfl rfl)
theorem dX15_solves_20 : decode cX15_solves 20 = .ok (.iconst 0, 1) := dk_3 (dk_at dksX15_solves_0 20 rfl rfl)
theorem dX15_solves_21 : decode cX15_solves 21 = .ok (.ireturn, 1) := dk_172 (dk_at dksX15_solves_0 21 rfl rfl)
theorem q94 : (Jvm.Cond.initialized "ReversalCourt$Problem") ∈ lw_all := lw_g (lw_at lw_m1 42 rfl) rfl
theorem q1039 : (Jvm.Cond.selects "ReversalCourt$Problem" ({ cls := "java/lang/Object", name := "getClass", desc := "()Ljava/lang/Class;" } : Jvm.MethodName) ({ cls := "java/lang/Object", name := "getClass", desc := "()Ljava/lang/Class;" } : Jvm.MethodName)) ∈ lw_all := lw_g (lw_at lw_m5 27 rfl) rfl
theorem q1339 : (Jvm.Cond.instantiable "ReversalCourt$Problem" (3 : Nat)) ∈ lw_all := lw_g (lw_at lw_m6 87 rfl) rfl
theorem q1341 : (Jvm.Cond.instanceMethod ({ cls := "ReversalCourt$Problem", name := "<init>", desc := "(III)V" } : Jvm.MethodName)) ∈ lw_all := lw_g (lw_at lw_m6 89 rfl) rfl
theorem q1342 : (Jvm.Cond.code ({ cls := "ReversalCourt$Problem", name := "<init>", desc := "(III)V" } : Jvm.MethodName) prog_8_method_1_code (4 : Nat) (Option.none : Option Jvm.ClassFile.FieldType)) ∈ lw_all := lw_g (lw_at lw_m6 90 rfl) rfl
theorem q1343 : (Jvm.Cond.methodLink "ReversalCourt$Problem" (3 : Nat) ({ cls := "java/lang/Object", name := "<init>", desc := "()V" } : Jvm.MethodName)) ∈ lw_all := lw_g (lw_at lw_m6 91 rfl) rfl
theorem q1344 : (Jvm.Cond.fieldLink "ReversalCourt$Problem" (9 : Nat) "ReversalCourt$Problem" "instances" "I") ∈ lw_all := lw_g (lw_at lw_m6 92 rfl) rfl
theorem q1346 : (Jvm.Cond.fieldLink "ReversalCourt$Problem" (15 : Nat) "ReversalCourt$Problem" "answers" "I") ∈ lw_all := lw_g (lw_at lw_m6 94 rfl) rfl
theorem q1348 : (Jvm.Cond.fieldLink "ReversalCourt$Problem" (18 : Nat) "ReversalCourt$Problem" "solves" "I") ∈ lw_all := lw_g (lw_at lw_m6 96 rfl) rfl
theorem q1350 : (Jvm.Cond.laysFinal "ReversalCourt$Problem" "ReversalCourt$Problem" "instances" "I") ∈ lw_all := lw_g (lw_at lw_m6 98 rfl) rfl
theorem q1351 : (Jvm.Cond.soleField "ReversalCourt$Problem" "instances") ∈ lw_all := lw_g (lw_at lw_m6 99 rfl) rfl
theorem q1352 : (Jvm.Cond.laysFinal "ReversalCourt$Problem" "ReversalCourt$Problem" "answers" "I") ∈ lw_all := lw_g (lw_at lw_m6 100 rfl) rfl
theorem q1353 : (Jvm.Cond.soleField "ReversalCourt$Problem" "answers") ∈ lw_all := lw_g (lw_at lw_m6 101 rfl) rfl
theorem q1354 : (Jvm.Cond.laysFinal "ReversalCourt$Problem" "ReversalCourt$Problem" "solves" "I") ∈ lw_all := lw_g (lw_at lw_m6 102 rfl) rfl
theorem q1355 : (Jvm.Cond.soleField "ReversalCourt$Problem" "solves") ∈ lw_all := lw_g (lw_at lw_m6 103 rfl) rfl
theorem q1356 : (Jvm.Cond.superclass "ReversalCourt$Problem" "java/lang/Object") ∈ lw_all := lw_g (lw_at lw_m6 104 rfl) rfl
theorem q1365 : (Jvm.Cond.instanceMethod ({ cls := "ReversalCourt$Problem", name := "solves", desc := "(II)Z" } : Jvm.MethodName)) ∈ lw_all := lw_g (lw_at lw_m6 113 rfl) rfl
theorem q1366 : (Jvm.Cond.selects "ReversalCourt$Problem" ({ cls := "ReversalCourt$Problem", name := "solves", desc := "(II)Z" } : Jvm.MethodName) ({ cls := "ReversalCourt$Problem", name := "solves", desc := "(II)Z" } : Jvm.MethodName)) ∈ lw_all := lw_g (lw_at lw_m6 114 rfl) rfl
theorem q1367 : (Jvm.Cond.code ({ cls := "ReversalCourt$Problem", name := "solves", desc := "(II)Z" } : Jvm.MethodName) prog_8_method_2_code (3 : Nat) (Option.some Jvm.ClassFile.FieldType.boolean)) ∈ lw_all := lw_g (lw_at lw_m6 115 rfl) rfl
theorem q1847 : (Jvm.Cond.castable "ReversalCourt$Problem" "java/lang/Object") ∈ lw_tbl := lw_at lw_m8 115 rfl
theorem in_X15 : ∀ w ∈ wsX150, w ∈ lw_all := lw_in wsX150 [1350, 1352, 1354] (by decide +kernel) (by decide +kernel)
/-! ReversalCourt$Maps -/
set_option maxRecDepth 100000
def RX16 : String := "ReversalCourt$Maps"
def TX16 : u_T := fun k => match k with
  | 0 => ("ReversalCourt$Maps", "to", "I", true)
  | 1 => ("ReversalCourt$Maps", "row", "[I", true)
  | 2 => ("ReversalCourt$Maps", "code", "I", false)
  | _ => ("ReversalCourt$Maps", "all", "I", true)
def tyX16 : Nat → FieldType := fun k => match k with
  | 0 => .int
  | 1 => .array .int
  | 2 => .int
  | _ => .int
abbrev wsX160 : List Cond := u_ws RX16 TX16 4
theorem nmX16 : ∀ a, a < 4 → ∀ b, b < 4 → a ≠ b → (TX16 a).2.1 ≠ (TX16 b).2.1 := by decide +kernel
theorem tyX16_ok : ∀ k, k < 4 → parseFieldDescriptor (TX16 k).2.2.1 = some (tyX16 k) := by decide +kernel
abbrev cX16_hasNext : ByteArray := prog_5_method_2_code
def yX16_hasNext : MethodName := ⟨RX16, "hasNext", "()Z"⟩
def dkwX16_hasNext_0 : List UInt8 := [42, 180, 0, 20, 42, 180, 0, 17, 162, 0, 7, 4, 167, 0, 4, 3, 172]
abbrev dktX16_hasNext_0 : List UInt8 := dkwX16_hasNext_0 ++ []
theorem dksX16_hasNext_0 : cX16_hasNext.data.toList.drop 0 = dktX16_hasNext_0 := by decide +kernel
theorem dX16_hasNext_0 : decode cX16_hasNext 0 = .ok (.aload_n 0, 1) := dk_42 (dk_at dksX16_hasNext_0 0 rfl rfl)
theorem dX16_hasNext_1 : decode cX16_hasNext 1 = .ok (.getfield 20, 3) := dk_180 0 20 (dk_at dksX16_hasNext_0 1 rfl rfl)
theorem dX16_hasNext_4 : decode cX16_hasNext 4 = .ok (.aload_n 0, 1) := dk_42 (dk_at dksX16_hasNext_0 4 rfl rfl)
theorem dX16_hasNext_5 : decode cX16_hasNext 5 = .ok (.getfield 17, 3) := dk_180 0 17 (dk_at dksX16_hasNext_0 5 rfl rfl)
theorem dX16_hasNext_8 : decode cX16_hasNext 8 = .ok (.if_icmp .ge 7, 3) := dk_162 0 7 (dk_at dksX16_hasNext_0 8 rfl rfl)
theorem dX16_hasNext_11 : decode cX16_hasNext 11 = .ok (.iconst 1, 1) := dk_4 (dk_at dksX16_hasNext_0 11 rfl rfl)
theorem dX16_hasNext_12 : decode cX16_hasNext 12 = .ok (.goto 4, 3) := dk_167 0 4 (dk_at dksX16_hasNext_0 12 rfl rfl)
theorem dX16_hasNext_15 : decode cX16_hasNext 15 = .ok (.iconst 0, 1) := dk_3 (dk_at dksX16_hasNext_0 15 rfl rfl)
theorem dX16_hasNext_16 : decode cX16_hasNext 16 = .ok (.ireturn, 1) := dk_172 (dk_at dksX16_hasNext_0 16 rfl rfl)
abbrev cX16_next : ByteArray := prog_5_method_4_code
def yX16_next : MethodName := ⟨RX16, "next", "()Ljava/lang/Object;"⟩
theorem dX16_next_0 : decode cX16_next 0 = .ok (.aload_n 0, 1) := by decide +kernel
theorem dX16_next_1 : decode cX16_next 1 = .ok (.invokevirtual 23, 3) := by decide +kernel
theorem dX16_next_4 : decode cX16_next 4 = .ok (.areturn, 1) := by decide +kernel
abbrev cX16_next_2 : ByteArray := prog_5_method_3_code
def yX16_next_2 : MethodName := ⟨RX16, "next", "()[I"⟩
def dkwX16_next_2_2 : List UInt8 := [96, 181, 0, 20, 42, 180, 0, 13, 176]
abbrev dktX16_next_2_2 : List UInt8 := dkwX16_next_2_2 ++ []
def dkwX16_next_2_1 : List UInt8 := [180, 0, 7, 112, 79, 27, 42, 180, 0, 7, 108, 60, 132, 2, 1, 167, 255, 225, 42, 89, 180, 0, 20, 4]
abbrev dktX16_next_2_1 : List UInt8 := dkwX16_next_2_1 ++ dktX16_next_2_2
def dkwX16_next_2_0 : List UInt8 := [42, 180, 0, 20, 60, 3, 61, 28, 42, 180, 0, 13, 190, 162, 0, 28, 42, 180, 0, 13, 28, 27, 42]
abbrev dktX16_next_2_0 : List UInt8 := dkwX16_next_2_0 ++ dktX16_next_2_1
theorem dksX16_next_2_0 : cX16_next_2.data.toList.drop 0 = dktX16_next_2_0 := by decide +kernel
theorem dksX16_next_2_1 : cX16_next_2.data.toList.drop 23 = dktX16_next_2_1 := dk_seg dksX16_next_2_0 23 rfl rfl
theorem dksX16_next_2_2 : cX16_next_2.data.toList.drop 47 = dktX16_next_2_2 := dk_seg dksX16_next_2_1 24 rfl rfl
theorem dX16_next_2_0 : decode cX16_next_2 0 = .ok (.aload_n 0, 1) := dk_42 (dk_at dksX16_next_2_0 0 rfl rfl)
theorem dX16_next_2_1 : decode cX16_next_2 1 = .ok (.getfield 20, 3) := dk_180 0 20 (dk_at dksX16_next_2_0 1 rfl rfl)
theorem dX16_next_2_4 : decode cX16_next_2 4 = .ok (.istore_n 1, 1) := dk_60 (dk_at dksX16_next_2_0 4 rfl rfl)
theorem dX16_next_2_5 : decode cX16_next_2 5 = .ok (.iconst 0, 1) := dk_3 (dk_at dksX16_next_2_0 5 rfl rfl)
theorem dX16_next_2_6 : decode cX16_next_2 6 = .ok (.istore_n 2, 1) := dk_61 (dk_at dksX16_next_2_0 6 rfl rfl)
theorem dX16_next_2_7 : decode cX16_next_2 7 = .ok (.iload_n 2, 1) := dk_28 (dk_at dksX16_next_2_0 7 rfl rfl)
theorem dX16_next_2_8 : decode cX16_next_2 8 = .ok (.aload_n 0, 1) := dk_42 (dk_at dksX16_next_2_0 8 rfl rfl)
theorem dX16_next_2_9 : decode cX16_next_2 9 = .ok (.getfield 13, 3) := dk_180 0 13 (dk_at dksX16_next_2_0 9 rfl rfl)
theorem dX16_next_2_12 : decode cX16_next_2 12 = .ok (.arraylength, 1) := dk_190 (dk_at dksX16_next_2_0 12 rfl rfl)
theorem dX16_next_2_13 : decode cX16_next_2 13 = .ok (.if_icmp .ge 28, 3) := dk_162 0 28 (dk_at dksX16_next_2_0 13 rfl rfl)
theorem dX16_next_2_16 : decode cX16_next_2 16 = .ok (.aload_n 0, 1) := dk_42 (dk_at dksX16_next_2_0 16 rfl rfl)
theorem dX16_next_2_17 : decode cX16_next_2 17 = .ok (.getfield 13, 3) := dk_180 0 13 (dk_at dksX16_next_2_0 17 rfl rfl)
theorem dX16_next_2_20 : decode cX16_next_2 20 = .ok (.iload_n 2, 1) := dk_28 (dk_at dksX16_next_2_0 20 rfl rfl)
theorem dX16_next_2_21 : decode cX16_next_2 21 = .ok (.iload_n 1, 1) := dk_27 (dk_at dksX16_next_2_0 21 rfl rfl)
theorem dX16_next_2_22 : decode cX16_next_2 22 = .ok (.aload_n 0, 1) := dk_42 (dk_at dksX16_next_2_0 22 rfl rfl)
theorem dX16_next_2_23 : decode cX16_next_2 23 = .ok (.getfield 7, 3) := dk_180 0 7 (dk_at dksX16_next_2_1 0 rfl rfl)
theorem dX16_next_2_26 : decode cX16_next_2 26 = .ok (.irem, 1) := dk_112 (dk_at dksX16_next_2_1 3 rfl rfl)
theorem dX16_next_2_27 : decode cX16_next_2 27 = .ok (.iastore, 1) := dk_79 (dk_at dksX16_next_2_1 4 rfl rfl)
theorem dX16_next_2_28 : decode cX16_next_2 28 = .ok (.iload_n 1, 1) := dk_27 (dk_at dksX16_next_2_1 5 rfl rfl)
theorem dX16_next_2_29 : decode cX16_next_2 29 = .ok (.aload_n 0, 1) := dk_42 (dk_at dksX16_next_2_1 6 rfl rfl)
theorem dX16_next_2_30 : decode cX16_next_2 30 = .ok (.getfield 7, 3) := dk_180 0 7 (dk_at dksX16_next_2_1 7 rfl rfl)
theorem dX16_next_2_33 : decode cX16_next_2 33 = .ok (.idiv, 1) := dk_108 (dk_at dksX16_next_2_1 10 rfl rfl)
theorem dX16_next_2_34 : decode cX16_next_2 34 = .ok (.istore_n 1, 1) := dk_60 (dk_at dksX16_next_2_1 11 rfl rfl)
theorem dX16_next_2_35 : decode cX16_next_2 35 = .ok (.iinc 2 1, 3) := dk_132 2 1 (dk_at dksX16_next_2_1 12 rfl rfl)
theorem dX16_next_2_38 : decode cX16_next_2 38 = .ok (.goto (-31), 3) := dk_167 255 225 (dk_at dksX16_next_2_1 15 rfl rfl)
theorem dX16_next_2_41 : decode cX16_next_2 41 = .ok (.aload_n 0, 1) := dk_42 (dk_at dksX16_next_2_1 18 rfl rfl)
theorem dX16_next_2_42 : decode cX16_next_2 42 = .ok (.dup, 1) := dk_89 (dk_at dksX16_next_2_1 19 rfl rfl)
theorem dX16_next_2_43 : decode cX16_next_2 43 = .ok (.getfield 20, 3) := dk_180 0 20 (dk_at dksX16_next_2_1 20 rfl rfl)
theorem dX16_next_2_46 : decode cX16_next_2 46 = .ok (.iconst 1, 1) := dk_4 (dk_at dksX16_next_2_1 23 rfl rfl)
theorem dX16_next_2_47 : decode cX16_next_2 47 = .ok (.iadd, 1) := dk_96 (dk_at dksX16_next_2_2 0 rfl rfl)
theorem dX16_next_2_48 : decode cX16_next_2 48 = .ok (.putfield 20, 3) := dk_181 0 20 (dk_at dksX16_next_2_2 1 rfl rfl)
theorem dX16_next_2_51 : decode cX16_next_2 51 = .ok (.aload_n 0, 1) := dk_42 (dk_at dksX16_next_2_2 4 rfl rfl)
theorem dX16_next_2_52 : decode cX16_next_2 52 = .ok (.getfield 13, 3) := dk_180 0 13 (dk_at dksX16_next_2_2 5 rfl rfl)
theorem dX16_next_2_55 : decode cX16_next_2 55 = .ok (.areturn, 1) := dk_176 (dk_at dksX16_next_2_2 8 rfl rfl)
abbrev cX16_init : ByteArray := prog_5_method_1_code
def yX16_init : MethodName := ⟨RX16, "<init>", "(II)V"⟩
def dkwX16_init_1 : List UInt8 := [162, 0, 13, 29, 28, 104, 62, 132, 4, 1, 167, 255, 243, 42, 29, 181, 0, 17, 177]
abbrev dktX16_init_1 : List UInt8 := dkwX16_init_1 ++ []
def dkwX16_init_0 : List UInt8 := [42, 183, 0, 1, 42, 28, 181, 0, 7, 42, 27, 188, 10, 181, 0, 13, 4, 62, 3, 54, 4, 21, 4, 27]
abbrev dktX16_init_0 : List UInt8 := dkwX16_init_0 ++ dktX16_init_1
theorem dksX16_init_0 : cX16_init.data.toList.drop 0 = dktX16_init_0 := by decide +kernel
theorem dksX16_init_1 : cX16_init.data.toList.drop 24 = dktX16_init_1 := dk_seg dksX16_init_0 24 rfl rfl
theorem dX16_init_0 : decode cX16_init 0 = .ok (.aload_n 0, 1) := dk_42 (dk_at dksX16_init_0 0 rfl rfl)
theorem dX16_init_1 : decode cX16_init 1 = .ok (.invokespecial 1, 3) := dk_183 0 1 (dk_at dksX16_init_0 1 rfl rfl)
theorem dX16_init_4 : decode cX16_init 4 = .ok (.aload_n 0, 1) := dk_42 (dk_at dksX16_init_0 4 rfl rfl)
theorem dX16_init_5 : decode cX16_init 5 = .ok (.iload_n 2, 1) := dk_28 (dk_at dksX16_init_0 5 rfl rfl)
theorem dX16_init_6 : decode cX16_init 6 = .ok (.putfield 7, 3) := dk_181 0 7 (dk_at dksX16_init_0 6 rfl rfl)
theorem dX16_init_9 : decode cX16_init 9 = .ok (.aload_n 0, 1) := dk_42 (dk_at dksX16_init_0 9 rfl rfl)
theorem dX16_init_10 : decode cX16_init 10 = .ok (.iload_n 1, 1) := dk_27 (dk_at dksX16_init_0 10 rfl rfl)
theorem dX16_init_11 : decode cX16_init 11 = .ok (.newarray .int, 2) := dk_188_10 (dk_at dksX16_init_0 11 rfl rfl)
theorem dX16_init_13 : decode cX16_init 13 = .ok (.putfield 13, 3) := dk_181 0 13 (dk_at dksX16_init_0 13 rfl rfl)
theorem dX16_init_16 : decode cX16_init 16 = .ok (.iconst 1, 1) := dk_4 (dk_at dksX16_init_0 16 rfl rfl)
theorem dX16_init_17 : decode cX16_init 17 = .ok (.istore_n 3, 1) := dk_62 (dk_at dksX16_init_0 17 rfl rfl)
theorem dX16_init_18 : decode cX16_init 18 = .ok (.iconst 0, 1) := dk_3 (dk_at dksX16_init_0 18 rfl rfl)
theorem dX16_init_19 : decode cX16_init 19 = .ok (.istore 4, 2) := dk_54 4 (dk_at dksX16_init_0 19 rfl rfl)
theorem dX16_init_21 : decode cX16_init 21 = .ok (.iload 4, 2) := dk_21 4 (dk_at dksX16_init_0 21 rfl rfl)
theorem dX16_init_23 : decode cX16_init 23 = .ok (.iload_n 1, 1) := dk_27 (dk_at dksX16_init_0 23 rfl rfl)
theorem dX16_init_24 : decode cX16_init 24 = .ok (.if_icmp .ge 13, 3) := dk_162 0 13 (dk_at dksX16_init_1 0 rfl rfl)
theorem dX16_init_27 : decode cX16_init 27 = .ok (.iload_n 3, 1) := dk_29 (dk_at dksX16_init_1 3 rfl rfl)
theorem dX16_init_28 : decode cX16_init 28 = .ok (.iload_n 2, 1) := dk_28 (dk_at dksX16_init_1 4 rfl rfl)
theorem dX16_init_29 : decode cX16_init 29 = .ok (.imul, 1) := dk_104 (dk_at dksX16_init_1 5 rfl rfl)
theorem dX16_init_30 : decode cX16_init 30 = .ok (.istore_n 3, 1) := dk_62 (dk_at dksX16_init_1 6 rfl rfl)
theorem dX16_init_31 : decode cX16_init 31 = .ok (.iinc 4 1, 3) := dk_132 4 1 (dk_at dksX16_init_1 7 rfl rfl)
theorem dX16_init_34 : decode cX16_init 34 = .ok (.goto (-13), 3) := dk_167 255 243 (dk_at dksX16_init_1 10 rfl rfl)
theorem dX16_init_37 : decode cX16_init 37 = .ok (.aload_n 0, 1) := dk_42 (dk_at dksX16_init_1 13 rfl rfl)
theorem dX16_init_38 : decode cX16_init 38 = .ok (.iload_n 3, 1) := dk_29 (dk_at dksX16_init_1 14 rfl rfl)
theorem dX16_init_39 : decode cX16_init 39 = .ok (.putfield 17, 3) := dk_181 0 17 (dk_at dksX16_init_1 15 rfl rfl)
theorem dX16_init_42 : decode cX16_init 42 = .ok (.return_, 1) := dk_177 (dk_at dksX16_init_1 18 rfl rfl)
theorem q95 : (Jvm.Cond.initialized "ReversalCourt$Maps") ∈ lw_all := lw_g (lw_at lw_m1 43 rfl) rfl
theorem q1037 : (Jvm.Cond.selects "ReversalCourt$Maps" ({ cls := "java/lang/Object", name := "getClass", desc := "()Ljava/lang/Class;" } : Jvm.MethodName) ({ cls := "java/lang/Object", name := "getClass", desc := "()Ljava/lang/Class;" } : Jvm.MethodName)) ∈ lw_all := lw_g (lw_at lw_m5 25 rfl) rfl
theorem q1225 : (Jvm.Cond.castable "ReversalCourt$Maps" "java/util/Iterator") ∈ lw_tbl := lw_at lw_m5 213 rfl
theorem q1226 : (Jvm.Cond.selects "ReversalCourt$Maps" ({ cls := "java/util/Iterator", name := "hasNext", desc := "()Z" } : Jvm.MethodName) ({ cls := "ReversalCourt$Maps", name := "hasNext", desc := "()Z" } : Jvm.MethodName)) ∈ lw_all := lw_g (lw_at lw_m5 214 rfl) rfl
theorem q1227 : (Jvm.Cond.unhidden "ReversalCourt$Maps" "hasNext" "()Z") ∈ lw_tbl := lw_at lw_m5 215 rfl
theorem q1228 : (Jvm.Cond.instanceMethod ({ cls := "ReversalCourt$Maps", name := "hasNext", desc := "()Z" } : Jvm.MethodName)) ∈ lw_all := lw_g (lw_at lw_m5 216 rfl) rfl
theorem q1229 : (Jvm.Cond.publicMethod ({ cls := "ReversalCourt$Maps", name := "hasNext", desc := "()Z" } : Jvm.MethodName)) ∈ lw_tbl := lw_at lw_m5 217 rfl
theorem q1230 : (Jvm.Cond.code ({ cls := "ReversalCourt$Maps", name := "hasNext", desc := "()Z" } : Jvm.MethodName) prog_5_method_2_code (1 : Nat) (Option.some Jvm.ClassFile.FieldType.boolean)) ∈ lw_all := lw_g (lw_at lw_m5 218 rfl) rfl
theorem q1247 : (Jvm.Cond.selects "ReversalCourt$Maps" ({ cls := "java/util/Iterator", name := "next", desc := "()Ljava/lang/Object;" } : Jvm.MethodName) ({ cls := "ReversalCourt$Maps", name := "next", desc := "()Ljava/lang/Object;" } : Jvm.MethodName)) ∈ lw_all := lw_g (lw_at lw_m5 235 rfl) rfl
theorem q1248 : (Jvm.Cond.unhidden "ReversalCourt$Maps" "next" "()Ljava/lang/Object;") ∈ lw_tbl := lw_at lw_m5 236 rfl
theorem q1249 : (Jvm.Cond.instanceMethod ({ cls := "ReversalCourt$Maps", name := "next", desc := "()Ljava/lang/Object;" } : Jvm.MethodName)) ∈ lw_all := lw_g (lw_at lw_m5 237 rfl) rfl
theorem q1250 : (Jvm.Cond.publicMethod ({ cls := "ReversalCourt$Maps", name := "next", desc := "()Ljava/lang/Object;" } : Jvm.MethodName)) ∈ lw_tbl := lw_at lw_m5 238 rfl
theorem q1251 : (Jvm.Cond.code ({ cls := "ReversalCourt$Maps", name := "next", desc := "()Ljava/lang/Object;" } : Jvm.MethodName) prog_5_method_4_code (1 : Nat) (Option.some (Jvm.ClassFile.FieldType.object "java/lang/Object"))) ∈ lw_all := lw_g (lw_at lw_m5 239 rfl) rfl
theorem q1252 : (Jvm.Cond.methodLink "ReversalCourt$Maps" (23 : Nat) ({ cls := "ReversalCourt$Maps", name := "next", desc := "()[I" } : Jvm.MethodName)) ∈ lw_all := lw_g (lw_at lw_m6 0 rfl) rfl
theorem q1253 : (Jvm.Cond.instanceMethod ({ cls := "ReversalCourt$Maps", name := "next", desc := "()[I" } : Jvm.MethodName)) ∈ lw_all := lw_g (lw_at lw_m6 1 rfl) rfl
theorem q1254 : (Jvm.Cond.selects "ReversalCourt$Maps" ({ cls := "ReversalCourt$Maps", name := "next", desc := "()[I" } : Jvm.MethodName) ({ cls := "ReversalCourt$Maps", name := "next", desc := "()[I" } : Jvm.MethodName)) ∈ lw_all := lw_g (lw_at lw_m6 2 rfl) rfl
theorem q1255 : (Jvm.Cond.code ({ cls := "ReversalCourt$Maps", name := "next", desc := "()[I" } : Jvm.MethodName) prog_5_method_3_code (3 : Nat) (Option.some (Jvm.ClassFile.FieldType.array Jvm.ClassFile.FieldType.int))) ∈ lw_all := lw_g (lw_at lw_m6 3 rfl) rfl
theorem q1379 : (Jvm.Cond.instantiable "ReversalCourt$Maps" (4 : Nat)) ∈ lw_all := lw_g (lw_at lw_m6 127 rfl) rfl
theorem q1381 : (Jvm.Cond.instanceMethod ({ cls := "ReversalCourt$Maps", name := "<init>", desc := "(II)V" } : Jvm.MethodName)) ∈ lw_all := lw_g (lw_at lw_m6 129 rfl) rfl
theorem q1382 : (Jvm.Cond.code ({ cls := "ReversalCourt$Maps", name := "<init>", desc := "(II)V" } : Jvm.MethodName) prog_5_method_1_code (5 : Nat) (Option.none : Option Jvm.ClassFile.FieldType)) ∈ lw_all := lw_g (lw_at lw_m6 130 rfl) rfl
theorem q1383 : (Jvm.Cond.methodLink "ReversalCourt$Maps" (1 : Nat) ({ cls := "java/lang/Object", name := "<init>", desc := "()V" } : Jvm.MethodName)) ∈ lw_all := lw_g (lw_at lw_m6 131 rfl) rfl
theorem q1384 : (Jvm.Cond.fieldLink "ReversalCourt$Maps" (7 : Nat) "ReversalCourt$Maps" "to" "I") ∈ lw_all := lw_g (lw_at lw_m6 132 rfl) rfl
theorem q1385 : (Jvm.Cond.fieldLink "ReversalCourt$Maps" (13 : Nat) "ReversalCourt$Maps" "row" "[I") ∈ lw_all := lw_g (lw_at lw_m6 133 rfl) rfl
theorem q1386 : (Jvm.Cond.fieldLink "ReversalCourt$Maps" (20 : Nat) "ReversalCourt$Maps" "code" "I") ∈ lw_all := lw_g (lw_at lw_m6 134 rfl) rfl
theorem q1387 : (Jvm.Cond.fieldLink "ReversalCourt$Maps" (17 : Nat) "ReversalCourt$Maps" "all" "I") ∈ lw_all := lw_g (lw_at lw_m6 135 rfl) rfl
theorem q1388 : (Jvm.Cond.laysFinal "ReversalCourt$Maps" "ReversalCourt$Maps" "to" "I") ∈ lw_all := lw_g (lw_at lw_m6 136 rfl) rfl
theorem q1389 : (Jvm.Cond.soleField "ReversalCourt$Maps" "to") ∈ lw_all := lw_g (lw_at lw_m6 137 rfl) rfl
theorem q1390 : (Jvm.Cond.laysFinal "ReversalCourt$Maps" "ReversalCourt$Maps" "row" "[I") ∈ lw_all := lw_g (lw_at lw_m6 138 rfl) rfl
theorem q1391 : (Jvm.Cond.soleField "ReversalCourt$Maps" "row") ∈ lw_all := lw_g (lw_at lw_m6 139 rfl) rfl
theorem q1392 : (Jvm.Cond.lays "ReversalCourt$Maps" "ReversalCourt$Maps" "code" "I") ∈ lw_all := lw_g (lw_at lw_m6 140 rfl) rfl
theorem q1393 : (Jvm.Cond.soleField "ReversalCourt$Maps" "code") ∈ lw_all := lw_g (lw_at lw_m6 141 rfl) rfl
theorem q1394 : (Jvm.Cond.laysFinal "ReversalCourt$Maps" "ReversalCourt$Maps" "all" "I") ∈ lw_all := lw_g (lw_at lw_m6 142 rfl) rfl
theorem q1395 : (Jvm.Cond.soleField "ReversalCourt$Maps" "all") ∈ lw_all := lw_g (lw_at lw_m6 143 rfl) rfl
theorem q1396 : (Jvm.Cond.superclass "ReversalCourt$Maps" "java/lang/Object") ∈ lw_all := lw_g (lw_at lw_m6 144 rfl) rfl
theorem q1848 : (Jvm.Cond.castable "ReversalCourt$Maps" "java/lang/Object") ∈ lw_tbl := lw_at lw_m8 116 rfl
theorem in_X16 : ∀ w ∈ wsX160, w ∈ lw_all := lw_in wsX160 [1388, 1390, 1392, 1394] (by decide +kernel) (by decide +kernel)
