/-! ReversalCourt -/
set_option maxRecDepth 100000
def RX1 : String := "ReversalCourt"
def TX1 : u_T := fun k => match k with
  | 0 => ("ReversalCourt", "page", "Ljava/lang/StringBuilder;", true)
  | 1 => ("ReversalCourt", "principles", "Ljava/util/ArrayList;", true)
  | 2 => ("ReversalCourt", "rules", "Ljava/util/ArrayList;", true)
  | 3 => ("ReversalCourt", "models", "Ljava/util/ArrayList;", true)
  | _ => ("ReversalCourt", "problems", "Ljava/util/ArrayList;", true)
def tyX1 : Nat → FieldType := fun k => match k with
  | 0 => .object "java/lang/StringBuilder"
  | 1 => .object "java/util/ArrayList"
  | 2 => .object "java/util/ArrayList"
  | 3 => .object "java/util/ArrayList"
  | _ => .object "java/util/ArrayList"
abbrev wsX10 : List Cond := u_ws RX1 TX1 5
theorem nmX1 : ∀ a, a < 5 → ∀ b, b < 5 → a ≠ b → (TX1 a).2.1 ≠ (TX1 b).2.1 := by decide +kernel
theorem tyX1_ok : ∀ k, k < 5 → parseFieldDescriptor (TX1 k).2.2.1 = some (tyX1 k) := by decide +kernel
abbrev cX1_init : ByteArray := prog_1_method_1_code
def yX1_init : MethodName := ⟨RX1, "<init>", "()V"⟩
def dkwX1_init_2 : List UInt8 := [181, 0, 26, 42, 187, 0, 16, 89, 183, 0, 18, 181, 0, 29, 177]
abbrev dktX1_init_2 : List UInt8 := dkwX1_init_2 ++ []
def dkwX1_init_1 : List UInt8 := [181, 0, 19, 42, 187, 0, 16, 89, 183, 0, 18, 181, 0, 23, 42, 187, 0, 16, 89, 183, 0, 18]
abbrev dktX1_init_1 : List UInt8 := dkwX1_init_1 ++ dktX1_init_2
def dkwX1_init_0 : List UInt8 := [42, 183, 0, 1, 42, 187, 0, 7, 89, 183, 0, 9, 181, 0, 10, 42, 187, 0, 16, 89, 183, 0, 18]
abbrev dktX1_init_0 : List UInt8 := dkwX1_init_0 ++ dktX1_init_1
theorem dksX1_init_0 : cX1_init.data.toList.drop 0 = dktX1_init_0 := by decide +kernel
theorem dksX1_init_1 : cX1_init.data.toList.drop 23 = dktX1_init_1 := dk_seg dksX1_init_0 23 rfl rfl
theorem dksX1_init_2 : cX1_init.data.toList.drop 45 = dktX1_init_2 := dk_seg dksX1_init_1 22 rfl rfl
theorem dX1_init_0 : decode cX1_init 0 = .ok (.aload_n 0, 1) := dk_42 (dk_at dksX1_init_0 0 rfl rfl)
theorem dX1_init_1 : decode cX1_init 1 = .ok (.invokespecial 1, 3) := dk_183 0 1 (dk_at dksX1_init_0 1 rfl rfl)
theorem dX1_init_4 : decode cX1_init 4 = .ok (.aload_n 0, 1) := dk_42 (dk_at dksX1_init_0 4 rfl rfl)
theorem dX1_init_5 : decode cX1_init 5 = .ok (.new 7, 3) := dk_187 0 7 (dk_at dksX1_init_0 5 rfl rfl)
theorem dX1_init_8 : decode cX1_init 8 = .ok (.dup, 1) := dk_89 (dk_at dksX1_init_0 8 rfl rfl)
theorem dX1_init_9 : decode cX1_init 9 = .ok (.invokespecial 9, 3) := dk_183 0 9 (dk_at dksX1_init_0 9 rfl rfl)
theorem dX1_init_12 : decode cX1_init 12 = .ok (.putfield 10, 3) := dk_181 0 10 (dk_at dksX1_init_0 12 rfl rfl)
theorem dX1_init_15 : decode cX1_init 15 = .ok (.aload_n 0, 1) := dk_42 (dk_at dksX1_init_0 15 rfl rfl)
theorem dX1_init_16 : decode cX1_init 16 = .ok (.new 16, 3) := dk_187 0 16 (dk_at dksX1_init_0 16 rfl rfl)
theorem dX1_init_19 : decode cX1_init 19 = .ok (.dup, 1) := dk_89 (dk_at dksX1_init_0 19 rfl rfl)
theorem dX1_init_20 : decode cX1_init 20 = .ok (.invokespecial 18, 3) := dk_183 0 18 (dk_at dksX1_init_0 20 rfl rfl)
theorem dX1_init_23 : decode cX1_init 23 = .ok (.putfield 19, 3) := dk_181 0 19 (dk_at dksX1_init_1 0 rfl rfl)
theorem dX1_init_26 : decode cX1_init 26 = .ok (.aload_n 0, 1) := dk_42 (dk_at dksX1_init_1 3 rfl rfl)
theorem dX1_init_27 : decode cX1_init 27 = .ok (.new 16, 3) := dk_187 0 16 (dk_at dksX1_init_1 4 rfl rfl)
theorem dX1_init_30 : decode cX1_init 30 = .ok (.dup, 1) := dk_89 (dk_at dksX1_init_1 7 rfl rfl)
theorem dX1_init_31 : decode cX1_init 31 = .ok (.invokespecial 18, 3) := dk_183 0 18 (dk_at dksX1_init_1 8 rfl rfl)
theorem dX1_init_34 : decode cX1_init 34 = .ok (.putfield 23, 3) := dk_181 0 23 (dk_at dksX1_init_1 11 rfl rfl)
theorem dX1_init_37 : decode cX1_init 37 = .ok (.aload_n 0, 1) := dk_42 (dk_at dksX1_init_1 14 rfl rfl)
theorem dX1_init_38 : decode cX1_init 38 = .ok (.new 16, 3) := dk_187 0 16 (dk_at dksX1_init_1 15 rfl rfl)
theorem dX1_init_41 : decode cX1_init 41 = .ok (.dup, 1) := dk_89 (dk_at dksX1_init_1 18 rfl rfl)
theorem dX1_init_42 : decode cX1_init 42 = .ok (.invokespecial 18, 3) := dk_183 0 18 (dk_at dksX1_init_1 19 rfl rfl)
theorem dX1_init_45 : decode cX1_init 45 = .ok (.putfield 26, 3) := dk_181 0 26 (dk_at dksX1_init_2 0 rfl rfl)
theorem dX1_init_48 : decode cX1_init 48 = .ok (.aload_n 0, 1) := dk_42 (dk_at dksX1_init_2 3 rfl rfl)
theorem dX1_init_49 : decode cX1_init 49 = .ok (.new 16, 3) := dk_187 0 16 (dk_at dksX1_init_2 4 rfl rfl)
theorem dX1_init_52 : decode cX1_init 52 = .ok (.dup, 1) := dk_89 (dk_at dksX1_init_2 7 rfl rfl)
theorem dX1_init_53 : decode cX1_init 53 = .ok (.invokespecial 18, 3) := dk_183 0 18 (dk_at dksX1_init_2 8 rfl rfl)
theorem dX1_init_56 : decode cX1_init 56 = .ok (.putfield 29, 3) := dk_181 0 29 (dk_at dksX1_init_2 11 rfl rfl)
theorem dX1_init_59 : decode cX1_init 59 = .ok (.return_, 1) := dk_177 (dk_at dksX1_init_2 14 rfl rfl)
abbrev cX1_blank : ByteArray := prog_1_method_8_code
def yX1_blank : MethodName := ⟨RX1, "blank", "()I"⟩
def dkwX1_blank_0 : List UInt8 := [42, 180, 0, 10, 182, 0, 68, 60, 42, 180, 0, 10, 3, 182, 0, 78, 27, 172]
abbrev dktX1_blank_0 : List UInt8 := dkwX1_blank_0 ++ []
theorem dksX1_blank_0 : cX1_blank.data.toList.drop 0 = dktX1_blank_0 := by decide +kernel
theorem dX1_blank_0 : decode cX1_blank 0 = .ok (.aload_n 0, 1) := dk_42 (dk_at dksX1_blank_0 0 rfl rfl)
theorem dX1_blank_1 : decode cX1_blank 1 = .ok (.getfield 10, 3) := dk_180 0 10 (dk_at dksX1_blank_0 1 rfl rfl)
theorem dX1_blank_4 : decode cX1_blank 4 = .ok (.invokevirtual 68, 3) := dk_182 0 68 (dk_at dksX1_blank_0 4 rfl rfl)
theorem dX1_blank_7 : decode cX1_blank 7 = .ok (.istore_n 1, 1) := dk_60 (dk_at dksX1_blank_0 7 rfl rfl)
theorem dX1_blank_8 : decode cX1_blank 8 = .ok (.aload_n 0, 1) := dk_42 (dk_at dksX1_blank_0 8 rfl rfl)
theorem dX1_blank_9 : decode cX1_blank 9 = .ok (.getfield 10, 3) := dk_180 0 10 (dk_at dksX1_blank_0 9 rfl rfl)
theorem dX1_blank_12 : decode cX1_blank 12 = .ok (.iconst 0, 1) := dk_3 (dk_at dksX1_blank_0 12 rfl rfl)
theorem dX1_blank_13 : decode cX1_blank 13 = .ok (.invokevirtual 78, 3) := dk_182 0 78 (dk_at dksX1_blank_0 13 rfl rfl)
theorem dX1_blank_16 : decode cX1_blank 16 = .ok (.iload_n 1, 1) := dk_27 (dk_at dksX1_blank_0 16 rfl rfl)
theorem dX1_blank_17 : decode cX1_blank 17 = .ok (.ireturn, 1) := dk_172 (dk_at dksX1_blank_0 17 rfl rfl)
abbrev cX1_fault : ByteArray := prog_1_method_9_code
def yX1_fault : MethodName := ⟨RX1, "fault", "()I"⟩
def dkwX1_fault_0 : List UInt8 := [187, 0, 82, 89, 42, 183, 0, 84, 76, 43, 182, 0, 87, 87, 43, 180, 0, 91, 172]
abbrev dktX1_fault_0 : List UInt8 := dkwX1_fault_0 ++ []
theorem dksX1_fault_0 : cX1_fault.data.toList.drop 0 = dktX1_fault_0 := by decide +kernel
theorem dX1_fault_0 : decode cX1_fault 0 = .ok (.new 82, 3) := dk_187 0 82 (dk_at dksX1_fault_0 0 rfl rfl)
theorem dX1_fault_3 : decode cX1_fault 3 = .ok (.dup, 1) := dk_89 (dk_at dksX1_fault_0 3 rfl rfl)
theorem dX1_fault_4 : decode cX1_fault 4 = .ok (.aload_n 0, 1) := dk_42 (dk_at dksX1_fault_0 4 rfl rfl)
theorem dX1_fault_5 : decode cX1_fault 5 = .ok (.invokespecial 84, 3) := dk_183 0 84 (dk_at dksX1_fault_0 5 rfl rfl)
theorem dX1_fault_8 : decode cX1_fault 8 = .ok (.astore_n 1, 1) := dk_76 (dk_at dksX1_fault_0 8 rfl rfl)
theorem dX1_fault_9 : decode cX1_fault 9 = .ok (.aload_n 1, 1) := dk_43 (dk_at dksX1_fault_0 9 rfl rfl)
theorem dX1_fault_10 : decode cX1_fault 10 = .ok (.invokevirtual 87, 3) := dk_182 0 87 (dk_at dksX1_fault_0 10 rfl rfl)
theorem dX1_fault_13 : decode cX1_fault 13 = .ok (.pop, 1) := dk_87 (dk_at dksX1_fault_0 13 rfl rfl)
theorem dX1_fault_14 : decode cX1_fault 14 = .ok (.aload_n 1, 1) := dk_43 (dk_at dksX1_fault_0 14 rfl rfl)
theorem dX1_fault_15 : decode cX1_fault 15 = .ok (.getfield 91, 3) := dk_180 0 91 (dk_at dksX1_fault_0 15 rfl rfl)
theorem dX1_fault_18 : decode cX1_fault 18 = .ok (.ireturn, 1) := dk_172 (dk_at dksX1_fault_0 18 rfl rfl)
abbrev cX1_sigma : ByteArray := prog_1_method_11_code
def yX1_sigma : MethodName := ⟨RX1, "sigma", "()I"⟩
def dkwX1_sigma_0 : List UInt8 := [42, 182, 0, 95, 76, 43, 199, 0, 7, 2, 167, 0, 7, 43, 182, 0, 98, 172]
abbrev dktX1_sigma_0 : List UInt8 := dkwX1_sigma_0 ++ []
theorem dksX1_sigma_0 : cX1_sigma.data.toList.drop 0 = dktX1_sigma_0 := by decide +kernel
theorem dX1_sigma_0 : decode cX1_sigma 0 = .ok (.aload_n 0, 1) := dk_42 (dk_at dksX1_sigma_0 0 rfl rfl)
theorem dX1_sigma_1 : decode cX1_sigma 1 = .ok (.invokevirtual 95, 3) := dk_182 0 95 (dk_at dksX1_sigma_0 1 rfl rfl)
theorem dX1_sigma_4 : decode cX1_sigma 4 = .ok (.astore_n 1, 1) := dk_76 (dk_at dksX1_sigma_0 4 rfl rfl)
theorem dX1_sigma_5 : decode cX1_sigma 5 = .ok (.aload_n 1, 1) := dk_43 (dk_at dksX1_sigma_0 5 rfl rfl)
theorem dX1_sigma_6 : decode cX1_sigma 6 = .ok (.ifnonnull 7, 3) := dk_199 0 7 (dk_at dksX1_sigma_0 6 rfl rfl)
theorem dX1_sigma_9 : decode cX1_sigma 9 = .ok (.iconst (-1), 1) := dk_2 (dk_at dksX1_sigma_0 9 rfl rfl)
theorem dX1_sigma_10 : decode cX1_sigma 10 = .ok (.goto 7, 3) := dk_167 0 7 (dk_at dksX1_sigma_0 10 rfl rfl)
theorem dX1_sigma_13 : decode cX1_sigma 13 = .ok (.aload_n 1, 1) := dk_43 (dk_at dksX1_sigma_0 13 rfl rfl)
theorem dX1_sigma_14 : decode cX1_sigma 14 = .ok (.invokevirtual 98, 3) := dk_182 0 98 (dk_at dksX1_sigma_0 14 rfl rfl)
theorem dX1_sigma_17 : decode cX1_sigma 17 = .ok (.ireturn, 1) := dk_172 (dk_at dksX1_sigma_0 17 rfl rfl)
abbrev cX1_read : ByteArray := prog_1_method_10_code
def yX1_read : MethodName := ⟨RX1, "read", "()LReversalCourt$Formula;"⟩
def dkwX1_read_1 : List UInt8 := [182, 0, 68, 160, 0, 7, 44, 167, 0, 4, 1, 176]
abbrev dktX1_read_1 : List UInt8 := dkwX1_read_1 ++ []
def dkwX1_read_0 : List UInt8 := [187, 0, 82, 89, 42, 183, 0, 84, 76, 43, 182, 0, 87, 77, 43, 180, 0, 91, 42, 180, 0, 10]
abbrev dktX1_read_0 : List UInt8 := dkwX1_read_0 ++ dktX1_read_1
theorem dksX1_read_0 : cX1_read.data.toList.drop 0 = dktX1_read_0 := by decide +kernel
theorem dksX1_read_1 : cX1_read.data.toList.drop 22 = dktX1_read_1 := dk_seg dksX1_read_0 22 rfl rfl
theorem dX1_read_0 : decode cX1_read 0 = .ok (.new 82, 3) := dk_187 0 82 (dk_at dksX1_read_0 0 rfl rfl)
theorem dX1_read_3 : decode cX1_read 3 = .ok (.dup, 1) := dk_89 (dk_at dksX1_read_0 3 rfl rfl)
theorem dX1_read_4 : decode cX1_read 4 = .ok (.aload_n 0, 1) := dk_42 (dk_at dksX1_read_0 4 rfl rfl)
theorem dX1_read_5 : decode cX1_read 5 = .ok (.invokespecial 84, 3) := dk_183 0 84 (dk_at dksX1_read_0 5 rfl rfl)
theorem dX1_read_8 : decode cX1_read 8 = .ok (.astore_n 1, 1) := dk_76 (dk_at dksX1_read_0 8 rfl rfl)
theorem dX1_read_9 : decode cX1_read 9 = .ok (.aload_n 1, 1) := dk_43 (dk_at dksX1_read_0 9 rfl rfl)
theorem dX1_read_10 : decode cX1_read 10 = .ok (.invokevirtual 87, 3) := dk_182 0 87 (dk_at dksX1_read_0 10 rfl rfl)
theorem dX1_read_13 : decode cX1_read 13 = .ok (.astore_n 2, 1) := dk_77 (dk_at dksX1_read_0 13 rfl rfl)
theorem dX1_read_14 : decode cX1_read 14 = .ok (.aload_n 1, 1) := dk_43 (dk_at dksX1_read_0 14 rfl rfl)
theorem dX1_read_15 : decode cX1_read 15 = .ok (.getfield 91, 3) := dk_180 0 91 (dk_at dksX1_read_0 15 rfl rfl)
theorem dX1_read_18 : decode cX1_read 18 = .ok (.aload_n 0, 1) := dk_42 (dk_at dksX1_read_0 18 rfl rfl)
theorem dX1_read_19 : decode cX1_read 19 = .ok (.getfield 10, 3) := dk_180 0 10 (dk_at dksX1_read_0 19 rfl rfl)
theorem dX1_read_22 : decode cX1_read 22 = .ok (.invokevirtual 68, 3) := dk_182 0 68 (dk_at dksX1_read_1 0 rfl rfl)
theorem dX1_read_25 : decode cX1_read 25 = .ok (.if_icmp .ne 7, 3) := dk_160 0 7 (dk_at dksX1_read_1 3 rfl rfl)
theorem dX1_read_28 : decode cX1_read 28 = .ok (.aload_n 2, 1) := dk_44 (dk_at dksX1_read_1 6 rfl rfl)
theorem dX1_read_29 : decode cX1_read 29 = .ok (.goto 4, 3) := dk_167 0 4 (dk_at dksX1_read_1 7 rfl rfl)
theorem dX1_read_32 : decode cX1_read 32 = .ok (.aconst_null, 1) := dk_1 (dk_at dksX1_read_1 10 rfl rfl)
theorem dX1_read_33 : decode cX1_read 33 = .ok (.areturn, 1) := dk_176 (dk_at dksX1_read_1 11 rfl rfl)
abbrev cX1_pi : ByteArray := prog_1_method_12_code
def yX1_pi : MethodName := ⟨RX1, "pi", "()I"⟩
def dkwX1_pi_0 : List UInt8 := [42, 182, 0, 95, 76, 43, 199, 0, 7, 2, 167, 0, 7, 43, 182, 0, 103, 172]
abbrev dktX1_pi_0 : List UInt8 := dkwX1_pi_0 ++ []
theorem dksX1_pi_0 : cX1_pi.data.toList.drop 0 = dktX1_pi_0 := by decide +kernel
theorem dX1_pi_0 : decode cX1_pi 0 = .ok (.aload_n 0, 1) := dk_42 (dk_at dksX1_pi_0 0 rfl rfl)
theorem dX1_pi_1 : decode cX1_pi 1 = .ok (.invokevirtual 95, 3) := dk_182 0 95 (dk_at dksX1_pi_0 1 rfl rfl)
theorem dX1_pi_4 : decode cX1_pi 4 = .ok (.astore_n 1, 1) := dk_76 (dk_at dksX1_pi_0 4 rfl rfl)
theorem dX1_pi_5 : decode cX1_pi 5 = .ok (.aload_n 1, 1) := dk_43 (dk_at dksX1_pi_0 5 rfl rfl)
theorem dX1_pi_6 : decode cX1_pi 6 = .ok (.ifnonnull 7, 3) := dk_199 0 7 (dk_at dksX1_pi_0 6 rfl rfl)
theorem dX1_pi_9 : decode cX1_pi 9 = .ok (.iconst (-1), 1) := dk_2 (dk_at dksX1_pi_0 9 rfl rfl)
theorem dX1_pi_10 : decode cX1_pi 10 = .ok (.goto 7, 3) := dk_167 0 7 (dk_at dksX1_pi_0 10 rfl rfl)
theorem dX1_pi_13 : decode cX1_pi 13 = .ok (.aload_n 1, 1) := dk_43 (dk_at dksX1_pi_0 13 rfl rfl)
theorem dX1_pi_14 : decode cX1_pi 14 = .ok (.invokevirtual 103, 3) := dk_182 0 103 (dk_at dksX1_pi_0 14 rfl rfl)
theorem dX1_pi_17 : decode cX1_pi 17 = .ok (.ireturn, 1) := dk_172 (dk_at dksX1_pi_0 17 rfl rfl)
abbrev cX1_free : ByteArray := prog_1_method_13_code
def yX1_free : MethodName := ⟨RX1, "free", "()I"⟩
def dkwX1_free_0 : List UInt8 := [42, 182, 0, 95, 76, 43, 199, 0, 7, 2, 167, 0, 7, 43, 182, 0, 106, 172]
abbrev dktX1_free_0 : List UInt8 := dkwX1_free_0 ++ []
theorem dksX1_free_0 : cX1_free.data.toList.drop 0 = dktX1_free_0 := by decide +kernel
theorem dX1_free_0 : decode cX1_free 0 = .ok (.aload_n 0, 1) := dk_42 (dk_at dksX1_free_0 0 rfl rfl)
theorem dX1_free_1 : decode cX1_free 1 = .ok (.invokevirtual 95, 3) := dk_182 0 95 (dk_at dksX1_free_0 1 rfl rfl)
theorem dX1_free_4 : decode cX1_free 4 = .ok (.astore_n 1, 1) := dk_76 (dk_at dksX1_free_0 4 rfl rfl)
theorem dX1_free_5 : decode cX1_free 5 = .ok (.aload_n 1, 1) := dk_43 (dk_at dksX1_free_0 5 rfl rfl)
theorem dX1_free_6 : decode cX1_free 6 = .ok (.ifnonnull 7, 3) := dk_199 0 7 (dk_at dksX1_free_0 6 rfl rfl)
theorem dX1_free_9 : decode cX1_free 9 = .ok (.iconst (-1), 1) := dk_2 (dk_at dksX1_free_0 9 rfl rfl)
theorem dX1_free_10 : decode cX1_free 10 = .ok (.goto 7, 3) := dk_167 0 7 (dk_at dksX1_free_0 10 rfl rfl)
theorem dX1_free_13 : decode cX1_free 13 = .ok (.aload_n 1, 1) := dk_43 (dk_at dksX1_free_0 13 rfl rfl)
theorem dX1_free_14 : decode cX1_free 14 = .ok (.invokevirtual 106, 3) := dk_182 0 106 (dk_at dksX1_free_0 14 rfl rfl)
theorem dX1_free_17 : decode cX1_free 17 = .ok (.ireturn, 1) := dk_172 (dk_at dksX1_free_0 17 rfl rfl)
abbrev cX1_open : ByteArray := prog_1_method_27_code
def yX1_open : MethodName := ⟨RX1, "open", "()I"⟩
def dkwX1_open_2 : List UInt8 := [167, 0, 4, 3, 96, 60, 132, 3, 1, 167, 255, 220, 132, 2, 1, 167, 255, 201, 27, 172]
abbrev dktX1_open_2 : List UInt8 := dkwX1_open_2 ++ []
def dkwX1_open_1 : List UInt8 := [182, 0, 41, 162, 0, 31, 27, 28, 29, 159, 0, 16, 42, 28, 29, 182, 0, 177, 154, 0, 7, 4]
abbrev dktX1_open_1 : List UInt8 := dkwX1_open_1 ++ dktX1_open_2
def dkwX1_open_0 : List UInt8 := [3, 60, 3, 61, 28, 42, 180, 0, 19, 182, 0, 41, 162, 0, 50, 3, 62, 29, 42, 180, 0, 19]
abbrev dktX1_open_0 : List UInt8 := dkwX1_open_0 ++ dktX1_open_1
theorem dksX1_open_0 : cX1_open.data.toList.drop 0 = dktX1_open_0 := by decide +kernel
theorem dksX1_open_1 : cX1_open.data.toList.drop 22 = dktX1_open_1 := dk_seg dksX1_open_0 22 rfl rfl
theorem dksX1_open_2 : cX1_open.data.toList.drop 44 = dktX1_open_2 := dk_seg dksX1_open_1 22 rfl rfl
theorem dX1_open_0 : decode cX1_open 0 = .ok (.iconst 0, 1) := dk_3 (dk_at dksX1_open_0 0 rfl rfl)
theorem dX1_open_1 : decode cX1_open 1 = .ok (.istore_n 1, 1) := dk_60 (dk_at dksX1_open_0 1 rfl rfl)
theorem dX1_open_2 : decode cX1_open 2 = .ok (.iconst 0, 1) := dk_3 (dk_at dksX1_open_0 2 rfl rfl)
theorem dX1_open_3 : decode cX1_open 3 = .ok (.istore_n 2, 1) := dk_61 (dk_at dksX1_open_0 3 rfl rfl)
theorem dX1_open_4 : decode cX1_open 4 = .ok (.iload_n 2, 1) := dk_28 (dk_at dksX1_open_0 4 rfl rfl)
theorem dX1_open_5 : decode cX1_open 5 = .ok (.aload_n 0, 1) := dk_42 (dk_at dksX1_open_0 5 rfl rfl)
theorem dX1_open_6 : decode cX1_open 6 = .ok (.getfield 19, 3) := dk_180 0 19 (dk_at dksX1_open_0 6 rfl rfl)
theorem dX1_open_9 : decode cX1_open 9 = .ok (.invokevirtual 41, 3) := dk_182 0 41 (dk_at dksX1_open_0 9 rfl rfl)
theorem dX1_open_12 : decode cX1_open 12 = .ok (.if_icmp .ge 50, 3) := dk_162 0 50 (dk_at dksX1_open_0 12 rfl rfl)
theorem dX1_open_15 : decode cX1_open 15 = .ok (.iconst 0, 1) := dk_3 (dk_at dksX1_open_0 15 rfl rfl)
theorem dX1_open_16 : decode cX1_open 16 = .ok (.istore_n 3, 1) := dk_62 (dk_at dksX1_open_0 16 rfl rfl)
theorem dX1_open_17 : decode cX1_open 17 = .ok (.iload_n 3, 1) := dk_29 (dk_at dksX1_open_0 17 rfl rfl)
theorem dX1_open_18 : decode cX1_open 18 = .ok (.aload_n 0, 1) := dk_42 (dk_at dksX1_open_0 18 rfl rfl)
theorem dX1_open_19 : decode cX1_open 19 = .ok (.getfield 19, 3) := dk_180 0 19 (dk_at dksX1_open_0 19 rfl rfl)
theorem dX1_open_22 : decode cX1_open 22 = .ok (.invokevirtual 41, 3) := dk_182 0 41 (dk_at dksX1_open_1 0 rfl rfl)
theorem dX1_open_25 : decode cX1_open 25 = .ok (.if_icmp .ge 31, 3) := dk_162 0 31 (dk_at dksX1_open_1 3 rfl rfl)
theorem dX1_open_28 : decode cX1_open 28 = .ok (.iload_n 1, 1) := dk_27 (dk_at dksX1_open_1 6 rfl rfl)
theorem dX1_open_29 : decode cX1_open 29 = .ok (.iload_n 2, 1) := dk_28 (dk_at dksX1_open_1 7 rfl rfl)
theorem dX1_open_30 : decode cX1_open 30 = .ok (.iload_n 3, 1) := dk_29 (dk_at dksX1_open_1 8 rfl rfl)
theorem dX1_open_31 : decode cX1_open 31 = .ok (.if_icmp .eq 16, 3) := dk_159 0 16 (dk_at dksX1_open_1 9 rfl rfl)
theorem dX1_open_34 : decode cX1_open 34 = .ok (.aload_n 0, 1) := dk_42 (dk_at dksX1_open_1 12 rfl rfl)
theorem dX1_open_35 : decode cX1_open 35 = .ok (.iload_n 2, 1) := dk_28 (dk_at dksX1_open_1 13 rfl rfl)
theorem dX1_open_36 : decode cX1_open 36 = .ok (.iload_n 3, 1) := dk_29 (dk_at dksX1_open_1 14 rfl rfl)
theorem dX1_open_37 : decode cX1_open 37 = .ok (.invokevirtual 177, 3) := dk_182 0 177 (dk_at dksX1_open_1 15 rfl rfl)
theorem dX1_open_40 : decode cX1_open 40 = .ok (.ifCond .ne 7, 3) := dk_154 0 7 (dk_at dksX1_open_1 18 rfl rfl)
theorem dX1_open_43 : decode cX1_open 43 = .ok (.iconst 1, 1) := dk_4 (dk_at dksX1_open_1 21 rfl rfl)
theorem dX1_open_44 : decode cX1_open 44 = .ok (.goto 4, 3) := dk_167 0 4 (dk_at dksX1_open_2 0 rfl rfl)
theorem dX1_open_47 : decode cX1_open 47 = .ok (.iconst 0, 1) := dk_3 (dk_at dksX1_open_2 3 rfl rfl)
theorem dX1_open_48 : decode cX1_open 48 = .ok (.iadd, 1) := dk_96 (dk_at dksX1_open_2 4 rfl rfl)
theorem dX1_open_49 : decode cX1_open 49 = .ok (.istore_n 1, 1) := dk_60 (dk_at dksX1_open_2 5 rfl rfl)
theorem dX1_open_50 : decode cX1_open 50 = .ok (.iinc 3 1, 3) := dk_132 3 1 (dk_at dksX1_open_2 6 rfl rfl)
theorem dX1_open_53 : decode cX1_open 53 = .ok (.goto (-36), 3) := dk_167 255 220 (dk_at dksX1_open_2 9 rfl rfl)
theorem dX1_open_56 : decode cX1_open 56 = .ok (.iinc 2 1, 3) := dk_132 2 1 (dk_at dksX1_open_2 12 rfl rfl)
theorem dX1_open_59 : decode cX1_open 59 = .ok (.goto (-55), 3) := dk_167 255 201 (dk_at dksX1_open_2 15 rfl rfl)
theorem dX1_open_62 : decode cX1_open 62 = .ok (.iload_n 1, 1) := dk_27 (dk_at dksX1_open_2 18 rfl rfl)
theorem dX1_open_63 : decode cX1_open 63 = .ok (.ireturn, 1) := dk_172 (dk_at dksX1_open_2 19 rfl rfl)
abbrev cX1_knownOf : ByteArray := prog_1_method_25_code
def yX1_knownOf : MethodName := ⟨RX1, "knownOf", "(II)I"⟩
def dkwX1_knownOf_3 : List UInt8 := [2, 172, 132, 3, 1, 167, 255, 197, 3, 172]
abbrev dktX1_knownOf_3 : List UInt8 := dkwX1_knownOf_3 ++ []
def dkwX1_knownOf_2 : List UInt8 := [160, 0, 26, 42, 180, 0, 26, 29, 182, 0, 53, 192, 0, 138, 182, 0, 140, 28, 122, 4, 126, 154, 0, 5]
abbrev dktX1_knownOf_2 : List UInt8 := dkwX1_knownOf_2 ++ dktX1_knownOf_3
def dkwX1_knownOf_1 : List UInt8 := [162, 0, 54, 42, 180, 0, 26, 29, 182, 0, 53, 192, 0, 138, 182, 0, 140, 27, 122, 4, 126, 4]
abbrev dktX1_knownOf_1 : List UInt8 := dkwX1_knownOf_1 ++ dktX1_knownOf_2
def dkwX1_knownOf_0 : List UInt8 := [42, 4, 27, 120, 28, 182, 0, 163, 153, 0, 5, 4, 172, 3, 62, 29, 42, 180, 0, 26, 182, 0, 41]
abbrev dktX1_knownOf_0 : List UInt8 := dkwX1_knownOf_0 ++ dktX1_knownOf_1
theorem dksX1_knownOf_0 : cX1_knownOf.data.toList.drop 0 = dktX1_knownOf_0 := by decide +kernel
theorem dksX1_knownOf_1 : cX1_knownOf.data.toList.drop 23 = dktX1_knownOf_1 := dk_seg dksX1_knownOf_0 23 rfl rfl
theorem dksX1_knownOf_2 : cX1_knownOf.data.toList.drop 45 = dktX1_knownOf_2 := dk_seg dksX1_knownOf_1 22 rfl rfl
theorem dksX1_knownOf_3 : cX1_knownOf.data.toList.drop 69 = dktX1_knownOf_3 := dk_seg dksX1_knownOf_2 24 rfl rfl
theorem dX1_knownOf_0 : decode cX1_knownOf 0 = .ok (.aload_n 0, 1) := dk_42 (dk_at dksX1_knownOf_0 0 rfl rfl)
theorem dX1_knownOf_1 : decode cX1_knownOf 1 = .ok (.iconst 1, 1) := dk_4 (dk_at dksX1_knownOf_0 1 rfl rfl)
theorem dX1_knownOf_2 : decode cX1_knownOf 2 = .ok (.iload_n 1, 1) := dk_27 (dk_at dksX1_knownOf_0 2 rfl rfl)
theorem dX1_knownOf_3 : decode cX1_knownOf 3 = .ok (.ishl, 1) := dk_120 (dk_at dksX1_knownOf_0 3 rfl rfl)
theorem dX1_knownOf_4 : decode cX1_knownOf 4 = .ok (.iload_n 2, 1) := dk_28 (dk_at dksX1_knownOf_0 4 rfl rfl)
theorem dX1_knownOf_5 : decode cX1_knownOf 5 = .ok (.invokevirtual 163, 3) := dk_182 0 163 (dk_at dksX1_knownOf_0 5 rfl rfl)
theorem dX1_knownOf_8 : decode cX1_knownOf 8 = .ok (.ifCond .eq 5, 3) := dk_153 0 5 (dk_at dksX1_knownOf_0 8 rfl rfl)
theorem dX1_knownOf_11 : decode cX1_knownOf 11 = .ok (.iconst 1, 1) := dk_4 (dk_at dksX1_knownOf_0 11 rfl rfl)
theorem dX1_knownOf_12 : decode cX1_knownOf 12 = .ok (.ireturn, 1) := dk_172 (dk_at dksX1_knownOf_0 12 rfl rfl)
theorem dX1_knownOf_13 : decode cX1_knownOf 13 = .ok (.iconst 0, 1) := dk_3 (dk_at dksX1_knownOf_0 13 rfl rfl)
theorem dX1_knownOf_14 : decode cX1_knownOf 14 = .ok (.istore_n 3, 1) := dk_62 (dk_at dksX1_knownOf_0 14 rfl rfl)
theorem dX1_knownOf_15 : decode cX1_knownOf 15 = .ok (.iload_n 3, 1) := dk_29 (dk_at dksX1_knownOf_0 15 rfl rfl)
theorem dX1_knownOf_16 : decode cX1_knownOf 16 = .ok (.aload_n 0, 1) := dk_42 (dk_at dksX1_knownOf_0 16 rfl rfl)
theorem dX1_knownOf_17 : decode cX1_knownOf 17 = .ok (.getfield 26, 3) := dk_180 0 26 (dk_at dksX1_knownOf_0 17 rfl rfl)
theorem dX1_knownOf_20 : decode cX1_knownOf 20 = .ok (.invokevirtual 41, 3) := dk_182 0 41 (dk_at dksX1_knownOf_0 20 rfl rfl)
theorem dX1_knownOf_23 : decode cX1_knownOf 23 = .ok (.if_icmp .ge 54, 3) := dk_162 0 54 (dk_at dksX1_knownOf_1 0 rfl rfl)
theorem dX1_knownOf_26 : decode cX1_knownOf 26 = .ok (.aload_n 0, 1) := dk_42 (dk_at dksX1_knownOf_1 3 rfl rfl)
theorem dX1_knownOf_27 : decode cX1_knownOf 27 = .ok (.getfield 26, 3) := dk_180 0 26 (dk_at dksX1_knownOf_1 4 rfl rfl)
theorem dX1_knownOf_30 : decode cX1_knownOf 30 = .ok (.iload_n 3, 1) := dk_29 (dk_at dksX1_knownOf_1 7 rfl rfl)
theorem dX1_knownOf_31 : decode cX1_knownOf 31 = .ok (.invokevirtual 53, 3) := dk_182 0 53 (dk_at dksX1_knownOf_1 8 rfl rfl)
theorem dX1_knownOf_34 : decode cX1_knownOf 34 = .ok (.checkcast 138, 3) := dk_192 0 138 (dk_at dksX1_knownOf_1 11 rfl rfl)
theorem dX1_knownOf_37 : decode cX1_knownOf 37 = .ok (.invokevirtual 140, 3) := dk_182 0 140 (dk_at dksX1_knownOf_1 14 rfl rfl)
theorem dX1_knownOf_40 : decode cX1_knownOf 40 = .ok (.iload_n 1, 1) := dk_27 (dk_at dksX1_knownOf_1 17 rfl rfl)
theorem dX1_knownOf_41 : decode cX1_knownOf 41 = .ok (.ishr, 1) := dk_122 (dk_at dksX1_knownOf_1 18 rfl rfl)
theorem dX1_knownOf_42 : decode cX1_knownOf 42 = .ok (.iconst 1, 1) := dk_4 (dk_at dksX1_knownOf_1 19 rfl rfl)
theorem dX1_knownOf_43 : decode cX1_knownOf 43 = .ok (.iand, 1) := dk_126 (dk_at dksX1_knownOf_1 20 rfl rfl)
theorem dX1_knownOf_44 : decode cX1_knownOf 44 = .ok (.iconst 1, 1) := dk_4 (dk_at dksX1_knownOf_1 21 rfl rfl)
theorem dX1_knownOf_45 : decode cX1_knownOf 45 = .ok (.if_icmp .ne 26, 3) := dk_160 0 26 (dk_at dksX1_knownOf_2 0 rfl rfl)
theorem dX1_knownOf_48 : decode cX1_knownOf 48 = .ok (.aload_n 0, 1) := dk_42 (dk_at dksX1_knownOf_2 3 rfl rfl)
theorem dX1_knownOf_49 : decode cX1_knownOf 49 = .ok (.getfield 26, 3) := dk_180 0 26 (dk_at dksX1_knownOf_2 4 rfl rfl)
theorem dX1_knownOf_52 : decode cX1_knownOf 52 = .ok (.iload_n 3, 1) := dk_29 (dk_at dksX1_knownOf_2 7 rfl rfl)
theorem dX1_knownOf_53 : decode cX1_knownOf 53 = .ok (.invokevirtual 53, 3) := dk_182 0 53 (dk_at dksX1_knownOf_2 8 rfl rfl)
theorem dX1_knownOf_56 : decode cX1_knownOf 56 = .ok (.checkcast 138, 3) := dk_192 0 138 (dk_at dksX1_knownOf_2 11 rfl rfl)
theorem dX1_knownOf_59 : decode cX1_knownOf 59 = .ok (.invokevirtual 140, 3) := dk_182 0 140 (dk_at dksX1_knownOf_2 14 rfl rfl)
theorem dX1_knownOf_62 : decode cX1_knownOf 62 = .ok (.iload_n 2, 1) := dk_28 (dk_at dksX1_knownOf_2 17 rfl rfl)
theorem dX1_knownOf_63 : decode cX1_knownOf 63 = .ok (.ishr, 1) := dk_122 (dk_at dksX1_knownOf_2 18 rfl rfl)
theorem dX1_knownOf_64 : decode cX1_knownOf 64 = .ok (.iconst 1, 1) := dk_4 (dk_at dksX1_knownOf_2 19 rfl rfl)
theorem dX1_knownOf_65 : decode cX1_knownOf 65 = .ok (.iand, 1) := dk_126 (dk_at dksX1_knownOf_2 20 rfl rfl)
theorem dX1_knownOf_66 : decode cX1_knownOf 66 = .ok (.ifCond .ne 5, 3) := dk_154 0 5 (dk_at dksX1_knownOf_2 21 rfl rfl)
theorem dX1_knownOf_69 : decode cX1_knownOf 69 = .ok (.iconst (-1), 1) := dk_2 (dk_at dksX1_knownOf_3 0 rfl rfl)
theorem dX1_knownOf_70 : decode cX1_knownOf 70 = .ok (.ireturn, 1) := dk_172 (dk_at dksX1_knownOf_3 1 rfl rfl)
theorem dX1_knownOf_71 : decode cX1_knownOf 71 = .ok (.iinc 3 1, 3) := dk_132 3 1 (dk_at dksX1_knownOf_3 2 rfl rfl)
theorem dX1_knownOf_74 : decode cX1_knownOf 74 = .ok (.goto (-59), 3) := dk_167 255 197 (dk_at dksX1_knownOf_3 5 rfl rfl)
theorem dX1_knownOf_77 : decode cX1_knownOf 77 = .ok (.iconst 0, 1) := dk_3 (dk_at dksX1_knownOf_3 8 rfl rfl)
theorem dX1_knownOf_78 : decode cX1_knownOf 78 = .ok (.ireturn, 1) := dk_172 (dk_at dksX1_knownOf_3 9 rfl rfl)
abbrev cX1_proves : ByteArray := prog_1_method_21_code
def yX1_proves : MethodName := ⟨RX1, "proves", "(II)Z"⟩
def dkwX1_proves_0 : List UInt8 := [42, 27, 182, 0, 160, 28, 122, 4, 126, 4, 160, 0, 7, 4, 167, 0, 4, 3, 172]
abbrev dktX1_proves_0 : List UInt8 := dkwX1_proves_0 ++ []
theorem dksX1_proves_0 : cX1_proves.data.toList.drop 0 = dktX1_proves_0 := by decide +kernel
theorem dX1_proves_0 : decode cX1_proves 0 = .ok (.aload_n 0, 1) := dk_42 (dk_at dksX1_proves_0 0 rfl rfl)
theorem dX1_proves_1 : decode cX1_proves 1 = .ok (.iload_n 1, 1) := dk_27 (dk_at dksX1_proves_0 1 rfl rfl)
theorem dX1_proves_2 : decode cX1_proves 2 = .ok (.invokevirtual 160, 3) := dk_182 0 160 (dk_at dksX1_proves_0 2 rfl rfl)
theorem dX1_proves_5 : decode cX1_proves 5 = .ok (.iload_n 2, 1) := dk_28 (dk_at dksX1_proves_0 5 rfl rfl)
theorem dX1_proves_6 : decode cX1_proves 6 = .ok (.ishr, 1) := dk_122 (dk_at dksX1_proves_0 6 rfl rfl)
theorem dX1_proves_7 : decode cX1_proves 7 = .ok (.iconst 1, 1) := dk_4 (dk_at dksX1_proves_0 7 rfl rfl)
theorem dX1_proves_8 : decode cX1_proves 8 = .ok (.iand, 1) := dk_126 (dk_at dksX1_proves_0 8 rfl rfl)
theorem dX1_proves_9 : decode cX1_proves 9 = .ok (.iconst 1, 1) := dk_4 (dk_at dksX1_proves_0 9 rfl rfl)
theorem dX1_proves_10 : decode cX1_proves 10 = .ok (.if_icmp .ne 7, 3) := dk_160 0 7 (dk_at dksX1_proves_0 10 rfl rfl)
theorem dX1_proves_13 : decode cX1_proves 13 = .ok (.iconst 1, 1) := dk_4 (dk_at dksX1_proves_0 13 rfl rfl)
theorem dX1_proves_14 : decode cX1_proves 14 = .ok (.goto 4, 3) := dk_167 0 4 (dk_at dksX1_proves_0 14 rfl rfl)
theorem dX1_proves_17 : decode cX1_proves 17 = .ok (.iconst 0, 1) := dk_3 (dk_at dksX1_proves_0 17 rfl rfl)
theorem dX1_proves_18 : decode cX1_proves 18 = .ok (.ireturn, 1) := dk_172 (dk_at dksX1_proves_0 18 rfl rfl)
abbrev cX1_closed : ByteArray := prog_1_method_20_code
def yX1_closed : MethodName := ⟨RX1, "closed", "(I)I"⟩
def dkwX1_closed_1 : List UInt8 := [182, 0, 149, 78, 167, 255, 237, 28, 172]
abbrev dktX1_closed_1 : List UInt8 := dkwX1_closed_1 ++ []
def dkwX1_closed_0 : List UInt8 := [27, 61, 42, 28, 182, 0, 149, 78, 45, 198, 0, 21, 28, 4, 45, 180, 0, 157, 120, 128, 61, 42, 28]
abbrev dktX1_closed_0 : List UInt8 := dkwX1_closed_0 ++ dktX1_closed_1
theorem dksX1_closed_0 : cX1_closed.data.toList.drop 0 = dktX1_closed_0 := by decide +kernel
theorem dksX1_closed_1 : cX1_closed.data.toList.drop 23 = dktX1_closed_1 := dk_seg dksX1_closed_0 23 rfl rfl
theorem dX1_closed_0 : decode cX1_closed 0 = .ok (.iload_n 1, 1) := dk_27 (dk_at dksX1_closed_0 0 rfl rfl)
theorem dX1_closed_1 : decode cX1_closed 1 = .ok (.istore_n 2, 1) := dk_61 (dk_at dksX1_closed_0 1 rfl rfl)
theorem dX1_closed_2 : decode cX1_closed 2 = .ok (.aload_n 0, 1) := dk_42 (dk_at dksX1_closed_0 2 rfl rfl)
theorem dX1_closed_3 : decode cX1_closed 3 = .ok (.iload_n 2, 1) := dk_28 (dk_at dksX1_closed_0 3 rfl rfl)
theorem dX1_closed_4 : decode cX1_closed 4 = .ok (.invokevirtual 149, 3) := dk_182 0 149 (dk_at dksX1_closed_0 4 rfl rfl)
theorem dX1_closed_7 : decode cX1_closed 7 = .ok (.astore_n 3, 1) := dk_78 (dk_at dksX1_closed_0 7 rfl rfl)
theorem dX1_closed_8 : decode cX1_closed 8 = .ok (.aload_n 3, 1) := dk_45 (dk_at dksX1_closed_0 8 rfl rfl)
theorem dX1_closed_9 : decode cX1_closed 9 = .ok (.ifnull 21, 3) := dk_198 0 21 (dk_at dksX1_closed_0 9 rfl rfl)
theorem dX1_closed_12 : decode cX1_closed 12 = .ok (.iload_n 2, 1) := dk_28 (dk_at dksX1_closed_0 12 rfl rfl)
theorem dX1_closed_13 : decode cX1_closed 13 = .ok (.iconst 1, 1) := dk_4 (dk_at dksX1_closed_0 13 rfl rfl)
theorem dX1_closed_14 : decode cX1_closed 14 = .ok (.aload_n 3, 1) := dk_45 (dk_at dksX1_closed_0 14 rfl rfl)
theorem dX1_closed_15 : decode cX1_closed 15 = .ok (.getfield 157, 3) := dk_180 0 157 (dk_at dksX1_closed_0 15 rfl rfl)
theorem dX1_closed_18 : decode cX1_closed 18 = .ok (.ishl, 1) := dk_120 (dk_at dksX1_closed_0 18 rfl rfl)
theorem dX1_closed_19 : decode cX1_closed 19 = .ok (.ior, 1) := dk_128 (dk_at dksX1_closed_0 19 rfl rfl)
theorem dX1_closed_20 : decode cX1_closed 20 = .ok (.istore_n 2, 1) := dk_61 (dk_at dksX1_closed_0 20 rfl rfl)
theorem dX1_closed_21 : decode cX1_closed 21 = .ok (.aload_n 0, 1) := dk_42 (dk_at dksX1_closed_0 21 rfl rfl)
theorem dX1_closed_22 : decode cX1_closed 22 = .ok (.iload_n 2, 1) := dk_28 (dk_at dksX1_closed_0 22 rfl rfl)
theorem dX1_closed_23 : decode cX1_closed 23 = .ok (.invokevirtual 149, 3) := dk_182 0 149 (dk_at dksX1_closed_1 0 rfl rfl)
theorem dX1_closed_26 : decode cX1_closed 26 = .ok (.astore_n 3, 1) := dk_78 (dk_at dksX1_closed_1 3 rfl rfl)
theorem dX1_closed_27 : decode cX1_closed 27 = .ok (.goto (-19), 3) := dk_167 255 237 (dk_at dksX1_closed_1 4 rfl rfl)
theorem dX1_closed_30 : decode cX1_closed 30 = .ok (.iload_n 2, 1) := dk_28 (dk_at dksX1_closed_1 7 rfl rfl)
theorem dX1_closed_31 : decode cX1_closed 31 = .ok (.ireturn, 1) := dk_172 (dk_at dksX1_closed_1 8 rfl rfl)
abbrev cX1_next : ByteArray := prog_1_method_18_code
def yX1_next : MethodName := ⟨RX1, "next", "(I)LReversalCourt$Rule;"⟩
def dkwX1_next_2 : List UInt8 := [167, 255, 212, 1, 176]
abbrev dktX1_next_2 : List UInt8 := dkwX1_next_2 ++ []
def dkwX1_next_1 : List UInt8 := [27, 182, 0, 143, 153, 0, 15, 42, 180, 0, 23, 28, 182, 0, 53, 192, 0, 133, 176, 132, 2, 1]
abbrev dktX1_next_1 : List UInt8 := dkwX1_next_1 ++ dktX1_next_2
def dkwX1_next_0 : List UInt8 := [3, 61, 28, 42, 180, 0, 23, 182, 0, 41, 162, 0, 39, 42, 180, 0, 23, 28, 182, 0, 53, 192, 0, 133]
abbrev dktX1_next_0 : List UInt8 := dkwX1_next_0 ++ dktX1_next_1
theorem dksX1_next_0 : cX1_next.data.toList.drop 0 = dktX1_next_0 := by decide +kernel
theorem dksX1_next_1 : cX1_next.data.toList.drop 24 = dktX1_next_1 := dk_seg dksX1_next_0 24 rfl rfl
theorem dksX1_next_2 : cX1_next.data.toList.drop 46 = dktX1_next_2 := dk_seg dksX1_next_1 22 rfl rfl
theorem dX1_next_0 : decode cX1_next 0 = .ok (.iconst 0, 1) := dk_3 (dk_at dksX1_next_0 0 rfl rfl)
theorem dX1_next_1 : decode cX1_next 1 = .ok (.istore_n 2, 1) := dk_61 (dk_at dksX1_next_0 1 rfl rfl)
theorem dX1_next_2 : decode cX1_next 2 = .ok (.iload_n 2, 1) := dk_28 (dk_at dksX1_next_0 2 rfl rfl)
theorem dX1_next_3 : decode cX1_next 3 = .ok (.aload_n 0, 1) := dk_42 (dk_at dksX1_next_0 3 rfl rfl)
theorem dX1_next_4 : decode cX1_next 4 = .ok (.getfield 23, 3) := dk_180 0 23 (dk_at dksX1_next_0 4 rfl rfl)
theorem dX1_next_7 : decode cX1_next 7 = .ok (.invokevirtual 41, 3) := dk_182 0 41 (dk_at dksX1_next_0 7 rfl rfl)
theorem dX1_next_10 : decode cX1_next 10 = .ok (.if_icmp .ge 39, 3) := dk_162 0 39 (dk_at dksX1_next_0 10 rfl rfl)
theorem dX1_next_13 : decode cX1_next 13 = .ok (.aload_n 0, 1) := dk_42 (dk_at dksX1_next_0 13 rfl rfl)
theorem dX1_next_14 : decode cX1_next 14 = .ok (.getfield 23, 3) := dk_180 0 23 (dk_at dksX1_next_0 14 rfl rfl)
theorem dX1_next_17 : decode cX1_next 17 = .ok (.iload_n 2, 1) := dk_28 (dk_at dksX1_next_0 17 rfl rfl)
theorem dX1_next_18 : decode cX1_next 18 = .ok (.invokevirtual 53, 3) := dk_182 0 53 (dk_at dksX1_next_0 18 rfl rfl)
theorem dX1_next_21 : decode cX1_next 21 = .ok (.checkcast 133, 3) := dk_192 0 133 (dk_at dksX1_next_0 21 rfl rfl)
theorem dX1_next_24 : decode cX1_next 24 = .ok (.iload_n 1, 1) := dk_27 (dk_at dksX1_next_1 0 rfl rfl)
theorem dX1_next_25 : decode cX1_next 25 = .ok (.invokevirtual 143, 3) := dk_182 0 143 (dk_at dksX1_next_1 1 rfl rfl)
theorem dX1_next_28 : decode cX1_next 28 = .ok (.ifCond .eq 15, 3) := dk_153 0 15 (dk_at dksX1_next_1 4 rfl rfl)
theorem dX1_next_31 : decode cX1_next 31 = .ok (.aload_n 0, 1) := dk_42 (dk_at dksX1_next_1 7 rfl rfl)
theorem dX1_next_32 : decode cX1_next 32 = .ok (.getfield 23, 3) := dk_180 0 23 (dk_at dksX1_next_1 8 rfl rfl)
theorem dX1_next_35 : decode cX1_next 35 = .ok (.iload_n 2, 1) := dk_28 (dk_at dksX1_next_1 11 rfl rfl)
theorem dX1_next_36 : decode cX1_next 36 = .ok (.invokevirtual 53, 3) := dk_182 0 53 (dk_at dksX1_next_1 12 rfl rfl)
theorem dX1_next_39 : decode cX1_next 39 = .ok (.checkcast 133, 3) := dk_192 0 133 (dk_at dksX1_next_1 15 rfl rfl)
theorem dX1_next_42 : decode cX1_next 42 = .ok (.areturn, 1) := dk_176 (dk_at dksX1_next_1 18 rfl rfl)
theorem dX1_next_43 : decode cX1_next 43 = .ok (.iinc 2 1, 3) := dk_132 2 1 (dk_at dksX1_next_1 19 rfl rfl)
theorem dX1_next_46 : decode cX1_next 46 = .ok (.goto (-44), 3) := dk_167 255 212 (dk_at dksX1_next_2 0 rfl rfl)
theorem dX1_next_49 : decode cX1_next 49 = .ok (.aconst_null, 1) := dk_1 (dk_at dksX1_next_2 3 rfl rfl)
theorem dX1_next_50 : decode cX1_next 50 = .ok (.areturn, 1) := dk_176 (dk_at dksX1_next_2 4 rfl rfl)
abbrev cX1_letter : ByteArray := prog_1_method_7_code
def yX1_letter : MethodName := ⟨RX1, "letter", "(C)I"⟩
def dkwX1_letter_2 : List UInt8 := [180, 0, 10, 182, 0, 68, 172]
abbrev dktX1_letter_2 : List UInt8 := dkwX1_letter_2 ++ []
def dkwX1_letter_1 : List UInt8 := [16, 40, 162, 0, 7, 4, 167, 0, 4, 3, 184, 0, 71, 42, 180, 0, 10, 27, 182, 0, 74, 87, 42]
abbrev dktX1_letter_1 : List UInt8 := dkwX1_letter_1 ++ dktX1_letter_2
def dkwX1_letter_0 : List UInt8 := [18, 57, 27, 182, 0, 59, 155, 0, 7, 4, 167, 0, 4, 3, 184, 0, 65, 42, 180, 0, 10, 182, 0, 68]
abbrev dktX1_letter_0 : List UInt8 := dkwX1_letter_0 ++ dktX1_letter_1
theorem dksX1_letter_0 : cX1_letter.data.toList.drop 0 = dktX1_letter_0 := by decide +kernel
theorem dksX1_letter_1 : cX1_letter.data.toList.drop 24 = dktX1_letter_1 := dk_seg dksX1_letter_0 24 rfl rfl
theorem dksX1_letter_2 : cX1_letter.data.toList.drop 47 = dktX1_letter_2 := dk_seg dksX1_letter_1 23 rfl rfl
theorem dX1_letter_0 : decode cX1_letter 0 = .ok (.ldc 57, 2) := dk_18 57 (dk_at dksX1_letter_0 0 rfl rfl)
theorem dX1_letter_2 : decode cX1_letter 2 = .ok (.iload_n 1, 1) := dk_27 (dk_at dksX1_letter_0 2 rfl rfl)
theorem dX1_letter_3 : decode cX1_letter 3 = .ok (.invokevirtual 59, 3) := dk_182 0 59 (dk_at dksX1_letter_0 3 rfl rfl)
theorem dX1_letter_6 : decode cX1_letter 6 = .ok (.ifCond .lt 7, 3) := dk_155 0 7 (dk_at dksX1_letter_0 6 rfl rfl)
theorem dX1_letter_9 : decode cX1_letter 9 = .ok (.iconst 1, 1) := dk_4 (dk_at dksX1_letter_0 9 rfl rfl)
theorem dX1_letter_10 : decode cX1_letter 10 = .ok (.goto 4, 3) := dk_167 0 4 (dk_at dksX1_letter_0 10 rfl rfl)
theorem dX1_letter_13 : decode cX1_letter 13 = .ok (.iconst 0, 1) := dk_3 (dk_at dksX1_letter_0 13 rfl rfl)
theorem dX1_letter_14 : decode cX1_letter 14 = .ok (.invokestatic 65, 3) := dk_184 0 65 (dk_at dksX1_letter_0 14 rfl rfl)
theorem dX1_letter_17 : decode cX1_letter 17 = .ok (.aload_n 0, 1) := dk_42 (dk_at dksX1_letter_0 17 rfl rfl)
theorem dX1_letter_18 : decode cX1_letter 18 = .ok (.getfield 10, 3) := dk_180 0 10 (dk_at dksX1_letter_0 18 rfl rfl)
theorem dX1_letter_21 : decode cX1_letter 21 = .ok (.invokevirtual 68, 3) := dk_182 0 68 (dk_at dksX1_letter_0 21 rfl rfl)
theorem dX1_letter_24 : decode cX1_letter 24 = .ok (.bipush 40, 2) := dk_16 40 (dk_at dksX1_letter_1 0 rfl rfl)
theorem dX1_letter_26 : decode cX1_letter 26 = .ok (.if_icmp .ge 7, 3) := dk_162 0 7 (dk_at dksX1_letter_1 2 rfl rfl)
theorem dX1_letter_29 : decode cX1_letter 29 = .ok (.iconst 1, 1) := dk_4 (dk_at dksX1_letter_1 5 rfl rfl)
theorem dX1_letter_30 : decode cX1_letter 30 = .ok (.goto 4, 3) := dk_167 0 4 (dk_at dksX1_letter_1 6 rfl rfl)
theorem dX1_letter_33 : decode cX1_letter 33 = .ok (.iconst 0, 1) := dk_3 (dk_at dksX1_letter_1 9 rfl rfl)
theorem dX1_letter_34 : decode cX1_letter 34 = .ok (.invokestatic 71, 3) := dk_184 0 71 (dk_at dksX1_letter_1 10 rfl rfl)
theorem dX1_letter_37 : decode cX1_letter 37 = .ok (.aload_n 0, 1) := dk_42 (dk_at dksX1_letter_1 13 rfl rfl)
theorem dX1_letter_38 : decode cX1_letter 38 = .ok (.getfield 10, 3) := dk_180 0 10 (dk_at dksX1_letter_1 14 rfl rfl)
theorem dX1_letter_41 : decode cX1_letter 41 = .ok (.iload_n 1, 1) := dk_27 (dk_at dksX1_letter_1 17 rfl rfl)
theorem dX1_letter_42 : decode cX1_letter 42 = .ok (.invokevirtual 74, 3) := dk_182 0 74 (dk_at dksX1_letter_1 18 rfl rfl)
theorem dX1_letter_45 : decode cX1_letter 45 = .ok (.pop, 1) := dk_87 (dk_at dksX1_letter_1 21 rfl rfl)
theorem dX1_letter_46 : decode cX1_letter 46 = .ok (.aload_n 0, 1) := dk_42 (dk_at dksX1_letter_1 22 rfl rfl)
theorem dX1_letter_47 : decode cX1_letter 47 = .ok (.getfield 10, 3) := dk_180 0 10 (dk_at dksX1_letter_2 0 rfl rfl)
theorem dX1_letter_50 : decode cX1_letter 50 = .ok (.invokevirtual 68, 3) := dk_182 0 68 (dk_at dksX1_letter_2 3 rfl rfl)
theorem dX1_letter_53 : decode cX1_letter 53 = .ok (.ireturn, 1) := dk_172 (dk_at dksX1_letter_2 6 rfl rfl)
abbrev cX1_need : ByteArray := prog_1_method_4_code
def yX1_need : MethodName := ⟨RX1, "need", "(Z)V"⟩
def dkwX1_need_0 : List UInt8 := [26, 154, 0, 11, 187, 0, 35, 89, 183, 0, 37, 191, 177]
abbrev dktX1_need_0 : List UInt8 := dkwX1_need_0 ++ []
theorem dksX1_need_0 : cX1_need.data.toList.drop 0 = dktX1_need_0 := by decide +kernel
theorem dX1_need_0 : decode cX1_need 0 = .ok (.iload_n 0, 1) := dk_26 (dk_at dksX1_need_0 0 rfl rfl)
theorem dX1_need_1 : decode cX1_need 1 = .ok (.ifCond .ne 11, 3) := dk_154 0 11 (dk_at dksX1_need_0 1 rfl rfl)
theorem dX1_need_4 : decode cX1_need 4 = .ok (.new 35, 3) := dk_187 0 35 (dk_at dksX1_need_0 4 rfl rfl)
theorem dX1_need_7 : decode cX1_need 7 = .ok (.dup, 1) := dk_89 (dk_at dksX1_need_0 7 rfl rfl)
theorem dX1_need_8 : decode cX1_need 8 = .ok (.invokespecial 37, 3) := dk_183 0 37 (dk_at dksX1_need_0 8 rfl rfl)
theorem dX1_need_11 : decode cX1_need 11 = .ok (.athrow, 1) := dk_191 (dk_at dksX1_need_0 11 rfl rfl)
theorem dX1_need_12 : decode cX1_need 12 = .ok (.return_, 1) := dk_177 (dk_at dksX1_need_0 12 rfl rfl)
abbrev cX1_needState : ByteArray := prog_1_method_5_code
def yX1_needState : MethodName := ⟨RX1, "needState", "(Z)V"⟩
def dkwX1_needState_0 : List UInt8 := [26, 154, 0, 11, 187, 0, 38, 89, 183, 0, 40, 191, 177]
abbrev dktX1_needState_0 : List UInt8 := dkwX1_needState_0 ++ []
theorem dksX1_needState_0 : cX1_needState.data.toList.drop 0 = dktX1_needState_0 := by decide +kernel
theorem dX1_needState_0 : decode cX1_needState 0 = .ok (.iload_n 0, 1) := dk_26 (dk_at dksX1_needState_0 0 rfl rfl)
theorem dX1_needState_1 : decode cX1_needState 1 = .ok (.ifCond .ne 11, 3) := dk_154 0 11 (dk_at dksX1_needState_0 1 rfl rfl)
theorem dX1_needState_4 : decode cX1_needState 4 = .ok (.new 38, 3) := dk_187 0 38 (dk_at dksX1_needState_0 4 rfl rfl)
theorem dX1_needState_7 : decode cX1_needState 7 = .ok (.dup, 1) := dk_89 (dk_at dksX1_needState_0 7 rfl rfl)
theorem dX1_needState_8 : decode cX1_needState 8 = .ok (.invokespecial 40, 3) := dk_183 0 40 (dk_at dksX1_needState_0 8 rfl rfl)
theorem dX1_needState_11 : decode cX1_needState 11 = .ok (.athrow, 1) := dk_191 (dk_at dksX1_needState_0 11 rfl rfl)
theorem dX1_needState_12 : decode cX1_needState 12 = .ok (.return_, 1) := dk_177 (dk_at dksX1_needState_0 12 rfl rfl)
abbrev cX1_isSo : ByteArray := prog_1_method_14_code
def yX1_isSo : MethodName := ⟨RX1, "isSo", "(IIII)Z"⟩
def dkwX1_isSo_4 : List UInt8 := [21, 4, 79, 182, 0, 112, 172]
abbrev dktX1_isSo_4 : List UInt8 := dkwX1_isSo_4 ++ []
def dkwX1_isSo_3 : List UInt8 := [4, 167, 0, 4, 3, 184, 0, 71, 25, 5, 27, 6, 188, 10, 89, 3, 28, 79, 89, 4, 29, 79, 89, 5]
abbrev dktX1_isSo_3 : List UInt8 := dkwX1_isSo_3 ++ dktX1_isSo_4
def dkwX1_isSo_2 : List UInt8 := [184, 0, 65, 42, 182, 0, 95, 58, 5, 25, 5, 198, 0, 17, 25, 5, 182, 0, 109, 16, 6, 163, 0, 7]
abbrev dktX1_isSo_2 : List UInt8 := dkwX1_isSo_2 ++ dktX1_isSo_3
def dkwX1_isSo_1 : List UInt8 := [100, 184, 0, 45, 153, 0, 19, 21, 4, 3, 27, 4, 100, 184, 0, 45, 153, 0, 7, 4, 167, 0, 4, 3]
abbrev dktX1_isSo_1 : List UInt8 := dkwX1_isSo_1 ++ dktX1_isSo_2
def dkwX1_isSo_0 : List UInt8 := [27, 4, 8, 184, 0, 45, 153, 0, 41, 28, 3, 27, 4, 100, 184, 0, 45, 153, 0, 30, 29, 3, 27, 4]
abbrev dktX1_isSo_0 : List UInt8 := dkwX1_isSo_0 ++ dktX1_isSo_1
theorem dksX1_isSo_0 : cX1_isSo.data.toList.drop 0 = dktX1_isSo_0 := by decide +kernel
theorem dksX1_isSo_1 : cX1_isSo.data.toList.drop 24 = dktX1_isSo_1 := dk_seg dksX1_isSo_0 24 rfl rfl
theorem dksX1_isSo_2 : cX1_isSo.data.toList.drop 48 = dktX1_isSo_2 := dk_seg dksX1_isSo_1 24 rfl rfl
theorem dksX1_isSo_3 : cX1_isSo.data.toList.drop 72 = dktX1_isSo_3 := dk_seg dksX1_isSo_2 24 rfl rfl
theorem dksX1_isSo_4 : cX1_isSo.data.toList.drop 96 = dktX1_isSo_4 := dk_seg dksX1_isSo_3 24 rfl rfl
theorem dX1_isSo_0 : decode cX1_isSo 0 = .ok (.iload_n 1, 1) := dk_27 (dk_at dksX1_isSo_0 0 rfl rfl)
theorem dX1_isSo_1 : decode cX1_isSo 1 = .ok (.iconst 1, 1) := dk_4 (dk_at dksX1_isSo_0 1 rfl rfl)
theorem dX1_isSo_2 : decode cX1_isSo 2 = .ok (.iconst 5, 1) := dk_8 (dk_at dksX1_isSo_0 2 rfl rfl)
theorem dX1_isSo_3 : decode cX1_isSo 3 = .ok (.invokestatic 45, 3) := dk_184 0 45 (dk_at dksX1_isSo_0 3 rfl rfl)
theorem dX1_isSo_6 : decode cX1_isSo 6 = .ok (.ifCond .eq 41, 3) := dk_153 0 41 (dk_at dksX1_isSo_0 6 rfl rfl)
theorem dX1_isSo_9 : decode cX1_isSo 9 = .ok (.iload_n 2, 1) := dk_28 (dk_at dksX1_isSo_0 9 rfl rfl)
theorem dX1_isSo_10 : decode cX1_isSo 10 = .ok (.iconst 0, 1) := dk_3 (dk_at dksX1_isSo_0 10 rfl rfl)
theorem dX1_isSo_11 : decode cX1_isSo 11 = .ok (.iload_n 1, 1) := dk_27 (dk_at dksX1_isSo_0 11 rfl rfl)
theorem dX1_isSo_12 : decode cX1_isSo 12 = .ok (.iconst 1, 1) := dk_4 (dk_at dksX1_isSo_0 12 rfl rfl)
theorem dX1_isSo_13 : decode cX1_isSo 13 = .ok (.isub, 1) := dk_100 (dk_at dksX1_isSo_0 13 rfl rfl)
theorem dX1_isSo_14 : decode cX1_isSo 14 = .ok (.invokestatic 45, 3) := dk_184 0 45 (dk_at dksX1_isSo_0 14 rfl rfl)
theorem dX1_isSo_17 : decode cX1_isSo 17 = .ok (.ifCond .eq 30, 3) := dk_153 0 30 (dk_at dksX1_isSo_0 17 rfl rfl)
theorem dX1_isSo_20 : decode cX1_isSo 20 = .ok (.iload_n 3, 1) := dk_29 (dk_at dksX1_isSo_0 20 rfl rfl)
theorem dX1_isSo_21 : decode cX1_isSo 21 = .ok (.iconst 0, 1) := dk_3 (dk_at dksX1_isSo_0 21 rfl rfl)
theorem dX1_isSo_22 : decode cX1_isSo 22 = .ok (.iload_n 1, 1) := dk_27 (dk_at dksX1_isSo_0 22 rfl rfl)
theorem dX1_isSo_23 : decode cX1_isSo 23 = .ok (.iconst 1, 1) := dk_4 (dk_at dksX1_isSo_0 23 rfl rfl)
theorem dX1_isSo_24 : decode cX1_isSo 24 = .ok (.isub, 1) := dk_100 (dk_at dksX1_isSo_1 0 rfl rfl)
theorem dX1_isSo_25 : decode cX1_isSo 25 = .ok (.invokestatic 45, 3) := dk_184 0 45 (dk_at dksX1_isSo_1 1 rfl rfl)
theorem dX1_isSo_28 : decode cX1_isSo 28 = .ok (.ifCond .eq 19, 3) := dk_153 0 19 (dk_at dksX1_isSo_1 4 rfl rfl)
theorem dX1_isSo_31 : decode cX1_isSo 31 = .ok (.iload 4, 2) := dk_21 4 (dk_at dksX1_isSo_1 7 rfl rfl)
theorem dX1_isSo_33 : decode cX1_isSo 33 = .ok (.iconst 0, 1) := dk_3 (dk_at dksX1_isSo_1 9 rfl rfl)
theorem dX1_isSo_34 : decode cX1_isSo 34 = .ok (.iload_n 1, 1) := dk_27 (dk_at dksX1_isSo_1 10 rfl rfl)
theorem dX1_isSo_35 : decode cX1_isSo 35 = .ok (.iconst 1, 1) := dk_4 (dk_at dksX1_isSo_1 11 rfl rfl)
theorem dX1_isSo_36 : decode cX1_isSo 36 = .ok (.isub, 1) := dk_100 (dk_at dksX1_isSo_1 12 rfl rfl)
theorem dX1_isSo_37 : decode cX1_isSo 37 = .ok (.invokestatic 45, 3) := dk_184 0 45 (dk_at dksX1_isSo_1 13 rfl rfl)
theorem dX1_isSo_40 : decode cX1_isSo 40 = .ok (.ifCond .eq 7, 3) := dk_153 0 7 (dk_at dksX1_isSo_1 16 rfl rfl)
theorem dX1_isSo_43 : decode cX1_isSo 43 = .ok (.iconst 1, 1) := dk_4 (dk_at dksX1_isSo_1 19 rfl rfl)
theorem dX1_isSo_44 : decode cX1_isSo 44 = .ok (.goto 4, 3) := dk_167 0 4 (dk_at dksX1_isSo_1 20 rfl rfl)
theorem dX1_isSo_47 : decode cX1_isSo 47 = .ok (.iconst 0, 1) := dk_3 (dk_at dksX1_isSo_1 23 rfl rfl)
theorem dX1_isSo_48 : decode cX1_isSo 48 = .ok (.invokestatic 65, 3) := dk_184 0 65 (dk_at dksX1_isSo_2 0 rfl rfl)
theorem dX1_isSo_51 : decode cX1_isSo 51 = .ok (.aload_n 0, 1) := dk_42 (dk_at dksX1_isSo_2 3 rfl rfl)
theorem dX1_isSo_52 : decode cX1_isSo 52 = .ok (.invokevirtual 95, 3) := dk_182 0 95 (dk_at dksX1_isSo_2 4 rfl rfl)
theorem dX1_isSo_55 : decode cX1_isSo 55 = .ok (.astore 5, 2) := dk_58 5 (dk_at dksX1_isSo_2 7 rfl rfl)
theorem dX1_isSo_57 : decode cX1_isSo 57 = .ok (.aload 5, 2) := dk_25 5 (dk_at dksX1_isSo_2 9 rfl rfl)
theorem dX1_isSo_59 : decode cX1_isSo 59 = .ok (.ifnull 17, 3) := dk_198 0 17 (dk_at dksX1_isSo_2 11 rfl rfl)
theorem dX1_isSo_62 : decode cX1_isSo 62 = .ok (.aload 5, 2) := dk_25 5 (dk_at dksX1_isSo_2 14 rfl rfl)
theorem dX1_isSo_64 : decode cX1_isSo 64 = .ok (.invokevirtual 109, 3) := dk_182 0 109 (dk_at dksX1_isSo_2 16 rfl rfl)
theorem dX1_isSo_67 : decode cX1_isSo 67 = .ok (.bipush 6, 2) := dk_16 6 (dk_at dksX1_isSo_2 19 rfl rfl)
theorem dX1_isSo_69 : decode cX1_isSo 69 = .ok (.if_icmp .gt 7, 3) := dk_163 0 7 (dk_at dksX1_isSo_2 21 rfl rfl)
theorem dX1_isSo_72 : decode cX1_isSo 72 = .ok (.iconst 1, 1) := dk_4 (dk_at dksX1_isSo_3 0 rfl rfl)
theorem dX1_isSo_73 : decode cX1_isSo 73 = .ok (.goto 4, 3) := dk_167 0 4 (dk_at dksX1_isSo_3 1 rfl rfl)
theorem dX1_isSo_76 : decode cX1_isSo 76 = .ok (.iconst 0, 1) := dk_3 (dk_at dksX1_isSo_3 4 rfl rfl)
theorem dX1_isSo_77 : decode cX1_isSo 77 = .ok (.invokestatic 71, 3) := dk_184 0 71 (dk_at dksX1_isSo_3 5 rfl rfl)
theorem dX1_isSo_80 : decode cX1_isSo 80 = .ok (.aload 5, 2) := dk_25 5 (dk_at dksX1_isSo_3 8 rfl rfl)
theorem dX1_isSo_82 : decode cX1_isSo 82 = .ok (.iload_n 1, 1) := dk_27 (dk_at dksX1_isSo_3 10 rfl rfl)
theorem dX1_isSo_83 : decode cX1_isSo 83 = .ok (.iconst 3, 1) := dk_6 (dk_at dksX1_isSo_3 11 rfl rfl)
theorem dX1_isSo_84 : decode cX1_isSo 84 = .ok (.newarray .int, 2) := dk_188_10 (dk_at dksX1_isSo_3 12 rfl rfl)
theorem dX1_isSo_86 : decode cX1_isSo 86 = .ok (.dup, 1) := dk_89 (dk_at dksX1_isSo_3 14 rfl rfl)
theorem dX1_isSo_87 : decode cX1_isSo 87 = .ok (.iconst 0, 1) := dk_3 (dk_at dksX1_isSo_3 15 rfl rfl)
theorem dX1_isSo_88 : decode cX1_isSo 88 = .ok (.iload_n 2, 1) := dk_28 (dk_at dksX1_isSo_3 16 rfl rfl)
theorem dX1_isSo_89 : decode cX1_isSo 89 = .ok (.iastore, 1) := dk_79 (dk_at dksX1_isSo_3 17 rfl rfl)
theorem dX1_isSo_90 : decode cX1_isSo 90 = .ok (.dup, 1) := dk_89 (dk_at dksX1_isSo_3 18 rfl rfl)
theorem dX1_isSo_91 : decode cX1_isSo 91 = .ok (.iconst 1, 1) := dk_4 (dk_at dksX1_isSo_3 19 rfl rfl)
theorem dX1_isSo_92 : decode cX1_isSo 92 = .ok (.iload_n 3, 1) := dk_29 (dk_at dksX1_isSo_3 20 rfl rfl)
theorem dX1_isSo_93 : decode cX1_isSo 93 = .ok (.iastore, 1) := dk_79 (dk_at dksX1_isSo_3 21 rfl rfl)
theorem dX1_isSo_94 : decode cX1_isSo 94 = .ok (.dup, 1) := dk_89 (dk_at dksX1_isSo_3 22 rfl rfl)
theorem dX1_isSo_95 : decode cX1_isSo 95 = .ok (.iconst 2, 1) := dk_5 (dk_at dksX1_isSo_3 23 rfl rfl)
theorem dX1_isSo_96 : decode cX1_isSo 96 = .ok (.iload 4, 2) := dk_21 4 (dk_at dksX1_isSo_4 0 rfl rfl)
theorem dX1_isSo_98 : decode cX1_isSo 98 = .ok (.iastore, 1) := dk_79 (dk_at dksX1_isSo_4 2 rfl rfl)
theorem dX1_isSo_99 : decode cX1_isSo 99 = .ok (.invokevirtual 112, 3) := dk_182 0 112 (dk_at dksX1_isSo_4 3 rfl rfl)
theorem dX1_isSo_102 : decode cX1_isSo 102 = .ok (.ireturn, 1) := dk_172 (dk_at dksX1_isSo_4 6 rfl rfl)
abbrev cX1_in : ByteArray := prog_1_method_2_code
def yX1_in : MethodName := ⟨RX1, "in", "(III)Z"⟩
def dkwX1_in_0 : List UInt8 := [26, 27, 161, 0, 12, 26, 28, 163, 0, 7, 4, 167, 0, 4, 3, 172]
abbrev dktX1_in_0 : List UInt8 := dkwX1_in_0 ++ []
theorem dksX1_in_0 : cX1_in.data.toList.drop 0 = dktX1_in_0 := by decide +kernel
theorem dX1_in_0 : decode cX1_in 0 = .ok (.iload_n 0, 1) := dk_26 (dk_at dksX1_in_0 0 rfl rfl)
theorem dX1_in_1 : decode cX1_in 1 = .ok (.iload_n 1, 1) := dk_27 (dk_at dksX1_in_0 1 rfl rfl)
theorem dX1_in_2 : decode cX1_in 2 = .ok (.if_icmp .lt 12, 3) := dk_161 0 12 (dk_at dksX1_in_0 2 rfl rfl)
theorem dX1_in_5 : decode cX1_in 5 = .ok (.iload_n 0, 1) := dk_26 (dk_at dksX1_in_0 5 rfl rfl)
theorem dX1_in_6 : decode cX1_in 6 = .ok (.iload_n 2, 1) := dk_28 (dk_at dksX1_in_0 6 rfl rfl)
theorem dX1_in_7 : decode cX1_in 7 = .ok (.if_icmp .gt 7, 3) := dk_163 0 7 (dk_at dksX1_in_0 7 rfl rfl)
theorem dX1_in_10 : decode cX1_in 10 = .ok (.iconst 1, 1) := dk_4 (dk_at dksX1_in_0 10 rfl rfl)
theorem dX1_in_11 : decode cX1_in 11 = .ok (.goto 4, 3) := dk_167 0 4 (dk_at dksX1_in_0 11 rfl rfl)
theorem dX1_in_14 : decode cX1_in 14 = .ok (.iconst 0, 1) := dk_3 (dk_at dksX1_in_0 14 rfl rfl)
theorem dX1_in_15 : decode cX1_in 15 = .ok (.ireturn, 1) := dk_172 (dk_at dksX1_in_0 15 rfl rfl)
abbrev cX1_principle : ByteArray := prog_1_method_15_code
def yX1_principle : MethodName := ⟨RX1, "principle", "()I"⟩
def dkwX1_principle_3 : List UInt8 := [172]
abbrev dktX1_principle_3 : List UInt8 := dkwX1_principle_3 ++ []
def dkwX1_principle_2 : List UInt8 := [183, 0, 118, 182, 0, 121, 87, 42, 180, 0, 10, 3, 182, 0, 78, 42, 180, 0, 19, 182, 0, 41, 4, 100]
abbrev dktX1_principle_2 : List UInt8 := dkwX1_principle_2 ++ dktX1_principle_3
def dkwX1_principle_1 : List UInt8 := [16, 10, 162, 0, 7, 4, 167, 0, 4, 3, 184, 0, 71, 42, 180, 0, 19, 187, 0, 116, 89, 43]
abbrev dktX1_principle_1 : List UInt8 := dkwX1_principle_1 ++ dktX1_principle_2
def dkwX1_principle_0 : List UInt8 := [42, 182, 0, 95, 76, 43, 198, 0, 26, 43, 182, 0, 106, 154, 0, 19, 42, 180, 0, 19, 182, 0, 41]
abbrev dktX1_principle_0 : List UInt8 := dkwX1_principle_0 ++ dktX1_principle_1
theorem dksX1_principle_0 : cX1_principle.data.toList.drop 0 = dktX1_principle_0 := by decide +kernel
theorem dksX1_principle_1 : cX1_principle.data.toList.drop 23 = dktX1_principle_1 := dk_seg dksX1_principle_0 23 rfl rfl
theorem dksX1_principle_2 : cX1_principle.data.toList.drop 45 = dktX1_principle_2 := dk_seg dksX1_principle_1 22 rfl rfl
theorem dksX1_principle_3 : cX1_principle.data.toList.drop 69 = dktX1_principle_3 := dk_seg dksX1_principle_2 24 rfl rfl
theorem dX1_principle_0 : decode cX1_principle 0 = .ok (.aload_n 0, 1) := dk_42 (dk_at dksX1_principle_0 0 rfl rfl)
theorem dX1_principle_1 : decode cX1_principle 1 = .ok (.invokevirtual 95, 3) := dk_182 0 95 (dk_at dksX1_principle_0 1 rfl rfl)
theorem dX1_principle_4 : decode cX1_principle 4 = .ok (.astore_n 1, 1) := dk_76 (dk_at dksX1_principle_0 4 rfl rfl)
theorem dX1_principle_5 : decode cX1_principle 5 = .ok (.aload_n 1, 1) := dk_43 (dk_at dksX1_principle_0 5 rfl rfl)
theorem dX1_principle_6 : decode cX1_principle 6 = .ok (.ifnull 26, 3) := dk_198 0 26 (dk_at dksX1_principle_0 6 rfl rfl)
theorem dX1_principle_9 : decode cX1_principle 9 = .ok (.aload_n 1, 1) := dk_43 (dk_at dksX1_principle_0 9 rfl rfl)
theorem dX1_principle_10 : decode cX1_principle 10 = .ok (.invokevirtual 106, 3) := dk_182 0 106 (dk_at dksX1_principle_0 10 rfl rfl)
theorem dX1_principle_13 : decode cX1_principle 13 = .ok (.ifCond .ne 19, 3) := dk_154 0 19 (dk_at dksX1_principle_0 13 rfl rfl)
theorem dX1_principle_16 : decode cX1_principle 16 = .ok (.aload_n 0, 1) := dk_42 (dk_at dksX1_principle_0 16 rfl rfl)
theorem dX1_principle_17 : decode cX1_principle 17 = .ok (.getfield 19, 3) := dk_180 0 19 (dk_at dksX1_principle_0 17 rfl rfl)
theorem dX1_principle_20 : decode cX1_principle 20 = .ok (.invokevirtual 41, 3) := dk_182 0 41 (dk_at dksX1_principle_0 20 rfl rfl)
theorem dX1_principle_23 : decode cX1_principle 23 = .ok (.bipush 10, 2) := dk_16 10 (dk_at dksX1_principle_1 0 rfl rfl)
theorem dX1_principle_25 : decode cX1_principle 25 = .ok (.if_icmp .ge 7, 3) := dk_162 0 7 (dk_at dksX1_principle_1 2 rfl rfl)
theorem dX1_principle_28 : decode cX1_principle 28 = .ok (.iconst 1, 1) := dk_4 (dk_at dksX1_principle_1 5 rfl rfl)
theorem dX1_principle_29 : decode cX1_principle 29 = .ok (.goto 4, 3) := dk_167 0 4 (dk_at dksX1_principle_1 6 rfl rfl)
theorem dX1_principle_32 : decode cX1_principle 32 = .ok (.iconst 0, 1) := dk_3 (dk_at dksX1_principle_1 9 rfl rfl)
theorem dX1_principle_33 : decode cX1_principle 33 = .ok (.invokestatic 71, 3) := dk_184 0 71 (dk_at dksX1_principle_1 10 rfl rfl)
theorem dX1_principle_36 : decode cX1_principle 36 = .ok (.aload_n 0, 1) := dk_42 (dk_at dksX1_principle_1 13 rfl rfl)
theorem dX1_principle_37 : decode cX1_principle 37 = .ok (.getfield 19, 3) := dk_180 0 19 (dk_at dksX1_principle_1 14 rfl rfl)
theorem dX1_principle_40 : decode cX1_principle 40 = .ok (.new 116, 3) := dk_187 0 116 (dk_at dksX1_principle_1 17 rfl rfl)
theorem dX1_principle_43 : decode cX1_principle 43 = .ok (.dup, 1) := dk_89 (dk_at dksX1_principle_1 20 rfl rfl)
theorem dX1_principle_44 : decode cX1_principle 44 = .ok (.aload_n 1, 1) := dk_43 (dk_at dksX1_principle_1 21 rfl rfl)
theorem dX1_principle_45 : decode cX1_principle 45 = .ok (.invokespecial 118, 3) := dk_183 0 118 (dk_at dksX1_principle_2 0 rfl rfl)
theorem dX1_principle_48 : decode cX1_principle 48 = .ok (.invokevirtual 121, 3) := dk_182 0 121 (dk_at dksX1_principle_2 3 rfl rfl)
theorem dX1_principle_51 : decode cX1_principle 51 = .ok (.pop, 1) := dk_87 (dk_at dksX1_principle_2 6 rfl rfl)
theorem dX1_principle_52 : decode cX1_principle 52 = .ok (.aload_n 0, 1) := dk_42 (dk_at dksX1_principle_2 7 rfl rfl)
theorem dX1_principle_53 : decode cX1_principle 53 = .ok (.getfield 10, 3) := dk_180 0 10 (dk_at dksX1_principle_2 8 rfl rfl)
theorem dX1_principle_56 : decode cX1_principle 56 = .ok (.iconst 0, 1) := dk_3 (dk_at dksX1_principle_2 11 rfl rfl)
theorem dX1_principle_57 : decode cX1_principle 57 = .ok (.invokevirtual 78, 3) := dk_182 0 78 (dk_at dksX1_principle_2 12 rfl rfl)
theorem dX1_principle_60 : decode cX1_principle 60 = .ok (.aload_n 0, 1) := dk_42 (dk_at dksX1_principle_2 15 rfl rfl)
theorem dX1_principle_61 : decode cX1_principle 61 = .ok (.getfield 19, 3) := dk_180 0 19 (dk_at dksX1_principle_2 16 rfl rfl)
theorem dX1_principle_64 : decode cX1_principle 64 = .ok (.invokevirtual 41, 3) := dk_182 0 41 (dk_at dksX1_principle_2 19 rfl rfl)
theorem dX1_principle_67 : decode cX1_principle 67 = .ok (.iconst 1, 1) := dk_4 (dk_at dksX1_principle_2 22 rfl rfl)
theorem dX1_principle_68 : decode cX1_principle 68 = .ok (.isub, 1) := dk_100 (dk_at dksX1_principle_2 23 rfl rfl)
theorem dX1_principle_69 : decode cX1_principle 69 = .ok (.ireturn, 1) := dk_172 (dk_at dksX1_principle_3 0 rfl rfl)
abbrev cX1_rule : ByteArray := prog_1_method_17_code
def yX1_rule : MethodName := ⟨RX1, "rule", "(II)I"⟩
def dkwX1_rule_5 : List UInt8 := [42, 180, 0, 23, 45, 182, 0, 121, 87, 45, 180, 0, 146, 172]
abbrev dktX1_rule_5 : List UInt8 := dkwX1_rule_5 ++ []
def dkwX1_rule_4 : List UInt8 := [180, 0, 23, 182, 0, 41, 16, 30, 162, 0, 12, 21, 4, 154, 0, 7, 4, 167, 0, 4, 3, 184, 0, 71]
abbrev dktX1_rule_4 : List UInt8 := dkwX1_rule_4 ++ dktX1_rule_5
def dkwX1_rule_3 : List UInt8 := [21, 5, 182, 0, 53, 192, 0, 138, 182, 0, 140, 182, 0, 143, 128, 54, 4, 132, 5, 1, 167, 255, 217, 42]
abbrev dktX1_rule_3 : List UInt8 := dkwX1_rule_3 ++ dktX1_rule_4
def dkwX1_rule_2 : List UInt8 := [54, 4, 3, 54, 5, 21, 5, 42, 180, 0, 26, 182, 0, 41, 162, 0, 33, 21, 4, 45, 42, 180, 0, 26]
abbrev dktX1_rule_2 : List UInt8 := dkwX1_rule_2 ++ dktX1_rule_3
def dkwX1_rule_1 : List UInt8 := [154, 0, 7, 4, 167, 0, 4, 3, 184, 0, 65, 187, 0, 133, 89, 42, 27, 28, 183, 0, 135, 78, 3]
abbrev dktX1_rule_1 : List UInt8 := dkwX1_rule_1 ++ dktX1_rule_2
def dkwX1_rule_0 : List UInt8 := [42, 180, 0, 19, 28, 184, 0, 125, 87, 42, 27, 182, 0, 129, 153, 0, 15, 27, 28, 122, 4, 126]
abbrev dktX1_rule_0 : List UInt8 := dkwX1_rule_0 ++ dktX1_rule_1
theorem dksX1_rule_0 : cX1_rule.data.toList.drop 0 = dktX1_rule_0 := by decide +kernel
theorem dksX1_rule_1 : cX1_rule.data.toList.drop 22 = dktX1_rule_1 := dk_seg dksX1_rule_0 22 rfl rfl
theorem dksX1_rule_2 : cX1_rule.data.toList.drop 45 = dktX1_rule_2 := dk_seg dksX1_rule_1 23 rfl rfl
theorem dksX1_rule_3 : cX1_rule.data.toList.drop 69 = dktX1_rule_3 := dk_seg dksX1_rule_2 24 rfl rfl
theorem dksX1_rule_4 : cX1_rule.data.toList.drop 93 = dktX1_rule_4 := dk_seg dksX1_rule_3 24 rfl rfl
theorem dksX1_rule_5 : cX1_rule.data.toList.drop 117 = dktX1_rule_5 := dk_seg dksX1_rule_4 24 rfl rfl
theorem dX1_rule_0 : decode cX1_rule 0 = .ok (.aload_n 0, 1) := dk_42 (dk_at dksX1_rule_0 0 rfl rfl)
theorem dX1_rule_1 : decode cX1_rule 1 = .ok (.getfield 19, 3) := dk_180 0 19 (dk_at dksX1_rule_0 1 rfl rfl)
theorem dX1_rule_4 : decode cX1_rule 4 = .ok (.iload_n 2, 1) := dk_28 (dk_at dksX1_rule_0 4 rfl rfl)
theorem dX1_rule_5 : decode cX1_rule 5 = .ok (.invokestatic 125, 3) := dk_184 0 125 (dk_at dksX1_rule_0 5 rfl rfl)
theorem dX1_rule_8 : decode cX1_rule 8 = .ok (.pop, 1) := dk_87 (dk_at dksX1_rule_0 8 rfl rfl)
theorem dX1_rule_9 : decode cX1_rule 9 = .ok (.aload_n 0, 1) := dk_42 (dk_at dksX1_rule_0 9 rfl rfl)
theorem dX1_rule_10 : decode cX1_rule 10 = .ok (.iload_n 1, 1) := dk_27 (dk_at dksX1_rule_0 10 rfl rfl)
theorem dX1_rule_11 : decode cX1_rule 11 = .ok (.invokevirtual 129, 3) := dk_182 0 129 (dk_at dksX1_rule_0 11 rfl rfl)
theorem dX1_rule_14 : decode cX1_rule 14 = .ok (.ifCond .eq 15, 3) := dk_153 0 15 (dk_at dksX1_rule_0 14 rfl rfl)
theorem dX1_rule_17 : decode cX1_rule 17 = .ok (.iload_n 1, 1) := dk_27 (dk_at dksX1_rule_0 17 rfl rfl)
theorem dX1_rule_18 : decode cX1_rule 18 = .ok (.iload_n 2, 1) := dk_28 (dk_at dksX1_rule_0 18 rfl rfl)
theorem dX1_rule_19 : decode cX1_rule 19 = .ok (.ishr, 1) := dk_122 (dk_at dksX1_rule_0 19 rfl rfl)
theorem dX1_rule_20 : decode cX1_rule 20 = .ok (.iconst 1, 1) := dk_4 (dk_at dksX1_rule_0 20 rfl rfl)
theorem dX1_rule_21 : decode cX1_rule 21 = .ok (.iand, 1) := dk_126 (dk_at dksX1_rule_0 21 rfl rfl)
theorem dX1_rule_22 : decode cX1_rule 22 = .ok (.ifCond .ne 7, 3) := dk_154 0 7 (dk_at dksX1_rule_1 0 rfl rfl)
theorem dX1_rule_25 : decode cX1_rule 25 = .ok (.iconst 1, 1) := dk_4 (dk_at dksX1_rule_1 3 rfl rfl)
theorem dX1_rule_26 : decode cX1_rule 26 = .ok (.goto 4, 3) := dk_167 0 4 (dk_at dksX1_rule_1 4 rfl rfl)
theorem dX1_rule_29 : decode cX1_rule 29 = .ok (.iconst 0, 1) := dk_3 (dk_at dksX1_rule_1 7 rfl rfl)
theorem dX1_rule_30 : decode cX1_rule 30 = .ok (.invokestatic 65, 3) := dk_184 0 65 (dk_at dksX1_rule_1 8 rfl rfl)
theorem dX1_rule_33 : decode cX1_rule 33 = .ok (.new 133, 3) := dk_187 0 133 (dk_at dksX1_rule_1 11 rfl rfl)
theorem dX1_rule_36 : decode cX1_rule 36 = .ok (.dup, 1) := dk_89 (dk_at dksX1_rule_1 14 rfl rfl)
theorem dX1_rule_37 : decode cX1_rule 37 = .ok (.aload_n 0, 1) := dk_42 (dk_at dksX1_rule_1 15 rfl rfl)
theorem dX1_rule_38 : decode cX1_rule 38 = .ok (.iload_n 1, 1) := dk_27 (dk_at dksX1_rule_1 16 rfl rfl)
theorem dX1_rule_39 : decode cX1_rule 39 = .ok (.iload_n 2, 1) := dk_28 (dk_at dksX1_rule_1 17 rfl rfl)
theorem dX1_rule_40 : decode cX1_rule 40 = .ok (.invokespecial 135, 3) := dk_183 0 135 (dk_at dksX1_rule_1 18 rfl rfl)
theorem dX1_rule_43 : decode cX1_rule 43 = .ok (.astore_n 3, 1) := dk_78 (dk_at dksX1_rule_1 21 rfl rfl)
theorem dX1_rule_44 : decode cX1_rule 44 = .ok (.iconst 0, 1) := dk_3 (dk_at dksX1_rule_1 22 rfl rfl)
theorem dX1_rule_45 : decode cX1_rule 45 = .ok (.istore 4, 2) := dk_54 4 (dk_at dksX1_rule_2 0 rfl rfl)
theorem dX1_rule_47 : decode cX1_rule 47 = .ok (.iconst 0, 1) := dk_3 (dk_at dksX1_rule_2 2 rfl rfl)
theorem dX1_rule_48 : decode cX1_rule 48 = .ok (.istore 5, 2) := dk_54 5 (dk_at dksX1_rule_2 3 rfl rfl)
theorem dX1_rule_50 : decode cX1_rule 50 = .ok (.iload 5, 2) := dk_21 5 (dk_at dksX1_rule_2 5 rfl rfl)
theorem dX1_rule_52 : decode cX1_rule 52 = .ok (.aload_n 0, 1) := dk_42 (dk_at dksX1_rule_2 7 rfl rfl)
theorem dX1_rule_53 : decode cX1_rule 53 = .ok (.getfield 26, 3) := dk_180 0 26 (dk_at dksX1_rule_2 8 rfl rfl)
theorem dX1_rule_56 : decode cX1_rule 56 = .ok (.invokevirtual 41, 3) := dk_182 0 41 (dk_at dksX1_rule_2 11 rfl rfl)
theorem dX1_rule_59 : decode cX1_rule 59 = .ok (.if_icmp .ge 33, 3) := dk_162 0 33 (dk_at dksX1_rule_2 14 rfl rfl)
theorem dX1_rule_62 : decode cX1_rule 62 = .ok (.iload 4, 2) := dk_21 4 (dk_at dksX1_rule_2 17 rfl rfl)
theorem dX1_rule_64 : decode cX1_rule 64 = .ok (.aload_n 3, 1) := dk_45 (dk_at dksX1_rule_2 19 rfl rfl)
theorem dX1_rule_65 : decode cX1_rule 65 = .ok (.aload_n 0, 1) := dk_42 (dk_at dksX1_rule_2 20 rfl rfl)
theorem dX1_rule_66 : decode cX1_rule 66 = .ok (.getfield 26, 3) := dk_180 0 26 (dk_at dksX1_rule_2 21 rfl rfl)
theorem dX1_rule_69 : decode cX1_rule 69 = .ok (.iload 5, 2) := dk_21 5 (dk_at dksX1_rule_3 0 rfl rfl)
theorem dX1_rule_71 : decode cX1_rule 71 = .ok (.invokevirtual 53, 3) := dk_182 0 53 (dk_at dksX1_rule_3 2 rfl rfl)
theorem dX1_rule_74 : decode cX1_rule 74 = .ok (.checkcast 138, 3) := dk_192 0 138 (dk_at dksX1_rule_3 5 rfl rfl)
theorem dX1_rule_77 : decode cX1_rule 77 = .ok (.invokevirtual 140, 3) := dk_182 0 140 (dk_at dksX1_rule_3 8 rfl rfl)
theorem dX1_rule_80 : decode cX1_rule 80 = .ok (.invokevirtual 143, 3) := dk_182 0 143 (dk_at dksX1_rule_3 11 rfl rfl)
theorem dX1_rule_83 : decode cX1_rule 83 = .ok (.ior, 1) := dk_128 (dk_at dksX1_rule_3 14 rfl rfl)
theorem dX1_rule_84 : decode cX1_rule 84 = .ok (.istore 4, 2) := dk_54 4 (dk_at dksX1_rule_3 15 rfl rfl)
theorem dX1_rule_86 : decode cX1_rule 86 = .ok (.iinc 5 1, 3) := dk_132 5 1 (dk_at dksX1_rule_3 17 rfl rfl)
theorem dX1_rule_89 : decode cX1_rule 89 = .ok (.goto (-39), 3) := dk_167 255 217 (dk_at dksX1_rule_3 20 rfl rfl)
theorem dX1_rule_92 : decode cX1_rule 92 = .ok (.aload_n 0, 1) := dk_42 (dk_at dksX1_rule_3 23 rfl rfl)
theorem dX1_rule_93 : decode cX1_rule 93 = .ok (.getfield 23, 3) := dk_180 0 23 (dk_at dksX1_rule_4 0 rfl rfl)
theorem dX1_rule_96 : decode cX1_rule 96 = .ok (.invokevirtual 41, 3) := dk_182 0 41 (dk_at dksX1_rule_4 3 rfl rfl)
theorem dX1_rule_99 : decode cX1_rule 99 = .ok (.bipush 30, 2) := dk_16 30 (dk_at dksX1_rule_4 6 rfl rfl)
theorem dX1_rule_101 : decode cX1_rule 101 = .ok (.if_icmp .ge 12, 3) := dk_162 0 12 (dk_at dksX1_rule_4 8 rfl rfl)
theorem dX1_rule_104 : decode cX1_rule 104 = .ok (.iload 4, 2) := dk_21 4 (dk_at dksX1_rule_4 11 rfl rfl)
theorem dX1_rule_106 : decode cX1_rule 106 = .ok (.ifCond .ne 7, 3) := dk_154 0 7 (dk_at dksX1_rule_4 13 rfl rfl)
theorem dX1_rule_109 : decode cX1_rule 109 = .ok (.iconst 1, 1) := dk_4 (dk_at dksX1_rule_4 16 rfl rfl)
theorem dX1_rule_110 : decode cX1_rule 110 = .ok (.goto 4, 3) := dk_167 0 4 (dk_at dksX1_rule_4 17 rfl rfl)
theorem dX1_rule_113 : decode cX1_rule 113 = .ok (.iconst 0, 1) := dk_3 (dk_at dksX1_rule_4 20 rfl rfl)
theorem dX1_rule_114 : decode cX1_rule 114 = .ok (.invokestatic 71, 3) := dk_184 0 71 (dk_at dksX1_rule_4 21 rfl rfl)
theorem dX1_rule_117 : decode cX1_rule 117 = .ok (.aload_n 0, 1) := dk_42 (dk_at dksX1_rule_5 0 rfl rfl)
theorem dX1_rule_118 : decode cX1_rule 118 = .ok (.getfield 23, 3) := dk_180 0 23 (dk_at dksX1_rule_5 1 rfl rfl)
theorem dX1_rule_121 : decode cX1_rule 121 = .ok (.aload_n 3, 1) := dk_45 (dk_at dksX1_rule_5 4 rfl rfl)
theorem dX1_rule_122 : decode cX1_rule 122 = .ok (.invokevirtual 121, 3) := dk_182 0 121 (dk_at dksX1_rule_5 5 rfl rfl)
theorem dX1_rule_125 : decode cX1_rule 125 = .ok (.pop, 1) := dk_87 (dk_at dksX1_rule_5 8 rfl rfl)
theorem dX1_rule_126 : decode cX1_rule 126 = .ok (.aload_n 3, 1) := dk_45 (dk_at dksX1_rule_5 9 rfl rfl)
theorem dX1_rule_127 : decode cX1_rule 127 = .ok (.getfield 146, 3) := dk_180 0 146 (dk_at dksX1_rule_5 10 rfl rfl)
theorem dX1_rule_130 : decode cX1_rule 130 = .ok (.ireturn, 1) := dk_172 (dk_at dksX1_rule_5 13 rfl rfl)
abbrev cX1_of : ByteArray := prog_1_method_6_code
def yX1_of : MethodName := ⟨RX1, "of", "(Ljava/util/ArrayList;I)Ljava/lang/Object;"⟩
def dkwX1_of_0 : List UInt8 := [27, 3, 42, 182, 0, 41, 4, 100, 184, 0, 45, 184, 0, 49, 42, 27, 182, 0, 53, 176]
abbrev dktX1_of_0 : List UInt8 := dkwX1_of_0 ++ []
theorem dksX1_of_0 : cX1_of.data.toList.drop 0 = dktX1_of_0 := by decide +kernel
theorem dX1_of_0 : decode cX1_of 0 = .ok (.iload_n 1, 1) := dk_27 (dk_at dksX1_of_0 0 rfl rfl)
theorem dX1_of_1 : decode cX1_of 1 = .ok (.iconst 0, 1) := dk_3 (dk_at dksX1_of_0 1 rfl rfl)
theorem dX1_of_2 : decode cX1_of 2 = .ok (.aload_n 0, 1) := dk_42 (dk_at dksX1_of_0 2 rfl rfl)
theorem dX1_of_3 : decode cX1_of 3 = .ok (.invokevirtual 41, 3) := dk_182 0 41 (dk_at dksX1_of_0 3 rfl rfl)
theorem dX1_of_6 : decode cX1_of 6 = .ok (.iconst 1, 1) := dk_4 (dk_at dksX1_of_0 6 rfl rfl)
theorem dX1_of_7 : decode cX1_of 7 = .ok (.isub, 1) := dk_100 (dk_at dksX1_of_0 7 rfl rfl)
theorem dX1_of_8 : decode cX1_of 8 = .ok (.invokestatic 45, 3) := dk_184 0 45 (dk_at dksX1_of_0 8 rfl rfl)
theorem dX1_of_11 : decode cX1_of 11 = .ok (.invokestatic 49, 3) := dk_184 0 49 (dk_at dksX1_of_0 11 rfl rfl)
theorem dX1_of_14 : decode cX1_of 14 = .ok (.aload_n 0, 1) := dk_42 (dk_at dksX1_of_0 14 rfl rfl)
theorem dX1_of_15 : decode cX1_of 15 = .ok (.iload_n 1, 1) := dk_27 (dk_at dksX1_of_0 15 rfl rfl)
theorem dX1_of_16 : decode cX1_of 16 = .ok (.invokevirtual 53, 3) := dk_182 0 53 (dk_at dksX1_of_0 16 rfl rfl)
theorem dX1_of_19 : decode cX1_of 19 = .ok (.areturn, 1) := dk_176 (dk_at dksX1_of_0 19 rfl rfl)
abbrev cX1_needIndex : ByteArray := prog_1_method_3_code
def yX1_needIndex : MethodName := ⟨RX1, "needIndex", "(Z)V"⟩
def dkwX1_needIndex_0 : List UInt8 := [26, 154, 0, 11, 187, 0, 32, 89, 183, 0, 34, 191, 177]
abbrev dktX1_needIndex_0 : List UInt8 := dkwX1_needIndex_0 ++ []
theorem dksX1_needIndex_0 : cX1_needIndex.data.toList.drop 0 = dktX1_needIndex_0 := by decide +kernel
theorem dX1_needIndex_0 : decode cX1_needIndex 0 = .ok (.iload_n 0, 1) := dk_26 (dk_at dksX1_needIndex_0 0 rfl rfl)
theorem dX1_needIndex_1 : decode cX1_needIndex 1 = .ok (.ifCond .ne 11, 3) := dk_154 0 11 (dk_at dksX1_needIndex_0 1 rfl rfl)
theorem dX1_needIndex_4 : decode cX1_needIndex 4 = .ok (.new 32, 3) := dk_187 0 32 (dk_at dksX1_needIndex_0 4 rfl rfl)
theorem dX1_needIndex_7 : decode cX1_needIndex 7 = .ok (.dup, 1) := dk_89 (dk_at dksX1_needIndex_0 7 rfl rfl)
theorem dX1_needIndex_8 : decode cX1_needIndex 8 = .ok (.invokespecial 34, 3) := dk_183 0 34 (dk_at dksX1_needIndex_0 8 rfl rfl)
theorem dX1_needIndex_11 : decode cX1_needIndex 11 = .ok (.athrow, 1) := dk_191 (dk_at dksX1_needIndex_0 11 rfl rfl)
theorem dX1_needIndex_12 : decode cX1_needIndex 12 = .ok (.return_, 1) := dk_177 (dk_at dksX1_needIndex_0 12 rfl rfl)
abbrev cX1_isSet : ByteArray := prog_1_method_16_code
def yX1_isSet : MethodName := ⟨RX1, "isSet", "(I)Z"⟩
def dkwX1_isSet_0 : List UInt8 := [27, 3, 4, 42, 180, 0, 19, 182, 0, 41, 120, 4, 100, 184, 0, 45, 172]
abbrev dktX1_isSet_0 : List UInt8 := dkwX1_isSet_0 ++ []
theorem dksX1_isSet_0 : cX1_isSet.data.toList.drop 0 = dktX1_isSet_0 := by decide +kernel
theorem dX1_isSet_0 : decode cX1_isSet 0 = .ok (.iload_n 1, 1) := dk_27 (dk_at dksX1_isSet_0 0 rfl rfl)
theorem dX1_isSet_1 : decode cX1_isSet 1 = .ok (.iconst 0, 1) := dk_3 (dk_at dksX1_isSet_0 1 rfl rfl)
theorem dX1_isSet_2 : decode cX1_isSet 2 = .ok (.iconst 1, 1) := dk_4 (dk_at dksX1_isSet_0 2 rfl rfl)
theorem dX1_isSet_3 : decode cX1_isSet 3 = .ok (.aload_n 0, 1) := dk_42 (dk_at dksX1_isSet_0 3 rfl rfl)
theorem dX1_isSet_4 : decode cX1_isSet 4 = .ok (.getfield 19, 3) := dk_180 0 19 (dk_at dksX1_isSet_0 4 rfl rfl)
theorem dX1_isSet_7 : decode cX1_isSet 7 = .ok (.invokevirtual 41, 3) := dk_182 0 41 (dk_at dksX1_isSet_0 7 rfl rfl)
theorem dX1_isSet_10 : decode cX1_isSet 10 = .ok (.ishl, 1) := dk_120 (dk_at dksX1_isSet_0 10 rfl rfl)
theorem dX1_isSet_11 : decode cX1_isSet 11 = .ok (.iconst 1, 1) := dk_4 (dk_at dksX1_isSet_0 11 rfl rfl)
theorem dX1_isSet_12 : decode cX1_isSet 12 = .ok (.isub, 1) := dk_100 (dk_at dksX1_isSet_0 12 rfl rfl)
theorem dX1_isSet_13 : decode cX1_isSet 13 = .ok (.invokestatic 45, 3) := dk_184 0 45 (dk_at dksX1_isSet_0 13 rfl rfl)
theorem dX1_isSet_16 : decode cX1_isSet 16 = .ok (.ireturn, 1) := dk_172 (dk_at dksX1_isSet_0 16 rfl rfl)
abbrev cX1_model : ByteArray := prog_1_method_19_code
def yX1_model : MethodName := ⟨RX1, "model", "(I)I"⟩
def dkwX1_model_2 : List UInt8 := [182, 0, 121, 87, 42, 180, 0, 26, 182, 0, 41, 4, 100, 172]
abbrev dktX1_model_2 : List UInt8 := dkwX1_model_2 ++ []
def dkwX1_model_1 : List UInt8 := [182, 0, 149, 199, 0, 7, 4, 167, 0, 4, 3, 184, 0, 71, 42, 180, 0, 26, 27, 184, 0, 153]
abbrev dktX1_model_1 : List UInt8 := dkwX1_model_1 ++ dktX1_model_2
def dkwX1_model_0 : List UInt8 := [42, 27, 182, 0, 129, 184, 0, 65, 42, 180, 0, 26, 182, 0, 41, 16, 10, 162, 0, 15, 42, 27]
abbrev dktX1_model_0 : List UInt8 := dkwX1_model_0 ++ dktX1_model_1
theorem dksX1_model_0 : cX1_model.data.toList.drop 0 = dktX1_model_0 := by decide +kernel
theorem dksX1_model_1 : cX1_model.data.toList.drop 22 = dktX1_model_1 := dk_seg dksX1_model_0 22 rfl rfl
theorem dksX1_model_2 : cX1_model.data.toList.drop 44 = dktX1_model_2 := dk_seg dksX1_model_1 22 rfl rfl
theorem dX1_model_0 : decode cX1_model 0 = .ok (.aload_n 0, 1) := dk_42 (dk_at dksX1_model_0 0 rfl rfl)
theorem dX1_model_1 : decode cX1_model 1 = .ok (.iload_n 1, 1) := dk_27 (dk_at dksX1_model_0 1 rfl rfl)
theorem dX1_model_2 : decode cX1_model 2 = .ok (.invokevirtual 129, 3) := dk_182 0 129 (dk_at dksX1_model_0 2 rfl rfl)
theorem dX1_model_5 : decode cX1_model 5 = .ok (.invokestatic 65, 3) := dk_184 0 65 (dk_at dksX1_model_0 5 rfl rfl)
theorem dX1_model_8 : decode cX1_model 8 = .ok (.aload_n 0, 1) := dk_42 (dk_at dksX1_model_0 8 rfl rfl)
theorem dX1_model_9 : decode cX1_model 9 = .ok (.getfield 26, 3) := dk_180 0 26 (dk_at dksX1_model_0 9 rfl rfl)
theorem dX1_model_12 : decode cX1_model 12 = .ok (.invokevirtual 41, 3) := dk_182 0 41 (dk_at dksX1_model_0 12 rfl rfl)
theorem dX1_model_15 : decode cX1_model 15 = .ok (.bipush 10, 2) := dk_16 10 (dk_at dksX1_model_0 15 rfl rfl)
theorem dX1_model_17 : decode cX1_model 17 = .ok (.if_icmp .ge 15, 3) := dk_162 0 15 (dk_at dksX1_model_0 17 rfl rfl)
theorem dX1_model_20 : decode cX1_model 20 = .ok (.aload_n 0, 1) := dk_42 (dk_at dksX1_model_0 20 rfl rfl)
theorem dX1_model_21 : decode cX1_model 21 = .ok (.iload_n 1, 1) := dk_27 (dk_at dksX1_model_0 21 rfl rfl)
theorem dX1_model_22 : decode cX1_model 22 = .ok (.invokevirtual 149, 3) := dk_182 0 149 (dk_at dksX1_model_1 0 rfl rfl)
theorem dX1_model_25 : decode cX1_model 25 = .ok (.ifnonnull 7, 3) := dk_199 0 7 (dk_at dksX1_model_1 3 rfl rfl)
theorem dX1_model_28 : decode cX1_model 28 = .ok (.iconst 1, 1) := dk_4 (dk_at dksX1_model_1 6 rfl rfl)
theorem dX1_model_29 : decode cX1_model 29 = .ok (.goto 4, 3) := dk_167 0 4 (dk_at dksX1_model_1 7 rfl rfl)
theorem dX1_model_32 : decode cX1_model 32 = .ok (.iconst 0, 1) := dk_3 (dk_at dksX1_model_1 10 rfl rfl)
theorem dX1_model_33 : decode cX1_model 33 = .ok (.invokestatic 71, 3) := dk_184 0 71 (dk_at dksX1_model_1 11 rfl rfl)
theorem dX1_model_36 : decode cX1_model 36 = .ok (.aload_n 0, 1) := dk_42 (dk_at dksX1_model_1 14 rfl rfl)
theorem dX1_model_37 : decode cX1_model 37 = .ok (.getfield 26, 3) := dk_180 0 26 (dk_at dksX1_model_1 15 rfl rfl)
theorem dX1_model_40 : decode cX1_model 40 = .ok (.iload_n 1, 1) := dk_27 (dk_at dksX1_model_1 18 rfl rfl)
theorem dX1_model_41 : decode cX1_model 41 = .ok (.invokestatic 153, 3) := dk_184 0 153 (dk_at dksX1_model_1 19 rfl rfl)
theorem dX1_model_44 : decode cX1_model 44 = .ok (.invokevirtual 121, 3) := dk_182 0 121 (dk_at dksX1_model_2 0 rfl rfl)
theorem dX1_model_47 : decode cX1_model 47 = .ok (.pop, 1) := dk_87 (dk_at dksX1_model_2 3 rfl rfl)
theorem dX1_model_48 : decode cX1_model 48 = .ok (.aload_n 0, 1) := dk_42 (dk_at dksX1_model_2 4 rfl rfl)
theorem dX1_model_49 : decode cX1_model 49 = .ok (.getfield 26, 3) := dk_180 0 26 (dk_at dksX1_model_2 5 rfl rfl)
theorem dX1_model_52 : decode cX1_model 52 = .ok (.invokevirtual 41, 3) := dk_182 0 41 (dk_at dksX1_model_2 8 rfl rfl)
theorem dX1_model_55 : decode cX1_model 55 = .ok (.iconst 1, 1) := dk_4 (dk_at dksX1_model_2 11 rfl rfl)
theorem dX1_model_56 : decode cX1_model 56 = .ok (.isub, 1) := dk_100 (dk_at dksX1_model_2 12 rfl rfl)
theorem dX1_model_57 : decode cX1_model 57 = .ok (.ireturn, 1) := dk_172 (dk_at dksX1_model_2 13 rfl rfl)
abbrev cX1_proves_2 : ByteArray := prog_1_method_22_code
def yX1_proves_2 : MethodName := ⟨RX1, "proves", "(I)I"⟩
def dkwX1_proves_2_0 : List UInt8 := [42, 27, 182, 0, 129, 184, 0, 65, 42, 27, 182, 0, 160, 172]
abbrev dktX1_proves_2_0 : List UInt8 := dkwX1_proves_2_0 ++ []
theorem dksX1_proves_2_0 : cX1_proves_2.data.toList.drop 0 = dktX1_proves_2_0 := by decide +kernel
theorem dX1_proves_2_0 : decode cX1_proves_2 0 = .ok (.aload_n 0, 1) := dk_42 (dk_at dksX1_proves_2_0 0 rfl rfl)
theorem dX1_proves_2_1 : decode cX1_proves_2 1 = .ok (.iload_n 1, 1) := dk_27 (dk_at dksX1_proves_2_0 1 rfl rfl)
theorem dX1_proves_2_2 : decode cX1_proves_2 2 = .ok (.invokevirtual 129, 3) := dk_182 0 129 (dk_at dksX1_proves_2_0 2 rfl rfl)
theorem dX1_proves_2_5 : decode cX1_proves_2 5 = .ok (.invokestatic 65, 3) := dk_184 0 65 (dk_at dksX1_proves_2_0 5 rfl rfl)
theorem dX1_proves_2_8 : decode cX1_proves_2 8 = .ok (.aload_n 0, 1) := dk_42 (dk_at dksX1_proves_2_0 8 rfl rfl)
theorem dX1_proves_2_9 : decode cX1_proves_2 9 = .ok (.iload_n 1, 1) := dk_27 (dk_at dksX1_proves_2_0 9 rfl rfl)
theorem dX1_proves_2_10 : decode cX1_proves_2 10 = .ok (.invokevirtual 160, 3) := dk_182 0 160 (dk_at dksX1_proves_2_0 10 rfl rfl)
theorem dX1_proves_2_13 : decode cX1_proves_2 13 = .ok (.ireturn, 1) := dk_172 (dk_at dksX1_proves_2_0 13 rfl rfl)
abbrev cX1_proof : ByteArray := prog_1_method_24_code
def yX1_proof : MethodName := ⟨RX1, "proof", "(III)I"⟩
def dkwX1_proof_6 : List UInt8 := [182, 0, 41, 162, 0, 18, 25, 4, 29, 182, 0, 53, 192, 0, 133, 180, 0, 146, 167, 0, 4, 2, 172]
abbrev dktX1_proof_6 : List UInt8 := dkwX1_proof_6 ++ []
def dkwX1_proof_5 : List UInt8 := [21, 7, 182, 0, 53, 192, 0, 133, 180, 0, 174, 128, 54, 6, 132, 7, 255, 167, 255, 192, 29, 25, 4]
abbrev dktX1_proof_5 : List UInt8 := dkwX1_proof_5 ++ dktX1_proof_6
def dkwX1_proof_4 : List UInt8 := [160, 0, 37, 25, 4, 3, 25, 5, 21, 7, 182, 0, 53, 192, 0, 133, 182, 0, 171, 21, 6, 25, 5]
abbrev dktX1_proof_4 : List UInt8 := dkwX1_proof_4 ++ dktX1_proof_5
def dkwX1_proof_3 : List UInt8 := [21, 7, 155, 0, 65, 21, 6, 25, 5, 21, 7, 182, 0, 53, 192, 0, 133, 180, 0, 157, 122, 4, 126, 4]
abbrev dktX1_proof_3 : List UInt8 := dkwX1_proof_3 ++ dktX1_proof_4
def dkwX1_proof_2 : List UInt8 := [58, 4, 42, 27, 28, 182, 0, 167, 58, 5, 4, 28, 120, 54, 6, 25, 5, 182, 0, 41, 4, 100, 54, 7]
abbrev dktX1_proof_2 : List UInt8 := dkwX1_proof_2 ++ dktX1_proof_3
def dkwX1_proof_1 : List UInt8 := [182, 0, 129, 184, 0, 65, 42, 27, 28, 182, 0, 163, 154, 0, 5, 2, 172, 187, 0, 16, 89, 183, 0, 18]
abbrev dktX1_proof_1 : List UInt8 := dkwX1_proof_1 ++ dktX1_proof_2
def dkwX1_proof_0 : List UInt8 := [42, 180, 0, 19, 28, 184, 0, 125, 87, 29, 155, 0, 7, 4, 167, 0, 4, 3, 184, 0, 49, 42, 27]
abbrev dktX1_proof_0 : List UInt8 := dkwX1_proof_0 ++ dktX1_proof_1
theorem dksX1_proof_0 : cX1_proof.data.toList.drop 0 = dktX1_proof_0 := by decide +kernel
theorem dksX1_proof_1 : cX1_proof.data.toList.drop 23 = dktX1_proof_1 := dk_seg dksX1_proof_0 23 rfl rfl
theorem dksX1_proof_2 : cX1_proof.data.toList.drop 47 = dktX1_proof_2 := dk_seg dksX1_proof_1 24 rfl rfl
theorem dksX1_proof_3 : cX1_proof.data.toList.drop 71 = dktX1_proof_3 := dk_seg dksX1_proof_2 24 rfl rfl
theorem dksX1_proof_4 : cX1_proof.data.toList.drop 95 = dktX1_proof_4 := dk_seg dksX1_proof_3 24 rfl rfl
theorem dksX1_proof_5 : cX1_proof.data.toList.drop 118 = dktX1_proof_5 := dk_seg dksX1_proof_4 23 rfl rfl
theorem dksX1_proof_6 : cX1_proof.data.toList.drop 141 = dktX1_proof_6 := dk_seg dksX1_proof_5 23 rfl rfl
theorem dX1_proof_0 : decode cX1_proof 0 = .ok (.aload_n 0, 1) := dk_42 (dk_at dksX1_proof_0 0 rfl rfl)
theorem dX1_proof_1 : decode cX1_proof 1 = .ok (.getfield 19, 3) := dk_180 0 19 (dk_at dksX1_proof_0 1 rfl rfl)
theorem dX1_proof_4 : decode cX1_proof 4 = .ok (.iload_n 2, 1) := dk_28 (dk_at dksX1_proof_0 4 rfl rfl)
theorem dX1_proof_5 : decode cX1_proof 5 = .ok (.invokestatic 125, 3) := dk_184 0 125 (dk_at dksX1_proof_0 5 rfl rfl)
theorem dX1_proof_8 : decode cX1_proof 8 = .ok (.pop, 1) := dk_87 (dk_at dksX1_proof_0 8 rfl rfl)
theorem dX1_proof_9 : decode cX1_proof 9 = .ok (.iload_n 3, 1) := dk_29 (dk_at dksX1_proof_0 9 rfl rfl)
theorem dX1_proof_10 : decode cX1_proof 10 = .ok (.ifCond .lt 7, 3) := dk_155 0 7 (dk_at dksX1_proof_0 10 rfl rfl)
theorem dX1_proof_13 : decode cX1_proof 13 = .ok (.iconst 1, 1) := dk_4 (dk_at dksX1_proof_0 13 rfl rfl)
theorem dX1_proof_14 : decode cX1_proof 14 = .ok (.goto 4, 3) := dk_167 0 4 (dk_at dksX1_proof_0 14 rfl rfl)
theorem dX1_proof_17 : decode cX1_proof 17 = .ok (.iconst 0, 1) := dk_3 (dk_at dksX1_proof_0 17 rfl rfl)
theorem dX1_proof_18 : decode cX1_proof 18 = .ok (.invokestatic 49, 3) := dk_184 0 49 (dk_at dksX1_proof_0 18 rfl rfl)
theorem dX1_proof_21 : decode cX1_proof 21 = .ok (.aload_n 0, 1) := dk_42 (dk_at dksX1_proof_0 21 rfl rfl)
theorem dX1_proof_22 : decode cX1_proof 22 = .ok (.iload_n 1, 1) := dk_27 (dk_at dksX1_proof_0 22 rfl rfl)
theorem dX1_proof_23 : decode cX1_proof 23 = .ok (.invokevirtual 129, 3) := dk_182 0 129 (dk_at dksX1_proof_1 0 rfl rfl)
theorem dX1_proof_26 : decode cX1_proof 26 = .ok (.invokestatic 65, 3) := dk_184 0 65 (dk_at dksX1_proof_1 3 rfl rfl)
theorem dX1_proof_29 : decode cX1_proof 29 = .ok (.aload_n 0, 1) := dk_42 (dk_at dksX1_proof_1 6 rfl rfl)
theorem dX1_proof_30 : decode cX1_proof 30 = .ok (.iload_n 1, 1) := dk_27 (dk_at dksX1_proof_1 7 rfl rfl)
theorem dX1_proof_31 : decode cX1_proof 31 = .ok (.iload_n 2, 1) := dk_28 (dk_at dksX1_proof_1 8 rfl rfl)
theorem dX1_proof_32 : decode cX1_proof 32 = .ok (.invokevirtual 163, 3) := dk_182 0 163 (dk_at dksX1_proof_1 9 rfl rfl)
theorem dX1_proof_35 : decode cX1_proof 35 = .ok (.ifCond .ne 5, 3) := dk_154 0 5 (dk_at dksX1_proof_1 12 rfl rfl)
theorem dX1_proof_38 : decode cX1_proof 38 = .ok (.iconst (-1), 1) := dk_2 (dk_at dksX1_proof_1 15 rfl rfl)
theorem dX1_proof_39 : decode cX1_proof 39 = .ok (.ireturn, 1) := dk_172 (dk_at dksX1_proof_1 16 rfl rfl)
theorem dX1_proof_40 : decode cX1_proof 40 = .ok (.new 16, 3) := dk_187 0 16 (dk_at dksX1_proof_1 17 rfl rfl)
theorem dX1_proof_43 : decode cX1_proof 43 = .ok (.dup, 1) := dk_89 (dk_at dksX1_proof_1 20 rfl rfl)
theorem dX1_proof_44 : decode cX1_proof 44 = .ok (.invokespecial 18, 3) := dk_183 0 18 (dk_at dksX1_proof_1 21 rfl rfl)
theorem dX1_proof_47 : decode cX1_proof 47 = .ok (.astore 4, 2) := dk_58 4 (dk_at dksX1_proof_2 0 rfl rfl)
theorem dX1_proof_49 : decode cX1_proof 49 = .ok (.aload_n 0, 1) := dk_42 (dk_at dksX1_proof_2 2 rfl rfl)
theorem dX1_proof_50 : decode cX1_proof 50 = .ok (.iload_n 1, 1) := dk_27 (dk_at dksX1_proof_2 3 rfl rfl)
theorem dX1_proof_51 : decode cX1_proof 51 = .ok (.iload_n 2, 1) := dk_28 (dk_at dksX1_proof_2 4 rfl rfl)
theorem dX1_proof_52 : decode cX1_proof 52 = .ok (.invokevirtual 167, 3) := dk_182 0 167 (dk_at dksX1_proof_2 5 rfl rfl)
theorem dX1_proof_55 : decode cX1_proof 55 = .ok (.astore 5, 2) := dk_58 5 (dk_at dksX1_proof_2 8 rfl rfl)
theorem dX1_proof_57 : decode cX1_proof 57 = .ok (.iconst 1, 1) := dk_4 (dk_at dksX1_proof_2 10 rfl rfl)
theorem dX1_proof_58 : decode cX1_proof 58 = .ok (.iload_n 2, 1) := dk_28 (dk_at dksX1_proof_2 11 rfl rfl)
theorem dX1_proof_59 : decode cX1_proof 59 = .ok (.ishl, 1) := dk_120 (dk_at dksX1_proof_2 12 rfl rfl)
theorem dX1_proof_60 : decode cX1_proof 60 = .ok (.istore 6, 2) := dk_54 6 (dk_at dksX1_proof_2 13 rfl rfl)
theorem dX1_proof_62 : decode cX1_proof 62 = .ok (.aload 5, 2) := dk_25 5 (dk_at dksX1_proof_2 15 rfl rfl)
theorem dX1_proof_64 : decode cX1_proof 64 = .ok (.invokevirtual 41, 3) := dk_182 0 41 (dk_at dksX1_proof_2 17 rfl rfl)
theorem dX1_proof_67 : decode cX1_proof 67 = .ok (.iconst 1, 1) := dk_4 (dk_at dksX1_proof_2 20 rfl rfl)
theorem dX1_proof_68 : decode cX1_proof 68 = .ok (.isub, 1) := dk_100 (dk_at dksX1_proof_2 21 rfl rfl)
theorem dX1_proof_69 : decode cX1_proof 69 = .ok (.istore 7, 2) := dk_54 7 (dk_at dksX1_proof_2 22 rfl rfl)
theorem dX1_proof_71 : decode cX1_proof 71 = .ok (.iload 7, 2) := dk_21 7 (dk_at dksX1_proof_3 0 rfl rfl)
theorem dX1_proof_73 : decode cX1_proof 73 = .ok (.ifCond .lt 65, 3) := dk_155 0 65 (dk_at dksX1_proof_3 2 rfl rfl)
theorem dX1_proof_76 : decode cX1_proof 76 = .ok (.iload 6, 2) := dk_21 6 (dk_at dksX1_proof_3 5 rfl rfl)
theorem dX1_proof_78 : decode cX1_proof 78 = .ok (.aload 5, 2) := dk_25 5 (dk_at dksX1_proof_3 7 rfl rfl)
theorem dX1_proof_80 : decode cX1_proof 80 = .ok (.iload 7, 2) := dk_21 7 (dk_at dksX1_proof_3 9 rfl rfl)
theorem dX1_proof_82 : decode cX1_proof 82 = .ok (.invokevirtual 53, 3) := dk_182 0 53 (dk_at dksX1_proof_3 11 rfl rfl)
theorem dX1_proof_85 : decode cX1_proof 85 = .ok (.checkcast 133, 3) := dk_192 0 133 (dk_at dksX1_proof_3 14 rfl rfl)
theorem dX1_proof_88 : decode cX1_proof 88 = .ok (.getfield 157, 3) := dk_180 0 157 (dk_at dksX1_proof_3 17 rfl rfl)
theorem dX1_proof_91 : decode cX1_proof 91 = .ok (.ishr, 1) := dk_122 (dk_at dksX1_proof_3 20 rfl rfl)
theorem dX1_proof_92 : decode cX1_proof 92 = .ok (.iconst 1, 1) := dk_4 (dk_at dksX1_proof_3 21 rfl rfl)
theorem dX1_proof_93 : decode cX1_proof 93 = .ok (.iand, 1) := dk_126 (dk_at dksX1_proof_3 22 rfl rfl)
theorem dX1_proof_94 : decode cX1_proof 94 = .ok (.iconst 1, 1) := dk_4 (dk_at dksX1_proof_3 23 rfl rfl)
theorem dX1_proof_95 : decode cX1_proof 95 = .ok (.if_icmp .ne 37, 3) := dk_160 0 37 (dk_at dksX1_proof_4 0 rfl rfl)
theorem dX1_proof_98 : decode cX1_proof 98 = .ok (.aload 4, 2) := dk_25 4 (dk_at dksX1_proof_4 3 rfl rfl)
theorem dX1_proof_100 : decode cX1_proof 100 = .ok (.iconst 0, 1) := dk_3 (dk_at dksX1_proof_4 5 rfl rfl)
theorem dX1_proof_101 : decode cX1_proof 101 = .ok (.aload 5, 2) := dk_25 5 (dk_at dksX1_proof_4 6 rfl rfl)
theorem dX1_proof_103 : decode cX1_proof 103 = .ok (.iload 7, 2) := dk_21 7 (dk_at dksX1_proof_4 8 rfl rfl)
theorem dX1_proof_105 : decode cX1_proof 105 = .ok (.invokevirtual 53, 3) := dk_182 0 53 (dk_at dksX1_proof_4 10 rfl rfl)
theorem dX1_proof_108 : decode cX1_proof 108 = .ok (.checkcast 133, 3) := dk_192 0 133 (dk_at dksX1_proof_4 13 rfl rfl)
theorem dX1_proof_111 : decode cX1_proof 111 = .ok (.invokevirtual 171, 3) := dk_182 0 171 (dk_at dksX1_proof_4 16 rfl rfl)
theorem dX1_proof_114 : decode cX1_proof 114 = .ok (.iload 6, 2) := dk_21 6 (dk_at dksX1_proof_4 19 rfl rfl)
theorem dX1_proof_116 : decode cX1_proof 116 = .ok (.aload 5, 2) := dk_25 5 (dk_at dksX1_proof_4 21 rfl rfl)
theorem dX1_proof_118 : decode cX1_proof 118 = .ok (.iload 7, 2) := dk_21 7 (dk_at dksX1_proof_5 0 rfl rfl)
theorem dX1_proof_120 : decode cX1_proof 120 = .ok (.invokevirtual 53, 3) := dk_182 0 53 (dk_at dksX1_proof_5 2 rfl rfl)
theorem dX1_proof_123 : decode cX1_proof 123 = .ok (.checkcast 133, 3) := dk_192 0 133 (dk_at dksX1_proof_5 5 rfl rfl)
theorem dX1_proof_126 : decode cX1_proof 126 = .ok (.getfield 174, 3) := dk_180 0 174 (dk_at dksX1_proof_5 8 rfl rfl)
theorem dX1_proof_129 : decode cX1_proof 129 = .ok (.ior, 1) := dk_128 (dk_at dksX1_proof_5 11 rfl rfl)
theorem dX1_proof_130 : decode cX1_proof 130 = .ok (.istore 6, 2) := dk_54 6 (dk_at dksX1_proof_5 12 rfl rfl)
theorem dX1_proof_132 : decode cX1_proof 132 = .ok (.iinc 7 (-1), 3) := dk_132 7 255 (dk_at dksX1_proof_5 14 rfl rfl)
theorem dX1_proof_135 : decode cX1_proof 135 = .ok (.goto (-64), 3) := dk_167 255 192 (dk_at dksX1_proof_5 17 rfl rfl)
theorem dX1_proof_138 : decode cX1_proof 138 = .ok (.iload_n 3, 1) := dk_29 (dk_at dksX1_proof_5 20 rfl rfl)
theorem dX1_proof_139 : decode cX1_proof 139 = .ok (.aload 4, 2) := dk_25 4 (dk_at dksX1_proof_5 21 rfl rfl)
theorem dX1_proof_141 : decode cX1_proof 141 = .ok (.invokevirtual 41, 3) := dk_182 0 41 (dk_at dksX1_proof_6 0 rfl rfl)
theorem dX1_proof_144 : decode cX1_proof 144 = .ok (.if_icmp .ge 18, 3) := dk_162 0 18 (dk_at dksX1_proof_6 3 rfl rfl)
theorem dX1_proof_147 : decode cX1_proof 147 = .ok (.aload 4, 2) := dk_25 4 (dk_at dksX1_proof_6 6 rfl rfl)
theorem dX1_proof_149 : decode cX1_proof 149 = .ok (.iload_n 3, 1) := dk_29 (dk_at dksX1_proof_6 8 rfl rfl)
theorem dX1_proof_150 : decode cX1_proof 150 = .ok (.invokevirtual 53, 3) := dk_182 0 53 (dk_at dksX1_proof_6 9 rfl rfl)
theorem dX1_proof_153 : decode cX1_proof 153 = .ok (.checkcast 133, 3) := dk_192 0 133 (dk_at dksX1_proof_6 12 rfl rfl)
theorem dX1_proof_156 : decode cX1_proof 156 = .ok (.getfield 146, 3) := dk_180 0 146 (dk_at dksX1_proof_6 15 rfl rfl)
theorem dX1_proof_159 : decode cX1_proof 159 = .ok (.goto 4, 3) := dk_167 0 4 (dk_at dksX1_proof_6 18 rfl rfl)
theorem dX1_proof_162 : decode cX1_proof 162 = .ok (.iconst (-1), 1) := dk_2 (dk_at dksX1_proof_6 21 rfl rfl)
theorem dX1_proof_163 : decode cX1_proof 163 = .ok (.ireturn, 1) := dk_172 (dk_at dksX1_proof_6 22 rfl rfl)
abbrev cX1_steps : ByteArray := prog_1_method_23_code
def yX1_steps : MethodName := ⟨RX1, "steps", "(II)Ljava/util/ArrayList;"⟩
def dkwX1_steps_2 : List UInt8 := [167, 255, 220, 45, 176]
abbrev dktX1_steps_2 : List UInt8 := dkwX1_steps_2 ++ []
def dkwX1_steps_1 : List UInt8 := [182, 0, 149, 58, 5, 45, 25, 5, 182, 0, 121, 87, 21, 4, 4, 25, 5, 180, 0, 157, 120, 128, 54, 4]
abbrev dktX1_steps_1 : List UInt8 := dkwX1_steps_1 ++ dktX1_steps_2
def dkwX1_steps_0 : List UInt8 := [187, 0, 16, 89, 183, 0, 18, 78, 27, 54, 4, 21, 4, 28, 122, 4, 126, 154, 0, 33, 42, 21, 4]
abbrev dktX1_steps_0 : List UInt8 := dkwX1_steps_0 ++ dktX1_steps_1
theorem dksX1_steps_0 : cX1_steps.data.toList.drop 0 = dktX1_steps_0 := by decide +kernel
theorem dksX1_steps_1 : cX1_steps.data.toList.drop 23 = dktX1_steps_1 := dk_seg dksX1_steps_0 23 rfl rfl
theorem dksX1_steps_2 : cX1_steps.data.toList.drop 47 = dktX1_steps_2 := dk_seg dksX1_steps_1 24 rfl rfl
theorem dX1_steps_0 : decode cX1_steps 0 = .ok (.new 16, 3) := dk_187 0 16 (dk_at dksX1_steps_0 0 rfl rfl)
theorem dX1_steps_3 : decode cX1_steps 3 = .ok (.dup, 1) := dk_89 (dk_at dksX1_steps_0 3 rfl rfl)
theorem dX1_steps_4 : decode cX1_steps 4 = .ok (.invokespecial 18, 3) := dk_183 0 18 (dk_at dksX1_steps_0 4 rfl rfl)
theorem dX1_steps_7 : decode cX1_steps 7 = .ok (.astore_n 3, 1) := dk_78 (dk_at dksX1_steps_0 7 rfl rfl)
theorem dX1_steps_8 : decode cX1_steps 8 = .ok (.iload_n 1, 1) := dk_27 (dk_at dksX1_steps_0 8 rfl rfl)
theorem dX1_steps_9 : decode cX1_steps 9 = .ok (.istore 4, 2) := dk_54 4 (dk_at dksX1_steps_0 9 rfl rfl)
theorem dX1_steps_11 : decode cX1_steps 11 = .ok (.iload 4, 2) := dk_21 4 (dk_at dksX1_steps_0 11 rfl rfl)
theorem dX1_steps_13 : decode cX1_steps 13 = .ok (.iload_n 2, 1) := dk_28 (dk_at dksX1_steps_0 13 rfl rfl)
theorem dX1_steps_14 : decode cX1_steps 14 = .ok (.ishr, 1) := dk_122 (dk_at dksX1_steps_0 14 rfl rfl)
theorem dX1_steps_15 : decode cX1_steps 15 = .ok (.iconst 1, 1) := dk_4 (dk_at dksX1_steps_0 15 rfl rfl)
theorem dX1_steps_16 : decode cX1_steps 16 = .ok (.iand, 1) := dk_126 (dk_at dksX1_steps_0 16 rfl rfl)
theorem dX1_steps_17 : decode cX1_steps 17 = .ok (.ifCond .ne 33, 3) := dk_154 0 33 (dk_at dksX1_steps_0 17 rfl rfl)
theorem dX1_steps_20 : decode cX1_steps 20 = .ok (.aload_n 0, 1) := dk_42 (dk_at dksX1_steps_0 20 rfl rfl)
theorem dX1_steps_21 : decode cX1_steps 21 = .ok (.iload 4, 2) := dk_21 4 (dk_at dksX1_steps_0 21 rfl rfl)
theorem dX1_steps_23 : decode cX1_steps 23 = .ok (.invokevirtual 149, 3) := dk_182 0 149 (dk_at dksX1_steps_1 0 rfl rfl)
theorem dX1_steps_26 : decode cX1_steps 26 = .ok (.astore 5, 2) := dk_58 5 (dk_at dksX1_steps_1 3 rfl rfl)
theorem dX1_steps_28 : decode cX1_steps 28 = .ok (.aload_n 3, 1) := dk_45 (dk_at dksX1_steps_1 5 rfl rfl)
theorem dX1_steps_29 : decode cX1_steps 29 = .ok (.aload 5, 2) := dk_25 5 (dk_at dksX1_steps_1 6 rfl rfl)
theorem dX1_steps_31 : decode cX1_steps 31 = .ok (.invokevirtual 121, 3) := dk_182 0 121 (dk_at dksX1_steps_1 8 rfl rfl)
theorem dX1_steps_34 : decode cX1_steps 34 = .ok (.pop, 1) := dk_87 (dk_at dksX1_steps_1 11 rfl rfl)
theorem dX1_steps_35 : decode cX1_steps 35 = .ok (.iload 4, 2) := dk_21 4 (dk_at dksX1_steps_1 12 rfl rfl)
theorem dX1_steps_37 : decode cX1_steps 37 = .ok (.iconst 1, 1) := dk_4 (dk_at dksX1_steps_1 14 rfl rfl)
theorem dX1_steps_38 : decode cX1_steps 38 = .ok (.aload 5, 2) := dk_25 5 (dk_at dksX1_steps_1 15 rfl rfl)
theorem dX1_steps_40 : decode cX1_steps 40 = .ok (.getfield 157, 3) := dk_180 0 157 (dk_at dksX1_steps_1 17 rfl rfl)
theorem dX1_steps_43 : decode cX1_steps 43 = .ok (.ishl, 1) := dk_120 (dk_at dksX1_steps_1 20 rfl rfl)
theorem dX1_steps_44 : decode cX1_steps 44 = .ok (.ior, 1) := dk_128 (dk_at dksX1_steps_1 21 rfl rfl)
theorem dX1_steps_45 : decode cX1_steps 45 = .ok (.istore 4, 2) := dk_54 4 (dk_at dksX1_steps_1 22 rfl rfl)
theorem dX1_steps_47 : decode cX1_steps 47 = .ok (.goto (-36), 3) := dk_167 255 220 (dk_at dksX1_steps_2 0 rfl rfl)
theorem dX1_steps_50 : decode cX1_steps 50 = .ok (.aload_n 3, 1) := dk_45 (dk_at dksX1_steps_2 3 rfl rfl)
theorem dX1_steps_51 : decode cX1_steps 51 = .ok (.areturn, 1) := dk_176 (dk_at dksX1_steps_2 4 rfl rfl)
abbrev cX1_known : ByteArray := prog_1_method_26_code
def yX1_known : MethodName := ⟨RX1, "known", "(II)I"⟩
def dkwX1_known_1 : List UInt8 := [167, 0, 4, 3, 184, 0, 65, 42, 27, 28, 182, 0, 177, 172]
abbrev dktX1_known_1 : List UInt8 := dkwX1_known_1 ++ []
def dkwX1_known_0 : List UInt8 := [42, 180, 0, 19, 27, 184, 0, 125, 87, 42, 180, 0, 19, 28, 184, 0, 125, 87, 27, 28, 159, 0, 7, 4]
abbrev dktX1_known_0 : List UInt8 := dkwX1_known_0 ++ dktX1_known_1
theorem dksX1_known_0 : cX1_known.data.toList.drop 0 = dktX1_known_0 := by decide +kernel
theorem dksX1_known_1 : cX1_known.data.toList.drop 24 = dktX1_known_1 := dk_seg dksX1_known_0 24 rfl rfl
theorem dX1_known_0 : decode cX1_known 0 = .ok (.aload_n 0, 1) := dk_42 (dk_at dksX1_known_0 0 rfl rfl)
theorem dX1_known_1 : decode cX1_known 1 = .ok (.getfield 19, 3) := dk_180 0 19 (dk_at dksX1_known_0 1 rfl rfl)
theorem dX1_known_4 : decode cX1_known 4 = .ok (.iload_n 1, 1) := dk_27 (dk_at dksX1_known_0 4 rfl rfl)
theorem dX1_known_5 : decode cX1_known 5 = .ok (.invokestatic 125, 3) := dk_184 0 125 (dk_at dksX1_known_0 5 rfl rfl)
theorem dX1_known_8 : decode cX1_known 8 = .ok (.pop, 1) := dk_87 (dk_at dksX1_known_0 8 rfl rfl)
theorem dX1_known_9 : decode cX1_known 9 = .ok (.aload_n 0, 1) := dk_42 (dk_at dksX1_known_0 9 rfl rfl)
theorem dX1_known_10 : decode cX1_known 10 = .ok (.getfield 19, 3) := dk_180 0 19 (dk_at dksX1_known_0 10 rfl rfl)
theorem dX1_known_13 : decode cX1_known 13 = .ok (.iload_n 2, 1) := dk_28 (dk_at dksX1_known_0 13 rfl rfl)
theorem dX1_known_14 : decode cX1_known 14 = .ok (.invokestatic 125, 3) := dk_184 0 125 (dk_at dksX1_known_0 14 rfl rfl)
theorem dX1_known_17 : decode cX1_known 17 = .ok (.pop, 1) := dk_87 (dk_at dksX1_known_0 17 rfl rfl)
theorem dX1_known_18 : decode cX1_known 18 = .ok (.iload_n 1, 1) := dk_27 (dk_at dksX1_known_0 18 rfl rfl)
theorem dX1_known_19 : decode cX1_known 19 = .ok (.iload_n 2, 1) := dk_28 (dk_at dksX1_known_0 19 rfl rfl)
theorem dX1_known_20 : decode cX1_known 20 = .ok (.if_icmp .eq 7, 3) := dk_159 0 7 (dk_at dksX1_known_0 20 rfl rfl)
theorem dX1_known_23 : decode cX1_known 23 = .ok (.iconst 1, 1) := dk_4 (dk_at dksX1_known_0 23 rfl rfl)
theorem dX1_known_24 : decode cX1_known 24 = .ok (.goto 4, 3) := dk_167 0 4 (dk_at dksX1_known_1 0 rfl rfl)
theorem dX1_known_27 : decode cX1_known 27 = .ok (.iconst 0, 1) := dk_3 (dk_at dksX1_known_1 3 rfl rfl)
theorem dX1_known_28 : decode cX1_known 28 = .ok (.invokestatic 65, 3) := dk_184 0 65 (dk_at dksX1_known_1 4 rfl rfl)
theorem dX1_known_31 : decode cX1_known 31 = .ok (.aload_n 0, 1) := dk_42 (dk_at dksX1_known_1 7 rfl rfl)
theorem dX1_known_32 : decode cX1_known 32 = .ok (.iload_n 1, 1) := dk_27 (dk_at dksX1_known_1 8 rfl rfl)
theorem dX1_known_33 : decode cX1_known 33 = .ok (.iload_n 2, 1) := dk_28 (dk_at dksX1_known_1 9 rfl rfl)
theorem dX1_known_34 : decode cX1_known 34 = .ok (.invokevirtual 177, 3) := dk_182 0 177 (dk_at dksX1_known_1 10 rfl rfl)
theorem dX1_known_37 : decode cX1_known 37 = .ok (.ireturn, 1) := dk_172 (dk_at dksX1_known_1 13 rfl rfl)
abbrev cX1_least : ByteArray := prog_1_method_28_code
def yX1_least : MethodName := ⟨RX1, "least", "(II)I"⟩
def dkwX1_least_2 : List UInt8 := [182, 0, 140, 54, 4, 42, 21, 4, 27, 182, 0, 163, 153, 0, 6, 21, 4, 172, 167, 255, 220, 2, 172]
abbrev dktX1_least_2 : List UInt8 := dkwX1_least_2 ++ []
def dkwX1_least_1 : List UInt8 := [183, 0, 183, 78, 45, 185, 0, 185, 1, 0, 153, 0, 33, 45, 185, 0, 191, 1, 0, 192, 0, 138]
abbrev dktX1_least_1 : List UInt8 := dkwX1_least_1 ++ dktX1_least_2
def dkwX1_least_0 : List UInt8 := [42, 180, 0, 19, 27, 184, 0, 125, 87, 42, 28, 182, 0, 129, 184, 0, 65, 187, 0, 181, 89, 28]
abbrev dktX1_least_0 : List UInt8 := dkwX1_least_0 ++ dktX1_least_1
theorem dksX1_least_0 : cX1_least.data.toList.drop 0 = dktX1_least_0 := by decide +kernel
theorem dksX1_least_1 : cX1_least.data.toList.drop 22 = dktX1_least_1 := dk_seg dksX1_least_0 22 rfl rfl
theorem dksX1_least_2 : cX1_least.data.toList.drop 44 = dktX1_least_2 := dk_seg dksX1_least_1 22 rfl rfl
theorem dX1_least_0 : decode cX1_least 0 = .ok (.aload_n 0, 1) := dk_42 (dk_at dksX1_least_0 0 rfl rfl)
theorem dX1_least_1 : decode cX1_least 1 = .ok (.getfield 19, 3) := dk_180 0 19 (dk_at dksX1_least_0 1 rfl rfl)
theorem dX1_least_4 : decode cX1_least 4 = .ok (.iload_n 1, 1) := dk_27 (dk_at dksX1_least_0 4 rfl rfl)
theorem dX1_least_5 : decode cX1_least 5 = .ok (.invokestatic 125, 3) := dk_184 0 125 (dk_at dksX1_least_0 5 rfl rfl)
theorem dX1_least_8 : decode cX1_least 8 = .ok (.pop, 1) := dk_87 (dk_at dksX1_least_0 8 rfl rfl)
theorem dX1_least_9 : decode cX1_least 9 = .ok (.aload_n 0, 1) := dk_42 (dk_at dksX1_least_0 9 rfl rfl)
theorem dX1_least_10 : decode cX1_least 10 = .ok (.iload_n 2, 1) := dk_28 (dk_at dksX1_least_0 10 rfl rfl)
theorem dX1_least_11 : decode cX1_least 11 = .ok (.invokevirtual 129, 3) := dk_182 0 129 (dk_at dksX1_least_0 11 rfl rfl)
theorem dX1_least_14 : decode cX1_least 14 = .ok (.invokestatic 65, 3) := dk_184 0 65 (dk_at dksX1_least_0 14 rfl rfl)
theorem dX1_least_17 : decode cX1_least 17 = .ok (.new 181, 3) := dk_187 0 181 (dk_at dksX1_least_0 17 rfl rfl)
theorem dX1_least_20 : decode cX1_least 20 = .ok (.dup, 1) := dk_89 (dk_at dksX1_least_0 20 rfl rfl)
theorem dX1_least_21 : decode cX1_least 21 = .ok (.iload_n 2, 1) := dk_28 (dk_at dksX1_least_0 21 rfl rfl)
theorem dX1_least_22 : decode cX1_least 22 = .ok (.invokespecial 183, 3) := dk_183 0 183 (dk_at dksX1_least_1 0 rfl rfl)
theorem dX1_least_25 : decode cX1_least 25 = .ok (.astore_n 3, 1) := dk_78 (dk_at dksX1_least_1 3 rfl rfl)
theorem dX1_least_26 : decode cX1_least 26 = .ok (.aload_n 3, 1) := dk_45 (dk_at dksX1_least_1 4 rfl rfl)
theorem dX1_least_27 : decode cX1_least 27 = .ok (.invokeinterface 185 1, 5) := by decide +kernel
theorem dX1_least_32 : decode cX1_least 32 = .ok (.ifCond .eq 33, 3) := dk_153 0 33 (dk_at dksX1_least_1 10 rfl rfl)
theorem dX1_least_35 : decode cX1_least 35 = .ok (.aload_n 3, 1) := dk_45 (dk_at dksX1_least_1 13 rfl rfl)
theorem dX1_least_36 : decode cX1_least 36 = .ok (.invokeinterface 191 1, 5) := by decide +kernel
theorem dX1_least_41 : decode cX1_least 41 = .ok (.checkcast 138, 3) := dk_192 0 138 (dk_at dksX1_least_1 19 rfl rfl)
theorem dX1_least_44 : decode cX1_least 44 = .ok (.invokevirtual 140, 3) := dk_182 0 140 (dk_at dksX1_least_2 0 rfl rfl)
theorem dX1_least_47 : decode cX1_least 47 = .ok (.istore 4, 2) := dk_54 4 (dk_at dksX1_least_2 3 rfl rfl)
theorem dX1_least_49 : decode cX1_least 49 = .ok (.aload_n 0, 1) := dk_42 (dk_at dksX1_least_2 5 rfl rfl)
theorem dX1_least_50 : decode cX1_least 50 = .ok (.iload 4, 2) := dk_21 4 (dk_at dksX1_least_2 6 rfl rfl)
theorem dX1_least_52 : decode cX1_least 52 = .ok (.iload_n 1, 1) := dk_27 (dk_at dksX1_least_2 8 rfl rfl)
theorem dX1_least_53 : decode cX1_least 53 = .ok (.invokevirtual 163, 3) := dk_182 0 163 (dk_at dksX1_least_2 9 rfl rfl)
theorem dX1_least_56 : decode cX1_least 56 = .ok (.ifCond .eq 6, 3) := dk_153 0 6 (dk_at dksX1_least_2 12 rfl rfl)
theorem dX1_least_59 : decode cX1_least 59 = .ok (.iload 4, 2) := dk_21 4 (dk_at dksX1_least_2 15 rfl rfl)
theorem dX1_least_61 : decode cX1_least 61 = .ok (.ireturn, 1) := dk_172 (dk_at dksX1_least_2 17 rfl rfl)
theorem dX1_least_62 : decode cX1_least 62 = .ok (.goto (-36), 3) := dk_167 255 220 (dk_at dksX1_least_2 18 rfl rfl)
theorem dX1_least_65 : decode cX1_least 65 = .ok (.iconst (-1), 1) := dk_2 (dk_at dksX1_least_2 21 rfl rfl)
theorem dX1_least_66 : decode cX1_least 66 = .ok (.ireturn, 1) := dk_172 (dk_at dksX1_least_2 22 rfl rfl)
abbrev cX1_leastAnew : ByteArray := prog_1_method_29_code
def yX1_leastAnew : MethodName := ⟨RX1, "leastAnew", "(II)I"⟩
def dkwX1_leastAnew_2 : List UInt8 := [21, 4, 182, 0, 199, 132, 4, 1, 167, 255, 232, 45, 180, 0, 202, 172]
abbrev dktX1_leastAnew_2 : List UInt8 := dkwX1_leastAnew_2 ++ []
def dkwX1_leastAnew_1 : List UInt8 := [183, 0, 196, 78, 3, 54, 4, 21, 4, 28, 163, 0, 24, 21, 4, 28, 2, 130, 126, 154, 0, 9, 45]
abbrev dktX1_leastAnew_1 : List UInt8 := dkwX1_leastAnew_1 ++ dktX1_leastAnew_2
def dkwX1_leastAnew_0 : List UInt8 := [42, 180, 0, 19, 27, 184, 0, 125, 87, 42, 28, 182, 0, 129, 184, 0, 65, 187, 0, 194, 89, 42, 27]
abbrev dktX1_leastAnew_0 : List UInt8 := dkwX1_leastAnew_0 ++ dktX1_leastAnew_1
theorem dksX1_leastAnew_0 : cX1_leastAnew.data.toList.drop 0 = dktX1_leastAnew_0 := by decide +kernel
theorem dksX1_leastAnew_1 : cX1_leastAnew.data.toList.drop 23 = dktX1_leastAnew_1 := dk_seg dksX1_leastAnew_0 23 rfl rfl
theorem dksX1_leastAnew_2 : cX1_leastAnew.data.toList.drop 46 = dktX1_leastAnew_2 := dk_seg dksX1_leastAnew_1 23 rfl rfl
theorem dX1_leastAnew_0 : decode cX1_leastAnew 0 = .ok (.aload_n 0, 1) := dk_42 (dk_at dksX1_leastAnew_0 0 rfl rfl)
theorem dX1_leastAnew_1 : decode cX1_leastAnew 1 = .ok (.getfield 19, 3) := dk_180 0 19 (dk_at dksX1_leastAnew_0 1 rfl rfl)
theorem dX1_leastAnew_4 : decode cX1_leastAnew 4 = .ok (.iload_n 1, 1) := dk_27 (dk_at dksX1_leastAnew_0 4 rfl rfl)
theorem dX1_leastAnew_5 : decode cX1_leastAnew 5 = .ok (.invokestatic 125, 3) := dk_184 0 125 (dk_at dksX1_leastAnew_0 5 rfl rfl)
theorem dX1_leastAnew_8 : decode cX1_leastAnew 8 = .ok (.pop, 1) := dk_87 (dk_at dksX1_leastAnew_0 8 rfl rfl)
theorem dX1_leastAnew_9 : decode cX1_leastAnew 9 = .ok (.aload_n 0, 1) := dk_42 (dk_at dksX1_leastAnew_0 9 rfl rfl)
theorem dX1_leastAnew_10 : decode cX1_leastAnew 10 = .ok (.iload_n 2, 1) := dk_28 (dk_at dksX1_leastAnew_0 10 rfl rfl)
theorem dX1_leastAnew_11 : decode cX1_leastAnew 11 = .ok (.invokevirtual 129, 3) := dk_182 0 129 (dk_at dksX1_leastAnew_0 11 rfl rfl)
theorem dX1_leastAnew_14 : decode cX1_leastAnew 14 = .ok (.invokestatic 65, 3) := dk_184 0 65 (dk_at dksX1_leastAnew_0 14 rfl rfl)
theorem dX1_leastAnew_17 : decode cX1_leastAnew 17 = .ok (.new 194, 3) := dk_187 0 194 (dk_at dksX1_leastAnew_0 17 rfl rfl)
theorem dX1_leastAnew_20 : decode cX1_leastAnew 20 = .ok (.dup, 1) := dk_89 (dk_at dksX1_leastAnew_0 20 rfl rfl)
theorem dX1_leastAnew_21 : decode cX1_leastAnew 21 = .ok (.aload_n 0, 1) := dk_42 (dk_at dksX1_leastAnew_0 21 rfl rfl)
theorem dX1_leastAnew_22 : decode cX1_leastAnew 22 = .ok (.iload_n 1, 1) := dk_27 (dk_at dksX1_leastAnew_0 22 rfl rfl)
theorem dX1_leastAnew_23 : decode cX1_leastAnew 23 = .ok (.invokespecial 196, 3) := dk_183 0 196 (dk_at dksX1_leastAnew_1 0 rfl rfl)
theorem dX1_leastAnew_26 : decode cX1_leastAnew 26 = .ok (.astore_n 3, 1) := dk_78 (dk_at dksX1_leastAnew_1 3 rfl rfl)
theorem dX1_leastAnew_27 : decode cX1_leastAnew 27 = .ok (.iconst 0, 1) := dk_3 (dk_at dksX1_leastAnew_1 4 rfl rfl)
theorem dX1_leastAnew_28 : decode cX1_leastAnew 28 = .ok (.istore 4, 2) := dk_54 4 (dk_at dksX1_leastAnew_1 5 rfl rfl)
theorem dX1_leastAnew_30 : decode cX1_leastAnew 30 = .ok (.iload 4, 2) := dk_21 4 (dk_at dksX1_leastAnew_1 7 rfl rfl)
theorem dX1_leastAnew_32 : decode cX1_leastAnew 32 = .ok (.iload_n 2, 1) := dk_28 (dk_at dksX1_leastAnew_1 9 rfl rfl)
theorem dX1_leastAnew_33 : decode cX1_leastAnew 33 = .ok (.if_icmp .gt 24, 3) := dk_163 0 24 (dk_at dksX1_leastAnew_1 10 rfl rfl)
theorem dX1_leastAnew_36 : decode cX1_leastAnew 36 = .ok (.iload 4, 2) := dk_21 4 (dk_at dksX1_leastAnew_1 13 rfl rfl)
theorem dX1_leastAnew_38 : decode cX1_leastAnew 38 = .ok (.iload_n 2, 1) := dk_28 (dk_at dksX1_leastAnew_1 15 rfl rfl)
theorem dX1_leastAnew_39 : decode cX1_leastAnew 39 = .ok (.iconst (-1), 1) := dk_2 (dk_at dksX1_leastAnew_1 16 rfl rfl)
theorem dX1_leastAnew_40 : decode cX1_leastAnew 40 = .ok (.ixor, 1) := dk_130 (dk_at dksX1_leastAnew_1 17 rfl rfl)
theorem dX1_leastAnew_41 : decode cX1_leastAnew 41 = .ok (.iand, 1) := dk_126 (dk_at dksX1_leastAnew_1 18 rfl rfl)
theorem dX1_leastAnew_42 : decode cX1_leastAnew 42 = .ok (.ifCond .ne 9, 3) := dk_154 0 9 (dk_at dksX1_leastAnew_1 19 rfl rfl)
theorem dX1_leastAnew_45 : decode cX1_leastAnew 45 = .ok (.aload_n 3, 1) := dk_45 (dk_at dksX1_leastAnew_1 22 rfl rfl)
theorem dX1_leastAnew_46 : decode cX1_leastAnew 46 = .ok (.iload 4, 2) := dk_21 4 (dk_at dksX1_leastAnew_2 0 rfl rfl)
theorem dX1_leastAnew_48 : decode cX1_leastAnew 48 = .ok (.invokevirtual 199, 3) := dk_182 0 199 (dk_at dksX1_leastAnew_2 2 rfl rfl)
theorem dX1_leastAnew_51 : decode cX1_leastAnew 51 = .ok (.iinc 4 1, 3) := dk_132 4 1 (dk_at dksX1_leastAnew_2 5 rfl rfl)
theorem dX1_leastAnew_54 : decode cX1_leastAnew 54 = .ok (.goto (-24), 3) := dk_167 255 232 (dk_at dksX1_leastAnew_2 8 rfl rfl)
theorem dX1_leastAnew_57 : decode cX1_leastAnew 57 = .ok (.aload_n 3, 1) := dk_45 (dk_at dksX1_leastAnew_2 11 rfl rfl)
theorem dX1_leastAnew_58 : decode cX1_leastAnew 58 = .ok (.getfield 202, 3) := dk_180 0 202 (dk_at dksX1_leastAnew_2 12 rfl rfl)
theorem dX1_leastAnew_61 : decode cX1_leastAnew 61 = .ok (.ireturn, 1) := dk_172 (dk_at dksX1_leastAnew_2 15 rfl rfl)
abbrev cX1_ofPrinciple : ByteArray := prog_1_method_32_code
def yX1_ofPrinciple : MethodName := ⟨RX1, "ofPrinciple", "(II)I"⟩
def dkwX1_ofPrinciple_3 : List UInt8 := [182, 0, 212, 172]
abbrev dktX1_ofPrinciple_3 : List UInt8 := dkwX1_ofPrinciple_3 ++ []
def dkwX1_ofPrinciple_2 : List UInt8 := [45, 180, 0, 205, 167, 0, 23, 45, 180, 0, 207, 167, 0, 16, 42, 27, 182, 0, 209, 167, 0, 8, 42, 27]
abbrev dktX1_ofPrinciple_2 : List UInt8 := dkwX1_ofPrinciple_2 ++ dktX1_ofPrinciple_3
def dkwX1_ofPrinciple_1 : List UInt8 := [170, 0, 0, 0, 0, 48, 0, 0, 0, 0, 0, 0, 0, 2, 0, 0, 0, 26, 0, 0, 0, 33, 0, 0, 0, 40]
abbrev dktX1_ofPrinciple_1 : List UInt8 := dkwX1_ofPrinciple_1 ++ dktX1_ofPrinciple_2
def dkwX1_ofPrinciple_0 : List UInt8 := [42, 180, 0, 19, 27, 184, 0, 125, 192, 0, 116, 78, 28, 3, 6, 184, 0, 45, 184, 0, 65, 28]
abbrev dktX1_ofPrinciple_0 : List UInt8 := dkwX1_ofPrinciple_0 ++ dktX1_ofPrinciple_1
theorem dksX1_ofPrinciple_0 : cX1_ofPrinciple.data.toList.drop 0 = dktX1_ofPrinciple_0 := by decide +kernel
theorem dksX1_ofPrinciple_1 : cX1_ofPrinciple.data.toList.drop 22 = dktX1_ofPrinciple_1 := dk_seg dksX1_ofPrinciple_0 22 rfl rfl
theorem dksX1_ofPrinciple_2 : cX1_ofPrinciple.data.toList.drop 48 = dktX1_ofPrinciple_2 := dk_seg dksX1_ofPrinciple_1 26 rfl rfl
theorem dksX1_ofPrinciple_3 : cX1_ofPrinciple.data.toList.drop 72 = dktX1_ofPrinciple_3 := dk_seg dksX1_ofPrinciple_2 24 rfl rfl
theorem dX1_ofPrinciple_0 : decode cX1_ofPrinciple 0 = .ok (.aload_n 0, 1) := dk_42 (dk_at dksX1_ofPrinciple_0 0 rfl rfl)
theorem dX1_ofPrinciple_1 : decode cX1_ofPrinciple 1 = .ok (.getfield 19, 3) := dk_180 0 19 (dk_at dksX1_ofPrinciple_0 1 rfl rfl)
theorem dX1_ofPrinciple_4 : decode cX1_ofPrinciple 4 = .ok (.iload_n 1, 1) := dk_27 (dk_at dksX1_ofPrinciple_0 4 rfl rfl)
theorem dX1_ofPrinciple_5 : decode cX1_ofPrinciple 5 = .ok (.invokestatic 125, 3) := dk_184 0 125 (dk_at dksX1_ofPrinciple_0 5 rfl rfl)
theorem dX1_ofPrinciple_8 : decode cX1_ofPrinciple 8 = .ok (.checkcast 116, 3) := dk_192 0 116 (dk_at dksX1_ofPrinciple_0 8 rfl rfl)
theorem dX1_ofPrinciple_11 : decode cX1_ofPrinciple 11 = .ok (.astore_n 3, 1) := dk_78 (dk_at dksX1_ofPrinciple_0 11 rfl rfl)
theorem dX1_ofPrinciple_12 : decode cX1_ofPrinciple 12 = .ok (.iload_n 2, 1) := dk_28 (dk_at dksX1_ofPrinciple_0 12 rfl rfl)
theorem dX1_ofPrinciple_13 : decode cX1_ofPrinciple 13 = .ok (.iconst 0, 1) := dk_3 (dk_at dksX1_ofPrinciple_0 13 rfl rfl)
theorem dX1_ofPrinciple_14 : decode cX1_ofPrinciple 14 = .ok (.iconst 3, 1) := dk_6 (dk_at dksX1_ofPrinciple_0 14 rfl rfl)
theorem dX1_ofPrinciple_15 : decode cX1_ofPrinciple 15 = .ok (.invokestatic 45, 3) := dk_184 0 45 (dk_at dksX1_ofPrinciple_0 15 rfl rfl)
theorem dX1_ofPrinciple_18 : decode cX1_ofPrinciple 18 = .ok (.invokestatic 65, 3) := dk_184 0 65 (dk_at dksX1_ofPrinciple_0 18 rfl rfl)
theorem dX1_ofPrinciple_21 : decode cX1_ofPrinciple 21 = .ok (.iload_n 2, 1) := dk_28 (dk_at dksX1_ofPrinciple_0 21 rfl rfl)
theorem dX1_ofPrinciple_22 : decode cX1_ofPrinciple 22 = .ok (.tableswitch 48 0 2 #[26, 33, 40], 26) := by decide +kernel
theorem dX1_ofPrinciple_48 : decode cX1_ofPrinciple 48 = .ok (.aload_n 3, 1) := dk_45 (dk_at dksX1_ofPrinciple_2 0 rfl rfl)
theorem dX1_ofPrinciple_49 : decode cX1_ofPrinciple 49 = .ok (.getfield 205, 3) := dk_180 0 205 (dk_at dksX1_ofPrinciple_2 1 rfl rfl)
theorem dX1_ofPrinciple_52 : decode cX1_ofPrinciple 52 = .ok (.goto 23, 3) := dk_167 0 23 (dk_at dksX1_ofPrinciple_2 4 rfl rfl)
theorem dX1_ofPrinciple_55 : decode cX1_ofPrinciple 55 = .ok (.aload_n 3, 1) := dk_45 (dk_at dksX1_ofPrinciple_2 7 rfl rfl)
theorem dX1_ofPrinciple_56 : decode cX1_ofPrinciple 56 = .ok (.getfield 207, 3) := dk_180 0 207 (dk_at dksX1_ofPrinciple_2 8 rfl rfl)
theorem dX1_ofPrinciple_59 : decode cX1_ofPrinciple 59 = .ok (.goto 16, 3) := dk_167 0 16 (dk_at dksX1_ofPrinciple_2 11 rfl rfl)
theorem dX1_ofPrinciple_62 : decode cX1_ofPrinciple 62 = .ok (.aload_n 0, 1) := dk_42 (dk_at dksX1_ofPrinciple_2 14 rfl rfl)
theorem dX1_ofPrinciple_63 : decode cX1_ofPrinciple 63 = .ok (.iload_n 1, 1) := dk_27 (dk_at dksX1_ofPrinciple_2 15 rfl rfl)
theorem dX1_ofPrinciple_64 : decode cX1_ofPrinciple 64 = .ok (.invokevirtual 209, 3) := dk_182 0 209 (dk_at dksX1_ofPrinciple_2 16 rfl rfl)
theorem dX1_ofPrinciple_67 : decode cX1_ofPrinciple 67 = .ok (.goto 8, 3) := dk_167 0 8 (dk_at dksX1_ofPrinciple_2 19 rfl rfl)
theorem dX1_ofPrinciple_70 : decode cX1_ofPrinciple 70 = .ok (.aload_n 0, 1) := dk_42 (dk_at dksX1_ofPrinciple_2 22 rfl rfl)
theorem dX1_ofPrinciple_71 : decode cX1_ofPrinciple 71 = .ok (.iload_n 1, 1) := dk_27 (dk_at dksX1_ofPrinciple_2 23 rfl rfl)
theorem dX1_ofPrinciple_72 : decode cX1_ofPrinciple 72 = .ok (.invokevirtual 212, 3) := dk_182 0 212 (dk_at dksX1_ofPrinciple_3 0 rfl rfl)
theorem dX1_ofPrinciple_75 : decode cX1_ofPrinciple 75 = .ok (.ireturn, 1) := dk_172 (dk_at dksX1_ofPrinciple_3 3 rfl rfl)
abbrev cX1_concluding : ByteArray := prog_1_method_30_code
def yX1_concluding : MethodName := ⟨RX1, "concluding", "(I)I"⟩
def dkwX1_concluding_2 : List UInt8 := [172]
abbrev dktX1_concluding_2 : List UInt8 := dkwX1_concluding_2 ++ []
def dkwX1_concluding_1 : List UInt8 := [192, 0, 133, 180, 0, 157, 27, 160, 0, 7, 4, 167, 0, 4, 3, 96, 61, 132, 3, 1, 167, 255, 216, 28]
abbrev dktX1_concluding_1 : List UInt8 := dkwX1_concluding_1 ++ dktX1_concluding_2
def dkwX1_concluding_0 : List UInt8 := [3, 61, 3, 62, 29, 42, 180, 0, 23, 182, 0, 41, 162, 0, 35, 28, 42, 180, 0, 23, 29, 182, 0, 53]
abbrev dktX1_concluding_0 : List UInt8 := dkwX1_concluding_0 ++ dktX1_concluding_1
theorem dksX1_concluding_0 : cX1_concluding.data.toList.drop 0 = dktX1_concluding_0 := by decide +kernel
theorem dksX1_concluding_1 : cX1_concluding.data.toList.drop 24 = dktX1_concluding_1 := dk_seg dksX1_concluding_0 24 rfl rfl
theorem dksX1_concluding_2 : cX1_concluding.data.toList.drop 48 = dktX1_concluding_2 := dk_seg dksX1_concluding_1 24 rfl rfl
theorem dX1_concluding_0 : decode cX1_concluding 0 = .ok (.iconst 0, 1) := dk_3 (dk_at dksX1_concluding_0 0 rfl rfl)
theorem dX1_concluding_1 : decode cX1_concluding 1 = .ok (.istore_n 2, 1) := dk_61 (dk_at dksX1_concluding_0 1 rfl rfl)
theorem dX1_concluding_2 : decode cX1_concluding 2 = .ok (.iconst 0, 1) := dk_3 (dk_at dksX1_concluding_0 2 rfl rfl)
theorem dX1_concluding_3 : decode cX1_concluding 3 = .ok (.istore_n 3, 1) := dk_62 (dk_at dksX1_concluding_0 3 rfl rfl)
theorem dX1_concluding_4 : decode cX1_concluding 4 = .ok (.iload_n 3, 1) := dk_29 (dk_at dksX1_concluding_0 4 rfl rfl)
theorem dX1_concluding_5 : decode cX1_concluding 5 = .ok (.aload_n 0, 1) := dk_42 (dk_at dksX1_concluding_0 5 rfl rfl)
theorem dX1_concluding_6 : decode cX1_concluding 6 = .ok (.getfield 23, 3) := dk_180 0 23 (dk_at dksX1_concluding_0 6 rfl rfl)
theorem dX1_concluding_9 : decode cX1_concluding 9 = .ok (.invokevirtual 41, 3) := dk_182 0 41 (dk_at dksX1_concluding_0 9 rfl rfl)
theorem dX1_concluding_12 : decode cX1_concluding 12 = .ok (.if_icmp .ge 35, 3) := dk_162 0 35 (dk_at dksX1_concluding_0 12 rfl rfl)
theorem dX1_concluding_15 : decode cX1_concluding 15 = .ok (.iload_n 2, 1) := dk_28 (dk_at dksX1_concluding_0 15 rfl rfl)
theorem dX1_concluding_16 : decode cX1_concluding 16 = .ok (.aload_n 0, 1) := dk_42 (dk_at dksX1_concluding_0 16 rfl rfl)
theorem dX1_concluding_17 : decode cX1_concluding 17 = .ok (.getfield 23, 3) := dk_180 0 23 (dk_at dksX1_concluding_0 17 rfl rfl)
theorem dX1_concluding_20 : decode cX1_concluding 20 = .ok (.iload_n 3, 1) := dk_29 (dk_at dksX1_concluding_0 20 rfl rfl)
theorem dX1_concluding_21 : decode cX1_concluding 21 = .ok (.invokevirtual 53, 3) := dk_182 0 53 (dk_at dksX1_concluding_0 21 rfl rfl)
theorem dX1_concluding_24 : decode cX1_concluding 24 = .ok (.checkcast 133, 3) := dk_192 0 133 (dk_at dksX1_concluding_1 0 rfl rfl)
theorem dX1_concluding_27 : decode cX1_concluding 27 = .ok (.getfield 157, 3) := dk_180 0 157 (dk_at dksX1_concluding_1 3 rfl rfl)
theorem dX1_concluding_30 : decode cX1_concluding 30 = .ok (.iload_n 1, 1) := dk_27 (dk_at dksX1_concluding_1 6 rfl rfl)
theorem dX1_concluding_31 : decode cX1_concluding 31 = .ok (.if_icmp .ne 7, 3) := dk_160 0 7 (dk_at dksX1_concluding_1 7 rfl rfl)
theorem dX1_concluding_34 : decode cX1_concluding 34 = .ok (.iconst 1, 1) := dk_4 (dk_at dksX1_concluding_1 10 rfl rfl)
theorem dX1_concluding_35 : decode cX1_concluding 35 = .ok (.goto 4, 3) := dk_167 0 4 (dk_at dksX1_concluding_1 11 rfl rfl)
theorem dX1_concluding_38 : decode cX1_concluding 38 = .ok (.iconst 0, 1) := dk_3 (dk_at dksX1_concluding_1 14 rfl rfl)
theorem dX1_concluding_39 : decode cX1_concluding 39 = .ok (.iadd, 1) := dk_96 (dk_at dksX1_concluding_1 15 rfl rfl)
theorem dX1_concluding_40 : decode cX1_concluding 40 = .ok (.istore_n 2, 1) := dk_61 (dk_at dksX1_concluding_1 16 rfl rfl)
theorem dX1_concluding_41 : decode cX1_concluding 41 = .ok (.iinc 3 1, 3) := dk_132 3 1 (dk_at dksX1_concluding_1 17 rfl rfl)
theorem dX1_concluding_44 : decode cX1_concluding 44 = .ok (.goto (-40), 3) := dk_167 255 216 (dk_at dksX1_concluding_1 20 rfl rfl)
theorem dX1_concluding_47 : decode cX1_concluding 47 = .ok (.iload_n 2, 1) := dk_28 (dk_at dksX1_concluding_1 23 rfl rfl)
theorem dX1_concluding_48 : decode cX1_concluding 48 = .ok (.ireturn, 1) := dk_172 (dk_at dksX1_concluding_2 0 rfl rfl)
abbrev cX1_having : ByteArray := prog_1_method_31_code
def yX1_having : MethodName := ⟨RX1, "having", "(I)I"⟩
def dkwX1_having_1 : List UInt8 := [192, 0, 138, 182, 0, 140, 27, 122, 4, 126, 96, 61, 132, 3, 1, 167, 255, 221, 28, 172]
abbrev dktX1_having_1 : List UInt8 := dkwX1_having_1 ++ []
def dkwX1_having_0 : List UInt8 := [3, 61, 3, 62, 29, 42, 180, 0, 26, 182, 0, 41, 162, 0, 30, 28, 42, 180, 0, 26, 29, 182, 0, 53]
abbrev dktX1_having_0 : List UInt8 := dkwX1_having_0 ++ dktX1_having_1
theorem dksX1_having_0 : cX1_having.data.toList.drop 0 = dktX1_having_0 := by decide +kernel
theorem dksX1_having_1 : cX1_having.data.toList.drop 24 = dktX1_having_1 := dk_seg dksX1_having_0 24 rfl rfl
theorem dX1_having_0 : decode cX1_having 0 = .ok (.iconst 0, 1) := dk_3 (dk_at dksX1_having_0 0 rfl rfl)
theorem dX1_having_1 : decode cX1_having 1 = .ok (.istore_n 2, 1) := dk_61 (dk_at dksX1_having_0 1 rfl rfl)
theorem dX1_having_2 : decode cX1_having 2 = .ok (.iconst 0, 1) := dk_3 (dk_at dksX1_having_0 2 rfl rfl)
theorem dX1_having_3 : decode cX1_having 3 = .ok (.istore_n 3, 1) := dk_62 (dk_at dksX1_having_0 3 rfl rfl)
theorem dX1_having_4 : decode cX1_having 4 = .ok (.iload_n 3, 1) := dk_29 (dk_at dksX1_having_0 4 rfl rfl)
theorem dX1_having_5 : decode cX1_having 5 = .ok (.aload_n 0, 1) := dk_42 (dk_at dksX1_having_0 5 rfl rfl)
theorem dX1_having_6 : decode cX1_having 6 = .ok (.getfield 26, 3) := dk_180 0 26 (dk_at dksX1_having_0 6 rfl rfl)
theorem dX1_having_9 : decode cX1_having 9 = .ok (.invokevirtual 41, 3) := dk_182 0 41 (dk_at dksX1_having_0 9 rfl rfl)
theorem dX1_having_12 : decode cX1_having 12 = .ok (.if_icmp .ge 30, 3) := dk_162 0 30 (dk_at dksX1_having_0 12 rfl rfl)
theorem dX1_having_15 : decode cX1_having 15 = .ok (.iload_n 2, 1) := dk_28 (dk_at dksX1_having_0 15 rfl rfl)
theorem dX1_having_16 : decode cX1_having 16 = .ok (.aload_n 0, 1) := dk_42 (dk_at dksX1_having_0 16 rfl rfl)
theorem dX1_having_17 : decode cX1_having 17 = .ok (.getfield 26, 3) := dk_180 0 26 (dk_at dksX1_having_0 17 rfl rfl)
theorem dX1_having_20 : decode cX1_having 20 = .ok (.iload_n 3, 1) := dk_29 (dk_at dksX1_having_0 20 rfl rfl)
theorem dX1_having_21 : decode cX1_having 21 = .ok (.invokevirtual 53, 3) := dk_182 0 53 (dk_at dksX1_having_0 21 rfl rfl)
theorem dX1_having_24 : decode cX1_having 24 = .ok (.checkcast 138, 3) := dk_192 0 138 (dk_at dksX1_having_1 0 rfl rfl)
theorem dX1_having_27 : decode cX1_having 27 = .ok (.invokevirtual 140, 3) := dk_182 0 140 (dk_at dksX1_having_1 3 rfl rfl)
theorem dX1_having_30 : decode cX1_having 30 = .ok (.iload_n 1, 1) := dk_27 (dk_at dksX1_having_1 6 rfl rfl)
theorem dX1_having_31 : decode cX1_having 31 = .ok (.ishr, 1) := dk_122 (dk_at dksX1_having_1 7 rfl rfl)
theorem dX1_having_32 : decode cX1_having 32 = .ok (.iconst 1, 1) := dk_4 (dk_at dksX1_having_1 8 rfl rfl)
theorem dX1_having_33 : decode cX1_having 33 = .ok (.iand, 1) := dk_126 (dk_at dksX1_having_1 9 rfl rfl)
theorem dX1_having_34 : decode cX1_having 34 = .ok (.iadd, 1) := dk_96 (dk_at dksX1_having_1 10 rfl rfl)
theorem dX1_having_35 : decode cX1_having 35 = .ok (.istore_n 2, 1) := dk_61 (dk_at dksX1_having_1 11 rfl rfl)
theorem dX1_having_36 : decode cX1_having 36 = .ok (.iinc 3 1, 3) := dk_132 3 1 (dk_at dksX1_having_1 12 rfl rfl)
theorem dX1_having_39 : decode cX1_having 39 = .ok (.goto (-35), 3) := dk_167 255 221 (dk_at dksX1_having_1 15 rfl rfl)
theorem dX1_having_42 : decode cX1_having 42 = .ok (.iload_n 2, 1) := dk_28 (dk_at dksX1_having_1 18 rfl rfl)
theorem dX1_having_43 : decode cX1_having 43 = .ok (.ireturn, 1) := dk_172 (dk_at dksX1_having_1 19 rfl rfl)
abbrev cX1_problem : ByteArray := prog_1_method_33_code
def yX1_problem : MethodName := ⟨RX1, "problem", "(III)I"⟩
def dkwX1_problem_6 : List UInt8 := [182, 0, 41, 4, 100, 172]
abbrev dktX1_problem_6 : List UInt8 := dkwX1_problem_6 ++ []
def dkwX1_problem_5 : List UInt8 := [42, 180, 0, 29, 187, 0, 215, 89, 27, 28, 29, 183, 0, 217, 182, 0, 121, 87, 42, 180, 0, 29]
abbrev dktX1_problem_5 : List UInt8 := dkwX1_problem_5 ++ dktX1_problem_6
def dkwX1_problem_4 : List UInt8 := [3, 184, 0, 65, 42, 180, 0, 29, 182, 0, 41, 16, 6, 162, 0, 7, 4, 167, 0, 4, 3, 184, 0, 71]
abbrev dktX1_problem_4 : List UInt8 := dkwX1_problem_4 ++ dktX1_problem_5
def dkwX1_problem_3 : List UInt8 := [21, 6, 128, 54, 4, 132, 5, 1, 167, 255, 213, 29, 21, 4, 2, 130, 126, 154, 0, 7, 4, 167, 0, 4]
abbrev dktX1_problem_3 : List UInt8 := dkwX1_problem_3 ++ dktX1_problem_4
def dkwX1_problem_2 : List UInt8 := [7, 21, 5, 104, 120, 54, 6, 29, 21, 6, 126, 153, 0, 7, 4, 167, 0, 4, 3, 184, 0, 65, 21, 4]
abbrev dktX1_problem_2 : List UInt8 := dkwX1_problem_2 ++ dktX1_problem_3
def dkwX1_problem_1 : List UInt8 := [167, 0, 4, 3, 184, 0, 65, 3, 54, 4, 3, 54, 5, 21, 5, 27, 162, 0, 43, 4, 28, 120, 4, 100]
abbrev dktX1_problem_1 : List UInt8 := dkwX1_problem_1 ++ dktX1_problem_2
def dkwX1_problem_0 : List UInt8 := [27, 4, 7, 184, 0, 45, 153, 0, 20, 28, 4, 7, 184, 0, 45, 153, 0, 11, 29, 155, 0, 7, 4]
abbrev dktX1_problem_0 : List UInt8 := dkwX1_problem_0 ++ dktX1_problem_1
theorem dksX1_problem_0 : cX1_problem.data.toList.drop 0 = dktX1_problem_0 := by decide +kernel
theorem dksX1_problem_1 : cX1_problem.data.toList.drop 23 = dktX1_problem_1 := dk_seg dksX1_problem_0 23 rfl rfl
theorem dksX1_problem_2 : cX1_problem.data.toList.drop 47 = dktX1_problem_2 := dk_seg dksX1_problem_1 24 rfl rfl
theorem dksX1_problem_3 : cX1_problem.data.toList.drop 71 = dktX1_problem_3 := dk_seg dksX1_problem_2 24 rfl rfl
theorem dksX1_problem_4 : cX1_problem.data.toList.drop 95 = dktX1_problem_4 := dk_seg dksX1_problem_3 24 rfl rfl
theorem dksX1_problem_5 : cX1_problem.data.toList.drop 119 = dktX1_problem_5 := dk_seg dksX1_problem_4 24 rfl rfl
theorem dksX1_problem_6 : cX1_problem.data.toList.drop 141 = dktX1_problem_6 := dk_seg dksX1_problem_5 22 rfl rfl
theorem dX1_problem_0 : decode cX1_problem 0 = .ok (.iload_n 1, 1) := dk_27 (dk_at dksX1_problem_0 0 rfl rfl)
theorem dX1_problem_1 : decode cX1_problem 1 = .ok (.iconst 1, 1) := dk_4 (dk_at dksX1_problem_0 1 rfl rfl)
theorem dX1_problem_2 : decode cX1_problem 2 = .ok (.iconst 4, 1) := dk_7 (dk_at dksX1_problem_0 2 rfl rfl)
theorem dX1_problem_3 : decode cX1_problem 3 = .ok (.invokestatic 45, 3) := dk_184 0 45 (dk_at dksX1_problem_0 3 rfl rfl)
theorem dX1_problem_6 : decode cX1_problem 6 = .ok (.ifCond .eq 20, 3) := dk_153 0 20 (dk_at dksX1_problem_0 6 rfl rfl)
theorem dX1_problem_9 : decode cX1_problem 9 = .ok (.iload_n 2, 1) := dk_28 (dk_at dksX1_problem_0 9 rfl rfl)
theorem dX1_problem_10 : decode cX1_problem 10 = .ok (.iconst 1, 1) := dk_4 (dk_at dksX1_problem_0 10 rfl rfl)
theorem dX1_problem_11 : decode cX1_problem 11 = .ok (.iconst 4, 1) := dk_7 (dk_at dksX1_problem_0 11 rfl rfl)
theorem dX1_problem_12 : decode cX1_problem 12 = .ok (.invokestatic 45, 3) := dk_184 0 45 (dk_at dksX1_problem_0 12 rfl rfl)
theorem dX1_problem_15 : decode cX1_problem 15 = .ok (.ifCond .eq 11, 3) := dk_153 0 11 (dk_at dksX1_problem_0 15 rfl rfl)
theorem dX1_problem_18 : decode cX1_problem 18 = .ok (.iload_n 3, 1) := dk_29 (dk_at dksX1_problem_0 18 rfl rfl)
theorem dX1_problem_19 : decode cX1_problem 19 = .ok (.ifCond .lt 7, 3) := dk_155 0 7 (dk_at dksX1_problem_0 19 rfl rfl)
theorem dX1_problem_22 : decode cX1_problem 22 = .ok (.iconst 1, 1) := dk_4 (dk_at dksX1_problem_0 22 rfl rfl)
theorem dX1_problem_23 : decode cX1_problem 23 = .ok (.goto 4, 3) := dk_167 0 4 (dk_at dksX1_problem_1 0 rfl rfl)
theorem dX1_problem_26 : decode cX1_problem 26 = .ok (.iconst 0, 1) := dk_3 (dk_at dksX1_problem_1 3 rfl rfl)
theorem dX1_problem_27 : decode cX1_problem 27 = .ok (.invokestatic 65, 3) := dk_184 0 65 (dk_at dksX1_problem_1 4 rfl rfl)
theorem dX1_problem_30 : decode cX1_problem 30 = .ok (.iconst 0, 1) := dk_3 (dk_at dksX1_problem_1 7 rfl rfl)
theorem dX1_problem_31 : decode cX1_problem 31 = .ok (.istore 4, 2) := dk_54 4 (dk_at dksX1_problem_1 8 rfl rfl)
theorem dX1_problem_33 : decode cX1_problem 33 = .ok (.iconst 0, 1) := dk_3 (dk_at dksX1_problem_1 10 rfl rfl)
theorem dX1_problem_34 : decode cX1_problem 34 = .ok (.istore 5, 2) := dk_54 5 (dk_at dksX1_problem_1 11 rfl rfl)
theorem dX1_problem_36 : decode cX1_problem 36 = .ok (.iload 5, 2) := dk_21 5 (dk_at dksX1_problem_1 13 rfl rfl)
theorem dX1_problem_38 : decode cX1_problem 38 = .ok (.iload_n 1, 1) := dk_27 (dk_at dksX1_problem_1 15 rfl rfl)
theorem dX1_problem_39 : decode cX1_problem 39 = .ok (.if_icmp .ge 43, 3) := dk_162 0 43 (dk_at dksX1_problem_1 16 rfl rfl)
theorem dX1_problem_42 : decode cX1_problem 42 = .ok (.iconst 1, 1) := dk_4 (dk_at dksX1_problem_1 19 rfl rfl)
theorem dX1_problem_43 : decode cX1_problem 43 = .ok (.iload_n 2, 1) := dk_28 (dk_at dksX1_problem_1 20 rfl rfl)
theorem dX1_problem_44 : decode cX1_problem 44 = .ok (.ishl, 1) := dk_120 (dk_at dksX1_problem_1 21 rfl rfl)
theorem dX1_problem_45 : decode cX1_problem 45 = .ok (.iconst 1, 1) := dk_4 (dk_at dksX1_problem_1 22 rfl rfl)
theorem dX1_problem_46 : decode cX1_problem 46 = .ok (.isub, 1) := dk_100 (dk_at dksX1_problem_1 23 rfl rfl)
theorem dX1_problem_47 : decode cX1_problem 47 = .ok (.iconst 4, 1) := dk_7 (dk_at dksX1_problem_2 0 rfl rfl)
theorem dX1_problem_48 : decode cX1_problem 48 = .ok (.iload 5, 2) := dk_21 5 (dk_at dksX1_problem_2 1 rfl rfl)
theorem dX1_problem_50 : decode cX1_problem 50 = .ok (.imul, 1) := dk_104 (dk_at dksX1_problem_2 3 rfl rfl)
theorem dX1_problem_51 : decode cX1_problem 51 = .ok (.ishl, 1) := dk_120 (dk_at dksX1_problem_2 4 rfl rfl)
theorem dX1_problem_52 : decode cX1_problem 52 = .ok (.istore 6, 2) := dk_54 6 (dk_at dksX1_problem_2 5 rfl rfl)
theorem dX1_problem_54 : decode cX1_problem 54 = .ok (.iload_n 3, 1) := dk_29 (dk_at dksX1_problem_2 7 rfl rfl)
theorem dX1_problem_55 : decode cX1_problem 55 = .ok (.iload 6, 2) := dk_21 6 (dk_at dksX1_problem_2 8 rfl rfl)
theorem dX1_problem_57 : decode cX1_problem 57 = .ok (.iand, 1) := dk_126 (dk_at dksX1_problem_2 10 rfl rfl)
theorem dX1_problem_58 : decode cX1_problem 58 = .ok (.ifCond .eq 7, 3) := dk_153 0 7 (dk_at dksX1_problem_2 11 rfl rfl)
theorem dX1_problem_61 : decode cX1_problem 61 = .ok (.iconst 1, 1) := dk_4 (dk_at dksX1_problem_2 14 rfl rfl)
theorem dX1_problem_62 : decode cX1_problem 62 = .ok (.goto 4, 3) := dk_167 0 4 (dk_at dksX1_problem_2 15 rfl rfl)
theorem dX1_problem_65 : decode cX1_problem 65 = .ok (.iconst 0, 1) := dk_3 (dk_at dksX1_problem_2 18 rfl rfl)
theorem dX1_problem_66 : decode cX1_problem 66 = .ok (.invokestatic 65, 3) := dk_184 0 65 (dk_at dksX1_problem_2 19 rfl rfl)
theorem dX1_problem_69 : decode cX1_problem 69 = .ok (.iload 4, 2) := dk_21 4 (dk_at dksX1_problem_2 22 rfl rfl)
theorem dX1_problem_71 : decode cX1_problem 71 = .ok (.iload 6, 2) := dk_21 6 (dk_at dksX1_problem_3 0 rfl rfl)
theorem dX1_problem_73 : decode cX1_problem 73 = .ok (.ior, 1) := dk_128 (dk_at dksX1_problem_3 2 rfl rfl)
theorem dX1_problem_74 : decode cX1_problem 74 = .ok (.istore 4, 2) := dk_54 4 (dk_at dksX1_problem_3 3 rfl rfl)
theorem dX1_problem_76 : decode cX1_problem 76 = .ok (.iinc 5 1, 3) := dk_132 5 1 (dk_at dksX1_problem_3 5 rfl rfl)
theorem dX1_problem_79 : decode cX1_problem 79 = .ok (.goto (-43), 3) := dk_167 255 213 (dk_at dksX1_problem_3 8 rfl rfl)
theorem dX1_problem_82 : decode cX1_problem 82 = .ok (.iload_n 3, 1) := dk_29 (dk_at dksX1_problem_3 11 rfl rfl)
theorem dX1_problem_83 : decode cX1_problem 83 = .ok (.iload 4, 2) := dk_21 4 (dk_at dksX1_problem_3 12 rfl rfl)
theorem dX1_problem_85 : decode cX1_problem 85 = .ok (.iconst (-1), 1) := dk_2 (dk_at dksX1_problem_3 14 rfl rfl)
theorem dX1_problem_86 : decode cX1_problem 86 = .ok (.ixor, 1) := dk_130 (dk_at dksX1_problem_3 15 rfl rfl)
theorem dX1_problem_87 : decode cX1_problem 87 = .ok (.iand, 1) := dk_126 (dk_at dksX1_problem_3 16 rfl rfl)
theorem dX1_problem_88 : decode cX1_problem 88 = .ok (.ifCond .ne 7, 3) := dk_154 0 7 (dk_at dksX1_problem_3 17 rfl rfl)
theorem dX1_problem_91 : decode cX1_problem 91 = .ok (.iconst 1, 1) := dk_4 (dk_at dksX1_problem_3 20 rfl rfl)
theorem dX1_problem_92 : decode cX1_problem 92 = .ok (.goto 4, 3) := dk_167 0 4 (dk_at dksX1_problem_3 21 rfl rfl)
theorem dX1_problem_95 : decode cX1_problem 95 = .ok (.iconst 0, 1) := dk_3 (dk_at dksX1_problem_4 0 rfl rfl)
theorem dX1_problem_96 : decode cX1_problem 96 = .ok (.invokestatic 65, 3) := dk_184 0 65 (dk_at dksX1_problem_4 1 rfl rfl)
theorem dX1_problem_99 : decode cX1_problem 99 = .ok (.aload_n 0, 1) := dk_42 (dk_at dksX1_problem_4 4 rfl rfl)
theorem dX1_problem_100 : decode cX1_problem 100 = .ok (.getfield 29, 3) := dk_180 0 29 (dk_at dksX1_problem_4 5 rfl rfl)
theorem dX1_problem_103 : decode cX1_problem 103 = .ok (.invokevirtual 41, 3) := dk_182 0 41 (dk_at dksX1_problem_4 8 rfl rfl)
theorem dX1_problem_106 : decode cX1_problem 106 = .ok (.bipush 6, 2) := dk_16 6 (dk_at dksX1_problem_4 11 rfl rfl)
theorem dX1_problem_108 : decode cX1_problem 108 = .ok (.if_icmp .ge 7, 3) := dk_162 0 7 (dk_at dksX1_problem_4 13 rfl rfl)
theorem dX1_problem_111 : decode cX1_problem 111 = .ok (.iconst 1, 1) := dk_4 (dk_at dksX1_problem_4 16 rfl rfl)
theorem dX1_problem_112 : decode cX1_problem 112 = .ok (.goto 4, 3) := dk_167 0 4 (dk_at dksX1_problem_4 17 rfl rfl)
theorem dX1_problem_115 : decode cX1_problem 115 = .ok (.iconst 0, 1) := dk_3 (dk_at dksX1_problem_4 20 rfl rfl)
theorem dX1_problem_116 : decode cX1_problem 116 = .ok (.invokestatic 71, 3) := dk_184 0 71 (dk_at dksX1_problem_4 21 rfl rfl)
theorem dX1_problem_119 : decode cX1_problem 119 = .ok (.aload_n 0, 1) := dk_42 (dk_at dksX1_problem_5 0 rfl rfl)
theorem dX1_problem_120 : decode cX1_problem 120 = .ok (.getfield 29, 3) := dk_180 0 29 (dk_at dksX1_problem_5 1 rfl rfl)
theorem dX1_problem_123 : decode cX1_problem 123 = .ok (.new 215, 3) := dk_187 0 215 (dk_at dksX1_problem_5 4 rfl rfl)
theorem dX1_problem_126 : decode cX1_problem 126 = .ok (.dup, 1) := dk_89 (dk_at dksX1_problem_5 7 rfl rfl)
theorem dX1_problem_127 : decode cX1_problem 127 = .ok (.iload_n 1, 1) := dk_27 (dk_at dksX1_problem_5 8 rfl rfl)
theorem dX1_problem_128 : decode cX1_problem 128 = .ok (.iload_n 2, 1) := dk_28 (dk_at dksX1_problem_5 9 rfl rfl)
theorem dX1_problem_129 : decode cX1_problem 129 = .ok (.iload_n 3, 1) := dk_29 (dk_at dksX1_problem_5 10 rfl rfl)
theorem dX1_problem_130 : decode cX1_problem 130 = .ok (.invokespecial 217, 3) := dk_183 0 217 (dk_at dksX1_problem_5 11 rfl rfl)
theorem dX1_problem_133 : decode cX1_problem 133 = .ok (.invokevirtual 121, 3) := dk_182 0 121 (dk_at dksX1_problem_5 14 rfl rfl)
theorem dX1_problem_136 : decode cX1_problem 136 = .ok (.pop, 1) := dk_87 (dk_at dksX1_problem_5 17 rfl rfl)
theorem dX1_problem_137 : decode cX1_problem 137 = .ok (.aload_n 0, 1) := dk_42 (dk_at dksX1_problem_5 18 rfl rfl)
theorem dX1_problem_138 : decode cX1_problem 138 = .ok (.getfield 29, 3) := dk_180 0 29 (dk_at dksX1_problem_5 19 rfl rfl)
theorem dX1_problem_141 : decode cX1_problem 141 = .ok (.invokevirtual 41, 3) := dk_182 0 41 (dk_at dksX1_problem_6 0 rfl rfl)
theorem dX1_problem_144 : decode cX1_problem 144 = .ok (.iconst 1, 1) := dk_4 (dk_at dksX1_problem_6 3 rfl rfl)
theorem dX1_problem_145 : decode cX1_problem 145 = .ok (.isub, 1) := dk_100 (dk_at dksX1_problem_6 4 rfl rfl)
theorem dX1_problem_146 : decode cX1_problem 146 = .ok (.ireturn, 1) := dk_172 (dk_at dksX1_problem_6 5 rfl rfl)
abbrev cX1_product : ByteArray := prog_1_method_34_code
def yX1_product : MethodName := ⟨RX1, "product", "(II)I"⟩
def dkwX1_product_10 : List UInt8 := [182, 0, 121, 87, 42, 180, 0, 29, 182, 0, 41, 4, 100, 172]
abbrev dktX1_product_10 : List UInt8 := dkwX1_product_10 ++ []
def dkwX1_product_9 : List UInt8 := [180, 0, 220, 25, 4, 180, 0, 220, 104, 45, 180, 0, 223, 25, 4, 180, 0, 223, 104, 21, 5, 183, 0, 217]
abbrev dktX1_product_9 : List UInt8 := dkwX1_product_9 ++ dktX1_product_10
def dkwX1_product_8 : List UInt8 := [54, 5, 132, 7, 1, 167, 255, 161, 132, 6, 1, 167, 255, 137, 42, 180, 0, 29, 187, 0, 215, 89, 45]
abbrev dktX1_product_8 : List UInt8 := dkwX1_product_8 ++ dktX1_product_9
def dkwX1_product_7 : List UInt8 := [54, 8, 21, 5, 21, 8, 153, 0, 15, 4, 7, 21, 6, 104, 21, 7, 96, 120, 167, 0, 4, 3, 128]
abbrev dktX1_product_7 : List UInt8 := dkwX1_product_7 ++ dktX1_product_8
def dkwX1_product_6 : List UInt8 := [180, 0, 220, 112, 21, 7, 25, 4, 180, 0, 223, 112, 182, 0, 226, 153, 0, 7, 4, 167, 0, 4, 3]
abbrev dktX1_product_6 : List UInt8 := dkwX1_product_6 ++ dktX1_product_7
def dkwX1_product_5 : List UInt8 := [180, 0, 220, 108, 21, 7, 25, 4, 180, 0, 223, 108, 182, 0, 226, 153, 0, 31, 25, 4, 21, 6, 25, 4]
abbrev dktX1_product_5 : List UInt8 := dkwX1_product_5 ++ dktX1_product_6
def dkwX1_product_4 : List UInt8 := [3, 54, 7, 21, 7, 45, 180, 0, 223, 25, 4, 180, 0, 223, 104, 162, 0, 86, 45, 21, 6, 25, 4]
abbrev dktX1_product_4 : List UInt8 := dkwX1_product_4 ++ dktX1_product_5
def dkwX1_product_3 : List UInt8 := [184, 0, 71, 3, 54, 5, 3, 54, 6, 21, 6, 45, 180, 0, 220, 25, 4, 180, 0, 220, 104, 162, 0, 110]
abbrev dktX1_product_3 : List UInt8 := dkwX1_product_3 ++ dktX1_product_4
def dkwX1_product_2 : List UInt8 := [7, 163, 0, 21, 45, 180, 0, 223, 25, 4, 180, 0, 223, 104, 7, 163, 0, 7, 4, 167, 0, 4, 3]
abbrev dktX1_product_2 : List UInt8 := dkwX1_product_2 ++ dktX1_product_3
def dkwX1_product_1 : List UInt8 := [58, 4, 42, 180, 0, 29, 182, 0, 41, 16, 6, 162, 0, 35, 45, 180, 0, 220, 25, 4, 180, 0, 220, 104]
abbrev dktX1_product_1 : List UInt8 := dkwX1_product_1 ++ dktX1_product_2
def dkwX1_product_0 : List UInt8 := [42, 180, 0, 29, 27, 184, 0, 125, 192, 0, 215, 78, 42, 180, 0, 29, 28, 184, 0, 125, 192, 0, 215]
abbrev dktX1_product_0 : List UInt8 := dkwX1_product_0 ++ dktX1_product_1
theorem dksX1_product_0 : cX1_product.data.toList.drop 0 = dktX1_product_0 := by decide +kernel
theorem dksX1_product_1 : cX1_product.data.toList.drop 23 = dktX1_product_1 := dk_seg dksX1_product_0 23 rfl rfl
theorem dksX1_product_2 : cX1_product.data.toList.drop 47 = dktX1_product_2 := dk_seg dksX1_product_1 24 rfl rfl
theorem dksX1_product_3 : cX1_product.data.toList.drop 70 = dktX1_product_3 := dk_seg dksX1_product_2 23 rfl rfl
theorem dksX1_product_4 : cX1_product.data.toList.drop 94 = dktX1_product_4 := dk_seg dksX1_product_3 24 rfl rfl
theorem dksX1_product_5 : cX1_product.data.toList.drop 117 = dktX1_product_5 := dk_seg dksX1_product_4 23 rfl rfl
theorem dksX1_product_6 : cX1_product.data.toList.drop 141 = dktX1_product_6 := dk_seg dksX1_product_5 24 rfl rfl
theorem dksX1_product_7 : cX1_product.data.toList.drop 164 = dktX1_product_7 := dk_seg dksX1_product_6 23 rfl rfl
theorem dksX1_product_8 : cX1_product.data.toList.drop 187 = dktX1_product_8 := dk_seg dksX1_product_7 23 rfl rfl
theorem dksX1_product_9 : cX1_product.data.toList.drop 210 = dktX1_product_9 := dk_seg dksX1_product_8 23 rfl rfl
theorem dksX1_product_10 : cX1_product.data.toList.drop 234 = dktX1_product_10 := dk_seg dksX1_product_9 24 rfl rfl
theorem dX1_product_0 : decode cX1_product 0 = .ok (.aload_n 0, 1) := dk_42 (dk_at dksX1_product_0 0 rfl rfl)
theorem dX1_product_1 : decode cX1_product 1 = .ok (.getfield 29, 3) := dk_180 0 29 (dk_at dksX1_product_0 1 rfl rfl)
theorem dX1_product_4 : decode cX1_product 4 = .ok (.iload_n 1, 1) := dk_27 (dk_at dksX1_product_0 4 rfl rfl)
theorem dX1_product_5 : decode cX1_product 5 = .ok (.invokestatic 125, 3) := dk_184 0 125 (dk_at dksX1_product_0 5 rfl rfl)
theorem dX1_product_8 : decode cX1_product 8 = .ok (.checkcast 215, 3) := dk_192 0 215 (dk_at dksX1_product_0 8 rfl rfl)
theorem dX1_product_11 : decode cX1_product 11 = .ok (.astore_n 3, 1) := dk_78 (dk_at dksX1_product_0 11 rfl rfl)
theorem dX1_product_12 : decode cX1_product 12 = .ok (.aload_n 0, 1) := dk_42 (dk_at dksX1_product_0 12 rfl rfl)
theorem dX1_product_13 : decode cX1_product 13 = .ok (.getfield 29, 3) := dk_180 0 29 (dk_at dksX1_product_0 13 rfl rfl)
theorem dX1_product_16 : decode cX1_product 16 = .ok (.iload_n 2, 1) := dk_28 (dk_at dksX1_product_0 16 rfl rfl)
theorem dX1_product_17 : decode cX1_product 17 = .ok (.invokestatic 125, 3) := dk_184 0 125 (dk_at dksX1_product_0 17 rfl rfl)
theorem dX1_product_20 : decode cX1_product 20 = .ok (.checkcast 215, 3) := dk_192 0 215 (dk_at dksX1_product_0 20 rfl rfl)
theorem dX1_product_23 : decode cX1_product 23 = .ok (.astore 4, 2) := dk_58 4 (dk_at dksX1_product_1 0 rfl rfl)
theorem dX1_product_25 : decode cX1_product 25 = .ok (.aload_n 0, 1) := dk_42 (dk_at dksX1_product_1 2 rfl rfl)
theorem dX1_product_26 : decode cX1_product 26 = .ok (.getfield 29, 3) := dk_180 0 29 (dk_at dksX1_product_1 3 rfl rfl)
theorem dX1_product_29 : decode cX1_product 29 = .ok (.invokevirtual 41, 3) := dk_182 0 41 (dk_at dksX1_product_1 6 rfl rfl)
theorem dX1_product_32 : decode cX1_product 32 = .ok (.bipush 6, 2) := dk_16 6 (dk_at dksX1_product_1 9 rfl rfl)
theorem dX1_product_34 : decode cX1_product 34 = .ok (.if_icmp .ge 35, 3) := dk_162 0 35 (dk_at dksX1_product_1 11 rfl rfl)
theorem dX1_product_37 : decode cX1_product 37 = .ok (.aload_n 3, 1) := dk_45 (dk_at dksX1_product_1 14 rfl rfl)
theorem dX1_product_38 : decode cX1_product 38 = .ok (.getfield 220, 3) := dk_180 0 220 (dk_at dksX1_product_1 15 rfl rfl)
theorem dX1_product_41 : decode cX1_product 41 = .ok (.aload 4, 2) := dk_25 4 (dk_at dksX1_product_1 18 rfl rfl)
theorem dX1_product_43 : decode cX1_product 43 = .ok (.getfield 220, 3) := dk_180 0 220 (dk_at dksX1_product_1 20 rfl rfl)
theorem dX1_product_46 : decode cX1_product 46 = .ok (.imul, 1) := dk_104 (dk_at dksX1_product_1 23 rfl rfl)
theorem dX1_product_47 : decode cX1_product 47 = .ok (.iconst 4, 1) := dk_7 (dk_at dksX1_product_2 0 rfl rfl)
theorem dX1_product_48 : decode cX1_product 48 = .ok (.if_icmp .gt 21, 3) := dk_163 0 21 (dk_at dksX1_product_2 1 rfl rfl)
theorem dX1_product_51 : decode cX1_product 51 = .ok (.aload_n 3, 1) := dk_45 (dk_at dksX1_product_2 4 rfl rfl)
theorem dX1_product_52 : decode cX1_product 52 = .ok (.getfield 223, 3) := dk_180 0 223 (dk_at dksX1_product_2 5 rfl rfl)
theorem dX1_product_55 : decode cX1_product 55 = .ok (.aload 4, 2) := dk_25 4 (dk_at dksX1_product_2 8 rfl rfl)
theorem dX1_product_57 : decode cX1_product 57 = .ok (.getfield 223, 3) := dk_180 0 223 (dk_at dksX1_product_2 10 rfl rfl)
theorem dX1_product_60 : decode cX1_product 60 = .ok (.imul, 1) := dk_104 (dk_at dksX1_product_2 13 rfl rfl)
theorem dX1_product_61 : decode cX1_product 61 = .ok (.iconst 4, 1) := dk_7 (dk_at dksX1_product_2 14 rfl rfl)
theorem dX1_product_62 : decode cX1_product 62 = .ok (.if_icmp .gt 7, 3) := dk_163 0 7 (dk_at dksX1_product_2 15 rfl rfl)
theorem dX1_product_65 : decode cX1_product 65 = .ok (.iconst 1, 1) := dk_4 (dk_at dksX1_product_2 18 rfl rfl)
theorem dX1_product_66 : decode cX1_product 66 = .ok (.goto 4, 3) := dk_167 0 4 (dk_at dksX1_product_2 19 rfl rfl)
theorem dX1_product_69 : decode cX1_product 69 = .ok (.iconst 0, 1) := dk_3 (dk_at dksX1_product_2 22 rfl rfl)
theorem dX1_product_70 : decode cX1_product 70 = .ok (.invokestatic 71, 3) := dk_184 0 71 (dk_at dksX1_product_3 0 rfl rfl)
theorem dX1_product_73 : decode cX1_product 73 = .ok (.iconst 0, 1) := dk_3 (dk_at dksX1_product_3 3 rfl rfl)
theorem dX1_product_74 : decode cX1_product 74 = .ok (.istore 5, 2) := dk_54 5 (dk_at dksX1_product_3 4 rfl rfl)
theorem dX1_product_76 : decode cX1_product 76 = .ok (.iconst 0, 1) := dk_3 (dk_at dksX1_product_3 6 rfl rfl)
theorem dX1_product_77 : decode cX1_product 77 = .ok (.istore 6, 2) := dk_54 6 (dk_at dksX1_product_3 7 rfl rfl)
theorem dX1_product_79 : decode cX1_product 79 = .ok (.iload 6, 2) := dk_21 6 (dk_at dksX1_product_3 9 rfl rfl)
theorem dX1_product_81 : decode cX1_product 81 = .ok (.aload_n 3, 1) := dk_45 (dk_at dksX1_product_3 11 rfl rfl)
theorem dX1_product_82 : decode cX1_product 82 = .ok (.getfield 220, 3) := dk_180 0 220 (dk_at dksX1_product_3 12 rfl rfl)
theorem dX1_product_85 : decode cX1_product 85 = .ok (.aload 4, 2) := dk_25 4 (dk_at dksX1_product_3 15 rfl rfl)
theorem dX1_product_87 : decode cX1_product 87 = .ok (.getfield 220, 3) := dk_180 0 220 (dk_at dksX1_product_3 17 rfl rfl)
theorem dX1_product_90 : decode cX1_product 90 = .ok (.imul, 1) := dk_104 (dk_at dksX1_product_3 20 rfl rfl)
theorem dX1_product_91 : decode cX1_product 91 = .ok (.if_icmp .ge 110, 3) := dk_162 0 110 (dk_at dksX1_product_3 21 rfl rfl)
theorem dX1_product_94 : decode cX1_product 94 = .ok (.iconst 0, 1) := dk_3 (dk_at dksX1_product_4 0 rfl rfl)
theorem dX1_product_95 : decode cX1_product 95 = .ok (.istore 7, 2) := dk_54 7 (dk_at dksX1_product_4 1 rfl rfl)
theorem dX1_product_97 : decode cX1_product 97 = .ok (.iload 7, 2) := dk_21 7 (dk_at dksX1_product_4 3 rfl rfl)
theorem dX1_product_99 : decode cX1_product 99 = .ok (.aload_n 3, 1) := dk_45 (dk_at dksX1_product_4 5 rfl rfl)
theorem dX1_product_100 : decode cX1_product 100 = .ok (.getfield 223, 3) := dk_180 0 223 (dk_at dksX1_product_4 6 rfl rfl)
theorem dX1_product_103 : decode cX1_product 103 = .ok (.aload 4, 2) := dk_25 4 (dk_at dksX1_product_4 9 rfl rfl)
theorem dX1_product_105 : decode cX1_product 105 = .ok (.getfield 223, 3) := dk_180 0 223 (dk_at dksX1_product_4 11 rfl rfl)
theorem dX1_product_108 : decode cX1_product 108 = .ok (.imul, 1) := dk_104 (dk_at dksX1_product_4 14 rfl rfl)
theorem dX1_product_109 : decode cX1_product 109 = .ok (.if_icmp .ge 86, 3) := dk_162 0 86 (dk_at dksX1_product_4 15 rfl rfl)
theorem dX1_product_112 : decode cX1_product 112 = .ok (.aload_n 3, 1) := dk_45 (dk_at dksX1_product_4 18 rfl rfl)
theorem dX1_product_113 : decode cX1_product 113 = .ok (.iload 6, 2) := dk_21 6 (dk_at dksX1_product_4 19 rfl rfl)
theorem dX1_product_115 : decode cX1_product 115 = .ok (.aload 4, 2) := dk_25 4 (dk_at dksX1_product_4 21 rfl rfl)
theorem dX1_product_117 : decode cX1_product 117 = .ok (.getfield 220, 3) := dk_180 0 220 (dk_at dksX1_product_5 0 rfl rfl)
theorem dX1_product_120 : decode cX1_product 120 = .ok (.idiv, 1) := dk_108 (dk_at dksX1_product_5 3 rfl rfl)
theorem dX1_product_121 : decode cX1_product 121 = .ok (.iload 7, 2) := dk_21 7 (dk_at dksX1_product_5 4 rfl rfl)
theorem dX1_product_123 : decode cX1_product 123 = .ok (.aload 4, 2) := dk_25 4 (dk_at dksX1_product_5 6 rfl rfl)
theorem dX1_product_125 : decode cX1_product 125 = .ok (.getfield 223, 3) := dk_180 0 223 (dk_at dksX1_product_5 8 rfl rfl)
theorem dX1_product_128 : decode cX1_product 128 = .ok (.idiv, 1) := dk_108 (dk_at dksX1_product_5 11 rfl rfl)
theorem dX1_product_129 : decode cX1_product 129 = .ok (.invokevirtual 226, 3) := dk_182 0 226 (dk_at dksX1_product_5 12 rfl rfl)
theorem dX1_product_132 : decode cX1_product 132 = .ok (.ifCond .eq 31, 3) := dk_153 0 31 (dk_at dksX1_product_5 15 rfl rfl)
theorem dX1_product_135 : decode cX1_product 135 = .ok (.aload 4, 2) := dk_25 4 (dk_at dksX1_product_5 18 rfl rfl)
theorem dX1_product_137 : decode cX1_product 137 = .ok (.iload 6, 2) := dk_21 6 (dk_at dksX1_product_5 20 rfl rfl)
theorem dX1_product_139 : decode cX1_product 139 = .ok (.aload 4, 2) := dk_25 4 (dk_at dksX1_product_5 22 rfl rfl)
theorem dX1_product_141 : decode cX1_product 141 = .ok (.getfield 220, 3) := dk_180 0 220 (dk_at dksX1_product_6 0 rfl rfl)
theorem dX1_product_144 : decode cX1_product 144 = .ok (.irem, 1) := dk_112 (dk_at dksX1_product_6 3 rfl rfl)
theorem dX1_product_145 : decode cX1_product 145 = .ok (.iload 7, 2) := dk_21 7 (dk_at dksX1_product_6 4 rfl rfl)
theorem dX1_product_147 : decode cX1_product 147 = .ok (.aload 4, 2) := dk_25 4 (dk_at dksX1_product_6 6 rfl rfl)
theorem dX1_product_149 : decode cX1_product 149 = .ok (.getfield 223, 3) := dk_180 0 223 (dk_at dksX1_product_6 8 rfl rfl)
theorem dX1_product_152 : decode cX1_product 152 = .ok (.irem, 1) := dk_112 (dk_at dksX1_product_6 11 rfl rfl)
theorem dX1_product_153 : decode cX1_product 153 = .ok (.invokevirtual 226, 3) := dk_182 0 226 (dk_at dksX1_product_6 12 rfl rfl)
theorem dX1_product_156 : decode cX1_product 156 = .ok (.ifCond .eq 7, 3) := dk_153 0 7 (dk_at dksX1_product_6 15 rfl rfl)
theorem dX1_product_159 : decode cX1_product 159 = .ok (.iconst 1, 1) := dk_4 (dk_at dksX1_product_6 18 rfl rfl)
theorem dX1_product_160 : decode cX1_product 160 = .ok (.goto 4, 3) := dk_167 0 4 (dk_at dksX1_product_6 19 rfl rfl)
theorem dX1_product_163 : decode cX1_product 163 = .ok (.iconst 0, 1) := dk_3 (dk_at dksX1_product_6 22 rfl rfl)
theorem dX1_product_164 : decode cX1_product 164 = .ok (.istore 8, 2) := dk_54 8 (dk_at dksX1_product_7 0 rfl rfl)
theorem dX1_product_166 : decode cX1_product 166 = .ok (.iload 5, 2) := dk_21 5 (dk_at dksX1_product_7 2 rfl rfl)
theorem dX1_product_168 : decode cX1_product 168 = .ok (.iload 8, 2) := dk_21 8 (dk_at dksX1_product_7 4 rfl rfl)
theorem dX1_product_170 : decode cX1_product 170 = .ok (.ifCond .eq 15, 3) := dk_153 0 15 (dk_at dksX1_product_7 6 rfl rfl)
theorem dX1_product_173 : decode cX1_product 173 = .ok (.iconst 1, 1) := dk_4 (dk_at dksX1_product_7 9 rfl rfl)
theorem dX1_product_174 : decode cX1_product 174 = .ok (.iconst 4, 1) := dk_7 (dk_at dksX1_product_7 10 rfl rfl)
theorem dX1_product_175 : decode cX1_product 175 = .ok (.iload 6, 2) := dk_21 6 (dk_at dksX1_product_7 11 rfl rfl)
theorem dX1_product_177 : decode cX1_product 177 = .ok (.imul, 1) := dk_104 (dk_at dksX1_product_7 13 rfl rfl)
theorem dX1_product_178 : decode cX1_product 178 = .ok (.iload 7, 2) := dk_21 7 (dk_at dksX1_product_7 14 rfl rfl)
theorem dX1_product_180 : decode cX1_product 180 = .ok (.iadd, 1) := dk_96 (dk_at dksX1_product_7 16 rfl rfl)
theorem dX1_product_181 : decode cX1_product 181 = .ok (.ishl, 1) := dk_120 (dk_at dksX1_product_7 17 rfl rfl)
theorem dX1_product_182 : decode cX1_product 182 = .ok (.goto 4, 3) := dk_167 0 4 (dk_at dksX1_product_7 18 rfl rfl)
theorem dX1_product_185 : decode cX1_product 185 = .ok (.iconst 0, 1) := dk_3 (dk_at dksX1_product_7 21 rfl rfl)
theorem dX1_product_186 : decode cX1_product 186 = .ok (.ior, 1) := dk_128 (dk_at dksX1_product_7 22 rfl rfl)
theorem dX1_product_187 : decode cX1_product 187 = .ok (.istore 5, 2) := dk_54 5 (dk_at dksX1_product_8 0 rfl rfl)
theorem dX1_product_189 : decode cX1_product 189 = .ok (.iinc 7 1, 3) := dk_132 7 1 (dk_at dksX1_product_8 2 rfl rfl)
theorem dX1_product_192 : decode cX1_product 192 = .ok (.goto (-95), 3) := dk_167 255 161 (dk_at dksX1_product_8 5 rfl rfl)
theorem dX1_product_195 : decode cX1_product 195 = .ok (.iinc 6 1, 3) := dk_132 6 1 (dk_at dksX1_product_8 8 rfl rfl)
theorem dX1_product_198 : decode cX1_product 198 = .ok (.goto (-119), 3) := dk_167 255 137 (dk_at dksX1_product_8 11 rfl rfl)
theorem dX1_product_201 : decode cX1_product 201 = .ok (.aload_n 0, 1) := dk_42 (dk_at dksX1_product_8 14 rfl rfl)
theorem dX1_product_202 : decode cX1_product 202 = .ok (.getfield 29, 3) := dk_180 0 29 (dk_at dksX1_product_8 15 rfl rfl)
theorem dX1_product_205 : decode cX1_product 205 = .ok (.new 215, 3) := dk_187 0 215 (dk_at dksX1_product_8 18 rfl rfl)
theorem dX1_product_208 : decode cX1_product 208 = .ok (.dup, 1) := dk_89 (dk_at dksX1_product_8 21 rfl rfl)
theorem dX1_product_209 : decode cX1_product 209 = .ok (.aload_n 3, 1) := dk_45 (dk_at dksX1_product_8 22 rfl rfl)
theorem dX1_product_210 : decode cX1_product 210 = .ok (.getfield 220, 3) := dk_180 0 220 (dk_at dksX1_product_9 0 rfl rfl)
theorem dX1_product_213 : decode cX1_product 213 = .ok (.aload 4, 2) := dk_25 4 (dk_at dksX1_product_9 3 rfl rfl)
theorem dX1_product_215 : decode cX1_product 215 = .ok (.getfield 220, 3) := dk_180 0 220 (dk_at dksX1_product_9 5 rfl rfl)
theorem dX1_product_218 : decode cX1_product 218 = .ok (.imul, 1) := dk_104 (dk_at dksX1_product_9 8 rfl rfl)
theorem dX1_product_219 : decode cX1_product 219 = .ok (.aload_n 3, 1) := dk_45 (dk_at dksX1_product_9 9 rfl rfl)
theorem dX1_product_220 : decode cX1_product 220 = .ok (.getfield 223, 3) := dk_180 0 223 (dk_at dksX1_product_9 10 rfl rfl)
theorem dX1_product_223 : decode cX1_product 223 = .ok (.aload 4, 2) := dk_25 4 (dk_at dksX1_product_9 13 rfl rfl)
theorem dX1_product_225 : decode cX1_product 225 = .ok (.getfield 223, 3) := dk_180 0 223 (dk_at dksX1_product_9 15 rfl rfl)
theorem dX1_product_228 : decode cX1_product 228 = .ok (.imul, 1) := dk_104 (dk_at dksX1_product_9 18 rfl rfl)
theorem dX1_product_229 : decode cX1_product 229 = .ok (.iload 5, 2) := dk_21 5 (dk_at dksX1_product_9 19 rfl rfl)
theorem dX1_product_231 : decode cX1_product 231 = .ok (.invokespecial 217, 3) := dk_183 0 217 (dk_at dksX1_product_9 21 rfl rfl)
theorem dX1_product_234 : decode cX1_product 234 = .ok (.invokevirtual 121, 3) := dk_182 0 121 (dk_at dksX1_product_10 0 rfl rfl)
theorem dX1_product_237 : decode cX1_product 237 = .ok (.pop, 1) := dk_87 (dk_at dksX1_product_10 3 rfl rfl)
theorem dX1_product_238 : decode cX1_product 238 = .ok (.aload_n 0, 1) := dk_42 (dk_at dksX1_product_10 4 rfl rfl)
theorem dX1_product_239 : decode cX1_product 239 = .ok (.getfield 29, 3) := dk_180 0 29 (dk_at dksX1_product_10 5 rfl rfl)
theorem dX1_product_242 : decode cX1_product 242 = .ok (.invokevirtual 41, 3) := dk_182 0 41 (dk_at dksX1_product_10 8 rfl rfl)
theorem dX1_product_245 : decode cX1_product 245 = .ok (.iconst 1, 1) := dk_4 (dk_at dksX1_product_10 11 rfl rfl)
theorem dX1_product_246 : decode cX1_product 246 = .ok (.isub, 1) := dk_100 (dk_at dksX1_product_10 12 rfl rfl)
theorem dX1_product_247 : decode cX1_product 247 = .ok (.ireturn, 1) := dk_172 (dk_at dksX1_product_10 13 rfl rfl)
abbrev cX1_reduces : ByteArray := prog_1_method_39_code
def yX1_reduces : MethodName := ⟨RX1, "reduces", "(II)I"⟩
def dkwX1_reduces_1 : List UInt8 := [184, 0, 244, 58, 4, 25, 4, 199, 0, 7, 2, 167, 0, 12, 25, 4, 45, 180, 0, 223, 184, 0, 248, 172]
abbrev dktX1_reduces_1 : List UInt8 := dkwX1_reduces_1 ++ []
def dkwX1_reduces_0 : List UInt8 := [42, 180, 0, 29, 27, 184, 0, 125, 192, 0, 215, 78, 45, 42, 180, 0, 29, 28, 184, 0, 125, 192, 0, 215]
abbrev dktX1_reduces_0 : List UInt8 := dkwX1_reduces_0 ++ dktX1_reduces_1
theorem dksX1_reduces_0 : cX1_reduces.data.toList.drop 0 = dktX1_reduces_0 := by decide +kernel
theorem dksX1_reduces_1 : cX1_reduces.data.toList.drop 24 = dktX1_reduces_1 := dk_seg dksX1_reduces_0 24 rfl rfl
theorem dX1_reduces_0 : decode cX1_reduces 0 = .ok (.aload_n 0, 1) := dk_42 (dk_at dksX1_reduces_0 0 rfl rfl)
theorem dX1_reduces_1 : decode cX1_reduces 1 = .ok (.getfield 29, 3) := dk_180 0 29 (dk_at dksX1_reduces_0 1 rfl rfl)
theorem dX1_reduces_4 : decode cX1_reduces 4 = .ok (.iload_n 1, 1) := dk_27 (dk_at dksX1_reduces_0 4 rfl rfl)
theorem dX1_reduces_5 : decode cX1_reduces 5 = .ok (.invokestatic 125, 3) := dk_184 0 125 (dk_at dksX1_reduces_0 5 rfl rfl)
theorem dX1_reduces_8 : decode cX1_reduces 8 = .ok (.checkcast 215, 3) := dk_192 0 215 (dk_at dksX1_reduces_0 8 rfl rfl)
theorem dX1_reduces_11 : decode cX1_reduces 11 = .ok (.astore_n 3, 1) := dk_78 (dk_at dksX1_reduces_0 11 rfl rfl)
theorem dX1_reduces_12 : decode cX1_reduces 12 = .ok (.aload_n 3, 1) := dk_45 (dk_at dksX1_reduces_0 12 rfl rfl)
theorem dX1_reduces_13 : decode cX1_reduces 13 = .ok (.aload_n 0, 1) := dk_42 (dk_at dksX1_reduces_0 13 rfl rfl)
theorem dX1_reduces_14 : decode cX1_reduces 14 = .ok (.getfield 29, 3) := dk_180 0 29 (dk_at dksX1_reduces_0 14 rfl rfl)
theorem dX1_reduces_17 : decode cX1_reduces 17 = .ok (.iload_n 2, 1) := dk_28 (dk_at dksX1_reduces_0 17 rfl rfl)
theorem dX1_reduces_18 : decode cX1_reduces 18 = .ok (.invokestatic 125, 3) := dk_184 0 125 (dk_at dksX1_reduces_0 18 rfl rfl)
theorem dX1_reduces_21 : decode cX1_reduces 21 = .ok (.checkcast 215, 3) := dk_192 0 215 (dk_at dksX1_reduces_0 21 rfl rfl)
theorem dX1_reduces_24 : decode cX1_reduces 24 = .ok (.invokestatic 244, 3) := dk_184 0 244 (dk_at dksX1_reduces_1 0 rfl rfl)
theorem dX1_reduces_27 : decode cX1_reduces 27 = .ok (.astore 4, 2) := dk_58 4 (dk_at dksX1_reduces_1 3 rfl rfl)
theorem dX1_reduces_29 : decode cX1_reduces 29 = .ok (.aload 4, 2) := dk_25 4 (dk_at dksX1_reduces_1 5 rfl rfl)
theorem dX1_reduces_31 : decode cX1_reduces 31 = .ok (.ifnonnull 7, 3) := dk_199 0 7 (dk_at dksX1_reduces_1 7 rfl rfl)
theorem dX1_reduces_34 : decode cX1_reduces 34 = .ok (.iconst (-1), 1) := dk_2 (dk_at dksX1_reduces_1 10 rfl rfl)
theorem dX1_reduces_35 : decode cX1_reduces 35 = .ok (.goto 12, 3) := dk_167 0 12 (dk_at dksX1_reduces_1 11 rfl rfl)
theorem dX1_reduces_38 : decode cX1_reduces 38 = .ok (.aload 4, 2) := dk_25 4 (dk_at dksX1_reduces_1 14 rfl rfl)
theorem dX1_reduces_40 : decode cX1_reduces 40 = .ok (.aload_n 3, 1) := dk_45 (dk_at dksX1_reduces_1 16 rfl rfl)
theorem dX1_reduces_41 : decode cX1_reduces 41 = .ok (.getfield 223, 3) := dk_180 0 223 (dk_at dksX1_reduces_1 17 rfl rfl)
theorem dX1_reduces_44 : decode cX1_reduces 44 = .ok (.invokestatic 248, 3) := dk_184 0 248 (dk_at dksX1_reduces_1 20 rfl rfl)
theorem dX1_reduces_47 : decode cX1_reduces 47 = .ok (.ireturn, 1) := dk_172 (dk_at dksX1_reduces_1 23 rfl rfl)
abbrev cX1_backOf : ByteArray := prog_1_method_37_code
def yX1_backOf : MethodName := ⟨RX1, "backOf", "(LReversalCourt$Problem;LReversalCourt$Problem;)[I"⟩
def dkwX1_backOf_3 : List UInt8 := [3, 126, 54, 4, 132, 5, 1, 167, 255, 222, 21, 4, 153, 0, 5, 45, 176, 167, 255, 187, 1, 176]
abbrev dktX1_backOf_3 : List UInt8 := dkwX1_backOf_3 ++ []
def dkwX1_backOf_2 : List UInt8 := [180, 0, 220, 162, 0, 31, 21, 4, 42, 21, 5, 43, 45, 184, 0, 240, 2, 159, 0, 7, 4, 167, 0, 4]
abbrev dktX1_backOf_2 : List UInt8 := dkwX1_backOf_2 ++ dktX1_backOf_3
def dkwX1_backOf_1 : List UInt8 := [153, 0, 66, 44, 185, 0, 191, 1, 0, 192, 0, 238, 78, 4, 54, 4, 3, 54, 5, 21, 5, 42]
abbrev dktX1_backOf_1 : List UInt8 := dkwX1_backOf_1 ++ dktX1_backOf_2
def dkwX1_backOf_0 : List UInt8 := [187, 0, 233, 89, 43, 180, 0, 223, 42, 180, 0, 223, 183, 0, 235, 77, 44, 185, 0, 185, 1, 0]
abbrev dktX1_backOf_0 : List UInt8 := dkwX1_backOf_0 ++ dktX1_backOf_1
theorem dksX1_backOf_0 : cX1_backOf.data.toList.drop 0 = dktX1_backOf_0 := by decide +kernel
theorem dksX1_backOf_1 : cX1_backOf.data.toList.drop 22 = dktX1_backOf_1 := dk_seg dksX1_backOf_0 22 rfl rfl
theorem dksX1_backOf_2 : cX1_backOf.data.toList.drop 44 = dktX1_backOf_2 := dk_seg dksX1_backOf_1 22 rfl rfl
theorem dksX1_backOf_3 : cX1_backOf.data.toList.drop 68 = dktX1_backOf_3 := dk_seg dksX1_backOf_2 24 rfl rfl
theorem dX1_backOf_0 : decode cX1_backOf 0 = .ok (.new 233, 3) := dk_187 0 233 (dk_at dksX1_backOf_0 0 rfl rfl)
theorem dX1_backOf_3 : decode cX1_backOf 3 = .ok (.dup, 1) := dk_89 (dk_at dksX1_backOf_0 3 rfl rfl)
theorem dX1_backOf_4 : decode cX1_backOf 4 = .ok (.aload_n 1, 1) := dk_43 (dk_at dksX1_backOf_0 4 rfl rfl)
theorem dX1_backOf_5 : decode cX1_backOf 5 = .ok (.getfield 223, 3) := dk_180 0 223 (dk_at dksX1_backOf_0 5 rfl rfl)
theorem dX1_backOf_8 : decode cX1_backOf 8 = .ok (.aload_n 0, 1) := dk_42 (dk_at dksX1_backOf_0 8 rfl rfl)
theorem dX1_backOf_9 : decode cX1_backOf 9 = .ok (.getfield 223, 3) := dk_180 0 223 (dk_at dksX1_backOf_0 9 rfl rfl)
theorem dX1_backOf_12 : decode cX1_backOf 12 = .ok (.invokespecial 235, 3) := dk_183 0 235 (dk_at dksX1_backOf_0 12 rfl rfl)
theorem dX1_backOf_15 : decode cX1_backOf 15 = .ok (.astore_n 2, 1) := dk_77 (dk_at dksX1_backOf_0 15 rfl rfl)
theorem dX1_backOf_16 : decode cX1_backOf 16 = .ok (.aload_n 2, 1) := dk_44 (dk_at dksX1_backOf_0 16 rfl rfl)
theorem dX1_backOf_17 : decode cX1_backOf 17 = .ok (.invokeinterface 185 1, 5) := by decide +kernel
theorem dX1_backOf_22 : decode cX1_backOf 22 = .ok (.ifCond .eq 66, 3) := dk_153 0 66 (dk_at dksX1_backOf_1 0 rfl rfl)
theorem dX1_backOf_25 : decode cX1_backOf 25 = .ok (.aload_n 2, 1) := dk_44 (dk_at dksX1_backOf_1 3 rfl rfl)
theorem dX1_backOf_26 : decode cX1_backOf 26 = .ok (.invokeinterface 191 1, 5) := by decide +kernel
theorem dX1_backOf_31 : decode cX1_backOf 31 = .ok (.checkcast 238, 3) := dk_192 0 238 (dk_at dksX1_backOf_1 9 rfl rfl)
theorem dX1_backOf_34 : decode cX1_backOf 34 = .ok (.astore_n 3, 1) := dk_78 (dk_at dksX1_backOf_1 12 rfl rfl)
theorem dX1_backOf_35 : decode cX1_backOf 35 = .ok (.iconst 1, 1) := dk_4 (dk_at dksX1_backOf_1 13 rfl rfl)
theorem dX1_backOf_36 : decode cX1_backOf 36 = .ok (.istore 4, 2) := dk_54 4 (dk_at dksX1_backOf_1 14 rfl rfl)
theorem dX1_backOf_38 : decode cX1_backOf 38 = .ok (.iconst 0, 1) := dk_3 (dk_at dksX1_backOf_1 16 rfl rfl)
theorem dX1_backOf_39 : decode cX1_backOf 39 = .ok (.istore 5, 2) := dk_54 5 (dk_at dksX1_backOf_1 17 rfl rfl)
theorem dX1_backOf_41 : decode cX1_backOf 41 = .ok (.iload 5, 2) := dk_21 5 (dk_at dksX1_backOf_1 19 rfl rfl)
theorem dX1_backOf_43 : decode cX1_backOf 43 = .ok (.aload_n 0, 1) := dk_42 (dk_at dksX1_backOf_1 21 rfl rfl)
theorem dX1_backOf_44 : decode cX1_backOf 44 = .ok (.getfield 220, 3) := dk_180 0 220 (dk_at dksX1_backOf_2 0 rfl rfl)
theorem dX1_backOf_47 : decode cX1_backOf 47 = .ok (.if_icmp .ge 31, 3) := dk_162 0 31 (dk_at dksX1_backOf_2 3 rfl rfl)
theorem dX1_backOf_50 : decode cX1_backOf 50 = .ok (.iload 4, 2) := dk_21 4 (dk_at dksX1_backOf_2 6 rfl rfl)
theorem dX1_backOf_52 : decode cX1_backOf 52 = .ok (.aload_n 0, 1) := dk_42 (dk_at dksX1_backOf_2 8 rfl rfl)
theorem dX1_backOf_53 : decode cX1_backOf 53 = .ok (.iload 5, 2) := dk_21 5 (dk_at dksX1_backOf_2 9 rfl rfl)
theorem dX1_backOf_55 : decode cX1_backOf 55 = .ok (.aload_n 1, 1) := dk_43 (dk_at dksX1_backOf_2 11 rfl rfl)
theorem dX1_backOf_56 : decode cX1_backOf 56 = .ok (.aload_n 3, 1) := dk_45 (dk_at dksX1_backOf_2 12 rfl rfl)
theorem dX1_backOf_57 : decode cX1_backOf 57 = .ok (.invokestatic 240, 3) := dk_184 0 240 (dk_at dksX1_backOf_2 13 rfl rfl)
theorem dX1_backOf_60 : decode cX1_backOf 60 = .ok (.iconst (-1), 1) := dk_2 (dk_at dksX1_backOf_2 16 rfl rfl)
theorem dX1_backOf_61 : decode cX1_backOf 61 = .ok (.if_icmp .eq 7, 3) := dk_159 0 7 (dk_at dksX1_backOf_2 17 rfl rfl)
theorem dX1_backOf_64 : decode cX1_backOf 64 = .ok (.iconst 1, 1) := dk_4 (dk_at dksX1_backOf_2 20 rfl rfl)
theorem dX1_backOf_65 : decode cX1_backOf 65 = .ok (.goto 4, 3) := dk_167 0 4 (dk_at dksX1_backOf_2 21 rfl rfl)
theorem dX1_backOf_68 : decode cX1_backOf 68 = .ok (.iconst 0, 1) := dk_3 (dk_at dksX1_backOf_3 0 rfl rfl)
theorem dX1_backOf_69 : decode cX1_backOf 69 = .ok (.iand, 1) := dk_126 (dk_at dksX1_backOf_3 1 rfl rfl)
theorem dX1_backOf_70 : decode cX1_backOf 70 = .ok (.istore 4, 2) := dk_54 4 (dk_at dksX1_backOf_3 2 rfl rfl)
theorem dX1_backOf_72 : decode cX1_backOf 72 = .ok (.iinc 5 1, 3) := dk_132 5 1 (dk_at dksX1_backOf_3 4 rfl rfl)
theorem dX1_backOf_75 : decode cX1_backOf 75 = .ok (.goto (-34), 3) := dk_167 255 222 (dk_at dksX1_backOf_3 7 rfl rfl)
theorem dX1_backOf_78 : decode cX1_backOf 78 = .ok (.iload 4, 2) := dk_21 4 (dk_at dksX1_backOf_3 10 rfl rfl)
theorem dX1_backOf_80 : decode cX1_backOf 80 = .ok (.ifCond .eq 5, 3) := dk_153 0 5 (dk_at dksX1_backOf_3 12 rfl rfl)
theorem dX1_backOf_83 : decode cX1_backOf 83 = .ok (.aload_n 3, 1) := dk_45 (dk_at dksX1_backOf_3 15 rfl rfl)
theorem dX1_backOf_84 : decode cX1_backOf 84 = .ok (.areturn, 1) := dk_176 (dk_at dksX1_backOf_3 16 rfl rfl)
theorem dX1_backOf_85 : decode cX1_backOf 85 = .ok (.goto (-69), 3) := dk_167 255 187 (dk_at dksX1_backOf_3 17 rfl rfl)
theorem dX1_backOf_88 : decode cX1_backOf 88 = .ok (.aconst_null, 1) := dk_1 (dk_at dksX1_backOf_3 20 rfl rfl)
theorem dX1_backOf_89 : decode cX1_backOf 89 = .ok (.areturn, 1) := dk_176 (dk_at dksX1_backOf_3 21 rfl rfl)
abbrev cX1_lowest : ByteArray := prog_1_method_36_code
def yX1_lowest : MethodName := ⟨RX1, "lowest", "(LReversalCourt$Problem;ILReversalCourt$Problem;[I)I"⟩
def dkwX1_lowest_1 : List UInt8 := [21, 4, 172, 132, 4, 1, 167, 255, 229, 2, 172]
abbrev dktX1_lowest_1 : List UInt8 := dkwX1_lowest_1 ++ []
def dkwX1_lowest_0 : List UInt8 := [3, 54, 4, 21, 4, 44, 180, 0, 220, 162, 0, 24, 42, 27, 44, 21, 4, 45, 184, 0, 229, 153, 0, 6]
abbrev dktX1_lowest_0 : List UInt8 := dkwX1_lowest_0 ++ dktX1_lowest_1
theorem dksX1_lowest_0 : cX1_lowest.data.toList.drop 0 = dktX1_lowest_0 := by decide +kernel
theorem dksX1_lowest_1 : cX1_lowest.data.toList.drop 24 = dktX1_lowest_1 := dk_seg dksX1_lowest_0 24 rfl rfl
theorem dX1_lowest_0 : decode cX1_lowest 0 = .ok (.iconst 0, 1) := dk_3 (dk_at dksX1_lowest_0 0 rfl rfl)
theorem dX1_lowest_1 : decode cX1_lowest 1 = .ok (.istore 4, 2) := dk_54 4 (dk_at dksX1_lowest_0 1 rfl rfl)
theorem dX1_lowest_3 : decode cX1_lowest 3 = .ok (.iload 4, 2) := dk_21 4 (dk_at dksX1_lowest_0 3 rfl rfl)
theorem dX1_lowest_5 : decode cX1_lowest 5 = .ok (.aload_n 2, 1) := dk_44 (dk_at dksX1_lowest_0 5 rfl rfl)
theorem dX1_lowest_6 : decode cX1_lowest 6 = .ok (.getfield 220, 3) := dk_180 0 220 (dk_at dksX1_lowest_0 6 rfl rfl)
theorem dX1_lowest_9 : decode cX1_lowest 9 = .ok (.if_icmp .ge 24, 3) := dk_162 0 24 (dk_at dksX1_lowest_0 9 rfl rfl)
theorem dX1_lowest_12 : decode cX1_lowest 12 = .ok (.aload_n 0, 1) := dk_42 (dk_at dksX1_lowest_0 12 rfl rfl)
theorem dX1_lowest_13 : decode cX1_lowest 13 = .ok (.iload_n 1, 1) := dk_27 (dk_at dksX1_lowest_0 13 rfl rfl)
theorem dX1_lowest_14 : decode cX1_lowest 14 = .ok (.aload_n 2, 1) := dk_44 (dk_at dksX1_lowest_0 14 rfl rfl)
theorem dX1_lowest_15 : decode cX1_lowest 15 = .ok (.iload 4, 2) := dk_21 4 (dk_at dksX1_lowest_0 15 rfl rfl)
theorem dX1_lowest_17 : decode cX1_lowest 17 = .ok (.aload_n 3, 1) := dk_45 (dk_at dksX1_lowest_0 17 rfl rfl)
theorem dX1_lowest_18 : decode cX1_lowest 18 = .ok (.invokestatic 229, 3) := dk_184 0 229 (dk_at dksX1_lowest_0 18 rfl rfl)
theorem dX1_lowest_21 : decode cX1_lowest 21 = .ok (.ifCond .eq 6, 3) := dk_153 0 6 (dk_at dksX1_lowest_0 21 rfl rfl)
theorem dX1_lowest_24 : decode cX1_lowest 24 = .ok (.iload 4, 2) := dk_21 4 (dk_at dksX1_lowest_1 0 rfl rfl)
theorem dX1_lowest_26 : decode cX1_lowest 26 = .ok (.ireturn, 1) := dk_172 (dk_at dksX1_lowest_1 2 rfl rfl)
theorem dX1_lowest_27 : decode cX1_lowest 27 = .ok (.iinc 4 1, 3) := dk_132 4 1 (dk_at dksX1_lowest_1 3 rfl rfl)
theorem dX1_lowest_30 : decode cX1_lowest 30 = .ok (.goto (-27), 3) := dk_167 255 229 (dk_at dksX1_lowest_1 6 rfl rfl)
theorem dX1_lowest_33 : decode cX1_lowest 33 = .ok (.iconst (-1), 1) := dk_2 (dk_at dksX1_lowest_1 9 rfl rfl)
theorem dX1_lowest_34 : decode cX1_lowest 34 = .ok (.ireturn, 1) := dk_172 (dk_at dksX1_lowest_1 10 rfl rfl)
abbrev cX1_does : ByteArray := prog_1_method_35_code
def yX1_does : MethodName := ⟨RX1, "does", "(LReversalCourt$Problem;ILReversalCourt$Problem;I[I)Z"⟩
def dkwX1_does_2 : List UInt8 := [132, 6, 1, 167, 255, 211, 21, 5, 172]
abbrev dktX1_does_2 : List UInt8 := dkwX1_does_2 ++ []
def dkwX1_does_1 : List UInt8 := [153, 0, 16, 42, 27, 25, 4, 21, 6, 46, 182, 0, 226, 153, 0, 7, 4, 167, 0, 4, 3, 126, 54, 5]
abbrev dktX1_does_1 : List UInt8 := dkwX1_does_1 ++ dktX1_does_2
def dkwX1_does_0 : List UInt8 := [4, 54, 5, 3, 54, 6, 21, 6, 44, 180, 0, 223, 162, 0, 42, 21, 5, 44, 29, 21, 6, 182, 0, 226]
abbrev dktX1_does_0 : List UInt8 := dkwX1_does_0 ++ dktX1_does_1
theorem dksX1_does_0 : cX1_does.data.toList.drop 0 = dktX1_does_0 := by decide +kernel
theorem dksX1_does_1 : cX1_does.data.toList.drop 24 = dktX1_does_1 := dk_seg dksX1_does_0 24 rfl rfl
theorem dksX1_does_2 : cX1_does.data.toList.drop 48 = dktX1_does_2 := dk_seg dksX1_does_1 24 rfl rfl
theorem dX1_does_0 : decode cX1_does 0 = .ok (.iconst 1, 1) := dk_4 (dk_at dksX1_does_0 0 rfl rfl)
theorem dX1_does_1 : decode cX1_does 1 = .ok (.istore 5, 2) := dk_54 5 (dk_at dksX1_does_0 1 rfl rfl)
theorem dX1_does_3 : decode cX1_does 3 = .ok (.iconst 0, 1) := dk_3 (dk_at dksX1_does_0 3 rfl rfl)
theorem dX1_does_4 : decode cX1_does 4 = .ok (.istore 6, 2) := dk_54 6 (dk_at dksX1_does_0 4 rfl rfl)
theorem dX1_does_6 : decode cX1_does 6 = .ok (.iload 6, 2) := dk_21 6 (dk_at dksX1_does_0 6 rfl rfl)
theorem dX1_does_8 : decode cX1_does 8 = .ok (.aload_n 2, 1) := dk_44 (dk_at dksX1_does_0 8 rfl rfl)
theorem dX1_does_9 : decode cX1_does 9 = .ok (.getfield 223, 3) := dk_180 0 223 (dk_at dksX1_does_0 9 rfl rfl)
theorem dX1_does_12 : decode cX1_does 12 = .ok (.if_icmp .ge 42, 3) := dk_162 0 42 (dk_at dksX1_does_0 12 rfl rfl)
theorem dX1_does_15 : decode cX1_does 15 = .ok (.iload 5, 2) := dk_21 5 (dk_at dksX1_does_0 15 rfl rfl)
theorem dX1_does_17 : decode cX1_does 17 = .ok (.aload_n 2, 1) := dk_44 (dk_at dksX1_does_0 17 rfl rfl)
theorem dX1_does_18 : decode cX1_does 18 = .ok (.iload_n 3, 1) := dk_29 (dk_at dksX1_does_0 18 rfl rfl)
theorem dX1_does_19 : decode cX1_does 19 = .ok (.iload 6, 2) := dk_21 6 (dk_at dksX1_does_0 19 rfl rfl)
theorem dX1_does_21 : decode cX1_does 21 = .ok (.invokevirtual 226, 3) := dk_182 0 226 (dk_at dksX1_does_0 21 rfl rfl)
theorem dX1_does_24 : decode cX1_does 24 = .ok (.ifCond .eq 16, 3) := dk_153 0 16 (dk_at dksX1_does_1 0 rfl rfl)
theorem dX1_does_27 : decode cX1_does 27 = .ok (.aload_n 0, 1) := dk_42 (dk_at dksX1_does_1 3 rfl rfl)
theorem dX1_does_28 : decode cX1_does 28 = .ok (.iload_n 1, 1) := dk_27 (dk_at dksX1_does_1 4 rfl rfl)
theorem dX1_does_29 : decode cX1_does 29 = .ok (.aload 4, 2) := dk_25 4 (dk_at dksX1_does_1 5 rfl rfl)
theorem dX1_does_31 : decode cX1_does 31 = .ok (.iload 6, 2) := dk_21 6 (dk_at dksX1_does_1 7 rfl rfl)
theorem dX1_does_33 : decode cX1_does 33 = .ok (.iaload, 1) := dk_46 (dk_at dksX1_does_1 9 rfl rfl)
theorem dX1_does_34 : decode cX1_does 34 = .ok (.invokevirtual 226, 3) := dk_182 0 226 (dk_at dksX1_does_1 10 rfl rfl)
theorem dX1_does_37 : decode cX1_does 37 = .ok (.ifCond .eq 7, 3) := dk_153 0 7 (dk_at dksX1_does_1 13 rfl rfl)
theorem dX1_does_40 : decode cX1_does 40 = .ok (.iconst 1, 1) := dk_4 (dk_at dksX1_does_1 16 rfl rfl)
theorem dX1_does_41 : decode cX1_does 41 = .ok (.goto 4, 3) := dk_167 0 4 (dk_at dksX1_does_1 17 rfl rfl)
theorem dX1_does_44 : decode cX1_does 44 = .ok (.iconst 0, 1) := dk_3 (dk_at dksX1_does_1 20 rfl rfl)
theorem dX1_does_45 : decode cX1_does 45 = .ok (.iand, 1) := dk_126 (dk_at dksX1_does_1 21 rfl rfl)
theorem dX1_does_46 : decode cX1_does 46 = .ok (.istore 5, 2) := dk_54 5 (dk_at dksX1_does_1 22 rfl rfl)
theorem dX1_does_48 : decode cX1_does 48 = .ok (.iinc 6 1, 3) := dk_132 6 1 (dk_at dksX1_does_2 0 rfl rfl)
theorem dX1_does_51 : decode cX1_does 51 = .ok (.goto (-45), 3) := dk_167 255 211 (dk_at dksX1_does_2 3 rfl rfl)
theorem dX1_does_54 : decode cX1_does 54 = .ok (.iload 5, 2) := dk_21 5 (dk_at dksX1_does_2 6 rfl rfl)
theorem dX1_does_56 : decode cX1_does 56 = .ok (.ireturn, 1) := dk_172 (dk_at dksX1_does_2 8 rfl rfl)
abbrev cX1_codeOf : ByteArray := prog_1_method_38_code
def yX1_codeOf : MethodName := ⟨RX1, "codeOf", "([II)I"⟩
def dkwX1_codeOf_1 : List UInt8 := [167, 255, 241, 28, 172]
abbrev dktX1_codeOf_1 : List UInt8 := dkwX1_codeOf_1 ++ []
def dkwX1_codeOf_0 : List UInt8 := [3, 61, 42, 190, 4, 100, 62, 29, 155, 0, 17, 27, 28, 104, 42, 29, 46, 96, 61, 132, 3, 255]
abbrev dktX1_codeOf_0 : List UInt8 := dkwX1_codeOf_0 ++ dktX1_codeOf_1
theorem dksX1_codeOf_0 : cX1_codeOf.data.toList.drop 0 = dktX1_codeOf_0 := by decide +kernel
theorem dksX1_codeOf_1 : cX1_codeOf.data.toList.drop 22 = dktX1_codeOf_1 := dk_seg dksX1_codeOf_0 22 rfl rfl
theorem dX1_codeOf_0 : decode cX1_codeOf 0 = .ok (.iconst 0, 1) := dk_3 (dk_at dksX1_codeOf_0 0 rfl rfl)
theorem dX1_codeOf_1 : decode cX1_codeOf 1 = .ok (.istore_n 2, 1) := dk_61 (dk_at dksX1_codeOf_0 1 rfl rfl)
theorem dX1_codeOf_2 : decode cX1_codeOf 2 = .ok (.aload_n 0, 1) := dk_42 (dk_at dksX1_codeOf_0 2 rfl rfl)
theorem dX1_codeOf_3 : decode cX1_codeOf 3 = .ok (.arraylength, 1) := dk_190 (dk_at dksX1_codeOf_0 3 rfl rfl)
theorem dX1_codeOf_4 : decode cX1_codeOf 4 = .ok (.iconst 1, 1) := dk_4 (dk_at dksX1_codeOf_0 4 rfl rfl)
theorem dX1_codeOf_5 : decode cX1_codeOf 5 = .ok (.isub, 1) := dk_100 (dk_at dksX1_codeOf_0 5 rfl rfl)
theorem dX1_codeOf_6 : decode cX1_codeOf 6 = .ok (.istore_n 3, 1) := dk_62 (dk_at dksX1_codeOf_0 6 rfl rfl)
theorem dX1_codeOf_7 : decode cX1_codeOf 7 = .ok (.iload_n 3, 1) := dk_29 (dk_at dksX1_codeOf_0 7 rfl rfl)
theorem dX1_codeOf_8 : decode cX1_codeOf 8 = .ok (.ifCond .lt 17, 3) := dk_155 0 17 (dk_at dksX1_codeOf_0 8 rfl rfl)
theorem dX1_codeOf_11 : decode cX1_codeOf 11 = .ok (.iload_n 1, 1) := dk_27 (dk_at dksX1_codeOf_0 11 rfl rfl)
theorem dX1_codeOf_12 : decode cX1_codeOf 12 = .ok (.iload_n 2, 1) := dk_28 (dk_at dksX1_codeOf_0 12 rfl rfl)
theorem dX1_codeOf_13 : decode cX1_codeOf 13 = .ok (.imul, 1) := dk_104 (dk_at dksX1_codeOf_0 13 rfl rfl)
theorem dX1_codeOf_14 : decode cX1_codeOf 14 = .ok (.aload_n 0, 1) := dk_42 (dk_at dksX1_codeOf_0 14 rfl rfl)
theorem dX1_codeOf_15 : decode cX1_codeOf 15 = .ok (.iload_n 3, 1) := dk_29 (dk_at dksX1_codeOf_0 15 rfl rfl)
theorem dX1_codeOf_16 : decode cX1_codeOf 16 = .ok (.iaload, 1) := dk_46 (dk_at dksX1_codeOf_0 16 rfl rfl)
theorem dX1_codeOf_17 : decode cX1_codeOf 17 = .ok (.iadd, 1) := dk_96 (dk_at dksX1_codeOf_0 17 rfl rfl)
theorem dX1_codeOf_18 : decode cX1_codeOf 18 = .ok (.istore_n 2, 1) := dk_61 (dk_at dksX1_codeOf_0 18 rfl rfl)
theorem dX1_codeOf_19 : decode cX1_codeOf 19 = .ok (.iinc 3 (-1), 3) := dk_132 3 255 (dk_at dksX1_codeOf_0 19 rfl rfl)
theorem dX1_codeOf_22 : decode cX1_codeOf 22 = .ok (.goto (-15), 3) := dk_167 255 241 (dk_at dksX1_codeOf_1 0 rfl rfl)
theorem dX1_codeOf_25 : decode cX1_codeOf 25 = .ok (.iload_n 2, 1) := dk_28 (dk_at dksX1_codeOf_1 3 rfl rfl)
theorem dX1_codeOf_26 : decode cX1_codeOf 26 = .ok (.ireturn, 1) := dk_172 (dk_at dksX1_codeOf_1 4 rfl rfl)
abbrev cX1_reducesAnew : ByteArray := prog_1_method_41_code
def yX1_reducesAnew : MethodName := ⟨RX1, "reducesAnew", "(II)I"⟩
def dkwX1_reducesAnew_7 : List UInt8 := [167, 255, 145, 21, 5, 172]
abbrev dktX1_reducesAnew_7 : List UInt8 := dkwX1_reducesAnew_7 ++ []
def dkwX1_reducesAnew_6 : List UInt8 := [25, 7, 25, 9, 184, 0, 252, 153, 0, 8, 21, 10, 167, 0, 5, 21, 5, 54, 5, 167, 255, 188]
abbrev dktX1_reducesAnew_6 : List UInt8 := dkwX1_reducesAnew_6 ++ dktX1_reducesAnew_7
def dkwX1_reducesAnew_5 : List UInt8 := [180, 0, 223, 184, 0, 248, 54, 10, 21, 5, 2, 159, 0, 10, 21, 10, 21, 5, 162, 0, 21, 45, 25, 4]
abbrev dktX1_reducesAnew_5 : List UInt8 := dkwX1_reducesAnew_5 ++ dktX1_reducesAnew_6
def dkwX1_reducesAnew_4 : List UInt8 := [185, 0, 185, 1, 0, 153, 0, 64, 25, 8, 185, 0, 191, 1, 0, 192, 0, 238, 58, 9, 25, 9, 45]
abbrev dktX1_reducesAnew_4 : List UInt8 := dkwX1_reducesAnew_4 ++ dktX1_reducesAnew_5
def dkwX1_reducesAnew_3 : List UInt8 := [187, 0, 233, 89, 25, 4, 180, 0, 223, 45, 180, 0, 223, 183, 0, 235, 58, 8, 25, 8]
abbrev dktX1_reducesAnew_3 : List UInt8 := dkwX1_reducesAnew_3 ++ dktX1_reducesAnew_4
def dkwX1_reducesAnew_2 : List UInt8 := [25, 6, 185, 0, 185, 1, 0, 153, 0, 107, 25, 6, 185, 0, 191, 1, 0, 192, 0, 238, 58, 7]
abbrev dktX1_reducesAnew_2 : List UInt8 := dkwX1_reducesAnew_2 ++ dktX1_reducesAnew_3
def dkwX1_reducesAnew_1 : List UInt8 := [58, 4, 2, 54, 5, 187, 0, 233, 89, 45, 180, 0, 220, 25, 4, 180, 0, 220, 183, 0, 235, 58, 6]
abbrev dktX1_reducesAnew_1 : List UInt8 := dkwX1_reducesAnew_1 ++ dktX1_reducesAnew_2
def dkwX1_reducesAnew_0 : List UInt8 := [42, 180, 0, 29, 27, 184, 0, 125, 192, 0, 215, 78, 42, 180, 0, 29, 28, 184, 0, 125, 192, 0, 215]
abbrev dktX1_reducesAnew_0 : List UInt8 := dkwX1_reducesAnew_0 ++ dktX1_reducesAnew_1
theorem dksX1_reducesAnew_0 : cX1_reducesAnew.data.toList.drop 0 = dktX1_reducesAnew_0 := by decide +kernel
theorem dksX1_reducesAnew_1 : cX1_reducesAnew.data.toList.drop 23 = dktX1_reducesAnew_1 := dk_seg dksX1_reducesAnew_0 23 rfl rfl
theorem dksX1_reducesAnew_2 : cX1_reducesAnew.data.toList.drop 46 = dktX1_reducesAnew_2 := dk_seg dksX1_reducesAnew_1 23 rfl rfl
theorem dksX1_reducesAnew_3 : cX1_reducesAnew.data.toList.drop 68 = dktX1_reducesAnew_3 := dk_seg dksX1_reducesAnew_2 22 rfl rfl
theorem dksX1_reducesAnew_4 : cX1_reducesAnew.data.toList.drop 88 = dktX1_reducesAnew_4 := dk_seg dksX1_reducesAnew_3 20 rfl rfl
theorem dksX1_reducesAnew_5 : cX1_reducesAnew.data.toList.drop 111 = dktX1_reducesAnew_5 := dk_seg dksX1_reducesAnew_4 23 rfl rfl
theorem dksX1_reducesAnew_6 : cX1_reducesAnew.data.toList.drop 135 = dktX1_reducesAnew_6 := dk_seg dksX1_reducesAnew_5 24 rfl rfl
theorem dksX1_reducesAnew_7 : cX1_reducesAnew.data.toList.drop 157 = dktX1_reducesAnew_7 := dk_seg dksX1_reducesAnew_6 22 rfl rfl
theorem dX1_reducesAnew_0 : decode cX1_reducesAnew 0 = .ok (.aload_n 0, 1) := dk_42 (dk_at dksX1_reducesAnew_0 0 rfl rfl)
theorem dX1_reducesAnew_1 : decode cX1_reducesAnew 1 = .ok (.getfield 29, 3) := dk_180 0 29 (dk_at dksX1_reducesAnew_0 1 rfl rfl)
theorem dX1_reducesAnew_4 : decode cX1_reducesAnew 4 = .ok (.iload_n 1, 1) := dk_27 (dk_at dksX1_reducesAnew_0 4 rfl rfl)
theorem dX1_reducesAnew_5 : decode cX1_reducesAnew 5 = .ok (.invokestatic 125, 3) := dk_184 0 125 (dk_at dksX1_reducesAnew_0 5 rfl rfl)
theorem dX1_reducesAnew_8 : decode cX1_reducesAnew 8 = .ok (.checkcast 215, 3) := dk_192 0 215 (dk_at dksX1_reducesAnew_0 8 rfl rfl)
theorem dX1_reducesAnew_11 : decode cX1_reducesAnew 11 = .ok (.astore_n 3, 1) := dk_78 (dk_at dksX1_reducesAnew_0 11 rfl rfl)
theorem dX1_reducesAnew_12 : decode cX1_reducesAnew 12 = .ok (.aload_n 0, 1) := dk_42 (dk_at dksX1_reducesAnew_0 12 rfl rfl)
theorem dX1_reducesAnew_13 : decode cX1_reducesAnew 13 = .ok (.getfield 29, 3) := dk_180 0 29 (dk_at dksX1_reducesAnew_0 13 rfl rfl)
theorem dX1_reducesAnew_16 : decode cX1_reducesAnew 16 = .ok (.iload_n 2, 1) := dk_28 (dk_at dksX1_reducesAnew_0 16 rfl rfl)
theorem dX1_reducesAnew_17 : decode cX1_reducesAnew 17 = .ok (.invokestatic 125, 3) := dk_184 0 125 (dk_at dksX1_reducesAnew_0 17 rfl rfl)
theorem dX1_reducesAnew_20 : decode cX1_reducesAnew 20 = .ok (.checkcast 215, 3) := dk_192 0 215 (dk_at dksX1_reducesAnew_0 20 rfl rfl)
theorem dX1_reducesAnew_23 : decode cX1_reducesAnew 23 = .ok (.astore 4, 2) := dk_58 4 (dk_at dksX1_reducesAnew_1 0 rfl rfl)
theorem dX1_reducesAnew_25 : decode cX1_reducesAnew 25 = .ok (.iconst (-1), 1) := dk_2 (dk_at dksX1_reducesAnew_1 2 rfl rfl)
theorem dX1_reducesAnew_26 : decode cX1_reducesAnew 26 = .ok (.istore 5, 2) := dk_54 5 (dk_at dksX1_reducesAnew_1 3 rfl rfl)
theorem dX1_reducesAnew_28 : decode cX1_reducesAnew 28 = .ok (.new 233, 3) := dk_187 0 233 (dk_at dksX1_reducesAnew_1 5 rfl rfl)
theorem dX1_reducesAnew_31 : decode cX1_reducesAnew 31 = .ok (.dup, 1) := dk_89 (dk_at dksX1_reducesAnew_1 8 rfl rfl)
theorem dX1_reducesAnew_32 : decode cX1_reducesAnew 32 = .ok (.aload_n 3, 1) := dk_45 (dk_at dksX1_reducesAnew_1 9 rfl rfl)
theorem dX1_reducesAnew_33 : decode cX1_reducesAnew 33 = .ok (.getfield 220, 3) := dk_180 0 220 (dk_at dksX1_reducesAnew_1 10 rfl rfl)
theorem dX1_reducesAnew_36 : decode cX1_reducesAnew 36 = .ok (.aload 4, 2) := dk_25 4 (dk_at dksX1_reducesAnew_1 13 rfl rfl)
theorem dX1_reducesAnew_38 : decode cX1_reducesAnew 38 = .ok (.getfield 220, 3) := dk_180 0 220 (dk_at dksX1_reducesAnew_1 15 rfl rfl)
theorem dX1_reducesAnew_41 : decode cX1_reducesAnew 41 = .ok (.invokespecial 235, 3) := dk_183 0 235 (dk_at dksX1_reducesAnew_1 18 rfl rfl)
theorem dX1_reducesAnew_44 : decode cX1_reducesAnew 44 = .ok (.astore 6, 2) := dk_58 6 (dk_at dksX1_reducesAnew_1 21 rfl rfl)
theorem dX1_reducesAnew_46 : decode cX1_reducesAnew 46 = .ok (.aload 6, 2) := dk_25 6 (dk_at dksX1_reducesAnew_2 0 rfl rfl)
theorem dX1_reducesAnew_48 : decode cX1_reducesAnew 48 = .ok (.invokeinterface 185 1, 5) := by decide +kernel
theorem dX1_reducesAnew_53 : decode cX1_reducesAnew 53 = .ok (.ifCond .eq 107, 3) := dk_153 0 107 (dk_at dksX1_reducesAnew_2 7 rfl rfl)
theorem dX1_reducesAnew_56 : decode cX1_reducesAnew 56 = .ok (.aload 6, 2) := dk_25 6 (dk_at dksX1_reducesAnew_2 10 rfl rfl)
theorem dX1_reducesAnew_58 : decode cX1_reducesAnew 58 = .ok (.invokeinterface 191 1, 5) := by decide +kernel
theorem dX1_reducesAnew_63 : decode cX1_reducesAnew 63 = .ok (.checkcast 238, 3) := dk_192 0 238 (dk_at dksX1_reducesAnew_2 17 rfl rfl)
theorem dX1_reducesAnew_66 : decode cX1_reducesAnew 66 = .ok (.astore 7, 2) := dk_58 7 (dk_at dksX1_reducesAnew_2 20 rfl rfl)
theorem dX1_reducesAnew_68 : decode cX1_reducesAnew 68 = .ok (.new 233, 3) := dk_187 0 233 (dk_at dksX1_reducesAnew_3 0 rfl rfl)
theorem dX1_reducesAnew_71 : decode cX1_reducesAnew 71 = .ok (.dup, 1) := dk_89 (dk_at dksX1_reducesAnew_3 3 rfl rfl)
theorem dX1_reducesAnew_72 : decode cX1_reducesAnew 72 = .ok (.aload 4, 2) := dk_25 4 (dk_at dksX1_reducesAnew_3 4 rfl rfl)
theorem dX1_reducesAnew_74 : decode cX1_reducesAnew 74 = .ok (.getfield 223, 3) := dk_180 0 223 (dk_at dksX1_reducesAnew_3 6 rfl rfl)
theorem dX1_reducesAnew_77 : decode cX1_reducesAnew 77 = .ok (.aload_n 3, 1) := dk_45 (dk_at dksX1_reducesAnew_3 9 rfl rfl)
theorem dX1_reducesAnew_78 : decode cX1_reducesAnew 78 = .ok (.getfield 223, 3) := dk_180 0 223 (dk_at dksX1_reducesAnew_3 10 rfl rfl)
theorem dX1_reducesAnew_81 : decode cX1_reducesAnew 81 = .ok (.invokespecial 235, 3) := dk_183 0 235 (dk_at dksX1_reducesAnew_3 13 rfl rfl)
theorem dX1_reducesAnew_84 : decode cX1_reducesAnew 84 = .ok (.astore 8, 2) := dk_58 8 (dk_at dksX1_reducesAnew_3 16 rfl rfl)
theorem dX1_reducesAnew_86 : decode cX1_reducesAnew 86 = .ok (.aload 8, 2) := dk_25 8 (dk_at dksX1_reducesAnew_3 18 rfl rfl)
theorem dX1_reducesAnew_88 : decode cX1_reducesAnew 88 = .ok (.invokeinterface 185 1, 5) := by decide +kernel
theorem dX1_reducesAnew_93 : decode cX1_reducesAnew 93 = .ok (.ifCond .eq 64, 3) := dk_153 0 64 (dk_at dksX1_reducesAnew_4 5 rfl rfl)
theorem dX1_reducesAnew_96 : decode cX1_reducesAnew 96 = .ok (.aload 8, 2) := dk_25 8 (dk_at dksX1_reducesAnew_4 8 rfl rfl)
theorem dX1_reducesAnew_98 : decode cX1_reducesAnew 98 = .ok (.invokeinterface 191 1, 5) := by decide +kernel
theorem dX1_reducesAnew_103 : decode cX1_reducesAnew 103 = .ok (.checkcast 238, 3) := dk_192 0 238 (dk_at dksX1_reducesAnew_4 15 rfl rfl)
theorem dX1_reducesAnew_106 : decode cX1_reducesAnew 106 = .ok (.astore 9, 2) := dk_58 9 (dk_at dksX1_reducesAnew_4 18 rfl rfl)
theorem dX1_reducesAnew_108 : decode cX1_reducesAnew 108 = .ok (.aload 9, 2) := dk_25 9 (dk_at dksX1_reducesAnew_4 20 rfl rfl)
theorem dX1_reducesAnew_110 : decode cX1_reducesAnew 110 = .ok (.aload_n 3, 1) := dk_45 (dk_at dksX1_reducesAnew_4 22 rfl rfl)
theorem dX1_reducesAnew_111 : decode cX1_reducesAnew 111 = .ok (.getfield 223, 3) := dk_180 0 223 (dk_at dksX1_reducesAnew_5 0 rfl rfl)
theorem dX1_reducesAnew_114 : decode cX1_reducesAnew 114 = .ok (.invokestatic 248, 3) := dk_184 0 248 (dk_at dksX1_reducesAnew_5 3 rfl rfl)
theorem dX1_reducesAnew_117 : decode cX1_reducesAnew 117 = .ok (.istore 10, 2) := dk_54 10 (dk_at dksX1_reducesAnew_5 6 rfl rfl)
theorem dX1_reducesAnew_119 : decode cX1_reducesAnew 119 = .ok (.iload 5, 2) := dk_21 5 (dk_at dksX1_reducesAnew_5 8 rfl rfl)
theorem dX1_reducesAnew_121 : decode cX1_reducesAnew 121 = .ok (.iconst (-1), 1) := dk_2 (dk_at dksX1_reducesAnew_5 10 rfl rfl)
theorem dX1_reducesAnew_122 : decode cX1_reducesAnew 122 = .ok (.if_icmp .eq 10, 3) := dk_159 0 10 (dk_at dksX1_reducesAnew_5 11 rfl rfl)
theorem dX1_reducesAnew_125 : decode cX1_reducesAnew 125 = .ok (.iload 10, 2) := dk_21 10 (dk_at dksX1_reducesAnew_5 14 rfl rfl)
theorem dX1_reducesAnew_127 : decode cX1_reducesAnew 127 = .ok (.iload 5, 2) := dk_21 5 (dk_at dksX1_reducesAnew_5 16 rfl rfl)
theorem dX1_reducesAnew_129 : decode cX1_reducesAnew 129 = .ok (.if_icmp .ge 21, 3) := dk_162 0 21 (dk_at dksX1_reducesAnew_5 18 rfl rfl)
theorem dX1_reducesAnew_132 : decode cX1_reducesAnew 132 = .ok (.aload_n 3, 1) := dk_45 (dk_at dksX1_reducesAnew_5 21 rfl rfl)
theorem dX1_reducesAnew_133 : decode cX1_reducesAnew 133 = .ok (.aload 4, 2) := dk_25 4 (dk_at dksX1_reducesAnew_5 22 rfl rfl)
theorem dX1_reducesAnew_135 : decode cX1_reducesAnew 135 = .ok (.aload 7, 2) := dk_25 7 (dk_at dksX1_reducesAnew_6 0 rfl rfl)
theorem dX1_reducesAnew_137 : decode cX1_reducesAnew 137 = .ok (.aload 9, 2) := dk_25 9 (dk_at dksX1_reducesAnew_6 2 rfl rfl)
theorem dX1_reducesAnew_139 : decode cX1_reducesAnew 139 = .ok (.invokestatic 252, 3) := dk_184 0 252 (dk_at dksX1_reducesAnew_6 4 rfl rfl)
theorem dX1_reducesAnew_142 : decode cX1_reducesAnew 142 = .ok (.ifCond .eq 8, 3) := dk_153 0 8 (dk_at dksX1_reducesAnew_6 7 rfl rfl)
theorem dX1_reducesAnew_145 : decode cX1_reducesAnew 145 = .ok (.iload 10, 2) := dk_21 10 (dk_at dksX1_reducesAnew_6 10 rfl rfl)
theorem dX1_reducesAnew_147 : decode cX1_reducesAnew 147 = .ok (.goto 5, 3) := dk_167 0 5 (dk_at dksX1_reducesAnew_6 12 rfl rfl)
theorem dX1_reducesAnew_150 : decode cX1_reducesAnew 150 = .ok (.iload 5, 2) := dk_21 5 (dk_at dksX1_reducesAnew_6 15 rfl rfl)
theorem dX1_reducesAnew_152 : decode cX1_reducesAnew 152 = .ok (.istore 5, 2) := dk_54 5 (dk_at dksX1_reducesAnew_6 17 rfl rfl)
theorem dX1_reducesAnew_154 : decode cX1_reducesAnew 154 = .ok (.goto (-68), 3) := dk_167 255 188 (dk_at dksX1_reducesAnew_6 19 rfl rfl)
theorem dX1_reducesAnew_157 : decode cX1_reducesAnew 157 = .ok (.goto (-111), 3) := dk_167 255 145 (dk_at dksX1_reducesAnew_7 0 rfl rfl)
theorem dX1_reducesAnew_160 : decode cX1_reducesAnew 160 = .ok (.iload 5, 2) := dk_21 5 (dk_at dksX1_reducesAnew_7 3 rfl rfl)
theorem dX1_reducesAnew_162 : decode cX1_reducesAnew 162 = .ok (.ireturn, 1) := dk_172 (dk_at dksX1_reducesAnew_7 5 rfl rfl)
abbrev cX1_doesAll : ByteArray := prog_1_method_40_code
def yX1_doesAll : MethodName := ⟨RX1, "doesAll", "(LReversalCourt$Problem;LReversalCourt$Problem;[I[I)Z"⟩
def dkwX1_doesAll_1 : List UInt8 := [21, 5, 46, 45, 184, 0, 229, 54, 4, 132, 5, 1, 167, 255, 227, 21, 4, 172]
abbrev dktX1_doesAll_1 : List UInt8 := dkwX1_doesAll_1 ++ []
def dkwX1_doesAll_0 : List UInt8 := [4, 54, 4, 3, 54, 5, 21, 5, 44, 190, 162, 0, 28, 21, 4, 153, 0, 23, 42, 21, 5, 43, 44]
abbrev dktX1_doesAll_0 : List UInt8 := dkwX1_doesAll_0 ++ dktX1_doesAll_1
theorem dksX1_doesAll_0 : cX1_doesAll.data.toList.drop 0 = dktX1_doesAll_0 := by decide +kernel
theorem dksX1_doesAll_1 : cX1_doesAll.data.toList.drop 23 = dktX1_doesAll_1 := dk_seg dksX1_doesAll_0 23 rfl rfl
theorem dX1_doesAll_0 : decode cX1_doesAll 0 = .ok (.iconst 1, 1) := dk_4 (dk_at dksX1_doesAll_0 0 rfl rfl)
theorem dX1_doesAll_1 : decode cX1_doesAll 1 = .ok (.istore 4, 2) := dk_54 4 (dk_at dksX1_doesAll_0 1 rfl rfl)
theorem dX1_doesAll_3 : decode cX1_doesAll 3 = .ok (.iconst 0, 1) := dk_3 (dk_at dksX1_doesAll_0 3 rfl rfl)
theorem dX1_doesAll_4 : decode cX1_doesAll 4 = .ok (.istore 5, 2) := dk_54 5 (dk_at dksX1_doesAll_0 4 rfl rfl)
theorem dX1_doesAll_6 : decode cX1_doesAll 6 = .ok (.iload 5, 2) := dk_21 5 (dk_at dksX1_doesAll_0 6 rfl rfl)
theorem dX1_doesAll_8 : decode cX1_doesAll 8 = .ok (.aload_n 2, 1) := dk_44 (dk_at dksX1_doesAll_0 8 rfl rfl)
theorem dX1_doesAll_9 : decode cX1_doesAll 9 = .ok (.arraylength, 1) := dk_190 (dk_at dksX1_doesAll_0 9 rfl rfl)
theorem dX1_doesAll_10 : decode cX1_doesAll 10 = .ok (.if_icmp .ge 28, 3) := dk_162 0 28 (dk_at dksX1_doesAll_0 10 rfl rfl)
theorem dX1_doesAll_13 : decode cX1_doesAll 13 = .ok (.iload 4, 2) := dk_21 4 (dk_at dksX1_doesAll_0 13 rfl rfl)
theorem dX1_doesAll_15 : decode cX1_doesAll 15 = .ok (.ifCond .eq 23, 3) := dk_153 0 23 (dk_at dksX1_doesAll_0 15 rfl rfl)
theorem dX1_doesAll_18 : decode cX1_doesAll 18 = .ok (.aload_n 0, 1) := dk_42 (dk_at dksX1_doesAll_0 18 rfl rfl)
theorem dX1_doesAll_19 : decode cX1_doesAll 19 = .ok (.iload 5, 2) := dk_21 5 (dk_at dksX1_doesAll_0 19 rfl rfl)
theorem dX1_doesAll_21 : decode cX1_doesAll 21 = .ok (.aload_n 1, 1) := dk_43 (dk_at dksX1_doesAll_0 21 rfl rfl)
theorem dX1_doesAll_22 : decode cX1_doesAll 22 = .ok (.aload_n 2, 1) := dk_44 (dk_at dksX1_doesAll_0 22 rfl rfl)
theorem dX1_doesAll_23 : decode cX1_doesAll 23 = .ok (.iload 5, 2) := dk_21 5 (dk_at dksX1_doesAll_1 0 rfl rfl)
theorem dX1_doesAll_25 : decode cX1_doesAll 25 = .ok (.iaload, 1) := dk_46 (dk_at dksX1_doesAll_1 2 rfl rfl)
theorem dX1_doesAll_26 : decode cX1_doesAll 26 = .ok (.aload_n 3, 1) := dk_45 (dk_at dksX1_doesAll_1 3 rfl rfl)
theorem dX1_doesAll_27 : decode cX1_doesAll 27 = .ok (.invokestatic 229, 3) := dk_184 0 229 (dk_at dksX1_doesAll_1 4 rfl rfl)
theorem dX1_doesAll_30 : decode cX1_doesAll 30 = .ok (.istore 4, 2) := dk_54 4 (dk_at dksX1_doesAll_1 7 rfl rfl)
theorem dX1_doesAll_32 : decode cX1_doesAll 32 = .ok (.iinc 5 1, 3) := dk_132 5 1 (dk_at dksX1_doesAll_1 9 rfl rfl)
theorem dX1_doesAll_35 : decode cX1_doesAll 35 = .ok (.goto (-29), 3) := dk_167 255 227 (dk_at dksX1_doesAll_1 12 rfl rfl)
theorem dX1_doesAll_38 : decode cX1_doesAll 38 = .ok (.iload 4, 2) := dk_21 4 (dk_at dksX1_doesAll_1 15 rfl rfl)
theorem dX1_doesAll_40 : decode cX1_doesAll 40 = .ok (.ireturn, 1) := dk_172 (dk_at dksX1_doesAll_1 17 rfl rfl)
abbrev cX1_forth : ByteArray := prog_1_method_42_code
def yX1_forth : MethodName := ⟨RX1, "forth", "(III)I"⟩
def dkwX1_forth_2 : List UInt8 := [58, 6, 25, 6, 199, 0, 7, 2, 167, 0, 13, 25, 4, 29, 25, 5, 25, 6, 184, 0, 240, 172]
abbrev dktX1_forth_2 : List UInt8 := dkwX1_forth_2 ++ []
def dkwX1_forth_1 : List UInt8 := [58, 5, 29, 3, 25, 4, 180, 0, 220, 4, 100, 184, 0, 45, 184, 0, 49, 25, 4, 25, 5, 184, 0, 244]
abbrev dktX1_forth_1 : List UInt8 := dkwX1_forth_1 ++ dktX1_forth_2
def dkwX1_forth_0 : List UInt8 := [42, 180, 0, 29, 27, 184, 0, 125, 192, 0, 215, 58, 4, 42, 180, 0, 29, 28, 184, 0, 125, 192, 0, 215]
abbrev dktX1_forth_0 : List UInt8 := dkwX1_forth_0 ++ dktX1_forth_1
theorem dksX1_forth_0 : cX1_forth.data.toList.drop 0 = dktX1_forth_0 := by decide +kernel
theorem dksX1_forth_1 : cX1_forth.data.toList.drop 24 = dktX1_forth_1 := dk_seg dksX1_forth_0 24 rfl rfl
theorem dksX1_forth_2 : cX1_forth.data.toList.drop 48 = dktX1_forth_2 := dk_seg dksX1_forth_1 24 rfl rfl
theorem dX1_forth_0 : decode cX1_forth 0 = .ok (.aload_n 0, 1) := dk_42 (dk_at dksX1_forth_0 0 rfl rfl)
theorem dX1_forth_1 : decode cX1_forth 1 = .ok (.getfield 29, 3) := dk_180 0 29 (dk_at dksX1_forth_0 1 rfl rfl)
theorem dX1_forth_4 : decode cX1_forth 4 = .ok (.iload_n 1, 1) := dk_27 (dk_at dksX1_forth_0 4 rfl rfl)
theorem dX1_forth_5 : decode cX1_forth 5 = .ok (.invokestatic 125, 3) := dk_184 0 125 (dk_at dksX1_forth_0 5 rfl rfl)
theorem dX1_forth_8 : decode cX1_forth 8 = .ok (.checkcast 215, 3) := dk_192 0 215 (dk_at dksX1_forth_0 8 rfl rfl)
theorem dX1_forth_11 : decode cX1_forth 11 = .ok (.astore 4, 2) := dk_58 4 (dk_at dksX1_forth_0 11 rfl rfl)
theorem dX1_forth_13 : decode cX1_forth 13 = .ok (.aload_n 0, 1) := dk_42 (dk_at dksX1_forth_0 13 rfl rfl)
theorem dX1_forth_14 : decode cX1_forth 14 = .ok (.getfield 29, 3) := dk_180 0 29 (dk_at dksX1_forth_0 14 rfl rfl)
theorem dX1_forth_17 : decode cX1_forth 17 = .ok (.iload_n 2, 1) := dk_28 (dk_at dksX1_forth_0 17 rfl rfl)
theorem dX1_forth_18 : decode cX1_forth 18 = .ok (.invokestatic 125, 3) := dk_184 0 125 (dk_at dksX1_forth_0 18 rfl rfl)
theorem dX1_forth_21 : decode cX1_forth 21 = .ok (.checkcast 215, 3) := dk_192 0 215 (dk_at dksX1_forth_0 21 rfl rfl)
theorem dX1_forth_24 : decode cX1_forth 24 = .ok (.astore 5, 2) := dk_58 5 (dk_at dksX1_forth_1 0 rfl rfl)
theorem dX1_forth_26 : decode cX1_forth 26 = .ok (.iload_n 3, 1) := dk_29 (dk_at dksX1_forth_1 2 rfl rfl)
theorem dX1_forth_27 : decode cX1_forth 27 = .ok (.iconst 0, 1) := dk_3 (dk_at dksX1_forth_1 3 rfl rfl)
theorem dX1_forth_28 : decode cX1_forth 28 = .ok (.aload 4, 2) := dk_25 4 (dk_at dksX1_forth_1 4 rfl rfl)
theorem dX1_forth_30 : decode cX1_forth 30 = .ok (.getfield 220, 3) := dk_180 0 220 (dk_at dksX1_forth_1 6 rfl rfl)
theorem dX1_forth_33 : decode cX1_forth 33 = .ok (.iconst 1, 1) := dk_4 (dk_at dksX1_forth_1 9 rfl rfl)
theorem dX1_forth_34 : decode cX1_forth 34 = .ok (.isub, 1) := dk_100 (dk_at dksX1_forth_1 10 rfl rfl)
theorem dX1_forth_35 : decode cX1_forth 35 = .ok (.invokestatic 45, 3) := dk_184 0 45 (dk_at dksX1_forth_1 11 rfl rfl)
theorem dX1_forth_38 : decode cX1_forth 38 = .ok (.invokestatic 49, 3) := dk_184 0 49 (dk_at dksX1_forth_1 14 rfl rfl)
theorem dX1_forth_41 : decode cX1_forth 41 = .ok (.aload 4, 2) := dk_25 4 (dk_at dksX1_forth_1 17 rfl rfl)
theorem dX1_forth_43 : decode cX1_forth 43 = .ok (.aload 5, 2) := dk_25 5 (dk_at dksX1_forth_1 19 rfl rfl)
theorem dX1_forth_45 : decode cX1_forth 45 = .ok (.invokestatic 244, 3) := dk_184 0 244 (dk_at dksX1_forth_1 21 rfl rfl)
theorem dX1_forth_48 : decode cX1_forth 48 = .ok (.astore 6, 2) := dk_58 6 (dk_at dksX1_forth_2 0 rfl rfl)
theorem dX1_forth_50 : decode cX1_forth 50 = .ok (.aload 6, 2) := dk_25 6 (dk_at dksX1_forth_2 2 rfl rfl)
theorem dX1_forth_52 : decode cX1_forth 52 = .ok (.ifnonnull 7, 3) := dk_199 0 7 (dk_at dksX1_forth_2 4 rfl rfl)
theorem dX1_forth_55 : decode cX1_forth 55 = .ok (.iconst (-1), 1) := dk_2 (dk_at dksX1_forth_2 7 rfl rfl)
theorem dX1_forth_56 : decode cX1_forth 56 = .ok (.goto 13, 3) := dk_167 0 13 (dk_at dksX1_forth_2 8 rfl rfl)
theorem dX1_forth_59 : decode cX1_forth 59 = .ok (.aload 4, 2) := dk_25 4 (dk_at dksX1_forth_2 11 rfl rfl)
theorem dX1_forth_61 : decode cX1_forth 61 = .ok (.iload_n 3, 1) := dk_29 (dk_at dksX1_forth_2 13 rfl rfl)
theorem dX1_forth_62 : decode cX1_forth 62 = .ok (.aload 5, 2) := dk_25 5 (dk_at dksX1_forth_2 14 rfl rfl)
theorem dX1_forth_64 : decode cX1_forth 64 = .ok (.aload 6, 2) := dk_25 6 (dk_at dksX1_forth_2 16 rfl rfl)
theorem dX1_forth_66 : decode cX1_forth 66 = .ok (.invokestatic 240, 3) := dk_184 0 240 (dk_at dksX1_forth_2 18 rfl rfl)
theorem dX1_forth_69 : decode cX1_forth 69 = .ok (.ireturn, 1) := dk_172 (dk_at dksX1_forth_2 21 rfl rfl)
abbrev cX1_ofProblem : ByteArray := prog_1_method_43_code
def yX1_ofProblem : MethodName := ⟨RX1, "ofProblem", "(II)I"⟩
def dkwX1_ofProblem_2 : List UInt8 := [180, 1, 0, 172]
abbrev dktX1_ofProblem_2 : List UInt8 := dkwX1_ofProblem_2 ++ []
def dkwX1_ofProblem_1 : List UInt8 := [154, 0, 10, 45, 180, 0, 220, 167, 0, 19, 28, 4, 160, 0, 10, 45, 180, 0, 223, 167, 0, 7, 45]
abbrev dktX1_ofProblem_1 : List UInt8 := dkwX1_ofProblem_1 ++ dktX1_ofProblem_2
def dkwX1_ofProblem_0 : List UInt8 := [42, 180, 0, 29, 27, 184, 0, 125, 192, 0, 215, 78, 28, 3, 5, 184, 0, 45, 184, 0, 65, 28]
abbrev dktX1_ofProblem_0 : List UInt8 := dkwX1_ofProblem_0 ++ dktX1_ofProblem_1
theorem dksX1_ofProblem_0 : cX1_ofProblem.data.toList.drop 0 = dktX1_ofProblem_0 := by decide +kernel
theorem dksX1_ofProblem_1 : cX1_ofProblem.data.toList.drop 22 = dktX1_ofProblem_1 := dk_seg dksX1_ofProblem_0 22 rfl rfl
theorem dksX1_ofProblem_2 : cX1_ofProblem.data.toList.drop 45 = dktX1_ofProblem_2 := dk_seg dksX1_ofProblem_1 23 rfl rfl
theorem dX1_ofProblem_0 : decode cX1_ofProblem 0 = .ok (.aload_n 0, 1) := dk_42 (dk_at dksX1_ofProblem_0 0 rfl rfl)
theorem dX1_ofProblem_1 : decode cX1_ofProblem 1 = .ok (.getfield 29, 3) := dk_180 0 29 (dk_at dksX1_ofProblem_0 1 rfl rfl)
theorem dX1_ofProblem_4 : decode cX1_ofProblem 4 = .ok (.iload_n 1, 1) := dk_27 (dk_at dksX1_ofProblem_0 4 rfl rfl)
theorem dX1_ofProblem_5 : decode cX1_ofProblem 5 = .ok (.invokestatic 125, 3) := dk_184 0 125 (dk_at dksX1_ofProblem_0 5 rfl rfl)
theorem dX1_ofProblem_8 : decode cX1_ofProblem 8 = .ok (.checkcast 215, 3) := dk_192 0 215 (dk_at dksX1_ofProblem_0 8 rfl rfl)
theorem dX1_ofProblem_11 : decode cX1_ofProblem 11 = .ok (.astore_n 3, 1) := dk_78 (dk_at dksX1_ofProblem_0 11 rfl rfl)
theorem dX1_ofProblem_12 : decode cX1_ofProblem 12 = .ok (.iload_n 2, 1) := dk_28 (dk_at dksX1_ofProblem_0 12 rfl rfl)
theorem dX1_ofProblem_13 : decode cX1_ofProblem 13 = .ok (.iconst 0, 1) := dk_3 (dk_at dksX1_ofProblem_0 13 rfl rfl)
theorem dX1_ofProblem_14 : decode cX1_ofProblem 14 = .ok (.iconst 2, 1) := dk_5 (dk_at dksX1_ofProblem_0 14 rfl rfl)
theorem dX1_ofProblem_15 : decode cX1_ofProblem 15 = .ok (.invokestatic 45, 3) := dk_184 0 45 (dk_at dksX1_ofProblem_0 15 rfl rfl)
theorem dX1_ofProblem_18 : decode cX1_ofProblem 18 = .ok (.invokestatic 65, 3) := dk_184 0 65 (dk_at dksX1_ofProblem_0 18 rfl rfl)
theorem dX1_ofProblem_21 : decode cX1_ofProblem 21 = .ok (.iload_n 2, 1) := dk_28 (dk_at dksX1_ofProblem_0 21 rfl rfl)
theorem dX1_ofProblem_22 : decode cX1_ofProblem 22 = .ok (.ifCond .ne 10, 3) := dk_154 0 10 (dk_at dksX1_ofProblem_1 0 rfl rfl)
theorem dX1_ofProblem_25 : decode cX1_ofProblem 25 = .ok (.aload_n 3, 1) := dk_45 (dk_at dksX1_ofProblem_1 3 rfl rfl)
theorem dX1_ofProblem_26 : decode cX1_ofProblem 26 = .ok (.getfield 220, 3) := dk_180 0 220 (dk_at dksX1_ofProblem_1 4 rfl rfl)
theorem dX1_ofProblem_29 : decode cX1_ofProblem 29 = .ok (.goto 19, 3) := dk_167 0 19 (dk_at dksX1_ofProblem_1 7 rfl rfl)
theorem dX1_ofProblem_32 : decode cX1_ofProblem 32 = .ok (.iload_n 2, 1) := dk_28 (dk_at dksX1_ofProblem_1 10 rfl rfl)
theorem dX1_ofProblem_33 : decode cX1_ofProblem 33 = .ok (.iconst 1, 1) := dk_4 (dk_at dksX1_ofProblem_1 11 rfl rfl)
theorem dX1_ofProblem_34 : decode cX1_ofProblem 34 = .ok (.if_icmp .ne 10, 3) := dk_160 0 10 (dk_at dksX1_ofProblem_1 12 rfl rfl)
theorem dX1_ofProblem_37 : decode cX1_ofProblem 37 = .ok (.aload_n 3, 1) := dk_45 (dk_at dksX1_ofProblem_1 15 rfl rfl)
theorem dX1_ofProblem_38 : decode cX1_ofProblem 38 = .ok (.getfield 223, 3) := dk_180 0 223 (dk_at dksX1_ofProblem_1 16 rfl rfl)
theorem dX1_ofProblem_41 : decode cX1_ofProblem 41 = .ok (.goto 7, 3) := dk_167 0 7 (dk_at dksX1_ofProblem_1 19 rfl rfl)
theorem dX1_ofProblem_44 : decode cX1_ofProblem 44 = .ok (.aload_n 3, 1) := dk_45 (dk_at dksX1_ofProblem_1 22 rfl rfl)
theorem dX1_ofProblem_45 : decode cX1_ofProblem 45 = .ok (.getfield 256, 3) := dk_180 1 0 (dk_at dksX1_ofProblem_2 0 rfl rfl)
theorem dX1_ofProblem_48 : decode cX1_ofProblem 48 = .ok (.ireturn, 1) := dk_172 (dk_at dksX1_ofProblem_2 3 rfl rfl)
abbrev cX1_has : ByteArray := prog_1_method_46_code
def yX1_has : MethodName := ⟨RX1, "has", "(II)Z"⟩
def dkwX1_has_0 : List UInt8 := [27, 28, 184, 1, 6, 27, 28, 3, 3, 184, 1, 2, 172]
abbrev dktX1_has_0 : List UInt8 := dkwX1_has_0 ++ []
theorem dksX1_has_0 : cX1_has.data.toList.drop 0 = dktX1_has_0 := by decide +kernel
theorem dX1_has_0 : decode cX1_has 0 = .ok (.iload_n 1, 1) := dk_27 (dk_at dksX1_has_0 0 rfl rfl)
theorem dX1_has_1 : decode cX1_has 1 = .ok (.iload_n 2, 1) := dk_28 (dk_at dksX1_has_0 1 rfl rfl)
theorem dX1_has_2 : decode cX1_has 2 = .ok (.invokestatic 262, 3) := dk_184 1 6 (dk_at dksX1_has_0 2 rfl rfl)
theorem dX1_has_5 : decode cX1_has 5 = .ok (.iload_n 1, 1) := dk_27 (dk_at dksX1_has_0 5 rfl rfl)
theorem dX1_has_6 : decode cX1_has 6 = .ok (.iload_n 2, 1) := dk_28 (dk_at dksX1_has_0 6 rfl rfl)
theorem dX1_has_7 : decode cX1_has 7 = .ok (.iconst 0, 1) := dk_3 (dk_at dksX1_has_0 7 rfl rfl)
theorem dX1_has_8 : decode cX1_has 8 = .ok (.iconst 0, 1) := dk_3 (dk_at dksX1_has_0 8 rfl rfl)
theorem dX1_has_9 : decode cX1_has 9 = .ok (.invokestatic 258, 3) := dk_184 1 2 (dk_at dksX1_has_0 9 rfl rfl)
theorem dX1_has_12 : decode cX1_has 12 = .ok (.ireturn, 1) := dk_172 (dk_at dksX1_has_0 12 rfl rfl)
abbrev cX1_needGame : ByteArray := prog_1_method_44_code
def yX1_needGame : MethodName := ⟨RX1, "needGame", "(II)V"⟩
def dkwX1_needGame_1 : List UInt8 := [4, 167, 0, 4, 3, 184, 0, 65, 177]
abbrev dktX1_needGame_1 : List UInt8 := dkwX1_needGame_1 ++ []
def dkwX1_needGame_0 : List UInt8 := [26, 4, 7, 184, 0, 45, 153, 0, 22, 27, 3, 4, 4, 26, 120, 120, 4, 100, 184, 0, 45, 153, 0, 7]
abbrev dktX1_needGame_0 : List UInt8 := dkwX1_needGame_0 ++ dktX1_needGame_1
theorem dksX1_needGame_0 : cX1_needGame.data.toList.drop 0 = dktX1_needGame_0 := by decide +kernel
theorem dksX1_needGame_1 : cX1_needGame.data.toList.drop 24 = dktX1_needGame_1 := dk_seg dksX1_needGame_0 24 rfl rfl
theorem dX1_needGame_0 : decode cX1_needGame 0 = .ok (.iload_n 0, 1) := dk_26 (dk_at dksX1_needGame_0 0 rfl rfl)
theorem dX1_needGame_1 : decode cX1_needGame 1 = .ok (.iconst 1, 1) := dk_4 (dk_at dksX1_needGame_0 1 rfl rfl)
theorem dX1_needGame_2 : decode cX1_needGame 2 = .ok (.iconst 4, 1) := dk_7 (dk_at dksX1_needGame_0 2 rfl rfl)
theorem dX1_needGame_3 : decode cX1_needGame 3 = .ok (.invokestatic 45, 3) := dk_184 0 45 (dk_at dksX1_needGame_0 3 rfl rfl)
theorem dX1_needGame_6 : decode cX1_needGame 6 = .ok (.ifCond .eq 22, 3) := dk_153 0 22 (dk_at dksX1_needGame_0 6 rfl rfl)
theorem dX1_needGame_9 : decode cX1_needGame 9 = .ok (.iload_n 1, 1) := dk_27 (dk_at dksX1_needGame_0 9 rfl rfl)
theorem dX1_needGame_10 : decode cX1_needGame 10 = .ok (.iconst 0, 1) := dk_3 (dk_at dksX1_needGame_0 10 rfl rfl)
theorem dX1_needGame_11 : decode cX1_needGame 11 = .ok (.iconst 1, 1) := dk_4 (dk_at dksX1_needGame_0 11 rfl rfl)
theorem dX1_needGame_12 : decode cX1_needGame 12 = .ok (.iconst 1, 1) := dk_4 (dk_at dksX1_needGame_0 12 rfl rfl)
theorem dX1_needGame_13 : decode cX1_needGame 13 = .ok (.iload_n 0, 1) := dk_26 (dk_at dksX1_needGame_0 13 rfl rfl)
theorem dX1_needGame_14 : decode cX1_needGame 14 = .ok (.ishl, 1) := dk_120 (dk_at dksX1_needGame_0 14 rfl rfl)
theorem dX1_needGame_15 : decode cX1_needGame 15 = .ok (.ishl, 1) := dk_120 (dk_at dksX1_needGame_0 15 rfl rfl)
theorem dX1_needGame_16 : decode cX1_needGame 16 = .ok (.iconst 1, 1) := dk_4 (dk_at dksX1_needGame_0 16 rfl rfl)
theorem dX1_needGame_17 : decode cX1_needGame 17 = .ok (.isub, 1) := dk_100 (dk_at dksX1_needGame_0 17 rfl rfl)
theorem dX1_needGame_18 : decode cX1_needGame 18 = .ok (.invokestatic 45, 3) := dk_184 0 45 (dk_at dksX1_needGame_0 18 rfl rfl)
theorem dX1_needGame_21 : decode cX1_needGame 21 = .ok (.ifCond .eq 7, 3) := dk_153 0 7 (dk_at dksX1_needGame_0 21 rfl rfl)
theorem dX1_needGame_24 : decode cX1_needGame 24 = .ok (.iconst 1, 1) := dk_4 (dk_at dksX1_needGame_1 0 rfl rfl)
theorem dX1_needGame_25 : decode cX1_needGame 25 = .ok (.goto 4, 3) := dk_167 0 4 (dk_at dksX1_needGame_1 1 rfl rfl)
theorem dX1_needGame_28 : decode cX1_needGame 28 = .ok (.iconst 0, 1) := dk_3 (dk_at dksX1_needGame_1 4 rfl rfl)
theorem dX1_needGame_29 : decode cX1_needGame 29 = .ok (.invokestatic 65, 3) := dk_184 0 65 (dk_at dksX1_needGame_1 5 rfl rfl)
theorem dX1_needGame_32 : decode cX1_needGame 32 = .ok (.return_, 1) := dk_177 (dk_at dksX1_needGame_1 8 rfl rfl)
abbrev cX1_hasFrom : ByteArray := prog_1_method_45_code
def yX1_hasFrom : MethodName := ⟨RX1, "hasFrom", "(IIII)Z"⟩
def dkwX1_hasFrom_3 : List UInt8 := [21, 4, 153, 0, 12, 21, 5, 153, 0, 7, 4, 167, 0, 4, 3, 172]
abbrev dktX1_hasFrom_3 : List UInt8 := dkwX1_hasFrom_3 ++ []
def dkwX1_hasFrom_2 : List UInt8 := [28, 5, 112, 154, 0, 21, 21, 4, 154, 0, 8, 21, 5, 153, 0, 7, 4, 167, 0, 22, 3, 167, 0, 18]
abbrev dktX1_hasFrom_2 : List UInt8 := dkwX1_hasFrom_2 ++ dktX1_hasFrom_3
def dkwX1_hasFrom_1 : List UInt8 := [96, 5, 29, 104, 184, 1, 2, 54, 4, 26, 27, 28, 4, 96, 5, 29, 104, 4, 96, 184, 1, 2, 54, 5]
abbrev dktX1_hasFrom_1 : List UInt8 := dkwX1_hasFrom_1 ++ dktX1_hasFrom_2
def dkwX1_hasFrom_0 : List UInt8 := [28, 26, 160, 0, 18, 27, 29, 122, 4, 126, 4, 160, 0, 7, 4, 167, 0, 4, 3, 172, 26, 27, 28, 4]
abbrev dktX1_hasFrom_0 : List UInt8 := dkwX1_hasFrom_0 ++ dktX1_hasFrom_1
theorem dksX1_hasFrom_0 : cX1_hasFrom.data.toList.drop 0 = dktX1_hasFrom_0 := by decide +kernel
theorem dksX1_hasFrom_1 : cX1_hasFrom.data.toList.drop 24 = dktX1_hasFrom_1 := dk_seg dksX1_hasFrom_0 24 rfl rfl
theorem dksX1_hasFrom_2 : cX1_hasFrom.data.toList.drop 48 = dktX1_hasFrom_2 := dk_seg dksX1_hasFrom_1 24 rfl rfl
theorem dksX1_hasFrom_3 : cX1_hasFrom.data.toList.drop 72 = dktX1_hasFrom_3 := dk_seg dksX1_hasFrom_2 24 rfl rfl
theorem dX1_hasFrom_0 : decode cX1_hasFrom 0 = .ok (.iload_n 2, 1) := dk_28 (dk_at dksX1_hasFrom_0 0 rfl rfl)
theorem dX1_hasFrom_1 : decode cX1_hasFrom 1 = .ok (.iload_n 0, 1) := dk_26 (dk_at dksX1_hasFrom_0 1 rfl rfl)
theorem dX1_hasFrom_2 : decode cX1_hasFrom 2 = .ok (.if_icmp .ne 18, 3) := dk_160 0 18 (dk_at dksX1_hasFrom_0 2 rfl rfl)
theorem dX1_hasFrom_5 : decode cX1_hasFrom 5 = .ok (.iload_n 1, 1) := dk_27 (dk_at dksX1_hasFrom_0 5 rfl rfl)
theorem dX1_hasFrom_6 : decode cX1_hasFrom 6 = .ok (.iload_n 3, 1) := dk_29 (dk_at dksX1_hasFrom_0 6 rfl rfl)
theorem dX1_hasFrom_7 : decode cX1_hasFrom 7 = .ok (.ishr, 1) := dk_122 (dk_at dksX1_hasFrom_0 7 rfl rfl)
theorem dX1_hasFrom_8 : decode cX1_hasFrom 8 = .ok (.iconst 1, 1) := dk_4 (dk_at dksX1_hasFrom_0 8 rfl rfl)
theorem dX1_hasFrom_9 : decode cX1_hasFrom 9 = .ok (.iand, 1) := dk_126 (dk_at dksX1_hasFrom_0 9 rfl rfl)
theorem dX1_hasFrom_10 : decode cX1_hasFrom 10 = .ok (.iconst 1, 1) := dk_4 (dk_at dksX1_hasFrom_0 10 rfl rfl)
theorem dX1_hasFrom_11 : decode cX1_hasFrom 11 = .ok (.if_icmp .ne 7, 3) := dk_160 0 7 (dk_at dksX1_hasFrom_0 11 rfl rfl)
theorem dX1_hasFrom_14 : decode cX1_hasFrom 14 = .ok (.iconst 1, 1) := dk_4 (dk_at dksX1_hasFrom_0 14 rfl rfl)
theorem dX1_hasFrom_15 : decode cX1_hasFrom 15 = .ok (.goto 4, 3) := dk_167 0 4 (dk_at dksX1_hasFrom_0 15 rfl rfl)
theorem dX1_hasFrom_18 : decode cX1_hasFrom 18 = .ok (.iconst 0, 1) := dk_3 (dk_at dksX1_hasFrom_0 18 rfl rfl)
theorem dX1_hasFrom_19 : decode cX1_hasFrom 19 = .ok (.ireturn, 1) := dk_172 (dk_at dksX1_hasFrom_0 19 rfl rfl)
theorem dX1_hasFrom_20 : decode cX1_hasFrom 20 = .ok (.iload_n 0, 1) := dk_26 (dk_at dksX1_hasFrom_0 20 rfl rfl)
theorem dX1_hasFrom_21 : decode cX1_hasFrom 21 = .ok (.iload_n 1, 1) := dk_27 (dk_at dksX1_hasFrom_0 21 rfl rfl)
theorem dX1_hasFrom_22 : decode cX1_hasFrom 22 = .ok (.iload_n 2, 1) := dk_28 (dk_at dksX1_hasFrom_0 22 rfl rfl)
theorem dX1_hasFrom_23 : decode cX1_hasFrom 23 = .ok (.iconst 1, 1) := dk_4 (dk_at dksX1_hasFrom_0 23 rfl rfl)
theorem dX1_hasFrom_24 : decode cX1_hasFrom 24 = .ok (.iadd, 1) := dk_96 (dk_at dksX1_hasFrom_1 0 rfl rfl)
theorem dX1_hasFrom_25 : decode cX1_hasFrom 25 = .ok (.iconst 2, 1) := dk_5 (dk_at dksX1_hasFrom_1 1 rfl rfl)
theorem dX1_hasFrom_26 : decode cX1_hasFrom 26 = .ok (.iload_n 3, 1) := dk_29 (dk_at dksX1_hasFrom_1 2 rfl rfl)
theorem dX1_hasFrom_27 : decode cX1_hasFrom 27 = .ok (.imul, 1) := dk_104 (dk_at dksX1_hasFrom_1 3 rfl rfl)
theorem dX1_hasFrom_28 : decode cX1_hasFrom 28 = .ok (.invokestatic 258, 3) := dk_184 1 2 (dk_at dksX1_hasFrom_1 4 rfl rfl)
theorem dX1_hasFrom_31 : decode cX1_hasFrom 31 = .ok (.istore 4, 2) := dk_54 4 (dk_at dksX1_hasFrom_1 7 rfl rfl)
theorem dX1_hasFrom_33 : decode cX1_hasFrom 33 = .ok (.iload_n 0, 1) := dk_26 (dk_at dksX1_hasFrom_1 9 rfl rfl)
theorem dX1_hasFrom_34 : decode cX1_hasFrom 34 = .ok (.iload_n 1, 1) := dk_27 (dk_at dksX1_hasFrom_1 10 rfl rfl)
theorem dX1_hasFrom_35 : decode cX1_hasFrom 35 = .ok (.iload_n 2, 1) := dk_28 (dk_at dksX1_hasFrom_1 11 rfl rfl)
theorem dX1_hasFrom_36 : decode cX1_hasFrom 36 = .ok (.iconst 1, 1) := dk_4 (dk_at dksX1_hasFrom_1 12 rfl rfl)
theorem dX1_hasFrom_37 : decode cX1_hasFrom 37 = .ok (.iadd, 1) := dk_96 (dk_at dksX1_hasFrom_1 13 rfl rfl)
theorem dX1_hasFrom_38 : decode cX1_hasFrom 38 = .ok (.iconst 2, 1) := dk_5 (dk_at dksX1_hasFrom_1 14 rfl rfl)
theorem dX1_hasFrom_39 : decode cX1_hasFrom 39 = .ok (.iload_n 3, 1) := dk_29 (dk_at dksX1_hasFrom_1 15 rfl rfl)
theorem dX1_hasFrom_40 : decode cX1_hasFrom 40 = .ok (.imul, 1) := dk_104 (dk_at dksX1_hasFrom_1 16 rfl rfl)
theorem dX1_hasFrom_41 : decode cX1_hasFrom 41 = .ok (.iconst 1, 1) := dk_4 (dk_at dksX1_hasFrom_1 17 rfl rfl)
theorem dX1_hasFrom_42 : decode cX1_hasFrom 42 = .ok (.iadd, 1) := dk_96 (dk_at dksX1_hasFrom_1 18 rfl rfl)
theorem dX1_hasFrom_43 : decode cX1_hasFrom 43 = .ok (.invokestatic 258, 3) := dk_184 1 2 (dk_at dksX1_hasFrom_1 19 rfl rfl)
theorem dX1_hasFrom_46 : decode cX1_hasFrom 46 = .ok (.istore 5, 2) := dk_54 5 (dk_at dksX1_hasFrom_1 22 rfl rfl)
theorem dX1_hasFrom_48 : decode cX1_hasFrom 48 = .ok (.iload_n 2, 1) := dk_28 (dk_at dksX1_hasFrom_2 0 rfl rfl)
theorem dX1_hasFrom_49 : decode cX1_hasFrom 49 = .ok (.iconst 2, 1) := dk_5 (dk_at dksX1_hasFrom_2 1 rfl rfl)
theorem dX1_hasFrom_50 : decode cX1_hasFrom 50 = .ok (.irem, 1) := dk_112 (dk_at dksX1_hasFrom_2 2 rfl rfl)
theorem dX1_hasFrom_51 : decode cX1_hasFrom 51 = .ok (.ifCond .ne 21, 3) := dk_154 0 21 (dk_at dksX1_hasFrom_2 3 rfl rfl)
theorem dX1_hasFrom_54 : decode cX1_hasFrom 54 = .ok (.iload 4, 2) := dk_21 4 (dk_at dksX1_hasFrom_2 6 rfl rfl)
theorem dX1_hasFrom_56 : decode cX1_hasFrom 56 = .ok (.ifCond .ne 8, 3) := dk_154 0 8 (dk_at dksX1_hasFrom_2 8 rfl rfl)
theorem dX1_hasFrom_59 : decode cX1_hasFrom 59 = .ok (.iload 5, 2) := dk_21 5 (dk_at dksX1_hasFrom_2 11 rfl rfl)
theorem dX1_hasFrom_61 : decode cX1_hasFrom 61 = .ok (.ifCond .eq 7, 3) := dk_153 0 7 (dk_at dksX1_hasFrom_2 13 rfl rfl)
theorem dX1_hasFrom_64 : decode cX1_hasFrom 64 = .ok (.iconst 1, 1) := dk_4 (dk_at dksX1_hasFrom_2 16 rfl rfl)
theorem dX1_hasFrom_65 : decode cX1_hasFrom 65 = .ok (.goto 22, 3) := dk_167 0 22 (dk_at dksX1_hasFrom_2 17 rfl rfl)
theorem dX1_hasFrom_68 : decode cX1_hasFrom 68 = .ok (.iconst 0, 1) := dk_3 (dk_at dksX1_hasFrom_2 20 rfl rfl)
theorem dX1_hasFrom_69 : decode cX1_hasFrom 69 = .ok (.goto 18, 3) := dk_167 0 18 (dk_at dksX1_hasFrom_2 21 rfl rfl)
theorem dX1_hasFrom_72 : decode cX1_hasFrom 72 = .ok (.iload 4, 2) := dk_21 4 (dk_at dksX1_hasFrom_3 0 rfl rfl)
theorem dX1_hasFrom_74 : decode cX1_hasFrom 74 = .ok (.ifCond .eq 12, 3) := dk_153 0 12 (dk_at dksX1_hasFrom_3 2 rfl rfl)
theorem dX1_hasFrom_77 : decode cX1_hasFrom 77 = .ok (.iload 5, 2) := dk_21 5 (dk_at dksX1_hasFrom_3 5 rfl rfl)
theorem dX1_hasFrom_79 : decode cX1_hasFrom 79 = .ok (.ifCond .eq 7, 3) := dk_153 0 7 (dk_at dksX1_hasFrom_3 7 rfl rfl)
theorem dX1_hasFrom_82 : decode cX1_hasFrom 82 = .ok (.iconst 1, 1) := dk_4 (dk_at dksX1_hasFrom_3 10 rfl rfl)
theorem dX1_hasFrom_83 : decode cX1_hasFrom 83 = .ok (.goto 4, 3) := dk_167 0 4 (dk_at dksX1_hasFrom_3 11 rfl rfl)
theorem dX1_hasFrom_86 : decode cX1_hasFrom 86 = .ok (.iconst 0, 1) := dk_3 (dk_at dksX1_hasFrom_3 14 rfl rfl)
theorem dX1_hasFrom_87 : decode cX1_hasFrom 87 = .ok (.ireturn, 1) := dk_172 (dk_at dksX1_hasFrom_3 15 rfl rfl)
abbrev cX1_hasAnew : ByteArray := prog_1_method_48_code
def yX1_hasAnew : MethodName := ⟨RX1, "hasAnew", "(II)Z"⟩
def dkwX1_hasAnew_3 : List UInt8 := [167, 255, 197, 29, 172]
abbrev dktX1_hasAnew_3 : List UInt8 := dkwX1_hasAnew_3 ++ []
def dkwX1_hasAnew_2 : List UInt8 := [4, 167, 0, 4, 3, 126, 54, 5, 132, 6, 1, 167, 255, 221, 29, 21, 5, 128, 62, 132, 4, 1]
abbrev dktX1_hasAnew_2 : List UInt8 := dkwX1_hasAnew_2 ++ dktX1_hasAnew_3
def dkwX1_hasAnew_1 : List UInt8 := [21, 6, 7, 162, 0, 35, 21, 5, 28, 27, 21, 4, 21, 6, 184, 1, 9, 122, 4, 126, 4, 160, 0, 7]
abbrev dktX1_hasAnew_1 : List UInt8 := dkwX1_hasAnew_1 ++ dktX1_hasAnew_2
def dkwX1_hasAnew_0 : List UInt8 := [27, 28, 184, 1, 6, 3, 62, 3, 54, 4, 21, 4, 16, 32, 162, 0, 58, 4, 54, 5, 3, 54, 6]
abbrev dktX1_hasAnew_0 : List UInt8 := dkwX1_hasAnew_0 ++ dktX1_hasAnew_1
theorem dksX1_hasAnew_0 : cX1_hasAnew.data.toList.drop 0 = dktX1_hasAnew_0 := by decide +kernel
theorem dksX1_hasAnew_1 : cX1_hasAnew.data.toList.drop 23 = dktX1_hasAnew_1 := dk_seg dksX1_hasAnew_0 23 rfl rfl
theorem dksX1_hasAnew_2 : cX1_hasAnew.data.toList.drop 47 = dktX1_hasAnew_2 := dk_seg dksX1_hasAnew_1 24 rfl rfl
theorem dksX1_hasAnew_3 : cX1_hasAnew.data.toList.drop 69 = dktX1_hasAnew_3 := dk_seg dksX1_hasAnew_2 22 rfl rfl
theorem dX1_hasAnew_0 : decode cX1_hasAnew 0 = .ok (.iload_n 1, 1) := dk_27 (dk_at dksX1_hasAnew_0 0 rfl rfl)
theorem dX1_hasAnew_1 : decode cX1_hasAnew 1 = .ok (.iload_n 2, 1) := dk_28 (dk_at dksX1_hasAnew_0 1 rfl rfl)
theorem dX1_hasAnew_2 : decode cX1_hasAnew 2 = .ok (.invokestatic 262, 3) := dk_184 1 6 (dk_at dksX1_hasAnew_0 2 rfl rfl)
theorem dX1_hasAnew_5 : decode cX1_hasAnew 5 = .ok (.iconst 0, 1) := dk_3 (dk_at dksX1_hasAnew_0 5 rfl rfl)
theorem dX1_hasAnew_6 : decode cX1_hasAnew 6 = .ok (.istore_n 3, 1) := dk_62 (dk_at dksX1_hasAnew_0 6 rfl rfl)
theorem dX1_hasAnew_7 : decode cX1_hasAnew 7 = .ok (.iconst 0, 1) := dk_3 (dk_at dksX1_hasAnew_0 7 rfl rfl)
theorem dX1_hasAnew_8 : decode cX1_hasAnew 8 = .ok (.istore 4, 2) := dk_54 4 (dk_at dksX1_hasAnew_0 8 rfl rfl)
theorem dX1_hasAnew_10 : decode cX1_hasAnew 10 = .ok (.iload 4, 2) := dk_21 4 (dk_at dksX1_hasAnew_0 10 rfl rfl)
theorem dX1_hasAnew_12 : decode cX1_hasAnew 12 = .ok (.bipush 32, 2) := dk_16 32 (dk_at dksX1_hasAnew_0 12 rfl rfl)
theorem dX1_hasAnew_14 : decode cX1_hasAnew 14 = .ok (.if_icmp .ge 58, 3) := dk_162 0 58 (dk_at dksX1_hasAnew_0 14 rfl rfl)
theorem dX1_hasAnew_17 : decode cX1_hasAnew 17 = .ok (.iconst 1, 1) := dk_4 (dk_at dksX1_hasAnew_0 17 rfl rfl)
theorem dX1_hasAnew_18 : decode cX1_hasAnew 18 = .ok (.istore 5, 2) := dk_54 5 (dk_at dksX1_hasAnew_0 18 rfl rfl)
theorem dX1_hasAnew_20 : decode cX1_hasAnew 20 = .ok (.iconst 0, 1) := dk_3 (dk_at dksX1_hasAnew_0 20 rfl rfl)
theorem dX1_hasAnew_21 : decode cX1_hasAnew 21 = .ok (.istore 6, 2) := dk_54 6 (dk_at dksX1_hasAnew_0 21 rfl rfl)
theorem dX1_hasAnew_23 : decode cX1_hasAnew 23 = .ok (.iload 6, 2) := dk_21 6 (dk_at dksX1_hasAnew_1 0 rfl rfl)
theorem dX1_hasAnew_25 : decode cX1_hasAnew 25 = .ok (.iconst 4, 1) := dk_7 (dk_at dksX1_hasAnew_1 2 rfl rfl)
theorem dX1_hasAnew_26 : decode cX1_hasAnew 26 = .ok (.if_icmp .ge 35, 3) := dk_162 0 35 (dk_at dksX1_hasAnew_1 3 rfl rfl)
theorem dX1_hasAnew_29 : decode cX1_hasAnew 29 = .ok (.iload 5, 2) := dk_21 5 (dk_at dksX1_hasAnew_1 6 rfl rfl)
theorem dX1_hasAnew_31 : decode cX1_hasAnew 31 = .ok (.iload_n 2, 1) := dk_28 (dk_at dksX1_hasAnew_1 8 rfl rfl)
theorem dX1_hasAnew_32 : decode cX1_hasAnew 32 = .ok (.iload_n 1, 1) := dk_27 (dk_at dksX1_hasAnew_1 9 rfl rfl)
theorem dX1_hasAnew_33 : decode cX1_hasAnew 33 = .ok (.iload 4, 2) := dk_21 4 (dk_at dksX1_hasAnew_1 10 rfl rfl)
theorem dX1_hasAnew_35 : decode cX1_hasAnew 35 = .ok (.iload 6, 2) := dk_21 6 (dk_at dksX1_hasAnew_1 12 rfl rfl)
theorem dX1_hasAnew_37 : decode cX1_hasAnew 37 = .ok (.invokestatic 265, 3) := dk_184 1 9 (dk_at dksX1_hasAnew_1 14 rfl rfl)
theorem dX1_hasAnew_40 : decode cX1_hasAnew 40 = .ok (.ishr, 1) := dk_122 (dk_at dksX1_hasAnew_1 17 rfl rfl)
theorem dX1_hasAnew_41 : decode cX1_hasAnew 41 = .ok (.iconst 1, 1) := dk_4 (dk_at dksX1_hasAnew_1 18 rfl rfl)
theorem dX1_hasAnew_42 : decode cX1_hasAnew 42 = .ok (.iand, 1) := dk_126 (dk_at dksX1_hasAnew_1 19 rfl rfl)
theorem dX1_hasAnew_43 : decode cX1_hasAnew 43 = .ok (.iconst 1, 1) := dk_4 (dk_at dksX1_hasAnew_1 20 rfl rfl)
theorem dX1_hasAnew_44 : decode cX1_hasAnew 44 = .ok (.if_icmp .ne 7, 3) := dk_160 0 7 (dk_at dksX1_hasAnew_1 21 rfl rfl)
theorem dX1_hasAnew_47 : decode cX1_hasAnew 47 = .ok (.iconst 1, 1) := dk_4 (dk_at dksX1_hasAnew_2 0 rfl rfl)
theorem dX1_hasAnew_48 : decode cX1_hasAnew 48 = .ok (.goto 4, 3) := dk_167 0 4 (dk_at dksX1_hasAnew_2 1 rfl rfl)
theorem dX1_hasAnew_51 : decode cX1_hasAnew 51 = .ok (.iconst 0, 1) := dk_3 (dk_at dksX1_hasAnew_2 4 rfl rfl)
theorem dX1_hasAnew_52 : decode cX1_hasAnew 52 = .ok (.iand, 1) := dk_126 (dk_at dksX1_hasAnew_2 5 rfl rfl)
theorem dX1_hasAnew_53 : decode cX1_hasAnew 53 = .ok (.istore 5, 2) := dk_54 5 (dk_at dksX1_hasAnew_2 6 rfl rfl)
theorem dX1_hasAnew_55 : decode cX1_hasAnew 55 = .ok (.iinc 6 1, 3) := dk_132 6 1 (dk_at dksX1_hasAnew_2 8 rfl rfl)
theorem dX1_hasAnew_58 : decode cX1_hasAnew 58 = .ok (.goto (-35), 3) := dk_167 255 221 (dk_at dksX1_hasAnew_2 11 rfl rfl)
theorem dX1_hasAnew_61 : decode cX1_hasAnew 61 = .ok (.iload_n 3, 1) := dk_29 (dk_at dksX1_hasAnew_2 14 rfl rfl)
theorem dX1_hasAnew_62 : decode cX1_hasAnew 62 = .ok (.iload 5, 2) := dk_21 5 (dk_at dksX1_hasAnew_2 15 rfl rfl)
theorem dX1_hasAnew_64 : decode cX1_hasAnew 64 = .ok (.ior, 1) := dk_128 (dk_at dksX1_hasAnew_2 17 rfl rfl)
theorem dX1_hasAnew_65 : decode cX1_hasAnew 65 = .ok (.istore_n 3, 1) := dk_62 (dk_at dksX1_hasAnew_2 18 rfl rfl)
theorem dX1_hasAnew_66 : decode cX1_hasAnew 66 = .ok (.iinc 4 1, 3) := dk_132 4 1 (dk_at dksX1_hasAnew_2 19 rfl rfl)
theorem dX1_hasAnew_69 : decode cX1_hasAnew 69 = .ok (.goto (-59), 3) := dk_167 255 197 (dk_at dksX1_hasAnew_3 0 rfl rfl)
theorem dX1_hasAnew_72 : decode cX1_hasAnew 72 = .ok (.iload_n 3, 1) := dk_29 (dk_at dksX1_hasAnew_3 3 rfl rfl)
theorem dX1_hasAnew_73 : decode cX1_hasAnew 73 = .ok (.ireturn, 1) := dk_172 (dk_at dksX1_hasAnew_3 4 rfl rfl)
abbrev cX1_played : ByteArray := prog_1_method_47_code
def yX1_played : MethodName := ⟨RX1, "played", "(III)I"⟩
def dkwX1_played_2 : List UInt8 := [132, 4, 1, 167, 255, 213, 29, 172]
abbrev dktX1_played_2 : List UInt8 := dkwX1_played_2 ++ []
def dkwX1_played_1 : List UInt8 := [122, 4, 126, 167, 0, 11, 28, 21, 4, 5, 108, 122, 4, 126, 54, 5, 5, 29, 104, 21, 5, 96, 62]
abbrev dktX1_played_1 : List UInt8 := dkwX1_played_1 ++ dktX1_played_2
def dkwX1_played_0 : List UInt8 := [27, 4, 126, 62, 4, 54, 4, 21, 4, 26, 162, 0, 43, 21, 4, 5, 112, 154, 0, 13, 27, 4, 29, 96]
abbrev dktX1_played_0 : List UInt8 := dkwX1_played_0 ++ dktX1_played_1
theorem dksX1_played_0 : cX1_played.data.toList.drop 0 = dktX1_played_0 := by decide +kernel
theorem dksX1_played_1 : cX1_played.data.toList.drop 24 = dktX1_played_1 := dk_seg dksX1_played_0 24 rfl rfl
theorem dksX1_played_2 : cX1_played.data.toList.drop 47 = dktX1_played_2 := dk_seg dksX1_played_1 23 rfl rfl
theorem dX1_played_0 : decode cX1_played 0 = .ok (.iload_n 1, 1) := dk_27 (dk_at dksX1_played_0 0 rfl rfl)
theorem dX1_played_1 : decode cX1_played 1 = .ok (.iconst 1, 1) := dk_4 (dk_at dksX1_played_0 1 rfl rfl)
theorem dX1_played_2 : decode cX1_played 2 = .ok (.iand, 1) := dk_126 (dk_at dksX1_played_0 2 rfl rfl)
theorem dX1_played_3 : decode cX1_played 3 = .ok (.istore_n 3, 1) := dk_62 (dk_at dksX1_played_0 3 rfl rfl)
theorem dX1_played_4 : decode cX1_played 4 = .ok (.iconst 1, 1) := dk_4 (dk_at dksX1_played_0 4 rfl rfl)
theorem dX1_played_5 : decode cX1_played 5 = .ok (.istore 4, 2) := dk_54 4 (dk_at dksX1_played_0 5 rfl rfl)
theorem dX1_played_7 : decode cX1_played 7 = .ok (.iload 4, 2) := dk_21 4 (dk_at dksX1_played_0 7 rfl rfl)
theorem dX1_played_9 : decode cX1_played 9 = .ok (.iload_n 0, 1) := dk_26 (dk_at dksX1_played_0 9 rfl rfl)
theorem dX1_played_10 : decode cX1_played 10 = .ok (.if_icmp .ge 43, 3) := dk_162 0 43 (dk_at dksX1_played_0 10 rfl rfl)
theorem dX1_played_13 : decode cX1_played 13 = .ok (.iload 4, 2) := dk_21 4 (dk_at dksX1_played_0 13 rfl rfl)
theorem dX1_played_15 : decode cX1_played 15 = .ok (.iconst 2, 1) := dk_5 (dk_at dksX1_played_0 15 rfl rfl)
theorem dX1_played_16 : decode cX1_played 16 = .ok (.irem, 1) := dk_112 (dk_at dksX1_played_0 16 rfl rfl)
theorem dX1_played_17 : decode cX1_played 17 = .ok (.ifCond .ne 13, 3) := dk_154 0 13 (dk_at dksX1_played_0 17 rfl rfl)
theorem dX1_played_20 : decode cX1_played 20 = .ok (.iload_n 1, 1) := dk_27 (dk_at dksX1_played_0 20 rfl rfl)
theorem dX1_played_21 : decode cX1_played 21 = .ok (.iconst 1, 1) := dk_4 (dk_at dksX1_played_0 21 rfl rfl)
theorem dX1_played_22 : decode cX1_played 22 = .ok (.iload_n 3, 1) := dk_29 (dk_at dksX1_played_0 22 rfl rfl)
theorem dX1_played_23 : decode cX1_played 23 = .ok (.iadd, 1) := dk_96 (dk_at dksX1_played_0 23 rfl rfl)
theorem dX1_played_24 : decode cX1_played 24 = .ok (.ishr, 1) := dk_122 (dk_at dksX1_played_1 0 rfl rfl)
theorem dX1_played_25 : decode cX1_played 25 = .ok (.iconst 1, 1) := dk_4 (dk_at dksX1_played_1 1 rfl rfl)
theorem dX1_played_26 : decode cX1_played 26 = .ok (.iand, 1) := dk_126 (dk_at dksX1_played_1 2 rfl rfl)
theorem dX1_played_27 : decode cX1_played 27 = .ok (.goto 11, 3) := dk_167 0 11 (dk_at dksX1_played_1 3 rfl rfl)
theorem dX1_played_30 : decode cX1_played 30 = .ok (.iload_n 2, 1) := dk_28 (dk_at dksX1_played_1 6 rfl rfl)
theorem dX1_played_31 : decode cX1_played 31 = .ok (.iload 4, 2) := dk_21 4 (dk_at dksX1_played_1 7 rfl rfl)
theorem dX1_played_33 : decode cX1_played 33 = .ok (.iconst 2, 1) := dk_5 (dk_at dksX1_played_1 9 rfl rfl)
theorem dX1_played_34 : decode cX1_played 34 = .ok (.idiv, 1) := dk_108 (dk_at dksX1_played_1 10 rfl rfl)
theorem dX1_played_35 : decode cX1_played 35 = .ok (.ishr, 1) := dk_122 (dk_at dksX1_played_1 11 rfl rfl)
theorem dX1_played_36 : decode cX1_played 36 = .ok (.iconst 1, 1) := dk_4 (dk_at dksX1_played_1 12 rfl rfl)
theorem dX1_played_37 : decode cX1_played 37 = .ok (.iand, 1) := dk_126 (dk_at dksX1_played_1 13 rfl rfl)
theorem dX1_played_38 : decode cX1_played 38 = .ok (.istore 5, 2) := dk_54 5 (dk_at dksX1_played_1 14 rfl rfl)
theorem dX1_played_40 : decode cX1_played 40 = .ok (.iconst 2, 1) := dk_5 (dk_at dksX1_played_1 16 rfl rfl)
theorem dX1_played_41 : decode cX1_played 41 = .ok (.iload_n 3, 1) := dk_29 (dk_at dksX1_played_1 17 rfl rfl)
theorem dX1_played_42 : decode cX1_played 42 = .ok (.imul, 1) := dk_104 (dk_at dksX1_played_1 18 rfl rfl)
theorem dX1_played_43 : decode cX1_played 43 = .ok (.iload 5, 2) := dk_21 5 (dk_at dksX1_played_1 19 rfl rfl)
theorem dX1_played_45 : decode cX1_played 45 = .ok (.iadd, 1) := dk_96 (dk_at dksX1_played_1 21 rfl rfl)
theorem dX1_played_46 : decode cX1_played 46 = .ok (.istore_n 3, 1) := dk_62 (dk_at dksX1_played_1 22 rfl rfl)
theorem dX1_played_47 : decode cX1_played 47 = .ok (.iinc 4 1, 3) := dk_132 4 1 (dk_at dksX1_played_2 0 rfl rfl)
theorem dX1_played_50 : decode cX1_played 50 = .ok (.goto (-43), 3) := dk_167 255 213 (dk_at dksX1_played_2 3 rfl rfl)
theorem dX1_played_53 : decode cX1_played 53 = .ok (.iload_n 3, 1) := dk_29 (dk_at dksX1_played_2 6 rfl rfl)
theorem dX1_played_54 : decode cX1_played 54 = .ok (.ireturn, 1) := dk_172 (dk_at dksX1_played_2 7 rfl rfl)
theorem q53 : (Jvm.Cond.initialized "ReversalCourt") ∈ lw_all := lw_g (lw_at lw_m1 1 rfl) rfl
theorem q97 : (Jvm.Cond.instantiable "ReversalCourt" (5 : Nat)) ∈ lw_all := lw_g (lw_at lw_m1 45 rfl) rfl
theorem q99 : (Jvm.Cond.instanceMethod ({ cls := "ReversalCourt", name := "<init>", desc := "()V" } : Jvm.MethodName)) ∈ lw_all := lw_g (lw_at lw_m1 47 rfl) rfl
theorem q100 : (Jvm.Cond.code ({ cls := "ReversalCourt", name := "<init>", desc := "()V" } : Jvm.MethodName) prog_1_method_1_code (1 : Nat) (Option.none : Option Jvm.ClassFile.FieldType)) ∈ lw_all := lw_g (lw_at lw_m1 48 rfl) rfl
theorem q101 : (Jvm.Cond.methodLink "ReversalCourt" (1 : Nat) ({ cls := "java/lang/Object", name := "<init>", desc := "()V" } : Jvm.MethodName)) ∈ lw_all := lw_g (lw_at lw_m1 49 rfl) rfl
theorem q104 : (Jvm.Cond.classLink "ReversalCourt" (7 : Nat) "java/lang/StringBuilder") ∈ lw_all := lw_g (lw_at lw_m1 52 rfl) rfl
theorem q106 : (Jvm.Cond.methodLink "ReversalCourt" (9 : Nat) ({ cls := "java/lang/StringBuilder", name := "<init>", desc := "()V" } : Jvm.MethodName)) ∈ lw_all := lw_g (lw_at lw_m1 54 rfl) rfl
theorem q137 : (Jvm.Cond.classLink "ReversalCourt" (16 : Nat) "java/util/ArrayList") ∈ lw_all := lw_g (lw_at lw_m1 85 rfl) rfl
theorem q139 : (Jvm.Cond.methodLink "ReversalCourt" (18 : Nat) ({ cls := "java/util/ArrayList", name := "<init>", desc := "()V" } : Jvm.MethodName)) ∈ lw_all := lw_g (lw_at lw_m1 87 rfl) rfl
theorem q163 : (Jvm.Cond.fieldLink "ReversalCourt" (10 : Nat) "ReversalCourt" "page" "Ljava/lang/StringBuilder;") ∈ lw_all := lw_g (lw_at lw_m1 111 rfl) rfl
theorem q165 : (Jvm.Cond.fieldLink "ReversalCourt" (19 : Nat) "ReversalCourt" "principles" "Ljava/util/ArrayList;") ∈ lw_all := lw_g (lw_at lw_m1 113 rfl) rfl
theorem q167 : (Jvm.Cond.fieldLink "ReversalCourt" (23 : Nat) "ReversalCourt" "rules" "Ljava/util/ArrayList;") ∈ lw_all := lw_g (lw_at lw_m1 115 rfl) rfl
theorem q168 : (Jvm.Cond.fieldLink "ReversalCourt" (26 : Nat) "ReversalCourt" "models" "Ljava/util/ArrayList;") ∈ lw_all := lw_g (lw_at lw_m1 116 rfl) rfl
theorem q169 : (Jvm.Cond.fieldLink "ReversalCourt" (29 : Nat) "ReversalCourt" "problems" "Ljava/util/ArrayList;") ∈ lw_all := lw_g (lw_at lw_m1 117 rfl) rfl
theorem q170 : (Jvm.Cond.laysFinal "ReversalCourt" "ReversalCourt" "page" "Ljava/lang/StringBuilder;") ∈ lw_all := lw_g (lw_at lw_m1 118 rfl) rfl
theorem q171 : (Jvm.Cond.soleField "ReversalCourt" "page") ∈ lw_all := lw_g (lw_at lw_m1 119 rfl) rfl
theorem q172 : (Jvm.Cond.laysFinal "ReversalCourt" "ReversalCourt" "principles" "Ljava/util/ArrayList;") ∈ lw_all := lw_g (lw_at lw_m1 120 rfl) rfl
theorem q173 : (Jvm.Cond.soleField "ReversalCourt" "principles") ∈ lw_all := lw_g (lw_at lw_m1 121 rfl) rfl
theorem q174 : (Jvm.Cond.laysFinal "ReversalCourt" "ReversalCourt" "rules" "Ljava/util/ArrayList;") ∈ lw_all := lw_g (lw_at lw_m1 122 rfl) rfl
theorem q175 : (Jvm.Cond.soleField "ReversalCourt" "rules") ∈ lw_all := lw_g (lw_at lw_m1 123 rfl) rfl
theorem q176 : (Jvm.Cond.laysFinal "ReversalCourt" "ReversalCourt" "models" "Ljava/util/ArrayList;") ∈ lw_all := lw_g (lw_at lw_m1 124 rfl) rfl
theorem q177 : (Jvm.Cond.soleField "ReversalCourt" "models") ∈ lw_all := lw_g (lw_at lw_m1 125 rfl) rfl
theorem q178 : (Jvm.Cond.laysFinal "ReversalCourt" "ReversalCourt" "problems" "Ljava/util/ArrayList;") ∈ lw_all := lw_g (lw_at lw_m1 126 rfl) rfl
theorem q179 : (Jvm.Cond.soleField "ReversalCourt" "problems") ∈ lw_all := lw_g (lw_at lw_m1 127 rfl) rfl
theorem q180 : (Jvm.Cond.superclass "ReversalCourt" "java/lang/Object") ∈ lw_all := lw_g (lw_at lw_m1 128 rfl) rfl
theorem q182 : (Jvm.Cond.instanceMethod ({ cls := "ReversalCourt", name := "blank", desc := "()I" } : Jvm.MethodName)) ∈ lw_all := lw_g (lw_at lw_m1 130 rfl) rfl
theorem q183 : (Jvm.Cond.selects "ReversalCourt" ({ cls := "ReversalCourt", name := "blank", desc := "()I" } : Jvm.MethodName) ({ cls := "ReversalCourt", name := "blank", desc := "()I" } : Jvm.MethodName)) ∈ lw_all := lw_g (lw_at lw_m1 131 rfl) rfl
theorem q184 : (Jvm.Cond.code ({ cls := "ReversalCourt", name := "blank", desc := "()I" } : Jvm.MethodName) prog_1_method_8_code (2 : Nat) (Option.some Jvm.ClassFile.FieldType.int)) ∈ lw_all := lw_g (lw_at lw_m1 132 rfl) rfl
theorem q185 : (Jvm.Cond.methodLink "ReversalCourt" (68 : Nat) ({ cls := "java/lang/StringBuilder", name := "length", desc := "()I" } : Jvm.MethodName)) ∈ lw_all := lw_g (lw_at lw_m1 133 rfl) rfl
theorem q192 : (Jvm.Cond.methodLink "ReversalCourt" (78 : Nat) ({ cls := "java/lang/StringBuilder", name := "setLength", desc := "(I)V" } : Jvm.MethodName)) ∈ lw_all := lw_g (lw_at lw_m1 140 rfl) rfl
theorem q531 : (Jvm.Cond.instanceMethod ({ cls := "ReversalCourt", name := "fault", desc := "()I" } : Jvm.MethodName)) ∈ lw_all := lw_g (lw_at lw_m2 239 rfl) rfl
theorem q532 : (Jvm.Cond.selects "ReversalCourt" ({ cls := "ReversalCourt", name := "fault", desc := "()I" } : Jvm.MethodName) ({ cls := "ReversalCourt", name := "fault", desc := "()I" } : Jvm.MethodName)) ∈ lw_all := lw_g (lw_at lw_m3 0 rfl) rfl
theorem q533 : (Jvm.Cond.code ({ cls := "ReversalCourt", name := "fault", desc := "()I" } : Jvm.MethodName) prog_1_method_9_code (2 : Nat) (Option.some Jvm.ClassFile.FieldType.int)) ∈ lw_all := lw_g (lw_at lw_m3 1 rfl) rfl
theorem q534 : (Jvm.Cond.classLink "ReversalCourt" (82 : Nat) "ReversalCourt$Reader") ∈ lw_all := lw_g (lw_at lw_m3 2 rfl) rfl
theorem q536 : (Jvm.Cond.methodLinkNest "ReversalCourt" (84 : Nat) ({ cls := "ReversalCourt$Reader", name := "<init>", desc := "(LReversalCourt;)V" } : Jvm.MethodName) "ReversalCourt") ∈ lw_tbl := lw_at lw_m3 4 rfl
theorem q541 : (Jvm.Cond.fieldLinkNest "ReversalCourt" (91 : Nat) "ReversalCourt$Reader" "place" "I" "ReversalCourt") ∈ lw_tbl := lw_at lw_m3 9 rfl
theorem q548 : (Jvm.Cond.methodLink "ReversalCourt" (87 : Nat) ({ cls := "ReversalCourt$Reader", name := "formula", desc := "()LReversalCourt$Formula;" } : Jvm.MethodName)) ∈ lw_all := lw_g (lw_at lw_m3 16 rfl) rfl
theorem q748 : (Jvm.Cond.instanceMethod ({ cls := "ReversalCourt", name := "sigma", desc := "()I" } : Jvm.MethodName)) ∈ lw_all := lw_g (lw_at lw_m3 216 rfl) rfl
theorem q749 : (Jvm.Cond.selects "ReversalCourt" ({ cls := "ReversalCourt", name := "sigma", desc := "()I" } : Jvm.MethodName) ({ cls := "ReversalCourt", name := "sigma", desc := "()I" } : Jvm.MethodName)) ∈ lw_all := lw_g (lw_at lw_m3 217 rfl) rfl
theorem q750 : (Jvm.Cond.code ({ cls := "ReversalCourt", name := "sigma", desc := "()I" } : Jvm.MethodName) prog_1_method_11_code (2 : Nat) (Option.some Jvm.ClassFile.FieldType.int)) ∈ lw_all := lw_g (lw_at lw_m3 218 rfl) rfl
theorem q751 : (Jvm.Cond.methodLink "ReversalCourt" (95 : Nat) ({ cls := "ReversalCourt", name := "read", desc := "()LReversalCourt$Formula;" } : Jvm.MethodName)) ∈ lw_all := lw_g (lw_at lw_m3 219 rfl) rfl
theorem q752 : (Jvm.Cond.privateMethod ({ cls := "ReversalCourt", name := "read", desc := "()LReversalCourt$Formula;" } : Jvm.MethodName)) ∈ lw_tbl := lw_at lw_m3 220 rfl
theorem q753 : (Jvm.Cond.instanceMethod ({ cls := "ReversalCourt", name := "read", desc := "()LReversalCourt$Formula;" } : Jvm.MethodName)) ∈ lw_all := lw_g (lw_at lw_m3 221 rfl) rfl
theorem q754 : (Jvm.Cond.code ({ cls := "ReversalCourt", name := "read", desc := "()LReversalCourt$Formula;" } : Jvm.MethodName) prog_1_method_10_code (3 : Nat) (Option.some (Jvm.ClassFile.FieldType.object "ReversalCourt$Formula"))) ∈ lw_all := lw_g (lw_at lw_m3 222 rfl) rfl
theorem q755 : (Jvm.Cond.methodLink "ReversalCourt" (98 : Nat) ({ cls := "ReversalCourt$Formula", name := "sigma", desc := "()I" } : Jvm.MethodName)) ∈ lw_all := lw_g (lw_at lw_m3 223 rfl) rfl
theorem q802 : (Jvm.Cond.instanceMethod ({ cls := "ReversalCourt", name := "pi", desc := "()I" } : Jvm.MethodName)) ∈ lw_all := lw_g (lw_at lw_m4 30 rfl) rfl
theorem q803 : (Jvm.Cond.selects "ReversalCourt" ({ cls := "ReversalCourt", name := "pi", desc := "()I" } : Jvm.MethodName) ({ cls := "ReversalCourt", name := "pi", desc := "()I" } : Jvm.MethodName)) ∈ lw_all := lw_g (lw_at lw_m4 31 rfl) rfl
theorem q804 : (Jvm.Cond.code ({ cls := "ReversalCourt", name := "pi", desc := "()I" } : Jvm.MethodName) prog_1_method_12_code (2 : Nat) (Option.some Jvm.ClassFile.FieldType.int)) ∈ lw_all := lw_g (lw_at lw_m4 32 rfl) rfl
theorem q805 : (Jvm.Cond.methodLink "ReversalCourt" (103 : Nat) ({ cls := "ReversalCourt$Formula", name := "pi", desc := "()I" } : Jvm.MethodName)) ∈ lw_all := lw_g (lw_at lw_m4 33 rfl) rfl
theorem q807 : (Jvm.Cond.instanceMethod ({ cls := "ReversalCourt", name := "free", desc := "()I" } : Jvm.MethodName)) ∈ lw_all := lw_g (lw_at lw_m4 35 rfl) rfl
theorem q808 : (Jvm.Cond.selects "ReversalCourt" ({ cls := "ReversalCourt", name := "free", desc := "()I" } : Jvm.MethodName) ({ cls := "ReversalCourt", name := "free", desc := "()I" } : Jvm.MethodName)) ∈ lw_all := lw_g (lw_at lw_m4 36 rfl) rfl
theorem q809 : (Jvm.Cond.code ({ cls := "ReversalCourt", name := "free", desc := "()I" } : Jvm.MethodName) prog_1_method_13_code (2 : Nat) (Option.some Jvm.ClassFile.FieldType.int)) ∈ lw_all := lw_g (lw_at lw_m4 37 rfl) rfl
theorem q810 : (Jvm.Cond.methodLink "ReversalCourt" (106 : Nat) ({ cls := "ReversalCourt$Formula", name := "free", desc := "()I" } : Jvm.MethodName)) ∈ lw_all := lw_g (lw_at lw_m4 38 rfl) rfl
theorem q827 : (Jvm.Cond.instanceMethod ({ cls := "ReversalCourt", name := "open", desc := "()I" } : Jvm.MethodName)) ∈ lw_all := lw_g (lw_at lw_m4 55 rfl) rfl
theorem q828 : (Jvm.Cond.selects "ReversalCourt" ({ cls := "ReversalCourt", name := "open", desc := "()I" } : Jvm.MethodName) ({ cls := "ReversalCourt", name := "open", desc := "()I" } : Jvm.MethodName)) ∈ lw_all := lw_g (lw_at lw_m4 56 rfl) rfl
theorem q829 : (Jvm.Cond.code ({ cls := "ReversalCourt", name := "open", desc := "()I" } : Jvm.MethodName) prog_1_method_27_code (4 : Nat) (Option.some Jvm.ClassFile.FieldType.int)) ∈ lw_all := lw_g (lw_at lw_m4 57 rfl) rfl
theorem q830 : (Jvm.Cond.methodLink "ReversalCourt" (41 : Nat) ({ cls := "java/util/ArrayList", name := "size", desc := "()I" } : Jvm.MethodName)) ∈ lw_all := lw_g (lw_at lw_m4 58 rfl) rfl
theorem q834 : (Jvm.Cond.methodLink "ReversalCourt" (177 : Nat) ({ cls := "ReversalCourt", name := "knownOf", desc := "(II)I" } : Jvm.MethodName)) ∈ lw_all := lw_g (lw_at lw_m4 62 rfl) rfl
theorem q835 : (Jvm.Cond.privateMethod ({ cls := "ReversalCourt", name := "knownOf", desc := "(II)I" } : Jvm.MethodName)) ∈ lw_tbl := lw_at lw_m4 63 rfl
theorem q836 : (Jvm.Cond.instanceMethod ({ cls := "ReversalCourt", name := "knownOf", desc := "(II)I" } : Jvm.MethodName)) ∈ lw_all := lw_g (lw_at lw_m4 64 rfl) rfl
theorem q837 : (Jvm.Cond.code ({ cls := "ReversalCourt", name := "knownOf", desc := "(II)I" } : Jvm.MethodName) prog_1_method_25_code (4 : Nat) (Option.some Jvm.ClassFile.FieldType.int)) ∈ lw_all := lw_g (lw_at lw_m4 65 rfl) rfl
theorem q838 : (Jvm.Cond.methodLink "ReversalCourt" (163 : Nat) ({ cls := "ReversalCourt", name := "proves", desc := "(II)Z" } : Jvm.MethodName)) ∈ lw_all := lw_g (lw_at lw_m4 66 rfl) rfl
theorem q839 : (Jvm.Cond.privateMethod ({ cls := "ReversalCourt", name := "proves", desc := "(II)Z" } : Jvm.MethodName)) ∈ lw_tbl := lw_at lw_m4 67 rfl
theorem q840 : (Jvm.Cond.instanceMethod ({ cls := "ReversalCourt", name := "proves", desc := "(II)Z" } : Jvm.MethodName)) ∈ lw_all := lw_g (lw_at lw_m4 68 rfl) rfl
theorem q841 : (Jvm.Cond.code ({ cls := "ReversalCourt", name := "proves", desc := "(II)Z" } : Jvm.MethodName) prog_1_method_21_code (3 : Nat) (Option.some Jvm.ClassFile.FieldType.boolean)) ∈ lw_all := lw_g (lw_at lw_m4 69 rfl) rfl
theorem q842 : (Jvm.Cond.methodLink "ReversalCourt" (160 : Nat) ({ cls := "ReversalCourt", name := "closed", desc := "(I)I" } : Jvm.MethodName)) ∈ lw_all := lw_g (lw_at lw_m4 70 rfl) rfl
theorem q843 : (Jvm.Cond.privateMethod ({ cls := "ReversalCourt", name := "closed", desc := "(I)I" } : Jvm.MethodName)) ∈ lw_tbl := lw_at lw_m4 71 rfl
theorem q844 : (Jvm.Cond.instanceMethod ({ cls := "ReversalCourt", name := "closed", desc := "(I)I" } : Jvm.MethodName)) ∈ lw_all := lw_g (lw_at lw_m4 72 rfl) rfl
theorem q845 : (Jvm.Cond.code ({ cls := "ReversalCourt", name := "closed", desc := "(I)I" } : Jvm.MethodName) prog_1_method_20_code (4 : Nat) (Option.some Jvm.ClassFile.FieldType.int)) ∈ lw_all := lw_g (lw_at lw_m4 73 rfl) rfl
theorem q846 : (Jvm.Cond.methodLink "ReversalCourt" (149 : Nat) ({ cls := "ReversalCourt", name := "next", desc := "(I)LReversalCourt$Rule;" } : Jvm.MethodName)) ∈ lw_all := lw_g (lw_at lw_m4 74 rfl) rfl
theorem q847 : (Jvm.Cond.privateMethod ({ cls := "ReversalCourt", name := "next", desc := "(I)LReversalCourt$Rule;" } : Jvm.MethodName)) ∈ lw_tbl := lw_at lw_m4 75 rfl
theorem q848 : (Jvm.Cond.instanceMethod ({ cls := "ReversalCourt", name := "next", desc := "(I)LReversalCourt$Rule;" } : Jvm.MethodName)) ∈ lw_all := lw_g (lw_at lw_m4 76 rfl) rfl
theorem q849 : (Jvm.Cond.code ({ cls := "ReversalCourt", name := "next", desc := "(I)LReversalCourt$Rule;" } : Jvm.MethodName) prog_1_method_18_code (3 : Nat) (Option.some (Jvm.ClassFile.FieldType.object "ReversalCourt$Rule"))) ∈ lw_all := lw_g (lw_at lw_m4 77 rfl) rfl
theorem q850 : (Jvm.Cond.methodLink "ReversalCourt" (53 : Nat) ({ cls := "java/util/ArrayList", name := "get", desc := "(I)Ljava/lang/Object;" } : Jvm.MethodName)) ∈ lw_all := lw_g (lw_at lw_m4 78 rfl) rfl
theorem q862 : (Jvm.Cond.classLink "ReversalCourt" (133 : Nat) "ReversalCourt$Rule") ∈ lw_all := lw_g (lw_at lw_m4 90 rfl) rfl
theorem q863 : (Jvm.Cond.methodLink "ReversalCourt" (143 : Nat) ({ cls := "ReversalCourt$Rule", name := "adds", desc := "(I)Z" } : Jvm.MethodName)) ∈ lw_all := lw_g (lw_at lw_m4 91 rfl) rfl
theorem q867 : (Jvm.Cond.classLink "ReversalCourt" (138 : Nat) "java/lang/Integer") ∈ lw_all := lw_g (lw_at lw_m4 95 rfl) rfl
theorem q868 : (Jvm.Cond.methodLink "ReversalCourt" (140 : Nat) ({ cls := "java/lang/Integer", name := "intValue", desc := "()I" } : Jvm.MethodName)) ∈ lw_all := lw_g (lw_at lw_m4 96 rfl) rfl
theorem q878 : (Jvm.Cond.instanceMethod ({ cls := "ReversalCourt", name := "letter", desc := "(C)I" } : Jvm.MethodName)) ∈ lw_all := lw_g (lw_at lw_m4 106 rfl) rfl
theorem q879 : (Jvm.Cond.selects "ReversalCourt" ({ cls := "ReversalCourt", name := "letter", desc := "(C)I" } : Jvm.MethodName) ({ cls := "ReversalCourt", name := "letter", desc := "(C)I" } : Jvm.MethodName)) ∈ lw_all := lw_g (lw_at lw_m4 107 rfl) rfl
theorem q880 : (Jvm.Cond.code ({ cls := "ReversalCourt", name := "letter", desc := "(C)I" } : Jvm.MethodName) prog_1_method_7_code (2 : Nat) (Option.some Jvm.ClassFile.FieldType.int)) ∈ lw_all := lw_g (lw_at lw_m4 108 rfl) rfl
theorem q881 : (Jvm.Cond.stringRef "ReversalCourt" (57 : Nat) "xyzAEae!()&|><=") ∈ lw_tbl := lw_at lw_m4 109 rfl
theorem q882 : (Jvm.Cond.methodLink "ReversalCourt" (59 : Nat) ({ cls := "java/lang/String", name := "indexOf", desc := "(I)I" } : Jvm.MethodName)) ∈ lw_all := lw_g (lw_at lw_m4 110 rfl) rfl
theorem q883 : (Jvm.Cond.methodLink "ReversalCourt" (65 : Nat) ({ cls := "ReversalCourt", name := "need", desc := "(Z)V" } : Jvm.MethodName)) ∈ lw_all := lw_g (lw_at lw_m4 111 rfl) rfl
theorem q884 : (Jvm.Cond.static ({ cls := "ReversalCourt", name := "need", desc := "(Z)V" } : Jvm.MethodName)) ∈ lw_all := lw_g (lw_at lw_m4 112 rfl) rfl
theorem q885 : (Jvm.Cond.code ({ cls := "ReversalCourt", name := "need", desc := "(Z)V" } : Jvm.MethodName) prog_1_method_4_code (1 : Nat) (Option.none : Option Jvm.ClassFile.FieldType)) ∈ lw_all := lw_g (lw_at lw_m4 113 rfl) rfl
theorem q886 : (Jvm.Cond.classLink "ReversalCourt" (35 : Nat) "java/lang/IllegalArgumentException") ∈ lw_all := lw_g (lw_at lw_m4 114 rfl) rfl
theorem q887 : (Jvm.Cond.methodLink "ReversalCourt" (37 : Nat) ({ cls := "java/lang/IllegalArgumentException", name := "<init>", desc := "()V" } : Jvm.MethodName)) ∈ lw_all := lw_g (lw_at lw_m4 115 rfl) rfl
theorem q897 : (Jvm.Cond.methodLink "ReversalCourt" (71 : Nat) ({ cls := "ReversalCourt", name := "needState", desc := "(Z)V" } : Jvm.MethodName)) ∈ lw_all := lw_g (lw_at lw_m4 125 rfl) rfl
theorem q898 : (Jvm.Cond.static ({ cls := "ReversalCourt", name := "needState", desc := "(Z)V" } : Jvm.MethodName)) ∈ lw_all := lw_g (lw_at lw_m4 126 rfl) rfl
theorem q899 : (Jvm.Cond.code ({ cls := "ReversalCourt", name := "needState", desc := "(Z)V" } : Jvm.MethodName) prog_1_method_5_code (1 : Nat) (Option.none : Option Jvm.ClassFile.FieldType)) ∈ lw_all := lw_g (lw_at lw_m4 127 rfl) rfl
theorem q900 : (Jvm.Cond.classLink "ReversalCourt" (38 : Nat) "java/lang/IllegalStateException") ∈ lw_all := lw_g (lw_at lw_m4 128 rfl) rfl
theorem q909 : (Jvm.Cond.methodLink "ReversalCourt" (40 : Nat) ({ cls := "java/lang/IllegalStateException", name := "<init>", desc := "()V" } : Jvm.MethodName)) ∈ lw_all := lw_g (lw_at lw_m4 137 rfl) rfl
theorem q915 : (Jvm.Cond.methodLink "ReversalCourt" (74 : Nat) ({ cls := "java/lang/StringBuilder", name := "append", desc := "(C)Ljava/lang/StringBuilder;" } : Jvm.MethodName)) ∈ lw_all := lw_g (lw_at lw_m4 143 rfl) rfl
theorem q936 : (Jvm.Cond.instanceMethod ({ cls := "ReversalCourt", name := "isSo", desc := "(IIII)Z" } : Jvm.MethodName)) ∈ lw_all := lw_g (lw_at lw_m4 164 rfl) rfl
theorem q937 : (Jvm.Cond.selects "ReversalCourt" ({ cls := "ReversalCourt", name := "isSo", desc := "(IIII)Z" } : Jvm.MethodName) ({ cls := "ReversalCourt", name := "isSo", desc := "(IIII)Z" } : Jvm.MethodName)) ∈ lw_all := lw_g (lw_at lw_m4 165 rfl) rfl
theorem q938 : (Jvm.Cond.code ({ cls := "ReversalCourt", name := "isSo", desc := "(IIII)Z" } : Jvm.MethodName) prog_1_method_14_code (6 : Nat) (Option.some Jvm.ClassFile.FieldType.boolean)) ∈ lw_all := lw_g (lw_at lw_m4 166 rfl) rfl
theorem q939 : (Jvm.Cond.methodLink "ReversalCourt" (45 : Nat) ({ cls := "ReversalCourt", name := "in", desc := "(III)Z" } : Jvm.MethodName)) ∈ lw_all := lw_g (lw_at lw_m4 167 rfl) rfl
theorem q940 : (Jvm.Cond.static ({ cls := "ReversalCourt", name := "in", desc := "(III)Z" } : Jvm.MethodName)) ∈ lw_all := lw_g (lw_at lw_m4 168 rfl) rfl
theorem q941 : (Jvm.Cond.code ({ cls := "ReversalCourt", name := "in", desc := "(III)Z" } : Jvm.MethodName) prog_1_method_2_code (3 : Nat) (Option.some Jvm.ClassFile.FieldType.boolean)) ∈ lw_all := lw_g (lw_at lw_m4 169 rfl) rfl
theorem q942 : (Jvm.Cond.methodLink "ReversalCourt" (109 : Nat) ({ cls := "ReversalCourt$Formula", name := "quantifiers", desc := "()I" } : Jvm.MethodName)) ∈ lw_all := lw_g (lw_at lw_m4 170 rfl) rfl
theorem q964 : (Jvm.Cond.methodLink "ReversalCourt" (112 : Nat) ({ cls := "ReversalCourt$Formula", name := "isSo", desc := "(I[I)Z" } : Jvm.MethodName)) ∈ lw_all := lw_g (lw_at lw_m4 192 rfl) rfl
theorem q991 : (Jvm.Cond.instanceMethod ({ cls := "ReversalCourt", name := "principle", desc := "()I" } : Jvm.MethodName)) ∈ lw_all := lw_g (lw_at lw_m4 219 rfl) rfl
theorem q992 : (Jvm.Cond.selects "ReversalCourt" ({ cls := "ReversalCourt", name := "principle", desc := "()I" } : Jvm.MethodName) ({ cls := "ReversalCourt", name := "principle", desc := "()I" } : Jvm.MethodName)) ∈ lw_all := lw_g (lw_at lw_m4 220 rfl) rfl
theorem q993 : (Jvm.Cond.code ({ cls := "ReversalCourt", name := "principle", desc := "()I" } : Jvm.MethodName) prog_1_method_15_code (2 : Nat) (Option.some Jvm.ClassFile.FieldType.int)) ∈ lw_all := lw_g (lw_at lw_m4 221 rfl) rfl
theorem q994 : (Jvm.Cond.classLink "ReversalCourt" (116 : Nat) "ReversalCourt$Principle") ∈ lw_all := lw_g (lw_at lw_m4 222 rfl) rfl
theorem q996 : (Jvm.Cond.methodLink "ReversalCourt" (118 : Nat) ({ cls := "ReversalCourt$Principle", name := "<init>", desc := "(LReversalCourt$Formula;)V" } : Jvm.MethodName)) ∈ lw_all := lw_g (lw_at lw_m4 224 rfl) rfl
theorem q1003 : (Jvm.Cond.fieldLinkNest "ReversalCourt" (205 : Nat) "ReversalCourt$Principle" "sigma" "I" "ReversalCourt") ∈ lw_tbl := lw_at lw_m4 231 rfl
theorem q1005 : (Jvm.Cond.fieldLinkNest "ReversalCourt" (207 : Nat) "ReversalCourt$Principle" "pi" "I" "ReversalCourt") ∈ lw_tbl := lw_at lw_m4 233 rfl
theorem q1011 : (Jvm.Cond.methodLink "ReversalCourt" (121 : Nat) ({ cls := "java/util/ArrayList", name := "add", desc := "(Ljava/lang/Object;)Z" } : Jvm.MethodName)) ∈ lw_all := lw_g (lw_at lw_m4 239 rfl) rfl
theorem q1034 : (Jvm.Cond.selects "ReversalCourt" ({ cls := "java/lang/Object", name := "getClass", desc := "()Ljava/lang/Class;" } : Jvm.MethodName) ({ cls := "java/lang/Object", name := "getClass", desc := "()Ljava/lang/Class;" } : Jvm.MethodName)) ∈ lw_all := lw_g (lw_at lw_m5 22 rfl) rfl
theorem q1074 : (Jvm.Cond.instanceMethod ({ cls := "ReversalCourt", name := "rule", desc := "(II)I" } : Jvm.MethodName)) ∈ lw_all := lw_g (lw_at lw_m5 62 rfl) rfl
theorem q1075 : (Jvm.Cond.selects "ReversalCourt" ({ cls := "ReversalCourt", name := "rule", desc := "(II)I" } : Jvm.MethodName) ({ cls := "ReversalCourt", name := "rule", desc := "(II)I" } : Jvm.MethodName)) ∈ lw_all := lw_g (lw_at lw_m5 63 rfl) rfl
theorem q1076 : (Jvm.Cond.code ({ cls := "ReversalCourt", name := "rule", desc := "(II)I" } : Jvm.MethodName) prog_1_method_17_code (6 : Nat) (Option.some Jvm.ClassFile.FieldType.int)) ∈ lw_all := lw_g (lw_at lw_m5 64 rfl) rfl
theorem q1077 : (Jvm.Cond.methodLink "ReversalCourt" (125 : Nat) ({ cls := "ReversalCourt", name := "of", desc := "(Ljava/util/ArrayList;I)Ljava/lang/Object;" } : Jvm.MethodName)) ∈ lw_all := lw_g (lw_at lw_m5 65 rfl) rfl
theorem q1078 : (Jvm.Cond.static ({ cls := "ReversalCourt", name := "of", desc := "(Ljava/util/ArrayList;I)Ljava/lang/Object;" } : Jvm.MethodName)) ∈ lw_all := lw_g (lw_at lw_m5 66 rfl) rfl
theorem q1079 : (Jvm.Cond.code ({ cls := "ReversalCourt", name := "of", desc := "(Ljava/util/ArrayList;I)Ljava/lang/Object;" } : Jvm.MethodName) prog_1_method_6_code (2 : Nat) (Option.some (Jvm.ClassFile.FieldType.object "java/lang/Object"))) ∈ lw_all := lw_g (lw_at lw_m5 67 rfl) rfl
theorem q1080 : (Jvm.Cond.methodLink "ReversalCourt" (49 : Nat) ({ cls := "ReversalCourt", name := "needIndex", desc := "(Z)V" } : Jvm.MethodName)) ∈ lw_all := lw_g (lw_at lw_m5 68 rfl) rfl
theorem q1081 : (Jvm.Cond.static ({ cls := "ReversalCourt", name := "needIndex", desc := "(Z)V" } : Jvm.MethodName)) ∈ lw_all := lw_g (lw_at lw_m5 69 rfl) rfl
theorem q1082 : (Jvm.Cond.code ({ cls := "ReversalCourt", name := "needIndex", desc := "(Z)V" } : Jvm.MethodName) prog_1_method_3_code (1 : Nat) (Option.none : Option Jvm.ClassFile.FieldType)) ∈ lw_all := lw_g (lw_at lw_m5 70 rfl) rfl
theorem q1083 : (Jvm.Cond.classLink "ReversalCourt" (32 : Nat) "java/lang/IndexOutOfBoundsException") ∈ lw_all := lw_g (lw_at lw_m5 71 rfl) rfl
theorem q1092 : (Jvm.Cond.methodLink "ReversalCourt" (34 : Nat) ({ cls := "java/lang/IndexOutOfBoundsException", name := "<init>", desc := "()V" } : Jvm.MethodName)) ∈ lw_all := lw_g (lw_at lw_m5 80 rfl) rfl
theorem q1098 : (Jvm.Cond.methodLink "ReversalCourt" (129 : Nat) ({ cls := "ReversalCourt", name := "isSet", desc := "(I)Z" } : Jvm.MethodName)) ∈ lw_all := lw_g (lw_at lw_m5 86 rfl) rfl
theorem q1099 : (Jvm.Cond.privateMethod ({ cls := "ReversalCourt", name := "isSet", desc := "(I)Z" } : Jvm.MethodName)) ∈ lw_tbl := lw_at lw_m5 87 rfl
theorem q1100 : (Jvm.Cond.instanceMethod ({ cls := "ReversalCourt", name := "isSet", desc := "(I)Z" } : Jvm.MethodName)) ∈ lw_all := lw_g (lw_at lw_m5 88 rfl) rfl
theorem q1101 : (Jvm.Cond.code ({ cls := "ReversalCourt", name := "isSet", desc := "(I)Z" } : Jvm.MethodName) prog_1_method_16_code (2 : Nat) (Option.some Jvm.ClassFile.FieldType.boolean)) ∈ lw_all := lw_g (lw_at lw_m5 89 rfl) rfl
theorem q1103 : (Jvm.Cond.methodLink "ReversalCourt" (135 : Nat) ({ cls := "ReversalCourt$Rule", name := "<init>", desc := "(LReversalCourt;II)V" } : Jvm.MethodName)) ∈ lw_all := lw_g (lw_at lw_m5 91 rfl) rfl
theorem q1109 : (Jvm.Cond.fieldLinkNest "ReversalCourt" (146 : Nat) "ReversalCourt$Rule" "number" "I" "ReversalCourt") ∈ lw_tbl := lw_at lw_m5 97 rfl
theorem q1111 : (Jvm.Cond.fieldLinkNest "ReversalCourt" (174 : Nat) "ReversalCourt$Rule" "premises" "I" "ReversalCourt") ∈ lw_tbl := lw_at lw_m5 99 rfl
theorem q1113 : (Jvm.Cond.fieldLinkNest "ReversalCourt" (157 : Nat) "ReversalCourt$Rule" "conclusion" "I" "ReversalCourt") ∈ lw_tbl := lw_at lw_m5 101 rfl
theorem q1128 : (Jvm.Cond.instanceMethod ({ cls := "ReversalCourt", name := "model", desc := "(I)I" } : Jvm.MethodName)) ∈ lw_all := lw_g (lw_at lw_m5 116 rfl) rfl
theorem q1129 : (Jvm.Cond.selects "ReversalCourt" ({ cls := "ReversalCourt", name := "model", desc := "(I)I" } : Jvm.MethodName) ({ cls := "ReversalCourt", name := "model", desc := "(I)I" } : Jvm.MethodName)) ∈ lw_all := lw_g (lw_at lw_m5 117 rfl) rfl
theorem q1130 : (Jvm.Cond.code ({ cls := "ReversalCourt", name := "model", desc := "(I)I" } : Jvm.MethodName) prog_1_method_19_code (2 : Nat) (Option.some Jvm.ClassFile.FieldType.int)) ∈ lw_all := lw_g (lw_at lw_m5 118 rfl) rfl
theorem q1131 : (Jvm.Cond.methodLink "ReversalCourt" (153 : Nat) ({ cls := "java/lang/Integer", name := "valueOf", desc := "(I)Ljava/lang/Integer;" } : Jvm.MethodName)) ∈ lw_all := lw_g (lw_at lw_m5 119 rfl) rfl
theorem q1155 : (Jvm.Cond.instanceMethod ({ cls := "ReversalCourt", name := "proves", desc := "(I)I" } : Jvm.MethodName)) ∈ lw_all := lw_g (lw_at lw_m5 143 rfl) rfl
theorem q1156 : (Jvm.Cond.selects "ReversalCourt" ({ cls := "ReversalCourt", name := "proves", desc := "(I)I" } : Jvm.MethodName) ({ cls := "ReversalCourt", name := "proves", desc := "(I)I" } : Jvm.MethodName)) ∈ lw_all := lw_g (lw_at lw_m5 144 rfl) rfl
theorem q1157 : (Jvm.Cond.code ({ cls := "ReversalCourt", name := "proves", desc := "(I)I" } : Jvm.MethodName) prog_1_method_22_code (2 : Nat) (Option.some Jvm.ClassFile.FieldType.int)) ∈ lw_all := lw_g (lw_at lw_m5 145 rfl) rfl
theorem q1162 : (Jvm.Cond.instanceMethod ({ cls := "ReversalCourt", name := "proof", desc := "(III)I" } : Jvm.MethodName)) ∈ lw_all := lw_g (lw_at lw_m5 150 rfl) rfl
theorem q1163 : (Jvm.Cond.selects "ReversalCourt" ({ cls := "ReversalCourt", name := "proof", desc := "(III)I" } : Jvm.MethodName) ({ cls := "ReversalCourt", name := "proof", desc := "(III)I" } : Jvm.MethodName)) ∈ lw_all := lw_g (lw_at lw_m5 151 rfl) rfl
theorem q1164 : (Jvm.Cond.code ({ cls := "ReversalCourt", name := "proof", desc := "(III)I" } : Jvm.MethodName) prog_1_method_24_code (8 : Nat) (Option.some Jvm.ClassFile.FieldType.int)) ∈ lw_all := lw_g (lw_at lw_m5 152 rfl) rfl
theorem q1165 : (Jvm.Cond.methodLink "ReversalCourt" (167 : Nat) ({ cls := "ReversalCourt", name := "steps", desc := "(II)Ljava/util/ArrayList;" } : Jvm.MethodName)) ∈ lw_all := lw_g (lw_at lw_m5 153 rfl) rfl
theorem q1166 : (Jvm.Cond.privateMethod ({ cls := "ReversalCourt", name := "steps", desc := "(II)Ljava/util/ArrayList;" } : Jvm.MethodName)) ∈ lw_tbl := lw_at lw_m5 154 rfl
theorem q1167 : (Jvm.Cond.instanceMethod ({ cls := "ReversalCourt", name := "steps", desc := "(II)Ljava/util/ArrayList;" } : Jvm.MethodName)) ∈ lw_all := lw_g (lw_at lw_m5 155 rfl) rfl
theorem q1168 : (Jvm.Cond.code ({ cls := "ReversalCourt", name := "steps", desc := "(II)Ljava/util/ArrayList;" } : Jvm.MethodName) prog_1_method_23_code (6 : Nat) (Option.some (Jvm.ClassFile.FieldType.object "java/util/ArrayList"))) ∈ lw_all := lw_g (lw_at lw_m5 156 rfl) rfl
theorem q1169 : (Jvm.Cond.methodLink "ReversalCourt" (171 : Nat) ({ cls := "java/util/ArrayList", name := "add", desc := "(ILjava/lang/Object;)V" } : Jvm.MethodName)) ∈ lw_all := lw_g (lw_at lw_m5 157 rfl) rfl
theorem q1195 : (Jvm.Cond.instanceMethod ({ cls := "ReversalCourt", name := "known", desc := "(II)I" } : Jvm.MethodName)) ∈ lw_all := lw_g (lw_at lw_m5 183 rfl) rfl
theorem q1196 : (Jvm.Cond.selects "ReversalCourt" ({ cls := "ReversalCourt", name := "known", desc := "(II)I" } : Jvm.MethodName) ({ cls := "ReversalCourt", name := "known", desc := "(II)I" } : Jvm.MethodName)) ∈ lw_all := lw_g (lw_at lw_m5 184 rfl) rfl
theorem q1197 : (Jvm.Cond.code ({ cls := "ReversalCourt", name := "known", desc := "(II)I" } : Jvm.MethodName) prog_1_method_26_code (3 : Nat) (Option.some Jvm.ClassFile.FieldType.int)) ∈ lw_all := lw_g (lw_at lw_m5 185 rfl) rfl
theorem q1202 : (Jvm.Cond.instanceMethod ({ cls := "ReversalCourt", name := "least", desc := "(II)I" } : Jvm.MethodName)) ∈ lw_all := lw_g (lw_at lw_m5 190 rfl) rfl
theorem q1203 : (Jvm.Cond.selects "ReversalCourt" ({ cls := "ReversalCourt", name := "least", desc := "(II)I" } : Jvm.MethodName) ({ cls := "ReversalCourt", name := "least", desc := "(II)I" } : Jvm.MethodName)) ∈ lw_all := lw_g (lw_at lw_m5 191 rfl) rfl
theorem q1204 : (Jvm.Cond.code ({ cls := "ReversalCourt", name := "least", desc := "(II)I" } : Jvm.MethodName) prog_1_method_28_code (5 : Nat) (Option.some Jvm.ClassFile.FieldType.int)) ∈ lw_all := lw_g (lw_at lw_m5 192 rfl) rfl
theorem q1205 : (Jvm.Cond.classLink "ReversalCourt" (181 : Nat) "ReversalCourt$Sets") ∈ lw_all := lw_g (lw_at lw_m5 193 rfl) rfl
theorem q1207 : (Jvm.Cond.methodLink "ReversalCourt" (183 : Nat) ({ cls := "ReversalCourt$Sets", name := "<init>", desc := "(I)V" } : Jvm.MethodName)) ∈ lw_all := lw_g (lw_at lw_m5 195 rfl) rfl
theorem q1221 : (Jvm.Cond.interfaceEntry "ReversalCourt" (185 : Nat)) ∈ lw_tbl := lw_at lw_m5 209 rfl
theorem q1222 : (Jvm.Cond.methodLink "ReversalCourt" (185 : Nat) ({ cls := "java/util/Iterator", name := "hasNext", desc := "()Z" } : Jvm.MethodName)) ∈ lw_all := lw_g (lw_at lw_m5 210 rfl) rfl
theorem q1243 : (Jvm.Cond.interfaceEntry "ReversalCourt" (191 : Nat)) ∈ lw_tbl := lw_at lw_m5 231 rfl
theorem q1244 : (Jvm.Cond.methodLink "ReversalCourt" (191 : Nat) ({ cls := "java/util/Iterator", name := "next", desc := "()Ljava/lang/Object;" } : Jvm.MethodName)) ∈ lw_all := lw_g (lw_at lw_m5 232 rfl) rfl
theorem q1290 : (Jvm.Cond.instanceMethod ({ cls := "ReversalCourt", name := "leastAnew", desc := "(II)I" } : Jvm.MethodName)) ∈ lw_all := lw_g (lw_at lw_m6 38 rfl) rfl
theorem q1291 : (Jvm.Cond.selects "ReversalCourt" ({ cls := "ReversalCourt", name := "leastAnew", desc := "(II)I" } : Jvm.MethodName) ({ cls := "ReversalCourt", name := "leastAnew", desc := "(II)I" } : Jvm.MethodName)) ∈ lw_all := lw_g (lw_at lw_m6 39 rfl) rfl
theorem q1292 : (Jvm.Cond.code ({ cls := "ReversalCourt", name := "leastAnew", desc := "(II)I" } : Jvm.MethodName) prog_1_method_29_code (5 : Nat) (Option.some Jvm.ClassFile.FieldType.int)) ∈ lw_all := lw_g (lw_at lw_m6 40 rfl) rfl
theorem q1293 : (Jvm.Cond.classLink "ReversalCourt" (194 : Nat) "ReversalCourt$1Best") ∈ lw_all := lw_g (lw_at lw_m6 41 rfl) rfl
theorem q1295 : (Jvm.Cond.methodLink "ReversalCourt" (196 : Nat) ({ cls := "ReversalCourt$1Best", name := "<init>", desc := "(LReversalCourt;I)V" } : Jvm.MethodName)) ∈ lw_all := lw_g (lw_at lw_m6 43 rfl) rfl
theorem q1300 : (Jvm.Cond.fieldLinkNest "ReversalCourt" (202 : Nat) "ReversalCourt$1Best" "set" "I" "ReversalCourt") ∈ lw_tbl := lw_at lw_m6 48 rfl
theorem q1310 : (Jvm.Cond.methodLink "ReversalCourt" (199 : Nat) ({ cls := "ReversalCourt$1Best", name := "look", desc := "(I)V" } : Jvm.MethodName)) ∈ lw_all := lw_g (lw_at lw_m6 58 rfl) rfl
theorem q1320 : (Jvm.Cond.instanceMethod ({ cls := "ReversalCourt", name := "ofPrinciple", desc := "(II)I" } : Jvm.MethodName)) ∈ lw_all := lw_g (lw_at lw_m6 68 rfl) rfl
theorem q1321 : (Jvm.Cond.selects "ReversalCourt" ({ cls := "ReversalCourt", name := "ofPrinciple", desc := "(II)I" } : Jvm.MethodName) ({ cls := "ReversalCourt", name := "ofPrinciple", desc := "(II)I" } : Jvm.MethodName)) ∈ lw_all := lw_g (lw_at lw_m6 69 rfl) rfl
theorem q1322 : (Jvm.Cond.code ({ cls := "ReversalCourt", name := "ofPrinciple", desc := "(II)I" } : Jvm.MethodName) prog_1_method_32_code (4 : Nat) (Option.some Jvm.ClassFile.FieldType.int)) ∈ lw_all := lw_g (lw_at lw_m6 70 rfl) rfl
theorem q1323 : (Jvm.Cond.methodLink "ReversalCourt" (209 : Nat) ({ cls := "ReversalCourt", name := "concluding", desc := "(I)I" } : Jvm.MethodName)) ∈ lw_all := lw_g (lw_at lw_m6 71 rfl) rfl
theorem q1324 : (Jvm.Cond.privateMethod ({ cls := "ReversalCourt", name := "concluding", desc := "(I)I" } : Jvm.MethodName)) ∈ lw_tbl := lw_at lw_m6 72 rfl
theorem q1325 : (Jvm.Cond.instanceMethod ({ cls := "ReversalCourt", name := "concluding", desc := "(I)I" } : Jvm.MethodName)) ∈ lw_all := lw_g (lw_at lw_m6 73 rfl) rfl
theorem q1326 : (Jvm.Cond.code ({ cls := "ReversalCourt", name := "concluding", desc := "(I)I" } : Jvm.MethodName) prog_1_method_30_code (4 : Nat) (Option.some Jvm.ClassFile.FieldType.int)) ∈ lw_all := lw_g (lw_at lw_m6 74 rfl) rfl
theorem q1327 : (Jvm.Cond.methodLink "ReversalCourt" (212 : Nat) ({ cls := "ReversalCourt", name := "having", desc := "(I)I" } : Jvm.MethodName)) ∈ lw_all := lw_g (lw_at lw_m6 75 rfl) rfl
theorem q1328 : (Jvm.Cond.privateMethod ({ cls := "ReversalCourt", name := "having", desc := "(I)I" } : Jvm.MethodName)) ∈ lw_tbl := lw_at lw_m6 76 rfl
theorem q1329 : (Jvm.Cond.instanceMethod ({ cls := "ReversalCourt", name := "having", desc := "(I)I" } : Jvm.MethodName)) ∈ lw_all := lw_g (lw_at lw_m6 77 rfl) rfl
theorem q1330 : (Jvm.Cond.code ({ cls := "ReversalCourt", name := "having", desc := "(I)I" } : Jvm.MethodName) prog_1_method_31_code (4 : Nat) (Option.some Jvm.ClassFile.FieldType.int)) ∈ lw_all := lw_g (lw_at lw_m6 78 rfl) rfl
theorem q1335 : (Jvm.Cond.instanceMethod ({ cls := "ReversalCourt", name := "problem", desc := "(III)I" } : Jvm.MethodName)) ∈ lw_all := lw_g (lw_at lw_m6 83 rfl) rfl
theorem q1336 : (Jvm.Cond.selects "ReversalCourt" ({ cls := "ReversalCourt", name := "problem", desc := "(III)I" } : Jvm.MethodName) ({ cls := "ReversalCourt", name := "problem", desc := "(III)I" } : Jvm.MethodName)) ∈ lw_all := lw_g (lw_at lw_m6 84 rfl) rfl
theorem q1337 : (Jvm.Cond.code ({ cls := "ReversalCourt", name := "problem", desc := "(III)I" } : Jvm.MethodName) prog_1_method_33_code (7 : Nat) (Option.some Jvm.ClassFile.FieldType.int)) ∈ lw_all := lw_g (lw_at lw_m6 85 rfl) rfl
theorem q1338 : (Jvm.Cond.classLink "ReversalCourt" (215 : Nat) "ReversalCourt$Problem") ∈ lw_all := lw_g (lw_at lw_m6 86 rfl) rfl
theorem q1340 : (Jvm.Cond.methodLink "ReversalCourt" (217 : Nat) ({ cls := "ReversalCourt$Problem", name := "<init>", desc := "(III)V" } : Jvm.MethodName)) ∈ lw_all := lw_g (lw_at lw_m6 88 rfl) rfl
theorem q1345 : (Jvm.Cond.fieldLinkNest "ReversalCourt" (220 : Nat) "ReversalCourt$Problem" "instances" "I" "ReversalCourt") ∈ lw_tbl := lw_at lw_m6 93 rfl
theorem q1347 : (Jvm.Cond.fieldLinkNest "ReversalCourt" (223 : Nat) "ReversalCourt$Problem" "answers" "I" "ReversalCourt") ∈ lw_tbl := lw_at lw_m6 95 rfl
theorem q1349 : (Jvm.Cond.fieldLinkNest "ReversalCourt" (256 : Nat) "ReversalCourt$Problem" "solves" "I" "ReversalCourt") ∈ lw_tbl := lw_at lw_m6 97 rfl
theorem q1361 : (Jvm.Cond.instanceMethod ({ cls := "ReversalCourt", name := "product", desc := "(II)I" } : Jvm.MethodName)) ∈ lw_all := lw_g (lw_at lw_m6 109 rfl) rfl
theorem q1362 : (Jvm.Cond.selects "ReversalCourt" ({ cls := "ReversalCourt", name := "product", desc := "(II)I" } : Jvm.MethodName) ({ cls := "ReversalCourt", name := "product", desc := "(II)I" } : Jvm.MethodName)) ∈ lw_all := lw_g (lw_at lw_m6 110 rfl) rfl
theorem q1363 : (Jvm.Cond.code ({ cls := "ReversalCourt", name := "product", desc := "(II)I" } : Jvm.MethodName) prog_1_method_34_code (9 : Nat) (Option.some Jvm.ClassFile.FieldType.int)) ∈ lw_all := lw_g (lw_at lw_m6 111 rfl) rfl
theorem q1364 : (Jvm.Cond.methodLink "ReversalCourt" (226 : Nat) ({ cls := "ReversalCourt$Problem", name := "solves", desc := "(II)Z" } : Jvm.MethodName)) ∈ lw_all := lw_g (lw_at lw_m6 112 rfl) rfl
theorem q1372 : (Jvm.Cond.instanceMethod ({ cls := "ReversalCourt", name := "reduces", desc := "(II)I" } : Jvm.MethodName)) ∈ lw_all := lw_g (lw_at lw_m6 120 rfl) rfl
theorem q1373 : (Jvm.Cond.selects "ReversalCourt" ({ cls := "ReversalCourt", name := "reduces", desc := "(II)I" } : Jvm.MethodName) ({ cls := "ReversalCourt", name := "reduces", desc := "(II)I" } : Jvm.MethodName)) ∈ lw_all := lw_g (lw_at lw_m6 121 rfl) rfl
theorem q1374 : (Jvm.Cond.code ({ cls := "ReversalCourt", name := "reduces", desc := "(II)I" } : Jvm.MethodName) prog_1_method_39_code (5 : Nat) (Option.some Jvm.ClassFile.FieldType.int)) ∈ lw_all := lw_g (lw_at lw_m6 122 rfl) rfl
theorem q1375 : (Jvm.Cond.methodLink "ReversalCourt" (244 : Nat) ({ cls := "ReversalCourt", name := "backOf", desc := "(LReversalCourt$Problem;LReversalCourt$Problem;)[I" } : Jvm.MethodName)) ∈ lw_all := lw_g (lw_at lw_m6 123 rfl) rfl
theorem q1376 : (Jvm.Cond.static ({ cls := "ReversalCourt", name := "backOf", desc := "(LReversalCourt$Problem;LReversalCourt$Problem;)[I" } : Jvm.MethodName)) ∈ lw_all := lw_g (lw_at lw_m6 124 rfl) rfl
theorem q1377 : (Jvm.Cond.code ({ cls := "ReversalCourt", name := "backOf", desc := "(LReversalCourt$Problem;LReversalCourt$Problem;)[I" } : Jvm.MethodName) prog_1_method_37_code (6 : Nat) (Option.some (Jvm.ClassFile.FieldType.array Jvm.ClassFile.FieldType.int))) ∈ lw_all := lw_g (lw_at lw_m6 125 rfl) rfl
theorem q1378 : (Jvm.Cond.classLink "ReversalCourt" (233 : Nat) "ReversalCourt$Maps") ∈ lw_all := lw_g (lw_at lw_m6 126 rfl) rfl
theorem q1380 : (Jvm.Cond.methodLink "ReversalCourt" (235 : Nat) ({ cls := "ReversalCourt$Maps", name := "<init>", desc := "(II)V" } : Jvm.MethodName)) ∈ lw_all := lw_g (lw_at lw_m6 128 rfl) rfl
theorem q1397 : (Jvm.Cond.classLink "ReversalCourt" (238 : Nat) "[I") ∈ lw_all := lw_g (lw_at lw_m6 145 rfl) rfl
theorem q1398 : (Jvm.Cond.methodLink "ReversalCourt" (240 : Nat) ({ cls := "ReversalCourt", name := "lowest", desc := "(LReversalCourt$Problem;ILReversalCourt$Problem;[I)I" } : Jvm.MethodName)) ∈ lw_all := lw_g (lw_at lw_m6 146 rfl) rfl
theorem q1399 : (Jvm.Cond.static ({ cls := "ReversalCourt", name := "lowest", desc := "(LReversalCourt$Problem;ILReversalCourt$Problem;[I)I" } : Jvm.MethodName)) ∈ lw_all := lw_g (lw_at lw_m6 147 rfl) rfl
theorem q1400 : (Jvm.Cond.code ({ cls := "ReversalCourt", name := "lowest", desc := "(LReversalCourt$Problem;ILReversalCourt$Problem;[I)I" } : Jvm.MethodName) prog_1_method_36_code (5 : Nat) (Option.some Jvm.ClassFile.FieldType.int)) ∈ lw_all := lw_g (lw_at lw_m6 148 rfl) rfl
theorem q1401 : (Jvm.Cond.methodLink "ReversalCourt" (229 : Nat) ({ cls := "ReversalCourt", name := "does", desc := "(LReversalCourt$Problem;ILReversalCourt$Problem;I[I)Z" } : Jvm.MethodName)) ∈ lw_all := lw_g (lw_at lw_m6 149 rfl) rfl
theorem q1402 : (Jvm.Cond.static ({ cls := "ReversalCourt", name := "does", desc := "(LReversalCourt$Problem;ILReversalCourt$Problem;I[I)Z" } : Jvm.MethodName)) ∈ lw_all := lw_g (lw_at lw_m6 150 rfl) rfl
theorem q1403 : (Jvm.Cond.code ({ cls := "ReversalCourt", name := "does", desc := "(LReversalCourt$Problem;ILReversalCourt$Problem;I[I)Z" } : Jvm.MethodName) prog_1_method_35_code (7 : Nat) (Option.some Jvm.ClassFile.FieldType.boolean)) ∈ lw_all := lw_g (lw_at lw_m6 151 rfl) rfl
theorem q1404 : (Jvm.Cond.methodLink "ReversalCourt" (248 : Nat) ({ cls := "ReversalCourt", name := "codeOf", desc := "([II)I" } : Jvm.MethodName)) ∈ lw_all := lw_g (lw_at lw_m6 152 rfl) rfl
theorem q1405 : (Jvm.Cond.static ({ cls := "ReversalCourt", name := "codeOf", desc := "([II)I" } : Jvm.MethodName)) ∈ lw_all := lw_g (lw_at lw_m6 153 rfl) rfl
theorem q1406 : (Jvm.Cond.code ({ cls := "ReversalCourt", name := "codeOf", desc := "([II)I" } : Jvm.MethodName) prog_1_method_38_code (4 : Nat) (Option.some Jvm.ClassFile.FieldType.int)) ∈ lw_all := lw_g (lw_at lw_m6 154 rfl) rfl
theorem q1411 : (Jvm.Cond.instanceMethod ({ cls := "ReversalCourt", name := "reducesAnew", desc := "(II)I" } : Jvm.MethodName)) ∈ lw_all := lw_g (lw_at lw_m6 159 rfl) rfl
theorem q1412 : (Jvm.Cond.selects "ReversalCourt" ({ cls := "ReversalCourt", name := "reducesAnew", desc := "(II)I" } : Jvm.MethodName) ({ cls := "ReversalCourt", name := "reducesAnew", desc := "(II)I" } : Jvm.MethodName)) ∈ lw_all := lw_g (lw_at lw_m6 160 rfl) rfl
theorem q1413 : (Jvm.Cond.code ({ cls := "ReversalCourt", name := "reducesAnew", desc := "(II)I" } : Jvm.MethodName) prog_1_method_41_code (11 : Nat) (Option.some Jvm.ClassFile.FieldType.int)) ∈ lw_all := lw_g (lw_at lw_m6 161 rfl) rfl
theorem q1414 : (Jvm.Cond.methodLink "ReversalCourt" (252 : Nat) ({ cls := "ReversalCourt", name := "doesAll", desc := "(LReversalCourt$Problem;LReversalCourt$Problem;[I[I)Z" } : Jvm.MethodName)) ∈ lw_all := lw_g (lw_at lw_m6 162 rfl) rfl
theorem q1415 : (Jvm.Cond.static ({ cls := "ReversalCourt", name := "doesAll", desc := "(LReversalCourt$Problem;LReversalCourt$Problem;[I[I)Z" } : Jvm.MethodName)) ∈ lw_all := lw_g (lw_at lw_m6 163 rfl) rfl
theorem q1416 : (Jvm.Cond.code ({ cls := "ReversalCourt", name := "doesAll", desc := "(LReversalCourt$Problem;LReversalCourt$Problem;[I[I)Z" } : Jvm.MethodName) prog_1_method_40_code (6 : Nat) (Option.some Jvm.ClassFile.FieldType.boolean)) ∈ lw_all := lw_g (lw_at lw_m6 164 rfl) rfl
theorem q1421 : (Jvm.Cond.instanceMethod ({ cls := "ReversalCourt", name := "forth", desc := "(III)I" } : Jvm.MethodName)) ∈ lw_all := lw_g (lw_at lw_m6 169 rfl) rfl
theorem q1422 : (Jvm.Cond.selects "ReversalCourt" ({ cls := "ReversalCourt", name := "forth", desc := "(III)I" } : Jvm.MethodName) ({ cls := "ReversalCourt", name := "forth", desc := "(III)I" } : Jvm.MethodName)) ∈ lw_all := lw_g (lw_at lw_m6 170 rfl) rfl
theorem q1423 : (Jvm.Cond.code ({ cls := "ReversalCourt", name := "forth", desc := "(III)I" } : Jvm.MethodName) prog_1_method_42_code (7 : Nat) (Option.some Jvm.ClassFile.FieldType.int)) ∈ lw_all := lw_g (lw_at lw_m6 171 rfl) rfl
theorem q1428 : (Jvm.Cond.instanceMethod ({ cls := "ReversalCourt", name := "ofProblem", desc := "(II)I" } : Jvm.MethodName)) ∈ lw_all := lw_g (lw_at lw_m6 176 rfl) rfl
theorem q1429 : (Jvm.Cond.selects "ReversalCourt" ({ cls := "ReversalCourt", name := "ofProblem", desc := "(II)I" } : Jvm.MethodName) ({ cls := "ReversalCourt", name := "ofProblem", desc := "(II)I" } : Jvm.MethodName)) ∈ lw_all := lw_g (lw_at lw_m6 177 rfl) rfl
theorem q1430 : (Jvm.Cond.code ({ cls := "ReversalCourt", name := "ofProblem", desc := "(II)I" } : Jvm.MethodName) prog_1_method_43_code (4 : Nat) (Option.some Jvm.ClassFile.FieldType.int)) ∈ lw_all := lw_g (lw_at lw_m6 178 rfl) rfl
theorem q1435 : (Jvm.Cond.instanceMethod ({ cls := "ReversalCourt", name := "has", desc := "(II)Z" } : Jvm.MethodName)) ∈ lw_all := lw_g (lw_at lw_m6 183 rfl) rfl
theorem q1436 : (Jvm.Cond.selects "ReversalCourt" ({ cls := "ReversalCourt", name := "has", desc := "(II)Z" } : Jvm.MethodName) ({ cls := "ReversalCourt", name := "has", desc := "(II)Z" } : Jvm.MethodName)) ∈ lw_all := lw_g (lw_at lw_m6 184 rfl) rfl
theorem q1437 : (Jvm.Cond.code ({ cls := "ReversalCourt", name := "has", desc := "(II)Z" } : Jvm.MethodName) prog_1_method_46_code (3 : Nat) (Option.some Jvm.ClassFile.FieldType.boolean)) ∈ lw_all := lw_g (lw_at lw_m6 185 rfl) rfl
theorem q1438 : (Jvm.Cond.methodLink "ReversalCourt" (262 : Nat) ({ cls := "ReversalCourt", name := "needGame", desc := "(II)V" } : Jvm.MethodName)) ∈ lw_all := lw_g (lw_at lw_m6 186 rfl) rfl
theorem q1439 : (Jvm.Cond.static ({ cls := "ReversalCourt", name := "needGame", desc := "(II)V" } : Jvm.MethodName)) ∈ lw_all := lw_g (lw_at lw_m6 187 rfl) rfl
theorem q1440 : (Jvm.Cond.code ({ cls := "ReversalCourt", name := "needGame", desc := "(II)V" } : Jvm.MethodName) prog_1_method_44_code (2 : Nat) (Option.none : Option Jvm.ClassFile.FieldType)) ∈ lw_all := lw_g (lw_at lw_m6 188 rfl) rfl
theorem q1441 : (Jvm.Cond.methodLink "ReversalCourt" (258 : Nat) ({ cls := "ReversalCourt", name := "hasFrom", desc := "(IIII)Z" } : Jvm.MethodName)) ∈ lw_all := lw_g (lw_at lw_m6 189 rfl) rfl
theorem q1442 : (Jvm.Cond.static ({ cls := "ReversalCourt", name := "hasFrom", desc := "(IIII)Z" } : Jvm.MethodName)) ∈ lw_all := lw_g (lw_at lw_m6 190 rfl) rfl
theorem q1443 : (Jvm.Cond.code ({ cls := "ReversalCourt", name := "hasFrom", desc := "(IIII)Z" } : Jvm.MethodName) prog_1_method_45_code (6 : Nat) (Option.some Jvm.ClassFile.FieldType.boolean)) ∈ lw_all := lw_g (lw_at lw_m6 191 rfl) rfl
theorem q1448 : (Jvm.Cond.instanceMethod ({ cls := "ReversalCourt", name := "hasAnew", desc := "(II)Z" } : Jvm.MethodName)) ∈ lw_all := lw_g (lw_at lw_m6 196 rfl) rfl
theorem q1449 : (Jvm.Cond.selects "ReversalCourt" ({ cls := "ReversalCourt", name := "hasAnew", desc := "(II)Z" } : Jvm.MethodName) ({ cls := "ReversalCourt", name := "hasAnew", desc := "(II)Z" } : Jvm.MethodName)) ∈ lw_all := lw_g (lw_at lw_m6 197 rfl) rfl
theorem q1450 : (Jvm.Cond.code ({ cls := "ReversalCourt", name := "hasAnew", desc := "(II)Z" } : Jvm.MethodName) prog_1_method_48_code (7 : Nat) (Option.some Jvm.ClassFile.FieldType.boolean)) ∈ lw_all := lw_g (lw_at lw_m6 198 rfl) rfl
theorem q1451 : (Jvm.Cond.methodLink "ReversalCourt" (265 : Nat) ({ cls := "ReversalCourt", name := "played", desc := "(III)I" } : Jvm.MethodName)) ∈ lw_all := lw_g (lw_at lw_m6 199 rfl) rfl
theorem q1452 : (Jvm.Cond.static ({ cls := "ReversalCourt", name := "played", desc := "(III)I" } : Jvm.MethodName)) ∈ lw_all := lw_g (lw_at lw_m6 200 rfl) rfl
theorem q1453 : (Jvm.Cond.code ({ cls := "ReversalCourt", name := "played", desc := "(III)I" } : Jvm.MethodName) prog_1_method_47_code (6 : Nat) (Option.some Jvm.ClassFile.FieldType.int)) ∈ lw_all := lw_g (lw_at lw_m6 201 rfl) rfl
theorem q1825 : (Jvm.Cond.castable "ReversalCourt" "java/lang/Object") ∈ lw_tbl := lw_at lw_m8 93 rfl
theorem in_X1 : ∀ w ∈ wsX10, w ∈ lw_all := lw_in wsX10 [170, 172, 174, 176, 178] (by decide +kernel) (by decide +kernel)
