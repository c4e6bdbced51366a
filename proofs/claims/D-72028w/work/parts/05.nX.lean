/-! BinderPress$Reader -/
set_option maxRecDepth 100000
def RX3 : String := "BinderPress$Reader"
def TX3 : u_T := fun k => match k with
  | 0 => ("BinderPress$Reader", "text", "[B", true)
  | 1 => ("BinderPress$Reader", "length", "I", true)
  | 2 => ("BinderPress$Reader", "at", "I", false)
  | _ => ("BinderPress$Reader", "size", "I", false)
def tyX3 : Nat → FieldType := fun k => match k with
  | 0 => .array .byte
  | 1 => .int
  | 2 => .int
  | _ => .int
abbrev wsX30 : List Cond := u_ws RX3 TX3 4
theorem nmX3 : ∀ a, a < 4 → ∀ b, b < 4 → a ≠ b → (TX3 a).2.1 ≠ (TX3 b).2.1 := by decide +kernel
theorem tyX3_ok : ∀ k, k < 4 → parseFieldDescriptor (TX3 k).2.2.1 = some (tyX3 k) := by decide +kernel
abbrev cX3_init : ByteArray := prog_8_method_1_code
def yX3_init : MethodName := ⟨RX3, "<init>", "([BI)V"⟩
def dkwX3_init_0 : List UInt8 := [42, 183, 0, 3, 42, 43, 181, 0, 9, 42, 28, 181, 0, 15, 177]
abbrev dktX3_init_0 : List UInt8 := dkwX3_init_0 ++ []
theorem dksX3_init_0 : cX3_init.data.toList.drop 0 = dktX3_init_0 := by decide +kernel
theorem dX3_init_0 : decode cX3_init 0 = .ok (.aload_n 0, 1) := dk_42 (dk_at dksX3_init_0 0 rfl rfl)
theorem dX3_init_1 : decode cX3_init 1 = .ok (.invokespecial 3, 3) := dk_183 0 3 (dk_at dksX3_init_0 1 rfl rfl)
theorem dX3_init_4 : decode cX3_init 4 = .ok (.aload_n 0, 1) := dk_42 (dk_at dksX3_init_0 4 rfl rfl)
theorem dX3_init_5 : decode cX3_init 5 = .ok (.aload_n 1, 1) := dk_43 (dk_at dksX3_init_0 5 rfl rfl)
theorem dX3_init_6 : decode cX3_init 6 = .ok (.putfield 9, 3) := dk_181 0 9 (dk_at dksX3_init_0 6 rfl rfl)
theorem dX3_init_9 : decode cX3_init 9 = .ok (.aload_n 0, 1) := dk_42 (dk_at dksX3_init_0 9 rfl rfl)
theorem dX3_init_10 : decode cX3_init 10 = .ok (.iload_n 2, 1) := dk_28 (dk_at dksX3_init_0 10 rfl rfl)
theorem dX3_init_11 : decode cX3_init 11 = .ok (.putfield 15, 3) := dk_181 0 15 (dk_at dksX3_init_0 11 rfl rfl)
theorem dX3_init_14 : decode cX3_init 14 = .ok (.return_, 1) := dk_177 (dk_at dksX3_init_0 14 rfl rfl)
abbrev cX3_all : ByteArray := prog_8_method_12_code
def yX3_all : MethodName := ⟨RX3, "all", "()LBinderPress$Term;"⟩
def dkwX3_all_1 : List UInt8 := [184, 0, 31, 43, 176]
abbrev dktX3_all_1 : List UInt8 := dkwX3_all_1 ++ []
def dkwX3_all_0 : List UInt8 := [42, 182, 0, 56, 76, 42, 182, 0, 27, 2, 160, 0, 7, 4, 167, 0, 4, 3, 4, 42, 180, 0, 19]
abbrev dktX3_all_0 : List UInt8 := dkwX3_all_0 ++ dktX3_all_1
theorem dksX3_all_0 : cX3_all.data.toList.drop 0 = dktX3_all_0 := by decide +kernel
theorem dksX3_all_1 : cX3_all.data.toList.drop 23 = dktX3_all_1 := dk_seg dksX3_all_0 23 rfl rfl
theorem dX3_all_0 : decode cX3_all 0 = .ok (.aload_n 0, 1) := dk_42 (dk_at dksX3_all_0 0 rfl rfl)
theorem dX3_all_1 : decode cX3_all 1 = .ok (.invokevirtual 56, 3) := dk_182 0 56 (dk_at dksX3_all_0 1 rfl rfl)
theorem dX3_all_4 : decode cX3_all 4 = .ok (.astore_n 1, 1) := dk_76 (dk_at dksX3_all_0 4 rfl rfl)
theorem dX3_all_5 : decode cX3_all 5 = .ok (.aload_n 0, 1) := dk_42 (dk_at dksX3_all_0 5 rfl rfl)
theorem dX3_all_6 : decode cX3_all 6 = .ok (.invokevirtual 27, 3) := dk_182 0 27 (dk_at dksX3_all_0 6 rfl rfl)
theorem dX3_all_9 : decode cX3_all 9 = .ok (.iconst (-1), 1) := dk_2 (dk_at dksX3_all_0 9 rfl rfl)
theorem dX3_all_10 : decode cX3_all 10 = .ok (.if_icmp .ne 7, 3) := dk_160 0 7 (dk_at dksX3_all_0 10 rfl rfl)
theorem dX3_all_13 : decode cX3_all 13 = .ok (.iconst 1, 1) := dk_4 (dk_at dksX3_all_0 13 rfl rfl)
theorem dX3_all_14 : decode cX3_all 14 = .ok (.goto 4, 3) := dk_167 0 4 (dk_at dksX3_all_0 14 rfl rfl)
theorem dX3_all_17 : decode cX3_all 17 = .ok (.iconst 0, 1) := dk_3 (dk_at dksX3_all_0 17 rfl rfl)
theorem dX3_all_18 : decode cX3_all 18 = .ok (.iconst 1, 1) := dk_4 (dk_at dksX3_all_0 18 rfl rfl)
theorem dX3_all_19 : decode cX3_all 19 = .ok (.aload_n 0, 1) := dk_42 (dk_at dksX3_all_0 19 rfl rfl)
theorem dX3_all_20 : decode cX3_all 20 = .ok (.getfield 19, 3) := dk_180 0 19 (dk_at dksX3_all_0 20 rfl rfl)
theorem dX3_all_23 : decode cX3_all 23 = .ok (.invokestatic 31, 3) := dk_184 0 31 (dk_at dksX3_all_1 0 rfl rfl)
theorem dX3_all_26 : decode cX3_all 26 = .ok (.aload_n 1, 1) := dk_43 (dk_at dksX3_all_1 3 rfl rfl)
theorem dX3_all_27 : decode cX3_all 27 = .ok (.areturn, 1) := dk_176 (dk_at dksX3_all_1 4 rfl rfl)
abbrev cX3_term : ByteArray := prog_8_method_11_code
def yX3_term : MethodName := ⟨RX3, "term", "()LBinderPress$Term;"⟩
def dkwX3_term_2 : List UInt8 := [167, 255, 213, 43, 176]
abbrev dktX3_term_2 : List UInt8 := dkwX3_term_2 ++ []
def dkwX3_term_1 : List UInt8 := [184, 0, 31, 42, 42, 180, 0, 19, 182, 0, 63, 187, 0, 91, 89, 43, 42, 182, 0, 84, 183, 0, 93, 76]
abbrev dktX3_term_1 : List UInt8 := dkwX3_term_1 ++ dktX3_term_2
def dkwX3_term_0 : List UInt8 := [42, 182, 0, 84, 76, 42, 182, 0, 87, 154, 0, 42, 42, 182, 0, 27, 184, 0, 77, 4, 42, 180, 0, 19]
abbrev dktX3_term_0 : List UInt8 := dkwX3_term_0 ++ dktX3_term_1
theorem dksX3_term_0 : cX3_term.data.toList.drop 0 = dktX3_term_0 := by decide +kernel
theorem dksX3_term_1 : cX3_term.data.toList.drop 24 = dktX3_term_1 := dk_seg dksX3_term_0 24 rfl rfl
theorem dksX3_term_2 : cX3_term.data.toList.drop 48 = dktX3_term_2 := dk_seg dksX3_term_1 24 rfl rfl
theorem dX3_term_0 : decode cX3_term 0 = .ok (.aload_n 0, 1) := dk_42 (dk_at dksX3_term_0 0 rfl rfl)
theorem dX3_term_1 : decode cX3_term 1 = .ok (.invokevirtual 84, 3) := dk_182 0 84 (dk_at dksX3_term_0 1 rfl rfl)
theorem dX3_term_4 : decode cX3_term 4 = .ok (.astore_n 1, 1) := dk_76 (dk_at dksX3_term_0 4 rfl rfl)
theorem dX3_term_5 : decode cX3_term 5 = .ok (.aload_n 0, 1) := dk_42 (dk_at dksX3_term_0 5 rfl rfl)
theorem dX3_term_6 : decode cX3_term 6 = .ok (.invokevirtual 87, 3) := dk_182 0 87 (dk_at dksX3_term_0 6 rfl rfl)
theorem dX3_term_9 : decode cX3_term 9 = .ok (.ifCond .ne 42, 3) := dk_154 0 42 (dk_at dksX3_term_0 9 rfl rfl)
theorem dX3_term_12 : decode cX3_term 12 = .ok (.aload_n 0, 1) := dk_42 (dk_at dksX3_term_0 12 rfl rfl)
theorem dX3_term_13 : decode cX3_term 13 = .ok (.invokevirtual 27, 3) := dk_182 0 27 (dk_at dksX3_term_0 13 rfl rfl)
theorem dX3_term_16 : decode cX3_term 16 = .ok (.invokestatic 77, 3) := dk_184 0 77 (dk_at dksX3_term_0 16 rfl rfl)
theorem dX3_term_19 : decode cX3_term 19 = .ok (.iconst 1, 1) := dk_4 (dk_at dksX3_term_0 19 rfl rfl)
theorem dX3_term_20 : decode cX3_term 20 = .ok (.aload_n 0, 1) := dk_42 (dk_at dksX3_term_0 20 rfl rfl)
theorem dX3_term_21 : decode cX3_term 21 = .ok (.getfield 19, 3) := dk_180 0 19 (dk_at dksX3_term_0 21 rfl rfl)
theorem dX3_term_24 : decode cX3_term 24 = .ok (.invokestatic 31, 3) := dk_184 0 31 (dk_at dksX3_term_1 0 rfl rfl)
theorem dX3_term_27 : decode cX3_term 27 = .ok (.aload_n 0, 1) := dk_42 (dk_at dksX3_term_1 3 rfl rfl)
theorem dX3_term_28 : decode cX3_term 28 = .ok (.aload_n 0, 1) := dk_42 (dk_at dksX3_term_1 4 rfl rfl)
theorem dX3_term_29 : decode cX3_term 29 = .ok (.getfield 19, 3) := dk_180 0 19 (dk_at dksX3_term_1 5 rfl rfl)
theorem dX3_term_32 : decode cX3_term 32 = .ok (.invokevirtual 63, 3) := dk_182 0 63 (dk_at dksX3_term_1 8 rfl rfl)
theorem dX3_term_35 : decode cX3_term 35 = .ok (.new 91, 3) := dk_187 0 91 (dk_at dksX3_term_1 11 rfl rfl)
theorem dX3_term_38 : decode cX3_term 38 = .ok (.dup, 1) := dk_89 (dk_at dksX3_term_1 14 rfl rfl)
theorem dX3_term_39 : decode cX3_term 39 = .ok (.aload_n 1, 1) := dk_43 (dk_at dksX3_term_1 15 rfl rfl)
theorem dX3_term_40 : decode cX3_term 40 = .ok (.aload_n 0, 1) := dk_42 (dk_at dksX3_term_1 16 rfl rfl)
theorem dX3_term_41 : decode cX3_term 41 = .ok (.invokevirtual 84, 3) := dk_182 0 84 (dk_at dksX3_term_1 17 rfl rfl)
theorem dX3_term_44 : decode cX3_term 44 = .ok (.invokespecial 93, 3) := dk_183 0 93 (dk_at dksX3_term_1 20 rfl rfl)
theorem dX3_term_47 : decode cX3_term 47 = .ok (.astore_n 1, 1) := dk_76 (dk_at dksX3_term_1 23 rfl rfl)
theorem dX3_term_48 : decode cX3_term 48 = .ok (.goto (-43), 3) := dk_167 255 213 (dk_at dksX3_term_2 0 rfl rfl)
theorem dX3_term_51 : decode cX3_term 51 = .ok (.aload_n 1, 1) := dk_43 (dk_at dksX3_term_2 3 rfl rfl)
theorem dX3_term_52 : decode cX3_term 52 = .ok (.areturn, 1) := dk_176 (dk_at dksX3_term_2 4 rfl rfl)
abbrev cX3_next : ByteArray := prog_8_method_10_code
def yX3_next : MethodName := ⟨RX3, "next", "()LBinderPress$Term;"⟩
def dkwX3_next_1 : List UInt8 := [4, 96, 181, 0, 19, 42, 27, 28, 182, 0, 80, 176]
abbrev dktX3_next_1 : List UInt8 := dkwX3_next_1 ++ []
def dkwX3_next_0 : List UInt8 := [42, 182, 0, 27, 60, 42, 180, 0, 19, 61, 27, 184, 0, 77, 4, 28, 184, 0, 31, 42, 89, 180, 0, 19]
abbrev dktX3_next_0 : List UInt8 := dkwX3_next_0 ++ dktX3_next_1
theorem dksX3_next_0 : cX3_next.data.toList.drop 0 = dktX3_next_0 := by decide +kernel
theorem dksX3_next_1 : cX3_next.data.toList.drop 24 = dktX3_next_1 := dk_seg dksX3_next_0 24 rfl rfl
theorem dX3_next_0 : decode cX3_next 0 = .ok (.aload_n 0, 1) := dk_42 (dk_at dksX3_next_0 0 rfl rfl)
theorem dX3_next_1 : decode cX3_next 1 = .ok (.invokevirtual 27, 3) := dk_182 0 27 (dk_at dksX3_next_0 1 rfl rfl)
theorem dX3_next_4 : decode cX3_next 4 = .ok (.istore_n 1, 1) := dk_60 (dk_at dksX3_next_0 4 rfl rfl)
theorem dX3_next_5 : decode cX3_next 5 = .ok (.aload_n 0, 1) := dk_42 (dk_at dksX3_next_0 5 rfl rfl)
theorem dX3_next_6 : decode cX3_next 6 = .ok (.getfield 19, 3) := dk_180 0 19 (dk_at dksX3_next_0 6 rfl rfl)
theorem dX3_next_9 : decode cX3_next 9 = .ok (.istore_n 2, 1) := dk_61 (dk_at dksX3_next_0 9 rfl rfl)
theorem dX3_next_10 : decode cX3_next 10 = .ok (.iload_n 1, 1) := dk_27 (dk_at dksX3_next_0 10 rfl rfl)
theorem dX3_next_11 : decode cX3_next 11 = .ok (.invokestatic 77, 3) := dk_184 0 77 (dk_at dksX3_next_0 11 rfl rfl)
theorem dX3_next_14 : decode cX3_next 14 = .ok (.iconst 1, 1) := dk_4 (dk_at dksX3_next_0 14 rfl rfl)
theorem dX3_next_15 : decode cX3_next 15 = .ok (.iload_n 2, 1) := dk_28 (dk_at dksX3_next_0 15 rfl rfl)
theorem dX3_next_16 : decode cX3_next 16 = .ok (.invokestatic 31, 3) := dk_184 0 31 (dk_at dksX3_next_0 16 rfl rfl)
theorem dX3_next_19 : decode cX3_next 19 = .ok (.aload_n 0, 1) := dk_42 (dk_at dksX3_next_0 19 rfl rfl)
theorem dX3_next_20 : decode cX3_next 20 = .ok (.dup, 1) := dk_89 (dk_at dksX3_next_0 20 rfl rfl)
theorem dX3_next_21 : decode cX3_next 21 = .ok (.getfield 19, 3) := dk_180 0 19 (dk_at dksX3_next_0 21 rfl rfl)
theorem dX3_next_24 : decode cX3_next 24 = .ok (.iconst 1, 1) := dk_4 (dk_at dksX3_next_1 0 rfl rfl)
theorem dX3_next_25 : decode cX3_next 25 = .ok (.iadd, 1) := dk_96 (dk_at dksX3_next_1 1 rfl rfl)
theorem dX3_next_26 : decode cX3_next 26 = .ok (.putfield 19, 3) := dk_181 0 19 (dk_at dksX3_next_1 2 rfl rfl)
theorem dX3_next_29 : decode cX3_next 29 = .ok (.aload_n 0, 1) := dk_42 (dk_at dksX3_next_1 5 rfl rfl)
theorem dX3_next_30 : decode cX3_next 30 = .ok (.iload_n 1, 1) := dk_27 (dk_at dksX3_next_1 6 rfl rfl)
theorem dX3_next_31 : decode cX3_next 31 = .ok (.iload_n 2, 1) := dk_28 (dk_at dksX3_next_1 7 rfl rfl)
theorem dX3_next_32 : decode cX3_next 32 = .ok (.invokevirtual 80, 3) := dk_182 0 80 (dk_at dksX3_next_1 8 rfl rfl)
theorem dX3_next_35 : decode cX3_next 35 = .ok (.areturn, 1) := dk_176 (dk_at dksX3_next_1 11 rfl rfl)
abbrev cX3_here : ByteArray := prog_8_method_2_code
def yX3_here : MethodName := ⟨RX3, "here", "()I"⟩
def dkwX3_here_2 : List UInt8 := [162, 0, 19, 42, 180, 0, 9, 42, 180, 0, 19, 51, 17, 0, 255, 126, 167, 0, 4, 2, 172]
abbrev dktX3_here_2 : List UInt8 := dkwX3_here_2 ++ []
def dkwX3_here_1 : List UInt8 := [160, 0, 16, 42, 89, 180, 0, 19, 4, 96, 181, 0, 19, 167, 255, 221, 42, 180, 0, 19, 42, 180, 0, 15]
abbrev dktX3_here_1 : List UInt8 := dkwX3_here_1 ++ dktX3_here_2
def dkwX3_here_0 : List UInt8 := [42, 180, 0, 19, 42, 180, 0, 15, 162, 0, 30, 42, 180, 0, 9, 42, 180, 0, 19, 51, 16, 32]
abbrev dktX3_here_0 : List UInt8 := dkwX3_here_0 ++ dktX3_here_1
theorem dksX3_here_0 : cX3_here.data.toList.drop 0 = dktX3_here_0 := by decide +kernel
theorem dksX3_here_1 : cX3_here.data.toList.drop 22 = dktX3_here_1 := dk_seg dksX3_here_0 22 rfl rfl
theorem dksX3_here_2 : cX3_here.data.toList.drop 46 = dktX3_here_2 := dk_seg dksX3_here_1 24 rfl rfl
theorem dX3_here_0 : decode cX3_here 0 = .ok (.aload_n 0, 1) := dk_42 (dk_at dksX3_here_0 0 rfl rfl)
theorem dX3_here_1 : decode cX3_here 1 = .ok (.getfield 19, 3) := dk_180 0 19 (dk_at dksX3_here_0 1 rfl rfl)
theorem dX3_here_4 : decode cX3_here 4 = .ok (.aload_n 0, 1) := dk_42 (dk_at dksX3_here_0 4 rfl rfl)
theorem dX3_here_5 : decode cX3_here 5 = .ok (.getfield 15, 3) := dk_180 0 15 (dk_at dksX3_here_0 5 rfl rfl)
theorem dX3_here_8 : decode cX3_here 8 = .ok (.if_icmp .ge 30, 3) := dk_162 0 30 (dk_at dksX3_here_0 8 rfl rfl)
theorem dX3_here_11 : decode cX3_here 11 = .ok (.aload_n 0, 1) := dk_42 (dk_at dksX3_here_0 11 rfl rfl)
theorem dX3_here_12 : decode cX3_here 12 = .ok (.getfield 9, 3) := dk_180 0 9 (dk_at dksX3_here_0 12 rfl rfl)
theorem dX3_here_15 : decode cX3_here 15 = .ok (.aload_n 0, 1) := dk_42 (dk_at dksX3_here_0 15 rfl rfl)
theorem dX3_here_16 : decode cX3_here 16 = .ok (.getfield 19, 3) := dk_180 0 19 (dk_at dksX3_here_0 16 rfl rfl)
theorem dX3_here_19 : decode cX3_here 19 = .ok (.baload, 1) := dk_51 (dk_at dksX3_here_0 19 rfl rfl)
theorem dX3_here_20 : decode cX3_here 20 = .ok (.bipush 32, 2) := dk_16 32 (dk_at dksX3_here_0 20 rfl rfl)
theorem dX3_here_22 : decode cX3_here 22 = .ok (.if_icmp .ne 16, 3) := dk_160 0 16 (dk_at dksX3_here_1 0 rfl rfl)
theorem dX3_here_25 : decode cX3_here 25 = .ok (.aload_n 0, 1) := dk_42 (dk_at dksX3_here_1 3 rfl rfl)
theorem dX3_here_26 : decode cX3_here 26 = .ok (.dup, 1) := dk_89 (dk_at dksX3_here_1 4 rfl rfl)
theorem dX3_here_27 : decode cX3_here 27 = .ok (.getfield 19, 3) := dk_180 0 19 (dk_at dksX3_here_1 5 rfl rfl)
theorem dX3_here_30 : decode cX3_here 30 = .ok (.iconst 1, 1) := dk_4 (dk_at dksX3_here_1 8 rfl rfl)
theorem dX3_here_31 : decode cX3_here 31 = .ok (.iadd, 1) := dk_96 (dk_at dksX3_here_1 9 rfl rfl)
theorem dX3_here_32 : decode cX3_here 32 = .ok (.putfield 19, 3) := dk_181 0 19 (dk_at dksX3_here_1 10 rfl rfl)
theorem dX3_here_35 : decode cX3_here 35 = .ok (.goto (-35), 3) := dk_167 255 221 (dk_at dksX3_here_1 13 rfl rfl)
theorem dX3_here_38 : decode cX3_here 38 = .ok (.aload_n 0, 1) := dk_42 (dk_at dksX3_here_1 16 rfl rfl)
theorem dX3_here_39 : decode cX3_here 39 = .ok (.getfield 19, 3) := dk_180 0 19 (dk_at dksX3_here_1 17 rfl rfl)
theorem dX3_here_42 : decode cX3_here 42 = .ok (.aload_n 0, 1) := dk_42 (dk_at dksX3_here_1 20 rfl rfl)
theorem dX3_here_43 : decode cX3_here 43 = .ok (.getfield 15, 3) := dk_180 0 15 (dk_at dksX3_here_1 21 rfl rfl)
theorem dX3_here_46 : decode cX3_here 46 = .ok (.if_icmp .ge 19, 3) := dk_162 0 19 (dk_at dksX3_here_2 0 rfl rfl)
theorem dX3_here_49 : decode cX3_here 49 = .ok (.aload_n 0, 1) := dk_42 (dk_at dksX3_here_2 3 rfl rfl)
theorem dX3_here_50 : decode cX3_here 50 = .ok (.getfield 9, 3) := dk_180 0 9 (dk_at dksX3_here_2 4 rfl rfl)
theorem dX3_here_53 : decode cX3_here 53 = .ok (.aload_n 0, 1) := dk_42 (dk_at dksX3_here_2 7 rfl rfl)
theorem dX3_here_54 : decode cX3_here 54 = .ok (.getfield 19, 3) := dk_180 0 19 (dk_at dksX3_here_2 8 rfl rfl)
theorem dX3_here_57 : decode cX3_here 57 = .ok (.baload, 1) := dk_51 (dk_at dksX3_here_2 11 rfl rfl)
theorem dX3_here_58 : decode cX3_here 58 = .ok (.sipush 255, 3) := dk_17 0 255 (dk_at dksX3_here_2 12 rfl rfl)
theorem dX3_here_61 : decode cX3_here 61 = .ok (.iand, 1) := dk_126 (dk_at dksX3_here_2 15 rfl rfl)
theorem dX3_here_62 : decode cX3_here 62 = .ok (.goto 4, 3) := dk_167 0 4 (dk_at dksX3_here_2 16 rfl rfl)
theorem dX3_here_65 : decode cX3_here 65 = .ok (.iconst (-1), 1) := dk_2 (dk_at dksX3_here_2 19 rfl rfl)
theorem dX3_here_66 : decode cX3_here 66 = .ok (.ireturn, 1) := dk_172 (dk_at dksX3_here_2 20 rfl rfl)
abbrev cX3_canBegin : ByteArray := prog_8_method_7_code
def yX3_canBegin : MethodName := ⟨RX3, "canBegin", "(I)Z"⟩
def dkwX3_canBegin_1 : List UInt8 := [182, 0, 46, 158, 0, 7, 4, 167, 0, 4, 3, 172]
abbrev dktX3_canBegin_1 : List UInt8 := dkwX3_canBegin_1 ++ []
def dkwX3_canBegin_0 : List UInt8 := [26, 184, 0, 38, 154, 0, 25, 26, 16, 40, 159, 0, 19, 26, 16, 94, 159, 0, 13, 26, 184, 0, 42]
abbrev dktX3_canBegin_0 : List UInt8 := dkwX3_canBegin_0 ++ dktX3_canBegin_1
theorem dksX3_canBegin_0 : cX3_canBegin.data.toList.drop 0 = dktX3_canBegin_0 := by decide +kernel
theorem dksX3_canBegin_1 : cX3_canBegin.data.toList.drop 23 = dktX3_canBegin_1 := dk_seg dksX3_canBegin_0 23 rfl rfl
theorem dX3_canBegin_0 : decode cX3_canBegin 0 = .ok (.iload_n 0, 1) := dk_26 (dk_at dksX3_canBegin_0 0 rfl rfl)
theorem dX3_canBegin_1 : decode cX3_canBegin 1 = .ok (.invokestatic 38, 3) := dk_184 0 38 (dk_at dksX3_canBegin_0 1 rfl rfl)
theorem dX3_canBegin_4 : decode cX3_canBegin 4 = .ok (.ifCond .ne 25, 3) := dk_154 0 25 (dk_at dksX3_canBegin_0 4 rfl rfl)
theorem dX3_canBegin_7 : decode cX3_canBegin 7 = .ok (.iload_n 0, 1) := dk_26 (dk_at dksX3_canBegin_0 7 rfl rfl)
theorem dX3_canBegin_8 : decode cX3_canBegin 8 = .ok (.bipush 40, 2) := dk_16 40 (dk_at dksX3_canBegin_0 8 rfl rfl)
theorem dX3_canBegin_10 : decode cX3_canBegin 10 = .ok (.if_icmp .eq 19, 3) := dk_159 0 19 (dk_at dksX3_canBegin_0 10 rfl rfl)
theorem dX3_canBegin_13 : decode cX3_canBegin 13 = .ok (.iload_n 0, 1) := dk_26 (dk_at dksX3_canBegin_0 13 rfl rfl)
theorem dX3_canBegin_14 : decode cX3_canBegin 14 = .ok (.bipush 94, 2) := dk_16 94 (dk_at dksX3_canBegin_0 14 rfl rfl)
theorem dX3_canBegin_16 : decode cX3_canBegin 16 = .ok (.if_icmp .eq 13, 3) := dk_159 0 13 (dk_at dksX3_canBegin_0 16 rfl rfl)
theorem dX3_canBegin_19 : decode cX3_canBegin 19 = .ok (.iload_n 0, 1) := dk_26 (dk_at dksX3_canBegin_0 19 rfl rfl)
theorem dX3_canBegin_20 : decode cX3_canBegin 20 = .ok (.invokestatic 42, 3) := dk_184 0 42 (dk_at dksX3_canBegin_0 20 rfl rfl)
theorem dX3_canBegin_23 : decode cX3_canBegin 23 = .ok (.invokevirtual 46, 3) := dk_182 0 46 (dk_at dksX3_canBegin_1 0 rfl rfl)
theorem dX3_canBegin_26 : decode cX3_canBegin 26 = .ok (.ifCond .le 7, 3) := dk_158 0 7 (dk_at dksX3_canBegin_1 3 rfl rfl)
theorem dX3_canBegin_29 : decode cX3_canBegin 29 = .ok (.iconst 1, 1) := dk_4 (dk_at dksX3_canBegin_1 6 rfl rfl)
theorem dX3_canBegin_30 : decode cX3_canBegin 30 = .ok (.goto 4, 3) := dk_167 0 4 (dk_at dksX3_canBegin_1 7 rfl rfl)
theorem dX3_canBegin_33 : decode cX3_canBegin 33 = .ok (.iconst 0, 1) := dk_3 (dk_at dksX3_canBegin_1 10 rfl rfl)
theorem dX3_canBegin_34 : decode cX3_canBegin 34 = .ok (.ireturn, 1) := dk_172 (dk_at dksX3_canBegin_1 11 rfl rfl)
abbrev cX3_want : ByteArray := prog_8_method_3_code
def yX3_want : MethodName := ⟨RX3, "want", "(ZII)V"⟩
def dkwX3_want_0 : List UInt8 := [26, 154, 0, 13, 187, 0, 22, 89, 27, 28, 183, 0, 24, 191, 177]
abbrev dktX3_want_0 : List UInt8 := dkwX3_want_0 ++ []
theorem dksX3_want_0 : cX3_want.data.toList.drop 0 = dktX3_want_0 := by decide +kernel
theorem dX3_want_0 : decode cX3_want 0 = .ok (.iload_n 0, 1) := dk_26 (dk_at dksX3_want_0 0 rfl rfl)
theorem dX3_want_1 : decode cX3_want 1 = .ok (.ifCond .ne 13, 3) := dk_154 0 13 (dk_at dksX3_want_0 1 rfl rfl)
theorem dX3_want_4 : decode cX3_want 4 = .ok (.new 22, 3) := dk_187 0 22 (dk_at dksX3_want_0 4 rfl rfl)
theorem dX3_want_7 : decode cX3_want 7 = .ok (.dup, 1) := dk_89 (dk_at dksX3_want_0 7 rfl rfl)
theorem dX3_want_8 : decode cX3_want 8 = .ok (.iload_n 1, 1) := dk_27 (dk_at dksX3_want_0 8 rfl rfl)
theorem dX3_want_9 : decode cX3_want 9 = .ok (.iload_n 2, 1) := dk_28 (dk_at dksX3_want_0 9 rfl rfl)
theorem dX3_want_10 : decode cX3_want 10 = .ok (.invokespecial 24, 3) := dk_183 0 24 (dk_at dksX3_want_0 10 rfl rfl)
theorem dX3_want_13 : decode cX3_want 13 = .ok (.athrow, 1) := dk_191 (dk_at dksX3_want_0 13 rfl rfl)
theorem dX3_want_14 : decode cX3_want 14 = .ok (.return_, 1) := dk_177 (dk_at dksX3_want_0 14 rfl rfl)
abbrev cX3_item : ByteArray := prog_8_method_9_code
def yX3_item : MethodName := ⟨RX3, "item", "(II)LBinderPress$Term;"⟩
def dkwX3_item_2 : List UInt8 := [27, 183, 0, 71, 167, 0, 7, 27, 184, 0, 73, 176]
abbrev dktX3_item_2 : List UInt8 := dkwX3_item_2 ++ []
def dkwX3_item_1 : List UInt8 := [27, 16, 94, 160, 0, 10, 42, 182, 0, 66, 167, 0, 25, 27, 184, 0, 38, 153, 0, 14, 187, 0, 69, 89]
abbrev dktX3_item_1 : List UInt8 := dkwX3_item_1 ++ dktX3_item_2
def dkwX3_item_0 : List UInt8 := [27, 16, 40, 160, 0, 16, 42, 182, 0, 56, 78, 42, 16, 41, 182, 0, 50, 45, 176, 42, 28, 182, 0, 63]
abbrev dktX3_item_0 : List UInt8 := dkwX3_item_0 ++ dktX3_item_1
theorem dksX3_item_0 : cX3_item.data.toList.drop 0 = dktX3_item_0 := by decide +kernel
theorem dksX3_item_1 : cX3_item.data.toList.drop 24 = dktX3_item_1 := dk_seg dksX3_item_0 24 rfl rfl
theorem dksX3_item_2 : cX3_item.data.toList.drop 48 = dktX3_item_2 := dk_seg dksX3_item_1 24 rfl rfl
theorem dX3_item_0 : decode cX3_item 0 = .ok (.iload_n 1, 1) := dk_27 (dk_at dksX3_item_0 0 rfl rfl)
theorem dX3_item_1 : decode cX3_item 1 = .ok (.bipush 40, 2) := dk_16 40 (dk_at dksX3_item_0 1 rfl rfl)
theorem dX3_item_3 : decode cX3_item 3 = .ok (.if_icmp .ne 16, 3) := dk_160 0 16 (dk_at dksX3_item_0 3 rfl rfl)
theorem dX3_item_6 : decode cX3_item 6 = .ok (.aload_n 0, 1) := dk_42 (dk_at dksX3_item_0 6 rfl rfl)
theorem dX3_item_7 : decode cX3_item 7 = .ok (.invokevirtual 56, 3) := dk_182 0 56 (dk_at dksX3_item_0 7 rfl rfl)
theorem dX3_item_10 : decode cX3_item 10 = .ok (.astore_n 3, 1) := dk_78 (dk_at dksX3_item_0 10 rfl rfl)
theorem dX3_item_11 : decode cX3_item 11 = .ok (.aload_n 0, 1) := dk_42 (dk_at dksX3_item_0 11 rfl rfl)
theorem dX3_item_12 : decode cX3_item 12 = .ok (.bipush 41, 2) := dk_16 41 (dk_at dksX3_item_0 12 rfl rfl)
theorem dX3_item_14 : decode cX3_item 14 = .ok (.invokevirtual 50, 3) := dk_182 0 50 (dk_at dksX3_item_0 14 rfl rfl)
theorem dX3_item_17 : decode cX3_item 17 = .ok (.aload_n 3, 1) := dk_45 (dk_at dksX3_item_0 17 rfl rfl)
theorem dX3_item_18 : decode cX3_item 18 = .ok (.areturn, 1) := dk_176 (dk_at dksX3_item_0 18 rfl rfl)
theorem dX3_item_19 : decode cX3_item 19 = .ok (.aload_n 0, 1) := dk_42 (dk_at dksX3_item_0 19 rfl rfl)
theorem dX3_item_20 : decode cX3_item 20 = .ok (.iload_n 2, 1) := dk_28 (dk_at dksX3_item_0 20 rfl rfl)
theorem dX3_item_21 : decode cX3_item 21 = .ok (.invokevirtual 63, 3) := dk_182 0 63 (dk_at dksX3_item_0 21 rfl rfl)
theorem dX3_item_24 : decode cX3_item 24 = .ok (.iload_n 1, 1) := dk_27 (dk_at dksX3_item_1 0 rfl rfl)
theorem dX3_item_25 : decode cX3_item 25 = .ok (.bipush 94, 2) := dk_16 94 (dk_at dksX3_item_1 1 rfl rfl)
theorem dX3_item_27 : decode cX3_item 27 = .ok (.if_icmp .ne 10, 3) := dk_160 0 10 (dk_at dksX3_item_1 3 rfl rfl)
theorem dX3_item_30 : decode cX3_item 30 = .ok (.aload_n 0, 1) := dk_42 (dk_at dksX3_item_1 6 rfl rfl)
theorem dX3_item_31 : decode cX3_item 31 = .ok (.invokevirtual 66, 3) := dk_182 0 66 (dk_at dksX3_item_1 7 rfl rfl)
theorem dX3_item_34 : decode cX3_item 34 = .ok (.goto 25, 3) := dk_167 0 25 (dk_at dksX3_item_1 10 rfl rfl)
theorem dX3_item_37 : decode cX3_item 37 = .ok (.iload_n 1, 1) := dk_27 (dk_at dksX3_item_1 13 rfl rfl)
theorem dX3_item_38 : decode cX3_item 38 = .ok (.invokestatic 38, 3) := dk_184 0 38 (dk_at dksX3_item_1 14 rfl rfl)
theorem dX3_item_41 : decode cX3_item 41 = .ok (.ifCond .eq 14, 3) := dk_153 0 14 (dk_at dksX3_item_1 17 rfl rfl)
theorem dX3_item_44 : decode cX3_item 44 = .ok (.new 69, 3) := dk_187 0 69 (dk_at dksX3_item_1 20 rfl rfl)
theorem dX3_item_47 : decode cX3_item 47 = .ok (.dup, 1) := dk_89 (dk_at dksX3_item_1 23 rfl rfl)
theorem dX3_item_48 : decode cX3_item 48 = .ok (.iload_n 1, 1) := dk_27 (dk_at dksX3_item_2 0 rfl rfl)
theorem dX3_item_49 : decode cX3_item 49 = .ok (.invokespecial 71, 3) := dk_183 0 71 (dk_at dksX3_item_2 1 rfl rfl)
theorem dX3_item_52 : decode cX3_item 52 = .ok (.goto 7, 3) := dk_167 0 7 (dk_at dksX3_item_2 4 rfl rfl)
theorem dX3_item_55 : decode cX3_item 55 = .ok (.iload_n 1, 1) := dk_27 (dk_at dksX3_item_2 7 rfl rfl)
theorem dX3_item_56 : decode cX3_item 56 = .ok (.invokestatic 73, 3) := dk_184 0 73 (dk_at dksX3_item_2 8 rfl rfl)
theorem dX3_item_59 : decode cX3_item 59 = .ok (.areturn, 1) := dk_176 (dk_at dksX3_item_2 11 rfl rfl)
abbrev cX3_sign : ByteArray := prog_8_method_4_code
def yX3_sign : MethodName := ⟨RX3, "sign", "(I)V"⟩
def dkwX3_sign_1 : List UInt8 := [180, 0, 19, 4, 96, 181, 0, 19, 177]
abbrev dktX3_sign_1 : List UInt8 := dkwX3_sign_1 ++ []
def dkwX3_sign_0 : List UInt8 := [42, 182, 0, 27, 27, 160, 0, 7, 4, 167, 0, 4, 3, 4, 42, 180, 0, 19, 184, 0, 31, 42, 89]
abbrev dktX3_sign_0 : List UInt8 := dkwX3_sign_0 ++ dktX3_sign_1
theorem dksX3_sign_0 : cX3_sign.data.toList.drop 0 = dktX3_sign_0 := by decide +kernel
theorem dksX3_sign_1 : cX3_sign.data.toList.drop 23 = dktX3_sign_1 := dk_seg dksX3_sign_0 23 rfl rfl
theorem dX3_sign_0 : decode cX3_sign 0 = .ok (.aload_n 0, 1) := dk_42 (dk_at dksX3_sign_0 0 rfl rfl)
theorem dX3_sign_1 : decode cX3_sign 1 = .ok (.invokevirtual 27, 3) := dk_182 0 27 (dk_at dksX3_sign_0 1 rfl rfl)
theorem dX3_sign_4 : decode cX3_sign 4 = .ok (.iload_n 1, 1) := dk_27 (dk_at dksX3_sign_0 4 rfl rfl)
theorem dX3_sign_5 : decode cX3_sign 5 = .ok (.if_icmp .ne 7, 3) := dk_160 0 7 (dk_at dksX3_sign_0 5 rfl rfl)
theorem dX3_sign_8 : decode cX3_sign 8 = .ok (.iconst 1, 1) := dk_4 (dk_at dksX3_sign_0 8 rfl rfl)
theorem dX3_sign_9 : decode cX3_sign 9 = .ok (.goto 4, 3) := dk_167 0 4 (dk_at dksX3_sign_0 9 rfl rfl)
theorem dX3_sign_12 : decode cX3_sign 12 = .ok (.iconst 0, 1) := dk_3 (dk_at dksX3_sign_0 12 rfl rfl)
theorem dX3_sign_13 : decode cX3_sign 13 = .ok (.iconst 1, 1) := dk_4 (dk_at dksX3_sign_0 13 rfl rfl)
theorem dX3_sign_14 : decode cX3_sign 14 = .ok (.aload_n 0, 1) := dk_42 (dk_at dksX3_sign_0 14 rfl rfl)
theorem dX3_sign_15 : decode cX3_sign 15 = .ok (.getfield 19, 3) := dk_180 0 19 (dk_at dksX3_sign_0 15 rfl rfl)
theorem dX3_sign_18 : decode cX3_sign 18 = .ok (.invokestatic 31, 3) := dk_184 0 31 (dk_at dksX3_sign_0 18 rfl rfl)
theorem dX3_sign_21 : decode cX3_sign 21 = .ok (.aload_n 0, 1) := dk_42 (dk_at dksX3_sign_0 21 rfl rfl)
theorem dX3_sign_22 : decode cX3_sign 22 = .ok (.dup, 1) := dk_89 (dk_at dksX3_sign_0 22 rfl rfl)
theorem dX3_sign_23 : decode cX3_sign 23 = .ok (.getfield 19, 3) := dk_180 0 19 (dk_at dksX3_sign_1 0 rfl rfl)
theorem dX3_sign_26 : decode cX3_sign 26 = .ok (.iconst 1, 1) := dk_4 (dk_at dksX3_sign_1 3 rfl rfl)
theorem dX3_sign_27 : decode cX3_sign 27 = .ok (.iadd, 1) := dk_96 (dk_at dksX3_sign_1 4 rfl rfl)
theorem dX3_sign_28 : decode cX3_sign 28 = .ok (.putfield 19, 3) := dk_181 0 19 (dk_at dksX3_sign_1 5 rfl rfl)
theorem dX3_sign_31 : decode cX3_sign 31 = .ok (.return_, 1) := dk_177 (dk_at dksX3_sign_1 8 rfl rfl)
abbrev cX3_grow : ByteArray := prog_8_method_5_code
def yX3_grow : MethodName := ⟨RX3, "grow", "(I)V"⟩
def dkwX3_grow_1 : List UInt8 := [5, 27, 184, 0, 31, 177]
abbrev dktX3_grow_1 : List UInt8 := dkwX3_grow_1 ++ []
def dkwX3_grow_0 : List UInt8 := [42, 89, 180, 0, 35, 4, 96, 181, 0, 35, 42, 180, 0, 35, 16, 120, 163, 0, 7, 4, 167, 0, 4, 3]
abbrev dktX3_grow_0 : List UInt8 := dkwX3_grow_0 ++ dktX3_grow_1
theorem dksX3_grow_0 : cX3_grow.data.toList.drop 0 = dktX3_grow_0 := by decide +kernel
theorem dksX3_grow_1 : cX3_grow.data.toList.drop 24 = dktX3_grow_1 := dk_seg dksX3_grow_0 24 rfl rfl
theorem dX3_grow_0 : decode cX3_grow 0 = .ok (.aload_n 0, 1) := dk_42 (dk_at dksX3_grow_0 0 rfl rfl)
theorem dX3_grow_1 : decode cX3_grow 1 = .ok (.dup, 1) := dk_89 (dk_at dksX3_grow_0 1 rfl rfl)
theorem dX3_grow_2 : decode cX3_grow 2 = .ok (.getfield 35, 3) := dk_180 0 35 (dk_at dksX3_grow_0 2 rfl rfl)
theorem dX3_grow_5 : decode cX3_grow 5 = .ok (.iconst 1, 1) := dk_4 (dk_at dksX3_grow_0 5 rfl rfl)
theorem dX3_grow_6 : decode cX3_grow 6 = .ok (.iadd, 1) := dk_96 (dk_at dksX3_grow_0 6 rfl rfl)
theorem dX3_grow_7 : decode cX3_grow 7 = .ok (.putfield 35, 3) := dk_181 0 35 (dk_at dksX3_grow_0 7 rfl rfl)
theorem dX3_grow_10 : decode cX3_grow 10 = .ok (.aload_n 0, 1) := dk_42 (dk_at dksX3_grow_0 10 rfl rfl)
theorem dX3_grow_11 : decode cX3_grow 11 = .ok (.getfield 35, 3) := dk_180 0 35 (dk_at dksX3_grow_0 11 rfl rfl)
theorem dX3_grow_14 : decode cX3_grow 14 = .ok (.bipush 120, 2) := dk_16 120 (dk_at dksX3_grow_0 14 rfl rfl)
theorem dX3_grow_16 : decode cX3_grow 16 = .ok (.if_icmp .gt 7, 3) := dk_163 0 7 (dk_at dksX3_grow_0 16 rfl rfl)
theorem dX3_grow_19 : decode cX3_grow 19 = .ok (.iconst 1, 1) := dk_4 (dk_at dksX3_grow_0 19 rfl rfl)
theorem dX3_grow_20 : decode cX3_grow 20 = .ok (.goto 4, 3) := dk_167 0 4 (dk_at dksX3_grow_0 20 rfl rfl)
theorem dX3_grow_23 : decode cX3_grow 23 = .ok (.iconst 0, 1) := dk_3 (dk_at dksX3_grow_0 23 rfl rfl)
theorem dX3_grow_24 : decode cX3_grow 24 = .ok (.iconst 2, 1) := dk_5 (dk_at dksX3_grow_1 0 rfl rfl)
theorem dX3_grow_25 : decode cX3_grow 25 = .ok (.iload_n 1, 1) := dk_27 (dk_at dksX3_grow_1 1 rfl rfl)
theorem dX3_grow_26 : decode cX3_grow 26 = .ok (.invokestatic 31, 3) := dk_184 0 31 (dk_at dksX3_grow_1 2 rfl rfl)
theorem dX3_grow_29 : decode cX3_grow 29 = .ok (.return_, 1) := dk_177 (dk_at dksX3_grow_1 5 rfl rfl)
abbrev cX3_binder : ByteArray := prog_8_method_8_code
def yX3_binder : MethodName := ⟨RX3, "binder", "()LBinderPress$Term;"⟩
def dkwX3_binder_1 : List UInt8 := [181, 0, 19, 42, 16, 46, 182, 0, 50, 187, 0, 54, 89, 27, 42, 182, 0, 56, 183, 0, 60, 176]
abbrev dktX3_binder_1 : List UInt8 := dkwX3_binder_1 ++ []
def dkwX3_binder_0 : List UInt8 := [42, 182, 0, 27, 60, 27, 184, 0, 38, 4, 42, 180, 0, 19, 184, 0, 31, 42, 89, 180, 0, 19, 4, 96]
abbrev dktX3_binder_0 : List UInt8 := dkwX3_binder_0 ++ dktX3_binder_1
theorem dksX3_binder_0 : cX3_binder.data.toList.drop 0 = dktX3_binder_0 := by decide +kernel
theorem dksX3_binder_1 : cX3_binder.data.toList.drop 24 = dktX3_binder_1 := dk_seg dksX3_binder_0 24 rfl rfl
theorem dX3_binder_0 : decode cX3_binder 0 = .ok (.aload_n 0, 1) := dk_42 (dk_at dksX3_binder_0 0 rfl rfl)
theorem dX3_binder_1 : decode cX3_binder 1 = .ok (.invokevirtual 27, 3) := dk_182 0 27 (dk_at dksX3_binder_0 1 rfl rfl)
theorem dX3_binder_4 : decode cX3_binder 4 = .ok (.istore_n 1, 1) := dk_60 (dk_at dksX3_binder_0 4 rfl rfl)
theorem dX3_binder_5 : decode cX3_binder 5 = .ok (.iload_n 1, 1) := dk_27 (dk_at dksX3_binder_0 5 rfl rfl)
theorem dX3_binder_6 : decode cX3_binder 6 = .ok (.invokestatic 38, 3) := dk_184 0 38 (dk_at dksX3_binder_0 6 rfl rfl)
theorem dX3_binder_9 : decode cX3_binder 9 = .ok (.iconst 1, 1) := dk_4 (dk_at dksX3_binder_0 9 rfl rfl)
theorem dX3_binder_10 : decode cX3_binder 10 = .ok (.aload_n 0, 1) := dk_42 (dk_at dksX3_binder_0 10 rfl rfl)
theorem dX3_binder_11 : decode cX3_binder 11 = .ok (.getfield 19, 3) := dk_180 0 19 (dk_at dksX3_binder_0 11 rfl rfl)
theorem dX3_binder_14 : decode cX3_binder 14 = .ok (.invokestatic 31, 3) := dk_184 0 31 (dk_at dksX3_binder_0 14 rfl rfl)
theorem dX3_binder_17 : decode cX3_binder 17 = .ok (.aload_n 0, 1) := dk_42 (dk_at dksX3_binder_0 17 rfl rfl)
theorem dX3_binder_18 : decode cX3_binder 18 = .ok (.dup, 1) := dk_89 (dk_at dksX3_binder_0 18 rfl rfl)
theorem dX3_binder_19 : decode cX3_binder 19 = .ok (.getfield 19, 3) := dk_180 0 19 (dk_at dksX3_binder_0 19 rfl rfl)
theorem dX3_binder_22 : decode cX3_binder 22 = .ok (.iconst 1, 1) := dk_4 (dk_at dksX3_binder_0 22 rfl rfl)
theorem dX3_binder_23 : decode cX3_binder 23 = .ok (.iadd, 1) := dk_96 (dk_at dksX3_binder_0 23 rfl rfl)
theorem dX3_binder_24 : decode cX3_binder 24 = .ok (.putfield 19, 3) := dk_181 0 19 (dk_at dksX3_binder_1 0 rfl rfl)
theorem dX3_binder_27 : decode cX3_binder 27 = .ok (.aload_n 0, 1) := dk_42 (dk_at dksX3_binder_1 3 rfl rfl)
theorem dX3_binder_28 : decode cX3_binder 28 = .ok (.bipush 46, 2) := dk_16 46 (dk_at dksX3_binder_1 4 rfl rfl)
theorem dX3_binder_30 : decode cX3_binder 30 = .ok (.invokevirtual 50, 3) := dk_182 0 50 (dk_at dksX3_binder_1 6 rfl rfl)
theorem dX3_binder_33 : decode cX3_binder 33 = .ok (.new 54, 3) := dk_187 0 54 (dk_at dksX3_binder_1 9 rfl rfl)
theorem dX3_binder_36 : decode cX3_binder 36 = .ok (.dup, 1) := dk_89 (dk_at dksX3_binder_1 12 rfl rfl)
theorem dX3_binder_37 : decode cX3_binder 37 = .ok (.iload_n 1, 1) := dk_27 (dk_at dksX3_binder_1 13 rfl rfl)
theorem dX3_binder_38 : decode cX3_binder 38 = .ok (.aload_n 0, 1) := dk_42 (dk_at dksX3_binder_1 14 rfl rfl)
theorem dX3_binder_39 : decode cX3_binder 39 = .ok (.invokevirtual 56, 3) := dk_182 0 56 (dk_at dksX3_binder_1 15 rfl rfl)
theorem dX3_binder_42 : decode cX3_binder 42 = .ok (.invokespecial 60, 3) := dk_183 0 60 (dk_at dksX3_binder_1 18 rfl rfl)
theorem dX3_binder_45 : decode cX3_binder 45 = .ok (.areturn, 1) := dk_176 (dk_at dksX3_binder_1 21 rfl rfl)
abbrev cX3_isEnd : ByteArray := prog_8_method_6_code
def yX3_isEnd : MethodName := ⟨RX3, "isEnd", "()Z"⟩
def dkwX3_isEnd_0 : List UInt8 := [42, 182, 0, 27, 2, 159, 0, 12, 42, 182, 0, 27, 16, 41, 160, 0, 7, 4, 167, 0, 4, 3, 172]
abbrev dktX3_isEnd_0 : List UInt8 := dkwX3_isEnd_0 ++ []
theorem dksX3_isEnd_0 : cX3_isEnd.data.toList.drop 0 = dktX3_isEnd_0 := by decide +kernel
theorem dX3_isEnd_0 : decode cX3_isEnd 0 = .ok (.aload_n 0, 1) := dk_42 (dk_at dksX3_isEnd_0 0 rfl rfl)
theorem dX3_isEnd_1 : decode cX3_isEnd 1 = .ok (.invokevirtual 27, 3) := dk_182 0 27 (dk_at dksX3_isEnd_0 1 rfl rfl)
theorem dX3_isEnd_4 : decode cX3_isEnd 4 = .ok (.iconst (-1), 1) := dk_2 (dk_at dksX3_isEnd_0 4 rfl rfl)
theorem dX3_isEnd_5 : decode cX3_isEnd 5 = .ok (.if_icmp .eq 12, 3) := dk_159 0 12 (dk_at dksX3_isEnd_0 5 rfl rfl)
theorem dX3_isEnd_8 : decode cX3_isEnd 8 = .ok (.aload_n 0, 1) := dk_42 (dk_at dksX3_isEnd_0 8 rfl rfl)
theorem dX3_isEnd_9 : decode cX3_isEnd 9 = .ok (.invokevirtual 27, 3) := dk_182 0 27 (dk_at dksX3_isEnd_0 9 rfl rfl)
theorem dX3_isEnd_12 : decode cX3_isEnd 12 = .ok (.bipush 41, 2) := dk_16 41 (dk_at dksX3_isEnd_0 12 rfl rfl)
theorem dX3_isEnd_14 : decode cX3_isEnd 14 = .ok (.if_icmp .ne 7, 3) := dk_160 0 7 (dk_at dksX3_isEnd_0 14 rfl rfl)
theorem dX3_isEnd_17 : decode cX3_isEnd 17 = .ok (.iconst 1, 1) := dk_4 (dk_at dksX3_isEnd_0 17 rfl rfl)
theorem dX3_isEnd_18 : decode cX3_isEnd 18 = .ok (.goto 4, 3) := dk_167 0 4 (dk_at dksX3_isEnd_0 18 rfl rfl)
theorem dX3_isEnd_21 : decode cX3_isEnd 21 = .ok (.iconst 0, 1) := dk_3 (dk_at dksX3_isEnd_0 21 rfl rfl)
theorem dX3_isEnd_22 : decode cX3_isEnd 22 = .ok (.ireturn, 1) := dk_172 (dk_at dksX3_isEnd_0 22 rfl rfl)
theorem q87 : (Jvm.Cond.initialized "BinderPress$Reader") ∈ lw_all := lw_g (lw_at lw_m1 4 rfl) rfl
theorem q220 : (Jvm.Cond.instantiable "BinderPress$Reader" (4 : Nat)) ∈ lw_all := lw_g (lw_at lw_m1 137 rfl) rfl
theorem q222 : (Jvm.Cond.instanceMethod ({ cls := "BinderPress$Reader", name := "<init>", desc := "([BI)V" } : Jvm.MethodName)) ∈ lw_all := lw_g (lw_at lw_m1 139 rfl) rfl
theorem q223 : (Jvm.Cond.code ({ cls := "BinderPress$Reader", name := "<init>", desc := "([BI)V" } : Jvm.MethodName) prog_8_method_1_code (3 : Nat) (Option.none : Option Jvm.ClassFile.FieldType)) ∈ lw_all := lw_g (lw_at lw_m1 140 rfl) rfl
theorem q224 : (Jvm.Cond.methodLink "BinderPress$Reader" (3 : Nat) ({ cls := "java/lang/Object", name := "<init>", desc := "()V" } : Jvm.MethodName)) ∈ lw_all := lw_g (lw_at lw_m1 141 rfl) rfl
theorem q225 : (Jvm.Cond.fieldLink "BinderPress$Reader" (9 : Nat) "BinderPress$Reader" "text" "[B") ∈ lw_all := lw_g (lw_at lw_m1 142 rfl) rfl
theorem q226 : (Jvm.Cond.fieldLink "BinderPress$Reader" (15 : Nat) "BinderPress$Reader" "length" "I") ∈ lw_all := lw_g (lw_at lw_m1 143 rfl) rfl
theorem q227 : (Jvm.Cond.fieldLink "BinderPress$Reader" (19 : Nat) "BinderPress$Reader" "at" "I") ∈ lw_all := lw_g (lw_at lw_m1 144 rfl) rfl
theorem q228 : (Jvm.Cond.fieldLink "BinderPress$Reader" (35 : Nat) "BinderPress$Reader" "size" "I") ∈ lw_all := lw_g (lw_at lw_m1 145 rfl) rfl
theorem q229 : (Jvm.Cond.laysFinal "BinderPress$Reader" "BinderPress$Reader" "text" "[B") ∈ lw_all := lw_g (lw_at lw_m1 146 rfl) rfl
theorem q230 : (Jvm.Cond.soleField "BinderPress$Reader" "text") ∈ lw_all := lw_g (lw_at lw_m1 147 rfl) rfl
theorem q231 : (Jvm.Cond.laysFinal "BinderPress$Reader" "BinderPress$Reader" "length" "I") ∈ lw_all := lw_g (lw_at lw_m1 148 rfl) rfl
theorem q232 : (Jvm.Cond.soleField "BinderPress$Reader" "length") ∈ lw_all := lw_g (lw_at lw_m1 149 rfl) rfl
theorem q233 : (Jvm.Cond.lays "BinderPress$Reader" "BinderPress$Reader" "at" "I") ∈ lw_all := lw_g (lw_at lw_m1 150 rfl) rfl
theorem q234 : (Jvm.Cond.soleField "BinderPress$Reader" "at") ∈ lw_all := lw_g (lw_at lw_m1 151 rfl) rfl
theorem q235 : (Jvm.Cond.lays "BinderPress$Reader" "BinderPress$Reader" "size" "I") ∈ lw_all := lw_g (lw_at lw_m1 152 rfl) rfl
theorem q236 : (Jvm.Cond.soleField "BinderPress$Reader" "size") ∈ lw_all := lw_g (lw_at lw_m1 153 rfl) rfl
theorem q237 : (Jvm.Cond.superclass "BinderPress$Reader" "java/lang/Object") ∈ lw_all := lw_g (lw_at lw_m1 154 rfl) rfl
theorem q239 : (Jvm.Cond.instanceMethod ({ cls := "BinderPress$Reader", name := "all", desc := "()LBinderPress$Term;" } : Jvm.MethodName)) ∈ lw_all := lw_g (lw_at lw_m1 156 rfl) rfl
theorem q240 : (Jvm.Cond.selects "BinderPress$Reader" ({ cls := "BinderPress$Reader", name := "all", desc := "()LBinderPress$Term;" } : Jvm.MethodName) ({ cls := "BinderPress$Reader", name := "all", desc := "()LBinderPress$Term;" } : Jvm.MethodName)) ∈ lw_all := lw_g (lw_at lw_m1 157 rfl) rfl
theorem q241 : (Jvm.Cond.code ({ cls := "BinderPress$Reader", name := "all", desc := "()LBinderPress$Term;" } : Jvm.MethodName) prog_8_method_12_code (2 : Nat) (Option.some (Jvm.ClassFile.FieldType.object "BinderPress$Term"))) ∈ lw_all := lw_g (lw_at lw_m1 158 rfl) rfl
theorem q242 : (Jvm.Cond.methodLink "BinderPress$Reader" (56 : Nat) ({ cls := "BinderPress$Reader", name := "term", desc := "()LBinderPress$Term;" } : Jvm.MethodName)) ∈ lw_all := lw_g (lw_at lw_m1 159 rfl) rfl
theorem q243 : (Jvm.Cond.instanceMethod ({ cls := "BinderPress$Reader", name := "term", desc := "()LBinderPress$Term;" } : Jvm.MethodName)) ∈ lw_all := lw_g (lw_at lw_m1 160 rfl) rfl
theorem q244 : (Jvm.Cond.selects "BinderPress$Reader" ({ cls := "BinderPress$Reader", name := "term", desc := "()LBinderPress$Term;" } : Jvm.MethodName) ({ cls := "BinderPress$Reader", name := "term", desc := "()LBinderPress$Term;" } : Jvm.MethodName)) ∈ lw_all := lw_g (lw_at lw_m1 161 rfl) rfl
theorem q245 : (Jvm.Cond.code ({ cls := "BinderPress$Reader", name := "term", desc := "()LBinderPress$Term;" } : Jvm.MethodName) prog_8_method_11_code (2 : Nat) (Option.some (Jvm.ClassFile.FieldType.object "BinderPress$Term"))) ∈ lw_all := lw_g (lw_at lw_m1 162 rfl) rfl
theorem q246 : (Jvm.Cond.methodLink "BinderPress$Reader" (84 : Nat) ({ cls := "BinderPress$Reader", name := "next", desc := "()LBinderPress$Term;" } : Jvm.MethodName)) ∈ lw_all := lw_g (lw_at lw_m1 163 rfl) rfl
theorem q247 : (Jvm.Cond.privateMethod ({ cls := "BinderPress$Reader", name := "next", desc := "()LBinderPress$Term;" } : Jvm.MethodName)) ∈ lw_tbl := lw_at lw_m1 164 rfl
theorem q248 : (Jvm.Cond.instanceMethod ({ cls := "BinderPress$Reader", name := "next", desc := "()LBinderPress$Term;" } : Jvm.MethodName)) ∈ lw_all := lw_g (lw_at lw_m1 165 rfl) rfl
theorem q249 : (Jvm.Cond.code ({ cls := "BinderPress$Reader", name := "next", desc := "()LBinderPress$Term;" } : Jvm.MethodName) prog_8_method_10_code (3 : Nat) (Option.some (Jvm.ClassFile.FieldType.object "BinderPress$Term"))) ∈ lw_all := lw_g (lw_at lw_m1 166 rfl) rfl
theorem q250 : (Jvm.Cond.methodLink "BinderPress$Reader" (27 : Nat) ({ cls := "BinderPress$Reader", name := "here", desc := "()I" } : Jvm.MethodName)) ∈ lw_all := lw_g (lw_at lw_m1 167 rfl) rfl
theorem q251 : (Jvm.Cond.privateMethod ({ cls := "BinderPress$Reader", name := "here", desc := "()I" } : Jvm.MethodName)) ∈ lw_tbl := lw_at lw_m1 168 rfl
theorem q252 : (Jvm.Cond.instanceMethod ({ cls := "BinderPress$Reader", name := "here", desc := "()I" } : Jvm.MethodName)) ∈ lw_all := lw_g (lw_at lw_m1 169 rfl) rfl
theorem q253 : (Jvm.Cond.code ({ cls := "BinderPress$Reader", name := "here", desc := "()I" } : Jvm.MethodName) prog_8_method_2_code (1 : Nat) (Option.some Jvm.ClassFile.FieldType.int)) ∈ lw_all := lw_g (lw_at lw_m1 170 rfl) rfl
theorem q254 : (Jvm.Cond.methodLink "BinderPress$Reader" (77 : Nat) ({ cls := "BinderPress$Reader", name := "canBegin", desc := "(I)Z" } : Jvm.MethodName)) ∈ lw_all := lw_g (lw_at lw_m1 171 rfl) rfl
theorem q255 : (Jvm.Cond.static ({ cls := "BinderPress$Reader", name := "canBegin", desc := "(I)Z" } : Jvm.MethodName)) ∈ lw_all := lw_g (lw_at lw_m1 172 rfl) rfl
theorem q256 : (Jvm.Cond.code ({ cls := "BinderPress$Reader", name := "canBegin", desc := "(I)Z" } : Jvm.MethodName) prog_8_method_7_code (1 : Nat) (Option.some Jvm.ClassFile.FieldType.boolean)) ∈ lw_all := lw_g (lw_at lw_m1 173 rfl) rfl
theorem q257 : (Jvm.Cond.methodLinkNest "BinderPress$Reader" (38 : Nat) ({ cls := "BinderPress", name := "isName", desc := "(I)Z" } : Jvm.MethodName) "BinderPress") ∈ lw_tbl := lw_at lw_m1 174 rfl
theorem q260 : (Jvm.Cond.methodLinkNest "BinderPress$Reader" (42 : Nat) ({ cls := "BinderPress", name := "textOf", desc := "(I)Ljava/lang/String;" } : Jvm.MethodName) "BinderPress") ∈ lw_tbl := lw_at lw_m1 177 rfl
theorem q269 : (Jvm.Cond.methodLink "BinderPress$Reader" (46 : Nat) ({ cls := "java/lang/String", name := "length", desc := "()I" } : Jvm.MethodName)) ∈ lw_all := lw_g (lw_at lw_m1 186 rfl) rfl
theorem q279 : (Jvm.Cond.methodLink "BinderPress$Reader" (31 : Nat) ({ cls := "BinderPress$Reader", name := "want", desc := "(ZII)V" } : Jvm.MethodName)) ∈ lw_all := lw_g (lw_at lw_m1 196 rfl) rfl
theorem q280 : (Jvm.Cond.static ({ cls := "BinderPress$Reader", name := "want", desc := "(ZII)V" } : Jvm.MethodName)) ∈ lw_all := lw_g (lw_at lw_m1 197 rfl) rfl
theorem q281 : (Jvm.Cond.code ({ cls := "BinderPress$Reader", name := "want", desc := "(ZII)V" } : Jvm.MethodName) prog_8_method_3_code (3 : Nat) (Option.none : Option Jvm.ClassFile.FieldType)) ∈ lw_all := lw_g (lw_at lw_m1 198 rfl) rfl
theorem q282 : (Jvm.Cond.classLink "BinderPress$Reader" (22 : Nat) "BinderPress$Fault") ∈ lw_all := lw_g (lw_at lw_m1 199 rfl) rfl
theorem q320 : (Jvm.Cond.methodLink "BinderPress$Reader" (24 : Nat) ({ cls := "BinderPress$Fault", name := "<init>", desc := "(II)V" } : Jvm.MethodName)) ∈ lw_all := lw_g (lw_at lw_m1 237 rfl) rfl
theorem q350 : (Jvm.Cond.methodLink "BinderPress$Reader" (80 : Nat) ({ cls := "BinderPress$Reader", name := "item", desc := "(II)LBinderPress$Term;" } : Jvm.MethodName)) ∈ lw_all := lw_g (lw_at lw_m2 27 rfl) rfl
theorem q351 : (Jvm.Cond.privateMethod ({ cls := "BinderPress$Reader", name := "item", desc := "(II)LBinderPress$Term;" } : Jvm.MethodName)) ∈ lw_tbl := lw_at lw_m2 28 rfl
theorem q352 : (Jvm.Cond.instanceMethod ({ cls := "BinderPress$Reader", name := "item", desc := "(II)LBinderPress$Term;" } : Jvm.MethodName)) ∈ lw_all := lw_g (lw_at lw_m2 29 rfl) rfl
theorem q353 : (Jvm.Cond.code ({ cls := "BinderPress$Reader", name := "item", desc := "(II)LBinderPress$Term;" } : Jvm.MethodName) prog_8_method_9_code (4 : Nat) (Option.some (Jvm.ClassFile.FieldType.object "BinderPress$Term"))) ∈ lw_all := lw_g (lw_at lw_m2 30 rfl) rfl
theorem q354 : (Jvm.Cond.methodLink "BinderPress$Reader" (50 : Nat) ({ cls := "BinderPress$Reader", name := "sign", desc := "(I)V" } : Jvm.MethodName)) ∈ lw_all := lw_g (lw_at lw_m2 31 rfl) rfl
theorem q355 : (Jvm.Cond.privateMethod ({ cls := "BinderPress$Reader", name := "sign", desc := "(I)V" } : Jvm.MethodName)) ∈ lw_tbl := lw_at lw_m2 32 rfl
theorem q356 : (Jvm.Cond.instanceMethod ({ cls := "BinderPress$Reader", name := "sign", desc := "(I)V" } : Jvm.MethodName)) ∈ lw_all := lw_g (lw_at lw_m2 33 rfl) rfl
theorem q357 : (Jvm.Cond.code ({ cls := "BinderPress$Reader", name := "sign", desc := "(I)V" } : Jvm.MethodName) prog_8_method_4_code (2 : Nat) (Option.none : Option Jvm.ClassFile.FieldType)) ∈ lw_all := lw_g (lw_at lw_m2 34 rfl) rfl
theorem q358 : (Jvm.Cond.methodLink "BinderPress$Reader" (63 : Nat) ({ cls := "BinderPress$Reader", name := "grow", desc := "(I)V" } : Jvm.MethodName)) ∈ lw_all := lw_g (lw_at lw_m2 35 rfl) rfl
theorem q359 : (Jvm.Cond.privateMethod ({ cls := "BinderPress$Reader", name := "grow", desc := "(I)V" } : Jvm.MethodName)) ∈ lw_tbl := lw_at lw_m2 36 rfl
theorem q360 : (Jvm.Cond.instanceMethod ({ cls := "BinderPress$Reader", name := "grow", desc := "(I)V" } : Jvm.MethodName)) ∈ lw_all := lw_g (lw_at lw_m2 37 rfl) rfl
theorem q361 : (Jvm.Cond.code ({ cls := "BinderPress$Reader", name := "grow", desc := "(I)V" } : Jvm.MethodName) prog_8_method_5_code (2 : Nat) (Option.none : Option Jvm.ClassFile.FieldType)) ∈ lw_all := lw_g (lw_at lw_m2 38 rfl) rfl
theorem q362 : (Jvm.Cond.methodLink "BinderPress$Reader" (66 : Nat) ({ cls := "BinderPress$Reader", name := "binder", desc := "()LBinderPress$Term;" } : Jvm.MethodName)) ∈ lw_all := lw_g (lw_at lw_m2 39 rfl) rfl
theorem q363 : (Jvm.Cond.privateMethod ({ cls := "BinderPress$Reader", name := "binder", desc := "()LBinderPress$Term;" } : Jvm.MethodName)) ∈ lw_tbl := lw_at lw_m2 40 rfl
theorem q364 : (Jvm.Cond.instanceMethod ({ cls := "BinderPress$Reader", name := "binder", desc := "()LBinderPress$Term;" } : Jvm.MethodName)) ∈ lw_all := lw_g (lw_at lw_m2 41 rfl) rfl
theorem q365 : (Jvm.Cond.code ({ cls := "BinderPress$Reader", name := "binder", desc := "()LBinderPress$Term;" } : Jvm.MethodName) prog_8_method_8_code (2 : Nat) (Option.some (Jvm.ClassFile.FieldType.object "BinderPress$Term"))) ∈ lw_all := lw_g (lw_at lw_m2 42 rfl) rfl
theorem q366 : (Jvm.Cond.classLink "BinderPress$Reader" (54 : Nat) "BinderPress$Binder") ∈ lw_all := lw_g (lw_at lw_m2 43 rfl) rfl
theorem q368 : (Jvm.Cond.methodLink "BinderPress$Reader" (60 : Nat) ({ cls := "BinderPress$Binder", name := "<init>", desc := "(ILBinderPress$Term;)V" } : Jvm.MethodName)) ∈ lw_all := lw_g (lw_at lw_m2 45 rfl) rfl
theorem q387 : (Jvm.Cond.classLink "BinderPress$Reader" (69 : Nat) "BinderPress$Name") ∈ lw_all := lw_g (lw_at lw_m2 64 rfl) rfl
theorem q389 : (Jvm.Cond.methodLink "BinderPress$Reader" (71 : Nat) ({ cls := "BinderPress$Name", name := "<init>", desc := "(I)V" } : Jvm.MethodName)) ∈ lw_all := lw_g (lw_at lw_m2 66 rfl) rfl
theorem q399 : (Jvm.Cond.methodLinkNest "BinderPress$Reader" (73 : Nat) ({ cls := "BinderPress", name := "signOf", desc := "(I)LBinderPress$Term;" } : Jvm.MethodName) "BinderPress") ∈ lw_tbl := lw_at lw_m2 76 rfl
theorem q415 : (Jvm.Cond.methodLink "BinderPress$Reader" (87 : Nat) ({ cls := "BinderPress$Reader", name := "isEnd", desc := "()Z" } : Jvm.MethodName)) ∈ lw_all := lw_g (lw_at lw_m2 92 rfl) rfl
theorem q416 : (Jvm.Cond.privateMethod ({ cls := "BinderPress$Reader", name := "isEnd", desc := "()Z" } : Jvm.MethodName)) ∈ lw_tbl := lw_at lw_m2 93 rfl
theorem q417 : (Jvm.Cond.instanceMethod ({ cls := "BinderPress$Reader", name := "isEnd", desc := "()Z" } : Jvm.MethodName)) ∈ lw_all := lw_g (lw_at lw_m2 94 rfl) rfl
theorem q418 : (Jvm.Cond.code ({ cls := "BinderPress$Reader", name := "isEnd", desc := "()Z" } : Jvm.MethodName) prog_8_method_6_code (1 : Nat) (Option.some Jvm.ClassFile.FieldType.boolean)) ∈ lw_all := lw_g (lw_at lw_m2 95 rfl) rfl
theorem q419 : (Jvm.Cond.classLink "BinderPress$Reader" (91 : Nat) "BinderPress$Put") ∈ lw_all := lw_g (lw_at lw_m2 96 rfl) rfl
theorem q421 : (Jvm.Cond.methodLink "BinderPress$Reader" (93 : Nat) ({ cls := "BinderPress$Put", name := "<init>", desc := "(LBinderPress$Term;LBinderPress$Term;)V" } : Jvm.MethodName)) ∈ lw_all := lw_g (lw_at lw_m2 98 rfl) rfl
theorem in_X3 : ∀ w ∈ wsX30, w ∈ lw_all := lw_in wsX30 [229, 231, 233, 235] (by decide +kernel) (by decide +kernel)
/-! BinderPress$Fault -/
set_option maxRecDepth 100000
def RX4 : String := "BinderPress$Fault"
def TX4 : u_T := fun k => match k with
  | 0 => ("java/lang/Throwable", "cause", "Ljava/lang/Throwable;", false)
  | 1 => ("java/lang/Throwable", "stackTrace", "[Ljava/lang/StackTraceElement;", false)
  | 2 => ("java/lang/Throwable", "suppressedExceptions", "Ljava/util/List;", false)
  | 3 => ("java/lang/Throwable", "detailMessage", "Ljava/lang/String;", false)
  | 4 => ("java/lang/Throwable", "backtrace", "Ljava/lang/Object;", false)
  | 5 => ("java/lang/Throwable", "depth", "I", false)
  | 6 => ("BinderPress$Fault", "number", "I", true)
  | _ => ("BinderPress$Fault", "place", "I", true)
def tyX4 : Nat → FieldType := fun k => match k with
  | 0 => .object "java/lang/Throwable"
  | 1 => .array (.object "java/lang/StackTraceElement")
  | 2 => .object "java/util/List"
  | 3 => .object "java/lang/String"
  | 4 => .object "java/lang/Object"
  | 5 => .int
  | 6 => .int
  | _ => .int
abbrev wsX40 : List Cond := u_ws RX4 TX4 8
theorem nmX4 : ∀ a, a < 8 → ∀ b, b < 8 → a ≠ b → (TX4 a).2.1 ≠ (TX4 b).2.1 := by decide +kernel
theorem tyX4_ok : ∀ k, k < 8 → parseFieldDescriptor (TX4 k).2.2.1 = some (tyX4 k) := by decide +kernel
abbrev cX4_init : ByteArray := prog_3_method_1_code
def yX4_init : MethodName := ⟨RX4, "<init>", "(II)V"⟩
def dkwX4_init_0 : List UInt8 := [42, 1, 1, 3, 3, 183, 0, 1, 42, 27, 181, 0, 7, 42, 28, 181, 0, 13, 177]
abbrev dktX4_init_0 : List UInt8 := dkwX4_init_0 ++ []
theorem dksX4_init_0 : cX4_init.data.toList.drop 0 = dktX4_init_0 := by decide +kernel
theorem dX4_init_0 : decode cX4_init 0 = .ok (.aload_n 0, 1) := dk_42 (dk_at dksX4_init_0 0 rfl rfl)
theorem dX4_init_1 : decode cX4_init 1 = .ok (.aconst_null, 1) := dk_1 (dk_at dksX4_init_0 1 rfl rfl)
theorem dX4_init_2 : decode cX4_init 2 = .ok (.aconst_null, 1) := dk_1 (dk_at dksX4_init_0 2 rfl rfl)
theorem dX4_init_3 : decode cX4_init 3 = .ok (.iconst 0, 1) := dk_3 (dk_at dksX4_init_0 3 rfl rfl)
theorem dX4_init_4 : decode cX4_init 4 = .ok (.iconst 0, 1) := dk_3 (dk_at dksX4_init_0 4 rfl rfl)
theorem dX4_init_5 : decode cX4_init 5 = .ok (.invokespecial 1, 3) := dk_183 0 1 (dk_at dksX4_init_0 5 rfl rfl)
theorem dX4_init_8 : decode cX4_init 8 = .ok (.aload_n 0, 1) := dk_42 (dk_at dksX4_init_0 8 rfl rfl)
theorem dX4_init_9 : decode cX4_init 9 = .ok (.iload_n 1, 1) := dk_27 (dk_at dksX4_init_0 9 rfl rfl)
theorem dX4_init_10 : decode cX4_init 10 = .ok (.putfield 7, 3) := dk_181 0 7 (dk_at dksX4_init_0 10 rfl rfl)
theorem dX4_init_13 : decode cX4_init 13 = .ok (.aload_n 0, 1) := dk_42 (dk_at dksX4_init_0 13 rfl rfl)
theorem dX4_init_14 : decode cX4_init 14 = .ok (.iload_n 2, 1) := dk_28 (dk_at dksX4_init_0 14 rfl rfl)
theorem dX4_init_15 : decode cX4_init 15 = .ok (.putfield 13, 3) := dk_181 0 13 (dk_at dksX4_init_0 15 rfl rfl)
theorem dX4_init_18 : decode cX4_init 18 = .ok (.return_, 1) := dk_177 (dk_at dksX4_init_0 18 rfl rfl)
theorem q91 : (Jvm.Cond.initialized "BinderPress$Fault") ∈ lw_all := lw_g (lw_at lw_m1 8 rfl) rfl
theorem q283 : (Jvm.Cond.instantiable "BinderPress$Fault" (8 : Nat)) ∈ lw_all := lw_g (lw_at lw_m1 200 rfl) rfl
theorem q284 : (Jvm.Cond.castable "BinderPress$Fault" "BinderPress$Fault") ∈ lw_tbl := lw_at lw_m1 201 rfl
theorem q289 : (Jvm.Cond.selects "BinderPress$Fault" ({ cls := "java/lang/Throwable", name := "fillInStackTrace", desc := "(I)Ljava/lang/Throwable;" } : Jvm.MethodName) ({ cls := "java/lang/Throwable", name := "fillInStackTrace", desc := "(I)Ljava/lang/Throwable;" } : Jvm.MethodName)) ∈ lw_all := lw_g (lw_at lw_m1 206 rfl) rfl
theorem q290 : (Jvm.Cond.selects "BinderPress$Fault" ({ cls := "java/lang/Throwable", name := "fillInStackTrace", desc := "()Ljava/lang/Throwable;" } : Jvm.MethodName) ({ cls := "java/lang/Throwable", name := "fillInStackTrace", desc := "()Ljava/lang/Throwable;" } : Jvm.MethodName)) ∈ lw_all := lw_g (lw_at lw_m1 207 rfl) rfl
theorem q291 : (Jvm.Cond.lays "BinderPress$Fault" "java/lang/Throwable" "cause" "Ljava/lang/Throwable;") ∈ lw_all := lw_g (lw_at lw_m1 208 rfl) rfl
theorem q293 : (Jvm.Cond.lays "BinderPress$Fault" "java/lang/Throwable" "stackTrace" "[Ljava/lang/StackTraceElement;") ∈ lw_all := lw_g (lw_at lw_m1 210 rfl) rfl
theorem q295 : (Jvm.Cond.lays "BinderPress$Fault" "java/lang/Throwable" "suppressedExceptions" "Ljava/util/List;") ∈ lw_all := lw_g (lw_at lw_m1 212 rfl) rfl
theorem q297 : (Jvm.Cond.lays "BinderPress$Fault" "java/lang/Throwable" "detailMessage" "Ljava/lang/String;") ∈ lw_all := lw_g (lw_at lw_m1 214 rfl) rfl
theorem q299 : (Jvm.Cond.lays "BinderPress$Fault" "java/lang/Throwable" "backtrace" "Ljava/lang/Object;") ∈ lw_all := lw_g (lw_at lw_m1 216 rfl) rfl
theorem q321 : (Jvm.Cond.instanceMethod ({ cls := "BinderPress$Fault", name := "<init>", desc := "(II)V" } : Jvm.MethodName)) ∈ lw_all := lw_g (lw_at lw_m1 238 rfl) rfl
theorem q322 : (Jvm.Cond.code ({ cls := "BinderPress$Fault", name := "<init>", desc := "(II)V" } : Jvm.MethodName) prog_3_method_1_code (3 : Nat) (Option.none : Option Jvm.ClassFile.FieldType)) ∈ lw_all := lw_g (lw_at lw_m1 239 rfl) rfl
theorem q323 : (Jvm.Cond.methodLink "BinderPress$Fault" (1 : Nat) ({ cls := "java/lang/Exception", name := "<init>", desc := "(Ljava/lang/String;Ljava/lang/Throwable;ZZ)V" } : Jvm.MethodName)) ∈ lw_all := lw_g (lw_at lw_m2 0 rfl) rfl
theorem q329 : (Jvm.Cond.fieldLink "BinderPress$Fault" (7 : Nat) "BinderPress$Fault" "number" "I") ∈ lw_all := lw_g (lw_at lw_m2 6 rfl) rfl
theorem q331 : (Jvm.Cond.fieldLink "BinderPress$Fault" (13 : Nat) "BinderPress$Fault" "place" "I") ∈ lw_all := lw_g (lw_at lw_m2 8 rfl) rfl
theorem q338 : (Jvm.Cond.laysFinal "BinderPress$Fault" "BinderPress$Fault" "number" "I") ∈ lw_all := lw_g (lw_at lw_m2 15 rfl) rfl
theorem q339 : (Jvm.Cond.soleField "BinderPress$Fault" "number") ∈ lw_all := lw_g (lw_at lw_m2 16 rfl) rfl
theorem q340 : (Jvm.Cond.laysFinal "BinderPress$Fault" "BinderPress$Fault" "place" "I") ∈ lw_all := lw_g (lw_at lw_m2 17 rfl) rfl
theorem q341 : (Jvm.Cond.soleField "BinderPress$Fault" "place") ∈ lw_all := lw_g (lw_at lw_m2 18 rfl) rfl
theorem q346 : (Jvm.Cond.lays "BinderPress$Fault" "java/lang/Throwable" "depth" "I") ∈ lw_all := lw_g (lw_at lw_m2 23 rfl) rfl
theorem q349 : (Jvm.Cond.superclass "BinderPress$Fault" "java/lang/Exception") ∈ lw_all := lw_g (lw_at lw_m2 26 rfl) rfl
theorem in_X4 : ∀ w ∈ wsX40, w ∈ lw_all := lw_in wsX40 [291, 293, 295, 297, 299, 346, 338, 340] (by decide +kernel) (by decide +kernel)
/-! BinderPress$Term -/
set_option maxRecDepth 100000
def RX5 : String := "BinderPress$Term"
abbrev cX5_init : ByteArray := prog_11_method_1_code
def yX5_init : MethodName := ⟨RX5, "<init>", "()V"⟩
theorem dX5_init_0 : decode cX5_init 0 = .ok (.aload_n 0, 1) := by decide +kernel
theorem dX5_init_1 : decode cX5_init 1 = .ok (.invokespecial 3, 3) := by decide +kernel
theorem dX5_init_4 : decode cX5_init 4 = .ok (.return_, 1) := by decide +kernel
abbrev cX5_hasFree : ByteArray := prog_11_method_13_code
def yX5_hasFree : MethodName := ⟨RX5, "hasFree", "(I)Z"⟩
def dkwX5_hasFree_0 : List UInt8 := [42, 182, 0, 9, 27, 16, 97, 100, 122, 4, 126, 4, 160, 0, 7, 4, 167, 0, 4, 3, 172]
abbrev dktX5_hasFree_0 : List UInt8 := dkwX5_hasFree_0 ++ []
theorem dksX5_hasFree_0 : cX5_hasFree.data.toList.drop 0 = dktX5_hasFree_0 := by decide +kernel
theorem dX5_hasFree_0 : decode cX5_hasFree 0 = .ok (.aload_n 0, 1) := dk_42 (dk_at dksX5_hasFree_0 0 rfl rfl)
theorem dX5_hasFree_1 : decode cX5_hasFree 1 = .ok (.invokevirtual 9, 3) := dk_182 0 9 (dk_at dksX5_hasFree_0 1 rfl rfl)
theorem dX5_hasFree_4 : decode cX5_hasFree 4 = .ok (.iload_n 1, 1) := dk_27 (dk_at dksX5_hasFree_0 4 rfl rfl)
theorem dX5_hasFree_5 : decode cX5_hasFree 5 = .ok (.bipush 97, 2) := dk_16 97 (dk_at dksX5_hasFree_0 5 rfl rfl)
theorem dX5_hasFree_7 : decode cX5_hasFree 7 = .ok (.isub, 1) := dk_100 (dk_at dksX5_hasFree_0 7 rfl rfl)
theorem dX5_hasFree_8 : decode cX5_hasFree 8 = .ok (.ishr, 1) := dk_122 (dk_at dksX5_hasFree_0 8 rfl rfl)
theorem dX5_hasFree_9 : decode cX5_hasFree 9 = .ok (.iconst 1, 1) := dk_4 (dk_at dksX5_hasFree_0 9 rfl rfl)
theorem dX5_hasFree_10 : decode cX5_hasFree 10 = .ok (.iand, 1) := dk_126 (dk_at dksX5_hasFree_0 10 rfl rfl)
theorem dX5_hasFree_11 : decode cX5_hasFree 11 = .ok (.iconst 1, 1) := dk_4 (dk_at dksX5_hasFree_0 11 rfl rfl)
theorem dX5_hasFree_12 : decode cX5_hasFree 12 = .ok (.if_icmp .ne 7, 3) := dk_160 0 7 (dk_at dksX5_hasFree_0 12 rfl rfl)
theorem dX5_hasFree_15 : decode cX5_hasFree 15 = .ok (.iconst 1, 1) := dk_4 (dk_at dksX5_hasFree_0 15 rfl rfl)
theorem dX5_hasFree_16 : decode cX5_hasFree 16 = .ok (.goto 4, 3) := dk_167 0 4 (dk_at dksX5_hasFree_0 16 rfl rfl)
theorem dX5_hasFree_19 : decode cX5_hasFree 19 = .ok (.iconst 0, 1) := dk_3 (dk_at dksX5_hasFree_0 19 rfl rfl)
theorem dX5_hasFree_20 : decode cX5_hasFree 20 = .ok (.ireturn, 1) := dk_172 (dk_at dksX5_hasFree_0 20 rfl rfl)
abbrev cX5_isBinder : ByteArray := prog_11_method_8_code
def yX5_isBinder : MethodName := ⟨RX5, "isBinder", "()Z"⟩
theorem dX5_isBinder_0 : decode cX5_isBinder 0 = .ok (.iconst 0, 1) := by decide +kernel
theorem dX5_isBinder_1 : decode cX5_isBinder 1 = .ok (.ireturn, 1) := by decide +kernel
abbrev cX5_isBracketed : ByteArray := prog_11_method_7_code
def yX5_isBracketed : MethodName := ⟨RX5, "isBracketed", "()Z"⟩
theorem dX5_isBracketed_0 : decode cX5_isBracketed 0 = .ok (.iconst 0, 1) := by decide +kernel
theorem dX5_isBracketed_1 : decode cX5_isBracketed 1 = .ok (.ireturn, 1) := by decide +kernel
theorem q92 : (Jvm.Cond.initialized "BinderPress$Term") ∈ lw_all := lw_g (lw_at lw_m1 9 rfl) rfl
theorem q372 : (Jvm.Cond.instanceMethod ({ cls := "BinderPress$Term", name := "<init>", desc := "()V" } : Jvm.MethodName)) ∈ lw_all := lw_g (lw_at lw_m2 49 rfl) rfl
theorem q373 : (Jvm.Cond.code ({ cls := "BinderPress$Term", name := "<init>", desc := "()V" } : Jvm.MethodName) prog_11_method_1_code (1 : Nat) (Option.none : Option Jvm.ClassFile.FieldType)) ∈ lw_all := lw_g (lw_at lw_m2 50 rfl) rfl
theorem q374 : (Jvm.Cond.methodLink "BinderPress$Term" (3 : Nat) ({ cls := "java/lang/Object", name := "<init>", desc := "()V" } : Jvm.MethodName)) ∈ lw_all := lw_g (lw_at lw_m2 51 rfl) rfl
theorem q426 : (Jvm.Cond.superclass "BinderPress$Term" "java/lang/Object") ∈ lw_all := lw_g (lw_at lw_m2 103 rfl) rfl
theorem q444 : (Jvm.Cond.declares ({ cls := "BinderPress$Term", name := "free", desc := "()I" } : Jvm.MethodName)) ∈ lw_tbl := lw_at lw_m2 121 rfl
theorem q445 : (Jvm.Cond.sameMethod "BinderPress$Term" "BinderPress$Term" "free" "()I") ∈ lw_all := lw_g (lw_at lw_m2 122 rfl) rfl
theorem q496 : (Jvm.Cond.declares ({ cls := "BinderPress$Term", name := "compiled", desc := "()LBinderPress$Term;" } : Jvm.MethodName)) ∈ lw_tbl := lw_at lw_m2 173 rfl
theorem q497 : (Jvm.Cond.sameMethod "BinderPress$Term" "BinderPress$Term" "compiled" "()LBinderPress$Term;") ∈ lw_all := lw_g (lw_at lw_m2 174 rfl) rfl
theorem q511 : (Jvm.Cond.declares ({ cls := "BinderPress$Term", name := "binders", desc := "()I" } : Jvm.MethodName)) ∈ lw_tbl := lw_at lw_m2 188 rfl
theorem q512 : (Jvm.Cond.sameMethod "BinderPress$Term" "BinderPress$Term" "binders" "()I") ∈ lw_all := lw_g (lw_at lw_m2 189 rfl) rfl
theorem q530 : (Jvm.Cond.declares ({ cls := "BinderPress$Term", name := "out", desc := "(I)LBinderPress$Term;" } : Jvm.MethodName)) ∈ lw_tbl := lw_at lw_m2 207 rfl
theorem q531 : (Jvm.Cond.sameMethod "BinderPress$Term" "BinderPress$Term" "out" "(I)LBinderPress$Term;") ∈ lw_all := lw_g (lw_at lw_m2 208 rfl) rfl
theorem q545 : (Jvm.Cond.declares ({ cls := "BinderPress$Term", name := "hasFree", desc := "(I)Z" } : Jvm.MethodName)) ∈ lw_tbl := lw_at lw_m2 222 rfl
theorem q547 : (Jvm.Cond.instanceMethod ({ cls := "BinderPress$Term", name := "hasFree", desc := "(I)Z" } : Jvm.MethodName)) ∈ lw_all := lw_g (lw_at lw_m2 224 rfl) rfl
theorem q548 : (Jvm.Cond.code ({ cls := "BinderPress$Term", name := "hasFree", desc := "(I)Z" } : Jvm.MethodName) prog_11_method_13_code (2 : Nat) (Option.some Jvm.ClassFile.FieldType.boolean)) ∈ lw_all := lw_g (lw_at lw_m2 225 rfl) rfl
theorem q549 : (Jvm.Cond.methodLink "BinderPress$Term" (9 : Nat) ({ cls := "BinderPress$Term", name := "free", desc := "()I" } : Jvm.MethodName)) ∈ lw_all := lw_g (lw_at lw_m2 226 rfl) rfl
theorem q620 : (Jvm.Cond.declares ({ cls := "BinderPress$Term", name := "putIn", desc := "(ILBinderPress$Term;)LBinderPress$Term;" } : Jvm.MethodName)) ∈ lw_tbl := lw_at lw_m3 57 rfl
theorem q621 : (Jvm.Cond.sameMethod "BinderPress$Term" "BinderPress$Term" "putIn" "(ILBinderPress$Term;)LBinderPress$Term;") ∈ lw_all := lw_g (lw_at lw_m3 58 rfl) rfl
theorem q852 : (Jvm.Cond.declares ({ cls := "BinderPress$Term", name := "count", desc := "(I)I" } : Jvm.MethodName)) ∈ lw_tbl := lw_at lw_m4 49 rfl
theorem q853 : (Jvm.Cond.sameMethod "BinderPress$Term" "BinderPress$Term" "count" "(I)I") ∈ lw_all := lw_g (lw_at lw_m4 50 rfl) rfl
theorem q904 : (Jvm.Cond.declares ({ cls := "BinderPress$Term", name := "write", desc := "(Ljava/lang/StringBuilder;)V" } : Jvm.MethodName)) ∈ lw_tbl := lw_at lw_m4 101 rfl
theorem q905 : (Jvm.Cond.sameMethod "BinderPress$Term" "BinderPress$Term" "write" "(Ljava/lang/StringBuilder;)V") ∈ lw_all := lw_g (lw_at lw_m4 102 rfl) rfl
theorem q987 : (Jvm.Cond.instanceMethod ({ cls := "BinderPress$Term", name := "isBinder", desc := "()Z" } : Jvm.MethodName)) ∈ lw_all := lw_g (lw_at lw_m4 184 rfl) rfl
theorem q988 : (Jvm.Cond.sameMethod "BinderPress$Term" "BinderPress$Term" "isBinder" "()Z") ∈ lw_all := lw_g (lw_at lw_m4 185 rfl) rfl
theorem q993 : (Jvm.Cond.code ({ cls := "BinderPress$Term", name := "isBinder", desc := "()Z" } : Jvm.MethodName) prog_11_method_8_code (1 : Nat) (Option.some Jvm.ClassFile.FieldType.boolean)) ∈ lw_all := lw_g (lw_at lw_m4 190 rfl) rfl
theorem q1047 : (Jvm.Cond.instanceMethod ({ cls := "BinderPress$Term", name := "isBracketed", desc := "()Z" } : Jvm.MethodName)) ∈ lw_all := lw_g (lw_at lw_m5 4 rfl) rfl
theorem q1048 : (Jvm.Cond.sameMethod "BinderPress$Term" "BinderPress$Term" "isBracketed" "()Z") ∈ lw_all := lw_g (lw_at lw_m5 5 rfl) rfl
theorem q1057 : (Jvm.Cond.code ({ cls := "BinderPress$Term", name := "isBracketed", desc := "()Z" } : Jvm.MethodName) prog_11_method_7_code (1 : Nat) (Option.some Jvm.ClassFile.FieldType.boolean)) ∈ lw_all := lw_g (lw_at lw_m5 14 rfl) rfl
theorem q1121 : (Jvm.Cond.declares ({ cls := "BinderPress$Term", name := "deep", desc := "()I" } : Jvm.MethodName)) ∈ lw_tbl := lw_at lw_m5 78 rfl
theorem q1122 : (Jvm.Cond.sameMethod "BinderPress$Term" "BinderPress$Term" "deep" "()I") ∈ lw_all := lw_g (lw_at lw_m5 79 rfl) rfl
theorem q1332 : (Jvm.Cond.declares ({ cls := "BinderPress$Term", name := "isSame", desc := "(LBinderPress$Term;)Z" } : Jvm.MethodName)) ∈ lw_tbl := lw_at lw_m6 49 rfl
theorem q1333 : (Jvm.Cond.sameMethod "BinderPress$Term" "BinderPress$Term" "isSame" "(LBinderPress$Term;)Z") ∈ lw_all := lw_g (lw_at lw_m6 50 rfl) rfl
theorem q1806 : (Jvm.Cond.sameMethod "BinderPress$Term" "BinderPress$Term" "hasFree" "(I)Z") ∈ lw_all := lw_g (lw_at lw_m8 43 rfl) rfl
/-! BinderPress$Binder -/
set_option maxRecDepth 100000
def RX6 : String := "BinderPress$Binder"
def TX6 : u_T := fun k => match k with
  | 0 => ("BinderPress$Binder", "letter", "I", true)
  | 1 => ("BinderPress$Binder", "body", "LBinderPress$Term;", true)
  | _ => ("BinderPress$Binder", "done", "LBinderPress$Term;", false)
def tyX6 : Nat → FieldType := fun k => match k with
  | 0 => .int
  | 1 => .object "BinderPress$Term"
  | _ => .object "BinderPress$Term"
abbrev wsX60 : List Cond := u_ws RX6 TX6 3
theorem nmX6 : ∀ a, a < 3 → ∀ b, b < 3 → a ≠ b → (TX6 a).2.1 ≠ (TX6 b).2.1 := by decide +kernel
theorem tyX6_ok : ∀ k, k < 3 → parseFieldDescriptor (TX6 k).2.2.1 = some (tyX6 k) := by decide +kernel
abbrev cX6_init : ByteArray := prog_2_method_1_code
def yX6_init : MethodName := ⟨RX6, "<init>", "(ILBinderPress$Term;)V"⟩
def dkwX6_init_0 : List UInt8 := [42, 183, 0, 3, 42, 27, 181, 0, 9, 42, 44, 181, 0, 15, 177]
abbrev dktX6_init_0 : List UInt8 := dkwX6_init_0 ++ []
theorem dksX6_init_0 : cX6_init.data.toList.drop 0 = dktX6_init_0 := by decide +kernel
theorem dX6_init_0 : decode cX6_init 0 = .ok (.aload_n 0, 1) := dk_42 (dk_at dksX6_init_0 0 rfl rfl)
theorem dX6_init_1 : decode cX6_init 1 = .ok (.invokespecial 3, 3) := dk_183 0 3 (dk_at dksX6_init_0 1 rfl rfl)
theorem dX6_init_4 : decode cX6_init 4 = .ok (.aload_n 0, 1) := dk_42 (dk_at dksX6_init_0 4 rfl rfl)
theorem dX6_init_5 : decode cX6_init 5 = .ok (.iload_n 1, 1) := dk_27 (dk_at dksX6_init_0 5 rfl rfl)
theorem dX6_init_6 : decode cX6_init 6 = .ok (.putfield 9, 3) := dk_181 0 9 (dk_at dksX6_init_0 6 rfl rfl)
theorem dX6_init_9 : decode cX6_init 9 = .ok (.aload_n 0, 1) := dk_42 (dk_at dksX6_init_0 9 rfl rfl)
theorem dX6_init_10 : decode cX6_init 10 = .ok (.aload_n 2, 1) := dk_44 (dk_at dksX6_init_0 10 rfl rfl)
theorem dX6_init_11 : decode cX6_init 11 = .ok (.putfield 15, 3) := dk_181 0 15 (dk_at dksX6_init_0 11 rfl rfl)
theorem dX6_init_14 : decode cX6_init 14 = .ok (.return_, 1) := dk_177 (dk_at dksX6_init_0 14 rfl rfl)
abbrev cX6_size : ByteArray := prog_2_method_2_code
def yX6_size : MethodName := ⟨RX6, "size", "()I"⟩
def dkwX6_size_0 : List UInt8 := [4, 42, 180, 0, 15, 182, 0, 19, 96, 172]
abbrev dktX6_size_0 : List UInt8 := dkwX6_size_0 ++ []
theorem dksX6_size_0 : cX6_size.data.toList.drop 0 = dktX6_size_0 := by decide +kernel
theorem dX6_size_0 : decode cX6_size 0 = .ok (.iconst 1, 1) := dk_4 (dk_at dksX6_size_0 0 rfl rfl)
theorem dX6_size_1 : decode cX6_size 1 = .ok (.aload_n 0, 1) := dk_42 (dk_at dksX6_size_0 1 rfl rfl)
theorem dX6_size_2 : decode cX6_size 2 = .ok (.getfield 15, 3) := dk_180 0 15 (dk_at dksX6_size_0 2 rfl rfl)
theorem dX6_size_5 : decode cX6_size 5 = .ok (.invokevirtual 19, 3) := dk_182 0 19 (dk_at dksX6_size_0 5 rfl rfl)
theorem dX6_size_8 : decode cX6_size 8 = .ok (.iadd, 1) := dk_96 (dk_at dksX6_size_0 8 rfl rfl)
theorem dX6_size_9 : decode cX6_size 9 = .ok (.ireturn, 1) := dk_172 (dk_at dksX6_size_0 9 rfl rfl)
abbrev cX6_free : ByteArray := prog_2_method_3_code
def yX6_free : MethodName := ⟨RX6, "free", "()I"⟩
def dkwX6_free_0 : List UInt8 := [42, 180, 0, 15, 182, 0, 23, 4, 42, 180, 0, 9, 16, 97, 100, 120, 2, 130, 126, 172]
abbrev dktX6_free_0 : List UInt8 := dkwX6_free_0 ++ []
theorem dksX6_free_0 : cX6_free.data.toList.drop 0 = dktX6_free_0 := by decide +kernel
theorem dX6_free_0 : decode cX6_free 0 = .ok (.aload_n 0, 1) := dk_42 (dk_at dksX6_free_0 0 rfl rfl)
theorem dX6_free_1 : decode cX6_free 1 = .ok (.getfield 15, 3) := dk_180 0 15 (dk_at dksX6_free_0 1 rfl rfl)
theorem dX6_free_4 : decode cX6_free 4 = .ok (.invokevirtual 23, 3) := dk_182 0 23 (dk_at dksX6_free_0 4 rfl rfl)
theorem dX6_free_7 : decode cX6_free 7 = .ok (.iconst 1, 1) := dk_4 (dk_at dksX6_free_0 7 rfl rfl)
theorem dX6_free_8 : decode cX6_free 8 = .ok (.aload_n 0, 1) := dk_42 (dk_at dksX6_free_0 8 rfl rfl)
theorem dX6_free_9 : decode cX6_free 9 = .ok (.getfield 9, 3) := dk_180 0 9 (dk_at dksX6_free_0 9 rfl rfl)
theorem dX6_free_12 : decode cX6_free 12 = .ok (.bipush 97, 2) := dk_16 97 (dk_at dksX6_free_0 12 rfl rfl)
theorem dX6_free_14 : decode cX6_free 14 = .ok (.isub, 1) := dk_100 (dk_at dksX6_free_0 14 rfl rfl)
theorem dX6_free_15 : decode cX6_free 15 = .ok (.ishl, 1) := dk_120 (dk_at dksX6_free_0 15 rfl rfl)
theorem dX6_free_16 : decode cX6_free 16 = .ok (.iconst (-1), 1) := dk_2 (dk_at dksX6_free_0 16 rfl rfl)
theorem dX6_free_17 : decode cX6_free 17 = .ok (.ixor, 1) := dk_130 (dk_at dksX6_free_0 17 rfl rfl)
theorem dX6_free_18 : decode cX6_free 18 = .ok (.iand, 1) := dk_126 (dk_at dksX6_free_0 18 rfl rfl)
theorem dX6_free_19 : decode cX6_free 19 = .ok (.ireturn, 1) := dk_172 (dk_at dksX6_free_0 19 rfl rfl)
abbrev cX6_compiled : ByteArray := prog_2_method_11_code
def yX6_compiled : MethodName := ⟨RX6, "compiled", "()LBinderPress$Term;"⟩
def dkwX6_compiled_1 : List UInt8 := [181, 0, 58, 42, 180, 0, 58, 176]
abbrev dktX6_compiled_1 : List UInt8 := dkwX6_compiled_1 ++ []
def dkwX6_compiled_0 : List UInt8 := [42, 180, 0, 58, 199, 0, 21, 42, 42, 180, 0, 15, 182, 0, 61, 42, 180, 0, 9, 182, 0, 54]
abbrev dktX6_compiled_0 : List UInt8 := dkwX6_compiled_0 ++ dktX6_compiled_1
theorem dksX6_compiled_0 : cX6_compiled.data.toList.drop 0 = dktX6_compiled_0 := by decide +kernel
theorem dksX6_compiled_1 : cX6_compiled.data.toList.drop 22 = dktX6_compiled_1 := dk_seg dksX6_compiled_0 22 rfl rfl
theorem dX6_compiled_0 : decode cX6_compiled 0 = .ok (.aload_n 0, 1) := dk_42 (dk_at dksX6_compiled_0 0 rfl rfl)
theorem dX6_compiled_1 : decode cX6_compiled 1 = .ok (.getfield 58, 3) := dk_180 0 58 (dk_at dksX6_compiled_0 1 rfl rfl)
theorem dX6_compiled_4 : decode cX6_compiled 4 = .ok (.ifnonnull 21, 3) := dk_199 0 21 (dk_at dksX6_compiled_0 4 rfl rfl)
theorem dX6_compiled_7 : decode cX6_compiled 7 = .ok (.aload_n 0, 1) := dk_42 (dk_at dksX6_compiled_0 7 rfl rfl)
theorem dX6_compiled_8 : decode cX6_compiled 8 = .ok (.aload_n 0, 1) := dk_42 (dk_at dksX6_compiled_0 8 rfl rfl)
theorem dX6_compiled_9 : decode cX6_compiled 9 = .ok (.getfield 15, 3) := dk_180 0 15 (dk_at dksX6_compiled_0 9 rfl rfl)
theorem dX6_compiled_12 : decode cX6_compiled 12 = .ok (.invokevirtual 61, 3) := dk_182 0 61 (dk_at dksX6_compiled_0 12 rfl rfl)
theorem dX6_compiled_15 : decode cX6_compiled 15 = .ok (.aload_n 0, 1) := dk_42 (dk_at dksX6_compiled_0 15 rfl rfl)
theorem dX6_compiled_16 : decode cX6_compiled 16 = .ok (.getfield 9, 3) := dk_180 0 9 (dk_at dksX6_compiled_0 16 rfl rfl)
theorem dX6_compiled_19 : decode cX6_compiled 19 = .ok (.invokevirtual 54, 3) := dk_182 0 54 (dk_at dksX6_compiled_0 19 rfl rfl)
theorem dX6_compiled_22 : decode cX6_compiled 22 = .ok (.putfield 58, 3) := dk_181 0 58 (dk_at dksX6_compiled_1 0 rfl rfl)
theorem dX6_compiled_25 : decode cX6_compiled 25 = .ok (.aload_n 0, 1) := dk_42 (dk_at dksX6_compiled_1 3 rfl rfl)
theorem dX6_compiled_26 : decode cX6_compiled 26 = .ok (.getfield 58, 3) := dk_180 0 58 (dk_at dksX6_compiled_1 4 rfl rfl)
theorem dX6_compiled_29 : decode cX6_compiled 29 = .ok (.areturn, 1) := dk_176 (dk_at dksX6_compiled_1 7 rfl rfl)
abbrev cX6_binders : ByteArray := prog_2_method_4_code
def yX6_binders : MethodName := ⟨RX6, "binders", "()I"⟩
def dkwX6_binders_0 : List UInt8 := [4, 42, 180, 0, 15, 182, 0, 26, 96, 172]
abbrev dktX6_binders_0 : List UInt8 := dkwX6_binders_0 ++ []
theorem dksX6_binders_0 : cX6_binders.data.toList.drop 0 = dktX6_binders_0 := by decide +kernel
theorem dX6_binders_0 : decode cX6_binders 0 = .ok (.iconst 1, 1) := dk_4 (dk_at dksX6_binders_0 0 rfl rfl)
theorem dX6_binders_1 : decode cX6_binders 1 = .ok (.aload_n 0, 1) := dk_42 (dk_at dksX6_binders_0 1 rfl rfl)
theorem dX6_binders_2 : decode cX6_binders 2 = .ok (.getfield 15, 3) := dk_180 0 15 (dk_at dksX6_binders_0 2 rfl rfl)
theorem dX6_binders_5 : decode cX6_binders 5 = .ok (.invokevirtual 26, 3) := dk_182 0 26 (dk_at dksX6_binders_0 5 rfl rfl)
theorem dX6_binders_8 : decode cX6_binders 8 = .ok (.iadd, 1) := dk_96 (dk_at dksX6_binders_0 8 rfl rfl)
theorem dX6_binders_9 : decode cX6_binders 9 = .ok (.ireturn, 1) := dk_172 (dk_at dksX6_binders_0 9 rfl rfl)
abbrev cX6_out : ByteArray := prog_2_method_10_code
def yX6_out : MethodName := ⟨RX6, "out", "(I)LBinderPress$Term;"⟩
def dkwX6_out_0 : List UInt8 := [42, 182, 0, 50, 27, 182, 0, 54, 176]
abbrev dktX6_out_0 : List UInt8 := dkwX6_out_0 ++ []
theorem dksX6_out_0 : cX6_out.data.toList.drop 0 = dktX6_out_0 := by decide +kernel
theorem dX6_out_0 : decode cX6_out 0 = .ok (.aload_n 0, 1) := dk_42 (dk_at dksX6_out_0 0 rfl rfl)
theorem dX6_out_1 : decode cX6_out 1 = .ok (.invokevirtual 50, 3) := dk_182 0 50 (dk_at dksX6_out_0 1 rfl rfl)
theorem dX6_out_4 : decode cX6_out 4 = .ok (.iload_n 1, 1) := dk_27 (dk_at dksX6_out_0 4 rfl rfl)
theorem dX6_out_5 : decode cX6_out 5 = .ok (.invokevirtual 54, 3) := dk_182 0 54 (dk_at dksX6_out_0 5 rfl rfl)
theorem dX6_out_8 : decode cX6_out 8 = .ok (.areturn, 1) := dk_176 (dk_at dksX6_out_0 8 rfl rfl)
abbrev cX6_putIn : ByteArray := prog_2_method_12_code
def yX6_putIn : MethodName := ⟨RX6, "putIn", "(ILBinderPress$Term;)LBinderPress$Term;"⟩
theorem dX6_putIn_0 : decode cX6_putIn 0 = .ok (.aload_n 0, 1) := by decide +kernel
theorem dX6_putIn_1 : decode cX6_putIn 1 = .ok (.areturn, 1) := by decide +kernel
abbrev cX6_count : ByteArray := prog_2_method_6_code
def yX6_count : MethodName := ⟨RX6, "count", "(I)I"⟩
def dkwX6_count_0 : List UInt8 := [42, 180, 0, 15, 27, 182, 0, 32, 172]
abbrev dktX6_count_0 : List UInt8 := dkwX6_count_0 ++ []
theorem dksX6_count_0 : cX6_count.data.toList.drop 0 = dktX6_count_0 := by decide +kernel
theorem dX6_count_0 : decode cX6_count 0 = .ok (.aload_n 0, 1) := dk_42 (dk_at dksX6_count_0 0 rfl rfl)
theorem dX6_count_1 : decode cX6_count 1 = .ok (.getfield 15, 3) := dk_180 0 15 (dk_at dksX6_count_0 1 rfl rfl)
theorem dX6_count_4 : decode cX6_count 4 = .ok (.iload_n 1, 1) := dk_27 (dk_at dksX6_count_0 4 rfl rfl)
theorem dX6_count_5 : decode cX6_count 5 = .ok (.invokevirtual 32, 3) := dk_182 0 32 (dk_at dksX6_count_0 5 rfl rfl)
theorem dX6_count_8 : decode cX6_count 8 = .ok (.ireturn, 1) := dk_172 (dk_at dksX6_count_0 8 rfl rfl)
abbrev cX6_write : ByteArray := prog_2_method_7_code
def yX6_write : MethodName := ⟨RX6, "write", "(Ljava/lang/StringBuilder;)V"⟩
def dkwX6_write_1 : List UInt8 := [43, 182, 0, 42, 177]
abbrev dktX6_write_1 : List UInt8 := dkwX6_write_1 ++ []
def dkwX6_write_0 : List UInt8 := [43, 16, 94, 182, 0, 36, 42, 180, 0, 9, 146, 182, 0, 36, 16, 46, 182, 0, 36, 87, 42, 180, 0, 15]
abbrev dktX6_write_0 : List UInt8 := dkwX6_write_0 ++ dktX6_write_1
theorem dksX6_write_0 : cX6_write.data.toList.drop 0 = dktX6_write_0 := by decide +kernel
theorem dksX6_write_1 : cX6_write.data.toList.drop 24 = dktX6_write_1 := dk_seg dksX6_write_0 24 rfl rfl
theorem dX6_write_0 : decode cX6_write 0 = .ok (.aload_n 1, 1) := dk_43 (dk_at dksX6_write_0 0 rfl rfl)
theorem dX6_write_1 : decode cX6_write 1 = .ok (.bipush 94, 2) := dk_16 94 (dk_at dksX6_write_0 1 rfl rfl)
theorem dX6_write_3 : decode cX6_write 3 = .ok (.invokevirtual 36, 3) := dk_182 0 36 (dk_at dksX6_write_0 3 rfl rfl)
theorem dX6_write_6 : decode cX6_write 6 = .ok (.aload_n 0, 1) := dk_42 (dk_at dksX6_write_0 6 rfl rfl)
theorem dX6_write_7 : decode cX6_write 7 = .ok (.getfield 9, 3) := dk_180 0 9 (dk_at dksX6_write_0 7 rfl rfl)
theorem dX6_write_10 : decode cX6_write 10 = .ok (.i2c, 1) := dk_146 (dk_at dksX6_write_0 10 rfl rfl)
theorem dX6_write_11 : decode cX6_write 11 = .ok (.invokevirtual 36, 3) := dk_182 0 36 (dk_at dksX6_write_0 11 rfl rfl)
theorem dX6_write_14 : decode cX6_write 14 = .ok (.bipush 46, 2) := dk_16 46 (dk_at dksX6_write_0 14 rfl rfl)
theorem dX6_write_16 : decode cX6_write 16 = .ok (.invokevirtual 36, 3) := dk_182 0 36 (dk_at dksX6_write_0 16 rfl rfl)
theorem dX6_write_19 : decode cX6_write 19 = .ok (.pop, 1) := dk_87 (dk_at dksX6_write_0 19 rfl rfl)
theorem dX6_write_20 : decode cX6_write 20 = .ok (.aload_n 0, 1) := dk_42 (dk_at dksX6_write_0 20 rfl rfl)
theorem dX6_write_21 : decode cX6_write 21 = .ok (.getfield 15, 3) := dk_180 0 15 (dk_at dksX6_write_0 21 rfl rfl)
theorem dX6_write_24 : decode cX6_write 24 = .ok (.aload_n 1, 1) := dk_43 (dk_at dksX6_write_1 0 rfl rfl)
theorem dX6_write_25 : decode cX6_write 25 = .ok (.invokevirtual 42, 3) := dk_182 0 42 (dk_at dksX6_write_1 1 rfl rfl)
theorem dX6_write_28 : decode cX6_write 28 = .ok (.return_, 1) := dk_177 (dk_at dksX6_write_1 4 rfl rfl)
abbrev cX6_isBinder : ByteArray := prog_2_method_9_code
def yX6_isBinder : MethodName := ⟨RX6, "isBinder", "()Z"⟩
def dkwX6_isBinder_0 : List UInt8 := [42, 183, 0, 46, 154, 0, 7, 4, 167, 0, 4, 3, 172]
abbrev dktX6_isBinder_0 : List UInt8 := dkwX6_isBinder_0 ++ []
theorem dksX6_isBinder_0 : cX6_isBinder.data.toList.drop 0 = dktX6_isBinder_0 := by decide +kernel
theorem dX6_isBinder_0 : decode cX6_isBinder 0 = .ok (.aload_n 0, 1) := dk_42 (dk_at dksX6_isBinder_0 0 rfl rfl)
theorem dX6_isBinder_1 : decode cX6_isBinder 1 = .ok (.invokespecial 46, 3) := dk_183 0 46 (dk_at dksX6_isBinder_0 1 rfl rfl)
theorem dX6_isBinder_4 : decode cX6_isBinder 4 = .ok (.ifCond .ne 7, 3) := dk_154 0 7 (dk_at dksX6_isBinder_0 4 rfl rfl)
theorem dX6_isBinder_7 : decode cX6_isBinder 7 = .ok (.iconst 1, 1) := dk_4 (dk_at dksX6_isBinder_0 7 rfl rfl)
theorem dX6_isBinder_8 : decode cX6_isBinder 8 = .ok (.goto 4, 3) := dk_167 0 4 (dk_at dksX6_isBinder_0 8 rfl rfl)
theorem dX6_isBinder_11 : decode cX6_isBinder 11 = .ok (.iconst 0, 1) := dk_3 (dk_at dksX6_isBinder_0 11 rfl rfl)
theorem dX6_isBinder_12 : decode cX6_isBinder 12 = .ok (.ireturn, 1) := dk_172 (dk_at dksX6_isBinder_0 12 rfl rfl)
abbrev cX6_isBracketed : ByteArray := prog_2_method_8_code
def yX6_isBracketed : MethodName := ⟨RX6, "isBracketed", "()Z"⟩
theorem dX6_isBracketed_0 : decode cX6_isBracketed 0 = .ok (.iconst 1, 1) := by decide +kernel
theorem dX6_isBracketed_1 : decode cX6_isBracketed 1 = .ok (.ireturn, 1) := by decide +kernel
abbrev cX6_deep : ByteArray := prog_2_method_5_code
def yX6_deep : MethodName := ⟨RX6, "deep", "()I"⟩
def dkwX6_deep_0 : List UInt8 := [4, 42, 180, 0, 15, 182, 0, 29, 96, 172]
abbrev dktX6_deep_0 : List UInt8 := dkwX6_deep_0 ++ []
theorem dksX6_deep_0 : cX6_deep.data.toList.drop 0 = dktX6_deep_0 := by decide +kernel
theorem dX6_deep_0 : decode cX6_deep 0 = .ok (.iconst 1, 1) := dk_4 (dk_at dksX6_deep_0 0 rfl rfl)
theorem dX6_deep_1 : decode cX6_deep 1 = .ok (.aload_n 0, 1) := dk_42 (dk_at dksX6_deep_0 1 rfl rfl)
theorem dX6_deep_2 : decode cX6_deep 2 = .ok (.getfield 15, 3) := dk_180 0 15 (dk_at dksX6_deep_0 2 rfl rfl)
theorem dX6_deep_5 : decode cX6_deep 5 = .ok (.invokevirtual 29, 3) := dk_182 0 29 (dk_at dksX6_deep_0 5 rfl rfl)
theorem dX6_deep_8 : decode cX6_deep 8 = .ok (.iadd, 1) := dk_96 (dk_at dksX6_deep_0 8 rfl rfl)
theorem dX6_deep_9 : decode cX6_deep 9 = .ok (.ireturn, 1) := dk_172 (dk_at dksX6_deep_0 9 rfl rfl)
abbrev cX6_isSame : ByteArray := prog_2_method_13_code
def yX6_isSame : MethodName := ⟨RX6, "isSame", "(LBinderPress$Term;)Z"⟩
def dkwX6_isSame_1 : List UInt8 := [180, 0, 15, 44, 180, 0, 15, 182, 0, 62, 153, 0, 7, 4, 167, 0, 4, 3, 172]
abbrev dktX6_isSame_1 : List UInt8 := dkwX6_isSame_1 ++ []
def dkwX6_isSame_0 : List UInt8 := [43, 193, 0, 10, 153, 0, 37, 43, 192, 0, 10, 77, 44, 180, 0, 9, 42, 180, 0, 9, 160, 0, 21, 42]
abbrev dktX6_isSame_0 : List UInt8 := dkwX6_isSame_0 ++ dktX6_isSame_1
theorem dksX6_isSame_0 : cX6_isSame.data.toList.drop 0 = dktX6_isSame_0 := by decide +kernel
theorem dksX6_isSame_1 : cX6_isSame.data.toList.drop 24 = dktX6_isSame_1 := dk_seg dksX6_isSame_0 24 rfl rfl
theorem dX6_isSame_0 : decode cX6_isSame 0 = .ok (.aload_n 1, 1) := dk_43 (dk_at dksX6_isSame_0 0 rfl rfl)
theorem dX6_isSame_1 : decode cX6_isSame 1 = .ok (.instanceof 10, 3) := dk_193 0 10 (dk_at dksX6_isSame_0 1 rfl rfl)
theorem dX6_isSame_4 : decode cX6_isSame 4 = .ok (.ifCond .eq 37, 3) := dk_153 0 37 (dk_at dksX6_isSame_0 4 rfl rfl)
theorem dX6_isSame_7 : decode cX6_isSame 7 = .ok (.aload_n 1, 1) := dk_43 (dk_at dksX6_isSame_0 7 rfl rfl)
theorem dX6_isSame_8 : decode cX6_isSame 8 = .ok (.checkcast 10, 3) := dk_192 0 10 (dk_at dksX6_isSame_0 8 rfl rfl)
theorem dX6_isSame_11 : decode cX6_isSame 11 = .ok (.astore_n 2, 1) := dk_77 (dk_at dksX6_isSame_0 11 rfl rfl)
theorem dX6_isSame_12 : decode cX6_isSame 12 = .ok (.aload_n 2, 1) := dk_44 (dk_at dksX6_isSame_0 12 rfl rfl)
theorem dX6_isSame_13 : decode cX6_isSame 13 = .ok (.getfield 9, 3) := dk_180 0 9 (dk_at dksX6_isSame_0 13 rfl rfl)
theorem dX6_isSame_16 : decode cX6_isSame 16 = .ok (.aload_n 0, 1) := dk_42 (dk_at dksX6_isSame_0 16 rfl rfl)
theorem dX6_isSame_17 : decode cX6_isSame 17 = .ok (.getfield 9, 3) := dk_180 0 9 (dk_at dksX6_isSame_0 17 rfl rfl)
theorem dX6_isSame_20 : decode cX6_isSame 20 = .ok (.if_icmp .ne 21, 3) := dk_160 0 21 (dk_at dksX6_isSame_0 20 rfl rfl)
theorem dX6_isSame_23 : decode cX6_isSame 23 = .ok (.aload_n 0, 1) := dk_42 (dk_at dksX6_isSame_0 23 rfl rfl)
theorem dX6_isSame_24 : decode cX6_isSame 24 = .ok (.getfield 15, 3) := dk_180 0 15 (dk_at dksX6_isSame_1 0 rfl rfl)
theorem dX6_isSame_27 : decode cX6_isSame 27 = .ok (.aload_n 2, 1) := dk_44 (dk_at dksX6_isSame_1 3 rfl rfl)
theorem dX6_isSame_28 : decode cX6_isSame 28 = .ok (.getfield 15, 3) := dk_180 0 15 (dk_at dksX6_isSame_1 4 rfl rfl)
theorem dX6_isSame_31 : decode cX6_isSame 31 = .ok (.invokevirtual 62, 3) := dk_182 0 62 (dk_at dksX6_isSame_1 7 rfl rfl)
theorem dX6_isSame_34 : decode cX6_isSame 34 = .ok (.ifCond .eq 7, 3) := dk_153 0 7 (dk_at dksX6_isSame_1 10 rfl rfl)
theorem dX6_isSame_37 : decode cX6_isSame 37 = .ok (.iconst 1, 1) := dk_4 (dk_at dksX6_isSame_1 13 rfl rfl)
theorem dX6_isSame_38 : decode cX6_isSame 38 = .ok (.goto 4, 3) := dk_167 0 4 (dk_at dksX6_isSame_1 14 rfl rfl)
theorem dX6_isSame_41 : decode cX6_isSame 41 = .ok (.iconst 0, 1) := dk_3 (dk_at dksX6_isSame_1 17 rfl rfl)
theorem dX6_isSame_42 : decode cX6_isSame 42 = .ok (.ireturn, 1) := dk_172 (dk_at dksX6_isSame_1 18 rfl rfl)
theorem q93 : (Jvm.Cond.initialized "BinderPress$Binder") ∈ lw_all := lw_g (lw_at lw_m1 10 rfl) rfl
theorem q367 : (Jvm.Cond.instantiable "BinderPress$Binder" (3 : Nat)) ∈ lw_all := lw_g (lw_at lw_m2 44 rfl) rfl
theorem q369 : (Jvm.Cond.instanceMethod ({ cls := "BinderPress$Binder", name := "<init>", desc := "(ILBinderPress$Term;)V" } : Jvm.MethodName)) ∈ lw_all := lw_g (lw_at lw_m2 46 rfl) rfl
theorem q370 : (Jvm.Cond.code ({ cls := "BinderPress$Binder", name := "<init>", desc := "(ILBinderPress$Term;)V" } : Jvm.MethodName) prog_2_method_1_code (3 : Nat) (Option.none : Option Jvm.ClassFile.FieldType)) ∈ lw_all := lw_g (lw_at lw_m2 47 rfl) rfl
theorem q371 : (Jvm.Cond.methodLinkNest "BinderPress$Binder" (3 : Nat) ({ cls := "BinderPress$Term", name := "<init>", desc := "()V" } : Jvm.MethodName) "BinderPress") ∈ lw_tbl := lw_at lw_m2 48 rfl
theorem q375 : (Jvm.Cond.fieldLink "BinderPress$Binder" (9 : Nat) "BinderPress$Binder" "letter" "I") ∈ lw_all := lw_g (lw_at lw_m2 52 rfl) rfl
theorem q377 : (Jvm.Cond.fieldLink "BinderPress$Binder" (15 : Nat) "BinderPress$Binder" "body" "LBinderPress$Term;") ∈ lw_all := lw_g (lw_at lw_m2 54 rfl) rfl
theorem q379 : (Jvm.Cond.fieldLink "BinderPress$Binder" (58 : Nat) "BinderPress$Binder" "done" "LBinderPress$Term;") ∈ lw_all := lw_g (lw_at lw_m2 56 rfl) rfl
theorem q380 : (Jvm.Cond.laysFinal "BinderPress$Binder" "BinderPress$Binder" "letter" "I") ∈ lw_all := lw_g (lw_at lw_m2 57 rfl) rfl
theorem q381 : (Jvm.Cond.soleField "BinderPress$Binder" "letter") ∈ lw_all := lw_g (lw_at lw_m2 58 rfl) rfl
theorem q382 : (Jvm.Cond.laysFinal "BinderPress$Binder" "BinderPress$Binder" "body" "LBinderPress$Term;") ∈ lw_all := lw_g (lw_at lw_m2 59 rfl) rfl
theorem q383 : (Jvm.Cond.soleField "BinderPress$Binder" "body") ∈ lw_all := lw_g (lw_at lw_m2 60 rfl) rfl
theorem q384 : (Jvm.Cond.lays "BinderPress$Binder" "BinderPress$Binder" "done" "LBinderPress$Term;") ∈ lw_all := lw_g (lw_at lw_m2 61 rfl) rfl
theorem q385 : (Jvm.Cond.soleField "BinderPress$Binder" "done") ∈ lw_all := lw_g (lw_at lw_m2 62 rfl) rfl
theorem q386 : (Jvm.Cond.superclass "BinderPress$Binder" "BinderPress$Term") ∈ lw_all := lw_g (lw_at lw_m2 63 rfl) rfl
theorem q428 : (Jvm.Cond.selects "BinderPress$Binder" ({ cls := "BinderPress$Sized", name := "size", desc := "()I" } : Jvm.MethodName) ({ cls := "BinderPress$Binder", name := "size", desc := "()I" } : Jvm.MethodName)) ∈ lw_all := lw_g (lw_at lw_m2 105 rfl) rfl
theorem q429 : (Jvm.Cond.instanceMethod ({ cls := "BinderPress$Binder", name := "size", desc := "()I" } : Jvm.MethodName)) ∈ lw_all := lw_g (lw_at lw_m2 106 rfl) rfl
theorem q430 : (Jvm.Cond.code ({ cls := "BinderPress$Binder", name := "size", desc := "()I" } : Jvm.MethodName) prog_2_method_2_code (1 : Nat) (Option.some Jvm.ClassFile.FieldType.int)) ∈ lw_all := lw_g (lw_at lw_m2 107 rfl) rfl
theorem q446 : (Jvm.Cond.selects "BinderPress$Binder" ({ cls := "BinderPress$Term", name := "free", desc := "()I" } : Jvm.MethodName) ({ cls := "BinderPress$Binder", name := "free", desc := "()I" } : Jvm.MethodName)) ∈ lw_all := lw_g (lw_at lw_m2 123 rfl) rfl
theorem q447 : (Jvm.Cond.instanceMethod ({ cls := "BinderPress$Binder", name := "free", desc := "()I" } : Jvm.MethodName)) ∈ lw_all := lw_g (lw_at lw_m2 124 rfl) rfl
theorem q448 : (Jvm.Cond.code ({ cls := "BinderPress$Binder", name := "free", desc := "()I" } : Jvm.MethodName) prog_2_method_3_code (1 : Nat) (Option.some Jvm.ClassFile.FieldType.int)) ∈ lw_all := lw_g (lw_at lw_m2 125 rfl) rfl
theorem q449 : (Jvm.Cond.methodLink "BinderPress$Binder" (23 : Nat) ({ cls := "BinderPress$Term", name := "free", desc := "()I" } : Jvm.MethodName)) ∈ lw_all := lw_g (lw_at lw_m2 126 rfl) rfl
theorem q498 : (Jvm.Cond.selects "BinderPress$Binder" ({ cls := "BinderPress$Term", name := "compiled", desc := "()LBinderPress$Term;" } : Jvm.MethodName) ({ cls := "BinderPress$Binder", name := "compiled", desc := "()LBinderPress$Term;" } : Jvm.MethodName)) ∈ lw_all := lw_g (lw_at lw_m2 175 rfl) rfl
theorem q499 : (Jvm.Cond.instanceMethod ({ cls := "BinderPress$Binder", name := "compiled", desc := "()LBinderPress$Term;" } : Jvm.MethodName)) ∈ lw_all := lw_g (lw_at lw_m2 176 rfl) rfl
theorem q500 : (Jvm.Cond.code ({ cls := "BinderPress$Binder", name := "compiled", desc := "()LBinderPress$Term;" } : Jvm.MethodName) prog_2_method_11_code (1 : Nat) (Option.some (Jvm.ClassFile.FieldType.object "BinderPress$Term"))) ∈ lw_all := lw_g (lw_at lw_m2 177 rfl) rfl
theorem q501 : (Jvm.Cond.methodLink "BinderPress$Binder" (61 : Nat) ({ cls := "BinderPress$Term", name := "compiled", desc := "()LBinderPress$Term;" } : Jvm.MethodName)) ∈ lw_all := lw_g (lw_at lw_m2 178 rfl) rfl
theorem q513 : (Jvm.Cond.selects "BinderPress$Binder" ({ cls := "BinderPress$Term", name := "binders", desc := "()I" } : Jvm.MethodName) ({ cls := "BinderPress$Binder", name := "binders", desc := "()I" } : Jvm.MethodName)) ∈ lw_all := lw_g (lw_at lw_m2 190 rfl) rfl
theorem q514 : (Jvm.Cond.instanceMethod ({ cls := "BinderPress$Binder", name := "binders", desc := "()I" } : Jvm.MethodName)) ∈ lw_all := lw_g (lw_at lw_m2 191 rfl) rfl
theorem q515 : (Jvm.Cond.code ({ cls := "BinderPress$Binder", name := "binders", desc := "()I" } : Jvm.MethodName) prog_2_method_4_code (1 : Nat) (Option.some Jvm.ClassFile.FieldType.int)) ∈ lw_all := lw_g (lw_at lw_m2 192 rfl) rfl
theorem q516 : (Jvm.Cond.methodLink "BinderPress$Binder" (26 : Nat) ({ cls := "BinderPress$Term", name := "binders", desc := "()I" } : Jvm.MethodName)) ∈ lw_all := lw_g (lw_at lw_m2 193 rfl) rfl
theorem q529 : (Jvm.Cond.methodLink "BinderPress$Binder" (54 : Nat) ({ cls := "BinderPress$Term", name := "out", desc := "(I)LBinderPress$Term;" } : Jvm.MethodName)) ∈ lw_all := lw_g (lw_at lw_m2 206 rfl) rfl
theorem q532 : (Jvm.Cond.selects "BinderPress$Binder" ({ cls := "BinderPress$Term", name := "out", desc := "(I)LBinderPress$Term;" } : Jvm.MethodName) ({ cls := "BinderPress$Binder", name := "out", desc := "(I)LBinderPress$Term;" } : Jvm.MethodName)) ∈ lw_all := lw_g (lw_at lw_m2 209 rfl) rfl
theorem q533 : (Jvm.Cond.instanceMethod ({ cls := "BinderPress$Binder", name := "out", desc := "(I)LBinderPress$Term;" } : Jvm.MethodName)) ∈ lw_all := lw_g (lw_at lw_m2 210 rfl) rfl
theorem q534 : (Jvm.Cond.code ({ cls := "BinderPress$Binder", name := "out", desc := "(I)LBinderPress$Term;" } : Jvm.MethodName) prog_2_method_10_code (2 : Nat) (Option.some (Jvm.ClassFile.FieldType.object "BinderPress$Term"))) ∈ lw_all := lw_g (lw_at lw_m2 211 rfl) rfl
theorem q535 : (Jvm.Cond.methodLink "BinderPress$Binder" (50 : Nat) ({ cls := "BinderPress$Binder", name := "compiled", desc := "()LBinderPress$Term;" } : Jvm.MethodName)) ∈ lw_all := lw_g (lw_at lw_m2 212 rfl) rfl
theorem q575 : (Jvm.Cond.unhidden "BinderPress$Binder" "isSmall" "()Z") ∈ lw_tbl := lw_at lw_m3 12 rfl
theorem q585 : (Jvm.Cond.castable "BinderPress$Binder" "BinderPress$Sized") ∈ lw_tbl := lw_at lw_m3 22 rfl
theorem q586 : (Jvm.Cond.unhidden "BinderPress$Binder" "size" "()I") ∈ lw_tbl := lw_at lw_m3 23 rfl
theorem q587 : (Jvm.Cond.publicMethod ({ cls := "BinderPress$Binder", name := "size", desc := "()I" } : Jvm.MethodName)) ∈ lw_tbl := lw_at lw_m3 24 rfl
theorem q622 : (Jvm.Cond.selects "BinderPress$Binder" ({ cls := "BinderPress$Term", name := "putIn", desc := "(ILBinderPress$Term;)LBinderPress$Term;" } : Jvm.MethodName) ({ cls := "BinderPress$Binder", name := "putIn", desc := "(ILBinderPress$Term;)LBinderPress$Term;" } : Jvm.MethodName)) ∈ lw_all := lw_g (lw_at lw_m3 59 rfl) rfl
theorem q623 : (Jvm.Cond.instanceMethod ({ cls := "BinderPress$Binder", name := "putIn", desc := "(ILBinderPress$Term;)LBinderPress$Term;" } : Jvm.MethodName)) ∈ lw_all := lw_g (lw_at lw_m3 60 rfl) rfl
theorem q624 : (Jvm.Cond.code ({ cls := "BinderPress$Binder", name := "putIn", desc := "(ILBinderPress$Term;)LBinderPress$Term;" } : Jvm.MethodName) prog_2_method_12_code (3 : Nat) (Option.some (Jvm.ClassFile.FieldType.object "BinderPress$Term"))) ∈ lw_all := lw_g (lw_at lw_m3 61 rfl) rfl
theorem q854 : (Jvm.Cond.selects "BinderPress$Binder" ({ cls := "BinderPress$Term", name := "count", desc := "(I)I" } : Jvm.MethodName) ({ cls := "BinderPress$Binder", name := "count", desc := "(I)I" } : Jvm.MethodName)) ∈ lw_all := lw_g (lw_at lw_m4 51 rfl) rfl
theorem q855 : (Jvm.Cond.instanceMethod ({ cls := "BinderPress$Binder", name := "count", desc := "(I)I" } : Jvm.MethodName)) ∈ lw_all := lw_g (lw_at lw_m4 52 rfl) rfl
theorem q856 : (Jvm.Cond.code ({ cls := "BinderPress$Binder", name := "count", desc := "(I)I" } : Jvm.MethodName) prog_2_method_6_code (2 : Nat) (Option.some Jvm.ClassFile.FieldType.int)) ∈ lw_all := lw_g (lw_at lw_m4 53 rfl) rfl
theorem q857 : (Jvm.Cond.methodLink "BinderPress$Binder" (32 : Nat) ({ cls := "BinderPress$Term", name := "count", desc := "(I)I" } : Jvm.MethodName)) ∈ lw_all := lw_g (lw_at lw_m4 54 rfl) rfl
theorem q906 : (Jvm.Cond.selects "BinderPress$Binder" ({ cls := "BinderPress$Term", name := "write", desc := "(Ljava/lang/StringBuilder;)V" } : Jvm.MethodName) ({ cls := "BinderPress$Binder", name := "write", desc := "(Ljava/lang/StringBuilder;)V" } : Jvm.MethodName)) ∈ lw_all := lw_g (lw_at lw_m4 103 rfl) rfl
theorem q907 : (Jvm.Cond.instanceMethod ({ cls := "BinderPress$Binder", name := "write", desc := "(Ljava/lang/StringBuilder;)V" } : Jvm.MethodName)) ∈ lw_all := lw_g (lw_at lw_m4 104 rfl) rfl
theorem q908 : (Jvm.Cond.code ({ cls := "BinderPress$Binder", name := "write", desc := "(Ljava/lang/StringBuilder;)V" } : Jvm.MethodName) prog_2_method_7_code (2 : Nat) (Option.none : Option Jvm.ClassFile.FieldType)) ∈ lw_all := lw_g (lw_at lw_m4 105 rfl) rfl
theorem q909 : (Jvm.Cond.methodLink "BinderPress$Binder" (36 : Nat) ({ cls := "java/lang/StringBuilder", name := "append", desc := "(C)Ljava/lang/StringBuilder;" } : Jvm.MethodName)) ∈ lw_all := lw_g (lw_at lw_m4 106 rfl) rfl
theorem q980 : (Jvm.Cond.methodLink "BinderPress$Binder" (42 : Nat) ({ cls := "BinderPress$Term", name := "write", desc := "(Ljava/lang/StringBuilder;)V" } : Jvm.MethodName)) ∈ lw_all := lw_g (lw_at lw_m4 177 rfl) rfl
theorem q989 : (Jvm.Cond.selects "BinderPress$Binder" ({ cls := "BinderPress$Term", name := "isBinder", desc := "()Z" } : Jvm.MethodName) ({ cls := "BinderPress$Binder", name := "isBinder", desc := "()Z" } : Jvm.MethodName)) ∈ lw_all := lw_g (lw_at lw_m4 186 rfl) rfl
theorem q990 : (Jvm.Cond.instanceMethod ({ cls := "BinderPress$Binder", name := "isBinder", desc := "()Z" } : Jvm.MethodName)) ∈ lw_all := lw_g (lw_at lw_m4 187 rfl) rfl
theorem q991 : (Jvm.Cond.code ({ cls := "BinderPress$Binder", name := "isBinder", desc := "()Z" } : Jvm.MethodName) prog_2_method_9_code (1 : Nat) (Option.some Jvm.ClassFile.FieldType.boolean)) ∈ lw_all := lw_g (lw_at lw_m4 188 rfl) rfl
theorem q992 : (Jvm.Cond.methodLink "BinderPress$Binder" (46 : Nat) ({ cls := "BinderPress$Term", name := "isBinder", desc := "()Z" } : Jvm.MethodName)) ∈ lw_all := lw_g (lw_at lw_m4 189 rfl) rfl
theorem q1049 : (Jvm.Cond.selects "BinderPress$Binder" ({ cls := "BinderPress$Term", name := "isBracketed", desc := "()Z" } : Jvm.MethodName) ({ cls := "BinderPress$Binder", name := "isBracketed", desc := "()Z" } : Jvm.MethodName)) ∈ lw_all := lw_g (lw_at lw_m5 6 rfl) rfl
theorem q1050 : (Jvm.Cond.instanceMethod ({ cls := "BinderPress$Binder", name := "isBracketed", desc := "()Z" } : Jvm.MethodName)) ∈ lw_all := lw_g (lw_at lw_m5 7 rfl) rfl
theorem q1051 : (Jvm.Cond.code ({ cls := "BinderPress$Binder", name := "isBracketed", desc := "()Z" } : Jvm.MethodName) prog_2_method_8_code (1 : Nat) (Option.some Jvm.ClassFile.FieldType.boolean)) ∈ lw_all := lw_g (lw_at lw_m5 8 rfl) rfl
theorem q1123 : (Jvm.Cond.selects "BinderPress$Binder" ({ cls := "BinderPress$Term", name := "deep", desc := "()I" } : Jvm.MethodName) ({ cls := "BinderPress$Binder", name := "deep", desc := "()I" } : Jvm.MethodName)) ∈ lw_all := lw_g (lw_at lw_m5 80 rfl) rfl
theorem q1124 : (Jvm.Cond.instanceMethod ({ cls := "BinderPress$Binder", name := "deep", desc := "()I" } : Jvm.MethodName)) ∈ lw_all := lw_g (lw_at lw_m5 81 rfl) rfl
theorem q1125 : (Jvm.Cond.code ({ cls := "BinderPress$Binder", name := "deep", desc := "()I" } : Jvm.MethodName) prog_2_method_5_code (1 : Nat) (Option.some Jvm.ClassFile.FieldType.int)) ∈ lw_all := lw_g (lw_at lw_m5 82 rfl) rfl
theorem q1126 : (Jvm.Cond.methodLink "BinderPress$Binder" (29 : Nat) ({ cls := "BinderPress$Term", name := "deep", desc := "()I" } : Jvm.MethodName)) ∈ lw_all := lw_g (lw_at lw_m5 83 rfl) rfl
theorem q1334 : (Jvm.Cond.selects "BinderPress$Binder" ({ cls := "BinderPress$Term", name := "isSame", desc := "(LBinderPress$Term;)Z" } : Jvm.MethodName) ({ cls := "BinderPress$Binder", name := "isSame", desc := "(LBinderPress$Term;)Z" } : Jvm.MethodName)) ∈ lw_all := lw_g (lw_at lw_m6 51 rfl) rfl
theorem q1335 : (Jvm.Cond.instanceMethod ({ cls := "BinderPress$Binder", name := "isSame", desc := "(LBinderPress$Term;)Z" } : Jvm.MethodName)) ∈ lw_all := lw_g (lw_at lw_m6 52 rfl) rfl
theorem q1336 : (Jvm.Cond.code ({ cls := "BinderPress$Binder", name := "isSame", desc := "(LBinderPress$Term;)Z" } : Jvm.MethodName) prog_2_method_13_code (3 : Nat) (Option.some Jvm.ClassFile.FieldType.boolean)) ∈ lw_all := lw_g (lw_at lw_m6 53 rfl) rfl
theorem q1337 : (Jvm.Cond.classLink "BinderPress$Binder" (10 : Nat) "BinderPress$Binder") ∈ lw_all := lw_g (lw_at lw_m6 54 rfl) rfl
theorem q1338 : (Jvm.Cond.methodLink "BinderPress$Binder" (62 : Nat) ({ cls := "BinderPress$Term", name := "isSame", desc := "(LBinderPress$Term;)Z" } : Jvm.MethodName)) ∈ lw_all := lw_g (lw_at lw_m6 55 rfl) rfl
theorem q1805 : (Jvm.Cond.selects "BinderPress$Binder" ({ cls := "BinderPress$Binder", name := "compiled", desc := "()LBinderPress$Term;" } : Jvm.MethodName) ({ cls := "BinderPress$Binder", name := "compiled", desc := "()LBinderPress$Term;" } : Jvm.MethodName)) ∈ lw_all := lw_g (lw_at lw_m8 42 rfl) rfl
theorem q1807 : (Jvm.Cond.selects "BinderPress$Binder" ({ cls := "BinderPress$Term", name := "hasFree", desc := "(I)Z" } : Jvm.MethodName) ({ cls := "BinderPress$Term", name := "hasFree", desc := "(I)Z" } : Jvm.MethodName)) ∈ lw_all := lw_g (lw_at lw_m8 44 rfl) rfl
theorem q1822 : (Jvm.Cond.castable "BinderPress$Binder" "BinderPress$Term") ∈ lw_tbl := lw_at lw_m8 59 rfl
theorem in_X6 : ∀ w ∈ wsX60, w ∈ lw_all := lw_in wsX60 [380, 382, 384] (by decide +kernel) (by decide +kernel)
/-! BinderPress$Name -/
set_option maxRecDepth 100000
def RX7 : String := "BinderPress$Name"
def TX7 : u_T := fun k => match k with
  | _ => ("BinderPress$Name", "letter", "I", true)
def tyX7 : Nat → FieldType := fun k => match k with
  | _ => .int
abbrev wsX70 : List Cond := u_ws RX7 TX7 1
theorem nmX7 : ∀ a, a < 1 → ∀ b, b < 1 → a ≠ b → (TX7 a).2.1 ≠ (TX7 b).2.1 := by decide +kernel
theorem tyX7_ok : ∀ k, k < 1 → parseFieldDescriptor (TX7 k).2.2.1 = some (tyX7 k) := by decide +kernel
abbrev cX7_init : ByteArray := prog_6_method_1_code
def yX7_init : MethodName := ⟨RX7, "<init>", "(I)V"⟩
def dkwX7_init_0 : List UInt8 := [42, 183, 0, 3, 42, 27, 181, 0, 9, 177]
abbrev dktX7_init_0 : List UInt8 := dkwX7_init_0 ++ []
theorem dksX7_init_0 : cX7_init.data.toList.drop 0 = dktX7_init_0 := by decide +kernel
theorem dX7_init_0 : decode cX7_init 0 = .ok (.aload_n 0, 1) := dk_42 (dk_at dksX7_init_0 0 rfl rfl)
theorem dX7_init_1 : decode cX7_init 1 = .ok (.invokespecial 3, 3) := dk_183 0 3 (dk_at dksX7_init_0 1 rfl rfl)
theorem dX7_init_4 : decode cX7_init 4 = .ok (.aload_n 0, 1) := dk_42 (dk_at dksX7_init_0 4 rfl rfl)
theorem dX7_init_5 : decode cX7_init 5 = .ok (.iload_n 1, 1) := dk_27 (dk_at dksX7_init_0 5 rfl rfl)
theorem dX7_init_6 : decode cX7_init 6 = .ok (.putfield 9, 3) := dk_181 0 9 (dk_at dksX7_init_0 6 rfl rfl)
theorem dX7_init_9 : decode cX7_init 9 = .ok (.return_, 1) := dk_177 (dk_at dksX7_init_0 9 rfl rfl)
abbrev cX7_size : ByteArray := prog_6_method_2_code
def yX7_size : MethodName := ⟨RX7, "size", "()I"⟩
theorem dX7_size_0 : decode cX7_size 0 = .ok (.iconst 1, 1) := by decide +kernel
theorem dX7_size_1 : decode cX7_size 1 = .ok (.ireturn, 1) := by decide +kernel
abbrev cX7_free : ByteArray := prog_6_method_3_code
def yX7_free : MethodName := ⟨RX7, "free", "()I"⟩
def dkwX7_free_0 : List UInt8 := [4, 42, 180, 0, 9, 16, 97, 100, 120, 172]
abbrev dktX7_free_0 : List UInt8 := dkwX7_free_0 ++ []
theorem dksX7_free_0 : cX7_free.data.toList.drop 0 = dktX7_free_0 := by decide +kernel
theorem dX7_free_0 : decode cX7_free 0 = .ok (.iconst 1, 1) := dk_4 (dk_at dksX7_free_0 0 rfl rfl)
theorem dX7_free_1 : decode cX7_free 1 = .ok (.aload_n 0, 1) := dk_42 (dk_at dksX7_free_0 1 rfl rfl)
theorem dX7_free_2 : decode cX7_free 2 = .ok (.getfield 9, 3) := dk_180 0 9 (dk_at dksX7_free_0 2 rfl rfl)
theorem dX7_free_5 : decode cX7_free 5 = .ok (.bipush 97, 2) := dk_16 97 (dk_at dksX7_free_0 5 rfl rfl)
theorem dX7_free_7 : decode cX7_free 7 = .ok (.isub, 1) := dk_100 (dk_at dksX7_free_0 7 rfl rfl)
theorem dX7_free_8 : decode cX7_free 8 = .ok (.ishl, 1) := dk_120 (dk_at dksX7_free_0 8 rfl rfl)
theorem dX7_free_9 : decode cX7_free 9 = .ok (.ireturn, 1) := dk_172 (dk_at dksX7_free_0 9 rfl rfl)
abbrev cX7_compiled : ByteArray := prog_6_method_9_code
def yX7_compiled : MethodName := ⟨RX7, "compiled", "()LBinderPress$Term;"⟩
theorem dX7_compiled_0 : decode cX7_compiled 0 = .ok (.aload_n 0, 1) := by decide +kernel
theorem dX7_compiled_1 : decode cX7_compiled 1 = .ok (.areturn, 1) := by decide +kernel
abbrev cX7_binders : ByteArray := prog_6_method_4_code
def yX7_binders : MethodName := ⟨RX7, "binders", "()I"⟩
theorem dX7_binders_0 : decode cX7_binders 0 = .ok (.iconst 0, 1) := by decide +kernel
theorem dX7_binders_1 : decode cX7_binders 1 = .ok (.ireturn, 1) := by decide +kernel
abbrev cX7_out : ByteArray := prog_6_method_8_code
def yX7_out : MethodName := ⟨RX7, "out", "(I)LBinderPress$Term;"⟩
def dkwX7_out_1 : List UInt8 := [184, 0, 21, 42, 183, 0, 27, 176]
abbrev dktX7_out_1 : List UInt8 := dkwX7_out_1 ++ []
def dkwX7_out_0 : List UInt8 := [27, 42, 180, 0, 9, 160, 0, 11, 16, 73, 184, 0, 21, 167, 0, 16, 187, 0, 25, 89, 16, 75]
abbrev dktX7_out_0 : List UInt8 := dkwX7_out_0 ++ dktX7_out_1
theorem dksX7_out_0 : cX7_out.data.toList.drop 0 = dktX7_out_0 := by decide +kernel
theorem dksX7_out_1 : cX7_out.data.toList.drop 22 = dktX7_out_1 := dk_seg dksX7_out_0 22 rfl rfl
theorem dX7_out_0 : decode cX7_out 0 = .ok (.iload_n 1, 1) := dk_27 (dk_at dksX7_out_0 0 rfl rfl)
theorem dX7_out_1 : decode cX7_out 1 = .ok (.aload_n 0, 1) := dk_42 (dk_at dksX7_out_0 1 rfl rfl)
theorem dX7_out_2 : decode cX7_out 2 = .ok (.getfield 9, 3) := dk_180 0 9 (dk_at dksX7_out_0 2 rfl rfl)
theorem dX7_out_5 : decode cX7_out 5 = .ok (.if_icmp .ne 11, 3) := dk_160 0 11 (dk_at dksX7_out_0 5 rfl rfl)
theorem dX7_out_8 : decode cX7_out 8 = .ok (.bipush 73, 2) := dk_16 73 (dk_at dksX7_out_0 8 rfl rfl)
theorem dX7_out_10 : decode cX7_out 10 = .ok (.invokestatic 21, 3) := dk_184 0 21 (dk_at dksX7_out_0 10 rfl rfl)
theorem dX7_out_13 : decode cX7_out 13 = .ok (.goto 16, 3) := dk_167 0 16 (dk_at dksX7_out_0 13 rfl rfl)
theorem dX7_out_16 : decode cX7_out 16 = .ok (.new 25, 3) := dk_187 0 25 (dk_at dksX7_out_0 16 rfl rfl)
theorem dX7_out_19 : decode cX7_out 19 = .ok (.dup, 1) := dk_89 (dk_at dksX7_out_0 19 rfl rfl)
theorem dX7_out_20 : decode cX7_out 20 = .ok (.bipush 75, 2) := dk_16 75 (dk_at dksX7_out_0 20 rfl rfl)
theorem dX7_out_22 : decode cX7_out 22 = .ok (.invokestatic 21, 3) := dk_184 0 21 (dk_at dksX7_out_1 0 rfl rfl)
theorem dX7_out_25 : decode cX7_out 25 = .ok (.aload_n 0, 1) := dk_42 (dk_at dksX7_out_1 3 rfl rfl)
theorem dX7_out_26 : decode cX7_out 26 = .ok (.invokespecial 27, 3) := dk_183 0 27 (dk_at dksX7_out_1 4 rfl rfl)
theorem dX7_out_29 : decode cX7_out 29 = .ok (.areturn, 1) := dk_176 (dk_at dksX7_out_1 7 rfl rfl)
abbrev cX7_putIn : ByteArray := prog_6_method_10_code
def yX7_putIn : MethodName := ⟨RX7, "putIn", "(ILBinderPress$Term;)LBinderPress$Term;"⟩
def dkwX7_putIn_0 : List UInt8 := [27, 42, 180, 0, 9, 160, 0, 7, 44, 167, 0, 4, 42, 176]
abbrev dktX7_putIn_0 : List UInt8 := dkwX7_putIn_0 ++ []
theorem dksX7_putIn_0 : cX7_putIn.data.toList.drop 0 = dktX7_putIn_0 := by decide +kernel
theorem dX7_putIn_0 : decode cX7_putIn 0 = .ok (.iload_n 1, 1) := dk_27 (dk_at dksX7_putIn_0 0 rfl rfl)
theorem dX7_putIn_1 : decode cX7_putIn 1 = .ok (.aload_n 0, 1) := dk_42 (dk_at dksX7_putIn_0 1 rfl rfl)
theorem dX7_putIn_2 : decode cX7_putIn 2 = .ok (.getfield 9, 3) := dk_180 0 9 (dk_at dksX7_putIn_0 2 rfl rfl)
theorem dX7_putIn_5 : decode cX7_putIn 5 = .ok (.if_icmp .ne 7, 3) := dk_160 0 7 (dk_at dksX7_putIn_0 5 rfl rfl)
theorem dX7_putIn_8 : decode cX7_putIn 8 = .ok (.aload_n 2, 1) := dk_44 (dk_at dksX7_putIn_0 8 rfl rfl)
theorem dX7_putIn_9 : decode cX7_putIn 9 = .ok (.goto 4, 3) := dk_167 0 4 (dk_at dksX7_putIn_0 9 rfl rfl)
theorem dX7_putIn_12 : decode cX7_putIn 12 = .ok (.aload_n 0, 1) := dk_42 (dk_at dksX7_putIn_0 12 rfl rfl)
theorem dX7_putIn_13 : decode cX7_putIn 13 = .ok (.areturn, 1) := dk_176 (dk_at dksX7_putIn_0 13 rfl rfl)
abbrev cX7_count : ByteArray := prog_6_method_6_code
def yX7_count : MethodName := ⟨RX7, "count", "(I)I"⟩
theorem dX7_count_0 : decode cX7_count 0 = .ok (.iconst 0, 1) := by decide +kernel
theorem dX7_count_1 : decode cX7_count 1 = .ok (.ireturn, 1) := by decide +kernel
abbrev cX7_write : ByteArray := prog_6_method_7_code
def yX7_write : MethodName := ⟨RX7, "write", "(Ljava/lang/StringBuilder;)V"⟩
def dkwX7_write_0 : List UInt8 := [43, 42, 180, 0, 9, 146, 182, 0, 15, 87, 177]
abbrev dktX7_write_0 : List UInt8 := dkwX7_write_0 ++ []
theorem dksX7_write_0 : cX7_write.data.toList.drop 0 = dktX7_write_0 := by decide +kernel
theorem dX7_write_0 : decode cX7_write 0 = .ok (.aload_n 1, 1) := dk_43 (dk_at dksX7_write_0 0 rfl rfl)
theorem dX7_write_1 : decode cX7_write 1 = .ok (.aload_n 0, 1) := dk_42 (dk_at dksX7_write_0 1 rfl rfl)
theorem dX7_write_2 : decode cX7_write 2 = .ok (.getfield 9, 3) := dk_180 0 9 (dk_at dksX7_write_0 2 rfl rfl)
theorem dX7_write_5 : decode cX7_write 5 = .ok (.i2c, 1) := dk_146 (dk_at dksX7_write_0 5 rfl rfl)
theorem dX7_write_6 : decode cX7_write 6 = .ok (.invokevirtual 15, 3) := dk_182 0 15 (dk_at dksX7_write_0 6 rfl rfl)
theorem dX7_write_9 : decode cX7_write 9 = .ok (.pop, 1) := dk_87 (dk_at dksX7_write_0 9 rfl rfl)
theorem dX7_write_10 : decode cX7_write 10 = .ok (.return_, 1) := dk_177 (dk_at dksX7_write_0 10 rfl rfl)
abbrev cX7_deep : ByteArray := prog_6_method_5_code
def yX7_deep : MethodName := ⟨RX7, "deep", "()I"⟩
theorem dX7_deep_0 : decode cX7_deep 0 = .ok (.iconst 1, 1) := by decide +kernel
theorem dX7_deep_1 : decode cX7_deep 1 = .ok (.ireturn, 1) := by decide +kernel
abbrev cX7_isSame : ByteArray := prog_6_method_11_code
def yX7_isSame : MethodName := ⟨RX7, "isSame", "(LBinderPress$Term;)Z"⟩
def dkwX7_isSame_1 : List UInt8 := [167, 0, 4, 3, 172]
abbrev dktX7_isSame_1 : List UInt8 := dkwX7_isSame_1 ++ []
def dkwX7_isSame_0 : List UInt8 := [43, 193, 0, 10, 153, 0, 23, 43, 192, 0, 10, 77, 44, 180, 0, 9, 42, 180, 0, 9, 160, 0, 7, 4]
abbrev dktX7_isSame_0 : List UInt8 := dkwX7_isSame_0 ++ dktX7_isSame_1
theorem dksX7_isSame_0 : cX7_isSame.data.toList.drop 0 = dktX7_isSame_0 := by decide +kernel
theorem dksX7_isSame_1 : cX7_isSame.data.toList.drop 24 = dktX7_isSame_1 := dk_seg dksX7_isSame_0 24 rfl rfl
theorem dX7_isSame_0 : decode cX7_isSame 0 = .ok (.aload_n 1, 1) := dk_43 (dk_at dksX7_isSame_0 0 rfl rfl)
theorem dX7_isSame_1 : decode cX7_isSame 1 = .ok (.instanceof 10, 3) := dk_193 0 10 (dk_at dksX7_isSame_0 1 rfl rfl)
theorem dX7_isSame_4 : decode cX7_isSame 4 = .ok (.ifCond .eq 23, 3) := dk_153 0 23 (dk_at dksX7_isSame_0 4 rfl rfl)
theorem dX7_isSame_7 : decode cX7_isSame 7 = .ok (.aload_n 1, 1) := dk_43 (dk_at dksX7_isSame_0 7 rfl rfl)
theorem dX7_isSame_8 : decode cX7_isSame 8 = .ok (.checkcast 10, 3) := dk_192 0 10 (dk_at dksX7_isSame_0 8 rfl rfl)
theorem dX7_isSame_11 : decode cX7_isSame 11 = .ok (.astore_n 2, 1) := dk_77 (dk_at dksX7_isSame_0 11 rfl rfl)
theorem dX7_isSame_12 : decode cX7_isSame 12 = .ok (.aload_n 2, 1) := dk_44 (dk_at dksX7_isSame_0 12 rfl rfl)
theorem dX7_isSame_13 : decode cX7_isSame 13 = .ok (.getfield 9, 3) := dk_180 0 9 (dk_at dksX7_isSame_0 13 rfl rfl)
theorem dX7_isSame_16 : decode cX7_isSame 16 = .ok (.aload_n 0, 1) := dk_42 (dk_at dksX7_isSame_0 16 rfl rfl)
theorem dX7_isSame_17 : decode cX7_isSame 17 = .ok (.getfield 9, 3) := dk_180 0 9 (dk_at dksX7_isSame_0 17 rfl rfl)
theorem dX7_isSame_20 : decode cX7_isSame 20 = .ok (.if_icmp .ne 7, 3) := dk_160 0 7 (dk_at dksX7_isSame_0 20 rfl rfl)
theorem dX7_isSame_23 : decode cX7_isSame 23 = .ok (.iconst 1, 1) := dk_4 (dk_at dksX7_isSame_0 23 rfl rfl)
theorem dX7_isSame_24 : decode cX7_isSame 24 = .ok (.goto 4, 3) := dk_167 0 4 (dk_at dksX7_isSame_1 0 rfl rfl)
theorem dX7_isSame_27 : decode cX7_isSame 27 = .ok (.iconst 0, 1) := dk_3 (dk_at dksX7_isSame_1 3 rfl rfl)
theorem dX7_isSame_28 : decode cX7_isSame 28 = .ok (.ireturn, 1) := dk_172 (dk_at dksX7_isSame_1 4 rfl rfl)
theorem q94 : (Jvm.Cond.initialized "BinderPress$Name") ∈ lw_all := lw_g (lw_at lw_m1 11 rfl) rfl
theorem q388 : (Jvm.Cond.instantiable "BinderPress$Name" (1 : Nat)) ∈ lw_all := lw_g (lw_at lw_m2 65 rfl) rfl
theorem q390 : (Jvm.Cond.instanceMethod ({ cls := "BinderPress$Name", name := "<init>", desc := "(I)V" } : Jvm.MethodName)) ∈ lw_all := lw_g (lw_at lw_m2 67 rfl) rfl
theorem q391 : (Jvm.Cond.code ({ cls := "BinderPress$Name", name := "<init>", desc := "(I)V" } : Jvm.MethodName) prog_6_method_1_code (2 : Nat) (Option.none : Option Jvm.ClassFile.FieldType)) ∈ lw_all := lw_g (lw_at lw_m2 68 rfl) rfl
theorem q392 : (Jvm.Cond.methodLinkNest "BinderPress$Name" (3 : Nat) ({ cls := "BinderPress$Term", name := "<init>", desc := "()V" } : Jvm.MethodName) "BinderPress") ∈ lw_tbl := lw_at lw_m2 69 rfl
theorem q393 : (Jvm.Cond.fieldLink "BinderPress$Name" (9 : Nat) "BinderPress$Name" "letter" "I") ∈ lw_all := lw_g (lw_at lw_m2 70 rfl) rfl
theorem q396 : (Jvm.Cond.laysFinal "BinderPress$Name" "BinderPress$Name" "letter" "I") ∈ lw_all := lw_g (lw_at lw_m2 73 rfl) rfl
theorem q397 : (Jvm.Cond.soleField "BinderPress$Name" "letter") ∈ lw_all := lw_g (lw_at lw_m2 74 rfl) rfl
theorem q398 : (Jvm.Cond.superclass "BinderPress$Name" "BinderPress$Term") ∈ lw_all := lw_g (lw_at lw_m2 75 rfl) rfl
theorem q431 : (Jvm.Cond.selects "BinderPress$Name" ({ cls := "BinderPress$Sized", name := "size", desc := "()I" } : Jvm.MethodName) ({ cls := "BinderPress$Name", name := "size", desc := "()I" } : Jvm.MethodName)) ∈ lw_all := lw_g (lw_at lw_m2 108 rfl) rfl
theorem q432 : (Jvm.Cond.instanceMethod ({ cls := "BinderPress$Name", name := "size", desc := "()I" } : Jvm.MethodName)) ∈ lw_all := lw_g (lw_at lw_m2 109 rfl) rfl
theorem q433 : (Jvm.Cond.code ({ cls := "BinderPress$Name", name := "size", desc := "()I" } : Jvm.MethodName) prog_6_method_2_code (1 : Nat) (Option.some Jvm.ClassFile.FieldType.int)) ∈ lw_all := lw_g (lw_at lw_m2 110 rfl) rfl
theorem q450 : (Jvm.Cond.instanceMethod ({ cls := "BinderPress$Name", name := "free", desc := "()I" } : Jvm.MethodName)) ∈ lw_all := lw_g (lw_at lw_m2 127 rfl) rfl
theorem q451 : (Jvm.Cond.code ({ cls := "BinderPress$Name", name := "free", desc := "()I" } : Jvm.MethodName) prog_6_method_3_code (1 : Nat) (Option.some Jvm.ClassFile.FieldType.int)) ∈ lw_all := lw_g (lw_at lw_m2 128 rfl) rfl
theorem q456 : (Jvm.Cond.selects "BinderPress$Name" ({ cls := "BinderPress$Term", name := "free", desc := "()I" } : Jvm.MethodName) ({ cls := "BinderPress$Name", name := "free", desc := "()I" } : Jvm.MethodName)) ∈ lw_all := lw_g (lw_at lw_m2 133 rfl) rfl
theorem q502 : (Jvm.Cond.instanceMethod ({ cls := "BinderPress$Name", name := "compiled", desc := "()LBinderPress$Term;" } : Jvm.MethodName)) ∈ lw_all := lw_g (lw_at lw_m2 179 rfl) rfl
theorem q503 : (Jvm.Cond.code ({ cls := "BinderPress$Name", name := "compiled", desc := "()LBinderPress$Term;" } : Jvm.MethodName) prog_6_method_9_code (1 : Nat) (Option.some (Jvm.ClassFile.FieldType.object "BinderPress$Term"))) ∈ lw_all := lw_g (lw_at lw_m2 180 rfl) rfl
theorem q517 : (Jvm.Cond.instanceMethod ({ cls := "BinderPress$Name", name := "binders", desc := "()I" } : Jvm.MethodName)) ∈ lw_all := lw_g (lw_at lw_m2 194 rfl) rfl
theorem q518 : (Jvm.Cond.code ({ cls := "BinderPress$Name", name := "binders", desc := "()I" } : Jvm.MethodName) prog_6_method_4_code (1 : Nat) (Option.some Jvm.ClassFile.FieldType.int)) ∈ lw_all := lw_g (lw_at lw_m2 195 rfl) rfl
theorem q521 : (Jvm.Cond.selects "BinderPress$Name" ({ cls := "BinderPress$Term", name := "binders", desc := "()I" } : Jvm.MethodName) ({ cls := "BinderPress$Name", name := "binders", desc := "()I" } : Jvm.MethodName)) ∈ lw_all := lw_g (lw_at lw_m2 198 rfl) rfl
theorem q536 : (Jvm.Cond.instanceMethod ({ cls := "BinderPress$Name", name := "out", desc := "(I)LBinderPress$Term;" } : Jvm.MethodName)) ∈ lw_all := lw_g (lw_at lw_m2 213 rfl) rfl
theorem q537 : (Jvm.Cond.code ({ cls := "BinderPress$Name", name := "out", desc := "(I)LBinderPress$Term;" } : Jvm.MethodName) prog_6_method_8_code (2 : Nat) (Option.some (Jvm.ClassFile.FieldType.object "BinderPress$Term"))) ∈ lw_all := lw_g (lw_at lw_m2 214 rfl) rfl
theorem q538 : (Jvm.Cond.methodLinkNest "BinderPress$Name" (21 : Nat) ({ cls := "BinderPress", name := "signOf", desc := "(I)LBinderPress$Term;" } : Jvm.MethodName) "BinderPress") ∈ lw_tbl := lw_at lw_m2 215 rfl
theorem q539 : (Jvm.Cond.classLink "BinderPress$Name" (25 : Nat) "BinderPress$Put") ∈ lw_all := lw_g (lw_at lw_m2 216 rfl) rfl
theorem q540 : (Jvm.Cond.methodLink "BinderPress$Name" (27 : Nat) ({ cls := "BinderPress$Put", name := "<init>", desc := "(LBinderPress$Term;LBinderPress$Term;)V" } : Jvm.MethodName)) ∈ lw_all := lw_g (lw_at lw_m2 217 rfl) rfl
theorem q564 : (Jvm.Cond.selects "BinderPress$Name" ({ cls := "BinderPress$Term", name := "out", desc := "(I)LBinderPress$Term;" } : Jvm.MethodName) ({ cls := "BinderPress$Name", name := "out", desc := "(I)LBinderPress$Term;" } : Jvm.MethodName)) ∈ lw_all := lw_g (lw_at lw_m3 1 rfl) rfl
theorem q567 : (Jvm.Cond.selects "BinderPress$Name" ({ cls := "BinderPress$Term", name := "compiled", desc := "()LBinderPress$Term;" } : Jvm.MethodName) ({ cls := "BinderPress$Name", name := "compiled", desc := "()LBinderPress$Term;" } : Jvm.MethodName)) ∈ lw_all := lw_g (lw_at lw_m3 4 rfl) rfl
theorem q576 : (Jvm.Cond.unhidden "BinderPress$Name" "isSmall" "()Z") ∈ lw_tbl := lw_at lw_m3 13 rfl
theorem q588 : (Jvm.Cond.castable "BinderPress$Name" "BinderPress$Sized") ∈ lw_tbl := lw_at lw_m3 25 rfl
theorem q589 : (Jvm.Cond.unhidden "BinderPress$Name" "size" "()I") ∈ lw_tbl := lw_at lw_m3 26 rfl
theorem q590 : (Jvm.Cond.publicMethod ({ cls := "BinderPress$Name", name := "size", desc := "()I" } : Jvm.MethodName)) ∈ lw_tbl := lw_at lw_m3 27 rfl
theorem q625 : (Jvm.Cond.selects "BinderPress$Name" ({ cls := "BinderPress$Term", name := "putIn", desc := "(ILBinderPress$Term;)LBinderPress$Term;" } : Jvm.MethodName) ({ cls := "BinderPress$Name", name := "putIn", desc := "(ILBinderPress$Term;)LBinderPress$Term;" } : Jvm.MethodName)) ∈ lw_all := lw_g (lw_at lw_m3 62 rfl) rfl
theorem q626 : (Jvm.Cond.instanceMethod ({ cls := "BinderPress$Name", name := "putIn", desc := "(ILBinderPress$Term;)LBinderPress$Term;" } : Jvm.MethodName)) ∈ lw_all := lw_g (lw_at lw_m3 63 rfl) rfl
theorem q627 : (Jvm.Cond.code ({ cls := "BinderPress$Name", name := "putIn", desc := "(ILBinderPress$Term;)LBinderPress$Term;" } : Jvm.MethodName) prog_6_method_10_code (3 : Nat) (Option.some (Jvm.ClassFile.FieldType.object "BinderPress$Term"))) ∈ lw_all := lw_g (lw_at lw_m3 64 rfl) rfl
theorem q858 : (Jvm.Cond.instanceMethod ({ cls := "BinderPress$Name", name := "count", desc := "(I)I" } : Jvm.MethodName)) ∈ lw_all := lw_g (lw_at lw_m4 55 rfl) rfl
theorem q859 : (Jvm.Cond.code ({ cls := "BinderPress$Name", name := "count", desc := "(I)I" } : Jvm.MethodName) prog_6_method_6_code (2 : Nat) (Option.some Jvm.ClassFile.FieldType.int)) ∈ lw_all := lw_g (lw_at lw_m4 56 rfl) rfl
theorem q867 : (Jvm.Cond.selects "BinderPress$Name" ({ cls := "BinderPress$Term", name := "count", desc := "(I)I" } : Jvm.MethodName) ({ cls := "BinderPress$Name", name := "count", desc := "(I)I" } : Jvm.MethodName)) ∈ lw_all := lw_g (lw_at lw_m4 64 rfl) rfl
theorem q981 : (Jvm.Cond.instanceMethod ({ cls := "BinderPress$Name", name := "write", desc := "(Ljava/lang/StringBuilder;)V" } : Jvm.MethodName)) ∈ lw_all := lw_g (lw_at lw_m4 178 rfl) rfl
theorem q982 : (Jvm.Cond.code ({ cls := "BinderPress$Name", name := "write", desc := "(Ljava/lang/StringBuilder;)V" } : Jvm.MethodName) prog_6_method_7_code (2 : Nat) (Option.none : Option Jvm.ClassFile.FieldType)) ∈ lw_all := lw_g (lw_at lw_m4 179 rfl) rfl
theorem q983 : (Jvm.Cond.methodLink "BinderPress$Name" (15 : Nat) ({ cls := "java/lang/StringBuilder", name := "append", desc := "(C)Ljava/lang/StringBuilder;" } : Jvm.MethodName)) ∈ lw_all := lw_g (lw_at lw_m4 180 rfl) rfl
theorem q994 : (Jvm.Cond.selects "BinderPress$Name" ({ cls := "BinderPress$Term", name := "isBinder", desc := "()Z" } : Jvm.MethodName) ({ cls := "BinderPress$Term", name := "isBinder", desc := "()Z" } : Jvm.MethodName)) ∈ lw_all := lw_g (lw_at lw_m4 191 rfl) rfl
theorem q1052 : (Jvm.Cond.selects "BinderPress$Name" ({ cls := "BinderPress$Term", name := "isBracketed", desc := "()Z" } : Jvm.MethodName) ({ cls := "BinderPress$Term", name := "isBracketed", desc := "()Z" } : Jvm.MethodName)) ∈ lw_all := lw_g (lw_at lw_m5 9 rfl) rfl
theorem q1058 : (Jvm.Cond.selects "BinderPress$Name" ({ cls := "BinderPress$Term", name := "write", desc := "(Ljava/lang/StringBuilder;)V" } : Jvm.MethodName) ({ cls := "BinderPress$Name", name := "write", desc := "(Ljava/lang/StringBuilder;)V" } : Jvm.MethodName)) ∈ lw_all := lw_g (lw_at lw_m5 15 rfl) rfl
theorem q1127 : (Jvm.Cond.instanceMethod ({ cls := "BinderPress$Name", name := "deep", desc := "()I" } : Jvm.MethodName)) ∈ lw_all := lw_g (lw_at lw_m5 84 rfl) rfl
theorem q1128 : (Jvm.Cond.code ({ cls := "BinderPress$Name", name := "deep", desc := "()I" } : Jvm.MethodName) prog_6_method_5_code (1 : Nat) (Option.some Jvm.ClassFile.FieldType.int)) ∈ lw_all := lw_g (lw_at lw_m5 85 rfl) rfl
theorem q1135 : (Jvm.Cond.selects "BinderPress$Name" ({ cls := "BinderPress$Term", name := "deep", desc := "()I" } : Jvm.MethodName) ({ cls := "BinderPress$Name", name := "deep", desc := "()I" } : Jvm.MethodName)) ∈ lw_all := lw_g (lw_at lw_m5 92 rfl) rfl
theorem q1339 : (Jvm.Cond.instanceMethod ({ cls := "BinderPress$Name", name := "isSame", desc := "(LBinderPress$Term;)Z" } : Jvm.MethodName)) ∈ lw_all := lw_g (lw_at lw_m6 56 rfl) rfl
theorem q1340 : (Jvm.Cond.code ({ cls := "BinderPress$Name", name := "isSame", desc := "(LBinderPress$Term;)Z" } : Jvm.MethodName) prog_6_method_11_code (3 : Nat) (Option.some Jvm.ClassFile.FieldType.boolean)) ∈ lw_all := lw_g (lw_at lw_m6 57 rfl) rfl
theorem q1341 : (Jvm.Cond.classLink "BinderPress$Name" (10 : Nat) "BinderPress$Name") ∈ lw_all := lw_g (lw_at lw_m6 58 rfl) rfl
theorem q1349 : (Jvm.Cond.selects "BinderPress$Name" ({ cls := "BinderPress$Term", name := "isSame", desc := "(LBinderPress$Term;)Z" } : Jvm.MethodName) ({ cls := "BinderPress$Name", name := "isSame", desc := "(LBinderPress$Term;)Z" } : Jvm.MethodName)) ∈ lw_all := lw_g (lw_at lw_m6 66 rfl) rfl
theorem q1808 : (Jvm.Cond.selects "BinderPress$Name" ({ cls := "BinderPress$Term", name := "hasFree", desc := "(I)Z" } : Jvm.MethodName) ({ cls := "BinderPress$Term", name := "hasFree", desc := "(I)Z" } : Jvm.MethodName)) ∈ lw_all := lw_g (lw_at lw_m8 45 rfl) rfl
theorem q1823 : (Jvm.Cond.castable "BinderPress$Name" "BinderPress$Term") ∈ lw_tbl := lw_at lw_m8 60 rfl
theorem in_X7 : ∀ w ∈ wsX70, w ∈ lw_all := lw_in wsX70 [396] (by decide +kernel) (by decide +kernel)
/-! BinderPress$Sign -/
set_option maxRecDepth 100000
def RX8 : String := "BinderPress$Sign"
def TX8 : u_T := fun k => match k with
  | _ => ("BinderPress$Sign", "text", "Ljava/lang/String;", true)
def tyX8 : Nat → FieldType := fun k => match k with
  | _ => .object "java/lang/String"
abbrev wsX80 : List Cond := u_ws RX8 TX8 1
theorem nmX8 : ∀ a, a < 1 → ∀ b, b < 1 → a ≠ b → (TX8 a).2.1 ≠ (TX8 b).2.1 := by decide +kernel
theorem tyX8_ok : ∀ k, k < 1 → parseFieldDescriptor (TX8 k).2.2.1 = some (tyX8 k) := by decide +kernel
abbrev cX8_init : ByteArray := prog_9_method_1_code
def yX8_init : MethodName := ⟨RX8, "<init>", "(Ljava/lang/String;)V"⟩
def dkwX8_init_0 : List UInt8 := [42, 183, 0, 3, 42, 43, 181, 0, 9, 177]
abbrev dktX8_init_0 : List UInt8 := dkwX8_init_0 ++ []
theorem dksX8_init_0 : cX8_init.data.toList.drop 0 = dktX8_init_0 := by decide +kernel
theorem dX8_init_0 : decode cX8_init 0 = .ok (.aload_n 0, 1) := dk_42 (dk_at dksX8_init_0 0 rfl rfl)
theorem dX8_init_1 : decode cX8_init 1 = .ok (.invokespecial 3, 3) := dk_183 0 3 (dk_at dksX8_init_0 1 rfl rfl)
theorem dX8_init_4 : decode cX8_init 4 = .ok (.aload_n 0, 1) := dk_42 (dk_at dksX8_init_0 4 rfl rfl)
theorem dX8_init_5 : decode cX8_init 5 = .ok (.aload_n 1, 1) := dk_43 (dk_at dksX8_init_0 5 rfl rfl)
theorem dX8_init_6 : decode cX8_init 6 = .ok (.putfield 9, 3) := dk_181 0 9 (dk_at dksX8_init_0 6 rfl rfl)
theorem dX8_init_9 : decode cX8_init 9 = .ok (.return_, 1) := dk_177 (dk_at dksX8_init_0 9 rfl rfl)
abbrev cX8_size : ByteArray := prog_9_method_2_code
def yX8_size : MethodName := ⟨RX8, "size", "()I"⟩
theorem dX8_size_0 : decode cX8_size 0 = .ok (.iconst 1, 1) := by decide +kernel
theorem dX8_size_1 : decode cX8_size 1 = .ok (.ireturn, 1) := by decide +kernel
abbrev cX8_free : ByteArray := prog_9_method_3_code
def yX8_free : MethodName := ⟨RX8, "free", "()I"⟩
theorem dX8_free_0 : decode cX8_free 0 = .ok (.iconst 0, 1) := by decide +kernel
theorem dX8_free_1 : decode cX8_free 1 = .ok (.ireturn, 1) := by decide +kernel
abbrev cX8_binders : ByteArray := prog_9_method_4_code
def yX8_binders : MethodName := ⟨RX8, "binders", "()I"⟩
theorem dX8_binders_0 : decode cX8_binders 0 = .ok (.iconst 0, 1) := by decide +kernel
theorem dX8_binders_1 : decode cX8_binders 1 = .ok (.ireturn, 1) := by decide +kernel
abbrev cX8_compiled : ByteArray := prog_9_method_9_code
def yX8_compiled : MethodName := ⟨RX8, "compiled", "()LBinderPress$Term;"⟩
theorem dX8_compiled_0 : decode cX8_compiled 0 = .ok (.aload_n 0, 1) := by decide +kernel
theorem dX8_compiled_1 : decode cX8_compiled 1 = .ok (.areturn, 1) := by decide +kernel
abbrev cX8_out : ByteArray := prog_9_method_8_code
def yX8_out : MethodName := ⟨RX8, "out", "(I)LBinderPress$Term;"⟩
def dkwX8_out_0 : List UInt8 := [187, 0, 29, 89, 16, 75, 184, 0, 31, 42, 183, 0, 35, 176]
abbrev dktX8_out_0 : List UInt8 := dkwX8_out_0 ++ []
theorem dksX8_out_0 : cX8_out.data.toList.drop 0 = dktX8_out_0 := by decide +kernel
theorem dX8_out_0 : decode cX8_out 0 = .ok (.new 29, 3) := dk_187 0 29 (dk_at dksX8_out_0 0 rfl rfl)
theorem dX8_out_3 : decode cX8_out 3 = .ok (.dup, 1) := dk_89 (dk_at dksX8_out_0 3 rfl rfl)
theorem dX8_out_4 : decode cX8_out 4 = .ok (.bipush 75, 2) := dk_16 75 (dk_at dksX8_out_0 4 rfl rfl)
theorem dX8_out_6 : decode cX8_out 6 = .ok (.invokestatic 31, 3) := dk_184 0 31 (dk_at dksX8_out_0 6 rfl rfl)
theorem dX8_out_9 : decode cX8_out 9 = .ok (.aload_n 0, 1) := dk_42 (dk_at dksX8_out_0 9 rfl rfl)
theorem dX8_out_10 : decode cX8_out 10 = .ok (.invokespecial 35, 3) := dk_183 0 35 (dk_at dksX8_out_0 10 rfl rfl)
theorem dX8_out_13 : decode cX8_out 13 = .ok (.areturn, 1) := dk_176 (dk_at dksX8_out_0 13 rfl rfl)
abbrev cX8_putIn : ByteArray := prog_9_method_10_code
def yX8_putIn : MethodName := ⟨RX8, "putIn", "(ILBinderPress$Term;)LBinderPress$Term;"⟩
theorem dX8_putIn_0 : decode cX8_putIn 0 = .ok (.aload_n 0, 1) := by decide +kernel
theorem dX8_putIn_1 : decode cX8_putIn 1 = .ok (.areturn, 1) := by decide +kernel
abbrev cX8_count : ByteArray := prog_9_method_6_code
def yX8_count : MethodName := ⟨RX8, "count", "(I)I"⟩
def dkwX8_count_0 : List UInt8 := [18, 15, 27, 182, 0, 17, 42, 180, 0, 9, 3, 182, 0, 17, 160, 0, 7, 4, 167, 0, 4, 3, 172]
abbrev dktX8_count_0 : List UInt8 := dkwX8_count_0 ++ []
theorem dksX8_count_0 : cX8_count.data.toList.drop 0 = dktX8_count_0 := by decide +kernel
theorem dX8_count_0 : decode cX8_count 0 = .ok (.ldc 15, 2) := dk_18 15 (dk_at dksX8_count_0 0 rfl rfl)
theorem dX8_count_2 : decode cX8_count 2 = .ok (.iload_n 1, 1) := dk_27 (dk_at dksX8_count_0 2 rfl rfl)
theorem dX8_count_3 : decode cX8_count 3 = .ok (.invokevirtual 17, 3) := dk_182 0 17 (dk_at dksX8_count_0 3 rfl rfl)
theorem dX8_count_6 : decode cX8_count 6 = .ok (.aload_n 0, 1) := dk_42 (dk_at dksX8_count_0 6 rfl rfl)
theorem dX8_count_7 : decode cX8_count 7 = .ok (.getfield 9, 3) := dk_180 0 9 (dk_at dksX8_count_0 7 rfl rfl)
theorem dX8_count_10 : decode cX8_count 10 = .ok (.iconst 0, 1) := dk_3 (dk_at dksX8_count_0 10 rfl rfl)
theorem dX8_count_11 : decode cX8_count 11 = .ok (.invokevirtual 17, 3) := dk_182 0 17 (dk_at dksX8_count_0 11 rfl rfl)
theorem dX8_count_14 : decode cX8_count 14 = .ok (.if_icmp .ne 7, 3) := dk_160 0 7 (dk_at dksX8_count_0 14 rfl rfl)
theorem dX8_count_17 : decode cX8_count 17 = .ok (.iconst 1, 1) := dk_4 (dk_at dksX8_count_0 17 rfl rfl)
theorem dX8_count_18 : decode cX8_count 18 = .ok (.goto 4, 3) := dk_167 0 4 (dk_at dksX8_count_0 18 rfl rfl)
theorem dX8_count_21 : decode cX8_count 21 = .ok (.iconst 0, 1) := dk_3 (dk_at dksX8_count_0 21 rfl rfl)
theorem dX8_count_22 : decode cX8_count 22 = .ok (.ireturn, 1) := dk_172 (dk_at dksX8_count_0 22 rfl rfl)
abbrev cX8_write : ByteArray := prog_9_method_7_code
def yX8_write : MethodName := ⟨RX8, "write", "(Ljava/lang/StringBuilder;)V"⟩
def dkwX8_write_0 : List UInt8 := [43, 42, 180, 0, 9, 182, 0, 23, 87, 177]
abbrev dktX8_write_0 : List UInt8 := dkwX8_write_0 ++ []
theorem dksX8_write_0 : cX8_write.data.toList.drop 0 = dktX8_write_0 := by decide +kernel
theorem dX8_write_0 : decode cX8_write 0 = .ok (.aload_n 1, 1) := dk_43 (dk_at dksX8_write_0 0 rfl rfl)
theorem dX8_write_1 : decode cX8_write 1 = .ok (.aload_n 0, 1) := dk_42 (dk_at dksX8_write_0 1 rfl rfl)
theorem dX8_write_2 : decode cX8_write 2 = .ok (.getfield 9, 3) := dk_180 0 9 (dk_at dksX8_write_0 2 rfl rfl)
theorem dX8_write_5 : decode cX8_write 5 = .ok (.invokevirtual 23, 3) := dk_182 0 23 (dk_at dksX8_write_0 5 rfl rfl)
theorem dX8_write_8 : decode cX8_write 8 = .ok (.pop, 1) := dk_87 (dk_at dksX8_write_0 8 rfl rfl)
theorem dX8_write_9 : decode cX8_write 9 = .ok (.return_, 1) := dk_177 (dk_at dksX8_write_0 9 rfl rfl)
abbrev cX8_deep : ByteArray := prog_9_method_5_code
def yX8_deep : MethodName := ⟨RX8, "deep", "()I"⟩
theorem dX8_deep_0 : decode cX8_deep 0 = .ok (.iconst 1, 1) := by decide +kernel
theorem dX8_deep_1 : decode cX8_deep 1 = .ok (.ireturn, 1) := by decide +kernel
abbrev cX8_isSame : ByteArray := prog_9_method_11_code
def yX8_isSame : MethodName := ⟨RX8, "isSame", "(LBinderPress$Term;)Z"⟩
def dkwX8_isSame_1 : List UInt8 := [153, 0, 7, 4, 167, 0, 4, 3, 172]
abbrev dktX8_isSame_1 : List UInt8 := dkwX8_isSame_1 ++ []
def dkwX8_isSame_0 : List UInt8 := [43, 193, 0, 10, 153, 0, 26, 43, 192, 0, 10, 77, 44, 180, 0, 9, 42, 180, 0, 9, 182, 0, 38]
abbrev dktX8_isSame_0 : List UInt8 := dkwX8_isSame_0 ++ dktX8_isSame_1
theorem dksX8_isSame_0 : cX8_isSame.data.toList.drop 0 = dktX8_isSame_0 := by decide +kernel
theorem dksX8_isSame_1 : cX8_isSame.data.toList.drop 23 = dktX8_isSame_1 := dk_seg dksX8_isSame_0 23 rfl rfl
theorem dX8_isSame_0 : decode cX8_isSame 0 = .ok (.aload_n 1, 1) := dk_43 (dk_at dksX8_isSame_0 0 rfl rfl)
theorem dX8_isSame_1 : decode cX8_isSame 1 = .ok (.instanceof 10, 3) := dk_193 0 10 (dk_at dksX8_isSame_0 1 rfl rfl)
theorem dX8_isSame_4 : decode cX8_isSame 4 = .ok (.ifCond .eq 26, 3) := dk_153 0 26 (dk_at dksX8_isSame_0 4 rfl rfl)
theorem dX8_isSame_7 : decode cX8_isSame 7 = .ok (.aload_n 1, 1) := dk_43 (dk_at dksX8_isSame_0 7 rfl rfl)
theorem dX8_isSame_8 : decode cX8_isSame 8 = .ok (.checkcast 10, 3) := dk_192 0 10 (dk_at dksX8_isSame_0 8 rfl rfl)
theorem dX8_isSame_11 : decode cX8_isSame 11 = .ok (.astore_n 2, 1) := dk_77 (dk_at dksX8_isSame_0 11 rfl rfl)
theorem dX8_isSame_12 : decode cX8_isSame 12 = .ok (.aload_n 2, 1) := dk_44 (dk_at dksX8_isSame_0 12 rfl rfl)
theorem dX8_isSame_13 : decode cX8_isSame 13 = .ok (.getfield 9, 3) := dk_180 0 9 (dk_at dksX8_isSame_0 13 rfl rfl)
theorem dX8_isSame_16 : decode cX8_isSame 16 = .ok (.aload_n 0, 1) := dk_42 (dk_at dksX8_isSame_0 16 rfl rfl)
theorem dX8_isSame_17 : decode cX8_isSame 17 = .ok (.getfield 9, 3) := dk_180 0 9 (dk_at dksX8_isSame_0 17 rfl rfl)
theorem dX8_isSame_20 : decode cX8_isSame 20 = .ok (.invokevirtual 38, 3) := dk_182 0 38 (dk_at dksX8_isSame_0 20 rfl rfl)
theorem dX8_isSame_23 : decode cX8_isSame 23 = .ok (.ifCond .eq 7, 3) := dk_153 0 7 (dk_at dksX8_isSame_1 0 rfl rfl)
theorem dX8_isSame_26 : decode cX8_isSame 26 = .ok (.iconst 1, 1) := dk_4 (dk_at dksX8_isSame_1 3 rfl rfl)
theorem dX8_isSame_27 : decode cX8_isSame 27 = .ok (.goto 4, 3) := dk_167 0 4 (dk_at dksX8_isSame_1 4 rfl rfl)
theorem dX8_isSame_30 : decode cX8_isSame 30 = .ok (.iconst 0, 1) := dk_3 (dk_at dksX8_isSame_1 7 rfl rfl)
theorem dX8_isSame_31 : decode cX8_isSame 31 = .ok (.ireturn, 1) := dk_172 (dk_at dksX8_isSame_1 8 rfl rfl)
theorem q95 : (Jvm.Cond.initialized "BinderPress$Sign") ∈ lw_all := lw_g (lw_at lw_m1 12 rfl) rfl
theorem q403 : (Jvm.Cond.instantiable "BinderPress$Sign" (1 : Nat)) ∈ lw_all := lw_g (lw_at lw_m2 80 rfl) rfl
theorem q406 : (Jvm.Cond.instanceMethod ({ cls := "BinderPress$Sign", name := "<init>", desc := "(Ljava/lang/String;)V" } : Jvm.MethodName)) ∈ lw_all := lw_g (lw_at lw_m2 83 rfl) rfl
theorem q407 : (Jvm.Cond.code ({ cls := "BinderPress$Sign", name := "<init>", desc := "(Ljava/lang/String;)V" } : Jvm.MethodName) prog_9_method_1_code (2 : Nat) (Option.none : Option Jvm.ClassFile.FieldType)) ∈ lw_all := lw_g (lw_at lw_m2 84 rfl) rfl
theorem q408 : (Jvm.Cond.methodLinkNest "BinderPress$Sign" (3 : Nat) ({ cls := "BinderPress$Term", name := "<init>", desc := "()V" } : Jvm.MethodName) "BinderPress") ∈ lw_tbl := lw_at lw_m2 85 rfl
theorem q409 : (Jvm.Cond.fieldLink "BinderPress$Sign" (9 : Nat) "BinderPress$Sign" "text" "Ljava/lang/String;") ∈ lw_all := lw_g (lw_at lw_m2 86 rfl) rfl
theorem q412 : (Jvm.Cond.laysFinal "BinderPress$Sign" "BinderPress$Sign" "text" "Ljava/lang/String;") ∈ lw_all := lw_g (lw_at lw_m2 89 rfl) rfl
theorem q413 : (Jvm.Cond.soleField "BinderPress$Sign" "text") ∈ lw_all := lw_g (lw_at lw_m2 90 rfl) rfl
theorem q414 : (Jvm.Cond.superclass "BinderPress$Sign" "BinderPress$Term") ∈ lw_all := lw_g (lw_at lw_m2 91 rfl) rfl
theorem q437 : (Jvm.Cond.selects "BinderPress$Sign" ({ cls := "BinderPress$Sized", name := "size", desc := "()I" } : Jvm.MethodName) ({ cls := "BinderPress$Sign", name := "size", desc := "()I" } : Jvm.MethodName)) ∈ lw_all := lw_g (lw_at lw_m2 114 rfl) rfl
theorem q438 : (Jvm.Cond.instanceMethod ({ cls := "BinderPress$Sign", name := "size", desc := "()I" } : Jvm.MethodName)) ∈ lw_all := lw_g (lw_at lw_m2 115 rfl) rfl
theorem q439 : (Jvm.Cond.code ({ cls := "BinderPress$Sign", name := "size", desc := "()I" } : Jvm.MethodName) prog_9_method_2_code (1 : Nat) (Option.some Jvm.ClassFile.FieldType.int)) ∈ lw_all := lw_g (lw_at lw_m2 116 rfl) rfl
theorem q454 : (Jvm.Cond.instanceMethod ({ cls := "BinderPress$Sign", name := "free", desc := "()I" } : Jvm.MethodName)) ∈ lw_all := lw_g (lw_at lw_m2 131 rfl) rfl
theorem q455 : (Jvm.Cond.code ({ cls := "BinderPress$Sign", name := "free", desc := "()I" } : Jvm.MethodName) prog_9_method_3_code (1 : Nat) (Option.some Jvm.ClassFile.FieldType.int)) ∈ lw_all := lw_g (lw_at lw_m2 132 rfl) rfl
theorem q458 : (Jvm.Cond.selects "BinderPress$Sign" ({ cls := "BinderPress$Term", name := "free", desc := "()I" } : Jvm.MethodName) ({ cls := "BinderPress$Sign", name := "free", desc := "()I" } : Jvm.MethodName)) ∈ lw_all := lw_g (lw_at lw_m2 135 rfl) rfl
theorem q519 : (Jvm.Cond.instanceMethod ({ cls := "BinderPress$Sign", name := "binders", desc := "()I" } : Jvm.MethodName)) ∈ lw_all := lw_g (lw_at lw_m2 196 rfl) rfl
theorem q520 : (Jvm.Cond.code ({ cls := "BinderPress$Sign", name := "binders", desc := "()I" } : Jvm.MethodName) prog_9_method_4_code (1 : Nat) (Option.some Jvm.ClassFile.FieldType.int)) ∈ lw_all := lw_g (lw_at lw_m2 197 rfl) rfl
theorem q523 : (Jvm.Cond.selects "BinderPress$Sign" ({ cls := "BinderPress$Term", name := "binders", desc := "()I" } : Jvm.MethodName) ({ cls := "BinderPress$Sign", name := "binders", desc := "()I" } : Jvm.MethodName)) ∈ lw_all := lw_g (lw_at lw_m2 200 rfl) rfl
theorem q526 : (Jvm.Cond.instanceMethod ({ cls := "BinderPress$Sign", name := "compiled", desc := "()LBinderPress$Term;" } : Jvm.MethodName)) ∈ lw_all := lw_g (lw_at lw_m2 203 rfl) rfl
theorem q527 : (Jvm.Cond.code ({ cls := "BinderPress$Sign", name := "compiled", desc := "()LBinderPress$Term;" } : Jvm.MethodName) prog_9_method_9_code (1 : Nat) (Option.some (Jvm.ClassFile.FieldType.object "BinderPress$Term"))) ∈ lw_all := lw_g (lw_at lw_m2 204 rfl) rfl
theorem q554 : (Jvm.Cond.instanceMethod ({ cls := "BinderPress$Sign", name := "out", desc := "(I)LBinderPress$Term;" } : Jvm.MethodName)) ∈ lw_all := lw_g (lw_at lw_m2 231 rfl) rfl
theorem q555 : (Jvm.Cond.code ({ cls := "BinderPress$Sign", name := "out", desc := "(I)LBinderPress$Term;" } : Jvm.MethodName) prog_9_method_8_code (2 : Nat) (Option.some (Jvm.ClassFile.FieldType.object "BinderPress$Term"))) ∈ lw_all := lw_g (lw_at lw_m2 232 rfl) rfl
theorem q556 : (Jvm.Cond.classLink "BinderPress$Sign" (29 : Nat) "BinderPress$Put") ∈ lw_all := lw_g (lw_at lw_m2 233 rfl) rfl
theorem q557 : (Jvm.Cond.methodLinkNest "BinderPress$Sign" (31 : Nat) ({ cls := "BinderPress", name := "signOf", desc := "(I)LBinderPress$Term;" } : Jvm.MethodName) "BinderPress") ∈ lw_tbl := lw_at lw_m2 234 rfl
theorem q558 : (Jvm.Cond.methodLink "BinderPress$Sign" (35 : Nat) ({ cls := "BinderPress$Put", name := "<init>", desc := "(LBinderPress$Term;LBinderPress$Term;)V" } : Jvm.MethodName)) ∈ lw_all := lw_g (lw_at lw_m2 235 rfl) rfl
theorem q566 : (Jvm.Cond.selects "BinderPress$Sign" ({ cls := "BinderPress$Term", name := "out", desc := "(I)LBinderPress$Term;" } : Jvm.MethodName) ({ cls := "BinderPress$Sign", name := "out", desc := "(I)LBinderPress$Term;" } : Jvm.MethodName)) ∈ lw_all := lw_g (lw_at lw_m3 3 rfl) rfl
theorem q569 : (Jvm.Cond.selects "BinderPress$Sign" ({ cls := "BinderPress$Term", name := "compiled", desc := "()LBinderPress$Term;" } : Jvm.MethodName) ({ cls := "BinderPress$Sign", name := "compiled", desc := "()LBinderPress$Term;" } : Jvm.MethodName)) ∈ lw_all := lw_g (lw_at lw_m3 6 rfl) rfl
theorem q578 : (Jvm.Cond.unhidden "BinderPress$Sign" "isSmall" "()Z") ∈ lw_tbl := lw_at lw_m3 15 rfl
theorem q594 : (Jvm.Cond.castable "BinderPress$Sign" "BinderPress$Sized") ∈ lw_tbl := lw_at lw_m3 31 rfl
theorem q595 : (Jvm.Cond.unhidden "BinderPress$Sign" "size" "()I") ∈ lw_tbl := lw_at lw_m3 32 rfl
theorem q596 : (Jvm.Cond.publicMethod ({ cls := "BinderPress$Sign", name := "size", desc := "()I" } : Jvm.MethodName)) ∈ lw_tbl := lw_at lw_m3 33 rfl
theorem q632 : (Jvm.Cond.instanceMethod ({ cls := "BinderPress$Sign", name := "putIn", desc := "(ILBinderPress$Term;)LBinderPress$Term;" } : Jvm.MethodName)) ∈ lw_all := lw_g (lw_at lw_m3 69 rfl) rfl
theorem q633 : (Jvm.Cond.code ({ cls := "BinderPress$Sign", name := "putIn", desc := "(ILBinderPress$Term;)LBinderPress$Term;" } : Jvm.MethodName) prog_9_method_10_code (3 : Nat) (Option.some (Jvm.ClassFile.FieldType.object "BinderPress$Term"))) ∈ lw_all := lw_g (lw_at lw_m3 70 rfl) rfl
theorem q634 : (Jvm.Cond.selects "BinderPress$Sign" ({ cls := "BinderPress$Term", name := "putIn", desc := "(ILBinderPress$Term;)LBinderPress$Term;" } : Jvm.MethodName) ({ cls := "BinderPress$Sign", name := "putIn", desc := "(ILBinderPress$Term;)LBinderPress$Term;" } : Jvm.MethodName)) ∈ lw_all := lw_g (lw_at lw_m3 71 rfl) rfl
theorem q863 : (Jvm.Cond.instanceMethod ({ cls := "BinderPress$Sign", name := "count", desc := "(I)I" } : Jvm.MethodName)) ∈ lw_all := lw_g (lw_at lw_m4 60 rfl) rfl
theorem q864 : (Jvm.Cond.code ({ cls := "BinderPress$Sign", name := "count", desc := "(I)I" } : Jvm.MethodName) prog_9_method_6_code (2 : Nat) (Option.some Jvm.ClassFile.FieldType.int)) ∈ lw_all := lw_g (lw_at lw_m4 61 rfl) rfl
theorem q865 : (Jvm.Cond.stringRef "BinderPress$Sign" (15 : Nat) "IKSBC") ∈ lw_tbl := lw_at lw_m4 62 rfl
theorem q866 : (Jvm.Cond.methodLink "BinderPress$Sign" (17 : Nat) ({ cls := "java/lang/String", name := "charAt", desc := "(I)C" } : Jvm.MethodName)) ∈ lw_all := lw_g (lw_at lw_m4 63 rfl) rfl
theorem q869 : (Jvm.Cond.selects "BinderPress$Sign" ({ cls := "BinderPress$Term", name := "count", desc := "(I)I" } : Jvm.MethodName) ({ cls := "BinderPress$Sign", name := "count", desc := "(I)I" } : Jvm.MethodName)) ∈ lw_all := lw_g (lw_at lw_m4 66 rfl) rfl
theorem q996 : (Jvm.Cond.selects "BinderPress$Sign" ({ cls := "BinderPress$Term", name := "isBinder", desc := "()Z" } : Jvm.MethodName) ({ cls := "BinderPress$Term", name := "isBinder", desc := "()Z" } : Jvm.MethodName)) ∈ lw_all := lw_g (lw_at lw_m4 193 rfl) rfl
theorem q1042 : (Jvm.Cond.instanceMethod ({ cls := "BinderPress$Sign", name := "write", desc := "(Ljava/lang/StringBuilder;)V" } : Jvm.MethodName)) ∈ lw_all := lw_g (lw_at lw_m4 239 rfl) rfl
theorem q1043 : (Jvm.Cond.code ({ cls := "BinderPress$Sign", name := "write", desc := "(Ljava/lang/StringBuilder;)V" } : Jvm.MethodName) prog_9_method_7_code (2 : Nat) (Option.none : Option Jvm.ClassFile.FieldType)) ∈ lw_all := lw_g (lw_at lw_m5 0 rfl) rfl
theorem q1044 : (Jvm.Cond.methodLink "BinderPress$Sign" (23 : Nat) ({ cls := "java/lang/StringBuilder", name := "append", desc := "(Ljava/lang/String;)Ljava/lang/StringBuilder;" } : Jvm.MethodName)) ∈ lw_all := lw_g (lw_at lw_m5 1 rfl) rfl
theorem q1056 : (Jvm.Cond.selects "BinderPress$Sign" ({ cls := "BinderPress$Term", name := "isBracketed", desc := "()Z" } : Jvm.MethodName) ({ cls := "BinderPress$Term", name := "isBracketed", desc := "()Z" } : Jvm.MethodName)) ∈ lw_all := lw_g (lw_at lw_m5 13 rfl) rfl
theorem q1060 : (Jvm.Cond.selects "BinderPress$Sign" ({ cls := "BinderPress$Term", name := "write", desc := "(Ljava/lang/StringBuilder;)V" } : Jvm.MethodName) ({ cls := "BinderPress$Sign", name := "write", desc := "(Ljava/lang/StringBuilder;)V" } : Jvm.MethodName)) ∈ lw_all := lw_g (lw_at lw_m5 17 rfl) rfl
theorem q1132 : (Jvm.Cond.instanceMethod ({ cls := "BinderPress$Sign", name := "deep", desc := "()I" } : Jvm.MethodName)) ∈ lw_all := lw_g (lw_at lw_m5 89 rfl) rfl
theorem q1133 : (Jvm.Cond.code ({ cls := "BinderPress$Sign", name := "deep", desc := "()I" } : Jvm.MethodName) prog_9_method_5_code (1 : Nat) (Option.some Jvm.ClassFile.FieldType.int)) ∈ lw_all := lw_g (lw_at lw_m5 90 rfl) rfl
theorem q1137 : (Jvm.Cond.selects "BinderPress$Sign" ({ cls := "BinderPress$Term", name := "deep", desc := "()I" } : Jvm.MethodName) ({ cls := "BinderPress$Sign", name := "deep", desc := "()I" } : Jvm.MethodName)) ∈ lw_all := lw_g (lw_at lw_m5 94 rfl) rfl
theorem q1345 : (Jvm.Cond.instanceMethod ({ cls := "BinderPress$Sign", name := "isSame", desc := "(LBinderPress$Term;)Z" } : Jvm.MethodName)) ∈ lw_all := lw_g (lw_at lw_m6 62 rfl) rfl
theorem q1346 : (Jvm.Cond.code ({ cls := "BinderPress$Sign", name := "isSame", desc := "(LBinderPress$Term;)Z" } : Jvm.MethodName) prog_9_method_11_code (3 : Nat) (Option.some Jvm.ClassFile.FieldType.boolean)) ∈ lw_all := lw_g (lw_at lw_m6 63 rfl) rfl
theorem q1347 : (Jvm.Cond.classLink "BinderPress$Sign" (10 : Nat) "BinderPress$Sign") ∈ lw_all := lw_g (lw_at lw_m6 64 rfl) rfl
theorem q1348 : (Jvm.Cond.methodLink "BinderPress$Sign" (38 : Nat) ({ cls := "java/lang/String", name := "equals", desc := "(Ljava/lang/Object;)Z" } : Jvm.MethodName)) ∈ lw_all := lw_g (lw_at lw_m6 65 rfl) rfl
theorem q1351 : (Jvm.Cond.selects "BinderPress$Sign" ({ cls := "BinderPress$Term", name := "isSame", desc := "(LBinderPress$Term;)Z" } : Jvm.MethodName) ({ cls := "BinderPress$Sign", name := "isSame", desc := "(LBinderPress$Term;)Z" } : Jvm.MethodName)) ∈ lw_all := lw_g (lw_at lw_m6 68 rfl) rfl
theorem q1810 : (Jvm.Cond.selects "BinderPress$Sign" ({ cls := "BinderPress$Term", name := "hasFree", desc := "(I)Z" } : Jvm.MethodName) ({ cls := "BinderPress$Term", name := "hasFree", desc := "(I)Z" } : Jvm.MethodName)) ∈ lw_all := lw_g (lw_at lw_m8 47 rfl) rfl
theorem q1824 : (Jvm.Cond.castable "BinderPress$Sign" "BinderPress$Term") ∈ lw_tbl := lw_at lw_m8 61 rfl
theorem in_X8 : ∀ w ∈ wsX80, w ∈ lw_all := lw_in wsX80 [412] (by decide +kernel) (by decide +kernel)
/-! BinderPress$Put -/
set_option maxRecDepth 100000
def RX9 : String := "BinderPress$Put"
def TX9 : u_T := fun k => match k with
  | 0 => ("BinderPress$Put", "left", "LBinderPress$Term;", true)
  | 1 => ("BinderPress$Put", "right", "LBinderPress$Term;", true)
  | 2 => ("BinderPress$Put", "size", "I", true)
  | 3 => ("BinderPress$Put", "free", "I", true)
  | _ => ("BinderPress$Put", "done", "LBinderPress$Term;", false)
def tyX9 : Nat → FieldType := fun k => match k with
  | 0 => .object "BinderPress$Term"
  | 1 => .object "BinderPress$Term"
  | 2 => .int
  | 3 => .int
  | _ => .object "BinderPress$Term"
abbrev wsX90 : List Cond := u_ws RX9 TX9 5
theorem nmX9 : ∀ a, a < 5 → ∀ b, b < 5 → a ≠ b → (TX9 a).2.1 ≠ (TX9 b).2.1 := by decide +kernel
theorem tyX9_ok : ∀ k, k < 5 → parseFieldDescriptor (TX9 k).2.2.1 = some (tyX9 k) := by decide +kernel
abbrev cX9_init : ByteArray := prog_7_method_1_code
def yX9_init : MethodName := ⟨RX9, "<init>", "(LBinderPress$Term;LBinderPress$Term;)V"⟩
def dkwX9_init_2 : List UInt8 := [181, 0, 33, 177]
abbrev dktX9_init_2 : List UInt8 := dkwX9_init_2 ++ []
def dkwX9_init_1 : List UInt8 := [182, 0, 17, 96, 4, 96, 184, 0, 21, 181, 0, 27, 42, 43, 182, 0, 30, 44, 182, 0, 30, 128]
abbrev dktX9_init_1 : List UInt8 := dkwX9_init_1 ++ dktX9_init_2
def dkwX9_init_0 : List UInt8 := [42, 183, 0, 1, 42, 43, 181, 0, 7, 42, 44, 181, 0, 13, 42, 18, 16, 43, 182, 0, 17, 44]
abbrev dktX9_init_0 : List UInt8 := dkwX9_init_0 ++ dktX9_init_1
theorem dksX9_init_0 : cX9_init.data.toList.drop 0 = dktX9_init_0 := by decide +kernel
theorem dksX9_init_1 : cX9_init.data.toList.drop 22 = dktX9_init_1 := dk_seg dksX9_init_0 22 rfl rfl
theorem dksX9_init_2 : cX9_init.data.toList.drop 44 = dktX9_init_2 := dk_seg dksX9_init_1 22 rfl rfl
theorem dX9_init_0 : decode cX9_init 0 = .ok (.aload_n 0, 1) := dk_42 (dk_at dksX9_init_0 0 rfl rfl)
theorem dX9_init_1 : decode cX9_init 1 = .ok (.invokespecial 1, 3) := dk_183 0 1 (dk_at dksX9_init_0 1 rfl rfl)
theorem dX9_init_4 : decode cX9_init 4 = .ok (.aload_n 0, 1) := dk_42 (dk_at dksX9_init_0 4 rfl rfl)
theorem dX9_init_5 : decode cX9_init 5 = .ok (.aload_n 1, 1) := dk_43 (dk_at dksX9_init_0 5 rfl rfl)
theorem dX9_init_6 : decode cX9_init 6 = .ok (.putfield 7, 3) := dk_181 0 7 (dk_at dksX9_init_0 6 rfl rfl)
theorem dX9_init_9 : decode cX9_init 9 = .ok (.aload_n 0, 1) := dk_42 (dk_at dksX9_init_0 9 rfl rfl)
theorem dX9_init_10 : decode cX9_init 10 = .ok (.aload_n 2, 1) := dk_44 (dk_at dksX9_init_0 10 rfl rfl)
theorem dX9_init_11 : decode cX9_init 11 = .ok (.putfield 13, 3) := dk_181 0 13 (dk_at dksX9_init_0 11 rfl rfl)
theorem dX9_init_14 : decode cX9_init 14 = .ok (.aload_n 0, 1) := dk_42 (dk_at dksX9_init_0 14 rfl rfl)
theorem dX9_init_15 : decode cX9_init 15 = .ok (.ldc 16, 2) := dk_18 16 (dk_at dksX9_init_0 15 rfl rfl)
theorem dX9_init_17 : decode cX9_init 17 = .ok (.aload_n 1, 1) := dk_43 (dk_at dksX9_init_0 17 rfl rfl)
theorem dX9_init_18 : decode cX9_init 18 = .ok (.invokevirtual 17, 3) := dk_182 0 17 (dk_at dksX9_init_0 18 rfl rfl)
theorem dX9_init_21 : decode cX9_init 21 = .ok (.aload_n 2, 1) := dk_44 (dk_at dksX9_init_0 21 rfl rfl)
theorem dX9_init_22 : decode cX9_init 22 = .ok (.invokevirtual 17, 3) := dk_182 0 17 (dk_at dksX9_init_1 0 rfl rfl)
theorem dX9_init_25 : decode cX9_init 25 = .ok (.iadd, 1) := dk_96 (dk_at dksX9_init_1 3 rfl rfl)
theorem dX9_init_26 : decode cX9_init 26 = .ok (.iconst 1, 1) := dk_4 (dk_at dksX9_init_1 4 rfl rfl)
theorem dX9_init_27 : decode cX9_init 27 = .ok (.iadd, 1) := dk_96 (dk_at dksX9_init_1 5 rfl rfl)
theorem dX9_init_28 : decode cX9_init 28 = .ok (.invokestatic 21, 3) := dk_184 0 21 (dk_at dksX9_init_1 6 rfl rfl)
theorem dX9_init_31 : decode cX9_init 31 = .ok (.putfield 27, 3) := dk_181 0 27 (dk_at dksX9_init_1 9 rfl rfl)
theorem dX9_init_34 : decode cX9_init 34 = .ok (.aload_n 0, 1) := dk_42 (dk_at dksX9_init_1 12 rfl rfl)
theorem dX9_init_35 : decode cX9_init 35 = .ok (.aload_n 1, 1) := dk_43 (dk_at dksX9_init_1 13 rfl rfl)
theorem dX9_init_36 : decode cX9_init 36 = .ok (.invokevirtual 30, 3) := dk_182 0 30 (dk_at dksX9_init_1 14 rfl rfl)
theorem dX9_init_39 : decode cX9_init 39 = .ok (.aload_n 2, 1) := dk_44 (dk_at dksX9_init_1 17 rfl rfl)
theorem dX9_init_40 : decode cX9_init 40 = .ok (.invokevirtual 30, 3) := dk_182 0 30 (dk_at dksX9_init_1 18 rfl rfl)
theorem dX9_init_43 : decode cX9_init 43 = .ok (.ior, 1) := dk_128 (dk_at dksX9_init_1 21 rfl rfl)
theorem dX9_init_44 : decode cX9_init 44 = .ok (.putfield 33, 3) := dk_181 0 33 (dk_at dksX9_init_2 0 rfl rfl)
theorem dX9_init_47 : decode cX9_init 47 = .ok (.return_, 1) := dk_177 (dk_at dksX9_init_2 3 rfl rfl)
abbrev cX9_size : ByteArray := prog_7_method_2_code
def yX9_size : MethodName := ⟨RX9, "size", "()I"⟩
theorem dX9_size_0 : decode cX9_size 0 = .ok (.aload_n 0, 1) := by decide +kernel
theorem dX9_size_1 : decode cX9_size 1 = .ok (.getfield 27, 3) := by decide +kernel
theorem dX9_size_4 : decode cX9_size 4 = .ok (.ireturn, 1) := by decide +kernel
abbrev cX9_free : ByteArray := prog_7_method_3_code
def yX9_free : MethodName := ⟨RX9, "free", "()I"⟩
theorem dX9_free_0 : decode cX9_free 0 = .ok (.aload_n 0, 1) := by decide +kernel
theorem dX9_free_1 : decode cX9_free 1 = .ok (.getfield 33, 3) := by decide +kernel
theorem dX9_free_4 : decode cX9_free 4 = .ok (.ireturn, 1) := by decide +kernel
abbrev cX9_compiled : ByteArray := prog_7_method_11_code
def yX9_compiled : MethodName := ⟨RX9, "compiled", "()LBinderPress$Term;"⟩
def dkwX9_compiled_1 : List UInt8 := [180, 0, 7, 182, 0, 102, 42, 180, 0, 13, 182, 0, 102, 183, 0, 85, 181, 0, 98, 42, 180, 0, 98, 176]
abbrev dktX9_compiled_1 : List UInt8 := dkwX9_compiled_1 ++ []
def dkwX9_compiled_0 : List UInt8 := [42, 180, 0, 98, 199, 0, 39, 42, 42, 182, 0, 101, 154, 0, 7, 42, 167, 0, 24, 187, 0, 8, 89, 42]
abbrev dktX9_compiled_0 : List UInt8 := dkwX9_compiled_0 ++ dktX9_compiled_1
theorem dksX9_compiled_0 : cX9_compiled.data.toList.drop 0 = dktX9_compiled_0 := by decide +kernel
theorem dksX9_compiled_1 : cX9_compiled.data.toList.drop 24 = dktX9_compiled_1 := dk_seg dksX9_compiled_0 24 rfl rfl
theorem dX9_compiled_0 : decode cX9_compiled 0 = .ok (.aload_n 0, 1) := dk_42 (dk_at dksX9_compiled_0 0 rfl rfl)
theorem dX9_compiled_1 : decode cX9_compiled 1 = .ok (.getfield 98, 3) := dk_180 0 98 (dk_at dksX9_compiled_0 1 rfl rfl)
theorem dX9_compiled_4 : decode cX9_compiled 4 = .ok (.ifnonnull 39, 3) := dk_199 0 39 (dk_at dksX9_compiled_0 4 rfl rfl)
theorem dX9_compiled_7 : decode cX9_compiled 7 = .ok (.aload_n 0, 1) := dk_42 (dk_at dksX9_compiled_0 7 rfl rfl)
theorem dX9_compiled_8 : decode cX9_compiled 8 = .ok (.aload_n 0, 1) := dk_42 (dk_at dksX9_compiled_0 8 rfl rfl)
theorem dX9_compiled_9 : decode cX9_compiled 9 = .ok (.invokevirtual 101, 3) := dk_182 0 101 (dk_at dksX9_compiled_0 9 rfl rfl)
theorem dX9_compiled_12 : decode cX9_compiled 12 = .ok (.ifCond .ne 7, 3) := dk_154 0 7 (dk_at dksX9_compiled_0 12 rfl rfl)
theorem dX9_compiled_15 : decode cX9_compiled 15 = .ok (.aload_n 0, 1) := dk_42 (dk_at dksX9_compiled_0 15 rfl rfl)
theorem dX9_compiled_16 : decode cX9_compiled 16 = .ok (.goto 24, 3) := dk_167 0 24 (dk_at dksX9_compiled_0 16 rfl rfl)
theorem dX9_compiled_19 : decode cX9_compiled 19 = .ok (.new 8, 3) := dk_187 0 8 (dk_at dksX9_compiled_0 19 rfl rfl)
theorem dX9_compiled_22 : decode cX9_compiled 22 = .ok (.dup, 1) := dk_89 (dk_at dksX9_compiled_0 22 rfl rfl)
theorem dX9_compiled_23 : decode cX9_compiled 23 = .ok (.aload_n 0, 1) := dk_42 (dk_at dksX9_compiled_0 23 rfl rfl)
theorem dX9_compiled_24 : decode cX9_compiled 24 = .ok (.getfield 7, 3) := dk_180 0 7 (dk_at dksX9_compiled_1 0 rfl rfl)
theorem dX9_compiled_27 : decode cX9_compiled 27 = .ok (.invokevirtual 102, 3) := dk_182 0 102 (dk_at dksX9_compiled_1 3 rfl rfl)
theorem dX9_compiled_30 : decode cX9_compiled 30 = .ok (.aload_n 0, 1) := dk_42 (dk_at dksX9_compiled_1 6 rfl rfl)
theorem dX9_compiled_31 : decode cX9_compiled 31 = .ok (.getfield 13, 3) := dk_180 0 13 (dk_at dksX9_compiled_1 7 rfl rfl)
theorem dX9_compiled_34 : decode cX9_compiled 34 = .ok (.invokevirtual 102, 3) := dk_182 0 102 (dk_at dksX9_compiled_1 10 rfl rfl)
theorem dX9_compiled_37 : decode cX9_compiled 37 = .ok (.invokespecial 85, 3) := dk_183 0 85 (dk_at dksX9_compiled_1 13 rfl rfl)
theorem dX9_compiled_40 : decode cX9_compiled 40 = .ok (.putfield 98, 3) := dk_181 0 98 (dk_at dksX9_compiled_1 16 rfl rfl)
theorem dX9_compiled_43 : decode cX9_compiled 43 = .ok (.aload_n 0, 1) := dk_42 (dk_at dksX9_compiled_1 19 rfl rfl)
theorem dX9_compiled_44 : decode cX9_compiled 44 = .ok (.getfield 98, 3) := dk_180 0 98 (dk_at dksX9_compiled_1 20 rfl rfl)
theorem dX9_compiled_47 : decode cX9_compiled 47 = .ok (.areturn, 1) := dk_176 (dk_at dksX9_compiled_1 23 rfl rfl)
abbrev cX9_binders : ByteArray := prog_7_method_4_code
def yX9_binders : MethodName := ⟨RX9, "binders", "()I"⟩
def dkwX9_binders_0 : List UInt8 := [42, 180, 0, 7, 182, 0, 35, 42, 180, 0, 13, 182, 0, 35, 96, 172]
abbrev dktX9_binders_0 : List UInt8 := dkwX9_binders_0 ++ []
theorem dksX9_binders_0 : cX9_binders.data.toList.drop 0 = dktX9_binders_0 := by decide +kernel
theorem dX9_binders_0 : decode cX9_binders 0 = .ok (.aload_n 0, 1) := dk_42 (dk_at dksX9_binders_0 0 rfl rfl)
theorem dX9_binders_1 : decode cX9_binders 1 = .ok (.getfield 7, 3) := dk_180 0 7 (dk_at dksX9_binders_0 1 rfl rfl)
theorem dX9_binders_4 : decode cX9_binders 4 = .ok (.invokevirtual 35, 3) := dk_182 0 35 (dk_at dksX9_binders_0 4 rfl rfl)
theorem dX9_binders_7 : decode cX9_binders 7 = .ok (.aload_n 0, 1) := dk_42 (dk_at dksX9_binders_0 7 rfl rfl)
theorem dX9_binders_8 : decode cX9_binders 8 = .ok (.getfield 13, 3) := dk_180 0 13 (dk_at dksX9_binders_0 8 rfl rfl)
theorem dX9_binders_11 : decode cX9_binders 11 = .ok (.invokevirtual 35, 3) := dk_182 0 35 (dk_at dksX9_binders_0 11 rfl rfl)
theorem dX9_binders_14 : decode cX9_binders 14 = .ok (.iadd, 1) := dk_96 (dk_at dksX9_binders_0 14 rfl rfl)
theorem dX9_binders_15 : decode cX9_binders 15 = .ok (.ireturn, 1) := dk_172 (dk_at dksX9_binders_0 15 rfl rfl)
abbrev cX9_out : ByteArray := prog_7_method_10_code
def yX9_out : MethodName := ⟨RX9, "out", "(I)LBinderPress$Term;"⟩
def dkwX9_out_5 : List UInt8 := [180, 0, 13, 27, 182, 0, 91, 184, 0, 94, 176]
abbrev dktX9_out_5 : List UInt8 := dkwX9_out_5 ++ []
def dkwX9_out_4 : List UInt8 := [42, 180, 0, 13, 184, 0, 94, 176, 16, 83, 184, 0, 79, 42, 180, 0, 7, 27, 182, 0, 91, 42]
abbrev dktX9_out_4 : List UInt8 := dkwX9_out_4 ++ dktX9_out_5
def dkwX9_out_3 : List UInt8 := [42, 180, 0, 13, 27, 182, 0, 88, 154, 0, 24, 16, 67, 184, 0, 79, 42, 180, 0, 7, 27, 182, 0, 91]
abbrev dktX9_out_3 : List UInt8 := dkwX9_out_3 ++ dktX9_out_4
def dkwX9_out_2 : List UInt8 := [167, 0, 23, 16, 66, 184, 0, 79, 42, 180, 0, 7, 42, 180, 0, 13, 27, 182, 0, 91, 184, 0, 94, 176]
abbrev dktX9_out_2 : List UInt8 := dkwX9_out_2 ++ dktX9_out_3
def dkwX9_out_1 : List UInt8 := [180, 0, 7, 27, 182, 0, 88, 154, 0, 41, 42, 180, 0, 13, 193, 0, 89, 153, 0, 10, 42, 180, 0, 7]
abbrev dktX9_out_1 : List UInt8 := dkwX9_out_1 ++ dktX9_out_2
def dkwX9_out_0 : List UInt8 := [42, 27, 182, 0, 75, 154, 0, 17, 187, 0, 8, 89, 16, 75, 184, 0, 79, 42, 183, 0, 85, 176, 42]
abbrev dktX9_out_0 : List UInt8 := dkwX9_out_0 ++ dktX9_out_1
theorem dksX9_out_0 : cX9_out.data.toList.drop 0 = dktX9_out_0 := by decide +kernel
theorem dksX9_out_1 : cX9_out.data.toList.drop 23 = dktX9_out_1 := dk_seg dksX9_out_0 23 rfl rfl
theorem dksX9_out_2 : cX9_out.data.toList.drop 47 = dktX9_out_2 := dk_seg dksX9_out_1 24 rfl rfl
theorem dksX9_out_3 : cX9_out.data.toList.drop 71 = dktX9_out_3 := dk_seg dksX9_out_2 24 rfl rfl
theorem dksX9_out_4 : cX9_out.data.toList.drop 95 = dktX9_out_4 := dk_seg dksX9_out_3 24 rfl rfl
theorem dksX9_out_5 : cX9_out.data.toList.drop 117 = dktX9_out_5 := dk_seg dksX9_out_4 22 rfl rfl
theorem dX9_out_0 : decode cX9_out 0 = .ok (.aload_n 0, 1) := dk_42 (dk_at dksX9_out_0 0 rfl rfl)
theorem dX9_out_1 : decode cX9_out 1 = .ok (.iload_n 1, 1) := dk_27 (dk_at dksX9_out_0 1 rfl rfl)
theorem dX9_out_2 : decode cX9_out 2 = .ok (.invokevirtual 75, 3) := dk_182 0 75 (dk_at dksX9_out_0 2 rfl rfl)
theorem dX9_out_5 : decode cX9_out 5 = .ok (.ifCond .ne 17, 3) := dk_154 0 17 (dk_at dksX9_out_0 5 rfl rfl)
theorem dX9_out_8 : decode cX9_out 8 = .ok (.new 8, 3) := dk_187 0 8 (dk_at dksX9_out_0 8 rfl rfl)
theorem dX9_out_11 : decode cX9_out 11 = .ok (.dup, 1) := dk_89 (dk_at dksX9_out_0 11 rfl rfl)
theorem dX9_out_12 : decode cX9_out 12 = .ok (.bipush 75, 2) := dk_16 75 (dk_at dksX9_out_0 12 rfl rfl)
theorem dX9_out_14 : decode cX9_out 14 = .ok (.invokestatic 79, 3) := dk_184 0 79 (dk_at dksX9_out_0 14 rfl rfl)
theorem dX9_out_17 : decode cX9_out 17 = .ok (.aload_n 0, 1) := dk_42 (dk_at dksX9_out_0 17 rfl rfl)
theorem dX9_out_18 : decode cX9_out 18 = .ok (.invokespecial 85, 3) := dk_183 0 85 (dk_at dksX9_out_0 18 rfl rfl)
theorem dX9_out_21 : decode cX9_out 21 = .ok (.areturn, 1) := dk_176 (dk_at dksX9_out_0 21 rfl rfl)
theorem dX9_out_22 : decode cX9_out 22 = .ok (.aload_n 0, 1) := dk_42 (dk_at dksX9_out_0 22 rfl rfl)
theorem dX9_out_23 : decode cX9_out 23 = .ok (.getfield 7, 3) := dk_180 0 7 (dk_at dksX9_out_1 0 rfl rfl)
theorem dX9_out_26 : decode cX9_out 26 = .ok (.iload_n 1, 1) := dk_27 (dk_at dksX9_out_1 3 rfl rfl)
theorem dX9_out_27 : decode cX9_out 27 = .ok (.invokevirtual 88, 3) := dk_182 0 88 (dk_at dksX9_out_1 4 rfl rfl)
theorem dX9_out_30 : decode cX9_out 30 = .ok (.ifCond .ne 41, 3) := dk_154 0 41 (dk_at dksX9_out_1 7 rfl rfl)
theorem dX9_out_33 : decode cX9_out 33 = .ok (.aload_n 0, 1) := dk_42 (dk_at dksX9_out_1 10 rfl rfl)
theorem dX9_out_34 : decode cX9_out 34 = .ok (.getfield 13, 3) := dk_180 0 13 (dk_at dksX9_out_1 11 rfl rfl)
theorem dX9_out_37 : decode cX9_out 37 = .ok (.instanceof 89, 3) := dk_193 0 89 (dk_at dksX9_out_1 14 rfl rfl)
theorem dX9_out_40 : decode cX9_out 40 = .ok (.ifCond .eq 10, 3) := dk_153 0 10 (dk_at dksX9_out_1 17 rfl rfl)
theorem dX9_out_43 : decode cX9_out 43 = .ok (.aload_n 0, 1) := dk_42 (dk_at dksX9_out_1 20 rfl rfl)
theorem dX9_out_44 : decode cX9_out 44 = .ok (.getfield 7, 3) := dk_180 0 7 (dk_at dksX9_out_1 21 rfl rfl)
theorem dX9_out_47 : decode cX9_out 47 = .ok (.goto 23, 3) := dk_167 0 23 (dk_at dksX9_out_2 0 rfl rfl)
theorem dX9_out_50 : decode cX9_out 50 = .ok (.bipush 66, 2) := dk_16 66 (dk_at dksX9_out_2 3 rfl rfl)
theorem dX9_out_52 : decode cX9_out 52 = .ok (.invokestatic 79, 3) := dk_184 0 79 (dk_at dksX9_out_2 5 rfl rfl)
theorem dX9_out_55 : decode cX9_out 55 = .ok (.aload_n 0, 1) := dk_42 (dk_at dksX9_out_2 8 rfl rfl)
theorem dX9_out_56 : decode cX9_out 56 = .ok (.getfield 7, 3) := dk_180 0 7 (dk_at dksX9_out_2 9 rfl rfl)
theorem dX9_out_59 : decode cX9_out 59 = .ok (.aload_n 0, 1) := dk_42 (dk_at dksX9_out_2 12 rfl rfl)
theorem dX9_out_60 : decode cX9_out 60 = .ok (.getfield 13, 3) := dk_180 0 13 (dk_at dksX9_out_2 13 rfl rfl)
theorem dX9_out_63 : decode cX9_out 63 = .ok (.iload_n 1, 1) := dk_27 (dk_at dksX9_out_2 16 rfl rfl)
theorem dX9_out_64 : decode cX9_out 64 = .ok (.invokevirtual 91, 3) := dk_182 0 91 (dk_at dksX9_out_2 17 rfl rfl)
theorem dX9_out_67 : decode cX9_out 67 = .ok (.invokestatic 94, 3) := dk_184 0 94 (dk_at dksX9_out_2 20 rfl rfl)
theorem dX9_out_70 : decode cX9_out 70 = .ok (.areturn, 1) := dk_176 (dk_at dksX9_out_2 23 rfl rfl)
theorem dX9_out_71 : decode cX9_out 71 = .ok (.aload_n 0, 1) := dk_42 (dk_at dksX9_out_3 0 rfl rfl)
theorem dX9_out_72 : decode cX9_out 72 = .ok (.getfield 13, 3) := dk_180 0 13 (dk_at dksX9_out_3 1 rfl rfl)
theorem dX9_out_75 : decode cX9_out 75 = .ok (.iload_n 1, 1) := dk_27 (dk_at dksX9_out_3 4 rfl rfl)
theorem dX9_out_76 : decode cX9_out 76 = .ok (.invokevirtual 88, 3) := dk_182 0 88 (dk_at dksX9_out_3 5 rfl rfl)
theorem dX9_out_79 : decode cX9_out 79 = .ok (.ifCond .ne 24, 3) := dk_154 0 24 (dk_at dksX9_out_3 8 rfl rfl)
theorem dX9_out_82 : decode cX9_out 82 = .ok (.bipush 67, 2) := dk_16 67 (dk_at dksX9_out_3 11 rfl rfl)
theorem dX9_out_84 : decode cX9_out 84 = .ok (.invokestatic 79, 3) := dk_184 0 79 (dk_at dksX9_out_3 13 rfl rfl)
theorem dX9_out_87 : decode cX9_out 87 = .ok (.aload_n 0, 1) := dk_42 (dk_at dksX9_out_3 16 rfl rfl)
theorem dX9_out_88 : decode cX9_out 88 = .ok (.getfield 7, 3) := dk_180 0 7 (dk_at dksX9_out_3 17 rfl rfl)
theorem dX9_out_91 : decode cX9_out 91 = .ok (.iload_n 1, 1) := dk_27 (dk_at dksX9_out_3 20 rfl rfl)
theorem dX9_out_92 : decode cX9_out 92 = .ok (.invokevirtual 91, 3) := dk_182 0 91 (dk_at dksX9_out_3 21 rfl rfl)
theorem dX9_out_95 : decode cX9_out 95 = .ok (.aload_n 0, 1) := dk_42 (dk_at dksX9_out_4 0 rfl rfl)
theorem dX9_out_96 : decode cX9_out 96 = .ok (.getfield 13, 3) := dk_180 0 13 (dk_at dksX9_out_4 1 rfl rfl)
theorem dX9_out_99 : decode cX9_out 99 = .ok (.invokestatic 94, 3) := dk_184 0 94 (dk_at dksX9_out_4 4 rfl rfl)
theorem dX9_out_102 : decode cX9_out 102 = .ok (.areturn, 1) := dk_176 (dk_at dksX9_out_4 7 rfl rfl)
theorem dX9_out_103 : decode cX9_out 103 = .ok (.bipush 83, 2) := dk_16 83 (dk_at dksX9_out_4 8 rfl rfl)
theorem dX9_out_105 : decode cX9_out 105 = .ok (.invokestatic 79, 3) := dk_184 0 79 (dk_at dksX9_out_4 10 rfl rfl)
theorem dX9_out_108 : decode cX9_out 108 = .ok (.aload_n 0, 1) := dk_42 (dk_at dksX9_out_4 13 rfl rfl)
theorem dX9_out_109 : decode cX9_out 109 = .ok (.getfield 7, 3) := dk_180 0 7 (dk_at dksX9_out_4 14 rfl rfl)
theorem dX9_out_112 : decode cX9_out 112 = .ok (.iload_n 1, 1) := dk_27 (dk_at dksX9_out_4 17 rfl rfl)
theorem dX9_out_113 : decode cX9_out 113 = .ok (.invokevirtual 91, 3) := dk_182 0 91 (dk_at dksX9_out_4 18 rfl rfl)
theorem dX9_out_116 : decode cX9_out 116 = .ok (.aload_n 0, 1) := dk_42 (dk_at dksX9_out_4 21 rfl rfl)
theorem dX9_out_117 : decode cX9_out 117 = .ok (.getfield 13, 3) := dk_180 0 13 (dk_at dksX9_out_5 0 rfl rfl)
theorem dX9_out_120 : decode cX9_out 120 = .ok (.iload_n 1, 1) := dk_27 (dk_at dksX9_out_5 3 rfl rfl)
theorem dX9_out_121 : decode cX9_out 121 = .ok (.invokevirtual 91, 3) := dk_182 0 91 (dk_at dksX9_out_5 4 rfl rfl)
theorem dX9_out_124 : decode cX9_out 124 = .ok (.invokestatic 94, 3) := dk_184 0 94 (dk_at dksX9_out_5 7 rfl rfl)
theorem dX9_out_127 : decode cX9_out 127 = .ok (.areturn, 1) := dk_176 (dk_at dksX9_out_5 10 rfl rfl)
abbrev cX9_putIn : ByteArray := prog_7_method_12_code
def yX9_putIn : MethodName := ⟨RX9, "putIn", "(ILBinderPress$Term;)LBinderPress$Term;"⟩
def dkwX9_putIn_1 : List UInt8 := [180, 0, 13, 27, 44, 182, 0, 106, 183, 0, 85, 167, 0, 4, 42, 176]
abbrev dktX9_putIn_1 : List UInt8 := dkwX9_putIn_1 ++ []
def dkwX9_putIn_0 : List UInt8 := [42, 27, 182, 0, 75, 153, 0, 31, 187, 0, 8, 89, 42, 180, 0, 7, 27, 44, 182, 0, 106, 42]
abbrev dktX9_putIn_0 : List UInt8 := dkwX9_putIn_0 ++ dktX9_putIn_1
theorem dksX9_putIn_0 : cX9_putIn.data.toList.drop 0 = dktX9_putIn_0 := by decide +kernel
theorem dksX9_putIn_1 : cX9_putIn.data.toList.drop 22 = dktX9_putIn_1 := dk_seg dksX9_putIn_0 22 rfl rfl
theorem dX9_putIn_0 : decode cX9_putIn 0 = .ok (.aload_n 0, 1) := dk_42 (dk_at dksX9_putIn_0 0 rfl rfl)
theorem dX9_putIn_1 : decode cX9_putIn 1 = .ok (.iload_n 1, 1) := dk_27 (dk_at dksX9_putIn_0 1 rfl rfl)
theorem dX9_putIn_2 : decode cX9_putIn 2 = .ok (.invokevirtual 75, 3) := dk_182 0 75 (dk_at dksX9_putIn_0 2 rfl rfl)
theorem dX9_putIn_5 : decode cX9_putIn 5 = .ok (.ifCond .eq 31, 3) := dk_153 0 31 (dk_at dksX9_putIn_0 5 rfl rfl)
theorem dX9_putIn_8 : decode cX9_putIn 8 = .ok (.new 8, 3) := dk_187 0 8 (dk_at dksX9_putIn_0 8 rfl rfl)
theorem dX9_putIn_11 : decode cX9_putIn 11 = .ok (.dup, 1) := dk_89 (dk_at dksX9_putIn_0 11 rfl rfl)
theorem dX9_putIn_12 : decode cX9_putIn 12 = .ok (.aload_n 0, 1) := dk_42 (dk_at dksX9_putIn_0 12 rfl rfl)
theorem dX9_putIn_13 : decode cX9_putIn 13 = .ok (.getfield 7, 3) := dk_180 0 7 (dk_at dksX9_putIn_0 13 rfl rfl)
theorem dX9_putIn_16 : decode cX9_putIn 16 = .ok (.iload_n 1, 1) := dk_27 (dk_at dksX9_putIn_0 16 rfl rfl)
theorem dX9_putIn_17 : decode cX9_putIn 17 = .ok (.aload_n 2, 1) := dk_44 (dk_at dksX9_putIn_0 17 rfl rfl)
theorem dX9_putIn_18 : decode cX9_putIn 18 = .ok (.invokevirtual 106, 3) := dk_182 0 106 (dk_at dksX9_putIn_0 18 rfl rfl)
theorem dX9_putIn_21 : decode cX9_putIn 21 = .ok (.aload_n 0, 1) := dk_42 (dk_at dksX9_putIn_0 21 rfl rfl)
theorem dX9_putIn_22 : decode cX9_putIn 22 = .ok (.getfield 13, 3) := dk_180 0 13 (dk_at dksX9_putIn_1 0 rfl rfl)
theorem dX9_putIn_25 : decode cX9_putIn 25 = .ok (.iload_n 1, 1) := dk_27 (dk_at dksX9_putIn_1 3 rfl rfl)
theorem dX9_putIn_26 : decode cX9_putIn 26 = .ok (.aload_n 2, 1) := dk_44 (dk_at dksX9_putIn_1 4 rfl rfl)
theorem dX9_putIn_27 : decode cX9_putIn 27 = .ok (.invokevirtual 106, 3) := dk_182 0 106 (dk_at dksX9_putIn_1 5 rfl rfl)
theorem dX9_putIn_30 : decode cX9_putIn 30 = .ok (.invokespecial 85, 3) := dk_183 0 85 (dk_at dksX9_putIn_1 8 rfl rfl)
theorem dX9_putIn_33 : decode cX9_putIn 33 = .ok (.goto 4, 3) := dk_167 0 4 (dk_at dksX9_putIn_1 11 rfl rfl)
theorem dX9_putIn_36 : decode cX9_putIn 36 = .ok (.aload_n 0, 1) := dk_42 (dk_at dksX9_putIn_1 14 rfl rfl)
theorem dX9_putIn_37 : decode cX9_putIn 37 = .ok (.areturn, 1) := dk_176 (dk_at dksX9_putIn_1 15 rfl rfl)
abbrev cX9_count : ByteArray := prog_7_method_6_code
def yX9_count : MethodName := ⟨RX9, "count", "(I)I"⟩
def dkwX9_count_0 : List UInt8 := [42, 180, 0, 7, 27, 182, 0, 44, 42, 180, 0, 13, 27, 182, 0, 44, 96, 172]
abbrev dktX9_count_0 : List UInt8 := dkwX9_count_0 ++ []
theorem dksX9_count_0 : cX9_count.data.toList.drop 0 = dktX9_count_0 := by decide +kernel
theorem dX9_count_0 : decode cX9_count 0 = .ok (.aload_n 0, 1) := dk_42 (dk_at dksX9_count_0 0 rfl rfl)
theorem dX9_count_1 : decode cX9_count 1 = .ok (.getfield 7, 3) := dk_180 0 7 (dk_at dksX9_count_0 1 rfl rfl)
theorem dX9_count_4 : decode cX9_count 4 = .ok (.iload_n 1, 1) := dk_27 (dk_at dksX9_count_0 4 rfl rfl)
theorem dX9_count_5 : decode cX9_count 5 = .ok (.invokevirtual 44, 3) := dk_182 0 44 (dk_at dksX9_count_0 5 rfl rfl)
theorem dX9_count_8 : decode cX9_count 8 = .ok (.aload_n 0, 1) := dk_42 (dk_at dksX9_count_0 8 rfl rfl)
theorem dX9_count_9 : decode cX9_count 9 = .ok (.getfield 13, 3) := dk_180 0 13 (dk_at dksX9_count_0 9 rfl rfl)
theorem dX9_count_12 : decode cX9_count 12 = .ok (.iload_n 1, 1) := dk_27 (dk_at dksX9_count_0 12 rfl rfl)
theorem dX9_count_13 : decode cX9_count 13 = .ok (.invokevirtual 44, 3) := dk_182 0 44 (dk_at dksX9_count_0 13 rfl rfl)
theorem dX9_count_16 : decode cX9_count 16 = .ok (.iadd, 1) := dk_96 (dk_at dksX9_count_0 16 rfl rfl)
theorem dX9_count_17 : decode cX9_count 17 = .ok (.ireturn, 1) := dk_172 (dk_at dksX9_count_0 17 rfl rfl)
abbrev cX9_write : ByteArray := prog_7_method_8_code
def yX9_write : MethodName := ⟨RX9, "write", "(Ljava/lang/StringBuilder;)V"⟩
def dkwX9_write_1 : List UInt8 := [182, 0, 72, 184, 0, 68, 177]
abbrev dktX9_write_1 : List UInt8 := dkwX9_write_1 ++ []
def dkwX9_write_0 : List UInt8 := [43, 42, 180, 0, 7, 42, 180, 0, 7, 182, 0, 64, 184, 0, 68, 43, 42, 180, 0, 13, 42, 180, 0, 13]
abbrev dktX9_write_0 : List UInt8 := dkwX9_write_0 ++ dktX9_write_1
theorem dksX9_write_0 : cX9_write.data.toList.drop 0 = dktX9_write_0 := by decide +kernel
theorem dksX9_write_1 : cX9_write.data.toList.drop 24 = dktX9_write_1 := dk_seg dksX9_write_0 24 rfl rfl
theorem dX9_write_0 : decode cX9_write 0 = .ok (.aload_n 1, 1) := dk_43 (dk_at dksX9_write_0 0 rfl rfl)
theorem dX9_write_1 : decode cX9_write 1 = .ok (.aload_n 0, 1) := dk_42 (dk_at dksX9_write_0 1 rfl rfl)
theorem dX9_write_2 : decode cX9_write 2 = .ok (.getfield 7, 3) := dk_180 0 7 (dk_at dksX9_write_0 2 rfl rfl)
theorem dX9_write_5 : decode cX9_write 5 = .ok (.aload_n 0, 1) := dk_42 (dk_at dksX9_write_0 5 rfl rfl)
theorem dX9_write_6 : decode cX9_write 6 = .ok (.getfield 7, 3) := dk_180 0 7 (dk_at dksX9_write_0 6 rfl rfl)
theorem dX9_write_9 : decode cX9_write 9 = .ok (.invokevirtual 64, 3) := dk_182 0 64 (dk_at dksX9_write_0 9 rfl rfl)
theorem dX9_write_12 : decode cX9_write 12 = .ok (.invokestatic 68, 3) := dk_184 0 68 (dk_at dksX9_write_0 12 rfl rfl)
theorem dX9_write_15 : decode cX9_write 15 = .ok (.aload_n 1, 1) := dk_43 (dk_at dksX9_write_0 15 rfl rfl)
theorem dX9_write_16 : decode cX9_write 16 = .ok (.aload_n 0, 1) := dk_42 (dk_at dksX9_write_0 16 rfl rfl)
theorem dX9_write_17 : decode cX9_write 17 = .ok (.getfield 13, 3) := dk_180 0 13 (dk_at dksX9_write_0 17 rfl rfl)
theorem dX9_write_20 : decode cX9_write 20 = .ok (.aload_n 0, 1) := dk_42 (dk_at dksX9_write_0 20 rfl rfl)
theorem dX9_write_21 : decode cX9_write 21 = .ok (.getfield 13, 3) := dk_180 0 13 (dk_at dksX9_write_0 21 rfl rfl)
theorem dX9_write_24 : decode cX9_write 24 = .ok (.invokevirtual 72, 3) := dk_182 0 72 (dk_at dksX9_write_1 0 rfl rfl)
theorem dX9_write_27 : decode cX9_write 27 = .ok (.invokestatic 68, 3) := dk_184 0 68 (dk_at dksX9_write_1 3 rfl rfl)
theorem dX9_write_30 : decode cX9_write 30 = .ok (.return_, 1) := dk_177 (dk_at dksX9_write_1 6 rfl rfl)
abbrev cX9_writeIn : ByteArray := prog_7_method_7_code
def yX9_writeIn : MethodName := ⟨RX9, "writeIn", "(Ljava/lang/StringBuilder;LBinderPress$Term;Z)V"⟩
def dkwX9_writeIn_1 : List UInt8 := [153, 0, 8, 18, 62, 167, 0, 5, 18, 50, 182, 0, 52, 87, 177]
abbrev dktX9_writeIn_1 : List UInt8 := dkwX9_writeIn_1 ++ []
def dkwX9_writeIn_0 : List UInt8 := [42, 28, 153, 0, 8, 18, 48, 167, 0, 5, 18, 50, 182, 0, 52, 87, 43, 42, 182, 0, 58, 42, 28]
abbrev dktX9_writeIn_0 : List UInt8 := dkwX9_writeIn_0 ++ dktX9_writeIn_1
theorem dksX9_writeIn_0 : cX9_writeIn.data.toList.drop 0 = dktX9_writeIn_0 := by decide +kernel
theorem dksX9_writeIn_1 : cX9_writeIn.data.toList.drop 23 = dktX9_writeIn_1 := dk_seg dksX9_writeIn_0 23 rfl rfl
theorem dX9_writeIn_0 : decode cX9_writeIn 0 = .ok (.aload_n 0, 1) := dk_42 (dk_at dksX9_writeIn_0 0 rfl rfl)
theorem dX9_writeIn_1 : decode cX9_writeIn 1 = .ok (.iload_n 2, 1) := dk_28 (dk_at dksX9_writeIn_0 1 rfl rfl)
theorem dX9_writeIn_2 : decode cX9_writeIn 2 = .ok (.ifCond .eq 8, 3) := dk_153 0 8 (dk_at dksX9_writeIn_0 2 rfl rfl)
theorem dX9_writeIn_5 : decode cX9_writeIn 5 = .ok (.ldc 48, 2) := dk_18 48 (dk_at dksX9_writeIn_0 5 rfl rfl)
theorem dX9_writeIn_7 : decode cX9_writeIn 7 = .ok (.goto 5, 3) := dk_167 0 5 (dk_at dksX9_writeIn_0 7 rfl rfl)
theorem dX9_writeIn_10 : decode cX9_writeIn 10 = .ok (.ldc 50, 2) := dk_18 50 (dk_at dksX9_writeIn_0 10 rfl rfl)
theorem dX9_writeIn_12 : decode cX9_writeIn 12 = .ok (.invokevirtual 52, 3) := dk_182 0 52 (dk_at dksX9_writeIn_0 12 rfl rfl)
theorem dX9_writeIn_15 : decode cX9_writeIn 15 = .ok (.pop, 1) := dk_87 (dk_at dksX9_writeIn_0 15 rfl rfl)
theorem dX9_writeIn_16 : decode cX9_writeIn 16 = .ok (.aload_n 1, 1) := dk_43 (dk_at dksX9_writeIn_0 16 rfl rfl)
theorem dX9_writeIn_17 : decode cX9_writeIn 17 = .ok (.aload_n 0, 1) := dk_42 (dk_at dksX9_writeIn_0 17 rfl rfl)
theorem dX9_writeIn_18 : decode cX9_writeIn 18 = .ok (.invokevirtual 58, 3) := dk_182 0 58 (dk_at dksX9_writeIn_0 18 rfl rfl)
theorem dX9_writeIn_21 : decode cX9_writeIn 21 = .ok (.aload_n 0, 1) := dk_42 (dk_at dksX9_writeIn_0 21 rfl rfl)
theorem dX9_writeIn_22 : decode cX9_writeIn 22 = .ok (.iload_n 2, 1) := dk_28 (dk_at dksX9_writeIn_0 22 rfl rfl)
theorem dX9_writeIn_23 : decode cX9_writeIn 23 = .ok (.ifCond .eq 8, 3) := dk_153 0 8 (dk_at dksX9_writeIn_1 0 rfl rfl)
theorem dX9_writeIn_26 : decode cX9_writeIn 26 = .ok (.ldc 62, 2) := dk_18 62 (dk_at dksX9_writeIn_1 3 rfl rfl)
theorem dX9_writeIn_28 : decode cX9_writeIn 28 = .ok (.goto 5, 3) := dk_167 0 5 (dk_at dksX9_writeIn_1 5 rfl rfl)
theorem dX9_writeIn_31 : decode cX9_writeIn 31 = .ok (.ldc 50, 2) := dk_18 50 (dk_at dksX9_writeIn_1 8 rfl rfl)
theorem dX9_writeIn_33 : decode cX9_writeIn 33 = .ok (.invokevirtual 52, 3) := dk_182 0 52 (dk_at dksX9_writeIn_1 10 rfl rfl)
theorem dX9_writeIn_36 : decode cX9_writeIn 36 = .ok (.pop, 1) := dk_87 (dk_at dksX9_writeIn_1 13 rfl rfl)
theorem dX9_writeIn_37 : decode cX9_writeIn 37 = .ok (.return_, 1) := dk_177 (dk_at dksX9_writeIn_1 14 rfl rfl)
abbrev cX9_isBracketed : ByteArray := prog_7_method_9_code
def yX9_isBracketed : MethodName := ⟨RX9, "isBracketed", "()Z"⟩
theorem dX9_isBracketed_0 : decode cX9_isBracketed 0 = .ok (.iconst 1, 1) := by decide +kernel
theorem dX9_isBracketed_1 : decode cX9_isBracketed 1 = .ok (.ireturn, 1) := by decide +kernel
abbrev cX9_deep : ByteArray := prog_7_method_5_code
def yX9_deep : MethodName := ⟨RX9, "deep", "()I"⟩
def dkwX9_deep_0 : List UInt8 := [4, 42, 180, 0, 7, 182, 0, 38, 42, 180, 0, 13, 182, 0, 38, 184, 0, 41, 96, 172]
abbrev dktX9_deep_0 : List UInt8 := dkwX9_deep_0 ++ []
theorem dksX9_deep_0 : cX9_deep.data.toList.drop 0 = dktX9_deep_0 := by decide +kernel
theorem dX9_deep_0 : decode cX9_deep 0 = .ok (.iconst 1, 1) := dk_4 (dk_at dksX9_deep_0 0 rfl rfl)
theorem dX9_deep_1 : decode cX9_deep 1 = .ok (.aload_n 0, 1) := dk_42 (dk_at dksX9_deep_0 1 rfl rfl)
theorem dX9_deep_2 : decode cX9_deep 2 = .ok (.getfield 7, 3) := dk_180 0 7 (dk_at dksX9_deep_0 2 rfl rfl)
theorem dX9_deep_5 : decode cX9_deep 5 = .ok (.invokevirtual 38, 3) := dk_182 0 38 (dk_at dksX9_deep_0 5 rfl rfl)
theorem dX9_deep_8 : decode cX9_deep 8 = .ok (.aload_n 0, 1) := dk_42 (dk_at dksX9_deep_0 8 rfl rfl)
theorem dX9_deep_9 : decode cX9_deep 9 = .ok (.getfield 13, 3) := dk_180 0 13 (dk_at dksX9_deep_0 9 rfl rfl)
theorem dX9_deep_12 : decode cX9_deep 12 = .ok (.invokevirtual 38, 3) := dk_182 0 38 (dk_at dksX9_deep_0 12 rfl rfl)
theorem dX9_deep_15 : decode cX9_deep 15 = .ok (.invokestatic 41, 3) := dk_184 0 41 (dk_at dksX9_deep_0 15 rfl rfl)
theorem dX9_deep_18 : decode cX9_deep 18 = .ok (.iadd, 1) := dk_96 (dk_at dksX9_deep_0 18 rfl rfl)
theorem dX9_deep_19 : decode cX9_deep 19 = .ok (.ireturn, 1) := dk_172 (dk_at dksX9_deep_0 19 rfl rfl)
abbrev cX9_isSame : ByteArray := prog_7_method_13_code
def yX9_isSame : MethodName := ⟨RX9, "isSame", "(LBinderPress$Term;)Z"⟩
def dkwX9_isSame_2 : List UInt8 := [153, 0, 7, 4, 167, 0, 4, 3, 172]
abbrev dktX9_isSame_2 : List UInt8 := dkwX9_isSame_2 ++ []
def dkwX9_isSame_1 : List UInt8 := [180, 0, 7, 44, 180, 0, 7, 182, 0, 110, 153, 0, 21, 42, 180, 0, 13, 44, 180, 0, 13, 182, 0, 110]
abbrev dktX9_isSame_1 : List UInt8 := dkwX9_isSame_1 ++ dktX9_isSame_2
def dkwX9_isSame_0 : List UInt8 := [43, 193, 0, 8, 153, 0, 51, 43, 192, 0, 8, 77, 44, 180, 0, 27, 42, 180, 0, 27, 160, 0, 35, 42]
abbrev dktX9_isSame_0 : List UInt8 := dkwX9_isSame_0 ++ dktX9_isSame_1
theorem dksX9_isSame_0 : cX9_isSame.data.toList.drop 0 = dktX9_isSame_0 := by decide +kernel
theorem dksX9_isSame_1 : cX9_isSame.data.toList.drop 24 = dktX9_isSame_1 := dk_seg dksX9_isSame_0 24 rfl rfl
theorem dksX9_isSame_2 : cX9_isSame.data.toList.drop 48 = dktX9_isSame_2 := dk_seg dksX9_isSame_1 24 rfl rfl
theorem dX9_isSame_0 : decode cX9_isSame 0 = .ok (.aload_n 1, 1) := dk_43 (dk_at dksX9_isSame_0 0 rfl rfl)
theorem dX9_isSame_1 : decode cX9_isSame 1 = .ok (.instanceof 8, 3) := dk_193 0 8 (dk_at dksX9_isSame_0 1 rfl rfl)
theorem dX9_isSame_4 : decode cX9_isSame 4 = .ok (.ifCond .eq 51, 3) := dk_153 0 51 (dk_at dksX9_isSame_0 4 rfl rfl)
theorem dX9_isSame_7 : decode cX9_isSame 7 = .ok (.aload_n 1, 1) := dk_43 (dk_at dksX9_isSame_0 7 rfl rfl)
theorem dX9_isSame_8 : decode cX9_isSame 8 = .ok (.checkcast 8, 3) := dk_192 0 8 (dk_at dksX9_isSame_0 8 rfl rfl)
theorem dX9_isSame_11 : decode cX9_isSame 11 = .ok (.astore_n 2, 1) := dk_77 (dk_at dksX9_isSame_0 11 rfl rfl)
theorem dX9_isSame_12 : decode cX9_isSame 12 = .ok (.aload_n 2, 1) := dk_44 (dk_at dksX9_isSame_0 12 rfl rfl)
theorem dX9_isSame_13 : decode cX9_isSame 13 = .ok (.getfield 27, 3) := dk_180 0 27 (dk_at dksX9_isSame_0 13 rfl rfl)
theorem dX9_isSame_16 : decode cX9_isSame 16 = .ok (.aload_n 0, 1) := dk_42 (dk_at dksX9_isSame_0 16 rfl rfl)
theorem dX9_isSame_17 : decode cX9_isSame 17 = .ok (.getfield 27, 3) := dk_180 0 27 (dk_at dksX9_isSame_0 17 rfl rfl)
theorem dX9_isSame_20 : decode cX9_isSame 20 = .ok (.if_icmp .ne 35, 3) := dk_160 0 35 (dk_at dksX9_isSame_0 20 rfl rfl)
theorem dX9_isSame_23 : decode cX9_isSame 23 = .ok (.aload_n 0, 1) := dk_42 (dk_at dksX9_isSame_0 23 rfl rfl)
theorem dX9_isSame_24 : decode cX9_isSame 24 = .ok (.getfield 7, 3) := dk_180 0 7 (dk_at dksX9_isSame_1 0 rfl rfl)
theorem dX9_isSame_27 : decode cX9_isSame 27 = .ok (.aload_n 2, 1) := dk_44 (dk_at dksX9_isSame_1 3 rfl rfl)
theorem dX9_isSame_28 : decode cX9_isSame 28 = .ok (.getfield 7, 3) := dk_180 0 7 (dk_at dksX9_isSame_1 4 rfl rfl)
theorem dX9_isSame_31 : decode cX9_isSame 31 = .ok (.invokevirtual 110, 3) := dk_182 0 110 (dk_at dksX9_isSame_1 7 rfl rfl)
theorem dX9_isSame_34 : decode cX9_isSame 34 = .ok (.ifCond .eq 21, 3) := dk_153 0 21 (dk_at dksX9_isSame_1 10 rfl rfl)
theorem dX9_isSame_37 : decode cX9_isSame 37 = .ok (.aload_n 0, 1) := dk_42 (dk_at dksX9_isSame_1 13 rfl rfl)
theorem dX9_isSame_38 : decode cX9_isSame 38 = .ok (.getfield 13, 3) := dk_180 0 13 (dk_at dksX9_isSame_1 14 rfl rfl)
theorem dX9_isSame_41 : decode cX9_isSame 41 = .ok (.aload_n 2, 1) := dk_44 (dk_at dksX9_isSame_1 17 rfl rfl)
theorem dX9_isSame_42 : decode cX9_isSame 42 = .ok (.getfield 13, 3) := dk_180 0 13 (dk_at dksX9_isSame_1 18 rfl rfl)
theorem dX9_isSame_45 : decode cX9_isSame 45 = .ok (.invokevirtual 110, 3) := dk_182 0 110 (dk_at dksX9_isSame_1 21 rfl rfl)
theorem dX9_isSame_48 : decode cX9_isSame 48 = .ok (.ifCond .eq 7, 3) := dk_153 0 7 (dk_at dksX9_isSame_2 0 rfl rfl)
theorem dX9_isSame_51 : decode cX9_isSame 51 = .ok (.iconst 1, 1) := dk_4 (dk_at dksX9_isSame_2 3 rfl rfl)
theorem dX9_isSame_52 : decode cX9_isSame 52 = .ok (.goto 4, 3) := dk_167 0 4 (dk_at dksX9_isSame_2 4 rfl rfl)
theorem dX9_isSame_55 : decode cX9_isSame 55 = .ok (.iconst 0, 1) := dk_3 (dk_at dksX9_isSame_2 7 rfl rfl)
theorem dX9_isSame_56 : decode cX9_isSame 56 = .ok (.ireturn, 1) := dk_172 (dk_at dksX9_isSame_2 8 rfl rfl)
theorem q96 : (Jvm.Cond.initialized "BinderPress$Put") ∈ lw_all := lw_g (lw_at lw_m1 13 rfl) rfl
theorem q420 : (Jvm.Cond.instantiable "BinderPress$Put" (5 : Nat)) ∈ lw_all := lw_g (lw_at lw_m2 97 rfl) rfl
theorem q422 : (Jvm.Cond.instanceMethod ({ cls := "BinderPress$Put", name := "<init>", desc := "(LBinderPress$Term;LBinderPress$Term;)V" } : Jvm.MethodName)) ∈ lw_all := lw_g (lw_at lw_m2 99 rfl) rfl
theorem q423 : (Jvm.Cond.code ({ cls := "BinderPress$Put", name := "<init>", desc := "(LBinderPress$Term;LBinderPress$Term;)V" } : Jvm.MethodName) prog_7_method_1_code (3 : Nat) (Option.none : Option Jvm.ClassFile.FieldType)) ∈ lw_all := lw_g (lw_at lw_m2 100 rfl) rfl
theorem q424 : (Jvm.Cond.methodLinkNest "BinderPress$Put" (1 : Nat) ({ cls := "BinderPress$Term", name := "<init>", desc := "()V" } : Jvm.MethodName) "BinderPress") ∈ lw_tbl := lw_at lw_m2 101 rfl
theorem q425 : (Jvm.Cond.constant "BinderPress$Put" (16 : Nat) (99999 : Int32)) ∈ lw_all := lw_g (lw_at lw_m2 102 rfl) rfl
theorem q434 : (Jvm.Cond.selects "BinderPress$Put" ({ cls := "BinderPress$Sized", name := "size", desc := "()I" } : Jvm.MethodName) ({ cls := "BinderPress$Put", name := "size", desc := "()I" } : Jvm.MethodName)) ∈ lw_all := lw_g (lw_at lw_m2 111 rfl) rfl
theorem q435 : (Jvm.Cond.instanceMethod ({ cls := "BinderPress$Put", name := "size", desc := "()I" } : Jvm.MethodName)) ∈ lw_all := lw_g (lw_at lw_m2 112 rfl) rfl
theorem q436 : (Jvm.Cond.code ({ cls := "BinderPress$Put", name := "size", desc := "()I" } : Jvm.MethodName) prog_7_method_2_code (1 : Nat) (Option.some Jvm.ClassFile.FieldType.int)) ∈ lw_all := lw_g (lw_at lw_m2 113 rfl) rfl
theorem q440 : (Jvm.Cond.methodLink "BinderPress$Put" (21 : Nat) ({ cls := "java/lang/Math", name := "min", desc := "(II)I" } : Jvm.MethodName)) ∈ lw_all := lw_g (lw_at lw_m2 117 rfl) rfl
theorem q443 : (Jvm.Cond.methodLink "BinderPress$Put" (30 : Nat) ({ cls := "BinderPress$Term", name := "free", desc := "()I" } : Jvm.MethodName)) ∈ lw_all := lw_g (lw_at lw_m2 120 rfl) rfl
theorem q452 : (Jvm.Cond.instanceMethod ({ cls := "BinderPress$Put", name := "free", desc := "()I" } : Jvm.MethodName)) ∈ lw_all := lw_g (lw_at lw_m2 129 rfl) rfl
theorem q453 : (Jvm.Cond.code ({ cls := "BinderPress$Put", name := "free", desc := "()I" } : Jvm.MethodName) prog_7_method_3_code (1 : Nat) (Option.some Jvm.ClassFile.FieldType.int)) ∈ lw_all := lw_g (lw_at lw_m2 130 rfl) rfl
theorem q457 : (Jvm.Cond.selects "BinderPress$Put" ({ cls := "BinderPress$Term", name := "free", desc := "()I" } : Jvm.MethodName) ({ cls := "BinderPress$Put", name := "free", desc := "()I" } : Jvm.MethodName)) ∈ lw_all := lw_g (lw_at lw_m2 134 rfl) rfl
theorem q459 : (Jvm.Cond.fieldLink "BinderPress$Put" (7 : Nat) "BinderPress$Put" "left" "LBinderPress$Term;") ∈ lw_all := lw_g (lw_at lw_m2 136 rfl) rfl
theorem q462 : (Jvm.Cond.fieldLink "BinderPress$Put" (13 : Nat) "BinderPress$Put" "right" "LBinderPress$Term;") ∈ lw_all := lw_g (lw_at lw_m2 139 rfl) rfl
theorem q465 : (Jvm.Cond.fieldLink "BinderPress$Put" (27 : Nat) "BinderPress$Put" "size" "I") ∈ lw_all := lw_g (lw_at lw_m2 142 rfl) rfl
theorem q466 : (Jvm.Cond.fieldLink "BinderPress$Put" (33 : Nat) "BinderPress$Put" "free" "I") ∈ lw_all := lw_g (lw_at lw_m2 143 rfl) rfl
theorem q467 : (Jvm.Cond.fieldLink "BinderPress$Put" (98 : Nat) "BinderPress$Put" "done" "LBinderPress$Term;") ∈ lw_all := lw_g (lw_at lw_m2 144 rfl) rfl
theorem q468 : (Jvm.Cond.laysFinal "BinderPress$Put" "BinderPress$Put" "left" "LBinderPress$Term;") ∈ lw_all := lw_g (lw_at lw_m2 145 rfl) rfl
theorem q469 : (Jvm.Cond.soleField "BinderPress$Put" "left") ∈ lw_all := lw_g (lw_at lw_m2 146 rfl) rfl
theorem q470 : (Jvm.Cond.laysFinal "BinderPress$Put" "BinderPress$Put" "right" "LBinderPress$Term;") ∈ lw_all := lw_g (lw_at lw_m2 147 rfl) rfl
theorem q471 : (Jvm.Cond.soleField "BinderPress$Put" "right") ∈ lw_all := lw_g (lw_at lw_m2 148 rfl) rfl
theorem q472 : (Jvm.Cond.laysFinal "BinderPress$Put" "BinderPress$Put" "size" "I") ∈ lw_all := lw_g (lw_at lw_m2 149 rfl) rfl
theorem q473 : (Jvm.Cond.soleField "BinderPress$Put" "size") ∈ lw_all := lw_g (lw_at lw_m2 150 rfl) rfl
theorem q474 : (Jvm.Cond.laysFinal "BinderPress$Put" "BinderPress$Put" "free" "I") ∈ lw_all := lw_g (lw_at lw_m2 151 rfl) rfl
theorem q475 : (Jvm.Cond.soleField "BinderPress$Put" "free") ∈ lw_all := lw_g (lw_at lw_m2 152 rfl) rfl
theorem q476 : (Jvm.Cond.lays "BinderPress$Put" "BinderPress$Put" "done" "LBinderPress$Term;") ∈ lw_all := lw_g (lw_at lw_m2 153 rfl) rfl
theorem q477 : (Jvm.Cond.soleField "BinderPress$Put" "done") ∈ lw_all := lw_g (lw_at lw_m2 154 rfl) rfl
theorem q478 : (Jvm.Cond.superclass "BinderPress$Put" "BinderPress$Term") ∈ lw_all := lw_g (lw_at lw_m2 155 rfl) rfl
theorem q504 : (Jvm.Cond.instanceMethod ({ cls := "BinderPress$Put", name := "compiled", desc := "()LBinderPress$Term;" } : Jvm.MethodName)) ∈ lw_all := lw_g (lw_at lw_m2 181 rfl) rfl
theorem q505 : (Jvm.Cond.code ({ cls := "BinderPress$Put", name := "compiled", desc := "()LBinderPress$Term;" } : Jvm.MethodName) prog_7_method_11_code (1 : Nat) (Option.some (Jvm.ClassFile.FieldType.object "BinderPress$Term"))) ∈ lw_all := lw_g (lw_at lw_m2 182 rfl) rfl
theorem q506 : (Jvm.Cond.methodLink "BinderPress$Put" (101 : Nat) ({ cls := "BinderPress$Put", name := "binders", desc := "()I" } : Jvm.MethodName)) ∈ lw_all := lw_g (lw_at lw_m2 183 rfl) rfl
theorem q507 : (Jvm.Cond.instanceMethod ({ cls := "BinderPress$Put", name := "binders", desc := "()I" } : Jvm.MethodName)) ∈ lw_all := lw_g (lw_at lw_m2 184 rfl) rfl
theorem q508 : (Jvm.Cond.selects "BinderPress$Put" ({ cls := "BinderPress$Put", name := "binders", desc := "()I" } : Jvm.MethodName) ({ cls := "BinderPress$Put", name := "binders", desc := "()I" } : Jvm.MethodName)) ∈ lw_all := lw_g (lw_at lw_m2 185 rfl) rfl
theorem q509 : (Jvm.Cond.code ({ cls := "BinderPress$Put", name := "binders", desc := "()I" } : Jvm.MethodName) prog_7_method_4_code (1 : Nat) (Option.some Jvm.ClassFile.FieldType.int)) ∈ lw_all := lw_g (lw_at lw_m2 186 rfl) rfl
theorem q510 : (Jvm.Cond.methodLink "BinderPress$Put" (35 : Nat) ({ cls := "BinderPress$Term", name := "binders", desc := "()I" } : Jvm.MethodName)) ∈ lw_all := lw_g (lw_at lw_m2 187 rfl) rfl
theorem q522 : (Jvm.Cond.selects "BinderPress$Put" ({ cls := "BinderPress$Term", name := "binders", desc := "()I" } : Jvm.MethodName) ({ cls := "BinderPress$Put", name := "binders", desc := "()I" } : Jvm.MethodName)) ∈ lw_all := lw_g (lw_at lw_m2 199 rfl) rfl
theorem q524 : (Jvm.Cond.classLink "BinderPress$Put" (8 : Nat) "BinderPress$Put") ∈ lw_all := lw_g (lw_at lw_m2 201 rfl) rfl
theorem q525 : (Jvm.Cond.methodLink "BinderPress$Put" (102 : Nat) ({ cls := "BinderPress$Term", name := "compiled", desc := "()LBinderPress$Term;" } : Jvm.MethodName)) ∈ lw_all := lw_g (lw_at lw_m2 202 rfl) rfl
theorem q528 : (Jvm.Cond.methodLink "BinderPress$Put" (85 : Nat) ({ cls := "BinderPress$Put", name := "<init>", desc := "(LBinderPress$Term;LBinderPress$Term;)V" } : Jvm.MethodName)) ∈ lw_all := lw_g (lw_at lw_m2 205 rfl) rfl
theorem q541 : (Jvm.Cond.instanceMethod ({ cls := "BinderPress$Put", name := "out", desc := "(I)LBinderPress$Term;" } : Jvm.MethodName)) ∈ lw_all := lw_g (lw_at lw_m2 218 rfl) rfl
theorem q542 : (Jvm.Cond.code ({ cls := "BinderPress$Put", name := "out", desc := "(I)LBinderPress$Term;" } : Jvm.MethodName) prog_7_method_10_code (2 : Nat) (Option.some (Jvm.ClassFile.FieldType.object "BinderPress$Term"))) ∈ lw_all := lw_g (lw_at lw_m2 219 rfl) rfl
theorem q543 : (Jvm.Cond.methodLink "BinderPress$Put" (75 : Nat) ({ cls := "BinderPress$Put", name := "hasFree", desc := "(I)Z" } : Jvm.MethodName)) ∈ lw_all := lw_g (lw_at lw_m2 220 rfl) rfl
theorem q544 : (Jvm.Cond.sameMethod "BinderPress$Put" "BinderPress$Term" "hasFree" "(I)Z") ∈ lw_all := lw_g (lw_at lw_m2 221 rfl) rfl
theorem q546 : (Jvm.Cond.selects "BinderPress$Put" ({ cls := "BinderPress$Put", name := "hasFree", desc := "(I)Z" } : Jvm.MethodName) ({ cls := "BinderPress$Term", name := "hasFree", desc := "(I)Z" } : Jvm.MethodName)) ∈ lw_all := lw_g (lw_at lw_m2 223 rfl) rfl
theorem q550 : (Jvm.Cond.methodLinkNest "BinderPress$Put" (79 : Nat) ({ cls := "BinderPress", name := "signOf", desc := "(I)LBinderPress$Term;" } : Jvm.MethodName) "BinderPress") ∈ lw_tbl := lw_at lw_m2 227 rfl
theorem q551 : (Jvm.Cond.methodLink "BinderPress$Put" (88 : Nat) ({ cls := "BinderPress$Term", name := "hasFree", desc := "(I)Z" } : Jvm.MethodName)) ∈ lw_all := lw_g (lw_at lw_m2 228 rfl) rfl
theorem q552 : (Jvm.Cond.classLink "BinderPress$Put" (89 : Nat) "BinderPress$Name") ∈ lw_all := lw_g (lw_at lw_m2 229 rfl) rfl
theorem q553 : (Jvm.Cond.methodLink "BinderPress$Put" (91 : Nat) ({ cls := "BinderPress$Term", name := "out", desc := "(I)LBinderPress$Term;" } : Jvm.MethodName)) ∈ lw_all := lw_g (lw_at lw_m2 230 rfl) rfl
theorem q559 : (Jvm.Cond.methodLinkNest "BinderPress$Put" (94 : Nat) ({ cls := "BinderPress", name := "puts", desc := "(LBinderPress$Term;LBinderPress$Term;LBinderPress$Term;)LBinderPress$Term;" } : Jvm.MethodName) "BinderPress") ∈ lw_tbl := lw_at lw_m2 236 rfl
theorem q565 : (Jvm.Cond.selects "BinderPress$Put" ({ cls := "BinderPress$Term", name := "out", desc := "(I)LBinderPress$Term;" } : Jvm.MethodName) ({ cls := "BinderPress$Put", name := "out", desc := "(I)LBinderPress$Term;" } : Jvm.MethodName)) ∈ lw_all := lw_g (lw_at lw_m3 2 rfl) rfl
theorem q568 : (Jvm.Cond.selects "BinderPress$Put" ({ cls := "BinderPress$Term", name := "compiled", desc := "()LBinderPress$Term;" } : Jvm.MethodName) ({ cls := "BinderPress$Put", name := "compiled", desc := "()LBinderPress$Term;" } : Jvm.MethodName)) ∈ lw_all := lw_g (lw_at lw_m3 5 rfl) rfl
theorem q577 : (Jvm.Cond.unhidden "BinderPress$Put" "isSmall" "()Z") ∈ lw_tbl := lw_at lw_m3 14 rfl
theorem q591 : (Jvm.Cond.castable "BinderPress$Put" "BinderPress$Sized") ∈ lw_tbl := lw_at lw_m3 28 rfl
theorem q592 : (Jvm.Cond.unhidden "BinderPress$Put" "size" "()I") ∈ lw_tbl := lw_at lw_m3 29 rfl
theorem q593 : (Jvm.Cond.publicMethod ({ cls := "BinderPress$Put", name := "size", desc := "()I" } : Jvm.MethodName)) ∈ lw_tbl := lw_at lw_m3 30 rfl
theorem q628 : (Jvm.Cond.selects "BinderPress$Put" ({ cls := "BinderPress$Term", name := "putIn", desc := "(ILBinderPress$Term;)LBinderPress$Term;" } : Jvm.MethodName) ({ cls := "BinderPress$Put", name := "putIn", desc := "(ILBinderPress$Term;)LBinderPress$Term;" } : Jvm.MethodName)) ∈ lw_all := lw_g (lw_at lw_m3 65 rfl) rfl
theorem q629 : (Jvm.Cond.instanceMethod ({ cls := "BinderPress$Put", name := "putIn", desc := "(ILBinderPress$Term;)LBinderPress$Term;" } : Jvm.MethodName)) ∈ lw_all := lw_g (lw_at lw_m3 66 rfl) rfl
theorem q630 : (Jvm.Cond.code ({ cls := "BinderPress$Put", name := "putIn", desc := "(ILBinderPress$Term;)LBinderPress$Term;" } : Jvm.MethodName) prog_7_method_12_code (3 : Nat) (Option.some (Jvm.ClassFile.FieldType.object "BinderPress$Term"))) ∈ lw_all := lw_g (lw_at lw_m3 67 rfl) rfl
theorem q631 : (Jvm.Cond.methodLink "BinderPress$Put" (106 : Nat) ({ cls := "BinderPress$Term", name := "putIn", desc := "(ILBinderPress$Term;)LBinderPress$Term;" } : Jvm.MethodName)) ∈ lw_all := lw_g (lw_at lw_m3 68 rfl) rfl
theorem q860 : (Jvm.Cond.instanceMethod ({ cls := "BinderPress$Put", name := "count", desc := "(I)I" } : Jvm.MethodName)) ∈ lw_all := lw_g (lw_at lw_m4 57 rfl) rfl
theorem q861 : (Jvm.Cond.code ({ cls := "BinderPress$Put", name := "count", desc := "(I)I" } : Jvm.MethodName) prog_7_method_6_code (2 : Nat) (Option.some Jvm.ClassFile.FieldType.int)) ∈ lw_all := lw_g (lw_at lw_m4 58 rfl) rfl
theorem q862 : (Jvm.Cond.methodLink "BinderPress$Put" (44 : Nat) ({ cls := "BinderPress$Term", name := "count", desc := "(I)I" } : Jvm.MethodName)) ∈ lw_all := lw_g (lw_at lw_m4 59 rfl) rfl
theorem q868 : (Jvm.Cond.selects "BinderPress$Put" ({ cls := "BinderPress$Term", name := "count", desc := "(I)I" } : Jvm.MethodName) ({ cls := "BinderPress$Put", name := "count", desc := "(I)I" } : Jvm.MethodName)) ∈ lw_all := lw_g (lw_at lw_m4 65 rfl) rfl
theorem q984 : (Jvm.Cond.instanceMethod ({ cls := "BinderPress$Put", name := "write", desc := "(Ljava/lang/StringBuilder;)V" } : Jvm.MethodName)) ∈ lw_all := lw_g (lw_at lw_m4 181 rfl) rfl
theorem q985 : (Jvm.Cond.code ({ cls := "BinderPress$Put", name := "write", desc := "(Ljava/lang/StringBuilder;)V" } : Jvm.MethodName) prog_7_method_8_code (2 : Nat) (Option.none : Option Jvm.ClassFile.FieldType)) ∈ lw_all := lw_g (lw_at lw_m4 182 rfl) rfl
theorem q986 : (Jvm.Cond.methodLink "BinderPress$Put" (64 : Nat) ({ cls := "BinderPress$Term", name := "isBinder", desc := "()Z" } : Jvm.MethodName)) ∈ lw_all := lw_g (lw_at lw_m4 183 rfl) rfl
theorem q995 : (Jvm.Cond.selects "BinderPress$Put" ({ cls := "BinderPress$Term", name := "isBinder", desc := "()Z" } : Jvm.MethodName) ({ cls := "BinderPress$Term", name := "isBinder", desc := "()Z" } : Jvm.MethodName)) ∈ lw_all := lw_g (lw_at lw_m4 192 rfl) rfl
theorem q997 : (Jvm.Cond.methodLink "BinderPress$Put" (68 : Nat) ({ cls := "BinderPress$Put", name := "writeIn", desc := "(Ljava/lang/StringBuilder;LBinderPress$Term;Z)V" } : Jvm.MethodName)) ∈ lw_all := lw_g (lw_at lw_m4 194 rfl) rfl
theorem q998 : (Jvm.Cond.static ({ cls := "BinderPress$Put", name := "writeIn", desc := "(Ljava/lang/StringBuilder;LBinderPress$Term;Z)V" } : Jvm.MethodName)) ∈ lw_all := lw_g (lw_at lw_m4 195 rfl) rfl
theorem q999 : (Jvm.Cond.code ({ cls := "BinderPress$Put", name := "writeIn", desc := "(Ljava/lang/StringBuilder;LBinderPress$Term;Z)V" } : Jvm.MethodName) prog_7_method_7_code (3 : Nat) (Option.none : Option Jvm.ClassFile.FieldType)) ∈ lw_all := lw_g (lw_at lw_m4 196 rfl) rfl
theorem q1000 : (Jvm.Cond.stringRef "BinderPress$Put" (48 : Nat) "(") ∈ lw_tbl := lw_at lw_m4 197 rfl
theorem q1001 : (Jvm.Cond.stringRef "BinderPress$Put" (50 : Nat) "") ∈ lw_tbl := lw_at lw_m4 198 rfl
theorem q1002 : (Jvm.Cond.methodLink "BinderPress$Put" (52 : Nat) ({ cls := "java/lang/StringBuilder", name := "append", desc := "(Ljava/lang/String;)Ljava/lang/StringBuilder;" } : Jvm.MethodName)) ∈ lw_all := lw_g (lw_at lw_m4 199 rfl) rfl
theorem q1041 : (Jvm.Cond.methodLink "BinderPress$Put" (58 : Nat) ({ cls := "BinderPress$Term", name := "write", desc := "(Ljava/lang/StringBuilder;)V" } : Jvm.MethodName)) ∈ lw_all := lw_g (lw_at lw_m4 238 rfl) rfl
theorem q1045 : (Jvm.Cond.stringRef "BinderPress$Put" (62 : Nat) ")") ∈ lw_tbl := lw_at lw_m5 2 rfl
theorem q1046 : (Jvm.Cond.methodLink "BinderPress$Put" (72 : Nat) ({ cls := "BinderPress$Term", name := "isBracketed", desc := "()Z" } : Jvm.MethodName)) ∈ lw_all := lw_g (lw_at lw_m5 3 rfl) rfl
theorem q1053 : (Jvm.Cond.selects "BinderPress$Put" ({ cls := "BinderPress$Term", name := "isBracketed", desc := "()Z" } : Jvm.MethodName) ({ cls := "BinderPress$Put", name := "isBracketed", desc := "()Z" } : Jvm.MethodName)) ∈ lw_all := lw_g (lw_at lw_m5 10 rfl) rfl
theorem q1054 : (Jvm.Cond.instanceMethod ({ cls := "BinderPress$Put", name := "isBracketed", desc := "()Z" } : Jvm.MethodName)) ∈ lw_all := lw_g (lw_at lw_m5 11 rfl) rfl
theorem q1055 : (Jvm.Cond.code ({ cls := "BinderPress$Put", name := "isBracketed", desc := "()Z" } : Jvm.MethodName) prog_7_method_9_code (1 : Nat) (Option.some Jvm.ClassFile.FieldType.boolean)) ∈ lw_all := lw_g (lw_at lw_m5 12 rfl) rfl
theorem q1059 : (Jvm.Cond.selects "BinderPress$Put" ({ cls := "BinderPress$Term", name := "write", desc := "(Ljava/lang/StringBuilder;)V" } : Jvm.MethodName) ({ cls := "BinderPress$Put", name := "write", desc := "(Ljava/lang/StringBuilder;)V" } : Jvm.MethodName)) ∈ lw_all := lw_g (lw_at lw_m5 16 rfl) rfl
theorem q1129 : (Jvm.Cond.instanceMethod ({ cls := "BinderPress$Put", name := "deep", desc := "()I" } : Jvm.MethodName)) ∈ lw_all := lw_g (lw_at lw_m5 86 rfl) rfl
theorem q1130 : (Jvm.Cond.code ({ cls := "BinderPress$Put", name := "deep", desc := "()I" } : Jvm.MethodName) prog_7_method_5_code (1 : Nat) (Option.some Jvm.ClassFile.FieldType.int)) ∈ lw_all := lw_g (lw_at lw_m5 87 rfl) rfl
theorem q1131 : (Jvm.Cond.methodLink "BinderPress$Put" (38 : Nat) ({ cls := "BinderPress$Term", name := "deep", desc := "()I" } : Jvm.MethodName)) ∈ lw_all := lw_g (lw_at lw_m5 88 rfl) rfl
theorem q1134 : (Jvm.Cond.methodLink "BinderPress$Put" (41 : Nat) ({ cls := "java/lang/Math", name := "max", desc := "(II)I" } : Jvm.MethodName)) ∈ lw_all := lw_g (lw_at lw_m5 91 rfl) rfl
theorem q1136 : (Jvm.Cond.selects "BinderPress$Put" ({ cls := "BinderPress$Term", name := "deep", desc := "()I" } : Jvm.MethodName) ({ cls := "BinderPress$Put", name := "deep", desc := "()I" } : Jvm.MethodName)) ∈ lw_all := lw_g (lw_at lw_m5 93 rfl) rfl
theorem q1342 : (Jvm.Cond.instanceMethod ({ cls := "BinderPress$Put", name := "isSame", desc := "(LBinderPress$Term;)Z" } : Jvm.MethodName)) ∈ lw_all := lw_g (lw_at lw_m6 59 rfl) rfl
theorem q1343 : (Jvm.Cond.code ({ cls := "BinderPress$Put", name := "isSame", desc := "(LBinderPress$Term;)Z" } : Jvm.MethodName) prog_7_method_13_code (3 : Nat) (Option.some Jvm.ClassFile.FieldType.boolean)) ∈ lw_all := lw_g (lw_at lw_m6 60 rfl) rfl
theorem q1344 : (Jvm.Cond.methodLink "BinderPress$Put" (110 : Nat) ({ cls := "BinderPress$Term", name := "isSame", desc := "(LBinderPress$Term;)Z" } : Jvm.MethodName)) ∈ lw_all := lw_g (lw_at lw_m6 61 rfl) rfl
theorem q1350 : (Jvm.Cond.selects "BinderPress$Put" ({ cls := "BinderPress$Term", name := "isSame", desc := "(LBinderPress$Term;)Z" } : Jvm.MethodName) ({ cls := "BinderPress$Put", name := "isSame", desc := "(LBinderPress$Term;)Z" } : Jvm.MethodName)) ∈ lw_all := lw_g (lw_at lw_m6 67 rfl) rfl
theorem q1809 : (Jvm.Cond.selects "BinderPress$Put" ({ cls := "BinderPress$Term", name := "hasFree", desc := "(I)Z" } : Jvm.MethodName) ({ cls := "BinderPress$Term", name := "hasFree", desc := "(I)Z" } : Jvm.MethodName)) ∈ lw_all := lw_g (lw_at lw_m8 46 rfl) rfl
theorem q1825 : (Jvm.Cond.castable "BinderPress$Put" "BinderPress$Term") ∈ lw_tbl := lw_at lw_m8 62 rfl
theorem in_X9 : ∀ w ∈ wsX90, w ∈ lw_all := lw_in wsX90 [468, 470, 472, 474, 476] (by decide +kernel) (by decide +kernel)
/-! BinderPress$Sized -/
set_option maxRecDepth 100000
def RX10 : String := "BinderPress$Sized"
abbrev cX10_isSmall : ByteArray := prog_10_method_2_code
def yX10_isSmall : MethodName := ⟨RX10, "isSmall", "()Z"⟩
def dkwX10_isSmall_0 : List UInt8 := [42, 185, 0, 3, 1, 0, 184, 0, 9, 172]
abbrev dktX10_isSmall_0 : List UInt8 := dkwX10_isSmall_0 ++ []
theorem dksX10_isSmall_0 : cX10_isSmall.data.toList.drop 0 = dktX10_isSmall_0 := by decide +kernel
theorem dX10_isSmall_0 : decode cX10_isSmall 0 = .ok (.aload_n 0, 1) := dk_42 (dk_at dksX10_isSmall_0 0 rfl rfl)
theorem dX10_isSmall_1 : decode cX10_isSmall 1 = .ok (.invokeinterface 3 1, 5) := by decide +kernel
theorem dX10_isSmall_6 : decode cX10_isSmall 6 = .ok (.invokestatic 9, 3) := dk_184 0 9 (dk_at dksX10_isSmall_0 6 rfl rfl)
theorem dX10_isSmall_9 : decode cX10_isSmall 9 = .ok (.ireturn, 1) := dk_172 (dk_at dksX10_isSmall_0 9 rfl rfl)
abbrev cX10_fits : ByteArray := prog_10_method_3_code
def yX10_fits : MethodName := ⟨RX10, "fits", "(I)Z"⟩
def dkwX10_fits_0 : List UInt8 := [26, 16, 120, 163, 0, 7, 4, 167, 0, 4, 3, 172]
abbrev dktX10_fits_0 : List UInt8 := dkwX10_fits_0 ++ []
theorem dksX10_fits_0 : cX10_fits.data.toList.drop 0 = dktX10_fits_0 := by decide +kernel
theorem dX10_fits_0 : decode cX10_fits 0 = .ok (.iload_n 0, 1) := dk_26 (dk_at dksX10_fits_0 0 rfl rfl)
theorem dX10_fits_1 : decode cX10_fits 1 = .ok (.bipush 120, 2) := dk_16 120 (dk_at dksX10_fits_0 1 rfl rfl)
theorem dX10_fits_3 : decode cX10_fits 3 = .ok (.if_icmp .gt 7, 3) := dk_163 0 7 (dk_at dksX10_fits_0 3 rfl rfl)
theorem dX10_fits_6 : decode cX10_fits 6 = .ok (.iconst 1, 1) := dk_4 (dk_at dksX10_fits_0 6 rfl rfl)
theorem dX10_fits_7 : decode cX10_fits 7 = .ok (.goto 4, 3) := dk_167 0 4 (dk_at dksX10_fits_0 7 rfl rfl)
theorem dX10_fits_10 : decode cX10_fits 10 = .ok (.iconst 0, 1) := dk_3 (dk_at dksX10_fits_0 10 rfl rfl)
theorem dX10_fits_11 : decode cX10_fits 11 = .ok (.ireturn, 1) := dk_172 (dk_at dksX10_fits_0 11 rfl rfl)
theorem q99 : (Jvm.Cond.initialized "BinderPress$Sized") ∈ lw_all := lw_g (lw_at lw_m1 16 rfl) rfl
theorem q427 : (Jvm.Cond.declares ({ cls := "BinderPress$Sized", name := "size", desc := "()I" } : Jvm.MethodName)) ∈ lw_tbl := lw_at lw_m2 104 rfl
theorem q574 : (Jvm.Cond.declares ({ cls := "BinderPress$Sized", name := "isSmall", desc := "()Z" } : Jvm.MethodName)) ∈ lw_tbl := lw_at lw_m3 11 rfl
theorem q579 : (Jvm.Cond.instanceMethod ({ cls := "BinderPress$Sized", name := "isSmall", desc := "()Z" } : Jvm.MethodName)) ∈ lw_all := lw_g (lw_at lw_m3 16 rfl) rfl
theorem q580 : (Jvm.Cond.publicMethod ({ cls := "BinderPress$Sized", name := "isSmall", desc := "()Z" } : Jvm.MethodName)) ∈ lw_tbl := lw_at lw_m3 17 rfl
theorem q581 : (Jvm.Cond.code ({ cls := "BinderPress$Sized", name := "isSmall", desc := "()Z" } : Jvm.MethodName) prog_10_method_2_code (1 : Nat) (Option.some Jvm.ClassFile.FieldType.boolean)) ∈ lw_all := lw_g (lw_at lw_m3 18 rfl) rfl
theorem q582 : (Jvm.Cond.interfaceEntry "BinderPress$Sized" (3 : Nat)) ∈ lw_tbl := lw_at lw_m3 19 rfl
theorem q583 : (Jvm.Cond.methodLink "BinderPress$Sized" (3 : Nat) ({ cls := "BinderPress$Sized", name := "size", desc := "()I" } : Jvm.MethodName)) ∈ lw_all := lw_g (lw_at lw_m3 20 rfl) rfl
theorem q584 : (Jvm.Cond.interfaceMethod "BinderPress$Sized" "BinderPress$Sized" "size" "()I") ∈ lw_tbl := lw_at lw_m3 21 rfl
theorem q597 : (Jvm.Cond.methodLink "BinderPress$Sized" (9 : Nat) ({ cls := "BinderPress$Sized", name := "fits", desc := "(I)Z" } : Jvm.MethodName)) ∈ lw_all := lw_g (lw_at lw_m3 34 rfl) rfl
theorem q598 : (Jvm.Cond.static ({ cls := "BinderPress$Sized", name := "fits", desc := "(I)Z" } : Jvm.MethodName)) ∈ lw_all := lw_g (lw_at lw_m3 35 rfl) rfl
theorem q599 : (Jvm.Cond.code ({ cls := "BinderPress$Sized", name := "fits", desc := "(I)Z" } : Jvm.MethodName) prog_10_method_3_code (1 : Nat) (Option.some Jvm.ClassFile.FieldType.boolean)) ∈ lw_all := lw_g (lw_at lw_m3 36 rfl) rfl
/-! BinderPress$Kinds -/
set_option maxRecDepth 100000
def RX11 : String := "BinderPress$Kinds"
def TX11 : u_T := fun k => match k with
  | 0 => ("BinderPress$Kinds", "ofName", "[LBinderPress$Kind;", true)
  | 1 => ("BinderPress$Kinds", "ofLetter", "[LBinderPress$Kind;", true)
  | 2 => ("BinderPress$Kinds", "letters", "I", false)
  | 3 => ("BinderPress$Kinds", "all", "LBinderPress$Kind;", false)
  | _ => ("BinderPress$Kinds", "whole", "LBinderPress$Kind;", true)
def tyX11 : Nat → FieldType := fun k => match k with
  | 0 => .array (.object "BinderPress$Kind")
  | 1 => .array (.object "BinderPress$Kind")
  | 2 => .int
  | 3 => .object "BinderPress$Kind"
  | _ => .object "BinderPress$Kind"
abbrev wsX110 : List Cond := u_ws RX11 TX11 5
theorem nmX11 : ∀ a, a < 5 → ∀ b, b < 5 → a ≠ b → (TX11 a).2.1 ≠ (TX11 b).2.1 := by decide +kernel
theorem tyX11_ok : ∀ k, k < 5 → parseFieldDescriptor (TX11 k).2.2.1 = some (tyX11 k) := by decide +kernel
abbrev cX11_init : ByteArray := prog_5_method_1_code
def yX11_init : MethodName := ⟨RX11, "<init>", "(LBinderPress$Term;)V"⟩
def dkwX11_init_2 : List UInt8 := [187, 0, 9, 89, 183, 0, 20, 83, 132, 2, 1, 167, 255, 234, 42, 42, 43, 182, 0, 25, 181, 0, 29, 177]
abbrev dktX11_init_2 : List UInt8 := dkwX11_init_2 ++ []
def dkwX11_init_1 : List UInt8 := [187, 0, 9, 89, 183, 0, 20, 181, 0, 21, 3, 61, 28, 16, 26, 162, 0, 22, 42, 180, 0, 11, 28]
abbrev dktX11_init_1 : List UInt8 := dkwX11_init_1 ++ dktX11_init_2
def dkwX11_init_0 : List UInt8 := [42, 183, 0, 3, 42, 16, 26, 189, 0, 9, 181, 0, 11, 42, 16, 26, 189, 0, 9, 181, 0, 17, 42]
abbrev dktX11_init_0 : List UInt8 := dkwX11_init_0 ++ dktX11_init_1
theorem dksX11_init_0 : cX11_init.data.toList.drop 0 = dktX11_init_0 := by decide +kernel
theorem dksX11_init_1 : cX11_init.data.toList.drop 23 = dktX11_init_1 := dk_seg dksX11_init_0 23 rfl rfl
theorem dksX11_init_2 : cX11_init.data.toList.drop 46 = dktX11_init_2 := dk_seg dksX11_init_1 23 rfl rfl
theorem dX11_init_0 : decode cX11_init 0 = .ok (.aload_n 0, 1) := dk_42 (dk_at dksX11_init_0 0 rfl rfl)
theorem dX11_init_1 : decode cX11_init 1 = .ok (.invokespecial 3, 3) := dk_183 0 3 (dk_at dksX11_init_0 1 rfl rfl)
theorem dX11_init_4 : decode cX11_init 4 = .ok (.aload_n 0, 1) := dk_42 (dk_at dksX11_init_0 4 rfl rfl)
theorem dX11_init_5 : decode cX11_init 5 = .ok (.bipush 26, 2) := dk_16 26 (dk_at dksX11_init_0 5 rfl rfl)
theorem dX11_init_7 : decode cX11_init 7 = .ok (.anewarray 9, 3) := dk_189 0 9 (dk_at dksX11_init_0 7 rfl rfl)
theorem dX11_init_10 : decode cX11_init 10 = .ok (.putfield 11, 3) := dk_181 0 11 (dk_at dksX11_init_0 10 rfl rfl)
theorem dX11_init_13 : decode cX11_init 13 = .ok (.aload_n 0, 1) := dk_42 (dk_at dksX11_init_0 13 rfl rfl)
theorem dX11_init_14 : decode cX11_init 14 = .ok (.bipush 26, 2) := dk_16 26 (dk_at dksX11_init_0 14 rfl rfl)
theorem dX11_init_16 : decode cX11_init 16 = .ok (.anewarray 9, 3) := dk_189 0 9 (dk_at dksX11_init_0 16 rfl rfl)
theorem dX11_init_19 : decode cX11_init 19 = .ok (.putfield 17, 3) := dk_181 0 17 (dk_at dksX11_init_0 19 rfl rfl)
theorem dX11_init_22 : decode cX11_init 22 = .ok (.aload_n 0, 1) := dk_42 (dk_at dksX11_init_0 22 rfl rfl)
theorem dX11_init_23 : decode cX11_init 23 = .ok (.new 9, 3) := dk_187 0 9 (dk_at dksX11_init_1 0 rfl rfl)
theorem dX11_init_26 : decode cX11_init 26 = .ok (.dup, 1) := dk_89 (dk_at dksX11_init_1 3 rfl rfl)
theorem dX11_init_27 : decode cX11_init 27 = .ok (.invokespecial 20, 3) := dk_183 0 20 (dk_at dksX11_init_1 4 rfl rfl)
theorem dX11_init_30 : decode cX11_init 30 = .ok (.putfield 21, 3) := dk_181 0 21 (dk_at dksX11_init_1 7 rfl rfl)
theorem dX11_init_33 : decode cX11_init 33 = .ok (.iconst 0, 1) := dk_3 (dk_at dksX11_init_1 10 rfl rfl)
theorem dX11_init_34 : decode cX11_init 34 = .ok (.istore_n 2, 1) := dk_61 (dk_at dksX11_init_1 11 rfl rfl)
theorem dX11_init_35 : decode cX11_init 35 = .ok (.iload_n 2, 1) := dk_28 (dk_at dksX11_init_1 12 rfl rfl)
theorem dX11_init_36 : decode cX11_init 36 = .ok (.bipush 26, 2) := dk_16 26 (dk_at dksX11_init_1 13 rfl rfl)
theorem dX11_init_38 : decode cX11_init 38 = .ok (.if_icmp .ge 22, 3) := dk_162 0 22 (dk_at dksX11_init_1 15 rfl rfl)
theorem dX11_init_41 : decode cX11_init 41 = .ok (.aload_n 0, 1) := dk_42 (dk_at dksX11_init_1 18 rfl rfl)
theorem dX11_init_42 : decode cX11_init 42 = .ok (.getfield 11, 3) := dk_180 0 11 (dk_at dksX11_init_1 19 rfl rfl)
theorem dX11_init_45 : decode cX11_init 45 = .ok (.iload_n 2, 1) := dk_28 (dk_at dksX11_init_1 22 rfl rfl)
theorem dX11_init_46 : decode cX11_init 46 = .ok (.new 9, 3) := dk_187 0 9 (dk_at dksX11_init_2 0 rfl rfl)
theorem dX11_init_49 : decode cX11_init 49 = .ok (.dup, 1) := dk_89 (dk_at dksX11_init_2 3 rfl rfl)
theorem dX11_init_50 : decode cX11_init 50 = .ok (.invokespecial 20, 3) := dk_183 0 20 (dk_at dksX11_init_2 4 rfl rfl)
theorem dX11_init_53 : decode cX11_init 53 = .ok (.aastore, 1) := dk_83 (dk_at dksX11_init_2 7 rfl rfl)
theorem dX11_init_54 : decode cX11_init 54 = .ok (.iinc 2 1, 3) := dk_132 2 1 (dk_at dksX11_init_2 8 rfl rfl)
theorem dX11_init_57 : decode cX11_init 57 = .ok (.goto (-22), 3) := dk_167 255 234 (dk_at dksX11_init_2 11 rfl rfl)
theorem dX11_init_60 : decode cX11_init 60 = .ok (.aload_n 0, 1) := dk_42 (dk_at dksX11_init_2 14 rfl rfl)
theorem dX11_init_61 : decode cX11_init 61 = .ok (.aload_n 0, 1) := dk_42 (dk_at dksX11_init_2 15 rfl rfl)
theorem dX11_init_62 : decode cX11_init 62 = .ok (.aload_n 1, 1) := dk_43 (dk_at dksX11_init_2 16 rfl rfl)
theorem dX11_init_63 : decode cX11_init 63 = .ok (.invokevirtual 25, 3) := dk_182 0 25 (dk_at dksX11_init_2 17 rfl rfl)
theorem dX11_init_66 : decode cX11_init 66 = .ok (.putfield 29, 3) := dk_181 0 29 (dk_at dksX11_init_2 20 rfl rfl)
theorem dX11_init_69 : decode cX11_init 69 = .ok (.return_, 1) := dk_177 (dk_at dksX11_init_2 23 rfl rfl)
abbrev cX11_of : ByteArray := prog_5_method_4_code
def yX11_of : MethodName := ⟨RX11, "of", "(LBinderPress$Term;)LBinderPress$Kind;"⟩
def dkwX11_of_4 : List UInt8 := [182, 0, 75, 184, 0, 82, 25, 4, 176, 42, 43, 192, 0, 86, 182, 0, 88, 176]
abbrev dktX11_of_4 : List UInt8 := dkwX11_of_4 ++ []
def dkwX11_of_3 : List UInt8 := [183, 0, 20, 58, 4, 42, 45, 182, 0, 75, 42, 42, 44, 180, 0, 79, 182, 0, 25, 25, 4, 184, 0, 32]
abbrev dktX11_of_3 : List UInt8 := dkwX11_of_3 ++ dktX11_of_4
def dkwX11_of_2 : List UInt8 := [193, 0, 69, 153, 0, 54, 43, 192, 0, 69, 77, 42, 44, 180, 0, 71, 182, 0, 25, 78, 187, 0, 9, 89]
abbrev dktX11_of_2 : List UInt8 := dkwX11_of_2 ++ dktX11_of_3
def dkwX11_of_1 : List UInt8 := [176, 43, 193, 0, 59, 153, 0, 16, 43, 192, 0, 59, 77, 44, 180, 0, 61, 184, 0, 65, 176, 43]
abbrev dktX11_of_1 : List UInt8 := dkwX11_of_1 ++ dktX11_of_2
def dkwX11_of_0 : List UInt8 := [43, 193, 0, 54, 153, 0, 21, 43, 192, 0, 54, 77, 42, 180, 0, 11, 44, 180, 0, 56, 16, 97, 100, 50]
abbrev dktX11_of_0 : List UInt8 := dkwX11_of_0 ++ dktX11_of_1
theorem dksX11_of_0 : cX11_of.data.toList.drop 0 = dktX11_of_0 := by decide +kernel
theorem dksX11_of_1 : cX11_of.data.toList.drop 24 = dktX11_of_1 := dk_seg dksX11_of_0 24 rfl rfl
theorem dksX11_of_2 : cX11_of.data.toList.drop 46 = dktX11_of_2 := dk_seg dksX11_of_1 22 rfl rfl
theorem dksX11_of_3 : cX11_of.data.toList.drop 70 = dktX11_of_3 := dk_seg dksX11_of_2 24 rfl rfl
theorem dksX11_of_4 : cX11_of.data.toList.drop 94 = dktX11_of_4 := dk_seg dksX11_of_3 24 rfl rfl
theorem dX11_of_0 : decode cX11_of 0 = .ok (.aload_n 1, 1) := dk_43 (dk_at dksX11_of_0 0 rfl rfl)
theorem dX11_of_1 : decode cX11_of 1 = .ok (.instanceof 54, 3) := dk_193 0 54 (dk_at dksX11_of_0 1 rfl rfl)
theorem dX11_of_4 : decode cX11_of 4 = .ok (.ifCond .eq 21, 3) := dk_153 0 21 (dk_at dksX11_of_0 4 rfl rfl)
theorem dX11_of_7 : decode cX11_of 7 = .ok (.aload_n 1, 1) := dk_43 (dk_at dksX11_of_0 7 rfl rfl)
theorem dX11_of_8 : decode cX11_of 8 = .ok (.checkcast 54, 3) := dk_192 0 54 (dk_at dksX11_of_0 8 rfl rfl)
theorem dX11_of_11 : decode cX11_of 11 = .ok (.astore_n 2, 1) := dk_77 (dk_at dksX11_of_0 11 rfl rfl)
theorem dX11_of_12 : decode cX11_of 12 = .ok (.aload_n 0, 1) := dk_42 (dk_at dksX11_of_0 12 rfl rfl)
theorem dX11_of_13 : decode cX11_of 13 = .ok (.getfield 11, 3) := dk_180 0 11 (dk_at dksX11_of_0 13 rfl rfl)
theorem dX11_of_16 : decode cX11_of 16 = .ok (.aload_n 2, 1) := dk_44 (dk_at dksX11_of_0 16 rfl rfl)
theorem dX11_of_17 : decode cX11_of 17 = .ok (.getfield 56, 3) := dk_180 0 56 (dk_at dksX11_of_0 17 rfl rfl)
theorem dX11_of_20 : decode cX11_of 20 = .ok (.bipush 97, 2) := dk_16 97 (dk_at dksX11_of_0 20 rfl rfl)
theorem dX11_of_22 : decode cX11_of 22 = .ok (.isub, 1) := dk_100 (dk_at dksX11_of_0 22 rfl rfl)
theorem dX11_of_23 : decode cX11_of 23 = .ok (.aaload, 1) := dk_50 (dk_at dksX11_of_0 23 rfl rfl)
theorem dX11_of_24 : decode cX11_of 24 = .ok (.areturn, 1) := dk_176 (dk_at dksX11_of_1 0 rfl rfl)
theorem dX11_of_25 : decode cX11_of 25 = .ok (.aload_n 1, 1) := dk_43 (dk_at dksX11_of_1 1 rfl rfl)
theorem dX11_of_26 : decode cX11_of 26 = .ok (.instanceof 59, 3) := dk_193 0 59 (dk_at dksX11_of_1 2 rfl rfl)
theorem dX11_of_29 : decode cX11_of 29 = .ok (.ifCond .eq 16, 3) := dk_153 0 16 (dk_at dksX11_of_1 5 rfl rfl)
theorem dX11_of_32 : decode cX11_of 32 = .ok (.aload_n 1, 1) := dk_43 (dk_at dksX11_of_1 8 rfl rfl)
theorem dX11_of_33 : decode cX11_of 33 = .ok (.checkcast 59, 3) := dk_192 0 59 (dk_at dksX11_of_1 9 rfl rfl)
theorem dX11_of_36 : decode cX11_of 36 = .ok (.astore_n 2, 1) := dk_77 (dk_at dksX11_of_1 12 rfl rfl)
theorem dX11_of_37 : decode cX11_of 37 = .ok (.aload_n 2, 1) := dk_44 (dk_at dksX11_of_1 13 rfl rfl)
theorem dX11_of_38 : decode cX11_of 38 = .ok (.getfield 61, 3) := dk_180 0 61 (dk_at dksX11_of_1 14 rfl rfl)
theorem dX11_of_41 : decode cX11_of 41 = .ok (.invokestatic 65, 3) := dk_184 0 65 (dk_at dksX11_of_1 17 rfl rfl)
theorem dX11_of_44 : decode cX11_of 44 = .ok (.areturn, 1) := dk_176 (dk_at dksX11_of_1 20 rfl rfl)
theorem dX11_of_45 : decode cX11_of 45 = .ok (.aload_n 1, 1) := dk_43 (dk_at dksX11_of_1 21 rfl rfl)
theorem dX11_of_46 : decode cX11_of 46 = .ok (.instanceof 69, 3) := dk_193 0 69 (dk_at dksX11_of_2 0 rfl rfl)
theorem dX11_of_49 : decode cX11_of 49 = .ok (.ifCond .eq 54, 3) := dk_153 0 54 (dk_at dksX11_of_2 3 rfl rfl)
theorem dX11_of_52 : decode cX11_of 52 = .ok (.aload_n 1, 1) := dk_43 (dk_at dksX11_of_2 6 rfl rfl)
theorem dX11_of_53 : decode cX11_of 53 = .ok (.checkcast 69, 3) := dk_192 0 69 (dk_at dksX11_of_2 7 rfl rfl)
theorem dX11_of_56 : decode cX11_of 56 = .ok (.astore_n 2, 1) := dk_77 (dk_at dksX11_of_2 10 rfl rfl)
theorem dX11_of_57 : decode cX11_of 57 = .ok (.aload_n 0, 1) := dk_42 (dk_at dksX11_of_2 11 rfl rfl)
theorem dX11_of_58 : decode cX11_of 58 = .ok (.aload_n 2, 1) := dk_44 (dk_at dksX11_of_2 12 rfl rfl)
theorem dX11_of_59 : decode cX11_of 59 = .ok (.getfield 71, 3) := dk_180 0 71 (dk_at dksX11_of_2 13 rfl rfl)
theorem dX11_of_62 : decode cX11_of 62 = .ok (.invokevirtual 25, 3) := dk_182 0 25 (dk_at dksX11_of_2 16 rfl rfl)
theorem dX11_of_65 : decode cX11_of 65 = .ok (.astore_n 3, 1) := dk_78 (dk_at dksX11_of_2 19 rfl rfl)
theorem dX11_of_66 : decode cX11_of 66 = .ok (.new 9, 3) := dk_187 0 9 (dk_at dksX11_of_2 20 rfl rfl)
theorem dX11_of_69 : decode cX11_of 69 = .ok (.dup, 1) := dk_89 (dk_at dksX11_of_2 23 rfl rfl)
theorem dX11_of_70 : decode cX11_of 70 = .ok (.invokespecial 20, 3) := dk_183 0 20 (dk_at dksX11_of_3 0 rfl rfl)
theorem dX11_of_73 : decode cX11_of 73 = .ok (.astore 4, 2) := dk_58 4 (dk_at dksX11_of_3 3 rfl rfl)
theorem dX11_of_75 : decode cX11_of 75 = .ok (.aload_n 0, 1) := dk_42 (dk_at dksX11_of_3 5 rfl rfl)
theorem dX11_of_76 : decode cX11_of 76 = .ok (.aload_n 3, 1) := dk_45 (dk_at dksX11_of_3 6 rfl rfl)
theorem dX11_of_77 : decode cX11_of 77 = .ok (.invokevirtual 75, 3) := dk_182 0 75 (dk_at dksX11_of_3 7 rfl rfl)
theorem dX11_of_80 : decode cX11_of 80 = .ok (.aload_n 0, 1) := dk_42 (dk_at dksX11_of_3 10 rfl rfl)
theorem dX11_of_81 : decode cX11_of 81 = .ok (.aload_n 0, 1) := dk_42 (dk_at dksX11_of_3 11 rfl rfl)
theorem dX11_of_82 : decode cX11_of 82 = .ok (.aload_n 2, 1) := dk_44 (dk_at dksX11_of_3 12 rfl rfl)
theorem dX11_of_83 : decode cX11_of 83 = .ok (.getfield 79, 3) := dk_180 0 79 (dk_at dksX11_of_3 13 rfl rfl)
theorem dX11_of_86 : decode cX11_of 86 = .ok (.invokevirtual 25, 3) := dk_182 0 25 (dk_at dksX11_of_3 16 rfl rfl)
theorem dX11_of_89 : decode cX11_of 89 = .ok (.aload 4, 2) := dk_25 4 (dk_at dksX11_of_3 19 rfl rfl)
theorem dX11_of_91 : decode cX11_of 91 = .ok (.invokestatic 32, 3) := dk_184 0 32 (dk_at dksX11_of_3 21 rfl rfl)
theorem dX11_of_94 : decode cX11_of 94 = .ok (.invokevirtual 75, 3) := dk_182 0 75 (dk_at dksX11_of_4 0 rfl rfl)
theorem dX11_of_97 : decode cX11_of 97 = .ok (.invokestatic 82, 3) := dk_184 0 82 (dk_at dksX11_of_4 3 rfl rfl)
theorem dX11_of_100 : decode cX11_of 100 = .ok (.aload 4, 2) := dk_25 4 (dk_at dksX11_of_4 6 rfl rfl)
theorem dX11_of_102 : decode cX11_of 102 = .ok (.areturn, 1) := dk_176 (dk_at dksX11_of_4 8 rfl rfl)
theorem dX11_of_103 : decode cX11_of 103 = .ok (.aload_n 0, 1) := dk_42 (dk_at dksX11_of_4 9 rfl rfl)
theorem dX11_of_104 : decode cX11_of 104 = .ok (.aload_n 1, 1) := dk_43 (dk_at dksX11_of_4 10 rfl rfl)
theorem dX11_of_105 : decode cX11_of 105 = .ok (.checkcast 86, 3) := dk_192 0 86 (dk_at dksX11_of_4 11 rfl rfl)
theorem dX11_of_108 : decode cX11_of 108 = .ok (.invokevirtual 88, 3) := dk_182 0 88 (dk_at dksX11_of_4 14 rfl rfl)
theorem dX11_of_111 : decode cX11_of 111 = .ok (.areturn, 1) := dk_176 (dk_at dksX11_of_4 17 rfl rfl)
abbrev cX11_ofSign : ByteArray := prog_5_method_3_code
def yX11_ofSign : MethodName := ⟨RX11, "ofSign", "(Ljava/lang/String;)LBinderPress$Kind;"⟩
def dkwX11_ofSign_10 : List UInt8 := [184, 0, 32, 184, 0, 32, 44, 43, 45, 184, 0, 32, 184, 0, 32, 184, 0, 32, 176]
abbrev dktX11_ofSign_10 : List UInt8 := dkwX11_ofSign_10 ++ []
def dkwX11_ofSign_9 : List UInt8 := [184, 0, 32, 43, 44, 184, 0, 32, 43, 45, 184, 0, 32, 184, 0, 32, 184, 0, 32, 176, 43, 44, 45]
abbrev dktX11_ofSign_9 : List UInt8 := dkwX11_ofSign_9 ++ dktX11_ofSign_10
def dkwX11_ofSign_8 : List UInt8 := [184, 0, 32, 43, 44, 184, 0, 32, 43, 45, 184, 0, 32, 184, 0, 32, 184, 0, 32, 176, 44, 45]
abbrev dktX11_ofSign_8 : List UInt8 := dkwX11_ofSign_8 ++ dktX11_ofSign_9
def dkwX11_ofSign_7 : List UInt8 := [43, 43, 184, 0, 32, 176, 43, 44, 43, 184, 0, 32, 184, 0, 32, 176, 43, 44, 45, 184, 0, 32]
abbrev dktX11_ofSign_7 : List UInt8 := dkwX11_ofSign_7 ++ dktX11_ofSign_8
def dkwX11_ofSign_6 : List UInt8 := [170, 0, 0, 0, 93, 0, 0, 0, 0, 0, 0, 0, 3, 0, 0, 0, 29, 0, 0, 0, 35, 0, 0, 0, 45, 0, 0, 0, 71]
abbrev dktX11_ofSign_6 : List UInt8 := dkwX11_ofSign_6 ++ dktX11_ofSign_7
def dkwX11_ofSign_5 : List UInt8 := [167, 0, 16, 25, 4, 18, 52, 182, 0, 44, 153, 0, 6, 6, 54, 5, 21, 5]
abbrev dktX11_ofSign_5 : List UInt8 := dkwX11_ofSign_5 ++ dktX11_ofSign_6
def dkwX11_ofSign_4 : List UInt8 := [153, 0, 38, 4, 54, 5, 167, 0, 32, 25, 4, 18, 50, 182, 0, 44, 153, 0, 22, 5, 54, 5]
abbrev dktX11_ofSign_4 : List UInt8 := dkwX11_ofSign_4 ++ dktX11_ofSign_5
def dkwX11_ofSign_3 : List UInt8 := [25, 4, 18, 42, 182, 0, 44, 153, 0, 54, 3, 54, 5, 167, 0, 48, 25, 4, 18, 48, 182, 0, 44]
abbrev dktX11_ofSign_3 : List UInt8 := dkwX11_ofSign_3 ++ dktX11_ofSign_4
def dkwX11_ofSign_2 : List UInt8 := [171, 0, 0, 0, 102, 0, 0, 0, 4, 0, 0, 0, 66, 0, 0, 0, 89, 0, 0, 0, 73, 0, 0, 0, 41, 0, 0, 0, 75, 0, 0, 0, 57, 0, 0, 0, 83, 0, 0, 0, 73]
abbrev dktX11_ofSign_2 : List UInt8 := dkwX11_ofSign_2 ++ dktX11_ofSign_3
def dkwX11_ofSign_1 : List UInt8 := [42, 58, 4, 2, 54, 5, 25, 4, 182, 0, 36]
abbrev dktX11_ofSign_1 : List UInt8 := dkwX11_ofSign_1 ++ dktX11_ofSign_2
def dkwX11_ofSign_0 : List UInt8 := [187, 0, 9, 89, 183, 0, 20, 76, 187, 0, 9, 89, 183, 0, 20, 77, 187, 0, 9, 89, 183, 0, 20, 78]
abbrev dktX11_ofSign_0 : List UInt8 := dkwX11_ofSign_0 ++ dktX11_ofSign_1
theorem dksX11_ofSign_0 : cX11_ofSign.data.toList.drop 0 = dktX11_ofSign_0 := by decide +kernel
theorem dksX11_ofSign_1 : cX11_ofSign.data.toList.drop 24 = dktX11_ofSign_1 := dk_seg dksX11_ofSign_0 24 rfl rfl
theorem dksX11_ofSign_2 : cX11_ofSign.data.toList.drop 35 = dktX11_ofSign_2 := dk_seg dksX11_ofSign_1 11 rfl rfl
theorem dksX11_ofSign_3 : cX11_ofSign.data.toList.drop 76 = dktX11_ofSign_3 := dk_seg dksX11_ofSign_2 41 rfl rfl
theorem dksX11_ofSign_4 : cX11_ofSign.data.toList.drop 99 = dktX11_ofSign_4 := dk_seg dksX11_ofSign_3 23 rfl rfl
theorem dksX11_ofSign_5 : cX11_ofSign.data.toList.drop 121 = dktX11_ofSign_5 := dk_seg dksX11_ofSign_4 22 rfl rfl
theorem dksX11_ofSign_6 : cX11_ofSign.data.toList.drop 139 = dktX11_ofSign_6 := dk_seg dksX11_ofSign_5 18 rfl rfl
theorem dksX11_ofSign_7 : cX11_ofSign.data.toList.drop 168 = dktX11_ofSign_7 := dk_seg dksX11_ofSign_6 29 rfl rfl
theorem dksX11_ofSign_8 : cX11_ofSign.data.toList.drop 190 = dktX11_ofSign_8 := dk_seg dksX11_ofSign_7 22 rfl rfl
theorem dksX11_ofSign_9 : cX11_ofSign.data.toList.drop 212 = dktX11_ofSign_9 := dk_seg dksX11_ofSign_8 22 rfl rfl
theorem dksX11_ofSign_10 : cX11_ofSign.data.toList.drop 235 = dktX11_ofSign_10 := dk_seg dksX11_ofSign_9 23 rfl rfl
theorem dX11_ofSign_0 : decode cX11_ofSign 0 = .ok (.new 9, 3) := dk_187 0 9 (dk_at dksX11_ofSign_0 0 rfl rfl)
theorem dX11_ofSign_3 : decode cX11_ofSign 3 = .ok (.dup, 1) := dk_89 (dk_at dksX11_ofSign_0 3 rfl rfl)
theorem dX11_ofSign_4 : decode cX11_ofSign 4 = .ok (.invokespecial 20, 3) := dk_183 0 20 (dk_at dksX11_ofSign_0 4 rfl rfl)
theorem dX11_ofSign_7 : decode cX11_ofSign 7 = .ok (.astore_n 1, 1) := dk_76 (dk_at dksX11_ofSign_0 7 rfl rfl)
theorem dX11_ofSign_8 : decode cX11_ofSign 8 = .ok (.new 9, 3) := dk_187 0 9 (dk_at dksX11_ofSign_0 8 rfl rfl)
theorem dX11_ofSign_11 : decode cX11_ofSign 11 = .ok (.dup, 1) := dk_89 (dk_at dksX11_ofSign_0 11 rfl rfl)
theorem dX11_ofSign_12 : decode cX11_ofSign 12 = .ok (.invokespecial 20, 3) := dk_183 0 20 (dk_at dksX11_ofSign_0 12 rfl rfl)
theorem dX11_ofSign_15 : decode cX11_ofSign 15 = .ok (.astore_n 2, 1) := dk_77 (dk_at dksX11_ofSign_0 15 rfl rfl)
theorem dX11_ofSign_16 : decode cX11_ofSign 16 = .ok (.new 9, 3) := dk_187 0 9 (dk_at dksX11_ofSign_0 16 rfl rfl)
theorem dX11_ofSign_19 : decode cX11_ofSign 19 = .ok (.dup, 1) := dk_89 (dk_at dksX11_ofSign_0 19 rfl rfl)
theorem dX11_ofSign_20 : decode cX11_ofSign 20 = .ok (.invokespecial 20, 3) := dk_183 0 20 (dk_at dksX11_ofSign_0 20 rfl rfl)
theorem dX11_ofSign_23 : decode cX11_ofSign 23 = .ok (.astore_n 3, 1) := dk_78 (dk_at dksX11_ofSign_0 23 rfl rfl)
theorem dX11_ofSign_24 : decode cX11_ofSign 24 = .ok (.aload_n 0, 1) := dk_42 (dk_at dksX11_ofSign_1 0 rfl rfl)
theorem dX11_ofSign_25 : decode cX11_ofSign 25 = .ok (.astore 4, 2) := dk_58 4 (dk_at dksX11_ofSign_1 1 rfl rfl)
theorem dX11_ofSign_27 : decode cX11_ofSign 27 = .ok (.iconst (-1), 1) := dk_2 (dk_at dksX11_ofSign_1 3 rfl rfl)
theorem dX11_ofSign_28 : decode cX11_ofSign 28 = .ok (.istore 5, 2) := dk_54 5 (dk_at dksX11_ofSign_1 4 rfl rfl)
theorem dX11_ofSign_30 : decode cX11_ofSign 30 = .ok (.aload 4, 2) := dk_25 4 (dk_at dksX11_ofSign_1 6 rfl rfl)
theorem dX11_ofSign_32 : decode cX11_ofSign 32 = .ok (.invokevirtual 36, 3) := dk_182 0 36 (dk_at dksX11_ofSign_1 8 rfl rfl)
theorem dX11_ofSign_35 : decode cX11_ofSign 35 = .ok (.lookupswitch 102 #[(66, 89), (73, 41), (75, 57), (83, 73)], 41) := by decide +kernel
theorem dX11_ofSign_76 : decode cX11_ofSign 76 = .ok (.aload 4, 2) := dk_25 4 (dk_at dksX11_ofSign_3 0 rfl rfl)
theorem dX11_ofSign_78 : decode cX11_ofSign 78 = .ok (.ldc 42, 2) := dk_18 42 (dk_at dksX11_ofSign_3 2 rfl rfl)
theorem dX11_ofSign_80 : decode cX11_ofSign 80 = .ok (.invokevirtual 44, 3) := dk_182 0 44 (dk_at dksX11_ofSign_3 4 rfl rfl)
theorem dX11_ofSign_83 : decode cX11_ofSign 83 = .ok (.ifCond .eq 54, 3) := dk_153 0 54 (dk_at dksX11_ofSign_3 7 rfl rfl)
theorem dX11_ofSign_86 : decode cX11_ofSign 86 = .ok (.iconst 0, 1) := dk_3 (dk_at dksX11_ofSign_3 10 rfl rfl)
theorem dX11_ofSign_87 : decode cX11_ofSign 87 = .ok (.istore 5, 2) := dk_54 5 (dk_at dksX11_ofSign_3 11 rfl rfl)
theorem dX11_ofSign_89 : decode cX11_ofSign 89 = .ok (.goto 48, 3) := dk_167 0 48 (dk_at dksX11_ofSign_3 13 rfl rfl)
theorem dX11_ofSign_92 : decode cX11_ofSign 92 = .ok (.aload 4, 2) := dk_25 4 (dk_at dksX11_ofSign_3 16 rfl rfl)
theorem dX11_ofSign_94 : decode cX11_ofSign 94 = .ok (.ldc 48, 2) := dk_18 48 (dk_at dksX11_ofSign_3 18 rfl rfl)
theorem dX11_ofSign_96 : decode cX11_ofSign 96 = .ok (.invokevirtual 44, 3) := dk_182 0 44 (dk_at dksX11_ofSign_3 20 rfl rfl)
theorem dX11_ofSign_99 : decode cX11_ofSign 99 = .ok (.ifCond .eq 38, 3) := dk_153 0 38 (dk_at dksX11_ofSign_4 0 rfl rfl)
theorem dX11_ofSign_102 : decode cX11_ofSign 102 = .ok (.iconst 1, 1) := dk_4 (dk_at dksX11_ofSign_4 3 rfl rfl)
theorem dX11_ofSign_103 : decode cX11_ofSign 103 = .ok (.istore 5, 2) := dk_54 5 (dk_at dksX11_ofSign_4 4 rfl rfl)
theorem dX11_ofSign_105 : decode cX11_ofSign 105 = .ok (.goto 32, 3) := dk_167 0 32 (dk_at dksX11_ofSign_4 6 rfl rfl)
theorem dX11_ofSign_108 : decode cX11_ofSign 108 = .ok (.aload 4, 2) := dk_25 4 (dk_at dksX11_ofSign_4 9 rfl rfl)
theorem dX11_ofSign_110 : decode cX11_ofSign 110 = .ok (.ldc 50, 2) := dk_18 50 (dk_at dksX11_ofSign_4 11 rfl rfl)
theorem dX11_ofSign_112 : decode cX11_ofSign 112 = .ok (.invokevirtual 44, 3) := dk_182 0 44 (dk_at dksX11_ofSign_4 13 rfl rfl)
theorem dX11_ofSign_115 : decode cX11_ofSign 115 = .ok (.ifCond .eq 22, 3) := dk_153 0 22 (dk_at dksX11_ofSign_4 16 rfl rfl)
theorem dX11_ofSign_118 : decode cX11_ofSign 118 = .ok (.iconst 2, 1) := dk_5 (dk_at dksX11_ofSign_4 19 rfl rfl)
theorem dX11_ofSign_119 : decode cX11_ofSign 119 = .ok (.istore 5, 2) := dk_54 5 (dk_at dksX11_ofSign_4 20 rfl rfl)
theorem dX11_ofSign_121 : decode cX11_ofSign 121 = .ok (.goto 16, 3) := dk_167 0 16 (dk_at dksX11_ofSign_5 0 rfl rfl)
theorem dX11_ofSign_124 : decode cX11_ofSign 124 = .ok (.aload 4, 2) := dk_25 4 (dk_at dksX11_ofSign_5 3 rfl rfl)
theorem dX11_ofSign_126 : decode cX11_ofSign 126 = .ok (.ldc 52, 2) := dk_18 52 (dk_at dksX11_ofSign_5 5 rfl rfl)
theorem dX11_ofSign_128 : decode cX11_ofSign 128 = .ok (.invokevirtual 44, 3) := dk_182 0 44 (dk_at dksX11_ofSign_5 7 rfl rfl)
theorem dX11_ofSign_131 : decode cX11_ofSign 131 = .ok (.ifCond .eq 6, 3) := dk_153 0 6 (dk_at dksX11_ofSign_5 10 rfl rfl)
theorem dX11_ofSign_134 : decode cX11_ofSign 134 = .ok (.iconst 3, 1) := dk_6 (dk_at dksX11_ofSign_5 13 rfl rfl)
theorem dX11_ofSign_135 : decode cX11_ofSign 135 = .ok (.istore 5, 2) := dk_54 5 (dk_at dksX11_ofSign_5 14 rfl rfl)
theorem dX11_ofSign_137 : decode cX11_ofSign 137 = .ok (.iload 5, 2) := dk_21 5 (dk_at dksX11_ofSign_5 16 rfl rfl)
theorem dX11_ofSign_139 : decode cX11_ofSign 139 = .ok (.tableswitch 93 0 3 #[29, 35, 45, 71], 29) := by decide +kernel
theorem dX11_ofSign_168 : decode cX11_ofSign 168 = .ok (.aload_n 1, 1) := dk_43 (dk_at dksX11_ofSign_7 0 rfl rfl)
theorem dX11_ofSign_169 : decode cX11_ofSign 169 = .ok (.aload_n 1, 1) := dk_43 (dk_at dksX11_ofSign_7 1 rfl rfl)
theorem dX11_ofSign_170 : decode cX11_ofSign 170 = .ok (.invokestatic 32, 3) := dk_184 0 32 (dk_at dksX11_ofSign_7 2 rfl rfl)
theorem dX11_ofSign_173 : decode cX11_ofSign 173 = .ok (.areturn, 1) := dk_176 (dk_at dksX11_ofSign_7 5 rfl rfl)
theorem dX11_ofSign_174 : decode cX11_ofSign 174 = .ok (.aload_n 1, 1) := dk_43 (dk_at dksX11_ofSign_7 6 rfl rfl)
theorem dX11_ofSign_175 : decode cX11_ofSign 175 = .ok (.aload_n 2, 1) := dk_44 (dk_at dksX11_ofSign_7 7 rfl rfl)
theorem dX11_ofSign_176 : decode cX11_ofSign 176 = .ok (.aload_n 1, 1) := dk_43 (dk_at dksX11_ofSign_7 8 rfl rfl)
theorem dX11_ofSign_177 : decode cX11_ofSign 177 = .ok (.invokestatic 32, 3) := dk_184 0 32 (dk_at dksX11_ofSign_7 9 rfl rfl)
theorem dX11_ofSign_180 : decode cX11_ofSign 180 = .ok (.invokestatic 32, 3) := dk_184 0 32 (dk_at dksX11_ofSign_7 12 rfl rfl)
theorem dX11_ofSign_183 : decode cX11_ofSign 183 = .ok (.areturn, 1) := dk_176 (dk_at dksX11_ofSign_7 15 rfl rfl)
theorem dX11_ofSign_184 : decode cX11_ofSign 184 = .ok (.aload_n 1, 1) := dk_43 (dk_at dksX11_ofSign_7 16 rfl rfl)
theorem dX11_ofSign_185 : decode cX11_ofSign 185 = .ok (.aload_n 2, 1) := dk_44 (dk_at dksX11_ofSign_7 17 rfl rfl)
theorem dX11_ofSign_186 : decode cX11_ofSign 186 = .ok (.aload_n 3, 1) := dk_45 (dk_at dksX11_ofSign_7 18 rfl rfl)
theorem dX11_ofSign_187 : decode cX11_ofSign 187 = .ok (.invokestatic 32, 3) := dk_184 0 32 (dk_at dksX11_ofSign_7 19 rfl rfl)
theorem dX11_ofSign_190 : decode cX11_ofSign 190 = .ok (.invokestatic 32, 3) := dk_184 0 32 (dk_at dksX11_ofSign_8 0 rfl rfl)
theorem dX11_ofSign_193 : decode cX11_ofSign 193 = .ok (.aload_n 1, 1) := dk_43 (dk_at dksX11_ofSign_8 3 rfl rfl)
theorem dX11_ofSign_194 : decode cX11_ofSign 194 = .ok (.aload_n 2, 1) := dk_44 (dk_at dksX11_ofSign_8 4 rfl rfl)
theorem dX11_ofSign_195 : decode cX11_ofSign 195 = .ok (.invokestatic 32, 3) := dk_184 0 32 (dk_at dksX11_ofSign_8 5 rfl rfl)
theorem dX11_ofSign_198 : decode cX11_ofSign 198 = .ok (.aload_n 1, 1) := dk_43 (dk_at dksX11_ofSign_8 8 rfl rfl)
theorem dX11_ofSign_199 : decode cX11_ofSign 199 = .ok (.aload_n 3, 1) := dk_45 (dk_at dksX11_ofSign_8 9 rfl rfl)
theorem dX11_ofSign_200 : decode cX11_ofSign 200 = .ok (.invokestatic 32, 3) := dk_184 0 32 (dk_at dksX11_ofSign_8 10 rfl rfl)
theorem dX11_ofSign_203 : decode cX11_ofSign 203 = .ok (.invokestatic 32, 3) := dk_184 0 32 (dk_at dksX11_ofSign_8 13 rfl rfl)
theorem dX11_ofSign_206 : decode cX11_ofSign 206 = .ok (.invokestatic 32, 3) := dk_184 0 32 (dk_at dksX11_ofSign_8 16 rfl rfl)
theorem dX11_ofSign_209 : decode cX11_ofSign 209 = .ok (.areturn, 1) := dk_176 (dk_at dksX11_ofSign_8 19 rfl rfl)
theorem dX11_ofSign_210 : decode cX11_ofSign 210 = .ok (.aload_n 2, 1) := dk_44 (dk_at dksX11_ofSign_8 20 rfl rfl)
theorem dX11_ofSign_211 : decode cX11_ofSign 211 = .ok (.aload_n 3, 1) := dk_45 (dk_at dksX11_ofSign_8 21 rfl rfl)
theorem dX11_ofSign_212 : decode cX11_ofSign 212 = .ok (.invokestatic 32, 3) := dk_184 0 32 (dk_at dksX11_ofSign_9 0 rfl rfl)
theorem dX11_ofSign_215 : decode cX11_ofSign 215 = .ok (.aload_n 1, 1) := dk_43 (dk_at dksX11_ofSign_9 3 rfl rfl)
theorem dX11_ofSign_216 : decode cX11_ofSign 216 = .ok (.aload_n 2, 1) := dk_44 (dk_at dksX11_ofSign_9 4 rfl rfl)
theorem dX11_ofSign_217 : decode cX11_ofSign 217 = .ok (.invokestatic 32, 3) := dk_184 0 32 (dk_at dksX11_ofSign_9 5 rfl rfl)
theorem dX11_ofSign_220 : decode cX11_ofSign 220 = .ok (.aload_n 1, 1) := dk_43 (dk_at dksX11_ofSign_9 8 rfl rfl)
theorem dX11_ofSign_221 : decode cX11_ofSign 221 = .ok (.aload_n 3, 1) := dk_45 (dk_at dksX11_ofSign_9 9 rfl rfl)
theorem dX11_ofSign_222 : decode cX11_ofSign 222 = .ok (.invokestatic 32, 3) := dk_184 0 32 (dk_at dksX11_ofSign_9 10 rfl rfl)
theorem dX11_ofSign_225 : decode cX11_ofSign 225 = .ok (.invokestatic 32, 3) := dk_184 0 32 (dk_at dksX11_ofSign_9 13 rfl rfl)
theorem dX11_ofSign_228 : decode cX11_ofSign 228 = .ok (.invokestatic 32, 3) := dk_184 0 32 (dk_at dksX11_ofSign_9 16 rfl rfl)
theorem dX11_ofSign_231 : decode cX11_ofSign 231 = .ok (.areturn, 1) := dk_176 (dk_at dksX11_ofSign_9 19 rfl rfl)
theorem dX11_ofSign_232 : decode cX11_ofSign 232 = .ok (.aload_n 1, 1) := dk_43 (dk_at dksX11_ofSign_9 20 rfl rfl)
theorem dX11_ofSign_233 : decode cX11_ofSign 233 = .ok (.aload_n 2, 1) := dk_44 (dk_at dksX11_ofSign_9 21 rfl rfl)
theorem dX11_ofSign_234 : decode cX11_ofSign 234 = .ok (.aload_n 3, 1) := dk_45 (dk_at dksX11_ofSign_9 22 rfl rfl)
theorem dX11_ofSign_235 : decode cX11_ofSign 235 = .ok (.invokestatic 32, 3) := dk_184 0 32 (dk_at dksX11_ofSign_10 0 rfl rfl)
theorem dX11_ofSign_238 : decode cX11_ofSign 238 = .ok (.invokestatic 32, 3) := dk_184 0 32 (dk_at dksX11_ofSign_10 3 rfl rfl)
theorem dX11_ofSign_241 : decode cX11_ofSign 241 = .ok (.aload_n 2, 1) := dk_44 (dk_at dksX11_ofSign_10 6 rfl rfl)
theorem dX11_ofSign_242 : decode cX11_ofSign 242 = .ok (.aload_n 1, 1) := dk_43 (dk_at dksX11_ofSign_10 7 rfl rfl)
theorem dX11_ofSign_243 : decode cX11_ofSign 243 = .ok (.aload_n 3, 1) := dk_45 (dk_at dksX11_ofSign_10 8 rfl rfl)
theorem dX11_ofSign_244 : decode cX11_ofSign 244 = .ok (.invokestatic 32, 3) := dk_184 0 32 (dk_at dksX11_ofSign_10 9 rfl rfl)
theorem dX11_ofSign_247 : decode cX11_ofSign 247 = .ok (.invokestatic 32, 3) := dk_184 0 32 (dk_at dksX11_ofSign_10 12 rfl rfl)
theorem dX11_ofSign_250 : decode cX11_ofSign 250 = .ok (.invokestatic 32, 3) := dk_184 0 32 (dk_at dksX11_ofSign_10 15 rfl rfl)
theorem dX11_ofSign_253 : decode cX11_ofSign 253 = .ok (.areturn, 1) := dk_176 (dk_at dksX11_ofSign_10 18 rfl rfl)
abbrev cX11_kept : ByteArray := prog_5_method_2_code
def yX11_kept : MethodName := ⟨RX11, "kept", "(LBinderPress$Kind;)LBinderPress$Kind;"⟩
def dkwX11_kept_0 : List UInt8 := [42, 43, 42, 180, 0, 21, 184, 0, 32, 181, 0, 21, 43, 176]
abbrev dktX11_kept_0 : List UInt8 := dkwX11_kept_0 ++ []
theorem dksX11_kept_0 : cX11_kept.data.toList.drop 0 = dktX11_kept_0 := by decide +kernel
theorem dX11_kept_0 : decode cX11_kept 0 = .ok (.aload_n 0, 1) := dk_42 (dk_at dksX11_kept_0 0 rfl rfl)
theorem dX11_kept_1 : decode cX11_kept 1 = .ok (.aload_n 1, 1) := dk_43 (dk_at dksX11_kept_0 1 rfl rfl)
theorem dX11_kept_2 : decode cX11_kept 2 = .ok (.aload_n 0, 1) := dk_42 (dk_at dksX11_kept_0 2 rfl rfl)
theorem dX11_kept_3 : decode cX11_kept 3 = .ok (.getfield 21, 3) := dk_180 0 21 (dk_at dksX11_kept_0 3 rfl rfl)
theorem dX11_kept_6 : decode cX11_kept 6 = .ok (.invokestatic 32, 3) := dk_184 0 32 (dk_at dksX11_kept_0 6 rfl rfl)
theorem dX11_kept_9 : decode cX11_kept 9 = .ok (.putfield 21, 3) := dk_181 0 21 (dk_at dksX11_kept_0 9 rfl rfl)
theorem dX11_kept_12 : decode cX11_kept 12 = .ok (.aload_n 1, 1) := dk_43 (dk_at dksX11_kept_0 12 rfl rfl)
theorem dX11_kept_13 : decode cX11_kept 13 = .ok (.areturn, 1) := dk_176 (dk_at dksX11_kept_0 13 rfl rfl)
abbrev cX11_ofBinder : ByteArray := prog_5_method_5_code
def yX11_ofBinder : MethodName := ⟨RX11, "ofBinder", "(LBinderPress$Binder;)LBinderPress$Kind;"⟩
def dkwX11_ofBinder_2 : List UInt8 := [180, 0, 11, 43, 180, 0, 92, 16, 97, 100, 44, 83, 45, 25, 4, 184, 0, 32, 176]
abbrev dktX11_ofBinder_2 : List UInt8 := dkwX11_ofBinder_2 ++ []
def dkwX11_ofBinder_1 : List UInt8 := [180, 0, 11, 43, 180, 0, 92, 16, 97, 100, 45, 83, 42, 43, 180, 0, 93, 182, 0, 25, 58, 4, 42]
abbrev dktX11_ofBinder_1 : List UInt8 := dkwX11_ofBinder_1 ++ dktX11_ofBinder_2
def dkwX11_ofBinder_0 : List UInt8 := [42, 180, 0, 11, 43, 180, 0, 92, 16, 97, 100, 50, 77, 187, 0, 9, 89, 183, 0, 20, 78, 42]
abbrev dktX11_ofBinder_0 : List UInt8 := dkwX11_ofBinder_0 ++ dktX11_ofBinder_1
theorem dksX11_ofBinder_0 : cX11_ofBinder.data.toList.drop 0 = dktX11_ofBinder_0 := by decide +kernel
theorem dksX11_ofBinder_1 : cX11_ofBinder.data.toList.drop 22 = dktX11_ofBinder_1 := dk_seg dksX11_ofBinder_0 22 rfl rfl
theorem dksX11_ofBinder_2 : cX11_ofBinder.data.toList.drop 45 = dktX11_ofBinder_2 := dk_seg dksX11_ofBinder_1 23 rfl rfl
theorem dX11_ofBinder_0 : decode cX11_ofBinder 0 = .ok (.aload_n 0, 1) := dk_42 (dk_at dksX11_ofBinder_0 0 rfl rfl)
theorem dX11_ofBinder_1 : decode cX11_ofBinder 1 = .ok (.getfield 11, 3) := dk_180 0 11 (dk_at dksX11_ofBinder_0 1 rfl rfl)
theorem dX11_ofBinder_4 : decode cX11_ofBinder 4 = .ok (.aload_n 1, 1) := dk_43 (dk_at dksX11_ofBinder_0 4 rfl rfl)
theorem dX11_ofBinder_5 : decode cX11_ofBinder 5 = .ok (.getfield 92, 3) := dk_180 0 92 (dk_at dksX11_ofBinder_0 5 rfl rfl)
theorem dX11_ofBinder_8 : decode cX11_ofBinder 8 = .ok (.bipush 97, 2) := dk_16 97 (dk_at dksX11_ofBinder_0 8 rfl rfl)
theorem dX11_ofBinder_10 : decode cX11_ofBinder 10 = .ok (.isub, 1) := dk_100 (dk_at dksX11_ofBinder_0 10 rfl rfl)
theorem dX11_ofBinder_11 : decode cX11_ofBinder 11 = .ok (.aaload, 1) := dk_50 (dk_at dksX11_ofBinder_0 11 rfl rfl)
theorem dX11_ofBinder_12 : decode cX11_ofBinder 12 = .ok (.astore_n 2, 1) := dk_77 (dk_at dksX11_ofBinder_0 12 rfl rfl)
theorem dX11_ofBinder_13 : decode cX11_ofBinder 13 = .ok (.new 9, 3) := dk_187 0 9 (dk_at dksX11_ofBinder_0 13 rfl rfl)
theorem dX11_ofBinder_16 : decode cX11_ofBinder 16 = .ok (.dup, 1) := dk_89 (dk_at dksX11_ofBinder_0 16 rfl rfl)
theorem dX11_ofBinder_17 : decode cX11_ofBinder 17 = .ok (.invokespecial 20, 3) := dk_183 0 20 (dk_at dksX11_ofBinder_0 17 rfl rfl)
theorem dX11_ofBinder_20 : decode cX11_ofBinder 20 = .ok (.astore_n 3, 1) := dk_78 (dk_at dksX11_ofBinder_0 20 rfl rfl)
theorem dX11_ofBinder_21 : decode cX11_ofBinder 21 = .ok (.aload_n 0, 1) := dk_42 (dk_at dksX11_ofBinder_0 21 rfl rfl)
theorem dX11_ofBinder_22 : decode cX11_ofBinder 22 = .ok (.getfield 11, 3) := dk_180 0 11 (dk_at dksX11_ofBinder_1 0 rfl rfl)
theorem dX11_ofBinder_25 : decode cX11_ofBinder 25 = .ok (.aload_n 1, 1) := dk_43 (dk_at dksX11_ofBinder_1 3 rfl rfl)
theorem dX11_ofBinder_26 : decode cX11_ofBinder 26 = .ok (.getfield 92, 3) := dk_180 0 92 (dk_at dksX11_ofBinder_1 4 rfl rfl)
theorem dX11_ofBinder_29 : decode cX11_ofBinder 29 = .ok (.bipush 97, 2) := dk_16 97 (dk_at dksX11_ofBinder_1 7 rfl rfl)
theorem dX11_ofBinder_31 : decode cX11_ofBinder 31 = .ok (.isub, 1) := dk_100 (dk_at dksX11_ofBinder_1 9 rfl rfl)
theorem dX11_ofBinder_32 : decode cX11_ofBinder 32 = .ok (.aload_n 3, 1) := dk_45 (dk_at dksX11_ofBinder_1 10 rfl rfl)
theorem dX11_ofBinder_33 : decode cX11_ofBinder 33 = .ok (.aastore, 1) := dk_83 (dk_at dksX11_ofBinder_1 11 rfl rfl)
theorem dX11_ofBinder_34 : decode cX11_ofBinder 34 = .ok (.aload_n 0, 1) := dk_42 (dk_at dksX11_ofBinder_1 12 rfl rfl)
theorem dX11_ofBinder_35 : decode cX11_ofBinder 35 = .ok (.aload_n 1, 1) := dk_43 (dk_at dksX11_ofBinder_1 13 rfl rfl)
theorem dX11_ofBinder_36 : decode cX11_ofBinder 36 = .ok (.getfield 93, 3) := dk_180 0 93 (dk_at dksX11_ofBinder_1 14 rfl rfl)
theorem dX11_ofBinder_39 : decode cX11_ofBinder 39 = .ok (.invokevirtual 25, 3) := dk_182 0 25 (dk_at dksX11_ofBinder_1 17 rfl rfl)
theorem dX11_ofBinder_42 : decode cX11_ofBinder 42 = .ok (.astore 4, 2) := dk_58 4 (dk_at dksX11_ofBinder_1 20 rfl rfl)
theorem dX11_ofBinder_44 : decode cX11_ofBinder 44 = .ok (.aload_n 0, 1) := dk_42 (dk_at dksX11_ofBinder_1 22 rfl rfl)
theorem dX11_ofBinder_45 : decode cX11_ofBinder 45 = .ok (.getfield 11, 3) := dk_180 0 11 (dk_at dksX11_ofBinder_2 0 rfl rfl)
theorem dX11_ofBinder_48 : decode cX11_ofBinder 48 = .ok (.aload_n 1, 1) := dk_43 (dk_at dksX11_ofBinder_2 3 rfl rfl)
theorem dX11_ofBinder_49 : decode cX11_ofBinder 49 = .ok (.getfield 92, 3) := dk_180 0 92 (dk_at dksX11_ofBinder_2 4 rfl rfl)
theorem dX11_ofBinder_52 : decode cX11_ofBinder 52 = .ok (.bipush 97, 2) := dk_16 97 (dk_at dksX11_ofBinder_2 7 rfl rfl)
theorem dX11_ofBinder_54 : decode cX11_ofBinder 54 = .ok (.isub, 1) := dk_100 (dk_at dksX11_ofBinder_2 9 rfl rfl)
theorem dX11_ofBinder_55 : decode cX11_ofBinder 55 = .ok (.aload_n 2, 1) := dk_44 (dk_at dksX11_ofBinder_2 10 rfl rfl)
theorem dX11_ofBinder_56 : decode cX11_ofBinder 56 = .ok (.aastore, 1) := dk_83 (dk_at dksX11_ofBinder_2 11 rfl rfl)
theorem dX11_ofBinder_57 : decode cX11_ofBinder 57 = .ok (.aload_n 3, 1) := dk_45 (dk_at dksX11_ofBinder_2 12 rfl rfl)
theorem dX11_ofBinder_58 : decode cX11_ofBinder 58 = .ok (.aload 4, 2) := dk_25 4 (dk_at dksX11_ofBinder_2 13 rfl rfl)
theorem dX11_ofBinder_60 : decode cX11_ofBinder 60 = .ok (.invokestatic 32, 3) := dk_184 0 32 (dk_at dksX11_ofBinder_2 15 rfl rfl)
theorem dX11_ofBinder_63 : decode cX11_ofBinder 63 = .ok (.areturn, 1) := dk_176 (dk_at dksX11_ofBinder_2 18 rfl rfl)
abbrev cX11_written : ByteArray := prog_5_method_9_code
def yX11_written : MethodName := ⟨RX11, "written", "()Ljava/lang/String;"⟩
def dkwX11_written_1 : List UInt8 := [182, 0, 130, 43, 182, 0, 148, 176]
abbrev dktX11_written_1 : List UInt8 := dkwX11_written_1 ++ []
def dkwX11_written_0 : List UInt8 := [42, 182, 0, 144, 154, 0, 6, 18, 125, 176, 187, 0, 118, 89, 183, 0, 147, 76, 42, 42, 180, 0, 29, 43]
abbrev dktX11_written_0 : List UInt8 := dkwX11_written_0 ++ dktX11_written_1
theorem dksX11_written_0 : cX11_written.data.toList.drop 0 = dktX11_written_0 := by decide +kernel
theorem dksX11_written_1 : cX11_written.data.toList.drop 24 = dktX11_written_1 := dk_seg dksX11_written_0 24 rfl rfl
theorem dX11_written_0 : decode cX11_written 0 = .ok (.aload_n 0, 1) := dk_42 (dk_at dksX11_written_0 0 rfl rfl)
theorem dX11_written_1 : decode cX11_written 1 = .ok (.invokevirtual 144, 3) := dk_182 0 144 (dk_at dksX11_written_0 1 rfl rfl)
theorem dX11_written_4 : decode cX11_written 4 = .ok (.ifCond .ne 6, 3) := dk_154 0 6 (dk_at dksX11_written_0 4 rfl rfl)
theorem dX11_written_7 : decode cX11_written 7 = .ok (.ldc 125, 2) := dk_18 125 (dk_at dksX11_written_0 7 rfl rfl)
theorem dX11_written_9 : decode cX11_written 9 = .ok (.areturn, 1) := dk_176 (dk_at dksX11_written_0 9 rfl rfl)
theorem dX11_written_10 : decode cX11_written 10 = .ok (.new 118, 3) := dk_187 0 118 (dk_at dksX11_written_0 10 rfl rfl)
theorem dX11_written_13 : decode cX11_written 13 = .ok (.dup, 1) := dk_89 (dk_at dksX11_written_0 13 rfl rfl)
theorem dX11_written_14 : decode cX11_written 14 = .ok (.invokespecial 147, 3) := dk_183 0 147 (dk_at dksX11_written_0 14 rfl rfl)
theorem dX11_written_17 : decode cX11_written 17 = .ok (.astore_n 1, 1) := dk_76 (dk_at dksX11_written_0 17 rfl rfl)
theorem dX11_written_18 : decode cX11_written 18 = .ok (.aload_n 0, 1) := dk_42 (dk_at dksX11_written_0 18 rfl rfl)
theorem dX11_written_19 : decode cX11_written 19 = .ok (.aload_n 0, 1) := dk_42 (dk_at dksX11_written_0 19 rfl rfl)
theorem dX11_written_20 : decode cX11_written 20 = .ok (.getfield 29, 3) := dk_180 0 29 (dk_at dksX11_written_0 20 rfl rfl)
theorem dX11_written_23 : decode cX11_written 23 = .ok (.aload_n 1, 1) := dk_43 (dk_at dksX11_written_0 23 rfl rfl)
theorem dX11_written_24 : decode cX11_written 24 = .ok (.invokevirtual 130, 3) := dk_182 0 130 (dk_at dksX11_written_1 0 rfl rfl)
theorem dX11_written_27 : decode cX11_written 27 = .ok (.aload_n 1, 1) := dk_43 (dk_at dksX11_written_1 3 rfl rfl)
theorem dX11_written_28 : decode cX11_written 28 = .ok (.invokevirtual 148, 3) := dk_182 0 148 (dk_at dksX11_written_1 4 rfl rfl)
theorem dX11_written_31 : decode cX11_written 31 = .ok (.areturn, 1) := dk_176 (dk_at dksX11_written_1 7 rfl rfl)
abbrev cX11_isThere : ByteArray := prog_5_method_6_code
def yX11_isThere : MethodName := ⟨RX11, "isThere", "()Z"⟩
def dkwX11_isThere_1 : List UInt8 := [3, 172]
abbrev dktX11_isThere_1 : List UInt8 := dkwX11_isThere_1 ++ []
def dkwX11_isThere_0 : List UInt8 := [42, 180, 0, 29, 182, 0, 96, 154, 0, 17, 42, 180, 0, 21, 182, 0, 96, 154, 0, 7, 4, 167, 0, 4]
abbrev dktX11_isThere_0 : List UInt8 := dkwX11_isThere_0 ++ dktX11_isThere_1
theorem dksX11_isThere_0 : cX11_isThere.data.toList.drop 0 = dktX11_isThere_0 := by decide +kernel
theorem dksX11_isThere_1 : cX11_isThere.data.toList.drop 24 = dktX11_isThere_1 := dk_seg dksX11_isThere_0 24 rfl rfl
theorem dX11_isThere_0 : decode cX11_isThere 0 = .ok (.aload_n 0, 1) := dk_42 (dk_at dksX11_isThere_0 0 rfl rfl)
theorem dX11_isThere_1 : decode cX11_isThere 1 = .ok (.getfield 29, 3) := dk_180 0 29 (dk_at dksX11_isThere_0 1 rfl rfl)
theorem dX11_isThere_4 : decode cX11_isThere 4 = .ok (.invokevirtual 96, 3) := dk_182 0 96 (dk_at dksX11_isThere_0 4 rfl rfl)
theorem dX11_isThere_7 : decode cX11_isThere 7 = .ok (.ifCond .ne 17, 3) := dk_154 0 17 (dk_at dksX11_isThere_0 7 rfl rfl)
theorem dX11_isThere_10 : decode cX11_isThere 10 = .ok (.aload_n 0, 1) := dk_42 (dk_at dksX11_isThere_0 10 rfl rfl)
theorem dX11_isThere_11 : decode cX11_isThere 11 = .ok (.getfield 21, 3) := dk_180 0 21 (dk_at dksX11_isThere_0 11 rfl rfl)
theorem dX11_isThere_14 : decode cX11_isThere 14 = .ok (.invokevirtual 96, 3) := dk_182 0 96 (dk_at dksX11_isThere_0 14 rfl rfl)
theorem dX11_isThere_17 : decode cX11_isThere 17 = .ok (.ifCond .ne 7, 3) := dk_154 0 7 (dk_at dksX11_isThere_0 17 rfl rfl)
theorem dX11_isThere_20 : decode cX11_isThere 20 = .ok (.iconst 1, 1) := dk_4 (dk_at dksX11_isThere_0 20 rfl rfl)
theorem dX11_isThere_21 : decode cX11_isThere 21 = .ok (.goto 4, 3) := dk_167 0 4 (dk_at dksX11_isThere_0 21 rfl rfl)
theorem dX11_isThere_24 : decode cX11_isThere 24 = .ok (.iconst 0, 1) := dk_3 (dk_at dksX11_isThere_1 0 rfl rfl)
theorem dX11_isThere_25 : decode cX11_isThere 25 = .ok (.ireturn, 1) := dk_172 (dk_at dksX11_isThere_1 1 rfl rfl)
abbrev cX11_write : ByteArray := prog_5_method_8_code
def yX11_write : MethodName := ⟨RX11, "write", "(LBinderPress$Kind;Ljava/lang/StringBuilder;)V"⟩
def dkwX11_write_5 : List UInt8 := [191, 177]
abbrev dktX11_write_5 : List UInt8 := dkwX11_write_5 ++ []
def dkwX11_write_4 : List UInt8 := [180, 0, 138, 44, 182, 0, 130, 44, 182, 0, 141, 17, 0, 200, 164, 0, 11, 187, 0, 103, 89, 183, 0, 105]
abbrev dktX11_write_4 : List UInt8 := dkwX11_write_4 ++ dktX11_write_5
def dkwX11_write_3 : List UInt8 := [182, 0, 130, 44, 21, 4, 153, 0, 8, 18, 134, 167, 0, 5, 18, 136, 182, 0, 127, 87, 42, 45]
abbrev dktX11_write_3 : List UInt8 := dkwX11_write_3 ++ dktX11_write_4
def dkwX11_write_2 : List UInt8 := [21, 4, 153, 0, 8, 18, 123, 167, 0, 5, 18, 125, 182, 0, 127, 87, 42, 45, 180, 0, 110, 44]
abbrev dktX11_write_2 : List UInt8 := dkwX11_write_2 ++ dktX11_write_3
def dkwX11_write_1 : List UInt8 := [167, 0, 75, 45, 180, 0, 110, 182, 0, 106, 180, 0, 110, 198, 0, 7, 4, 167, 0, 4, 3, 54, 4, 44]
abbrev dktX11_write_1 : List UInt8 := dkwX11_write_1 ++ dktX11_write_2
def dkwX11_write_0 : List UInt8 := [43, 182, 0, 106, 78, 45, 180, 0, 110, 199, 0, 17, 44, 42, 45, 182, 0, 113, 146, 182, 0, 117, 87]
abbrev dktX11_write_0 : List UInt8 := dkwX11_write_0 ++ dktX11_write_1
theorem dksX11_write_0 : cX11_write.data.toList.drop 0 = dktX11_write_0 := by decide +kernel
theorem dksX11_write_1 : cX11_write.data.toList.drop 23 = dktX11_write_1 := dk_seg dksX11_write_0 23 rfl rfl
theorem dksX11_write_2 : cX11_write.data.toList.drop 47 = dktX11_write_2 := dk_seg dksX11_write_1 24 rfl rfl
theorem dksX11_write_3 : cX11_write.data.toList.drop 69 = dktX11_write_3 := dk_seg dksX11_write_2 22 rfl rfl
theorem dksX11_write_4 : cX11_write.data.toList.drop 91 = dktX11_write_4 := dk_seg dksX11_write_3 22 rfl rfl
theorem dksX11_write_5 : cX11_write.data.toList.drop 115 = dktX11_write_5 := dk_seg dksX11_write_4 24 rfl rfl
theorem dX11_write_0 : decode cX11_write 0 = .ok (.aload_n 1, 1) := dk_43 (dk_at dksX11_write_0 0 rfl rfl)
theorem dX11_write_1 : decode cX11_write 1 = .ok (.invokevirtual 106, 3) := dk_182 0 106 (dk_at dksX11_write_0 1 rfl rfl)
theorem dX11_write_4 : decode cX11_write 4 = .ok (.astore_n 3, 1) := dk_78 (dk_at dksX11_write_0 4 rfl rfl)
theorem dX11_write_5 : decode cX11_write 5 = .ok (.aload_n 3, 1) := dk_45 (dk_at dksX11_write_0 5 rfl rfl)
theorem dX11_write_6 : decode cX11_write 6 = .ok (.getfield 110, 3) := dk_180 0 110 (dk_at dksX11_write_0 6 rfl rfl)
theorem dX11_write_9 : decode cX11_write 9 = .ok (.ifnonnull 17, 3) := dk_199 0 17 (dk_at dksX11_write_0 9 rfl rfl)
theorem dX11_write_12 : decode cX11_write 12 = .ok (.aload_n 2, 1) := dk_44 (dk_at dksX11_write_0 12 rfl rfl)
theorem dX11_write_13 : decode cX11_write 13 = .ok (.aload_n 0, 1) := dk_42 (dk_at dksX11_write_0 13 rfl rfl)
theorem dX11_write_14 : decode cX11_write 14 = .ok (.aload_n 3, 1) := dk_45 (dk_at dksX11_write_0 14 rfl rfl)
theorem dX11_write_15 : decode cX11_write 15 = .ok (.invokevirtual 113, 3) := dk_182 0 113 (dk_at dksX11_write_0 15 rfl rfl)
theorem dX11_write_18 : decode cX11_write 18 = .ok (.i2c, 1) := dk_146 (dk_at dksX11_write_0 18 rfl rfl)
theorem dX11_write_19 : decode cX11_write 19 = .ok (.invokevirtual 117, 3) := dk_182 0 117 (dk_at dksX11_write_0 19 rfl rfl)
theorem dX11_write_22 : decode cX11_write 22 = .ok (.pop, 1) := dk_87 (dk_at dksX11_write_0 22 rfl rfl)
theorem dX11_write_23 : decode cX11_write 23 = .ok (.goto 75, 3) := dk_167 0 75 (dk_at dksX11_write_1 0 rfl rfl)
theorem dX11_write_26 : decode cX11_write 26 = .ok (.aload_n 3, 1) := dk_45 (dk_at dksX11_write_1 3 rfl rfl)
theorem dX11_write_27 : decode cX11_write 27 = .ok (.getfield 110, 3) := dk_180 0 110 (dk_at dksX11_write_1 4 rfl rfl)
theorem dX11_write_30 : decode cX11_write 30 = .ok (.invokevirtual 106, 3) := dk_182 0 106 (dk_at dksX11_write_1 7 rfl rfl)
theorem dX11_write_33 : decode cX11_write 33 = .ok (.getfield 110, 3) := dk_180 0 110 (dk_at dksX11_write_1 10 rfl rfl)
theorem dX11_write_36 : decode cX11_write 36 = .ok (.ifnull 7, 3) := dk_198 0 7 (dk_at dksX11_write_1 13 rfl rfl)
theorem dX11_write_39 : decode cX11_write 39 = .ok (.iconst 1, 1) := dk_4 (dk_at dksX11_write_1 16 rfl rfl)
theorem dX11_write_40 : decode cX11_write 40 = .ok (.goto 4, 3) := dk_167 0 4 (dk_at dksX11_write_1 17 rfl rfl)
theorem dX11_write_43 : decode cX11_write 43 = .ok (.iconst 0, 1) := dk_3 (dk_at dksX11_write_1 20 rfl rfl)
theorem dX11_write_44 : decode cX11_write 44 = .ok (.istore 4, 2) := dk_54 4 (dk_at dksX11_write_1 21 rfl rfl)
theorem dX11_write_46 : decode cX11_write 46 = .ok (.aload_n 2, 1) := dk_44 (dk_at dksX11_write_1 23 rfl rfl)
theorem dX11_write_47 : decode cX11_write 47 = .ok (.iload 4, 2) := dk_21 4 (dk_at dksX11_write_2 0 rfl rfl)
theorem dX11_write_49 : decode cX11_write 49 = .ok (.ifCond .eq 8, 3) := dk_153 0 8 (dk_at dksX11_write_2 2 rfl rfl)
theorem dX11_write_52 : decode cX11_write 52 = .ok (.ldc 123, 2) := dk_18 123 (dk_at dksX11_write_2 5 rfl rfl)
theorem dX11_write_54 : decode cX11_write 54 = .ok (.goto 5, 3) := dk_167 0 5 (dk_at dksX11_write_2 7 rfl rfl)
theorem dX11_write_57 : decode cX11_write 57 = .ok (.ldc 125, 2) := dk_18 125 (dk_at dksX11_write_2 10 rfl rfl)
theorem dX11_write_59 : decode cX11_write 59 = .ok (.invokevirtual 127, 3) := dk_182 0 127 (dk_at dksX11_write_2 12 rfl rfl)
theorem dX11_write_62 : decode cX11_write 62 = .ok (.pop, 1) := dk_87 (dk_at dksX11_write_2 15 rfl rfl)
theorem dX11_write_63 : decode cX11_write 63 = .ok (.aload_n 0, 1) := dk_42 (dk_at dksX11_write_2 16 rfl rfl)
theorem dX11_write_64 : decode cX11_write 64 = .ok (.aload_n 3, 1) := dk_45 (dk_at dksX11_write_2 17 rfl rfl)
theorem dX11_write_65 : decode cX11_write 65 = .ok (.getfield 110, 3) := dk_180 0 110 (dk_at dksX11_write_2 18 rfl rfl)
theorem dX11_write_68 : decode cX11_write 68 = .ok (.aload_n 2, 1) := dk_44 (dk_at dksX11_write_2 21 rfl rfl)
theorem dX11_write_69 : decode cX11_write 69 = .ok (.invokevirtual 130, 3) := dk_182 0 130 (dk_at dksX11_write_3 0 rfl rfl)
theorem dX11_write_72 : decode cX11_write 72 = .ok (.aload_n 2, 1) := dk_44 (dk_at dksX11_write_3 3 rfl rfl)
theorem dX11_write_73 : decode cX11_write 73 = .ok (.iload 4, 2) := dk_21 4 (dk_at dksX11_write_3 4 rfl rfl)
theorem dX11_write_75 : decode cX11_write 75 = .ok (.ifCond .eq 8, 3) := dk_153 0 8 (dk_at dksX11_write_3 6 rfl rfl)
theorem dX11_write_78 : decode cX11_write 78 = .ok (.ldc 134, 2) := dk_18 134 (dk_at dksX11_write_3 9 rfl rfl)
theorem dX11_write_80 : decode cX11_write 80 = .ok (.goto 5, 3) := dk_167 0 5 (dk_at dksX11_write_3 11 rfl rfl)
theorem dX11_write_83 : decode cX11_write 83 = .ok (.ldc 136, 2) := dk_18 136 (dk_at dksX11_write_3 14 rfl rfl)
theorem dX11_write_85 : decode cX11_write 85 = .ok (.invokevirtual 127, 3) := dk_182 0 127 (dk_at dksX11_write_3 16 rfl rfl)
theorem dX11_write_88 : decode cX11_write 88 = .ok (.pop, 1) := dk_87 (dk_at dksX11_write_3 19 rfl rfl)
theorem dX11_write_89 : decode cX11_write 89 = .ok (.aload_n 0, 1) := dk_42 (dk_at dksX11_write_3 20 rfl rfl)
theorem dX11_write_90 : decode cX11_write 90 = .ok (.aload_n 3, 1) := dk_45 (dk_at dksX11_write_3 21 rfl rfl)
theorem dX11_write_91 : decode cX11_write 91 = .ok (.getfield 138, 3) := dk_180 0 138 (dk_at dksX11_write_4 0 rfl rfl)
theorem dX11_write_94 : decode cX11_write 94 = .ok (.aload_n 2, 1) := dk_44 (dk_at dksX11_write_4 3 rfl rfl)
theorem dX11_write_95 : decode cX11_write 95 = .ok (.invokevirtual 130, 3) := dk_182 0 130 (dk_at dksX11_write_4 4 rfl rfl)
theorem dX11_write_98 : decode cX11_write 98 = .ok (.aload_n 2, 1) := dk_44 (dk_at dksX11_write_4 7 rfl rfl)
theorem dX11_write_99 : decode cX11_write 99 = .ok (.invokevirtual 141, 3) := dk_182 0 141 (dk_at dksX11_write_4 8 rfl rfl)
theorem dX11_write_102 : decode cX11_write 102 = .ok (.sipush 200, 3) := dk_17 0 200 (dk_at dksX11_write_4 11 rfl rfl)
theorem dX11_write_105 : decode cX11_write 105 = .ok (.if_icmp .le 11, 3) := dk_164 0 11 (dk_at dksX11_write_4 14 rfl rfl)
theorem dX11_write_108 : decode cX11_write 108 = .ok (.new 103, 3) := dk_187 0 103 (dk_at dksX11_write_4 17 rfl rfl)
theorem dX11_write_111 : decode cX11_write 111 = .ok (.dup, 1) := dk_89 (dk_at dksX11_write_4 20 rfl rfl)
theorem dX11_write_112 : decode cX11_write 112 = .ok (.invokespecial 105, 3) := dk_183 0 105 (dk_at dksX11_write_4 21 rfl rfl)
theorem dX11_write_115 : decode cX11_write 115 = .ok (.athrow, 1) := dk_191 (dk_at dksX11_write_5 0 rfl rfl)
theorem dX11_write_116 : decode cX11_write 116 = .ok (.return_, 1) := dk_177 (dk_at dksX11_write_5 1 rfl rfl)
abbrev cX11_letterOf : ByteArray := prog_5_method_7_code
def yX11_letterOf : MethodName := ⟨RX11, "letterOf", "(LBinderPress$Kind;)I"⟩
def dkwX11_letterOf_3 : List UInt8 := [180, 0, 100, 96, 4, 100, 172]
abbrev dktX11_letterOf_3 : List UInt8 := dkwX11_letterOf_3 ++ []
def dkwX11_letterOf_2 : List UInt8 := [42, 180, 0, 17, 42, 180, 0, 100, 43, 83, 42, 89, 180, 0, 100, 4, 96, 181, 0, 100, 16, 97, 42]
abbrev dktX11_letterOf_2 : List UInt8 := dkwX11_letterOf_2 ++ dktX11_letterOf_3
def dkwX11_letterOf_1 : List UInt8 := [172, 132, 2, 1, 167, 255, 230, 42, 180, 0, 100, 16, 26, 160, 0, 11, 187, 0, 103, 89, 183, 0, 105, 191]
abbrev dktX11_letterOf_1 : List UInt8 := dkwX11_letterOf_1 ++ dktX11_letterOf_2
def dkwX11_letterOf_0 : List UInt8 := [3, 61, 28, 42, 180, 0, 100, 162, 0, 24, 42, 180, 0, 17, 28, 50, 43, 166, 0, 8, 16, 97, 28, 96]
abbrev dktX11_letterOf_0 : List UInt8 := dkwX11_letterOf_0 ++ dktX11_letterOf_1
theorem dksX11_letterOf_0 : cX11_letterOf.data.toList.drop 0 = dktX11_letterOf_0 := by decide +kernel
theorem dksX11_letterOf_1 : cX11_letterOf.data.toList.drop 24 = dktX11_letterOf_1 := dk_seg dksX11_letterOf_0 24 rfl rfl
theorem dksX11_letterOf_2 : cX11_letterOf.data.toList.drop 48 = dktX11_letterOf_2 := dk_seg dksX11_letterOf_1 24 rfl rfl
theorem dksX11_letterOf_3 : cX11_letterOf.data.toList.drop 71 = dktX11_letterOf_3 := dk_seg dksX11_letterOf_2 23 rfl rfl
theorem dX11_letterOf_0 : decode cX11_letterOf 0 = .ok (.iconst 0, 1) := dk_3 (dk_at dksX11_letterOf_0 0 rfl rfl)
theorem dX11_letterOf_1 : decode cX11_letterOf 1 = .ok (.istore_n 2, 1) := dk_61 (dk_at dksX11_letterOf_0 1 rfl rfl)
theorem dX11_letterOf_2 : decode cX11_letterOf 2 = .ok (.iload_n 2, 1) := dk_28 (dk_at dksX11_letterOf_0 2 rfl rfl)
theorem dX11_letterOf_3 : decode cX11_letterOf 3 = .ok (.aload_n 0, 1) := dk_42 (dk_at dksX11_letterOf_0 3 rfl rfl)
theorem dX11_letterOf_4 : decode cX11_letterOf 4 = .ok (.getfield 100, 3) := dk_180 0 100 (dk_at dksX11_letterOf_0 4 rfl rfl)
theorem dX11_letterOf_7 : decode cX11_letterOf 7 = .ok (.if_icmp .ge 24, 3) := dk_162 0 24 (dk_at dksX11_letterOf_0 7 rfl rfl)
theorem dX11_letterOf_10 : decode cX11_letterOf 10 = .ok (.aload_n 0, 1) := dk_42 (dk_at dksX11_letterOf_0 10 rfl rfl)
theorem dX11_letterOf_11 : decode cX11_letterOf 11 = .ok (.getfield 17, 3) := dk_180 0 17 (dk_at dksX11_letterOf_0 11 rfl rfl)
theorem dX11_letterOf_14 : decode cX11_letterOf 14 = .ok (.iload_n 2, 1) := dk_28 (dk_at dksX11_letterOf_0 14 rfl rfl)
theorem dX11_letterOf_15 : decode cX11_letterOf 15 = .ok (.aaload, 1) := dk_50 (dk_at dksX11_letterOf_0 15 rfl rfl)
theorem dX11_letterOf_16 : decode cX11_letterOf 16 = .ok (.aload_n 1, 1) := dk_43 (dk_at dksX11_letterOf_0 16 rfl rfl)
theorem dX11_letterOf_17 : decode cX11_letterOf 17 = .ok (.if_acmp .ne 8, 3) := dk_166 0 8 (dk_at dksX11_letterOf_0 17 rfl rfl)
theorem dX11_letterOf_20 : decode cX11_letterOf 20 = .ok (.bipush 97, 2) := dk_16 97 (dk_at dksX11_letterOf_0 20 rfl rfl)
theorem dX11_letterOf_22 : decode cX11_letterOf 22 = .ok (.iload_n 2, 1) := dk_28 (dk_at dksX11_letterOf_0 22 rfl rfl)
theorem dX11_letterOf_23 : decode cX11_letterOf 23 = .ok (.iadd, 1) := dk_96 (dk_at dksX11_letterOf_0 23 rfl rfl)
theorem dX11_letterOf_24 : decode cX11_letterOf 24 = .ok (.ireturn, 1) := dk_172 (dk_at dksX11_letterOf_1 0 rfl rfl)
theorem dX11_letterOf_25 : decode cX11_letterOf 25 = .ok (.iinc 2 1, 3) := dk_132 2 1 (dk_at dksX11_letterOf_1 1 rfl rfl)
theorem dX11_letterOf_28 : decode cX11_letterOf 28 = .ok (.goto (-26), 3) := dk_167 255 230 (dk_at dksX11_letterOf_1 4 rfl rfl)
theorem dX11_letterOf_31 : decode cX11_letterOf 31 = .ok (.aload_n 0, 1) := dk_42 (dk_at dksX11_letterOf_1 7 rfl rfl)
theorem dX11_letterOf_32 : decode cX11_letterOf 32 = .ok (.getfield 100, 3) := dk_180 0 100 (dk_at dksX11_letterOf_1 8 rfl rfl)
theorem dX11_letterOf_35 : decode cX11_letterOf 35 = .ok (.bipush 26, 2) := dk_16 26 (dk_at dksX11_letterOf_1 11 rfl rfl)
theorem dX11_letterOf_37 : decode cX11_letterOf 37 = .ok (.if_icmp .ne 11, 3) := dk_160 0 11 (dk_at dksX11_letterOf_1 13 rfl rfl)
theorem dX11_letterOf_40 : decode cX11_letterOf 40 = .ok (.new 103, 3) := dk_187 0 103 (dk_at dksX11_letterOf_1 16 rfl rfl)
theorem dX11_letterOf_43 : decode cX11_letterOf 43 = .ok (.dup, 1) := dk_89 (dk_at dksX11_letterOf_1 19 rfl rfl)
theorem dX11_letterOf_44 : decode cX11_letterOf 44 = .ok (.invokespecial 105, 3) := dk_183 0 105 (dk_at dksX11_letterOf_1 20 rfl rfl)
theorem dX11_letterOf_47 : decode cX11_letterOf 47 = .ok (.athrow, 1) := dk_191 (dk_at dksX11_letterOf_1 23 rfl rfl)
theorem dX11_letterOf_48 : decode cX11_letterOf 48 = .ok (.aload_n 0, 1) := dk_42 (dk_at dksX11_letterOf_2 0 rfl rfl)
theorem dX11_letterOf_49 : decode cX11_letterOf 49 = .ok (.getfield 17, 3) := dk_180 0 17 (dk_at dksX11_letterOf_2 1 rfl rfl)
theorem dX11_letterOf_52 : decode cX11_letterOf 52 = .ok (.aload_n 0, 1) := dk_42 (dk_at dksX11_letterOf_2 4 rfl rfl)
theorem dX11_letterOf_53 : decode cX11_letterOf 53 = .ok (.getfield 100, 3) := dk_180 0 100 (dk_at dksX11_letterOf_2 5 rfl rfl)
theorem dX11_letterOf_56 : decode cX11_letterOf 56 = .ok (.aload_n 1, 1) := dk_43 (dk_at dksX11_letterOf_2 8 rfl rfl)
theorem dX11_letterOf_57 : decode cX11_letterOf 57 = .ok (.aastore, 1) := dk_83 (dk_at dksX11_letterOf_2 9 rfl rfl)
theorem dX11_letterOf_58 : decode cX11_letterOf 58 = .ok (.aload_n 0, 1) := dk_42 (dk_at dksX11_letterOf_2 10 rfl rfl)
theorem dX11_letterOf_59 : decode cX11_letterOf 59 = .ok (.dup, 1) := dk_89 (dk_at dksX11_letterOf_2 11 rfl rfl)
theorem dX11_letterOf_60 : decode cX11_letterOf 60 = .ok (.getfield 100, 3) := dk_180 0 100 (dk_at dksX11_letterOf_2 12 rfl rfl)
theorem dX11_letterOf_63 : decode cX11_letterOf 63 = .ok (.iconst 1, 1) := dk_4 (dk_at dksX11_letterOf_2 15 rfl rfl)
theorem dX11_letterOf_64 : decode cX11_letterOf 64 = .ok (.iadd, 1) := dk_96 (dk_at dksX11_letterOf_2 16 rfl rfl)
theorem dX11_letterOf_65 : decode cX11_letterOf 65 = .ok (.putfield 100, 3) := dk_181 0 100 (dk_at dksX11_letterOf_2 17 rfl rfl)
theorem dX11_letterOf_68 : decode cX11_letterOf 68 = .ok (.bipush 97, 2) := dk_16 97 (dk_at dksX11_letterOf_2 20 rfl rfl)
theorem dX11_letterOf_70 : decode cX11_letterOf 70 = .ok (.aload_n 0, 1) := dk_42 (dk_at dksX11_letterOf_2 22 rfl rfl)
theorem dX11_letterOf_71 : decode cX11_letterOf 71 = .ok (.getfield 100, 3) := dk_180 0 100 (dk_at dksX11_letterOf_3 0 rfl rfl)
theorem dX11_letterOf_74 : decode cX11_letterOf 74 = .ok (.iadd, 1) := dk_96 (dk_at dksX11_letterOf_3 3 rfl rfl)
theorem dX11_letterOf_75 : decode cX11_letterOf 75 = .ok (.iconst 1, 1) := dk_4 (dk_at dksX11_letterOf_3 4 rfl rfl)
theorem dX11_letterOf_76 : decode cX11_letterOf 76 = .ok (.isub, 1) := dk_100 (dk_at dksX11_letterOf_3 5 rfl rfl)
theorem dX11_letterOf_77 : decode cX11_letterOf 77 = .ok (.ireturn, 1) := dk_172 (dk_at dksX11_letterOf_3 6 rfl rfl)
theorem q107 : (Jvm.Cond.initialized "BinderPress$Kinds") ∈ lw_all := lw_g (lw_at lw_m1 24 rfl) rfl
theorem q376 : (Jvm.Cond.fieldLinkNest "BinderPress$Kinds" (92 : Nat) "BinderPress$Binder" "letter" "I" "BinderPress") ∈ lw_tbl := lw_at lw_m2 53 rfl
theorem q378 : (Jvm.Cond.fieldLinkNest "BinderPress$Kinds" (93 : Nat) "BinderPress$Binder" "body" "LBinderPress$Term;" "BinderPress") ∈ lw_tbl := lw_at lw_m2 55 rfl
theorem q394 : (Jvm.Cond.fieldLinkNest "BinderPress$Kinds" (56 : Nat) "BinderPress$Name" "letter" "I" "BinderPress") ∈ lw_tbl := lw_at lw_m2 71 rfl
theorem q410 : (Jvm.Cond.fieldLinkNest "BinderPress$Kinds" (61 : Nat) "BinderPress$Sign" "text" "Ljava/lang/String;" "BinderPress") ∈ lw_tbl := lw_at lw_m2 87 rfl
theorem q461 : (Jvm.Cond.fieldLinkNest "BinderPress$Kinds" (71 : Nat) "BinderPress$Put" "left" "LBinderPress$Term;" "BinderPress") ∈ lw_tbl := lw_at lw_m2 138 rfl
theorem q464 : (Jvm.Cond.fieldLinkNest "BinderPress$Kinds" (79 : Nat) "BinderPress$Put" "right" "LBinderPress$Term;" "BinderPress") ∈ lw_tbl := lw_at lw_m2 141 rfl
theorem q1152 : (Jvm.Cond.instantiable "BinderPress$Kinds" (5 : Nat)) ∈ lw_all := lw_g (lw_at lw_m5 109 rfl) rfl
theorem q1154 : (Jvm.Cond.instanceMethod ({ cls := "BinderPress$Kinds", name := "<init>", desc := "(LBinderPress$Term;)V" } : Jvm.MethodName)) ∈ lw_all := lw_g (lw_at lw_m5 111 rfl) rfl
theorem q1155 : (Jvm.Cond.code ({ cls := "BinderPress$Kinds", name := "<init>", desc := "(LBinderPress$Term;)V" } : Jvm.MethodName) prog_5_method_1_code (3 : Nat) (Option.none : Option Jvm.ClassFile.FieldType)) ∈ lw_all := lw_g (lw_at lw_m5 112 rfl) rfl
theorem q1156 : (Jvm.Cond.methodLink "BinderPress$Kinds" (3 : Nat) ({ cls := "java/lang/Object", name := "<init>", desc := "()V" } : Jvm.MethodName)) ∈ lw_all := lw_g (lw_at lw_m5 113 rfl) rfl
theorem q1157 : (Jvm.Cond.classLink "BinderPress$Kinds" (9 : Nat) "BinderPress$Kind") ∈ lw_all := lw_g (lw_at lw_m5 114 rfl) rfl
theorem q1160 : (Jvm.Cond.methodLinkNest "BinderPress$Kinds" (20 : Nat) ({ cls := "BinderPress$Kind", name := "<init>", desc := "()V" } : Jvm.MethodName) "BinderPress") ∈ lw_tbl := lw_at lw_m5 117 rfl
theorem q1166 : (Jvm.Cond.fieldLinkNest "BinderPress$Kinds" (110 : Nat) "BinderPress$Kind" "from" "LBinderPress$Kind;" "BinderPress") ∈ lw_tbl := lw_at lw_m5 123 rfl
theorem q1168 : (Jvm.Cond.fieldLinkNest "BinderPress$Kinds" (138 : Nat) "BinderPress$Kind" "to" "LBinderPress$Kind;" "BinderPress") ∈ lw_tbl := lw_at lw_m5 125 rfl
theorem q1179 : (Jvm.Cond.methodLink "BinderPress$Kinds" (25 : Nat) ({ cls := "BinderPress$Kinds", name := "of", desc := "(LBinderPress$Term;)LBinderPress$Kind;" } : Jvm.MethodName)) ∈ lw_all := lw_g (lw_at lw_m5 136 rfl) rfl
theorem q1180 : (Jvm.Cond.privateMethod ({ cls := "BinderPress$Kinds", name := "of", desc := "(LBinderPress$Term;)LBinderPress$Kind;" } : Jvm.MethodName)) ∈ lw_tbl := lw_at lw_m5 137 rfl
theorem q1181 : (Jvm.Cond.instanceMethod ({ cls := "BinderPress$Kinds", name := "of", desc := "(LBinderPress$Term;)LBinderPress$Kind;" } : Jvm.MethodName)) ∈ lw_all := lw_g (lw_at lw_m5 138 rfl) rfl
theorem q1182 : (Jvm.Cond.code ({ cls := "BinderPress$Kinds", name := "of", desc := "(LBinderPress$Term;)LBinderPress$Kind;" } : Jvm.MethodName) prog_5_method_4_code (5 : Nat) (Option.some (Jvm.ClassFile.FieldType.object "BinderPress$Kind"))) ∈ lw_all := lw_g (lw_at lw_m5 139 rfl) rfl
theorem q1183 : (Jvm.Cond.classLink "BinderPress$Kinds" (54 : Nat) "BinderPress$Name") ∈ lw_all := lw_g (lw_at lw_m5 140 rfl) rfl
theorem q1184 : (Jvm.Cond.classLink "BinderPress$Kinds" (59 : Nat) "BinderPress$Sign") ∈ lw_all := lw_g (lw_at lw_m5 141 rfl) rfl
theorem q1185 : (Jvm.Cond.methodLink "BinderPress$Kinds" (65 : Nat) ({ cls := "BinderPress$Kinds", name := "ofSign", desc := "(Ljava/lang/String;)LBinderPress$Kind;" } : Jvm.MethodName)) ∈ lw_all := lw_g (lw_at lw_m5 142 rfl) rfl
theorem q1186 : (Jvm.Cond.static ({ cls := "BinderPress$Kinds", name := "ofSign", desc := "(Ljava/lang/String;)LBinderPress$Kind;" } : Jvm.MethodName)) ∈ lw_all := lw_g (lw_at lw_m5 143 rfl) rfl
theorem q1187 : (Jvm.Cond.code ({ cls := "BinderPress$Kinds", name := "ofSign", desc := "(Ljava/lang/String;)LBinderPress$Kind;" } : Jvm.MethodName) prog_5_method_3_code (6 : Nat) (Option.some (Jvm.ClassFile.FieldType.object "BinderPress$Kind"))) ∈ lw_all := lw_g (lw_at lw_m5 144 rfl) rfl
theorem q1188 : (Jvm.Cond.methodLink "BinderPress$Kinds" (36 : Nat) ({ cls := "java/lang/String", name := "hashCode", desc := "()I" } : Jvm.MethodName)) ∈ lw_all := lw_g (lw_at lw_m5 145 rfl) rfl
theorem q1189 : (Jvm.Cond.stringRef "BinderPress$Kinds" (42 : Nat) "I") ∈ lw_tbl := lw_at lw_m5 146 rfl
theorem q1190 : (Jvm.Cond.methodLink "BinderPress$Kinds" (44 : Nat) ({ cls := "java/lang/String", name := "equals", desc := "(Ljava/lang/Object;)Z" } : Jvm.MethodName)) ∈ lw_all := lw_g (lw_at lw_m5 147 rfl) rfl
theorem q1191 : (Jvm.Cond.stringRef "BinderPress$Kinds" (48 : Nat) "K") ∈ lw_tbl := lw_at lw_m5 148 rfl
theorem q1192 : (Jvm.Cond.stringRef "BinderPress$Kinds" (50 : Nat) "S") ∈ lw_tbl := lw_at lw_m5 149 rfl
theorem q1193 : (Jvm.Cond.stringRef "BinderPress$Kinds" (52 : Nat) "B") ∈ lw_tbl := lw_at lw_m5 150 rfl
theorem q1194 : (Jvm.Cond.methodLink "BinderPress$Kinds" (32 : Nat) ({ cls := "BinderPress$Kind", name := "arrow", desc := "(LBinderPress$Kind;LBinderPress$Kind;)LBinderPress$Kind;" } : Jvm.MethodName)) ∈ lw_all := lw_g (lw_at lw_m5 151 rfl) rfl
theorem q1199 : (Jvm.Cond.classLink "BinderPress$Kinds" (69 : Nat) "BinderPress$Put") ∈ lw_all := lw_g (lw_at lw_m5 156 rfl) rfl
theorem q1200 : (Jvm.Cond.methodLink "BinderPress$Kinds" (75 : Nat) ({ cls := "BinderPress$Kinds", name := "kept", desc := "(LBinderPress$Kind;)LBinderPress$Kind;" } : Jvm.MethodName)) ∈ lw_all := lw_g (lw_at lw_m5 157 rfl) rfl
theorem q1201 : (Jvm.Cond.privateMethod ({ cls := "BinderPress$Kinds", name := "kept", desc := "(LBinderPress$Kind;)LBinderPress$Kind;" } : Jvm.MethodName)) ∈ lw_tbl := lw_at lw_m5 158 rfl
theorem q1202 : (Jvm.Cond.instanceMethod ({ cls := "BinderPress$Kinds", name := "kept", desc := "(LBinderPress$Kind;)LBinderPress$Kind;" } : Jvm.MethodName)) ∈ lw_all := lw_g (lw_at lw_m5 159 rfl) rfl
theorem q1203 : (Jvm.Cond.code ({ cls := "BinderPress$Kinds", name := "kept", desc := "(LBinderPress$Kind;)LBinderPress$Kind;" } : Jvm.MethodName) prog_5_method_2_code (2 : Nat) (Option.some (Jvm.ClassFile.FieldType.object "BinderPress$Kind"))) ∈ lw_all := lw_g (lw_at lw_m5 160 rfl) rfl
theorem q1204 : (Jvm.Cond.methodLink "BinderPress$Kinds" (82 : Nat) ({ cls := "BinderPress$Kind", name := "join", desc := "(LBinderPress$Kind;LBinderPress$Kind;)V" } : Jvm.MethodName)) ∈ lw_all := lw_g (lw_at lw_m5 161 rfl) rfl
theorem q1212 : (Jvm.Cond.classLink "BinderPress$Kinds" (86 : Nat) "BinderPress$Binder") ∈ lw_all := lw_g (lw_at lw_m5 169 rfl) rfl
theorem q1213 : (Jvm.Cond.methodLink "BinderPress$Kinds" (88 : Nat) ({ cls := "BinderPress$Kinds", name := "ofBinder", desc := "(LBinderPress$Binder;)LBinderPress$Kind;" } : Jvm.MethodName)) ∈ lw_all := lw_g (lw_at lw_m5 170 rfl) rfl
theorem q1214 : (Jvm.Cond.privateMethod ({ cls := "BinderPress$Kinds", name := "ofBinder", desc := "(LBinderPress$Binder;)LBinderPress$Kind;" } : Jvm.MethodName)) ∈ lw_tbl := lw_at lw_m5 171 rfl
theorem q1215 : (Jvm.Cond.instanceMethod ({ cls := "BinderPress$Kinds", name := "ofBinder", desc := "(LBinderPress$Binder;)LBinderPress$Kind;" } : Jvm.MethodName)) ∈ lw_all := lw_g (lw_at lw_m5 172 rfl) rfl
theorem q1216 : (Jvm.Cond.code ({ cls := "BinderPress$Kinds", name := "ofBinder", desc := "(LBinderPress$Binder;)LBinderPress$Kind;" } : Jvm.MethodName) prog_5_method_5_code (5 : Nat) (Option.some (Jvm.ClassFile.FieldType.object "BinderPress$Kind"))) ∈ lw_all := lw_g (lw_at lw_m5 173 rfl) rfl
theorem q1217 : (Jvm.Cond.fieldLink "BinderPress$Kinds" (11 : Nat) "BinderPress$Kinds" "ofName" "[LBinderPress$Kind;") ∈ lw_all := lw_g (lw_at lw_m5 174 rfl) rfl
theorem q1218 : (Jvm.Cond.fieldLink "BinderPress$Kinds" (17 : Nat) "BinderPress$Kinds" "ofLetter" "[LBinderPress$Kind;") ∈ lw_all := lw_g (lw_at lw_m5 175 rfl) rfl
theorem q1219 : (Jvm.Cond.fieldLink "BinderPress$Kinds" (100 : Nat) "BinderPress$Kinds" "letters" "I") ∈ lw_all := lw_g (lw_at lw_m5 176 rfl) rfl
theorem q1220 : (Jvm.Cond.fieldLink "BinderPress$Kinds" (21 : Nat) "BinderPress$Kinds" "all" "LBinderPress$Kind;") ∈ lw_all := lw_g (lw_at lw_m5 177 rfl) rfl
theorem q1221 : (Jvm.Cond.fieldLink "BinderPress$Kinds" (29 : Nat) "BinderPress$Kinds" "whole" "LBinderPress$Kind;") ∈ lw_all := lw_g (lw_at lw_m5 178 rfl) rfl
theorem q1222 : (Jvm.Cond.laysFinal "BinderPress$Kinds" "BinderPress$Kinds" "ofName" "[LBinderPress$Kind;") ∈ lw_all := lw_g (lw_at lw_m5 179 rfl) rfl
theorem q1223 : (Jvm.Cond.soleField "BinderPress$Kinds" "ofName") ∈ lw_all := lw_g (lw_at lw_m5 180 rfl) rfl
theorem q1224 : (Jvm.Cond.laysFinal "BinderPress$Kinds" "BinderPress$Kinds" "ofLetter" "[LBinderPress$Kind;") ∈ lw_all := lw_g (lw_at lw_m5 181 rfl) rfl
theorem q1225 : (Jvm.Cond.soleField "BinderPress$Kinds" "ofLetter") ∈ lw_all := lw_g (lw_at lw_m5 182 rfl) rfl
theorem q1226 : (Jvm.Cond.lays "BinderPress$Kinds" "BinderPress$Kinds" "letters" "I") ∈ lw_all := lw_g (lw_at lw_m5 183 rfl) rfl
theorem q1227 : (Jvm.Cond.soleField "BinderPress$Kinds" "letters") ∈ lw_all := lw_g (lw_at lw_m5 184 rfl) rfl
theorem q1228 : (Jvm.Cond.lays "BinderPress$Kinds" "BinderPress$Kinds" "all" "LBinderPress$Kind;") ∈ lw_all := lw_g (lw_at lw_m5 185 rfl) rfl
theorem q1229 : (Jvm.Cond.soleField "BinderPress$Kinds" "all") ∈ lw_all := lw_g (lw_at lw_m5 186 rfl) rfl
theorem q1230 : (Jvm.Cond.laysFinal "BinderPress$Kinds" "BinderPress$Kinds" "whole" "LBinderPress$Kind;") ∈ lw_all := lw_g (lw_at lw_m5 187 rfl) rfl
theorem q1231 : (Jvm.Cond.soleField "BinderPress$Kinds" "whole") ∈ lw_all := lw_g (lw_at lw_m5 188 rfl) rfl
theorem q1232 : (Jvm.Cond.superclass "BinderPress$Kinds" "java/lang/Object") ∈ lw_all := lw_g (lw_at lw_m5 189 rfl) rfl
theorem q1234 : (Jvm.Cond.instanceMethod ({ cls := "BinderPress$Kinds", name := "written", desc := "()Ljava/lang/String;" } : Jvm.MethodName)) ∈ lw_all := lw_g (lw_at lw_m5 191 rfl) rfl
theorem q1235 : (Jvm.Cond.selects "BinderPress$Kinds" ({ cls := "BinderPress$Kinds", name := "written", desc := "()Ljava/lang/String;" } : Jvm.MethodName) ({ cls := "BinderPress$Kinds", name := "written", desc := "()Ljava/lang/String;" } : Jvm.MethodName)) ∈ lw_all := lw_g (lw_at lw_m5 192 rfl) rfl
theorem q1236 : (Jvm.Cond.code ({ cls := "BinderPress$Kinds", name := "written", desc := "()Ljava/lang/String;" } : Jvm.MethodName) prog_5_method_9_code (2 : Nat) (Option.some (Jvm.ClassFile.FieldType.object "java/lang/String"))) ∈ lw_all := lw_g (lw_at lw_m5 193 rfl) rfl
theorem q1237 : (Jvm.Cond.methodLink "BinderPress$Kinds" (144 : Nat) ({ cls := "BinderPress$Kinds", name := "isThere", desc := "()Z" } : Jvm.MethodName)) ∈ lw_all := lw_g (lw_at lw_m5 194 rfl) rfl
theorem q1238 : (Jvm.Cond.instanceMethod ({ cls := "BinderPress$Kinds", name := "isThere", desc := "()Z" } : Jvm.MethodName)) ∈ lw_all := lw_g (lw_at lw_m5 195 rfl) rfl
theorem q1239 : (Jvm.Cond.selects "BinderPress$Kinds" ({ cls := "BinderPress$Kinds", name := "isThere", desc := "()Z" } : Jvm.MethodName) ({ cls := "BinderPress$Kinds", name := "isThere", desc := "()Z" } : Jvm.MethodName)) ∈ lw_all := lw_g (lw_at lw_m5 196 rfl) rfl
theorem q1240 : (Jvm.Cond.code ({ cls := "BinderPress$Kinds", name := "isThere", desc := "()Z" } : Jvm.MethodName) prog_5_method_6_code (1 : Nat) (Option.some Jvm.ClassFile.FieldType.boolean)) ∈ lw_all := lw_g (lw_at lw_m5 197 rfl) rfl
theorem q1241 : (Jvm.Cond.methodLink "BinderPress$Kinds" (96 : Nat) ({ cls := "BinderPress$Kind", name := "isRound", desc := "()Z" } : Jvm.MethodName)) ∈ lw_all := lw_g (lw_at lw_m5 198 rfl) rfl
theorem q1246 : (Jvm.Cond.stringRef "BinderPress$Kinds" (125 : Nat) "") ∈ lw_tbl := lw_at lw_m5 203 rfl
theorem q1247 : (Jvm.Cond.classLink "BinderPress$Kinds" (118 : Nat) "java/lang/StringBuilder") ∈ lw_all := lw_g (lw_at lw_m5 204 rfl) rfl
theorem q1248 : (Jvm.Cond.methodLink "BinderPress$Kinds" (147 : Nat) ({ cls := "java/lang/StringBuilder", name := "<init>", desc := "()V" } : Jvm.MethodName)) ∈ lw_all := lw_g (lw_at lw_m5 205 rfl) rfl
theorem q1249 : (Jvm.Cond.methodLink "BinderPress$Kinds" (130 : Nat) ({ cls := "BinderPress$Kinds", name := "write", desc := "(LBinderPress$Kind;Ljava/lang/StringBuilder;)V" } : Jvm.MethodName)) ∈ lw_all := lw_g (lw_at lw_m5 206 rfl) rfl
theorem q1250 : (Jvm.Cond.privateMethod ({ cls := "BinderPress$Kinds", name := "write", desc := "(LBinderPress$Kind;Ljava/lang/StringBuilder;)V" } : Jvm.MethodName)) ∈ lw_tbl := lw_at lw_m5 207 rfl
theorem q1251 : (Jvm.Cond.instanceMethod ({ cls := "BinderPress$Kinds", name := "write", desc := "(LBinderPress$Kind;Ljava/lang/StringBuilder;)V" } : Jvm.MethodName)) ∈ lw_all := lw_g (lw_at lw_m5 208 rfl) rfl
theorem q1252 : (Jvm.Cond.code ({ cls := "BinderPress$Kinds", name := "write", desc := "(LBinderPress$Kind;Ljava/lang/StringBuilder;)V" } : Jvm.MethodName) prog_5_method_8_code (5 : Nat) (Option.none : Option Jvm.ClassFile.FieldType)) ∈ lw_all := lw_g (lw_at lw_m5 209 rfl) rfl
theorem q1253 : (Jvm.Cond.methodLink "BinderPress$Kinds" (106 : Nat) ({ cls := "BinderPress$Kind", name := "self", desc := "()LBinderPress$Kind;" } : Jvm.MethodName)) ∈ lw_all := lw_g (lw_at lw_m5 210 rfl) rfl
theorem q1254 : (Jvm.Cond.methodLink "BinderPress$Kinds" (113 : Nat) ({ cls := "BinderPress$Kinds", name := "letterOf", desc := "(LBinderPress$Kind;)I" } : Jvm.MethodName)) ∈ lw_all := lw_g (lw_at lw_m5 211 rfl) rfl
theorem q1255 : (Jvm.Cond.privateMethod ({ cls := "BinderPress$Kinds", name := "letterOf", desc := "(LBinderPress$Kind;)I" } : Jvm.MethodName)) ∈ lw_tbl := lw_at lw_m5 212 rfl
theorem q1256 : (Jvm.Cond.instanceMethod ({ cls := "BinderPress$Kinds", name := "letterOf", desc := "(LBinderPress$Kind;)I" } : Jvm.MethodName)) ∈ lw_all := lw_g (lw_at lw_m5 213 rfl) rfl
theorem q1257 : (Jvm.Cond.code ({ cls := "BinderPress$Kinds", name := "letterOf", desc := "(LBinderPress$Kind;)I" } : Jvm.MethodName) prog_5_method_7_code (3 : Nat) (Option.some Jvm.ClassFile.FieldType.int)) ∈ lw_all := lw_g (lw_at lw_m5 214 rfl) rfl
theorem q1258 : (Jvm.Cond.classLink "BinderPress$Kinds" (103 : Nat) "BinderPress$TooLong") ∈ lw_all := lw_g (lw_at lw_m5 215 rfl) rfl
theorem q1267 : (Jvm.Cond.methodLink "BinderPress$Kinds" (105 : Nat) ({ cls := "BinderPress$TooLong", name := "<init>", desc := "()V" } : Jvm.MethodName)) ∈ lw_all := lw_g (lw_at lw_m5 224 rfl) rfl
theorem q1273 : (Jvm.Cond.methodLink "BinderPress$Kinds" (117 : Nat) ({ cls := "java/lang/StringBuilder", name := "append", desc := "(C)Ljava/lang/StringBuilder;" } : Jvm.MethodName)) ∈ lw_all := lw_g (lw_at lw_m5 230 rfl) rfl
theorem q1274 : (Jvm.Cond.stringRef "BinderPress$Kinds" (123 : Nat) "(") ∈ lw_tbl := lw_at lw_m5 231 rfl
theorem q1275 : (Jvm.Cond.methodLink "BinderPress$Kinds" (127 : Nat) ({ cls := "java/lang/StringBuilder", name := "append", desc := "(Ljava/lang/String;)Ljava/lang/StringBuilder;" } : Jvm.MethodName)) ∈ lw_all := lw_g (lw_at lw_m5 232 rfl) rfl
theorem q1276 : (Jvm.Cond.stringRef "BinderPress$Kinds" (134 : Nat) ")>") ∈ lw_tbl := lw_at lw_m5 233 rfl
theorem q1277 : (Jvm.Cond.stringRef "BinderPress$Kinds" (136 : Nat) ">") ∈ lw_tbl := lw_at lw_m5 234 rfl
theorem q1278 : (Jvm.Cond.methodLink "BinderPress$Kinds" (141 : Nat) ({ cls := "java/lang/StringBuilder", name := "length", desc := "()I" } : Jvm.MethodName)) ∈ lw_all := lw_g (lw_at lw_m5 235 rfl) rfl
theorem q1279 : (Jvm.Cond.methodLink "BinderPress$Kinds" (148 : Nat) ({ cls := "java/lang/StringBuilder", name := "toString", desc := "()Ljava/lang/String;" } : Jvm.MethodName)) ∈ lw_all := lw_g (lw_at lw_m5 236 rfl) rfl
theorem in_X11 : ∀ w ∈ wsX110, w ∈ lw_all := lw_in wsX110 [1222, 1224, 1226, 1228, 1230] (by decide +kernel) (by decide +kernel)
/-! BinderPress$Kind -/
set_option maxRecDepth 100000
def RX12 : String := "BinderPress$Kind"
def TX12 : u_T := fun k => match k with
  | 0 => ("BinderPress$Kind", "link", "LBinderPress$Kind;", false)
  | 1 => ("BinderPress$Kind", "from", "LBinderPress$Kind;", false)
  | 2 => ("BinderPress$Kind", "to", "LBinderPress$Kind;", false)
  | _ => ("BinderPress$Kind", "mark", "I", false)
def tyX12 : Nat → FieldType := fun k => match k with
  | 0 => .object "BinderPress$Kind"
  | 1 => .object "BinderPress$Kind"
  | 2 => .object "BinderPress$Kind"
  | _ => .int
abbrev wsX120 : List Cond := u_ws RX12 TX12 4
theorem nmX12 : ∀ a, a < 4 → ∀ b, b < 4 → a ≠ b → (TX12 a).2.1 ≠ (TX12 b).2.1 := by decide +kernel
theorem tyX12_ok : ∀ k, k < 4 → parseFieldDescriptor (TX12 k).2.2.1 = some (tyX12 k) := by decide +kernel
abbrev cX12_init : ByteArray := prog_4_method_1_code
def yX12_init : MethodName := ⟨RX12, "<init>", "()V"⟩
theorem dX12_init_0 : decode cX12_init 0 = .ok (.aload_n 0, 1) := by decide +kernel
theorem dX12_init_1 : decode cX12_init 1 = .ok (.invokespecial 1, 3) := by decide +kernel
theorem dX12_init_4 : decode cX12_init 4 = .ok (.return_, 1) := by decide +kernel
abbrev cX12_arrow : ByteArray := prog_4_method_2_code
def yX12_arrow : MethodName := ⟨RX12, "arrow", "(LBinderPress$Kind;LBinderPress$Kind;)LBinderPress$Kind;"⟩
def dkwX12_arrow_0 : List UInt8 := [187, 0, 7, 89, 183, 0, 9, 77, 44, 42, 181, 0, 10, 44, 43, 181, 0, 14, 44, 176]
abbrev dktX12_arrow_0 : List UInt8 := dkwX12_arrow_0 ++ []
theorem dksX12_arrow_0 : cX12_arrow.data.toList.drop 0 = dktX12_arrow_0 := by decide +kernel
theorem dX12_arrow_0 : decode cX12_arrow 0 = .ok (.new 7, 3) := dk_187 0 7 (dk_at dksX12_arrow_0 0 rfl rfl)
theorem dX12_arrow_3 : decode cX12_arrow 3 = .ok (.dup, 1) := dk_89 (dk_at dksX12_arrow_0 3 rfl rfl)
theorem dX12_arrow_4 : decode cX12_arrow 4 = .ok (.invokespecial 9, 3) := dk_183 0 9 (dk_at dksX12_arrow_0 4 rfl rfl)
theorem dX12_arrow_7 : decode cX12_arrow 7 = .ok (.astore_n 2, 1) := dk_77 (dk_at dksX12_arrow_0 7 rfl rfl)
theorem dX12_arrow_8 : decode cX12_arrow 8 = .ok (.aload_n 2, 1) := dk_44 (dk_at dksX12_arrow_0 8 rfl rfl)
theorem dX12_arrow_9 : decode cX12_arrow 9 = .ok (.aload_n 0, 1) := dk_42 (dk_at dksX12_arrow_0 9 rfl rfl)
theorem dX12_arrow_10 : decode cX12_arrow 10 = .ok (.putfield 10, 3) := dk_181 0 10 (dk_at dksX12_arrow_0 10 rfl rfl)
theorem dX12_arrow_13 : decode cX12_arrow 13 = .ok (.aload_n 2, 1) := dk_44 (dk_at dksX12_arrow_0 13 rfl rfl)
theorem dX12_arrow_14 : decode cX12_arrow 14 = .ok (.aload_n 1, 1) := dk_43 (dk_at dksX12_arrow_0 14 rfl rfl)
theorem dX12_arrow_15 : decode cX12_arrow 15 = .ok (.putfield 14, 3) := dk_181 0 14 (dk_at dksX12_arrow_0 15 rfl rfl)
theorem dX12_arrow_18 : decode cX12_arrow 18 = .ok (.aload_n 2, 1) := dk_44 (dk_at dksX12_arrow_0 18 rfl rfl)
theorem dX12_arrow_19 : decode cX12_arrow 19 = .ok (.areturn, 1) := dk_176 (dk_at dksX12_arrow_0 19 rfl rfl)
abbrev cX12_join : ByteArray := prog_4_method_4_code
def yX12_join : MethodName := ⟨RX12, "join", "(LBinderPress$Kind;LBinderPress$Kind;)V"⟩
def dkwX12_join_3 : List UInt8 := [184, 0, 24, 177]
abbrev dktX12_join_3 : List UInt8 := dkwX12_join_3 ++ []
def dkwX12_join_2 : List UInt8 := [181, 0, 17, 44, 180, 0, 10, 45, 180, 0, 10, 184, 0, 24, 44, 180, 0, 14, 45, 180, 0, 14]
abbrev dktX12_join_2 : List UInt8 := dkwX12_join_2 ++ dktX12_join_3
def dkwX12_join_1 : List UInt8 := [45, 181, 0, 17, 167, 0, 45, 45, 180, 0, 10, 199, 0, 11, 45, 44, 181, 0, 17, 167, 0, 30, 44, 45]
abbrev dktX12_join_1 : List UInt8 := dkwX12_join_1 ++ dktX12_join_2
def dkwX12_join_0 : List UInt8 := [42, 182, 0, 20, 77, 43, 182, 0, 20, 78, 44, 45, 166, 0, 4, 177, 44, 180, 0, 10, 199, 0, 11, 44]
abbrev dktX12_join_0 : List UInt8 := dkwX12_join_0 ++ dktX12_join_1
theorem dksX12_join_0 : cX12_join.data.toList.drop 0 = dktX12_join_0 := by decide +kernel
theorem dksX12_join_1 : cX12_join.data.toList.drop 24 = dktX12_join_1 := dk_seg dksX12_join_0 24 rfl rfl
theorem dksX12_join_2 : cX12_join.data.toList.drop 48 = dktX12_join_2 := dk_seg dksX12_join_1 24 rfl rfl
theorem dksX12_join_3 : cX12_join.data.toList.drop 70 = dktX12_join_3 := dk_seg dksX12_join_2 22 rfl rfl
theorem dX12_join_0 : decode cX12_join 0 = .ok (.aload_n 0, 1) := dk_42 (dk_at dksX12_join_0 0 rfl rfl)
theorem dX12_join_1 : decode cX12_join 1 = .ok (.invokevirtual 20, 3) := dk_182 0 20 (dk_at dksX12_join_0 1 rfl rfl)
theorem dX12_join_4 : decode cX12_join 4 = .ok (.astore_n 2, 1) := dk_77 (dk_at dksX12_join_0 4 rfl rfl)
theorem dX12_join_5 : decode cX12_join 5 = .ok (.aload_n 1, 1) := dk_43 (dk_at dksX12_join_0 5 rfl rfl)
theorem dX12_join_6 : decode cX12_join 6 = .ok (.invokevirtual 20, 3) := dk_182 0 20 (dk_at dksX12_join_0 6 rfl rfl)
theorem dX12_join_9 : decode cX12_join 9 = .ok (.astore_n 3, 1) := dk_78 (dk_at dksX12_join_0 9 rfl rfl)
theorem dX12_join_10 : decode cX12_join 10 = .ok (.aload_n 2, 1) := dk_44 (dk_at dksX12_join_0 10 rfl rfl)
theorem dX12_join_11 : decode cX12_join 11 = .ok (.aload_n 3, 1) := dk_45 (dk_at dksX12_join_0 11 rfl rfl)
theorem dX12_join_12 : decode cX12_join 12 = .ok (.if_acmp .ne 4, 3) := dk_166 0 4 (dk_at dksX12_join_0 12 rfl rfl)
theorem dX12_join_15 : decode cX12_join 15 = .ok (.return_, 1) := dk_177 (dk_at dksX12_join_0 15 rfl rfl)
theorem dX12_join_16 : decode cX12_join 16 = .ok (.aload_n 2, 1) := dk_44 (dk_at dksX12_join_0 16 rfl rfl)
theorem dX12_join_17 : decode cX12_join 17 = .ok (.getfield 10, 3) := dk_180 0 10 (dk_at dksX12_join_0 17 rfl rfl)
theorem dX12_join_20 : decode cX12_join 20 = .ok (.ifnonnull 11, 3) := dk_199 0 11 (dk_at dksX12_join_0 20 rfl rfl)
theorem dX12_join_23 : decode cX12_join 23 = .ok (.aload_n 2, 1) := dk_44 (dk_at dksX12_join_0 23 rfl rfl)
theorem dX12_join_24 : decode cX12_join 24 = .ok (.aload_n 3, 1) := dk_45 (dk_at dksX12_join_1 0 rfl rfl)
theorem dX12_join_25 : decode cX12_join 25 = .ok (.putfield 17, 3) := dk_181 0 17 (dk_at dksX12_join_1 1 rfl rfl)
theorem dX12_join_28 : decode cX12_join 28 = .ok (.goto 45, 3) := dk_167 0 45 (dk_at dksX12_join_1 4 rfl rfl)
theorem dX12_join_31 : decode cX12_join 31 = .ok (.aload_n 3, 1) := dk_45 (dk_at dksX12_join_1 7 rfl rfl)
theorem dX12_join_32 : decode cX12_join 32 = .ok (.getfield 10, 3) := dk_180 0 10 (dk_at dksX12_join_1 8 rfl rfl)
theorem dX12_join_35 : decode cX12_join 35 = .ok (.ifnonnull 11, 3) := dk_199 0 11 (dk_at dksX12_join_1 11 rfl rfl)
theorem dX12_join_38 : decode cX12_join 38 = .ok (.aload_n 3, 1) := dk_45 (dk_at dksX12_join_1 14 rfl rfl)
theorem dX12_join_39 : decode cX12_join 39 = .ok (.aload_n 2, 1) := dk_44 (dk_at dksX12_join_1 15 rfl rfl)
theorem dX12_join_40 : decode cX12_join 40 = .ok (.putfield 17, 3) := dk_181 0 17 (dk_at dksX12_join_1 16 rfl rfl)
theorem dX12_join_43 : decode cX12_join 43 = .ok (.goto 30, 3) := dk_167 0 30 (dk_at dksX12_join_1 19 rfl rfl)
theorem dX12_join_46 : decode cX12_join 46 = .ok (.aload_n 2, 1) := dk_44 (dk_at dksX12_join_1 22 rfl rfl)
theorem dX12_join_47 : decode cX12_join 47 = .ok (.aload_n 3, 1) := dk_45 (dk_at dksX12_join_1 23 rfl rfl)
theorem dX12_join_48 : decode cX12_join 48 = .ok (.putfield 17, 3) := dk_181 0 17 (dk_at dksX12_join_2 0 rfl rfl)
theorem dX12_join_51 : decode cX12_join 51 = .ok (.aload_n 2, 1) := dk_44 (dk_at dksX12_join_2 3 rfl rfl)
theorem dX12_join_52 : decode cX12_join 52 = .ok (.getfield 10, 3) := dk_180 0 10 (dk_at dksX12_join_2 4 rfl rfl)
theorem dX12_join_55 : decode cX12_join 55 = .ok (.aload_n 3, 1) := dk_45 (dk_at dksX12_join_2 7 rfl rfl)
theorem dX12_join_56 : decode cX12_join 56 = .ok (.getfield 10, 3) := dk_180 0 10 (dk_at dksX12_join_2 8 rfl rfl)
theorem dX12_join_59 : decode cX12_join 59 = .ok (.invokestatic 24, 3) := dk_184 0 24 (dk_at dksX12_join_2 11 rfl rfl)
theorem dX12_join_62 : decode cX12_join 62 = .ok (.aload_n 2, 1) := dk_44 (dk_at dksX12_join_2 14 rfl rfl)
theorem dX12_join_63 : decode cX12_join 63 = .ok (.getfield 14, 3) := dk_180 0 14 (dk_at dksX12_join_2 15 rfl rfl)
theorem dX12_join_66 : decode cX12_join 66 = .ok (.aload_n 3, 1) := dk_45 (dk_at dksX12_join_2 18 rfl rfl)
theorem dX12_join_67 : decode cX12_join 67 = .ok (.getfield 14, 3) := dk_180 0 14 (dk_at dksX12_join_2 19 rfl rfl)
theorem dX12_join_70 : decode cX12_join 70 = .ok (.invokestatic 24, 3) := dk_184 0 24 (dk_at dksX12_join_3 0 rfl rfl)
theorem dX12_join_73 : decode cX12_join 73 = .ok (.return_, 1) := dk_177 (dk_at dksX12_join_3 3 rfl rfl)
abbrev cX12_self : ByteArray := prog_4_method_3_code
def yX12_self : MethodName := ⟨RX12, "self", "()LBinderPress$Kind;"⟩
def dkwX12_self_0 : List UInt8 := [42, 76, 43, 180, 0, 17, 198, 0, 11, 43, 180, 0, 17, 76, 167, 255, 244, 43, 176]
abbrev dktX12_self_0 : List UInt8 := dkwX12_self_0 ++ []
theorem dksX12_self_0 : cX12_self.data.toList.drop 0 = dktX12_self_0 := by decide +kernel
theorem dX12_self_0 : decode cX12_self 0 = .ok (.aload_n 0, 1) := dk_42 (dk_at dksX12_self_0 0 rfl rfl)
theorem dX12_self_1 : decode cX12_self 1 = .ok (.astore_n 1, 1) := dk_76 (dk_at dksX12_self_0 1 rfl rfl)
theorem dX12_self_2 : decode cX12_self 2 = .ok (.aload_n 1, 1) := dk_43 (dk_at dksX12_self_0 2 rfl rfl)
theorem dX12_self_3 : decode cX12_self 3 = .ok (.getfield 17, 3) := dk_180 0 17 (dk_at dksX12_self_0 3 rfl rfl)
theorem dX12_self_6 : decode cX12_self 6 = .ok (.ifnull 11, 3) := dk_198 0 11 (dk_at dksX12_self_0 6 rfl rfl)
theorem dX12_self_9 : decode cX12_self 9 = .ok (.aload_n 1, 1) := dk_43 (dk_at dksX12_self_0 9 rfl rfl)
theorem dX12_self_10 : decode cX12_self 10 = .ok (.getfield 17, 3) := dk_180 0 17 (dk_at dksX12_self_0 10 rfl rfl)
theorem dX12_self_13 : decode cX12_self 13 = .ok (.astore_n 1, 1) := dk_76 (dk_at dksX12_self_0 13 rfl rfl)
theorem dX12_self_14 : decode cX12_self 14 = .ok (.goto (-12), 3) := dk_167 255 244 (dk_at dksX12_self_0 14 rfl rfl)
theorem dX12_self_17 : decode cX12_self 17 = .ok (.aload_n 1, 1) := dk_43 (dk_at dksX12_self_0 17 rfl rfl)
theorem dX12_self_18 : decode cX12_self 18 = .ok (.areturn, 1) := dk_176 (dk_at dksX12_self_0 18 rfl rfl)
abbrev cX12_isRound : ByteArray := prog_4_method_5_code
def yX12_isRound : MethodName := ⟨RX12, "isRound", "()Z"⟩
def dkwX12_isRound_2 : List UInt8 := [43, 180, 0, 14, 182, 0, 32, 153, 0, 7, 4, 167, 0, 4, 3, 61, 43, 5, 181, 0, 28, 28, 172]
abbrev dktX12_isRound_2 : List UInt8 := dkwX12_isRound_2 ++ []
def dkwX12_isRound_1 : List UInt8 := [180, 0, 28, 4, 160, 0, 5, 4, 172, 43, 4, 181, 0, 28, 43, 180, 0, 10, 182, 0, 32, 154, 0, 13]
abbrev dktX12_isRound_1 : List UInt8 := dkwX12_isRound_1 ++ dktX12_isRound_2
def dkwX12_isRound_0 : List UInt8 := [42, 182, 0, 20, 76, 43, 180, 0, 10, 198, 0, 11, 43, 180, 0, 28, 5, 160, 0, 5, 3, 172, 43]
abbrev dktX12_isRound_0 : List UInt8 := dkwX12_isRound_0 ++ dktX12_isRound_1
theorem dksX12_isRound_0 : cX12_isRound.data.toList.drop 0 = dktX12_isRound_0 := by decide +kernel
theorem dksX12_isRound_1 : cX12_isRound.data.toList.drop 23 = dktX12_isRound_1 := dk_seg dksX12_isRound_0 23 rfl rfl
theorem dksX12_isRound_2 : cX12_isRound.data.toList.drop 47 = dktX12_isRound_2 := dk_seg dksX12_isRound_1 24 rfl rfl
theorem dX12_isRound_0 : decode cX12_isRound 0 = .ok (.aload_n 0, 1) := dk_42 (dk_at dksX12_isRound_0 0 rfl rfl)
theorem dX12_isRound_1 : decode cX12_isRound 1 = .ok (.invokevirtual 20, 3) := dk_182 0 20 (dk_at dksX12_isRound_0 1 rfl rfl)
theorem dX12_isRound_4 : decode cX12_isRound 4 = .ok (.astore_n 1, 1) := dk_76 (dk_at dksX12_isRound_0 4 rfl rfl)
theorem dX12_isRound_5 : decode cX12_isRound 5 = .ok (.aload_n 1, 1) := dk_43 (dk_at dksX12_isRound_0 5 rfl rfl)
theorem dX12_isRound_6 : decode cX12_isRound 6 = .ok (.getfield 10, 3) := dk_180 0 10 (dk_at dksX12_isRound_0 6 rfl rfl)
theorem dX12_isRound_9 : decode cX12_isRound 9 = .ok (.ifnull 11, 3) := dk_198 0 11 (dk_at dksX12_isRound_0 9 rfl rfl)
theorem dX12_isRound_12 : decode cX12_isRound 12 = .ok (.aload_n 1, 1) := dk_43 (dk_at dksX12_isRound_0 12 rfl rfl)
theorem dX12_isRound_13 : decode cX12_isRound 13 = .ok (.getfield 28, 3) := dk_180 0 28 (dk_at dksX12_isRound_0 13 rfl rfl)
theorem dX12_isRound_16 : decode cX12_isRound 16 = .ok (.iconst 2, 1) := dk_5 (dk_at dksX12_isRound_0 16 rfl rfl)
theorem dX12_isRound_17 : decode cX12_isRound 17 = .ok (.if_icmp .ne 5, 3) := dk_160 0 5 (dk_at dksX12_isRound_0 17 rfl rfl)
theorem dX12_isRound_20 : decode cX12_isRound 20 = .ok (.iconst 0, 1) := dk_3 (dk_at dksX12_isRound_0 20 rfl rfl)
theorem dX12_isRound_21 : decode cX12_isRound 21 = .ok (.ireturn, 1) := dk_172 (dk_at dksX12_isRound_0 21 rfl rfl)
theorem dX12_isRound_22 : decode cX12_isRound 22 = .ok (.aload_n 1, 1) := dk_43 (dk_at dksX12_isRound_0 22 rfl rfl)
theorem dX12_isRound_23 : decode cX12_isRound 23 = .ok (.getfield 28, 3) := dk_180 0 28 (dk_at dksX12_isRound_1 0 rfl rfl)
theorem dX12_isRound_26 : decode cX12_isRound 26 = .ok (.iconst 1, 1) := dk_4 (dk_at dksX12_isRound_1 3 rfl rfl)
theorem dX12_isRound_27 : decode cX12_isRound 27 = .ok (.if_icmp .ne 5, 3) := dk_160 0 5 (dk_at dksX12_isRound_1 4 rfl rfl)
theorem dX12_isRound_30 : decode cX12_isRound 30 = .ok (.iconst 1, 1) := dk_4 (dk_at dksX12_isRound_1 7 rfl rfl)
theorem dX12_isRound_31 : decode cX12_isRound 31 = .ok (.ireturn, 1) := dk_172 (dk_at dksX12_isRound_1 8 rfl rfl)
theorem dX12_isRound_32 : decode cX12_isRound 32 = .ok (.aload_n 1, 1) := dk_43 (dk_at dksX12_isRound_1 9 rfl rfl)
theorem dX12_isRound_33 : decode cX12_isRound 33 = .ok (.iconst 1, 1) := dk_4 (dk_at dksX12_isRound_1 10 rfl rfl)
theorem dX12_isRound_34 : decode cX12_isRound 34 = .ok (.putfield 28, 3) := dk_181 0 28 (dk_at dksX12_isRound_1 11 rfl rfl)
theorem dX12_isRound_37 : decode cX12_isRound 37 = .ok (.aload_n 1, 1) := dk_43 (dk_at dksX12_isRound_1 14 rfl rfl)
theorem dX12_isRound_38 : decode cX12_isRound 38 = .ok (.getfield 10, 3) := dk_180 0 10 (dk_at dksX12_isRound_1 15 rfl rfl)
theorem dX12_isRound_41 : decode cX12_isRound 41 = .ok (.invokevirtual 32, 3) := dk_182 0 32 (dk_at dksX12_isRound_1 18 rfl rfl)
theorem dX12_isRound_44 : decode cX12_isRound 44 = .ok (.ifCond .ne 13, 3) := dk_154 0 13 (dk_at dksX12_isRound_1 21 rfl rfl)
theorem dX12_isRound_47 : decode cX12_isRound 47 = .ok (.aload_n 1, 1) := dk_43 (dk_at dksX12_isRound_2 0 rfl rfl)
theorem dX12_isRound_48 : decode cX12_isRound 48 = .ok (.getfield 14, 3) := dk_180 0 14 (dk_at dksX12_isRound_2 1 rfl rfl)
theorem dX12_isRound_51 : decode cX12_isRound 51 = .ok (.invokevirtual 32, 3) := dk_182 0 32 (dk_at dksX12_isRound_2 4 rfl rfl)
theorem dX12_isRound_54 : decode cX12_isRound 54 = .ok (.ifCond .eq 7, 3) := dk_153 0 7 (dk_at dksX12_isRound_2 7 rfl rfl)
theorem dX12_isRound_57 : decode cX12_isRound 57 = .ok (.iconst 1, 1) := dk_4 (dk_at dksX12_isRound_2 10 rfl rfl)
theorem dX12_isRound_58 : decode cX12_isRound 58 = .ok (.goto 4, 3) := dk_167 0 4 (dk_at dksX12_isRound_2 11 rfl rfl)
theorem dX12_isRound_61 : decode cX12_isRound 61 = .ok (.iconst 0, 1) := dk_3 (dk_at dksX12_isRound_2 14 rfl rfl)
theorem dX12_isRound_62 : decode cX12_isRound 62 = .ok (.istore_n 2, 1) := dk_61 (dk_at dksX12_isRound_2 15 rfl rfl)
theorem dX12_isRound_63 : decode cX12_isRound 63 = .ok (.aload_n 1, 1) := dk_43 (dk_at dksX12_isRound_2 16 rfl rfl)
theorem dX12_isRound_64 : decode cX12_isRound 64 = .ok (.iconst 2, 1) := dk_5 (dk_at dksX12_isRound_2 17 rfl rfl)
theorem dX12_isRound_65 : decode cX12_isRound 65 = .ok (.putfield 28, 3) := dk_181 0 28 (dk_at dksX12_isRound_2 18 rfl rfl)
theorem dX12_isRound_68 : decode cX12_isRound 68 = .ok (.iload_n 2, 1) := dk_28 (dk_at dksX12_isRound_2 21 rfl rfl)
theorem dX12_isRound_69 : decode cX12_isRound 69 = .ok (.ireturn, 1) := dk_172 (dk_at dksX12_isRound_2 22 rfl rfl)
theorem q108 : (Jvm.Cond.initialized "BinderPress$Kind") ∈ lw_all := lw_g (lw_at lw_m1 25 rfl) rfl
theorem q1159 : (Jvm.Cond.instantiable "BinderPress$Kind" (4 : Nat)) ∈ lw_all := lw_g (lw_at lw_m5 116 rfl) rfl
theorem q1161 : (Jvm.Cond.instanceMethod ({ cls := "BinderPress$Kind", name := "<init>", desc := "()V" } : Jvm.MethodName)) ∈ lw_all := lw_g (lw_at lw_m5 118 rfl) rfl
theorem q1162 : (Jvm.Cond.code ({ cls := "BinderPress$Kind", name := "<init>", desc := "()V" } : Jvm.MethodName) prog_4_method_1_code (1 : Nat) (Option.none : Option Jvm.ClassFile.FieldType)) ∈ lw_all := lw_g (lw_at lw_m5 119 rfl) rfl
theorem q1163 : (Jvm.Cond.methodLink "BinderPress$Kind" (1 : Nat) ({ cls := "java/lang/Object", name := "<init>", desc := "()V" } : Jvm.MethodName)) ∈ lw_all := lw_g (lw_at lw_m5 120 rfl) rfl
theorem q1164 : (Jvm.Cond.fieldLink "BinderPress$Kind" (17 : Nat) "BinderPress$Kind" "link" "LBinderPress$Kind;") ∈ lw_all := lw_g (lw_at lw_m5 121 rfl) rfl
theorem q1165 : (Jvm.Cond.fieldLink "BinderPress$Kind" (10 : Nat) "BinderPress$Kind" "from" "LBinderPress$Kind;") ∈ lw_all := lw_g (lw_at lw_m5 122 rfl) rfl
theorem q1167 : (Jvm.Cond.fieldLink "BinderPress$Kind" (14 : Nat) "BinderPress$Kind" "to" "LBinderPress$Kind;") ∈ lw_all := lw_g (lw_at lw_m5 124 rfl) rfl
theorem q1169 : (Jvm.Cond.fieldLink "BinderPress$Kind" (28 : Nat) "BinderPress$Kind" "mark" "I") ∈ lw_all := lw_g (lw_at lw_m5 126 rfl) rfl
theorem q1170 : (Jvm.Cond.lays "BinderPress$Kind" "BinderPress$Kind" "link" "LBinderPress$Kind;") ∈ lw_all := lw_g (lw_at lw_m5 127 rfl) rfl
theorem q1171 : (Jvm.Cond.soleField "BinderPress$Kind" "link") ∈ lw_all := lw_g (lw_at lw_m5 128 rfl) rfl
theorem q1172 : (Jvm.Cond.lays "BinderPress$Kind" "BinderPress$Kind" "from" "LBinderPress$Kind;") ∈ lw_all := lw_g (lw_at lw_m5 129 rfl) rfl
theorem q1173 : (Jvm.Cond.soleField "BinderPress$Kind" "from") ∈ lw_all := lw_g (lw_at lw_m5 130 rfl) rfl
theorem q1174 : (Jvm.Cond.lays "BinderPress$Kind" "BinderPress$Kind" "to" "LBinderPress$Kind;") ∈ lw_all := lw_g (lw_at lw_m5 131 rfl) rfl
theorem q1175 : (Jvm.Cond.soleField "BinderPress$Kind" "to") ∈ lw_all := lw_g (lw_at lw_m5 132 rfl) rfl
theorem q1176 : (Jvm.Cond.lays "BinderPress$Kind" "BinderPress$Kind" "mark" "I") ∈ lw_all := lw_g (lw_at lw_m5 133 rfl) rfl
theorem q1177 : (Jvm.Cond.soleField "BinderPress$Kind" "mark") ∈ lw_all := lw_g (lw_at lw_m5 134 rfl) rfl
theorem q1178 : (Jvm.Cond.superclass "BinderPress$Kind" "java/lang/Object") ∈ lw_all := lw_g (lw_at lw_m5 135 rfl) rfl
theorem q1195 : (Jvm.Cond.static ({ cls := "BinderPress$Kind", name := "arrow", desc := "(LBinderPress$Kind;LBinderPress$Kind;)LBinderPress$Kind;" } : Jvm.MethodName)) ∈ lw_all := lw_g (lw_at lw_m5 152 rfl) rfl
theorem q1196 : (Jvm.Cond.code ({ cls := "BinderPress$Kind", name := "arrow", desc := "(LBinderPress$Kind;LBinderPress$Kind;)LBinderPress$Kind;" } : Jvm.MethodName) prog_4_method_2_code (3 : Nat) (Option.some (Jvm.ClassFile.FieldType.object "BinderPress$Kind"))) ∈ lw_all := lw_g (lw_at lw_m5 153 rfl) rfl
theorem q1197 : (Jvm.Cond.classLink "BinderPress$Kind" (7 : Nat) "BinderPress$Kind") ∈ lw_all := lw_g (lw_at lw_m5 154 rfl) rfl
theorem q1198 : (Jvm.Cond.methodLink "BinderPress$Kind" (9 : Nat) ({ cls := "BinderPress$Kind", name := "<init>", desc := "()V" } : Jvm.MethodName)) ∈ lw_all := lw_g (lw_at lw_m5 155 rfl) rfl
theorem q1205 : (Jvm.Cond.static ({ cls := "BinderPress$Kind", name := "join", desc := "(LBinderPress$Kind;LBinderPress$Kind;)V" } : Jvm.MethodName)) ∈ lw_all := lw_g (lw_at lw_m5 162 rfl) rfl
theorem q1206 : (Jvm.Cond.code ({ cls := "BinderPress$Kind", name := "join", desc := "(LBinderPress$Kind;LBinderPress$Kind;)V" } : Jvm.MethodName) prog_4_method_4_code (4 : Nat) (Option.none : Option Jvm.ClassFile.FieldType)) ∈ lw_all := lw_g (lw_at lw_m5 163 rfl) rfl
theorem q1207 : (Jvm.Cond.methodLink "BinderPress$Kind" (20 : Nat) ({ cls := "BinderPress$Kind", name := "self", desc := "()LBinderPress$Kind;" } : Jvm.MethodName)) ∈ lw_all := lw_g (lw_at lw_m5 164 rfl) rfl
theorem q1208 : (Jvm.Cond.instanceMethod ({ cls := "BinderPress$Kind", name := "self", desc := "()LBinderPress$Kind;" } : Jvm.MethodName)) ∈ lw_all := lw_g (lw_at lw_m5 165 rfl) rfl
theorem q1209 : (Jvm.Cond.selects "BinderPress$Kind" ({ cls := "BinderPress$Kind", name := "self", desc := "()LBinderPress$Kind;" } : Jvm.MethodName) ({ cls := "BinderPress$Kind", name := "self", desc := "()LBinderPress$Kind;" } : Jvm.MethodName)) ∈ lw_all := lw_g (lw_at lw_m5 166 rfl) rfl
theorem q1210 : (Jvm.Cond.code ({ cls := "BinderPress$Kind", name := "self", desc := "()LBinderPress$Kind;" } : Jvm.MethodName) prog_4_method_3_code (2 : Nat) (Option.some (Jvm.ClassFile.FieldType.object "BinderPress$Kind"))) ∈ lw_all := lw_g (lw_at lw_m5 167 rfl) rfl
theorem q1211 : (Jvm.Cond.methodLink "BinderPress$Kind" (24 : Nat) ({ cls := "BinderPress$Kind", name := "join", desc := "(LBinderPress$Kind;LBinderPress$Kind;)V" } : Jvm.MethodName)) ∈ lw_all := lw_g (lw_at lw_m5 168 rfl) rfl
theorem q1242 : (Jvm.Cond.instanceMethod ({ cls := "BinderPress$Kind", name := "isRound", desc := "()Z" } : Jvm.MethodName)) ∈ lw_all := lw_g (lw_at lw_m5 199 rfl) rfl
theorem q1243 : (Jvm.Cond.selects "BinderPress$Kind" ({ cls := "BinderPress$Kind", name := "isRound", desc := "()Z" } : Jvm.MethodName) ({ cls := "BinderPress$Kind", name := "isRound", desc := "()Z" } : Jvm.MethodName)) ∈ lw_all := lw_g (lw_at lw_m5 200 rfl) rfl
theorem q1244 : (Jvm.Cond.code ({ cls := "BinderPress$Kind", name := "isRound", desc := "()Z" } : Jvm.MethodName) prog_4_method_5_code (3 : Nat) (Option.some Jvm.ClassFile.FieldType.boolean)) ∈ lw_all := lw_g (lw_at lw_m5 201 rfl) rfl
theorem q1245 : (Jvm.Cond.methodLink "BinderPress$Kind" (32 : Nat) ({ cls := "BinderPress$Kind", name := "isRound", desc := "()Z" } : Jvm.MethodName)) ∈ lw_all := lw_g (lw_at lw_m5 202 rfl) rfl
theorem in_X12 : ∀ w ∈ wsX120, w ∈ lw_all := lw_in wsX120 [1170, 1172, 1174, 1176] (by decide +kernel) (by decide +kernel)
/-! BinderPress$TooLong -/
set_option maxRecDepth 100000
def RX13 : String := "BinderPress$TooLong"
def TX13 : u_T := fun k => match k with
  | 0 => ("java/lang/Throwable", "cause", "Ljava/lang/Throwable;", false)
  | 1 => ("java/lang/Throwable", "stackTrace", "[Ljava/lang/StackTraceElement;", false)
  | 2 => ("java/lang/Throwable", "suppressedExceptions", "Ljava/util/List;", false)
  | 3 => ("java/lang/Throwable", "detailMessage", "Ljava/lang/String;", false)
  | 4 => ("java/lang/Throwable", "backtrace", "Ljava/lang/Object;", false)
  | _ => ("java/lang/Throwable", "depth", "I", false)
def tyX13 : Nat → FieldType := fun k => match k with
  | 0 => .object "java/lang/Throwable"
  | 1 => .array (.object "java/lang/StackTraceElement")
  | 2 => .object "java/util/List"
  | 3 => .object "java/lang/String"
  | 4 => .object "java/lang/Object"
  | _ => .int
abbrev wsX130 : List Cond := u_ws RX13 TX13 6
theorem nmX13 : ∀ a, a < 6 → ∀ b, b < 6 → a ≠ b → (TX13 a).2.1 ≠ (TX13 b).2.1 := by decide +kernel
theorem tyX13_ok : ∀ k, k < 6 → parseFieldDescriptor (TX13 k).2.2.1 = some (tyX13 k) := by decide +kernel
abbrev cX13_init : ByteArray := prog_12_method_1_code
def yX13_init : MethodName := ⟨RX13, "<init>", "()V"⟩
def dkwX13_init_0 : List UInt8 := [42, 1, 1, 3, 3, 183, 0, 1, 177]
abbrev dktX13_init_0 : List UInt8 := dkwX13_init_0 ++ []
theorem dksX13_init_0 : cX13_init.data.toList.drop 0 = dktX13_init_0 := by decide +kernel
theorem dX13_init_0 : decode cX13_init 0 = .ok (.aload_n 0, 1) := dk_42 (dk_at dksX13_init_0 0 rfl rfl)
theorem dX13_init_1 : decode cX13_init 1 = .ok (.aconst_null, 1) := dk_1 (dk_at dksX13_init_0 1 rfl rfl)
theorem dX13_init_2 : decode cX13_init 2 = .ok (.aconst_null, 1) := dk_1 (dk_at dksX13_init_0 2 rfl rfl)
theorem dX13_init_3 : decode cX13_init 3 = .ok (.iconst 0, 1) := dk_3 (dk_at dksX13_init_0 3 rfl rfl)
theorem dX13_init_4 : decode cX13_init 4 = .ok (.iconst 0, 1) := dk_3 (dk_at dksX13_init_0 4 rfl rfl)
theorem dX13_init_5 : decode cX13_init 5 = .ok (.invokespecial 1, 3) := dk_183 0 1 (dk_at dksX13_init_0 5 rfl rfl)
theorem dX13_init_8 : decode cX13_init 8 = .ok (.return_, 1) := dk_177 (dk_at dksX13_init_0 8 rfl rfl)
theorem q109 : (Jvm.Cond.initialized "BinderPress$TooLong") ∈ lw_all := lw_g (lw_at lw_m1 26 rfl) rfl
theorem q313 : (Jvm.Cond.selects "BinderPress$TooLong" ({ cls := "java/lang/Throwable", name := "fillInStackTrace", desc := "()Ljava/lang/Throwable;" } : Jvm.MethodName) ({ cls := "java/lang/Throwable", name := "fillInStackTrace", desc := "()Ljava/lang/Throwable;" } : Jvm.MethodName)) ∈ lw_all := lw_g (lw_at lw_m1 230 rfl) rfl
theorem q1259 : (Jvm.Cond.instantiable "BinderPress$TooLong" (6 : Nat)) ∈ lw_all := lw_g (lw_at lw_m5 216 rfl) rfl
theorem q1260 : (Jvm.Cond.castable "BinderPress$TooLong" "BinderPress$TooLong") ∈ lw_tbl := lw_at lw_m5 217 rfl
theorem q1261 : (Jvm.Cond.selects "BinderPress$TooLong" ({ cls := "java/lang/Throwable", name := "fillInStackTrace", desc := "(I)Ljava/lang/Throwable;" } : Jvm.MethodName) ({ cls := "java/lang/Throwable", name := "fillInStackTrace", desc := "(I)Ljava/lang/Throwable;" } : Jvm.MethodName)) ∈ lw_all := lw_g (lw_at lw_m5 218 rfl) rfl
theorem q1262 : (Jvm.Cond.lays "BinderPress$TooLong" "java/lang/Throwable" "cause" "Ljava/lang/Throwable;") ∈ lw_all := lw_g (lw_at lw_m5 219 rfl) rfl
theorem q1263 : (Jvm.Cond.lays "BinderPress$TooLong" "java/lang/Throwable" "stackTrace" "[Ljava/lang/StackTraceElement;") ∈ lw_all := lw_g (lw_at lw_m5 220 rfl) rfl
theorem q1264 : (Jvm.Cond.lays "BinderPress$TooLong" "java/lang/Throwable" "suppressedExceptions" "Ljava/util/List;") ∈ lw_all := lw_g (lw_at lw_m5 221 rfl) rfl
theorem q1265 : (Jvm.Cond.lays "BinderPress$TooLong" "java/lang/Throwable" "detailMessage" "Ljava/lang/String;") ∈ lw_all := lw_g (lw_at lw_m5 222 rfl) rfl
theorem q1266 : (Jvm.Cond.lays "BinderPress$TooLong" "java/lang/Throwable" "backtrace" "Ljava/lang/Object;") ∈ lw_all := lw_g (lw_at lw_m5 223 rfl) rfl
theorem q1268 : (Jvm.Cond.instanceMethod ({ cls := "BinderPress$TooLong", name := "<init>", desc := "()V" } : Jvm.MethodName)) ∈ lw_all := lw_g (lw_at lw_m5 225 rfl) rfl
theorem q1269 : (Jvm.Cond.code ({ cls := "BinderPress$TooLong", name := "<init>", desc := "()V" } : Jvm.MethodName) prog_12_method_1_code (1 : Nat) (Option.none : Option Jvm.ClassFile.FieldType)) ∈ lw_all := lw_g (lw_at lw_m5 226 rfl) rfl
theorem q1270 : (Jvm.Cond.methodLink "BinderPress$TooLong" (1 : Nat) ({ cls := "java/lang/Exception", name := "<init>", desc := "(Ljava/lang/String;Ljava/lang/Throwable;ZZ)V" } : Jvm.MethodName)) ∈ lw_all := lw_g (lw_at lw_m5 227 rfl) rfl
theorem q1271 : (Jvm.Cond.lays "BinderPress$TooLong" "java/lang/Throwable" "depth" "I") ∈ lw_all := lw_g (lw_at lw_m5 228 rfl) rfl
theorem q1272 : (Jvm.Cond.superclass "BinderPress$TooLong" "java/lang/Exception") ∈ lw_all := lw_g (lw_at lw_m5 229 rfl) rfl
theorem in_X13 : ∀ w ∈ wsX130, w ∈ lw_all := lw_in wsX130 [1262, 1263, 1264, 1265, 1266, 1271] (by decide +kernel) (by decide +kernel)
