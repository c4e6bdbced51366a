/-! BinderPress -/
set_option maxRecDepth 100000
def RX0 : String := "BinderPress"
def TX0 : u_T := fun k => match k with
  | 0 => ("BinderPress", "work", "LBinderPress$Work;", true)
  | 1 => ("BinderPress", "shelf", "[LBinderPress$Term;", true)
  | 2 => ("BinderPress", "kindOf", "[Ljava/lang/String;", true)
  | 3 => ("BinderPress", "ahead", "[LBinderPress$Term;", true)
  | 4 => ("BinderPress", "changed", "[I", true)
  | 5 => ("BinderPress", "known", "I", false)
  | 6 => ("BinderPress", "text", "[B", true)
  | 7 => ("BinderPress", "length", "I", false)
  | 8 => ("BinderPress", "fault", "I", false)
  | 9 => ("BinderPress", "lot", "J", false)
  | _ => ("BinderPress", "images", "[[LBinderPress$Term;", true)
def tyX0 : Nat → FieldType := fun k => match k with
  | 0 => .object "BinderPress$Work"
  | 1 => .array (.object "BinderPress$Term")
  | 2 => .array (.object "java/lang/String")
  | 3 => .array (.object "BinderPress$Term")
  | 4 => .array .int
  | 5 => .int
  | 6 => .array .byte
  | 7 => .int
  | 8 => .int
  | 9 => .long
  | _ => .array (.array (.object "BinderPress$Term"))
abbrev wsX00 : List Cond := u_ws RX0 TX0 11
theorem nmX0 : ∀ a, a < 11 → ∀ b, b < 11 → a ≠ b → (TX0 a).2.1 ≠ (TX0 b).2.1 := by decide +kernel
theorem tyX0_ok : ∀ k, k < 11 → parseFieldDescriptor (TX0 k).2.2.1 = some (tyX0 k) := by decide +kernel
abbrev cX0_init : ByteArray := prog_1_method_6_code
def yX0_init : MethodName := ⟨RX0, "<init>", "()V"⟩
def dkwX0_init_2 : List UInt8 := [42, 17, 0, 240, 188, 8, 181, 0, 65, 42, 2, 181, 0, 69, 42, 5, 189, 0, 72, 181, 0, 73, 177]
abbrev dktX0_init_2 : List UInt8 := dkwX0_init_2 ++ []
def dkwX0_init_1 : List UInt8 := [7, 189, 0, 52, 181, 0, 54, 42, 16, 10, 189, 0, 46, 181, 0, 58, 42, 16, 10, 188, 10, 181, 0, 61]
abbrev dktX0_init_1 : List UInt8 := dkwX0_init_1 ++ dktX0_init_2
def dkwX0_init_0 : List UInt8 := [42, 183, 0, 34, 42, 187, 0, 39, 89, 183, 0, 41, 181, 0, 42, 42, 7, 189, 0, 46, 181, 0, 48, 42]
abbrev dktX0_init_0 : List UInt8 := dkwX0_init_0 ++ dktX0_init_1
theorem dksX0_init_0 : cX0_init.data.toList.drop 0 = dktX0_init_0 := by decide +kernel
theorem dksX0_init_1 : cX0_init.data.toList.drop 24 = dktX0_init_1 := dk_seg dksX0_init_0 24 rfl rfl
theorem dksX0_init_2 : cX0_init.data.toList.drop 48 = dktX0_init_2 := dk_seg dksX0_init_1 24 rfl rfl
theorem dX0_init_0 : decode cX0_init 0 = .ok (.aload_n 0, 1) := dk_42 (dk_at dksX0_init_0 0 rfl rfl)
theorem dX0_init_1 : decode cX0_init 1 = .ok (.invokespecial 34, 3) := dk_183 0 34 (dk_at dksX0_init_0 1 rfl rfl)
theorem dX0_init_4 : decode cX0_init 4 = .ok (.aload_n 0, 1) := dk_42 (dk_at dksX0_init_0 4 rfl rfl)
theorem dX0_init_5 : decode cX0_init 5 = .ok (.new 39, 3) := dk_187 0 39 (dk_at dksX0_init_0 5 rfl rfl)
theorem dX0_init_8 : decode cX0_init 8 = .ok (.dup, 1) := dk_89 (dk_at dksX0_init_0 8 rfl rfl)
theorem dX0_init_9 : decode cX0_init 9 = .ok (.invokespecial 41, 3) := dk_183 0 41 (dk_at dksX0_init_0 9 rfl rfl)
theorem dX0_init_12 : decode cX0_init 12 = .ok (.putfield 42, 3) := dk_181 0 42 (dk_at dksX0_init_0 12 rfl rfl)
theorem dX0_init_15 : decode cX0_init 15 = .ok (.aload_n 0, 1) := dk_42 (dk_at dksX0_init_0 15 rfl rfl)
theorem dX0_init_16 : decode cX0_init 16 = .ok (.iconst 4, 1) := dk_7 (dk_at dksX0_init_0 16 rfl rfl)
theorem dX0_init_17 : decode cX0_init 17 = .ok (.anewarray 46, 3) := dk_189 0 46 (dk_at dksX0_init_0 17 rfl rfl)
theorem dX0_init_20 : decode cX0_init 20 = .ok (.putfield 48, 3) := dk_181 0 48 (dk_at dksX0_init_0 20 rfl rfl)
theorem dX0_init_23 : decode cX0_init 23 = .ok (.aload_n 0, 1) := dk_42 (dk_at dksX0_init_0 23 rfl rfl)
theorem dX0_init_24 : decode cX0_init 24 = .ok (.iconst 4, 1) := dk_7 (dk_at dksX0_init_1 0 rfl rfl)
theorem dX0_init_25 : decode cX0_init 25 = .ok (.anewarray 52, 3) := dk_189 0 52 (dk_at dksX0_init_1 1 rfl rfl)
theorem dX0_init_28 : decode cX0_init 28 = .ok (.putfield 54, 3) := dk_181 0 54 (dk_at dksX0_init_1 4 rfl rfl)
theorem dX0_init_31 : decode cX0_init 31 = .ok (.aload_n 0, 1) := dk_42 (dk_at dksX0_init_1 7 rfl rfl)
theorem dX0_init_32 : decode cX0_init 32 = .ok (.bipush 10, 2) := dk_16 10 (dk_at dksX0_init_1 8 rfl rfl)
theorem dX0_init_34 : decode cX0_init 34 = .ok (.anewarray 46, 3) := dk_189 0 46 (dk_at dksX0_init_1 10 rfl rfl)
theorem dX0_init_37 : decode cX0_init 37 = .ok (.putfield 58, 3) := dk_181 0 58 (dk_at dksX0_init_1 13 rfl rfl)
theorem dX0_init_40 : decode cX0_init 40 = .ok (.aload_n 0, 1) := dk_42 (dk_at dksX0_init_1 16 rfl rfl)
theorem dX0_init_41 : decode cX0_init 41 = .ok (.bipush 10, 2) := dk_16 10 (dk_at dksX0_init_1 17 rfl rfl)
theorem dX0_init_43 : decode cX0_init 43 = .ok (.newarray .int, 2) := dk_188_10 (dk_at dksX0_init_1 19 rfl rfl)
theorem dX0_init_45 : decode cX0_init 45 = .ok (.putfield 61, 3) := dk_181 0 61 (dk_at dksX0_init_1 21 rfl rfl)
theorem dX0_init_48 : decode cX0_init 48 = .ok (.aload_n 0, 1) := dk_42 (dk_at dksX0_init_2 0 rfl rfl)
theorem dX0_init_49 : decode cX0_init 49 = .ok (.sipush 240, 3) := dk_17 0 240 (dk_at dksX0_init_2 1 rfl rfl)
theorem dX0_init_52 : decode cX0_init 52 = .ok (.newarray .byte, 2) := dk_188_8 (dk_at dksX0_init_2 4 rfl rfl)
theorem dX0_init_54 : decode cX0_init 54 = .ok (.putfield 65, 3) := dk_181 0 65 (dk_at dksX0_init_2 6 rfl rfl)
theorem dX0_init_57 : decode cX0_init 57 = .ok (.aload_n 0, 1) := dk_42 (dk_at dksX0_init_2 9 rfl rfl)
theorem dX0_init_58 : decode cX0_init 58 = .ok (.iconst (-1), 1) := dk_2 (dk_at dksX0_init_2 10 rfl rfl)
theorem dX0_init_59 : decode cX0_init 59 = .ok (.putfield 69, 3) := dk_181 0 69 (dk_at dksX0_init_2 11 rfl rfl)
theorem dX0_init_62 : decode cX0_init 62 = .ok (.aload_n 0, 1) := dk_42 (dk_at dksX0_init_2 14 rfl rfl)
theorem dX0_init_63 : decode cX0_init 63 = .ok (.iconst 2, 1) := dk_5 (dk_at dksX0_init_2 15 rfl rfl)
theorem dX0_init_64 : decode cX0_init 64 = .ok (.anewarray 72, 3) := dk_189 0 72 (dk_at dksX0_init_2 16 rfl rfl)
theorem dX0_init_67 : decode cX0_init 67 = .ok (.putfield 73, 3) := dk_181 0 73 (dk_at dksX0_init_2 19 rfl rfl)
theorem dX0_init_70 : decode cX0_init 70 = .ok (.return_, 1) := dk_177 (dk_at dksX0_init_2 22 rfl rfl)
abbrev cX0_feed : ByteArray := prog_1_method_10_code
def yX0_feed : MethodName := ⟨RX0, "feed", "(I)I"⟩
def dkwX0_feed_2 : List UInt8 := [42, 180, 0, 100, 172]
abbrev dktX0_feed_2 : List UInt8 := dkwX0_feed_2 ++ []
def dkwX0_feed_1 : List UInt8 := [18, 98, 172, 42, 180, 0, 65, 42, 180, 0, 100, 27, 145, 84, 42, 89, 180, 0, 100, 4, 96, 181, 0, 100]
abbrev dktX0_feed_1 : List UInt8 := dkwX0_feed_1 ++ dktX0_feed_2
def dkwX0_feed_0 : List UInt8 := [27, 3, 17, 0, 255, 184, 0, 3, 154, 0, 6, 18, 99, 172, 42, 180, 0, 100, 17, 0, 240, 160, 0, 6]
abbrev dktX0_feed_0 : List UInt8 := dkwX0_feed_0 ++ dktX0_feed_1
theorem dksX0_feed_0 : cX0_feed.data.toList.drop 0 = dktX0_feed_0 := by decide +kernel
theorem dksX0_feed_1 : cX0_feed.data.toList.drop 24 = dktX0_feed_1 := dk_seg dksX0_feed_0 24 rfl rfl
theorem dksX0_feed_2 : cX0_feed.data.toList.drop 48 = dktX0_feed_2 := dk_seg dksX0_feed_1 24 rfl rfl
theorem dX0_feed_0 : decode cX0_feed 0 = .ok (.iload_n 1, 1) := dk_27 (dk_at dksX0_feed_0 0 rfl rfl)
theorem dX0_feed_1 : decode cX0_feed 1 = .ok (.iconst 0, 1) := dk_3 (dk_at dksX0_feed_0 1 rfl rfl)
theorem dX0_feed_2 : decode cX0_feed 2 = .ok (.sipush 255, 3) := dk_17 0 255 (dk_at dksX0_feed_0 2 rfl rfl)
theorem dX0_feed_5 : decode cX0_feed 5 = .ok (.invokestatic 3, 3) := dk_184 0 3 (dk_at dksX0_feed_0 5 rfl rfl)
theorem dX0_feed_8 : decode cX0_feed 8 = .ok (.ifCond .ne 6, 3) := dk_154 0 6 (dk_at dksX0_feed_0 8 rfl rfl)
theorem dX0_feed_11 : decode cX0_feed 11 = .ok (.ldc 99, 2) := dk_18 99 (dk_at dksX0_feed_0 11 rfl rfl)
theorem dX0_feed_13 : decode cX0_feed 13 = .ok (.ireturn, 1) := dk_172 (dk_at dksX0_feed_0 13 rfl rfl)
theorem dX0_feed_14 : decode cX0_feed 14 = .ok (.aload_n 0, 1) := dk_42 (dk_at dksX0_feed_0 14 rfl rfl)
theorem dX0_feed_15 : decode cX0_feed 15 = .ok (.getfield 100, 3) := dk_180 0 100 (dk_at dksX0_feed_0 15 rfl rfl)
theorem dX0_feed_18 : decode cX0_feed 18 = .ok (.sipush 240, 3) := dk_17 0 240 (dk_at dksX0_feed_0 18 rfl rfl)
theorem dX0_feed_21 : decode cX0_feed 21 = .ok (.if_icmp .ne 6, 3) := dk_160 0 6 (dk_at dksX0_feed_0 21 rfl rfl)
theorem dX0_feed_24 : decode cX0_feed 24 = .ok (.ldc 98, 2) := dk_18 98 (dk_at dksX0_feed_1 0 rfl rfl)
theorem dX0_feed_26 : decode cX0_feed 26 = .ok (.ireturn, 1) := dk_172 (dk_at dksX0_feed_1 2 rfl rfl)
theorem dX0_feed_27 : decode cX0_feed 27 = .ok (.aload_n 0, 1) := dk_42 (dk_at dksX0_feed_1 3 rfl rfl)
theorem dX0_feed_28 : decode cX0_feed 28 = .ok (.getfield 65, 3) := dk_180 0 65 (dk_at dksX0_feed_1 4 rfl rfl)
theorem dX0_feed_31 : decode cX0_feed 31 = .ok (.aload_n 0, 1) := dk_42 (dk_at dksX0_feed_1 7 rfl rfl)
theorem dX0_feed_32 : decode cX0_feed 32 = .ok (.getfield 100, 3) := dk_180 0 100 (dk_at dksX0_feed_1 8 rfl rfl)
theorem dX0_feed_35 : decode cX0_feed 35 = .ok (.iload_n 1, 1) := dk_27 (dk_at dksX0_feed_1 11 rfl rfl)
theorem dX0_feed_36 : decode cX0_feed 36 = .ok (.i2b, 1) := dk_145 (dk_at dksX0_feed_1 12 rfl rfl)
theorem dX0_feed_37 : decode cX0_feed 37 = .ok (.bastore, 1) := dk_84 (dk_at dksX0_feed_1 13 rfl rfl)
theorem dX0_feed_38 : decode cX0_feed 38 = .ok (.aload_n 0, 1) := dk_42 (dk_at dksX0_feed_1 14 rfl rfl)
theorem dX0_feed_39 : decode cX0_feed 39 = .ok (.dup, 1) := dk_89 (dk_at dksX0_feed_1 15 rfl rfl)
theorem dX0_feed_40 : decode cX0_feed 40 = .ok (.getfield 100, 3) := dk_180 0 100 (dk_at dksX0_feed_1 16 rfl rfl)
theorem dX0_feed_43 : decode cX0_feed 43 = .ok (.iconst 1, 1) := dk_4 (dk_at dksX0_feed_1 19 rfl rfl)
theorem dX0_feed_44 : decode cX0_feed 44 = .ok (.iadd, 1) := dk_96 (dk_at dksX0_feed_1 20 rfl rfl)
theorem dX0_feed_45 : decode cX0_feed 45 = .ok (.putfield 100, 3) := dk_181 0 100 (dk_at dksX0_feed_1 21 rfl rfl)
theorem dX0_feed_48 : decode cX0_feed 48 = .ok (.aload_n 0, 1) := dk_42 (dk_at dksX0_feed_2 0 rfl rfl)
theorem dX0_feed_49 : decode cX0_feed 49 = .ok (.getfield 100, 3) := dk_180 0 100 (dk_at dksX0_feed_2 1 rfl rfl)
theorem dX0_feed_52 : decode cX0_feed 52 = .ok (.ireturn, 1) := dk_172 (dk_at dksX0_feed_2 4 rfl rfl)
abbrev cX0_isIn : ByteArray := prog_1_method_1_code
def yX0_isIn : MethodName := ⟨RX0, "isIn", "(III)Z"⟩
def dkwX0_isIn_0 : List UInt8 := [26, 27, 161, 0, 12, 26, 28, 163, 0, 7, 4, 167, 0, 4, 3, 172]
abbrev dktX0_isIn_0 : List UInt8 := dkwX0_isIn_0 ++ []
theorem dksX0_isIn_0 : cX0_isIn.data.toList.drop 0 = dktX0_isIn_0 := by decide +kernel
theorem dX0_isIn_0 : decode cX0_isIn 0 = .ok (.iload_n 0, 1) := dk_26 (dk_at dksX0_isIn_0 0 rfl rfl)
theorem dX0_isIn_1 : decode cX0_isIn 1 = .ok (.iload_n 1, 1) := dk_27 (dk_at dksX0_isIn_0 1 rfl rfl)
theorem dX0_isIn_2 : decode cX0_isIn 2 = .ok (.if_icmp .lt 12, 3) := dk_161 0 12 (dk_at dksX0_isIn_0 2 rfl rfl)
theorem dX0_isIn_5 : decode cX0_isIn 5 = .ok (.iload_n 0, 1) := dk_26 (dk_at dksX0_isIn_0 5 rfl rfl)
theorem dX0_isIn_6 : decode cX0_isIn 6 = .ok (.iload_n 2, 1) := dk_28 (dk_at dksX0_isIn_0 6 rfl rfl)
theorem dX0_isIn_7 : decode cX0_isIn 7 = .ok (.if_icmp .gt 7, 3) := dk_163 0 7 (dk_at dksX0_isIn_0 7 rfl rfl)
theorem dX0_isIn_10 : decode cX0_isIn 10 = .ok (.iconst 1, 1) := dk_4 (dk_at dksX0_isIn_0 10 rfl rfl)
theorem dX0_isIn_11 : decode cX0_isIn 11 = .ok (.goto 4, 3) := dk_167 0 4 (dk_at dksX0_isIn_0 11 rfl rfl)
theorem dX0_isIn_14 : decode cX0_isIn 14 = .ok (.iconst 0, 1) := dk_3 (dk_at dksX0_isIn_0 14 rfl rfl)
theorem dX0_isIn_15 : decode cX0_isIn 15 = .ok (.ireturn, 1) := dk_172 (dk_at dksX0_isIn_0 15 rfl rfl)
abbrev cX0_term : ByteArray := prog_1_method_11_code
def yX0_term : MethodName := ⟨RX0, "term", "(I)I"⟩
def dkwX0_term_3 : List UInt8 := [58, 4, 42, 3, 181, 0, 100, 25, 4, 191]
abbrev dktX0_term_3 : List UInt8 := dkwX0_term_3 ++ []
def dkwX0_term_2 : List UInt8 := [77, 42, 44, 180, 0, 119, 181, 0, 69, 16, 246, 44, 180, 0, 122, 100, 62, 42, 3, 181, 0, 100, 29, 172]
abbrev dktX0_term_2 : List UInt8 := dkwX0_term_2 ++ dktX0_term_3
def dkwX0_term_1 : List UInt8 := [180, 0, 65, 42, 180, 0, 100, 183, 0, 110, 182, 0, 113, 182, 0, 94, 61, 42, 3, 181, 0, 100, 28, 172]
abbrev dktX0_term_1 : List UInt8 := dkwX0_term_1 ++ dktX0_term_2
def dkwX0_term_0 : List UInt8 := [27, 184, 0, 103, 154, 0, 6, 18, 107, 172, 42, 2, 181, 0, 69, 42, 27, 187, 0, 108, 89, 42]
abbrev dktX0_term_0 : List UInt8 := dkwX0_term_0 ++ dktX0_term_1
theorem dksX0_term_0 : cX0_term.data.toList.drop 0 = dktX0_term_0 := by decide +kernel
theorem dksX0_term_1 : cX0_term.data.toList.drop 22 = dktX0_term_1 := dk_seg dksX0_term_0 22 rfl rfl
theorem dksX0_term_2 : cX0_term.data.toList.drop 46 = dktX0_term_2 := dk_seg dksX0_term_1 24 rfl rfl
theorem dksX0_term_3 : cX0_term.data.toList.drop 70 = dktX0_term_3 := dk_seg dksX0_term_2 24 rfl rfl
theorem dX0_term_0 : decode cX0_term 0 = .ok (.iload_n 1, 1) := dk_27 (dk_at dksX0_term_0 0 rfl rfl)
theorem dX0_term_1 : decode cX0_term 1 = .ok (.invokestatic 103, 3) := dk_184 0 103 (dk_at dksX0_term_0 1 rfl rfl)
theorem dX0_term_4 : decode cX0_term 4 = .ok (.ifCond .ne 6, 3) := dk_154 0 6 (dk_at dksX0_term_0 4 rfl rfl)
theorem dX0_term_7 : decode cX0_term 7 = .ok (.ldc 107, 2) := dk_18 107 (dk_at dksX0_term_0 7 rfl rfl)
theorem dX0_term_9 : decode cX0_term 9 = .ok (.ireturn, 1) := dk_172 (dk_at dksX0_term_0 9 rfl rfl)
theorem dX0_term_10 : decode cX0_term 10 = .ok (.aload_n 0, 1) := dk_42 (dk_at dksX0_term_0 10 rfl rfl)
theorem dX0_term_11 : decode cX0_term 11 = .ok (.iconst (-1), 1) := dk_2 (dk_at dksX0_term_0 11 rfl rfl)
theorem dX0_term_12 : decode cX0_term 12 = .ok (.putfield 69, 3) := dk_181 0 69 (dk_at dksX0_term_0 12 rfl rfl)
theorem dX0_term_15 : decode cX0_term 15 = .ok (.aload_n 0, 1) := dk_42 (dk_at dksX0_term_0 15 rfl rfl)
theorem dX0_term_16 : decode cX0_term 16 = .ok (.iload_n 1, 1) := dk_27 (dk_at dksX0_term_0 16 rfl rfl)
theorem dX0_term_17 : decode cX0_term 17 = .ok (.new 108, 3) := dk_187 0 108 (dk_at dksX0_term_0 17 rfl rfl)
theorem dX0_term_20 : decode cX0_term 20 = .ok (.dup, 1) := dk_89 (dk_at dksX0_term_0 20 rfl rfl)
theorem dX0_term_21 : decode cX0_term 21 = .ok (.aload_n 0, 1) := dk_42 (dk_at dksX0_term_0 21 rfl rfl)
theorem dX0_term_22 : decode cX0_term 22 = .ok (.getfield 65, 3) := dk_180 0 65 (dk_at dksX0_term_1 0 rfl rfl)
theorem dX0_term_25 : decode cX0_term 25 = .ok (.aload_n 0, 1) := dk_42 (dk_at dksX0_term_1 3 rfl rfl)
theorem dX0_term_26 : decode cX0_term 26 = .ok (.getfield 100, 3) := dk_180 0 100 (dk_at dksX0_term_1 4 rfl rfl)
theorem dX0_term_29 : decode cX0_term 29 = .ok (.invokespecial 110, 3) := dk_183 0 110 (dk_at dksX0_term_1 7 rfl rfl)
theorem dX0_term_32 : decode cX0_term 32 = .ok (.invokevirtual 113, 3) := dk_182 0 113 (dk_at dksX0_term_1 10 rfl rfl)
theorem dX0_term_35 : decode cX0_term 35 = .ok (.invokevirtual 94, 3) := dk_182 0 94 (dk_at dksX0_term_1 13 rfl rfl)
theorem dX0_term_38 : decode cX0_term 38 = .ok (.istore_n 2, 1) := dk_61 (dk_at dksX0_term_1 16 rfl rfl)
theorem dX0_term_39 : decode cX0_term 39 = .ok (.aload_n 0, 1) := dk_42 (dk_at dksX0_term_1 17 rfl rfl)
theorem dX0_term_40 : decode cX0_term 40 = .ok (.iconst 0, 1) := dk_3 (dk_at dksX0_term_1 18 rfl rfl)
theorem dX0_term_41 : decode cX0_term 41 = .ok (.putfield 100, 3) := dk_181 0 100 (dk_at dksX0_term_1 19 rfl rfl)
theorem dX0_term_44 : decode cX0_term 44 = .ok (.iload_n 2, 1) := dk_28 (dk_at dksX0_term_1 22 rfl rfl)
theorem dX0_term_45 : decode cX0_term 45 = .ok (.ireturn, 1) := dk_172 (dk_at dksX0_term_1 23 rfl rfl)
theorem dX0_term_46 : decode cX0_term 46 = .ok (.astore_n 2, 1) := dk_77 (dk_at dksX0_term_2 0 rfl rfl)
theorem dX0_term_47 : decode cX0_term 47 = .ok (.aload_n 0, 1) := dk_42 (dk_at dksX0_term_2 1 rfl rfl)
theorem dX0_term_48 : decode cX0_term 48 = .ok (.aload_n 2, 1) := dk_44 (dk_at dksX0_term_2 2 rfl rfl)
theorem dX0_term_49 : decode cX0_term 49 = .ok (.getfield 119, 3) := dk_180 0 119 (dk_at dksX0_term_2 3 rfl rfl)
theorem dX0_term_52 : decode cX0_term 52 = .ok (.putfield 69, 3) := dk_181 0 69 (dk_at dksX0_term_2 6 rfl rfl)
theorem dX0_term_55 : decode cX0_term 55 = .ok (.bipush (-10), 2) := dk_16 246 (dk_at dksX0_term_2 9 rfl rfl)
theorem dX0_term_57 : decode cX0_term 57 = .ok (.aload_n 2, 1) := dk_44 (dk_at dksX0_term_2 11 rfl rfl)
theorem dX0_term_58 : decode cX0_term 58 = .ok (.getfield 122, 3) := dk_180 0 122 (dk_at dksX0_term_2 12 rfl rfl)
theorem dX0_term_61 : decode cX0_term 61 = .ok (.isub, 1) := dk_100 (dk_at dksX0_term_2 15 rfl rfl)
theorem dX0_term_62 : decode cX0_term 62 = .ok (.istore_n 3, 1) := dk_62 (dk_at dksX0_term_2 16 rfl rfl)
theorem dX0_term_63 : decode cX0_term 63 = .ok (.aload_n 0, 1) := dk_42 (dk_at dksX0_term_2 17 rfl rfl)
theorem dX0_term_64 : decode cX0_term 64 = .ok (.iconst 0, 1) := dk_3 (dk_at dksX0_term_2 18 rfl rfl)
theorem dX0_term_65 : decode cX0_term 65 = .ok (.putfield 100, 3) := dk_181 0 100 (dk_at dksX0_term_2 19 rfl rfl)
theorem dX0_term_68 : decode cX0_term 68 = .ok (.iload_n 3, 1) := dk_29 (dk_at dksX0_term_2 22 rfl rfl)
theorem dX0_term_69 : decode cX0_term 69 = .ok (.ireturn, 1) := dk_172 (dk_at dksX0_term_2 23 rfl rfl)
theorem dX0_term_70 : decode cX0_term 70 = .ok (.astore 4, 2) := dk_58 4 (dk_at dksX0_term_3 0 rfl rfl)
theorem dX0_term_72 : decode cX0_term 72 = .ok (.aload_n 0, 1) := dk_42 (dk_at dksX0_term_3 2 rfl rfl)
theorem dX0_term_73 : decode cX0_term 73 = .ok (.iconst 0, 1) := dk_3 (dk_at dksX0_term_3 3 rfl rfl)
theorem dX0_term_74 : decode cX0_term 74 = .ok (.putfield 100, 3) := dk_181 0 100 (dk_at dksX0_term_3 4 rfl rfl)
theorem dX0_term_77 : decode cX0_term 77 = .ok (.aload 4, 2) := dk_25 4 (dk_at dksX0_term_3 7 rfl rfl)
theorem dX0_term_79 : decode cX0_term 79 = .ok (.athrow, 1) := dk_191 (dk_at dksX0_term_3 9 rfl rfl)
abbrev cX0_isShelf : ByteArray := prog_1_method_7_code
def yX0_isShelf : MethodName := ⟨RX0, "isShelf", "(I)Z"⟩
def dkwX0_isShelf_0 : List UInt8 := [26, 3, 6, 184, 0, 3, 172]
abbrev dktX0_isShelf_0 : List UInt8 := dkwX0_isShelf_0 ++ []
theorem dksX0_isShelf_0 : cX0_isShelf.data.toList.drop 0 = dktX0_isShelf_0 := by decide +kernel
theorem dX0_isShelf_0 : decode cX0_isShelf 0 = .ok (.iload_n 0, 1) := dk_26 (dk_at dksX0_isShelf_0 0 rfl rfl)
theorem dX0_isShelf_1 : decode cX0_isShelf 1 = .ok (.iconst 0, 1) := dk_3 (dk_at dksX0_isShelf_0 1 rfl rfl)
theorem dX0_isShelf_2 : decode cX0_isShelf 2 = .ok (.iconst 3, 1) := dk_6 (dk_at dksX0_isShelf_0 2 rfl rfl)
theorem dX0_isShelf_3 : decode cX0_isShelf 3 = .ok (.invokestatic 3, 3) := dk_184 0 3 (dk_at dksX0_isShelf_0 3 rfl rfl)
theorem dX0_isShelf_6 : decode cX0_isShelf 6 = .ok (.ireturn, 1) := dk_172 (dk_at dksX0_isShelf_0 6 rfl rfl)
abbrev cX0_isName : ByteArray := prog_1_method_2_code
def yX0_isName : MethodName := ⟨RX0, "isName", "(I)Z"⟩
def dkwX0_isName_0 : List UInt8 := [26, 16, 97, 16, 122, 184, 0, 3, 172]
abbrev dktX0_isName_0 : List UInt8 := dkwX0_isName_0 ++ []
theorem dksX0_isName_0 : cX0_isName.data.toList.drop 0 = dktX0_isName_0 := by decide +kernel
theorem dX0_isName_0 : decode cX0_isName 0 = .ok (.iload_n 0, 1) := dk_26 (dk_at dksX0_isName_0 0 rfl rfl)
theorem dX0_isName_1 : decode cX0_isName 1 = .ok (.bipush 97, 2) := dk_16 97 (dk_at dksX0_isName_0 1 rfl rfl)
theorem dX0_isName_3 : decode cX0_isName 3 = .ok (.bipush 122, 2) := dk_16 122 (dk_at dksX0_isName_0 3 rfl rfl)
theorem dX0_isName_5 : decode cX0_isName 5 = .ok (.invokestatic 3, 3) := dk_184 0 3 (dk_at dksX0_isName_0 5 rfl rfl)
theorem dX0_isName_8 : decode cX0_isName 8 = .ok (.ireturn, 1) := dk_172 (dk_at dksX0_isName_0 8 rfl rfl)
abbrev cX0_textOf : ByteArray := prog_1_method_3_code
def yX0_textOf : MethodName := ⟨RX0, "textOf", "(I)Ljava/lang/String;"⟩
def dkwX0_textOf_3 : List UInt8 := [167, 0, 5, 18, 17, 176]
abbrev dktX0_textOf_3 : List UInt8 := dkwX0_textOf_3 ++ []
def dkwX0_textOf_2 : List UInt8 := [18, 7, 167, 0, 25, 18, 9, 167, 0, 20, 18, 11, 167, 0, 15, 18, 13, 167, 0, 10, 18, 15]
abbrev dktX0_textOf_2 : List UInt8 := dkwX0_textOf_2 ++ dktX0_textOf_3
def dkwX0_textOf_1 : List UInt8 := [171, 0, 0, 0, 0, 0, 76, 0, 0, 0, 5, 0, 0, 0, 66, 0, 0, 0, 66, 0, 0, 0, 67, 0, 0, 0, 71, 0, 0, 0, 73, 0, 0, 0, 51, 0, 0, 0, 75, 0, 0, 0, 56, 0, 0, 0, 83, 0, 0, 0, 61]
abbrev dktX0_textOf_1 : List UInt8 := dkwX0_textOf_1 ++ dktX0_textOf_2
def dkwX0_textOf_0 : List UInt8 := [26]
abbrev dktX0_textOf_0 : List UInt8 := dkwX0_textOf_0 ++ dktX0_textOf_1
theorem dksX0_textOf_0 : cX0_textOf.data.toList.drop 0 = dktX0_textOf_0 := by decide +kernel
theorem dksX0_textOf_1 : cX0_textOf.data.toList.drop 1 = dktX0_textOf_1 := dk_seg dksX0_textOf_0 1 rfl rfl
theorem dksX0_textOf_2 : cX0_textOf.data.toList.drop 52 = dktX0_textOf_2 := dk_seg dksX0_textOf_1 51 rfl rfl
theorem dksX0_textOf_3 : cX0_textOf.data.toList.drop 74 = dktX0_textOf_3 := dk_seg dksX0_textOf_2 22 rfl rfl
theorem dX0_textOf_0 : decode cX0_textOf 0 = .ok (.iload_n 0, 1) := dk_26 (dk_at dksX0_textOf_0 0 rfl rfl)
theorem dX0_textOf_1 : decode cX0_textOf 1 = .ok (.lookupswitch 76 #[(66, 66), (67, 71), (73, 51), (75, 56), (83, 61)], 51) := by decide +kernel
theorem dX0_textOf_52 : decode cX0_textOf 52 = .ok (.ldc 7, 2) := dk_18 7 (dk_at dksX0_textOf_2 0 rfl rfl)
theorem dX0_textOf_54 : decode cX0_textOf 54 = .ok (.goto 25, 3) := dk_167 0 25 (dk_at dksX0_textOf_2 2 rfl rfl)
theorem dX0_textOf_57 : decode cX0_textOf 57 = .ok (.ldc 9, 2) := dk_18 9 (dk_at dksX0_textOf_2 5 rfl rfl)
theorem dX0_textOf_59 : decode cX0_textOf 59 = .ok (.goto 20, 3) := dk_167 0 20 (dk_at dksX0_textOf_2 7 rfl rfl)
theorem dX0_textOf_62 : decode cX0_textOf 62 = .ok (.ldc 11, 2) := dk_18 11 (dk_at dksX0_textOf_2 10 rfl rfl)
theorem dX0_textOf_64 : decode cX0_textOf 64 = .ok (.goto 15, 3) := dk_167 0 15 (dk_at dksX0_textOf_2 12 rfl rfl)
theorem dX0_textOf_67 : decode cX0_textOf 67 = .ok (.ldc 13, 2) := dk_18 13 (dk_at dksX0_textOf_2 15 rfl rfl)
theorem dX0_textOf_69 : decode cX0_textOf 69 = .ok (.goto 10, 3) := dk_167 0 10 (dk_at dksX0_textOf_2 17 rfl rfl)
theorem dX0_textOf_72 : decode cX0_textOf 72 = .ok (.ldc 15, 2) := dk_18 15 (dk_at dksX0_textOf_2 20 rfl rfl)
theorem dX0_textOf_74 : decode cX0_textOf 74 = .ok (.goto 5, 3) := dk_167 0 5 (dk_at dksX0_textOf_3 0 rfl rfl)
theorem dX0_textOf_77 : decode cX0_textOf 77 = .ok (.ldc 17, 2) := dk_18 17 (dk_at dksX0_textOf_3 3 rfl rfl)
theorem dX0_textOf_79 : decode cX0_textOf 79 = .ok (.areturn, 1) := dk_176 (dk_at dksX0_textOf_3 5 rfl rfl)
abbrev cX0_signOf : ByteArray := prog_1_method_4_code
def yX0_signOf : MethodName := ⟨RX0, "signOf", "(I)LBinderPress$Term;"⟩
def dkwX0_signOf_0 : List UInt8 := [187, 0, 19, 89, 26, 184, 0, 21, 183, 0, 25, 176]
abbrev dktX0_signOf_0 : List UInt8 := dkwX0_signOf_0 ++ []
theorem dksX0_signOf_0 : cX0_signOf.data.toList.drop 0 = dktX0_signOf_0 := by decide +kernel
theorem dX0_signOf_0 : decode cX0_signOf 0 = .ok (.new 19, 3) := dk_187 0 19 (dk_at dksX0_signOf_0 0 rfl rfl)
theorem dX0_signOf_3 : decode cX0_signOf 3 = .ok (.dup, 1) := dk_89 (dk_at dksX0_signOf_0 3 rfl rfl)
theorem dX0_signOf_4 : decode cX0_signOf 4 = .ok (.iload_n 0, 1) := dk_26 (dk_at dksX0_signOf_0 4 rfl rfl)
theorem dX0_signOf_5 : decode cX0_signOf 5 = .ok (.invokestatic 21, 3) := dk_184 0 21 (dk_at dksX0_signOf_0 5 rfl rfl)
theorem dX0_signOf_8 : decode cX0_signOf 8 = .ok (.invokespecial 25, 3) := dk_183 0 25 (dk_at dksX0_signOf_0 8 rfl rfl)
theorem dX0_signOf_11 : decode cX0_signOf 11 = .ok (.areturn, 1) := dk_176 (dk_at dksX0_signOf_0 11 rfl rfl)
abbrev cX0_lay : ByteArray := prog_1_method_8_code
def yX0_lay : MethodName := ⟨RX0, "lay", "(ILBinderPress$Term;)I"⟩
def dkwX0_lay_4 : List UInt8 := [180, 0, 54, 27, 1, 83, 44, 199, 0, 7, 3, 167, 0, 7, 44, 182, 0, 86, 172]
abbrev dktX0_lay_4 : List UInt8 := dkwX0_lay_4 ++ []
def dkwX0_lay_3 : List UInt8 := [180, 0, 77, 27, 79, 42, 89, 180, 0, 77, 4, 96, 181, 0, 77, 42, 180, 0, 48, 27, 44, 83, 42]
abbrev dktX0_lay_3 : List UInt8 := dkwX0_lay_3 ++ dktX0_lay_4
def dkwX0_lay_2 : List UInt8 := [181, 0, 77, 42, 180, 0, 58, 42, 180, 0, 77, 42, 180, 0, 48, 27, 50, 83, 42, 180, 0, 61, 42]
abbrev dktX0_lay_2 : List UInt8 := dkwX0_lay_2 ++ dktX0_lay_3
def dkwX0_lay_1 : List UInt8 := [42, 180, 0, 61, 4, 42, 180, 0, 61, 3, 16, 9, 184, 0, 80, 42, 89, 180, 0, 77, 4, 100]
abbrev dktX0_lay_1 : List UInt8 := dkwX0_lay_1 ++ dktX0_lay_2
def dkwX0_lay_0 : List UInt8 := [42, 180, 0, 77, 16, 10, 160, 0, 43, 42, 180, 0, 58, 4, 42, 180, 0, 58, 3, 16, 9, 184, 0, 80]
abbrev dktX0_lay_0 : List UInt8 := dkwX0_lay_0 ++ dktX0_lay_1
theorem dksX0_lay_0 : cX0_lay.data.toList.drop 0 = dktX0_lay_0 := by decide +kernel
theorem dksX0_lay_1 : cX0_lay.data.toList.drop 24 = dktX0_lay_1 := dk_seg dksX0_lay_0 24 rfl rfl
theorem dksX0_lay_2 : cX0_lay.data.toList.drop 46 = dktX0_lay_2 := dk_seg dksX0_lay_1 22 rfl rfl
theorem dksX0_lay_3 : cX0_lay.data.toList.drop 69 = dktX0_lay_3 := dk_seg dksX0_lay_2 23 rfl rfl
theorem dksX0_lay_4 : cX0_lay.data.toList.drop 92 = dktX0_lay_4 := dk_seg dksX0_lay_3 23 rfl rfl
theorem dX0_lay_0 : decode cX0_lay 0 = .ok (.aload_n 0, 1) := dk_42 (dk_at dksX0_lay_0 0 rfl rfl)
theorem dX0_lay_1 : decode cX0_lay 1 = .ok (.getfield 77, 3) := dk_180 0 77 (dk_at dksX0_lay_0 1 rfl rfl)
theorem dX0_lay_4 : decode cX0_lay 4 = .ok (.bipush 10, 2) := dk_16 10 (dk_at dksX0_lay_0 4 rfl rfl)
theorem dX0_lay_6 : decode cX0_lay 6 = .ok (.if_icmp .ne 43, 3) := dk_160 0 43 (dk_at dksX0_lay_0 6 rfl rfl)
theorem dX0_lay_9 : decode cX0_lay 9 = .ok (.aload_n 0, 1) := dk_42 (dk_at dksX0_lay_0 9 rfl rfl)
theorem dX0_lay_10 : decode cX0_lay 10 = .ok (.getfield 58, 3) := dk_180 0 58 (dk_at dksX0_lay_0 10 rfl rfl)
theorem dX0_lay_13 : decode cX0_lay 13 = .ok (.iconst 1, 1) := dk_4 (dk_at dksX0_lay_0 13 rfl rfl)
theorem dX0_lay_14 : decode cX0_lay 14 = .ok (.aload_n 0, 1) := dk_42 (dk_at dksX0_lay_0 14 rfl rfl)
theorem dX0_lay_15 : decode cX0_lay 15 = .ok (.getfield 58, 3) := dk_180 0 58 (dk_at dksX0_lay_0 15 rfl rfl)
theorem dX0_lay_18 : decode cX0_lay 18 = .ok (.iconst 0, 1) := dk_3 (dk_at dksX0_lay_0 18 rfl rfl)
theorem dX0_lay_19 : decode cX0_lay 19 = .ok (.bipush 9, 2) := dk_16 9 (dk_at dksX0_lay_0 19 rfl rfl)
theorem dX0_lay_21 : decode cX0_lay 21 = .ok (.invokestatic 80, 3) := dk_184 0 80 (dk_at dksX0_lay_0 21 rfl rfl)
theorem dX0_lay_24 : decode cX0_lay 24 = .ok (.aload_n 0, 1) := dk_42 (dk_at dksX0_lay_1 0 rfl rfl)
theorem dX0_lay_25 : decode cX0_lay 25 = .ok (.getfield 61, 3) := dk_180 0 61 (dk_at dksX0_lay_1 1 rfl rfl)
theorem dX0_lay_28 : decode cX0_lay 28 = .ok (.iconst 1, 1) := dk_4 (dk_at dksX0_lay_1 4 rfl rfl)
theorem dX0_lay_29 : decode cX0_lay 29 = .ok (.aload_n 0, 1) := dk_42 (dk_at dksX0_lay_1 5 rfl rfl)
theorem dX0_lay_30 : decode cX0_lay 30 = .ok (.getfield 61, 3) := dk_180 0 61 (dk_at dksX0_lay_1 6 rfl rfl)
theorem dX0_lay_33 : decode cX0_lay 33 = .ok (.iconst 0, 1) := dk_3 (dk_at dksX0_lay_1 9 rfl rfl)
theorem dX0_lay_34 : decode cX0_lay 34 = .ok (.bipush 9, 2) := dk_16 9 (dk_at dksX0_lay_1 10 rfl rfl)
theorem dX0_lay_36 : decode cX0_lay 36 = .ok (.invokestatic 80, 3) := dk_184 0 80 (dk_at dksX0_lay_1 12 rfl rfl)
theorem dX0_lay_39 : decode cX0_lay 39 = .ok (.aload_n 0, 1) := dk_42 (dk_at dksX0_lay_1 15 rfl rfl)
theorem dX0_lay_40 : decode cX0_lay 40 = .ok (.dup, 1) := dk_89 (dk_at dksX0_lay_1 16 rfl rfl)
theorem dX0_lay_41 : decode cX0_lay 41 = .ok (.getfield 77, 3) := dk_180 0 77 (dk_at dksX0_lay_1 17 rfl rfl)
theorem dX0_lay_44 : decode cX0_lay 44 = .ok (.iconst 1, 1) := dk_4 (dk_at dksX0_lay_1 20 rfl rfl)
theorem dX0_lay_45 : decode cX0_lay 45 = .ok (.isub, 1) := dk_100 (dk_at dksX0_lay_1 21 rfl rfl)
theorem dX0_lay_46 : decode cX0_lay 46 = .ok (.putfield 77, 3) := dk_181 0 77 (dk_at dksX0_lay_2 0 rfl rfl)
theorem dX0_lay_49 : decode cX0_lay 49 = .ok (.aload_n 0, 1) := dk_42 (dk_at dksX0_lay_2 3 rfl rfl)
theorem dX0_lay_50 : decode cX0_lay 50 = .ok (.getfield 58, 3) := dk_180 0 58 (dk_at dksX0_lay_2 4 rfl rfl)
theorem dX0_lay_53 : decode cX0_lay 53 = .ok (.aload_n 0, 1) := dk_42 (dk_at dksX0_lay_2 7 rfl rfl)
theorem dX0_lay_54 : decode cX0_lay 54 = .ok (.getfield 77, 3) := dk_180 0 77 (dk_at dksX0_lay_2 8 rfl rfl)
theorem dX0_lay_57 : decode cX0_lay 57 = .ok (.aload_n 0, 1) := dk_42 (dk_at dksX0_lay_2 11 rfl rfl)
theorem dX0_lay_58 : decode cX0_lay 58 = .ok (.getfield 48, 3) := dk_180 0 48 (dk_at dksX0_lay_2 12 rfl rfl)
theorem dX0_lay_61 : decode cX0_lay 61 = .ok (.iload_n 1, 1) := dk_27 (dk_at dksX0_lay_2 15 rfl rfl)
theorem dX0_lay_62 : decode cX0_lay 62 = .ok (.aaload, 1) := dk_50 (dk_at dksX0_lay_2 16 rfl rfl)
theorem dX0_lay_63 : decode cX0_lay 63 = .ok (.aastore, 1) := dk_83 (dk_at dksX0_lay_2 17 rfl rfl)
theorem dX0_lay_64 : decode cX0_lay 64 = .ok (.aload_n 0, 1) := dk_42 (dk_at dksX0_lay_2 18 rfl rfl)
theorem dX0_lay_65 : decode cX0_lay 65 = .ok (.getfield 61, 3) := dk_180 0 61 (dk_at dksX0_lay_2 19 rfl rfl)
theorem dX0_lay_68 : decode cX0_lay 68 = .ok (.aload_n 0, 1) := dk_42 (dk_at dksX0_lay_2 22 rfl rfl)
theorem dX0_lay_69 : decode cX0_lay 69 = .ok (.getfield 77, 3) := dk_180 0 77 (dk_at dksX0_lay_3 0 rfl rfl)
theorem dX0_lay_72 : decode cX0_lay 72 = .ok (.iload_n 1, 1) := dk_27 (dk_at dksX0_lay_3 3 rfl rfl)
theorem dX0_lay_73 : decode cX0_lay 73 = .ok (.iastore, 1) := dk_79 (dk_at dksX0_lay_3 4 rfl rfl)
theorem dX0_lay_74 : decode cX0_lay 74 = .ok (.aload_n 0, 1) := dk_42 (dk_at dksX0_lay_3 5 rfl rfl)
theorem dX0_lay_75 : decode cX0_lay 75 = .ok (.dup, 1) := dk_89 (dk_at dksX0_lay_3 6 rfl rfl)
theorem dX0_lay_76 : decode cX0_lay 76 = .ok (.getfield 77, 3) := dk_180 0 77 (dk_at dksX0_lay_3 7 rfl rfl)
theorem dX0_lay_79 : decode cX0_lay 79 = .ok (.iconst 1, 1) := dk_4 (dk_at dksX0_lay_3 10 rfl rfl)
theorem dX0_lay_80 : decode cX0_lay 80 = .ok (.iadd, 1) := dk_96 (dk_at dksX0_lay_3 11 rfl rfl)
theorem dX0_lay_81 : decode cX0_lay 81 = .ok (.putfield 77, 3) := dk_181 0 77 (dk_at dksX0_lay_3 12 rfl rfl)
theorem dX0_lay_84 : decode cX0_lay 84 = .ok (.aload_n 0, 1) := dk_42 (dk_at dksX0_lay_3 15 rfl rfl)
theorem dX0_lay_85 : decode cX0_lay 85 = .ok (.getfield 48, 3) := dk_180 0 48 (dk_at dksX0_lay_3 16 rfl rfl)
theorem dX0_lay_88 : decode cX0_lay 88 = .ok (.iload_n 1, 1) := dk_27 (dk_at dksX0_lay_3 19 rfl rfl)
theorem dX0_lay_89 : decode cX0_lay 89 = .ok (.aload_n 2, 1) := dk_44 (dk_at dksX0_lay_3 20 rfl rfl)
theorem dX0_lay_90 : decode cX0_lay 90 = .ok (.aastore, 1) := dk_83 (dk_at dksX0_lay_3 21 rfl rfl)
theorem dX0_lay_91 : decode cX0_lay 91 = .ok (.aload_n 0, 1) := dk_42 (dk_at dksX0_lay_3 22 rfl rfl)
theorem dX0_lay_92 : decode cX0_lay 92 = .ok (.getfield 54, 3) := dk_180 0 54 (dk_at dksX0_lay_4 0 rfl rfl)
theorem dX0_lay_95 : decode cX0_lay 95 = .ok (.iload_n 1, 1) := dk_27 (dk_at dksX0_lay_4 3 rfl rfl)
theorem dX0_lay_96 : decode cX0_lay 96 = .ok (.aconst_null, 1) := dk_1 (dk_at dksX0_lay_4 4 rfl rfl)
theorem dX0_lay_97 : decode cX0_lay 97 = .ok (.aastore, 1) := dk_83 (dk_at dksX0_lay_4 5 rfl rfl)
theorem dX0_lay_98 : decode cX0_lay 98 = .ok (.aload_n 2, 1) := dk_44 (dk_at dksX0_lay_4 6 rfl rfl)
theorem dX0_lay_99 : decode cX0_lay 99 = .ok (.ifnonnull 7, 3) := dk_199 0 7 (dk_at dksX0_lay_4 7 rfl rfl)
theorem dX0_lay_102 : decode cX0_lay 102 = .ok (.iconst 0, 1) := dk_3 (dk_at dksX0_lay_4 10 rfl rfl)
theorem dX0_lay_103 : decode cX0_lay 103 = .ok (.goto 7, 3) := dk_167 0 7 (dk_at dksX0_lay_4 11 rfl rfl)
theorem dX0_lay_106 : decode cX0_lay 106 = .ok (.aload_n 2, 1) := dk_44 (dk_at dksX0_lay_4 14 rfl rfl)
theorem dX0_lay_107 : decode cX0_lay 107 = .ok (.invokevirtual 86, 3) := dk_182 0 86 (dk_at dksX0_lay_4 15 rfl rfl)
theorem dX0_lay_110 : decode cX0_lay 110 = .ok (.ireturn, 1) := dk_172 (dk_at dksX0_lay_4 18 rfl rfl)
abbrev cX0_fault : ByteArray := prog_1_method_12_code
def yX0_fault : MethodName := ⟨RX0, "fault", "()I"⟩
theorem dX0_fault_0 : decode cX0_fault 0 = .ok (.aload_n 0, 1) := by decide +kernel
theorem dX0_fault_1 : decode cX0_fault 1 = .ok (.getfield 69, 3) := by decide +kernel
theorem dX0_fault_4 : decode cX0_fault 4 = .ok (.ireturn, 1) := by decide +kernel
abbrev cX0_compile : ByteArray := prog_1_method_13_code
def yX0_compile : MethodName := ⟨RX0, "compile", "(I)I"⟩
def dkwX0_compile_1 : List UInt8 := [42, 27, 42, 180, 0, 48, 27, 50, 182, 0, 126, 182, 0, 129, 172]
abbrev dktX0_compile_1 : List UInt8 := dkwX0_compile_1 ++ []
def dkwX0_compile_0 : List UInt8 := [27, 184, 0, 103, 154, 0, 6, 18, 107, 172, 42, 180, 0, 48, 27, 50, 199, 0, 8, 18, 125, 167, 0, 17]
abbrev dktX0_compile_0 : List UInt8 := dkwX0_compile_0 ++ dktX0_compile_1
theorem dksX0_compile_0 : cX0_compile.data.toList.drop 0 = dktX0_compile_0 := by decide +kernel
theorem dksX0_compile_1 : cX0_compile.data.toList.drop 24 = dktX0_compile_1 := dk_seg dksX0_compile_0 24 rfl rfl
theorem dX0_compile_0 : decode cX0_compile 0 = .ok (.iload_n 1, 1) := dk_27 (dk_at dksX0_compile_0 0 rfl rfl)
theorem dX0_compile_1 : decode cX0_compile 1 = .ok (.invokestatic 103, 3) := dk_184 0 103 (dk_at dksX0_compile_0 1 rfl rfl)
theorem dX0_compile_4 : decode cX0_compile 4 = .ok (.ifCond .ne 6, 3) := dk_154 0 6 (dk_at dksX0_compile_0 4 rfl rfl)
theorem dX0_compile_7 : decode cX0_compile 7 = .ok (.ldc 107, 2) := dk_18 107 (dk_at dksX0_compile_0 7 rfl rfl)
theorem dX0_compile_9 : decode cX0_compile 9 = .ok (.ireturn, 1) := dk_172 (dk_at dksX0_compile_0 9 rfl rfl)
theorem dX0_compile_10 : decode cX0_compile 10 = .ok (.aload_n 0, 1) := dk_42 (dk_at dksX0_compile_0 10 rfl rfl)
theorem dX0_compile_11 : decode cX0_compile 11 = .ok (.getfield 48, 3) := dk_180 0 48 (dk_at dksX0_compile_0 11 rfl rfl)
theorem dX0_compile_14 : decode cX0_compile 14 = .ok (.iload_n 1, 1) := dk_27 (dk_at dksX0_compile_0 14 rfl rfl)
theorem dX0_compile_15 : decode cX0_compile 15 = .ok (.aaload, 1) := dk_50 (dk_at dksX0_compile_0 15 rfl rfl)
theorem dX0_compile_16 : decode cX0_compile 16 = .ok (.ifnonnull 8, 3) := dk_199 0 8 (dk_at dksX0_compile_0 16 rfl rfl)
theorem dX0_compile_19 : decode cX0_compile 19 = .ok (.ldc 125, 2) := dk_18 125 (dk_at dksX0_compile_0 19 rfl rfl)
theorem dX0_compile_21 : decode cX0_compile 21 = .ok (.goto 17, 3) := dk_167 0 17 (dk_at dksX0_compile_0 21 rfl rfl)
theorem dX0_compile_24 : decode cX0_compile 24 = .ok (.aload_n 0, 1) := dk_42 (dk_at dksX0_compile_1 0 rfl rfl)
theorem dX0_compile_25 : decode cX0_compile 25 = .ok (.iload_n 1, 1) := dk_27 (dk_at dksX0_compile_1 1 rfl rfl)
theorem dX0_compile_26 : decode cX0_compile 26 = .ok (.aload_n 0, 1) := dk_42 (dk_at dksX0_compile_1 2 rfl rfl)
theorem dX0_compile_27 : decode cX0_compile 27 = .ok (.getfield 48, 3) := dk_180 0 48 (dk_at dksX0_compile_1 3 rfl rfl)
theorem dX0_compile_30 : decode cX0_compile 30 = .ok (.iload_n 1, 1) := dk_27 (dk_at dksX0_compile_1 6 rfl rfl)
theorem dX0_compile_31 : decode cX0_compile 31 = .ok (.aaload, 1) := dk_50 (dk_at dksX0_compile_1 7 rfl rfl)
theorem dX0_compile_32 : decode cX0_compile 32 = .ok (.invokevirtual 126, 3) := dk_182 0 126 (dk_at dksX0_compile_1 8 rfl rfl)
theorem dX0_compile_35 : decode cX0_compile 35 = .ok (.invokevirtual 129, 3) := dk_182 0 129 (dk_at dksX0_compile_1 11 rfl rfl)
theorem dX0_compile_38 : decode cX0_compile 38 = .ok (.ireturn, 1) := dk_172 (dk_at dksX0_compile_1 14 rfl rfl)
abbrev cX0_puts : ByteArray := prog_1_method_5_code
def yX0_puts : MethodName := ⟨RX0, "puts", "(LBinderPress$Term;LBinderPress$Term;LBinderPress$Term;)LBinderPress$Term;"⟩
def dkwX0_puts_0 : List UInt8 := [187, 0, 29, 89, 187, 0, 29, 89, 42, 43, 183, 0, 31, 44, 183, 0, 31, 176]
abbrev dktX0_puts_0 : List UInt8 := dkwX0_puts_0 ++ []
theorem dksX0_puts_0 : cX0_puts.data.toList.drop 0 = dktX0_puts_0 := by decide +kernel
theorem dX0_puts_0 : decode cX0_puts 0 = .ok (.new 29, 3) := dk_187 0 29 (dk_at dksX0_puts_0 0 rfl rfl)
theorem dX0_puts_3 : decode cX0_puts 3 = .ok (.dup, 1) := dk_89 (dk_at dksX0_puts_0 3 rfl rfl)
theorem dX0_puts_4 : decode cX0_puts 4 = .ok (.new 29, 3) := dk_187 0 29 (dk_at dksX0_puts_0 4 rfl rfl)
theorem dX0_puts_7 : decode cX0_puts 7 = .ok (.dup, 1) := dk_89 (dk_at dksX0_puts_0 7 rfl rfl)
theorem dX0_puts_8 : decode cX0_puts 8 = .ok (.aload_n 0, 1) := dk_42 (dk_at dksX0_puts_0 8 rfl rfl)
theorem dX0_puts_9 : decode cX0_puts 9 = .ok (.aload_n 1, 1) := dk_43 (dk_at dksX0_puts_0 9 rfl rfl)
theorem dX0_puts_10 : decode cX0_puts 10 = .ok (.invokespecial 31, 3) := dk_183 0 31 (dk_at dksX0_puts_0 10 rfl rfl)
theorem dX0_puts_13 : decode cX0_puts 13 = .ok (.aload_n 2, 1) := dk_44 (dk_at dksX0_puts_0 13 rfl rfl)
theorem dX0_puts_14 : decode cX0_puts 14 = .ok (.invokespecial 31, 3) := dk_183 0 31 (dk_at dksX0_puts_0 14 rfl rfl)
theorem dX0_puts_17 : decode cX0_puts 17 = .ok (.areturn, 1) := dk_176 (dk_at dksX0_puts_0 17 rfl rfl)
abbrev cX0_layIfSmall : ByteArray := prog_1_method_9_code
def yX0_layIfSmall : MethodName := ⟨RX0, "layIfSmall", "(ILBinderPress$Term;)I"⟩
def dkwX0_layIfSmall_0 : List UInt8 := [44, 182, 0, 90, 153, 0, 12, 42, 27, 44, 182, 0, 94, 167, 0, 5, 18, 98, 172]
abbrev dktX0_layIfSmall_0 : List UInt8 := dkwX0_layIfSmall_0 ++ []
theorem dksX0_layIfSmall_0 : cX0_layIfSmall.data.toList.drop 0 = dktX0_layIfSmall_0 := by decide +kernel
theorem dX0_layIfSmall_0 : decode cX0_layIfSmall 0 = .ok (.aload_n 2, 1) := dk_44 (dk_at dksX0_layIfSmall_0 0 rfl rfl)
theorem dX0_layIfSmall_1 : decode cX0_layIfSmall 1 = .ok (.invokevirtual 90, 3) := dk_182 0 90 (dk_at dksX0_layIfSmall_0 1 rfl rfl)
theorem dX0_layIfSmall_4 : decode cX0_layIfSmall 4 = .ok (.ifCond .eq 12, 3) := dk_153 0 12 (dk_at dksX0_layIfSmall_0 4 rfl rfl)
theorem dX0_layIfSmall_7 : decode cX0_layIfSmall 7 = .ok (.aload_n 0, 1) := dk_42 (dk_at dksX0_layIfSmall_0 7 rfl rfl)
theorem dX0_layIfSmall_8 : decode cX0_layIfSmall 8 = .ok (.iload_n 1, 1) := dk_27 (dk_at dksX0_layIfSmall_0 8 rfl rfl)
theorem dX0_layIfSmall_9 : decode cX0_layIfSmall 9 = .ok (.aload_n 2, 1) := dk_44 (dk_at dksX0_layIfSmall_0 9 rfl rfl)
theorem dX0_layIfSmall_10 : decode cX0_layIfSmall 10 = .ok (.invokevirtual 94, 3) := dk_182 0 94 (dk_at dksX0_layIfSmall_0 10 rfl rfl)
theorem dX0_layIfSmall_13 : decode cX0_layIfSmall 13 = .ok (.goto 5, 3) := dk_167 0 5 (dk_at dksX0_layIfSmall_0 13 rfl rfl)
theorem dX0_layIfSmall_16 : decode cX0_layIfSmall 16 = .ok (.ldc 98, 2) := dk_18 98 (dk_at dksX0_layIfSmall_0 16 rfl rfl)
theorem dX0_layIfSmall_18 : decode cX0_layIfSmall 18 = .ok (.ireturn, 1) := dk_172 (dk_at dksX0_layIfSmall_0 18 rfl rfl)
abbrev cX0_takeOut : ByteArray := prog_1_method_14_code
def yX0_takeOut : MethodName := ⟨RX0, "takeOut", "(II)I"⟩
def dkwX0_takeOut_2 : List UInt8 := [164, 0, 8, 18, 98, 167, 0, 13, 42, 27, 45, 28, 182, 0, 135, 182, 0, 129, 172]
abbrev dktX0_takeOut_2 : List UInt8 := dkwX0_takeOut_2 ++ []
def dkwX0_takeOut_1 : List UInt8 := [27, 50, 199, 0, 6, 18, 125, 172, 42, 180, 0, 48, 27, 50, 182, 0, 126, 78, 45, 182, 0, 86, 16, 122]
abbrev dktX0_takeOut_1 : List UInt8 := dkwX0_takeOut_1 ++ dktX0_takeOut_2
def dkwX0_takeOut_0 : List UInt8 := [27, 184, 0, 103, 154, 0, 6, 18, 107, 172, 28, 184, 0, 132, 154, 0, 6, 18, 99, 172, 42, 180, 0, 48]
abbrev dktX0_takeOut_0 : List UInt8 := dkwX0_takeOut_0 ++ dktX0_takeOut_1
theorem dksX0_takeOut_0 : cX0_takeOut.data.toList.drop 0 = dktX0_takeOut_0 := by decide +kernel
theorem dksX0_takeOut_1 : cX0_takeOut.data.toList.drop 24 = dktX0_takeOut_1 := dk_seg dksX0_takeOut_0 24 rfl rfl
theorem dksX0_takeOut_2 : cX0_takeOut.data.toList.drop 48 = dktX0_takeOut_2 := dk_seg dksX0_takeOut_1 24 rfl rfl
theorem dX0_takeOut_0 : decode cX0_takeOut 0 = .ok (.iload_n 1, 1) := dk_27 (dk_at dksX0_takeOut_0 0 rfl rfl)
theorem dX0_takeOut_1 : decode cX0_takeOut 1 = .ok (.invokestatic 103, 3) := dk_184 0 103 (dk_at dksX0_takeOut_0 1 rfl rfl)
theorem dX0_takeOut_4 : decode cX0_takeOut 4 = .ok (.ifCond .ne 6, 3) := dk_154 0 6 (dk_at dksX0_takeOut_0 4 rfl rfl)
theorem dX0_takeOut_7 : decode cX0_takeOut 7 = .ok (.ldc 107, 2) := dk_18 107 (dk_at dksX0_takeOut_0 7 rfl rfl)
theorem dX0_takeOut_9 : decode cX0_takeOut 9 = .ok (.ireturn, 1) := dk_172 (dk_at dksX0_takeOut_0 9 rfl rfl)
theorem dX0_takeOut_10 : decode cX0_takeOut 10 = .ok (.iload_n 2, 1) := dk_28 (dk_at dksX0_takeOut_0 10 rfl rfl)
theorem dX0_takeOut_11 : decode cX0_takeOut 11 = .ok (.invokestatic 132, 3) := dk_184 0 132 (dk_at dksX0_takeOut_0 11 rfl rfl)
theorem dX0_takeOut_14 : decode cX0_takeOut 14 = .ok (.ifCond .ne 6, 3) := dk_154 0 6 (dk_at dksX0_takeOut_0 14 rfl rfl)
theorem dX0_takeOut_17 : decode cX0_takeOut 17 = .ok (.ldc 99, 2) := dk_18 99 (dk_at dksX0_takeOut_0 17 rfl rfl)
theorem dX0_takeOut_19 : decode cX0_takeOut 19 = .ok (.ireturn, 1) := dk_172 (dk_at dksX0_takeOut_0 19 rfl rfl)
theorem dX0_takeOut_20 : decode cX0_takeOut 20 = .ok (.aload_n 0, 1) := dk_42 (dk_at dksX0_takeOut_0 20 rfl rfl)
theorem dX0_takeOut_21 : decode cX0_takeOut 21 = .ok (.getfield 48, 3) := dk_180 0 48 (dk_at dksX0_takeOut_0 21 rfl rfl)
theorem dX0_takeOut_24 : decode cX0_takeOut 24 = .ok (.iload_n 1, 1) := dk_27 (dk_at dksX0_takeOut_1 0 rfl rfl)
theorem dX0_takeOut_25 : decode cX0_takeOut 25 = .ok (.aaload, 1) := dk_50 (dk_at dksX0_takeOut_1 1 rfl rfl)
theorem dX0_takeOut_26 : decode cX0_takeOut 26 = .ok (.ifnonnull 6, 3) := dk_199 0 6 (dk_at dksX0_takeOut_1 2 rfl rfl)
theorem dX0_takeOut_29 : decode cX0_takeOut 29 = .ok (.ldc 125, 2) := dk_18 125 (dk_at dksX0_takeOut_1 5 rfl rfl)
theorem dX0_takeOut_31 : decode cX0_takeOut 31 = .ok (.ireturn, 1) := dk_172 (dk_at dksX0_takeOut_1 7 rfl rfl)
theorem dX0_takeOut_32 : decode cX0_takeOut 32 = .ok (.aload_n 0, 1) := dk_42 (dk_at dksX0_takeOut_1 8 rfl rfl)
theorem dX0_takeOut_33 : decode cX0_takeOut 33 = .ok (.getfield 48, 3) := dk_180 0 48 (dk_at dksX0_takeOut_1 9 rfl rfl)
theorem dX0_takeOut_36 : decode cX0_takeOut 36 = .ok (.iload_n 1, 1) := dk_27 (dk_at dksX0_takeOut_1 12 rfl rfl)
theorem dX0_takeOut_37 : decode cX0_takeOut 37 = .ok (.aaload, 1) := dk_50 (dk_at dksX0_takeOut_1 13 rfl rfl)
theorem dX0_takeOut_38 : decode cX0_takeOut 38 = .ok (.invokevirtual 126, 3) := dk_182 0 126 (dk_at dksX0_takeOut_1 14 rfl rfl)
theorem dX0_takeOut_41 : decode cX0_takeOut 41 = .ok (.astore_n 3, 1) := dk_78 (dk_at dksX0_takeOut_1 17 rfl rfl)
theorem dX0_takeOut_42 : decode cX0_takeOut 42 = .ok (.aload_n 3, 1) := dk_45 (dk_at dksX0_takeOut_1 18 rfl rfl)
theorem dX0_takeOut_43 : decode cX0_takeOut 43 = .ok (.invokevirtual 86, 3) := dk_182 0 86 (dk_at dksX0_takeOut_1 19 rfl rfl)
theorem dX0_takeOut_46 : decode cX0_takeOut 46 = .ok (.bipush 122, 2) := dk_16 122 (dk_at dksX0_takeOut_1 22 rfl rfl)
theorem dX0_takeOut_48 : decode cX0_takeOut 48 = .ok (.if_icmp .le 8, 3) := dk_164 0 8 (dk_at dksX0_takeOut_2 0 rfl rfl)
theorem dX0_takeOut_51 : decode cX0_takeOut 51 = .ok (.ldc 98, 2) := dk_18 98 (dk_at dksX0_takeOut_2 3 rfl rfl)
theorem dX0_takeOut_53 : decode cX0_takeOut 53 = .ok (.goto 13, 3) := dk_167 0 13 (dk_at dksX0_takeOut_2 5 rfl rfl)
theorem dX0_takeOut_56 : decode cX0_takeOut 56 = .ok (.aload_n 0, 1) := dk_42 (dk_at dksX0_takeOut_2 8 rfl rfl)
theorem dX0_takeOut_57 : decode cX0_takeOut 57 = .ok (.iload_n 1, 1) := dk_27 (dk_at dksX0_takeOut_2 9 rfl rfl)
theorem dX0_takeOut_58 : decode cX0_takeOut 58 = .ok (.aload_n 3, 1) := dk_45 (dk_at dksX0_takeOut_2 10 rfl rfl)
theorem dX0_takeOut_59 : decode cX0_takeOut 59 = .ok (.iload_n 2, 1) := dk_28 (dk_at dksX0_takeOut_2 11 rfl rfl)
theorem dX0_takeOut_60 : decode cX0_takeOut 60 = .ok (.invokevirtual 135, 3) := dk_182 0 135 (dk_at dksX0_takeOut_2 12 rfl rfl)
theorem dX0_takeOut_63 : decode cX0_takeOut 63 = .ok (.invokevirtual 129, 3) := dk_182 0 129 (dk_at dksX0_takeOut_2 15 rfl rfl)
theorem dX0_takeOut_66 : decode cX0_takeOut 66 = .ok (.ireturn, 1) := dk_172 (dk_at dksX0_takeOut_2 18 rfl rfl)
abbrev cX0_put : ByteArray := prog_1_method_15_code
def yX0_put : MethodName := ⟨RX0, "put", "(III)I"⟩
def dkwX0_put_2 : List UInt8 := [27, 187, 0, 29, 89, 42, 180, 0, 48, 28, 50, 42, 180, 0, 48, 29, 50, 183, 0, 31, 182, 0, 129, 172]
abbrev dktX0_put_2 : List UInt8 := dkwX0_put_2 ++ []
def dkwX0_put_1 : List UInt8 := [42, 180, 0, 48, 28, 50, 198, 0, 12, 42, 180, 0, 48, 29, 50, 199, 0, 8, 18, 125, 167, 0, 27, 42]
abbrev dktX0_put_1 : List UInt8 := dkwX0_put_1 ++ dktX0_put_2
def dkwX0_put_0 : List UInt8 := [27, 184, 0, 103, 153, 0, 17, 28, 184, 0, 103, 153, 0, 10, 29, 184, 0, 103, 154, 0, 6, 18, 107, 172]
abbrev dktX0_put_0 : List UInt8 := dkwX0_put_0 ++ dktX0_put_1
theorem dksX0_put_0 : cX0_put.data.toList.drop 0 = dktX0_put_0 := by decide +kernel
theorem dksX0_put_1 : cX0_put.data.toList.drop 24 = dktX0_put_1 := dk_seg dksX0_put_0 24 rfl rfl
theorem dksX0_put_2 : cX0_put.data.toList.drop 48 = dktX0_put_2 := dk_seg dksX0_put_1 24 rfl rfl
theorem dX0_put_0 : decode cX0_put 0 = .ok (.iload_n 1, 1) := dk_27 (dk_at dksX0_put_0 0 rfl rfl)
theorem dX0_put_1 : decode cX0_put 1 = .ok (.invokestatic 103, 3) := dk_184 0 103 (dk_at dksX0_put_0 1 rfl rfl)
theorem dX0_put_4 : decode cX0_put 4 = .ok (.ifCond .eq 17, 3) := dk_153 0 17 (dk_at dksX0_put_0 4 rfl rfl)
theorem dX0_put_7 : decode cX0_put 7 = .ok (.iload_n 2, 1) := dk_28 (dk_at dksX0_put_0 7 rfl rfl)
theorem dX0_put_8 : decode cX0_put 8 = .ok (.invokestatic 103, 3) := dk_184 0 103 (dk_at dksX0_put_0 8 rfl rfl)
theorem dX0_put_11 : decode cX0_put 11 = .ok (.ifCond .eq 10, 3) := dk_153 0 10 (dk_at dksX0_put_0 11 rfl rfl)
theorem dX0_put_14 : decode cX0_put 14 = .ok (.iload_n 3, 1) := dk_29 (dk_at dksX0_put_0 14 rfl rfl)
theorem dX0_put_15 : decode cX0_put 15 = .ok (.invokestatic 103, 3) := dk_184 0 103 (dk_at dksX0_put_0 15 rfl rfl)
theorem dX0_put_18 : decode cX0_put 18 = .ok (.ifCond .ne 6, 3) := dk_154 0 6 (dk_at dksX0_put_0 18 rfl rfl)
theorem dX0_put_21 : decode cX0_put 21 = .ok (.ldc 107, 2) := dk_18 107 (dk_at dksX0_put_0 21 rfl rfl)
theorem dX0_put_23 : decode cX0_put 23 = .ok (.ireturn, 1) := dk_172 (dk_at dksX0_put_0 23 rfl rfl)
theorem dX0_put_24 : decode cX0_put 24 = .ok (.aload_n 0, 1) := dk_42 (dk_at dksX0_put_1 0 rfl rfl)
theorem dX0_put_25 : decode cX0_put 25 = .ok (.getfield 48, 3) := dk_180 0 48 (dk_at dksX0_put_1 1 rfl rfl)
theorem dX0_put_28 : decode cX0_put 28 = .ok (.iload_n 2, 1) := dk_28 (dk_at dksX0_put_1 4 rfl rfl)
theorem dX0_put_29 : decode cX0_put 29 = .ok (.aaload, 1) := dk_50 (dk_at dksX0_put_1 5 rfl rfl)
theorem dX0_put_30 : decode cX0_put 30 = .ok (.ifnull 12, 3) := dk_198 0 12 (dk_at dksX0_put_1 6 rfl rfl)
theorem dX0_put_33 : decode cX0_put 33 = .ok (.aload_n 0, 1) := dk_42 (dk_at dksX0_put_1 9 rfl rfl)
theorem dX0_put_34 : decode cX0_put 34 = .ok (.getfield 48, 3) := dk_180 0 48 (dk_at dksX0_put_1 10 rfl rfl)
theorem dX0_put_37 : decode cX0_put 37 = .ok (.iload_n 3, 1) := dk_29 (dk_at dksX0_put_1 13 rfl rfl)
theorem dX0_put_38 : decode cX0_put 38 = .ok (.aaload, 1) := dk_50 (dk_at dksX0_put_1 14 rfl rfl)
theorem dX0_put_39 : decode cX0_put 39 = .ok (.ifnonnull 8, 3) := dk_199 0 8 (dk_at dksX0_put_1 15 rfl rfl)
theorem dX0_put_42 : decode cX0_put 42 = .ok (.ldc 125, 2) := dk_18 125 (dk_at dksX0_put_1 18 rfl rfl)
theorem dX0_put_44 : decode cX0_put 44 = .ok (.goto 27, 3) := dk_167 0 27 (dk_at dksX0_put_1 20 rfl rfl)
theorem dX0_put_47 : decode cX0_put 47 = .ok (.aload_n 0, 1) := dk_42 (dk_at dksX0_put_1 23 rfl rfl)
theorem dX0_put_48 : decode cX0_put 48 = .ok (.iload_n 1, 1) := dk_27 (dk_at dksX0_put_2 0 rfl rfl)
theorem dX0_put_49 : decode cX0_put 49 = .ok (.new 29, 3) := dk_187 0 29 (dk_at dksX0_put_2 1 rfl rfl)
theorem dX0_put_52 : decode cX0_put 52 = .ok (.dup, 1) := dk_89 (dk_at dksX0_put_2 4 rfl rfl)
theorem dX0_put_53 : decode cX0_put 53 = .ok (.aload_n 0, 1) := dk_42 (dk_at dksX0_put_2 5 rfl rfl)
theorem dX0_put_54 : decode cX0_put 54 = .ok (.getfield 48, 3) := dk_180 0 48 (dk_at dksX0_put_2 6 rfl rfl)
theorem dX0_put_57 : decode cX0_put 57 = .ok (.iload_n 2, 1) := dk_28 (dk_at dksX0_put_2 9 rfl rfl)
theorem dX0_put_58 : decode cX0_put 58 = .ok (.aaload, 1) := dk_50 (dk_at dksX0_put_2 10 rfl rfl)
theorem dX0_put_59 : decode cX0_put 59 = .ok (.aload_n 0, 1) := dk_42 (dk_at dksX0_put_2 11 rfl rfl)
theorem dX0_put_60 : decode cX0_put 60 = .ok (.getfield 48, 3) := dk_180 0 48 (dk_at dksX0_put_2 12 rfl rfl)
theorem dX0_put_63 : decode cX0_put 63 = .ok (.iload_n 3, 1) := dk_29 (dk_at dksX0_put_2 15 rfl rfl)
theorem dX0_put_64 : decode cX0_put 64 = .ok (.aaload, 1) := dk_50 (dk_at dksX0_put_2 16 rfl rfl)
theorem dX0_put_65 : decode cX0_put 65 = .ok (.invokespecial 31, 3) := dk_183 0 31 (dk_at dksX0_put_2 17 rfl rfl)
theorem dX0_put_68 : decode cX0_put 68 = .ok (.invokevirtual 129, 3) := dk_182 0 129 (dk_at dksX0_put_2 20 rfl rfl)
theorem dX0_put_71 : decode cX0_put 71 = .ok (.ireturn, 1) := dk_172 (dk_at dksX0_put_2 23 rfl rfl)
abbrev cX0_putIn : ByteArray := prog_1_method_17_code
def yX0_putIn : MethodName := ⟨RX0, "putIn", "(III)I"⟩
def dkwX0_putIn_2 : List UInt8 := [180, 0, 48, 27, 50, 28, 42, 180, 0, 48, 29, 50, 182, 0, 145, 182, 0, 129, 167, 0, 5, 18, 125, 172]
abbrev dktX0_putIn_2 : List UInt8 := dkwX0_putIn_2 ++ []
def dkwX0_putIn_1 : List UInt8 := [18, 99, 172, 42, 27, 182, 0, 142, 153, 0, 35, 42, 29, 182, 0, 142, 153, 0, 27, 42, 27, 42]
abbrev dktX0_putIn_1 : List UInt8 := dkwX0_putIn_1 ++ dktX0_putIn_2
def dkwX0_putIn_0 : List UInt8 := [27, 184, 0, 103, 153, 0, 10, 29, 184, 0, 103, 154, 0, 6, 18, 107, 172, 28, 184, 0, 132, 154, 0, 6]
abbrev dktX0_putIn_0 : List UInt8 := dkwX0_putIn_0 ++ dktX0_putIn_1
theorem dksX0_putIn_0 : cX0_putIn.data.toList.drop 0 = dktX0_putIn_0 := by decide +kernel
theorem dksX0_putIn_1 : cX0_putIn.data.toList.drop 24 = dktX0_putIn_1 := dk_seg dksX0_putIn_0 24 rfl rfl
theorem dksX0_putIn_2 : cX0_putIn.data.toList.drop 46 = dktX0_putIn_2 := dk_seg dksX0_putIn_1 22 rfl rfl
theorem dX0_putIn_0 : decode cX0_putIn 0 = .ok (.iload_n 1, 1) := dk_27 (dk_at dksX0_putIn_0 0 rfl rfl)
theorem dX0_putIn_1 : decode cX0_putIn 1 = .ok (.invokestatic 103, 3) := dk_184 0 103 (dk_at dksX0_putIn_0 1 rfl rfl)
theorem dX0_putIn_4 : decode cX0_putIn 4 = .ok (.ifCond .eq 10, 3) := dk_153 0 10 (dk_at dksX0_putIn_0 4 rfl rfl)
theorem dX0_putIn_7 : decode cX0_putIn 7 = .ok (.iload_n 3, 1) := dk_29 (dk_at dksX0_putIn_0 7 rfl rfl)
theorem dX0_putIn_8 : decode cX0_putIn 8 = .ok (.invokestatic 103, 3) := dk_184 0 103 (dk_at dksX0_putIn_0 8 rfl rfl)
theorem dX0_putIn_11 : decode cX0_putIn 11 = .ok (.ifCond .ne 6, 3) := dk_154 0 6 (dk_at dksX0_putIn_0 11 rfl rfl)
theorem dX0_putIn_14 : decode cX0_putIn 14 = .ok (.ldc 107, 2) := dk_18 107 (dk_at dksX0_putIn_0 14 rfl rfl)
theorem dX0_putIn_16 : decode cX0_putIn 16 = .ok (.ireturn, 1) := dk_172 (dk_at dksX0_putIn_0 16 rfl rfl)
theorem dX0_putIn_17 : decode cX0_putIn 17 = .ok (.iload_n 2, 1) := dk_28 (dk_at dksX0_putIn_0 17 rfl rfl)
theorem dX0_putIn_18 : decode cX0_putIn 18 = .ok (.invokestatic 132, 3) := dk_184 0 132 (dk_at dksX0_putIn_0 18 rfl rfl)
theorem dX0_putIn_21 : decode cX0_putIn 21 = .ok (.ifCond .ne 6, 3) := dk_154 0 6 (dk_at dksX0_putIn_0 21 rfl rfl)
theorem dX0_putIn_24 : decode cX0_putIn 24 = .ok (.ldc 99, 2) := dk_18 99 (dk_at dksX0_putIn_1 0 rfl rfl)
theorem dX0_putIn_26 : decode cX0_putIn 26 = .ok (.ireturn, 1) := dk_172 (dk_at dksX0_putIn_1 2 rfl rfl)
theorem dX0_putIn_27 : decode cX0_putIn 27 = .ok (.aload_n 0, 1) := dk_42 (dk_at dksX0_putIn_1 3 rfl rfl)
theorem dX0_putIn_28 : decode cX0_putIn 28 = .ok (.iload_n 1, 1) := dk_27 (dk_at dksX0_putIn_1 4 rfl rfl)
theorem dX0_putIn_29 : decode cX0_putIn 29 = .ok (.invokevirtual 142, 3) := dk_182 0 142 (dk_at dksX0_putIn_1 5 rfl rfl)
theorem dX0_putIn_32 : decode cX0_putIn 32 = .ok (.ifCond .eq 35, 3) := dk_153 0 35 (dk_at dksX0_putIn_1 8 rfl rfl)
theorem dX0_putIn_35 : decode cX0_putIn 35 = .ok (.aload_n 0, 1) := dk_42 (dk_at dksX0_putIn_1 11 rfl rfl)
theorem dX0_putIn_36 : decode cX0_putIn 36 = .ok (.iload_n 3, 1) := dk_29 (dk_at dksX0_putIn_1 12 rfl rfl)
theorem dX0_putIn_37 : decode cX0_putIn 37 = .ok (.invokevirtual 142, 3) := dk_182 0 142 (dk_at dksX0_putIn_1 13 rfl rfl)
theorem dX0_putIn_40 : decode cX0_putIn 40 = .ok (.ifCond .eq 27, 3) := dk_153 0 27 (dk_at dksX0_putIn_1 16 rfl rfl)
theorem dX0_putIn_43 : decode cX0_putIn 43 = .ok (.aload_n 0, 1) := dk_42 (dk_at dksX0_putIn_1 19 rfl rfl)
theorem dX0_putIn_44 : decode cX0_putIn 44 = .ok (.iload_n 1, 1) := dk_27 (dk_at dksX0_putIn_1 20 rfl rfl)
theorem dX0_putIn_45 : decode cX0_putIn 45 = .ok (.aload_n 0, 1) := dk_42 (dk_at dksX0_putIn_1 21 rfl rfl)
theorem dX0_putIn_46 : decode cX0_putIn 46 = .ok (.getfield 48, 3) := dk_180 0 48 (dk_at dksX0_putIn_2 0 rfl rfl)
theorem dX0_putIn_49 : decode cX0_putIn 49 = .ok (.iload_n 1, 1) := dk_27 (dk_at dksX0_putIn_2 3 rfl rfl)
theorem dX0_putIn_50 : decode cX0_putIn 50 = .ok (.aaload, 1) := dk_50 (dk_at dksX0_putIn_2 4 rfl rfl)
theorem dX0_putIn_51 : decode cX0_putIn 51 = .ok (.iload_n 2, 1) := dk_28 (dk_at dksX0_putIn_2 5 rfl rfl)
theorem dX0_putIn_52 : decode cX0_putIn 52 = .ok (.aload_n 0, 1) := dk_42 (dk_at dksX0_putIn_2 6 rfl rfl)
theorem dX0_putIn_53 : decode cX0_putIn 53 = .ok (.getfield 48, 3) := dk_180 0 48 (dk_at dksX0_putIn_2 7 rfl rfl)
theorem dX0_putIn_56 : decode cX0_putIn 56 = .ok (.iload_n 3, 1) := dk_29 (dk_at dksX0_putIn_2 10 rfl rfl)
theorem dX0_putIn_57 : decode cX0_putIn 57 = .ok (.aaload, 1) := dk_50 (dk_at dksX0_putIn_2 11 rfl rfl)
theorem dX0_putIn_58 : decode cX0_putIn 58 = .ok (.invokevirtual 145, 3) := dk_182 0 145 (dk_at dksX0_putIn_2 12 rfl rfl)
theorem dX0_putIn_61 : decode cX0_putIn 61 = .ok (.invokevirtual 129, 3) := dk_182 0 129 (dk_at dksX0_putIn_2 15 rfl rfl)
theorem dX0_putIn_64 : decode cX0_putIn 64 = .ok (.goto 5, 3) := dk_167 0 5 (dk_at dksX0_putIn_2 18 rfl rfl)
theorem dX0_putIn_67 : decode cX0_putIn 67 = .ok (.ldc 125, 2) := dk_18 125 (dk_at dksX0_putIn_2 21 rfl rfl)
theorem dX0_putIn_69 : decode cX0_putIn 69 = .ok (.ireturn, 1) := dk_172 (dk_at dksX0_putIn_2 23 rfl rfl)
abbrev cX0_isPlain : ByteArray := prog_1_method_16_code
def yX0_isPlain : MethodName := ⟨RX0, "isPlain", "(I)Z"⟩
def dkwX0_isPlain_1 : List UInt8 := [167, 0, 4, 3, 172]
abbrev dktX0_isPlain_1 : List UInt8 := dkwX0_isPlain_1 ++ []
def dkwX0_isPlain_0 : List UInt8 := [42, 180, 0, 48, 27, 50, 198, 0, 19, 42, 180, 0, 48, 27, 50, 182, 0, 139, 154, 0, 7, 4]
abbrev dktX0_isPlain_0 : List UInt8 := dkwX0_isPlain_0 ++ dktX0_isPlain_1
theorem dksX0_isPlain_0 : cX0_isPlain.data.toList.drop 0 = dktX0_isPlain_0 := by decide +kernel
theorem dksX0_isPlain_1 : cX0_isPlain.data.toList.drop 22 = dktX0_isPlain_1 := dk_seg dksX0_isPlain_0 22 rfl rfl
theorem dX0_isPlain_0 : decode cX0_isPlain 0 = .ok (.aload_n 0, 1) := dk_42 (dk_at dksX0_isPlain_0 0 rfl rfl)
theorem dX0_isPlain_1 : decode cX0_isPlain 1 = .ok (.getfield 48, 3) := dk_180 0 48 (dk_at dksX0_isPlain_0 1 rfl rfl)
theorem dX0_isPlain_4 : decode cX0_isPlain 4 = .ok (.iload_n 1, 1) := dk_27 (dk_at dksX0_isPlain_0 4 rfl rfl)
theorem dX0_isPlain_5 : decode cX0_isPlain 5 = .ok (.aaload, 1) := dk_50 (dk_at dksX0_isPlain_0 5 rfl rfl)
theorem dX0_isPlain_6 : decode cX0_isPlain 6 = .ok (.ifnull 19, 3) := dk_198 0 19 (dk_at dksX0_isPlain_0 6 rfl rfl)
theorem dX0_isPlain_9 : decode cX0_isPlain 9 = .ok (.aload_n 0, 1) := dk_42 (dk_at dksX0_isPlain_0 9 rfl rfl)
theorem dX0_isPlain_10 : decode cX0_isPlain 10 = .ok (.getfield 48, 3) := dk_180 0 48 (dk_at dksX0_isPlain_0 10 rfl rfl)
theorem dX0_isPlain_13 : decode cX0_isPlain 13 = .ok (.iload_n 1, 1) := dk_27 (dk_at dksX0_isPlain_0 13 rfl rfl)
theorem dX0_isPlain_14 : decode cX0_isPlain 14 = .ok (.aaload, 1) := dk_50 (dk_at dksX0_isPlain_0 14 rfl rfl)
theorem dX0_isPlain_15 : decode cX0_isPlain 15 = .ok (.invokevirtual 139, 3) := dk_182 0 139 (dk_at dksX0_isPlain_0 15 rfl rfl)
theorem dX0_isPlain_18 : decode cX0_isPlain 18 = .ok (.ifCond .ne 7, 3) := dk_154 0 7 (dk_at dksX0_isPlain_0 18 rfl rfl)
theorem dX0_isPlain_21 : decode cX0_isPlain 21 = .ok (.iconst 1, 1) := dk_4 (dk_at dksX0_isPlain_0 21 rfl rfl)
theorem dX0_isPlain_22 : decode cX0_isPlain 22 = .ok (.goto 4, 3) := dk_167 0 4 (dk_at dksX0_isPlain_1 0 rfl rfl)
theorem dX0_isPlain_25 : decode cX0_isPlain 25 = .ok (.iconst 0, 1) := dk_3 (dk_at dksX0_isPlain_1 3 rfl rfl)
theorem dX0_isPlain_26 : decode cX0_isPlain 26 = .ok (.ireturn, 1) := dk_172 (dk_at dksX0_isPlain_1 4 rfl rfl)
abbrev cX0_work : ByteArray := prog_1_method_18_code
def yX0_work : MethodName := ⟨RX0, "work", "(III)I"⟩
def dkwX0_work_5 : List UInt8 := [180, 0, 170, 172]
abbrev dktX0_work_5 : List UInt8 := dkwX0_work_5 ++ []
def dkwX0_work_4 : List UInt8 := [154, 0, 6, 18, 98, 172, 42, 27, 42, 180, 0, 42, 182, 0, 167, 182, 0, 94, 54, 4, 42, 180, 0, 42]
abbrev dktX0_work_4 : List UInt8 := dkwX0_work_4 ++ dktX0_work_5
def dkwX0_work_3 : List UInt8 := [182, 0, 153, 42, 180, 0, 42, 180, 0, 157, 154, 0, 16, 42, 180, 0, 42, 182, 0, 161, 184, 0, 162]
abbrev dktX0_work_3 : List UInt8 := dkwX0_work_3 ++ dktX0_work_4
def dkwX0_work_2 : List UInt8 := [42, 180, 0, 48, 27, 50, 28, 4, 160, 0, 7, 4, 167, 0, 4, 3, 182, 0, 149, 42, 180, 0, 42, 29]
abbrev dktX0_work_2 : List UInt8 := dkwX0_work_2 ++ dktX0_work_3
def dkwX0_work_1 : List UInt8 := [184, 0, 3, 154, 0, 6, 18, 99, 172, 42, 27, 182, 0, 142, 154, 0, 6, 18, 125, 172, 42, 180, 0, 42]
abbrev dktX0_work_1 : List UInt8 := dkwX0_work_1 ++ dktX0_work_2
def dkwX0_work_0 : List UInt8 := [27, 184, 0, 103, 154, 0, 6, 18, 107, 172, 28, 3, 4, 184, 0, 3, 153, 0, 14, 29, 3, 17, 0, 200]
abbrev dktX0_work_0 : List UInt8 := dkwX0_work_0 ++ dktX0_work_1
theorem dksX0_work_0 : cX0_work.data.toList.drop 0 = dktX0_work_0 := by decide +kernel
theorem dksX0_work_1 : cX0_work.data.toList.drop 24 = dktX0_work_1 := dk_seg dksX0_work_0 24 rfl rfl
theorem dksX0_work_2 : cX0_work.data.toList.drop 48 = dktX0_work_2 := dk_seg dksX0_work_1 24 rfl rfl
theorem dksX0_work_3 : cX0_work.data.toList.drop 72 = dktX0_work_3 := dk_seg dksX0_work_2 24 rfl rfl
theorem dksX0_work_4 : cX0_work.data.toList.drop 95 = dktX0_work_4 := dk_seg dksX0_work_3 23 rfl rfl
theorem dksX0_work_5 : cX0_work.data.toList.drop 119 = dktX0_work_5 := dk_seg dksX0_work_4 24 rfl rfl
theorem dX0_work_0 : decode cX0_work 0 = .ok (.iload_n 1, 1) := dk_27 (dk_at dksX0_work_0 0 rfl rfl)
theorem dX0_work_1 : decode cX0_work 1 = .ok (.invokestatic 103, 3) := dk_184 0 103 (dk_at dksX0_work_0 1 rfl rfl)
theorem dX0_work_4 : decode cX0_work 4 = .ok (.ifCond .ne 6, 3) := dk_154 0 6 (dk_at dksX0_work_0 4 rfl rfl)
theorem dX0_work_7 : decode cX0_work 7 = .ok (.ldc 107, 2) := dk_18 107 (dk_at dksX0_work_0 7 rfl rfl)
theorem dX0_work_9 : decode cX0_work 9 = .ok (.ireturn, 1) := dk_172 (dk_at dksX0_work_0 9 rfl rfl)
theorem dX0_work_10 : decode cX0_work 10 = .ok (.iload_n 2, 1) := dk_28 (dk_at dksX0_work_0 10 rfl rfl)
theorem dX0_work_11 : decode cX0_work 11 = .ok (.iconst 0, 1) := dk_3 (dk_at dksX0_work_0 11 rfl rfl)
theorem dX0_work_12 : decode cX0_work 12 = .ok (.iconst 1, 1) := dk_4 (dk_at dksX0_work_0 12 rfl rfl)
theorem dX0_work_13 : decode cX0_work 13 = .ok (.invokestatic 3, 3) := dk_184 0 3 (dk_at dksX0_work_0 13 rfl rfl)
theorem dX0_work_16 : decode cX0_work 16 = .ok (.ifCond .eq 14, 3) := dk_153 0 14 (dk_at dksX0_work_0 16 rfl rfl)
theorem dX0_work_19 : decode cX0_work 19 = .ok (.iload_n 3, 1) := dk_29 (dk_at dksX0_work_0 19 rfl rfl)
theorem dX0_work_20 : decode cX0_work 20 = .ok (.iconst 0, 1) := dk_3 (dk_at dksX0_work_0 20 rfl rfl)
theorem dX0_work_21 : decode cX0_work 21 = .ok (.sipush 200, 3) := dk_17 0 200 (dk_at dksX0_work_0 21 rfl rfl)
theorem dX0_work_24 : decode cX0_work 24 = .ok (.invokestatic 3, 3) := dk_184 0 3 (dk_at dksX0_work_1 0 rfl rfl)
theorem dX0_work_27 : decode cX0_work 27 = .ok (.ifCond .ne 6, 3) := dk_154 0 6 (dk_at dksX0_work_1 3 rfl rfl)
theorem dX0_work_30 : decode cX0_work 30 = .ok (.ldc 99, 2) := dk_18 99 (dk_at dksX0_work_1 6 rfl rfl)
theorem dX0_work_32 : decode cX0_work 32 = .ok (.ireturn, 1) := dk_172 (dk_at dksX0_work_1 8 rfl rfl)
theorem dX0_work_33 : decode cX0_work 33 = .ok (.aload_n 0, 1) := dk_42 (dk_at dksX0_work_1 9 rfl rfl)
theorem dX0_work_34 : decode cX0_work 34 = .ok (.iload_n 1, 1) := dk_27 (dk_at dksX0_work_1 10 rfl rfl)
theorem dX0_work_35 : decode cX0_work 35 = .ok (.invokevirtual 142, 3) := dk_182 0 142 (dk_at dksX0_work_1 11 rfl rfl)
theorem dX0_work_38 : decode cX0_work 38 = .ok (.ifCond .ne 6, 3) := dk_154 0 6 (dk_at dksX0_work_1 14 rfl rfl)
theorem dX0_work_41 : decode cX0_work 41 = .ok (.ldc 125, 2) := dk_18 125 (dk_at dksX0_work_1 17 rfl rfl)
theorem dX0_work_43 : decode cX0_work 43 = .ok (.ireturn, 1) := dk_172 (dk_at dksX0_work_1 19 rfl rfl)
theorem dX0_work_44 : decode cX0_work 44 = .ok (.aload_n 0, 1) := dk_42 (dk_at dksX0_work_1 20 rfl rfl)
theorem dX0_work_45 : decode cX0_work 45 = .ok (.getfield 42, 3) := dk_180 0 42 (dk_at dksX0_work_1 21 rfl rfl)
theorem dX0_work_48 : decode cX0_work 48 = .ok (.aload_n 0, 1) := dk_42 (dk_at dksX0_work_2 0 rfl rfl)
theorem dX0_work_49 : decode cX0_work 49 = .ok (.getfield 48, 3) := dk_180 0 48 (dk_at dksX0_work_2 1 rfl rfl)
theorem dX0_work_52 : decode cX0_work 52 = .ok (.iload_n 1, 1) := dk_27 (dk_at dksX0_work_2 4 rfl rfl)
theorem dX0_work_53 : decode cX0_work 53 = .ok (.aaload, 1) := dk_50 (dk_at dksX0_work_2 5 rfl rfl)
theorem dX0_work_54 : decode cX0_work 54 = .ok (.iload_n 2, 1) := dk_28 (dk_at dksX0_work_2 6 rfl rfl)
theorem dX0_work_55 : decode cX0_work 55 = .ok (.iconst 1, 1) := dk_4 (dk_at dksX0_work_2 7 rfl rfl)
theorem dX0_work_56 : decode cX0_work 56 = .ok (.if_icmp .ne 7, 3) := dk_160 0 7 (dk_at dksX0_work_2 8 rfl rfl)
theorem dX0_work_59 : decode cX0_work 59 = .ok (.iconst 1, 1) := dk_4 (dk_at dksX0_work_2 11 rfl rfl)
theorem dX0_work_60 : decode cX0_work 60 = .ok (.goto 4, 3) := dk_167 0 4 (dk_at dksX0_work_2 12 rfl rfl)
theorem dX0_work_63 : decode cX0_work 63 = .ok (.iconst 0, 1) := dk_3 (dk_at dksX0_work_2 15 rfl rfl)
theorem dX0_work_64 : decode cX0_work 64 = .ok (.invokevirtual 149, 3) := dk_182 0 149 (dk_at dksX0_work_2 16 rfl rfl)
theorem dX0_work_67 : decode cX0_work 67 = .ok (.aload_n 0, 1) := dk_42 (dk_at dksX0_work_2 19 rfl rfl)
theorem dX0_work_68 : decode cX0_work 68 = .ok (.getfield 42, 3) := dk_180 0 42 (dk_at dksX0_work_2 20 rfl rfl)
theorem dX0_work_71 : decode cX0_work 71 = .ok (.iload_n 3, 1) := dk_29 (dk_at dksX0_work_2 23 rfl rfl)
theorem dX0_work_72 : decode cX0_work 72 = .ok (.invokevirtual 153, 3) := dk_182 0 153 (dk_at dksX0_work_3 0 rfl rfl)
theorem dX0_work_75 : decode cX0_work 75 = .ok (.aload_n 0, 1) := dk_42 (dk_at dksX0_work_3 3 rfl rfl)
theorem dX0_work_76 : decode cX0_work 76 = .ok (.getfield 42, 3) := dk_180 0 42 (dk_at dksX0_work_3 4 rfl rfl)
theorem dX0_work_79 : decode cX0_work 79 = .ok (.getfield 157, 3) := dk_180 0 157 (dk_at dksX0_work_3 7 rfl rfl)
theorem dX0_work_82 : decode cX0_work 82 = .ok (.ifCond .ne 16, 3) := dk_154 0 16 (dk_at dksX0_work_3 10 rfl rfl)
theorem dX0_work_85 : decode cX0_work 85 = .ok (.aload_n 0, 1) := dk_42 (dk_at dksX0_work_3 13 rfl rfl)
theorem dX0_work_86 : decode cX0_work 86 = .ok (.getfield 42, 3) := dk_180 0 42 (dk_at dksX0_work_3 14 rfl rfl)
theorem dX0_work_89 : decode cX0_work 89 = .ok (.invokevirtual 161, 3) := dk_182 0 161 (dk_at dksX0_work_3 17 rfl rfl)
theorem dX0_work_92 : decode cX0_work 92 = .ok (.invokestatic 162, 3) := dk_184 0 162 (dk_at dksX0_work_3 20 rfl rfl)
theorem dX0_work_95 : decode cX0_work 95 = .ok (.ifCond .ne 6, 3) := dk_154 0 6 (dk_at dksX0_work_4 0 rfl rfl)
theorem dX0_work_98 : decode cX0_work 98 = .ok (.ldc 98, 2) := dk_18 98 (dk_at dksX0_work_4 3 rfl rfl)
theorem dX0_work_100 : decode cX0_work 100 = .ok (.ireturn, 1) := dk_172 (dk_at dksX0_work_4 5 rfl rfl)
theorem dX0_work_101 : decode cX0_work 101 = .ok (.aload_n 0, 1) := dk_42 (dk_at dksX0_work_4 6 rfl rfl)
theorem dX0_work_102 : decode cX0_work 102 = .ok (.iload_n 1, 1) := dk_27 (dk_at dksX0_work_4 7 rfl rfl)
theorem dX0_work_103 : decode cX0_work 103 = .ok (.aload_n 0, 1) := dk_42 (dk_at dksX0_work_4 8 rfl rfl)
theorem dX0_work_104 : decode cX0_work 104 = .ok (.getfield 42, 3) := dk_180 0 42 (dk_at dksX0_work_4 9 rfl rfl)
theorem dX0_work_107 : decode cX0_work 107 = .ok (.invokevirtual 167, 3) := dk_182 0 167 (dk_at dksX0_work_4 12 rfl rfl)
theorem dX0_work_110 : decode cX0_work 110 = .ok (.invokevirtual 94, 3) := dk_182 0 94 (dk_at dksX0_work_4 15 rfl rfl)
theorem dX0_work_113 : decode cX0_work 113 = .ok (.istore 4, 2) := dk_54 4 (dk_at dksX0_work_4 18 rfl rfl)
theorem dX0_work_115 : decode cX0_work 115 = .ok (.aload_n 0, 1) := dk_42 (dk_at dksX0_work_4 20 rfl rfl)
theorem dX0_work_116 : decode cX0_work 116 = .ok (.getfield 42, 3) := dk_180 0 42 (dk_at dksX0_work_4 21 rfl rfl)
theorem dX0_work_119 : decode cX0_work 119 = .ok (.getfield 170, 3) := dk_180 0 170 (dk_at dksX0_work_5 0 rfl rfl)
theorem dX0_work_122 : decode cX0_work 122 = .ok (.ireturn, 1) := dk_172 (dk_at dksX0_work_5 3 rfl rfl)
abbrev cX0_drop : ByteArray := prog_1_method_19_code
def yX0_drop : MethodName := ⟨RX0, "drop", "(I)I"⟩
def dkwX0_drop_1 : List UInt8 := [180, 0, 48, 27, 50, 182, 0, 86, 61, 28, 42, 27, 1, 182, 0, 94, 96, 172]
abbrev dktX0_drop_1 : List UInt8 := dkwX0_drop_1 ++ []
def dkwX0_drop_0 : List UInt8 := [27, 184, 0, 103, 154, 0, 6, 18, 107, 172, 42, 180, 0, 48, 27, 50, 199, 0, 6, 18, 125, 172, 42]
abbrev dktX0_drop_0 : List UInt8 := dkwX0_drop_0 ++ dktX0_drop_1
theorem dksX0_drop_0 : cX0_drop.data.toList.drop 0 = dktX0_drop_0 := by decide +kernel
theorem dksX0_drop_1 : cX0_drop.data.toList.drop 23 = dktX0_drop_1 := dk_seg dksX0_drop_0 23 rfl rfl
theorem dX0_drop_0 : decode cX0_drop 0 = .ok (.iload_n 1, 1) := dk_27 (dk_at dksX0_drop_0 0 rfl rfl)
theorem dX0_drop_1 : decode cX0_drop 1 = .ok (.invokestatic 103, 3) := dk_184 0 103 (dk_at dksX0_drop_0 1 rfl rfl)
theorem dX0_drop_4 : decode cX0_drop 4 = .ok (.ifCond .ne 6, 3) := dk_154 0 6 (dk_at dksX0_drop_0 4 rfl rfl)
theorem dX0_drop_7 : decode cX0_drop 7 = .ok (.ldc 107, 2) := dk_18 107 (dk_at dksX0_drop_0 7 rfl rfl)
theorem dX0_drop_9 : decode cX0_drop 9 = .ok (.ireturn, 1) := dk_172 (dk_at dksX0_drop_0 9 rfl rfl)
theorem dX0_drop_10 : decode cX0_drop 10 = .ok (.aload_n 0, 1) := dk_42 (dk_at dksX0_drop_0 10 rfl rfl)
theorem dX0_drop_11 : decode cX0_drop 11 = .ok (.getfield 48, 3) := dk_180 0 48 (dk_at dksX0_drop_0 11 rfl rfl)
theorem dX0_drop_14 : decode cX0_drop 14 = .ok (.iload_n 1, 1) := dk_27 (dk_at dksX0_drop_0 14 rfl rfl)
theorem dX0_drop_15 : decode cX0_drop 15 = .ok (.aaload, 1) := dk_50 (dk_at dksX0_drop_0 15 rfl rfl)
theorem dX0_drop_16 : decode cX0_drop 16 = .ok (.ifnonnull 6, 3) := dk_199 0 6 (dk_at dksX0_drop_0 16 rfl rfl)
theorem dX0_drop_19 : decode cX0_drop 19 = .ok (.ldc 125, 2) := dk_18 125 (dk_at dksX0_drop_0 19 rfl rfl)
theorem dX0_drop_21 : decode cX0_drop 21 = .ok (.ireturn, 1) := dk_172 (dk_at dksX0_drop_0 21 rfl rfl)
theorem dX0_drop_22 : decode cX0_drop 22 = .ok (.aload_n 0, 1) := dk_42 (dk_at dksX0_drop_0 22 rfl rfl)
theorem dX0_drop_23 : decode cX0_drop 23 = .ok (.getfield 48, 3) := dk_180 0 48 (dk_at dksX0_drop_1 0 rfl rfl)
theorem dX0_drop_26 : decode cX0_drop 26 = .ok (.iload_n 1, 1) := dk_27 (dk_at dksX0_drop_1 3 rfl rfl)
theorem dX0_drop_27 : decode cX0_drop 27 = .ok (.aaload, 1) := dk_50 (dk_at dksX0_drop_1 4 rfl rfl)
theorem dX0_drop_28 : decode cX0_drop 28 = .ok (.invokevirtual 86, 3) := dk_182 0 86 (dk_at dksX0_drop_1 5 rfl rfl)
theorem dX0_drop_31 : decode cX0_drop 31 = .ok (.istore_n 2, 1) := dk_61 (dk_at dksX0_drop_1 8 rfl rfl)
theorem dX0_drop_32 : decode cX0_drop 32 = .ok (.iload_n 2, 1) := dk_28 (dk_at dksX0_drop_1 9 rfl rfl)
theorem dX0_drop_33 : decode cX0_drop 33 = .ok (.aload_n 0, 1) := dk_42 (dk_at dksX0_drop_1 10 rfl rfl)
theorem dX0_drop_34 : decode cX0_drop 34 = .ok (.iload_n 1, 1) := dk_27 (dk_at dksX0_drop_1 11 rfl rfl)
theorem dX0_drop_35 : decode cX0_drop 35 = .ok (.aconst_null, 1) := dk_1 (dk_at dksX0_drop_1 12 rfl rfl)
theorem dX0_drop_36 : decode cX0_drop 36 = .ok (.invokevirtual 94, 3) := dk_182 0 94 (dk_at dksX0_drop_1 13 rfl rfl)
theorem dX0_drop_39 : decode cX0_drop 39 = .ok (.iadd, 1) := dk_96 (dk_at dksX0_drop_1 16 rfl rfl)
theorem dX0_drop_40 : decode cX0_drop 40 = .ok (.ireturn, 1) := dk_172 (dk_at dksX0_drop_1 17 rfl rfl)
abbrev cX0_drift : ByteArray := prog_1_method_21_code
def yX0_drift : MethodName := ⟨RX0, "drift", "(III)I"⟩
def dkwX0_drift_6 : List UInt8 := [25, 4, 182, 0, 94, 172]
abbrev dktX0_drift_6 : List UInt8 := dkwX0_drift_6 ++ []
def dkwX0_drift_5 : List UInt8 := [167, 0, 14, 187, 0, 29, 89, 25, 7, 25, 4, 183, 0, 31, 58, 4, 132, 5, 1, 167, 255, 181, 42, 27]
abbrev dktX0_drift_5 : List UInt8 := dkwX0_drift_5 ++ dktX0_drift_6
def dkwX0_drift_4 : List UInt8 := [182, 0, 190, 184, 0, 194, 58, 7, 21, 6, 153, 0, 17, 187, 0, 29, 89, 25, 4, 25, 7, 183, 0, 31]
abbrev dktX0_drift_4 : List UInt8 := dkwX0_drift_4 ++ dktX0_drift_5
def dkwX0_drift_3 : List UInt8 := [182, 0, 186, 154, 0, 7, 4, 167, 0, 4, 3, 54, 6, 18, 182, 42, 18, 182, 182, 0, 184, 182, 0, 186]
abbrev dktX0_drift_3 : List UInt8 := dkwX0_drift_3 ++ dktX0_drift_4
def dkwX0_drift_2 : List UInt8 := [182, 0, 186, 182, 0, 190, 184, 0, 194, 58, 4, 4, 54, 5, 21, 5, 28, 162, 0, 75, 42, 5]
abbrev dktX0_drift_2 : List UInt8 := dkwX0_drift_2 ++ dktX0_drift_3
def dkwX0_drift_1 : List UInt8 := [184, 0, 3, 154, 0, 6, 18, 99, 172, 42, 29, 133, 181, 0, 173, 18, 182, 42, 18, 182, 182, 0, 184]
abbrev dktX0_drift_1 : List UInt8 := dkwX0_drift_1 ++ dktX0_drift_2
def dkwX0_drift_0 : List UInt8 := [27, 184, 0, 103, 154, 0, 6, 18, 107, 172, 28, 4, 16, 40, 184, 0, 3, 153, 0, 13, 29, 4, 18, 181]
abbrev dktX0_drift_0 : List UInt8 := dkwX0_drift_0 ++ dktX0_drift_1
theorem dksX0_drift_0 : cX0_drift.data.toList.drop 0 = dktX0_drift_0 := by decide +kernel
theorem dksX0_drift_1 : cX0_drift.data.toList.drop 24 = dktX0_drift_1 := dk_seg dksX0_drift_0 24 rfl rfl
theorem dksX0_drift_2 : cX0_drift.data.toList.drop 47 = dktX0_drift_2 := dk_seg dksX0_drift_1 23 rfl rfl
theorem dksX0_drift_3 : cX0_drift.data.toList.drop 69 = dktX0_drift_3 := dk_seg dksX0_drift_2 22 rfl rfl
theorem dksX0_drift_4 : cX0_drift.data.toList.drop 93 = dktX0_drift_4 := dk_seg dksX0_drift_3 24 rfl rfl
theorem dksX0_drift_5 : cX0_drift.data.toList.drop 117 = dktX0_drift_5 := dk_seg dksX0_drift_4 24 rfl rfl
theorem dksX0_drift_6 : cX0_drift.data.toList.drop 141 = dktX0_drift_6 := dk_seg dksX0_drift_5 24 rfl rfl
theorem dX0_drift_0 : decode cX0_drift 0 = .ok (.iload_n 1, 1) := dk_27 (dk_at dksX0_drift_0 0 rfl rfl)
theorem dX0_drift_1 : decode cX0_drift 1 = .ok (.invokestatic 103, 3) := dk_184 0 103 (dk_at dksX0_drift_0 1 rfl rfl)
theorem dX0_drift_4 : decode cX0_drift 4 = .ok (.ifCond .ne 6, 3) := dk_154 0 6 (dk_at dksX0_drift_0 4 rfl rfl)
theorem dX0_drift_7 : decode cX0_drift 7 = .ok (.ldc 107, 2) := dk_18 107 (dk_at dksX0_drift_0 7 rfl rfl)
theorem dX0_drift_9 : decode cX0_drift 9 = .ok (.ireturn, 1) := dk_172 (dk_at dksX0_drift_0 9 rfl rfl)
theorem dX0_drift_10 : decode cX0_drift 10 = .ok (.iload_n 2, 1) := dk_28 (dk_at dksX0_drift_0 10 rfl rfl)
theorem dX0_drift_11 : decode cX0_drift 11 = .ok (.iconst 1, 1) := dk_4 (dk_at dksX0_drift_0 11 rfl rfl)
theorem dX0_drift_12 : decode cX0_drift 12 = .ok (.bipush 40, 2) := dk_16 40 (dk_at dksX0_drift_0 12 rfl rfl)
theorem dX0_drift_14 : decode cX0_drift 14 = .ok (.invokestatic 3, 3) := dk_184 0 3 (dk_at dksX0_drift_0 14 rfl rfl)
theorem dX0_drift_17 : decode cX0_drift 17 = .ok (.ifCond .eq 13, 3) := dk_153 0 13 (dk_at dksX0_drift_0 17 rfl rfl)
theorem dX0_drift_20 : decode cX0_drift 20 = .ok (.iload_n 3, 1) := dk_29 (dk_at dksX0_drift_0 20 rfl rfl)
theorem dX0_drift_21 : decode cX0_drift 21 = .ok (.iconst 1, 1) := dk_4 (dk_at dksX0_drift_0 21 rfl rfl)
theorem dX0_drift_22 : decode cX0_drift 22 = .ok (.ldc 181, 2) := dk_18 181 (dk_at dksX0_drift_0 22 rfl rfl)
theorem dX0_drift_24 : decode cX0_drift 24 = .ok (.invokestatic 3, 3) := dk_184 0 3 (dk_at dksX0_drift_1 0 rfl rfl)
theorem dX0_drift_27 : decode cX0_drift 27 = .ok (.ifCond .ne 6, 3) := dk_154 0 6 (dk_at dksX0_drift_1 3 rfl rfl)
theorem dX0_drift_30 : decode cX0_drift 30 = .ok (.ldc 99, 2) := dk_18 99 (dk_at dksX0_drift_1 6 rfl rfl)
theorem dX0_drift_32 : decode cX0_drift 32 = .ok (.ireturn, 1) := dk_172 (dk_at dksX0_drift_1 8 rfl rfl)
theorem dX0_drift_33 : decode cX0_drift 33 = .ok (.aload_n 0, 1) := dk_42 (dk_at dksX0_drift_1 9 rfl rfl)
theorem dX0_drift_34 : decode cX0_drift 34 = .ok (.iload_n 3, 1) := dk_29 (dk_at dksX0_drift_1 10 rfl rfl)
theorem dX0_drift_35 : decode cX0_drift 35 = .ok (.i2l, 1) := dk_133 (dk_at dksX0_drift_1 11 rfl rfl)
theorem dX0_drift_36 : decode cX0_drift 36 = .ok (.putfield 173, 3) := dk_181 0 173 (dk_at dksX0_drift_1 12 rfl rfl)
theorem dX0_drift_39 : decode cX0_drift 39 = .ok (.ldc 182, 2) := dk_18 182 (dk_at dksX0_drift_1 15 rfl rfl)
theorem dX0_drift_41 : decode cX0_drift 41 = .ok (.aload_n 0, 1) := dk_42 (dk_at dksX0_drift_1 17 rfl rfl)
theorem dX0_drift_42 : decode cX0_drift 42 = .ok (.ldc 182, 2) := dk_18 182 (dk_at dksX0_drift_1 18 rfl rfl)
theorem dX0_drift_44 : decode cX0_drift 44 = .ok (.invokevirtual 184, 3) := dk_182 0 184 (dk_at dksX0_drift_1 20 rfl rfl)
theorem dX0_drift_47 : decode cX0_drift 47 = .ok (.invokevirtual 186, 3) := dk_182 0 186 (dk_at dksX0_drift_2 0 rfl rfl)
theorem dX0_drift_50 : decode cX0_drift 50 = .ok (.invokevirtual 190, 3) := dk_182 0 190 (dk_at dksX0_drift_2 3 rfl rfl)
theorem dX0_drift_53 : decode cX0_drift 53 = .ok (.invokestatic 194, 3) := dk_184 0 194 (dk_at dksX0_drift_2 6 rfl rfl)
theorem dX0_drift_56 : decode cX0_drift 56 = .ok (.astore 4, 2) := dk_58 4 (dk_at dksX0_drift_2 9 rfl rfl)
theorem dX0_drift_58 : decode cX0_drift 58 = .ok (.iconst 1, 1) := dk_4 (dk_at dksX0_drift_2 11 rfl rfl)
theorem dX0_drift_59 : decode cX0_drift 59 = .ok (.istore 5, 2) := dk_54 5 (dk_at dksX0_drift_2 12 rfl rfl)
theorem dX0_drift_61 : decode cX0_drift 61 = .ok (.iload 5, 2) := dk_21 5 (dk_at dksX0_drift_2 14 rfl rfl)
theorem dX0_drift_63 : decode cX0_drift 63 = .ok (.iload_n 2, 1) := dk_28 (dk_at dksX0_drift_2 16 rfl rfl)
theorem dX0_drift_64 : decode cX0_drift 64 = .ok (.if_icmp .ge 75, 3) := dk_162 0 75 (dk_at dksX0_drift_2 17 rfl rfl)
theorem dX0_drift_67 : decode cX0_drift 67 = .ok (.aload_n 0, 1) := dk_42 (dk_at dksX0_drift_2 20 rfl rfl)
theorem dX0_drift_68 : decode cX0_drift 68 = .ok (.iconst 2, 1) := dk_5 (dk_at dksX0_drift_2 21 rfl rfl)
theorem dX0_drift_69 : decode cX0_drift 69 = .ok (.invokevirtual 186, 3) := dk_182 0 186 (dk_at dksX0_drift_3 0 rfl rfl)
theorem dX0_drift_72 : decode cX0_drift 72 = .ok (.ifCond .ne 7, 3) := dk_154 0 7 (dk_at dksX0_drift_3 3 rfl rfl)
theorem dX0_drift_75 : decode cX0_drift 75 = .ok (.iconst 1, 1) := dk_4 (dk_at dksX0_drift_3 6 rfl rfl)
theorem dX0_drift_76 : decode cX0_drift 76 = .ok (.goto 4, 3) := dk_167 0 4 (dk_at dksX0_drift_3 7 rfl rfl)
theorem dX0_drift_79 : decode cX0_drift 79 = .ok (.iconst 0, 1) := dk_3 (dk_at dksX0_drift_3 10 rfl rfl)
theorem dX0_drift_80 : decode cX0_drift 80 = .ok (.istore 6, 2) := dk_54 6 (dk_at dksX0_drift_3 11 rfl rfl)
theorem dX0_drift_82 : decode cX0_drift 82 = .ok (.ldc 182, 2) := dk_18 182 (dk_at dksX0_drift_3 13 rfl rfl)
theorem dX0_drift_84 : decode cX0_drift 84 = .ok (.aload_n 0, 1) := dk_42 (dk_at dksX0_drift_3 15 rfl rfl)
theorem dX0_drift_85 : decode cX0_drift 85 = .ok (.ldc 182, 2) := dk_18 182 (dk_at dksX0_drift_3 16 rfl rfl)
theorem dX0_drift_87 : decode cX0_drift 87 = .ok (.invokevirtual 184, 3) := dk_182 0 184 (dk_at dksX0_drift_3 18 rfl rfl)
theorem dX0_drift_90 : decode cX0_drift 90 = .ok (.invokevirtual 186, 3) := dk_182 0 186 (dk_at dksX0_drift_3 21 rfl rfl)
theorem dX0_drift_93 : decode cX0_drift 93 = .ok (.invokevirtual 190, 3) := dk_182 0 190 (dk_at dksX0_drift_4 0 rfl rfl)
theorem dX0_drift_96 : decode cX0_drift 96 = .ok (.invokestatic 194, 3) := dk_184 0 194 (dk_at dksX0_drift_4 3 rfl rfl)
theorem dX0_drift_99 : decode cX0_drift 99 = .ok (.astore 7, 2) := dk_58 7 (dk_at dksX0_drift_4 6 rfl rfl)
theorem dX0_drift_101 : decode cX0_drift 101 = .ok (.iload 6, 2) := dk_21 6 (dk_at dksX0_drift_4 8 rfl rfl)
theorem dX0_drift_103 : decode cX0_drift 103 = .ok (.ifCond .eq 17, 3) := dk_153 0 17 (dk_at dksX0_drift_4 10 rfl rfl)
theorem dX0_drift_106 : decode cX0_drift 106 = .ok (.new 29, 3) := dk_187 0 29 (dk_at dksX0_drift_4 13 rfl rfl)
theorem dX0_drift_109 : decode cX0_drift 109 = .ok (.dup, 1) := dk_89 (dk_at dksX0_drift_4 16 rfl rfl)
theorem dX0_drift_110 : decode cX0_drift 110 = .ok (.aload 4, 2) := dk_25 4 (dk_at dksX0_drift_4 17 rfl rfl)
theorem dX0_drift_112 : decode cX0_drift 112 = .ok (.aload 7, 2) := dk_25 7 (dk_at dksX0_drift_4 19 rfl rfl)
theorem dX0_drift_114 : decode cX0_drift 114 = .ok (.invokespecial 31, 3) := dk_183 0 31 (dk_at dksX0_drift_4 21 rfl rfl)
theorem dX0_drift_117 : decode cX0_drift 117 = .ok (.goto 14, 3) := dk_167 0 14 (dk_at dksX0_drift_5 0 rfl rfl)
theorem dX0_drift_120 : decode cX0_drift 120 = .ok (.new 29, 3) := dk_187 0 29 (dk_at dksX0_drift_5 3 rfl rfl)
theorem dX0_drift_123 : decode cX0_drift 123 = .ok (.dup, 1) := dk_89 (dk_at dksX0_drift_5 6 rfl rfl)
theorem dX0_drift_124 : decode cX0_drift 124 = .ok (.aload 7, 2) := dk_25 7 (dk_at dksX0_drift_5 7 rfl rfl)
theorem dX0_drift_126 : decode cX0_drift 126 = .ok (.aload 4, 2) := dk_25 4 (dk_at dksX0_drift_5 9 rfl rfl)
theorem dX0_drift_128 : decode cX0_drift 128 = .ok (.invokespecial 31, 3) := dk_183 0 31 (dk_at dksX0_drift_5 11 rfl rfl)
theorem dX0_drift_131 : decode cX0_drift 131 = .ok (.astore 4, 2) := dk_58 4 (dk_at dksX0_drift_5 14 rfl rfl)
theorem dX0_drift_133 : decode cX0_drift 133 = .ok (.iinc 5 1, 3) := dk_132 5 1 (dk_at dksX0_drift_5 16 rfl rfl)
theorem dX0_drift_136 : decode cX0_drift 136 = .ok (.goto (-75), 3) := dk_167 255 181 (dk_at dksX0_drift_5 19 rfl rfl)
theorem dX0_drift_139 : decode cX0_drift 139 = .ok (.aload_n 0, 1) := dk_42 (dk_at dksX0_drift_5 22 rfl rfl)
theorem dX0_drift_140 : decode cX0_drift 140 = .ok (.iload_n 1, 1) := dk_27 (dk_at dksX0_drift_5 23 rfl rfl)
theorem dX0_drift_141 : decode cX0_drift 141 = .ok (.aload 4, 2) := dk_25 4 (dk_at dksX0_drift_6 0 rfl rfl)
theorem dX0_drift_143 : decode cX0_drift 143 = .ok (.invokevirtual 94, 3) := dk_182 0 94 (dk_at dksX0_drift_6 2 rfl rfl)
theorem dX0_drift_146 : decode cX0_drift 146 = .ok (.ireturn, 1) := dk_172 (dk_at dksX0_drift_6 5 rfl rfl)
abbrev cX0_nextLot : ByteArray := prog_1_method_20_code
def yX0_nextLot : MethodName := ⟨RX0, "nextLot", "(I)I"⟩
def dkwX0_nextLot_1 : List UInt8 := [172]
abbrev dktX0_nextLot_1 : List UInt8 := dkwX0_nextLot_1 ++ []
def dkwX0_nextLot_0 : List UInt8 := [42, 42, 180, 0, 173, 20, 0, 177, 105, 20, 0, 179, 113, 181, 0, 173, 42, 180, 0, 173, 27, 133, 113, 136]
abbrev dktX0_nextLot_0 : List UInt8 := dkwX0_nextLot_0 ++ dktX0_nextLot_1
theorem dksX0_nextLot_0 : cX0_nextLot.data.toList.drop 0 = dktX0_nextLot_0 := by decide +kernel
theorem dksX0_nextLot_1 : cX0_nextLot.data.toList.drop 24 = dktX0_nextLot_1 := dk_seg dksX0_nextLot_0 24 rfl rfl
theorem dX0_nextLot_0 : decode cX0_nextLot 0 = .ok (.aload_n 0, 1) := dk_42 (dk_at dksX0_nextLot_0 0 rfl rfl)
theorem dX0_nextLot_1 : decode cX0_nextLot 1 = .ok (.aload_n 0, 1) := dk_42 (dk_at dksX0_nextLot_0 1 rfl rfl)
theorem dX0_nextLot_2 : decode cX0_nextLot 2 = .ok (.getfield 173, 3) := dk_180 0 173 (dk_at dksX0_nextLot_0 2 rfl rfl)
theorem dX0_nextLot_5 : decode cX0_nextLot 5 = .ok (.ldc2_w 177, 3) := dk_20 0 177 (dk_at dksX0_nextLot_0 5 rfl rfl)
theorem dX0_nextLot_8 : decode cX0_nextLot 8 = .ok (.lmul, 1) := dk_105 (dk_at dksX0_nextLot_0 8 rfl rfl)
theorem dX0_nextLot_9 : decode cX0_nextLot 9 = .ok (.ldc2_w 179, 3) := dk_20 0 179 (dk_at dksX0_nextLot_0 9 rfl rfl)
theorem dX0_nextLot_12 : decode cX0_nextLot 12 = .ok (.lrem, 1) := dk_113 (dk_at dksX0_nextLot_0 12 rfl rfl)
theorem dX0_nextLot_13 : decode cX0_nextLot 13 = .ok (.putfield 173, 3) := dk_181 0 173 (dk_at dksX0_nextLot_0 13 rfl rfl)
theorem dX0_nextLot_16 : decode cX0_nextLot 16 = .ok (.aload_n 0, 1) := dk_42 (dk_at dksX0_nextLot_0 16 rfl rfl)
theorem dX0_nextLot_17 : decode cX0_nextLot 17 = .ok (.getfield 173, 3) := dk_180 0 173 (dk_at dksX0_nextLot_0 17 rfl rfl)
theorem dX0_nextLot_20 : decode cX0_nextLot 20 = .ok (.iload_n 1, 1) := dk_27 (dk_at dksX0_nextLot_0 20 rfl rfl)
theorem dX0_nextLot_21 : decode cX0_nextLot 21 = .ok (.i2l, 1) := dk_133 (dk_at dksX0_nextLot_0 21 rfl rfl)
theorem dX0_nextLot_22 : decode cX0_nextLot 22 = .ok (.lrem, 1) := dk_113 (dk_at dksX0_nextLot_0 22 rfl rfl)
theorem dX0_nextLot_23 : decode cX0_nextLot 23 = .ok (.l2i, 1) := dk_136 (dk_at dksX0_nextLot_0 23 rfl rfl)
theorem dX0_nextLot_24 : decode cX0_nextLot 24 = .ok (.ireturn, 1) := dk_172 (dk_at dksX0_nextLot_1 0 rfl rfl)
abbrev cX0_undo : ByteArray := prog_1_method_22_code
def yX0_undo : MethodName := ⟨RX0, "undo", "()I"⟩
def dkwX0_undo_2 : List UInt8 := [180, 0, 61, 42, 180, 0, 77, 46, 1, 83, 42, 180, 0, 77, 172]
abbrev dktX0_undo_2 : List UInt8 := dkwX0_undo_2 ++ []
def dkwX0_undo_1 : List UInt8 := [42, 180, 0, 61, 42, 180, 0, 77, 46, 42, 180, 0, 58, 42, 180, 0, 77, 50, 83, 42, 180, 0, 54, 42]
abbrev dktX0_undo_1 : List UInt8 := dkwX0_undo_1 ++ dktX0_undo_2
def dkwX0_undo_0 : List UInt8 := [42, 180, 0, 77, 154, 0, 6, 18, 125, 172, 42, 89, 180, 0, 77, 4, 100, 181, 0, 77, 42, 180, 0, 48]
abbrev dktX0_undo_0 : List UInt8 := dkwX0_undo_0 ++ dktX0_undo_1
theorem dksX0_undo_0 : cX0_undo.data.toList.drop 0 = dktX0_undo_0 := by decide +kernel
theorem dksX0_undo_1 : cX0_undo.data.toList.drop 24 = dktX0_undo_1 := dk_seg dksX0_undo_0 24 rfl rfl
theorem dksX0_undo_2 : cX0_undo.data.toList.drop 48 = dktX0_undo_2 := dk_seg dksX0_undo_1 24 rfl rfl
theorem dX0_undo_0 : decode cX0_undo 0 = .ok (.aload_n 0, 1) := dk_42 (dk_at dksX0_undo_0 0 rfl rfl)
theorem dX0_undo_1 : decode cX0_undo 1 = .ok (.getfield 77, 3) := dk_180 0 77 (dk_at dksX0_undo_0 1 rfl rfl)
theorem dX0_undo_4 : decode cX0_undo 4 = .ok (.ifCond .ne 6, 3) := dk_154 0 6 (dk_at dksX0_undo_0 4 rfl rfl)
theorem dX0_undo_7 : decode cX0_undo 7 = .ok (.ldc 125, 2) := dk_18 125 (dk_at dksX0_undo_0 7 rfl rfl)
theorem dX0_undo_9 : decode cX0_undo 9 = .ok (.ireturn, 1) := dk_172 (dk_at dksX0_undo_0 9 rfl rfl)
theorem dX0_undo_10 : decode cX0_undo 10 = .ok (.aload_n 0, 1) := dk_42 (dk_at dksX0_undo_0 10 rfl rfl)
theorem dX0_undo_11 : decode cX0_undo 11 = .ok (.dup, 1) := dk_89 (dk_at dksX0_undo_0 11 rfl rfl)
theorem dX0_undo_12 : decode cX0_undo 12 = .ok (.getfield 77, 3) := dk_180 0 77 (dk_at dksX0_undo_0 12 rfl rfl)
theorem dX0_undo_15 : decode cX0_undo 15 = .ok (.iconst 1, 1) := dk_4 (dk_at dksX0_undo_0 15 rfl rfl)
theorem dX0_undo_16 : decode cX0_undo 16 = .ok (.isub, 1) := dk_100 (dk_at dksX0_undo_0 16 rfl rfl)
theorem dX0_undo_17 : decode cX0_undo 17 = .ok (.putfield 77, 3) := dk_181 0 77 (dk_at dksX0_undo_0 17 rfl rfl)
theorem dX0_undo_20 : decode cX0_undo 20 = .ok (.aload_n 0, 1) := dk_42 (dk_at dksX0_undo_0 20 rfl rfl)
theorem dX0_undo_21 : decode cX0_undo 21 = .ok (.getfield 48, 3) := dk_180 0 48 (dk_at dksX0_undo_0 21 rfl rfl)
theorem dX0_undo_24 : decode cX0_undo 24 = .ok (.aload_n 0, 1) := dk_42 (dk_at dksX0_undo_1 0 rfl rfl)
theorem dX0_undo_25 : decode cX0_undo 25 = .ok (.getfield 61, 3) := dk_180 0 61 (dk_at dksX0_undo_1 1 rfl rfl)
theorem dX0_undo_28 : decode cX0_undo 28 = .ok (.aload_n 0, 1) := dk_42 (dk_at dksX0_undo_1 4 rfl rfl)
theorem dX0_undo_29 : decode cX0_undo 29 = .ok (.getfield 77, 3) := dk_180 0 77 (dk_at dksX0_undo_1 5 rfl rfl)
theorem dX0_undo_32 : decode cX0_undo 32 = .ok (.iaload, 1) := dk_46 (dk_at dksX0_undo_1 8 rfl rfl)
theorem dX0_undo_33 : decode cX0_undo 33 = .ok (.aload_n 0, 1) := dk_42 (dk_at dksX0_undo_1 9 rfl rfl)
theorem dX0_undo_34 : decode cX0_undo 34 = .ok (.getfield 58, 3) := dk_180 0 58 (dk_at dksX0_undo_1 10 rfl rfl)
theorem dX0_undo_37 : decode cX0_undo 37 = .ok (.aload_n 0, 1) := dk_42 (dk_at dksX0_undo_1 13 rfl rfl)
theorem dX0_undo_38 : decode cX0_undo 38 = .ok (.getfield 77, 3) := dk_180 0 77 (dk_at dksX0_undo_1 14 rfl rfl)
theorem dX0_undo_41 : decode cX0_undo 41 = .ok (.aaload, 1) := dk_50 (dk_at dksX0_undo_1 17 rfl rfl)
theorem dX0_undo_42 : decode cX0_undo 42 = .ok (.aastore, 1) := dk_83 (dk_at dksX0_undo_1 18 rfl rfl)
theorem dX0_undo_43 : decode cX0_undo 43 = .ok (.aload_n 0, 1) := dk_42 (dk_at dksX0_undo_1 19 rfl rfl)
theorem dX0_undo_44 : decode cX0_undo 44 = .ok (.getfield 54, 3) := dk_180 0 54 (dk_at dksX0_undo_1 20 rfl rfl)
theorem dX0_undo_47 : decode cX0_undo 47 = .ok (.aload_n 0, 1) := dk_42 (dk_at dksX0_undo_1 23 rfl rfl)
theorem dX0_undo_48 : decode cX0_undo 48 = .ok (.getfield 61, 3) := dk_180 0 61 (dk_at dksX0_undo_2 0 rfl rfl)
theorem dX0_undo_51 : decode cX0_undo 51 = .ok (.aload_n 0, 1) := dk_42 (dk_at dksX0_undo_2 3 rfl rfl)
theorem dX0_undo_52 : decode cX0_undo 52 = .ok (.getfield 77, 3) := dk_180 0 77 (dk_at dksX0_undo_2 4 rfl rfl)
theorem dX0_undo_55 : decode cX0_undo 55 = .ok (.iaload, 1) := dk_46 (dk_at dksX0_undo_2 7 rfl rfl)
theorem dX0_undo_56 : decode cX0_undo 56 = .ok (.aconst_null, 1) := dk_1 (dk_at dksX0_undo_2 8 rfl rfl)
theorem dX0_undo_57 : decode cX0_undo 57 = .ok (.aastore, 1) := dk_83 (dk_at dksX0_undo_2 9 rfl rfl)
theorem dX0_undo_58 : decode cX0_undo 58 = .ok (.aload_n 0, 1) := dk_42 (dk_at dksX0_undo_2 10 rfl rfl)
theorem dX0_undo_59 : decode cX0_undo 59 = .ok (.getfield 77, 3) := dk_180 0 77 (dk_at dksX0_undo_2 11 rfl rfl)
theorem dX0_undo_62 : decode cX0_undo 62 = .ok (.ireturn, 1) := dk_172 (dk_at dksX0_undo_2 14 rfl rfl)
abbrev cX0_told : ByteArray := prog_1_method_24_code
def yX0_told : MethodName := ⟨RX0, "told", "(I)I"⟩
def dkwX0_told_2 : List UInt8 := [42, 180, 0, 100, 172, 42, 182, 0, 197, 172, 42, 180, 0, 77, 172, 18, 99, 172]
abbrev dktX0_told_2 : List UInt8 := dkwX0_told_2 ++ []
def dkwX0_told_1 : List UInt8 := [170, 0, 0, 0, 0, 0, 42, 0, 0, 0, 0, 0, 0, 0, 2, 0, 0, 0, 27, 0, 0, 0, 32, 0, 0, 0, 37]
abbrev dktX0_told_1 : List UInt8 := dkwX0_told_1 ++ dktX0_told_2
def dkwX0_told_0 : List UInt8 := [27]
abbrev dktX0_told_0 : List UInt8 := dkwX0_told_0 ++ dktX0_told_1
theorem dksX0_told_0 : cX0_told.data.toList.drop 0 = dktX0_told_0 := by decide +kernel
theorem dksX0_told_1 : cX0_told.data.toList.drop 1 = dktX0_told_1 := dk_seg dksX0_told_0 1 rfl rfl
theorem dksX0_told_2 : cX0_told.data.toList.drop 28 = dktX0_told_2 := dk_seg dksX0_told_1 27 rfl rfl
theorem dX0_told_0 : decode cX0_told 0 = .ok (.iload_n 1, 1) := dk_27 (dk_at dksX0_told_0 0 rfl rfl)
theorem dX0_told_1 : decode cX0_told 1 = .ok (.tableswitch 42 0 2 #[27, 32, 37], 27) := by decide +kernel
theorem dX0_told_28 : decode cX0_told 28 = .ok (.aload_n 0, 1) := dk_42 (dk_at dksX0_told_2 0 rfl rfl)
theorem dX0_told_29 : decode cX0_told 29 = .ok (.getfield 100, 3) := dk_180 0 100 (dk_at dksX0_told_2 1 rfl rfl)
theorem dX0_told_32 : decode cX0_told 32 = .ok (.ireturn, 1) := dk_172 (dk_at dksX0_told_2 4 rfl rfl)
theorem dX0_told_33 : decode cX0_told 33 = .ok (.aload_n 0, 1) := dk_42 (dk_at dksX0_told_2 5 rfl rfl)
theorem dX0_told_34 : decode cX0_told 34 = .ok (.invokevirtual 197, 3) := dk_182 0 197 (dk_at dksX0_told_2 6 rfl rfl)
theorem dX0_told_37 : decode cX0_told 37 = .ok (.ireturn, 1) := dk_172 (dk_at dksX0_told_2 9 rfl rfl)
theorem dX0_told_38 : decode cX0_told 38 = .ok (.aload_n 0, 1) := dk_42 (dk_at dksX0_told_2 10 rfl rfl)
theorem dX0_told_39 : decode cX0_told 39 = .ok (.getfield 77, 3) := dk_180 0 77 (dk_at dksX0_told_2 11 rfl rfl)
theorem dX0_told_42 : decode cX0_told 42 = .ok (.ireturn, 1) := dk_172 (dk_at dksX0_told_2 14 rfl rfl)
theorem dX0_told_43 : decode cX0_told 43 = .ok (.ldc 99, 2) := dk_18 99 (dk_at dksX0_told_2 15 rfl rfl)
theorem dX0_told_45 : decode cX0_told 45 = .ok (.ireturn, 1) := dk_172 (dk_at dksX0_told_2 17 rfl rfl)
abbrev cX0_filled : ByteArray := prog_1_method_23_code
def yX0_filled : MethodName := ⟨RX0, "filled", "()I"⟩
def dkwX0_filled_1 : List UInt8 := [28, 120, 128, 60, 132, 2, 1, 167, 255, 229, 27, 172]
abbrev dktX0_filled_1 : List UInt8 := dkwX0_filled_1 ++ []
def dkwX0_filled_0 : List UInt8 := [3, 60, 3, 61, 28, 7, 162, 0, 28, 27, 42, 180, 0, 48, 28, 50, 199, 0, 7, 3, 167, 0, 6, 4]
abbrev dktX0_filled_0 : List UInt8 := dkwX0_filled_0 ++ dktX0_filled_1
theorem dksX0_filled_0 : cX0_filled.data.toList.drop 0 = dktX0_filled_0 := by decide +kernel
theorem dksX0_filled_1 : cX0_filled.data.toList.drop 24 = dktX0_filled_1 := dk_seg dksX0_filled_0 24 rfl rfl
theorem dX0_filled_0 : decode cX0_filled 0 = .ok (.iconst 0, 1) := dk_3 (dk_at dksX0_filled_0 0 rfl rfl)
theorem dX0_filled_1 : decode cX0_filled 1 = .ok (.istore_n 1, 1) := dk_60 (dk_at dksX0_filled_0 1 rfl rfl)
theorem dX0_filled_2 : decode cX0_filled 2 = .ok (.iconst 0, 1) := dk_3 (dk_at dksX0_filled_0 2 rfl rfl)
theorem dX0_filled_3 : decode cX0_filled 3 = .ok (.istore_n 2, 1) := dk_61 (dk_at dksX0_filled_0 3 rfl rfl)
theorem dX0_filled_4 : decode cX0_filled 4 = .ok (.iload_n 2, 1) := dk_28 (dk_at dksX0_filled_0 4 rfl rfl)
theorem dX0_filled_5 : decode cX0_filled 5 = .ok (.iconst 4, 1) := dk_7 (dk_at dksX0_filled_0 5 rfl rfl)
theorem dX0_filled_6 : decode cX0_filled 6 = .ok (.if_icmp .ge 28, 3) := dk_162 0 28 (dk_at dksX0_filled_0 6 rfl rfl)
theorem dX0_filled_9 : decode cX0_filled 9 = .ok (.iload_n 1, 1) := dk_27 (dk_at dksX0_filled_0 9 rfl rfl)
theorem dX0_filled_10 : decode cX0_filled 10 = .ok (.aload_n 0, 1) := dk_42 (dk_at dksX0_filled_0 10 rfl rfl)
theorem dX0_filled_11 : decode cX0_filled 11 = .ok (.getfield 48, 3) := dk_180 0 48 (dk_at dksX0_filled_0 11 rfl rfl)
theorem dX0_filled_14 : decode cX0_filled 14 = .ok (.iload_n 2, 1) := dk_28 (dk_at dksX0_filled_0 14 rfl rfl)
theorem dX0_filled_15 : decode cX0_filled 15 = .ok (.aaload, 1) := dk_50 (dk_at dksX0_filled_0 15 rfl rfl)
theorem dX0_filled_16 : decode cX0_filled 16 = .ok (.ifnonnull 7, 3) := dk_199 0 7 (dk_at dksX0_filled_0 16 rfl rfl)
theorem dX0_filled_19 : decode cX0_filled 19 = .ok (.iconst 0, 1) := dk_3 (dk_at dksX0_filled_0 19 rfl rfl)
theorem dX0_filled_20 : decode cX0_filled 20 = .ok (.goto 6, 3) := dk_167 0 6 (dk_at dksX0_filled_0 20 rfl rfl)
theorem dX0_filled_23 : decode cX0_filled 23 = .ok (.iconst 1, 1) := dk_4 (dk_at dksX0_filled_0 23 rfl rfl)
theorem dX0_filled_24 : decode cX0_filled 24 = .ok (.iload_n 2, 1) := dk_28 (dk_at dksX0_filled_1 0 rfl rfl)
theorem dX0_filled_25 : decode cX0_filled 25 = .ok (.ishl, 1) := dk_120 (dk_at dksX0_filled_1 1 rfl rfl)
theorem dX0_filled_26 : decode cX0_filled 26 = .ok (.ior, 1) := dk_128 (dk_at dksX0_filled_1 2 rfl rfl)
theorem dX0_filled_27 : decode cX0_filled 27 = .ok (.istore_n 1, 1) := dk_60 (dk_at dksX0_filled_1 3 rfl rfl)
theorem dX0_filled_28 : decode cX0_filled 28 = .ok (.iinc 2 1, 3) := dk_132 2 1 (dk_at dksX0_filled_1 4 rfl rfl)
theorem dX0_filled_31 : decode cX0_filled 31 = .ok (.goto (-27), 3) := dk_167 255 229 (dk_at dksX0_filled_1 7 rfl rfl)
theorem dX0_filled_34 : decode cX0_filled 34 = .ok (.iload_n 1, 1) := dk_27 (dk_at dksX0_filled_1 10 rfl rfl)
theorem dX0_filled_35 : decode cX0_filled 35 = .ok (.ireturn, 1) := dk_172 (dk_at dksX0_filled_1 11 rfl rfl)
abbrev cX0_of : ByteArray := prog_1_method_30_code
def yX0_of : MethodName := ⟨RX0, "of", "(II)I"⟩
def dkwX0_of_3 : List UInt8 := [182, 0, 223, 182, 0, 184, 158, 0, 7, 4, 167, 0, 4, 3, 172]
abbrev dktX0_of_3 : List UInt8 := dkwX0_of_3 ++ []
def dkwX0_of_2 : List UInt8 := [184, 0, 245, 167, 0, 33, 28, 16, 11, 160, 0, 11, 42, 27, 182, 0, 249, 167, 0, 19, 42, 27]
abbrev dktX0_of_2 : List UInt8 := dkwX0_of_2 ++ dktX0_of_3
def dkwX0_of_1 : List UInt8 := [180, 0, 48, 27, 50, 199, 0, 6, 18, 125, 172, 28, 16, 10, 162, 0, 16, 42, 180, 0, 48, 27, 50, 28]
abbrev dktX0_of_1 : List UInt8 := dkwX0_of_1 ++ dktX0_of_2
def dkwX0_of_0 : List UInt8 := [27, 184, 0, 103, 154, 0, 6, 18, 107, 172, 28, 3, 16, 11, 184, 0, 3, 154, 0, 6, 18, 99, 172, 42]
abbrev dktX0_of_0 : List UInt8 := dkwX0_of_0 ++ dktX0_of_1
theorem dksX0_of_0 : cX0_of.data.toList.drop 0 = dktX0_of_0 := by decide +kernel
theorem dksX0_of_1 : cX0_of.data.toList.drop 24 = dktX0_of_1 := dk_seg dksX0_of_0 24 rfl rfl
theorem dksX0_of_2 : cX0_of.data.toList.drop 48 = dktX0_of_2 := dk_seg dksX0_of_1 24 rfl rfl
theorem dksX0_of_3 : cX0_of.data.toList.drop 70 = dktX0_of_3 := dk_seg dksX0_of_2 22 rfl rfl
theorem dX0_of_0 : decode cX0_of 0 = .ok (.iload_n 1, 1) := dk_27 (dk_at dksX0_of_0 0 rfl rfl)
theorem dX0_of_1 : decode cX0_of 1 = .ok (.invokestatic 103, 3) := dk_184 0 103 (dk_at dksX0_of_0 1 rfl rfl)
theorem dX0_of_4 : decode cX0_of 4 = .ok (.ifCond .ne 6, 3) := dk_154 0 6 (dk_at dksX0_of_0 4 rfl rfl)
theorem dX0_of_7 : decode cX0_of 7 = .ok (.ldc 107, 2) := dk_18 107 (dk_at dksX0_of_0 7 rfl rfl)
theorem dX0_of_9 : decode cX0_of 9 = .ok (.ireturn, 1) := dk_172 (dk_at dksX0_of_0 9 rfl rfl)
theorem dX0_of_10 : decode cX0_of 10 = .ok (.iload_n 2, 1) := dk_28 (dk_at dksX0_of_0 10 rfl rfl)
theorem dX0_of_11 : decode cX0_of 11 = .ok (.iconst 0, 1) := dk_3 (dk_at dksX0_of_0 11 rfl rfl)
theorem dX0_of_12 : decode cX0_of 12 = .ok (.bipush 11, 2) := dk_16 11 (dk_at dksX0_of_0 12 rfl rfl)
theorem dX0_of_14 : decode cX0_of 14 = .ok (.invokestatic 3, 3) := dk_184 0 3 (dk_at dksX0_of_0 14 rfl rfl)
theorem dX0_of_17 : decode cX0_of 17 = .ok (.ifCond .ne 6, 3) := dk_154 0 6 (dk_at dksX0_of_0 17 rfl rfl)
theorem dX0_of_20 : decode cX0_of 20 = .ok (.ldc 99, 2) := dk_18 99 (dk_at dksX0_of_0 20 rfl rfl)
theorem dX0_of_22 : decode cX0_of 22 = .ok (.ireturn, 1) := dk_172 (dk_at dksX0_of_0 22 rfl rfl)
theorem dX0_of_23 : decode cX0_of 23 = .ok (.aload_n 0, 1) := dk_42 (dk_at dksX0_of_0 23 rfl rfl)
theorem dX0_of_24 : decode cX0_of 24 = .ok (.getfield 48, 3) := dk_180 0 48 (dk_at dksX0_of_1 0 rfl rfl)
theorem dX0_of_27 : decode cX0_of 27 = .ok (.iload_n 1, 1) := dk_27 (dk_at dksX0_of_1 3 rfl rfl)
theorem dX0_of_28 : decode cX0_of 28 = .ok (.aaload, 1) := dk_50 (dk_at dksX0_of_1 4 rfl rfl)
theorem dX0_of_29 : decode cX0_of 29 = .ok (.ifnonnull 6, 3) := dk_199 0 6 (dk_at dksX0_of_1 5 rfl rfl)
theorem dX0_of_32 : decode cX0_of 32 = .ok (.ldc 125, 2) := dk_18 125 (dk_at dksX0_of_1 8 rfl rfl)
theorem dX0_of_34 : decode cX0_of 34 = .ok (.ireturn, 1) := dk_172 (dk_at dksX0_of_1 10 rfl rfl)
theorem dX0_of_35 : decode cX0_of 35 = .ok (.iload_n 2, 1) := dk_28 (dk_at dksX0_of_1 11 rfl rfl)
theorem dX0_of_36 : decode cX0_of 36 = .ok (.bipush 10, 2) := dk_16 10 (dk_at dksX0_of_1 12 rfl rfl)
theorem dX0_of_38 : decode cX0_of 38 = .ok (.if_icmp .ge 16, 3) := dk_162 0 16 (dk_at dksX0_of_1 14 rfl rfl)
theorem dX0_of_41 : decode cX0_of 41 = .ok (.aload_n 0, 1) := dk_42 (dk_at dksX0_of_1 17 rfl rfl)
theorem dX0_of_42 : decode cX0_of 42 = .ok (.getfield 48, 3) := dk_180 0 48 (dk_at dksX0_of_1 18 rfl rfl)
theorem dX0_of_45 : decode cX0_of 45 = .ok (.iload_n 1, 1) := dk_27 (dk_at dksX0_of_1 21 rfl rfl)
theorem dX0_of_46 : decode cX0_of 46 = .ok (.aaload, 1) := dk_50 (dk_at dksX0_of_1 22 rfl rfl)
theorem dX0_of_47 : decode cX0_of 47 = .ok (.iload_n 2, 1) := dk_28 (dk_at dksX0_of_1 23 rfl rfl)
theorem dX0_of_48 : decode cX0_of 48 = .ok (.invokestatic 245, 3) := dk_184 0 245 (dk_at dksX0_of_2 0 rfl rfl)
theorem dX0_of_51 : decode cX0_of 51 = .ok (.goto 33, 3) := dk_167 0 33 (dk_at dksX0_of_2 3 rfl rfl)
theorem dX0_of_54 : decode cX0_of 54 = .ok (.iload_n 2, 1) := dk_28 (dk_at dksX0_of_2 6 rfl rfl)
theorem dX0_of_55 : decode cX0_of 55 = .ok (.bipush 11, 2) := dk_16 11 (dk_at dksX0_of_2 7 rfl rfl)
theorem dX0_of_57 : decode cX0_of 57 = .ok (.if_icmp .ne 11, 3) := dk_160 0 11 (dk_at dksX0_of_2 9 rfl rfl)
theorem dX0_of_60 : decode cX0_of 60 = .ok (.aload_n 0, 1) := dk_42 (dk_at dksX0_of_2 12 rfl rfl)
theorem dX0_of_61 : decode cX0_of 61 = .ok (.iload_n 1, 1) := dk_27 (dk_at dksX0_of_2 13 rfl rfl)
theorem dX0_of_62 : decode cX0_of 62 = .ok (.invokevirtual 249, 3) := dk_182 0 249 (dk_at dksX0_of_2 14 rfl rfl)
theorem dX0_of_65 : decode cX0_of 65 = .ok (.goto 19, 3) := dk_167 0 19 (dk_at dksX0_of_2 17 rfl rfl)
theorem dX0_of_68 : decode cX0_of 68 = .ok (.aload_n 0, 1) := dk_42 (dk_at dksX0_of_2 20 rfl rfl)
theorem dX0_of_69 : decode cX0_of 69 = .ok (.iload_n 1, 1) := dk_27 (dk_at dksX0_of_2 21 rfl rfl)
theorem dX0_of_70 : decode cX0_of 70 = .ok (.invokevirtual 223, 3) := dk_182 0 223 (dk_at dksX0_of_3 0 rfl rfl)
theorem dX0_of_73 : decode cX0_of 73 = .ok (.invokevirtual 184, 3) := dk_182 0 184 (dk_at dksX0_of_3 3 rfl rfl)
theorem dX0_of_76 : decode cX0_of 76 = .ok (.ifCond .le 7, 3) := dk_158 0 7 (dk_at dksX0_of_3 6 rfl rfl)
theorem dX0_of_79 : decode cX0_of 79 = .ok (.iconst 1, 1) := dk_4 (dk_at dksX0_of_3 9 rfl rfl)
theorem dX0_of_80 : decode cX0_of 80 = .ok (.goto 4, 3) := dk_167 0 4 (dk_at dksX0_of_3 10 rfl rfl)
theorem dX0_of_83 : decode cX0_of 83 = .ok (.iconst 0, 1) := dk_3 (dk_at dksX0_of_3 13 rfl rfl)
theorem dX0_of_84 : decode cX0_of 84 = .ok (.ireturn, 1) := dk_172 (dk_at dksX0_of_3 14 rfl rfl)
abbrev cX0_toldOf : ByteArray := prog_1_method_29_code
def yX0_toldOf : MethodName := ⟨RX0, "toldOf", "(LBinderPress$Term;I)I"⟩
def dkwX0_toldOf_3 : List UInt8 := [100, 182, 0, 236, 167, 0, 17, 42, 184, 0, 239, 182, 0, 184, 167, 0, 7, 42, 182, 0, 242, 172]
abbrev dktX0_toldOf_3 : List UInt8 := dkwX0_toldOf_3 ++ []
def dkwX0_toldOf_2 : List UInt8 := [42, 182, 0, 86, 167, 0, 41, 42, 182, 0, 233, 167, 0, 34, 42, 182, 0, 139, 167, 0, 27, 42, 27, 6]
abbrev dktX0_toldOf_2 : List UInt8 := dkwX0_toldOf_2 ++ dktX0_toldOf_3
def dkwX0_toldOf_1 : List UInt8 := [170, 0, 0, 0, 0, 0, 92, 0, 0, 0, 0, 0, 0, 0, 8, 0, 0, 0, 51, 0, 0, 0, 58, 0, 0, 0, 65, 0, 0, 0, 72, 0, 0, 0, 72, 0, 0, 0, 72, 0, 0, 0, 72, 0, 0, 0, 72, 0, 0, 0, 82]
abbrev dktX0_toldOf_1 : List UInt8 := dkwX0_toldOf_1 ++ dktX0_toldOf_2
def dkwX0_toldOf_0 : List UInt8 := [27]
abbrev dktX0_toldOf_0 : List UInt8 := dkwX0_toldOf_0 ++ dktX0_toldOf_1
theorem dksX0_toldOf_0 : cX0_toldOf.data.toList.drop 0 = dktX0_toldOf_0 := by decide +kernel
theorem dksX0_toldOf_1 : cX0_toldOf.data.toList.drop 1 = dktX0_toldOf_1 := dk_seg dksX0_toldOf_0 1 rfl rfl
theorem dksX0_toldOf_2 : cX0_toldOf.data.toList.drop 52 = dktX0_toldOf_2 := dk_seg dksX0_toldOf_1 51 rfl rfl
theorem dksX0_toldOf_3 : cX0_toldOf.data.toList.drop 76 = dktX0_toldOf_3 := dk_seg dksX0_toldOf_2 24 rfl rfl
theorem dX0_toldOf_0 : decode cX0_toldOf 0 = .ok (.iload_n 1, 1) := dk_27 (dk_at dksX0_toldOf_0 0 rfl rfl)
theorem dX0_toldOf_1 : decode cX0_toldOf 1 = .ok (.tableswitch 92 0 8 #[51, 58, 65, 72, 72, 72, 72, 72, 82], 51) := by decide +kernel
theorem dX0_toldOf_52 : decode cX0_toldOf 52 = .ok (.aload_n 0, 1) := dk_42 (dk_at dksX0_toldOf_2 0 rfl rfl)
theorem dX0_toldOf_53 : decode cX0_toldOf 53 = .ok (.invokevirtual 86, 3) := dk_182 0 86 (dk_at dksX0_toldOf_2 1 rfl rfl)
theorem dX0_toldOf_56 : decode cX0_toldOf 56 = .ok (.goto 41, 3) := dk_167 0 41 (dk_at dksX0_toldOf_2 4 rfl rfl)
theorem dX0_toldOf_59 : decode cX0_toldOf 59 = .ok (.aload_n 0, 1) := dk_42 (dk_at dksX0_toldOf_2 7 rfl rfl)
theorem dX0_toldOf_60 : decode cX0_toldOf 60 = .ok (.invokevirtual 233, 3) := dk_182 0 233 (dk_at dksX0_toldOf_2 8 rfl rfl)
theorem dX0_toldOf_63 : decode cX0_toldOf 63 = .ok (.goto 34, 3) := dk_167 0 34 (dk_at dksX0_toldOf_2 11 rfl rfl)
theorem dX0_toldOf_66 : decode cX0_toldOf 66 = .ok (.aload_n 0, 1) := dk_42 (dk_at dksX0_toldOf_2 14 rfl rfl)
theorem dX0_toldOf_67 : decode cX0_toldOf 67 = .ok (.invokevirtual 139, 3) := dk_182 0 139 (dk_at dksX0_toldOf_2 15 rfl rfl)
theorem dX0_toldOf_70 : decode cX0_toldOf 70 = .ok (.goto 27, 3) := dk_167 0 27 (dk_at dksX0_toldOf_2 18 rfl rfl)
theorem dX0_toldOf_73 : decode cX0_toldOf 73 = .ok (.aload_n 0, 1) := dk_42 (dk_at dksX0_toldOf_2 21 rfl rfl)
theorem dX0_toldOf_74 : decode cX0_toldOf 74 = .ok (.iload_n 1, 1) := dk_27 (dk_at dksX0_toldOf_2 22 rfl rfl)
theorem dX0_toldOf_75 : decode cX0_toldOf 75 = .ok (.iconst 3, 1) := dk_6 (dk_at dksX0_toldOf_2 23 rfl rfl)
theorem dX0_toldOf_76 : decode cX0_toldOf 76 = .ok (.isub, 1) := dk_100 (dk_at dksX0_toldOf_3 0 rfl rfl)
theorem dX0_toldOf_77 : decode cX0_toldOf 77 = .ok (.invokevirtual 236, 3) := dk_182 0 236 (dk_at dksX0_toldOf_3 1 rfl rfl)
theorem dX0_toldOf_80 : decode cX0_toldOf 80 = .ok (.goto 17, 3) := dk_167 0 17 (dk_at dksX0_toldOf_3 4 rfl rfl)
theorem dX0_toldOf_83 : decode cX0_toldOf 83 = .ok (.aload_n 0, 1) := dk_42 (dk_at dksX0_toldOf_3 7 rfl rfl)
theorem dX0_toldOf_84 : decode cX0_toldOf 84 = .ok (.invokestatic 239, 3) := dk_184 0 239 (dk_at dksX0_toldOf_3 8 rfl rfl)
theorem dX0_toldOf_87 : decode cX0_toldOf 87 = .ok (.invokevirtual 184, 3) := dk_182 0 184 (dk_at dksX0_toldOf_3 11 rfl rfl)
theorem dX0_toldOf_90 : decode cX0_toldOf 90 = .ok (.goto 7, 3) := dk_167 0 7 (dk_at dksX0_toldOf_3 14 rfl rfl)
theorem dX0_toldOf_93 : decode cX0_toldOf 93 = .ok (.aload_n 0, 1) := dk_42 (dk_at dksX0_toldOf_3 17 rfl rfl)
theorem dX0_toldOf_94 : decode cX0_toldOf 94 = .ok (.invokevirtual 242, 3) := dk_182 0 242 (dk_at dksX0_toldOf_3 18 rfl rfl)
theorem dX0_toldOf_97 : decode cX0_toldOf 97 = .ok (.ireturn, 1) := dk_172 (dk_at dksX0_toldOf_3 21 rfl rfl)
abbrev cX0_written : ByteArray := prog_1_method_25_code
def yX0_written : MethodName := ⟨RX0, "written", "(LBinderPress$Term;)Ljava/lang/String;"⟩
def dkwX0_written_0 : List UInt8 := [187, 0, 200, 89, 183, 0, 202, 76, 42, 43, 182, 0, 203, 43, 182, 0, 207, 176]
abbrev dktX0_written_0 : List UInt8 := dkwX0_written_0 ++ []
theorem dksX0_written_0 : cX0_written.data.toList.drop 0 = dktX0_written_0 := by decide +kernel
theorem dX0_written_0 : decode cX0_written 0 = .ok (.new 200, 3) := dk_187 0 200 (dk_at dksX0_written_0 0 rfl rfl)
theorem dX0_written_3 : decode cX0_written 3 = .ok (.dup, 1) := dk_89 (dk_at dksX0_written_0 3 rfl rfl)
theorem dX0_written_4 : decode cX0_written 4 = .ok (.invokespecial 202, 3) := dk_183 0 202 (dk_at dksX0_written_0 4 rfl rfl)
theorem dX0_written_7 : decode cX0_written 7 = .ok (.astore_n 1, 1) := dk_76 (dk_at dksX0_written_0 7 rfl rfl)
theorem dX0_written_8 : decode cX0_written 8 = .ok (.aload_n 0, 1) := dk_42 (dk_at dksX0_written_0 8 rfl rfl)
theorem dX0_written_9 : decode cX0_written 9 = .ok (.aload_n 1, 1) := dk_43 (dk_at dksX0_written_0 9 rfl rfl)
theorem dX0_written_10 : decode cX0_written 10 = .ok (.invokevirtual 203, 3) := dk_182 0 203 (dk_at dksX0_written_0 10 rfl rfl)
theorem dX0_written_13 : decode cX0_written 13 = .ok (.aload_n 1, 1) := dk_43 (dk_at dksX0_written_0 13 rfl rfl)
theorem dX0_written_14 : decode cX0_written 14 = .ok (.invokevirtual 207, 3) := dk_182 0 207 (dk_at dksX0_written_0 14 rfl rfl)
theorem dX0_written_17 : decode cX0_written 17 = .ok (.areturn, 1) := dk_176 (dk_at dksX0_written_0 17 rfl rfl)
abbrev cX0_kindLength : ByteArray := prog_1_method_28_code
def yX0_kindLength : MethodName := ⟨RX0, "kindLength", "(I)I"⟩
def dkwX0_kindLength_1 : List UInt8 := [2, 167, 0, 11, 42, 27, 182, 0, 223, 182, 0, 184, 172]
abbrev dktX0_kindLength_1 : List UInt8 := dkwX0_kindLength_1 ++ []
def dkwX0_kindLength_0 : List UInt8 := [42, 27, 182, 0, 230, 153, 0, 8, 18, 98, 167, 0, 26, 42, 27, 182, 0, 223, 182, 0, 184, 154, 0, 7]
abbrev dktX0_kindLength_0 : List UInt8 := dkwX0_kindLength_0 ++ dktX0_kindLength_1
theorem dksX0_kindLength_0 : cX0_kindLength.data.toList.drop 0 = dktX0_kindLength_0 := by decide +kernel
theorem dksX0_kindLength_1 : cX0_kindLength.data.toList.drop 24 = dktX0_kindLength_1 := dk_seg dksX0_kindLength_0 24 rfl rfl
theorem dX0_kindLength_0 : decode cX0_kindLength 0 = .ok (.aload_n 0, 1) := dk_42 (dk_at dksX0_kindLength_0 0 rfl rfl)
theorem dX0_kindLength_1 : decode cX0_kindLength 1 = .ok (.iload_n 1, 1) := dk_27 (dk_at dksX0_kindLength_0 1 rfl rfl)
theorem dX0_kindLength_2 : decode cX0_kindLength 2 = .ok (.invokevirtual 230, 3) := dk_182 0 230 (dk_at dksX0_kindLength_0 2 rfl rfl)
theorem dX0_kindLength_5 : decode cX0_kindLength 5 = .ok (.ifCond .eq 8, 3) := dk_153 0 8 (dk_at dksX0_kindLength_0 5 rfl rfl)
theorem dX0_kindLength_8 : decode cX0_kindLength 8 = .ok (.ldc 98, 2) := dk_18 98 (dk_at dksX0_kindLength_0 8 rfl rfl)
theorem dX0_kindLength_10 : decode cX0_kindLength 10 = .ok (.goto 26, 3) := dk_167 0 26 (dk_at dksX0_kindLength_0 10 rfl rfl)
theorem dX0_kindLength_13 : decode cX0_kindLength 13 = .ok (.aload_n 0, 1) := dk_42 (dk_at dksX0_kindLength_0 13 rfl rfl)
theorem dX0_kindLength_14 : decode cX0_kindLength 14 = .ok (.iload_n 1, 1) := dk_27 (dk_at dksX0_kindLength_0 14 rfl rfl)
theorem dX0_kindLength_15 : decode cX0_kindLength 15 = .ok (.invokevirtual 223, 3) := dk_182 0 223 (dk_at dksX0_kindLength_0 15 rfl rfl)
theorem dX0_kindLength_18 : decode cX0_kindLength 18 = .ok (.invokevirtual 184, 3) := dk_182 0 184 (dk_at dksX0_kindLength_0 18 rfl rfl)
theorem dX0_kindLength_21 : decode cX0_kindLength 21 = .ok (.ifCond .ne 7, 3) := dk_154 0 7 (dk_at dksX0_kindLength_0 21 rfl rfl)
theorem dX0_kindLength_24 : decode cX0_kindLength 24 = .ok (.iconst (-1), 1) := dk_2 (dk_at dksX0_kindLength_1 0 rfl rfl)
theorem dX0_kindLength_25 : decode cX0_kindLength 25 = .ok (.goto 11, 3) := dk_167 0 11 (dk_at dksX0_kindLength_1 1 rfl rfl)
theorem dX0_kindLength_28 : decode cX0_kindLength 28 = .ok (.aload_n 0, 1) := dk_42 (dk_at dksX0_kindLength_1 4 rfl rfl)
theorem dX0_kindLength_29 : decode cX0_kindLength 29 = .ok (.iload_n 1, 1) := dk_27 (dk_at dksX0_kindLength_1 5 rfl rfl)
theorem dX0_kindLength_30 : decode cX0_kindLength 30 = .ok (.invokevirtual 223, 3) := dk_182 0 223 (dk_at dksX0_kindLength_1 6 rfl rfl)
theorem dX0_kindLength_33 : decode cX0_kindLength 33 = .ok (.invokevirtual 184, 3) := dk_182 0 184 (dk_at dksX0_kindLength_1 9 rfl rfl)
theorem dX0_kindLength_36 : decode cX0_kindLength 36 = .ok (.ireturn, 1) := dk_172 (dk_at dksX0_kindLength_1 12 rfl rfl)
abbrev cX0_isTooLong : ByteArray := prog_1_method_27_code
def yX0_isTooLong : MethodName := ⟨RX0, "isTooLong", "(I)Z"⟩
def dkwX0_isTooLong_0 : List UInt8 := [42, 27, 182, 0, 223, 18, 221, 182, 0, 226, 172]
abbrev dktX0_isTooLong_0 : List UInt8 := dkwX0_isTooLong_0 ++ []
theorem dksX0_isTooLong_0 : cX0_isTooLong.data.toList.drop 0 = dktX0_isTooLong_0 := by decide +kernel
theorem dX0_isTooLong_0 : decode cX0_isTooLong 0 = .ok (.aload_n 0, 1) := dk_42 (dk_at dksX0_isTooLong_0 0 rfl rfl)
theorem dX0_isTooLong_1 : decode cX0_isTooLong 1 = .ok (.iload_n 1, 1) := dk_27 (dk_at dksX0_isTooLong_0 1 rfl rfl)
theorem dX0_isTooLong_2 : decode cX0_isTooLong 2 = .ok (.invokevirtual 223, 3) := dk_182 0 223 (dk_at dksX0_isTooLong_0 2 rfl rfl)
theorem dX0_isTooLong_5 : decode cX0_isTooLong 5 = .ok (.ldc 221, 2) := dk_18 221 (dk_at dksX0_isTooLong_0 5 rfl rfl)
theorem dX0_isTooLong_7 : decode cX0_isTooLong 7 = .ok (.invokevirtual 226, 3) := dk_182 0 226 (dk_at dksX0_isTooLong_0 7 rfl rfl)
theorem dX0_isTooLong_10 : decode cX0_isTooLong 10 = .ok (.ireturn, 1) := dk_172 (dk_at dksX0_isTooLong_0 10 rfl rfl)
abbrev cX0_kindAt : ByteArray := prog_1_method_26_code
def yX0_kindAt : MethodName := ⟨RX0, "kindAt", "(I)Ljava/lang/String;"⟩
def dkwX0_kindAt_2 : List UInt8 := [50, 176]
abbrev dktX0_kindAt_2 : List UInt8 := dkwX0_kindAt_2 ++ []
def dkwX0_kindAt_1 : List UInt8 := [183, 0, 213, 182, 0, 216, 83, 167, 0, 12, 77, 42, 180, 0, 54, 27, 18, 221, 83, 42, 180, 0, 54, 27]
abbrev dktX0_kindAt_1 : List UInt8 := dkwX0_kindAt_1 ++ dktX0_kindAt_2
def dkwX0_kindAt_0 : List UInt8 := [42, 180, 0, 54, 27, 50, 199, 0, 37, 42, 180, 0, 54, 27, 187, 0, 211, 89, 42, 180, 0, 48, 27, 50]
abbrev dktX0_kindAt_0 : List UInt8 := dkwX0_kindAt_0 ++ dktX0_kindAt_1
theorem dksX0_kindAt_0 : cX0_kindAt.data.toList.drop 0 = dktX0_kindAt_0 := by decide +kernel
theorem dksX0_kindAt_1 : cX0_kindAt.data.toList.drop 24 = dktX0_kindAt_1 := dk_seg dksX0_kindAt_0 24 rfl rfl
theorem dksX0_kindAt_2 : cX0_kindAt.data.toList.drop 48 = dktX0_kindAt_2 := dk_seg dksX0_kindAt_1 24 rfl rfl
theorem dX0_kindAt_0 : decode cX0_kindAt 0 = .ok (.aload_n 0, 1) := dk_42 (dk_at dksX0_kindAt_0 0 rfl rfl)
theorem dX0_kindAt_1 : decode cX0_kindAt 1 = .ok (.getfield 54, 3) := dk_180 0 54 (dk_at dksX0_kindAt_0 1 rfl rfl)
theorem dX0_kindAt_4 : decode cX0_kindAt 4 = .ok (.iload_n 1, 1) := dk_27 (dk_at dksX0_kindAt_0 4 rfl rfl)
theorem dX0_kindAt_5 : decode cX0_kindAt 5 = .ok (.aaload, 1) := dk_50 (dk_at dksX0_kindAt_0 5 rfl rfl)
theorem dX0_kindAt_6 : decode cX0_kindAt 6 = .ok (.ifnonnull 37, 3) := dk_199 0 37 (dk_at dksX0_kindAt_0 6 rfl rfl)
theorem dX0_kindAt_9 : decode cX0_kindAt 9 = .ok (.aload_n 0, 1) := dk_42 (dk_at dksX0_kindAt_0 9 rfl rfl)
theorem dX0_kindAt_10 : decode cX0_kindAt 10 = .ok (.getfield 54, 3) := dk_180 0 54 (dk_at dksX0_kindAt_0 10 rfl rfl)
theorem dX0_kindAt_13 : decode cX0_kindAt 13 = .ok (.iload_n 1, 1) := dk_27 (dk_at dksX0_kindAt_0 13 rfl rfl)
theorem dX0_kindAt_14 : decode cX0_kindAt 14 = .ok (.new 211, 3) := dk_187 0 211 (dk_at dksX0_kindAt_0 14 rfl rfl)
theorem dX0_kindAt_17 : decode cX0_kindAt 17 = .ok (.dup, 1) := dk_89 (dk_at dksX0_kindAt_0 17 rfl rfl)
theorem dX0_kindAt_18 : decode cX0_kindAt 18 = .ok (.aload_n 0, 1) := dk_42 (dk_at dksX0_kindAt_0 18 rfl rfl)
theorem dX0_kindAt_19 : decode cX0_kindAt 19 = .ok (.getfield 48, 3) := dk_180 0 48 (dk_at dksX0_kindAt_0 19 rfl rfl)
theorem dX0_kindAt_22 : decode cX0_kindAt 22 = .ok (.iload_n 1, 1) := dk_27 (dk_at dksX0_kindAt_0 22 rfl rfl)
theorem dX0_kindAt_23 : decode cX0_kindAt 23 = .ok (.aaload, 1) := dk_50 (dk_at dksX0_kindAt_0 23 rfl rfl)
theorem dX0_kindAt_24 : decode cX0_kindAt 24 = .ok (.invokespecial 213, 3) := dk_183 0 213 (dk_at dksX0_kindAt_1 0 rfl rfl)
theorem dX0_kindAt_27 : decode cX0_kindAt 27 = .ok (.invokevirtual 216, 3) := dk_182 0 216 (dk_at dksX0_kindAt_1 3 rfl rfl)
theorem dX0_kindAt_30 : decode cX0_kindAt 30 = .ok (.aastore, 1) := dk_83 (dk_at dksX0_kindAt_1 6 rfl rfl)
theorem dX0_kindAt_31 : decode cX0_kindAt 31 = .ok (.goto 12, 3) := dk_167 0 12 (dk_at dksX0_kindAt_1 7 rfl rfl)
theorem dX0_kindAt_34 : decode cX0_kindAt 34 = .ok (.astore_n 2, 1) := dk_77 (dk_at dksX0_kindAt_1 10 rfl rfl)
theorem dX0_kindAt_35 : decode cX0_kindAt 35 = .ok (.aload_n 0, 1) := dk_42 (dk_at dksX0_kindAt_1 11 rfl rfl)
theorem dX0_kindAt_36 : decode cX0_kindAt 36 = .ok (.getfield 54, 3) := dk_180 0 54 (dk_at dksX0_kindAt_1 12 rfl rfl)
theorem dX0_kindAt_39 : decode cX0_kindAt 39 = .ok (.iload_n 1, 1) := dk_27 (dk_at dksX0_kindAt_1 15 rfl rfl)
theorem dX0_kindAt_40 : decode cX0_kindAt 40 = .ok (.ldc 221, 2) := dk_18 221 (dk_at dksX0_kindAt_1 16 rfl rfl)
theorem dX0_kindAt_42 : decode cX0_kindAt 42 = .ok (.aastore, 1) := dk_83 (dk_at dksX0_kindAt_1 18 rfl rfl)
theorem dX0_kindAt_43 : decode cX0_kindAt 43 = .ok (.aload_n 0, 1) := dk_42 (dk_at dksX0_kindAt_1 19 rfl rfl)
theorem dX0_kindAt_44 : decode cX0_kindAt 44 = .ok (.getfield 54, 3) := dk_180 0 54 (dk_at dksX0_kindAt_1 20 rfl rfl)
theorem dX0_kindAt_47 : decode cX0_kindAt 47 = .ok (.iload_n 1, 1) := dk_27 (dk_at dksX0_kindAt_1 23 rfl rfl)
theorem dX0_kindAt_48 : decode cX0_kindAt 48 = .ok (.aaload, 1) := dk_50 (dk_at dksX0_kindAt_2 0 rfl rfl)
theorem dX0_kindAt_49 : decode cX0_kindAt 49 = .ok (.areturn, 1) := dk_176 (dk_at dksX0_kindAt_2 1 rfl rfl)
abbrev cX0_sign : ByteArray := prog_1_method_32_code
def yX0_sign : MethodName := ⟨RX0, "sign", "(II)I"⟩
def dkwX0_sign_1 : List UInt8 := [199, 0, 8, 18, 125, 167, 0, 16, 42, 180, 0, 48, 27, 50, 184, 0, 239, 28, 184, 1, 0, 172]
abbrev dktX0_sign_1 : List UInt8 := dkwX0_sign_1 ++ []
def dkwX0_sign_0 : List UInt8 := [27, 184, 0, 103, 154, 0, 6, 18, 107, 172, 28, 156, 0, 6, 18, 99, 172, 42, 180, 0, 48, 27, 50]
abbrev dktX0_sign_0 : List UInt8 := dkwX0_sign_0 ++ dktX0_sign_1
theorem dksX0_sign_0 : cX0_sign.data.toList.drop 0 = dktX0_sign_0 := by decide +kernel
theorem dksX0_sign_1 : cX0_sign.data.toList.drop 23 = dktX0_sign_1 := dk_seg dksX0_sign_0 23 rfl rfl
theorem dX0_sign_0 : decode cX0_sign 0 = .ok (.iload_n 1, 1) := dk_27 (dk_at dksX0_sign_0 0 rfl rfl)
theorem dX0_sign_1 : decode cX0_sign 1 = .ok (.invokestatic 103, 3) := dk_184 0 103 (dk_at dksX0_sign_0 1 rfl rfl)
theorem dX0_sign_4 : decode cX0_sign 4 = .ok (.ifCond .ne 6, 3) := dk_154 0 6 (dk_at dksX0_sign_0 4 rfl rfl)
theorem dX0_sign_7 : decode cX0_sign 7 = .ok (.ldc 107, 2) := dk_18 107 (dk_at dksX0_sign_0 7 rfl rfl)
theorem dX0_sign_9 : decode cX0_sign 9 = .ok (.ireturn, 1) := dk_172 (dk_at dksX0_sign_0 9 rfl rfl)
theorem dX0_sign_10 : decode cX0_sign 10 = .ok (.iload_n 2, 1) := dk_28 (dk_at dksX0_sign_0 10 rfl rfl)
theorem dX0_sign_11 : decode cX0_sign 11 = .ok (.ifCond .ge 6, 3) := dk_156 0 6 (dk_at dksX0_sign_0 11 rfl rfl)
theorem dX0_sign_14 : decode cX0_sign 14 = .ok (.ldc 99, 2) := dk_18 99 (dk_at dksX0_sign_0 14 rfl rfl)
theorem dX0_sign_16 : decode cX0_sign 16 = .ok (.ireturn, 1) := dk_172 (dk_at dksX0_sign_0 16 rfl rfl)
theorem dX0_sign_17 : decode cX0_sign 17 = .ok (.aload_n 0, 1) := dk_42 (dk_at dksX0_sign_0 17 rfl rfl)
theorem dX0_sign_18 : decode cX0_sign 18 = .ok (.getfield 48, 3) := dk_180 0 48 (dk_at dksX0_sign_0 18 rfl rfl)
theorem dX0_sign_21 : decode cX0_sign 21 = .ok (.iload_n 1, 1) := dk_27 (dk_at dksX0_sign_0 21 rfl rfl)
theorem dX0_sign_22 : decode cX0_sign 22 = .ok (.aaload, 1) := dk_50 (dk_at dksX0_sign_0 22 rfl rfl)
theorem dX0_sign_23 : decode cX0_sign 23 = .ok (.ifnonnull 8, 3) := dk_199 0 8 (dk_at dksX0_sign_1 0 rfl rfl)
theorem dX0_sign_26 : decode cX0_sign 26 = .ok (.ldc 125, 2) := dk_18 125 (dk_at dksX0_sign_1 3 rfl rfl)
theorem dX0_sign_28 : decode cX0_sign 28 = .ok (.goto 16, 3) := dk_167 0 16 (dk_at dksX0_sign_1 5 rfl rfl)
theorem dX0_sign_31 : decode cX0_sign 31 = .ok (.aload_n 0, 1) := dk_42 (dk_at dksX0_sign_1 8 rfl rfl)
theorem dX0_sign_32 : decode cX0_sign 32 = .ok (.getfield 48, 3) := dk_180 0 48 (dk_at dksX0_sign_1 9 rfl rfl)
theorem dX0_sign_35 : decode cX0_sign 35 = .ok (.iload_n 1, 1) := dk_27 (dk_at dksX0_sign_1 12 rfl rfl)
theorem dX0_sign_36 : decode cX0_sign 36 = .ok (.aaload, 1) := dk_50 (dk_at dksX0_sign_1 13 rfl rfl)
theorem dX0_sign_37 : decode cX0_sign 37 = .ok (.invokestatic 239, 3) := dk_184 0 239 (dk_at dksX0_sign_1 14 rfl rfl)
theorem dX0_sign_40 : decode cX0_sign 40 = .ok (.iload_n 2, 1) := dk_28 (dk_at dksX0_sign_1 17 rfl rfl)
theorem dX0_sign_41 : decode cX0_sign 41 = .ok (.invokestatic 256, 3) := dk_184 1 0 (dk_at dksX0_sign_1 18 rfl rfl)
theorem dX0_sign_44 : decode cX0_sign 44 = .ok (.ireturn, 1) := dk_172 (dk_at dksX0_sign_1 21 rfl rfl)
abbrev cX0_at : ByteArray := prog_1_method_31_code
def yX0_at : MethodName := ⟨RX0, "at", "(Ljava/lang/CharSequence;I)I"⟩
def dkwX0_at_0 : List UInt8 := [27, 42, 185, 0, 252, 1, 0, 162, 0, 13, 42, 27, 185, 0, 255, 2, 0, 167, 0, 4, 2, 172]
abbrev dktX0_at_0 : List UInt8 := dkwX0_at_0 ++ []
theorem dksX0_at_0 : cX0_at.data.toList.drop 0 = dktX0_at_0 := by decide +kernel
theorem dX0_at_0 : decode cX0_at 0 = .ok (.iload_n 1, 1) := dk_27 (dk_at dksX0_at_0 0 rfl rfl)
theorem dX0_at_1 : decode cX0_at 1 = .ok (.aload_n 0, 1) := dk_42 (dk_at dksX0_at_0 1 rfl rfl)
theorem dX0_at_2 : decode cX0_at 2 = .ok (.invokeinterface 252 1, 5) := by decide +kernel
theorem dX0_at_7 : decode cX0_at 7 = .ok (.if_icmp .ge 13, 3) := dk_162 0 13 (dk_at dksX0_at_0 7 rfl rfl)
theorem dX0_at_10 : decode cX0_at 10 = .ok (.aload_n 0, 1) := dk_42 (dk_at dksX0_at_0 10 rfl rfl)
theorem dX0_at_11 : decode cX0_at 11 = .ok (.iload_n 1, 1) := dk_27 (dk_at dksX0_at_0 11 rfl rfl)
theorem dX0_at_12 : decode cX0_at 12 = .ok (.invokeinterface 255 2, 5) := by decide +kernel
theorem dX0_at_17 : decode cX0_at 17 = .ok (.goto 4, 3) := dk_167 0 4 (dk_at dksX0_at_0 17 rfl rfl)
theorem dX0_at_20 : decode cX0_at 20 = .ok (.iconst (-1), 1) := dk_2 (dk_at dksX0_at_0 20 rfl rfl)
theorem dX0_at_21 : decode cX0_at 21 = .ok (.ireturn, 1) := dk_172 (dk_at dksX0_at_0 21 rfl rfl)
abbrev cX0_kind : ByteArray := prog_1_method_33_code
def yX0_kind : MethodName := ⟨RX0, "kind", "(II)I"⟩
def dkwX0_kind_2 : List UInt8 := [28, 184, 1, 0, 172]
abbrev dktX0_kind_2 : List UInt8 := dkwX0_kind_2 ++ []
def dkwX0_kind_1 : List UInt8 := [199, 0, 6, 18, 125, 172, 42, 27, 182, 0, 230, 153, 0, 8, 18, 98, 167, 0, 12, 42, 27, 182, 0, 223]
abbrev dktX0_kind_1 : List UInt8 := dkwX0_kind_1 ++ dktX0_kind_2
def dkwX0_kind_0 : List UInt8 := [27, 184, 0, 103, 154, 0, 6, 18, 107, 172, 28, 156, 0, 6, 18, 99, 172, 42, 180, 0, 48, 27, 50]
abbrev dktX0_kind_0 : List UInt8 := dkwX0_kind_0 ++ dktX0_kind_1
theorem dksX0_kind_0 : cX0_kind.data.toList.drop 0 = dktX0_kind_0 := by decide +kernel
theorem dksX0_kind_1 : cX0_kind.data.toList.drop 23 = dktX0_kind_1 := dk_seg dksX0_kind_0 23 rfl rfl
theorem dksX0_kind_2 : cX0_kind.data.toList.drop 47 = dktX0_kind_2 := dk_seg dksX0_kind_1 24 rfl rfl
theorem dX0_kind_0 : decode cX0_kind 0 = .ok (.iload_n 1, 1) := dk_27 (dk_at dksX0_kind_0 0 rfl rfl)
theorem dX0_kind_1 : decode cX0_kind 1 = .ok (.invokestatic 103, 3) := dk_184 0 103 (dk_at dksX0_kind_0 1 rfl rfl)
theorem dX0_kind_4 : decode cX0_kind 4 = .ok (.ifCond .ne 6, 3) := dk_154 0 6 (dk_at dksX0_kind_0 4 rfl rfl)
theorem dX0_kind_7 : decode cX0_kind 7 = .ok (.ldc 107, 2) := dk_18 107 (dk_at dksX0_kind_0 7 rfl rfl)
theorem dX0_kind_9 : decode cX0_kind 9 = .ok (.ireturn, 1) := dk_172 (dk_at dksX0_kind_0 9 rfl rfl)
theorem dX0_kind_10 : decode cX0_kind 10 = .ok (.iload_n 2, 1) := dk_28 (dk_at dksX0_kind_0 10 rfl rfl)
theorem dX0_kind_11 : decode cX0_kind 11 = .ok (.ifCond .ge 6, 3) := dk_156 0 6 (dk_at dksX0_kind_0 11 rfl rfl)
theorem dX0_kind_14 : decode cX0_kind 14 = .ok (.ldc 99, 2) := dk_18 99 (dk_at dksX0_kind_0 14 rfl rfl)
theorem dX0_kind_16 : decode cX0_kind 16 = .ok (.ireturn, 1) := dk_172 (dk_at dksX0_kind_0 16 rfl rfl)
theorem dX0_kind_17 : decode cX0_kind 17 = .ok (.aload_n 0, 1) := dk_42 (dk_at dksX0_kind_0 17 rfl rfl)
theorem dX0_kind_18 : decode cX0_kind 18 = .ok (.getfield 48, 3) := dk_180 0 48 (dk_at dksX0_kind_0 18 rfl rfl)
theorem dX0_kind_21 : decode cX0_kind 21 = .ok (.iload_n 1, 1) := dk_27 (dk_at dksX0_kind_0 21 rfl rfl)
theorem dX0_kind_22 : decode cX0_kind 22 = .ok (.aaload, 1) := dk_50 (dk_at dksX0_kind_0 22 rfl rfl)
theorem dX0_kind_23 : decode cX0_kind 23 = .ok (.ifnonnull 6, 3) := dk_199 0 6 (dk_at dksX0_kind_1 0 rfl rfl)
theorem dX0_kind_26 : decode cX0_kind 26 = .ok (.ldc 125, 2) := dk_18 125 (dk_at dksX0_kind_1 3 rfl rfl)
theorem dX0_kind_28 : decode cX0_kind 28 = .ok (.ireturn, 1) := dk_172 (dk_at dksX0_kind_1 5 rfl rfl)
theorem dX0_kind_29 : decode cX0_kind 29 = .ok (.aload_n 0, 1) := dk_42 (dk_at dksX0_kind_1 6 rfl rfl)
theorem dX0_kind_30 : decode cX0_kind 30 = .ok (.iload_n 1, 1) := dk_27 (dk_at dksX0_kind_1 7 rfl rfl)
theorem dX0_kind_31 : decode cX0_kind 31 = .ok (.invokevirtual 230, 3) := dk_182 0 230 (dk_at dksX0_kind_1 8 rfl rfl)
theorem dX0_kind_34 : decode cX0_kind 34 = .ok (.ifCond .eq 8, 3) := dk_153 0 8 (dk_at dksX0_kind_1 11 rfl rfl)
theorem dX0_kind_37 : decode cX0_kind 37 = .ok (.ldc 98, 2) := dk_18 98 (dk_at dksX0_kind_1 14 rfl rfl)
theorem dX0_kind_39 : decode cX0_kind 39 = .ok (.goto 12, 3) := dk_167 0 12 (dk_at dksX0_kind_1 16 rfl rfl)
theorem dX0_kind_42 : decode cX0_kind 42 = .ok (.aload_n 0, 1) := dk_42 (dk_at dksX0_kind_1 19 rfl rfl)
theorem dX0_kind_43 : decode cX0_kind 43 = .ok (.iload_n 1, 1) := dk_27 (dk_at dksX0_kind_1 20 rfl rfl)
theorem dX0_kind_44 : decode cX0_kind 44 = .ok (.invokevirtual 223, 3) := dk_182 0 223 (dk_at dksX0_kind_1 21 rfl rfl)
theorem dX0_kind_47 : decode cX0_kind 47 = .ok (.iload_n 2, 1) := dk_28 (dk_at dksX0_kind_2 0 rfl rfl)
theorem dX0_kind_48 : decode cX0_kind 48 = .ok (.invokestatic 256, 3) := dk_184 1 0 (dk_at dksX0_kind_2 1 rfl rfl)
theorem dX0_kind_51 : decode cX0_kind 51 = .ok (.ireturn, 1) := dk_172 (dk_at dksX0_kind_2 4 rfl rfl)
abbrev cX0_steps : ByteArray := prog_1_method_34_code
def yX0_steps : MethodName := ⟨RX0, "steps", "(II)I"⟩
def dkwX0_steps_4 : List UInt8 := [180, 0, 42, 180, 0, 170, 167, 0, 5, 16, 254, 172]
abbrev dktX0_steps_4 : List UInt8 := dkwX0_steps_4 ++ []
def dkwX0_steps_3 : List UInt8 := [180, 0, 157, 153, 0, 8, 16, 253, 167, 0, 25, 42, 180, 0, 42, 180, 1, 4, 153, 0, 13, 42]
abbrev dktX0_steps_3 : List UInt8 := dkwX0_steps_3 ++ dktX0_steps_4
def dkwX0_steps_2 : List UInt8 := [4, 167, 0, 4, 3, 182, 0, 149, 42, 180, 0, 42, 17, 0, 200, 182, 0, 153, 42, 180, 0, 42]
abbrev dktX0_steps_2 : List UInt8 := dkwX0_steps_2 ++ dktX0_steps_3
def dkwX0_steps_1 : List UInt8 := [182, 0, 142, 154, 0, 6, 18, 125, 172, 42, 180, 0, 42, 42, 180, 0, 48, 27, 50, 28, 4, 160, 0, 7]
abbrev dktX0_steps_1 : List UInt8 := dkwX0_steps_1 ++ dktX0_steps_2
def dkwX0_steps_0 : List UInt8 := [27, 184, 0, 103, 154, 0, 6, 18, 107, 172, 28, 3, 4, 184, 0, 3, 154, 0, 6, 18, 99, 172, 42, 27]
abbrev dktX0_steps_0 : List UInt8 := dkwX0_steps_0 ++ dktX0_steps_1
theorem dksX0_steps_0 : cX0_steps.data.toList.drop 0 = dktX0_steps_0 := by decide +kernel
theorem dksX0_steps_1 : cX0_steps.data.toList.drop 24 = dktX0_steps_1 := dk_seg dksX0_steps_0 24 rfl rfl
theorem dksX0_steps_2 : cX0_steps.data.toList.drop 48 = dktX0_steps_2 := dk_seg dksX0_steps_1 24 rfl rfl
theorem dksX0_steps_3 : cX0_steps.data.toList.drop 70 = dktX0_steps_3 := dk_seg dksX0_steps_2 22 rfl rfl
theorem dksX0_steps_4 : cX0_steps.data.toList.drop 92 = dktX0_steps_4 := dk_seg dksX0_steps_3 22 rfl rfl
theorem dX0_steps_0 : decode cX0_steps 0 = .ok (.iload_n 1, 1) := dk_27 (dk_at dksX0_steps_0 0 rfl rfl)
theorem dX0_steps_1 : decode cX0_steps 1 = .ok (.invokestatic 103, 3) := dk_184 0 103 (dk_at dksX0_steps_0 1 rfl rfl)
theorem dX0_steps_4 : decode cX0_steps 4 = .ok (.ifCond .ne 6, 3) := dk_154 0 6 (dk_at dksX0_steps_0 4 rfl rfl)
theorem dX0_steps_7 : decode cX0_steps 7 = .ok (.ldc 107, 2) := dk_18 107 (dk_at dksX0_steps_0 7 rfl rfl)
theorem dX0_steps_9 : decode cX0_steps 9 = .ok (.ireturn, 1) := dk_172 (dk_at dksX0_steps_0 9 rfl rfl)
theorem dX0_steps_10 : decode cX0_steps 10 = .ok (.iload_n 2, 1) := dk_28 (dk_at dksX0_steps_0 10 rfl rfl)
theorem dX0_steps_11 : decode cX0_steps 11 = .ok (.iconst 0, 1) := dk_3 (dk_at dksX0_steps_0 11 rfl rfl)
theorem dX0_steps_12 : decode cX0_steps 12 = .ok (.iconst 1, 1) := dk_4 (dk_at dksX0_steps_0 12 rfl rfl)
theorem dX0_steps_13 : decode cX0_steps 13 = .ok (.invokestatic 3, 3) := dk_184 0 3 (dk_at dksX0_steps_0 13 rfl rfl)
theorem dX0_steps_16 : decode cX0_steps 16 = .ok (.ifCond .ne 6, 3) := dk_154 0 6 (dk_at dksX0_steps_0 16 rfl rfl)
theorem dX0_steps_19 : decode cX0_steps 19 = .ok (.ldc 99, 2) := dk_18 99 (dk_at dksX0_steps_0 19 rfl rfl)
theorem dX0_steps_21 : decode cX0_steps 21 = .ok (.ireturn, 1) := dk_172 (dk_at dksX0_steps_0 21 rfl rfl)
theorem dX0_steps_22 : decode cX0_steps 22 = .ok (.aload_n 0, 1) := dk_42 (dk_at dksX0_steps_0 22 rfl rfl)
theorem dX0_steps_23 : decode cX0_steps 23 = .ok (.iload_n 1, 1) := dk_27 (dk_at dksX0_steps_0 23 rfl rfl)
theorem dX0_steps_24 : decode cX0_steps 24 = .ok (.invokevirtual 142, 3) := dk_182 0 142 (dk_at dksX0_steps_1 0 rfl rfl)
theorem dX0_steps_27 : decode cX0_steps 27 = .ok (.ifCond .ne 6, 3) := dk_154 0 6 (dk_at dksX0_steps_1 3 rfl rfl)
theorem dX0_steps_30 : decode cX0_steps 30 = .ok (.ldc 125, 2) := dk_18 125 (dk_at dksX0_steps_1 6 rfl rfl)
theorem dX0_steps_32 : decode cX0_steps 32 = .ok (.ireturn, 1) := dk_172 (dk_at dksX0_steps_1 8 rfl rfl)
theorem dX0_steps_33 : decode cX0_steps 33 = .ok (.aload_n 0, 1) := dk_42 (dk_at dksX0_steps_1 9 rfl rfl)
theorem dX0_steps_34 : decode cX0_steps 34 = .ok (.getfield 42, 3) := dk_180 0 42 (dk_at dksX0_steps_1 10 rfl rfl)
theorem dX0_steps_37 : decode cX0_steps 37 = .ok (.aload_n 0, 1) := dk_42 (dk_at dksX0_steps_1 13 rfl rfl)
theorem dX0_steps_38 : decode cX0_steps 38 = .ok (.getfield 48, 3) := dk_180 0 48 (dk_at dksX0_steps_1 14 rfl rfl)
theorem dX0_steps_41 : decode cX0_steps 41 = .ok (.iload_n 1, 1) := dk_27 (dk_at dksX0_steps_1 17 rfl rfl)
theorem dX0_steps_42 : decode cX0_steps 42 = .ok (.aaload, 1) := dk_50 (dk_at dksX0_steps_1 18 rfl rfl)
theorem dX0_steps_43 : decode cX0_steps 43 = .ok (.iload_n 2, 1) := dk_28 (dk_at dksX0_steps_1 19 rfl rfl)
theorem dX0_steps_44 : decode cX0_steps 44 = .ok (.iconst 1, 1) := dk_4 (dk_at dksX0_steps_1 20 rfl rfl)
theorem dX0_steps_45 : decode cX0_steps 45 = .ok (.if_icmp .ne 7, 3) := dk_160 0 7 (dk_at dksX0_steps_1 21 rfl rfl)
theorem dX0_steps_48 : decode cX0_steps 48 = .ok (.iconst 1, 1) := dk_4 (dk_at dksX0_steps_2 0 rfl rfl)
theorem dX0_steps_49 : decode cX0_steps 49 = .ok (.goto 4, 3) := dk_167 0 4 (dk_at dksX0_steps_2 1 rfl rfl)
theorem dX0_steps_52 : decode cX0_steps 52 = .ok (.iconst 0, 1) := dk_3 (dk_at dksX0_steps_2 4 rfl rfl)
theorem dX0_steps_53 : decode cX0_steps 53 = .ok (.invokevirtual 149, 3) := dk_182 0 149 (dk_at dksX0_steps_2 5 rfl rfl)
theorem dX0_steps_56 : decode cX0_steps 56 = .ok (.aload_n 0, 1) := dk_42 (dk_at dksX0_steps_2 8 rfl rfl)
theorem dX0_steps_57 : decode cX0_steps 57 = .ok (.getfield 42, 3) := dk_180 0 42 (dk_at dksX0_steps_2 9 rfl rfl)
theorem dX0_steps_60 : decode cX0_steps 60 = .ok (.sipush 200, 3) := dk_17 0 200 (dk_at dksX0_steps_2 12 rfl rfl)
theorem dX0_steps_63 : decode cX0_steps 63 = .ok (.invokevirtual 153, 3) := dk_182 0 153 (dk_at dksX0_steps_2 15 rfl rfl)
theorem dX0_steps_66 : decode cX0_steps 66 = .ok (.aload_n 0, 1) := dk_42 (dk_at dksX0_steps_2 18 rfl rfl)
theorem dX0_steps_67 : decode cX0_steps 67 = .ok (.getfield 42, 3) := dk_180 0 42 (dk_at dksX0_steps_2 19 rfl rfl)
theorem dX0_steps_70 : decode cX0_steps 70 = .ok (.getfield 157, 3) := dk_180 0 157 (dk_at dksX0_steps_3 0 rfl rfl)
theorem dX0_steps_73 : decode cX0_steps 73 = .ok (.ifCond .eq 8, 3) := dk_153 0 8 (dk_at dksX0_steps_3 3 rfl rfl)
theorem dX0_steps_76 : decode cX0_steps 76 = .ok (.bipush (-3), 2) := dk_16 253 (dk_at dksX0_steps_3 6 rfl rfl)
theorem dX0_steps_78 : decode cX0_steps 78 = .ok (.goto 25, 3) := dk_167 0 25 (dk_at dksX0_steps_3 8 rfl rfl)
theorem dX0_steps_81 : decode cX0_steps 81 = .ok (.aload_n 0, 1) := dk_42 (dk_at dksX0_steps_3 11 rfl rfl)
theorem dX0_steps_82 : decode cX0_steps 82 = .ok (.getfield 42, 3) := dk_180 0 42 (dk_at dksX0_steps_3 12 rfl rfl)
theorem dX0_steps_85 : decode cX0_steps 85 = .ok (.getfield 260, 3) := dk_180 1 4 (dk_at dksX0_steps_3 15 rfl rfl)
theorem dX0_steps_88 : decode cX0_steps 88 = .ok (.ifCond .eq 13, 3) := dk_153 0 13 (dk_at dksX0_steps_3 18 rfl rfl)
theorem dX0_steps_91 : decode cX0_steps 91 = .ok (.aload_n 0, 1) := dk_42 (dk_at dksX0_steps_3 21 rfl rfl)
theorem dX0_steps_92 : decode cX0_steps 92 = .ok (.getfield 42, 3) := dk_180 0 42 (dk_at dksX0_steps_4 0 rfl rfl)
theorem dX0_steps_95 : decode cX0_steps 95 = .ok (.getfield 170, 3) := dk_180 0 170 (dk_at dksX0_steps_4 3 rfl rfl)
theorem dX0_steps_98 : decode cX0_steps 98 = .ok (.goto 5, 3) := dk_167 0 5 (dk_at dksX0_steps_4 6 rfl rfl)
theorem dX0_steps_101 : decode cX0_steps 101 = .ok (.bipush (-2), 2) := dk_16 254 (dk_at dksX0_steps_4 9 rfl rfl)
theorem dX0_steps_103 : decode cX0_steps 103 = .ok (.ireturn, 1) := dk_172 (dk_at dksX0_steps_4 11 rfl rfl)
abbrev cX0_same : ByteArray := prog_1_method_35_code
def yX0_same : MethodName := ⟨RX0, "same", "(II)I"⟩
def dkwX0_same_2 : List UInt8 := [180, 0, 48, 28, 50, 182, 1, 7, 153, 0, 7, 4, 167, 0, 4, 3, 172]
abbrev dktX0_same_2 : List UInt8 := dkwX0_same_2 ++ []
def dkwX0_same_1 : List UInt8 := [198, 0, 12, 42, 180, 0, 48, 28, 50, 199, 0, 6, 18, 125, 172, 42, 180, 0, 48, 27, 50, 42]
abbrev dktX0_same_1 : List UInt8 := dkwX0_same_1 ++ dktX0_same_2
def dkwX0_same_0 : List UInt8 := [27, 184, 0, 103, 153, 0, 10, 28, 184, 0, 103, 154, 0, 6, 18, 107, 172, 42, 180, 0, 48, 27, 50]
abbrev dktX0_same_0 : List UInt8 := dkwX0_same_0 ++ dktX0_same_1
theorem dksX0_same_0 : cX0_same.data.toList.drop 0 = dktX0_same_0 := by decide +kernel
theorem dksX0_same_1 : cX0_same.data.toList.drop 23 = dktX0_same_1 := dk_seg dksX0_same_0 23 rfl rfl
theorem dksX0_same_2 : cX0_same.data.toList.drop 45 = dktX0_same_2 := dk_seg dksX0_same_1 22 rfl rfl
theorem dX0_same_0 : decode cX0_same 0 = .ok (.iload_n 1, 1) := dk_27 (dk_at dksX0_same_0 0 rfl rfl)
theorem dX0_same_1 : decode cX0_same 1 = .ok (.invokestatic 103, 3) := dk_184 0 103 (dk_at dksX0_same_0 1 rfl rfl)
theorem dX0_same_4 : decode cX0_same 4 = .ok (.ifCond .eq 10, 3) := dk_153 0 10 (dk_at dksX0_same_0 4 rfl rfl)
theorem dX0_same_7 : decode cX0_same 7 = .ok (.iload_n 2, 1) := dk_28 (dk_at dksX0_same_0 7 rfl rfl)
theorem dX0_same_8 : decode cX0_same 8 = .ok (.invokestatic 103, 3) := dk_184 0 103 (dk_at dksX0_same_0 8 rfl rfl)
theorem dX0_same_11 : decode cX0_same 11 = .ok (.ifCond .ne 6, 3) := dk_154 0 6 (dk_at dksX0_same_0 11 rfl rfl)
theorem dX0_same_14 : decode cX0_same 14 = .ok (.ldc 107, 2) := dk_18 107 (dk_at dksX0_same_0 14 rfl rfl)
theorem dX0_same_16 : decode cX0_same 16 = .ok (.ireturn, 1) := dk_172 (dk_at dksX0_same_0 16 rfl rfl)
theorem dX0_same_17 : decode cX0_same 17 = .ok (.aload_n 0, 1) := dk_42 (dk_at dksX0_same_0 17 rfl rfl)
theorem dX0_same_18 : decode cX0_same 18 = .ok (.getfield 48, 3) := dk_180 0 48 (dk_at dksX0_same_0 18 rfl rfl)
theorem dX0_same_21 : decode cX0_same 21 = .ok (.iload_n 1, 1) := dk_27 (dk_at dksX0_same_0 21 rfl rfl)
theorem dX0_same_22 : decode cX0_same 22 = .ok (.aaload, 1) := dk_50 (dk_at dksX0_same_0 22 rfl rfl)
theorem dX0_same_23 : decode cX0_same 23 = .ok (.ifnull 12, 3) := dk_198 0 12 (dk_at dksX0_same_1 0 rfl rfl)
theorem dX0_same_26 : decode cX0_same 26 = .ok (.aload_n 0, 1) := dk_42 (dk_at dksX0_same_1 3 rfl rfl)
theorem dX0_same_27 : decode cX0_same 27 = .ok (.getfield 48, 3) := dk_180 0 48 (dk_at dksX0_same_1 4 rfl rfl)
theorem dX0_same_30 : decode cX0_same 30 = .ok (.iload_n 2, 1) := dk_28 (dk_at dksX0_same_1 7 rfl rfl)
theorem dX0_same_31 : decode cX0_same 31 = .ok (.aaload, 1) := dk_50 (dk_at dksX0_same_1 8 rfl rfl)
theorem dX0_same_32 : decode cX0_same 32 = .ok (.ifnonnull 6, 3) := dk_199 0 6 (dk_at dksX0_same_1 9 rfl rfl)
theorem dX0_same_35 : decode cX0_same 35 = .ok (.ldc 125, 2) := dk_18 125 (dk_at dksX0_same_1 12 rfl rfl)
theorem dX0_same_37 : decode cX0_same 37 = .ok (.ireturn, 1) := dk_172 (dk_at dksX0_same_1 14 rfl rfl)
theorem dX0_same_38 : decode cX0_same 38 = .ok (.aload_n 0, 1) := dk_42 (dk_at dksX0_same_1 15 rfl rfl)
theorem dX0_same_39 : decode cX0_same 39 = .ok (.getfield 48, 3) := dk_180 0 48 (dk_at dksX0_same_1 16 rfl rfl)
theorem dX0_same_42 : decode cX0_same 42 = .ok (.iload_n 1, 1) := dk_27 (dk_at dksX0_same_1 19 rfl rfl)
theorem dX0_same_43 : decode cX0_same 43 = .ok (.aaload, 1) := dk_50 (dk_at dksX0_same_1 20 rfl rfl)
theorem dX0_same_44 : decode cX0_same 44 = .ok (.aload_n 0, 1) := dk_42 (dk_at dksX0_same_1 21 rfl rfl)
theorem dX0_same_45 : decode cX0_same 45 = .ok (.getfield 48, 3) := dk_180 0 48 (dk_at dksX0_same_2 0 rfl rfl)
theorem dX0_same_48 : decode cX0_same 48 = .ok (.iload_n 2, 1) := dk_28 (dk_at dksX0_same_2 3 rfl rfl)
theorem dX0_same_49 : decode cX0_same 49 = .ok (.aaload, 1) := dk_50 (dk_at dksX0_same_2 4 rfl rfl)
theorem dX0_same_50 : decode cX0_same 50 = .ok (.invokevirtual 263, 3) := dk_182 1 7 (dk_at dksX0_same_2 5 rfl rfl)
theorem dX0_same_53 : decode cX0_same 53 = .ok (.ifCond .eq 7, 3) := dk_153 0 7 (dk_at dksX0_same_2 8 rfl rfl)
theorem dX0_same_56 : decode cX0_same 56 = .ok (.iconst 1, 1) := dk_4 (dk_at dksX0_same_2 11 rfl rfl)
theorem dX0_same_57 : decode cX0_same 57 = .ok (.goto 4, 3) := dk_167 0 4 (dk_at dksX0_same_2 12 rfl rfl)
theorem dX0_same_60 : decode cX0_same 60 = .ok (.iconst 0, 1) := dk_3 (dk_at dksX0_same_2 15 rfl rfl)
theorem dX0_same_61 : decode cX0_same 61 = .ok (.ireturn, 1) := dk_172 (dk_at dksX0_same_2 16 rfl rfl)
abbrev cX0_sameKind : ByteArray := prog_1_method_36_code
def yX0_sameKind : MethodName := ⟨RX0, "sameKind", "(II)I"⟩
def dkwX0_sameKind_3 : List UInt8 := [182, 0, 226, 153, 0, 7, 4, 167, 0, 4, 3, 172]
abbrev dktX0_sameKind_3 : List UInt8 := dkwX0_sameKind_3 ++ []
def dkwX0_sameKind_2 : List UInt8 := [28, 182, 0, 230, 153, 0, 8, 18, 98, 167, 0, 24, 42, 27, 182, 0, 223, 42, 28, 182, 0, 223]
abbrev dktX0_sameKind_2 : List UInt8 := dkwX0_sameKind_2 ++ dktX0_sameKind_3
def dkwX0_sameKind_1 : List UInt8 := [198, 0, 12, 42, 180, 0, 48, 28, 50, 199, 0, 6, 18, 125, 172, 42, 27, 182, 0, 230, 154, 0, 11, 42]
abbrev dktX0_sameKind_1 : List UInt8 := dkwX0_sameKind_1 ++ dktX0_sameKind_2
def dkwX0_sameKind_0 : List UInt8 := [27, 184, 0, 103, 153, 0, 10, 28, 184, 0, 103, 154, 0, 6, 18, 107, 172, 42, 180, 0, 48, 27, 50]
abbrev dktX0_sameKind_0 : List UInt8 := dkwX0_sameKind_0 ++ dktX0_sameKind_1
theorem dksX0_sameKind_0 : cX0_sameKind.data.toList.drop 0 = dktX0_sameKind_0 := by decide +kernel
theorem dksX0_sameKind_1 : cX0_sameKind.data.toList.drop 23 = dktX0_sameKind_1 := dk_seg dksX0_sameKind_0 23 rfl rfl
theorem dksX0_sameKind_2 : cX0_sameKind.data.toList.drop 47 = dktX0_sameKind_2 := dk_seg dksX0_sameKind_1 24 rfl rfl
theorem dksX0_sameKind_3 : cX0_sameKind.data.toList.drop 69 = dktX0_sameKind_3 := dk_seg dksX0_sameKind_2 22 rfl rfl
theorem dX0_sameKind_0 : decode cX0_sameKind 0 = .ok (.iload_n 1, 1) := dk_27 (dk_at dksX0_sameKind_0 0 rfl rfl)
theorem dX0_sameKind_1 : decode cX0_sameKind 1 = .ok (.invokestatic 103, 3) := dk_184 0 103 (dk_at dksX0_sameKind_0 1 rfl rfl)
theorem dX0_sameKind_4 : decode cX0_sameKind 4 = .ok (.ifCond .eq 10, 3) := dk_153 0 10 (dk_at dksX0_sameKind_0 4 rfl rfl)
theorem dX0_sameKind_7 : decode cX0_sameKind 7 = .ok (.iload_n 2, 1) := dk_28 (dk_at dksX0_sameKind_0 7 rfl rfl)
theorem dX0_sameKind_8 : decode cX0_sameKind 8 = .ok (.invokestatic 103, 3) := dk_184 0 103 (dk_at dksX0_sameKind_0 8 rfl rfl)
theorem dX0_sameKind_11 : decode cX0_sameKind 11 = .ok (.ifCond .ne 6, 3) := dk_154 0 6 (dk_at dksX0_sameKind_0 11 rfl rfl)
theorem dX0_sameKind_14 : decode cX0_sameKind 14 = .ok (.ldc 107, 2) := dk_18 107 (dk_at dksX0_sameKind_0 14 rfl rfl)
theorem dX0_sameKind_16 : decode cX0_sameKind 16 = .ok (.ireturn, 1) := dk_172 (dk_at dksX0_sameKind_0 16 rfl rfl)
theorem dX0_sameKind_17 : decode cX0_sameKind 17 = .ok (.aload_n 0, 1) := dk_42 (dk_at dksX0_sameKind_0 17 rfl rfl)
theorem dX0_sameKind_18 : decode cX0_sameKind 18 = .ok (.getfield 48, 3) := dk_180 0 48 (dk_at dksX0_sameKind_0 18 rfl rfl)
theorem dX0_sameKind_21 : decode cX0_sameKind 21 = .ok (.iload_n 1, 1) := dk_27 (dk_at dksX0_sameKind_0 21 rfl rfl)
theorem dX0_sameKind_22 : decode cX0_sameKind 22 = .ok (.aaload, 1) := dk_50 (dk_at dksX0_sameKind_0 22 rfl rfl)
theorem dX0_sameKind_23 : decode cX0_sameKind 23 = .ok (.ifnull 12, 3) := dk_198 0 12 (dk_at dksX0_sameKind_1 0 rfl rfl)
theorem dX0_sameKind_26 : decode cX0_sameKind 26 = .ok (.aload_n 0, 1) := dk_42 (dk_at dksX0_sameKind_1 3 rfl rfl)
theorem dX0_sameKind_27 : decode cX0_sameKind 27 = .ok (.getfield 48, 3) := dk_180 0 48 (dk_at dksX0_sameKind_1 4 rfl rfl)
theorem dX0_sameKind_30 : decode cX0_sameKind 30 = .ok (.iload_n 2, 1) := dk_28 (dk_at dksX0_sameKind_1 7 rfl rfl)
theorem dX0_sameKind_31 : decode cX0_sameKind 31 = .ok (.aaload, 1) := dk_50 (dk_at dksX0_sameKind_1 8 rfl rfl)
theorem dX0_sameKind_32 : decode cX0_sameKind 32 = .ok (.ifnonnull 6, 3) := dk_199 0 6 (dk_at dksX0_sameKind_1 9 rfl rfl)
theorem dX0_sameKind_35 : decode cX0_sameKind 35 = .ok (.ldc 125, 2) := dk_18 125 (dk_at dksX0_sameKind_1 12 rfl rfl)
theorem dX0_sameKind_37 : decode cX0_sameKind 37 = .ok (.ireturn, 1) := dk_172 (dk_at dksX0_sameKind_1 14 rfl rfl)
theorem dX0_sameKind_38 : decode cX0_sameKind 38 = .ok (.aload_n 0, 1) := dk_42 (dk_at dksX0_sameKind_1 15 rfl rfl)
theorem dX0_sameKind_39 : decode cX0_sameKind 39 = .ok (.iload_n 1, 1) := dk_27 (dk_at dksX0_sameKind_1 16 rfl rfl)
theorem dX0_sameKind_40 : decode cX0_sameKind 40 = .ok (.invokevirtual 230, 3) := dk_182 0 230 (dk_at dksX0_sameKind_1 17 rfl rfl)
theorem dX0_sameKind_43 : decode cX0_sameKind 43 = .ok (.ifCond .ne 11, 3) := dk_154 0 11 (dk_at dksX0_sameKind_1 20 rfl rfl)
theorem dX0_sameKind_46 : decode cX0_sameKind 46 = .ok (.aload_n 0, 1) := dk_42 (dk_at dksX0_sameKind_1 23 rfl rfl)
theorem dX0_sameKind_47 : decode cX0_sameKind 47 = .ok (.iload_n 2, 1) := dk_28 (dk_at dksX0_sameKind_2 0 rfl rfl)
theorem dX0_sameKind_48 : decode cX0_sameKind 48 = .ok (.invokevirtual 230, 3) := dk_182 0 230 (dk_at dksX0_sameKind_2 1 rfl rfl)
theorem dX0_sameKind_51 : decode cX0_sameKind 51 = .ok (.ifCond .eq 8, 3) := dk_153 0 8 (dk_at dksX0_sameKind_2 4 rfl rfl)
theorem dX0_sameKind_54 : decode cX0_sameKind 54 = .ok (.ldc 98, 2) := dk_18 98 (dk_at dksX0_sameKind_2 7 rfl rfl)
theorem dX0_sameKind_56 : decode cX0_sameKind 56 = .ok (.goto 24, 3) := dk_167 0 24 (dk_at dksX0_sameKind_2 9 rfl rfl)
theorem dX0_sameKind_59 : decode cX0_sameKind 59 = .ok (.aload_n 0, 1) := dk_42 (dk_at dksX0_sameKind_2 12 rfl rfl)
theorem dX0_sameKind_60 : decode cX0_sameKind 60 = .ok (.iload_n 1, 1) := dk_27 (dk_at dksX0_sameKind_2 13 rfl rfl)
theorem dX0_sameKind_61 : decode cX0_sameKind 61 = .ok (.invokevirtual 223, 3) := dk_182 0 223 (dk_at dksX0_sameKind_2 14 rfl rfl)
theorem dX0_sameKind_64 : decode cX0_sameKind 64 = .ok (.aload_n 0, 1) := dk_42 (dk_at dksX0_sameKind_2 17 rfl rfl)
theorem dX0_sameKind_65 : decode cX0_sameKind 65 = .ok (.iload_n 2, 1) := dk_28 (dk_at dksX0_sameKind_2 18 rfl rfl)
theorem dX0_sameKind_66 : decode cX0_sameKind 66 = .ok (.invokevirtual 223, 3) := dk_182 0 223 (dk_at dksX0_sameKind_2 19 rfl rfl)
theorem dX0_sameKind_69 : decode cX0_sameKind 69 = .ok (.invokevirtual 226, 3) := dk_182 0 226 (dk_at dksX0_sameKind_3 0 rfl rfl)
theorem dX0_sameKind_72 : decode cX0_sameKind 72 = .ok (.ifCond .eq 7, 3) := dk_153 0 7 (dk_at dksX0_sameKind_3 3 rfl rfl)
theorem dX0_sameKind_75 : decode cX0_sameKind 75 = .ok (.iconst 1, 1) := dk_4 (dk_at dksX0_sameKind_3 6 rfl rfl)
theorem dX0_sameKind_76 : decode cX0_sameKind 76 = .ok (.goto 4, 3) := dk_167 0 4 (dk_at dksX0_sameKind_3 7 rfl rfl)
theorem dX0_sameKind_79 : decode cX0_sameKind 79 = .ok (.iconst 0, 1) := dk_3 (dk_at dksX0_sameKind_3 10 rfl rfl)
theorem dX0_sameKind_80 : decode cX0_sameKind 80 = .ok (.ireturn, 1) := dk_172 (dk_at dksX0_sameKind_3 11 rfl rfl)
abbrev cX0_keep : ByteArray := prog_1_method_37_code
def yX0_keep : MethodName := ⟨RX0, "keep", "(I)I"⟩
def dkwX0_keep_1 : List UInt8 := [180, 0, 48, 3, 42, 180, 0, 73, 27, 50, 3, 7, 184, 0, 80, 42, 3, 181, 0, 77, 4, 172]
abbrev dktX0_keep_1 : List UInt8 := dkwX0_keep_1 ++ []
def dkwX0_keep_0 : List UInt8 := [27, 3, 4, 184, 0, 3, 154, 0, 6, 18, 107, 172, 42, 180, 0, 73, 27, 7, 189, 0, 46, 83, 42]
abbrev dktX0_keep_0 : List UInt8 := dkwX0_keep_0 ++ dktX0_keep_1
theorem dksX0_keep_0 : cX0_keep.data.toList.drop 0 = dktX0_keep_0 := by decide +kernel
theorem dksX0_keep_1 : cX0_keep.data.toList.drop 23 = dktX0_keep_1 := dk_seg dksX0_keep_0 23 rfl rfl
theorem dX0_keep_0 : decode cX0_keep 0 = .ok (.iload_n 1, 1) := dk_27 (dk_at dksX0_keep_0 0 rfl rfl)
theorem dX0_keep_1 : decode cX0_keep 1 = .ok (.iconst 0, 1) := dk_3 (dk_at dksX0_keep_0 1 rfl rfl)
theorem dX0_keep_2 : decode cX0_keep 2 = .ok (.iconst 1, 1) := dk_4 (dk_at dksX0_keep_0 2 rfl rfl)
theorem dX0_keep_3 : decode cX0_keep 3 = .ok (.invokestatic 3, 3) := dk_184 0 3 (dk_at dksX0_keep_0 3 rfl rfl)
theorem dX0_keep_6 : decode cX0_keep 6 = .ok (.ifCond .ne 6, 3) := dk_154 0 6 (dk_at dksX0_keep_0 6 rfl rfl)
theorem dX0_keep_9 : decode cX0_keep 9 = .ok (.ldc 107, 2) := dk_18 107 (dk_at dksX0_keep_0 9 rfl rfl)
theorem dX0_keep_11 : decode cX0_keep 11 = .ok (.ireturn, 1) := dk_172 (dk_at dksX0_keep_0 11 rfl rfl)
theorem dX0_keep_12 : decode cX0_keep 12 = .ok (.aload_n 0, 1) := dk_42 (dk_at dksX0_keep_0 12 rfl rfl)
theorem dX0_keep_13 : decode cX0_keep 13 = .ok (.getfield 73, 3) := dk_180 0 73 (dk_at dksX0_keep_0 13 rfl rfl)
theorem dX0_keep_16 : decode cX0_keep 16 = .ok (.iload_n 1, 1) := dk_27 (dk_at dksX0_keep_0 16 rfl rfl)
theorem dX0_keep_17 : decode cX0_keep 17 = .ok (.iconst 4, 1) := dk_7 (dk_at dksX0_keep_0 17 rfl rfl)
theorem dX0_keep_18 : decode cX0_keep 18 = .ok (.anewarray 46, 3) := dk_189 0 46 (dk_at dksX0_keep_0 18 rfl rfl)
theorem dX0_keep_21 : decode cX0_keep 21 = .ok (.aastore, 1) := dk_83 (dk_at dksX0_keep_0 21 rfl rfl)
theorem dX0_keep_22 : decode cX0_keep 22 = .ok (.aload_n 0, 1) := dk_42 (dk_at dksX0_keep_0 22 rfl rfl)
theorem dX0_keep_23 : decode cX0_keep 23 = .ok (.getfield 48, 3) := dk_180 0 48 (dk_at dksX0_keep_1 0 rfl rfl)
theorem dX0_keep_26 : decode cX0_keep 26 = .ok (.iconst 0, 1) := dk_3 (dk_at dksX0_keep_1 3 rfl rfl)
theorem dX0_keep_27 : decode cX0_keep 27 = .ok (.aload_n 0, 1) := dk_42 (dk_at dksX0_keep_1 4 rfl rfl)
theorem dX0_keep_28 : decode cX0_keep 28 = .ok (.getfield 73, 3) := dk_180 0 73 (dk_at dksX0_keep_1 5 rfl rfl)
theorem dX0_keep_31 : decode cX0_keep 31 = .ok (.iload_n 1, 1) := dk_27 (dk_at dksX0_keep_1 8 rfl rfl)
theorem dX0_keep_32 : decode cX0_keep 32 = .ok (.aaload, 1) := dk_50 (dk_at dksX0_keep_1 9 rfl rfl)
theorem dX0_keep_33 : decode cX0_keep 33 = .ok (.iconst 0, 1) := dk_3 (dk_at dksX0_keep_1 10 rfl rfl)
theorem dX0_keep_34 : decode cX0_keep 34 = .ok (.iconst 4, 1) := dk_7 (dk_at dksX0_keep_1 11 rfl rfl)
theorem dX0_keep_35 : decode cX0_keep 35 = .ok (.invokestatic 80, 3) := dk_184 0 80 (dk_at dksX0_keep_1 12 rfl rfl)
theorem dX0_keep_38 : decode cX0_keep 38 = .ok (.aload_n 0, 1) := dk_42 (dk_at dksX0_keep_1 15 rfl rfl)
theorem dX0_keep_39 : decode cX0_keep 39 = .ok (.iconst 0, 1) := dk_3 (dk_at dksX0_keep_1 16 rfl rfl)
theorem dX0_keep_40 : decode cX0_keep 40 = .ok (.putfield 77, 3) := dk_181 0 77 (dk_at dksX0_keep_1 17 rfl rfl)
theorem dX0_keep_43 : decode cX0_keep 43 = .ok (.iconst 1, 1) := dk_4 (dk_at dksX0_keep_1 20 rfl rfl)
theorem dX0_keep_44 : decode cX0_keep 44 = .ok (.ireturn, 1) := dk_172 (dk_at dksX0_keep_1 21 rfl rfl)
abbrev cX0_goBack : ByteArray := prog_1_method_38_code
def yX0_goBack : MethodName := ⟨RX0, "goBack", "(I)I"⟩
def dkwX0_goBack_2 : List UInt8 := [180, 0, 54, 28, 1, 83, 132, 2, 1, 167, 255, 241, 42, 3, 181, 0, 77, 4, 172]
abbrev dktX0_goBack_2 : List UInt8 := dkwX0_goBack_2 ++ []
def dkwX0_goBack_1 : List UInt8 := [42, 180, 0, 73, 27, 50, 3, 42, 180, 0, 48, 3, 7, 184, 0, 80, 3, 61, 28, 7, 162, 0, 16, 42]
abbrev dktX0_goBack_1 : List UInt8 := dkwX0_goBack_1 ++ dktX0_goBack_2
def dkwX0_goBack_0 : List UInt8 := [27, 3, 4, 184, 0, 3, 154, 0, 6, 18, 107, 172, 42, 180, 0, 73, 27, 50, 199, 0, 6, 18, 125, 172]
abbrev dktX0_goBack_0 : List UInt8 := dkwX0_goBack_0 ++ dktX0_goBack_1
theorem dksX0_goBack_0 : cX0_goBack.data.toList.drop 0 = dktX0_goBack_0 := by decide +kernel
theorem dksX0_goBack_1 : cX0_goBack.data.toList.drop 24 = dktX0_goBack_1 := dk_seg dksX0_goBack_0 24 rfl rfl
theorem dksX0_goBack_2 : cX0_goBack.data.toList.drop 48 = dktX0_goBack_2 := dk_seg dksX0_goBack_1 24 rfl rfl
theorem dX0_goBack_0 : decode cX0_goBack 0 = .ok (.iload_n 1, 1) := dk_27 (dk_at dksX0_goBack_0 0 rfl rfl)
theorem dX0_goBack_1 : decode cX0_goBack 1 = .ok (.iconst 0, 1) := dk_3 (dk_at dksX0_goBack_0 1 rfl rfl)
theorem dX0_goBack_2 : decode cX0_goBack 2 = .ok (.iconst 1, 1) := dk_4 (dk_at dksX0_goBack_0 2 rfl rfl)
theorem dX0_goBack_3 : decode cX0_goBack 3 = .ok (.invokestatic 3, 3) := dk_184 0 3 (dk_at dksX0_goBack_0 3 rfl rfl)
theorem dX0_goBack_6 : decode cX0_goBack 6 = .ok (.ifCond .ne 6, 3) := dk_154 0 6 (dk_at dksX0_goBack_0 6 rfl rfl)
theorem dX0_goBack_9 : decode cX0_goBack 9 = .ok (.ldc 107, 2) := dk_18 107 (dk_at dksX0_goBack_0 9 rfl rfl)
theorem dX0_goBack_11 : decode cX0_goBack 11 = .ok (.ireturn, 1) := dk_172 (dk_at dksX0_goBack_0 11 rfl rfl)
theorem dX0_goBack_12 : decode cX0_goBack 12 = .ok (.aload_n 0, 1) := dk_42 (dk_at dksX0_goBack_0 12 rfl rfl)
theorem dX0_goBack_13 : decode cX0_goBack 13 = .ok (.getfield 73, 3) := dk_180 0 73 (dk_at dksX0_goBack_0 13 rfl rfl)
theorem dX0_goBack_16 : decode cX0_goBack 16 = .ok (.iload_n 1, 1) := dk_27 (dk_at dksX0_goBack_0 16 rfl rfl)
theorem dX0_goBack_17 : decode cX0_goBack 17 = .ok (.aaload, 1) := dk_50 (dk_at dksX0_goBack_0 17 rfl rfl)
theorem dX0_goBack_18 : decode cX0_goBack 18 = .ok (.ifnonnull 6, 3) := dk_199 0 6 (dk_at dksX0_goBack_0 18 rfl rfl)
theorem dX0_goBack_21 : decode cX0_goBack 21 = .ok (.ldc 125, 2) := dk_18 125 (dk_at dksX0_goBack_0 21 rfl rfl)
theorem dX0_goBack_23 : decode cX0_goBack 23 = .ok (.ireturn, 1) := dk_172 (dk_at dksX0_goBack_0 23 rfl rfl)
theorem dX0_goBack_24 : decode cX0_goBack 24 = .ok (.aload_n 0, 1) := dk_42 (dk_at dksX0_goBack_1 0 rfl rfl)
theorem dX0_goBack_25 : decode cX0_goBack 25 = .ok (.getfield 73, 3) := dk_180 0 73 (dk_at dksX0_goBack_1 1 rfl rfl)
theorem dX0_goBack_28 : decode cX0_goBack 28 = .ok (.iload_n 1, 1) := dk_27 (dk_at dksX0_goBack_1 4 rfl rfl)
theorem dX0_goBack_29 : decode cX0_goBack 29 = .ok (.aaload, 1) := dk_50 (dk_at dksX0_goBack_1 5 rfl rfl)
theorem dX0_goBack_30 : decode cX0_goBack 30 = .ok (.iconst 0, 1) := dk_3 (dk_at dksX0_goBack_1 6 rfl rfl)
theorem dX0_goBack_31 : decode cX0_goBack 31 = .ok (.aload_n 0, 1) := dk_42 (dk_at dksX0_goBack_1 7 rfl rfl)
theorem dX0_goBack_32 : decode cX0_goBack 32 = .ok (.getfield 48, 3) := dk_180 0 48 (dk_at dksX0_goBack_1 8 rfl rfl)
theorem dX0_goBack_35 : decode cX0_goBack 35 = .ok (.iconst 0, 1) := dk_3 (dk_at dksX0_goBack_1 11 rfl rfl)
theorem dX0_goBack_36 : decode cX0_goBack 36 = .ok (.iconst 4, 1) := dk_7 (dk_at dksX0_goBack_1 12 rfl rfl)
theorem dX0_goBack_37 : decode cX0_goBack 37 = .ok (.invokestatic 80, 3) := dk_184 0 80 (dk_at dksX0_goBack_1 13 rfl rfl)
theorem dX0_goBack_40 : decode cX0_goBack 40 = .ok (.iconst 0, 1) := dk_3 (dk_at dksX0_goBack_1 16 rfl rfl)
theorem dX0_goBack_41 : decode cX0_goBack 41 = .ok (.istore_n 2, 1) := dk_61 (dk_at dksX0_goBack_1 17 rfl rfl)
theorem dX0_goBack_42 : decode cX0_goBack 42 = .ok (.iload_n 2, 1) := dk_28 (dk_at dksX0_goBack_1 18 rfl rfl)
theorem dX0_goBack_43 : decode cX0_goBack 43 = .ok (.iconst 4, 1) := dk_7 (dk_at dksX0_goBack_1 19 rfl rfl)
theorem dX0_goBack_44 : decode cX0_goBack 44 = .ok (.if_icmp .ge 16, 3) := dk_162 0 16 (dk_at dksX0_goBack_1 20 rfl rfl)
theorem dX0_goBack_47 : decode cX0_goBack 47 = .ok (.aload_n 0, 1) := dk_42 (dk_at dksX0_goBack_1 23 rfl rfl)
theorem dX0_goBack_48 : decode cX0_goBack 48 = .ok (.getfield 54, 3) := dk_180 0 54 (dk_at dksX0_goBack_2 0 rfl rfl)
theorem dX0_goBack_51 : decode cX0_goBack 51 = .ok (.iload_n 2, 1) := dk_28 (dk_at dksX0_goBack_2 3 rfl rfl)
theorem dX0_goBack_52 : decode cX0_goBack 52 = .ok (.aconst_null, 1) := dk_1 (dk_at dksX0_goBack_2 4 rfl rfl)
theorem dX0_goBack_53 : decode cX0_goBack 53 = .ok (.aastore, 1) := dk_83 (dk_at dksX0_goBack_2 5 rfl rfl)
theorem dX0_goBack_54 : decode cX0_goBack 54 = .ok (.iinc 2 1, 3) := dk_132 2 1 (dk_at dksX0_goBack_2 6 rfl rfl)
theorem dX0_goBack_57 : decode cX0_goBack 57 = .ok (.goto (-15), 3) := dk_167 255 241 (dk_at dksX0_goBack_2 9 rfl rfl)
theorem dX0_goBack_60 : decode cX0_goBack 60 = .ok (.aload_n 0, 1) := dk_42 (dk_at dksX0_goBack_2 12 rfl rfl)
theorem dX0_goBack_61 : decode cX0_goBack 61 = .ok (.iconst 0, 1) := dk_3 (dk_at dksX0_goBack_2 13 rfl rfl)
theorem dX0_goBack_62 : decode cX0_goBack 62 = .ok (.putfield 77, 3) := dk_181 0 77 (dk_at dksX0_goBack_2 14 rfl rfl)
theorem dX0_goBack_65 : decode cX0_goBack 65 = .ok (.iconst 1, 1) := dk_4 (dk_at dksX0_goBack_2 17 rfl rfl)
theorem dX0_goBack_66 : decode cX0_goBack 66 = .ok (.ireturn, 1) := dk_172 (dk_at dksX0_goBack_2 18 rfl rfl)
theorem q84 : (Jvm.Cond.initialized "BinderPress") ∈ lw_all := lw_g (lw_at lw_m1 1 rfl) rfl
theorem q111 : (Jvm.Cond.instantiable "BinderPress" (11 : Nat)) ∈ lw_all := lw_g (lw_at lw_m1 28 rfl) rfl
theorem q113 : (Jvm.Cond.instanceMethod ({ cls := "BinderPress", name := "<init>", desc := "()V" } : Jvm.MethodName)) ∈ lw_all := lw_g (lw_at lw_m1 30 rfl) rfl
theorem q114 : (Jvm.Cond.code ({ cls := "BinderPress", name := "<init>", desc := "()V" } : Jvm.MethodName) prog_1_method_6_code (1 : Nat) (Option.none : Option Jvm.ClassFile.FieldType)) ∈ lw_all := lw_g (lw_at lw_m1 31 rfl) rfl
theorem q115 : (Jvm.Cond.methodLink "BinderPress" (34 : Nat) ({ cls := "java/lang/Object", name := "<init>", desc := "()V" } : Jvm.MethodName)) ∈ lw_all := lw_g (lw_at lw_m1 32 rfl) rfl
theorem q118 : (Jvm.Cond.classLink "BinderPress" (39 : Nat) "BinderPress$Work") ∈ lw_all := lw_g (lw_at lw_m1 35 rfl) rfl
theorem q120 : (Jvm.Cond.methodLinkNest "BinderPress" (41 : Nat) ({ cls := "BinderPress$Work", name := "<init>", desc := "()V" } : Jvm.MethodName) "BinderPress") ∈ lw_tbl := lw_at lw_m1 37 rfl
theorem q133 : (Jvm.Cond.fieldLinkNest "BinderPress" (170 : Nat) "BinderPress$Work" "steps" "I" "BinderPress") ∈ lw_tbl := lw_at lw_m1 50 rfl
theorem q135 : (Jvm.Cond.fieldLinkNest "BinderPress" (157 : Nat) "BinderPress$Work" "isBig" "Z" "BinderPress") ∈ lw_tbl := lw_at lw_m1 52 rfl
theorem q137 : (Jvm.Cond.fieldLinkNest "BinderPress" (260 : Nat) "BinderPress$Work" "isDone" "Z" "BinderPress") ∈ lw_tbl := lw_at lw_m1 54 rfl
theorem q160 : (Jvm.Cond.classLink "BinderPress" (46 : Nat) "BinderPress$Term") ∈ lw_all := lw_g (lw_at lw_m1 77 rfl) rfl
theorem q162 : (Jvm.Cond.classLink "BinderPress" (52 : Nat) "java/lang/String") ∈ lw_all := lw_g (lw_at lw_m1 79 rfl) rfl
theorem q164 : (Jvm.Cond.classLink "BinderPress" (72 : Nat) "[LBinderPress$Term;") ∈ lw_all := lw_g (lw_at lw_m1 81 rfl) rfl
theorem q166 : (Jvm.Cond.fieldLink "BinderPress" (42 : Nat) "BinderPress" "work" "LBinderPress$Work;") ∈ lw_all := lw_g (lw_at lw_m1 83 rfl) rfl
theorem q167 : (Jvm.Cond.fieldLink "BinderPress" (48 : Nat) "BinderPress" "shelf" "[LBinderPress$Term;") ∈ lw_all := lw_g (lw_at lw_m1 84 rfl) rfl
theorem q168 : (Jvm.Cond.fieldLink "BinderPress" (54 : Nat) "BinderPress" "kindOf" "[Ljava/lang/String;") ∈ lw_all := lw_g (lw_at lw_m1 85 rfl) rfl
theorem q169 : (Jvm.Cond.fieldLink "BinderPress" (58 : Nat) "BinderPress" "ahead" "[LBinderPress$Term;") ∈ lw_all := lw_g (lw_at lw_m1 86 rfl) rfl
theorem q170 : (Jvm.Cond.fieldLink "BinderPress" (61 : Nat) "BinderPress" "changed" "[I") ∈ lw_all := lw_g (lw_at lw_m1 87 rfl) rfl
theorem q171 : (Jvm.Cond.fieldLink "BinderPress" (77 : Nat) "BinderPress" "known" "I") ∈ lw_all := lw_g (lw_at lw_m1 88 rfl) rfl
theorem q172 : (Jvm.Cond.fieldLink "BinderPress" (65 : Nat) "BinderPress" "text" "[B") ∈ lw_all := lw_g (lw_at lw_m1 89 rfl) rfl
theorem q173 : (Jvm.Cond.fieldLink "BinderPress" (100 : Nat) "BinderPress" "length" "I") ∈ lw_all := lw_g (lw_at lw_m1 90 rfl) rfl
theorem q174 : (Jvm.Cond.fieldLink "BinderPress" (69 : Nat) "BinderPress" "fault" "I") ∈ lw_all := lw_g (lw_at lw_m1 91 rfl) rfl
theorem q175 : (Jvm.Cond.fieldLink "BinderPress" (173 : Nat) "BinderPress" "lot" "J") ∈ lw_all := lw_g (lw_at lw_m1 92 rfl) rfl
theorem q176 : (Jvm.Cond.fieldLink "BinderPress" (73 : Nat) "BinderPress" "images" "[[LBinderPress$Term;") ∈ lw_all := lw_g (lw_at lw_m1 93 rfl) rfl
theorem q177 : (Jvm.Cond.laysFinal "BinderPress" "BinderPress" "work" "LBinderPress$Work;") ∈ lw_all := lw_g (lw_at lw_m1 94 rfl) rfl
theorem q178 : (Jvm.Cond.soleField "BinderPress" "work") ∈ lw_all := lw_g (lw_at lw_m1 95 rfl) rfl
theorem q179 : (Jvm.Cond.laysFinal "BinderPress" "BinderPress" "shelf" "[LBinderPress$Term;") ∈ lw_all := lw_g (lw_at lw_m1 96 rfl) rfl
theorem q180 : (Jvm.Cond.soleField "BinderPress" "shelf") ∈ lw_all := lw_g (lw_at lw_m1 97 rfl) rfl
theorem q181 : (Jvm.Cond.laysFinal "BinderPress" "BinderPress" "kindOf" "[Ljava/lang/String;") ∈ lw_all := lw_g (lw_at lw_m1 98 rfl) rfl
theorem q182 : (Jvm.Cond.soleField "BinderPress" "kindOf") ∈ lw_all := lw_g (lw_at lw_m1 99 rfl) rfl
theorem q183 : (Jvm.Cond.laysFinal "BinderPress" "BinderPress" "ahead" "[LBinderPress$Term;") ∈ lw_all := lw_g (lw_at lw_m1 100 rfl) rfl
theorem q184 : (Jvm.Cond.soleField "BinderPress" "ahead") ∈ lw_all := lw_g (lw_at lw_m1 101 rfl) rfl
theorem q185 : (Jvm.Cond.laysFinal "BinderPress" "BinderPress" "changed" "[I") ∈ lw_all := lw_g (lw_at lw_m1 102 rfl) rfl
theorem q186 : (Jvm.Cond.soleField "BinderPress" "changed") ∈ lw_all := lw_g (lw_at lw_m1 103 rfl) rfl
theorem q187 : (Jvm.Cond.lays "BinderPress" "BinderPress" "known" "I") ∈ lw_all := lw_g (lw_at lw_m1 104 rfl) rfl
theorem q188 : (Jvm.Cond.soleField "BinderPress" "known") ∈ lw_all := lw_g (lw_at lw_m1 105 rfl) rfl
theorem q189 : (Jvm.Cond.laysFinal "BinderPress" "BinderPress" "text" "[B") ∈ lw_all := lw_g (lw_at lw_m1 106 rfl) rfl
theorem q190 : (Jvm.Cond.soleField "BinderPress" "text") ∈ lw_all := lw_g (lw_at lw_m1 107 rfl) rfl
theorem q191 : (Jvm.Cond.lays "BinderPress" "BinderPress" "length" "I") ∈ lw_all := lw_g (lw_at lw_m1 108 rfl) rfl
theorem q192 : (Jvm.Cond.soleField "BinderPress" "length") ∈ lw_all := lw_g (lw_at lw_m1 109 rfl) rfl
theorem q193 : (Jvm.Cond.lays "BinderPress" "BinderPress" "fault" "I") ∈ lw_all := lw_g (lw_at lw_m1 110 rfl) rfl
theorem q194 : (Jvm.Cond.soleField "BinderPress" "fault") ∈ lw_all := lw_g (lw_at lw_m1 111 rfl) rfl
theorem q195 : (Jvm.Cond.lays "BinderPress" "BinderPress" "lot" "J") ∈ lw_all := lw_g (lw_at lw_m1 112 rfl) rfl
theorem q196 : (Jvm.Cond.soleField "BinderPress" "lot") ∈ lw_all := lw_g (lw_at lw_m1 113 rfl) rfl
theorem q197 : (Jvm.Cond.laysFinal "BinderPress" "BinderPress" "images" "[[LBinderPress$Term;") ∈ lw_all := lw_g (lw_at lw_m1 114 rfl) rfl
theorem q198 : (Jvm.Cond.soleField "BinderPress" "images") ∈ lw_all := lw_g (lw_at lw_m1 115 rfl) rfl
theorem q199 : (Jvm.Cond.superclass "BinderPress" "java/lang/Object") ∈ lw_all := lw_g (lw_at lw_m1 116 rfl) rfl
theorem q202 : (Jvm.Cond.instanceMethod ({ cls := "BinderPress", name := "feed", desc := "(I)I" } : Jvm.MethodName)) ∈ lw_all := lw_g (lw_at lw_m1 119 rfl) rfl
theorem q203 : (Jvm.Cond.selects "BinderPress" ({ cls := "BinderPress", name := "feed", desc := "(I)I" } : Jvm.MethodName) ({ cls := "BinderPress", name := "feed", desc := "(I)I" } : Jvm.MethodName)) ∈ lw_all := lw_g (lw_at lw_m1 120 rfl) rfl
theorem q204 : (Jvm.Cond.code ({ cls := "BinderPress", name := "feed", desc := "(I)I" } : Jvm.MethodName) prog_1_method_10_code (2 : Nat) (Option.some Jvm.ClassFile.FieldType.int)) ∈ lw_all := lw_g (lw_at lw_m1 121 rfl) rfl
theorem q205 : (Jvm.Cond.methodLink "BinderPress" (3 : Nat) ({ cls := "BinderPress", name := "isIn", desc := "(III)Z" } : Jvm.MethodName)) ∈ lw_all := lw_g (lw_at lw_m1 122 rfl) rfl
theorem q206 : (Jvm.Cond.static ({ cls := "BinderPress", name := "isIn", desc := "(III)Z" } : Jvm.MethodName)) ∈ lw_all := lw_g (lw_at lw_m1 123 rfl) rfl
theorem q207 : (Jvm.Cond.code ({ cls := "BinderPress", name := "isIn", desc := "(III)Z" } : Jvm.MethodName) prog_1_method_1_code (3 : Nat) (Option.some Jvm.ClassFile.FieldType.boolean)) ∈ lw_all := lw_g (lw_at lw_m1 124 rfl) rfl
theorem q208 : (Jvm.Cond.constant "BinderPress" (99 : Nat) (-1000000002 : Int32)) ∈ lw_all := lw_g (lw_at lw_m1 125 rfl) rfl
theorem q209 : (Jvm.Cond.constant "BinderPress" (98 : Nat) (-1000000004 : Int32)) ∈ lw_all := lw_g (lw_at lw_m1 126 rfl) rfl
theorem q211 : (Jvm.Cond.instanceMethod ({ cls := "BinderPress", name := "term", desc := "(I)I" } : Jvm.MethodName)) ∈ lw_all := lw_g (lw_at lw_m1 128 rfl) rfl
theorem q212 : (Jvm.Cond.selects "BinderPress" ({ cls := "BinderPress", name := "term", desc := "(I)I" } : Jvm.MethodName) ({ cls := "BinderPress", name := "term", desc := "(I)I" } : Jvm.MethodName)) ∈ lw_all := lw_g (lw_at lw_m1 129 rfl) rfl
theorem q213 : (Jvm.Cond.codeWith ({ cls := "BinderPress", name := "term", desc := "(I)I" } : Jvm.MethodName) prog_1_method_11_code (5 : Nat) (Option.some Jvm.ClassFile.FieldType.int) [((15 : Nat), (39 : Nat), (46 : Nat), (117 : Nat)), ((15 : Nat), (39 : Nat), (70 : Nat), (0 : Nat)), ((46 : Nat), (63 : Nat), (70 : Nat), (0 : Nat)), ((70 : Nat), (72 : Nat), (70 : Nat), (0 : Nat))]) ∈ lw_all := lw_g (lw_at lw_m1 130 rfl) rfl
theorem q214 : (Jvm.Cond.classLink "BinderPress" (117 : Nat) "BinderPress$Fault") ∈ lw_all := lw_g (lw_at lw_m1 131 rfl) rfl
theorem q215 : (Jvm.Cond.methodLink "BinderPress" (103 : Nat) ({ cls := "BinderPress", name := "isShelf", desc := "(I)Z" } : Jvm.MethodName)) ∈ lw_all := lw_g (lw_at lw_m1 132 rfl) rfl
theorem q216 : (Jvm.Cond.static ({ cls := "BinderPress", name := "isShelf", desc := "(I)Z" } : Jvm.MethodName)) ∈ lw_all := lw_g (lw_at lw_m1 133 rfl) rfl
theorem q217 : (Jvm.Cond.code ({ cls := "BinderPress", name := "isShelf", desc := "(I)Z" } : Jvm.MethodName) prog_1_method_7_code (1 : Nat) (Option.some Jvm.ClassFile.FieldType.boolean)) ∈ lw_all := lw_g (lw_at lw_m1 134 rfl) rfl
theorem q218 : (Jvm.Cond.constant "BinderPress" (107 : Nat) (-1000000001 : Int32)) ∈ lw_all := lw_g (lw_at lw_m1 135 rfl) rfl
theorem q219 : (Jvm.Cond.classLink "BinderPress" (108 : Nat) "BinderPress$Reader") ∈ lw_all := lw_g (lw_at lw_m1 136 rfl) rfl
theorem q221 : (Jvm.Cond.methodLink "BinderPress" (110 : Nat) ({ cls := "BinderPress$Reader", name := "<init>", desc := "([BI)V" } : Jvm.MethodName)) ∈ lw_all := lw_g (lw_at lw_m1 138 rfl) rfl
theorem q238 : (Jvm.Cond.methodLink "BinderPress" (113 : Nat) ({ cls := "BinderPress$Reader", name := "all", desc := "()LBinderPress$Term;" } : Jvm.MethodName)) ∈ lw_all := lw_g (lw_at lw_m1 155 rfl) rfl
theorem q258 : (Jvm.Cond.static ({ cls := "BinderPress", name := "isName", desc := "(I)Z" } : Jvm.MethodName)) ∈ lw_all := lw_g (lw_at lw_m1 175 rfl) rfl
theorem q259 : (Jvm.Cond.code ({ cls := "BinderPress", name := "isName", desc := "(I)Z" } : Jvm.MethodName) prog_1_method_2_code (1 : Nat) (Option.some Jvm.ClassFile.FieldType.boolean)) ∈ lw_all := lw_g (lw_at lw_m1 176 rfl) rfl
theorem q261 : (Jvm.Cond.static ({ cls := "BinderPress", name := "textOf", desc := "(I)Ljava/lang/String;" } : Jvm.MethodName)) ∈ lw_all := lw_g (lw_at lw_m1 178 rfl) rfl
theorem q262 : (Jvm.Cond.code ({ cls := "BinderPress", name := "textOf", desc := "(I)Ljava/lang/String;" } : Jvm.MethodName) prog_1_method_3_code (1 : Nat) (Option.some (Jvm.ClassFile.FieldType.object "java/lang/String"))) ∈ lw_all := lw_g (lw_at lw_m1 179 rfl) rfl
theorem q263 : (Jvm.Cond.stringRef "BinderPress" (7 : Nat) "I") ∈ lw_tbl := lw_at lw_m1 180 rfl
theorem q264 : (Jvm.Cond.stringRef "BinderPress" (9 : Nat) "K") ∈ lw_tbl := lw_at lw_m1 181 rfl
theorem q265 : (Jvm.Cond.stringRef "BinderPress" (11 : Nat) "S") ∈ lw_tbl := lw_at lw_m1 182 rfl
theorem q266 : (Jvm.Cond.stringRef "BinderPress" (13 : Nat) "B") ∈ lw_tbl := lw_at lw_m1 183 rfl
theorem q267 : (Jvm.Cond.stringRef "BinderPress" (15 : Nat) "C") ∈ lw_tbl := lw_at lw_m1 184 rfl
theorem q268 : (Jvm.Cond.stringRef "BinderPress" (17 : Nat) "") ∈ lw_tbl := lw_at lw_m1 185 rfl
theorem q330 : (Jvm.Cond.fieldLinkNest "BinderPress" (122 : Nat) "BinderPress$Fault" "number" "I" "BinderPress") ∈ lw_tbl := lw_at lw_m2 7 rfl
theorem q332 : (Jvm.Cond.fieldLinkNest "BinderPress" (119 : Nat) "BinderPress$Fault" "place" "I" "BinderPress") ∈ lw_tbl := lw_at lw_m2 9 rfl
theorem q400 : (Jvm.Cond.static ({ cls := "BinderPress", name := "signOf", desc := "(I)LBinderPress$Term;" } : Jvm.MethodName)) ∈ lw_all := lw_g (lw_at lw_m2 77 rfl) rfl
theorem q401 : (Jvm.Cond.code ({ cls := "BinderPress", name := "signOf", desc := "(I)LBinderPress$Term;" } : Jvm.MethodName) prog_1_method_4_code (1 : Nat) (Option.some (Jvm.ClassFile.FieldType.object "BinderPress$Term"))) ∈ lw_all := lw_g (lw_at lw_m2 78 rfl) rfl
theorem q402 : (Jvm.Cond.classLink "BinderPress" (19 : Nat) "BinderPress$Sign") ∈ lw_all := lw_g (lw_at lw_m2 79 rfl) rfl
theorem q404 : (Jvm.Cond.methodLink "BinderPress" (21 : Nat) ({ cls := "BinderPress", name := "textOf", desc := "(I)Ljava/lang/String;" } : Jvm.MethodName)) ∈ lw_all := lw_g (lw_at lw_m2 81 rfl) rfl
theorem q405 : (Jvm.Cond.methodLink "BinderPress" (25 : Nat) ({ cls := "BinderPress$Sign", name := "<init>", desc := "(Ljava/lang/String;)V" } : Jvm.MethodName)) ∈ lw_all := lw_g (lw_at lw_m2 82 rfl) rfl
theorem q479 : (Jvm.Cond.methodLink "BinderPress" (94 : Nat) ({ cls := "BinderPress", name := "lay", desc := "(ILBinderPress$Term;)I" } : Jvm.MethodName)) ∈ lw_all := lw_g (lw_at lw_m2 156 rfl) rfl
theorem q480 : (Jvm.Cond.privateMethod ({ cls := "BinderPress", name := "lay", desc := "(ILBinderPress$Term;)I" } : Jvm.MethodName)) ∈ lw_tbl := lw_at lw_m2 157 rfl
theorem q481 : (Jvm.Cond.instanceMethod ({ cls := "BinderPress", name := "lay", desc := "(ILBinderPress$Term;)I" } : Jvm.MethodName)) ∈ lw_all := lw_g (lw_at lw_m2 158 rfl) rfl
theorem q482 : (Jvm.Cond.code ({ cls := "BinderPress", name := "lay", desc := "(ILBinderPress$Term;)I" } : Jvm.MethodName) prog_1_method_8_code (3 : Nat) (Option.some Jvm.ClassFile.FieldType.int)) ∈ lw_all := lw_g (lw_at lw_m2 159 rfl) rfl
theorem q483 : (Jvm.Cond.methodLink "BinderPress" (80 : Nat) ({ cls := "java/lang/System", name := "arraycopy", desc := "(Ljava/lang/Object;ILjava/lang/Object;II)V" } : Jvm.MethodName)) ∈ lw_all := lw_g (lw_at lw_m2 160 rfl) rfl
theorem q487 : (Jvm.Cond.instanceMethod ({ cls := "BinderPress", name := "fault", desc := "()I" } : Jvm.MethodName)) ∈ lw_all := lw_g (lw_at lw_m2 164 rfl) rfl
theorem q488 : (Jvm.Cond.selects "BinderPress" ({ cls := "BinderPress", name := "fault", desc := "()I" } : Jvm.MethodName) ({ cls := "BinderPress", name := "fault", desc := "()I" } : Jvm.MethodName)) ∈ lw_all := lw_g (lw_at lw_m2 165 rfl) rfl
theorem q489 : (Jvm.Cond.code ({ cls := "BinderPress", name := "fault", desc := "()I" } : Jvm.MethodName) prog_1_method_12_code (1 : Nat) (Option.some Jvm.ClassFile.FieldType.int)) ∈ lw_all := lw_g (lw_at lw_m2 166 rfl) rfl
theorem q491 : (Jvm.Cond.instanceMethod ({ cls := "BinderPress", name := "compile", desc := "(I)I" } : Jvm.MethodName)) ∈ lw_all := lw_g (lw_at lw_m2 168 rfl) rfl
theorem q492 : (Jvm.Cond.selects "BinderPress" ({ cls := "BinderPress", name := "compile", desc := "(I)I" } : Jvm.MethodName) ({ cls := "BinderPress", name := "compile", desc := "(I)I" } : Jvm.MethodName)) ∈ lw_all := lw_g (lw_at lw_m2 169 rfl) rfl
theorem q493 : (Jvm.Cond.code ({ cls := "BinderPress", name := "compile", desc := "(I)I" } : Jvm.MethodName) prog_1_method_13_code (2 : Nat) (Option.some Jvm.ClassFile.FieldType.int)) ∈ lw_all := lw_g (lw_at lw_m2 170 rfl) rfl
theorem q494 : (Jvm.Cond.constant "BinderPress" (125 : Nat) (-1000000003 : Int32)) ∈ lw_all := lw_g (lw_at lw_m2 171 rfl) rfl
theorem q495 : (Jvm.Cond.methodLink "BinderPress" (126 : Nat) ({ cls := "BinderPress$Term", name := "compiled", desc := "()LBinderPress$Term;" } : Jvm.MethodName)) ∈ lw_all := lw_g (lw_at lw_m2 172 rfl) rfl
theorem q560 : (Jvm.Cond.static ({ cls := "BinderPress", name := "puts", desc := "(LBinderPress$Term;LBinderPress$Term;LBinderPress$Term;)LBinderPress$Term;" } : Jvm.MethodName)) ∈ lw_all := lw_g (lw_at lw_m2 237 rfl) rfl
theorem q561 : (Jvm.Cond.code ({ cls := "BinderPress", name := "puts", desc := "(LBinderPress$Term;LBinderPress$Term;LBinderPress$Term;)LBinderPress$Term;" } : Jvm.MethodName) prog_1_method_5_code (3 : Nat) (Option.some (Jvm.ClassFile.FieldType.object "BinderPress$Term"))) ∈ lw_all := lw_g (lw_at lw_m2 238 rfl) rfl
theorem q562 : (Jvm.Cond.classLink "BinderPress" (29 : Nat) "BinderPress$Put") ∈ lw_all := lw_g (lw_at lw_m2 239 rfl) rfl
theorem q563 : (Jvm.Cond.methodLink "BinderPress" (31 : Nat) ({ cls := "BinderPress$Put", name := "<init>", desc := "(LBinderPress$Term;LBinderPress$Term;)V" } : Jvm.MethodName)) ∈ lw_all := lw_g (lw_at lw_m3 0 rfl) rfl
theorem q570 : (Jvm.Cond.methodLink "BinderPress" (129 : Nat) ({ cls := "BinderPress", name := "layIfSmall", desc := "(ILBinderPress$Term;)I" } : Jvm.MethodName)) ∈ lw_all := lw_g (lw_at lw_m3 7 rfl) rfl
theorem q571 : (Jvm.Cond.privateMethod ({ cls := "BinderPress", name := "layIfSmall", desc := "(ILBinderPress$Term;)I" } : Jvm.MethodName)) ∈ lw_tbl := lw_at lw_m3 8 rfl
theorem q572 : (Jvm.Cond.instanceMethod ({ cls := "BinderPress", name := "layIfSmall", desc := "(ILBinderPress$Term;)I" } : Jvm.MethodName)) ∈ lw_all := lw_g (lw_at lw_m3 9 rfl) rfl
theorem q573 : (Jvm.Cond.code ({ cls := "BinderPress", name := "layIfSmall", desc := "(ILBinderPress$Term;)I" } : Jvm.MethodName) prog_1_method_9_code (3 : Nat) (Option.some Jvm.ClassFile.FieldType.int)) ∈ lw_all := lw_g (lw_at lw_m3 10 rfl) rfl
theorem q601 : (Jvm.Cond.instanceMethod ({ cls := "BinderPress", name := "takeOut", desc := "(II)I" } : Jvm.MethodName)) ∈ lw_all := lw_g (lw_at lw_m3 38 rfl) rfl
theorem q602 : (Jvm.Cond.selects "BinderPress" ({ cls := "BinderPress", name := "takeOut", desc := "(II)I" } : Jvm.MethodName) ({ cls := "BinderPress", name := "takeOut", desc := "(II)I" } : Jvm.MethodName)) ∈ lw_all := lw_g (lw_at lw_m3 39 rfl) rfl
theorem q603 : (Jvm.Cond.code ({ cls := "BinderPress", name := "takeOut", desc := "(II)I" } : Jvm.MethodName) prog_1_method_14_code (4 : Nat) (Option.some Jvm.ClassFile.FieldType.int)) ∈ lw_all := lw_g (lw_at lw_m3 40 rfl) rfl
theorem q604 : (Jvm.Cond.methodLink "BinderPress" (132 : Nat) ({ cls := "BinderPress", name := "isName", desc := "(I)Z" } : Jvm.MethodName)) ∈ lw_all := lw_g (lw_at lw_m3 41 rfl) rfl
theorem q605 : (Jvm.Cond.methodLink "BinderPress" (135 : Nat) ({ cls := "BinderPress$Term", name := "out", desc := "(I)LBinderPress$Term;" } : Jvm.MethodName)) ∈ lw_all := lw_g (lw_at lw_m3 42 rfl) rfl
theorem q607 : (Jvm.Cond.instanceMethod ({ cls := "BinderPress", name := "put", desc := "(III)I" } : Jvm.MethodName)) ∈ lw_all := lw_g (lw_at lw_m3 44 rfl) rfl
theorem q608 : (Jvm.Cond.selects "BinderPress" ({ cls := "BinderPress", name := "put", desc := "(III)I" } : Jvm.MethodName) ({ cls := "BinderPress", name := "put", desc := "(III)I" } : Jvm.MethodName)) ∈ lw_all := lw_g (lw_at lw_m3 45 rfl) rfl
theorem q609 : (Jvm.Cond.code ({ cls := "BinderPress", name := "put", desc := "(III)I" } : Jvm.MethodName) prog_1_method_15_code (4 : Nat) (Option.some Jvm.ClassFile.FieldType.int)) ∈ lw_all := lw_g (lw_at lw_m3 46 rfl) rfl
theorem q611 : (Jvm.Cond.instanceMethod ({ cls := "BinderPress", name := "putIn", desc := "(III)I" } : Jvm.MethodName)) ∈ lw_all := lw_g (lw_at lw_m3 48 rfl) rfl
theorem q612 : (Jvm.Cond.selects "BinderPress" ({ cls := "BinderPress", name := "putIn", desc := "(III)I" } : Jvm.MethodName) ({ cls := "BinderPress", name := "putIn", desc := "(III)I" } : Jvm.MethodName)) ∈ lw_all := lw_g (lw_at lw_m3 49 rfl) rfl
theorem q613 : (Jvm.Cond.code ({ cls := "BinderPress", name := "putIn", desc := "(III)I" } : Jvm.MethodName) prog_1_method_17_code (4 : Nat) (Option.some Jvm.ClassFile.FieldType.int)) ∈ lw_all := lw_g (lw_at lw_m3 50 rfl) rfl
theorem q614 : (Jvm.Cond.methodLink "BinderPress" (142 : Nat) ({ cls := "BinderPress", name := "isPlain", desc := "(I)Z" } : Jvm.MethodName)) ∈ lw_all := lw_g (lw_at lw_m3 51 rfl) rfl
theorem q615 : (Jvm.Cond.privateMethod ({ cls := "BinderPress", name := "isPlain", desc := "(I)Z" } : Jvm.MethodName)) ∈ lw_tbl := lw_at lw_m3 52 rfl
theorem q616 : (Jvm.Cond.instanceMethod ({ cls := "BinderPress", name := "isPlain", desc := "(I)Z" } : Jvm.MethodName)) ∈ lw_all := lw_g (lw_at lw_m3 53 rfl) rfl
theorem q617 : (Jvm.Cond.code ({ cls := "BinderPress", name := "isPlain", desc := "(I)Z" } : Jvm.MethodName) prog_1_method_16_code (2 : Nat) (Option.some Jvm.ClassFile.FieldType.boolean)) ∈ lw_all := lw_g (lw_at lw_m3 54 rfl) rfl
theorem q618 : (Jvm.Cond.methodLink "BinderPress" (139 : Nat) ({ cls := "BinderPress$Term", name := "binders", desc := "()I" } : Jvm.MethodName)) ∈ lw_all := lw_g (lw_at lw_m3 55 rfl) rfl
theorem q619 : (Jvm.Cond.methodLink "BinderPress" (145 : Nat) ({ cls := "BinderPress$Term", name := "putIn", desc := "(ILBinderPress$Term;)LBinderPress$Term;" } : Jvm.MethodName)) ∈ lw_all := lw_g (lw_at lw_m3 56 rfl) rfl
theorem q636 : (Jvm.Cond.instanceMethod ({ cls := "BinderPress", name := "work", desc := "(III)I" } : Jvm.MethodName)) ∈ lw_all := lw_g (lw_at lw_m3 73 rfl) rfl
theorem q637 : (Jvm.Cond.selects "BinderPress" ({ cls := "BinderPress", name := "work", desc := "(III)I" } : Jvm.MethodName) ({ cls := "BinderPress", name := "work", desc := "(III)I" } : Jvm.MethodName)) ∈ lw_all := lw_g (lw_at lw_m3 74 rfl) rfl
theorem q638 : (Jvm.Cond.code ({ cls := "BinderPress", name := "work", desc := "(III)I" } : Jvm.MethodName) prog_1_method_18_code (5 : Nat) (Option.some Jvm.ClassFile.FieldType.int)) ∈ lw_all := lw_g (lw_at lw_m3 75 rfl) rfl
theorem q639 : (Jvm.Cond.methodLink "BinderPress" (149 : Nat) ({ cls := "BinderPress$Work", name := "begin", desc := "(LBinderPress$Term;Z)V" } : Jvm.MethodName)) ∈ lw_all := lw_g (lw_at lw_m3 76 rfl) rfl
theorem q692 : (Jvm.Cond.methodLink "BinderPress" (153 : Nat) ({ cls := "BinderPress$Work", name := "go", desc := "(I)V" } : Jvm.MethodName)) ∈ lw_all := lw_g (lw_at lw_m3 129 rfl) rfl
theorem q798 : (Jvm.Cond.methodLink "BinderPress" (161 : Nat) ({ cls := "BinderPress$Work", name := "size", desc := "()I" } : Jvm.MethodName)) ∈ lw_all := lw_g (lw_at lw_m3 235 rfl) rfl
theorem q799 : (Jvm.Cond.methodLink "BinderPress" (162 : Nat) ({ cls := "BinderPress$Sized", name := "fits", desc := "(I)Z" } : Jvm.MethodName)) ∈ lw_all := lw_g (lw_at lw_m3 236 rfl) rfl
theorem q800 : (Jvm.Cond.methodLink "BinderPress" (167 : Nat) ({ cls := "BinderPress$Work", name := "term", desc := "()LBinderPress$Term;" } : Jvm.MethodName)) ∈ lw_all := lw_g (lw_at lw_m3 237 rfl) rfl
theorem q813 : (Jvm.Cond.instanceMethod ({ cls := "BinderPress", name := "drop", desc := "(I)I" } : Jvm.MethodName)) ∈ lw_all := lw_g (lw_at lw_m4 10 rfl) rfl
theorem q814 : (Jvm.Cond.selects "BinderPress" ({ cls := "BinderPress", name := "drop", desc := "(I)I" } : Jvm.MethodName) ({ cls := "BinderPress", name := "drop", desc := "(I)I" } : Jvm.MethodName)) ∈ lw_all := lw_g (lw_at lw_m4 11 rfl) rfl
theorem q815 : (Jvm.Cond.code ({ cls := "BinderPress", name := "drop", desc := "(I)I" } : Jvm.MethodName) prog_1_method_19_code (3 : Nat) (Option.some Jvm.ClassFile.FieldType.int)) ∈ lw_all := lw_g (lw_at lw_m4 12 rfl) rfl
theorem q817 : (Jvm.Cond.instanceMethod ({ cls := "BinderPress", name := "drift", desc := "(III)I" } : Jvm.MethodName)) ∈ lw_all := lw_g (lw_at lw_m4 14 rfl) rfl
theorem q818 : (Jvm.Cond.selects "BinderPress" ({ cls := "BinderPress", name := "drift", desc := "(III)I" } : Jvm.MethodName) ({ cls := "BinderPress", name := "drift", desc := "(III)I" } : Jvm.MethodName)) ∈ lw_all := lw_g (lw_at lw_m4 15 rfl) rfl
theorem q819 : (Jvm.Cond.code ({ cls := "BinderPress", name := "drift", desc := "(III)I" } : Jvm.MethodName) prog_1_method_21_code (8 : Nat) (Option.some Jvm.ClassFile.FieldType.int)) ∈ lw_all := lw_g (lw_at lw_m4 16 rfl) rfl
theorem q820 : (Jvm.Cond.constant "BinderPress" (181 : Nat) (999999 : Int32)) ∈ lw_all := lw_g (lw_at lw_m4 17 rfl) rfl
theorem q821 : (Jvm.Cond.stringRef "BinderPress" (182 : Nat) "IKSBC") ∈ lw_tbl := lw_at lw_m4 18 rfl
theorem q822 : (Jvm.Cond.methodLink "BinderPress" (184 : Nat) ({ cls := "java/lang/String", name := "length", desc := "()I" } : Jvm.MethodName)) ∈ lw_all := lw_g (lw_at lw_m4 19 rfl) rfl
theorem q823 : (Jvm.Cond.methodLink "BinderPress" (186 : Nat) ({ cls := "BinderPress", name := "nextLot", desc := "(I)I" } : Jvm.MethodName)) ∈ lw_all := lw_g (lw_at lw_m4 20 rfl) rfl
theorem q824 : (Jvm.Cond.privateMethod ({ cls := "BinderPress", name := "nextLot", desc := "(I)I" } : Jvm.MethodName)) ∈ lw_tbl := lw_at lw_m4 21 rfl
theorem q825 : (Jvm.Cond.instanceMethod ({ cls := "BinderPress", name := "nextLot", desc := "(I)I" } : Jvm.MethodName)) ∈ lw_all := lw_g (lw_at lw_m4 22 rfl) rfl
theorem q826 : (Jvm.Cond.code ({ cls := "BinderPress", name := "nextLot", desc := "(I)I" } : Jvm.MethodName) prog_1_method_20_code (2 : Nat) (Option.some Jvm.ClassFile.FieldType.int)) ∈ lw_all := lw_g (lw_at lw_m4 23 rfl) rfl
theorem q827 : (Jvm.Cond.constantLong "BinderPress" (177 : Nat) (16807 : Int64)) ∈ lw_all := lw_g (lw_at lw_m4 24 rfl) rfl
theorem q828 : (Jvm.Cond.constantLong "BinderPress" (179 : Nat) (2147483647 : Int64)) ∈ lw_all := lw_g (lw_at lw_m4 25 rfl) rfl
theorem q829 : (Jvm.Cond.methodLink "BinderPress" (190 : Nat) ({ cls := "java/lang/String", name := "charAt", desc := "(I)C" } : Jvm.MethodName)) ∈ lw_all := lw_g (lw_at lw_m4 26 rfl) rfl
theorem q830 : (Jvm.Cond.methodLink "BinderPress" (194 : Nat) ({ cls := "BinderPress", name := "signOf", desc := "(I)LBinderPress$Term;" } : Jvm.MethodName)) ∈ lw_all := lw_g (lw_at lw_m4 27 rfl) rfl
theorem q832 : (Jvm.Cond.instanceMethod ({ cls := "BinderPress", name := "undo", desc := "()I" } : Jvm.MethodName)) ∈ lw_all := lw_g (lw_at lw_m4 29 rfl) rfl
theorem q833 : (Jvm.Cond.selects "BinderPress" ({ cls := "BinderPress", name := "undo", desc := "()I" } : Jvm.MethodName) ({ cls := "BinderPress", name := "undo", desc := "()I" } : Jvm.MethodName)) ∈ lw_all := lw_g (lw_at lw_m4 30 rfl) rfl
theorem q834 : (Jvm.Cond.code ({ cls := "BinderPress", name := "undo", desc := "()I" } : Jvm.MethodName) prog_1_method_22_code (1 : Nat) (Option.some Jvm.ClassFile.FieldType.int)) ∈ lw_all := lw_g (lw_at lw_m4 31 rfl) rfl
theorem q836 : (Jvm.Cond.instanceMethod ({ cls := "BinderPress", name := "told", desc := "(I)I" } : Jvm.MethodName)) ∈ lw_all := lw_g (lw_at lw_m4 33 rfl) rfl
theorem q837 : (Jvm.Cond.selects "BinderPress" ({ cls := "BinderPress", name := "told", desc := "(I)I" } : Jvm.MethodName) ({ cls := "BinderPress", name := "told", desc := "(I)I" } : Jvm.MethodName)) ∈ lw_all := lw_g (lw_at lw_m4 34 rfl) rfl
theorem q838 : (Jvm.Cond.code ({ cls := "BinderPress", name := "told", desc := "(I)I" } : Jvm.MethodName) prog_1_method_24_code (2 : Nat) (Option.some Jvm.ClassFile.FieldType.int)) ∈ lw_all := lw_g (lw_at lw_m4 35 rfl) rfl
theorem q839 : (Jvm.Cond.methodLink "BinderPress" (197 : Nat) ({ cls := "BinderPress", name := "filled", desc := "()I" } : Jvm.MethodName)) ∈ lw_all := lw_g (lw_at lw_m4 36 rfl) rfl
theorem q840 : (Jvm.Cond.privateMethod ({ cls := "BinderPress", name := "filled", desc := "()I" } : Jvm.MethodName)) ∈ lw_tbl := lw_at lw_m4 37 rfl
theorem q841 : (Jvm.Cond.instanceMethod ({ cls := "BinderPress", name := "filled", desc := "()I" } : Jvm.MethodName)) ∈ lw_all := lw_g (lw_at lw_m4 38 rfl) rfl
theorem q842 : (Jvm.Cond.code ({ cls := "BinderPress", name := "filled", desc := "()I" } : Jvm.MethodName) prog_1_method_23_code (3 : Nat) (Option.some Jvm.ClassFile.FieldType.int)) ∈ lw_all := lw_g (lw_at lw_m4 39 rfl) rfl
theorem q844 : (Jvm.Cond.instanceMethod ({ cls := "BinderPress", name := "of", desc := "(II)I" } : Jvm.MethodName)) ∈ lw_all := lw_g (lw_at lw_m4 41 rfl) rfl
theorem q845 : (Jvm.Cond.selects "BinderPress" ({ cls := "BinderPress", name := "of", desc := "(II)I" } : Jvm.MethodName) ({ cls := "BinderPress", name := "of", desc := "(II)I" } : Jvm.MethodName)) ∈ lw_all := lw_g (lw_at lw_m4 42 rfl) rfl
theorem q846 : (Jvm.Cond.code ({ cls := "BinderPress", name := "of", desc := "(II)I" } : Jvm.MethodName) prog_1_method_30_code (3 : Nat) (Option.some Jvm.ClassFile.FieldType.int)) ∈ lw_all := lw_g (lw_at lw_m4 43 rfl) rfl
theorem q847 : (Jvm.Cond.methodLink "BinderPress" (245 : Nat) ({ cls := "BinderPress", name := "toldOf", desc := "(LBinderPress$Term;I)I" } : Jvm.MethodName)) ∈ lw_all := lw_g (lw_at lw_m4 44 rfl) rfl
theorem q848 : (Jvm.Cond.static ({ cls := "BinderPress", name := "toldOf", desc := "(LBinderPress$Term;I)I" } : Jvm.MethodName)) ∈ lw_all := lw_g (lw_at lw_m4 45 rfl) rfl
theorem q849 : (Jvm.Cond.code ({ cls := "BinderPress", name := "toldOf", desc := "(LBinderPress$Term;I)I" } : Jvm.MethodName) prog_1_method_29_code (2 : Nat) (Option.some Jvm.ClassFile.FieldType.int)) ∈ lw_all := lw_g (lw_at lw_m4 46 rfl) rfl
theorem q850 : (Jvm.Cond.methodLink "BinderPress" (233 : Nat) ({ cls := "BinderPress$Term", name := "free", desc := "()I" } : Jvm.MethodName)) ∈ lw_all := lw_g (lw_at lw_m4 47 rfl) rfl
theorem q851 : (Jvm.Cond.methodLink "BinderPress" (236 : Nat) ({ cls := "BinderPress$Term", name := "count", desc := "(I)I" } : Jvm.MethodName)) ∈ lw_all := lw_g (lw_at lw_m4 48 rfl) rfl
theorem q870 : (Jvm.Cond.methodLink "BinderPress" (239 : Nat) ({ cls := "BinderPress", name := "written", desc := "(LBinderPress$Term;)Ljava/lang/String;" } : Jvm.MethodName)) ∈ lw_all := lw_g (lw_at lw_m4 67 rfl) rfl
theorem q871 : (Jvm.Cond.static ({ cls := "BinderPress", name := "written", desc := "(LBinderPress$Term;)Ljava/lang/String;" } : Jvm.MethodName)) ∈ lw_all := lw_g (lw_at lw_m4 68 rfl) rfl
theorem q872 : (Jvm.Cond.code ({ cls := "BinderPress", name := "written", desc := "(LBinderPress$Term;)Ljava/lang/String;" } : Jvm.MethodName) prog_1_method_25_code (2 : Nat) (Option.some (Jvm.ClassFile.FieldType.object "java/lang/String"))) ∈ lw_all := lw_g (lw_at lw_m4 69 rfl) rfl
theorem q873 : (Jvm.Cond.classLink "BinderPress" (200 : Nat) "java/lang/StringBuilder") ∈ lw_all := lw_g (lw_at lw_m4 70 rfl) rfl
theorem q875 : (Jvm.Cond.methodLink "BinderPress" (202 : Nat) ({ cls := "java/lang/StringBuilder", name := "<init>", desc := "()V" } : Jvm.MethodName)) ∈ lw_all := lw_g (lw_at lw_m4 72 rfl) rfl
theorem q903 : (Jvm.Cond.methodLink "BinderPress" (203 : Nat) ({ cls := "BinderPress$Term", name := "write", desc := "(Ljava/lang/StringBuilder;)V" } : Jvm.MethodName)) ∈ lw_all := lw_g (lw_at lw_m4 100 rfl) rfl
theorem q1061 : (Jvm.Cond.methodLink "BinderPress" (207 : Nat) ({ cls := "java/lang/StringBuilder", name := "toString", desc := "()Ljava/lang/String;" } : Jvm.MethodName)) ∈ lw_all := lw_g (lw_at lw_m5 18 rfl) rfl
theorem q1120 : (Jvm.Cond.methodLink "BinderPress" (242 : Nat) ({ cls := "BinderPress$Term", name := "deep", desc := "()I" } : Jvm.MethodName)) ∈ lw_all := lw_g (lw_at lw_m5 77 rfl) rfl
theorem q1138 : (Jvm.Cond.methodLink "BinderPress" (249 : Nat) ({ cls := "BinderPress", name := "kindLength", desc := "(I)I" } : Jvm.MethodName)) ∈ lw_all := lw_g (lw_at lw_m5 95 rfl) rfl
theorem q1139 : (Jvm.Cond.privateMethod ({ cls := "BinderPress", name := "kindLength", desc := "(I)I" } : Jvm.MethodName)) ∈ lw_tbl := lw_at lw_m5 96 rfl
theorem q1140 : (Jvm.Cond.instanceMethod ({ cls := "BinderPress", name := "kindLength", desc := "(I)I" } : Jvm.MethodName)) ∈ lw_all := lw_g (lw_at lw_m5 97 rfl) rfl
theorem q1141 : (Jvm.Cond.code ({ cls := "BinderPress", name := "kindLength", desc := "(I)I" } : Jvm.MethodName) prog_1_method_28_code (2 : Nat) (Option.some Jvm.ClassFile.FieldType.int)) ∈ lw_all := lw_g (lw_at lw_m5 98 rfl) rfl
theorem q1142 : (Jvm.Cond.methodLink "BinderPress" (230 : Nat) ({ cls := "BinderPress", name := "isTooLong", desc := "(I)Z" } : Jvm.MethodName)) ∈ lw_all := lw_g (lw_at lw_m5 99 rfl) rfl
theorem q1143 : (Jvm.Cond.privateMethod ({ cls := "BinderPress", name := "isTooLong", desc := "(I)Z" } : Jvm.MethodName)) ∈ lw_tbl := lw_at lw_m5 100 rfl
theorem q1144 : (Jvm.Cond.instanceMethod ({ cls := "BinderPress", name := "isTooLong", desc := "(I)Z" } : Jvm.MethodName)) ∈ lw_all := lw_g (lw_at lw_m5 101 rfl) rfl
theorem q1145 : (Jvm.Cond.code ({ cls := "BinderPress", name := "isTooLong", desc := "(I)Z" } : Jvm.MethodName) prog_1_method_27_code (2 : Nat) (Option.some Jvm.ClassFile.FieldType.boolean)) ∈ lw_all := lw_g (lw_at lw_m5 102 rfl) rfl
theorem q1146 : (Jvm.Cond.methodLink "BinderPress" (223 : Nat) ({ cls := "BinderPress", name := "kindAt", desc := "(I)Ljava/lang/String;" } : Jvm.MethodName)) ∈ lw_all := lw_g (lw_at lw_m5 103 rfl) rfl
theorem q1147 : (Jvm.Cond.privateMethod ({ cls := "BinderPress", name := "kindAt", desc := "(I)Ljava/lang/String;" } : Jvm.MethodName)) ∈ lw_tbl := lw_at lw_m5 104 rfl
theorem q1148 : (Jvm.Cond.instanceMethod ({ cls := "BinderPress", name := "kindAt", desc := "(I)Ljava/lang/String;" } : Jvm.MethodName)) ∈ lw_all := lw_g (lw_at lw_m5 105 rfl) rfl
theorem q1149 : (Jvm.Cond.codeWith ({ cls := "BinderPress", name := "kindAt", desc := "(I)Ljava/lang/String;" } : Jvm.MethodName) prog_1_method_26_code (3 : Nat) (Option.some (Jvm.ClassFile.FieldType.object "java/lang/String")) [((9 : Nat), (31 : Nat), (34 : Nat), (219 : Nat))]) ∈ lw_all := lw_g (lw_at lw_m5 106 rfl) rfl
theorem q1150 : (Jvm.Cond.classLink "BinderPress" (219 : Nat) "BinderPress$TooLong") ∈ lw_all := lw_g (lw_at lw_m5 107 rfl) rfl
theorem q1151 : (Jvm.Cond.classLink "BinderPress" (211 : Nat) "BinderPress$Kinds") ∈ lw_all := lw_g (lw_at lw_m5 108 rfl) rfl
theorem q1153 : (Jvm.Cond.methodLink "BinderPress" (213 : Nat) ({ cls := "BinderPress$Kinds", name := "<init>", desc := "(LBinderPress$Term;)V" } : Jvm.MethodName)) ∈ lw_all := lw_g (lw_at lw_m5 110 rfl) rfl
theorem q1233 : (Jvm.Cond.methodLink "BinderPress" (216 : Nat) ({ cls := "BinderPress$Kinds", name := "written", desc := "()Ljava/lang/String;" } : Jvm.MethodName)) ∈ lw_all := lw_g (lw_at lw_m5 190 rfl) rfl
theorem q1280 : (Jvm.Cond.stringRef "BinderPress" (221 : Nat) "*") ∈ lw_tbl := lw_at lw_m5 237 rfl
theorem q1281 : (Jvm.Cond.methodLink "BinderPress" (226 : Nat) ({ cls := "java/lang/String", name := "equals", desc := "(Ljava/lang/Object;)Z" } : Jvm.MethodName)) ∈ lw_all := lw_g (lw_at lw_m5 238 rfl) rfl
theorem q1283 : (Jvm.Cond.instanceMethod ({ cls := "BinderPress", name := "sign", desc := "(II)I" } : Jvm.MethodName)) ∈ lw_all := lw_g (lw_at lw_m6 0 rfl) rfl
theorem q1284 : (Jvm.Cond.selects "BinderPress" ({ cls := "BinderPress", name := "sign", desc := "(II)I" } : Jvm.MethodName) ({ cls := "BinderPress", name := "sign", desc := "(II)I" } : Jvm.MethodName)) ∈ lw_all := lw_g (lw_at lw_m6 1 rfl) rfl
theorem q1285 : (Jvm.Cond.code ({ cls := "BinderPress", name := "sign", desc := "(II)I" } : Jvm.MethodName) prog_1_method_32_code (3 : Nat) (Option.some Jvm.ClassFile.FieldType.int)) ∈ lw_all := lw_g (lw_at lw_m6 2 rfl) rfl
theorem q1286 : (Jvm.Cond.methodLink "BinderPress" (256 : Nat) ({ cls := "BinderPress", name := "at", desc := "(Ljava/lang/CharSequence;I)I" } : Jvm.MethodName)) ∈ lw_all := lw_g (lw_at lw_m6 3 rfl) rfl
theorem q1287 : (Jvm.Cond.static ({ cls := "BinderPress", name := "at", desc := "(Ljava/lang/CharSequence;I)I" } : Jvm.MethodName)) ∈ lw_all := lw_g (lw_at lw_m6 4 rfl) rfl
theorem q1288 : (Jvm.Cond.code ({ cls := "BinderPress", name := "at", desc := "(Ljava/lang/CharSequence;I)I" } : Jvm.MethodName) prog_1_method_31_code (2 : Nat) (Option.some Jvm.ClassFile.FieldType.int)) ∈ lw_all := lw_g (lw_at lw_m6 5 rfl) rfl
theorem q1289 : (Jvm.Cond.interfaceEntry "BinderPress" (252 : Nat)) ∈ lw_tbl := lw_at lw_m6 6 rfl
theorem q1290 : (Jvm.Cond.methodLink "BinderPress" (252 : Nat) ({ cls := "java/lang/CharSequence", name := "length", desc := "()I" } : Jvm.MethodName)) ∈ lw_all := lw_g (lw_at lw_m6 7 rfl) rfl
theorem q1301 : (Jvm.Cond.interfaceEntry "BinderPress" (255 : Nat)) ∈ lw_tbl := lw_at lw_m6 18 rfl
theorem q1302 : (Jvm.Cond.methodLink "BinderPress" (255 : Nat) ({ cls := "java/lang/CharSequence", name := "charAt", desc := "(I)C" } : Jvm.MethodName)) ∈ lw_all := lw_g (lw_at lw_m6 19 rfl) rfl
theorem q1320 : (Jvm.Cond.instanceMethod ({ cls := "BinderPress", name := "kind", desc := "(II)I" } : Jvm.MethodName)) ∈ lw_all := lw_g (lw_at lw_m6 37 rfl) rfl
theorem q1321 : (Jvm.Cond.selects "BinderPress" ({ cls := "BinderPress", name := "kind", desc := "(II)I" } : Jvm.MethodName) ({ cls := "BinderPress", name := "kind", desc := "(II)I" } : Jvm.MethodName)) ∈ lw_all := lw_g (lw_at lw_m6 38 rfl) rfl
theorem q1322 : (Jvm.Cond.code ({ cls := "BinderPress", name := "kind", desc := "(II)I" } : Jvm.MethodName) prog_1_method_33_code (3 : Nat) (Option.some Jvm.ClassFile.FieldType.int)) ∈ lw_all := lw_g (lw_at lw_m6 39 rfl) rfl
theorem q1324 : (Jvm.Cond.instanceMethod ({ cls := "BinderPress", name := "steps", desc := "(II)I" } : Jvm.MethodName)) ∈ lw_all := lw_g (lw_at lw_m6 41 rfl) rfl
theorem q1325 : (Jvm.Cond.selects "BinderPress" ({ cls := "BinderPress", name := "steps", desc := "(II)I" } : Jvm.MethodName) ({ cls := "BinderPress", name := "steps", desc := "(II)I" } : Jvm.MethodName)) ∈ lw_all := lw_g (lw_at lw_m6 42 rfl) rfl
theorem q1326 : (Jvm.Cond.code ({ cls := "BinderPress", name := "steps", desc := "(II)I" } : Jvm.MethodName) prog_1_method_34_code (3 : Nat) (Option.some Jvm.ClassFile.FieldType.int)) ∈ lw_all := lw_g (lw_at lw_m6 43 rfl) rfl
theorem q1328 : (Jvm.Cond.instanceMethod ({ cls := "BinderPress", name := "same", desc := "(II)I" } : Jvm.MethodName)) ∈ lw_all := lw_g (lw_at lw_m6 45 rfl) rfl
theorem q1329 : (Jvm.Cond.selects "BinderPress" ({ cls := "BinderPress", name := "same", desc := "(II)I" } : Jvm.MethodName) ({ cls := "BinderPress", name := "same", desc := "(II)I" } : Jvm.MethodName)) ∈ lw_all := lw_g (lw_at lw_m6 46 rfl) rfl
theorem q1330 : (Jvm.Cond.code ({ cls := "BinderPress", name := "same", desc := "(II)I" } : Jvm.MethodName) prog_1_method_35_code (3 : Nat) (Option.some Jvm.ClassFile.FieldType.int)) ∈ lw_all := lw_g (lw_at lw_m6 47 rfl) rfl
theorem q1331 : (Jvm.Cond.methodLink "BinderPress" (263 : Nat) ({ cls := "BinderPress$Term", name := "isSame", desc := "(LBinderPress$Term;)Z" } : Jvm.MethodName)) ∈ lw_all := lw_g (lw_at lw_m6 48 rfl) rfl
theorem q1353 : (Jvm.Cond.instanceMethod ({ cls := "BinderPress", name := "sameKind", desc := "(II)I" } : Jvm.MethodName)) ∈ lw_all := lw_g (lw_at lw_m6 70 rfl) rfl
theorem q1354 : (Jvm.Cond.selects "BinderPress" ({ cls := "BinderPress", name := "sameKind", desc := "(II)I" } : Jvm.MethodName) ({ cls := "BinderPress", name := "sameKind", desc := "(II)I" } : Jvm.MethodName)) ∈ lw_all := lw_g (lw_at lw_m6 71 rfl) rfl
theorem q1355 : (Jvm.Cond.code ({ cls := "BinderPress", name := "sameKind", desc := "(II)I" } : Jvm.MethodName) prog_1_method_36_code (3 : Nat) (Option.some Jvm.ClassFile.FieldType.int)) ∈ lw_all := lw_g (lw_at lw_m6 72 rfl) rfl
theorem q1357 : (Jvm.Cond.instanceMethod ({ cls := "BinderPress", name := "keep", desc := "(I)I" } : Jvm.MethodName)) ∈ lw_all := lw_g (lw_at lw_m6 74 rfl) rfl
theorem q1358 : (Jvm.Cond.selects "BinderPress" ({ cls := "BinderPress", name := "keep", desc := "(I)I" } : Jvm.MethodName) ({ cls := "BinderPress", name := "keep", desc := "(I)I" } : Jvm.MethodName)) ∈ lw_all := lw_g (lw_at lw_m6 75 rfl) rfl
theorem q1359 : (Jvm.Cond.code ({ cls := "BinderPress", name := "keep", desc := "(I)I" } : Jvm.MethodName) prog_1_method_37_code (2 : Nat) (Option.some Jvm.ClassFile.FieldType.int)) ∈ lw_all := lw_g (lw_at lw_m6 76 rfl) rfl
theorem q1361 : (Jvm.Cond.instanceMethod ({ cls := "BinderPress", name := "goBack", desc := "(I)I" } : Jvm.MethodName)) ∈ lw_all := lw_g (lw_at lw_m6 78 rfl) rfl
theorem q1362 : (Jvm.Cond.selects "BinderPress" ({ cls := "BinderPress", name := "goBack", desc := "(I)I" } : Jvm.MethodName) ({ cls := "BinderPress", name := "goBack", desc := "(I)I" } : Jvm.MethodName)) ∈ lw_all := lw_g (lw_at lw_m6 79 rfl) rfl
theorem q1363 : (Jvm.Cond.code ({ cls := "BinderPress", name := "goBack", desc := "(I)I" } : Jvm.MethodName) prog_1_method_38_code (3 : Nat) (Option.some Jvm.ClassFile.FieldType.int)) ∈ lw_all := lw_g (lw_at lw_m6 80 rfl) rfl
theorem in_X0 : ∀ w ∈ wsX00, w ∈ lw_all := lw_in wsX00 [177, 179, 181, 183, 185, 187, 189, 191, 193, 195, 197] (by decide +kernel) (by decide +kernel)
/-! BinderPress$Work -/
set_option maxRecDepth 100000
def RX1 : String := "BinderPress$Work"
def TX1 : u_T := fun k => match k with
  | 0 => ("BinderPress$Work", "leaf", "[I", true)
  | 1 => ("BinderPress$Work", "left", "[I", true)
  | 2 => ("BinderPress$Work", "right", "[I", true)
  | 3 => ("BinderPress$Work", "link", "[I", true)
  | 4 => ("BinderPress$Work", "cells", "I", false)
  | 5 => ("BinderPress$Work", "root", "I", false)
  | 6 => ("BinderPress$Work", "isShared", "Z", false)
  | 7 => ("BinderPress$Work", "steps", "I", false)
  | 8 => ("BinderPress$Work", "isBig", "Z", false)
  | _ => ("BinderPress$Work", "isDone", "Z", false)
def tyX1 : Nat → FieldType := fun k => match k with
  | 0 => .array .int
  | 1 => .array .int
  | 2 => .array .int
  | 3 => .array .int
  | 4 => .int
  | 5 => .int
  | 6 => .boolean
  | 7 => .int
  | 8 => .boolean
  | _ => .boolean
abbrev wsX10 : List Cond := u_ws RX1 TX1 10
theorem nmX1 : ∀ a, a < 10 → ∀ b, b < 10 → a ≠ b → (TX1 a).2.1 ≠ (TX1 b).2.1 := by decide +kernel
theorem tyX1_ok : ∀ k, k < 10 → parseFieldDescriptor (TX1 k).2.2.1 = some (tyX1 k) := by decide +kernel
abbrev cX1_init : ByteArray := prog_13_method_1_code
def yX1_init : MethodName := ⟨RX1, "<init>", "()V"⟩
def dkwX1_init_1 : List UInt8 := [188, 10, 181, 0, 19, 42, 18, 9, 188, 10, 181, 0, 22, 177]
abbrev dktX1_init_1 : List UInt8 := dkwX1_init_1 ++ []
def dkwX1_init_0 : List UInt8 := [42, 183, 0, 3, 42, 18, 9, 188, 10, 181, 0, 10, 42, 18, 9, 188, 10, 181, 0, 16, 42, 18, 9]
abbrev dktX1_init_0 : List UInt8 := dkwX1_init_0 ++ dktX1_init_1
theorem dksX1_init_0 : cX1_init.data.toList.drop 0 = dktX1_init_0 := by decide +kernel
theorem dksX1_init_1 : cX1_init.data.toList.drop 23 = dktX1_init_1 := dk_seg dksX1_init_0 23 rfl rfl
theorem dX1_init_0 : decode cX1_init 0 = .ok (.aload_n 0, 1) := dk_42 (dk_at dksX1_init_0 0 rfl rfl)
theorem dX1_init_1 : decode cX1_init 1 = .ok (.invokespecial 3, 3) := dk_183 0 3 (dk_at dksX1_init_0 1 rfl rfl)
theorem dX1_init_4 : decode cX1_init 4 = .ok (.aload_n 0, 1) := dk_42 (dk_at dksX1_init_0 4 rfl rfl)
theorem dX1_init_5 : decode cX1_init 5 = .ok (.ldc 9, 2) := dk_18 9 (dk_at dksX1_init_0 5 rfl rfl)
theorem dX1_init_7 : decode cX1_init 7 = .ok (.newarray .int, 2) := dk_188_10 (dk_at dksX1_init_0 7 rfl rfl)
theorem dX1_init_9 : decode cX1_init 9 = .ok (.putfield 10, 3) := dk_181 0 10 (dk_at dksX1_init_0 9 rfl rfl)
theorem dX1_init_12 : decode cX1_init 12 = .ok (.aload_n 0, 1) := dk_42 (dk_at dksX1_init_0 12 rfl rfl)
theorem dX1_init_13 : decode cX1_init 13 = .ok (.ldc 9, 2) := dk_18 9 (dk_at dksX1_init_0 13 rfl rfl)
theorem dX1_init_15 : decode cX1_init 15 = .ok (.newarray .int, 2) := dk_188_10 (dk_at dksX1_init_0 15 rfl rfl)
theorem dX1_init_17 : decode cX1_init 17 = .ok (.putfield 16, 3) := dk_181 0 16 (dk_at dksX1_init_0 17 rfl rfl)
theorem dX1_init_20 : decode cX1_init 20 = .ok (.aload_n 0, 1) := dk_42 (dk_at dksX1_init_0 20 rfl rfl)
theorem dX1_init_21 : decode cX1_init 21 = .ok (.ldc 9, 2) := dk_18 9 (dk_at dksX1_init_0 21 rfl rfl)
theorem dX1_init_23 : decode cX1_init 23 = .ok (.newarray .int, 2) := dk_188_10 (dk_at dksX1_init_1 0 rfl rfl)
theorem dX1_init_25 : decode cX1_init 25 = .ok (.putfield 19, 3) := dk_181 0 19 (dk_at dksX1_init_1 2 rfl rfl)
theorem dX1_init_28 : decode cX1_init 28 = .ok (.aload_n 0, 1) := dk_42 (dk_at dksX1_init_1 5 rfl rfl)
theorem dX1_init_29 : decode cX1_init 29 = .ok (.ldc 9, 2) := dk_18 9 (dk_at dksX1_init_1 6 rfl rfl)
theorem dX1_init_31 : decode cX1_init 31 = .ok (.newarray .int, 2) := dk_188_10 (dk_at dksX1_init_1 8 rfl rfl)
theorem dX1_init_33 : decode cX1_init 33 = .ok (.putfield 22, 3) := dk_181 0 22 (dk_at dksX1_init_1 10 rfl rfl)
theorem dX1_init_36 : decode cX1_init 36 = .ok (.return_, 1) := dk_177 (dk_at dksX1_init_1 13 rfl rfl)
abbrev cX1_begin : ByteArray := prog_13_method_2_code
def yX1_begin : MethodName := ⟨RX1, "begin", "(LBinderPress$Term;Z)V"⟩
def dkwX1_begin_1 : List UInt8 := [42, 3, 181, 0, 43, 42, 3, 181, 0, 46, 177]
abbrev dktX1_begin_1 : List UInt8 := dkwX1_begin_1 ++ []
def dkwX1_begin_0 : List UInt8 := [42, 3, 181, 0, 25, 42, 42, 43, 182, 0, 29, 181, 0, 33, 42, 28, 181, 0, 36, 42, 3, 181, 0, 40]
abbrev dktX1_begin_0 : List UInt8 := dkwX1_begin_0 ++ dktX1_begin_1
theorem dksX1_begin_0 : cX1_begin.data.toList.drop 0 = dktX1_begin_0 := by decide +kernel
theorem dksX1_begin_1 : cX1_begin.data.toList.drop 24 = dktX1_begin_1 := dk_seg dksX1_begin_0 24 rfl rfl
theorem dX1_begin_0 : decode cX1_begin 0 = .ok (.aload_n 0, 1) := dk_42 (dk_at dksX1_begin_0 0 rfl rfl)
theorem dX1_begin_1 : decode cX1_begin 1 = .ok (.iconst 0, 1) := dk_3 (dk_at dksX1_begin_0 1 rfl rfl)
theorem dX1_begin_2 : decode cX1_begin 2 = .ok (.putfield 25, 3) := dk_181 0 25 (dk_at dksX1_begin_0 2 rfl rfl)
theorem dX1_begin_5 : decode cX1_begin 5 = .ok (.aload_n 0, 1) := dk_42 (dk_at dksX1_begin_0 5 rfl rfl)
theorem dX1_begin_6 : decode cX1_begin 6 = .ok (.aload_n 0, 1) := dk_42 (dk_at dksX1_begin_0 6 rfl rfl)
theorem dX1_begin_7 : decode cX1_begin 7 = .ok (.aload_n 1, 1) := dk_43 (dk_at dksX1_begin_0 7 rfl rfl)
theorem dX1_begin_8 : decode cX1_begin 8 = .ok (.invokevirtual 29, 3) := dk_182 0 29 (dk_at dksX1_begin_0 8 rfl rfl)
theorem dX1_begin_11 : decode cX1_begin 11 = .ok (.putfield 33, 3) := dk_181 0 33 (dk_at dksX1_begin_0 11 rfl rfl)
theorem dX1_begin_14 : decode cX1_begin 14 = .ok (.aload_n 0, 1) := dk_42 (dk_at dksX1_begin_0 14 rfl rfl)
theorem dX1_begin_15 : decode cX1_begin 15 = .ok (.iload_n 2, 1) := dk_28 (dk_at dksX1_begin_0 15 rfl rfl)
theorem dX1_begin_16 : decode cX1_begin 16 = .ok (.putfield 36, 3) := dk_181 0 36 (dk_at dksX1_begin_0 16 rfl rfl)
theorem dX1_begin_19 : decode cX1_begin 19 = .ok (.aload_n 0, 1) := dk_42 (dk_at dksX1_begin_0 19 rfl rfl)
theorem dX1_begin_20 : decode cX1_begin 20 = .ok (.iconst 0, 1) := dk_3 (dk_at dksX1_begin_0 20 rfl rfl)
theorem dX1_begin_21 : decode cX1_begin 21 = .ok (.putfield 40, 3) := dk_181 0 40 (dk_at dksX1_begin_0 21 rfl rfl)
theorem dX1_begin_24 : decode cX1_begin 24 = .ok (.aload_n 0, 1) := dk_42 (dk_at dksX1_begin_1 0 rfl rfl)
theorem dX1_begin_25 : decode cX1_begin 25 = .ok (.iconst 0, 1) := dk_3 (dk_at dksX1_begin_1 1 rfl rfl)
theorem dX1_begin_26 : decode cX1_begin 26 = .ok (.putfield 43, 3) := dk_181 0 43 (dk_at dksX1_begin_1 2 rfl rfl)
theorem dX1_begin_29 : decode cX1_begin 29 = .ok (.aload_n 0, 1) := dk_42 (dk_at dksX1_begin_1 5 rfl rfl)
theorem dX1_begin_30 : decode cX1_begin 30 = .ok (.iconst 0, 1) := dk_3 (dk_at dksX1_begin_1 6 rfl rfl)
theorem dX1_begin_31 : decode cX1_begin 31 = .ok (.putfield 46, 3) := dk_181 0 46 (dk_at dksX1_begin_1 7 rfl rfl)
theorem dX1_begin_34 : decode cX1_begin 34 = .ok (.return_, 1) := dk_177 (dk_at dksX1_begin_1 10 rfl rfl)
abbrev cX1_of : ByteArray := prog_13_method_4_code
def yX1_of : MethodName := ⟨RX1, "of", "(LBinderPress$Term;)I"⟩
def dkwX1_of_3 : List UInt8 := [172]
abbrev dktX1_of_3 : List UInt8 := dkwX1_of_3 ++ []
def dkwX1_of_2 : List UInt8 := [77, 44, 180, 0, 62, 167, 0, 14, 43, 192, 0, 65, 180, 0, 67, 3, 182, 0, 71, 2, 2, 182, 0, 56]
abbrev dktX1_of_2 : List UInt8 := dkwX1_of_2 ++ dktX1_of_3
def dkwX1_of_1 : List UInt8 := [42, 44, 180, 0, 54, 182, 0, 29, 182, 0, 56, 172, 42, 43, 193, 0, 60, 153, 0, 15, 43, 192, 0, 60]
abbrev dktX1_of_1 : List UInt8 := dkwX1_of_1 ++ dktX1_of_2
def dkwX1_of_0 : List UInt8 := [43, 193, 0, 49, 153, 0, 32, 43, 192, 0, 49, 77, 42, 44, 180, 0, 51, 182, 0, 29, 62, 42, 3, 29]
abbrev dktX1_of_0 : List UInt8 := dkwX1_of_0 ++ dktX1_of_1
theorem dksX1_of_0 : cX1_of.data.toList.drop 0 = dktX1_of_0 := by decide +kernel
theorem dksX1_of_1 : cX1_of.data.toList.drop 24 = dktX1_of_1 := dk_seg dksX1_of_0 24 rfl rfl
theorem dksX1_of_2 : cX1_of.data.toList.drop 48 = dktX1_of_2 := dk_seg dksX1_of_1 24 rfl rfl
theorem dksX1_of_3 : cX1_of.data.toList.drop 72 = dktX1_of_3 := dk_seg dksX1_of_2 24 rfl rfl
theorem dX1_of_0 : decode cX1_of 0 = .ok (.aload_n 1, 1) := dk_43 (dk_at dksX1_of_0 0 rfl rfl)
theorem dX1_of_1 : decode cX1_of 1 = .ok (.instanceof 49, 3) := dk_193 0 49 (dk_at dksX1_of_0 1 rfl rfl)
theorem dX1_of_4 : decode cX1_of 4 = .ok (.ifCond .eq 32, 3) := dk_153 0 32 (dk_at dksX1_of_0 4 rfl rfl)
theorem dX1_of_7 : decode cX1_of 7 = .ok (.aload_n 1, 1) := dk_43 (dk_at dksX1_of_0 7 rfl rfl)
theorem dX1_of_8 : decode cX1_of 8 = .ok (.checkcast 49, 3) := dk_192 0 49 (dk_at dksX1_of_0 8 rfl rfl)
theorem dX1_of_11 : decode cX1_of 11 = .ok (.astore_n 2, 1) := dk_77 (dk_at dksX1_of_0 11 rfl rfl)
theorem dX1_of_12 : decode cX1_of 12 = .ok (.aload_n 0, 1) := dk_42 (dk_at dksX1_of_0 12 rfl rfl)
theorem dX1_of_13 : decode cX1_of 13 = .ok (.aload_n 2, 1) := dk_44 (dk_at dksX1_of_0 13 rfl rfl)
theorem dX1_of_14 : decode cX1_of 14 = .ok (.getfield 51, 3) := dk_180 0 51 (dk_at dksX1_of_0 14 rfl rfl)
theorem dX1_of_17 : decode cX1_of 17 = .ok (.invokevirtual 29, 3) := dk_182 0 29 (dk_at dksX1_of_0 17 rfl rfl)
theorem dX1_of_20 : decode cX1_of 20 = .ok (.istore_n 3, 1) := dk_62 (dk_at dksX1_of_0 20 rfl rfl)
theorem dX1_of_21 : decode cX1_of 21 = .ok (.aload_n 0, 1) := dk_42 (dk_at dksX1_of_0 21 rfl rfl)
theorem dX1_of_22 : decode cX1_of 22 = .ok (.iconst 0, 1) := dk_3 (dk_at dksX1_of_0 22 rfl rfl)
theorem dX1_of_23 : decode cX1_of 23 = .ok (.iload_n 3, 1) := dk_29 (dk_at dksX1_of_0 23 rfl rfl)
theorem dX1_of_24 : decode cX1_of 24 = .ok (.aload_n 0, 1) := dk_42 (dk_at dksX1_of_1 0 rfl rfl)
theorem dX1_of_25 : decode cX1_of 25 = .ok (.aload_n 2, 1) := dk_44 (dk_at dksX1_of_1 1 rfl rfl)
theorem dX1_of_26 : decode cX1_of 26 = .ok (.getfield 54, 3) := dk_180 0 54 (dk_at dksX1_of_1 2 rfl rfl)
theorem dX1_of_29 : decode cX1_of 29 = .ok (.invokevirtual 29, 3) := dk_182 0 29 (dk_at dksX1_of_1 5 rfl rfl)
theorem dX1_of_32 : decode cX1_of 32 = .ok (.invokevirtual 56, 3) := dk_182 0 56 (dk_at dksX1_of_1 8 rfl rfl)
theorem dX1_of_35 : decode cX1_of 35 = .ok (.ireturn, 1) := dk_172 (dk_at dksX1_of_1 11 rfl rfl)
theorem dX1_of_36 : decode cX1_of 36 = .ok (.aload_n 0, 1) := dk_42 (dk_at dksX1_of_1 12 rfl rfl)
theorem dX1_of_37 : decode cX1_of 37 = .ok (.aload_n 1, 1) := dk_43 (dk_at dksX1_of_1 13 rfl rfl)
theorem dX1_of_38 : decode cX1_of 38 = .ok (.instanceof 60, 3) := dk_193 0 60 (dk_at dksX1_of_1 14 rfl rfl)
theorem dX1_of_41 : decode cX1_of 41 = .ok (.ifCond .eq 15, 3) := dk_153 0 15 (dk_at dksX1_of_1 17 rfl rfl)
theorem dX1_of_44 : decode cX1_of 44 = .ok (.aload_n 1, 1) := dk_43 (dk_at dksX1_of_1 20 rfl rfl)
theorem dX1_of_45 : decode cX1_of 45 = .ok (.checkcast 60, 3) := dk_192 0 60 (dk_at dksX1_of_1 21 rfl rfl)
theorem dX1_of_48 : decode cX1_of 48 = .ok (.astore_n 2, 1) := dk_77 (dk_at dksX1_of_2 0 rfl rfl)
theorem dX1_of_49 : decode cX1_of 49 = .ok (.aload_n 2, 1) := dk_44 (dk_at dksX1_of_2 1 rfl rfl)
theorem dX1_of_50 : decode cX1_of 50 = .ok (.getfield 62, 3) := dk_180 0 62 (dk_at dksX1_of_2 2 rfl rfl)
theorem dX1_of_53 : decode cX1_of 53 = .ok (.goto 14, 3) := dk_167 0 14 (dk_at dksX1_of_2 5 rfl rfl)
theorem dX1_of_56 : decode cX1_of 56 = .ok (.aload_n 1, 1) := dk_43 (dk_at dksX1_of_2 8 rfl rfl)
theorem dX1_of_57 : decode cX1_of 57 = .ok (.checkcast 65, 3) := dk_192 0 65 (dk_at dksX1_of_2 9 rfl rfl)
theorem dX1_of_60 : decode cX1_of 60 = .ok (.getfield 67, 3) := dk_180 0 67 (dk_at dksX1_of_2 12 rfl rfl)
theorem dX1_of_63 : decode cX1_of 63 = .ok (.iconst 0, 1) := dk_3 (dk_at dksX1_of_2 15 rfl rfl)
theorem dX1_of_64 : decode cX1_of 64 = .ok (.invokevirtual 71, 3) := dk_182 0 71 (dk_at dksX1_of_2 16 rfl rfl)
theorem dX1_of_67 : decode cX1_of 67 = .ok (.iconst (-1), 1) := dk_2 (dk_at dksX1_of_2 19 rfl rfl)
theorem dX1_of_68 : decode cX1_of 68 = .ok (.iconst (-1), 1) := dk_2 (dk_at dksX1_of_2 20 rfl rfl)
theorem dX1_of_69 : decode cX1_of 69 = .ok (.invokevirtual 56, 3) := dk_182 0 56 (dk_at dksX1_of_2 21 rfl rfl)
theorem dX1_of_72 : decode cX1_of 72 = .ok (.ireturn, 1) := dk_172 (dk_at dksX1_of_3 0 rfl rfl)
abbrev cX1_cell : ByteArray := prog_13_method_3_code
def yX1_cell : MethodName := ⟨RX1, "cell", "(III)I"⟩
def dkwX1_cell_2 : List UInt8 := [181, 0, 25, 42, 180, 0, 25, 4, 100, 172]
abbrev dktX1_cell_2 : List UInt8 := dkwX1_cell_2 ++ []
def dkwX1_cell_1 : List UInt8 := [42, 180, 0, 25, 29, 79, 42, 180, 0, 22, 42, 180, 0, 25, 2, 79, 42, 89, 180, 0, 25, 4, 96]
abbrev dktX1_cell_1 : List UInt8 := dkwX1_cell_1 ++ dktX1_cell_2
def dkwX1_cell_0 : List UInt8 := [42, 180, 0, 10, 42, 180, 0, 25, 27, 79, 42, 180, 0, 16, 42, 180, 0, 25, 28, 79, 42, 180, 0, 19]
abbrev dktX1_cell_0 : List UInt8 := dkwX1_cell_0 ++ dktX1_cell_1
theorem dksX1_cell_0 : cX1_cell.data.toList.drop 0 = dktX1_cell_0 := by decide +kernel
theorem dksX1_cell_1 : cX1_cell.data.toList.drop 24 = dktX1_cell_1 := dk_seg dksX1_cell_0 24 rfl rfl
theorem dksX1_cell_2 : cX1_cell.data.toList.drop 47 = dktX1_cell_2 := dk_seg dksX1_cell_1 23 rfl rfl
theorem dX1_cell_0 : decode cX1_cell 0 = .ok (.aload_n 0, 1) := dk_42 (dk_at dksX1_cell_0 0 rfl rfl)
theorem dX1_cell_1 : decode cX1_cell 1 = .ok (.getfield 10, 3) := dk_180 0 10 (dk_at dksX1_cell_0 1 rfl rfl)
theorem dX1_cell_4 : decode cX1_cell 4 = .ok (.aload_n 0, 1) := dk_42 (dk_at dksX1_cell_0 4 rfl rfl)
theorem dX1_cell_5 : decode cX1_cell 5 = .ok (.getfield 25, 3) := dk_180 0 25 (dk_at dksX1_cell_0 5 rfl rfl)
theorem dX1_cell_8 : decode cX1_cell 8 = .ok (.iload_n 1, 1) := dk_27 (dk_at dksX1_cell_0 8 rfl rfl)
theorem dX1_cell_9 : decode cX1_cell 9 = .ok (.iastore, 1) := dk_79 (dk_at dksX1_cell_0 9 rfl rfl)
theorem dX1_cell_10 : decode cX1_cell 10 = .ok (.aload_n 0, 1) := dk_42 (dk_at dksX1_cell_0 10 rfl rfl)
theorem dX1_cell_11 : decode cX1_cell 11 = .ok (.getfield 16, 3) := dk_180 0 16 (dk_at dksX1_cell_0 11 rfl rfl)
theorem dX1_cell_14 : decode cX1_cell 14 = .ok (.aload_n 0, 1) := dk_42 (dk_at dksX1_cell_0 14 rfl rfl)
theorem dX1_cell_15 : decode cX1_cell 15 = .ok (.getfield 25, 3) := dk_180 0 25 (dk_at dksX1_cell_0 15 rfl rfl)
theorem dX1_cell_18 : decode cX1_cell 18 = .ok (.iload_n 2, 1) := dk_28 (dk_at dksX1_cell_0 18 rfl rfl)
theorem dX1_cell_19 : decode cX1_cell 19 = .ok (.iastore, 1) := dk_79 (dk_at dksX1_cell_0 19 rfl rfl)
theorem dX1_cell_20 : decode cX1_cell 20 = .ok (.aload_n 0, 1) := dk_42 (dk_at dksX1_cell_0 20 rfl rfl)
theorem dX1_cell_21 : decode cX1_cell 21 = .ok (.getfield 19, 3) := dk_180 0 19 (dk_at dksX1_cell_0 21 rfl rfl)
theorem dX1_cell_24 : decode cX1_cell 24 = .ok (.aload_n 0, 1) := dk_42 (dk_at dksX1_cell_1 0 rfl rfl)
theorem dX1_cell_25 : decode cX1_cell 25 = .ok (.getfield 25, 3) := dk_180 0 25 (dk_at dksX1_cell_1 1 rfl rfl)
theorem dX1_cell_28 : decode cX1_cell 28 = .ok (.iload_n 3, 1) := dk_29 (dk_at dksX1_cell_1 4 rfl rfl)
theorem dX1_cell_29 : decode cX1_cell 29 = .ok (.iastore, 1) := dk_79 (dk_at dksX1_cell_1 5 rfl rfl)
theorem dX1_cell_30 : decode cX1_cell 30 = .ok (.aload_n 0, 1) := dk_42 (dk_at dksX1_cell_1 6 rfl rfl)
theorem dX1_cell_31 : decode cX1_cell 31 = .ok (.getfield 22, 3) := dk_180 0 22 (dk_at dksX1_cell_1 7 rfl rfl)
theorem dX1_cell_34 : decode cX1_cell 34 = .ok (.aload_n 0, 1) := dk_42 (dk_at dksX1_cell_1 10 rfl rfl)
theorem dX1_cell_35 : decode cX1_cell 35 = .ok (.getfield 25, 3) := dk_180 0 25 (dk_at dksX1_cell_1 11 rfl rfl)
theorem dX1_cell_38 : decode cX1_cell 38 = .ok (.iconst (-1), 1) := dk_2 (dk_at dksX1_cell_1 14 rfl rfl)
theorem dX1_cell_39 : decode cX1_cell 39 = .ok (.iastore, 1) := dk_79 (dk_at dksX1_cell_1 15 rfl rfl)
theorem dX1_cell_40 : decode cX1_cell 40 = .ok (.aload_n 0, 1) := dk_42 (dk_at dksX1_cell_1 16 rfl rfl)
theorem dX1_cell_41 : decode cX1_cell 41 = .ok (.dup, 1) := dk_89 (dk_at dksX1_cell_1 17 rfl rfl)
theorem dX1_cell_42 : decode cX1_cell 42 = .ok (.getfield 25, 3) := dk_180 0 25 (dk_at dksX1_cell_1 18 rfl rfl)
theorem dX1_cell_45 : decode cX1_cell 45 = .ok (.iconst 1, 1) := dk_4 (dk_at dksX1_cell_1 21 rfl rfl)
theorem dX1_cell_46 : decode cX1_cell 46 = .ok (.iadd, 1) := dk_96 (dk_at dksX1_cell_1 22 rfl rfl)
theorem dX1_cell_47 : decode cX1_cell 47 = .ok (.putfield 25, 3) := dk_181 0 25 (dk_at dksX1_cell_2 0 rfl rfl)
theorem dX1_cell_50 : decode cX1_cell 50 = .ok (.aload_n 0, 1) := dk_42 (dk_at dksX1_cell_2 3 rfl rfl)
theorem dX1_cell_51 : decode cX1_cell 51 = .ok (.getfield 25, 3) := dk_180 0 25 (dk_at dksX1_cell_2 4 rfl rfl)
theorem dX1_cell_54 : decode cX1_cell 54 = .ok (.iconst 1, 1) := dk_4 (dk_at dksX1_cell_2 7 rfl rfl)
theorem dX1_cell_55 : decode cX1_cell 55 = .ok (.isub, 1) := dk_100 (dk_at dksX1_cell_2 8 rfl rfl)
theorem dX1_cell_56 : decode cX1_cell 56 = .ok (.ireturn, 1) := dk_172 (dk_at dksX1_cell_2 9 rfl rfl)
abbrev cX1_go : ByteArray := prog_13_method_16_code
def yX1_go : MethodName := ⟨RX1, "go", "(I)V"⟩
def dkwX1_go_5 : List UInt8 := [167, 0, 4, 3, 128, 181, 0, 46, 177]
abbrev dktX1_go_5 : List UInt8 := dkwX1_go_5 ++ []
def dkwX1_go_4 : List UInt8 := [180, 0, 46, 42, 180, 0, 43, 154, 0, 18, 42, 42, 180, 0, 33, 182, 0, 145, 154, 0, 7, 4]
abbrev dktX1_go_4 : List UInt8 := dkwX1_go_4 ++ dktX1_go_5
def dkwX1_go_3 : List UInt8 := [182, 0, 143, 17, 1, 44, 164, 0, 7, 4, 167, 0, 4, 3, 181, 0, 43, 167, 255, 167, 42, 89]
abbrev dktX1_go_3 : List UInt8 := dkwX1_go_3 ++ dktX1_go_4
def dkwX1_go_2 : List UInt8 := [180, 0, 46, 153, 0, 7, 3, 167, 0, 4, 4, 96, 181, 0, 40, 42, 42, 180, 0, 46, 154, 0, 17, 42]
abbrev dktX1_go_2 : List UInt8 := dkwX1_go_2 ++ dktX1_go_3
def dkwX1_go_1 : List UInt8 := [42, 180, 0, 33, 182, 0, 140, 154, 0, 7, 4, 167, 0, 4, 3, 181, 0, 46, 42, 89, 180, 0, 40, 42]
abbrev dktX1_go_1 : List UInt8 := dkwX1_go_1 ++ dktX1_go_2
def dkwX1_go_0 : List UInt8 := [42, 180, 0, 40, 27, 162, 0, 87, 42, 180, 0, 43, 154, 0, 80, 42, 180, 0, 46, 154, 0, 73, 42, 42]
abbrev dktX1_go_0 : List UInt8 := dkwX1_go_0 ++ dktX1_go_1
theorem dksX1_go_0 : cX1_go.data.toList.drop 0 = dktX1_go_0 := by decide +kernel
theorem dksX1_go_1 : cX1_go.data.toList.drop 24 = dktX1_go_1 := dk_seg dksX1_go_0 24 rfl rfl
theorem dksX1_go_2 : cX1_go.data.toList.drop 48 = dktX1_go_2 := dk_seg dksX1_go_1 24 rfl rfl
theorem dksX1_go_3 : cX1_go.data.toList.drop 72 = dktX1_go_3 := dk_seg dksX1_go_2 24 rfl rfl
theorem dksX1_go_4 : cX1_go.data.toList.drop 94 = dktX1_go_4 := dk_seg dksX1_go_3 22 rfl rfl
theorem dksX1_go_5 : cX1_go.data.toList.drop 116 = dktX1_go_5 := dk_seg dksX1_go_4 22 rfl rfl
theorem dX1_go_0 : decode cX1_go 0 = .ok (.aload_n 0, 1) := dk_42 (dk_at dksX1_go_0 0 rfl rfl)
theorem dX1_go_1 : decode cX1_go 1 = .ok (.getfield 40, 3) := dk_180 0 40 (dk_at dksX1_go_0 1 rfl rfl)
theorem dX1_go_4 : decode cX1_go 4 = .ok (.iload_n 1, 1) := dk_27 (dk_at dksX1_go_0 4 rfl rfl)
theorem dX1_go_5 : decode cX1_go 5 = .ok (.if_icmp .ge 87, 3) := dk_162 0 87 (dk_at dksX1_go_0 5 rfl rfl)
theorem dX1_go_8 : decode cX1_go 8 = .ok (.aload_n 0, 1) := dk_42 (dk_at dksX1_go_0 8 rfl rfl)
theorem dX1_go_9 : decode cX1_go 9 = .ok (.getfield 43, 3) := dk_180 0 43 (dk_at dksX1_go_0 9 rfl rfl)
theorem dX1_go_12 : decode cX1_go 12 = .ok (.ifCond .ne 80, 3) := dk_154 0 80 (dk_at dksX1_go_0 12 rfl rfl)
theorem dX1_go_15 : decode cX1_go 15 = .ok (.aload_n 0, 1) := dk_42 (dk_at dksX1_go_0 15 rfl rfl)
theorem dX1_go_16 : decode cX1_go 16 = .ok (.getfield 46, 3) := dk_180 0 46 (dk_at dksX1_go_0 16 rfl rfl)
theorem dX1_go_19 : decode cX1_go 19 = .ok (.ifCond .ne 73, 3) := dk_154 0 73 (dk_at dksX1_go_0 19 rfl rfl)
theorem dX1_go_22 : decode cX1_go 22 = .ok (.aload_n 0, 1) := dk_42 (dk_at dksX1_go_0 22 rfl rfl)
theorem dX1_go_23 : decode cX1_go 23 = .ok (.aload_n 0, 1) := dk_42 (dk_at dksX1_go_0 23 rfl rfl)
theorem dX1_go_24 : decode cX1_go 24 = .ok (.aload_n 0, 1) := dk_42 (dk_at dksX1_go_1 0 rfl rfl)
theorem dX1_go_25 : decode cX1_go 25 = .ok (.getfield 33, 3) := dk_180 0 33 (dk_at dksX1_go_1 1 rfl rfl)
theorem dX1_go_28 : decode cX1_go 28 = .ok (.invokevirtual 140, 3) := dk_182 0 140 (dk_at dksX1_go_1 4 rfl rfl)
theorem dX1_go_31 : decode cX1_go 31 = .ok (.ifCond .ne 7, 3) := dk_154 0 7 (dk_at dksX1_go_1 7 rfl rfl)
theorem dX1_go_34 : decode cX1_go 34 = .ok (.iconst 1, 1) := dk_4 (dk_at dksX1_go_1 10 rfl rfl)
theorem dX1_go_35 : decode cX1_go 35 = .ok (.goto 4, 3) := dk_167 0 4 (dk_at dksX1_go_1 11 rfl rfl)
theorem dX1_go_38 : decode cX1_go 38 = .ok (.iconst 0, 1) := dk_3 (dk_at dksX1_go_1 14 rfl rfl)
theorem dX1_go_39 : decode cX1_go 39 = .ok (.putfield 46, 3) := dk_181 0 46 (dk_at dksX1_go_1 15 rfl rfl)
theorem dX1_go_42 : decode cX1_go 42 = .ok (.aload_n 0, 1) := dk_42 (dk_at dksX1_go_1 18 rfl rfl)
theorem dX1_go_43 : decode cX1_go 43 = .ok (.dup, 1) := dk_89 (dk_at dksX1_go_1 19 rfl rfl)
theorem dX1_go_44 : decode cX1_go 44 = .ok (.getfield 40, 3) := dk_180 0 40 (dk_at dksX1_go_1 20 rfl rfl)
theorem dX1_go_47 : decode cX1_go 47 = .ok (.aload_n 0, 1) := dk_42 (dk_at dksX1_go_1 23 rfl rfl)
theorem dX1_go_48 : decode cX1_go 48 = .ok (.getfield 46, 3) := dk_180 0 46 (dk_at dksX1_go_2 0 rfl rfl)
theorem dX1_go_51 : decode cX1_go 51 = .ok (.ifCond .eq 7, 3) := dk_153 0 7 (dk_at dksX1_go_2 3 rfl rfl)
theorem dX1_go_54 : decode cX1_go 54 = .ok (.iconst 0, 1) := dk_3 (dk_at dksX1_go_2 6 rfl rfl)
theorem dX1_go_55 : decode cX1_go 55 = .ok (.goto 4, 3) := dk_167 0 4 (dk_at dksX1_go_2 7 rfl rfl)
theorem dX1_go_58 : decode cX1_go 58 = .ok (.iconst 1, 1) := dk_4 (dk_at dksX1_go_2 10 rfl rfl)
theorem dX1_go_59 : decode cX1_go 59 = .ok (.iadd, 1) := dk_96 (dk_at dksX1_go_2 11 rfl rfl)
theorem dX1_go_60 : decode cX1_go 60 = .ok (.putfield 40, 3) := dk_181 0 40 (dk_at dksX1_go_2 12 rfl rfl)
theorem dX1_go_63 : decode cX1_go 63 = .ok (.aload_n 0, 1) := dk_42 (dk_at dksX1_go_2 15 rfl rfl)
theorem dX1_go_64 : decode cX1_go 64 = .ok (.aload_n 0, 1) := dk_42 (dk_at dksX1_go_2 16 rfl rfl)
theorem dX1_go_65 : decode cX1_go 65 = .ok (.getfield 46, 3) := dk_180 0 46 (dk_at dksX1_go_2 17 rfl rfl)
theorem dX1_go_68 : decode cX1_go 68 = .ok (.ifCond .ne 17, 3) := dk_154 0 17 (dk_at dksX1_go_2 20 rfl rfl)
theorem dX1_go_71 : decode cX1_go 71 = .ok (.aload_n 0, 1) := dk_42 (dk_at dksX1_go_2 23 rfl rfl)
theorem dX1_go_72 : decode cX1_go 72 = .ok (.invokevirtual 143, 3) := dk_182 0 143 (dk_at dksX1_go_3 0 rfl rfl)
theorem dX1_go_75 : decode cX1_go 75 = .ok (.sipush 300, 3) := dk_17 1 44 (dk_at dksX1_go_3 3 rfl rfl)
theorem dX1_go_78 : decode cX1_go 78 = .ok (.if_icmp .le 7, 3) := dk_164 0 7 (dk_at dksX1_go_3 6 rfl rfl)
theorem dX1_go_81 : decode cX1_go 81 = .ok (.iconst 1, 1) := dk_4 (dk_at dksX1_go_3 9 rfl rfl)
theorem dX1_go_82 : decode cX1_go 82 = .ok (.goto 4, 3) := dk_167 0 4 (dk_at dksX1_go_3 10 rfl rfl)
theorem dX1_go_85 : decode cX1_go 85 = .ok (.iconst 0, 1) := dk_3 (dk_at dksX1_go_3 13 rfl rfl)
theorem dX1_go_86 : decode cX1_go 86 = .ok (.putfield 43, 3) := dk_181 0 43 (dk_at dksX1_go_3 14 rfl rfl)
theorem dX1_go_89 : decode cX1_go 89 = .ok (.goto (-89), 3) := dk_167 255 167 (dk_at dksX1_go_3 17 rfl rfl)
theorem dX1_go_92 : decode cX1_go 92 = .ok (.aload_n 0, 1) := dk_42 (dk_at dksX1_go_3 20 rfl rfl)
theorem dX1_go_93 : decode cX1_go 93 = .ok (.dup, 1) := dk_89 (dk_at dksX1_go_3 21 rfl rfl)
theorem dX1_go_94 : decode cX1_go 94 = .ok (.getfield 46, 3) := dk_180 0 46 (dk_at dksX1_go_4 0 rfl rfl)
theorem dX1_go_97 : decode cX1_go 97 = .ok (.aload_n 0, 1) := dk_42 (dk_at dksX1_go_4 3 rfl rfl)
theorem dX1_go_98 : decode cX1_go 98 = .ok (.getfield 43, 3) := dk_180 0 43 (dk_at dksX1_go_4 4 rfl rfl)
theorem dX1_go_101 : decode cX1_go 101 = .ok (.ifCond .ne 18, 3) := dk_154 0 18 (dk_at dksX1_go_4 7 rfl rfl)
theorem dX1_go_104 : decode cX1_go 104 = .ok (.aload_n 0, 1) := dk_42 (dk_at dksX1_go_4 10 rfl rfl)
theorem dX1_go_105 : decode cX1_go 105 = .ok (.aload_n 0, 1) := dk_42 (dk_at dksX1_go_4 11 rfl rfl)
theorem dX1_go_106 : decode cX1_go 106 = .ok (.getfield 33, 3) := dk_180 0 33 (dk_at dksX1_go_4 12 rfl rfl)
theorem dX1_go_109 : decode cX1_go 109 = .ok (.invokevirtual 145, 3) := dk_182 0 145 (dk_at dksX1_go_4 15 rfl rfl)
theorem dX1_go_112 : decode cX1_go 112 = .ok (.ifCond .ne 7, 3) := dk_154 0 7 (dk_at dksX1_go_4 18 rfl rfl)
theorem dX1_go_115 : decode cX1_go 115 = .ok (.iconst 1, 1) := dk_4 (dk_at dksX1_go_4 21 rfl rfl)
theorem dX1_go_116 : decode cX1_go 116 = .ok (.goto 4, 3) := dk_167 0 4 (dk_at dksX1_go_5 0 rfl rfl)
theorem dX1_go_119 : decode cX1_go 119 = .ok (.iconst 0, 1) := dk_3 (dk_at dksX1_go_5 3 rfl rfl)
theorem dX1_go_120 : decode cX1_go 120 = .ok (.ior, 1) := dk_128 (dk_at dksX1_go_5 4 rfl rfl)
theorem dX1_go_121 : decode cX1_go 121 = .ok (.putfield 46, 3) := dk_181 0 46 (dk_at dksX1_go_5 5 rfl rfl)
theorem dX1_go_124 : decode cX1_go 124 = .ok (.return_, 1) := dk_177 (dk_at dksX1_go_5 8 rfl rfl)
abbrev cX1_step : ByteArray := prog_13_method_15_code
def yX1_step : MethodName := ⟨RX1, "step", "(I)Z"⟩
def dkwX1_step_6 : List UInt8 := [167, 255, 227, 3, 172]
abbrev dktX1_step_6 : List UInt8 := dkwX1_step_6 ++ []
def dkwX1_step_5 : List UInt8 := [180, 0, 19, 42, 27, 21, 5, 182, 0, 125, 46, 182, 0, 140, 153, 0, 5, 4, 172, 132, 5, 255]
abbrev dktX1_step_5 : List UInt8 := dkwX1_step_5 ++ dktX1_step_6
def dkwX1_step_4 : List UInt8 := [21, 5, 45, 21, 6, 21, 7, 182, 0, 136, 4, 172, 28, 4, 100, 54, 5, 21, 5, 155, 0, 30, 42, 42]
abbrev dktX1_step_4 : List UInt8 := dkwX1_step_4 ++ dktX1_step_5
def dkwX1_step_3 : List UInt8 := [4, 164, 0, 18, 42, 180, 0, 19, 42, 21, 5, 4, 182, 0, 125, 46, 167, 0, 4, 2, 54, 7, 42]
abbrev dktX1_step_3 : List UInt8 := dkwX1_step_3 ++ dktX1_step_4
def dkwX1_step_2 : List UInt8 := [6, 160, 0, 18, 42, 180, 0, 19, 42, 21, 5, 5, 182, 0, 125, 46, 167, 0, 4, 2, 54, 6, 21, 4]
abbrev dktX1_step_2 : List UInt8 := dkwX1_step_2 ++ dktX1_step_3
def dkwX1_step_1 : List UInt8 := [184, 0, 132, 54, 4, 21, 4, 28, 163, 0, 75, 42, 27, 28, 21, 4, 100, 182, 0, 125, 54, 5, 21, 4]
abbrev dktX1_step_1 : List UInt8 := dkwX1_step_1 ++ dktX1_step_2
def dkwX1_step_0 : List UInt8 := [42, 27, 182, 0, 122, 61, 42, 180, 0, 10, 42, 27, 28, 182, 0, 125, 46, 184, 0, 128, 78, 45]
abbrev dktX1_step_0 : List UInt8 := dkwX1_step_0 ++ dktX1_step_1
theorem dksX1_step_0 : cX1_step.data.toList.drop 0 = dktX1_step_0 := by decide +kernel
theorem dksX1_step_1 : cX1_step.data.toList.drop 22 = dktX1_step_1 := dk_seg dksX1_step_0 22 rfl rfl
theorem dksX1_step_2 : cX1_step.data.toList.drop 46 = dktX1_step_2 := dk_seg dksX1_step_1 24 rfl rfl
theorem dksX1_step_3 : cX1_step.data.toList.drop 70 = dktX1_step_3 := dk_seg dksX1_step_2 24 rfl rfl
theorem dksX1_step_4 : cX1_step.data.toList.drop 93 = dktX1_step_4 := dk_seg dksX1_step_3 23 rfl rfl
theorem dksX1_step_5 : cX1_step.data.toList.drop 117 = dktX1_step_5 := dk_seg dksX1_step_4 24 rfl rfl
theorem dksX1_step_6 : cX1_step.data.toList.drop 139 = dktX1_step_6 := dk_seg dksX1_step_5 22 rfl rfl
theorem dX1_step_0 : decode cX1_step 0 = .ok (.aload_n 0, 1) := dk_42 (dk_at dksX1_step_0 0 rfl rfl)
theorem dX1_step_1 : decode cX1_step 1 = .ok (.iload_n 1, 1) := dk_27 (dk_at dksX1_step_0 1 rfl rfl)
theorem dX1_step_2 : decode cX1_step 2 = .ok (.invokevirtual 122, 3) := dk_182 0 122 (dk_at dksX1_step_0 2 rfl rfl)
theorem dX1_step_5 : decode cX1_step 5 = .ok (.istore_n 2, 1) := dk_61 (dk_at dksX1_step_0 5 rfl rfl)
theorem dX1_step_6 : decode cX1_step 6 = .ok (.aload_n 0, 1) := dk_42 (dk_at dksX1_step_0 6 rfl rfl)
theorem dX1_step_7 : decode cX1_step 7 = .ok (.getfield 10, 3) := dk_180 0 10 (dk_at dksX1_step_0 7 rfl rfl)
theorem dX1_step_10 : decode cX1_step 10 = .ok (.aload_n 0, 1) := dk_42 (dk_at dksX1_step_0 10 rfl rfl)
theorem dX1_step_11 : decode cX1_step 11 = .ok (.iload_n 1, 1) := dk_27 (dk_at dksX1_step_0 11 rfl rfl)
theorem dX1_step_12 : decode cX1_step 12 = .ok (.iload_n 2, 1) := dk_28 (dk_at dksX1_step_0 12 rfl rfl)
theorem dX1_step_13 : decode cX1_step 13 = .ok (.invokevirtual 125, 3) := dk_182 0 125 (dk_at dksX1_step_0 13 rfl rfl)
theorem dX1_step_16 : decode cX1_step 16 = .ok (.iaload, 1) := dk_46 (dk_at dksX1_step_0 16 rfl rfl)
theorem dX1_step_17 : decode cX1_step 17 = .ok (.invokestatic 128, 3) := dk_184 0 128 (dk_at dksX1_step_0 17 rfl rfl)
theorem dX1_step_20 : decode cX1_step 20 = .ok (.astore_n 3, 1) := dk_78 (dk_at dksX1_step_0 20 rfl rfl)
theorem dX1_step_21 : decode cX1_step 21 = .ok (.aload_n 3, 1) := dk_45 (dk_at dksX1_step_0 21 rfl rfl)
theorem dX1_step_22 : decode cX1_step 22 = .ok (.invokestatic 132, 3) := dk_184 0 132 (dk_at dksX1_step_1 0 rfl rfl)
theorem dX1_step_25 : decode cX1_step 25 = .ok (.istore 4, 2) := dk_54 4 (dk_at dksX1_step_1 3 rfl rfl)
theorem dX1_step_27 : decode cX1_step 27 = .ok (.iload 4, 2) := dk_21 4 (dk_at dksX1_step_1 5 rfl rfl)
theorem dX1_step_29 : decode cX1_step 29 = .ok (.iload_n 2, 1) := dk_28 (dk_at dksX1_step_1 7 rfl rfl)
theorem dX1_step_30 : decode cX1_step 30 = .ok (.if_icmp .gt 75, 3) := dk_163 0 75 (dk_at dksX1_step_1 8 rfl rfl)
theorem dX1_step_33 : decode cX1_step 33 = .ok (.aload_n 0, 1) := dk_42 (dk_at dksX1_step_1 11 rfl rfl)
theorem dX1_step_34 : decode cX1_step 34 = .ok (.iload_n 1, 1) := dk_27 (dk_at dksX1_step_1 12 rfl rfl)
theorem dX1_step_35 : decode cX1_step 35 = .ok (.iload_n 2, 1) := dk_28 (dk_at dksX1_step_1 13 rfl rfl)
theorem dX1_step_36 : decode cX1_step 36 = .ok (.iload 4, 2) := dk_21 4 (dk_at dksX1_step_1 14 rfl rfl)
theorem dX1_step_38 : decode cX1_step 38 = .ok (.isub, 1) := dk_100 (dk_at dksX1_step_1 16 rfl rfl)
theorem dX1_step_39 : decode cX1_step 39 = .ok (.invokevirtual 125, 3) := dk_182 0 125 (dk_at dksX1_step_1 17 rfl rfl)
theorem dX1_step_42 : decode cX1_step 42 = .ok (.istore 5, 2) := dk_54 5 (dk_at dksX1_step_1 20 rfl rfl)
theorem dX1_step_44 : decode cX1_step 44 = .ok (.iload 4, 2) := dk_21 4 (dk_at dksX1_step_1 22 rfl rfl)
theorem dX1_step_46 : decode cX1_step 46 = .ok (.iconst 3, 1) := dk_6 (dk_at dksX1_step_2 0 rfl rfl)
theorem dX1_step_47 : decode cX1_step 47 = .ok (.if_icmp .ne 18, 3) := dk_160 0 18 (dk_at dksX1_step_2 1 rfl rfl)
theorem dX1_step_50 : decode cX1_step 50 = .ok (.aload_n 0, 1) := dk_42 (dk_at dksX1_step_2 4 rfl rfl)
theorem dX1_step_51 : decode cX1_step 51 = .ok (.getfield 19, 3) := dk_180 0 19 (dk_at dksX1_step_2 5 rfl rfl)
theorem dX1_step_54 : decode cX1_step 54 = .ok (.aload_n 0, 1) := dk_42 (dk_at dksX1_step_2 8 rfl rfl)
theorem dX1_step_55 : decode cX1_step 55 = .ok (.iload 5, 2) := dk_21 5 (dk_at dksX1_step_2 9 rfl rfl)
theorem dX1_step_57 : decode cX1_step 57 = .ok (.iconst 2, 1) := dk_5 (dk_at dksX1_step_2 11 rfl rfl)
theorem dX1_step_58 : decode cX1_step 58 = .ok (.invokevirtual 125, 3) := dk_182 0 125 (dk_at dksX1_step_2 12 rfl rfl)
theorem dX1_step_61 : decode cX1_step 61 = .ok (.iaload, 1) := dk_46 (dk_at dksX1_step_2 15 rfl rfl)
theorem dX1_step_62 : decode cX1_step 62 = .ok (.goto 4, 3) := dk_167 0 4 (dk_at dksX1_step_2 16 rfl rfl)
theorem dX1_step_65 : decode cX1_step 65 = .ok (.iconst (-1), 1) := dk_2 (dk_at dksX1_step_2 19 rfl rfl)
theorem dX1_step_66 : decode cX1_step 66 = .ok (.istore 6, 2) := dk_54 6 (dk_at dksX1_step_2 20 rfl rfl)
theorem dX1_step_68 : decode cX1_step 68 = .ok (.iload 4, 2) := dk_21 4 (dk_at dksX1_step_2 22 rfl rfl)
theorem dX1_step_70 : decode cX1_step 70 = .ok (.iconst 1, 1) := dk_4 (dk_at dksX1_step_3 0 rfl rfl)
theorem dX1_step_71 : decode cX1_step 71 = .ok (.if_icmp .le 18, 3) := dk_164 0 18 (dk_at dksX1_step_3 1 rfl rfl)
theorem dX1_step_74 : decode cX1_step 74 = .ok (.aload_n 0, 1) := dk_42 (dk_at dksX1_step_3 4 rfl rfl)
theorem dX1_step_75 : decode cX1_step 75 = .ok (.getfield 19, 3) := dk_180 0 19 (dk_at dksX1_step_3 5 rfl rfl)
theorem dX1_step_78 : decode cX1_step 78 = .ok (.aload_n 0, 1) := dk_42 (dk_at dksX1_step_3 8 rfl rfl)
theorem dX1_step_79 : decode cX1_step 79 = .ok (.iload 5, 2) := dk_21 5 (dk_at dksX1_step_3 9 rfl rfl)
theorem dX1_step_81 : decode cX1_step 81 = .ok (.iconst 1, 1) := dk_4 (dk_at dksX1_step_3 11 rfl rfl)
theorem dX1_step_82 : decode cX1_step 82 = .ok (.invokevirtual 125, 3) := dk_182 0 125 (dk_at dksX1_step_3 12 rfl rfl)
theorem dX1_step_85 : decode cX1_step 85 = .ok (.iaload, 1) := dk_46 (dk_at dksX1_step_3 15 rfl rfl)
theorem dX1_step_86 : decode cX1_step 86 = .ok (.goto 4, 3) := dk_167 0 4 (dk_at dksX1_step_3 16 rfl rfl)
theorem dX1_step_89 : decode cX1_step 89 = .ok (.iconst (-1), 1) := dk_2 (dk_at dksX1_step_3 19 rfl rfl)
theorem dX1_step_90 : decode cX1_step 90 = .ok (.istore 7, 2) := dk_54 7 (dk_at dksX1_step_3 20 rfl rfl)
theorem dX1_step_92 : decode cX1_step 92 = .ok (.aload_n 0, 1) := dk_42 (dk_at dksX1_step_3 22 rfl rfl)
theorem dX1_step_93 : decode cX1_step 93 = .ok (.iload 5, 2) := dk_21 5 (dk_at dksX1_step_4 0 rfl rfl)
theorem dX1_step_95 : decode cX1_step 95 = .ok (.aload_n 3, 1) := dk_45 (dk_at dksX1_step_4 2 rfl rfl)
theorem dX1_step_96 : decode cX1_step 96 = .ok (.iload 6, 2) := dk_21 6 (dk_at dksX1_step_4 3 rfl rfl)
theorem dX1_step_98 : decode cX1_step 98 = .ok (.iload 7, 2) := dk_21 7 (dk_at dksX1_step_4 5 rfl rfl)
theorem dX1_step_100 : decode cX1_step 100 = .ok (.invokevirtual 136, 3) := dk_182 0 136 (dk_at dksX1_step_4 7 rfl rfl)
theorem dX1_step_103 : decode cX1_step 103 = .ok (.iconst 1, 1) := dk_4 (dk_at dksX1_step_4 10 rfl rfl)
theorem dX1_step_104 : decode cX1_step 104 = .ok (.ireturn, 1) := dk_172 (dk_at dksX1_step_4 11 rfl rfl)
theorem dX1_step_105 : decode cX1_step 105 = .ok (.iload_n 2, 1) := dk_28 (dk_at dksX1_step_4 12 rfl rfl)
theorem dX1_step_106 : decode cX1_step 106 = .ok (.iconst 1, 1) := dk_4 (dk_at dksX1_step_4 13 rfl rfl)
theorem dX1_step_107 : decode cX1_step 107 = .ok (.isub, 1) := dk_100 (dk_at dksX1_step_4 14 rfl rfl)
theorem dX1_step_108 : decode cX1_step 108 = .ok (.istore 5, 2) := dk_54 5 (dk_at dksX1_step_4 15 rfl rfl)
theorem dX1_step_110 : decode cX1_step 110 = .ok (.iload 5, 2) := dk_21 5 (dk_at dksX1_step_4 17 rfl rfl)
theorem dX1_step_112 : decode cX1_step 112 = .ok (.ifCond .lt 30, 3) := dk_155 0 30 (dk_at dksX1_step_4 19 rfl rfl)
theorem dX1_step_115 : decode cX1_step 115 = .ok (.aload_n 0, 1) := dk_42 (dk_at dksX1_step_4 22 rfl rfl)
theorem dX1_step_116 : decode cX1_step 116 = .ok (.aload_n 0, 1) := dk_42 (dk_at dksX1_step_4 23 rfl rfl)
theorem dX1_step_117 : decode cX1_step 117 = .ok (.getfield 19, 3) := dk_180 0 19 (dk_at dksX1_step_5 0 rfl rfl)
theorem dX1_step_120 : decode cX1_step 120 = .ok (.aload_n 0, 1) := dk_42 (dk_at dksX1_step_5 3 rfl rfl)
theorem dX1_step_121 : decode cX1_step 121 = .ok (.iload_n 1, 1) := dk_27 (dk_at dksX1_step_5 4 rfl rfl)
theorem dX1_step_122 : decode cX1_step 122 = .ok (.iload 5, 2) := dk_21 5 (dk_at dksX1_step_5 5 rfl rfl)
theorem dX1_step_124 : decode cX1_step 124 = .ok (.invokevirtual 125, 3) := dk_182 0 125 (dk_at dksX1_step_5 7 rfl rfl)
theorem dX1_step_127 : decode cX1_step 127 = .ok (.iaload, 1) := dk_46 (dk_at dksX1_step_5 10 rfl rfl)
theorem dX1_step_128 : decode cX1_step 128 = .ok (.invokevirtual 140, 3) := dk_182 0 140 (dk_at dksX1_step_5 11 rfl rfl)
theorem dX1_step_131 : decode cX1_step 131 = .ok (.ifCond .eq 5, 3) := dk_153 0 5 (dk_at dksX1_step_5 14 rfl rfl)
theorem dX1_step_134 : decode cX1_step 134 = .ok (.iconst 1, 1) := dk_4 (dk_at dksX1_step_5 17 rfl rfl)
theorem dX1_step_135 : decode cX1_step 135 = .ok (.ireturn, 1) := dk_172 (dk_at dksX1_step_5 18 rfl rfl)
theorem dX1_step_136 : decode cX1_step 136 = .ok (.iinc 5 (-1), 3) := dk_132 5 255 (dk_at dksX1_step_5 19 rfl rfl)
theorem dX1_step_139 : decode cX1_step 139 = .ok (.goto (-29), 3) := dk_167 255 227 (dk_at dksX1_step_6 0 rfl rfl)
theorem dX1_step_142 : decode cX1_step 142 = .ok (.iconst 0, 1) := dk_3 (dk_at dksX1_step_6 3 rfl rfl)
theorem dX1_step_143 : decode cX1_step 143 = .ok (.ireturn, 1) := dk_172 (dk_at dksX1_step_6 4 rfl rfl)
abbrev cX1_spine : ByteArray := prog_13_method_14_code
def yX1_spine : MethodName := ⟨RX1, "spine", "(I)I"⟩
def dkwX1_spine_1 : List UInt8 := [182, 0, 77, 62, 132, 2, 1, 167, 255, 233, 28, 172]
abbrev dktX1_spine_1 : List UInt8 := dkwX1_spine_1 ++ []
def dkwX1_spine_0 : List UInt8 := [3, 61, 42, 27, 182, 0, 77, 62, 42, 180, 0, 10, 29, 46, 154, 0, 20, 42, 42, 180, 0, 16, 29, 46]
abbrev dktX1_spine_0 : List UInt8 := dkwX1_spine_0 ++ dktX1_spine_1
theorem dksX1_spine_0 : cX1_spine.data.toList.drop 0 = dktX1_spine_0 := by decide +kernel
theorem dksX1_spine_1 : cX1_spine.data.toList.drop 24 = dktX1_spine_1 := dk_seg dksX1_spine_0 24 rfl rfl
theorem dX1_spine_0 : decode cX1_spine 0 = .ok (.iconst 0, 1) := dk_3 (dk_at dksX1_spine_0 0 rfl rfl)
theorem dX1_spine_1 : decode cX1_spine 1 = .ok (.istore_n 2, 1) := dk_61 (dk_at dksX1_spine_0 1 rfl rfl)
theorem dX1_spine_2 : decode cX1_spine 2 = .ok (.aload_n 0, 1) := dk_42 (dk_at dksX1_spine_0 2 rfl rfl)
theorem dX1_spine_3 : decode cX1_spine 3 = .ok (.iload_n 1, 1) := dk_27 (dk_at dksX1_spine_0 3 rfl rfl)
theorem dX1_spine_4 : decode cX1_spine 4 = .ok (.invokevirtual 77, 3) := dk_182 0 77 (dk_at dksX1_spine_0 4 rfl rfl)
theorem dX1_spine_7 : decode cX1_spine 7 = .ok (.istore_n 3, 1) := dk_62 (dk_at dksX1_spine_0 7 rfl rfl)
theorem dX1_spine_8 : decode cX1_spine 8 = .ok (.aload_n 0, 1) := dk_42 (dk_at dksX1_spine_0 8 rfl rfl)
theorem dX1_spine_9 : decode cX1_spine 9 = .ok (.getfield 10, 3) := dk_180 0 10 (dk_at dksX1_spine_0 9 rfl rfl)
theorem dX1_spine_12 : decode cX1_spine 12 = .ok (.iload_n 3, 1) := dk_29 (dk_at dksX1_spine_0 12 rfl rfl)
theorem dX1_spine_13 : decode cX1_spine 13 = .ok (.iaload, 1) := dk_46 (dk_at dksX1_spine_0 13 rfl rfl)
theorem dX1_spine_14 : decode cX1_spine 14 = .ok (.ifCond .ne 20, 3) := dk_154 0 20 (dk_at dksX1_spine_0 14 rfl rfl)
theorem dX1_spine_17 : decode cX1_spine 17 = .ok (.aload_n 0, 1) := dk_42 (dk_at dksX1_spine_0 17 rfl rfl)
theorem dX1_spine_18 : decode cX1_spine 18 = .ok (.aload_n 0, 1) := dk_42 (dk_at dksX1_spine_0 18 rfl rfl)
theorem dX1_spine_19 : decode cX1_spine 19 = .ok (.getfield 16, 3) := dk_180 0 16 (dk_at dksX1_spine_0 19 rfl rfl)
theorem dX1_spine_22 : decode cX1_spine 22 = .ok (.iload_n 3, 1) := dk_29 (dk_at dksX1_spine_0 22 rfl rfl)
theorem dX1_spine_23 : decode cX1_spine 23 = .ok (.iaload, 1) := dk_46 (dk_at dksX1_spine_0 23 rfl rfl)
theorem dX1_spine_24 : decode cX1_spine 24 = .ok (.invokevirtual 77, 3) := dk_182 0 77 (dk_at dksX1_spine_1 0 rfl rfl)
theorem dX1_spine_27 : decode cX1_spine 27 = .ok (.istore_n 3, 1) := dk_62 (dk_at dksX1_spine_1 3 rfl rfl)
theorem dX1_spine_28 : decode cX1_spine 28 = .ok (.iinc 2 1, 3) := dk_132 2 1 (dk_at dksX1_spine_1 4 rfl rfl)
theorem dX1_spine_31 : decode cX1_spine 31 = .ok (.goto (-23), 3) := dk_167 255 233 (dk_at dksX1_spine_1 7 rfl rfl)
theorem dX1_spine_34 : decode cX1_spine 34 = .ok (.iload_n 2, 1) := dk_28 (dk_at dksX1_spine_1 10 rfl rfl)
theorem dX1_spine_35 : decode cX1_spine 35 = .ok (.ireturn, 1) := dk_172 (dk_at dksX1_spine_1 11 rfl rfl)
abbrev cX1_self : ByteArray := prog_13_method_5_code
def yX1_self : MethodName := ⟨RX1, "self", "(I)I"⟩
def dkwX1_self_0 : List UInt8 := [27, 61, 42, 180, 0, 22, 28, 46, 2, 159, 0, 13, 42, 180, 0, 22, 28, 46, 61, 167, 255, 239, 28, 172]
abbrev dktX1_self_0 : List UInt8 := dkwX1_self_0 ++ []
theorem dksX1_self_0 : cX1_self.data.toList.drop 0 = dktX1_self_0 := by decide +kernel
theorem dX1_self_0 : decode cX1_self 0 = .ok (.iload_n 1, 1) := dk_27 (dk_at dksX1_self_0 0 rfl rfl)
theorem dX1_self_1 : decode cX1_self 1 = .ok (.istore_n 2, 1) := dk_61 (dk_at dksX1_self_0 1 rfl rfl)
theorem dX1_self_2 : decode cX1_self 2 = .ok (.aload_n 0, 1) := dk_42 (dk_at dksX1_self_0 2 rfl rfl)
theorem dX1_self_3 : decode cX1_self 3 = .ok (.getfield 22, 3) := dk_180 0 22 (dk_at dksX1_self_0 3 rfl rfl)
theorem dX1_self_6 : decode cX1_self 6 = .ok (.iload_n 2, 1) := dk_28 (dk_at dksX1_self_0 6 rfl rfl)
theorem dX1_self_7 : decode cX1_self 7 = .ok (.iaload, 1) := dk_46 (dk_at dksX1_self_0 7 rfl rfl)
theorem dX1_self_8 : decode cX1_self 8 = .ok (.iconst (-1), 1) := dk_2 (dk_at dksX1_self_0 8 rfl rfl)
theorem dX1_self_9 : decode cX1_self 9 = .ok (.if_icmp .eq 13, 3) := dk_159 0 13 (dk_at dksX1_self_0 9 rfl rfl)
theorem dX1_self_12 : decode cX1_self 12 = .ok (.aload_n 0, 1) := dk_42 (dk_at dksX1_self_0 12 rfl rfl)
theorem dX1_self_13 : decode cX1_self 13 = .ok (.getfield 22, 3) := dk_180 0 22 (dk_at dksX1_self_0 13 rfl rfl)
theorem dX1_self_16 : decode cX1_self 16 = .ok (.iload_n 2, 1) := dk_28 (dk_at dksX1_self_0 16 rfl rfl)
theorem dX1_self_17 : decode cX1_self 17 = .ok (.iaload, 1) := dk_46 (dk_at dksX1_self_0 17 rfl rfl)
theorem dX1_self_18 : decode cX1_self 18 = .ok (.istore_n 2, 1) := dk_61 (dk_at dksX1_self_0 18 rfl rfl)
theorem dX1_self_19 : decode cX1_self 19 = .ok (.goto (-17), 3) := dk_167 255 239 (dk_at dksX1_self_0 19 rfl rfl)
theorem dX1_self_22 : decode cX1_self 22 = .ok (.iload_n 2, 1) := dk_28 (dk_at dksX1_self_0 22 rfl rfl)
theorem dX1_self_23 : decode cX1_self 23 = .ok (.ireturn, 1) := dk_172 (dk_at dksX1_self_0 23 rfl rfl)
abbrev cX1_down : ByteArray := prog_13_method_13_code
def yX1_down : MethodName := ⟨RX1, "down", "(II)I"⟩
def dkwX1_down_1 : List UInt8 := [182, 0, 77, 62, 132, 4, 1, 167, 255, 236, 29, 172]
abbrev dktX1_down_1 : List UInt8 := dkwX1_down_1 ++ []
def dkwX1_down_0 : List UInt8 := [42, 27, 182, 0, 77, 62, 3, 54, 4, 21, 4, 28, 162, 0, 20, 42, 42, 180, 0, 16, 29, 46]
abbrev dktX1_down_0 : List UInt8 := dkwX1_down_0 ++ dktX1_down_1
theorem dksX1_down_0 : cX1_down.data.toList.drop 0 = dktX1_down_0 := by decide +kernel
theorem dksX1_down_1 : cX1_down.data.toList.drop 22 = dktX1_down_1 := dk_seg dksX1_down_0 22 rfl rfl
theorem dX1_down_0 : decode cX1_down 0 = .ok (.aload_n 0, 1) := dk_42 (dk_at dksX1_down_0 0 rfl rfl)
theorem dX1_down_1 : decode cX1_down 1 = .ok (.iload_n 1, 1) := dk_27 (dk_at dksX1_down_0 1 rfl rfl)
theorem dX1_down_2 : decode cX1_down 2 = .ok (.invokevirtual 77, 3) := dk_182 0 77 (dk_at dksX1_down_0 2 rfl rfl)
theorem dX1_down_5 : decode cX1_down 5 = .ok (.istore_n 3, 1) := dk_62 (dk_at dksX1_down_0 5 rfl rfl)
theorem dX1_down_6 : decode cX1_down 6 = .ok (.iconst 0, 1) := dk_3 (dk_at dksX1_down_0 6 rfl rfl)
theorem dX1_down_7 : decode cX1_down 7 = .ok (.istore 4, 2) := dk_54 4 (dk_at dksX1_down_0 7 rfl rfl)
theorem dX1_down_9 : decode cX1_down 9 = .ok (.iload 4, 2) := dk_21 4 (dk_at dksX1_down_0 9 rfl rfl)
theorem dX1_down_11 : decode cX1_down 11 = .ok (.iload_n 2, 1) := dk_28 (dk_at dksX1_down_0 11 rfl rfl)
theorem dX1_down_12 : decode cX1_down 12 = .ok (.if_icmp .ge 20, 3) := dk_162 0 20 (dk_at dksX1_down_0 12 rfl rfl)
theorem dX1_down_15 : decode cX1_down 15 = .ok (.aload_n 0, 1) := dk_42 (dk_at dksX1_down_0 15 rfl rfl)
theorem dX1_down_16 : decode cX1_down 16 = .ok (.aload_n 0, 1) := dk_42 (dk_at dksX1_down_0 16 rfl rfl)
theorem dX1_down_17 : decode cX1_down 17 = .ok (.getfield 16, 3) := dk_180 0 16 (dk_at dksX1_down_0 17 rfl rfl)
theorem dX1_down_20 : decode cX1_down 20 = .ok (.iload_n 3, 1) := dk_29 (dk_at dksX1_down_0 20 rfl rfl)
theorem dX1_down_21 : decode cX1_down 21 = .ok (.iaload, 1) := dk_46 (dk_at dksX1_down_0 21 rfl rfl)
theorem dX1_down_22 : decode cX1_down 22 = .ok (.invokevirtual 77, 3) := dk_182 0 77 (dk_at dksX1_down_1 0 rfl rfl)
theorem dX1_down_25 : decode cX1_down 25 = .ok (.istore_n 3, 1) := dk_62 (dk_at dksX1_down_1 3 rfl rfl)
theorem dX1_down_26 : decode cX1_down 26 = .ok (.iinc 4 1, 3) := dk_132 4 1 (dk_at dksX1_down_1 4 rfl rfl)
theorem dX1_down_29 : decode cX1_down 29 = .ok (.goto (-20), 3) := dk_167 255 236 (dk_at dksX1_down_1 7 rfl rfl)
theorem dX1_down_32 : decode cX1_down 32 = .ok (.iload_n 3, 1) := dk_29 (dk_at dksX1_down_1 10 rfl rfl)
theorem dX1_down_33 : decode cX1_down 33 = .ok (.ireturn, 1) := dk_172 (dk_at dksX1_down_1 11 rfl rfl)
abbrev cX1_wants : ByteArray := prog_13_method_11_code
def yX1_wants : MethodName := ⟨RX1, "wants", "(Ljava/lang/String;)I"⟩
def dkwX1_wants_5 : List UInt8 := [4, 172, 5, 172, 17, 1, 44, 172, 6, 172]
abbrev dktX1_wants_5 : List UInt8 := dkwX1_wants_5 ++ []
def dkwX1_wants_4 : List UInt8 := [170, 0, 0, 0, 0, 0, 0, 36, 0, 0, 0, 0, 0, 0, 0, 2, 0, 0, 0, 28, 0, 0, 0, 30, 0, 0, 0, 32]
abbrev dktX1_wants_4 : List UInt8 := dkwX1_wants_4 ++ dktX1_wants_5
def dkwX1_wants_3 : List UInt8 := [61, 167, 0, 14, 43, 18, 116, 182, 0, 110, 153, 0, 5, 5, 61, 28]
abbrev dktX1_wants_3 : List UInt8 := dkwX1_wants_3 ++ dktX1_wants_4
def dkwX1_wants_2 : List UInt8 := [43, 18, 109, 182, 0, 110, 153, 0, 33, 3, 61, 167, 0, 28, 43, 18, 114, 182, 0, 110, 153, 0, 19, 4]
abbrev dktX1_wants_2 : List UInt8 := dkwX1_wants_2 ++ dktX1_wants_3
def dkwX1_wants_1 : List UInt8 := [171, 0, 0, 0, 0, 0, 0, 75, 0, 0, 0, 3, 0, 0, 0, 0, 0, 0, 0, 64, 0, 0, 0, 73, 0, 0, 0, 36, 0, 0, 0, 75, 0, 0, 0, 50]
abbrev dktX1_wants_1 : List UInt8 := dkwX1_wants_1 ++ dktX1_wants_2
def dkwX1_wants_0 : List UInt8 := [42, 76, 2, 61, 43, 182, 0, 105]
abbrev dktX1_wants_0 : List UInt8 := dkwX1_wants_0 ++ dktX1_wants_1
theorem dksX1_wants_0 : cX1_wants.data.toList.drop 0 = dktX1_wants_0 := by decide +kernel
theorem dksX1_wants_1 : cX1_wants.data.toList.drop 8 = dktX1_wants_1 := dk_seg dksX1_wants_0 8 rfl rfl
theorem dksX1_wants_2 : cX1_wants.data.toList.drop 44 = dktX1_wants_2 := dk_seg dksX1_wants_1 36 rfl rfl
theorem dksX1_wants_3 : cX1_wants.data.toList.drop 68 = dktX1_wants_3 := dk_seg dksX1_wants_2 24 rfl rfl
theorem dksX1_wants_4 : cX1_wants.data.toList.drop 84 = dktX1_wants_4 := dk_seg dksX1_wants_3 16 rfl rfl
theorem dksX1_wants_5 : cX1_wants.data.toList.drop 112 = dktX1_wants_5 := dk_seg dksX1_wants_4 28 rfl rfl
theorem dX1_wants_0 : decode cX1_wants 0 = .ok (.aload_n 0, 1) := dk_42 (dk_at dksX1_wants_0 0 rfl rfl)
theorem dX1_wants_1 : decode cX1_wants 1 = .ok (.astore_n 1, 1) := dk_76 (dk_at dksX1_wants_0 1 rfl rfl)
theorem dX1_wants_2 : decode cX1_wants 2 = .ok (.iconst (-1), 1) := dk_2 (dk_at dksX1_wants_0 2 rfl rfl)
theorem dX1_wants_3 : decode cX1_wants 3 = .ok (.istore_n 2, 1) := dk_61 (dk_at dksX1_wants_0 3 rfl rfl)
theorem dX1_wants_4 : decode cX1_wants 4 = .ok (.aload_n 1, 1) := dk_43 (dk_at dksX1_wants_0 4 rfl rfl)
theorem dX1_wants_5 : decode cX1_wants 5 = .ok (.invokevirtual 105, 3) := dk_182 0 105 (dk_at dksX1_wants_0 5 rfl rfl)
theorem dX1_wants_8 : decode cX1_wants 8 = .ok (.lookupswitch 75 #[(0, 64), (73, 36), (75, 50)], 36) := by decide +kernel
theorem dX1_wants_44 : decode cX1_wants 44 = .ok (.aload_n 1, 1) := dk_43 (dk_at dksX1_wants_2 0 rfl rfl)
theorem dX1_wants_45 : decode cX1_wants 45 = .ok (.ldc 109, 2) := dk_18 109 (dk_at dksX1_wants_2 1 rfl rfl)
theorem dX1_wants_47 : decode cX1_wants 47 = .ok (.invokevirtual 110, 3) := dk_182 0 110 (dk_at dksX1_wants_2 3 rfl rfl)
theorem dX1_wants_50 : decode cX1_wants 50 = .ok (.ifCond .eq 33, 3) := dk_153 0 33 (dk_at dksX1_wants_2 6 rfl rfl)
theorem dX1_wants_53 : decode cX1_wants 53 = .ok (.iconst 0, 1) := dk_3 (dk_at dksX1_wants_2 9 rfl rfl)
theorem dX1_wants_54 : decode cX1_wants 54 = .ok (.istore_n 2, 1) := dk_61 (dk_at dksX1_wants_2 10 rfl rfl)
theorem dX1_wants_55 : decode cX1_wants 55 = .ok (.goto 28, 3) := dk_167 0 28 (dk_at dksX1_wants_2 11 rfl rfl)
theorem dX1_wants_58 : decode cX1_wants 58 = .ok (.aload_n 1, 1) := dk_43 (dk_at dksX1_wants_2 14 rfl rfl)
theorem dX1_wants_59 : decode cX1_wants 59 = .ok (.ldc 114, 2) := dk_18 114 (dk_at dksX1_wants_2 15 rfl rfl)
theorem dX1_wants_61 : decode cX1_wants 61 = .ok (.invokevirtual 110, 3) := dk_182 0 110 (dk_at dksX1_wants_2 17 rfl rfl)
theorem dX1_wants_64 : decode cX1_wants 64 = .ok (.ifCond .eq 19, 3) := dk_153 0 19 (dk_at dksX1_wants_2 20 rfl rfl)
theorem dX1_wants_67 : decode cX1_wants 67 = .ok (.iconst 1, 1) := dk_4 (dk_at dksX1_wants_2 23 rfl rfl)
theorem dX1_wants_68 : decode cX1_wants 68 = .ok (.istore_n 2, 1) := dk_61 (dk_at dksX1_wants_3 0 rfl rfl)
theorem dX1_wants_69 : decode cX1_wants 69 = .ok (.goto 14, 3) := dk_167 0 14 (dk_at dksX1_wants_3 1 rfl rfl)
theorem dX1_wants_72 : decode cX1_wants 72 = .ok (.aload_n 1, 1) := dk_43 (dk_at dksX1_wants_3 4 rfl rfl)
theorem dX1_wants_73 : decode cX1_wants 73 = .ok (.ldc 116, 2) := dk_18 116 (dk_at dksX1_wants_3 5 rfl rfl)
theorem dX1_wants_75 : decode cX1_wants 75 = .ok (.invokevirtual 110, 3) := dk_182 0 110 (dk_at dksX1_wants_3 7 rfl rfl)
theorem dX1_wants_78 : decode cX1_wants 78 = .ok (.ifCond .eq 5, 3) := dk_153 0 5 (dk_at dksX1_wants_3 10 rfl rfl)
theorem dX1_wants_81 : decode cX1_wants 81 = .ok (.iconst 2, 1) := dk_5 (dk_at dksX1_wants_3 13 rfl rfl)
theorem dX1_wants_82 : decode cX1_wants 82 = .ok (.istore_n 2, 1) := dk_61 (dk_at dksX1_wants_3 14 rfl rfl)
theorem dX1_wants_83 : decode cX1_wants 83 = .ok (.iload_n 2, 1) := dk_28 (dk_at dksX1_wants_3 15 rfl rfl)
theorem dX1_wants_84 : decode cX1_wants 84 = .ok (.tableswitch 36 0 2 #[28, 30, 32], 28) := by decide +kernel
theorem dX1_wants_112 : decode cX1_wants 112 = .ok (.iconst 1, 1) := dk_4 (dk_at dksX1_wants_5 0 rfl rfl)
theorem dX1_wants_113 : decode cX1_wants 113 = .ok (.ireturn, 1) := dk_172 (dk_at dksX1_wants_5 1 rfl rfl)
theorem dX1_wants_114 : decode cX1_wants 114 = .ok (.iconst 2, 1) := dk_5 (dk_at dksX1_wants_5 2 rfl rfl)
theorem dX1_wants_115 : decode cX1_wants 115 = .ok (.ireturn, 1) := dk_172 (dk_at dksX1_wants_5 3 rfl rfl)
theorem dX1_wants_116 : decode cX1_wants 116 = .ok (.sipush 300, 3) := dk_17 1 44 (dk_at dksX1_wants_5 4 rfl rfl)
theorem dX1_wants_119 : decode cX1_wants 119 = .ok (.ireturn, 1) := dk_172 (dk_at dksX1_wants_5 7 rfl rfl)
theorem dX1_wants_120 : decode cX1_wants 120 = .ok (.iconst 3, 1) := dk_6 (dk_at dksX1_wants_5 8 rfl rfl)
theorem dX1_wants_121 : decode cX1_wants 121 = .ok (.ireturn, 1) := dk_172 (dk_at dksX1_wants_5 9 rfl rfl)
abbrev cX1_take : ByteArray := prog_13_method_12_code
def yX1_take : MethodName := ⟨RX1, "take", "(ILjava/lang/String;II)V"⟩
def dkwX1_take_11 : List UInt8 := [79, 177]
abbrev dktX1_take_11 : List UInt8 := dkwX1_take_11 ++ []
def dkwX1_take_10 : List UInt8 := [167, 0, 25, 42, 180, 0, 16, 27, 42, 3, 29, 21, 5, 182, 0, 56, 79, 42, 180, 0, 19, 27, 21, 4]
abbrev dktX1_take_10 : List UInt8 := dkwX1_take_10 ++ dktX1_take_11
def dkwX1_take_9 : List UInt8 := [42, 180, 0, 16, 27, 29, 79, 42, 180, 0, 19, 27, 42, 3, 21, 4, 21, 5, 182, 0, 56, 79]
abbrev dktX1_take_9 : List UInt8 := dkwX1_take_9 ++ dktX1_take_10
def dkwX1_take_8 : List UInt8 := [180, 0, 36, 153, 0, 8, 21, 5, 167, 0, 9, 42, 21, 5, 182, 0, 81, 182, 0, 56, 79, 167, 0, 50]
abbrev dktX1_take_8 : List UInt8 := dkwX1_take_8 ++ dktX1_take_9
def dkwX1_take_7 : List UInt8 := [180, 0, 16, 27, 42, 3, 29, 21, 5, 182, 0, 56, 79, 42, 180, 0, 19, 27, 42, 3, 21, 4, 42]
abbrev dktX1_take_7 : List UInt8 := dkwX1_take_7 ++ dktX1_take_8
def dkwX1_take_6 : List UInt8 := [42, 180, 0, 22, 27, 21, 5, 79, 167, 0, 109, 42, 180, 0, 22, 27, 21, 4, 79, 167, 0, 98, 42]
abbrev dktX1_take_6 : List UInt8 := dkwX1_take_6 ++ dktX1_take_7
def dkwX1_take_5 : List UInt8 := [170, 0, 0, 0, 124, 0, 0, 0, 0, 0, 0, 0, 3, 0, 0, 0, 29, 0, 0, 0, 40, 0, 0, 0, 51, 0, 0, 0, 99]
abbrev dktX1_take_5 : List UInt8 := dkwX1_take_5 ++ dktX1_take_6
def dkwX1_take_4 : List UInt8 := [167, 0, 16, 25, 6, 18, 120, 182, 0, 110, 153, 0, 6, 6, 54, 7, 21, 7]
abbrev dktX1_take_4 : List UInt8 := dkwX1_take_4 ++ dktX1_take_5
def dkwX1_take_3 : List UInt8 := [153, 0, 38, 4, 54, 7, 167, 0, 32, 25, 6, 18, 118, 182, 0, 110, 153, 0, 22, 5, 54, 7]
abbrev dktX1_take_3 : List UInt8 := dkwX1_take_3 ++ dktX1_take_4
def dkwX1_take_2 : List UInt8 := [25, 6, 18, 109, 182, 0, 110, 153, 0, 54, 3, 54, 7, 167, 0, 48, 25, 6, 18, 114, 182, 0, 110]
abbrev dktX1_take_2 : List UInt8 := dkwX1_take_2 ++ dktX1_take_3
def dkwX1_take_1 : List UInt8 := [171, 0, 0, 0, 102, 0, 0, 0, 4, 0, 0, 0, 66, 0, 0, 0, 89, 0, 0, 0, 73, 0, 0, 0, 41, 0, 0, 0, 75, 0, 0, 0, 57, 0, 0, 0, 83, 0, 0, 0, 73]
abbrev dktX1_take_1 : List UInt8 := dkwX1_take_1 ++ dktX1_take_2
def dkwX1_take_0 : List UInt8 := [42, 180, 0, 19, 27, 46, 54, 5, 44, 58, 6, 2, 54, 7, 25, 6, 182, 0, 105]
abbrev dktX1_take_0 : List UInt8 := dkwX1_take_0 ++ dktX1_take_1
theorem dksX1_take_0 : cX1_take.data.toList.drop 0 = dktX1_take_0 := by decide +kernel
theorem dksX1_take_1 : cX1_take.data.toList.drop 19 = dktX1_take_1 := dk_seg dksX1_take_0 19 rfl rfl
theorem dksX1_take_2 : cX1_take.data.toList.drop 60 = dktX1_take_2 := dk_seg dksX1_take_1 41 rfl rfl
theorem dksX1_take_3 : cX1_take.data.toList.drop 83 = dktX1_take_3 := dk_seg dksX1_take_2 23 rfl rfl
theorem dksX1_take_4 : cX1_take.data.toList.drop 105 = dktX1_take_4 := dk_seg dksX1_take_3 22 rfl rfl
theorem dksX1_take_5 : cX1_take.data.toList.drop 123 = dktX1_take_5 := dk_seg dksX1_take_4 18 rfl rfl
theorem dksX1_take_6 : cX1_take.data.toList.drop 152 = dktX1_take_6 := dk_seg dksX1_take_5 29 rfl rfl
theorem dksX1_take_7 : cX1_take.data.toList.drop 175 = dktX1_take_7 := dk_seg dksX1_take_6 23 rfl rfl
theorem dksX1_take_8 : cX1_take.data.toList.drop 198 = dktX1_take_8 := dk_seg dksX1_take_7 23 rfl rfl
theorem dksX1_take_9 : cX1_take.data.toList.drop 222 = dktX1_take_9 := dk_seg dksX1_take_8 24 rfl rfl
theorem dksX1_take_10 : cX1_take.data.toList.drop 244 = dktX1_take_10 := dk_seg dksX1_take_9 22 rfl rfl
theorem dksX1_take_11 : cX1_take.data.toList.drop 268 = dktX1_take_11 := dk_seg dksX1_take_10 24 rfl rfl
theorem dX1_take_0 : decode cX1_take 0 = .ok (.aload_n 0, 1) := dk_42 (dk_at dksX1_take_0 0 rfl rfl)
theorem dX1_take_1 : decode cX1_take 1 = .ok (.getfield 19, 3) := dk_180 0 19 (dk_at dksX1_take_0 1 rfl rfl)
theorem dX1_take_4 : decode cX1_take 4 = .ok (.iload_n 1, 1) := dk_27 (dk_at dksX1_take_0 4 rfl rfl)
theorem dX1_take_5 : decode cX1_take 5 = .ok (.iaload, 1) := dk_46 (dk_at dksX1_take_0 5 rfl rfl)
theorem dX1_take_6 : decode cX1_take 6 = .ok (.istore 5, 2) := dk_54 5 (dk_at dksX1_take_0 6 rfl rfl)
theorem dX1_take_8 : decode cX1_take 8 = .ok (.aload_n 2, 1) := dk_44 (dk_at dksX1_take_0 8 rfl rfl)
theorem dX1_take_9 : decode cX1_take 9 = .ok (.astore 6, 2) := dk_58 6 (dk_at dksX1_take_0 9 rfl rfl)
theorem dX1_take_11 : decode cX1_take 11 = .ok (.iconst (-1), 1) := dk_2 (dk_at dksX1_take_0 11 rfl rfl)
theorem dX1_take_12 : decode cX1_take 12 = .ok (.istore 7, 2) := dk_54 7 (dk_at dksX1_take_0 12 rfl rfl)
theorem dX1_take_14 : decode cX1_take 14 = .ok (.aload 6, 2) := dk_25 6 (dk_at dksX1_take_0 14 rfl rfl)
theorem dX1_take_16 : decode cX1_take 16 = .ok (.invokevirtual 105, 3) := dk_182 0 105 (dk_at dksX1_take_0 16 rfl rfl)
theorem dX1_take_19 : decode cX1_take 19 = .ok (.lookupswitch 102 #[(66, 89), (73, 41), (75, 57), (83, 73)], 41) := by decide +kernel
theorem dX1_take_60 : decode cX1_take 60 = .ok (.aload 6, 2) := dk_25 6 (dk_at dksX1_take_2 0 rfl rfl)
theorem dX1_take_62 : decode cX1_take 62 = .ok (.ldc 109, 2) := dk_18 109 (dk_at dksX1_take_2 2 rfl rfl)
theorem dX1_take_64 : decode cX1_take 64 = .ok (.invokevirtual 110, 3) := dk_182 0 110 (dk_at dksX1_take_2 4 rfl rfl)
theorem dX1_take_67 : decode cX1_take 67 = .ok (.ifCond .eq 54, 3) := dk_153 0 54 (dk_at dksX1_take_2 7 rfl rfl)
theorem dX1_take_70 : decode cX1_take 70 = .ok (.iconst 0, 1) := dk_3 (dk_at dksX1_take_2 10 rfl rfl)
theorem dX1_take_71 : decode cX1_take 71 = .ok (.istore 7, 2) := dk_54 7 (dk_at dksX1_take_2 11 rfl rfl)
theorem dX1_take_73 : decode cX1_take 73 = .ok (.goto 48, 3) := dk_167 0 48 (dk_at dksX1_take_2 13 rfl rfl)
theorem dX1_take_76 : decode cX1_take 76 = .ok (.aload 6, 2) := dk_25 6 (dk_at dksX1_take_2 16 rfl rfl)
theorem dX1_take_78 : decode cX1_take 78 = .ok (.ldc 114, 2) := dk_18 114 (dk_at dksX1_take_2 18 rfl rfl)
theorem dX1_take_80 : decode cX1_take 80 = .ok (.invokevirtual 110, 3) := dk_182 0 110 (dk_at dksX1_take_2 20 rfl rfl)
theorem dX1_take_83 : decode cX1_take 83 = .ok (.ifCond .eq 38, 3) := dk_153 0 38 (dk_at dksX1_take_3 0 rfl rfl)
theorem dX1_take_86 : decode cX1_take 86 = .ok (.iconst 1, 1) := dk_4 (dk_at dksX1_take_3 3 rfl rfl)
theorem dX1_take_87 : decode cX1_take 87 = .ok (.istore 7, 2) := dk_54 7 (dk_at dksX1_take_3 4 rfl rfl)
theorem dX1_take_89 : decode cX1_take 89 = .ok (.goto 32, 3) := dk_167 0 32 (dk_at dksX1_take_3 6 rfl rfl)
theorem dX1_take_92 : decode cX1_take 92 = .ok (.aload 6, 2) := dk_25 6 (dk_at dksX1_take_3 9 rfl rfl)
theorem dX1_take_94 : decode cX1_take 94 = .ok (.ldc 118, 2) := dk_18 118 (dk_at dksX1_take_3 11 rfl rfl)
theorem dX1_take_96 : decode cX1_take 96 = .ok (.invokevirtual 110, 3) := dk_182 0 110 (dk_at dksX1_take_3 13 rfl rfl)
theorem dX1_take_99 : decode cX1_take 99 = .ok (.ifCond .eq 22, 3) := dk_153 0 22 (dk_at dksX1_take_3 16 rfl rfl)
theorem dX1_take_102 : decode cX1_take 102 = .ok (.iconst 2, 1) := dk_5 (dk_at dksX1_take_3 19 rfl rfl)
theorem dX1_take_103 : decode cX1_take 103 = .ok (.istore 7, 2) := dk_54 7 (dk_at dksX1_take_3 20 rfl rfl)
theorem dX1_take_105 : decode cX1_take 105 = .ok (.goto 16, 3) := dk_167 0 16 (dk_at dksX1_take_4 0 rfl rfl)
theorem dX1_take_108 : decode cX1_take 108 = .ok (.aload 6, 2) := dk_25 6 (dk_at dksX1_take_4 3 rfl rfl)
theorem dX1_take_110 : decode cX1_take 110 = .ok (.ldc 120, 2) := dk_18 120 (dk_at dksX1_take_4 5 rfl rfl)
theorem dX1_take_112 : decode cX1_take 112 = .ok (.invokevirtual 110, 3) := dk_182 0 110 (dk_at dksX1_take_4 7 rfl rfl)
theorem dX1_take_115 : decode cX1_take 115 = .ok (.ifCond .eq 6, 3) := dk_153 0 6 (dk_at dksX1_take_4 10 rfl rfl)
theorem dX1_take_118 : decode cX1_take 118 = .ok (.iconst 3, 1) := dk_6 (dk_at dksX1_take_4 13 rfl rfl)
theorem dX1_take_119 : decode cX1_take 119 = .ok (.istore 7, 2) := dk_54 7 (dk_at dksX1_take_4 14 rfl rfl)
theorem dX1_take_121 : decode cX1_take 121 = .ok (.iload 7, 2) := dk_21 7 (dk_at dksX1_take_4 16 rfl rfl)
theorem dX1_take_123 : decode cX1_take 123 = .ok (.tableswitch 124 0 3 #[29, 40, 51, 99], 29) := by decide +kernel
theorem dX1_take_152 : decode cX1_take 152 = .ok (.aload_n 0, 1) := dk_42 (dk_at dksX1_take_6 0 rfl rfl)
theorem dX1_take_153 : decode cX1_take 153 = .ok (.getfield 22, 3) := dk_180 0 22 (dk_at dksX1_take_6 1 rfl rfl)
theorem dX1_take_156 : decode cX1_take 156 = .ok (.iload_n 1, 1) := dk_27 (dk_at dksX1_take_6 4 rfl rfl)
theorem dX1_take_157 : decode cX1_take 157 = .ok (.iload 5, 2) := dk_21 5 (dk_at dksX1_take_6 5 rfl rfl)
theorem dX1_take_159 : decode cX1_take 159 = .ok (.iastore, 1) := dk_79 (dk_at dksX1_take_6 7 rfl rfl)
theorem dX1_take_160 : decode cX1_take 160 = .ok (.goto 109, 3) := dk_167 0 109 (dk_at dksX1_take_6 8 rfl rfl)
theorem dX1_take_163 : decode cX1_take 163 = .ok (.aload_n 0, 1) := dk_42 (dk_at dksX1_take_6 11 rfl rfl)
theorem dX1_take_164 : decode cX1_take 164 = .ok (.getfield 22, 3) := dk_180 0 22 (dk_at dksX1_take_6 12 rfl rfl)
theorem dX1_take_167 : decode cX1_take 167 = .ok (.iload_n 1, 1) := dk_27 (dk_at dksX1_take_6 15 rfl rfl)
theorem dX1_take_168 : decode cX1_take 168 = .ok (.iload 4, 2) := dk_21 4 (dk_at dksX1_take_6 16 rfl rfl)
theorem dX1_take_170 : decode cX1_take 170 = .ok (.iastore, 1) := dk_79 (dk_at dksX1_take_6 18 rfl rfl)
theorem dX1_take_171 : decode cX1_take 171 = .ok (.goto 98, 3) := dk_167 0 98 (dk_at dksX1_take_6 19 rfl rfl)
theorem dX1_take_174 : decode cX1_take 174 = .ok (.aload_n 0, 1) := dk_42 (dk_at dksX1_take_6 22 rfl rfl)
theorem dX1_take_175 : decode cX1_take 175 = .ok (.getfield 16, 3) := dk_180 0 16 (dk_at dksX1_take_7 0 rfl rfl)
theorem dX1_take_178 : decode cX1_take 178 = .ok (.iload_n 1, 1) := dk_27 (dk_at dksX1_take_7 3 rfl rfl)
theorem dX1_take_179 : decode cX1_take 179 = .ok (.aload_n 0, 1) := dk_42 (dk_at dksX1_take_7 4 rfl rfl)
theorem dX1_take_180 : decode cX1_take 180 = .ok (.iconst 0, 1) := dk_3 (dk_at dksX1_take_7 5 rfl rfl)
theorem dX1_take_181 : decode cX1_take 181 = .ok (.iload_n 3, 1) := dk_29 (dk_at dksX1_take_7 6 rfl rfl)
theorem dX1_take_182 : decode cX1_take 182 = .ok (.iload 5, 2) := dk_21 5 (dk_at dksX1_take_7 7 rfl rfl)
theorem dX1_take_184 : decode cX1_take 184 = .ok (.invokevirtual 56, 3) := dk_182 0 56 (dk_at dksX1_take_7 9 rfl rfl)
theorem dX1_take_187 : decode cX1_take 187 = .ok (.iastore, 1) := dk_79 (dk_at dksX1_take_7 12 rfl rfl)
theorem dX1_take_188 : decode cX1_take 188 = .ok (.aload_n 0, 1) := dk_42 (dk_at dksX1_take_7 13 rfl rfl)
theorem dX1_take_189 : decode cX1_take 189 = .ok (.getfield 19, 3) := dk_180 0 19 (dk_at dksX1_take_7 14 rfl rfl)
theorem dX1_take_192 : decode cX1_take 192 = .ok (.iload_n 1, 1) := dk_27 (dk_at dksX1_take_7 17 rfl rfl)
theorem dX1_take_193 : decode cX1_take 193 = .ok (.aload_n 0, 1) := dk_42 (dk_at dksX1_take_7 18 rfl rfl)
theorem dX1_take_194 : decode cX1_take 194 = .ok (.iconst 0, 1) := dk_3 (dk_at dksX1_take_7 19 rfl rfl)
theorem dX1_take_195 : decode cX1_take 195 = .ok (.iload 4, 2) := dk_21 4 (dk_at dksX1_take_7 20 rfl rfl)
theorem dX1_take_197 : decode cX1_take 197 = .ok (.aload_n 0, 1) := dk_42 (dk_at dksX1_take_7 22 rfl rfl)
theorem dX1_take_198 : decode cX1_take 198 = .ok (.getfield 36, 3) := dk_180 0 36 (dk_at dksX1_take_8 0 rfl rfl)
theorem dX1_take_201 : decode cX1_take 201 = .ok (.ifCond .eq 8, 3) := dk_153 0 8 (dk_at dksX1_take_8 3 rfl rfl)
theorem dX1_take_204 : decode cX1_take 204 = .ok (.iload 5, 2) := dk_21 5 (dk_at dksX1_take_8 6 rfl rfl)
theorem dX1_take_206 : decode cX1_take 206 = .ok (.goto 9, 3) := dk_167 0 9 (dk_at dksX1_take_8 8 rfl rfl)
theorem dX1_take_209 : decode cX1_take 209 = .ok (.aload_n 0, 1) := dk_42 (dk_at dksX1_take_8 11 rfl rfl)
theorem dX1_take_210 : decode cX1_take 210 = .ok (.iload 5, 2) := dk_21 5 (dk_at dksX1_take_8 12 rfl rfl)
theorem dX1_take_212 : decode cX1_take 212 = .ok (.invokevirtual 81, 3) := dk_182 0 81 (dk_at dksX1_take_8 14 rfl rfl)
theorem dX1_take_215 : decode cX1_take 215 = .ok (.invokevirtual 56, 3) := dk_182 0 56 (dk_at dksX1_take_8 17 rfl rfl)
theorem dX1_take_218 : decode cX1_take 218 = .ok (.iastore, 1) := dk_79 (dk_at dksX1_take_8 20 rfl rfl)
theorem dX1_take_219 : decode cX1_take 219 = .ok (.goto 50, 3) := dk_167 0 50 (dk_at dksX1_take_8 21 rfl rfl)
theorem dX1_take_222 : decode cX1_take 222 = .ok (.aload_n 0, 1) := dk_42 (dk_at dksX1_take_9 0 rfl rfl)
theorem dX1_take_223 : decode cX1_take 223 = .ok (.getfield 16, 3) := dk_180 0 16 (dk_at dksX1_take_9 1 rfl rfl)
theorem dX1_take_226 : decode cX1_take 226 = .ok (.iload_n 1, 1) := dk_27 (dk_at dksX1_take_9 4 rfl rfl)
theorem dX1_take_227 : decode cX1_take 227 = .ok (.iload_n 3, 1) := dk_29 (dk_at dksX1_take_9 5 rfl rfl)
theorem dX1_take_228 : decode cX1_take 228 = .ok (.iastore, 1) := dk_79 (dk_at dksX1_take_9 6 rfl rfl)
theorem dX1_take_229 : decode cX1_take 229 = .ok (.aload_n 0, 1) := dk_42 (dk_at dksX1_take_9 7 rfl rfl)
theorem dX1_take_230 : decode cX1_take 230 = .ok (.getfield 19, 3) := dk_180 0 19 (dk_at dksX1_take_9 8 rfl rfl)
theorem dX1_take_233 : decode cX1_take 233 = .ok (.iload_n 1, 1) := dk_27 (dk_at dksX1_take_9 11 rfl rfl)
theorem dX1_take_234 : decode cX1_take 234 = .ok (.aload_n 0, 1) := dk_42 (dk_at dksX1_take_9 12 rfl rfl)
theorem dX1_take_235 : decode cX1_take 235 = .ok (.iconst 0, 1) := dk_3 (dk_at dksX1_take_9 13 rfl rfl)
theorem dX1_take_236 : decode cX1_take 236 = .ok (.iload 4, 2) := dk_21 4 (dk_at dksX1_take_9 14 rfl rfl)
theorem dX1_take_238 : decode cX1_take 238 = .ok (.iload 5, 2) := dk_21 5 (dk_at dksX1_take_9 16 rfl rfl)
theorem dX1_take_240 : decode cX1_take 240 = .ok (.invokevirtual 56, 3) := dk_182 0 56 (dk_at dksX1_take_9 18 rfl rfl)
theorem dX1_take_243 : decode cX1_take 243 = .ok (.iastore, 1) := dk_79 (dk_at dksX1_take_9 21 rfl rfl)
theorem dX1_take_244 : decode cX1_take 244 = .ok (.goto 25, 3) := dk_167 0 25 (dk_at dksX1_take_10 0 rfl rfl)
theorem dX1_take_247 : decode cX1_take 247 = .ok (.aload_n 0, 1) := dk_42 (dk_at dksX1_take_10 3 rfl rfl)
theorem dX1_take_248 : decode cX1_take 248 = .ok (.getfield 16, 3) := dk_180 0 16 (dk_at dksX1_take_10 4 rfl rfl)
theorem dX1_take_251 : decode cX1_take 251 = .ok (.iload_n 1, 1) := dk_27 (dk_at dksX1_take_10 7 rfl rfl)
theorem dX1_take_252 : decode cX1_take 252 = .ok (.aload_n 0, 1) := dk_42 (dk_at dksX1_take_10 8 rfl rfl)
theorem dX1_take_253 : decode cX1_take 253 = .ok (.iconst 0, 1) := dk_3 (dk_at dksX1_take_10 9 rfl rfl)
theorem dX1_take_254 : decode cX1_take 254 = .ok (.iload_n 3, 1) := dk_29 (dk_at dksX1_take_10 10 rfl rfl)
theorem dX1_take_255 : decode cX1_take 255 = .ok (.iload 5, 2) := dk_21 5 (dk_at dksX1_take_10 11 rfl rfl)
theorem dX1_take_257 : decode cX1_take 257 = .ok (.invokevirtual 56, 3) := dk_182 0 56 (dk_at dksX1_take_10 13 rfl rfl)
theorem dX1_take_260 : decode cX1_take 260 = .ok (.iastore, 1) := dk_79 (dk_at dksX1_take_10 16 rfl rfl)
theorem dX1_take_261 : decode cX1_take 261 = .ok (.aload_n 0, 1) := dk_42 (dk_at dksX1_take_10 17 rfl rfl)
theorem dX1_take_262 : decode cX1_take 262 = .ok (.getfield 19, 3) := dk_180 0 19 (dk_at dksX1_take_10 18 rfl rfl)
theorem dX1_take_265 : decode cX1_take 265 = .ok (.iload_n 1, 1) := dk_27 (dk_at dksX1_take_10 21 rfl rfl)
theorem dX1_take_266 : decode cX1_take 266 = .ok (.iload 4, 2) := dk_21 4 (dk_at dksX1_take_10 22 rfl rfl)
theorem dX1_take_268 : decode cX1_take 268 = .ok (.iastore, 1) := dk_79 (dk_at dksX1_take_11 0 rfl rfl)
theorem dX1_take_269 : decode cX1_take 269 = .ok (.return_, 1) := dk_177 (dk_at dksX1_take_11 1 rfl rfl)
abbrev cX1_copy : ByteArray := prog_13_method_6_code
def yX1_copy : MethodName := ⟨RX1, "copy", "(I)I"⟩
def dkwX1_copy_1 : List UInt8 := [182, 0, 81, 62, 42, 3, 29, 42, 42, 180, 0, 19, 28, 46, 182, 0, 81, 182, 0, 56, 172]
abbrev dktX1_copy_1 : List UInt8 := dkwX1_copy_1 ++ []
def dkwX1_copy_0 : List UInt8 := [42, 27, 182, 0, 77, 61, 42, 180, 0, 10, 28, 46, 153, 0, 5, 28, 172, 42, 42, 180, 0, 16, 28, 46]
abbrev dktX1_copy_0 : List UInt8 := dkwX1_copy_0 ++ dktX1_copy_1
theorem dksX1_copy_0 : cX1_copy.data.toList.drop 0 = dktX1_copy_0 := by decide +kernel
theorem dksX1_copy_1 : cX1_copy.data.toList.drop 24 = dktX1_copy_1 := dk_seg dksX1_copy_0 24 rfl rfl
theorem dX1_copy_0 : decode cX1_copy 0 = .ok (.aload_n 0, 1) := dk_42 (dk_at dksX1_copy_0 0 rfl rfl)
theorem dX1_copy_1 : decode cX1_copy 1 = .ok (.iload_n 1, 1) := dk_27 (dk_at dksX1_copy_0 1 rfl rfl)
theorem dX1_copy_2 : decode cX1_copy 2 = .ok (.invokevirtual 77, 3) := dk_182 0 77 (dk_at dksX1_copy_0 2 rfl rfl)
theorem dX1_copy_5 : decode cX1_copy 5 = .ok (.istore_n 2, 1) := dk_61 (dk_at dksX1_copy_0 5 rfl rfl)
theorem dX1_copy_6 : decode cX1_copy 6 = .ok (.aload_n 0, 1) := dk_42 (dk_at dksX1_copy_0 6 rfl rfl)
theorem dX1_copy_7 : decode cX1_copy 7 = .ok (.getfield 10, 3) := dk_180 0 10 (dk_at dksX1_copy_0 7 rfl rfl)
theorem dX1_copy_10 : decode cX1_copy 10 = .ok (.iload_n 2, 1) := dk_28 (dk_at dksX1_copy_0 10 rfl rfl)
theorem dX1_copy_11 : decode cX1_copy 11 = .ok (.iaload, 1) := dk_46 (dk_at dksX1_copy_0 11 rfl rfl)
theorem dX1_copy_12 : decode cX1_copy 12 = .ok (.ifCond .eq 5, 3) := dk_153 0 5 (dk_at dksX1_copy_0 12 rfl rfl)
theorem dX1_copy_15 : decode cX1_copy 15 = .ok (.iload_n 2, 1) := dk_28 (dk_at dksX1_copy_0 15 rfl rfl)
theorem dX1_copy_16 : decode cX1_copy 16 = .ok (.ireturn, 1) := dk_172 (dk_at dksX1_copy_0 16 rfl rfl)
theorem dX1_copy_17 : decode cX1_copy 17 = .ok (.aload_n 0, 1) := dk_42 (dk_at dksX1_copy_0 17 rfl rfl)
theorem dX1_copy_18 : decode cX1_copy 18 = .ok (.aload_n 0, 1) := dk_42 (dk_at dksX1_copy_0 18 rfl rfl)
theorem dX1_copy_19 : decode cX1_copy 19 = .ok (.getfield 16, 3) := dk_180 0 16 (dk_at dksX1_copy_0 19 rfl rfl)
theorem dX1_copy_22 : decode cX1_copy 22 = .ok (.iload_n 2, 1) := dk_28 (dk_at dksX1_copy_0 22 rfl rfl)
theorem dX1_copy_23 : decode cX1_copy 23 = .ok (.iaload, 1) := dk_46 (dk_at dksX1_copy_0 23 rfl rfl)
theorem dX1_copy_24 : decode cX1_copy 24 = .ok (.invokevirtual 81, 3) := dk_182 0 81 (dk_at dksX1_copy_1 0 rfl rfl)
theorem dX1_copy_27 : decode cX1_copy 27 = .ok (.istore_n 3, 1) := dk_62 (dk_at dksX1_copy_1 3 rfl rfl)
theorem dX1_copy_28 : decode cX1_copy 28 = .ok (.aload_n 0, 1) := dk_42 (dk_at dksX1_copy_1 4 rfl rfl)
theorem dX1_copy_29 : decode cX1_copy 29 = .ok (.iconst 0, 1) := dk_3 (dk_at dksX1_copy_1 5 rfl rfl)
theorem dX1_copy_30 : decode cX1_copy 30 = .ok (.iload_n 3, 1) := dk_29 (dk_at dksX1_copy_1 6 rfl rfl)
theorem dX1_copy_31 : decode cX1_copy 31 = .ok (.aload_n 0, 1) := dk_42 (dk_at dksX1_copy_1 7 rfl rfl)
theorem dX1_copy_32 : decode cX1_copy 32 = .ok (.aload_n 0, 1) := dk_42 (dk_at dksX1_copy_1 8 rfl rfl)
theorem dX1_copy_33 : decode cX1_copy 33 = .ok (.getfield 19, 3) := dk_180 0 19 (dk_at dksX1_copy_1 9 rfl rfl)
theorem dX1_copy_36 : decode cX1_copy 36 = .ok (.iload_n 2, 1) := dk_28 (dk_at dksX1_copy_1 12 rfl rfl)
theorem dX1_copy_37 : decode cX1_copy 37 = .ok (.iaload, 1) := dk_46 (dk_at dksX1_copy_1 13 rfl rfl)
theorem dX1_copy_38 : decode cX1_copy 38 = .ok (.invokevirtual 81, 3) := dk_182 0 81 (dk_at dksX1_copy_1 14 rfl rfl)
theorem dX1_copy_41 : decode cX1_copy 41 = .ok (.invokevirtual 56, 3) := dk_182 0 56 (dk_at dksX1_copy_1 17 rfl rfl)
theorem dX1_copy_44 : decode cX1_copy 44 = .ok (.ireturn, 1) := dk_172 (dk_at dksX1_copy_1 20 rfl rfl)
abbrev cX1_size : ByteArray := prog_13_method_8_code
def yX1_size : MethodName := ⟨RX1, "size", "()I"⟩
def dkwX1_size_0 : List UInt8 := [42, 42, 180, 0, 33, 17, 1, 44, 182, 0, 84, 172]
abbrev dktX1_size_0 : List UInt8 := dkwX1_size_0 ++ []
theorem dksX1_size_0 : cX1_size.data.toList.drop 0 = dktX1_size_0 := by decide +kernel
theorem dX1_size_0 : decode cX1_size 0 = .ok (.aload_n 0, 1) := dk_42 (dk_at dksX1_size_0 0 rfl rfl)
theorem dX1_size_1 : decode cX1_size 1 = .ok (.aload_n 0, 1) := dk_42 (dk_at dksX1_size_0 1 rfl rfl)
theorem dX1_size_2 : decode cX1_size 2 = .ok (.getfield 33, 3) := dk_180 0 33 (dk_at dksX1_size_0 2 rfl rfl)
theorem dX1_size_5 : decode cX1_size 5 = .ok (.sipush 300, 3) := dk_17 1 44 (dk_at dksX1_size_0 5 rfl rfl)
theorem dX1_size_8 : decode cX1_size 8 = .ok (.invokevirtual 84, 3) := dk_182 0 84 (dk_at dksX1_size_0 8 rfl rfl)
theorem dX1_size_11 : decode cX1_size 11 = .ok (.ireturn, 1) := dk_172 (dk_at dksX1_size_0 11 rfl rfl)
abbrev cX1_size_2 : ByteArray := prog_13_method_7_code
def yX1_size_2 : MethodName := ⟨RX1, "size", "(II)I"⟩
def dkwX1_size_2_2 : List UInt8 := [167, 0, 20, 21, 4, 42, 42, 180, 0, 19, 29, 46, 28, 21, 4, 100, 182, 0, 84, 96, 172]
abbrev dktX1_size_2_2 : List UInt8 := dkwX1_size_2_2 ++ []
def dkwX1_size_2_1 : List UInt8 := [180, 0, 16, 29, 46, 28, 4, 100, 182, 0, 84, 96, 54, 4, 21, 4, 28, 164, 0, 8, 21, 4]
abbrev dktX1_size_2_1 : List UInt8 := dkwX1_size_2_1 ++ dktX1_size_2_2
def dkwX1_size_2_0 : List UInt8 := [42, 27, 182, 0, 77, 62, 42, 180, 0, 10, 29, 46, 154, 0, 7, 28, 157, 0, 5, 4, 172, 4, 42, 42]
abbrev dktX1_size_2_0 : List UInt8 := dkwX1_size_2_0 ++ dktX1_size_2_1
theorem dksX1_size_2_0 : cX1_size_2.data.toList.drop 0 = dktX1_size_2_0 := by decide +kernel
theorem dksX1_size_2_1 : cX1_size_2.data.toList.drop 24 = dktX1_size_2_1 := dk_seg dksX1_size_2_0 24 rfl rfl
theorem dksX1_size_2_2 : cX1_size_2.data.toList.drop 46 = dktX1_size_2_2 := dk_seg dksX1_size_2_1 22 rfl rfl
theorem dX1_size_2_0 : decode cX1_size_2 0 = .ok (.aload_n 0, 1) := dk_42 (dk_at dksX1_size_2_0 0 rfl rfl)
theorem dX1_size_2_1 : decode cX1_size_2 1 = .ok (.iload_n 1, 1) := dk_27 (dk_at dksX1_size_2_0 1 rfl rfl)
theorem dX1_size_2_2 : decode cX1_size_2 2 = .ok (.invokevirtual 77, 3) := dk_182 0 77 (dk_at dksX1_size_2_0 2 rfl rfl)
theorem dX1_size_2_5 : decode cX1_size_2 5 = .ok (.istore_n 3, 1) := dk_62 (dk_at dksX1_size_2_0 5 rfl rfl)
theorem dX1_size_2_6 : decode cX1_size_2 6 = .ok (.aload_n 0, 1) := dk_42 (dk_at dksX1_size_2_0 6 rfl rfl)
theorem dX1_size_2_7 : decode cX1_size_2 7 = .ok (.getfield 10, 3) := dk_180 0 10 (dk_at dksX1_size_2_0 7 rfl rfl)
theorem dX1_size_2_10 : decode cX1_size_2 10 = .ok (.iload_n 3, 1) := dk_29 (dk_at dksX1_size_2_0 10 rfl rfl)
theorem dX1_size_2_11 : decode cX1_size_2 11 = .ok (.iaload, 1) := dk_46 (dk_at dksX1_size_2_0 11 rfl rfl)
theorem dX1_size_2_12 : decode cX1_size_2 12 = .ok (.ifCond .ne 7, 3) := dk_154 0 7 (dk_at dksX1_size_2_0 12 rfl rfl)
theorem dX1_size_2_15 : decode cX1_size_2 15 = .ok (.iload_n 2, 1) := dk_28 (dk_at dksX1_size_2_0 15 rfl rfl)
theorem dX1_size_2_16 : decode cX1_size_2 16 = .ok (.ifCond .gt 5, 3) := dk_157 0 5 (dk_at dksX1_size_2_0 16 rfl rfl)
theorem dX1_size_2_19 : decode cX1_size_2 19 = .ok (.iconst 1, 1) := dk_4 (dk_at dksX1_size_2_0 19 rfl rfl)
theorem dX1_size_2_20 : decode cX1_size_2 20 = .ok (.ireturn, 1) := dk_172 (dk_at dksX1_size_2_0 20 rfl rfl)
theorem dX1_size_2_21 : decode cX1_size_2 21 = .ok (.iconst 1, 1) := dk_4 (dk_at dksX1_size_2_0 21 rfl rfl)
theorem dX1_size_2_22 : decode cX1_size_2 22 = .ok (.aload_n 0, 1) := dk_42 (dk_at dksX1_size_2_0 22 rfl rfl)
theorem dX1_size_2_23 : decode cX1_size_2 23 = .ok (.aload_n 0, 1) := dk_42 (dk_at dksX1_size_2_0 23 rfl rfl)
theorem dX1_size_2_24 : decode cX1_size_2 24 = .ok (.getfield 16, 3) := dk_180 0 16 (dk_at dksX1_size_2_1 0 rfl rfl)
theorem dX1_size_2_27 : decode cX1_size_2 27 = .ok (.iload_n 3, 1) := dk_29 (dk_at dksX1_size_2_1 3 rfl rfl)
theorem dX1_size_2_28 : decode cX1_size_2 28 = .ok (.iaload, 1) := dk_46 (dk_at dksX1_size_2_1 4 rfl rfl)
theorem dX1_size_2_29 : decode cX1_size_2 29 = .ok (.iload_n 2, 1) := dk_28 (dk_at dksX1_size_2_1 5 rfl rfl)
theorem dX1_size_2_30 : decode cX1_size_2 30 = .ok (.iconst 1, 1) := dk_4 (dk_at dksX1_size_2_1 6 rfl rfl)
theorem dX1_size_2_31 : decode cX1_size_2 31 = .ok (.isub, 1) := dk_100 (dk_at dksX1_size_2_1 7 rfl rfl)
theorem dX1_size_2_32 : decode cX1_size_2 32 = .ok (.invokevirtual 84, 3) := dk_182 0 84 (dk_at dksX1_size_2_1 8 rfl rfl)
theorem dX1_size_2_35 : decode cX1_size_2 35 = .ok (.iadd, 1) := dk_96 (dk_at dksX1_size_2_1 11 rfl rfl)
theorem dX1_size_2_36 : decode cX1_size_2 36 = .ok (.istore 4, 2) := dk_54 4 (dk_at dksX1_size_2_1 12 rfl rfl)
theorem dX1_size_2_38 : decode cX1_size_2 38 = .ok (.iload 4, 2) := dk_21 4 (dk_at dksX1_size_2_1 14 rfl rfl)
theorem dX1_size_2_40 : decode cX1_size_2 40 = .ok (.iload_n 2, 1) := dk_28 (dk_at dksX1_size_2_1 16 rfl rfl)
theorem dX1_size_2_41 : decode cX1_size_2 41 = .ok (.if_icmp .le 8, 3) := dk_164 0 8 (dk_at dksX1_size_2_1 17 rfl rfl)
theorem dX1_size_2_44 : decode cX1_size_2 44 = .ok (.iload 4, 2) := dk_21 4 (dk_at dksX1_size_2_1 20 rfl rfl)
theorem dX1_size_2_46 : decode cX1_size_2 46 = .ok (.goto 20, 3) := dk_167 0 20 (dk_at dksX1_size_2_2 0 rfl rfl)
theorem dX1_size_2_49 : decode cX1_size_2 49 = .ok (.iload 4, 2) := dk_21 4 (dk_at dksX1_size_2_2 3 rfl rfl)
theorem dX1_size_2_51 : decode cX1_size_2 51 = .ok (.aload_n 0, 1) := dk_42 (dk_at dksX1_size_2_2 5 rfl rfl)
theorem dX1_size_2_52 : decode cX1_size_2 52 = .ok (.aload_n 0, 1) := dk_42 (dk_at dksX1_size_2_2 6 rfl rfl)
theorem dX1_size_2_53 : decode cX1_size_2 53 = .ok (.getfield 19, 3) := dk_180 0 19 (dk_at dksX1_size_2_2 7 rfl rfl)
theorem dX1_size_2_56 : decode cX1_size_2 56 = .ok (.iload_n 3, 1) := dk_29 (dk_at dksX1_size_2_2 10 rfl rfl)
theorem dX1_size_2_57 : decode cX1_size_2 57 = .ok (.iaload, 1) := dk_46 (dk_at dksX1_size_2_2 11 rfl rfl)
theorem dX1_size_2_58 : decode cX1_size_2 58 = .ok (.iload_n 2, 1) := dk_28 (dk_at dksX1_size_2_2 12 rfl rfl)
theorem dX1_size_2_59 : decode cX1_size_2 59 = .ok (.iload 4, 2) := dk_21 4 (dk_at dksX1_size_2_2 13 rfl rfl)
theorem dX1_size_2_61 : decode cX1_size_2 61 = .ok (.isub, 1) := dk_100 (dk_at dksX1_size_2_2 15 rfl rfl)
theorem dX1_size_2_62 : decode cX1_size_2 62 = .ok (.invokevirtual 84, 3) := dk_182 0 84 (dk_at dksX1_size_2_2 16 rfl rfl)
theorem dX1_size_2_65 : decode cX1_size_2 65 = .ok (.iadd, 1) := dk_96 (dk_at dksX1_size_2_2 19 rfl rfl)
theorem dX1_size_2_66 : decode cX1_size_2 66 = .ok (.ireturn, 1) := dk_172 (dk_at dksX1_size_2_2 20 rfl rfl)
abbrev cX1_hasStep : ByteArray := prog_13_method_17_code
def yX1_hasStep : MethodName := ⟨RX1, "hasStep", "(I)Z"⟩
def dkwX1_hasStep_2 : List UInt8 := [180, 0, 19, 42, 27, 21, 4, 182, 0, 125, 46, 182, 0, 145, 62, 132, 4, 1, 167, 255, 226, 29, 172]
abbrev dktX1_hasStep_2 : List UInt8 := dkwX1_hasStep_2 ++ []
def dkwX1_hasStep_1 : List UInt8 := [163, 0, 7, 4, 167, 0, 4, 3, 62, 3, 54, 4, 21, 4, 28, 162, 0, 30, 29, 154, 0, 26, 42, 42]
abbrev dktX1_hasStep_1 : List UInt8 := dkwX1_hasStep_1 ++ dktX1_hasStep_2
def dkwX1_hasStep_0 : List UInt8 := [42, 27, 182, 0, 122, 61, 42, 180, 0, 10, 42, 27, 28, 182, 0, 125, 46, 184, 0, 128, 184, 0, 132, 28]
abbrev dktX1_hasStep_0 : List UInt8 := dkwX1_hasStep_0 ++ dktX1_hasStep_1
theorem dksX1_hasStep_0 : cX1_hasStep.data.toList.drop 0 = dktX1_hasStep_0 := by decide +kernel
theorem dksX1_hasStep_1 : cX1_hasStep.data.toList.drop 24 = dktX1_hasStep_1 := dk_seg dksX1_hasStep_0 24 rfl rfl
theorem dksX1_hasStep_2 : cX1_hasStep.data.toList.drop 48 = dktX1_hasStep_2 := dk_seg dksX1_hasStep_1 24 rfl rfl
theorem dX1_hasStep_0 : decode cX1_hasStep 0 = .ok (.aload_n 0, 1) := dk_42 (dk_at dksX1_hasStep_0 0 rfl rfl)
theorem dX1_hasStep_1 : decode cX1_hasStep 1 = .ok (.iload_n 1, 1) := dk_27 (dk_at dksX1_hasStep_0 1 rfl rfl)
theorem dX1_hasStep_2 : decode cX1_hasStep 2 = .ok (.invokevirtual 122, 3) := dk_182 0 122 (dk_at dksX1_hasStep_0 2 rfl rfl)
theorem dX1_hasStep_5 : decode cX1_hasStep 5 = .ok (.istore_n 2, 1) := dk_61 (dk_at dksX1_hasStep_0 5 rfl rfl)
theorem dX1_hasStep_6 : decode cX1_hasStep 6 = .ok (.aload_n 0, 1) := dk_42 (dk_at dksX1_hasStep_0 6 rfl rfl)
theorem dX1_hasStep_7 : decode cX1_hasStep 7 = .ok (.getfield 10, 3) := dk_180 0 10 (dk_at dksX1_hasStep_0 7 rfl rfl)
theorem dX1_hasStep_10 : decode cX1_hasStep 10 = .ok (.aload_n 0, 1) := dk_42 (dk_at dksX1_hasStep_0 10 rfl rfl)
theorem dX1_hasStep_11 : decode cX1_hasStep 11 = .ok (.iload_n 1, 1) := dk_27 (dk_at dksX1_hasStep_0 11 rfl rfl)
theorem dX1_hasStep_12 : decode cX1_hasStep 12 = .ok (.iload_n 2, 1) := dk_28 (dk_at dksX1_hasStep_0 12 rfl rfl)
theorem dX1_hasStep_13 : decode cX1_hasStep 13 = .ok (.invokevirtual 125, 3) := dk_182 0 125 (dk_at dksX1_hasStep_0 13 rfl rfl)
theorem dX1_hasStep_16 : decode cX1_hasStep 16 = .ok (.iaload, 1) := dk_46 (dk_at dksX1_hasStep_0 16 rfl rfl)
theorem dX1_hasStep_17 : decode cX1_hasStep 17 = .ok (.invokestatic 128, 3) := dk_184 0 128 (dk_at dksX1_hasStep_0 17 rfl rfl)
theorem dX1_hasStep_20 : decode cX1_hasStep 20 = .ok (.invokestatic 132, 3) := dk_184 0 132 (dk_at dksX1_hasStep_0 20 rfl rfl)
theorem dX1_hasStep_23 : decode cX1_hasStep 23 = .ok (.iload_n 2, 1) := dk_28 (dk_at dksX1_hasStep_0 23 rfl rfl)
theorem dX1_hasStep_24 : decode cX1_hasStep 24 = .ok (.if_icmp .gt 7, 3) := dk_163 0 7 (dk_at dksX1_hasStep_1 0 rfl rfl)
theorem dX1_hasStep_27 : decode cX1_hasStep 27 = .ok (.iconst 1, 1) := dk_4 (dk_at dksX1_hasStep_1 3 rfl rfl)
theorem dX1_hasStep_28 : decode cX1_hasStep 28 = .ok (.goto 4, 3) := dk_167 0 4 (dk_at dksX1_hasStep_1 4 rfl rfl)
theorem dX1_hasStep_31 : decode cX1_hasStep 31 = .ok (.iconst 0, 1) := dk_3 (dk_at dksX1_hasStep_1 7 rfl rfl)
theorem dX1_hasStep_32 : decode cX1_hasStep 32 = .ok (.istore_n 3, 1) := dk_62 (dk_at dksX1_hasStep_1 8 rfl rfl)
theorem dX1_hasStep_33 : decode cX1_hasStep 33 = .ok (.iconst 0, 1) := dk_3 (dk_at dksX1_hasStep_1 9 rfl rfl)
theorem dX1_hasStep_34 : decode cX1_hasStep 34 = .ok (.istore 4, 2) := dk_54 4 (dk_at dksX1_hasStep_1 10 rfl rfl)
theorem dX1_hasStep_36 : decode cX1_hasStep 36 = .ok (.iload 4, 2) := dk_21 4 (dk_at dksX1_hasStep_1 12 rfl rfl)
theorem dX1_hasStep_38 : decode cX1_hasStep 38 = .ok (.iload_n 2, 1) := dk_28 (dk_at dksX1_hasStep_1 14 rfl rfl)
theorem dX1_hasStep_39 : decode cX1_hasStep 39 = .ok (.if_icmp .ge 30, 3) := dk_162 0 30 (dk_at dksX1_hasStep_1 15 rfl rfl)
theorem dX1_hasStep_42 : decode cX1_hasStep 42 = .ok (.iload_n 3, 1) := dk_29 (dk_at dksX1_hasStep_1 18 rfl rfl)
theorem dX1_hasStep_43 : decode cX1_hasStep 43 = .ok (.ifCond .ne 26, 3) := dk_154 0 26 (dk_at dksX1_hasStep_1 19 rfl rfl)
theorem dX1_hasStep_46 : decode cX1_hasStep 46 = .ok (.aload_n 0, 1) := dk_42 (dk_at dksX1_hasStep_1 22 rfl rfl)
theorem dX1_hasStep_47 : decode cX1_hasStep 47 = .ok (.aload_n 0, 1) := dk_42 (dk_at dksX1_hasStep_1 23 rfl rfl)
theorem dX1_hasStep_48 : decode cX1_hasStep 48 = .ok (.getfield 19, 3) := dk_180 0 19 (dk_at dksX1_hasStep_2 0 rfl rfl)
theorem dX1_hasStep_51 : decode cX1_hasStep 51 = .ok (.aload_n 0, 1) := dk_42 (dk_at dksX1_hasStep_2 3 rfl rfl)
theorem dX1_hasStep_52 : decode cX1_hasStep 52 = .ok (.iload_n 1, 1) := dk_27 (dk_at dksX1_hasStep_2 4 rfl rfl)
theorem dX1_hasStep_53 : decode cX1_hasStep 53 = .ok (.iload 4, 2) := dk_21 4 (dk_at dksX1_hasStep_2 5 rfl rfl)
theorem dX1_hasStep_55 : decode cX1_hasStep 55 = .ok (.invokevirtual 125, 3) := dk_182 0 125 (dk_at dksX1_hasStep_2 7 rfl rfl)
theorem dX1_hasStep_58 : decode cX1_hasStep 58 = .ok (.iaload, 1) := dk_46 (dk_at dksX1_hasStep_2 10 rfl rfl)
theorem dX1_hasStep_59 : decode cX1_hasStep 59 = .ok (.invokevirtual 145, 3) := dk_182 0 145 (dk_at dksX1_hasStep_2 11 rfl rfl)
theorem dX1_hasStep_62 : decode cX1_hasStep 62 = .ok (.istore_n 3, 1) := dk_62 (dk_at dksX1_hasStep_2 14 rfl rfl)
theorem dX1_hasStep_63 : decode cX1_hasStep 63 = .ok (.iinc 4 1, 3) := dk_132 4 1 (dk_at dksX1_hasStep_2 15 rfl rfl)
theorem dX1_hasStep_66 : decode cX1_hasStep 66 = .ok (.goto (-30), 3) := dk_167 255 226 (dk_at dksX1_hasStep_2 18 rfl rfl)
theorem dX1_hasStep_69 : decode cX1_hasStep 69 = .ok (.iload_n 3, 1) := dk_29 (dk_at dksX1_hasStep_2 21 rfl rfl)
theorem dX1_hasStep_70 : decode cX1_hasStep 70 = .ok (.ireturn, 1) := dk_172 (dk_at dksX1_hasStep_2 22 rfl rfl)
abbrev cX1_term : ByteArray := prog_13_method_10_code
def yX1_term : MethodName := ⟨RX1, "term", "()LBinderPress$Term;"⟩
def dkwX1_term_0 : List UInt8 := [42, 42, 180, 0, 33, 182, 0, 88, 176]
abbrev dktX1_term_0 : List UInt8 := dkwX1_term_0 ++ []
theorem dksX1_term_0 : cX1_term.data.toList.drop 0 = dktX1_term_0 := by decide +kernel
theorem dX1_term_0 : decode cX1_term 0 = .ok (.aload_n 0, 1) := dk_42 (dk_at dksX1_term_0 0 rfl rfl)
theorem dX1_term_1 : decode cX1_term 1 = .ok (.aload_n 0, 1) := dk_42 (dk_at dksX1_term_0 1 rfl rfl)
theorem dX1_term_2 : decode cX1_term 2 = .ok (.getfield 33, 3) := dk_180 0 33 (dk_at dksX1_term_0 2 rfl rfl)
theorem dX1_term_5 : decode cX1_term 5 = .ok (.invokevirtual 88, 3) := dk_182 0 88 (dk_at dksX1_term_0 5 rfl rfl)
theorem dX1_term_8 : decode cX1_term 8 = .ok (.areturn, 1) := dk_176 (dk_at dksX1_term_0 8 rfl rfl)
abbrev cX1_term_2 : ByteArray := prog_13_method_9_code
def yX1_term_2 : MethodName := ⟨RX1, "term", "(I)LBinderPress$Term;"⟩
def dkwX1_term_2_3 : List UInt8 := [180, 0, 10, 28, 46, 184, 0, 102, 176]
abbrev dktX1_term_2_3 : List UInt8 := dkwX1_term_2_3 ++ []
def dkwX1_term_2_2 : List UInt8 := [46, 184, 0, 95, 153, 0, 19, 187, 0, 60, 89, 42, 180, 0, 10, 28, 46, 183, 0, 99, 167, 0, 12, 42]
abbrev dktX1_term_2_2 : List UInt8 := dkwX1_term_2_2 ++ dktX1_term_2_3
def dkwX1_term_2_1 : List UInt8 := [28, 46, 182, 0, 88, 42, 42, 180, 0, 19, 28, 46, 182, 0, 88, 183, 0, 92, 176, 42, 180, 0, 10, 28]
abbrev dktX1_term_2_1 : List UInt8 := dkwX1_term_2_1 ++ dktX1_term_2_2
def dkwX1_term_2_0 : List UInt8 := [42, 27, 182, 0, 77, 61, 42, 180, 0, 10, 28, 46, 154, 0, 31, 187, 0, 49, 89, 42, 42, 180, 0, 16]
abbrev dktX1_term_2_0 : List UInt8 := dkwX1_term_2_0 ++ dktX1_term_2_1
theorem dksX1_term_2_0 : cX1_term_2.data.toList.drop 0 = dktX1_term_2_0 := by decide +kernel
theorem dksX1_term_2_1 : cX1_term_2.data.toList.drop 24 = dktX1_term_2_1 := dk_seg dksX1_term_2_0 24 rfl rfl
theorem dksX1_term_2_2 : cX1_term_2.data.toList.drop 48 = dktX1_term_2_2 := dk_seg dksX1_term_2_1 24 rfl rfl
theorem dksX1_term_2_3 : cX1_term_2.data.toList.drop 72 = dktX1_term_2_3 := dk_seg dksX1_term_2_2 24 rfl rfl
theorem dX1_term_2_0 : decode cX1_term_2 0 = .ok (.aload_n 0, 1) := dk_42 (dk_at dksX1_term_2_0 0 rfl rfl)
theorem dX1_term_2_1 : decode cX1_term_2 1 = .ok (.iload_n 1, 1) := dk_27 (dk_at dksX1_term_2_0 1 rfl rfl)
theorem dX1_term_2_2 : decode cX1_term_2 2 = .ok (.invokevirtual 77, 3) := dk_182 0 77 (dk_at dksX1_term_2_0 2 rfl rfl)
theorem dX1_term_2_5 : decode cX1_term_2 5 = .ok (.istore_n 2, 1) := dk_61 (dk_at dksX1_term_2_0 5 rfl rfl)
theorem dX1_term_2_6 : decode cX1_term_2 6 = .ok (.aload_n 0, 1) := dk_42 (dk_at dksX1_term_2_0 6 rfl rfl)
theorem dX1_term_2_7 : decode cX1_term_2 7 = .ok (.getfield 10, 3) := dk_180 0 10 (dk_at dksX1_term_2_0 7 rfl rfl)
theorem dX1_term_2_10 : decode cX1_term_2 10 = .ok (.iload_n 2, 1) := dk_28 (dk_at dksX1_term_2_0 10 rfl rfl)
theorem dX1_term_2_11 : decode cX1_term_2 11 = .ok (.iaload, 1) := dk_46 (dk_at dksX1_term_2_0 11 rfl rfl)
theorem dX1_term_2_12 : decode cX1_term_2 12 = .ok (.ifCond .ne 31, 3) := dk_154 0 31 (dk_at dksX1_term_2_0 12 rfl rfl)
theorem dX1_term_2_15 : decode cX1_term_2 15 = .ok (.new 49, 3) := dk_187 0 49 (dk_at dksX1_term_2_0 15 rfl rfl)
theorem dX1_term_2_18 : decode cX1_term_2 18 = .ok (.dup, 1) := dk_89 (dk_at dksX1_term_2_0 18 rfl rfl)
theorem dX1_term_2_19 : decode cX1_term_2 19 = .ok (.aload_n 0, 1) := dk_42 (dk_at dksX1_term_2_0 19 rfl rfl)
theorem dX1_term_2_20 : decode cX1_term_2 20 = .ok (.aload_n 0, 1) := dk_42 (dk_at dksX1_term_2_0 20 rfl rfl)
theorem dX1_term_2_21 : decode cX1_term_2 21 = .ok (.getfield 16, 3) := dk_180 0 16 (dk_at dksX1_term_2_0 21 rfl rfl)
theorem dX1_term_2_24 : decode cX1_term_2 24 = .ok (.iload_n 2, 1) := dk_28 (dk_at dksX1_term_2_1 0 rfl rfl)
theorem dX1_term_2_25 : decode cX1_term_2 25 = .ok (.iaload, 1) := dk_46 (dk_at dksX1_term_2_1 1 rfl rfl)
theorem dX1_term_2_26 : decode cX1_term_2 26 = .ok (.invokevirtual 88, 3) := dk_182 0 88 (dk_at dksX1_term_2_1 2 rfl rfl)
theorem dX1_term_2_29 : decode cX1_term_2 29 = .ok (.aload_n 0, 1) := dk_42 (dk_at dksX1_term_2_1 5 rfl rfl)
theorem dX1_term_2_30 : decode cX1_term_2 30 = .ok (.aload_n 0, 1) := dk_42 (dk_at dksX1_term_2_1 6 rfl rfl)
theorem dX1_term_2_31 : decode cX1_term_2 31 = .ok (.getfield 19, 3) := dk_180 0 19 (dk_at dksX1_term_2_1 7 rfl rfl)
theorem dX1_term_2_34 : decode cX1_term_2 34 = .ok (.iload_n 2, 1) := dk_28 (dk_at dksX1_term_2_1 10 rfl rfl)
theorem dX1_term_2_35 : decode cX1_term_2 35 = .ok (.iaload, 1) := dk_46 (dk_at dksX1_term_2_1 11 rfl rfl)
theorem dX1_term_2_36 : decode cX1_term_2 36 = .ok (.invokevirtual 88, 3) := dk_182 0 88 (dk_at dksX1_term_2_1 12 rfl rfl)
theorem dX1_term_2_39 : decode cX1_term_2 39 = .ok (.invokespecial 92, 3) := dk_183 0 92 (dk_at dksX1_term_2_1 15 rfl rfl)
theorem dX1_term_2_42 : decode cX1_term_2 42 = .ok (.areturn, 1) := dk_176 (dk_at dksX1_term_2_1 18 rfl rfl)
theorem dX1_term_2_43 : decode cX1_term_2 43 = .ok (.aload_n 0, 1) := dk_42 (dk_at dksX1_term_2_1 19 rfl rfl)
theorem dX1_term_2_44 : decode cX1_term_2 44 = .ok (.getfield 10, 3) := dk_180 0 10 (dk_at dksX1_term_2_1 20 rfl rfl)
theorem dX1_term_2_47 : decode cX1_term_2 47 = .ok (.iload_n 2, 1) := dk_28 (dk_at dksX1_term_2_1 23 rfl rfl)
theorem dX1_term_2_48 : decode cX1_term_2 48 = .ok (.iaload, 1) := dk_46 (dk_at dksX1_term_2_2 0 rfl rfl)
theorem dX1_term_2_49 : decode cX1_term_2 49 = .ok (.invokestatic 95, 3) := dk_184 0 95 (dk_at dksX1_term_2_2 1 rfl rfl)
theorem dX1_term_2_52 : decode cX1_term_2 52 = .ok (.ifCond .eq 19, 3) := dk_153 0 19 (dk_at dksX1_term_2_2 4 rfl rfl)
theorem dX1_term_2_55 : decode cX1_term_2 55 = .ok (.new 60, 3) := dk_187 0 60 (dk_at dksX1_term_2_2 7 rfl rfl)
theorem dX1_term_2_58 : decode cX1_term_2 58 = .ok (.dup, 1) := dk_89 (dk_at dksX1_term_2_2 10 rfl rfl)
theorem dX1_term_2_59 : decode cX1_term_2 59 = .ok (.aload_n 0, 1) := dk_42 (dk_at dksX1_term_2_2 11 rfl rfl)
theorem dX1_term_2_60 : decode cX1_term_2 60 = .ok (.getfield 10, 3) := dk_180 0 10 (dk_at dksX1_term_2_2 12 rfl rfl)
theorem dX1_term_2_63 : decode cX1_term_2 63 = .ok (.iload_n 2, 1) := dk_28 (dk_at dksX1_term_2_2 15 rfl rfl)
theorem dX1_term_2_64 : decode cX1_term_2 64 = .ok (.iaload, 1) := dk_46 (dk_at dksX1_term_2_2 16 rfl rfl)
theorem dX1_term_2_65 : decode cX1_term_2 65 = .ok (.invokespecial 99, 3) := dk_183 0 99 (dk_at dksX1_term_2_2 17 rfl rfl)
theorem dX1_term_2_68 : decode cX1_term_2 68 = .ok (.goto 12, 3) := dk_167 0 12 (dk_at dksX1_term_2_2 20 rfl rfl)
theorem dX1_term_2_71 : decode cX1_term_2 71 = .ok (.aload_n 0, 1) := dk_42 (dk_at dksX1_term_2_2 23 rfl rfl)
theorem dX1_term_2_72 : decode cX1_term_2 72 = .ok (.getfield 10, 3) := dk_180 0 10 (dk_at dksX1_term_2_3 0 rfl rfl)
theorem dX1_term_2_75 : decode cX1_term_2 75 = .ok (.iload_n 2, 1) := dk_28 (dk_at dksX1_term_2_3 3 rfl rfl)
theorem dX1_term_2_76 : decode cX1_term_2 76 = .ok (.iaload, 1) := dk_46 (dk_at dksX1_term_2_3 4 rfl rfl)
theorem dX1_term_2_77 : decode cX1_term_2 77 = .ok (.invokestatic 102, 3) := dk_184 0 102 (dk_at dksX1_term_2_3 5 rfl rfl)
theorem dX1_term_2_80 : decode cX1_term_2 80 = .ok (.areturn, 1) := dk_176 (dk_at dksX1_term_2_3 8 rfl rfl)
theorem q85 : (Jvm.Cond.initialized "BinderPress$Work") ∈ lw_all := lw_g (lw_at lw_m1 2 rfl) rfl
theorem q119 : (Jvm.Cond.instantiable "BinderPress$Work" (10 : Nat)) ∈ lw_all := lw_g (lw_at lw_m1 36 rfl) rfl
theorem q121 : (Jvm.Cond.instanceMethod ({ cls := "BinderPress$Work", name := "<init>", desc := "()V" } : Jvm.MethodName)) ∈ lw_all := lw_g (lw_at lw_m1 38 rfl) rfl
theorem q122 : (Jvm.Cond.code ({ cls := "BinderPress$Work", name := "<init>", desc := "()V" } : Jvm.MethodName) prog_13_method_1_code (1 : Nat) (Option.none : Option Jvm.ClassFile.FieldType)) ∈ lw_all := lw_g (lw_at lw_m1 39 rfl) rfl
theorem q123 : (Jvm.Cond.methodLink "BinderPress$Work" (3 : Nat) ({ cls := "java/lang/Object", name := "<init>", desc := "()V" } : Jvm.MethodName)) ∈ lw_all := lw_g (lw_at lw_m1 40 rfl) rfl
theorem q124 : (Jvm.Cond.constant "BinderPress$Work" (9 : Nat) (62000 : Int32)) ∈ lw_all := lw_g (lw_at lw_m1 41 rfl) rfl
theorem q125 : (Jvm.Cond.fieldLink "BinderPress$Work" (10 : Nat) "BinderPress$Work" "leaf" "[I") ∈ lw_all := lw_g (lw_at lw_m1 42 rfl) rfl
theorem q126 : (Jvm.Cond.fieldLink "BinderPress$Work" (16 : Nat) "BinderPress$Work" "left" "[I") ∈ lw_all := lw_g (lw_at lw_m1 43 rfl) rfl
theorem q127 : (Jvm.Cond.fieldLink "BinderPress$Work" (19 : Nat) "BinderPress$Work" "right" "[I") ∈ lw_all := lw_g (lw_at lw_m1 44 rfl) rfl
theorem q128 : (Jvm.Cond.fieldLink "BinderPress$Work" (22 : Nat) "BinderPress$Work" "link" "[I") ∈ lw_all := lw_g (lw_at lw_m1 45 rfl) rfl
theorem q129 : (Jvm.Cond.fieldLink "BinderPress$Work" (25 : Nat) "BinderPress$Work" "cells" "I") ∈ lw_all := lw_g (lw_at lw_m1 46 rfl) rfl
theorem q130 : (Jvm.Cond.fieldLink "BinderPress$Work" (33 : Nat) "BinderPress$Work" "root" "I") ∈ lw_all := lw_g (lw_at lw_m1 47 rfl) rfl
theorem q131 : (Jvm.Cond.fieldLink "BinderPress$Work" (36 : Nat) "BinderPress$Work" "isShared" "Z") ∈ lw_all := lw_g (lw_at lw_m1 48 rfl) rfl
theorem q132 : (Jvm.Cond.fieldLink "BinderPress$Work" (40 : Nat) "BinderPress$Work" "steps" "I") ∈ lw_all := lw_g (lw_at lw_m1 49 rfl) rfl
theorem q134 : (Jvm.Cond.fieldLink "BinderPress$Work" (43 : Nat) "BinderPress$Work" "isBig" "Z") ∈ lw_all := lw_g (lw_at lw_m1 51 rfl) rfl
theorem q136 : (Jvm.Cond.fieldLink "BinderPress$Work" (46 : Nat) "BinderPress$Work" "isDone" "Z") ∈ lw_all := lw_g (lw_at lw_m1 53 rfl) rfl
theorem q138 : (Jvm.Cond.laysFinal "BinderPress$Work" "BinderPress$Work" "leaf" "[I") ∈ lw_all := lw_g (lw_at lw_m1 55 rfl) rfl
theorem q139 : (Jvm.Cond.soleField "BinderPress$Work" "leaf") ∈ lw_all := lw_g (lw_at lw_m1 56 rfl) rfl
theorem q140 : (Jvm.Cond.laysFinal "BinderPress$Work" "BinderPress$Work" "left" "[I") ∈ lw_all := lw_g (lw_at lw_m1 57 rfl) rfl
theorem q141 : (Jvm.Cond.soleField "BinderPress$Work" "left") ∈ lw_all := lw_g (lw_at lw_m1 58 rfl) rfl
theorem q142 : (Jvm.Cond.laysFinal "BinderPress$Work" "BinderPress$Work" "right" "[I") ∈ lw_all := lw_g (lw_at lw_m1 59 rfl) rfl
theorem q143 : (Jvm.Cond.soleField "BinderPress$Work" "right") ∈ lw_all := lw_g (lw_at lw_m1 60 rfl) rfl
theorem q144 : (Jvm.Cond.laysFinal "BinderPress$Work" "BinderPress$Work" "link" "[I") ∈ lw_all := lw_g (lw_at lw_m1 61 rfl) rfl
theorem q145 : (Jvm.Cond.soleField "BinderPress$Work" "link") ∈ lw_all := lw_g (lw_at lw_m1 62 rfl) rfl
theorem q146 : (Jvm.Cond.lays "BinderPress$Work" "BinderPress$Work" "cells" "I") ∈ lw_all := lw_g (lw_at lw_m1 63 rfl) rfl
theorem q147 : (Jvm.Cond.soleField "BinderPress$Work" "cells") ∈ lw_all := lw_g (lw_at lw_m1 64 rfl) rfl
theorem q148 : (Jvm.Cond.lays "BinderPress$Work" "BinderPress$Work" "root" "I") ∈ lw_all := lw_g (lw_at lw_m1 65 rfl) rfl
theorem q149 : (Jvm.Cond.soleField "BinderPress$Work" "root") ∈ lw_all := lw_g (lw_at lw_m1 66 rfl) rfl
theorem q150 : (Jvm.Cond.lays "BinderPress$Work" "BinderPress$Work" "isShared" "Z") ∈ lw_all := lw_g (lw_at lw_m1 67 rfl) rfl
theorem q151 : (Jvm.Cond.soleField "BinderPress$Work" "isShared") ∈ lw_all := lw_g (lw_at lw_m1 68 rfl) rfl
theorem q152 : (Jvm.Cond.lays "BinderPress$Work" "BinderPress$Work" "steps" "I") ∈ lw_all := lw_g (lw_at lw_m1 69 rfl) rfl
theorem q153 : (Jvm.Cond.soleField "BinderPress$Work" "steps") ∈ lw_all := lw_g (lw_at lw_m1 70 rfl) rfl
theorem q154 : (Jvm.Cond.lays "BinderPress$Work" "BinderPress$Work" "isBig" "Z") ∈ lw_all := lw_g (lw_at lw_m1 71 rfl) rfl
theorem q155 : (Jvm.Cond.soleField "BinderPress$Work" "isBig") ∈ lw_all := lw_g (lw_at lw_m1 72 rfl) rfl
theorem q156 : (Jvm.Cond.lays "BinderPress$Work" "BinderPress$Work" "isDone" "Z") ∈ lw_all := lw_g (lw_at lw_m1 73 rfl) rfl
theorem q157 : (Jvm.Cond.soleField "BinderPress$Work" "isDone") ∈ lw_all := lw_g (lw_at lw_m1 74 rfl) rfl
theorem q158 : (Jvm.Cond.superclass "BinderPress$Work" "java/lang/Object") ∈ lw_all := lw_g (lw_at lw_m1 75 rfl) rfl
theorem q395 : (Jvm.Cond.fieldLinkNest "BinderPress$Work" (62 : Nat) "BinderPress$Name" "letter" "I" "BinderPress") ∈ lw_tbl := lw_at lw_m2 72 rfl
theorem q411 : (Jvm.Cond.fieldLinkNest "BinderPress$Work" (67 : Nat) "BinderPress$Sign" "text" "Ljava/lang/String;" "BinderPress") ∈ lw_tbl := lw_at lw_m2 88 rfl
theorem q460 : (Jvm.Cond.fieldLinkNest "BinderPress$Work" (51 : Nat) "BinderPress$Put" "left" "LBinderPress$Term;" "BinderPress") ∈ lw_tbl := lw_at lw_m2 137 rfl
theorem q463 : (Jvm.Cond.fieldLinkNest "BinderPress$Work" (54 : Nat) "BinderPress$Put" "right" "LBinderPress$Term;" "BinderPress") ∈ lw_tbl := lw_at lw_m2 140 rfl
theorem q640 : (Jvm.Cond.instanceMethod ({ cls := "BinderPress$Work", name := "begin", desc := "(LBinderPress$Term;Z)V" } : Jvm.MethodName)) ∈ lw_all := lw_g (lw_at lw_m3 77 rfl) rfl
theorem q641 : (Jvm.Cond.selects "BinderPress$Work" ({ cls := "BinderPress$Work", name := "begin", desc := "(LBinderPress$Term;Z)V" } : Jvm.MethodName) ({ cls := "BinderPress$Work", name := "begin", desc := "(LBinderPress$Term;Z)V" } : Jvm.MethodName)) ∈ lw_all := lw_g (lw_at lw_m3 78 rfl) rfl
theorem q642 : (Jvm.Cond.code ({ cls := "BinderPress$Work", name := "begin", desc := "(LBinderPress$Term;Z)V" } : Jvm.MethodName) prog_13_method_2_code (3 : Nat) (Option.none : Option Jvm.ClassFile.FieldType)) ∈ lw_all := lw_g (lw_at lw_m3 79 rfl) rfl
theorem q643 : (Jvm.Cond.methodLink "BinderPress$Work" (29 : Nat) ({ cls := "BinderPress$Work", name := "of", desc := "(LBinderPress$Term;)I" } : Jvm.MethodName)) ∈ lw_all := lw_g (lw_at lw_m3 80 rfl) rfl
theorem q644 : (Jvm.Cond.privateMethod ({ cls := "BinderPress$Work", name := "of", desc := "(LBinderPress$Term;)I" } : Jvm.MethodName)) ∈ lw_tbl := lw_at lw_m3 81 rfl
theorem q645 : (Jvm.Cond.instanceMethod ({ cls := "BinderPress$Work", name := "of", desc := "(LBinderPress$Term;)I" } : Jvm.MethodName)) ∈ lw_all := lw_g (lw_at lw_m3 82 rfl) rfl
theorem q646 : (Jvm.Cond.code ({ cls := "BinderPress$Work", name := "of", desc := "(LBinderPress$Term;)I" } : Jvm.MethodName) prog_13_method_4_code (4 : Nat) (Option.some Jvm.ClassFile.FieldType.int)) ∈ lw_all := lw_g (lw_at lw_m3 83 rfl) rfl
theorem q647 : (Jvm.Cond.classLink "BinderPress$Work" (49 : Nat) "BinderPress$Put") ∈ lw_all := lw_g (lw_at lw_m3 84 rfl) rfl
theorem q648 : (Jvm.Cond.methodLink "BinderPress$Work" (56 : Nat) ({ cls := "BinderPress$Work", name := "cell", desc := "(III)I" } : Jvm.MethodName)) ∈ lw_all := lw_g (lw_at lw_m3 85 rfl) rfl
theorem q649 : (Jvm.Cond.privateMethod ({ cls := "BinderPress$Work", name := "cell", desc := "(III)I" } : Jvm.MethodName)) ∈ lw_tbl := lw_at lw_m3 86 rfl
theorem q650 : (Jvm.Cond.instanceMethod ({ cls := "BinderPress$Work", name := "cell", desc := "(III)I" } : Jvm.MethodName)) ∈ lw_all := lw_g (lw_at lw_m3 87 rfl) rfl
theorem q651 : (Jvm.Cond.code ({ cls := "BinderPress$Work", name := "cell", desc := "(III)I" } : Jvm.MethodName) prog_13_method_3_code (4 : Nat) (Option.some Jvm.ClassFile.FieldType.int)) ∈ lw_all := lw_g (lw_at lw_m3 88 rfl) rfl
theorem q652 : (Jvm.Cond.classLink "BinderPress$Work" (60 : Nat) "BinderPress$Name") ∈ lw_all := lw_g (lw_at lw_m3 89 rfl) rfl
theorem q653 : (Jvm.Cond.classLink "BinderPress$Work" (65 : Nat) "BinderPress$Sign") ∈ lw_all := lw_g (lw_at lw_m3 90 rfl) rfl
theorem q654 : (Jvm.Cond.methodLink "BinderPress$Work" (71 : Nat) ({ cls := "java/lang/String", name := "charAt", desc := "(I)C" } : Jvm.MethodName)) ∈ lw_all := lw_g (lw_at lw_m3 91 rfl) rfl
theorem q693 : (Jvm.Cond.instanceMethod ({ cls := "BinderPress$Work", name := "go", desc := "(I)V" } : Jvm.MethodName)) ∈ lw_all := lw_g (lw_at lw_m3 130 rfl) rfl
theorem q694 : (Jvm.Cond.selects "BinderPress$Work" ({ cls := "BinderPress$Work", name := "go", desc := "(I)V" } : Jvm.MethodName) ({ cls := "BinderPress$Work", name := "go", desc := "(I)V" } : Jvm.MethodName)) ∈ lw_all := lw_g (lw_at lw_m3 131 rfl) rfl
theorem q695 : (Jvm.Cond.code ({ cls := "BinderPress$Work", name := "go", desc := "(I)V" } : Jvm.MethodName) prog_13_method_16_code (2 : Nat) (Option.none : Option Jvm.ClassFile.FieldType)) ∈ lw_all := lw_g (lw_at lw_m3 132 rfl) rfl
theorem q696 : (Jvm.Cond.methodLink "BinderPress$Work" (140 : Nat) ({ cls := "BinderPress$Work", name := "step", desc := "(I)Z" } : Jvm.MethodName)) ∈ lw_all := lw_g (lw_at lw_m3 133 rfl) rfl
theorem q697 : (Jvm.Cond.privateMethod ({ cls := "BinderPress$Work", name := "step", desc := "(I)Z" } : Jvm.MethodName)) ∈ lw_tbl := lw_at lw_m3 134 rfl
theorem q698 : (Jvm.Cond.instanceMethod ({ cls := "BinderPress$Work", name := "step", desc := "(I)Z" } : Jvm.MethodName)) ∈ lw_all := lw_g (lw_at lw_m3 135 rfl) rfl
theorem q699 : (Jvm.Cond.code ({ cls := "BinderPress$Work", name := "step", desc := "(I)Z" } : Jvm.MethodName) prog_13_method_15_code (8 : Nat) (Option.some Jvm.ClassFile.FieldType.boolean)) ∈ lw_all := lw_g (lw_at lw_m3 136 rfl) rfl
theorem q700 : (Jvm.Cond.methodLink "BinderPress$Work" (122 : Nat) ({ cls := "BinderPress$Work", name := "spine", desc := "(I)I" } : Jvm.MethodName)) ∈ lw_all := lw_g (lw_at lw_m3 137 rfl) rfl
theorem q701 : (Jvm.Cond.privateMethod ({ cls := "BinderPress$Work", name := "spine", desc := "(I)I" } : Jvm.MethodName)) ∈ lw_tbl := lw_at lw_m3 138 rfl
theorem q702 : (Jvm.Cond.instanceMethod ({ cls := "BinderPress$Work", name := "spine", desc := "(I)I" } : Jvm.MethodName)) ∈ lw_all := lw_g (lw_at lw_m3 139 rfl) rfl
theorem q703 : (Jvm.Cond.code ({ cls := "BinderPress$Work", name := "spine", desc := "(I)I" } : Jvm.MethodName) prog_13_method_14_code (4 : Nat) (Option.some Jvm.ClassFile.FieldType.int)) ∈ lw_all := lw_g (lw_at lw_m3 140 rfl) rfl
theorem q704 : (Jvm.Cond.methodLink "BinderPress$Work" (77 : Nat) ({ cls := "BinderPress$Work", name := "self", desc := "(I)I" } : Jvm.MethodName)) ∈ lw_all := lw_g (lw_at lw_m3 141 rfl) rfl
theorem q705 : (Jvm.Cond.privateMethod ({ cls := "BinderPress$Work", name := "self", desc := "(I)I" } : Jvm.MethodName)) ∈ lw_tbl := lw_at lw_m3 142 rfl
theorem q706 : (Jvm.Cond.instanceMethod ({ cls := "BinderPress$Work", name := "self", desc := "(I)I" } : Jvm.MethodName)) ∈ lw_all := lw_g (lw_at lw_m3 143 rfl) rfl
theorem q707 : (Jvm.Cond.code ({ cls := "BinderPress$Work", name := "self", desc := "(I)I" } : Jvm.MethodName) prog_13_method_5_code (3 : Nat) (Option.some Jvm.ClassFile.FieldType.int)) ∈ lw_all := lw_g (lw_at lw_m3 144 rfl) rfl
theorem q708 : (Jvm.Cond.methodLink "BinderPress$Work" (125 : Nat) ({ cls := "BinderPress$Work", name := "down", desc := "(II)I" } : Jvm.MethodName)) ∈ lw_all := lw_g (lw_at lw_m3 145 rfl) rfl
theorem q709 : (Jvm.Cond.privateMethod ({ cls := "BinderPress$Work", name := "down", desc := "(II)I" } : Jvm.MethodName)) ∈ lw_tbl := lw_at lw_m3 146 rfl
theorem q710 : (Jvm.Cond.instanceMethod ({ cls := "BinderPress$Work", name := "down", desc := "(II)I" } : Jvm.MethodName)) ∈ lw_all := lw_g (lw_at lw_m3 147 rfl) rfl
theorem q711 : (Jvm.Cond.code ({ cls := "BinderPress$Work", name := "down", desc := "(II)I" } : Jvm.MethodName) prog_13_method_13_code (5 : Nat) (Option.some Jvm.ClassFile.FieldType.int)) ∈ lw_all := lw_g (lw_at lw_m3 148 rfl) rfl
theorem q712 : (Jvm.Cond.methodLinkNest "BinderPress$Work" (128 : Nat) ({ cls := "BinderPress", name := "textOf", desc := "(I)Ljava/lang/String;" } : Jvm.MethodName) "BinderPress") ∈ lw_tbl := lw_at lw_m3 149 rfl
theorem q713 : (Jvm.Cond.methodLink "BinderPress$Work" (132 : Nat) ({ cls := "BinderPress$Work", name := "wants", desc := "(Ljava/lang/String;)I" } : Jvm.MethodName)) ∈ lw_all := lw_g (lw_at lw_m3 150 rfl) rfl
theorem q714 : (Jvm.Cond.static ({ cls := "BinderPress$Work", name := "wants", desc := "(Ljava/lang/String;)I" } : Jvm.MethodName)) ∈ lw_all := lw_g (lw_at lw_m3 151 rfl) rfl
theorem q715 : (Jvm.Cond.code ({ cls := "BinderPress$Work", name := "wants", desc := "(Ljava/lang/String;)I" } : Jvm.MethodName) prog_13_method_11_code (3 : Nat) (Option.some Jvm.ClassFile.FieldType.int)) ∈ lw_all := lw_g (lw_at lw_m3 152 rfl) rfl
theorem q716 : (Jvm.Cond.methodLink "BinderPress$Work" (105 : Nat) ({ cls := "java/lang/String", name := "hashCode", desc := "()I" } : Jvm.MethodName)) ∈ lw_all := lw_g (lw_at lw_m3 153 rfl) rfl
theorem q765 : (Jvm.Cond.stringRef "BinderPress$Work" (109 : Nat) "I") ∈ lw_tbl := lw_at lw_m3 202 rfl
theorem q766 : (Jvm.Cond.methodLink "BinderPress$Work" (110 : Nat) ({ cls := "java/lang/String", name := "equals", desc := "(Ljava/lang/Object;)Z" } : Jvm.MethodName)) ∈ lw_all := lw_g (lw_at lw_m3 203 rfl) rfl
theorem q774 : (Jvm.Cond.stringRef "BinderPress$Work" (114 : Nat) "K") ∈ lw_tbl := lw_at lw_m3 211 rfl
theorem q775 : (Jvm.Cond.stringRef "BinderPress$Work" (116 : Nat) "") ∈ lw_tbl := lw_at lw_m3 212 rfl
theorem q776 : (Jvm.Cond.methodLink "BinderPress$Work" (136 : Nat) ({ cls := "BinderPress$Work", name := "take", desc := "(ILjava/lang/String;II)V" } : Jvm.MethodName)) ∈ lw_all := lw_g (lw_at lw_m3 213 rfl) rfl
theorem q777 : (Jvm.Cond.privateMethod ({ cls := "BinderPress$Work", name := "take", desc := "(ILjava/lang/String;II)V" } : Jvm.MethodName)) ∈ lw_tbl := lw_at lw_m3 214 rfl
theorem q778 : (Jvm.Cond.instanceMethod ({ cls := "BinderPress$Work", name := "take", desc := "(ILjava/lang/String;II)V" } : Jvm.MethodName)) ∈ lw_all := lw_g (lw_at lw_m3 215 rfl) rfl
theorem q779 : (Jvm.Cond.code ({ cls := "BinderPress$Work", name := "take", desc := "(ILjava/lang/String;II)V" } : Jvm.MethodName) prog_13_method_12_code (8 : Nat) (Option.none : Option Jvm.ClassFile.FieldType)) ∈ lw_all := lw_g (lw_at lw_m3 216 rfl) rfl
theorem q780 : (Jvm.Cond.stringRef "BinderPress$Work" (118 : Nat) "S") ∈ lw_tbl := lw_at lw_m3 217 rfl
theorem q781 : (Jvm.Cond.stringRef "BinderPress$Work" (120 : Nat) "B") ∈ lw_tbl := lw_at lw_m3 218 rfl
theorem q782 : (Jvm.Cond.methodLink "BinderPress$Work" (81 : Nat) ({ cls := "BinderPress$Work", name := "copy", desc := "(I)I" } : Jvm.MethodName)) ∈ lw_all := lw_g (lw_at lw_m3 219 rfl) rfl
theorem q783 : (Jvm.Cond.privateMethod ({ cls := "BinderPress$Work", name := "copy", desc := "(I)I" } : Jvm.MethodName)) ∈ lw_tbl := lw_at lw_m3 220 rfl
theorem q784 : (Jvm.Cond.instanceMethod ({ cls := "BinderPress$Work", name := "copy", desc := "(I)I" } : Jvm.MethodName)) ∈ lw_all := lw_g (lw_at lw_m3 221 rfl) rfl
theorem q785 : (Jvm.Cond.code ({ cls := "BinderPress$Work", name := "copy", desc := "(I)I" } : Jvm.MethodName) prog_13_method_6_code (4 : Nat) (Option.some Jvm.ClassFile.FieldType.int)) ∈ lw_all := lw_g (lw_at lw_m3 222 rfl) rfl
theorem q786 : (Jvm.Cond.methodLink "BinderPress$Work" (143 : Nat) ({ cls := "BinderPress$Work", name := "size", desc := "()I" } : Jvm.MethodName)) ∈ lw_all := lw_g (lw_at lw_m3 223 rfl) rfl
theorem q787 : (Jvm.Cond.instanceMethod ({ cls := "BinderPress$Work", name := "size", desc := "()I" } : Jvm.MethodName)) ∈ lw_all := lw_g (lw_at lw_m3 224 rfl) rfl
theorem q788 : (Jvm.Cond.selects "BinderPress$Work" ({ cls := "BinderPress$Work", name := "size", desc := "()I" } : Jvm.MethodName) ({ cls := "BinderPress$Work", name := "size", desc := "()I" } : Jvm.MethodName)) ∈ lw_all := lw_g (lw_at lw_m3 225 rfl) rfl
theorem q789 : (Jvm.Cond.code ({ cls := "BinderPress$Work", name := "size", desc := "()I" } : Jvm.MethodName) prog_13_method_8_code (1 : Nat) (Option.some Jvm.ClassFile.FieldType.int)) ∈ lw_all := lw_g (lw_at lw_m3 226 rfl) rfl
theorem q790 : (Jvm.Cond.methodLink "BinderPress$Work" (84 : Nat) ({ cls := "BinderPress$Work", name := "size", desc := "(II)I" } : Jvm.MethodName)) ∈ lw_all := lw_g (lw_at lw_m3 227 rfl) rfl
theorem q791 : (Jvm.Cond.privateMethod ({ cls := "BinderPress$Work", name := "size", desc := "(II)I" } : Jvm.MethodName)) ∈ lw_tbl := lw_at lw_m3 228 rfl
theorem q792 : (Jvm.Cond.instanceMethod ({ cls := "BinderPress$Work", name := "size", desc := "(II)I" } : Jvm.MethodName)) ∈ lw_all := lw_g (lw_at lw_m3 229 rfl) rfl
theorem q793 : (Jvm.Cond.code ({ cls := "BinderPress$Work", name := "size", desc := "(II)I" } : Jvm.MethodName) prog_13_method_7_code (5 : Nat) (Option.some Jvm.ClassFile.FieldType.int)) ∈ lw_all := lw_g (lw_at lw_m3 230 rfl) rfl
theorem q794 : (Jvm.Cond.methodLink "BinderPress$Work" (145 : Nat) ({ cls := "BinderPress$Work", name := "hasStep", desc := "(I)Z" } : Jvm.MethodName)) ∈ lw_all := lw_g (lw_at lw_m3 231 rfl) rfl
theorem q795 : (Jvm.Cond.privateMethod ({ cls := "BinderPress$Work", name := "hasStep", desc := "(I)Z" } : Jvm.MethodName)) ∈ lw_tbl := lw_at lw_m3 232 rfl
theorem q796 : (Jvm.Cond.instanceMethod ({ cls := "BinderPress$Work", name := "hasStep", desc := "(I)Z" } : Jvm.MethodName)) ∈ lw_all := lw_g (lw_at lw_m3 233 rfl) rfl
theorem q797 : (Jvm.Cond.code ({ cls := "BinderPress$Work", name := "hasStep", desc := "(I)Z" } : Jvm.MethodName) prog_13_method_17_code (5 : Nat) (Option.some Jvm.ClassFile.FieldType.boolean)) ∈ lw_all := lw_g (lw_at lw_m3 234 rfl) rfl
theorem q801 : (Jvm.Cond.instanceMethod ({ cls := "BinderPress$Work", name := "term", desc := "()LBinderPress$Term;" } : Jvm.MethodName)) ∈ lw_all := lw_g (lw_at lw_m3 238 rfl) rfl
theorem q802 : (Jvm.Cond.selects "BinderPress$Work" ({ cls := "BinderPress$Work", name := "term", desc := "()LBinderPress$Term;" } : Jvm.MethodName) ({ cls := "BinderPress$Work", name := "term", desc := "()LBinderPress$Term;" } : Jvm.MethodName)) ∈ lw_all := lw_g (lw_at lw_m3 239 rfl) rfl
theorem q803 : (Jvm.Cond.code ({ cls := "BinderPress$Work", name := "term", desc := "()LBinderPress$Term;" } : Jvm.MethodName) prog_13_method_10_code (1 : Nat) (Option.some (Jvm.ClassFile.FieldType.object "BinderPress$Term"))) ∈ lw_all := lw_g (lw_at lw_m4 0 rfl) rfl
theorem q804 : (Jvm.Cond.methodLink "BinderPress$Work" (88 : Nat) ({ cls := "BinderPress$Work", name := "term", desc := "(I)LBinderPress$Term;" } : Jvm.MethodName)) ∈ lw_all := lw_g (lw_at lw_m4 1 rfl) rfl
theorem q805 : (Jvm.Cond.privateMethod ({ cls := "BinderPress$Work", name := "term", desc := "(I)LBinderPress$Term;" } : Jvm.MethodName)) ∈ lw_tbl := lw_at lw_m4 2 rfl
theorem q806 : (Jvm.Cond.instanceMethod ({ cls := "BinderPress$Work", name := "term", desc := "(I)LBinderPress$Term;" } : Jvm.MethodName)) ∈ lw_all := lw_g (lw_at lw_m4 3 rfl) rfl
theorem q807 : (Jvm.Cond.code ({ cls := "BinderPress$Work", name := "term", desc := "(I)LBinderPress$Term;" } : Jvm.MethodName) prog_13_method_9_code (3 : Nat) (Option.some (Jvm.ClassFile.FieldType.object "BinderPress$Term"))) ∈ lw_all := lw_g (lw_at lw_m4 4 rfl) rfl
theorem q808 : (Jvm.Cond.methodLink "BinderPress$Work" (92 : Nat) ({ cls := "BinderPress$Put", name := "<init>", desc := "(LBinderPress$Term;LBinderPress$Term;)V" } : Jvm.MethodName)) ∈ lw_all := lw_g (lw_at lw_m4 5 rfl) rfl
theorem q809 : (Jvm.Cond.methodLinkNest "BinderPress$Work" (95 : Nat) ({ cls := "BinderPress", name := "isName", desc := "(I)Z" } : Jvm.MethodName) "BinderPress") ∈ lw_tbl := lw_at lw_m4 6 rfl
theorem q810 : (Jvm.Cond.methodLink "BinderPress$Work" (99 : Nat) ({ cls := "BinderPress$Name", name := "<init>", desc := "(I)V" } : Jvm.MethodName)) ∈ lw_all := lw_g (lw_at lw_m4 7 rfl) rfl
theorem q811 : (Jvm.Cond.methodLinkNest "BinderPress$Work" (102 : Nat) ({ cls := "BinderPress", name := "signOf", desc := "(I)LBinderPress$Term;" } : Jvm.MethodName) "BinderPress") ∈ lw_tbl := lw_at lw_m4 8 rfl
theorem in_X1 : ∀ w ∈ wsX10, w ∈ lw_all := lw_in wsX10 [138, 140, 142, 144, 146, 148, 150, 152, 154, 156] (by decide +kernel) (by decide +kernel)
