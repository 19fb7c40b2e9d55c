/-! KeptLight -/
set_option maxRecDepth 100000
def RX0 : String := "KeptLight"
def TX0 : u_T := fun k => match k with
  | 0 => ("KeptLight", "now", "LKeptLight$World;", true)
  | 1 => ("KeptLight", "kept", "LKeptLight$World;", true)
  | 2 => ("KeptLight", "mind", "LKeptLight$World;", true)
  | 3 => ("KeptLight", "isKept", "Z", false)
  | 4 => ("KeptLight", "shelves", "[LKeptLight$Sheet;", true)
  | 5 => ("KeptLight", "tape", "[I", true)
  | 6 => ("KeptLight", "size", "I", false)
  | _ => ("KeptLight", "refused", "[I", true)
def tyX0 : Nat → FieldType := fun k => match k with
  | 0 => .object "KeptLight$World"
  | 1 => .object "KeptLight$World"
  | 2 => .object "KeptLight$World"
  | 3 => .boolean
  | 4 => .array (.object "KeptLight$Sheet")
  | 5 => .array .int
  | 6 => .int
  | _ => .array .int
abbrev wsX00 : List Cond := u_ws RX0 TX0 8
theorem nmX0 : ∀ a, a < 8 → ∀ b, b < 8 → a ≠ b → (TX0 a).2.1 ≠ (TX0 b).2.1 := by decide +kernel
theorem tyX0_ok : ∀ k, k < 8 → parseFieldDescriptor (TX0 k).2.2.1 = some (tyX0 k) := by decide +kernel
abbrev cX0_init : ByteArray := prog_1_method_6_code
def yX0_init : MethodName := ⟨RX0, "<init>", "()V"⟩
def dkwX0_init_4 : List UInt8 := [177]
abbrev dktX0_init_4 : List UInt8 := dkwX0_init_4 ++ []
def dkwX0_init_3 : List UInt8 := [16, 8, 162, 0, 22, 42, 180, 0, 56, 27, 187, 0, 54, 89, 183, 0, 67, 83, 132, 1, 1, 167, 255, 234]
abbrev dktX0_init_3 : List UInt8 := dkwX0_init_3 ++ dktX0_init_4
def dkwX0_init_2 : List UInt8 := [181, 0, 56, 42, 17, 0, 250, 188, 10, 181, 0, 60, 42, 16, 7, 188, 10, 181, 0, 64, 3, 60, 27]
abbrev dktX0_init_2 : List UInt8 := dkwX0_init_2 ++ dktX0_init_3
def dkwX0_init_1 : List UInt8 := [181, 0, 45, 42, 187, 0, 36, 89, 42, 180, 0, 39, 183, 0, 48, 181, 0, 51, 42, 16, 8, 189, 0, 54]
abbrev dktX0_init_1 : List UInt8 := dkwX0_init_1 ++ dktX0_init_2
def dkwX0_init_0 : List UInt8 := [42, 183, 0, 31, 42, 187, 0, 36, 89, 183, 0, 38, 181, 0, 39, 42, 187, 0, 36, 89, 183, 0, 38]
abbrev dktX0_init_0 : List UInt8 := dkwX0_init_0 ++ dktX0_init_1
theorem dksX0_init_0 : cX0_init.data.toList.drop 0 = dktX0_init_0 := by decide +kernel
theorem dksX0_init_1 : cX0_init.data.toList.drop 23 = dktX0_init_1 := dk_seg dksX0_init_0 23 rfl rfl
theorem dksX0_init_2 : cX0_init.data.toList.drop 47 = dktX0_init_2 := dk_seg dksX0_init_1 24 rfl rfl
theorem dksX0_init_3 : cX0_init.data.toList.drop 70 = dktX0_init_3 := dk_seg dksX0_init_2 23 rfl rfl
theorem dksX0_init_4 : cX0_init.data.toList.drop 94 = dktX0_init_4 := dk_seg dksX0_init_3 24 rfl rfl
theorem dX0_init_0 : decode cX0_init 0 = .ok (.aload_n 0, 1) := dk_42 (dk_at dksX0_init_0 0 rfl rfl)
theorem dX0_init_1 : decode cX0_init 1 = .ok (.invokespecial 31, 3) := dk_183 0 31 (dk_at dksX0_init_0 1 rfl rfl)
theorem dX0_init_4 : decode cX0_init 4 = .ok (.aload_n 0, 1) := dk_42 (dk_at dksX0_init_0 4 rfl rfl)
theorem dX0_init_5 : decode cX0_init 5 = .ok (.new 36, 3) := dk_187 0 36 (dk_at dksX0_init_0 5 rfl rfl)
theorem dX0_init_8 : decode cX0_init 8 = .ok (.dup, 1) := dk_89 (dk_at dksX0_init_0 8 rfl rfl)
theorem dX0_init_9 : decode cX0_init 9 = .ok (.invokespecial 38, 3) := dk_183 0 38 (dk_at dksX0_init_0 9 rfl rfl)
theorem dX0_init_12 : decode cX0_init 12 = .ok (.putfield 39, 3) := dk_181 0 39 (dk_at dksX0_init_0 12 rfl rfl)
theorem dX0_init_15 : decode cX0_init 15 = .ok (.aload_n 0, 1) := dk_42 (dk_at dksX0_init_0 15 rfl rfl)
theorem dX0_init_16 : decode cX0_init 16 = .ok (.new 36, 3) := dk_187 0 36 (dk_at dksX0_init_0 16 rfl rfl)
theorem dX0_init_19 : decode cX0_init 19 = .ok (.dup, 1) := dk_89 (dk_at dksX0_init_0 19 rfl rfl)
theorem dX0_init_20 : decode cX0_init 20 = .ok (.invokespecial 38, 3) := dk_183 0 38 (dk_at dksX0_init_0 20 rfl rfl)
theorem dX0_init_23 : decode cX0_init 23 = .ok (.putfield 45, 3) := dk_181 0 45 (dk_at dksX0_init_1 0 rfl rfl)
theorem dX0_init_26 : decode cX0_init 26 = .ok (.aload_n 0, 1) := dk_42 (dk_at dksX0_init_1 3 rfl rfl)
theorem dX0_init_27 : decode cX0_init 27 = .ok (.new 36, 3) := dk_187 0 36 (dk_at dksX0_init_1 4 rfl rfl)
theorem dX0_init_30 : decode cX0_init 30 = .ok (.dup, 1) := dk_89 (dk_at dksX0_init_1 7 rfl rfl)
theorem dX0_init_31 : decode cX0_init 31 = .ok (.aload_n 0, 1) := dk_42 (dk_at dksX0_init_1 8 rfl rfl)
theorem dX0_init_32 : decode cX0_init 32 = .ok (.getfield 39, 3) := dk_180 0 39 (dk_at dksX0_init_1 9 rfl rfl)
theorem dX0_init_35 : decode cX0_init 35 = .ok (.invokespecial 48, 3) := dk_183 0 48 (dk_at dksX0_init_1 12 rfl rfl)
theorem dX0_init_38 : decode cX0_init 38 = .ok (.putfield 51, 3) := dk_181 0 51 (dk_at dksX0_init_1 15 rfl rfl)
theorem dX0_init_41 : decode cX0_init 41 = .ok (.aload_n 0, 1) := dk_42 (dk_at dksX0_init_1 18 rfl rfl)
theorem dX0_init_42 : decode cX0_init 42 = .ok (.bipush 8, 2) := dk_16 8 (dk_at dksX0_init_1 19 rfl rfl)
theorem dX0_init_44 : decode cX0_init 44 = .ok (.anewarray 54, 3) := dk_189 0 54 (dk_at dksX0_init_1 21 rfl rfl)
theorem dX0_init_47 : decode cX0_init 47 = .ok (.putfield 56, 3) := dk_181 0 56 (dk_at dksX0_init_2 0 rfl rfl)
theorem dX0_init_50 : decode cX0_init 50 = .ok (.aload_n 0, 1) := dk_42 (dk_at dksX0_init_2 3 rfl rfl)
theorem dX0_init_51 : decode cX0_init 51 = .ok (.sipush 250, 3) := dk_17 0 250 (dk_at dksX0_init_2 4 rfl rfl)
theorem dX0_init_54 : decode cX0_init 54 = .ok (.newarray .int, 2) := dk_188_10 (dk_at dksX0_init_2 7 rfl rfl)
theorem dX0_init_56 : decode cX0_init 56 = .ok (.putfield 60, 3) := dk_181 0 60 (dk_at dksX0_init_2 9 rfl rfl)
theorem dX0_init_59 : decode cX0_init 59 = .ok (.aload_n 0, 1) := dk_42 (dk_at dksX0_init_2 12 rfl rfl)
theorem dX0_init_60 : decode cX0_init 60 = .ok (.bipush 7, 2) := dk_16 7 (dk_at dksX0_init_2 13 rfl rfl)
theorem dX0_init_62 : decode cX0_init 62 = .ok (.newarray .int, 2) := dk_188_10 (dk_at dksX0_init_2 15 rfl rfl)
theorem dX0_init_64 : decode cX0_init 64 = .ok (.putfield 64, 3) := dk_181 0 64 (dk_at dksX0_init_2 17 rfl rfl)
theorem dX0_init_67 : decode cX0_init 67 = .ok (.iconst 0, 1) := dk_3 (dk_at dksX0_init_2 20 rfl rfl)
theorem dX0_init_68 : decode cX0_init 68 = .ok (.istore_n 1, 1) := dk_60 (dk_at dksX0_init_2 21 rfl rfl)
theorem dX0_init_69 : decode cX0_init 69 = .ok (.iload_n 1, 1) := dk_27 (dk_at dksX0_init_2 22 rfl rfl)
theorem dX0_init_70 : decode cX0_init 70 = .ok (.bipush 8, 2) := dk_16 8 (dk_at dksX0_init_3 0 rfl rfl)
theorem dX0_init_72 : decode cX0_init 72 = .ok (.if_icmp .ge 22, 3) := dk_162 0 22 (dk_at dksX0_init_3 2 rfl rfl)
theorem dX0_init_75 : decode cX0_init 75 = .ok (.aload_n 0, 1) := dk_42 (dk_at dksX0_init_3 5 rfl rfl)
theorem dX0_init_76 : decode cX0_init 76 = .ok (.getfield 56, 3) := dk_180 0 56 (dk_at dksX0_init_3 6 rfl rfl)
theorem dX0_init_79 : decode cX0_init 79 = .ok (.iload_n 1, 1) := dk_27 (dk_at dksX0_init_3 9 rfl rfl)
theorem dX0_init_80 : decode cX0_init 80 = .ok (.new 54, 3) := dk_187 0 54 (dk_at dksX0_init_3 10 rfl rfl)
theorem dX0_init_83 : decode cX0_init 83 = .ok (.dup, 1) := dk_89 (dk_at dksX0_init_3 13 rfl rfl)
theorem dX0_init_84 : decode cX0_init 84 = .ok (.invokespecial 67, 3) := dk_183 0 67 (dk_at dksX0_init_3 14 rfl rfl)
theorem dX0_init_87 : decode cX0_init 87 = .ok (.aastore, 1) := dk_83 (dk_at dksX0_init_3 17 rfl rfl)
theorem dX0_init_88 : decode cX0_init 88 = .ok (.iinc 1 1, 3) := dk_132 1 1 (dk_at dksX0_init_3 18 rfl rfl)
theorem dX0_init_91 : decode cX0_init 91 = .ok (.goto (-22), 3) := dk_167 255 234 (dk_at dksX0_init_3 21 rfl rfl)
theorem dX0_init_94 : decode cX0_init 94 = .ok (.return_, 1) := dk_177 (dk_at dksX0_init_4 0 rfl rfl)
abbrev cX0_row : ByteArray := prog_1_method_16_code
def yX0_row : MethodName := ⟨RX0, "row", "(III)I"⟩
def dkwX0_row_2 : List UInt8 := [58, 4, 42, 16, 154, 182, 0, 102, 172, 4, 172]
abbrev dktX0_row_2 : List UInt8 := dkwX0_row_2 ++ []
def dkwX0_row_1 : List UInt8 := [16, 154, 182, 0, 102, 172, 42, 180, 0, 56, 27, 50, 28, 29, 184, 0, 106, 181, 0, 110, 167, 0, 12]
abbrev dktX0_row_1 : List UInt8 := dkwX0_row_1 ++ dktX0_row_2
def dkwX0_row_0 : List UInt8 := [27, 184, 0, 98, 153, 0, 18, 28, 155, 0, 14, 28, 7, 163, 0, 9, 29, 16, 40, 164, 0, 10, 42]
abbrev dktX0_row_0 : List UInt8 := dkwX0_row_0 ++ dktX0_row_1
theorem dksX0_row_0 : cX0_row.data.toList.drop 0 = dktX0_row_0 := by decide +kernel
theorem dksX0_row_1 : cX0_row.data.toList.drop 23 = dktX0_row_1 := dk_seg dksX0_row_0 23 rfl rfl
theorem dksX0_row_2 : cX0_row.data.toList.drop 46 = dktX0_row_2 := dk_seg dksX0_row_1 23 rfl rfl
theorem dX0_row_0 : decode cX0_row 0 = .ok (.iload_n 1, 1) := dk_27 (dk_at dksX0_row_0 0 rfl rfl)
theorem dX0_row_1 : decode cX0_row 1 = .ok (.invokestatic 98, 3) := dk_184 0 98 (dk_at dksX0_row_0 1 rfl rfl)
theorem dX0_row_4 : decode cX0_row 4 = .ok (.ifCond .eq 18, 3) := dk_153 0 18 (dk_at dksX0_row_0 4 rfl rfl)
theorem dX0_row_7 : decode cX0_row 7 = .ok (.iload_n 2, 1) := dk_28 (dk_at dksX0_row_0 7 rfl rfl)
theorem dX0_row_8 : decode cX0_row 8 = .ok (.ifCond .lt 14, 3) := dk_155 0 14 (dk_at dksX0_row_0 8 rfl rfl)
theorem dX0_row_11 : decode cX0_row 11 = .ok (.iload_n 2, 1) := dk_28 (dk_at dksX0_row_0 11 rfl rfl)
theorem dX0_row_12 : decode cX0_row 12 = .ok (.iconst 4, 1) := dk_7 (dk_at dksX0_row_0 12 rfl rfl)
theorem dX0_row_13 : decode cX0_row 13 = .ok (.if_icmp .gt 9, 3) := dk_163 0 9 (dk_at dksX0_row_0 13 rfl rfl)
theorem dX0_row_16 : decode cX0_row 16 = .ok (.iload_n 3, 1) := dk_29 (dk_at dksX0_row_0 16 rfl rfl)
theorem dX0_row_17 : decode cX0_row 17 = .ok (.bipush 40, 2) := dk_16 40 (dk_at dksX0_row_0 17 rfl rfl)
theorem dX0_row_19 : decode cX0_row 19 = .ok (.if_icmp .le 10, 3) := dk_164 0 10 (dk_at dksX0_row_0 19 rfl rfl)
theorem dX0_row_22 : decode cX0_row 22 = .ok (.aload_n 0, 1) := dk_42 (dk_at dksX0_row_0 22 rfl rfl)
theorem dX0_row_23 : decode cX0_row 23 = .ok (.bipush (-102), 2) := dk_16 154 (dk_at dksX0_row_1 0 rfl rfl)
theorem dX0_row_25 : decode cX0_row 25 = .ok (.invokevirtual 102, 3) := dk_182 0 102 (dk_at dksX0_row_1 2 rfl rfl)
theorem dX0_row_28 : decode cX0_row 28 = .ok (.ireturn, 1) := dk_172 (dk_at dksX0_row_1 5 rfl rfl)
theorem dX0_row_29 : decode cX0_row 29 = .ok (.aload_n 0, 1) := dk_42 (dk_at dksX0_row_1 6 rfl rfl)
theorem dX0_row_30 : decode cX0_row 30 = .ok (.getfield 56, 3) := dk_180 0 56 (dk_at dksX0_row_1 7 rfl rfl)
theorem dX0_row_33 : decode cX0_row 33 = .ok (.iload_n 1, 1) := dk_27 (dk_at dksX0_row_1 10 rfl rfl)
theorem dX0_row_34 : decode cX0_row 34 = .ok (.aaload, 1) := dk_50 (dk_at dksX0_row_1 11 rfl rfl)
theorem dX0_row_35 : decode cX0_row 35 = .ok (.iload_n 2, 1) := dk_28 (dk_at dksX0_row_1 12 rfl rfl)
theorem dX0_row_36 : decode cX0_row 36 = .ok (.iload_n 3, 1) := dk_29 (dk_at dksX0_row_1 13 rfl rfl)
theorem dX0_row_37 : decode cX0_row 37 = .ok (.invokestatic 106, 3) := dk_184 0 106 (dk_at dksX0_row_1 14 rfl rfl)
theorem dX0_row_40 : decode cX0_row 40 = .ok (.putfield 110, 3) := dk_181 0 110 (dk_at dksX0_row_1 17 rfl rfl)
theorem dX0_row_43 : decode cX0_row 43 = .ok (.goto 12, 3) := dk_167 0 12 (dk_at dksX0_row_1 20 rfl rfl)
theorem dX0_row_46 : decode cX0_row 46 = .ok (.astore 4, 2) := dk_58 4 (dk_at dksX0_row_2 0 rfl rfl)
theorem dX0_row_48 : decode cX0_row 48 = .ok (.aload_n 0, 1) := dk_42 (dk_at dksX0_row_2 2 rfl rfl)
theorem dX0_row_49 : decode cX0_row 49 = .ok (.bipush (-102), 2) := dk_16 154 (dk_at dksX0_row_2 3 rfl rfl)
theorem dX0_row_51 : decode cX0_row 51 = .ok (.invokevirtual 102, 3) := dk_182 0 102 (dk_at dksX0_row_2 5 rfl rfl)
theorem dX0_row_54 : decode cX0_row 54 = .ok (.ireturn, 1) := dk_172 (dk_at dksX0_row_2 8 rfl rfl)
theorem dX0_row_55 : decode cX0_row 55 = .ok (.iconst 1, 1) := dk_4 (dk_at dksX0_row_2 9 rfl rfl)
theorem dX0_row_56 : decode cX0_row 56 = .ok (.ireturn, 1) := dk_172 (dk_at dksX0_row_2 10 rfl rfl)
abbrev cX0_isShelf : ByteArray := prog_1_method_8_code
def yX0_isShelf : MethodName := ⟨RX0, "isShelf", "(I)Z"⟩
def dkwX0_isShelf_0 : List UInt8 := [26, 3, 16, 7, 184, 0, 68, 172]
abbrev dktX0_isShelf_0 : List UInt8 := dkwX0_isShelf_0 ++ []
theorem dksX0_isShelf_0 : cX0_isShelf.data.toList.drop 0 = dktX0_isShelf_0 := by decide +kernel
theorem dX0_isShelf_0 : decode cX0_isShelf 0 = .ok (.iload_n 0, 1) := dk_26 (dk_at dksX0_isShelf_0 0 rfl rfl)
theorem dX0_isShelf_1 : decode cX0_isShelf 1 = .ok (.iconst 0, 1) := dk_3 (dk_at dksX0_isShelf_0 1 rfl rfl)
theorem dX0_isShelf_2 : decode cX0_isShelf 2 = .ok (.bipush 7, 2) := dk_16 7 (dk_at dksX0_isShelf_0 2 rfl rfl)
theorem dX0_isShelf_4 : decode cX0_isShelf 4 = .ok (.invokestatic 68, 3) := dk_184 0 68 (dk_at dksX0_isShelf_0 4 rfl rfl)
theorem dX0_isShelf_7 : decode cX0_isShelf 7 = .ok (.ireturn, 1) := dk_172 (dk_at dksX0_isShelf_0 7 rfl rfl)
abbrev cX0_isIn : ByteArray := prog_1_method_1_code
def yX0_isIn : MethodName := ⟨RX0, "isIn", "(III)Z"⟩
def dkwX0_isIn_0 : List UInt8 := [26, 27, 161, 0, 12, 26, 28, 163, 0, 7, 4, 167, 0, 4, 3, 172]
abbrev dktX0_isIn_0 : List UInt8 := dkwX0_isIn_0 ++ []
theorem dksX0_isIn_0 : cX0_isIn.data.toList.drop 0 = dktX0_isIn_0 := by decide +kernel
theorem dX0_isIn_0 : decode cX0_isIn 0 = .ok (.iload_n 0, 1) := dk_26 (dk_at dksX0_isIn_0 0 rfl rfl)
theorem dX0_isIn_1 : decode cX0_isIn 1 = .ok (.iload_n 1, 1) := dk_27 (dk_at dksX0_isIn_0 1 rfl rfl)
theorem dX0_isIn_2 : decode cX0_isIn 2 = .ok (.if_icmp .lt 12, 3) := dk_161 0 12 (dk_at dksX0_isIn_0 2 rfl rfl)
theorem dX0_isIn_5 : decode cX0_isIn 5 = .ok (.iload_n 0, 1) := dk_26 (dk_at dksX0_isIn_0 5 rfl rfl)
theorem dX0_isIn_6 : decode cX0_isIn 6 = .ok (.iload_n 2, 1) := dk_28 (dk_at dksX0_isIn_0 6 rfl rfl)
theorem dX0_isIn_7 : decode cX0_isIn 7 = .ok (.if_icmp .gt 7, 3) := dk_163 0 7 (dk_at dksX0_isIn_0 7 rfl rfl)
theorem dX0_isIn_10 : decode cX0_isIn 10 = .ok (.iconst 1, 1) := dk_4 (dk_at dksX0_isIn_0 10 rfl rfl)
theorem dX0_isIn_11 : decode cX0_isIn 11 = .ok (.goto 4, 3) := dk_167 0 4 (dk_at dksX0_isIn_0 11 rfl rfl)
theorem dX0_isIn_14 : decode cX0_isIn 14 = .ok (.iconst 0, 1) := dk_3 (dk_at dksX0_isIn_0 14 rfl rfl)
theorem dX0_isIn_15 : decode cX0_isIn 15 = .ok (.ireturn, 1) := dk_172 (dk_at dksX0_isIn_0 15 rfl rfl)
abbrev cX0_no : ByteArray := prog_1_method_7_code
def yX0_no : MethodName := ⟨RX0, "no", "(I)I"⟩
def dkwX0_no_0 : List UInt8 := [42, 180, 0, 64, 16, 156, 27, 100, 92, 46, 4, 96, 79, 27, 172]
abbrev dktX0_no_0 : List UInt8 := dkwX0_no_0 ++ []
theorem dksX0_no_0 : cX0_no.data.toList.drop 0 = dktX0_no_0 := by decide +kernel
theorem dX0_no_0 : decode cX0_no 0 = .ok (.aload_n 0, 1) := dk_42 (dk_at dksX0_no_0 0 rfl rfl)
theorem dX0_no_1 : decode cX0_no 1 = .ok (.getfield 64, 3) := dk_180 0 64 (dk_at dksX0_no_0 1 rfl rfl)
theorem dX0_no_4 : decode cX0_no 4 = .ok (.bipush (-100), 2) := dk_16 156 (dk_at dksX0_no_0 4 rfl rfl)
theorem dX0_no_6 : decode cX0_no 6 = .ok (.iload_n 1, 1) := dk_27 (dk_at dksX0_no_0 6 rfl rfl)
theorem dX0_no_7 : decode cX0_no 7 = .ok (.isub, 1) := dk_100 (dk_at dksX0_no_0 7 rfl rfl)
theorem dX0_no_8 : decode cX0_no 8 = .ok (.dup2, 1) := dk_92 (dk_at dksX0_no_0 8 rfl rfl)
theorem dX0_no_9 : decode cX0_no 9 = .ok (.iaload, 1) := dk_46 (dk_at dksX0_no_0 9 rfl rfl)
theorem dX0_no_10 : decode cX0_no 10 = .ok (.iconst 1, 1) := dk_4 (dk_at dksX0_no_0 10 rfl rfl)
theorem dX0_no_11 : decode cX0_no 11 = .ok (.iadd, 1) := dk_96 (dk_at dksX0_no_0 11 rfl rfl)
theorem dX0_no_12 : decode cX0_no 12 = .ok (.iastore, 1) := dk_79 (dk_at dksX0_no_0 12 rfl rfl)
theorem dX0_no_13 : decode cX0_no 13 = .ok (.iload_n 1, 1) := dk_27 (dk_at dksX0_no_0 13 rfl rfl)
theorem dX0_no_14 : decode cX0_no 14 = .ok (.ireturn, 1) := dk_172 (dk_at dksX0_no_0 14 rfl rfl)
abbrev cX0_rowOf : ByteArray := prog_1_method_12_code
def yX0_rowOf : MethodName := ⟨RX0, "rowOf", "(II)Ljava/lang/Object;"⟩
def dkwX0_rowOf_2 : List UInt8 := [27, 188, 8, 176, 27, 188, 9, 176, 27, 188, 10, 176, 27, 188, 11, 176, 27, 188, 4, 176]
abbrev dktX0_rowOf_2 : List UInt8 := dkwX0_rowOf_2 ++ []
def dkwX0_rowOf_1 : List UInt8 := [170, 0, 0, 0, 0, 0, 47, 0, 0, 0, 0, 0, 0, 0, 3, 0, 0, 0, 31, 0, 0, 0, 35, 0, 0, 0, 39, 0, 0, 0, 43]
abbrev dktX0_rowOf_1 : List UInt8 := dkwX0_rowOf_1 ++ dktX0_rowOf_2
def dkwX0_rowOf_0 : List UInt8 := [26]
abbrev dktX0_rowOf_0 : List UInt8 := dkwX0_rowOf_0 ++ dktX0_rowOf_1
theorem dksX0_rowOf_0 : cX0_rowOf.data.toList.drop 0 = dktX0_rowOf_0 := by decide +kernel
theorem dksX0_rowOf_1 : cX0_rowOf.data.toList.drop 1 = dktX0_rowOf_1 := dk_seg dksX0_rowOf_0 1 rfl rfl
theorem dksX0_rowOf_2 : cX0_rowOf.data.toList.drop 32 = dktX0_rowOf_2 := dk_seg dksX0_rowOf_1 31 rfl rfl
theorem dX0_rowOf_0 : decode cX0_rowOf 0 = .ok (.iload_n 0, 1) := dk_26 (dk_at dksX0_rowOf_0 0 rfl rfl)
theorem dX0_rowOf_1 : decode cX0_rowOf 1 = .ok (.tableswitch 47 0 3 #[31, 35, 39, 43], 31) := by decide +kernel
theorem dX0_rowOf_32 : decode cX0_rowOf 32 = .ok (.iload_n 1, 1) := dk_27 (dk_at dksX0_rowOf_2 0 rfl rfl)
theorem dX0_rowOf_33 : decode cX0_rowOf 33 = .ok (.newarray .byte, 2) := dk_188_8 (dk_at dksX0_rowOf_2 1 rfl rfl)
theorem dX0_rowOf_35 : decode cX0_rowOf 35 = .ok (.areturn, 1) := dk_176 (dk_at dksX0_rowOf_2 3 rfl rfl)
theorem dX0_rowOf_36 : decode cX0_rowOf 36 = .ok (.iload_n 1, 1) := dk_27 (dk_at dksX0_rowOf_2 4 rfl rfl)
theorem dX0_rowOf_37 : decode cX0_rowOf 37 = .ok (.newarray .short, 2) := dk_188_9 (dk_at dksX0_rowOf_2 5 rfl rfl)
theorem dX0_rowOf_39 : decode cX0_rowOf 39 = .ok (.areturn, 1) := dk_176 (dk_at dksX0_rowOf_2 7 rfl rfl)
theorem dX0_rowOf_40 : decode cX0_rowOf 40 = .ok (.iload_n 1, 1) := dk_27 (dk_at dksX0_rowOf_2 8 rfl rfl)
theorem dX0_rowOf_41 : decode cX0_rowOf 41 = .ok (.newarray .int, 2) := dk_188_10 (dk_at dksX0_rowOf_2 9 rfl rfl)
theorem dX0_rowOf_43 : decode cX0_rowOf 43 = .ok (.areturn, 1) := dk_176 (dk_at dksX0_rowOf_2 11 rfl rfl)
theorem dX0_rowOf_44 : decode cX0_rowOf 44 = .ok (.iload_n 1, 1) := dk_27 (dk_at dksX0_rowOf_2 12 rfl rfl)
theorem dX0_rowOf_45 : decode cX0_rowOf 45 = .ok (.newarray .long, 2) := dk_188_11 (dk_at dksX0_rowOf_2 13 rfl rfl)
theorem dX0_rowOf_47 : decode cX0_rowOf 47 = .ok (.areturn, 1) := dk_176 (dk_at dksX0_rowOf_2 15 rfl rfl)
theorem dX0_rowOf_48 : decode cX0_rowOf 48 = .ok (.iload_n 1, 1) := dk_27 (dk_at dksX0_rowOf_2 16 rfl rfl)
theorem dX0_rowOf_49 : decode cX0_rowOf 49 = .ok (.newarray .boolean, 2) := dk_188_4 (dk_at dksX0_rowOf_2 17 rfl rfl)
theorem dX0_rowOf_51 : decode cX0_rowOf 51 = .ok (.areturn, 1) := dk_176 (dk_at dksX0_rowOf_2 19 rfl rfl)
abbrev cX0_set : ByteArray := prog_1_method_18_code
def yX0_set : MethodName := ⟨RX0, "set", "(IIJ)I"⟩
def dkwX0_set_1 : List UInt8 := [4, 172, 58, 5, 42, 25, 5, 180, 0, 131, 182, 0, 102, 172, 58, 5, 42, 16, 154, 182, 0, 102, 172]
abbrev dktX0_set_1 : List UInt8 := dkwX0_set_1 ++ []
def dkwX0_set_0 : List UInt8 := [27, 184, 0, 98, 154, 0, 10, 42, 16, 154, 182, 0, 102, 172, 42, 27, 182, 0, 123, 28, 33, 184, 0, 127]
abbrev dktX0_set_0 : List UInt8 := dkwX0_set_0 ++ dktX0_set_1
theorem dksX0_set_0 : cX0_set.data.toList.drop 0 = dktX0_set_0 := by decide +kernel
theorem dksX0_set_1 : cX0_set.data.toList.drop 24 = dktX0_set_1 := dk_seg dksX0_set_0 24 rfl rfl
theorem dX0_set_0 : decode cX0_set 0 = .ok (.iload_n 1, 1) := dk_27 (dk_at dksX0_set_0 0 rfl rfl)
theorem dX0_set_1 : decode cX0_set 1 = .ok (.invokestatic 98, 3) := dk_184 0 98 (dk_at dksX0_set_0 1 rfl rfl)
theorem dX0_set_4 : decode cX0_set 4 = .ok (.ifCond .ne 10, 3) := dk_154 0 10 (dk_at dksX0_set_0 4 rfl rfl)
theorem dX0_set_7 : decode cX0_set 7 = .ok (.aload_n 0, 1) := dk_42 (dk_at dksX0_set_0 7 rfl rfl)
theorem dX0_set_8 : decode cX0_set 8 = .ok (.bipush (-102), 2) := dk_16 154 (dk_at dksX0_set_0 8 rfl rfl)
theorem dX0_set_10 : decode cX0_set 10 = .ok (.invokevirtual 102, 3) := dk_182 0 102 (dk_at dksX0_set_0 10 rfl rfl)
theorem dX0_set_13 : decode cX0_set 13 = .ok (.ireturn, 1) := dk_172 (dk_at dksX0_set_0 13 rfl rfl)
theorem dX0_set_14 : decode cX0_set 14 = .ok (.aload_n 0, 1) := dk_42 (dk_at dksX0_set_0 14 rfl rfl)
theorem dX0_set_15 : decode cX0_set 15 = .ok (.iload_n 1, 1) := dk_27 (dk_at dksX0_set_0 15 rfl rfl)
theorem dX0_set_16 : decode cX0_set 16 = .ok (.invokevirtual 123, 3) := dk_182 0 123 (dk_at dksX0_set_0 16 rfl rfl)
theorem dX0_set_19 : decode cX0_set 19 = .ok (.iload_n 2, 1) := dk_28 (dk_at dksX0_set_0 19 rfl rfl)
theorem dX0_set_20 : decode cX0_set 20 = .ok (.lload_n 3, 1) := dk_33 (dk_at dksX0_set_0 20 rfl rfl)
theorem dX0_set_21 : decode cX0_set 21 = .ok (.invokestatic 127, 3) := dk_184 0 127 (dk_at dksX0_set_0 21 rfl rfl)
theorem dX0_set_24 : decode cX0_set 24 = .ok (.iconst 1, 1) := dk_4 (dk_at dksX0_set_1 0 rfl rfl)
theorem dX0_set_25 : decode cX0_set 25 = .ok (.ireturn, 1) := dk_172 (dk_at dksX0_set_1 1 rfl rfl)
theorem dX0_set_26 : decode cX0_set 26 = .ok (.astore 5, 2) := dk_58 5 (dk_at dksX0_set_1 2 rfl rfl)
theorem dX0_set_28 : decode cX0_set 28 = .ok (.aload_n 0, 1) := dk_42 (dk_at dksX0_set_1 4 rfl rfl)
theorem dX0_set_29 : decode cX0_set 29 = .ok (.aload 5, 2) := dk_25 5 (dk_at dksX0_set_1 5 rfl rfl)
theorem dX0_set_31 : decode cX0_set 31 = .ok (.getfield 131, 3) := dk_180 0 131 (dk_at dksX0_set_1 7 rfl rfl)
theorem dX0_set_34 : decode cX0_set 34 = .ok (.invokevirtual 102, 3) := dk_182 0 102 (dk_at dksX0_set_1 10 rfl rfl)
theorem dX0_set_37 : decode cX0_set 37 = .ok (.ireturn, 1) := dk_172 (dk_at dksX0_set_1 13 rfl rfl)
theorem dX0_set_38 : decode cX0_set 38 = .ok (.astore 5, 2) := dk_58 5 (dk_at dksX0_set_1 14 rfl rfl)
theorem dX0_set_40 : decode cX0_set 40 = .ok (.aload_n 0, 1) := dk_42 (dk_at dksX0_set_1 16 rfl rfl)
theorem dX0_set_41 : decode cX0_set 41 = .ok (.bipush (-102), 2) := dk_16 154 (dk_at dksX0_set_1 17 rfl rfl)
theorem dX0_set_43 : decode cX0_set 43 = .ok (.invokevirtual 102, 3) := dk_182 0 102 (dk_at dksX0_set_1 19 rfl rfl)
theorem dX0_set_46 : decode cX0_set 46 = .ok (.ireturn, 1) := dk_172 (dk_at dksX0_set_1 22 rfl rfl)
abbrev cX0_rowIn : ByteArray := prog_1_method_17_code
def yX0_rowIn : MethodName := ⟨RX0, "rowIn", "(I)Ljava/lang/Object;"⟩
def dkwX0_rowIn_1 : List UInt8 := [183, 0, 120, 191, 44, 199, 0, 13, 187, 0, 118, 89, 16, 152, 183, 0, 120, 191, 44, 176]
abbrev dktX0_rowIn_1 : List UInt8 := dkwX0_rowIn_1 ++ []
def dkwX0_rowIn_0 : List UInt8 := [42, 180, 0, 56, 27, 50, 180, 0, 110, 77, 44, 193, 0, 116, 153, 0, 13, 187, 0, 118, 89, 16, 153]
abbrev dktX0_rowIn_0 : List UInt8 := dkwX0_rowIn_0 ++ dktX0_rowIn_1
theorem dksX0_rowIn_0 : cX0_rowIn.data.toList.drop 0 = dktX0_rowIn_0 := by decide +kernel
theorem dksX0_rowIn_1 : cX0_rowIn.data.toList.drop 23 = dktX0_rowIn_1 := dk_seg dksX0_rowIn_0 23 rfl rfl
theorem dX0_rowIn_0 : decode cX0_rowIn 0 = .ok (.aload_n 0, 1) := dk_42 (dk_at dksX0_rowIn_0 0 rfl rfl)
theorem dX0_rowIn_1 : decode cX0_rowIn 1 = .ok (.getfield 56, 3) := dk_180 0 56 (dk_at dksX0_rowIn_0 1 rfl rfl)
theorem dX0_rowIn_4 : decode cX0_rowIn 4 = .ok (.iload_n 1, 1) := dk_27 (dk_at dksX0_rowIn_0 4 rfl rfl)
theorem dX0_rowIn_5 : decode cX0_rowIn 5 = .ok (.aaload, 1) := dk_50 (dk_at dksX0_rowIn_0 5 rfl rfl)
theorem dX0_rowIn_6 : decode cX0_rowIn 6 = .ok (.getfield 110, 3) := dk_180 0 110 (dk_at dksX0_rowIn_0 6 rfl rfl)
theorem dX0_rowIn_9 : decode cX0_rowIn 9 = .ok (.astore_n 2, 1) := dk_77 (dk_at dksX0_rowIn_0 9 rfl rfl)
theorem dX0_rowIn_10 : decode cX0_rowIn 10 = .ok (.aload_n 2, 1) := dk_44 (dk_at dksX0_rowIn_0 10 rfl rfl)
theorem dX0_rowIn_11 : decode cX0_rowIn 11 = .ok (.instanceof 116, 3) := dk_193 0 116 (dk_at dksX0_rowIn_0 11 rfl rfl)
theorem dX0_rowIn_14 : decode cX0_rowIn 14 = .ok (.ifCond .eq 13, 3) := dk_153 0 13 (dk_at dksX0_rowIn_0 14 rfl rfl)
theorem dX0_rowIn_17 : decode cX0_rowIn 17 = .ok (.new 118, 3) := dk_187 0 118 (dk_at dksX0_rowIn_0 17 rfl rfl)
theorem dX0_rowIn_20 : decode cX0_rowIn 20 = .ok (.dup, 1) := dk_89 (dk_at dksX0_rowIn_0 20 rfl rfl)
theorem dX0_rowIn_21 : decode cX0_rowIn 21 = .ok (.bipush (-103), 2) := dk_16 153 (dk_at dksX0_rowIn_0 21 rfl rfl)
theorem dX0_rowIn_23 : decode cX0_rowIn 23 = .ok (.invokespecial 120, 3) := dk_183 0 120 (dk_at dksX0_rowIn_1 0 rfl rfl)
theorem dX0_rowIn_26 : decode cX0_rowIn 26 = .ok (.athrow, 1) := dk_191 (dk_at dksX0_rowIn_1 3 rfl rfl)
theorem dX0_rowIn_27 : decode cX0_rowIn 27 = .ok (.aload_n 2, 1) := dk_44 (dk_at dksX0_rowIn_1 4 rfl rfl)
theorem dX0_rowIn_28 : decode cX0_rowIn 28 = .ok (.ifnonnull 13, 3) := dk_199 0 13 (dk_at dksX0_rowIn_1 5 rfl rfl)
theorem dX0_rowIn_31 : decode cX0_rowIn 31 = .ok (.new 118, 3) := dk_187 0 118 (dk_at dksX0_rowIn_1 8 rfl rfl)
theorem dX0_rowIn_34 : decode cX0_rowIn 34 = .ok (.dup, 1) := dk_89 (dk_at dksX0_rowIn_1 11 rfl rfl)
theorem dX0_rowIn_35 : decode cX0_rowIn 35 = .ok (.bipush (-104), 2) := dk_16 152 (dk_at dksX0_rowIn_1 12 rfl rfl)
theorem dX0_rowIn_37 : decode cX0_rowIn 37 = .ok (.invokespecial 120, 3) := dk_183 0 120 (dk_at dksX0_rowIn_1 14 rfl rfl)
theorem dX0_rowIn_40 : decode cX0_rowIn 40 = .ok (.athrow, 1) := dk_191 (dk_at dksX0_rowIn_1 17 rfl rfl)
theorem dX0_rowIn_41 : decode cX0_rowIn 41 = .ok (.aload_n 2, 1) := dk_44 (dk_at dksX0_rowIn_1 18 rfl rfl)
theorem dX0_rowIn_42 : decode cX0_rowIn 42 = .ok (.areturn, 1) := dk_176 (dk_at dksX0_rowIn_1 19 rfl rfl)
abbrev cX0_puts : ByteArray := prog_1_method_15_code
def yX0_puts : MethodName := ⟨RX0, "puts", "(Ljava/lang/Object;IJ)V"⟩
def dkwX0_puts_4 : List UInt8 := [192, 0, 96, 27, 32, 9, 148, 153, 0, 7, 4, 167, 0, 4, 3, 84, 177]
abbrev dktX0_puts_4 : List UInt8 := dkwX0_puts_4 ++ []
def dkwX0_puts_3 : List UInt8 := [42, 192, 0, 89, 27, 32, 136, 79, 167, 0, 30, 42, 192, 0, 90, 27, 32, 80, 167, 0, 20, 42]
abbrev dktX0_puts_3 : List UInt8 := dkwX0_puts_3 ++ dktX0_puts_4
def dkwX0_puts_2 : List UInt8 := [42, 192, 0, 85, 27, 32, 136, 145, 84, 167, 0, 53, 42, 192, 0, 87, 27, 32, 136, 147, 86, 167, 0, 41]
abbrev dktX0_puts_2 : List UInt8 := dkwX0_puts_2 ++ dktX0_puts_3
def dkwX0_puts_1 : List UInt8 := [170, 0, 0, 0, 0, 0, 0, 77, 0, 0, 0, 0, 0, 0, 0, 3, 0, 0, 0, 32, 0, 0, 0, 44, 0, 0, 0, 56, 0, 0, 0, 67]
abbrev dktX0_puts_1 : List UInt8 := dkwX0_puts_1 ++ dktX0_puts_2
def dkwX0_puts_0 : List UInt8 := [42, 184, 0, 92]
abbrev dktX0_puts_0 : List UInt8 := dkwX0_puts_0 ++ dktX0_puts_1
theorem dksX0_puts_0 : cX0_puts.data.toList.drop 0 = dktX0_puts_0 := by decide +kernel
theorem dksX0_puts_1 : cX0_puts.data.toList.drop 4 = dktX0_puts_1 := dk_seg dksX0_puts_0 4 rfl rfl
theorem dksX0_puts_2 : cX0_puts.data.toList.drop 36 = dktX0_puts_2 := dk_seg dksX0_puts_1 32 rfl rfl
theorem dksX0_puts_3 : cX0_puts.data.toList.drop 60 = dktX0_puts_3 := dk_seg dksX0_puts_2 24 rfl rfl
theorem dksX0_puts_4 : cX0_puts.data.toList.drop 82 = dktX0_puts_4 := dk_seg dksX0_puts_3 22 rfl rfl
theorem dX0_puts_0 : decode cX0_puts 0 = .ok (.aload_n 0, 1) := dk_42 (dk_at dksX0_puts_0 0 rfl rfl)
theorem dX0_puts_1 : decode cX0_puts 1 = .ok (.invokestatic 92, 3) := dk_184 0 92 (dk_at dksX0_puts_0 1 rfl rfl)
theorem dX0_puts_4 : decode cX0_puts 4 = .ok (.tableswitch 77 0 3 #[32, 44, 56, 67], 32) := by decide +kernel
theorem dX0_puts_36 : decode cX0_puts 36 = .ok (.aload_n 0, 1) := dk_42 (dk_at dksX0_puts_2 0 rfl rfl)
theorem dX0_puts_37 : decode cX0_puts 37 = .ok (.checkcast 85, 3) := dk_192 0 85 (dk_at dksX0_puts_2 1 rfl rfl)
theorem dX0_puts_40 : decode cX0_puts 40 = .ok (.iload_n 1, 1) := dk_27 (dk_at dksX0_puts_2 4 rfl rfl)
theorem dX0_puts_41 : decode cX0_puts 41 = .ok (.lload_n 2, 1) := dk_32 (dk_at dksX0_puts_2 5 rfl rfl)
theorem dX0_puts_42 : decode cX0_puts 42 = .ok (.l2i, 1) := dk_136 (dk_at dksX0_puts_2 6 rfl rfl)
theorem dX0_puts_43 : decode cX0_puts 43 = .ok (.i2b, 1) := dk_145 (dk_at dksX0_puts_2 7 rfl rfl)
theorem dX0_puts_44 : decode cX0_puts 44 = .ok (.bastore, 1) := dk_84 (dk_at dksX0_puts_2 8 rfl rfl)
theorem dX0_puts_45 : decode cX0_puts 45 = .ok (.goto 53, 3) := dk_167 0 53 (dk_at dksX0_puts_2 9 rfl rfl)
theorem dX0_puts_48 : decode cX0_puts 48 = .ok (.aload_n 0, 1) := dk_42 (dk_at dksX0_puts_2 12 rfl rfl)
theorem dX0_puts_49 : decode cX0_puts 49 = .ok (.checkcast 87, 3) := dk_192 0 87 (dk_at dksX0_puts_2 13 rfl rfl)
theorem dX0_puts_52 : decode cX0_puts 52 = .ok (.iload_n 1, 1) := dk_27 (dk_at dksX0_puts_2 16 rfl rfl)
theorem dX0_puts_53 : decode cX0_puts 53 = .ok (.lload_n 2, 1) := dk_32 (dk_at dksX0_puts_2 17 rfl rfl)
theorem dX0_puts_54 : decode cX0_puts 54 = .ok (.l2i, 1) := dk_136 (dk_at dksX0_puts_2 18 rfl rfl)
theorem dX0_puts_55 : decode cX0_puts 55 = .ok (.i2s, 1) := dk_147 (dk_at dksX0_puts_2 19 rfl rfl)
theorem dX0_puts_56 : decode cX0_puts 56 = .ok (.sastore, 1) := dk_86 (dk_at dksX0_puts_2 20 rfl rfl)
theorem dX0_puts_57 : decode cX0_puts 57 = .ok (.goto 41, 3) := dk_167 0 41 (dk_at dksX0_puts_2 21 rfl rfl)
theorem dX0_puts_60 : decode cX0_puts 60 = .ok (.aload_n 0, 1) := dk_42 (dk_at dksX0_puts_3 0 rfl rfl)
theorem dX0_puts_61 : decode cX0_puts 61 = .ok (.checkcast 89, 3) := dk_192 0 89 (dk_at dksX0_puts_3 1 rfl rfl)
theorem dX0_puts_64 : decode cX0_puts 64 = .ok (.iload_n 1, 1) := dk_27 (dk_at dksX0_puts_3 4 rfl rfl)
theorem dX0_puts_65 : decode cX0_puts 65 = .ok (.lload_n 2, 1) := dk_32 (dk_at dksX0_puts_3 5 rfl rfl)
theorem dX0_puts_66 : decode cX0_puts 66 = .ok (.l2i, 1) := dk_136 (dk_at dksX0_puts_3 6 rfl rfl)
theorem dX0_puts_67 : decode cX0_puts 67 = .ok (.iastore, 1) := dk_79 (dk_at dksX0_puts_3 7 rfl rfl)
theorem dX0_puts_68 : decode cX0_puts 68 = .ok (.goto 30, 3) := dk_167 0 30 (dk_at dksX0_puts_3 8 rfl rfl)
theorem dX0_puts_71 : decode cX0_puts 71 = .ok (.aload_n 0, 1) := dk_42 (dk_at dksX0_puts_3 11 rfl rfl)
theorem dX0_puts_72 : decode cX0_puts 72 = .ok (.checkcast 90, 3) := dk_192 0 90 (dk_at dksX0_puts_3 12 rfl rfl)
theorem dX0_puts_75 : decode cX0_puts 75 = .ok (.iload_n 1, 1) := dk_27 (dk_at dksX0_puts_3 15 rfl rfl)
theorem dX0_puts_76 : decode cX0_puts 76 = .ok (.lload_n 2, 1) := dk_32 (dk_at dksX0_puts_3 16 rfl rfl)
theorem dX0_puts_77 : decode cX0_puts 77 = .ok (.lastore, 1) := dk_80 (dk_at dksX0_puts_3 17 rfl rfl)
theorem dX0_puts_78 : decode cX0_puts 78 = .ok (.goto 20, 3) := dk_167 0 20 (dk_at dksX0_puts_3 18 rfl rfl)
theorem dX0_puts_81 : decode cX0_puts 81 = .ok (.aload_n 0, 1) := dk_42 (dk_at dksX0_puts_3 21 rfl rfl)
theorem dX0_puts_82 : decode cX0_puts 82 = .ok (.checkcast 96, 3) := dk_192 0 96 (dk_at dksX0_puts_4 0 rfl rfl)
theorem dX0_puts_85 : decode cX0_puts 85 = .ok (.iload_n 1, 1) := dk_27 (dk_at dksX0_puts_4 3 rfl rfl)
theorem dX0_puts_86 : decode cX0_puts 86 = .ok (.lload_n 2, 1) := dk_32 (dk_at dksX0_puts_4 4 rfl rfl)
theorem dX0_puts_87 : decode cX0_puts 87 = .ok (.lconst 0, 1) := dk_9 (dk_at dksX0_puts_4 5 rfl rfl)
theorem dX0_puts_88 : decode cX0_puts 88 = .ok (.lcmp, 1) := dk_148 (dk_at dksX0_puts_4 6 rfl rfl)
theorem dX0_puts_89 : decode cX0_puts 89 = .ok (.ifCond .eq 7, 3) := dk_153 0 7 (dk_at dksX0_puts_4 7 rfl rfl)
theorem dX0_puts_92 : decode cX0_puts 92 = .ok (.iconst 1, 1) := dk_4 (dk_at dksX0_puts_4 10 rfl rfl)
theorem dX0_puts_93 : decode cX0_puts 93 = .ok (.goto 4, 3) := dk_167 0 4 (dk_at dksX0_puts_4 11 rfl rfl)
theorem dX0_puts_96 : decode cX0_puts 96 = .ok (.iconst 0, 1) := dk_3 (dk_at dksX0_puts_4 14 rfl rfl)
theorem dX0_puts_97 : decode cX0_puts 97 = .ok (.bastore, 1) := dk_84 (dk_at dksX0_puts_4 15 rfl rfl)
theorem dX0_puts_98 : decode cX0_puts 98 = .ok (.return_, 1) := dk_177 (dk_at dksX0_puts_4 16 rfl rfl)
abbrev cX0_sortOf : ByteArray := prog_1_method_13_code
def yX0_sortOf : MethodName := ⟨RX0, "sortOf", "(Ljava/lang/Object;)I"⟩
def dkwX0_sortOf_1 : List UInt8 := [153, 0, 5, 5, 172, 42, 193, 0, 90, 153, 0, 7, 6, 167, 0, 4, 7, 172]
abbrev dktX0_sortOf_1 : List UInt8 := dkwX0_sortOf_1 ++ []
def dkwX0_sortOf_0 : List UInt8 := [42, 193, 0, 85, 153, 0, 5, 3, 172, 42, 193, 0, 87, 153, 0, 5, 4, 172, 42, 193, 0, 89]
abbrev dktX0_sortOf_0 : List UInt8 := dkwX0_sortOf_0 ++ dktX0_sortOf_1
theorem dksX0_sortOf_0 : cX0_sortOf.data.toList.drop 0 = dktX0_sortOf_0 := by decide +kernel
theorem dksX0_sortOf_1 : cX0_sortOf.data.toList.drop 22 = dktX0_sortOf_1 := dk_seg dksX0_sortOf_0 22 rfl rfl
theorem dX0_sortOf_0 : decode cX0_sortOf 0 = .ok (.aload_n 0, 1) := dk_42 (dk_at dksX0_sortOf_0 0 rfl rfl)
theorem dX0_sortOf_1 : decode cX0_sortOf 1 = .ok (.instanceof 85, 3) := dk_193 0 85 (dk_at dksX0_sortOf_0 1 rfl rfl)
theorem dX0_sortOf_4 : decode cX0_sortOf 4 = .ok (.ifCond .eq 5, 3) := dk_153 0 5 (dk_at dksX0_sortOf_0 4 rfl rfl)
theorem dX0_sortOf_7 : decode cX0_sortOf 7 = .ok (.iconst 0, 1) := dk_3 (dk_at dksX0_sortOf_0 7 rfl rfl)
theorem dX0_sortOf_8 : decode cX0_sortOf 8 = .ok (.ireturn, 1) := dk_172 (dk_at dksX0_sortOf_0 8 rfl rfl)
theorem dX0_sortOf_9 : decode cX0_sortOf 9 = .ok (.aload_n 0, 1) := dk_42 (dk_at dksX0_sortOf_0 9 rfl rfl)
theorem dX0_sortOf_10 : decode cX0_sortOf 10 = .ok (.instanceof 87, 3) := dk_193 0 87 (dk_at dksX0_sortOf_0 10 rfl rfl)
theorem dX0_sortOf_13 : decode cX0_sortOf 13 = .ok (.ifCond .eq 5, 3) := dk_153 0 5 (dk_at dksX0_sortOf_0 13 rfl rfl)
theorem dX0_sortOf_16 : decode cX0_sortOf 16 = .ok (.iconst 1, 1) := dk_4 (dk_at dksX0_sortOf_0 16 rfl rfl)
theorem dX0_sortOf_17 : decode cX0_sortOf 17 = .ok (.ireturn, 1) := dk_172 (dk_at dksX0_sortOf_0 17 rfl rfl)
theorem dX0_sortOf_18 : decode cX0_sortOf 18 = .ok (.aload_n 0, 1) := dk_42 (dk_at dksX0_sortOf_0 18 rfl rfl)
theorem dX0_sortOf_19 : decode cX0_sortOf 19 = .ok (.instanceof 89, 3) := dk_193 0 89 (dk_at dksX0_sortOf_0 19 rfl rfl)
theorem dX0_sortOf_22 : decode cX0_sortOf 22 = .ok (.ifCond .eq 5, 3) := dk_153 0 5 (dk_at dksX0_sortOf_1 0 rfl rfl)
theorem dX0_sortOf_25 : decode cX0_sortOf 25 = .ok (.iconst 2, 1) := dk_5 (dk_at dksX0_sortOf_1 3 rfl rfl)
theorem dX0_sortOf_26 : decode cX0_sortOf 26 = .ok (.ireturn, 1) := dk_172 (dk_at dksX0_sortOf_1 4 rfl rfl)
theorem dX0_sortOf_27 : decode cX0_sortOf 27 = .ok (.aload_n 0, 1) := dk_42 (dk_at dksX0_sortOf_1 5 rfl rfl)
theorem dX0_sortOf_28 : decode cX0_sortOf 28 = .ok (.instanceof 90, 3) := dk_193 0 90 (dk_at dksX0_sortOf_1 6 rfl rfl)
theorem dX0_sortOf_31 : decode cX0_sortOf 31 = .ok (.ifCond .eq 7, 3) := dk_153 0 7 (dk_at dksX0_sortOf_1 9 rfl rfl)
theorem dX0_sortOf_34 : decode cX0_sortOf 34 = .ok (.iconst 3, 1) := dk_6 (dk_at dksX0_sortOf_1 12 rfl rfl)
theorem dX0_sortOf_35 : decode cX0_sortOf 35 = .ok (.goto 4, 3) := dk_167 0 4 (dk_at dksX0_sortOf_1 13 rfl rfl)
theorem dX0_sortOf_38 : decode cX0_sortOf 38 = .ok (.iconst 4, 1) := dk_7 (dk_at dksX0_sortOf_1 16 rfl rfl)
theorem dX0_sortOf_39 : decode cX0_sortOf 39 = .ok (.ireturn, 1) := dk_172 (dk_at dksX0_sortOf_1 17 rfl rfl)
abbrev cX0_copy : ByteArray := prog_1_method_19_code
def yX0_copy : MethodName := ⟨RX0, "copy", "(IIIII)I"⟩
def dkwX0_copy_4 : List UInt8 := [16, 153, 182, 0, 102, 172, 58, 8, 42, 16, 154, 182, 0, 102, 172]
abbrev dktX0_copy_4 : List UInt8 := dkwX0_copy_4 ++ []
def dkwX0_copy_3 : List UInt8 := [25, 7, 21, 4, 21, 5, 184, 0, 137, 21, 5, 172, 58, 8, 42, 16, 152, 182, 0, 102, 172, 58, 8, 42]
abbrev dktX0_copy_3 : List UInt8 := dkwX0_copy_3 ++ dktX0_copy_4
def dkwX0_copy_2 : List UInt8 := [193, 0, 116, 154, 0, 11, 25, 7, 193, 0, 116, 153, 0, 10, 42, 16, 153, 182, 0, 102, 172, 25, 6, 29]
abbrev dktX0_copy_2 : List UInt8 := dkwX0_copy_2 ++ dktX0_copy_3
def dkwX0_copy_1 : List UInt8 := [180, 0, 56, 27, 50, 180, 0, 110, 58, 6, 42, 180, 0, 56, 28, 50, 180, 0, 110, 58, 7, 25, 6]
abbrev dktX0_copy_1 : List UInt8 := dkwX0_copy_1 ++ dktX0_copy_2
def dkwX0_copy_0 : List UInt8 := [27, 184, 0, 98, 153, 0, 10, 28, 184, 0, 98, 154, 0, 10, 42, 16, 154, 182, 0, 102, 172, 42]
abbrev dktX0_copy_0 : List UInt8 := dkwX0_copy_0 ++ dktX0_copy_1
theorem dksX0_copy_0 : cX0_copy.data.toList.drop 0 = dktX0_copy_0 := by decide +kernel
theorem dksX0_copy_1 : cX0_copy.data.toList.drop 22 = dktX0_copy_1 := dk_seg dksX0_copy_0 22 rfl rfl
theorem dksX0_copy_2 : cX0_copy.data.toList.drop 45 = dktX0_copy_2 := dk_seg dksX0_copy_1 23 rfl rfl
theorem dksX0_copy_3 : cX0_copy.data.toList.drop 69 = dktX0_copy_3 := dk_seg dksX0_copy_2 24 rfl rfl
theorem dksX0_copy_4 : cX0_copy.data.toList.drop 93 = dktX0_copy_4 := dk_seg dksX0_copy_3 24 rfl rfl
theorem dX0_copy_0 : decode cX0_copy 0 = .ok (.iload_n 1, 1) := dk_27 (dk_at dksX0_copy_0 0 rfl rfl)
theorem dX0_copy_1 : decode cX0_copy 1 = .ok (.invokestatic 98, 3) := dk_184 0 98 (dk_at dksX0_copy_0 1 rfl rfl)
theorem dX0_copy_4 : decode cX0_copy 4 = .ok (.ifCond .eq 10, 3) := dk_153 0 10 (dk_at dksX0_copy_0 4 rfl rfl)
theorem dX0_copy_7 : decode cX0_copy 7 = .ok (.iload_n 2, 1) := dk_28 (dk_at dksX0_copy_0 7 rfl rfl)
theorem dX0_copy_8 : decode cX0_copy 8 = .ok (.invokestatic 98, 3) := dk_184 0 98 (dk_at dksX0_copy_0 8 rfl rfl)
theorem dX0_copy_11 : decode cX0_copy 11 = .ok (.ifCond .ne 10, 3) := dk_154 0 10 (dk_at dksX0_copy_0 11 rfl rfl)
theorem dX0_copy_14 : decode cX0_copy 14 = .ok (.aload_n 0, 1) := dk_42 (dk_at dksX0_copy_0 14 rfl rfl)
theorem dX0_copy_15 : decode cX0_copy 15 = .ok (.bipush (-102), 2) := dk_16 154 (dk_at dksX0_copy_0 15 rfl rfl)
theorem dX0_copy_17 : decode cX0_copy 17 = .ok (.invokevirtual 102, 3) := dk_182 0 102 (dk_at dksX0_copy_0 17 rfl rfl)
theorem dX0_copy_20 : decode cX0_copy 20 = .ok (.ireturn, 1) := dk_172 (dk_at dksX0_copy_0 20 rfl rfl)
theorem dX0_copy_21 : decode cX0_copy 21 = .ok (.aload_n 0, 1) := dk_42 (dk_at dksX0_copy_0 21 rfl rfl)
theorem dX0_copy_22 : decode cX0_copy 22 = .ok (.getfield 56, 3) := dk_180 0 56 (dk_at dksX0_copy_1 0 rfl rfl)
theorem dX0_copy_25 : decode cX0_copy 25 = .ok (.iload_n 1, 1) := dk_27 (dk_at dksX0_copy_1 3 rfl rfl)
theorem dX0_copy_26 : decode cX0_copy 26 = .ok (.aaload, 1) := dk_50 (dk_at dksX0_copy_1 4 rfl rfl)
theorem dX0_copy_27 : decode cX0_copy 27 = .ok (.getfield 110, 3) := dk_180 0 110 (dk_at dksX0_copy_1 5 rfl rfl)
theorem dX0_copy_30 : decode cX0_copy 30 = .ok (.astore 6, 2) := dk_58 6 (dk_at dksX0_copy_1 8 rfl rfl)
theorem dX0_copy_32 : decode cX0_copy 32 = .ok (.aload_n 0, 1) := dk_42 (dk_at dksX0_copy_1 10 rfl rfl)
theorem dX0_copy_33 : decode cX0_copy 33 = .ok (.getfield 56, 3) := dk_180 0 56 (dk_at dksX0_copy_1 11 rfl rfl)
theorem dX0_copy_36 : decode cX0_copy 36 = .ok (.iload_n 2, 1) := dk_28 (dk_at dksX0_copy_1 14 rfl rfl)
theorem dX0_copy_37 : decode cX0_copy 37 = .ok (.aaload, 1) := dk_50 (dk_at dksX0_copy_1 15 rfl rfl)
theorem dX0_copy_38 : decode cX0_copy 38 = .ok (.getfield 110, 3) := dk_180 0 110 (dk_at dksX0_copy_1 16 rfl rfl)
theorem dX0_copy_41 : decode cX0_copy 41 = .ok (.astore 7, 2) := dk_58 7 (dk_at dksX0_copy_1 19 rfl rfl)
theorem dX0_copy_43 : decode cX0_copy 43 = .ok (.aload 6, 2) := dk_25 6 (dk_at dksX0_copy_1 21 rfl rfl)
theorem dX0_copy_45 : decode cX0_copy 45 = .ok (.instanceof 116, 3) := dk_193 0 116 (dk_at dksX0_copy_2 0 rfl rfl)
theorem dX0_copy_48 : decode cX0_copy 48 = .ok (.ifCond .ne 11, 3) := dk_154 0 11 (dk_at dksX0_copy_2 3 rfl rfl)
theorem dX0_copy_51 : decode cX0_copy 51 = .ok (.aload 7, 2) := dk_25 7 (dk_at dksX0_copy_2 6 rfl rfl)
theorem dX0_copy_53 : decode cX0_copy 53 = .ok (.instanceof 116, 3) := dk_193 0 116 (dk_at dksX0_copy_2 8 rfl rfl)
theorem dX0_copy_56 : decode cX0_copy 56 = .ok (.ifCond .eq 10, 3) := dk_153 0 10 (dk_at dksX0_copy_2 11 rfl rfl)
theorem dX0_copy_59 : decode cX0_copy 59 = .ok (.aload_n 0, 1) := dk_42 (dk_at dksX0_copy_2 14 rfl rfl)
theorem dX0_copy_60 : decode cX0_copy 60 = .ok (.bipush (-103), 2) := dk_16 153 (dk_at dksX0_copy_2 15 rfl rfl)
theorem dX0_copy_62 : decode cX0_copy 62 = .ok (.invokevirtual 102, 3) := dk_182 0 102 (dk_at dksX0_copy_2 17 rfl rfl)
theorem dX0_copy_65 : decode cX0_copy 65 = .ok (.ireturn, 1) := dk_172 (dk_at dksX0_copy_2 20 rfl rfl)
theorem dX0_copy_66 : decode cX0_copy 66 = .ok (.aload 6, 2) := dk_25 6 (dk_at dksX0_copy_2 21 rfl rfl)
theorem dX0_copy_68 : decode cX0_copy 68 = .ok (.iload_n 3, 1) := dk_29 (dk_at dksX0_copy_2 23 rfl rfl)
theorem dX0_copy_69 : decode cX0_copy 69 = .ok (.aload 7, 2) := dk_25 7 (dk_at dksX0_copy_3 0 rfl rfl)
theorem dX0_copy_71 : decode cX0_copy 71 = .ok (.iload 4, 2) := dk_21 4 (dk_at dksX0_copy_3 2 rfl rfl)
theorem dX0_copy_73 : decode cX0_copy 73 = .ok (.iload 5, 2) := dk_21 5 (dk_at dksX0_copy_3 4 rfl rfl)
theorem dX0_copy_75 : decode cX0_copy 75 = .ok (.invokestatic 137, 3) := dk_184 0 137 (dk_at dksX0_copy_3 6 rfl rfl)
theorem dX0_copy_78 : decode cX0_copy 78 = .ok (.iload 5, 2) := dk_21 5 (dk_at dksX0_copy_3 9 rfl rfl)
theorem dX0_copy_80 : decode cX0_copy 80 = .ok (.ireturn, 1) := dk_172 (dk_at dksX0_copy_3 11 rfl rfl)
theorem dX0_copy_81 : decode cX0_copy 81 = .ok (.astore 8, 2) := dk_58 8 (dk_at dksX0_copy_3 12 rfl rfl)
theorem dX0_copy_83 : decode cX0_copy 83 = .ok (.aload_n 0, 1) := dk_42 (dk_at dksX0_copy_3 14 rfl rfl)
theorem dX0_copy_84 : decode cX0_copy 84 = .ok (.bipush (-104), 2) := dk_16 152 (dk_at dksX0_copy_3 15 rfl rfl)
theorem dX0_copy_86 : decode cX0_copy 86 = .ok (.invokevirtual 102, 3) := dk_182 0 102 (dk_at dksX0_copy_3 17 rfl rfl)
theorem dX0_copy_89 : decode cX0_copy 89 = .ok (.ireturn, 1) := dk_172 (dk_at dksX0_copy_3 20 rfl rfl)
theorem dX0_copy_90 : decode cX0_copy 90 = .ok (.astore 8, 2) := dk_58 8 (dk_at dksX0_copy_3 21 rfl rfl)
theorem dX0_copy_92 : decode cX0_copy 92 = .ok (.aload_n 0, 1) := dk_42 (dk_at dksX0_copy_3 23 rfl rfl)
theorem dX0_copy_93 : decode cX0_copy 93 = .ok (.bipush (-103), 2) := dk_16 153 (dk_at dksX0_copy_4 0 rfl rfl)
theorem dX0_copy_95 : decode cX0_copy 95 = .ok (.invokevirtual 102, 3) := dk_182 0 102 (dk_at dksX0_copy_4 2 rfl rfl)
theorem dX0_copy_98 : decode cX0_copy 98 = .ok (.ireturn, 1) := dk_172 (dk_at dksX0_copy_4 5 rfl rfl)
theorem dX0_copy_99 : decode cX0_copy 99 = .ok (.astore 8, 2) := dk_58 8 (dk_at dksX0_copy_4 6 rfl rfl)
theorem dX0_copy_101 : decode cX0_copy 101 = .ok (.aload_n 0, 1) := dk_42 (dk_at dksX0_copy_4 8 rfl rfl)
theorem dX0_copy_102 : decode cX0_copy 102 = .ok (.bipush (-102), 2) := dk_16 154 (dk_at dksX0_copy_4 9 rfl rfl)
theorem dX0_copy_104 : decode cX0_copy 104 = .ok (.invokevirtual 102, 3) := dk_182 0 102 (dk_at dksX0_copy_4 11 rfl rfl)
theorem dX0_copy_107 : decode cX0_copy 107 = .ok (.ireturn, 1) := dk_172 (dk_at dksX0_copy_4 14 rfl rfl)
abbrev cX0_element : ByteArray := prog_1_method_20_code
def yX0_element : MethodName := ⟨RX0, "element", "(II)J"⟩
def dkwX0_element_1 : List UInt8 := [173]
abbrev dktX0_element_1 : List UInt8 := dkwX0_element_1 ++ []
def dkwX0_element_0 : List UInt8 := [27, 184, 0, 98, 154, 0, 5, 9, 173, 42, 27, 182, 0, 123, 28, 184, 0, 149, 173, 78, 9, 173, 78, 9]
abbrev dktX0_element_0 : List UInt8 := dkwX0_element_0 ++ dktX0_element_1
theorem dksX0_element_0 : cX0_element.data.toList.drop 0 = dktX0_element_0 := by decide +kernel
theorem dksX0_element_1 : cX0_element.data.toList.drop 24 = dktX0_element_1 := dk_seg dksX0_element_0 24 rfl rfl
theorem dX0_element_0 : decode cX0_element 0 = .ok (.iload_n 1, 1) := dk_27 (dk_at dksX0_element_0 0 rfl rfl)
theorem dX0_element_1 : decode cX0_element 1 = .ok (.invokestatic 98, 3) := dk_184 0 98 (dk_at dksX0_element_0 1 rfl rfl)
theorem dX0_element_4 : decode cX0_element 4 = .ok (.ifCond .ne 5, 3) := dk_154 0 5 (dk_at dksX0_element_0 4 rfl rfl)
theorem dX0_element_7 : decode cX0_element 7 = .ok (.lconst 0, 1) := dk_9 (dk_at dksX0_element_0 7 rfl rfl)
theorem dX0_element_8 : decode cX0_element 8 = .ok (.lreturn, 1) := dk_173 (dk_at dksX0_element_0 8 rfl rfl)
theorem dX0_element_9 : decode cX0_element 9 = .ok (.aload_n 0, 1) := dk_42 (dk_at dksX0_element_0 9 rfl rfl)
theorem dX0_element_10 : decode cX0_element 10 = .ok (.iload_n 1, 1) := dk_27 (dk_at dksX0_element_0 10 rfl rfl)
theorem dX0_element_11 : decode cX0_element 11 = .ok (.invokevirtual 123, 3) := dk_182 0 123 (dk_at dksX0_element_0 11 rfl rfl)
theorem dX0_element_14 : decode cX0_element 14 = .ok (.iload_n 2, 1) := dk_28 (dk_at dksX0_element_0 14 rfl rfl)
theorem dX0_element_15 : decode cX0_element 15 = .ok (.invokestatic 149, 3) := dk_184 0 149 (dk_at dksX0_element_0 15 rfl rfl)
theorem dX0_element_18 : decode cX0_element 18 = .ok (.lreturn, 1) := dk_173 (dk_at dksX0_element_0 18 rfl rfl)
theorem dX0_element_19 : decode cX0_element 19 = .ok (.astore_n 3, 1) := dk_78 (dk_at dksX0_element_0 19 rfl rfl)
theorem dX0_element_20 : decode cX0_element 20 = .ok (.lconst 0, 1) := dk_9 (dk_at dksX0_element_0 20 rfl rfl)
theorem dX0_element_21 : decode cX0_element 21 = .ok (.lreturn, 1) := dk_173 (dk_at dksX0_element_0 21 rfl rfl)
theorem dX0_element_22 : decode cX0_element 22 = .ok (.astore_n 3, 1) := dk_78 (dk_at dksX0_element_0 22 rfl rfl)
theorem dX0_element_23 : decode cX0_element 23 = .ok (.lconst 0, 1) := dk_9 (dk_at dksX0_element_0 23 rfl rfl)
theorem dX0_element_24 : decode cX0_element 24 = .ok (.lreturn, 1) := dk_173 (dk_at dksX0_element_1 0 rfl rfl)
abbrev cX0_elementOf : ByteArray := prog_1_method_14_code
def yX0_elementOf : MethodName := ⟨RX0, "elementOf", "(Ljava/lang/Object;I)J"⟩
def dkwX0_elementOf_3 : List UInt8 := [42, 192, 0, 90, 27, 47, 173, 42, 192, 0, 96, 27, 51, 153, 0, 7, 10, 167, 0, 4, 9, 173]
abbrev dktX0_elementOf_3 : List UInt8 := dkwX0_elementOf_3 ++ []
def dkwX0_elementOf_2 : List UInt8 := [42, 192, 0, 85, 27, 51, 133, 173, 42, 192, 0, 87, 27, 53, 133, 173, 42, 192, 0, 89, 27, 46, 133, 173]
abbrev dktX0_elementOf_2 : List UInt8 := dkwX0_elementOf_2 ++ dktX0_elementOf_3
def dkwX0_elementOf_1 : List UInt8 := [170, 0, 0, 0, 0, 0, 0, 63, 0, 0, 0, 0, 0, 0, 0, 3, 0, 0, 0, 32, 0, 0, 0, 40, 0, 0, 0, 48, 0, 0, 0, 56]
abbrev dktX0_elementOf_1 : List UInt8 := dkwX0_elementOf_1 ++ dktX0_elementOf_2
def dkwX0_elementOf_0 : List UInt8 := [42, 184, 0, 92]
abbrev dktX0_elementOf_0 : List UInt8 := dkwX0_elementOf_0 ++ dktX0_elementOf_1
theorem dksX0_elementOf_0 : cX0_elementOf.data.toList.drop 0 = dktX0_elementOf_0 := by decide +kernel
theorem dksX0_elementOf_1 : cX0_elementOf.data.toList.drop 4 = dktX0_elementOf_1 := dk_seg dksX0_elementOf_0 4 rfl rfl
theorem dksX0_elementOf_2 : cX0_elementOf.data.toList.drop 36 = dktX0_elementOf_2 := dk_seg dksX0_elementOf_1 32 rfl rfl
theorem dksX0_elementOf_3 : cX0_elementOf.data.toList.drop 60 = dktX0_elementOf_3 := dk_seg dksX0_elementOf_2 24 rfl rfl
theorem dX0_elementOf_0 : decode cX0_elementOf 0 = .ok (.aload_n 0, 1) := dk_42 (dk_at dksX0_elementOf_0 0 rfl rfl)
theorem dX0_elementOf_1 : decode cX0_elementOf 1 = .ok (.invokestatic 92, 3) := dk_184 0 92 (dk_at dksX0_elementOf_0 1 rfl rfl)
theorem dX0_elementOf_4 : decode cX0_elementOf 4 = .ok (.tableswitch 63 0 3 #[32, 40, 48, 56], 32) := by decide +kernel
theorem dX0_elementOf_36 : decode cX0_elementOf 36 = .ok (.aload_n 0, 1) := dk_42 (dk_at dksX0_elementOf_2 0 rfl rfl)
theorem dX0_elementOf_37 : decode cX0_elementOf 37 = .ok (.checkcast 85, 3) := dk_192 0 85 (dk_at dksX0_elementOf_2 1 rfl rfl)
theorem dX0_elementOf_40 : decode cX0_elementOf 40 = .ok (.iload_n 1, 1) := dk_27 (dk_at dksX0_elementOf_2 4 rfl rfl)
theorem dX0_elementOf_41 : decode cX0_elementOf 41 = .ok (.baload, 1) := dk_51 (dk_at dksX0_elementOf_2 5 rfl rfl)
theorem dX0_elementOf_42 : decode cX0_elementOf 42 = .ok (.i2l, 1) := dk_133 (dk_at dksX0_elementOf_2 6 rfl rfl)
theorem dX0_elementOf_43 : decode cX0_elementOf 43 = .ok (.lreturn, 1) := dk_173 (dk_at dksX0_elementOf_2 7 rfl rfl)
theorem dX0_elementOf_44 : decode cX0_elementOf 44 = .ok (.aload_n 0, 1) := dk_42 (dk_at dksX0_elementOf_2 8 rfl rfl)
theorem dX0_elementOf_45 : decode cX0_elementOf 45 = .ok (.checkcast 87, 3) := dk_192 0 87 (dk_at dksX0_elementOf_2 9 rfl rfl)
theorem dX0_elementOf_48 : decode cX0_elementOf 48 = .ok (.iload_n 1, 1) := dk_27 (dk_at dksX0_elementOf_2 12 rfl rfl)
theorem dX0_elementOf_49 : decode cX0_elementOf 49 = .ok (.saload, 1) := dk_53 (dk_at dksX0_elementOf_2 13 rfl rfl)
theorem dX0_elementOf_50 : decode cX0_elementOf 50 = .ok (.i2l, 1) := dk_133 (dk_at dksX0_elementOf_2 14 rfl rfl)
theorem dX0_elementOf_51 : decode cX0_elementOf 51 = .ok (.lreturn, 1) := dk_173 (dk_at dksX0_elementOf_2 15 rfl rfl)
theorem dX0_elementOf_52 : decode cX0_elementOf 52 = .ok (.aload_n 0, 1) := dk_42 (dk_at dksX0_elementOf_2 16 rfl rfl)
theorem dX0_elementOf_53 : decode cX0_elementOf 53 = .ok (.checkcast 89, 3) := dk_192 0 89 (dk_at dksX0_elementOf_2 17 rfl rfl)
theorem dX0_elementOf_56 : decode cX0_elementOf 56 = .ok (.iload_n 1, 1) := dk_27 (dk_at dksX0_elementOf_2 20 rfl rfl)
theorem dX0_elementOf_57 : decode cX0_elementOf 57 = .ok (.iaload, 1) := dk_46 (dk_at dksX0_elementOf_2 21 rfl rfl)
theorem dX0_elementOf_58 : decode cX0_elementOf 58 = .ok (.i2l, 1) := dk_133 (dk_at dksX0_elementOf_2 22 rfl rfl)
theorem dX0_elementOf_59 : decode cX0_elementOf 59 = .ok (.lreturn, 1) := dk_173 (dk_at dksX0_elementOf_2 23 rfl rfl)
theorem dX0_elementOf_60 : decode cX0_elementOf 60 = .ok (.aload_n 0, 1) := dk_42 (dk_at dksX0_elementOf_3 0 rfl rfl)
theorem dX0_elementOf_61 : decode cX0_elementOf 61 = .ok (.checkcast 90, 3) := dk_192 0 90 (dk_at dksX0_elementOf_3 1 rfl rfl)
theorem dX0_elementOf_64 : decode cX0_elementOf 64 = .ok (.iload_n 1, 1) := dk_27 (dk_at dksX0_elementOf_3 4 rfl rfl)
theorem dX0_elementOf_65 : decode cX0_elementOf 65 = .ok (.laload, 1) := dk_47 (dk_at dksX0_elementOf_3 5 rfl rfl)
theorem dX0_elementOf_66 : decode cX0_elementOf 66 = .ok (.lreturn, 1) := dk_173 (dk_at dksX0_elementOf_3 6 rfl rfl)
theorem dX0_elementOf_67 : decode cX0_elementOf 67 = .ok (.aload_n 0, 1) := dk_42 (dk_at dksX0_elementOf_3 7 rfl rfl)
theorem dX0_elementOf_68 : decode cX0_elementOf 68 = .ok (.checkcast 96, 3) := dk_192 0 96 (dk_at dksX0_elementOf_3 8 rfl rfl)
theorem dX0_elementOf_71 : decode cX0_elementOf 71 = .ok (.iload_n 1, 1) := dk_27 (dk_at dksX0_elementOf_3 11 rfl rfl)
theorem dX0_elementOf_72 : decode cX0_elementOf 72 = .ok (.baload, 1) := dk_51 (dk_at dksX0_elementOf_3 12 rfl rfl)
theorem dX0_elementOf_73 : decode cX0_elementOf 73 = .ok (.ifCond .eq 7, 3) := dk_153 0 7 (dk_at dksX0_elementOf_3 13 rfl rfl)
theorem dX0_elementOf_76 : decode cX0_elementOf 76 = .ok (.lconst 1, 1) := dk_10 (dk_at dksX0_elementOf_3 16 rfl rfl)
theorem dX0_elementOf_77 : decode cX0_elementOf 77 = .ok (.goto 4, 3) := dk_167 0 4 (dk_at dksX0_elementOf_3 17 rfl rfl)
theorem dX0_elementOf_80 : decode cX0_elementOf 80 = .ok (.lconst 0, 1) := dk_9 (dk_at dksX0_elementOf_3 20 rfl rfl)
theorem dX0_elementOf_81 : decode cX0_elementOf 81 = .ok (.lreturn, 1) := dk_173 (dk_at dksX0_elementOf_3 21 rfl rfl)
abbrev cX0_holds : ByteArray := prog_1_method_21_code
def yX0_holds : MethodName := ⟨RX0, "holds", "(I)I"⟩
def dkwX0_holds_2 : List UInt8 := [180, 0, 153, 96, 167, 0, 7, 44, 184, 0, 92, 172]
abbrev dktX0_holds_2 : List UInt8 := dkwX0_holds_2 ++ []
def dkwX0_holds_1 : List UInt8 := [180, 0, 56, 27, 50, 180, 0, 110, 77, 44, 193, 0, 116, 153, 0, 16, 16, 10, 44, 192, 0, 116]
abbrev dktX0_holds_1 : List UInt8 := dkwX0_holds_1 ++ dktX0_holds_2
def dkwX0_holds_0 : List UInt8 := [27, 184, 0, 98, 153, 0, 15, 42, 180, 0, 56, 27, 50, 180, 0, 110, 199, 0, 5, 2, 172, 42]
abbrev dktX0_holds_0 : List UInt8 := dkwX0_holds_0 ++ dktX0_holds_1
theorem dksX0_holds_0 : cX0_holds.data.toList.drop 0 = dktX0_holds_0 := by decide +kernel
theorem dksX0_holds_1 : cX0_holds.data.toList.drop 22 = dktX0_holds_1 := dk_seg dksX0_holds_0 22 rfl rfl
theorem dksX0_holds_2 : cX0_holds.data.toList.drop 44 = dktX0_holds_2 := dk_seg dksX0_holds_1 22 rfl rfl
theorem dX0_holds_0 : decode cX0_holds 0 = .ok (.iload_n 1, 1) := dk_27 (dk_at dksX0_holds_0 0 rfl rfl)
theorem dX0_holds_1 : decode cX0_holds 1 = .ok (.invokestatic 98, 3) := dk_184 0 98 (dk_at dksX0_holds_0 1 rfl rfl)
theorem dX0_holds_4 : decode cX0_holds 4 = .ok (.ifCond .eq 15, 3) := dk_153 0 15 (dk_at dksX0_holds_0 4 rfl rfl)
theorem dX0_holds_7 : decode cX0_holds 7 = .ok (.aload_n 0, 1) := dk_42 (dk_at dksX0_holds_0 7 rfl rfl)
theorem dX0_holds_8 : decode cX0_holds 8 = .ok (.getfield 56, 3) := dk_180 0 56 (dk_at dksX0_holds_0 8 rfl rfl)
theorem dX0_holds_11 : decode cX0_holds 11 = .ok (.iload_n 1, 1) := dk_27 (dk_at dksX0_holds_0 11 rfl rfl)
theorem dX0_holds_12 : decode cX0_holds 12 = .ok (.aaload, 1) := dk_50 (dk_at dksX0_holds_0 12 rfl rfl)
theorem dX0_holds_13 : decode cX0_holds 13 = .ok (.getfield 110, 3) := dk_180 0 110 (dk_at dksX0_holds_0 13 rfl rfl)
theorem dX0_holds_16 : decode cX0_holds 16 = .ok (.ifnonnull 5, 3) := dk_199 0 5 (dk_at dksX0_holds_0 16 rfl rfl)
theorem dX0_holds_19 : decode cX0_holds 19 = .ok (.iconst (-1), 1) := dk_2 (dk_at dksX0_holds_0 19 rfl rfl)
theorem dX0_holds_20 : decode cX0_holds 20 = .ok (.ireturn, 1) := dk_172 (dk_at dksX0_holds_0 20 rfl rfl)
theorem dX0_holds_21 : decode cX0_holds 21 = .ok (.aload_n 0, 1) := dk_42 (dk_at dksX0_holds_0 21 rfl rfl)
theorem dX0_holds_22 : decode cX0_holds 22 = .ok (.getfield 56, 3) := dk_180 0 56 (dk_at dksX0_holds_1 0 rfl rfl)
theorem dX0_holds_25 : decode cX0_holds 25 = .ok (.iload_n 1, 1) := dk_27 (dk_at dksX0_holds_1 3 rfl rfl)
theorem dX0_holds_26 : decode cX0_holds 26 = .ok (.aaload, 1) := dk_50 (dk_at dksX0_holds_1 4 rfl rfl)
theorem dX0_holds_27 : decode cX0_holds 27 = .ok (.getfield 110, 3) := dk_180 0 110 (dk_at dksX0_holds_1 5 rfl rfl)
theorem dX0_holds_30 : decode cX0_holds 30 = .ok (.astore_n 2, 1) := dk_77 (dk_at dksX0_holds_1 8 rfl rfl)
theorem dX0_holds_31 : decode cX0_holds 31 = .ok (.aload_n 2, 1) := dk_44 (dk_at dksX0_holds_1 9 rfl rfl)
theorem dX0_holds_32 : decode cX0_holds 32 = .ok (.instanceof 116, 3) := dk_193 0 116 (dk_at dksX0_holds_1 10 rfl rfl)
theorem dX0_holds_35 : decode cX0_holds 35 = .ok (.ifCond .eq 16, 3) := dk_153 0 16 (dk_at dksX0_holds_1 13 rfl rfl)
theorem dX0_holds_38 : decode cX0_holds 38 = .ok (.bipush 10, 2) := dk_16 10 (dk_at dksX0_holds_1 16 rfl rfl)
theorem dX0_holds_40 : decode cX0_holds 40 = .ok (.aload_n 2, 1) := dk_44 (dk_at dksX0_holds_1 18 rfl rfl)
theorem dX0_holds_41 : decode cX0_holds 41 = .ok (.checkcast 116, 3) := dk_192 0 116 (dk_at dksX0_holds_1 19 rfl rfl)
theorem dX0_holds_44 : decode cX0_holds 44 = .ok (.getfield 153, 3) := dk_180 0 153 (dk_at dksX0_holds_2 0 rfl rfl)
theorem dX0_holds_47 : decode cX0_holds 47 = .ok (.iadd, 1) := dk_96 (dk_at dksX0_holds_2 3 rfl rfl)
theorem dX0_holds_48 : decode cX0_holds 48 = .ok (.goto 7, 3) := dk_167 0 7 (dk_at dksX0_holds_2 4 rfl rfl)
theorem dX0_holds_51 : decode cX0_holds 51 = .ok (.aload_n 2, 1) := dk_44 (dk_at dksX0_holds_2 7 rfl rfl)
theorem dX0_holds_52 : decode cX0_holds 52 = .ok (.invokestatic 92, 3) := dk_184 0 92 (dk_at dksX0_holds_2 8 rfl rfl)
theorem dX0_holds_55 : decode cX0_holds 55 = .ok (.ireturn, 1) := dk_172 (dk_at dksX0_holds_2 11 rfl rfl)
abbrev cX0_show : ByteArray := prog_1_method_22_code
def yX0_show : MethodName := ⟨RX0, "show", "(II)I"⟩
def dkwX0_show_2 : List UInt8 := [180, 0, 82, 28, 182, 0, 159, 181, 0, 110, 4, 172]
abbrev dktX0_show_2 : List UInt8 := dkwX0_show_2 ++ []
def dkwX0_show_1 : List UInt8 := [182, 0, 102, 172, 42, 180, 0, 56, 27, 50, 28, 2, 160, 0, 7, 1, 167, 0, 14, 42, 180, 0, 39]
abbrev dktX0_show_1 : List UInt8 := dkwX0_show_1 ++ dktX0_show_2
def dkwX0_show_0 : List UInt8 := [27, 184, 0, 98, 153, 0, 16, 28, 2, 159, 0, 18, 42, 28, 182, 0, 156, 154, 0, 10, 42, 16, 154]
abbrev dktX0_show_0 : List UInt8 := dkwX0_show_0 ++ dktX0_show_1
theorem dksX0_show_0 : cX0_show.data.toList.drop 0 = dktX0_show_0 := by decide +kernel
theorem dksX0_show_1 : cX0_show.data.toList.drop 23 = dktX0_show_1 := dk_seg dksX0_show_0 23 rfl rfl
theorem dksX0_show_2 : cX0_show.data.toList.drop 46 = dktX0_show_2 := dk_seg dksX0_show_1 23 rfl rfl
theorem dX0_show_0 : decode cX0_show 0 = .ok (.iload_n 1, 1) := dk_27 (dk_at dksX0_show_0 0 rfl rfl)
theorem dX0_show_1 : decode cX0_show 1 = .ok (.invokestatic 98, 3) := dk_184 0 98 (dk_at dksX0_show_0 1 rfl rfl)
theorem dX0_show_4 : decode cX0_show 4 = .ok (.ifCond .eq 16, 3) := dk_153 0 16 (dk_at dksX0_show_0 4 rfl rfl)
theorem dX0_show_7 : decode cX0_show 7 = .ok (.iload_n 2, 1) := dk_28 (dk_at dksX0_show_0 7 rfl rfl)
theorem dX0_show_8 : decode cX0_show 8 = .ok (.iconst (-1), 1) := dk_2 (dk_at dksX0_show_0 8 rfl rfl)
theorem dX0_show_9 : decode cX0_show 9 = .ok (.if_icmp .eq 18, 3) := dk_159 0 18 (dk_at dksX0_show_0 9 rfl rfl)
theorem dX0_show_12 : decode cX0_show 12 = .ok (.aload_n 0, 1) := dk_42 (dk_at dksX0_show_0 12 rfl rfl)
theorem dX0_show_13 : decode cX0_show 13 = .ok (.iload_n 2, 1) := dk_28 (dk_at dksX0_show_0 13 rfl rfl)
theorem dX0_show_14 : decode cX0_show 14 = .ok (.invokevirtual 156, 3) := dk_182 0 156 (dk_at dksX0_show_0 14 rfl rfl)
theorem dX0_show_17 : decode cX0_show 17 = .ok (.ifCond .ne 10, 3) := dk_154 0 10 (dk_at dksX0_show_0 17 rfl rfl)
theorem dX0_show_20 : decode cX0_show 20 = .ok (.aload_n 0, 1) := dk_42 (dk_at dksX0_show_0 20 rfl rfl)
theorem dX0_show_21 : decode cX0_show 21 = .ok (.bipush (-102), 2) := dk_16 154 (dk_at dksX0_show_0 21 rfl rfl)
theorem dX0_show_23 : decode cX0_show 23 = .ok (.invokevirtual 102, 3) := dk_182 0 102 (dk_at dksX0_show_1 0 rfl rfl)
theorem dX0_show_26 : decode cX0_show 26 = .ok (.ireturn, 1) := dk_172 (dk_at dksX0_show_1 3 rfl rfl)
theorem dX0_show_27 : decode cX0_show 27 = .ok (.aload_n 0, 1) := dk_42 (dk_at dksX0_show_1 4 rfl rfl)
theorem dX0_show_28 : decode cX0_show 28 = .ok (.getfield 56, 3) := dk_180 0 56 (dk_at dksX0_show_1 5 rfl rfl)
theorem dX0_show_31 : decode cX0_show 31 = .ok (.iload_n 1, 1) := dk_27 (dk_at dksX0_show_1 8 rfl rfl)
theorem dX0_show_32 : decode cX0_show 32 = .ok (.aaload, 1) := dk_50 (dk_at dksX0_show_1 9 rfl rfl)
theorem dX0_show_33 : decode cX0_show 33 = .ok (.iload_n 2, 1) := dk_28 (dk_at dksX0_show_1 10 rfl rfl)
theorem dX0_show_34 : decode cX0_show 34 = .ok (.iconst (-1), 1) := dk_2 (dk_at dksX0_show_1 11 rfl rfl)
theorem dX0_show_35 : decode cX0_show 35 = .ok (.if_icmp .ne 7, 3) := dk_160 0 7 (dk_at dksX0_show_1 12 rfl rfl)
theorem dX0_show_38 : decode cX0_show 38 = .ok (.aconst_null, 1) := dk_1 (dk_at dksX0_show_1 15 rfl rfl)
theorem dX0_show_39 : decode cX0_show 39 = .ok (.goto 14, 3) := dk_167 0 14 (dk_at dksX0_show_1 16 rfl rfl)
theorem dX0_show_42 : decode cX0_show 42 = .ok (.aload_n 0, 1) := dk_42 (dk_at dksX0_show_1 19 rfl rfl)
theorem dX0_show_43 : decode cX0_show 43 = .ok (.getfield 39, 3) := dk_180 0 39 (dk_at dksX0_show_1 20 rfl rfl)
theorem dX0_show_46 : decode cX0_show 46 = .ok (.getfield 82, 3) := dk_180 0 82 (dk_at dksX0_show_2 0 rfl rfl)
theorem dX0_show_49 : decode cX0_show 49 = .ok (.iload_n 2, 1) := dk_28 (dk_at dksX0_show_2 3 rfl rfl)
theorem dX0_show_50 : decode cX0_show 50 = .ok (.invokevirtual 159, 3) := dk_182 0 159 (dk_at dksX0_show_2 4 rfl rfl)
theorem dX0_show_53 : decode cX0_show 53 = .ok (.putfield 110, 3) := dk_181 0 110 (dk_at dksX0_show_2 7 rfl rfl)
theorem dX0_show_56 : decode cX0_show 56 = .ok (.iconst 1, 1) := dk_4 (dk_at dksX0_show_2 10 rfl rfl)
theorem dX0_show_57 : decode cX0_show 57 = .ok (.ireturn, 1) := dk_172 (dk_at dksX0_show_2 11 rfl rfl)
abbrev cX0_isShip : ByteArray := prog_1_method_10_code
def yX0_isShip : MethodName := ⟨RX0, "isShip", "(I)Z"⟩
def dkwX0_isShip_0 : List UInt8 := [27, 3, 42, 180, 0, 39, 180, 0, 82, 182, 0, 76, 4, 100, 184, 0, 68, 172]
abbrev dktX0_isShip_0 : List UInt8 := dkwX0_isShip_0 ++ []
theorem dksX0_isShip_0 : cX0_isShip.data.toList.drop 0 = dktX0_isShip_0 := by decide +kernel
theorem dX0_isShip_0 : decode cX0_isShip 0 = .ok (.iload_n 1, 1) := dk_27 (dk_at dksX0_isShip_0 0 rfl rfl)
theorem dX0_isShip_1 : decode cX0_isShip 1 = .ok (.iconst 0, 1) := dk_3 (dk_at dksX0_isShip_0 1 rfl rfl)
theorem dX0_isShip_2 : decode cX0_isShip 2 = .ok (.aload_n 0, 1) := dk_42 (dk_at dksX0_isShip_0 2 rfl rfl)
theorem dX0_isShip_3 : decode cX0_isShip 3 = .ok (.getfield 39, 3) := dk_180 0 39 (dk_at dksX0_isShip_0 3 rfl rfl)
theorem dX0_isShip_6 : decode cX0_isShip 6 = .ok (.getfield 82, 3) := dk_180 0 82 (dk_at dksX0_isShip_0 6 rfl rfl)
theorem dX0_isShip_9 : decode cX0_isShip 9 = .ok (.invokevirtual 76, 3) := dk_182 0 76 (dk_at dksX0_isShip_0 9 rfl rfl)
theorem dX0_isShip_12 : decode cX0_isShip 12 = .ok (.iconst 1, 1) := dk_4 (dk_at dksX0_isShip_0 12 rfl rfl)
theorem dX0_isShip_13 : decode cX0_isShip 13 = .ok (.isub, 1) := dk_100 (dk_at dksX0_isShip_0 13 rfl rfl)
theorem dX0_isShip_14 : decode cX0_isShip 14 = .ok (.invokestatic 68, 3) := dk_184 0 68 (dk_at dksX0_isShip_0 14 rfl rfl)
theorem dX0_isShip_17 : decode cX0_isShip 17 = .ok (.ireturn, 1) := dk_172 (dk_at dksX0_isShip_0 17 rfl rfl)
abbrev cX0_says : ByteArray := prog_1_method_23_code
def yX0_says : MethodName := ⟨RX0, "says", "(II)I"⟩
def dkwX0_says_6 : List UInt8 := [192, 0, 16, 182, 0, 183, 172, 58, 4, 42, 16, 153, 182, 0, 102, 172]
abbrev dktX0_says_6 : List UInt8 := dkwX0_says_6 ++ []
def dkwX0_says_5 : List UInt8 := [167, 0, 30, 45, 192, 0, 10, 180, 0, 179, 167, 0, 20, 45, 192, 0, 13, 180, 0, 180, 167, 0, 10, 45]
abbrev dktX0_says_5 : List UInt8 := dkwX0_says_5 ++ dktX0_says_6
def dkwX0_says_4 : List UInt8 := [182, 0, 172, 167, 0, 50, 45, 192, 0, 1, 180, 0, 175, 167, 0, 40, 45, 192, 0, 7, 180, 0, 178]
abbrev dktX0_says_4 : List UInt8 := dkwX0_says_4 ++ dktX0_says_5
def dkwX0_says_3 : List UInt8 := [45, 192, 0, 116, 180, 0, 162, 167, 0, 70, 45, 192, 0, 165, 182, 0, 167, 167, 0, 60, 45, 192, 0, 170]
abbrev dktX0_says_3 : List UInt8 := dkwX0_says_3 ++ dktX0_says_4
def dkwX0_says_2 : List UInt8 := [170, 0, 0, 0, 0, 112, 0, 0, 0, 0, 0, 0, 0, 6, 0, 0, 0, 42, 0, 0, 0, 52, 0, 0, 0, 62, 0, 0, 0, 72, 0, 0, 0, 82, 0, 0, 0, 92, 0, 0, 0, 102]
abbrev dktX0_says_2 : List UInt8 := dkwX0_says_2 ++ dktX0_says_3
def dkwX0_says_1 : List UInt8 := [42, 180, 0, 56, 27, 50, 180, 0, 110, 78, 45, 199, 0, 10, 42, 16, 152, 182, 0, 102, 172, 28]
abbrev dktX0_says_1 : List UInt8 := dkwX0_says_1 ++ dktX0_says_2
def dkwX0_says_0 : List UInt8 := [27, 184, 0, 98, 153, 0, 13, 28, 3, 16, 7, 184, 0, 68, 154, 0, 10, 42, 16, 154, 182, 0, 102, 172]
abbrev dktX0_says_0 : List UInt8 := dkwX0_says_0 ++ dktX0_says_1
theorem dksX0_says_0 : cX0_says.data.toList.drop 0 = dktX0_says_0 := by decide +kernel
theorem dksX0_says_1 : cX0_says.data.toList.drop 24 = dktX0_says_1 := dk_seg dksX0_says_0 24 rfl rfl
theorem dksX0_says_2 : cX0_says.data.toList.drop 46 = dktX0_says_2 := dk_seg dksX0_says_1 22 rfl rfl
theorem dksX0_says_3 : cX0_says.data.toList.drop 88 = dktX0_says_3 := dk_seg dksX0_says_2 42 rfl rfl
theorem dksX0_says_4 : cX0_says.data.toList.drop 112 = dktX0_says_4 := dk_seg dksX0_says_3 24 rfl rfl
theorem dksX0_says_5 : cX0_says.data.toList.drop 135 = dktX0_says_5 := dk_seg dksX0_says_4 23 rfl rfl
theorem dksX0_says_6 : cX0_says.data.toList.drop 159 = dktX0_says_6 := dk_seg dksX0_says_5 24 rfl rfl
theorem dX0_says_0 : decode cX0_says 0 = .ok (.iload_n 1, 1) := dk_27 (dk_at dksX0_says_0 0 rfl rfl)
theorem dX0_says_1 : decode cX0_says 1 = .ok (.invokestatic 98, 3) := dk_184 0 98 (dk_at dksX0_says_0 1 rfl rfl)
theorem dX0_says_4 : decode cX0_says 4 = .ok (.ifCond .eq 13, 3) := dk_153 0 13 (dk_at dksX0_says_0 4 rfl rfl)
theorem dX0_says_7 : decode cX0_says 7 = .ok (.iload_n 2, 1) := dk_28 (dk_at dksX0_says_0 7 rfl rfl)
theorem dX0_says_8 : decode cX0_says 8 = .ok (.iconst 0, 1) := dk_3 (dk_at dksX0_says_0 8 rfl rfl)
theorem dX0_says_9 : decode cX0_says 9 = .ok (.bipush 7, 2) := dk_16 7 (dk_at dksX0_says_0 9 rfl rfl)
theorem dX0_says_11 : decode cX0_says 11 = .ok (.invokestatic 68, 3) := dk_184 0 68 (dk_at dksX0_says_0 11 rfl rfl)
theorem dX0_says_14 : decode cX0_says 14 = .ok (.ifCond .ne 10, 3) := dk_154 0 10 (dk_at dksX0_says_0 14 rfl rfl)
theorem dX0_says_17 : decode cX0_says 17 = .ok (.aload_n 0, 1) := dk_42 (dk_at dksX0_says_0 17 rfl rfl)
theorem dX0_says_18 : decode cX0_says 18 = .ok (.bipush (-102), 2) := dk_16 154 (dk_at dksX0_says_0 18 rfl rfl)
theorem dX0_says_20 : decode cX0_says 20 = .ok (.invokevirtual 102, 3) := dk_182 0 102 (dk_at dksX0_says_0 20 rfl rfl)
theorem dX0_says_23 : decode cX0_says 23 = .ok (.ireturn, 1) := dk_172 (dk_at dksX0_says_0 23 rfl rfl)
theorem dX0_says_24 : decode cX0_says 24 = .ok (.aload_n 0, 1) := dk_42 (dk_at dksX0_says_1 0 rfl rfl)
theorem dX0_says_25 : decode cX0_says 25 = .ok (.getfield 56, 3) := dk_180 0 56 (dk_at dksX0_says_1 1 rfl rfl)
theorem dX0_says_28 : decode cX0_says 28 = .ok (.iload_n 1, 1) := dk_27 (dk_at dksX0_says_1 4 rfl rfl)
theorem dX0_says_29 : decode cX0_says 29 = .ok (.aaload, 1) := dk_50 (dk_at dksX0_says_1 5 rfl rfl)
theorem dX0_says_30 : decode cX0_says 30 = .ok (.getfield 110, 3) := dk_180 0 110 (dk_at dksX0_says_1 6 rfl rfl)
theorem dX0_says_33 : decode cX0_says 33 = .ok (.astore_n 3, 1) := dk_78 (dk_at dksX0_says_1 9 rfl rfl)
theorem dX0_says_34 : decode cX0_says 34 = .ok (.aload_n 3, 1) := dk_45 (dk_at dksX0_says_1 10 rfl rfl)
theorem dX0_says_35 : decode cX0_says 35 = .ok (.ifnonnull 10, 3) := dk_199 0 10 (dk_at dksX0_says_1 11 rfl rfl)
theorem dX0_says_38 : decode cX0_says 38 = .ok (.aload_n 0, 1) := dk_42 (dk_at dksX0_says_1 14 rfl rfl)
theorem dX0_says_39 : decode cX0_says 39 = .ok (.bipush (-104), 2) := dk_16 152 (dk_at dksX0_says_1 15 rfl rfl)
theorem dX0_says_41 : decode cX0_says 41 = .ok (.invokevirtual 102, 3) := dk_182 0 102 (dk_at dksX0_says_1 17 rfl rfl)
theorem dX0_says_44 : decode cX0_says 44 = .ok (.ireturn, 1) := dk_172 (dk_at dksX0_says_1 20 rfl rfl)
theorem dX0_says_45 : decode cX0_says 45 = .ok (.iload_n 2, 1) := dk_28 (dk_at dksX0_says_1 21 rfl rfl)
theorem dX0_says_46 : decode cX0_says 46 = .ok (.tableswitch 112 0 6 #[42, 52, 62, 72, 82, 92, 102], 42) := by decide +kernel
theorem dX0_says_88 : decode cX0_says 88 = .ok (.aload_n 3, 1) := dk_45 (dk_at dksX0_says_3 0 rfl rfl)
theorem dX0_says_89 : decode cX0_says 89 = .ok (.checkcast 116, 3) := dk_192 0 116 (dk_at dksX0_says_3 1 rfl rfl)
theorem dX0_says_92 : decode cX0_says 92 = .ok (.getfield 162, 3) := dk_180 0 162 (dk_at dksX0_says_3 4 rfl rfl)
theorem dX0_says_95 : decode cX0_says 95 = .ok (.goto 70, 3) := dk_167 0 70 (dk_at dksX0_says_3 7 rfl rfl)
theorem dX0_says_98 : decode cX0_says 98 = .ok (.aload_n 3, 1) := dk_45 (dk_at dksX0_says_3 10 rfl rfl)
theorem dX0_says_99 : decode cX0_says 99 = .ok (.checkcast 165, 3) := dk_192 0 165 (dk_at dksX0_says_3 11 rfl rfl)
theorem dX0_says_102 : decode cX0_says 102 = .ok (.invokevirtual 167, 3) := dk_182 0 167 (dk_at dksX0_says_3 14 rfl rfl)
theorem dX0_says_105 : decode cX0_says 105 = .ok (.goto 60, 3) := dk_167 0 60 (dk_at dksX0_says_3 17 rfl rfl)
theorem dX0_says_108 : decode cX0_says 108 = .ok (.aload_n 3, 1) := dk_45 (dk_at dksX0_says_3 20 rfl rfl)
theorem dX0_says_109 : decode cX0_says 109 = .ok (.checkcast 170, 3) := dk_192 0 170 (dk_at dksX0_says_3 21 rfl rfl)
theorem dX0_says_112 : decode cX0_says 112 = .ok (.invokevirtual 172, 3) := dk_182 0 172 (dk_at dksX0_says_4 0 rfl rfl)
theorem dX0_says_115 : decode cX0_says 115 = .ok (.goto 50, 3) := dk_167 0 50 (dk_at dksX0_says_4 3 rfl rfl)
theorem dX0_says_118 : decode cX0_says 118 = .ok (.aload_n 3, 1) := dk_45 (dk_at dksX0_says_4 6 rfl rfl)
theorem dX0_says_119 : decode cX0_says 119 = .ok (.checkcast 1, 3) := dk_192 0 1 (dk_at dksX0_says_4 7 rfl rfl)
theorem dX0_says_122 : decode cX0_says 122 = .ok (.getfield 175, 3) := dk_180 0 175 (dk_at dksX0_says_4 10 rfl rfl)
theorem dX0_says_125 : decode cX0_says 125 = .ok (.goto 40, 3) := dk_167 0 40 (dk_at dksX0_says_4 13 rfl rfl)
theorem dX0_says_128 : decode cX0_says 128 = .ok (.aload_n 3, 1) := dk_45 (dk_at dksX0_says_4 16 rfl rfl)
theorem dX0_says_129 : decode cX0_says 129 = .ok (.checkcast 7, 3) := dk_192 0 7 (dk_at dksX0_says_4 17 rfl rfl)
theorem dX0_says_132 : decode cX0_says 132 = .ok (.getfield 178, 3) := dk_180 0 178 (dk_at dksX0_says_4 20 rfl rfl)
theorem dX0_says_135 : decode cX0_says 135 = .ok (.goto 30, 3) := dk_167 0 30 (dk_at dksX0_says_5 0 rfl rfl)
theorem dX0_says_138 : decode cX0_says 138 = .ok (.aload_n 3, 1) := dk_45 (dk_at dksX0_says_5 3 rfl rfl)
theorem dX0_says_139 : decode cX0_says 139 = .ok (.checkcast 10, 3) := dk_192 0 10 (dk_at dksX0_says_5 4 rfl rfl)
theorem dX0_says_142 : decode cX0_says 142 = .ok (.getfield 179, 3) := dk_180 0 179 (dk_at dksX0_says_5 7 rfl rfl)
theorem dX0_says_145 : decode cX0_says 145 = .ok (.goto 20, 3) := dk_167 0 20 (dk_at dksX0_says_5 10 rfl rfl)
theorem dX0_says_148 : decode cX0_says 148 = .ok (.aload_n 3, 1) := dk_45 (dk_at dksX0_says_5 13 rfl rfl)
theorem dX0_says_149 : decode cX0_says 149 = .ok (.checkcast 13, 3) := dk_192 0 13 (dk_at dksX0_says_5 14 rfl rfl)
theorem dX0_says_152 : decode cX0_says 152 = .ok (.getfield 180, 3) := dk_180 0 180 (dk_at dksX0_says_5 17 rfl rfl)
theorem dX0_says_155 : decode cX0_says 155 = .ok (.goto 10, 3) := dk_167 0 10 (dk_at dksX0_says_5 20 rfl rfl)
theorem dX0_says_158 : decode cX0_says 158 = .ok (.aload_n 3, 1) := dk_45 (dk_at dksX0_says_5 23 rfl rfl)
theorem dX0_says_159 : decode cX0_says 159 = .ok (.checkcast 16, 3) := dk_192 0 16 (dk_at dksX0_says_6 0 rfl rfl)
theorem dX0_says_162 : decode cX0_says 162 = .ok (.invokevirtual 183, 3) := dk_182 0 183 (dk_at dksX0_says_6 3 rfl rfl)
theorem dX0_says_165 : decode cX0_says 165 = .ok (.ireturn, 1) := dk_172 (dk_at dksX0_says_6 6 rfl rfl)
theorem dX0_says_166 : decode cX0_says 166 = .ok (.astore 4, 2) := dk_58 4 (dk_at dksX0_says_6 7 rfl rfl)
theorem dX0_says_168 : decode cX0_says 168 = .ok (.aload_n 0, 1) := dk_42 (dk_at dksX0_says_6 9 rfl rfl)
theorem dX0_says_169 : decode cX0_says 169 = .ok (.bipush (-103), 2) := dk_16 153 (dk_at dksX0_says_6 10 rfl rfl)
theorem dX0_says_171 : decode cX0_says 171 = .ok (.invokevirtual 102, 3) := dk_182 0 102 (dk_at dksX0_says_6 12 rfl rfl)
theorem dX0_says_174 : decode cX0_says 174 = .ok (.ireturn, 1) := dk_172 (dk_at dksX0_says_6 15 rfl rfl)
abbrev cX0_one : ByteArray := prog_1_method_2_code
def yX0_one : MethodName := ⟨RX0, "one", "(Z)I"⟩
def dkwX0_one_0 : List UInt8 := [26, 153, 0, 7, 4, 167, 0, 4, 3, 172]
abbrev dktX0_one_0 : List UInt8 := dkwX0_one_0 ++ []
theorem dksX0_one_0 : cX0_one.data.toList.drop 0 = dktX0_one_0 := by decide +kernel
theorem dX0_one_0 : decode cX0_one 0 = .ok (.iload_n 0, 1) := dk_26 (dk_at dksX0_one_0 0 rfl rfl)
theorem dX0_one_1 : decode cX0_one 1 = .ok (.ifCond .eq 7, 3) := dk_153 0 7 (dk_at dksX0_one_0 1 rfl rfl)
theorem dX0_one_4 : decode cX0_one 4 = .ok (.iconst 1, 1) := dk_4 (dk_at dksX0_one_0 4 rfl rfl)
theorem dX0_one_5 : decode cX0_one 5 = .ok (.goto 4, 3) := dk_167 0 4 (dk_at dksX0_one_0 5 rfl rfl)
theorem dX0_one_8 : decode cX0_one 8 = .ok (.iconst 0, 1) := dk_3 (dk_at dksX0_one_0 8 rfl rfl)
theorem dX0_one_9 : decode cX0_one 9 = .ok (.ireturn, 1) := dk_172 (dk_at dksX0_one_0 9 rfl rfl)
abbrev cX0_feed : ByteArray := prog_1_method_24_code
def yX0_feed : MethodName := ⟨RX0, "feed", "(I)I"⟩
def dkwX0_feed_2 : List UInt8 := [89, 180, 0, 188, 4, 96, 181, 0, 188, 42, 180, 0, 188, 172]
abbrev dktX0_feed_2 : List UInt8 := dkwX0_feed_2 ++ []
def dkwX0_feed_1 : List UInt8 := [17, 0, 250, 160, 0, 10, 42, 16, 150, 182, 0, 102, 172, 42, 180, 0, 60, 42, 180, 0, 188, 27, 79, 42]
abbrev dktX0_feed_1 : List UInt8 := dkwX0_feed_1 ++ dktX0_feed_2
def dkwX0_feed_0 : List UInt8 := [27, 3, 17, 0, 255, 184, 0, 68, 154, 0, 10, 42, 16, 154, 182, 0, 102, 172, 42, 180, 0, 188]
abbrev dktX0_feed_0 : List UInt8 := dkwX0_feed_0 ++ dktX0_feed_1
theorem dksX0_feed_0 : cX0_feed.data.toList.drop 0 = dktX0_feed_0 := by decide +kernel
theorem dksX0_feed_1 : cX0_feed.data.toList.drop 22 = dktX0_feed_1 := dk_seg dksX0_feed_0 22 rfl rfl
theorem dksX0_feed_2 : cX0_feed.data.toList.drop 46 = dktX0_feed_2 := dk_seg dksX0_feed_1 24 rfl rfl
theorem dX0_feed_0 : decode cX0_feed 0 = .ok (.iload_n 1, 1) := dk_27 (dk_at dksX0_feed_0 0 rfl rfl)
theorem dX0_feed_1 : decode cX0_feed 1 = .ok (.iconst 0, 1) := dk_3 (dk_at dksX0_feed_0 1 rfl rfl)
theorem dX0_feed_2 : decode cX0_feed 2 = .ok (.sipush 255, 3) := dk_17 0 255 (dk_at dksX0_feed_0 2 rfl rfl)
theorem dX0_feed_5 : decode cX0_feed 5 = .ok (.invokestatic 68, 3) := dk_184 0 68 (dk_at dksX0_feed_0 5 rfl rfl)
theorem dX0_feed_8 : decode cX0_feed 8 = .ok (.ifCond .ne 10, 3) := dk_154 0 10 (dk_at dksX0_feed_0 8 rfl rfl)
theorem dX0_feed_11 : decode cX0_feed 11 = .ok (.aload_n 0, 1) := dk_42 (dk_at dksX0_feed_0 11 rfl rfl)
theorem dX0_feed_12 : decode cX0_feed 12 = .ok (.bipush (-102), 2) := dk_16 154 (dk_at dksX0_feed_0 12 rfl rfl)
theorem dX0_feed_14 : decode cX0_feed 14 = .ok (.invokevirtual 102, 3) := dk_182 0 102 (dk_at dksX0_feed_0 14 rfl rfl)
theorem dX0_feed_17 : decode cX0_feed 17 = .ok (.ireturn, 1) := dk_172 (dk_at dksX0_feed_0 17 rfl rfl)
theorem dX0_feed_18 : decode cX0_feed 18 = .ok (.aload_n 0, 1) := dk_42 (dk_at dksX0_feed_0 18 rfl rfl)
theorem dX0_feed_19 : decode cX0_feed 19 = .ok (.getfield 188, 3) := dk_180 0 188 (dk_at dksX0_feed_0 19 rfl rfl)
theorem dX0_feed_22 : decode cX0_feed 22 = .ok (.sipush 250, 3) := dk_17 0 250 (dk_at dksX0_feed_1 0 rfl rfl)
theorem dX0_feed_25 : decode cX0_feed 25 = .ok (.if_icmp .ne 10, 3) := dk_160 0 10 (dk_at dksX0_feed_1 3 rfl rfl)
theorem dX0_feed_28 : decode cX0_feed 28 = .ok (.aload_n 0, 1) := dk_42 (dk_at dksX0_feed_1 6 rfl rfl)
theorem dX0_feed_29 : decode cX0_feed 29 = .ok (.bipush (-106), 2) := dk_16 150 (dk_at dksX0_feed_1 7 rfl rfl)
theorem dX0_feed_31 : decode cX0_feed 31 = .ok (.invokevirtual 102, 3) := dk_182 0 102 (dk_at dksX0_feed_1 9 rfl rfl)
theorem dX0_feed_34 : decode cX0_feed 34 = .ok (.ireturn, 1) := dk_172 (dk_at dksX0_feed_1 12 rfl rfl)
theorem dX0_feed_35 : decode cX0_feed 35 = .ok (.aload_n 0, 1) := dk_42 (dk_at dksX0_feed_1 13 rfl rfl)
theorem dX0_feed_36 : decode cX0_feed 36 = .ok (.getfield 60, 3) := dk_180 0 60 (dk_at dksX0_feed_1 14 rfl rfl)
theorem dX0_feed_39 : decode cX0_feed 39 = .ok (.aload_n 0, 1) := dk_42 (dk_at dksX0_feed_1 17 rfl rfl)
theorem dX0_feed_40 : decode cX0_feed 40 = .ok (.getfield 188, 3) := dk_180 0 188 (dk_at dksX0_feed_1 18 rfl rfl)
theorem dX0_feed_43 : decode cX0_feed 43 = .ok (.iload_n 1, 1) := dk_27 (dk_at dksX0_feed_1 21 rfl rfl)
theorem dX0_feed_44 : decode cX0_feed 44 = .ok (.iastore, 1) := dk_79 (dk_at dksX0_feed_1 22 rfl rfl)
theorem dX0_feed_45 : decode cX0_feed 45 = .ok (.aload_n 0, 1) := dk_42 (dk_at dksX0_feed_1 23 rfl rfl)
theorem dX0_feed_46 : decode cX0_feed 46 = .ok (.dup, 1) := dk_89 (dk_at dksX0_feed_2 0 rfl rfl)
theorem dX0_feed_47 : decode cX0_feed 47 = .ok (.getfield 188, 3) := dk_180 0 188 (dk_at dksX0_feed_2 1 rfl rfl)
theorem dX0_feed_50 : decode cX0_feed 50 = .ok (.iconst 1, 1) := dk_4 (dk_at dksX0_feed_2 4 rfl rfl)
theorem dX0_feed_51 : decode cX0_feed 51 = .ok (.iadd, 1) := dk_96 (dk_at dksX0_feed_2 5 rfl rfl)
theorem dX0_feed_52 : decode cX0_feed 52 = .ok (.putfield 188, 3) := dk_181 0 188 (dk_at dksX0_feed_2 6 rfl rfl)
theorem dX0_feed_55 : decode cX0_feed 55 = .ok (.aload_n 0, 1) := dk_42 (dk_at dksX0_feed_2 9 rfl rfl)
theorem dX0_feed_56 : decode cX0_feed 56 = .ok (.getfield 188, 3) := dk_180 0 188 (dk_at dksX0_feed_2 10 rfl rfl)
theorem dX0_feed_59 : decode cX0_feed 59 = .ok (.ireturn, 1) := dk_172 (dk_at dksX0_feed_2 13 rfl rfl)
abbrev cX0_wipe : ByteArray := prog_1_method_25_code
def yX0_wipe : MethodName := ⟨RX0, "wipe", "()I"⟩
def dkwX0_wipe_0 : List UInt8 := [42, 180, 0, 188, 60, 42, 3, 181, 0, 188, 27, 172]
abbrev dktX0_wipe_0 : List UInt8 := dkwX0_wipe_0 ++ []
theorem dksX0_wipe_0 : cX0_wipe.data.toList.drop 0 = dktX0_wipe_0 := by decide +kernel
theorem dX0_wipe_0 : decode cX0_wipe 0 = .ok (.aload_n 0, 1) := dk_42 (dk_at dksX0_wipe_0 0 rfl rfl)
theorem dX0_wipe_1 : decode cX0_wipe 1 = .ok (.getfield 188, 3) := dk_180 0 188 (dk_at dksX0_wipe_0 1 rfl rfl)
theorem dX0_wipe_4 : decode cX0_wipe 4 = .ok (.istore_n 1, 1) := dk_60 (dk_at dksX0_wipe_0 4 rfl rfl)
theorem dX0_wipe_5 : decode cX0_wipe 5 = .ok (.aload_n 0, 1) := dk_42 (dk_at dksX0_wipe_0 5 rfl rfl)
theorem dX0_wipe_6 : decode cX0_wipe 6 = .ok (.iconst 0, 1) := dk_3 (dk_at dksX0_wipe_0 6 rfl rfl)
theorem dX0_wipe_7 : decode cX0_wipe 7 = .ok (.putfield 188, 3) := dk_181 0 188 (dk_at dksX0_wipe_0 7 rfl rfl)
theorem dX0_wipe_10 : decode cX0_wipe 10 = .ok (.iload_n 1, 1) := dk_27 (dk_at dksX0_wipe_0 10 rfl rfl)
theorem dX0_wipe_11 : decode cX0_wipe 11 = .ok (.ireturn, 1) := dk_172 (dk_at dksX0_wipe_0 11 rfl rfl)
abbrev cX0_sky : ByteArray := prog_1_method_28_code
def yX0_sky : MethodName := ⟨RX0, "sky", "()I"⟩
def dkwX0_sky_2 : List UInt8 := [180, 0, 216, 182, 0, 217, 172]
abbrev dktX0_sky_2 : List UInt8 := dkwX0_sky_2 ++ []
def dkwX0_sky_1 : List UInt8 := [43, 193, 0, 209, 153, 0, 15, 43, 192, 0, 209, 77, 44, 180, 0, 213, 167, 0, 10, 43, 192, 0, 211]
abbrev dktX0_sky_1 : List UInt8 := dkwX0_sky_1 ++ dktX0_sky_2
def dkwX0_sky_0 : List UInt8 := [42, 180, 0, 39, 42, 182, 0, 199, 182, 0, 202, 42, 180, 0, 39, 180, 0, 206, 182, 0, 76, 172, 76, 42]
abbrev dktX0_sky_0 : List UInt8 := dkwX0_sky_0 ++ dktX0_sky_1
theorem dksX0_sky_0 : cX0_sky.data.toList.drop 0 = dktX0_sky_0 := by decide +kernel
theorem dksX0_sky_1 : cX0_sky.data.toList.drop 24 = dktX0_sky_1 := dk_seg dksX0_sky_0 24 rfl rfl
theorem dksX0_sky_2 : cX0_sky.data.toList.drop 47 = dktX0_sky_2 := dk_seg dksX0_sky_1 23 rfl rfl
theorem dX0_sky_0 : decode cX0_sky 0 = .ok (.aload_n 0, 1) := dk_42 (dk_at dksX0_sky_0 0 rfl rfl)
theorem dX0_sky_1 : decode cX0_sky 1 = .ok (.getfield 39, 3) := dk_180 0 39 (dk_at dksX0_sky_0 1 rfl rfl)
theorem dX0_sky_4 : decode cX0_sky 4 = .ok (.aload_n 0, 1) := dk_42 (dk_at dksX0_sky_0 4 rfl rfl)
theorem dX0_sky_5 : decode cX0_sky 5 = .ok (.invokevirtual 199, 3) := dk_182 0 199 (dk_at dksX0_sky_0 5 rfl rfl)
theorem dX0_sky_8 : decode cX0_sky 8 = .ok (.invokevirtual 202, 3) := dk_182 0 202 (dk_at dksX0_sky_0 8 rfl rfl)
theorem dX0_sky_11 : decode cX0_sky 11 = .ok (.aload_n 0, 1) := dk_42 (dk_at dksX0_sky_0 11 rfl rfl)
theorem dX0_sky_12 : decode cX0_sky 12 = .ok (.getfield 39, 3) := dk_180 0 39 (dk_at dksX0_sky_0 12 rfl rfl)
theorem dX0_sky_15 : decode cX0_sky 15 = .ok (.getfield 206, 3) := dk_180 0 206 (dk_at dksX0_sky_0 15 rfl rfl)
theorem dX0_sky_18 : decode cX0_sky 18 = .ok (.invokevirtual 76, 3) := dk_182 0 76 (dk_at dksX0_sky_0 18 rfl rfl)
theorem dX0_sky_21 : decode cX0_sky 21 = .ok (.ireturn, 1) := dk_172 (dk_at dksX0_sky_0 21 rfl rfl)
theorem dX0_sky_22 : decode cX0_sky 22 = .ok (.astore_n 1, 1) := dk_76 (dk_at dksX0_sky_0 22 rfl rfl)
theorem dX0_sky_23 : decode cX0_sky 23 = .ok (.aload_n 0, 1) := dk_42 (dk_at dksX0_sky_0 23 rfl rfl)
theorem dX0_sky_24 : decode cX0_sky 24 = .ok (.aload_n 1, 1) := dk_43 (dk_at dksX0_sky_1 0 rfl rfl)
theorem dX0_sky_25 : decode cX0_sky 25 = .ok (.instanceof 209, 3) := dk_193 0 209 (dk_at dksX0_sky_1 1 rfl rfl)
theorem dX0_sky_28 : decode cX0_sky 28 = .ok (.ifCond .eq 15, 3) := dk_153 0 15 (dk_at dksX0_sky_1 4 rfl rfl)
theorem dX0_sky_31 : decode cX0_sky 31 = .ok (.aload_n 1, 1) := dk_43 (dk_at dksX0_sky_1 7 rfl rfl)
theorem dX0_sky_32 : decode cX0_sky 32 = .ok (.checkcast 209, 3) := dk_192 0 209 (dk_at dksX0_sky_1 8 rfl rfl)
theorem dX0_sky_35 : decode cX0_sky 35 = .ok (.astore_n 2, 1) := dk_77 (dk_at dksX0_sky_1 11 rfl rfl)
theorem dX0_sky_36 : decode cX0_sky 36 = .ok (.aload_n 2, 1) := dk_44 (dk_at dksX0_sky_1 12 rfl rfl)
theorem dX0_sky_37 : decode cX0_sky 37 = .ok (.getfield 213, 3) := dk_180 0 213 (dk_at dksX0_sky_1 13 rfl rfl)
theorem dX0_sky_40 : decode cX0_sky 40 = .ok (.goto 10, 3) := dk_167 0 10 (dk_at dksX0_sky_1 16 rfl rfl)
theorem dX0_sky_43 : decode cX0_sky 43 = .ok (.aload_n 1, 1) := dk_43 (dk_at dksX0_sky_1 19 rfl rfl)
theorem dX0_sky_44 : decode cX0_sky 44 = .ok (.checkcast 211, 3) := dk_192 0 211 (dk_at dksX0_sky_1 20 rfl rfl)
theorem dX0_sky_47 : decode cX0_sky 47 = .ok (.getfield 216, 3) := dk_180 0 216 (dk_at dksX0_sky_2 0 rfl rfl)
theorem dX0_sky_50 : decode cX0_sky 50 = .ok (.invokevirtual 217, 3) := dk_182 0 217 (dk_at dksX0_sky_2 3 rfl rfl)
theorem dX0_sky_53 : decode cX0_sky 53 = .ok (.ireturn, 1) := dk_172 (dk_at dksX0_sky_2 6 rfl rfl)
abbrev cX0_read : ByteArray := prog_1_method_27_code
def yX0_read : MethodName := ⟨RX0, "read", "()Ljava/util/LinkedList;"⟩
def dkwX0_read_1 : List UInt8 := [181, 0, 188, 44, 191]
abbrev dktX0_read_1 : List UInt8 := dkwX0_read_1 ++ []
def dkwX0_read_0 : List UInt8 := [187, 0, 190, 89, 42, 183, 0, 192, 182, 0, 195, 76, 42, 3, 181, 0, 188, 43, 176, 77, 42, 3]
abbrev dktX0_read_0 : List UInt8 := dkwX0_read_0 ++ dktX0_read_1
theorem dksX0_read_0 : cX0_read.data.toList.drop 0 = dktX0_read_0 := by decide +kernel
theorem dksX0_read_1 : cX0_read.data.toList.drop 22 = dktX0_read_1 := dk_seg dksX0_read_0 22 rfl rfl
theorem dX0_read_0 : decode cX0_read 0 = .ok (.new 190, 3) := dk_187 0 190 (dk_at dksX0_read_0 0 rfl rfl)
theorem dX0_read_3 : decode cX0_read 3 = .ok (.dup, 1) := dk_89 (dk_at dksX0_read_0 3 rfl rfl)
theorem dX0_read_4 : decode cX0_read 4 = .ok (.aload_n 0, 1) := dk_42 (dk_at dksX0_read_0 4 rfl rfl)
theorem dX0_read_5 : decode cX0_read 5 = .ok (.invokespecial 192, 3) := dk_183 0 192 (dk_at dksX0_read_0 5 rfl rfl)
theorem dX0_read_8 : decode cX0_read 8 = .ok (.invokevirtual 195, 3) := dk_182 0 195 (dk_at dksX0_read_0 8 rfl rfl)
theorem dX0_read_11 : decode cX0_read 11 = .ok (.astore_n 1, 1) := dk_76 (dk_at dksX0_read_0 11 rfl rfl)
theorem dX0_read_12 : decode cX0_read 12 = .ok (.aload_n 0, 1) := dk_42 (dk_at dksX0_read_0 12 rfl rfl)
theorem dX0_read_13 : decode cX0_read 13 = .ok (.iconst 0, 1) := dk_3 (dk_at dksX0_read_0 13 rfl rfl)
theorem dX0_read_14 : decode cX0_read 14 = .ok (.putfield 188, 3) := dk_181 0 188 (dk_at dksX0_read_0 14 rfl rfl)
theorem dX0_read_17 : decode cX0_read 17 = .ok (.aload_n 1, 1) := dk_43 (dk_at dksX0_read_0 17 rfl rfl)
theorem dX0_read_18 : decode cX0_read 18 = .ok (.areturn, 1) := dk_176 (dk_at dksX0_read_0 18 rfl rfl)
theorem dX0_read_19 : decode cX0_read 19 = .ok (.astore_n 2, 1) := dk_77 (dk_at dksX0_read_0 19 rfl rfl)
theorem dX0_read_20 : decode cX0_read 20 = .ok (.aload_n 0, 1) := dk_42 (dk_at dksX0_read_0 20 rfl rfl)
theorem dX0_read_21 : decode cX0_read 21 = .ok (.iconst 0, 1) := dk_3 (dk_at dksX0_read_0 21 rfl rfl)
theorem dX0_read_22 : decode cX0_read 22 = .ok (.putfield 188, 3) := dk_181 0 188 (dk_at dksX0_read_1 0 rfl rfl)
theorem dX0_read_25 : decode cX0_read 25 = .ok (.aload_n 2, 1) := dk_44 (dk_at dksX0_read_1 3 rfl rfl)
theorem dX0_read_26 : decode cX0_read 26 = .ok (.athrow, 1) := dk_191 (dk_at dksX0_read_1 4 rfl rfl)
abbrev cX0_fault : ByteArray := prog_1_method_26_code
def yX0_fault : MethodName := ⟨RX0, "fault", "(I)I"⟩
def dkwX0_fault_0 : List UInt8 := [42, 16, 154, 182, 0, 102, 87, 17, 254, 212, 27, 100, 172]
abbrev dktX0_fault_0 : List UInt8 := dkwX0_fault_0 ++ []
theorem dksX0_fault_0 : cX0_fault.data.toList.drop 0 = dktX0_fault_0 := by decide +kernel
theorem dX0_fault_0 : decode cX0_fault 0 = .ok (.aload_n 0, 1) := dk_42 (dk_at dksX0_fault_0 0 rfl rfl)
theorem dX0_fault_1 : decode cX0_fault 1 = .ok (.bipush (-102), 2) := dk_16 154 (dk_at dksX0_fault_0 1 rfl rfl)
theorem dX0_fault_3 : decode cX0_fault 3 = .ok (.invokevirtual 102, 3) := dk_182 0 102 (dk_at dksX0_fault_0 3 rfl rfl)
theorem dX0_fault_6 : decode cX0_fault 6 = .ok (.pop, 1) := dk_87 (dk_at dksX0_fault_0 6 rfl rfl)
theorem dX0_fault_7 : decode cX0_fault 7 = .ok (.sipush (-300), 3) := dk_17 254 212 (dk_at dksX0_fault_0 7 rfl rfl)
theorem dX0_fault_10 : decode cX0_fault 10 = .ok (.iload_n 1, 1) := dk_27 (dk_at dksX0_fault_0 10 rfl rfl)
theorem dX0_fault_11 : decode cX0_fault 11 = .ok (.isub, 1) := dk_100 (dk_at dksX0_fault_0 11 rfl rfl)
theorem dX0_fault_12 : decode cX0_fault 12 = .ok (.ireturn, 1) := dk_172 (dk_at dksX0_fault_0 12 rfl rfl)
abbrev cX0_keeper : ByteArray := prog_1_method_29_code
def yX0_keeper : MethodName := ⟨RX0, "keeper", "(I)I"⟩
def dkwX0_keeper_3 : List UInt8 := [87, 42, 180, 0, 39, 180, 0, 72, 182, 0, 76, 4, 100, 172]
abbrev dktX0_keeper_3 : List UInt8 := dkwX0_keeper_3 ++ []
def dkwX0_keeper_2 : List UInt8 := [187, 0, 220, 89, 42, 180, 0, 39, 180, 0, 72, 182, 0, 76, 27, 184, 0, 222, 183, 0, 226, 182, 0, 229]
abbrev dktX0_keeper_2 : List UInt8 := dkwX0_keeper_2 ++ dktX0_keeper_3
def dkwX0_keeper_1 : List UInt8 := [182, 0, 76, 16, 6, 160, 0, 10, 42, 16, 150, 182, 0, 102, 172, 42, 180, 0, 39, 180, 0, 72]
abbrev dktX0_keeper_1 : List UInt8 := dkwX0_keeper_1 ++ dktX0_keeper_2
def dkwX0_keeper_0 : List UInt8 := [27, 3, 5, 184, 0, 68, 154, 0, 10, 42, 16, 154, 182, 0, 102, 172, 42, 180, 0, 39, 180, 0, 72]
abbrev dktX0_keeper_0 : List UInt8 := dkwX0_keeper_0 ++ dktX0_keeper_1
theorem dksX0_keeper_0 : cX0_keeper.data.toList.drop 0 = dktX0_keeper_0 := by decide +kernel
theorem dksX0_keeper_1 : cX0_keeper.data.toList.drop 23 = dktX0_keeper_1 := dk_seg dksX0_keeper_0 23 rfl rfl
theorem dksX0_keeper_2 : cX0_keeper.data.toList.drop 45 = dktX0_keeper_2 := dk_seg dksX0_keeper_1 22 rfl rfl
theorem dksX0_keeper_3 : cX0_keeper.data.toList.drop 69 = dktX0_keeper_3 := dk_seg dksX0_keeper_2 24 rfl rfl
theorem dX0_keeper_0 : decode cX0_keeper 0 = .ok (.iload_n 1, 1) := dk_27 (dk_at dksX0_keeper_0 0 rfl rfl)
theorem dX0_keeper_1 : decode cX0_keeper 1 = .ok (.iconst 0, 1) := dk_3 (dk_at dksX0_keeper_0 1 rfl rfl)
theorem dX0_keeper_2 : decode cX0_keeper 2 = .ok (.iconst 2, 1) := dk_5 (dk_at dksX0_keeper_0 2 rfl rfl)
theorem dX0_keeper_3 : decode cX0_keeper 3 = .ok (.invokestatic 68, 3) := dk_184 0 68 (dk_at dksX0_keeper_0 3 rfl rfl)
theorem dX0_keeper_6 : decode cX0_keeper 6 = .ok (.ifCond .ne 10, 3) := dk_154 0 10 (dk_at dksX0_keeper_0 6 rfl rfl)
theorem dX0_keeper_9 : decode cX0_keeper 9 = .ok (.aload_n 0, 1) := dk_42 (dk_at dksX0_keeper_0 9 rfl rfl)
theorem dX0_keeper_10 : decode cX0_keeper 10 = .ok (.bipush (-102), 2) := dk_16 154 (dk_at dksX0_keeper_0 10 rfl rfl)
theorem dX0_keeper_12 : decode cX0_keeper 12 = .ok (.invokevirtual 102, 3) := dk_182 0 102 (dk_at dksX0_keeper_0 12 rfl rfl)
theorem dX0_keeper_15 : decode cX0_keeper 15 = .ok (.ireturn, 1) := dk_172 (dk_at dksX0_keeper_0 15 rfl rfl)
theorem dX0_keeper_16 : decode cX0_keeper 16 = .ok (.aload_n 0, 1) := dk_42 (dk_at dksX0_keeper_0 16 rfl rfl)
theorem dX0_keeper_17 : decode cX0_keeper 17 = .ok (.getfield 39, 3) := dk_180 0 39 (dk_at dksX0_keeper_0 17 rfl rfl)
theorem dX0_keeper_20 : decode cX0_keeper 20 = .ok (.getfield 72, 3) := dk_180 0 72 (dk_at dksX0_keeper_0 20 rfl rfl)
theorem dX0_keeper_23 : decode cX0_keeper 23 = .ok (.invokevirtual 76, 3) := dk_182 0 76 (dk_at dksX0_keeper_1 0 rfl rfl)
theorem dX0_keeper_26 : decode cX0_keeper 26 = .ok (.bipush 6, 2) := dk_16 6 (dk_at dksX0_keeper_1 3 rfl rfl)
theorem dX0_keeper_28 : decode cX0_keeper 28 = .ok (.if_icmp .ne 10, 3) := dk_160 0 10 (dk_at dksX0_keeper_1 5 rfl rfl)
theorem dX0_keeper_31 : decode cX0_keeper 31 = .ok (.aload_n 0, 1) := dk_42 (dk_at dksX0_keeper_1 8 rfl rfl)
theorem dX0_keeper_32 : decode cX0_keeper 32 = .ok (.bipush (-106), 2) := dk_16 150 (dk_at dksX0_keeper_1 9 rfl rfl)
theorem dX0_keeper_34 : decode cX0_keeper 34 = .ok (.invokevirtual 102, 3) := dk_182 0 102 (dk_at dksX0_keeper_1 11 rfl rfl)
theorem dX0_keeper_37 : decode cX0_keeper 37 = .ok (.ireturn, 1) := dk_172 (dk_at dksX0_keeper_1 14 rfl rfl)
theorem dX0_keeper_38 : decode cX0_keeper 38 = .ok (.aload_n 0, 1) := dk_42 (dk_at dksX0_keeper_1 15 rfl rfl)
theorem dX0_keeper_39 : decode cX0_keeper 39 = .ok (.getfield 39, 3) := dk_180 0 39 (dk_at dksX0_keeper_1 16 rfl rfl)
theorem dX0_keeper_42 : decode cX0_keeper 42 = .ok (.getfield 72, 3) := dk_180 0 72 (dk_at dksX0_keeper_1 19 rfl rfl)
theorem dX0_keeper_45 : decode cX0_keeper 45 = .ok (.new 220, 3) := dk_187 0 220 (dk_at dksX0_keeper_2 0 rfl rfl)
theorem dX0_keeper_48 : decode cX0_keeper 48 = .ok (.dup, 1) := dk_89 (dk_at dksX0_keeper_2 3 rfl rfl)
theorem dX0_keeper_49 : decode cX0_keeper 49 = .ok (.aload_n 0, 1) := dk_42 (dk_at dksX0_keeper_2 4 rfl rfl)
theorem dX0_keeper_50 : decode cX0_keeper 50 = .ok (.getfield 39, 3) := dk_180 0 39 (dk_at dksX0_keeper_2 5 rfl rfl)
theorem dX0_keeper_53 : decode cX0_keeper 53 = .ok (.getfield 72, 3) := dk_180 0 72 (dk_at dksX0_keeper_2 8 rfl rfl)
theorem dX0_keeper_56 : decode cX0_keeper 56 = .ok (.invokevirtual 76, 3) := dk_182 0 76 (dk_at dksX0_keeper_2 11 rfl rfl)
theorem dX0_keeper_59 : decode cX0_keeper 59 = .ok (.iload_n 1, 1) := dk_27 (dk_at dksX0_keeper_2 14 rfl rfl)
theorem dX0_keeper_60 : decode cX0_keeper 60 = .ok (.invokestatic 222, 3) := dk_184 0 222 (dk_at dksX0_keeper_2 15 rfl rfl)
theorem dX0_keeper_63 : decode cX0_keeper 63 = .ok (.invokespecial 226, 3) := dk_183 0 226 (dk_at dksX0_keeper_2 18 rfl rfl)
theorem dX0_keeper_66 : decode cX0_keeper 66 = .ok (.invokevirtual 229, 3) := dk_182 0 229 (dk_at dksX0_keeper_2 21 rfl rfl)
theorem dX0_keeper_69 : decode cX0_keeper 69 = .ok (.pop, 1) := dk_87 (dk_at dksX0_keeper_3 0 rfl rfl)
theorem dX0_keeper_70 : decode cX0_keeper 70 = .ok (.aload_n 0, 1) := dk_42 (dk_at dksX0_keeper_3 1 rfl rfl)
theorem dX0_keeper_71 : decode cX0_keeper 71 = .ok (.getfield 39, 3) := dk_180 0 39 (dk_at dksX0_keeper_3 2 rfl rfl)
theorem dX0_keeper_74 : decode cX0_keeper 74 = .ok (.getfield 72, 3) := dk_180 0 72 (dk_at dksX0_keeper_3 5 rfl rfl)
theorem dX0_keeper_77 : decode cX0_keeper 77 = .ok (.invokevirtual 76, 3) := dk_182 0 76 (dk_at dksX0_keeper_3 8 rfl rfl)
theorem dX0_keeper_80 : decode cX0_keeper 80 = .ok (.iconst 1, 1) := dk_4 (dk_at dksX0_keeper_3 11 rfl rfl)
theorem dX0_keeper_81 : decode cX0_keeper 81 = .ok (.isub, 1) := dk_100 (dk_at dksX0_keeper_3 12 rfl rfl)
theorem dX0_keeper_82 : decode cX0_keeper 82 = .ok (.ireturn, 1) := dk_172 (dk_at dksX0_keeper_3 13 rfl rfl)
abbrev cX0_rank : ByteArray := prog_1_method_4_code
def yX0_rank : MethodName := ⟨RX0, "rank", "(I)LKeptLight$Rank;"⟩
def dkwX0_rank_1 : List UInt8 := [176]
abbrev dktX0_rank_1 : List UInt8 := dkwX0_rank_1 ++ []
def dkwX0_rank_0 : List UInt8 := [26, 154, 0, 9, 178, 0, 19, 167, 0, 17, 26, 4, 160, 0, 9, 178, 0, 25, 167, 0, 6, 178, 0, 28]
abbrev dktX0_rank_0 : List UInt8 := dkwX0_rank_0 ++ dktX0_rank_1
theorem dksX0_rank_0 : cX0_rank.data.toList.drop 0 = dktX0_rank_0 := by decide +kernel
theorem dksX0_rank_1 : cX0_rank.data.toList.drop 24 = dktX0_rank_1 := dk_seg dksX0_rank_0 24 rfl rfl
theorem dX0_rank_0 : decode cX0_rank 0 = .ok (.iload_n 0, 1) := dk_26 (dk_at dksX0_rank_0 0 rfl rfl)
theorem dX0_rank_1 : decode cX0_rank 1 = .ok (.ifCond .ne 9, 3) := dk_154 0 9 (dk_at dksX0_rank_0 1 rfl rfl)
theorem dX0_rank_4 : decode cX0_rank 4 = .ok (.getstatic 19, 3) := dk_178 0 19 (dk_at dksX0_rank_0 4 rfl rfl)
theorem dX0_rank_7 : decode cX0_rank 7 = .ok (.goto 17, 3) := dk_167 0 17 (dk_at dksX0_rank_0 7 rfl rfl)
theorem dX0_rank_10 : decode cX0_rank 10 = .ok (.iload_n 0, 1) := dk_26 (dk_at dksX0_rank_0 10 rfl rfl)
theorem dX0_rank_11 : decode cX0_rank 11 = .ok (.iconst 1, 1) := dk_4 (dk_at dksX0_rank_0 11 rfl rfl)
theorem dX0_rank_12 : decode cX0_rank 12 = .ok (.if_icmp .ne 9, 3) := dk_160 0 9 (dk_at dksX0_rank_0 12 rfl rfl)
theorem dX0_rank_15 : decode cX0_rank 15 = .ok (.getstatic 25, 3) := dk_178 0 25 (dk_at dksX0_rank_0 15 rfl rfl)
theorem dX0_rank_18 : decode cX0_rank 18 = .ok (.goto 6, 3) := dk_167 0 6 (dk_at dksX0_rank_0 18 rfl rfl)
theorem dX0_rank_21 : decode cX0_rank 21 = .ok (.getstatic 28, 3) := dk_178 0 28 (dk_at dksX0_rank_0 21 rfl rfl)
theorem dX0_rank_24 : decode cX0_rank 24 = .ok (.areturn, 1) := dk_176 (dk_at dksX0_rank_1 0 rfl rfl)
abbrev cX0_plan : ByteArray := prog_1_method_31_code
def yX0_plan : MethodName := ⟨RX0, "plan", "(II)I"⟩
def dkwX0_plan_2 : List UInt8 := [29, 172]
abbrev dktX0_plan_2 : List UInt8 := dkwX0_plan_2 ++ []
def dkwX0_plan_1 : List UInt8 := [182, 0, 102, 172, 42, 180, 0, 39, 180, 0, 242, 27, 46, 62, 42, 180, 0, 39, 180, 0, 242, 27, 28, 79]
abbrev dktX0_plan_1 : List UInt8 := dkwX0_plan_1 ++ dktX0_plan_2
def dkwX0_plan_0 : List UInt8 := [27, 3, 16, 23, 184, 0, 68, 153, 0, 12, 42, 28, 133, 182, 0, 239, 154, 0, 10, 42, 16, 154]
abbrev dktX0_plan_0 : List UInt8 := dkwX0_plan_0 ++ dktX0_plan_1
theorem dksX0_plan_0 : cX0_plan.data.toList.drop 0 = dktX0_plan_0 := by decide +kernel
theorem dksX0_plan_1 : cX0_plan.data.toList.drop 22 = dktX0_plan_1 := dk_seg dksX0_plan_0 22 rfl rfl
theorem dksX0_plan_2 : cX0_plan.data.toList.drop 46 = dktX0_plan_2 := dk_seg dksX0_plan_1 24 rfl rfl
theorem dX0_plan_0 : decode cX0_plan 0 = .ok (.iload_n 1, 1) := dk_27 (dk_at dksX0_plan_0 0 rfl rfl)
theorem dX0_plan_1 : decode cX0_plan 1 = .ok (.iconst 0, 1) := dk_3 (dk_at dksX0_plan_0 1 rfl rfl)
theorem dX0_plan_2 : decode cX0_plan 2 = .ok (.bipush 23, 2) := dk_16 23 (dk_at dksX0_plan_0 2 rfl rfl)
theorem dX0_plan_4 : decode cX0_plan 4 = .ok (.invokestatic 68, 3) := dk_184 0 68 (dk_at dksX0_plan_0 4 rfl rfl)
theorem dX0_plan_7 : decode cX0_plan 7 = .ok (.ifCond .eq 12, 3) := dk_153 0 12 (dk_at dksX0_plan_0 7 rfl rfl)
theorem dX0_plan_10 : decode cX0_plan 10 = .ok (.aload_n 0, 1) := dk_42 (dk_at dksX0_plan_0 10 rfl rfl)
theorem dX0_plan_11 : decode cX0_plan 11 = .ok (.iload_n 2, 1) := dk_28 (dk_at dksX0_plan_0 11 rfl rfl)
theorem dX0_plan_12 : decode cX0_plan 12 = .ok (.i2l, 1) := dk_133 (dk_at dksX0_plan_0 12 rfl rfl)
theorem dX0_plan_13 : decode cX0_plan 13 = .ok (.invokevirtual 239, 3) := dk_182 0 239 (dk_at dksX0_plan_0 13 rfl rfl)
theorem dX0_plan_16 : decode cX0_plan 16 = .ok (.ifCond .ne 10, 3) := dk_154 0 10 (dk_at dksX0_plan_0 16 rfl rfl)
theorem dX0_plan_19 : decode cX0_plan 19 = .ok (.aload_n 0, 1) := dk_42 (dk_at dksX0_plan_0 19 rfl rfl)
theorem dX0_plan_20 : decode cX0_plan 20 = .ok (.bipush (-102), 2) := dk_16 154 (dk_at dksX0_plan_0 20 rfl rfl)
theorem dX0_plan_22 : decode cX0_plan 22 = .ok (.invokevirtual 102, 3) := dk_182 0 102 (dk_at dksX0_plan_1 0 rfl rfl)
theorem dX0_plan_25 : decode cX0_plan 25 = .ok (.ireturn, 1) := dk_172 (dk_at dksX0_plan_1 3 rfl rfl)
theorem dX0_plan_26 : decode cX0_plan 26 = .ok (.aload_n 0, 1) := dk_42 (dk_at dksX0_plan_1 4 rfl rfl)
theorem dX0_plan_27 : decode cX0_plan 27 = .ok (.getfield 39, 3) := dk_180 0 39 (dk_at dksX0_plan_1 5 rfl rfl)
theorem dX0_plan_30 : decode cX0_plan 30 = .ok (.getfield 242, 3) := dk_180 0 242 (dk_at dksX0_plan_1 8 rfl rfl)
theorem dX0_plan_33 : decode cX0_plan 33 = .ok (.iload_n 1, 1) := dk_27 (dk_at dksX0_plan_1 11 rfl rfl)
theorem dX0_plan_34 : decode cX0_plan 34 = .ok (.iaload, 1) := dk_46 (dk_at dksX0_plan_1 12 rfl rfl)
theorem dX0_plan_35 : decode cX0_plan 35 = .ok (.istore_n 3, 1) := dk_62 (dk_at dksX0_plan_1 13 rfl rfl)
theorem dX0_plan_36 : decode cX0_plan 36 = .ok (.aload_n 0, 1) := dk_42 (dk_at dksX0_plan_1 14 rfl rfl)
theorem dX0_plan_37 : decode cX0_plan 37 = .ok (.getfield 39, 3) := dk_180 0 39 (dk_at dksX0_plan_1 15 rfl rfl)
theorem dX0_plan_40 : decode cX0_plan 40 = .ok (.getfield 242, 3) := dk_180 0 242 (dk_at dksX0_plan_1 18 rfl rfl)
theorem dX0_plan_43 : decode cX0_plan 43 = .ok (.iload_n 1, 1) := dk_27 (dk_at dksX0_plan_1 21 rfl rfl)
theorem dX0_plan_44 : decode cX0_plan 44 = .ok (.iload_n 2, 1) := dk_28 (dk_at dksX0_plan_1 22 rfl rfl)
theorem dX0_plan_45 : decode cX0_plan 45 = .ok (.iastore, 1) := dk_79 (dk_at dksX0_plan_1 23 rfl rfl)
theorem dX0_plan_46 : decode cX0_plan 46 = .ok (.iload_n 3, 1) := dk_29 (dk_at dksX0_plan_2 0 rfl rfl)
theorem dX0_plan_47 : decode cX0_plan 47 = .ok (.ireturn, 1) := dk_172 (dk_at dksX0_plan_2 1 rfl rfl)
abbrev cX0_isPlanned : ByteArray := prog_1_method_30_code
def yX0_isPlanned : MethodName := ⟨RX0, "isPlanned", "(J)Z"⟩
def dkwX0_isPlanned_0 : List UInt8 := [31, 20, 0, 233, 148, 153, 0, 11, 42, 31, 182, 0, 235, 153, 0, 7, 4, 167, 0, 4, 3, 172]
abbrev dktX0_isPlanned_0 : List UInt8 := dkwX0_isPlanned_0 ++ []
theorem dksX0_isPlanned_0 : cX0_isPlanned.data.toList.drop 0 = dktX0_isPlanned_0 := by decide +kernel
theorem dX0_isPlanned_0 : decode cX0_isPlanned 0 = .ok (.lload_n 1, 1) := dk_31 (dk_at dksX0_isPlanned_0 0 rfl rfl)
theorem dX0_isPlanned_1 : decode cX0_isPlanned 1 = .ok (.ldc2_w 233, 3) := dk_20 0 233 (dk_at dksX0_isPlanned_0 1 rfl rfl)
theorem dX0_isPlanned_4 : decode cX0_isPlanned 4 = .ok (.lcmp, 1) := dk_148 (dk_at dksX0_isPlanned_0 4 rfl rfl)
theorem dX0_isPlanned_5 : decode cX0_isPlanned 5 = .ok (.ifCond .eq 11, 3) := dk_153 0 11 (dk_at dksX0_isPlanned_0 5 rfl rfl)
theorem dX0_isPlanned_8 : decode cX0_isPlanned 8 = .ok (.aload_n 0, 1) := dk_42 (dk_at dksX0_isPlanned_0 8 rfl rfl)
theorem dX0_isPlanned_9 : decode cX0_isPlanned 9 = .ok (.lload_n 1, 1) := dk_31 (dk_at dksX0_isPlanned_0 9 rfl rfl)
theorem dX0_isPlanned_10 : decode cX0_isPlanned 10 = .ok (.invokevirtual 235, 3) := dk_182 0 235 (dk_at dksX0_isPlanned_0 10 rfl rfl)
theorem dX0_isPlanned_13 : decode cX0_isPlanned 13 = .ok (.ifCond .eq 7, 3) := dk_153 0 7 (dk_at dksX0_isPlanned_0 13 rfl rfl)
theorem dX0_isPlanned_16 : decode cX0_isPlanned 16 = .ok (.iconst 1, 1) := dk_4 (dk_at dksX0_isPlanned_0 16 rfl rfl)
theorem dX0_isPlanned_17 : decode cX0_isPlanned 17 = .ok (.goto 4, 3) := dk_167 0 4 (dk_at dksX0_isPlanned_0 17 rfl rfl)
theorem dX0_isPlanned_20 : decode cX0_isPlanned 20 = .ok (.iconst 0, 1) := dk_3 (dk_at dksX0_isPlanned_0 20 rfl rfl)
theorem dX0_isPlanned_21 : decode cX0_isPlanned 21 = .ok (.ireturn, 1) := dk_172 (dk_at dksX0_isPlanned_0 21 rfl rfl)
abbrev cX0_isKeeper : ByteArray := prog_1_method_9_code
def yX0_isKeeper : MethodName := ⟨RX0, "isKeeper", "(J)Z"⟩
def dkwX0_isKeeper_1 : List UInt8 := [167, 0, 4, 3, 172]
abbrev dktX0_isKeeper_1 : List UInt8 := dkwX0_isKeeper_1 ++ []
def dkwX0_isKeeper_0 : List UInt8 := [31, 9, 148, 155, 0, 23, 31, 42, 180, 0, 39, 180, 0, 72, 182, 0, 76, 133, 148, 156, 0, 7, 4]
abbrev dktX0_isKeeper_0 : List UInt8 := dkwX0_isKeeper_0 ++ dktX0_isKeeper_1
theorem dksX0_isKeeper_0 : cX0_isKeeper.data.toList.drop 0 = dktX0_isKeeper_0 := by decide +kernel
theorem dksX0_isKeeper_1 : cX0_isKeeper.data.toList.drop 23 = dktX0_isKeeper_1 := dk_seg dksX0_isKeeper_0 23 rfl rfl
theorem dX0_isKeeper_0 : decode cX0_isKeeper 0 = .ok (.lload_n 1, 1) := dk_31 (dk_at dksX0_isKeeper_0 0 rfl rfl)
theorem dX0_isKeeper_1 : decode cX0_isKeeper 1 = .ok (.lconst 0, 1) := dk_9 (dk_at dksX0_isKeeper_0 1 rfl rfl)
theorem dX0_isKeeper_2 : decode cX0_isKeeper 2 = .ok (.lcmp, 1) := dk_148 (dk_at dksX0_isKeeper_0 2 rfl rfl)
theorem dX0_isKeeper_3 : decode cX0_isKeeper 3 = .ok (.ifCond .lt 23, 3) := dk_155 0 23 (dk_at dksX0_isKeeper_0 3 rfl rfl)
theorem dX0_isKeeper_6 : decode cX0_isKeeper 6 = .ok (.lload_n 1, 1) := dk_31 (dk_at dksX0_isKeeper_0 6 rfl rfl)
theorem dX0_isKeeper_7 : decode cX0_isKeeper 7 = .ok (.aload_n 0, 1) := dk_42 (dk_at dksX0_isKeeper_0 7 rfl rfl)
theorem dX0_isKeeper_8 : decode cX0_isKeeper 8 = .ok (.getfield 39, 3) := dk_180 0 39 (dk_at dksX0_isKeeper_0 8 rfl rfl)
theorem dX0_isKeeper_11 : decode cX0_isKeeper 11 = .ok (.getfield 72, 3) := dk_180 0 72 (dk_at dksX0_isKeeper_0 11 rfl rfl)
theorem dX0_isKeeper_14 : decode cX0_isKeeper 14 = .ok (.invokevirtual 76, 3) := dk_182 0 76 (dk_at dksX0_isKeeper_0 14 rfl rfl)
theorem dX0_isKeeper_17 : decode cX0_isKeeper 17 = .ok (.i2l, 1) := dk_133 (dk_at dksX0_isKeeper_0 17 rfl rfl)
theorem dX0_isKeeper_18 : decode cX0_isKeeper 18 = .ok (.lcmp, 1) := dk_148 (dk_at dksX0_isKeeper_0 18 rfl rfl)
theorem dX0_isKeeper_19 : decode cX0_isKeeper 19 = .ok (.ifCond .ge 7, 3) := dk_156 0 7 (dk_at dksX0_isKeeper_0 19 rfl rfl)
theorem dX0_isKeeper_22 : decode cX0_isKeeper 22 = .ok (.iconst 1, 1) := dk_4 (dk_at dksX0_isKeeper_0 22 rfl rfl)
theorem dX0_isKeeper_23 : decode cX0_isKeeper 23 = .ok (.goto 4, 3) := dk_167 0 4 (dk_at dksX0_isKeeper_1 0 rfl rfl)
theorem dX0_isKeeper_26 : decode cX0_isKeeper 26 = .ok (.iconst 0, 1) := dk_3 (dk_at dksX0_isKeeper_1 3 rfl rfl)
theorem dX0_isKeeper_27 : decode cX0_isKeeper 27 = .ok (.ireturn, 1) := dk_172 (dk_at dksX0_isKeeper_1 4 rfl rfl)
abbrev cX0_plans : ByteArray := prog_1_method_35_code
def yX0_plans : MethodName := ⟨RX0, "plans", "(I)I"⟩
def dkwX0_plans_1 : List UInt8 := [44, 180, 0, 131, 182, 0, 102, 172]
abbrev dktX0_plans_1 : List UInt8 := dkwX0_plans_1 ++ []
def dkwX0_plans_0 : List UInt8 := [42, 4, 27, 182, 0, 253, 3, 42, 180, 0, 39, 180, 0, 242, 3, 16, 24, 184, 0, 137, 4, 172, 77, 42]
abbrev dktX0_plans_0 : List UInt8 := dkwX0_plans_0 ++ dktX0_plans_1
theorem dksX0_plans_0 : cX0_plans.data.toList.drop 0 = dktX0_plans_0 := by decide +kernel
theorem dksX0_plans_1 : cX0_plans.data.toList.drop 24 = dktX0_plans_1 := dk_seg dksX0_plans_0 24 rfl rfl
theorem dX0_plans_0 : decode cX0_plans 0 = .ok (.aload_n 0, 1) := dk_42 (dk_at dksX0_plans_0 0 rfl rfl)
theorem dX0_plans_1 : decode cX0_plans 1 = .ok (.iconst 1, 1) := dk_4 (dk_at dksX0_plans_0 1 rfl rfl)
theorem dX0_plans_2 : decode cX0_plans 2 = .ok (.iload_n 1, 1) := dk_27 (dk_at dksX0_plans_0 2 rfl rfl)
theorem dX0_plans_3 : decode cX0_plans 3 = .ok (.invokevirtual 253, 3) := dk_182 0 253 (dk_at dksX0_plans_0 3 rfl rfl)
theorem dX0_plans_6 : decode cX0_plans 6 = .ok (.iconst 0, 1) := dk_3 (dk_at dksX0_plans_0 6 rfl rfl)
theorem dX0_plans_7 : decode cX0_plans 7 = .ok (.aload_n 0, 1) := dk_42 (dk_at dksX0_plans_0 7 rfl rfl)
theorem dX0_plans_8 : decode cX0_plans 8 = .ok (.getfield 39, 3) := dk_180 0 39 (dk_at dksX0_plans_0 8 rfl rfl)
theorem dX0_plans_11 : decode cX0_plans 11 = .ok (.getfield 242, 3) := dk_180 0 242 (dk_at dksX0_plans_0 11 rfl rfl)
theorem dX0_plans_14 : decode cX0_plans 14 = .ok (.iconst 0, 1) := dk_3 (dk_at dksX0_plans_0 14 rfl rfl)
theorem dX0_plans_15 : decode cX0_plans 15 = .ok (.bipush 24, 2) := dk_16 24 (dk_at dksX0_plans_0 15 rfl rfl)
theorem dX0_plans_17 : decode cX0_plans 17 = .ok (.invokestatic 137, 3) := dk_184 0 137 (dk_at dksX0_plans_0 17 rfl rfl)
theorem dX0_plans_20 : decode cX0_plans 20 = .ok (.iconst 1, 1) := dk_4 (dk_at dksX0_plans_0 20 rfl rfl)
theorem dX0_plans_21 : decode cX0_plans 21 = .ok (.ireturn, 1) := dk_172 (dk_at dksX0_plans_0 21 rfl rfl)
theorem dX0_plans_22 : decode cX0_plans 22 = .ok (.astore_n 2, 1) := dk_77 (dk_at dksX0_plans_0 22 rfl rfl)
theorem dX0_plans_23 : decode cX0_plans 23 = .ok (.aload_n 0, 1) := dk_42 (dk_at dksX0_plans_0 23 rfl rfl)
theorem dX0_plans_24 : decode cX0_plans 24 = .ok (.aload_n 2, 1) := dk_44 (dk_at dksX0_plans_1 0 rfl rfl)
theorem dX0_plans_25 : decode cX0_plans 25 = .ok (.getfield 131, 3) := dk_180 0 131 (dk_at dksX0_plans_1 1 rfl rfl)
theorem dX0_plans_28 : decode cX0_plans 28 = .ok (.invokevirtual 102, 3) := dk_182 0 102 (dk_at dksX0_plans_1 4 rfl rfl)
theorem dX0_plans_31 : decode cX0_plans 31 = .ok (.ireturn, 1) := dk_172 (dk_at dksX0_plans_1 7 rfl rfl)
abbrev cX0_planIn : ByteArray := prog_1_method_34_code
def yX0_planIn : MethodName := ⟨RX0, "planIn", "(ZI)[I"⟩
def dkwX0_planIn_2 : List UInt8 := [183, 0, 120, 191, 25, 4, 21, 5, 45, 21, 5, 47, 136, 79, 132, 5, 1, 167, 255, 215, 25, 4, 176]
abbrev dktX0_planIn_2 : List UInt8 := dkwX0_planIn_2 ++ []
def dkwX0_planIn_1 : List UInt8 := [16, 24, 162, 0, 40, 42, 45, 21, 5, 47, 182, 0, 239, 154, 0, 13, 187, 0, 118, 89, 16, 154]
abbrev dktX0_planIn_1 : List UInt8 := dkwX0_planIn_1 ++ dktX0_planIn_2
def dkwX0_planIn_0 : List UInt8 := [42, 27, 28, 16, 24, 16, 24, 4, 182, 0, 249, 78, 16, 24, 188, 10, 58, 4, 3, 54, 5, 21, 5]
abbrev dktX0_planIn_0 : List UInt8 := dkwX0_planIn_0 ++ dktX0_planIn_1
theorem dksX0_planIn_0 : cX0_planIn.data.toList.drop 0 = dktX0_planIn_0 := by decide +kernel
theorem dksX0_planIn_1 : cX0_planIn.data.toList.drop 23 = dktX0_planIn_1 := dk_seg dksX0_planIn_0 23 rfl rfl
theorem dksX0_planIn_2 : cX0_planIn.data.toList.drop 45 = dktX0_planIn_2 := dk_seg dksX0_planIn_1 22 rfl rfl
theorem dX0_planIn_0 : decode cX0_planIn 0 = .ok (.aload_n 0, 1) := dk_42 (dk_at dksX0_planIn_0 0 rfl rfl)
theorem dX0_planIn_1 : decode cX0_planIn 1 = .ok (.iload_n 1, 1) := dk_27 (dk_at dksX0_planIn_0 1 rfl rfl)
theorem dX0_planIn_2 : decode cX0_planIn 2 = .ok (.iload_n 2, 1) := dk_28 (dk_at dksX0_planIn_0 2 rfl rfl)
theorem dX0_planIn_3 : decode cX0_planIn 3 = .ok (.bipush 24, 2) := dk_16 24 (dk_at dksX0_planIn_0 3 rfl rfl)
theorem dX0_planIn_5 : decode cX0_planIn 5 = .ok (.bipush 24, 2) := dk_16 24 (dk_at dksX0_planIn_0 5 rfl rfl)
theorem dX0_planIn_7 : decode cX0_planIn 7 = .ok (.iconst 1, 1) := dk_4 (dk_at dksX0_planIn_0 7 rfl rfl)
theorem dX0_planIn_8 : decode cX0_planIn 8 = .ok (.invokevirtual 249, 3) := dk_182 0 249 (dk_at dksX0_planIn_0 8 rfl rfl)
theorem dX0_planIn_11 : decode cX0_planIn 11 = .ok (.astore_n 3, 1) := dk_78 (dk_at dksX0_planIn_0 11 rfl rfl)
theorem dX0_planIn_12 : decode cX0_planIn 12 = .ok (.bipush 24, 2) := dk_16 24 (dk_at dksX0_planIn_0 12 rfl rfl)
theorem dX0_planIn_14 : decode cX0_planIn 14 = .ok (.newarray .int, 2) := dk_188_10 (dk_at dksX0_planIn_0 14 rfl rfl)
theorem dX0_planIn_16 : decode cX0_planIn 16 = .ok (.astore 4, 2) := dk_58 4 (dk_at dksX0_planIn_0 16 rfl rfl)
theorem dX0_planIn_18 : decode cX0_planIn 18 = .ok (.iconst 0, 1) := dk_3 (dk_at dksX0_planIn_0 18 rfl rfl)
theorem dX0_planIn_19 : decode cX0_planIn 19 = .ok (.istore 5, 2) := dk_54 5 (dk_at dksX0_planIn_0 19 rfl rfl)
theorem dX0_planIn_21 : decode cX0_planIn 21 = .ok (.iload 5, 2) := dk_21 5 (dk_at dksX0_planIn_0 21 rfl rfl)
theorem dX0_planIn_23 : decode cX0_planIn 23 = .ok (.bipush 24, 2) := dk_16 24 (dk_at dksX0_planIn_1 0 rfl rfl)
theorem dX0_planIn_25 : decode cX0_planIn 25 = .ok (.if_icmp .ge 40, 3) := dk_162 0 40 (dk_at dksX0_planIn_1 2 rfl rfl)
theorem dX0_planIn_28 : decode cX0_planIn 28 = .ok (.aload_n 0, 1) := dk_42 (dk_at dksX0_planIn_1 5 rfl rfl)
theorem dX0_planIn_29 : decode cX0_planIn 29 = .ok (.aload_n 3, 1) := dk_45 (dk_at dksX0_planIn_1 6 rfl rfl)
theorem dX0_planIn_30 : decode cX0_planIn 30 = .ok (.iload 5, 2) := dk_21 5 (dk_at dksX0_planIn_1 7 rfl rfl)
theorem dX0_planIn_32 : decode cX0_planIn 32 = .ok (.laload, 1) := dk_47 (dk_at dksX0_planIn_1 9 rfl rfl)
theorem dX0_planIn_33 : decode cX0_planIn 33 = .ok (.invokevirtual 239, 3) := dk_182 0 239 (dk_at dksX0_planIn_1 10 rfl rfl)
theorem dX0_planIn_36 : decode cX0_planIn 36 = .ok (.ifCond .ne 13, 3) := dk_154 0 13 (dk_at dksX0_planIn_1 13 rfl rfl)
theorem dX0_planIn_39 : decode cX0_planIn 39 = .ok (.new 118, 3) := dk_187 0 118 (dk_at dksX0_planIn_1 16 rfl rfl)
theorem dX0_planIn_42 : decode cX0_planIn 42 = .ok (.dup, 1) := dk_89 (dk_at dksX0_planIn_1 19 rfl rfl)
theorem dX0_planIn_43 : decode cX0_planIn 43 = .ok (.bipush (-102), 2) := dk_16 154 (dk_at dksX0_planIn_1 20 rfl rfl)
theorem dX0_planIn_45 : decode cX0_planIn 45 = .ok (.invokespecial 120, 3) := dk_183 0 120 (dk_at dksX0_planIn_2 0 rfl rfl)
theorem dX0_planIn_48 : decode cX0_planIn 48 = .ok (.athrow, 1) := dk_191 (dk_at dksX0_planIn_2 3 rfl rfl)
theorem dX0_planIn_49 : decode cX0_planIn 49 = .ok (.aload 4, 2) := dk_25 4 (dk_at dksX0_planIn_2 4 rfl rfl)
theorem dX0_planIn_51 : decode cX0_planIn 51 = .ok (.iload 5, 2) := dk_21 5 (dk_at dksX0_planIn_2 6 rfl rfl)
theorem dX0_planIn_53 : decode cX0_planIn 53 = .ok (.aload_n 3, 1) := dk_45 (dk_at dksX0_planIn_2 8 rfl rfl)
theorem dX0_planIn_54 : decode cX0_planIn 54 = .ok (.iload 5, 2) := dk_21 5 (dk_at dksX0_planIn_2 9 rfl rfl)
theorem dX0_planIn_56 : decode cX0_planIn 56 = .ok (.laload, 1) := dk_47 (dk_at dksX0_planIn_2 11 rfl rfl)
theorem dX0_planIn_57 : decode cX0_planIn 57 = .ok (.l2i, 1) := dk_136 (dk_at dksX0_planIn_2 12 rfl rfl)
theorem dX0_planIn_58 : decode cX0_planIn 58 = .ok (.iastore, 1) := dk_79 (dk_at dksX0_planIn_2 13 rfl rfl)
theorem dX0_planIn_59 : decode cX0_planIn 59 = .ok (.iinc 5 1, 3) := dk_132 5 1 (dk_at dksX0_planIn_2 14 rfl rfl)
theorem dX0_planIn_62 : decode cX0_planIn 62 = .ok (.goto (-41), 3) := dk_167 255 215 (dk_at dksX0_planIn_2 17 rfl rfl)
theorem dX0_planIn_65 : decode cX0_planIn 65 = .ok (.aload 4, 2) := dk_25 4 (dk_at dksX0_planIn_2 20 rfl rfl)
theorem dX0_planIn_67 : decode cX0_planIn 67 = .ok (.areturn, 1) := dk_176 (dk_at dksX0_planIn_2 22 rfl rfl)
abbrev cX0_toldIn : ByteArray := prog_1_method_33_code
def yX0_toldIn : MethodName := ⟨RX0, "toldIn", "(ZIIII)[J"⟩
def dkwX0_toldIn_1 : List UInt8 := [89, 16, 154, 183, 0, 120, 191, 42, 28, 182, 0, 123, 21, 5, 29, 104, 184, 0, 245, 176]
abbrev dktX0_toldIn_1 : List UInt8 := dkwX0_toldIn_1 ++ []
def dkwX0_toldIn_0 : List UInt8 := [27, 153, 0, 20, 28, 184, 0, 98, 153, 0, 13, 29, 3, 21, 4, 184, 0, 68, 154, 0, 13, 187, 0, 118]
abbrev dktX0_toldIn_0 : List UInt8 := dkwX0_toldIn_0 ++ dktX0_toldIn_1
theorem dksX0_toldIn_0 : cX0_toldIn.data.toList.drop 0 = dktX0_toldIn_0 := by decide +kernel
theorem dksX0_toldIn_1 : cX0_toldIn.data.toList.drop 24 = dktX0_toldIn_1 := dk_seg dksX0_toldIn_0 24 rfl rfl
theorem dX0_toldIn_0 : decode cX0_toldIn 0 = .ok (.iload_n 1, 1) := dk_27 (dk_at dksX0_toldIn_0 0 rfl rfl)
theorem dX0_toldIn_1 : decode cX0_toldIn 1 = .ok (.ifCond .eq 20, 3) := dk_153 0 20 (dk_at dksX0_toldIn_0 1 rfl rfl)
theorem dX0_toldIn_4 : decode cX0_toldIn 4 = .ok (.iload_n 2, 1) := dk_28 (dk_at dksX0_toldIn_0 4 rfl rfl)
theorem dX0_toldIn_5 : decode cX0_toldIn 5 = .ok (.invokestatic 98, 3) := dk_184 0 98 (dk_at dksX0_toldIn_0 5 rfl rfl)
theorem dX0_toldIn_8 : decode cX0_toldIn 8 = .ok (.ifCond .eq 13, 3) := dk_153 0 13 (dk_at dksX0_toldIn_0 8 rfl rfl)
theorem dX0_toldIn_11 : decode cX0_toldIn 11 = .ok (.iload_n 3, 1) := dk_29 (dk_at dksX0_toldIn_0 11 rfl rfl)
theorem dX0_toldIn_12 : decode cX0_toldIn 12 = .ok (.iconst 0, 1) := dk_3 (dk_at dksX0_toldIn_0 12 rfl rfl)
theorem dX0_toldIn_13 : decode cX0_toldIn 13 = .ok (.iload 4, 2) := dk_21 4 (dk_at dksX0_toldIn_0 13 rfl rfl)
theorem dX0_toldIn_15 : decode cX0_toldIn 15 = .ok (.invokestatic 68, 3) := dk_184 0 68 (dk_at dksX0_toldIn_0 15 rfl rfl)
theorem dX0_toldIn_18 : decode cX0_toldIn 18 = .ok (.ifCond .ne 13, 3) := dk_154 0 13 (dk_at dksX0_toldIn_0 18 rfl rfl)
theorem dX0_toldIn_21 : decode cX0_toldIn 21 = .ok (.new 118, 3) := dk_187 0 118 (dk_at dksX0_toldIn_0 21 rfl rfl)
theorem dX0_toldIn_24 : decode cX0_toldIn 24 = .ok (.dup, 1) := dk_89 (dk_at dksX0_toldIn_1 0 rfl rfl)
theorem dX0_toldIn_25 : decode cX0_toldIn 25 = .ok (.bipush (-102), 2) := dk_16 154 (dk_at dksX0_toldIn_1 1 rfl rfl)
theorem dX0_toldIn_27 : decode cX0_toldIn 27 = .ok (.invokespecial 120, 3) := dk_183 0 120 (dk_at dksX0_toldIn_1 3 rfl rfl)
theorem dX0_toldIn_30 : decode cX0_toldIn 30 = .ok (.athrow, 1) := dk_191 (dk_at dksX0_toldIn_1 6 rfl rfl)
theorem dX0_toldIn_31 : decode cX0_toldIn 31 = .ok (.aload_n 0, 1) := dk_42 (dk_at dksX0_toldIn_1 7 rfl rfl)
theorem dX0_toldIn_32 : decode cX0_toldIn 32 = .ok (.iload_n 2, 1) := dk_28 (dk_at dksX0_toldIn_1 8 rfl rfl)
theorem dX0_toldIn_33 : decode cX0_toldIn 33 = .ok (.invokevirtual 123, 3) := dk_182 0 123 (dk_at dksX0_toldIn_1 9 rfl rfl)
theorem dX0_toldIn_36 : decode cX0_toldIn 36 = .ok (.iload 5, 2) := dk_21 5 (dk_at dksX0_toldIn_1 12 rfl rfl)
theorem dX0_toldIn_38 : decode cX0_toldIn 38 = .ok (.iload_n 3, 1) := dk_29 (dk_at dksX0_toldIn_1 14 rfl rfl)
theorem dX0_toldIn_39 : decode cX0_toldIn 39 = .ok (.imul, 1) := dk_104 (dk_at dksX0_toldIn_1 15 rfl rfl)
theorem dX0_toldIn_40 : decode cX0_toldIn 40 = .ok (.invokestatic 245, 3) := dk_184 0 245 (dk_at dksX0_toldIn_1 16 rfl rfl)
theorem dX0_toldIn_43 : decode cX0_toldIn 43 = .ok (.areturn, 1) := dk_176 (dk_at dksX0_toldIn_1 19 rfl rfl)
abbrev cX0_elementsIn : ByteArray := prog_1_method_32_code
def yX0_elementsIn : MethodName := ⟨RX0, "elementsIn", "(Ljava/lang/Object;I)[J"⟩
def dkwX0_elementsIn_1 : List UInt8 := [167, 255, 240, 167, 0, 14, 78, 187, 0, 118, 89, 16, 154, 183, 0, 120, 191, 44, 176]
abbrev dktX0_elementsIn_1 : List UInt8 := dkwX0_elementsIn_1 ++ []
def dkwX0_elementsIn_0 : List UInt8 := [27, 188, 11, 77, 3, 62, 29, 27, 162, 0, 17, 44, 29, 42, 29, 184, 0, 149, 80, 132, 3, 1]
abbrev dktX0_elementsIn_0 : List UInt8 := dkwX0_elementsIn_0 ++ dktX0_elementsIn_1
theorem dksX0_elementsIn_0 : cX0_elementsIn.data.toList.drop 0 = dktX0_elementsIn_0 := by decide +kernel
theorem dksX0_elementsIn_1 : cX0_elementsIn.data.toList.drop 22 = dktX0_elementsIn_1 := dk_seg dksX0_elementsIn_0 22 rfl rfl
theorem dX0_elementsIn_0 : decode cX0_elementsIn 0 = .ok (.iload_n 1, 1) := dk_27 (dk_at dksX0_elementsIn_0 0 rfl rfl)
theorem dX0_elementsIn_1 : decode cX0_elementsIn 1 = .ok (.newarray .long, 2) := dk_188_11 (dk_at dksX0_elementsIn_0 1 rfl rfl)
theorem dX0_elementsIn_3 : decode cX0_elementsIn 3 = .ok (.astore_n 2, 1) := dk_77 (dk_at dksX0_elementsIn_0 3 rfl rfl)
theorem dX0_elementsIn_4 : decode cX0_elementsIn 4 = .ok (.iconst 0, 1) := dk_3 (dk_at dksX0_elementsIn_0 4 rfl rfl)
theorem dX0_elementsIn_5 : decode cX0_elementsIn 5 = .ok (.istore_n 3, 1) := dk_62 (dk_at dksX0_elementsIn_0 5 rfl rfl)
theorem dX0_elementsIn_6 : decode cX0_elementsIn 6 = .ok (.iload_n 3, 1) := dk_29 (dk_at dksX0_elementsIn_0 6 rfl rfl)
theorem dX0_elementsIn_7 : decode cX0_elementsIn 7 = .ok (.iload_n 1, 1) := dk_27 (dk_at dksX0_elementsIn_0 7 rfl rfl)
theorem dX0_elementsIn_8 : decode cX0_elementsIn 8 = .ok (.if_icmp .ge 17, 3) := dk_162 0 17 (dk_at dksX0_elementsIn_0 8 rfl rfl)
theorem dX0_elementsIn_11 : decode cX0_elementsIn 11 = .ok (.aload_n 2, 1) := dk_44 (dk_at dksX0_elementsIn_0 11 rfl rfl)
theorem dX0_elementsIn_12 : decode cX0_elementsIn 12 = .ok (.iload_n 3, 1) := dk_29 (dk_at dksX0_elementsIn_0 12 rfl rfl)
theorem dX0_elementsIn_13 : decode cX0_elementsIn 13 = .ok (.aload_n 0, 1) := dk_42 (dk_at dksX0_elementsIn_0 13 rfl rfl)
theorem dX0_elementsIn_14 : decode cX0_elementsIn 14 = .ok (.iload_n 3, 1) := dk_29 (dk_at dksX0_elementsIn_0 14 rfl rfl)
theorem dX0_elementsIn_15 : decode cX0_elementsIn 15 = .ok (.invokestatic 149, 3) := dk_184 0 149 (dk_at dksX0_elementsIn_0 15 rfl rfl)
theorem dX0_elementsIn_18 : decode cX0_elementsIn 18 = .ok (.lastore, 1) := dk_80 (dk_at dksX0_elementsIn_0 18 rfl rfl)
theorem dX0_elementsIn_19 : decode cX0_elementsIn 19 = .ok (.iinc 3 1, 3) := dk_132 3 1 (dk_at dksX0_elementsIn_0 19 rfl rfl)
theorem dX0_elementsIn_22 : decode cX0_elementsIn 22 = .ok (.goto (-16), 3) := dk_167 255 240 (dk_at dksX0_elementsIn_1 0 rfl rfl)
theorem dX0_elementsIn_25 : decode cX0_elementsIn 25 = .ok (.goto 14, 3) := dk_167 0 14 (dk_at dksX0_elementsIn_1 3 rfl rfl)
theorem dX0_elementsIn_28 : decode cX0_elementsIn 28 = .ok (.astore_n 3, 1) := dk_78 (dk_at dksX0_elementsIn_1 6 rfl rfl)
theorem dX0_elementsIn_29 : decode cX0_elementsIn 29 = .ok (.new 118, 3) := dk_187 0 118 (dk_at dksX0_elementsIn_1 7 rfl rfl)
theorem dX0_elementsIn_32 : decode cX0_elementsIn 32 = .ok (.dup, 1) := dk_89 (dk_at dksX0_elementsIn_1 10 rfl rfl)
theorem dX0_elementsIn_33 : decode cX0_elementsIn 33 = .ok (.bipush (-102), 2) := dk_16 154 (dk_at dksX0_elementsIn_1 11 rfl rfl)
theorem dX0_elementsIn_35 : decode cX0_elementsIn 35 = .ok (.invokespecial 120, 3) := dk_183 0 120 (dk_at dksX0_elementsIn_1 13 rfl rfl)
theorem dX0_elementsIn_38 : decode cX0_elementsIn 38 = .ok (.athrow, 1) := dk_191 (dk_at dksX0_elementsIn_1 16 rfl rfl)
theorem dX0_elementsIn_39 : decode cX0_elementsIn 39 = .ok (.aload_n 2, 1) := dk_44 (dk_at dksX0_elementsIn_1 17 rfl rfl)
theorem dX0_elementsIn_40 : decode cX0_elementsIn 40 = .ok (.areturn, 1) := dk_176 (dk_at dksX0_elementsIn_1 18 rfl rfl)
abbrev cX0_tell : ByteArray := prog_1_method_38_code
def yX0_tell : MethodName := ⟨RX0, "tell", "(II)I"⟩
def dkwX0_tell_2 : List UInt8 := [27, 28, 79, 29, 172]
abbrev dktX0_tell_2 : List UInt8 := dkwX0_tell_2 ++ []
def dkwX0_tell_1 : List UInt8 := [42, 16, 154, 182, 0, 102, 172, 42, 180, 0, 39, 180, 1, 7, 27, 46, 62, 42, 180, 0, 39, 180, 1, 7]
abbrev dktX0_tell_1 : List UInt8 := dkwX0_tell_1 ++ dktX0_tell_2
def dkwX0_tell_0 : List UInt8 := [27, 3, 7, 184, 0, 68, 153, 0, 18, 28, 27, 184, 1, 1, 27, 184, 1, 4, 184, 0, 68, 154, 0, 10]
abbrev dktX0_tell_0 : List UInt8 := dkwX0_tell_0 ++ dktX0_tell_1
theorem dksX0_tell_0 : cX0_tell.data.toList.drop 0 = dktX0_tell_0 := by decide +kernel
theorem dksX0_tell_1 : cX0_tell.data.toList.drop 24 = dktX0_tell_1 := dk_seg dksX0_tell_0 24 rfl rfl
theorem dksX0_tell_2 : cX0_tell.data.toList.drop 48 = dktX0_tell_2 := dk_seg dksX0_tell_1 24 rfl rfl
theorem dX0_tell_0 : decode cX0_tell 0 = .ok (.iload_n 1, 1) := dk_27 (dk_at dksX0_tell_0 0 rfl rfl)
theorem dX0_tell_1 : decode cX0_tell 1 = .ok (.iconst 0, 1) := dk_3 (dk_at dksX0_tell_0 1 rfl rfl)
theorem dX0_tell_2 : decode cX0_tell 2 = .ok (.iconst 4, 1) := dk_7 (dk_at dksX0_tell_0 2 rfl rfl)
theorem dX0_tell_3 : decode cX0_tell 3 = .ok (.invokestatic 68, 3) := dk_184 0 68 (dk_at dksX0_tell_0 3 rfl rfl)
theorem dX0_tell_6 : decode cX0_tell 6 = .ok (.ifCond .eq 18, 3) := dk_153 0 18 (dk_at dksX0_tell_0 6 rfl rfl)
theorem dX0_tell_9 : decode cX0_tell 9 = .ok (.iload_n 2, 1) := dk_28 (dk_at dksX0_tell_0 9 rfl rfl)
theorem dX0_tell_10 : decode cX0_tell 10 = .ok (.iload_n 1, 1) := dk_27 (dk_at dksX0_tell_0 10 rfl rfl)
theorem dX0_tell_11 : decode cX0_tell 11 = .ok (.invokestatic 257, 3) := dk_184 1 1 (dk_at dksX0_tell_0 11 rfl rfl)
theorem dX0_tell_14 : decode cX0_tell 14 = .ok (.iload_n 1, 1) := dk_27 (dk_at dksX0_tell_0 14 rfl rfl)
theorem dX0_tell_15 : decode cX0_tell 15 = .ok (.invokestatic 260, 3) := dk_184 1 4 (dk_at dksX0_tell_0 15 rfl rfl)
theorem dX0_tell_18 : decode cX0_tell 18 = .ok (.invokestatic 68, 3) := dk_184 0 68 (dk_at dksX0_tell_0 18 rfl rfl)
theorem dX0_tell_21 : decode cX0_tell 21 = .ok (.ifCond .ne 10, 3) := dk_154 0 10 (dk_at dksX0_tell_0 21 rfl rfl)
theorem dX0_tell_24 : decode cX0_tell 24 = .ok (.aload_n 0, 1) := dk_42 (dk_at dksX0_tell_1 0 rfl rfl)
theorem dX0_tell_25 : decode cX0_tell 25 = .ok (.bipush (-102), 2) := dk_16 154 (dk_at dksX0_tell_1 1 rfl rfl)
theorem dX0_tell_27 : decode cX0_tell 27 = .ok (.invokevirtual 102, 3) := dk_182 0 102 (dk_at dksX0_tell_1 3 rfl rfl)
theorem dX0_tell_30 : decode cX0_tell 30 = .ok (.ireturn, 1) := dk_172 (dk_at dksX0_tell_1 6 rfl rfl)
theorem dX0_tell_31 : decode cX0_tell 31 = .ok (.aload_n 0, 1) := dk_42 (dk_at dksX0_tell_1 7 rfl rfl)
theorem dX0_tell_32 : decode cX0_tell 32 = .ok (.getfield 39, 3) := dk_180 0 39 (dk_at dksX0_tell_1 8 rfl rfl)
theorem dX0_tell_35 : decode cX0_tell 35 = .ok (.getfield 263, 3) := dk_180 1 7 (dk_at dksX0_tell_1 11 rfl rfl)
theorem dX0_tell_38 : decode cX0_tell 38 = .ok (.iload_n 1, 1) := dk_27 (dk_at dksX0_tell_1 14 rfl rfl)
theorem dX0_tell_39 : decode cX0_tell 39 = .ok (.iaload, 1) := dk_46 (dk_at dksX0_tell_1 15 rfl rfl)
theorem dX0_tell_40 : decode cX0_tell 40 = .ok (.istore_n 3, 1) := dk_62 (dk_at dksX0_tell_1 16 rfl rfl)
theorem dX0_tell_41 : decode cX0_tell 41 = .ok (.aload_n 0, 1) := dk_42 (dk_at dksX0_tell_1 17 rfl rfl)
theorem dX0_tell_42 : decode cX0_tell 42 = .ok (.getfield 39, 3) := dk_180 0 39 (dk_at dksX0_tell_1 18 rfl rfl)
theorem dX0_tell_45 : decode cX0_tell 45 = .ok (.getfield 263, 3) := dk_180 1 7 (dk_at dksX0_tell_1 21 rfl rfl)
theorem dX0_tell_48 : decode cX0_tell 48 = .ok (.iload_n 1, 1) := dk_27 (dk_at dksX0_tell_2 0 rfl rfl)
theorem dX0_tell_49 : decode cX0_tell 49 = .ok (.iload_n 2, 1) := dk_28 (dk_at dksX0_tell_2 1 rfl rfl)
theorem dX0_tell_50 : decode cX0_tell 50 = .ok (.iastore, 1) := dk_79 (dk_at dksX0_tell_2 2 rfl rfl)
theorem dX0_tell_51 : decode cX0_tell 51 = .ok (.iload_n 3, 1) := dk_29 (dk_at dksX0_tell_2 3 rfl rfl)
theorem dX0_tell_52 : decode cX0_tell 52 = .ok (.ireturn, 1) := dk_172 (dk_at dksX0_tell_2 4 rfl rfl)
abbrev cX0_least : ByteArray := prog_1_method_36_code
def yX0_least : MethodName := ⟨RX0, "least", "(I)I"⟩
def dkwX0_least_0 : List UInt8 := [26, 4, 160, 0, 8, 16, 13, 167, 0, 13, 26, 5, 160, 0, 7, 4, 167, 0, 4, 3, 172]
abbrev dktX0_least_0 : List UInt8 := dkwX0_least_0 ++ []
theorem dksX0_least_0 : cX0_least.data.toList.drop 0 = dktX0_least_0 := by decide +kernel
theorem dX0_least_0 : decode cX0_least 0 = .ok (.iload_n 0, 1) := dk_26 (dk_at dksX0_least_0 0 rfl rfl)
theorem dX0_least_1 : decode cX0_least 1 = .ok (.iconst 1, 1) := dk_4 (dk_at dksX0_least_0 1 rfl rfl)
theorem dX0_least_2 : decode cX0_least 2 = .ok (.if_icmp .ne 8, 3) := dk_160 0 8 (dk_at dksX0_least_0 2 rfl rfl)
theorem dX0_least_5 : decode cX0_least 5 = .ok (.bipush 13, 2) := dk_16 13 (dk_at dksX0_least_0 5 rfl rfl)
theorem dX0_least_7 : decode cX0_least 7 = .ok (.goto 13, 3) := dk_167 0 13 (dk_at dksX0_least_0 7 rfl rfl)
theorem dX0_least_10 : decode cX0_least 10 = .ok (.iload_n 0, 1) := dk_26 (dk_at dksX0_least_0 10 rfl rfl)
theorem dX0_least_11 : decode cX0_least 11 = .ok (.iconst 2, 1) := dk_5 (dk_at dksX0_least_0 11 rfl rfl)
theorem dX0_least_12 : decode cX0_least 12 = .ok (.if_icmp .ne 7, 3) := dk_160 0 7 (dk_at dksX0_least_0 12 rfl rfl)
theorem dX0_least_15 : decode cX0_least 15 = .ok (.iconst 1, 1) := dk_4 (dk_at dksX0_least_0 15 rfl rfl)
theorem dX0_least_16 : decode cX0_least 16 = .ok (.goto 4, 3) := dk_167 0 4 (dk_at dksX0_least_0 16 rfl rfl)
theorem dX0_least_19 : decode cX0_least 19 = .ok (.iconst 0, 1) := dk_3 (dk_at dksX0_least_0 19 rfl rfl)
theorem dX0_least_20 : decode cX0_least 20 = .ok (.ireturn, 1) := dk_172 (dk_at dksX0_least_0 20 rfl rfl)
abbrev cX0_most : ByteArray := prog_1_method_37_code
def yX0_most : MethodName := ⟨RX0, "most", "(I)I"⟩
def dkwX0_most_1 : List UInt8 := [7, 167, 0, 6, 17, 39, 15, 172]
abbrev dktX0_most_1 : List UInt8 := dkwX0_most_1 ++ []
def dkwX0_most_0 : List UInt8 := [26, 154, 0, 8, 16, 12, 167, 0, 25, 26, 4, 160, 0, 8, 16, 24, 167, 0, 15, 26, 5, 160, 0, 7]
abbrev dktX0_most_0 : List UInt8 := dkwX0_most_0 ++ dktX0_most_1
theorem dksX0_most_0 : cX0_most.data.toList.drop 0 = dktX0_most_0 := by decide +kernel
theorem dksX0_most_1 : cX0_most.data.toList.drop 24 = dktX0_most_1 := dk_seg dksX0_most_0 24 rfl rfl
theorem dX0_most_0 : decode cX0_most 0 = .ok (.iload_n 0, 1) := dk_26 (dk_at dksX0_most_0 0 rfl rfl)
theorem dX0_most_1 : decode cX0_most 1 = .ok (.ifCond .ne 8, 3) := dk_154 0 8 (dk_at dksX0_most_0 1 rfl rfl)
theorem dX0_most_4 : decode cX0_most 4 = .ok (.bipush 12, 2) := dk_16 12 (dk_at dksX0_most_0 4 rfl rfl)
theorem dX0_most_6 : decode cX0_most 6 = .ok (.goto 25, 3) := dk_167 0 25 (dk_at dksX0_most_0 6 rfl rfl)
theorem dX0_most_9 : decode cX0_most 9 = .ok (.iload_n 0, 1) := dk_26 (dk_at dksX0_most_0 9 rfl rfl)
theorem dX0_most_10 : decode cX0_most 10 = .ok (.iconst 1, 1) := dk_4 (dk_at dksX0_most_0 10 rfl rfl)
theorem dX0_most_11 : decode cX0_most 11 = .ok (.if_icmp .ne 8, 3) := dk_160 0 8 (dk_at dksX0_most_0 11 rfl rfl)
theorem dX0_most_14 : decode cX0_most 14 = .ok (.bipush 24, 2) := dk_16 24 (dk_at dksX0_most_0 14 rfl rfl)
theorem dX0_most_16 : decode cX0_most 16 = .ok (.goto 15, 3) := dk_167 0 15 (dk_at dksX0_most_0 16 rfl rfl)
theorem dX0_most_19 : decode cX0_most 19 = .ok (.iload_n 0, 1) := dk_26 (dk_at dksX0_most_0 19 rfl rfl)
theorem dX0_most_20 : decode cX0_most 20 = .ok (.iconst 2, 1) := dk_5 (dk_at dksX0_most_0 20 rfl rfl)
theorem dX0_most_21 : decode cX0_most 21 = .ok (.if_icmp .ne 7, 3) := dk_160 0 7 (dk_at dksX0_most_0 21 rfl rfl)
theorem dX0_most_24 : decode cX0_most 24 = .ok (.iconst 4, 1) := dk_7 (dk_at dksX0_most_1 0 rfl rfl)
theorem dX0_most_25 : decode cX0_most 25 = .ok (.goto 6, 3) := dk_167 0 6 (dk_at dksX0_most_1 1 rfl rfl)
theorem dX0_most_28 : decode cX0_most 28 = .ok (.sipush 9999, 3) := dk_17 39 15 (dk_at dksX0_most_1 4 rfl rfl)
theorem dX0_most_31 : decode cX0_most 31 = .ok (.ireturn, 1) := dk_172 (dk_at dksX0_most_1 7 rfl rfl)
abbrev cX0_boat : ByteArray := prog_1_method_40_code
def yX0_boat : MethodName := ⟨RX0, "boat", "(II)I"⟩
def dkwX0_boat_1 : List UInt8 := [46, 62, 42, 180, 0, 39, 180, 1, 15, 27, 28, 79, 29, 172]
abbrev dktX0_boat_1 : List UInt8 := dkwX0_boat_1 ++ []
def dkwX0_boat_0 : List UInt8 := [42, 27, 28, 182, 1, 11, 154, 0, 10, 42, 16, 154, 182, 0, 102, 172, 42, 180, 0, 39, 180, 1, 15, 27]
abbrev dktX0_boat_0 : List UInt8 := dkwX0_boat_0 ++ dktX0_boat_1
theorem dksX0_boat_0 : cX0_boat.data.toList.drop 0 = dktX0_boat_0 := by decide +kernel
theorem dksX0_boat_1 : cX0_boat.data.toList.drop 24 = dktX0_boat_1 := dk_seg dksX0_boat_0 24 rfl rfl
theorem dX0_boat_0 : decode cX0_boat 0 = .ok (.aload_n 0, 1) := dk_42 (dk_at dksX0_boat_0 0 rfl rfl)
theorem dX0_boat_1 : decode cX0_boat 1 = .ok (.iload_n 1, 1) := dk_27 (dk_at dksX0_boat_0 1 rfl rfl)
theorem dX0_boat_2 : decode cX0_boat 2 = .ok (.iload_n 2, 1) := dk_28 (dk_at dksX0_boat_0 2 rfl rfl)
theorem dX0_boat_3 : decode cX0_boat 3 = .ok (.invokevirtual 267, 3) := dk_182 1 11 (dk_at dksX0_boat_0 3 rfl rfl)
theorem dX0_boat_6 : decode cX0_boat 6 = .ok (.ifCond .ne 10, 3) := dk_154 0 10 (dk_at dksX0_boat_0 6 rfl rfl)
theorem dX0_boat_9 : decode cX0_boat 9 = .ok (.aload_n 0, 1) := dk_42 (dk_at dksX0_boat_0 9 rfl rfl)
theorem dX0_boat_10 : decode cX0_boat 10 = .ok (.bipush (-102), 2) := dk_16 154 (dk_at dksX0_boat_0 10 rfl rfl)
theorem dX0_boat_12 : decode cX0_boat 12 = .ok (.invokevirtual 102, 3) := dk_182 0 102 (dk_at dksX0_boat_0 12 rfl rfl)
theorem dX0_boat_15 : decode cX0_boat 15 = .ok (.ireturn, 1) := dk_172 (dk_at dksX0_boat_0 15 rfl rfl)
theorem dX0_boat_16 : decode cX0_boat 16 = .ok (.aload_n 0, 1) := dk_42 (dk_at dksX0_boat_0 16 rfl rfl)
theorem dX0_boat_17 : decode cX0_boat 17 = .ok (.getfield 39, 3) := dk_180 0 39 (dk_at dksX0_boat_0 17 rfl rfl)
theorem dX0_boat_20 : decode cX0_boat 20 = .ok (.getfield 271, 3) := dk_180 1 15 (dk_at dksX0_boat_0 20 rfl rfl)
theorem dX0_boat_23 : decode cX0_boat 23 = .ok (.iload_n 1, 1) := dk_27 (dk_at dksX0_boat_0 23 rfl rfl)
theorem dX0_boat_24 : decode cX0_boat 24 = .ok (.iaload, 1) := dk_46 (dk_at dksX0_boat_1 0 rfl rfl)
theorem dX0_boat_25 : decode cX0_boat 25 = .ok (.istore_n 3, 1) := dk_62 (dk_at dksX0_boat_1 1 rfl rfl)
theorem dX0_boat_26 : decode cX0_boat 26 = .ok (.aload_n 0, 1) := dk_42 (dk_at dksX0_boat_1 2 rfl rfl)
theorem dX0_boat_27 : decode cX0_boat 27 = .ok (.getfield 39, 3) := dk_180 0 39 (dk_at dksX0_boat_1 3 rfl rfl)
theorem dX0_boat_30 : decode cX0_boat 30 = .ok (.getfield 271, 3) := dk_180 1 15 (dk_at dksX0_boat_1 6 rfl rfl)
theorem dX0_boat_33 : decode cX0_boat 33 = .ok (.iload_n 1, 1) := dk_27 (dk_at dksX0_boat_1 9 rfl rfl)
theorem dX0_boat_34 : decode cX0_boat 34 = .ok (.iload_n 2, 1) := dk_28 (dk_at dksX0_boat_1 10 rfl rfl)
theorem dX0_boat_35 : decode cX0_boat 35 = .ok (.iastore, 1) := dk_79 (dk_at dksX0_boat_1 11 rfl rfl)
theorem dX0_boat_36 : decode cX0_boat 36 = .ok (.iload_n 3, 1) := dk_29 (dk_at dksX0_boat_1 12 rfl rfl)
theorem dX0_boat_37 : decode cX0_boat 37 = .ok (.ireturn, 1) := dk_172 (dk_at dksX0_boat_1 13 rfl rfl)
abbrev cX0_isOfBoat : ByteArray := prog_1_method_39_code
def yX0_isOfBoat : MethodName := ⟨RX0, "isOfBoat", "(II)Z"⟩
def dkwX0_isOfBoat_4 : List UInt8 := [167, 0, 15, 28, 3, 17, 39, 15, 184, 0, 68, 167, 0, 4, 3, 172]
abbrev dktX0_isOfBoat_4 : List UInt8 := dkwX0_isOfBoat_4 ++ []
def dkwX0_isOfBoat_3 : List UInt8 := [17, 39, 15, 96, 163, 0, 7, 4, 167, 0, 30, 3, 167, 0, 26, 28, 4, 17, 3, 231, 184, 0, 68]
abbrev dktX0_isOfBoat_3 : List UInt8 := dkwX0_isOfBoat_3 ++ dktX0_isOfBoat_4
def dkwX0_isOfBoat_2 : List UInt8 := [28, 2, 159, 0, 29, 28, 42, 180, 0, 39, 180, 1, 10, 161, 0, 22, 28, 42, 180, 0, 39, 180, 1, 10]
abbrev dktX0_isOfBoat_2 : List UInt8 := dkwX0_isOfBoat_2 ++ dktX0_isOfBoat_3
def dkwX0_isOfBoat_1 : List UInt8 := [170, 0, 0, 0, 0, 0, 92, 0, 0, 0, 0, 0, 0, 0, 3, 0, 0, 0, 31, 0, 0, 0, 70, 0, 0, 0, 81, 0, 0, 0, 81]
abbrev dktX0_isOfBoat_1 : List UInt8 := dkwX0_isOfBoat_1 ++ dktX0_isOfBoat_2
def dkwX0_isOfBoat_0 : List UInt8 := [27]
abbrev dktX0_isOfBoat_0 : List UInt8 := dkwX0_isOfBoat_0 ++ dktX0_isOfBoat_1
theorem dksX0_isOfBoat_0 : cX0_isOfBoat.data.toList.drop 0 = dktX0_isOfBoat_0 := by decide +kernel
theorem dksX0_isOfBoat_1 : cX0_isOfBoat.data.toList.drop 1 = dktX0_isOfBoat_1 := dk_seg dksX0_isOfBoat_0 1 rfl rfl
theorem dksX0_isOfBoat_2 : cX0_isOfBoat.data.toList.drop 32 = dktX0_isOfBoat_2 := dk_seg dksX0_isOfBoat_1 31 rfl rfl
theorem dksX0_isOfBoat_3 : cX0_isOfBoat.data.toList.drop 56 = dktX0_isOfBoat_3 := dk_seg dksX0_isOfBoat_2 24 rfl rfl
theorem dksX0_isOfBoat_4 : cX0_isOfBoat.data.toList.drop 79 = dktX0_isOfBoat_4 := dk_seg dksX0_isOfBoat_3 23 rfl rfl
theorem dX0_isOfBoat_0 : decode cX0_isOfBoat 0 = .ok (.iload_n 1, 1) := dk_27 (dk_at dksX0_isOfBoat_0 0 rfl rfl)
theorem dX0_isOfBoat_1 : decode cX0_isOfBoat 1 = .ok (.tableswitch 92 0 3 #[31, 70, 81, 81], 31) := by decide +kernel
theorem dX0_isOfBoat_32 : decode cX0_isOfBoat 32 = .ok (.iload_n 2, 1) := dk_28 (dk_at dksX0_isOfBoat_2 0 rfl rfl)
theorem dX0_isOfBoat_33 : decode cX0_isOfBoat 33 = .ok (.iconst (-1), 1) := dk_2 (dk_at dksX0_isOfBoat_2 1 rfl rfl)
theorem dX0_isOfBoat_34 : decode cX0_isOfBoat 34 = .ok (.if_icmp .eq 29, 3) := dk_159 0 29 (dk_at dksX0_isOfBoat_2 2 rfl rfl)
theorem dX0_isOfBoat_37 : decode cX0_isOfBoat 37 = .ok (.iload_n 2, 1) := dk_28 (dk_at dksX0_isOfBoat_2 5 rfl rfl)
theorem dX0_isOfBoat_38 : decode cX0_isOfBoat 38 = .ok (.aload_n 0, 1) := dk_42 (dk_at dksX0_isOfBoat_2 6 rfl rfl)
theorem dX0_isOfBoat_39 : decode cX0_isOfBoat 39 = .ok (.getfield 39, 3) := dk_180 0 39 (dk_at dksX0_isOfBoat_2 7 rfl rfl)
theorem dX0_isOfBoat_42 : decode cX0_isOfBoat 42 = .ok (.getfield 266, 3) := dk_180 1 10 (dk_at dksX0_isOfBoat_2 10 rfl rfl)
theorem dX0_isOfBoat_45 : decode cX0_isOfBoat 45 = .ok (.if_icmp .lt 22, 3) := dk_161 0 22 (dk_at dksX0_isOfBoat_2 13 rfl rfl)
theorem dX0_isOfBoat_48 : decode cX0_isOfBoat 48 = .ok (.iload_n 2, 1) := dk_28 (dk_at dksX0_isOfBoat_2 16 rfl rfl)
theorem dX0_isOfBoat_49 : decode cX0_isOfBoat 49 = .ok (.aload_n 0, 1) := dk_42 (dk_at dksX0_isOfBoat_2 17 rfl rfl)
theorem dX0_isOfBoat_50 : decode cX0_isOfBoat 50 = .ok (.getfield 39, 3) := dk_180 0 39 (dk_at dksX0_isOfBoat_2 18 rfl rfl)
theorem dX0_isOfBoat_53 : decode cX0_isOfBoat 53 = .ok (.getfield 266, 3) := dk_180 1 10 (dk_at dksX0_isOfBoat_2 21 rfl rfl)
theorem dX0_isOfBoat_56 : decode cX0_isOfBoat 56 = .ok (.sipush 9999, 3) := dk_17 39 15 (dk_at dksX0_isOfBoat_3 0 rfl rfl)
theorem dX0_isOfBoat_59 : decode cX0_isOfBoat 59 = .ok (.iadd, 1) := dk_96 (dk_at dksX0_isOfBoat_3 3 rfl rfl)
theorem dX0_isOfBoat_60 : decode cX0_isOfBoat 60 = .ok (.if_icmp .gt 7, 3) := dk_163 0 7 (dk_at dksX0_isOfBoat_3 4 rfl rfl)
theorem dX0_isOfBoat_63 : decode cX0_isOfBoat 63 = .ok (.iconst 1, 1) := dk_4 (dk_at dksX0_isOfBoat_3 7 rfl rfl)
theorem dX0_isOfBoat_64 : decode cX0_isOfBoat 64 = .ok (.goto 30, 3) := dk_167 0 30 (dk_at dksX0_isOfBoat_3 8 rfl rfl)
theorem dX0_isOfBoat_67 : decode cX0_isOfBoat 67 = .ok (.iconst 0, 1) := dk_3 (dk_at dksX0_isOfBoat_3 11 rfl rfl)
theorem dX0_isOfBoat_68 : decode cX0_isOfBoat 68 = .ok (.goto 26, 3) := dk_167 0 26 (dk_at dksX0_isOfBoat_3 12 rfl rfl)
theorem dX0_isOfBoat_71 : decode cX0_isOfBoat 71 = .ok (.iload_n 2, 1) := dk_28 (dk_at dksX0_isOfBoat_3 15 rfl rfl)
theorem dX0_isOfBoat_72 : decode cX0_isOfBoat 72 = .ok (.iconst 1, 1) := dk_4 (dk_at dksX0_isOfBoat_3 16 rfl rfl)
theorem dX0_isOfBoat_73 : decode cX0_isOfBoat 73 = .ok (.sipush 999, 3) := dk_17 3 231 (dk_at dksX0_isOfBoat_3 17 rfl rfl)
theorem dX0_isOfBoat_76 : decode cX0_isOfBoat 76 = .ok (.invokestatic 68, 3) := dk_184 0 68 (dk_at dksX0_isOfBoat_3 20 rfl rfl)
theorem dX0_isOfBoat_79 : decode cX0_isOfBoat 79 = .ok (.goto 15, 3) := dk_167 0 15 (dk_at dksX0_isOfBoat_4 0 rfl rfl)
theorem dX0_isOfBoat_82 : decode cX0_isOfBoat 82 = .ok (.iload_n 2, 1) := dk_28 (dk_at dksX0_isOfBoat_4 3 rfl rfl)
theorem dX0_isOfBoat_83 : decode cX0_isOfBoat 83 = .ok (.iconst 0, 1) := dk_3 (dk_at dksX0_isOfBoat_4 4 rfl rfl)
theorem dX0_isOfBoat_84 : decode cX0_isOfBoat 84 = .ok (.sipush 9999, 3) := dk_17 39 15 (dk_at dksX0_isOfBoat_4 5 rfl rfl)
theorem dX0_isOfBoat_87 : decode cX0_isOfBoat 87 = .ok (.invokestatic 68, 3) := dk_184 0 68 (dk_at dksX0_isOfBoat_4 8 rfl rfl)
theorem dX0_isOfBoat_90 : decode cX0_isOfBoat 90 = .ok (.goto 4, 3) := dk_167 0 4 (dk_at dksX0_isOfBoat_4 11 rfl rfl)
theorem dX0_isOfBoat_93 : decode cX0_isOfBoat 93 = .ok (.iconst 0, 1) := dk_3 (dk_at dksX0_isOfBoat_4 14 rfl rfl)
theorem dX0_isOfBoat_94 : decode cX0_isOfBoat 94 = .ok (.ireturn, 1) := dk_172 (dk_at dksX0_isOfBoat_4 15 rfl rfl)
abbrev cX0_ship : ByteArray := prog_1_method_41_code
def yX0_ship : MethodName := ⟨RX0, "ship", "(II)I"⟩
def dkwX0_ship_4 : List UInt8 := [182, 0, 76, 4, 100, 172]
abbrev dktX0_ship_4 : List UInt8 := dkwX0_ship_4 ++ []
def dkwX0_ship_3 : List UInt8 := [42, 180, 0, 39, 180, 0, 82, 182, 0, 76, 28, 184, 1, 18, 182, 1, 22, 42, 180, 0, 39, 180, 0, 82]
abbrev dktX0_ship_3 : List UInt8 := dkwX0_ship_3 ++ dktX0_ship_4
def dkwX0_ship_2 : List UInt8 := [180, 0, 82, 182, 0, 76, 17, 0, 200, 160, 0, 10, 42, 16, 150, 182, 0, 102, 172, 42, 180, 0, 39, 27]
abbrev dktX0_ship_2 : List UInt8 := dkwX0_ship_2 ++ dktX0_ship_3
def dkwX0_ship_1 : List UInt8 := [180, 0, 39, 180, 1, 10, 17, 3, 231, 96, 164, 0, 10, 42, 16, 154, 182, 0, 102, 172, 42, 180, 0, 39]
abbrev dktX0_ship_1 : List UInt8 := dkwX0_ship_1 ++ dktX0_ship_2
def dkwX0_ship_0 : List UInt8 := [27, 6, 16, 7, 184, 0, 68, 153, 0, 29, 28, 42, 180, 0, 39, 180, 1, 10, 161, 0, 18, 28, 42]
abbrev dktX0_ship_0 : List UInt8 := dkwX0_ship_0 ++ dktX0_ship_1
theorem dksX0_ship_0 : cX0_ship.data.toList.drop 0 = dktX0_ship_0 := by decide +kernel
theorem dksX0_ship_1 : cX0_ship.data.toList.drop 23 = dktX0_ship_1 := dk_seg dksX0_ship_0 23 rfl rfl
theorem dksX0_ship_2 : cX0_ship.data.toList.drop 47 = dktX0_ship_2 := dk_seg dksX0_ship_1 24 rfl rfl
theorem dksX0_ship_3 : cX0_ship.data.toList.drop 71 = dktX0_ship_3 := dk_seg dksX0_ship_2 24 rfl rfl
theorem dksX0_ship_4 : cX0_ship.data.toList.drop 95 = dktX0_ship_4 := dk_seg dksX0_ship_3 24 rfl rfl
theorem dX0_ship_0 : decode cX0_ship 0 = .ok (.iload_n 1, 1) := dk_27 (dk_at dksX0_ship_0 0 rfl rfl)
theorem dX0_ship_1 : decode cX0_ship 1 = .ok (.iconst 3, 1) := dk_6 (dk_at dksX0_ship_0 1 rfl rfl)
theorem dX0_ship_2 : decode cX0_ship 2 = .ok (.bipush 7, 2) := dk_16 7 (dk_at dksX0_ship_0 2 rfl rfl)
theorem dX0_ship_4 : decode cX0_ship 4 = .ok (.invokestatic 68, 3) := dk_184 0 68 (dk_at dksX0_ship_0 4 rfl rfl)
theorem dX0_ship_7 : decode cX0_ship 7 = .ok (.ifCond .eq 29, 3) := dk_153 0 29 (dk_at dksX0_ship_0 7 rfl rfl)
theorem dX0_ship_10 : decode cX0_ship 10 = .ok (.iload_n 2, 1) := dk_28 (dk_at dksX0_ship_0 10 rfl rfl)
theorem dX0_ship_11 : decode cX0_ship 11 = .ok (.aload_n 0, 1) := dk_42 (dk_at dksX0_ship_0 11 rfl rfl)
theorem dX0_ship_12 : decode cX0_ship 12 = .ok (.getfield 39, 3) := dk_180 0 39 (dk_at dksX0_ship_0 12 rfl rfl)
theorem dX0_ship_15 : decode cX0_ship 15 = .ok (.getfield 266, 3) := dk_180 1 10 (dk_at dksX0_ship_0 15 rfl rfl)
theorem dX0_ship_18 : decode cX0_ship 18 = .ok (.if_icmp .lt 18, 3) := dk_161 0 18 (dk_at dksX0_ship_0 18 rfl rfl)
theorem dX0_ship_21 : decode cX0_ship 21 = .ok (.iload_n 2, 1) := dk_28 (dk_at dksX0_ship_0 21 rfl rfl)
theorem dX0_ship_22 : decode cX0_ship 22 = .ok (.aload_n 0, 1) := dk_42 (dk_at dksX0_ship_0 22 rfl rfl)
theorem dX0_ship_23 : decode cX0_ship 23 = .ok (.getfield 39, 3) := dk_180 0 39 (dk_at dksX0_ship_1 0 rfl rfl)
theorem dX0_ship_26 : decode cX0_ship 26 = .ok (.getfield 266, 3) := dk_180 1 10 (dk_at dksX0_ship_1 3 rfl rfl)
theorem dX0_ship_29 : decode cX0_ship 29 = .ok (.sipush 999, 3) := dk_17 3 231 (dk_at dksX0_ship_1 6 rfl rfl)
theorem dX0_ship_32 : decode cX0_ship 32 = .ok (.iadd, 1) := dk_96 (dk_at dksX0_ship_1 9 rfl rfl)
theorem dX0_ship_33 : decode cX0_ship 33 = .ok (.if_icmp .le 10, 3) := dk_164 0 10 (dk_at dksX0_ship_1 10 rfl rfl)
theorem dX0_ship_36 : decode cX0_ship 36 = .ok (.aload_n 0, 1) := dk_42 (dk_at dksX0_ship_1 13 rfl rfl)
theorem dX0_ship_37 : decode cX0_ship 37 = .ok (.bipush (-102), 2) := dk_16 154 (dk_at dksX0_ship_1 14 rfl rfl)
theorem dX0_ship_39 : decode cX0_ship 39 = .ok (.invokevirtual 102, 3) := dk_182 0 102 (dk_at dksX0_ship_1 16 rfl rfl)
theorem dX0_ship_42 : decode cX0_ship 42 = .ok (.ireturn, 1) := dk_172 (dk_at dksX0_ship_1 19 rfl rfl)
theorem dX0_ship_43 : decode cX0_ship 43 = .ok (.aload_n 0, 1) := dk_42 (dk_at dksX0_ship_1 20 rfl rfl)
theorem dX0_ship_44 : decode cX0_ship 44 = .ok (.getfield 39, 3) := dk_180 0 39 (dk_at dksX0_ship_1 21 rfl rfl)
theorem dX0_ship_47 : decode cX0_ship 47 = .ok (.getfield 82, 3) := dk_180 0 82 (dk_at dksX0_ship_2 0 rfl rfl)
theorem dX0_ship_50 : decode cX0_ship 50 = .ok (.invokevirtual 76, 3) := dk_182 0 76 (dk_at dksX0_ship_2 3 rfl rfl)
theorem dX0_ship_53 : decode cX0_ship 53 = .ok (.sipush 200, 3) := dk_17 0 200 (dk_at dksX0_ship_2 6 rfl rfl)
theorem dX0_ship_56 : decode cX0_ship 56 = .ok (.if_icmp .ne 10, 3) := dk_160 0 10 (dk_at dksX0_ship_2 9 rfl rfl)
theorem dX0_ship_59 : decode cX0_ship 59 = .ok (.aload_n 0, 1) := dk_42 (dk_at dksX0_ship_2 12 rfl rfl)
theorem dX0_ship_60 : decode cX0_ship 60 = .ok (.bipush (-106), 2) := dk_16 150 (dk_at dksX0_ship_2 13 rfl rfl)
theorem dX0_ship_62 : decode cX0_ship 62 = .ok (.invokevirtual 102, 3) := dk_182 0 102 (dk_at dksX0_ship_2 15 rfl rfl)
theorem dX0_ship_65 : decode cX0_ship 65 = .ok (.ireturn, 1) := dk_172 (dk_at dksX0_ship_2 18 rfl rfl)
theorem dX0_ship_66 : decode cX0_ship 66 = .ok (.aload_n 0, 1) := dk_42 (dk_at dksX0_ship_2 19 rfl rfl)
theorem dX0_ship_67 : decode cX0_ship 67 = .ok (.getfield 39, 3) := dk_180 0 39 (dk_at dksX0_ship_2 20 rfl rfl)
theorem dX0_ship_70 : decode cX0_ship 70 = .ok (.iload_n 1, 1) := dk_27 (dk_at dksX0_ship_2 23 rfl rfl)
theorem dX0_ship_71 : decode cX0_ship 71 = .ok (.aload_n 0, 1) := dk_42 (dk_at dksX0_ship_3 0 rfl rfl)
theorem dX0_ship_72 : decode cX0_ship 72 = .ok (.getfield 39, 3) := dk_180 0 39 (dk_at dksX0_ship_3 1 rfl rfl)
theorem dX0_ship_75 : decode cX0_ship 75 = .ok (.getfield 82, 3) := dk_180 0 82 (dk_at dksX0_ship_3 4 rfl rfl)
theorem dX0_ship_78 : decode cX0_ship 78 = .ok (.invokevirtual 76, 3) := dk_182 0 76 (dk_at dksX0_ship_3 7 rfl rfl)
theorem dX0_ship_81 : decode cX0_ship 81 = .ok (.iload_n 2, 1) := dk_28 (dk_at dksX0_ship_3 10 rfl rfl)
theorem dX0_ship_82 : decode cX0_ship 82 = .ok (.invokestatic 274, 3) := dk_184 1 18 (dk_at dksX0_ship_3 11 rfl rfl)
theorem dX0_ship_85 : decode cX0_ship 85 = .ok (.invokevirtual 278, 3) := dk_182 1 22 (dk_at dksX0_ship_3 14 rfl rfl)
theorem dX0_ship_88 : decode cX0_ship 88 = .ok (.aload_n 0, 1) := dk_42 (dk_at dksX0_ship_3 17 rfl rfl)
theorem dX0_ship_89 : decode cX0_ship 89 = .ok (.getfield 39, 3) := dk_180 0 39 (dk_at dksX0_ship_3 18 rfl rfl)
theorem dX0_ship_92 : decode cX0_ship 92 = .ok (.getfield 82, 3) := dk_180 0 82 (dk_at dksX0_ship_3 21 rfl rfl)
theorem dX0_ship_95 : decode cX0_ship 95 = .ok (.invokevirtual 76, 3) := dk_182 0 76 (dk_at dksX0_ship_4 0 rfl rfl)
theorem dX0_ship_98 : decode cX0_ship 98 = .ok (.iconst 1, 1) := dk_4 (dk_at dksX0_ship_4 3 rfl rfl)
theorem dX0_ship_99 : decode cX0_ship 99 = .ok (.isub, 1) := dk_100 (dk_at dksX0_ship_4 4 rfl rfl)
theorem dX0_ship_100 : decode cX0_ship 100 = .ok (.ireturn, 1) := dk_172 (dk_at dksX0_ship_4 5 rfl rfl)
abbrev cX0_ship_2 : ByteArray := prog_1_method_3_code
def yX0_ship_2 : MethodName := ⟨RX0, "ship", "(III)LKeptLight$Ship;"⟩
def dkwX0_ship_2_4 : List UInt8 := [187, 0, 16, 89, 27, 28, 183, 0, 18, 176]
abbrev dktX0_ship_2_4 : List UInt8 := dkwX0_ship_2_4 ++ []
def dkwX0_ship_2_3 : List UInt8 := [187, 0, 10, 89, 27, 28, 183, 0, 12, 167, 0, 24, 187, 0, 13, 89, 27, 28, 183, 0, 15, 167, 0, 12]
abbrev dktX0_ship_2_3 : List UInt8 := dkwX0_ship_2_3 ++ dktX0_ship_2_4
def dkwX0_ship_2_2 : List UInt8 := [187, 0, 1, 89, 27, 28, 183, 0, 3, 167, 0, 48, 187, 0, 7, 89, 27, 28, 183, 0, 9, 167, 0, 36]
abbrev dktX0_ship_2_2 : List UInt8 := dkwX0_ship_2_2 ++ dktX0_ship_2_3
def dkwX0_ship_2_1 : List UInt8 := [170, 0, 0, 0, 0, 0, 79, 0, 0, 0, 3, 0, 0, 0, 6, 0, 0, 0, 31, 0, 0, 0, 43, 0, 0, 0, 55, 0, 0, 0, 67]
abbrev dktX0_ship_2_1 : List UInt8 := dkwX0_ship_2_1 ++ dktX0_ship_2_2
def dkwX0_ship_2_0 : List UInt8 := [26]
abbrev dktX0_ship_2_0 : List UInt8 := dkwX0_ship_2_0 ++ dktX0_ship_2_1
theorem dksX0_ship_2_0 : cX0_ship_2.data.toList.drop 0 = dktX0_ship_2_0 := by decide +kernel
theorem dksX0_ship_2_1 : cX0_ship_2.data.toList.drop 1 = dktX0_ship_2_1 := dk_seg dksX0_ship_2_0 1 rfl rfl
theorem dksX0_ship_2_2 : cX0_ship_2.data.toList.drop 32 = dktX0_ship_2_2 := dk_seg dksX0_ship_2_1 31 rfl rfl
theorem dksX0_ship_2_3 : cX0_ship_2.data.toList.drop 56 = dktX0_ship_2_3 := dk_seg dksX0_ship_2_2 24 rfl rfl
theorem dksX0_ship_2_4 : cX0_ship_2.data.toList.drop 80 = dktX0_ship_2_4 := dk_seg dksX0_ship_2_3 24 rfl rfl
theorem dX0_ship_2_0 : decode cX0_ship_2 0 = .ok (.iload_n 0, 1) := dk_26 (dk_at dksX0_ship_2_0 0 rfl rfl)
theorem dX0_ship_2_1 : decode cX0_ship_2 1 = .ok (.tableswitch 79 3 6 #[31, 43, 55, 67], 31) := by decide +kernel
theorem dX0_ship_2_32 : decode cX0_ship_2 32 = .ok (.new 1, 3) := dk_187 0 1 (dk_at dksX0_ship_2_2 0 rfl rfl)
theorem dX0_ship_2_35 : decode cX0_ship_2 35 = .ok (.dup, 1) := dk_89 (dk_at dksX0_ship_2_2 3 rfl rfl)
theorem dX0_ship_2_36 : decode cX0_ship_2 36 = .ok (.iload_n 1, 1) := dk_27 (dk_at dksX0_ship_2_2 4 rfl rfl)
theorem dX0_ship_2_37 : decode cX0_ship_2 37 = .ok (.iload_n 2, 1) := dk_28 (dk_at dksX0_ship_2_2 5 rfl rfl)
theorem dX0_ship_2_38 : decode cX0_ship_2 38 = .ok (.invokespecial 3, 3) := dk_183 0 3 (dk_at dksX0_ship_2_2 6 rfl rfl)
theorem dX0_ship_2_41 : decode cX0_ship_2 41 = .ok (.goto 48, 3) := dk_167 0 48 (dk_at dksX0_ship_2_2 9 rfl rfl)
theorem dX0_ship_2_44 : decode cX0_ship_2 44 = .ok (.new 7, 3) := dk_187 0 7 (dk_at dksX0_ship_2_2 12 rfl rfl)
theorem dX0_ship_2_47 : decode cX0_ship_2 47 = .ok (.dup, 1) := dk_89 (dk_at dksX0_ship_2_2 15 rfl rfl)
theorem dX0_ship_2_48 : decode cX0_ship_2 48 = .ok (.iload_n 1, 1) := dk_27 (dk_at dksX0_ship_2_2 16 rfl rfl)
theorem dX0_ship_2_49 : decode cX0_ship_2 49 = .ok (.iload_n 2, 1) := dk_28 (dk_at dksX0_ship_2_2 17 rfl rfl)
theorem dX0_ship_2_50 : decode cX0_ship_2 50 = .ok (.invokespecial 9, 3) := dk_183 0 9 (dk_at dksX0_ship_2_2 18 rfl rfl)
theorem dX0_ship_2_53 : decode cX0_ship_2 53 = .ok (.goto 36, 3) := dk_167 0 36 (dk_at dksX0_ship_2_2 21 rfl rfl)
theorem dX0_ship_2_56 : decode cX0_ship_2 56 = .ok (.new 10, 3) := dk_187 0 10 (dk_at dksX0_ship_2_3 0 rfl rfl)
theorem dX0_ship_2_59 : decode cX0_ship_2 59 = .ok (.dup, 1) := dk_89 (dk_at dksX0_ship_2_3 3 rfl rfl)
theorem dX0_ship_2_60 : decode cX0_ship_2 60 = .ok (.iload_n 1, 1) := dk_27 (dk_at dksX0_ship_2_3 4 rfl rfl)
theorem dX0_ship_2_61 : decode cX0_ship_2 61 = .ok (.iload_n 2, 1) := dk_28 (dk_at dksX0_ship_2_3 5 rfl rfl)
theorem dX0_ship_2_62 : decode cX0_ship_2 62 = .ok (.invokespecial 12, 3) := dk_183 0 12 (dk_at dksX0_ship_2_3 6 rfl rfl)
theorem dX0_ship_2_65 : decode cX0_ship_2 65 = .ok (.goto 24, 3) := dk_167 0 24 (dk_at dksX0_ship_2_3 9 rfl rfl)
theorem dX0_ship_2_68 : decode cX0_ship_2 68 = .ok (.new 13, 3) := dk_187 0 13 (dk_at dksX0_ship_2_3 12 rfl rfl)
theorem dX0_ship_2_71 : decode cX0_ship_2 71 = .ok (.dup, 1) := dk_89 (dk_at dksX0_ship_2_3 15 rfl rfl)
theorem dX0_ship_2_72 : decode cX0_ship_2 72 = .ok (.iload_n 1, 1) := dk_27 (dk_at dksX0_ship_2_3 16 rfl rfl)
theorem dX0_ship_2_73 : decode cX0_ship_2 73 = .ok (.iload_n 2, 1) := dk_28 (dk_at dksX0_ship_2_3 17 rfl rfl)
theorem dX0_ship_2_74 : decode cX0_ship_2 74 = .ok (.invokespecial 15, 3) := dk_183 0 15 (dk_at dksX0_ship_2_3 18 rfl rfl)
theorem dX0_ship_2_77 : decode cX0_ship_2 77 = .ok (.goto 12, 3) := dk_167 0 12 (dk_at dksX0_ship_2_3 21 rfl rfl)
theorem dX0_ship_2_80 : decode cX0_ship_2 80 = .ok (.new 16, 3) := dk_187 0 16 (dk_at dksX0_ship_2_4 0 rfl rfl)
theorem dX0_ship_2_83 : decode cX0_ship_2 83 = .ok (.dup, 1) := dk_89 (dk_at dksX0_ship_2_4 3 rfl rfl)
theorem dX0_ship_2_84 : decode cX0_ship_2 84 = .ok (.iload_n 1, 1) := dk_27 (dk_at dksX0_ship_2_4 4 rfl rfl)
theorem dX0_ship_2_85 : decode cX0_ship_2 85 = .ok (.iload_n 2, 1) := dk_28 (dk_at dksX0_ship_2_4 5 rfl rfl)
theorem dX0_ship_2_86 : decode cX0_ship_2 86 = .ok (.invokespecial 18, 3) := dk_183 0 18 (dk_at dksX0_ship_2_4 6 rfl rfl)
theorem dX0_ship_2_89 : decode cX0_ship_2 89 = .ok (.areturn, 1) := dk_176 (dk_at dksX0_ship_2_4 9 rfl rfl)
abbrev cX0_pass : ByteArray := prog_1_method_42_code
def yX0_pass : MethodName := ⟨RX0, "pass", "(I)I"⟩
def dkwX0_pass_1 : List UInt8 := [172]
abbrev dktX0_pass_1 : List UInt8 := dkwX0_pass_1 ++ []
def dkwX0_pass_0 : List UInt8 := [27, 184, 1, 26, 153, 0, 14, 42, 180, 0, 39, 27, 182, 1, 29, 167, 0, 9, 42, 16, 154, 182, 0, 102]
abbrev dktX0_pass_0 : List UInt8 := dkwX0_pass_0 ++ dktX0_pass_1
theorem dksX0_pass_0 : cX0_pass.data.toList.drop 0 = dktX0_pass_0 := by decide +kernel
theorem dksX0_pass_1 : cX0_pass.data.toList.drop 24 = dktX0_pass_1 := dk_seg dksX0_pass_0 24 rfl rfl
theorem dX0_pass_0 : decode cX0_pass 0 = .ok (.iload_n 1, 1) := dk_27 (dk_at dksX0_pass_0 0 rfl rfl)
theorem dX0_pass_1 : decode cX0_pass 1 = .ok (.invokestatic 282, 3) := dk_184 1 26 (dk_at dksX0_pass_0 1 rfl rfl)
theorem dX0_pass_4 : decode cX0_pass 4 = .ok (.ifCond .eq 14, 3) := dk_153 0 14 (dk_at dksX0_pass_0 4 rfl rfl)
theorem dX0_pass_7 : decode cX0_pass 7 = .ok (.aload_n 0, 1) := dk_42 (dk_at dksX0_pass_0 7 rfl rfl)
theorem dX0_pass_8 : decode cX0_pass 8 = .ok (.getfield 39, 3) := dk_180 0 39 (dk_at dksX0_pass_0 8 rfl rfl)
theorem dX0_pass_11 : decode cX0_pass 11 = .ok (.iload_n 1, 1) := dk_27 (dk_at dksX0_pass_0 11 rfl rfl)
theorem dX0_pass_12 : decode cX0_pass 12 = .ok (.invokevirtual 285, 3) := dk_182 1 29 (dk_at dksX0_pass_0 12 rfl rfl)
theorem dX0_pass_15 : decode cX0_pass 15 = .ok (.goto 9, 3) := dk_167 0 9 (dk_at dksX0_pass_0 15 rfl rfl)
theorem dX0_pass_18 : decode cX0_pass 18 = .ok (.aload_n 0, 1) := dk_42 (dk_at dksX0_pass_0 18 rfl rfl)
theorem dX0_pass_19 : decode cX0_pass 19 = .ok (.bipush (-102), 2) := dk_16 154 (dk_at dksX0_pass_0 19 rfl rfl)
theorem dX0_pass_21 : decode cX0_pass 21 = .ok (.invokevirtual 102, 3) := dk_182 0 102 (dk_at dksX0_pass_0 21 rfl rfl)
theorem dX0_pass_24 : decode cX0_pass 24 = .ok (.ireturn, 1) := dk_172 (dk_at dksX0_pass_1 0 rfl rfl)
abbrev cX0_areHours : ByteArray := prog_1_method_11_code
def yX0_areHours : MethodName := ⟨RX0, "areHours", "(I)Z"⟩
def dkwX0_areHours_0 : List UInt8 := [26, 3, 17, 0, 200, 184, 0, 68, 172]
abbrev dktX0_areHours_0 : List UInt8 := dkwX0_areHours_0 ++ []
theorem dksX0_areHours_0 : cX0_areHours.data.toList.drop 0 = dktX0_areHours_0 := by decide +kernel
theorem dX0_areHours_0 : decode cX0_areHours 0 = .ok (.iload_n 0, 1) := dk_26 (dk_at dksX0_areHours_0 0 rfl rfl)
theorem dX0_areHours_1 : decode cX0_areHours 1 = .ok (.iconst 0, 1) := dk_3 (dk_at dksX0_areHours_0 1 rfl rfl)
theorem dX0_areHours_2 : decode cX0_areHours 2 = .ok (.sipush 200, 3) := dk_17 0 200 (dk_at dksX0_areHours_0 2 rfl rfl)
theorem dX0_areHours_5 : decode cX0_areHours 5 = .ok (.invokestatic 68, 3) := dk_184 0 68 (dk_at dksX0_areHours_0 5 rfl rfl)
theorem dX0_areHours_8 : decode cX0_areHours 8 = .ok (.ireturn, 1) := dk_172 (dk_at dksX0_areHours_0 8 rfl rfl)
abbrev cX0_weather : ByteArray := prog_1_method_44_code
def yX0_weather : MethodName := ⟨RX0, "weather", "(I)I"⟩
def dkwX0_weather_1 : List UInt8 := [172]
abbrev dktX0_weather_1 : List UInt8 := dkwX0_weather_1 ++ []
def dkwX0_weather_0 : List UInt8 := [27, 155, 0, 17, 42, 180, 0, 39, 27, 182, 1, 41, 184, 1, 45, 167, 0, 9, 42, 16, 154, 182, 0, 102]
abbrev dktX0_weather_0 : List UInt8 := dkwX0_weather_0 ++ dktX0_weather_1
theorem dksX0_weather_0 : cX0_weather.data.toList.drop 0 = dktX0_weather_0 := by decide +kernel
theorem dksX0_weather_1 : cX0_weather.data.toList.drop 24 = dktX0_weather_1 := dk_seg dksX0_weather_0 24 rfl rfl
theorem dX0_weather_0 : decode cX0_weather 0 = .ok (.iload_n 1, 1) := dk_27 (dk_at dksX0_weather_0 0 rfl rfl)
theorem dX0_weather_1 : decode cX0_weather 1 = .ok (.ifCond .lt 17, 3) := dk_155 0 17 (dk_at dksX0_weather_0 1 rfl rfl)
theorem dX0_weather_4 : decode cX0_weather 4 = .ok (.aload_n 0, 1) := dk_42 (dk_at dksX0_weather_0 4 rfl rfl)
theorem dX0_weather_5 : decode cX0_weather 5 = .ok (.getfield 39, 3) := dk_180 0 39 (dk_at dksX0_weather_0 5 rfl rfl)
theorem dX0_weather_8 : decode cX0_weather 8 = .ok (.iload_n 1, 1) := dk_27 (dk_at dksX0_weather_0 8 rfl rfl)
theorem dX0_weather_9 : decode cX0_weather 9 = .ok (.invokevirtual 297, 3) := dk_182 1 41 (dk_at dksX0_weather_0 9 rfl rfl)
theorem dX0_weather_12 : decode cX0_weather 12 = .ok (.invokestatic 301, 3) := dk_184 1 45 (dk_at dksX0_weather_0 12 rfl rfl)
theorem dX0_weather_15 : decode cX0_weather 15 = .ok (.goto 9, 3) := dk_167 0 9 (dk_at dksX0_weather_0 15 rfl rfl)
theorem dX0_weather_18 : decode cX0_weather 18 = .ok (.aload_n 0, 1) := dk_42 (dk_at dksX0_weather_0 18 rfl rfl)
theorem dX0_weather_19 : decode cX0_weather 19 = .ok (.bipush (-102), 2) := dk_16 154 (dk_at dksX0_weather_0 19 rfl rfl)
theorem dX0_weather_21 : decode cX0_weather 21 = .ok (.invokevirtual 102, 3) := dk_182 0 102 (dk_at dksX0_weather_0 21 rfl rfl)
theorem dX0_weather_24 : decode cX0_weather 24 = .ok (.ireturn, 1) := dk_172 (dk_at dksX0_weather_1 0 rfl rfl)
abbrev cX0_numberOf : ByteArray := prog_1_method_43_code
def yX0_numberOf : MethodName := ⟨RX0, "numberOf", "(LKeptLight$Weather;)I"⟩
def dkwX0_numberOf_0 : List UInt8 := [42, 178, 1, 32, 166, 0, 7, 3, 167, 0, 15, 42, 178, 1, 38, 166, 0, 7, 4, 167, 0, 4, 5, 172]
abbrev dktX0_numberOf_0 : List UInt8 := dkwX0_numberOf_0 ++ []
theorem dksX0_numberOf_0 : cX0_numberOf.data.toList.drop 0 = dktX0_numberOf_0 := by decide +kernel
theorem dX0_numberOf_0 : decode cX0_numberOf 0 = .ok (.aload_n 0, 1) := dk_42 (dk_at dksX0_numberOf_0 0 rfl rfl)
theorem dX0_numberOf_1 : decode cX0_numberOf 1 = .ok (.getstatic 288, 3) := dk_178 1 32 (dk_at dksX0_numberOf_0 1 rfl rfl)
theorem dX0_numberOf_4 : decode cX0_numberOf 4 = .ok (.if_acmp .ne 7, 3) := dk_166 0 7 (dk_at dksX0_numberOf_0 4 rfl rfl)
theorem dX0_numberOf_7 : decode cX0_numberOf 7 = .ok (.iconst 0, 1) := dk_3 (dk_at dksX0_numberOf_0 7 rfl rfl)
theorem dX0_numberOf_8 : decode cX0_numberOf 8 = .ok (.goto 15, 3) := dk_167 0 15 (dk_at dksX0_numberOf_0 8 rfl rfl)
theorem dX0_numberOf_11 : decode cX0_numberOf 11 = .ok (.aload_n 0, 1) := dk_42 (dk_at dksX0_numberOf_0 11 rfl rfl)
theorem dX0_numberOf_12 : decode cX0_numberOf 12 = .ok (.getstatic 294, 3) := dk_178 1 38 (dk_at dksX0_numberOf_0 12 rfl rfl)
theorem dX0_numberOf_15 : decode cX0_numberOf 15 = .ok (.if_acmp .ne 7, 3) := dk_166 0 7 (dk_at dksX0_numberOf_0 15 rfl rfl)
theorem dX0_numberOf_18 : decode cX0_numberOf 18 = .ok (.iconst 1, 1) := dk_4 (dk_at dksX0_numberOf_0 18 rfl rfl)
theorem dX0_numberOf_19 : decode cX0_numberOf 19 = .ok (.goto 4, 3) := dk_167 0 4 (dk_at dksX0_numberOf_0 19 rfl rfl)
theorem dX0_numberOf_22 : decode cX0_numberOf 22 = .ok (.iconst 2, 1) := dk_5 (dk_at dksX0_numberOf_0 22 rfl rfl)
theorem dX0_numberOf_23 : decode cX0_numberOf 23 = .ok (.ireturn, 1) := dk_172 (dk_at dksX0_numberOf_0 23 rfl rfl)
abbrev cX0_dark : ByteArray := prog_1_method_45_code
def yX0_dark : MethodName := ⟨RX0, "dark", "(I)I"⟩
def dkwX0_dark_1 : List UInt8 := [172]
abbrev dktX0_dark_1 : List UInt8 := dkwX0_dark_1 ++ []
def dkwX0_dark_0 : List UInt8 := [27, 155, 0, 17, 42, 180, 0, 39, 27, 182, 1, 49, 184, 1, 52, 167, 0, 9, 42, 16, 154, 182, 0, 102]
abbrev dktX0_dark_0 : List UInt8 := dkwX0_dark_0 ++ dktX0_dark_1
theorem dksX0_dark_0 : cX0_dark.data.toList.drop 0 = dktX0_dark_0 := by decide +kernel
theorem dksX0_dark_1 : cX0_dark.data.toList.drop 24 = dktX0_dark_1 := dk_seg dksX0_dark_0 24 rfl rfl
theorem dX0_dark_0 : decode cX0_dark 0 = .ok (.iload_n 1, 1) := dk_27 (dk_at dksX0_dark_0 0 rfl rfl)
theorem dX0_dark_1 : decode cX0_dark 1 = .ok (.ifCond .lt 17, 3) := dk_155 0 17 (dk_at dksX0_dark_0 1 rfl rfl)
theorem dX0_dark_4 : decode cX0_dark 4 = .ok (.aload_n 0, 1) := dk_42 (dk_at dksX0_dark_0 4 rfl rfl)
theorem dX0_dark_5 : decode cX0_dark 5 = .ok (.getfield 39, 3) := dk_180 0 39 (dk_at dksX0_dark_0 5 rfl rfl)
theorem dX0_dark_8 : decode cX0_dark 8 = .ok (.iload_n 1, 1) := dk_27 (dk_at dksX0_dark_0 8 rfl rfl)
theorem dX0_dark_9 : decode cX0_dark 9 = .ok (.invokevirtual 305, 3) := dk_182 1 49 (dk_at dksX0_dark_0 9 rfl rfl)
theorem dX0_dark_12 : decode cX0_dark 12 = .ok (.invokestatic 308, 3) := dk_184 1 52 (dk_at dksX0_dark_0 12 rfl rfl)
theorem dX0_dark_15 : decode cX0_dark 15 = .ok (.goto 9, 3) := dk_167 0 9 (dk_at dksX0_dark_0 15 rfl rfl)
theorem dX0_dark_18 : decode cX0_dark 18 = .ok (.aload_n 0, 1) := dk_42 (dk_at dksX0_dark_0 18 rfl rfl)
theorem dX0_dark_19 : decode cX0_dark 19 = .ok (.bipush (-102), 2) := dk_16 154 (dk_at dksX0_dark_0 19 rfl rfl)
theorem dX0_dark_21 : decode cX0_dark 21 = .ok (.invokevirtual 102, 3) := dk_182 0 102 (dk_at dksX0_dark_0 21 rfl rfl)
theorem dX0_dark_24 : decode cX0_dark 24 = .ok (.ireturn, 1) := dk_172 (dk_at dksX0_dark_1 0 rfl rfl)
abbrev cX0_keeperOf : ByteArray := prog_1_method_46_code
def yX0_keeperOf : MethodName := ⟨RX0, "keeperOf", "(II)I"⟩
def dkwX0_keeperOf_6 : List UInt8 := [54, 4, 132, 7, 1, 167, 255, 220, 21, 4, 172, 45, 180, 1, 68, 172, 45, 180, 1, 71, 172]
abbrev dktX0_keeperOf_6 : List UInt8 := dkwX0_keeperOf_6 ++ []
def dkwX0_keeperOf_5 : List UInt8 := [25, 5, 21, 7, 46, 54, 8, 21, 4, 21, 8, 27, 160, 0, 7, 4, 167, 0, 4, 3, 184, 1, 52, 96]
abbrev dktX0_keeperOf_5 : List UInt8 := dkwX0_keeperOf_5 ++ dktX0_keeperOf_6
def dkwX0_keeperOf_4 : List UInt8 := [42, 180, 0, 39, 180, 0, 242, 58, 5, 25, 5, 190, 54, 6, 3, 54, 7, 21, 7, 21, 6, 162, 0, 35]
abbrev dktX0_keeperOf_4 : List UInt8 := dkwX0_keeperOf_4 ++ dktX0_keeperOf_5
def dkwX0_keeperOf_3 : List UInt8 := [45, 180, 1, 56, 184, 1, 58, 172, 45, 180, 1, 62, 172, 45, 180, 1, 56, 182, 1, 65, 172, 3, 54, 4]
abbrev dktX0_keeperOf_3 : List UInt8 := dkwX0_keeperOf_3 ++ dktX0_keeperOf_4
def dkwX0_keeperOf_2 : List UInt8 := [170, 0, 0, 0, 0, 0, 123, 0, 0, 0, 0, 0, 0, 0, 4, 0, 0, 0, 35, 0, 0, 0, 43, 0, 0, 0, 48, 0, 0, 0, 56, 0, 0, 0, 118]
abbrev dktX0_keeperOf_2 : List UInt8 := dkwX0_keeperOf_2 ++ dktX0_keeperOf_3
def dkwX0_keeperOf_1 : List UInt8 := [172, 42, 180, 0, 39, 180, 0, 72, 27, 182, 0, 159, 192, 0, 220, 78, 28]
abbrev dktX0_keeperOf_1 : List UInt8 := dkwX0_keeperOf_1 ++ dktX0_keeperOf_2
def dkwX0_keeperOf_0 : List UInt8 := [42, 27, 133, 182, 0, 235, 153, 0, 12, 28, 3, 8, 184, 0, 68, 154, 0, 10, 42, 16, 154, 182, 0, 102]
abbrev dktX0_keeperOf_0 : List UInt8 := dkwX0_keeperOf_0 ++ dktX0_keeperOf_1
theorem dksX0_keeperOf_0 : cX0_keeperOf.data.toList.drop 0 = dktX0_keeperOf_0 := by decide +kernel
theorem dksX0_keeperOf_1 : cX0_keeperOf.data.toList.drop 24 = dktX0_keeperOf_1 := dk_seg dksX0_keeperOf_0 24 rfl rfl
theorem dksX0_keeperOf_2 : cX0_keeperOf.data.toList.drop 41 = dktX0_keeperOf_2 := dk_seg dksX0_keeperOf_1 17 rfl rfl
theorem dksX0_keeperOf_3 : cX0_keeperOf.data.toList.drop 76 = dktX0_keeperOf_3 := dk_seg dksX0_keeperOf_2 35 rfl rfl
theorem dksX0_keeperOf_4 : cX0_keeperOf.data.toList.drop 100 = dktX0_keeperOf_4 := dk_seg dksX0_keeperOf_3 24 rfl rfl
theorem dksX0_keeperOf_5 : cX0_keeperOf.data.toList.drop 124 = dktX0_keeperOf_5 := dk_seg dksX0_keeperOf_4 24 rfl rfl
theorem dksX0_keeperOf_6 : cX0_keeperOf.data.toList.drop 148 = dktX0_keeperOf_6 := dk_seg dksX0_keeperOf_5 24 rfl rfl
theorem dX0_keeperOf_0 : decode cX0_keeperOf 0 = .ok (.aload_n 0, 1) := dk_42 (dk_at dksX0_keeperOf_0 0 rfl rfl)
theorem dX0_keeperOf_1 : decode cX0_keeperOf 1 = .ok (.iload_n 1, 1) := dk_27 (dk_at dksX0_keeperOf_0 1 rfl rfl)
theorem dX0_keeperOf_2 : decode cX0_keeperOf 2 = .ok (.i2l, 1) := dk_133 (dk_at dksX0_keeperOf_0 2 rfl rfl)
theorem dX0_keeperOf_3 : decode cX0_keeperOf 3 = .ok (.invokevirtual 235, 3) := dk_182 0 235 (dk_at dksX0_keeperOf_0 3 rfl rfl)
theorem dX0_keeperOf_6 : decode cX0_keeperOf 6 = .ok (.ifCond .eq 12, 3) := dk_153 0 12 (dk_at dksX0_keeperOf_0 6 rfl rfl)
theorem dX0_keeperOf_9 : decode cX0_keeperOf 9 = .ok (.iload_n 2, 1) := dk_28 (dk_at dksX0_keeperOf_0 9 rfl rfl)
theorem dX0_keeperOf_10 : decode cX0_keeperOf 10 = .ok (.iconst 0, 1) := dk_3 (dk_at dksX0_keeperOf_0 10 rfl rfl)
theorem dX0_keeperOf_11 : decode cX0_keeperOf 11 = .ok (.iconst 5, 1) := dk_8 (dk_at dksX0_keeperOf_0 11 rfl rfl)
theorem dX0_keeperOf_12 : decode cX0_keeperOf 12 = .ok (.invokestatic 68, 3) := dk_184 0 68 (dk_at dksX0_keeperOf_0 12 rfl rfl)
theorem dX0_keeperOf_15 : decode cX0_keeperOf 15 = .ok (.ifCond .ne 10, 3) := dk_154 0 10 (dk_at dksX0_keeperOf_0 15 rfl rfl)
theorem dX0_keeperOf_18 : decode cX0_keeperOf 18 = .ok (.aload_n 0, 1) := dk_42 (dk_at dksX0_keeperOf_0 18 rfl rfl)
theorem dX0_keeperOf_19 : decode cX0_keeperOf 19 = .ok (.bipush (-102), 2) := dk_16 154 (dk_at dksX0_keeperOf_0 19 rfl rfl)
theorem dX0_keeperOf_21 : decode cX0_keeperOf 21 = .ok (.invokevirtual 102, 3) := dk_182 0 102 (dk_at dksX0_keeperOf_0 21 rfl rfl)
theorem dX0_keeperOf_24 : decode cX0_keeperOf 24 = .ok (.ireturn, 1) := dk_172 (dk_at dksX0_keeperOf_1 0 rfl rfl)
theorem dX0_keeperOf_25 : decode cX0_keeperOf 25 = .ok (.aload_n 0, 1) := dk_42 (dk_at dksX0_keeperOf_1 1 rfl rfl)
theorem dX0_keeperOf_26 : decode cX0_keeperOf 26 = .ok (.getfield 39, 3) := dk_180 0 39 (dk_at dksX0_keeperOf_1 2 rfl rfl)
theorem dX0_keeperOf_29 : decode cX0_keeperOf 29 = .ok (.getfield 72, 3) := dk_180 0 72 (dk_at dksX0_keeperOf_1 5 rfl rfl)
theorem dX0_keeperOf_32 : decode cX0_keeperOf 32 = .ok (.iload_n 1, 1) := dk_27 (dk_at dksX0_keeperOf_1 8 rfl rfl)
theorem dX0_keeperOf_33 : decode cX0_keeperOf 33 = .ok (.invokevirtual 159, 3) := dk_182 0 159 (dk_at dksX0_keeperOf_1 9 rfl rfl)
theorem dX0_keeperOf_36 : decode cX0_keeperOf 36 = .ok (.checkcast 220, 3) := dk_192 0 220 (dk_at dksX0_keeperOf_1 12 rfl rfl)
theorem dX0_keeperOf_39 : decode cX0_keeperOf 39 = .ok (.astore_n 3, 1) := dk_78 (dk_at dksX0_keeperOf_1 15 rfl rfl)
theorem dX0_keeperOf_40 : decode cX0_keeperOf 40 = .ok (.iload_n 2, 1) := dk_28 (dk_at dksX0_keeperOf_1 16 rfl rfl)
theorem dX0_keeperOf_41 : decode cX0_keeperOf 41 = .ok (.tableswitch 123 0 4 #[35, 43, 48, 56, 118], 35) := by decide +kernel
theorem dX0_keeperOf_76 : decode cX0_keeperOf 76 = .ok (.aload_n 3, 1) := dk_45 (dk_at dksX0_keeperOf_3 0 rfl rfl)
theorem dX0_keeperOf_77 : decode cX0_keeperOf 77 = .ok (.getfield 312, 3) := dk_180 1 56 (dk_at dksX0_keeperOf_3 1 rfl rfl)
theorem dX0_keeperOf_80 : decode cX0_keeperOf 80 = .ok (.invokestatic 314, 3) := dk_184 1 58 (dk_at dksX0_keeperOf_3 4 rfl rfl)
theorem dX0_keeperOf_83 : decode cX0_keeperOf 83 = .ok (.ireturn, 1) := dk_172 (dk_at dksX0_keeperOf_3 7 rfl rfl)
theorem dX0_keeperOf_84 : decode cX0_keeperOf 84 = .ok (.aload_n 3, 1) := dk_45 (dk_at dksX0_keeperOf_3 8 rfl rfl)
theorem dX0_keeperOf_85 : decode cX0_keeperOf 85 = .ok (.getfield 318, 3) := dk_180 1 62 (dk_at dksX0_keeperOf_3 9 rfl rfl)
theorem dX0_keeperOf_88 : decode cX0_keeperOf 88 = .ok (.ireturn, 1) := dk_172 (dk_at dksX0_keeperOf_3 12 rfl rfl)
theorem dX0_keeperOf_89 : decode cX0_keeperOf 89 = .ok (.aload_n 3, 1) := dk_45 (dk_at dksX0_keeperOf_3 13 rfl rfl)
theorem dX0_keeperOf_90 : decode cX0_keeperOf 90 = .ok (.getfield 312, 3) := dk_180 1 56 (dk_at dksX0_keeperOf_3 14 rfl rfl)
theorem dX0_keeperOf_93 : decode cX0_keeperOf 93 = .ok (.invokevirtual 321, 3) := dk_182 1 65 (dk_at dksX0_keeperOf_3 17 rfl rfl)
theorem dX0_keeperOf_96 : decode cX0_keeperOf 96 = .ok (.ireturn, 1) := dk_172 (dk_at dksX0_keeperOf_3 20 rfl rfl)
theorem dX0_keeperOf_97 : decode cX0_keeperOf 97 = .ok (.iconst 0, 1) := dk_3 (dk_at dksX0_keeperOf_3 21 rfl rfl)
theorem dX0_keeperOf_98 : decode cX0_keeperOf 98 = .ok (.istore 4, 2) := dk_54 4 (dk_at dksX0_keeperOf_3 22 rfl rfl)
theorem dX0_keeperOf_100 : decode cX0_keeperOf 100 = .ok (.aload_n 0, 1) := dk_42 (dk_at dksX0_keeperOf_4 0 rfl rfl)
theorem dX0_keeperOf_101 : decode cX0_keeperOf 101 = .ok (.getfield 39, 3) := dk_180 0 39 (dk_at dksX0_keeperOf_4 1 rfl rfl)
theorem dX0_keeperOf_104 : decode cX0_keeperOf 104 = .ok (.getfield 242, 3) := dk_180 0 242 (dk_at dksX0_keeperOf_4 4 rfl rfl)
theorem dX0_keeperOf_107 : decode cX0_keeperOf 107 = .ok (.astore 5, 2) := dk_58 5 (dk_at dksX0_keeperOf_4 7 rfl rfl)
theorem dX0_keeperOf_109 : decode cX0_keeperOf 109 = .ok (.aload 5, 2) := dk_25 5 (dk_at dksX0_keeperOf_4 9 rfl rfl)
theorem dX0_keeperOf_111 : decode cX0_keeperOf 111 = .ok (.arraylength, 1) := dk_190 (dk_at dksX0_keeperOf_4 11 rfl rfl)
theorem dX0_keeperOf_112 : decode cX0_keeperOf 112 = .ok (.istore 6, 2) := dk_54 6 (dk_at dksX0_keeperOf_4 12 rfl rfl)
theorem dX0_keeperOf_114 : decode cX0_keeperOf 114 = .ok (.iconst 0, 1) := dk_3 (dk_at dksX0_keeperOf_4 14 rfl rfl)
theorem dX0_keeperOf_115 : decode cX0_keeperOf 115 = .ok (.istore 7, 2) := dk_54 7 (dk_at dksX0_keeperOf_4 15 rfl rfl)
theorem dX0_keeperOf_117 : decode cX0_keeperOf 117 = .ok (.iload 7, 2) := dk_21 7 (dk_at dksX0_keeperOf_4 17 rfl rfl)
theorem dX0_keeperOf_119 : decode cX0_keeperOf 119 = .ok (.iload 6, 2) := dk_21 6 (dk_at dksX0_keeperOf_4 19 rfl rfl)
theorem dX0_keeperOf_121 : decode cX0_keeperOf 121 = .ok (.if_icmp .ge 35, 3) := dk_162 0 35 (dk_at dksX0_keeperOf_4 21 rfl rfl)
theorem dX0_keeperOf_124 : decode cX0_keeperOf 124 = .ok (.aload 5, 2) := dk_25 5 (dk_at dksX0_keeperOf_5 0 rfl rfl)
theorem dX0_keeperOf_126 : decode cX0_keeperOf 126 = .ok (.iload 7, 2) := dk_21 7 (dk_at dksX0_keeperOf_5 2 rfl rfl)
theorem dX0_keeperOf_128 : decode cX0_keeperOf 128 = .ok (.iaload, 1) := dk_46 (dk_at dksX0_keeperOf_5 4 rfl rfl)
theorem dX0_keeperOf_129 : decode cX0_keeperOf 129 = .ok (.istore 8, 2) := dk_54 8 (dk_at dksX0_keeperOf_5 5 rfl rfl)
theorem dX0_keeperOf_131 : decode cX0_keeperOf 131 = .ok (.iload 4, 2) := dk_21 4 (dk_at dksX0_keeperOf_5 7 rfl rfl)
theorem dX0_keeperOf_133 : decode cX0_keeperOf 133 = .ok (.iload 8, 2) := dk_21 8 (dk_at dksX0_keeperOf_5 9 rfl rfl)
theorem dX0_keeperOf_135 : decode cX0_keeperOf 135 = .ok (.iload_n 1, 1) := dk_27 (dk_at dksX0_keeperOf_5 11 rfl rfl)
theorem dX0_keeperOf_136 : decode cX0_keeperOf 136 = .ok (.if_icmp .ne 7, 3) := dk_160 0 7 (dk_at dksX0_keeperOf_5 12 rfl rfl)
theorem dX0_keeperOf_139 : decode cX0_keeperOf 139 = .ok (.iconst 1, 1) := dk_4 (dk_at dksX0_keeperOf_5 15 rfl rfl)
theorem dX0_keeperOf_140 : decode cX0_keeperOf 140 = .ok (.goto 4, 3) := dk_167 0 4 (dk_at dksX0_keeperOf_5 16 rfl rfl)
theorem dX0_keeperOf_143 : decode cX0_keeperOf 143 = .ok (.iconst 0, 1) := dk_3 (dk_at dksX0_keeperOf_5 19 rfl rfl)
theorem dX0_keeperOf_144 : decode cX0_keeperOf 144 = .ok (.invokestatic 308, 3) := dk_184 1 52 (dk_at dksX0_keeperOf_5 20 rfl rfl)
theorem dX0_keeperOf_147 : decode cX0_keeperOf 147 = .ok (.iadd, 1) := dk_96 (dk_at dksX0_keeperOf_5 23 rfl rfl)
theorem dX0_keeperOf_148 : decode cX0_keeperOf 148 = .ok (.istore 4, 2) := dk_54 4 (dk_at dksX0_keeperOf_6 0 rfl rfl)
theorem dX0_keeperOf_150 : decode cX0_keeperOf 150 = .ok (.iinc 7 1, 3) := dk_132 7 1 (dk_at dksX0_keeperOf_6 2 rfl rfl)
theorem dX0_keeperOf_153 : decode cX0_keeperOf 153 = .ok (.goto (-36), 3) := dk_167 255 220 (dk_at dksX0_keeperOf_6 5 rfl rfl)
theorem dX0_keeperOf_156 : decode cX0_keeperOf 156 = .ok (.iload 4, 2) := dk_21 4 (dk_at dksX0_keeperOf_6 8 rfl rfl)
theorem dX0_keeperOf_158 : decode cX0_keeperOf 158 = .ok (.ireturn, 1) := dk_172 (dk_at dksX0_keeperOf_6 10 rfl rfl)
theorem dX0_keeperOf_159 : decode cX0_keeperOf 159 = .ok (.aload_n 3, 1) := dk_45 (dk_at dksX0_keeperOf_6 11 rfl rfl)
theorem dX0_keeperOf_160 : decode cX0_keeperOf 160 = .ok (.getfield 324, 3) := dk_180 1 68 (dk_at dksX0_keeperOf_6 12 rfl rfl)
theorem dX0_keeperOf_163 : decode cX0_keeperOf 163 = .ok (.ireturn, 1) := dk_172 (dk_at dksX0_keeperOf_6 15 rfl rfl)
theorem dX0_keeperOf_164 : decode cX0_keeperOf 164 = .ok (.aload_n 3, 1) := dk_45 (dk_at dksX0_keeperOf_6 16 rfl rfl)
theorem dX0_keeperOf_165 : decode cX0_keeperOf 165 = .ok (.getfield 327, 3) := dk_180 1 71 (dk_at dksX0_keeperOf_6 17 rfl rfl)
theorem dX0_keeperOf_168 : decode cX0_keeperOf 168 = .ok (.ireturn, 1) := dk_172 (dk_at dksX0_keeperOf_6 20 rfl rfl)
abbrev cX0_rankOf : ByteArray := prog_1_method_5_code
def yX0_rankOf : MethodName := ⟨RX0, "rankOf", "(LKeptLight$Rank;)I"⟩
def dkwX0_rankOf_0 : List UInt8 := [42, 178, 0, 19, 166, 0, 7, 3, 167, 0, 15, 42, 178, 0, 25, 166, 0, 7, 4, 167, 0, 4, 5, 172]
abbrev dktX0_rankOf_0 : List UInt8 := dkwX0_rankOf_0 ++ []
theorem dksX0_rankOf_0 : cX0_rankOf.data.toList.drop 0 = dktX0_rankOf_0 := by decide +kernel
theorem dX0_rankOf_0 : decode cX0_rankOf 0 = .ok (.aload_n 0, 1) := dk_42 (dk_at dksX0_rankOf_0 0 rfl rfl)
theorem dX0_rankOf_1 : decode cX0_rankOf 1 = .ok (.getstatic 19, 3) := dk_178 0 19 (dk_at dksX0_rankOf_0 1 rfl rfl)
theorem dX0_rankOf_4 : decode cX0_rankOf 4 = .ok (.if_acmp .ne 7, 3) := dk_166 0 7 (dk_at dksX0_rankOf_0 4 rfl rfl)
theorem dX0_rankOf_7 : decode cX0_rankOf 7 = .ok (.iconst 0, 1) := dk_3 (dk_at dksX0_rankOf_0 7 rfl rfl)
theorem dX0_rankOf_8 : decode cX0_rankOf 8 = .ok (.goto 15, 3) := dk_167 0 15 (dk_at dksX0_rankOf_0 8 rfl rfl)
theorem dX0_rankOf_11 : decode cX0_rankOf 11 = .ok (.aload_n 0, 1) := dk_42 (dk_at dksX0_rankOf_0 11 rfl rfl)
theorem dX0_rankOf_12 : decode cX0_rankOf 12 = .ok (.getstatic 25, 3) := dk_178 0 25 (dk_at dksX0_rankOf_0 12 rfl rfl)
theorem dX0_rankOf_15 : decode cX0_rankOf 15 = .ok (.if_acmp .ne 7, 3) := dk_166 0 7 (dk_at dksX0_rankOf_0 15 rfl rfl)
theorem dX0_rankOf_18 : decode cX0_rankOf 18 = .ok (.iconst 1, 1) := dk_4 (dk_at dksX0_rankOf_0 18 rfl rfl)
theorem dX0_rankOf_19 : decode cX0_rankOf 19 = .ok (.goto 4, 3) := dk_167 0 4 (dk_at dksX0_rankOf_0 19 rfl rfl)
theorem dX0_rankOf_22 : decode cX0_rankOf 22 = .ok (.iconst 2, 1) := dk_5 (dk_at dksX0_rankOf_0 22 rfl rfl)
theorem dX0_rankOf_23 : decode cX0_rankOf 23 = .ok (.ireturn, 1) := dk_172 (dk_at dksX0_rankOf_0 23 rfl rfl)
abbrev cX0_shipOf : ByteArray := prog_1_method_47_code
def yX0_shipOf : MethodName := ⟨RX0, "shipOf", "(II)I"⟩
def dkwX0_shipOf_3 : List UInt8 := [167, 0, 7, 45, 180, 1, 78, 172]
abbrev dktX0_shipOf_3 : List UInt8 := dkwX0_shipOf_3 ++ []
def dkwX0_shipOf_2 : List UInt8 := [167, 0, 31, 28, 4, 160, 0, 10, 45, 180, 0, 162, 167, 0, 19, 28, 5, 160, 0, 10, 45, 180, 1, 77]
abbrev dktX0_shipOf_2 : List UInt8 := dkwX0_shipOf_2 ++ dktX0_shipOf_3
def dkwX0_shipOf_1 : List UInt8 := [42, 180, 0, 39, 180, 0, 82, 27, 182, 0, 159, 192, 0, 116, 78, 28, 154, 0, 10, 45, 182, 1, 74]
abbrev dktX0_shipOf_1 : List UInt8 := dkwX0_shipOf_1 ++ dktX0_shipOf_2
def dkwX0_shipOf_0 : List UInt8 := [42, 27, 182, 0, 156, 153, 0, 12, 28, 3, 6, 184, 0, 68, 154, 0, 10, 42, 16, 154, 182, 0, 102, 172]
abbrev dktX0_shipOf_0 : List UInt8 := dkwX0_shipOf_0 ++ dktX0_shipOf_1
theorem dksX0_shipOf_0 : cX0_shipOf.data.toList.drop 0 = dktX0_shipOf_0 := by decide +kernel
theorem dksX0_shipOf_1 : cX0_shipOf.data.toList.drop 24 = dktX0_shipOf_1 := dk_seg dksX0_shipOf_0 24 rfl rfl
theorem dksX0_shipOf_2 : cX0_shipOf.data.toList.drop 47 = dktX0_shipOf_2 := dk_seg dksX0_shipOf_1 23 rfl rfl
theorem dksX0_shipOf_3 : cX0_shipOf.data.toList.drop 71 = dktX0_shipOf_3 := dk_seg dksX0_shipOf_2 24 rfl rfl
theorem dX0_shipOf_0 : decode cX0_shipOf 0 = .ok (.aload_n 0, 1) := dk_42 (dk_at dksX0_shipOf_0 0 rfl rfl)
theorem dX0_shipOf_1 : decode cX0_shipOf 1 = .ok (.iload_n 1, 1) := dk_27 (dk_at dksX0_shipOf_0 1 rfl rfl)
theorem dX0_shipOf_2 : decode cX0_shipOf 2 = .ok (.invokevirtual 156, 3) := dk_182 0 156 (dk_at dksX0_shipOf_0 2 rfl rfl)
theorem dX0_shipOf_5 : decode cX0_shipOf 5 = .ok (.ifCond .eq 12, 3) := dk_153 0 12 (dk_at dksX0_shipOf_0 5 rfl rfl)
theorem dX0_shipOf_8 : decode cX0_shipOf 8 = .ok (.iload_n 2, 1) := dk_28 (dk_at dksX0_shipOf_0 8 rfl rfl)
theorem dX0_shipOf_9 : decode cX0_shipOf 9 = .ok (.iconst 0, 1) := dk_3 (dk_at dksX0_shipOf_0 9 rfl rfl)
theorem dX0_shipOf_10 : decode cX0_shipOf 10 = .ok (.iconst 3, 1) := dk_6 (dk_at dksX0_shipOf_0 10 rfl rfl)
theorem dX0_shipOf_11 : decode cX0_shipOf 11 = .ok (.invokestatic 68, 3) := dk_184 0 68 (dk_at dksX0_shipOf_0 11 rfl rfl)
theorem dX0_shipOf_14 : decode cX0_shipOf 14 = .ok (.ifCond .ne 10, 3) := dk_154 0 10 (dk_at dksX0_shipOf_0 14 rfl rfl)
theorem dX0_shipOf_17 : decode cX0_shipOf 17 = .ok (.aload_n 0, 1) := dk_42 (dk_at dksX0_shipOf_0 17 rfl rfl)
theorem dX0_shipOf_18 : decode cX0_shipOf 18 = .ok (.bipush (-102), 2) := dk_16 154 (dk_at dksX0_shipOf_0 18 rfl rfl)
theorem dX0_shipOf_20 : decode cX0_shipOf 20 = .ok (.invokevirtual 102, 3) := dk_182 0 102 (dk_at dksX0_shipOf_0 20 rfl rfl)
theorem dX0_shipOf_23 : decode cX0_shipOf 23 = .ok (.ireturn, 1) := dk_172 (dk_at dksX0_shipOf_0 23 rfl rfl)
theorem dX0_shipOf_24 : decode cX0_shipOf 24 = .ok (.aload_n 0, 1) := dk_42 (dk_at dksX0_shipOf_1 0 rfl rfl)
theorem dX0_shipOf_25 : decode cX0_shipOf 25 = .ok (.getfield 39, 3) := dk_180 0 39 (dk_at dksX0_shipOf_1 1 rfl rfl)
theorem dX0_shipOf_28 : decode cX0_shipOf 28 = .ok (.getfield 82, 3) := dk_180 0 82 (dk_at dksX0_shipOf_1 4 rfl rfl)
theorem dX0_shipOf_31 : decode cX0_shipOf 31 = .ok (.iload_n 1, 1) := dk_27 (dk_at dksX0_shipOf_1 7 rfl rfl)
theorem dX0_shipOf_32 : decode cX0_shipOf 32 = .ok (.invokevirtual 159, 3) := dk_182 0 159 (dk_at dksX0_shipOf_1 8 rfl rfl)
theorem dX0_shipOf_35 : decode cX0_shipOf 35 = .ok (.checkcast 116, 3) := dk_192 0 116 (dk_at dksX0_shipOf_1 11 rfl rfl)
theorem dX0_shipOf_38 : decode cX0_shipOf 38 = .ok (.astore_n 3, 1) := dk_78 (dk_at dksX0_shipOf_1 14 rfl rfl)
theorem dX0_shipOf_39 : decode cX0_shipOf 39 = .ok (.iload_n 2, 1) := dk_28 (dk_at dksX0_shipOf_1 15 rfl rfl)
theorem dX0_shipOf_40 : decode cX0_shipOf 40 = .ok (.ifCond .ne 10, 3) := dk_154 0 10 (dk_at dksX0_shipOf_1 16 rfl rfl)
theorem dX0_shipOf_43 : decode cX0_shipOf 43 = .ok (.aload_n 3, 1) := dk_45 (dk_at dksX0_shipOf_1 19 rfl rfl)
theorem dX0_shipOf_44 : decode cX0_shipOf 44 = .ok (.invokevirtual 330, 3) := dk_182 1 74 (dk_at dksX0_shipOf_1 20 rfl rfl)
theorem dX0_shipOf_47 : decode cX0_shipOf 47 = .ok (.goto 31, 3) := dk_167 0 31 (dk_at dksX0_shipOf_2 0 rfl rfl)
theorem dX0_shipOf_50 : decode cX0_shipOf 50 = .ok (.iload_n 2, 1) := dk_28 (dk_at dksX0_shipOf_2 3 rfl rfl)
theorem dX0_shipOf_51 : decode cX0_shipOf 51 = .ok (.iconst 1, 1) := dk_4 (dk_at dksX0_shipOf_2 4 rfl rfl)
theorem dX0_shipOf_52 : decode cX0_shipOf 52 = .ok (.if_icmp .ne 10, 3) := dk_160 0 10 (dk_at dksX0_shipOf_2 5 rfl rfl)
theorem dX0_shipOf_55 : decode cX0_shipOf 55 = .ok (.aload_n 3, 1) := dk_45 (dk_at dksX0_shipOf_2 8 rfl rfl)
theorem dX0_shipOf_56 : decode cX0_shipOf 56 = .ok (.getfield 162, 3) := dk_180 0 162 (dk_at dksX0_shipOf_2 9 rfl rfl)
theorem dX0_shipOf_59 : decode cX0_shipOf 59 = .ok (.goto 19, 3) := dk_167 0 19 (dk_at dksX0_shipOf_2 12 rfl rfl)
theorem dX0_shipOf_62 : decode cX0_shipOf 62 = .ok (.iload_n 2, 1) := dk_28 (dk_at dksX0_shipOf_2 15 rfl rfl)
theorem dX0_shipOf_63 : decode cX0_shipOf 63 = .ok (.iconst 2, 1) := dk_5 (dk_at dksX0_shipOf_2 16 rfl rfl)
theorem dX0_shipOf_64 : decode cX0_shipOf 64 = .ok (.if_icmp .ne 10, 3) := dk_160 0 10 (dk_at dksX0_shipOf_2 17 rfl rfl)
theorem dX0_shipOf_67 : decode cX0_shipOf 67 = .ok (.aload_n 3, 1) := dk_45 (dk_at dksX0_shipOf_2 20 rfl rfl)
theorem dX0_shipOf_68 : decode cX0_shipOf 68 = .ok (.getfield 333, 3) := dk_180 1 77 (dk_at dksX0_shipOf_2 21 rfl rfl)
theorem dX0_shipOf_71 : decode cX0_shipOf 71 = .ok (.goto 7, 3) := dk_167 0 7 (dk_at dksX0_shipOf_3 0 rfl rfl)
theorem dX0_shipOf_74 : decode cX0_shipOf 74 = .ok (.aload_n 3, 1) := dk_45 (dk_at dksX0_shipOf_3 3 rfl rfl)
theorem dX0_shipOf_75 : decode cX0_shipOf 75 = .ok (.getfield 334, 3) := dk_180 1 78 (dk_at dksX0_shipOf_3 4 rfl rfl)
theorem dX0_shipOf_78 : decode cX0_shipOf 78 = .ok (.ireturn, 1) := dk_172 (dk_at dksX0_shipOf_3 7 rfl rfl)
abbrev cX0_shipAt : ByteArray := prog_1_method_48_code
def yX0_shipAt : MethodName := ⟨RX0, "shipAt", "(II)I"⟩
def dkwX0_shipAt_1 : List UInt8 := [184, 0, 68, 153, 0, 18, 42, 180, 0, 39, 27, 28, 182, 1, 82, 180, 0, 153, 167, 0, 4, 2, 172]
abbrev dktX0_shipAt_1 : List UInt8 := dkwX0_shipAt_1 ++ []
def dkwX0_shipAt_0 : List UInt8 := [27, 156, 0, 10, 42, 16, 154, 182, 0, 102, 172, 28, 3, 42, 180, 0, 39, 27, 182, 1, 79, 4, 100]
abbrev dktX0_shipAt_0 : List UInt8 := dkwX0_shipAt_0 ++ dktX0_shipAt_1
theorem dksX0_shipAt_0 : cX0_shipAt.data.toList.drop 0 = dktX0_shipAt_0 := by decide +kernel
theorem dksX0_shipAt_1 : cX0_shipAt.data.toList.drop 23 = dktX0_shipAt_1 := dk_seg dksX0_shipAt_0 23 rfl rfl
theorem dX0_shipAt_0 : decode cX0_shipAt 0 = .ok (.iload_n 1, 1) := dk_27 (dk_at dksX0_shipAt_0 0 rfl rfl)
theorem dX0_shipAt_1 : decode cX0_shipAt 1 = .ok (.ifCond .ge 10, 3) := dk_156 0 10 (dk_at dksX0_shipAt_0 1 rfl rfl)
theorem dX0_shipAt_4 : decode cX0_shipAt 4 = .ok (.aload_n 0, 1) := dk_42 (dk_at dksX0_shipAt_0 4 rfl rfl)
theorem dX0_shipAt_5 : decode cX0_shipAt 5 = .ok (.bipush (-102), 2) := dk_16 154 (dk_at dksX0_shipAt_0 5 rfl rfl)
theorem dX0_shipAt_7 : decode cX0_shipAt 7 = .ok (.invokevirtual 102, 3) := dk_182 0 102 (dk_at dksX0_shipAt_0 7 rfl rfl)
theorem dX0_shipAt_10 : decode cX0_shipAt 10 = .ok (.ireturn, 1) := dk_172 (dk_at dksX0_shipAt_0 10 rfl rfl)
theorem dX0_shipAt_11 : decode cX0_shipAt 11 = .ok (.iload_n 2, 1) := dk_28 (dk_at dksX0_shipAt_0 11 rfl rfl)
theorem dX0_shipAt_12 : decode cX0_shipAt 12 = .ok (.iconst 0, 1) := dk_3 (dk_at dksX0_shipAt_0 12 rfl rfl)
theorem dX0_shipAt_13 : decode cX0_shipAt 13 = .ok (.aload_n 0, 1) := dk_42 (dk_at dksX0_shipAt_0 13 rfl rfl)
theorem dX0_shipAt_14 : decode cX0_shipAt 14 = .ok (.getfield 39, 3) := dk_180 0 39 (dk_at dksX0_shipAt_0 14 rfl rfl)
theorem dX0_shipAt_17 : decode cX0_shipAt 17 = .ok (.iload_n 1, 1) := dk_27 (dk_at dksX0_shipAt_0 17 rfl rfl)
theorem dX0_shipAt_18 : decode cX0_shipAt 18 = .ok (.invokevirtual 335, 3) := dk_182 1 79 (dk_at dksX0_shipAt_0 18 rfl rfl)
theorem dX0_shipAt_21 : decode cX0_shipAt 21 = .ok (.iconst 1, 1) := dk_4 (dk_at dksX0_shipAt_0 21 rfl rfl)
theorem dX0_shipAt_22 : decode cX0_shipAt 22 = .ok (.isub, 1) := dk_100 (dk_at dksX0_shipAt_0 22 rfl rfl)
theorem dX0_shipAt_23 : decode cX0_shipAt 23 = .ok (.invokestatic 68, 3) := dk_184 0 68 (dk_at dksX0_shipAt_1 0 rfl rfl)
theorem dX0_shipAt_26 : decode cX0_shipAt 26 = .ok (.ifCond .eq 18, 3) := dk_153 0 18 (dk_at dksX0_shipAt_1 3 rfl rfl)
theorem dX0_shipAt_29 : decode cX0_shipAt 29 = .ok (.aload_n 0, 1) := dk_42 (dk_at dksX0_shipAt_1 6 rfl rfl)
theorem dX0_shipAt_30 : decode cX0_shipAt 30 = .ok (.getfield 39, 3) := dk_180 0 39 (dk_at dksX0_shipAt_1 7 rfl rfl)
theorem dX0_shipAt_33 : decode cX0_shipAt 33 = .ok (.iload_n 1, 1) := dk_27 (dk_at dksX0_shipAt_1 10 rfl rfl)
theorem dX0_shipAt_34 : decode cX0_shipAt 34 = .ok (.iload_n 2, 1) := dk_28 (dk_at dksX0_shipAt_1 11 rfl rfl)
theorem dX0_shipAt_35 : decode cX0_shipAt 35 = .ok (.invokevirtual 338, 3) := dk_182 1 82 (dk_at dksX0_shipAt_1 12 rfl rfl)
theorem dX0_shipAt_38 : decode cX0_shipAt 38 = .ok (.getfield 153, 3) := dk_180 0 153 (dk_at dksX0_shipAt_1 15 rfl rfl)
theorem dX0_shipAt_41 : decode cX0_shipAt 41 = .ok (.goto 4, 3) := dk_167 0 4 (dk_at dksX0_shipAt_1 18 rfl rfl)
theorem dX0_shipAt_44 : decode cX0_shipAt 44 = .ok (.iconst (-1), 1) := dk_2 (dk_at dksX0_shipAt_1 21 rfl rfl)
theorem dX0_shipAt_45 : decode cX0_shipAt 45 = .ok (.ireturn, 1) := dk_172 (dk_at dksX0_shipAt_1 22 rfl rfl)
abbrev cX0_many : ByteArray := prog_1_method_49_code
def yX0_many : MethodName := ⟨RX0, "many", "(II)I"⟩
def dkwX0_many_1 : List UInt8 := [28, 182, 1, 86, 167, 0, 9, 42, 16, 154, 182, 0, 102, 172]
abbrev dktX0_many_1 : List UInt8 := dkwX0_many_1 ++ []
def dkwX0_many_0 : List UInt8 := [27, 3, 16, 7, 184, 0, 68, 153, 0, 24, 28, 3, 5, 184, 0, 68, 153, 0, 15, 42, 180, 0, 39, 27]
abbrev dktX0_many_0 : List UInt8 := dkwX0_many_0 ++ dktX0_many_1
theorem dksX0_many_0 : cX0_many.data.toList.drop 0 = dktX0_many_0 := by decide +kernel
theorem dksX0_many_1 : cX0_many.data.toList.drop 24 = dktX0_many_1 := dk_seg dksX0_many_0 24 rfl rfl
theorem dX0_many_0 : decode cX0_many 0 = .ok (.iload_n 1, 1) := dk_27 (dk_at dksX0_many_0 0 rfl rfl)
theorem dX0_many_1 : decode cX0_many 1 = .ok (.iconst 0, 1) := dk_3 (dk_at dksX0_many_0 1 rfl rfl)
theorem dX0_many_2 : decode cX0_many 2 = .ok (.bipush 7, 2) := dk_16 7 (dk_at dksX0_many_0 2 rfl rfl)
theorem dX0_many_4 : decode cX0_many 4 = .ok (.invokestatic 68, 3) := dk_184 0 68 (dk_at dksX0_many_0 4 rfl rfl)
theorem dX0_many_7 : decode cX0_many 7 = .ok (.ifCond .eq 24, 3) := dk_153 0 24 (dk_at dksX0_many_0 7 rfl rfl)
theorem dX0_many_10 : decode cX0_many 10 = .ok (.iload_n 2, 1) := dk_28 (dk_at dksX0_many_0 10 rfl rfl)
theorem dX0_many_11 : decode cX0_many 11 = .ok (.iconst 0, 1) := dk_3 (dk_at dksX0_many_0 11 rfl rfl)
theorem dX0_many_12 : decode cX0_many 12 = .ok (.iconst 2, 1) := dk_5 (dk_at dksX0_many_0 12 rfl rfl)
theorem dX0_many_13 : decode cX0_many 13 = .ok (.invokestatic 68, 3) := dk_184 0 68 (dk_at dksX0_many_0 13 rfl rfl)
theorem dX0_many_16 : decode cX0_many 16 = .ok (.ifCond .eq 15, 3) := dk_153 0 15 (dk_at dksX0_many_0 16 rfl rfl)
theorem dX0_many_19 : decode cX0_many 19 = .ok (.aload_n 0, 1) := dk_42 (dk_at dksX0_many_0 19 rfl rfl)
theorem dX0_many_20 : decode cX0_many 20 = .ok (.getfield 39, 3) := dk_180 0 39 (dk_at dksX0_many_0 20 rfl rfl)
theorem dX0_many_23 : decode cX0_many 23 = .ok (.iload_n 1, 1) := dk_27 (dk_at dksX0_many_0 23 rfl rfl)
theorem dX0_many_24 : decode cX0_many 24 = .ok (.iload_n 2, 1) := dk_28 (dk_at dksX0_many_1 0 rfl rfl)
theorem dX0_many_25 : decode cX0_many 25 = .ok (.invokevirtual 342, 3) := dk_182 1 86 (dk_at dksX0_many_1 1 rfl rfl)
theorem dX0_many_28 : decode cX0_many 28 = .ok (.goto 9, 3) := dk_167 0 9 (dk_at dksX0_many_1 4 rfl rfl)
theorem dX0_many_31 : decode cX0_many 31 = .ok (.aload_n 0, 1) := dk_42 (dk_at dksX0_many_1 7 rfl rfl)
theorem dX0_many_32 : decode cX0_many 32 = .ok (.bipush (-102), 2) := dk_16 154 (dk_at dksX0_many_1 8 rfl rfl)
theorem dX0_many_34 : decode cX0_many 34 = .ok (.invokevirtual 102, 3) := dk_182 0 102 (dk_at dksX0_many_1 10 rfl rfl)
theorem dX0_many_37 : decode cX0_many 37 = .ok (.ireturn, 1) := dk_172 (dk_at dksX0_many_1 13 rfl rfl)
abbrev cX0_log : ByteArray := prog_1_method_50_code
def yX0_log : MethodName := ⟨RX0, "log", "(II)I"⟩
def dkwX0_log_3 : List UInt8 := [167, 0, 19, 28, 5, 160, 0, 10, 45, 180, 1, 99, 167, 0, 7, 45, 180, 1, 101, 172]
abbrev dktX0_log_3 : List UInt8 := dkwX0_log_3 ++ []
def dkwX0_log_2 : List UInt8 := [192, 1, 93, 78, 28, 154, 0, 10, 45, 180, 1, 95, 167, 0, 31, 28, 4, 160, 0, 10, 45, 180, 1, 96]
abbrev dktX0_log_2 : List UInt8 := dkwX0_log_2 ++ dktX0_log_3
def dkwX0_log_1 : List UInt8 := [184, 0, 68, 154, 0, 10, 42, 16, 154, 182, 0, 102, 172, 42, 180, 0, 39, 180, 1, 90, 27, 182, 0, 159]
abbrev dktX0_log_1 : List UInt8 := dkwX0_log_1 ++ dktX0_log_2
def dkwX0_log_0 : List UInt8 := [27, 3, 42, 180, 0, 39, 180, 1, 90, 182, 0, 76, 4, 100, 184, 0, 68, 153, 0, 12, 28, 3, 6]
abbrev dktX0_log_0 : List UInt8 := dkwX0_log_0 ++ dktX0_log_1
theorem dksX0_log_0 : cX0_log.data.toList.drop 0 = dktX0_log_0 := by decide +kernel
theorem dksX0_log_1 : cX0_log.data.toList.drop 23 = dktX0_log_1 := dk_seg dksX0_log_0 23 rfl rfl
theorem dksX0_log_2 : cX0_log.data.toList.drop 47 = dktX0_log_2 := dk_seg dksX0_log_1 24 rfl rfl
theorem dksX0_log_3 : cX0_log.data.toList.drop 71 = dktX0_log_3 := dk_seg dksX0_log_2 24 rfl rfl
theorem dX0_log_0 : decode cX0_log 0 = .ok (.iload_n 1, 1) := dk_27 (dk_at dksX0_log_0 0 rfl rfl)
theorem dX0_log_1 : decode cX0_log 1 = .ok (.iconst 0, 1) := dk_3 (dk_at dksX0_log_0 1 rfl rfl)
theorem dX0_log_2 : decode cX0_log 2 = .ok (.aload_n 0, 1) := dk_42 (dk_at dksX0_log_0 2 rfl rfl)
theorem dX0_log_3 : decode cX0_log 3 = .ok (.getfield 39, 3) := dk_180 0 39 (dk_at dksX0_log_0 3 rfl rfl)
theorem dX0_log_6 : decode cX0_log 6 = .ok (.getfield 346, 3) := dk_180 1 90 (dk_at dksX0_log_0 6 rfl rfl)
theorem dX0_log_9 : decode cX0_log 9 = .ok (.invokevirtual 76, 3) := dk_182 0 76 (dk_at dksX0_log_0 9 rfl rfl)
theorem dX0_log_12 : decode cX0_log 12 = .ok (.iconst 1, 1) := dk_4 (dk_at dksX0_log_0 12 rfl rfl)
theorem dX0_log_13 : decode cX0_log 13 = .ok (.isub, 1) := dk_100 (dk_at dksX0_log_0 13 rfl rfl)
theorem dX0_log_14 : decode cX0_log 14 = .ok (.invokestatic 68, 3) := dk_184 0 68 (dk_at dksX0_log_0 14 rfl rfl)
theorem dX0_log_17 : decode cX0_log 17 = .ok (.ifCond .eq 12, 3) := dk_153 0 12 (dk_at dksX0_log_0 17 rfl rfl)
theorem dX0_log_20 : decode cX0_log 20 = .ok (.iload_n 2, 1) := dk_28 (dk_at dksX0_log_0 20 rfl rfl)
theorem dX0_log_21 : decode cX0_log 21 = .ok (.iconst 0, 1) := dk_3 (dk_at dksX0_log_0 21 rfl rfl)
theorem dX0_log_22 : decode cX0_log 22 = .ok (.iconst 3, 1) := dk_6 (dk_at dksX0_log_0 22 rfl rfl)
theorem dX0_log_23 : decode cX0_log 23 = .ok (.invokestatic 68, 3) := dk_184 0 68 (dk_at dksX0_log_1 0 rfl rfl)
theorem dX0_log_26 : decode cX0_log 26 = .ok (.ifCond .ne 10, 3) := dk_154 0 10 (dk_at dksX0_log_1 3 rfl rfl)
theorem dX0_log_29 : decode cX0_log 29 = .ok (.aload_n 0, 1) := dk_42 (dk_at dksX0_log_1 6 rfl rfl)
theorem dX0_log_30 : decode cX0_log 30 = .ok (.bipush (-102), 2) := dk_16 154 (dk_at dksX0_log_1 7 rfl rfl)
theorem dX0_log_32 : decode cX0_log 32 = .ok (.invokevirtual 102, 3) := dk_182 0 102 (dk_at dksX0_log_1 9 rfl rfl)
theorem dX0_log_35 : decode cX0_log 35 = .ok (.ireturn, 1) := dk_172 (dk_at dksX0_log_1 12 rfl rfl)
theorem dX0_log_36 : decode cX0_log 36 = .ok (.aload_n 0, 1) := dk_42 (dk_at dksX0_log_1 13 rfl rfl)
theorem dX0_log_37 : decode cX0_log 37 = .ok (.getfield 39, 3) := dk_180 0 39 (dk_at dksX0_log_1 14 rfl rfl)
theorem dX0_log_40 : decode cX0_log 40 = .ok (.getfield 346, 3) := dk_180 1 90 (dk_at dksX0_log_1 17 rfl rfl)
theorem dX0_log_43 : decode cX0_log 43 = .ok (.iload_n 1, 1) := dk_27 (dk_at dksX0_log_1 20 rfl rfl)
theorem dX0_log_44 : decode cX0_log 44 = .ok (.invokevirtual 159, 3) := dk_182 0 159 (dk_at dksX0_log_1 21 rfl rfl)
theorem dX0_log_47 : decode cX0_log 47 = .ok (.checkcast 349, 3) := dk_192 1 93 (dk_at dksX0_log_2 0 rfl rfl)
theorem dX0_log_50 : decode cX0_log 50 = .ok (.astore_n 3, 1) := dk_78 (dk_at dksX0_log_2 3 rfl rfl)
theorem dX0_log_51 : decode cX0_log 51 = .ok (.iload_n 2, 1) := dk_28 (dk_at dksX0_log_2 4 rfl rfl)
theorem dX0_log_52 : decode cX0_log 52 = .ok (.ifCond .ne 10, 3) := dk_154 0 10 (dk_at dksX0_log_2 5 rfl rfl)
theorem dX0_log_55 : decode cX0_log 55 = .ok (.aload_n 3, 1) := dk_45 (dk_at dksX0_log_2 8 rfl rfl)
theorem dX0_log_56 : decode cX0_log 56 = .ok (.getfield 351, 3) := dk_180 1 95 (dk_at dksX0_log_2 9 rfl rfl)
theorem dX0_log_59 : decode cX0_log 59 = .ok (.goto 31, 3) := dk_167 0 31 (dk_at dksX0_log_2 12 rfl rfl)
theorem dX0_log_62 : decode cX0_log 62 = .ok (.iload_n 2, 1) := dk_28 (dk_at dksX0_log_2 15 rfl rfl)
theorem dX0_log_63 : decode cX0_log 63 = .ok (.iconst 1, 1) := dk_4 (dk_at dksX0_log_2 16 rfl rfl)
theorem dX0_log_64 : decode cX0_log 64 = .ok (.if_icmp .ne 10, 3) := dk_160 0 10 (dk_at dksX0_log_2 17 rfl rfl)
theorem dX0_log_67 : decode cX0_log 67 = .ok (.aload_n 3, 1) := dk_45 (dk_at dksX0_log_2 20 rfl rfl)
theorem dX0_log_68 : decode cX0_log 68 = .ok (.getfield 352, 3) := dk_180 1 96 (dk_at dksX0_log_2 21 rfl rfl)
theorem dX0_log_71 : decode cX0_log 71 = .ok (.goto 19, 3) := dk_167 0 19 (dk_at dksX0_log_3 0 rfl rfl)
theorem dX0_log_74 : decode cX0_log 74 = .ok (.iload_n 2, 1) := dk_28 (dk_at dksX0_log_3 3 rfl rfl)
theorem dX0_log_75 : decode cX0_log 75 = .ok (.iconst 2, 1) := dk_5 (dk_at dksX0_log_3 4 rfl rfl)
theorem dX0_log_76 : decode cX0_log 76 = .ok (.if_icmp .ne 10, 3) := dk_160 0 10 (dk_at dksX0_log_3 5 rfl rfl)
theorem dX0_log_79 : decode cX0_log 79 = .ok (.aload_n 3, 1) := dk_45 (dk_at dksX0_log_3 8 rfl rfl)
theorem dX0_log_80 : decode cX0_log 80 = .ok (.getfield 355, 3) := dk_180 1 99 (dk_at dksX0_log_3 9 rfl rfl)
theorem dX0_log_83 : decode cX0_log 83 = .ok (.goto 7, 3) := dk_167 0 7 (dk_at dksX0_log_3 12 rfl rfl)
theorem dX0_log_86 : decode cX0_log 86 = .ok (.aload_n 3, 1) := dk_45 (dk_at dksX0_log_3 15 rfl rfl)
theorem dX0_log_87 : decode cX0_log 87 = .ok (.getfield 357, 3) := dk_180 1 101 (dk_at dksX0_log_3 16 rfl rfl)
theorem dX0_log_90 : decode cX0_log 90 = .ok (.ireturn, 1) := dk_172 (dk_at dksX0_log_3 19 rfl rfl)
abbrev cX0_logged : ByteArray := prog_1_method_51_code
def yX0_logged : MethodName := ⟨RX0, "logged", "(I)I"⟩
def dkwX0_logged_3 : List UInt8 := [132, 3, 1, 167, 255, 203, 28, 172]
abbrev dktX0_logged_3 : List UInt8 := dkwX0_logged_3 ++ []
def dkwX0_logged_2 : List UInt8 := [29, 182, 0, 159, 192, 1, 93, 180, 1, 96, 27, 160, 0, 7, 4, 167, 0, 4, 3, 184, 1, 52, 96, 61]
abbrev dktX0_logged_2 : List UInt8 := dkwX0_logged_2 ++ dktX0_logged_3
def dkwX0_logged_1 : List UInt8 := [180, 0, 39, 180, 1, 90, 182, 0, 76, 162, 0, 45, 28, 27, 153, 0, 24, 42, 180, 0, 39, 180, 1, 90]
abbrev dktX0_logged_1 : List UInt8 := dkwX0_logged_1 ++ dktX0_logged_2
def dkwX0_logged_0 : List UInt8 := [27, 3, 16, 6, 184, 0, 68, 154, 0, 10, 42, 16, 154, 182, 0, 102, 172, 3, 61, 3, 62, 29, 42]
abbrev dktX0_logged_0 : List UInt8 := dkwX0_logged_0 ++ dktX0_logged_1
theorem dksX0_logged_0 : cX0_logged.data.toList.drop 0 = dktX0_logged_0 := by decide +kernel
theorem dksX0_logged_1 : cX0_logged.data.toList.drop 23 = dktX0_logged_1 := dk_seg dksX0_logged_0 23 rfl rfl
theorem dksX0_logged_2 : cX0_logged.data.toList.drop 47 = dktX0_logged_2 := dk_seg dksX0_logged_1 24 rfl rfl
theorem dksX0_logged_3 : cX0_logged.data.toList.drop 71 = dktX0_logged_3 := dk_seg dksX0_logged_2 24 rfl rfl
theorem dX0_logged_0 : decode cX0_logged 0 = .ok (.iload_n 1, 1) := dk_27 (dk_at dksX0_logged_0 0 rfl rfl)
theorem dX0_logged_1 : decode cX0_logged 1 = .ok (.iconst 0, 1) := dk_3 (dk_at dksX0_logged_0 1 rfl rfl)
theorem dX0_logged_2 : decode cX0_logged 2 = .ok (.bipush 6, 2) := dk_16 6 (dk_at dksX0_logged_0 2 rfl rfl)
theorem dX0_logged_4 : decode cX0_logged 4 = .ok (.invokestatic 68, 3) := dk_184 0 68 (dk_at dksX0_logged_0 4 rfl rfl)
theorem dX0_logged_7 : decode cX0_logged 7 = .ok (.ifCond .ne 10, 3) := dk_154 0 10 (dk_at dksX0_logged_0 7 rfl rfl)
theorem dX0_logged_10 : decode cX0_logged 10 = .ok (.aload_n 0, 1) := dk_42 (dk_at dksX0_logged_0 10 rfl rfl)
theorem dX0_logged_11 : decode cX0_logged 11 = .ok (.bipush (-102), 2) := dk_16 154 (dk_at dksX0_logged_0 11 rfl rfl)
theorem dX0_logged_13 : decode cX0_logged 13 = .ok (.invokevirtual 102, 3) := dk_182 0 102 (dk_at dksX0_logged_0 13 rfl rfl)
theorem dX0_logged_16 : decode cX0_logged 16 = .ok (.ireturn, 1) := dk_172 (dk_at dksX0_logged_0 16 rfl rfl)
theorem dX0_logged_17 : decode cX0_logged 17 = .ok (.iconst 0, 1) := dk_3 (dk_at dksX0_logged_0 17 rfl rfl)
theorem dX0_logged_18 : decode cX0_logged 18 = .ok (.istore_n 2, 1) := dk_61 (dk_at dksX0_logged_0 18 rfl rfl)
theorem dX0_logged_19 : decode cX0_logged 19 = .ok (.iconst 0, 1) := dk_3 (dk_at dksX0_logged_0 19 rfl rfl)
theorem dX0_logged_20 : decode cX0_logged 20 = .ok (.istore_n 3, 1) := dk_62 (dk_at dksX0_logged_0 20 rfl rfl)
theorem dX0_logged_21 : decode cX0_logged 21 = .ok (.iload_n 3, 1) := dk_29 (dk_at dksX0_logged_0 21 rfl rfl)
theorem dX0_logged_22 : decode cX0_logged 22 = .ok (.aload_n 0, 1) := dk_42 (dk_at dksX0_logged_0 22 rfl rfl)
theorem dX0_logged_23 : decode cX0_logged 23 = .ok (.getfield 39, 3) := dk_180 0 39 (dk_at dksX0_logged_1 0 rfl rfl)
theorem dX0_logged_26 : decode cX0_logged 26 = .ok (.getfield 346, 3) := dk_180 1 90 (dk_at dksX0_logged_1 3 rfl rfl)
theorem dX0_logged_29 : decode cX0_logged 29 = .ok (.invokevirtual 76, 3) := dk_182 0 76 (dk_at dksX0_logged_1 6 rfl rfl)
theorem dX0_logged_32 : decode cX0_logged 32 = .ok (.if_icmp .ge 45, 3) := dk_162 0 45 (dk_at dksX0_logged_1 9 rfl rfl)
theorem dX0_logged_35 : decode cX0_logged 35 = .ok (.iload_n 2, 1) := dk_28 (dk_at dksX0_logged_1 12 rfl rfl)
theorem dX0_logged_36 : decode cX0_logged 36 = .ok (.iload_n 1, 1) := dk_27 (dk_at dksX0_logged_1 13 rfl rfl)
theorem dX0_logged_37 : decode cX0_logged 37 = .ok (.ifCond .eq 24, 3) := dk_153 0 24 (dk_at dksX0_logged_1 14 rfl rfl)
theorem dX0_logged_40 : decode cX0_logged 40 = .ok (.aload_n 0, 1) := dk_42 (dk_at dksX0_logged_1 17 rfl rfl)
theorem dX0_logged_41 : decode cX0_logged 41 = .ok (.getfield 39, 3) := dk_180 0 39 (dk_at dksX0_logged_1 18 rfl rfl)
theorem dX0_logged_44 : decode cX0_logged 44 = .ok (.getfield 346, 3) := dk_180 1 90 (dk_at dksX0_logged_1 21 rfl rfl)
theorem dX0_logged_47 : decode cX0_logged 47 = .ok (.iload_n 3, 1) := dk_29 (dk_at dksX0_logged_2 0 rfl rfl)
theorem dX0_logged_48 : decode cX0_logged 48 = .ok (.invokevirtual 159, 3) := dk_182 0 159 (dk_at dksX0_logged_2 1 rfl rfl)
theorem dX0_logged_51 : decode cX0_logged 51 = .ok (.checkcast 349, 3) := dk_192 1 93 (dk_at dksX0_logged_2 4 rfl rfl)
theorem dX0_logged_54 : decode cX0_logged 54 = .ok (.getfield 352, 3) := dk_180 1 96 (dk_at dksX0_logged_2 7 rfl rfl)
theorem dX0_logged_57 : decode cX0_logged 57 = .ok (.iload_n 1, 1) := dk_27 (dk_at dksX0_logged_2 10 rfl rfl)
theorem dX0_logged_58 : decode cX0_logged 58 = .ok (.if_icmp .ne 7, 3) := dk_160 0 7 (dk_at dksX0_logged_2 11 rfl rfl)
theorem dX0_logged_61 : decode cX0_logged 61 = .ok (.iconst 1, 1) := dk_4 (dk_at dksX0_logged_2 14 rfl rfl)
theorem dX0_logged_62 : decode cX0_logged 62 = .ok (.goto 4, 3) := dk_167 0 4 (dk_at dksX0_logged_2 15 rfl rfl)
theorem dX0_logged_65 : decode cX0_logged 65 = .ok (.iconst 0, 1) := dk_3 (dk_at dksX0_logged_2 18 rfl rfl)
theorem dX0_logged_66 : decode cX0_logged 66 = .ok (.invokestatic 308, 3) := dk_184 1 52 (dk_at dksX0_logged_2 19 rfl rfl)
theorem dX0_logged_69 : decode cX0_logged 69 = .ok (.iadd, 1) := dk_96 (dk_at dksX0_logged_2 22 rfl rfl)
theorem dX0_logged_70 : decode cX0_logged 70 = .ok (.istore_n 2, 1) := dk_61 (dk_at dksX0_logged_2 23 rfl rfl)
theorem dX0_logged_71 : decode cX0_logged 71 = .ok (.iinc 3 1, 3) := dk_132 3 1 (dk_at dksX0_logged_3 0 rfl rfl)
theorem dX0_logged_74 : decode cX0_logged 74 = .ok (.goto (-53), 3) := dk_167 255 203 (dk_at dksX0_logged_3 3 rfl rfl)
theorem dX0_logged_77 : decode cX0_logged 77 = .ok (.iload_n 2, 1) := dk_28 (dk_at dksX0_logged_3 6 rfl rfl)
theorem dX0_logged_78 : decode cX0_logged 78 = .ok (.ireturn, 1) := dk_172 (dk_at dksX0_logged_3 7 rfl rfl)
abbrev cX0_difference : ByteArray := prog_1_method_52_code
def yX0_difference : MethodName := ⟨RX0, "difference", "(II)I"⟩
def dkwX0_difference_3 : List UInt8 := [180, 1, 101, 172]
abbrev dktX0_difference_3 : List UInt8 := dkwX0_difference_3 ++ []
def dkwX0_difference_2 : List UInt8 := [167, 0, 25, 28, 4, 160, 0, 13, 45, 180, 1, 114, 180, 0, 153, 167, 0, 10, 45, 180, 1, 108]
abbrev dktX0_difference_2 : List UInt8 := dkwX0_difference_2 ++ dktX0_difference_3
def dkwX0_difference_1 : List UInt8 := [184, 0, 68, 154, 0, 10, 42, 16, 154, 182, 0, 102, 172, 28, 154, 0, 13, 45, 180, 1, 108, 180, 1, 95]
abbrev dktX0_difference_1 : List UInt8 := dkwX0_difference_1 ++ dktX0_difference_2
def dkwX0_difference_0 : List UInt8 := [27, 156, 0, 7, 1, 167, 0, 11, 42, 180, 0, 39, 27, 182, 1, 104, 78, 45, 198, 0, 12, 28, 3, 5]
abbrev dktX0_difference_0 : List UInt8 := dkwX0_difference_0 ++ dktX0_difference_1
theorem dksX0_difference_0 : cX0_difference.data.toList.drop 0 = dktX0_difference_0 := by decide +kernel
theorem dksX0_difference_1 : cX0_difference.data.toList.drop 24 = dktX0_difference_1 := dk_seg dksX0_difference_0 24 rfl rfl
theorem dksX0_difference_2 : cX0_difference.data.toList.drop 48 = dktX0_difference_2 := dk_seg dksX0_difference_1 24 rfl rfl
theorem dksX0_difference_3 : cX0_difference.data.toList.drop 70 = dktX0_difference_3 := dk_seg dksX0_difference_2 22 rfl rfl
theorem dX0_difference_0 : decode cX0_difference 0 = .ok (.iload_n 1, 1) := dk_27 (dk_at dksX0_difference_0 0 rfl rfl)
theorem dX0_difference_1 : decode cX0_difference 1 = .ok (.ifCond .ge 7, 3) := dk_156 0 7 (dk_at dksX0_difference_0 1 rfl rfl)
theorem dX0_difference_4 : decode cX0_difference 4 = .ok (.aconst_null, 1) := dk_1 (dk_at dksX0_difference_0 4 rfl rfl)
theorem dX0_difference_5 : decode cX0_difference 5 = .ok (.goto 11, 3) := dk_167 0 11 (dk_at dksX0_difference_0 5 rfl rfl)
theorem dX0_difference_8 : decode cX0_difference 8 = .ok (.aload_n 0, 1) := dk_42 (dk_at dksX0_difference_0 8 rfl rfl)
theorem dX0_difference_9 : decode cX0_difference 9 = .ok (.getfield 39, 3) := dk_180 0 39 (dk_at dksX0_difference_0 9 rfl rfl)
theorem dX0_difference_12 : decode cX0_difference 12 = .ok (.iload_n 1, 1) := dk_27 (dk_at dksX0_difference_0 12 rfl rfl)
theorem dX0_difference_13 : decode cX0_difference 13 = .ok (.invokevirtual 360, 3) := dk_182 1 104 (dk_at dksX0_difference_0 13 rfl rfl)
theorem dX0_difference_16 : decode cX0_difference 16 = .ok (.astore_n 3, 1) := dk_78 (dk_at dksX0_difference_0 16 rfl rfl)
theorem dX0_difference_17 : decode cX0_difference 17 = .ok (.aload_n 3, 1) := dk_45 (dk_at dksX0_difference_0 17 rfl rfl)
theorem dX0_difference_18 : decode cX0_difference 18 = .ok (.ifnull 12, 3) := dk_198 0 12 (dk_at dksX0_difference_0 18 rfl rfl)
theorem dX0_difference_21 : decode cX0_difference 21 = .ok (.iload_n 2, 1) := dk_28 (dk_at dksX0_difference_0 21 rfl rfl)
theorem dX0_difference_22 : decode cX0_difference 22 = .ok (.iconst 0, 1) := dk_3 (dk_at dksX0_difference_0 22 rfl rfl)
theorem dX0_difference_23 : decode cX0_difference 23 = .ok (.iconst 2, 1) := dk_5 (dk_at dksX0_difference_0 23 rfl rfl)
theorem dX0_difference_24 : decode cX0_difference 24 = .ok (.invokestatic 68, 3) := dk_184 0 68 (dk_at dksX0_difference_1 0 rfl rfl)
theorem dX0_difference_27 : decode cX0_difference 27 = .ok (.ifCond .ne 10, 3) := dk_154 0 10 (dk_at dksX0_difference_1 3 rfl rfl)
theorem dX0_difference_30 : decode cX0_difference 30 = .ok (.aload_n 0, 1) := dk_42 (dk_at dksX0_difference_1 6 rfl rfl)
theorem dX0_difference_31 : decode cX0_difference 31 = .ok (.bipush (-102), 2) := dk_16 154 (dk_at dksX0_difference_1 7 rfl rfl)
theorem dX0_difference_33 : decode cX0_difference 33 = .ok (.invokevirtual 102, 3) := dk_182 0 102 (dk_at dksX0_difference_1 9 rfl rfl)
theorem dX0_difference_36 : decode cX0_difference 36 = .ok (.ireturn, 1) := dk_172 (dk_at dksX0_difference_1 12 rfl rfl)
theorem dX0_difference_37 : decode cX0_difference 37 = .ok (.iload_n 2, 1) := dk_28 (dk_at dksX0_difference_1 13 rfl rfl)
theorem dX0_difference_38 : decode cX0_difference 38 = .ok (.ifCond .ne 13, 3) := dk_154 0 13 (dk_at dksX0_difference_1 14 rfl rfl)
theorem dX0_difference_41 : decode cX0_difference 41 = .ok (.aload_n 3, 1) := dk_45 (dk_at dksX0_difference_1 17 rfl rfl)
theorem dX0_difference_42 : decode cX0_difference 42 = .ok (.getfield 364, 3) := dk_180 1 108 (dk_at dksX0_difference_1 18 rfl rfl)
theorem dX0_difference_45 : decode cX0_difference 45 = .ok (.getfield 351, 3) := dk_180 1 95 (dk_at dksX0_difference_1 21 rfl rfl)
theorem dX0_difference_48 : decode cX0_difference 48 = .ok (.goto 25, 3) := dk_167 0 25 (dk_at dksX0_difference_2 0 rfl rfl)
theorem dX0_difference_51 : decode cX0_difference 51 = .ok (.iload_n 2, 1) := dk_28 (dk_at dksX0_difference_2 3 rfl rfl)
theorem dX0_difference_52 : decode cX0_difference 52 = .ok (.iconst 1, 1) := dk_4 (dk_at dksX0_difference_2 4 rfl rfl)
theorem dX0_difference_53 : decode cX0_difference 53 = .ok (.if_icmp .ne 13, 3) := dk_160 0 13 (dk_at dksX0_difference_2 5 rfl rfl)
theorem dX0_difference_56 : decode cX0_difference 56 = .ok (.aload_n 3, 1) := dk_45 (dk_at dksX0_difference_2 8 rfl rfl)
theorem dX0_difference_57 : decode cX0_difference 57 = .ok (.getfield 370, 3) := dk_180 1 114 (dk_at dksX0_difference_2 9 rfl rfl)
theorem dX0_difference_60 : decode cX0_difference 60 = .ok (.getfield 153, 3) := dk_180 0 153 (dk_at dksX0_difference_2 12 rfl rfl)
theorem dX0_difference_63 : decode cX0_difference 63 = .ok (.goto 10, 3) := dk_167 0 10 (dk_at dksX0_difference_2 15 rfl rfl)
theorem dX0_difference_66 : decode cX0_difference 66 = .ok (.aload_n 3, 1) := dk_45 (dk_at dksX0_difference_2 18 rfl rfl)
theorem dX0_difference_67 : decode cX0_difference 67 = .ok (.getfield 364, 3) := dk_180 1 108 (dk_at dksX0_difference_2 19 rfl rfl)
theorem dX0_difference_70 : decode cX0_difference 70 = .ok (.getfield 357, 3) := dk_180 1 101 (dk_at dksX0_difference_3 0 rfl rfl)
theorem dX0_difference_73 : decode cX0_difference 73 = .ok (.ireturn, 1) := dk_172 (dk_at dksX0_difference_3 3 rfl rfl)
abbrev cX0_differences : ByteArray := prog_1_method_53_code
def yX0_differences : MethodName := ⟨RX0, "differences", "(I)I"⟩
def dkwX0_differences_1 : List UInt8 := [172]
abbrev dktX0_differences_1 : List UInt8 := dkwX0_differences_1 ++ []
def dkwX0_differences_0 : List UInt8 := [42, 27, 133, 182, 0, 239, 154, 0, 10, 42, 16, 154, 182, 0, 102, 172, 42, 180, 0, 39, 27, 182, 1, 117]
abbrev dktX0_differences_0 : List UInt8 := dkwX0_differences_0 ++ dktX0_differences_1
theorem dksX0_differences_0 : cX0_differences.data.toList.drop 0 = dktX0_differences_0 := by decide +kernel
theorem dksX0_differences_1 : cX0_differences.data.toList.drop 24 = dktX0_differences_1 := dk_seg dksX0_differences_0 24 rfl rfl
theorem dX0_differences_0 : decode cX0_differences 0 = .ok (.aload_n 0, 1) := dk_42 (dk_at dksX0_differences_0 0 rfl rfl)
theorem dX0_differences_1 : decode cX0_differences 1 = .ok (.iload_n 1, 1) := dk_27 (dk_at dksX0_differences_0 1 rfl rfl)
theorem dX0_differences_2 : decode cX0_differences 2 = .ok (.i2l, 1) := dk_133 (dk_at dksX0_differences_0 2 rfl rfl)
theorem dX0_differences_3 : decode cX0_differences 3 = .ok (.invokevirtual 239, 3) := dk_182 0 239 (dk_at dksX0_differences_0 3 rfl rfl)
theorem dX0_differences_6 : decode cX0_differences 6 = .ok (.ifCond .ne 10, 3) := dk_154 0 10 (dk_at dksX0_differences_0 6 rfl rfl)
theorem dX0_differences_9 : decode cX0_differences 9 = .ok (.aload_n 0, 1) := dk_42 (dk_at dksX0_differences_0 9 rfl rfl)
theorem dX0_differences_10 : decode cX0_differences 10 = .ok (.bipush (-102), 2) := dk_16 154 (dk_at dksX0_differences_0 10 rfl rfl)
theorem dX0_differences_12 : decode cX0_differences 12 = .ok (.invokevirtual 102, 3) := dk_182 0 102 (dk_at dksX0_differences_0 12 rfl rfl)
theorem dX0_differences_15 : decode cX0_differences 15 = .ok (.ireturn, 1) := dk_172 (dk_at dksX0_differences_0 15 rfl rfl)
theorem dX0_differences_16 : decode cX0_differences 16 = .ok (.aload_n 0, 1) := dk_42 (dk_at dksX0_differences_0 16 rfl rfl)
theorem dX0_differences_17 : decode cX0_differences 17 = .ok (.getfield 39, 3) := dk_180 0 39 (dk_at dksX0_differences_0 17 rfl rfl)
theorem dX0_differences_20 : decode cX0_differences 20 = .ok (.iload_n 1, 1) := dk_27 (dk_at dksX0_differences_0 20 rfl rfl)
theorem dX0_differences_21 : decode cX0_differences 21 = .ok (.invokevirtual 373, 3) := dk_182 1 117 (dk_at dksX0_differences_0 21 rfl rfl)
theorem dX0_differences_24 : decode cX0_differences 24 = .ok (.ireturn, 1) := dk_172 (dk_at dksX0_differences_1 0 rfl rfl)
abbrev cX0_unlit : ByteArray := prog_1_method_54_code
def yX0_unlit : MethodName := ⟨RX0, "unlit", "()I"⟩
def dkwX0_unlit_1 : List UInt8 := [42, 180, 0, 39, 180, 1, 120, 28, 4, 96, 182, 1, 124, 61, 167, 255, 232, 27, 172]
abbrev dktX0_unlit_1 : List UInt8 := dkwX0_unlit_1 ++ []
def dkwX0_unlit_0 : List UInt8 := [3, 60, 42, 180, 0, 39, 180, 1, 120, 3, 182, 1, 124, 61, 28, 155, 0, 26, 27, 4, 28, 120, 128, 60]
abbrev dktX0_unlit_0 : List UInt8 := dkwX0_unlit_0 ++ dktX0_unlit_1
theorem dksX0_unlit_0 : cX0_unlit.data.toList.drop 0 = dktX0_unlit_0 := by decide +kernel
theorem dksX0_unlit_1 : cX0_unlit.data.toList.drop 24 = dktX0_unlit_1 := dk_seg dksX0_unlit_0 24 rfl rfl
theorem dX0_unlit_0 : decode cX0_unlit 0 = .ok (.iconst 0, 1) := dk_3 (dk_at dksX0_unlit_0 0 rfl rfl)
theorem dX0_unlit_1 : decode cX0_unlit 1 = .ok (.istore_n 1, 1) := dk_60 (dk_at dksX0_unlit_0 1 rfl rfl)
theorem dX0_unlit_2 : decode cX0_unlit 2 = .ok (.aload_n 0, 1) := dk_42 (dk_at dksX0_unlit_0 2 rfl rfl)
theorem dX0_unlit_3 : decode cX0_unlit 3 = .ok (.getfield 39, 3) := dk_180 0 39 (dk_at dksX0_unlit_0 3 rfl rfl)
theorem dX0_unlit_6 : decode cX0_unlit 6 = .ok (.getfield 376, 3) := dk_180 1 120 (dk_at dksX0_unlit_0 6 rfl rfl)
theorem dX0_unlit_9 : decode cX0_unlit 9 = .ok (.iconst 0, 1) := dk_3 (dk_at dksX0_unlit_0 9 rfl rfl)
theorem dX0_unlit_10 : decode cX0_unlit 10 = .ok (.invokevirtual 380, 3) := dk_182 1 124 (dk_at dksX0_unlit_0 10 rfl rfl)
theorem dX0_unlit_13 : decode cX0_unlit 13 = .ok (.istore_n 2, 1) := dk_61 (dk_at dksX0_unlit_0 13 rfl rfl)
theorem dX0_unlit_14 : decode cX0_unlit 14 = .ok (.iload_n 2, 1) := dk_28 (dk_at dksX0_unlit_0 14 rfl rfl)
theorem dX0_unlit_15 : decode cX0_unlit 15 = .ok (.ifCond .lt 26, 3) := dk_155 0 26 (dk_at dksX0_unlit_0 15 rfl rfl)
theorem dX0_unlit_18 : decode cX0_unlit 18 = .ok (.iload_n 1, 1) := dk_27 (dk_at dksX0_unlit_0 18 rfl rfl)
theorem dX0_unlit_19 : decode cX0_unlit 19 = .ok (.iconst 1, 1) := dk_4 (dk_at dksX0_unlit_0 19 rfl rfl)
theorem dX0_unlit_20 : decode cX0_unlit 20 = .ok (.iload_n 2, 1) := dk_28 (dk_at dksX0_unlit_0 20 rfl rfl)
theorem dX0_unlit_21 : decode cX0_unlit 21 = .ok (.ishl, 1) := dk_120 (dk_at dksX0_unlit_0 21 rfl rfl)
theorem dX0_unlit_22 : decode cX0_unlit 22 = .ok (.ior, 1) := dk_128 (dk_at dksX0_unlit_0 22 rfl rfl)
theorem dX0_unlit_23 : decode cX0_unlit 23 = .ok (.istore_n 1, 1) := dk_60 (dk_at dksX0_unlit_0 23 rfl rfl)
theorem dX0_unlit_24 : decode cX0_unlit 24 = .ok (.aload_n 0, 1) := dk_42 (dk_at dksX0_unlit_1 0 rfl rfl)
theorem dX0_unlit_25 : decode cX0_unlit 25 = .ok (.getfield 39, 3) := dk_180 0 39 (dk_at dksX0_unlit_1 1 rfl rfl)
theorem dX0_unlit_28 : decode cX0_unlit 28 = .ok (.getfield 376, 3) := dk_180 1 120 (dk_at dksX0_unlit_1 4 rfl rfl)
theorem dX0_unlit_31 : decode cX0_unlit 31 = .ok (.iload_n 2, 1) := dk_28 (dk_at dksX0_unlit_1 7 rfl rfl)
theorem dX0_unlit_32 : decode cX0_unlit 32 = .ok (.iconst 1, 1) := dk_4 (dk_at dksX0_unlit_1 8 rfl rfl)
theorem dX0_unlit_33 : decode cX0_unlit 33 = .ok (.iadd, 1) := dk_96 (dk_at dksX0_unlit_1 9 rfl rfl)
theorem dX0_unlit_34 : decode cX0_unlit 34 = .ok (.invokevirtual 380, 3) := dk_182 1 124 (dk_at dksX0_unlit_1 10 rfl rfl)
theorem dX0_unlit_37 : decode cX0_unlit 37 = .ok (.istore_n 2, 1) := dk_61 (dk_at dksX0_unlit_1 13 rfl rfl)
theorem dX0_unlit_38 : decode cX0_unlit 38 = .ok (.goto (-24), 3) := dk_167 255 232 (dk_at dksX0_unlit_1 14 rfl rfl)
theorem dX0_unlit_41 : decode cX0_unlit 41 = .ok (.iload_n 1, 1) := dk_27 (dk_at dksX0_unlit_1 17 rfl rfl)
theorem dX0_unlit_42 : decode cX0_unlit 42 = .ok (.ireturn, 1) := dk_172 (dk_at dksX0_unlit_1 18 rfl rfl)
abbrev cX0_would : ByteArray := prog_1_method_55_code
def yX0_would : MethodName := ⟨RX0, "would", "(II)I"⟩
def dkwX0_would_5 : List UInt8 := [100, 172]
abbrev dktX0_would_5 : List UInt8 := dkwX0_would_5 ++ []
def dkwX0_would_4 : List UInt8 := [180, 1, 133, 167, 0, 22, 45, 180, 1, 136, 167, 0, 15, 45, 182, 1, 139, 42, 180, 0, 39, 182, 1, 139]
abbrev dktX0_would_4 : List UInt8 := dkwX0_would_4 ++ dktX0_would_5
def dkwX0_would_3 : List UInt8 := [21, 4, 167, 0, 47, 45, 180, 1, 7, 6, 46, 167, 0, 38, 45, 180, 1, 7, 7, 46, 167, 0, 29, 45]
abbrev dktX0_would_3 : List UInt8 := dkwX0_would_3 ++ dktX0_would_4
def dkwX0_would_2 : List UInt8 := [170, 0, 0, 0, 70, 0, 0, 0, 0, 0, 0, 0, 4, 0, 0, 0, 33, 0, 0, 0, 38, 0, 0, 0, 47, 0, 0, 0, 56, 0, 0, 0, 63]
abbrev dktX0_would_2 : List UInt8 := dkwX0_would_2 ++ dktX0_would_3
def dkwX0_would_1 : List UInt8 := [180, 0, 51, 42, 180, 0, 39, 182, 1, 129, 78, 45, 27, 182, 1, 29, 54, 4, 28]
abbrev dktX0_would_1 : List UInt8 := dkwX0_would_1 ++ dktX0_would_2
def dkwX0_would_0 : List UInt8 := [27, 184, 1, 26, 153, 0, 12, 28, 3, 8, 184, 0, 68, 154, 0, 10, 42, 16, 154, 182, 0, 102, 172, 42]
abbrev dktX0_would_0 : List UInt8 := dkwX0_would_0 ++ dktX0_would_1
theorem dksX0_would_0 : cX0_would.data.toList.drop 0 = dktX0_would_0 := by decide +kernel
theorem dksX0_would_1 : cX0_would.data.toList.drop 24 = dktX0_would_1 := dk_seg dksX0_would_0 24 rfl rfl
theorem dksX0_would_2 : cX0_would.data.toList.drop 43 = dktX0_would_2 := dk_seg dksX0_would_1 19 rfl rfl
theorem dksX0_would_3 : cX0_would.data.toList.drop 76 = dktX0_would_3 := dk_seg dksX0_would_2 33 rfl rfl
theorem dksX0_would_4 : cX0_would.data.toList.drop 100 = dktX0_would_4 := dk_seg dksX0_would_3 24 rfl rfl
theorem dksX0_would_5 : cX0_would.data.toList.drop 124 = dktX0_would_5 := dk_seg dksX0_would_4 24 rfl rfl
theorem dX0_would_0 : decode cX0_would 0 = .ok (.iload_n 1, 1) := dk_27 (dk_at dksX0_would_0 0 rfl rfl)
theorem dX0_would_1 : decode cX0_would 1 = .ok (.invokestatic 282, 3) := dk_184 1 26 (dk_at dksX0_would_0 1 rfl rfl)
theorem dX0_would_4 : decode cX0_would 4 = .ok (.ifCond .eq 12, 3) := dk_153 0 12 (dk_at dksX0_would_0 4 rfl rfl)
theorem dX0_would_7 : decode cX0_would 7 = .ok (.iload_n 2, 1) := dk_28 (dk_at dksX0_would_0 7 rfl rfl)
theorem dX0_would_8 : decode cX0_would 8 = .ok (.iconst 0, 1) := dk_3 (dk_at dksX0_would_0 8 rfl rfl)
theorem dX0_would_9 : decode cX0_would 9 = .ok (.iconst 5, 1) := dk_8 (dk_at dksX0_would_0 9 rfl rfl)
theorem dX0_would_10 : decode cX0_would 10 = .ok (.invokestatic 68, 3) := dk_184 0 68 (dk_at dksX0_would_0 10 rfl rfl)
theorem dX0_would_13 : decode cX0_would 13 = .ok (.ifCond .ne 10, 3) := dk_154 0 10 (dk_at dksX0_would_0 13 rfl rfl)
theorem dX0_would_16 : decode cX0_would 16 = .ok (.aload_n 0, 1) := dk_42 (dk_at dksX0_would_0 16 rfl rfl)
theorem dX0_would_17 : decode cX0_would 17 = .ok (.bipush (-102), 2) := dk_16 154 (dk_at dksX0_would_0 17 rfl rfl)
theorem dX0_would_19 : decode cX0_would 19 = .ok (.invokevirtual 102, 3) := dk_182 0 102 (dk_at dksX0_would_0 19 rfl rfl)
theorem dX0_would_22 : decode cX0_would 22 = .ok (.ireturn, 1) := dk_172 (dk_at dksX0_would_0 22 rfl rfl)
theorem dX0_would_23 : decode cX0_would 23 = .ok (.aload_n 0, 1) := dk_42 (dk_at dksX0_would_0 23 rfl rfl)
theorem dX0_would_24 : decode cX0_would 24 = .ok (.getfield 51, 3) := dk_180 0 51 (dk_at dksX0_would_1 0 rfl rfl)
theorem dX0_would_27 : decode cX0_would 27 = .ok (.aload_n 0, 1) := dk_42 (dk_at dksX0_would_1 3 rfl rfl)
theorem dX0_would_28 : decode cX0_would 28 = .ok (.getfield 39, 3) := dk_180 0 39 (dk_at dksX0_would_1 4 rfl rfl)
theorem dX0_would_31 : decode cX0_would 31 = .ok (.invokevirtual 385, 3) := dk_182 1 129 (dk_at dksX0_would_1 7 rfl rfl)
theorem dX0_would_34 : decode cX0_would 34 = .ok (.astore_n 3, 1) := dk_78 (dk_at dksX0_would_1 10 rfl rfl)
theorem dX0_would_35 : decode cX0_would 35 = .ok (.aload_n 3, 1) := dk_45 (dk_at dksX0_would_1 11 rfl rfl)
theorem dX0_would_36 : decode cX0_would 36 = .ok (.iload_n 1, 1) := dk_27 (dk_at dksX0_would_1 12 rfl rfl)
theorem dX0_would_37 : decode cX0_would 37 = .ok (.invokevirtual 285, 3) := dk_182 1 29 (dk_at dksX0_would_1 13 rfl rfl)
theorem dX0_would_40 : decode cX0_would 40 = .ok (.istore 4, 2) := dk_54 4 (dk_at dksX0_would_1 16 rfl rfl)
theorem dX0_would_42 : decode cX0_would 42 = .ok (.iload_n 2, 1) := dk_28 (dk_at dksX0_would_1 18 rfl rfl)
theorem dX0_would_43 : decode cX0_would 43 = .ok (.tableswitch 70 0 4 #[33, 38, 47, 56, 63], 33) := by decide +kernel
theorem dX0_would_76 : decode cX0_would 76 = .ok (.iload 4, 2) := dk_21 4 (dk_at dksX0_would_3 0 rfl rfl)
theorem dX0_would_78 : decode cX0_would 78 = .ok (.goto 47, 3) := dk_167 0 47 (dk_at dksX0_would_3 2 rfl rfl)
theorem dX0_would_81 : decode cX0_would 81 = .ok (.aload_n 3, 1) := dk_45 (dk_at dksX0_would_3 5 rfl rfl)
theorem dX0_would_82 : decode cX0_would 82 = .ok (.getfield 263, 3) := dk_180 1 7 (dk_at dksX0_would_3 6 rfl rfl)
theorem dX0_would_85 : decode cX0_would 85 = .ok (.iconst 3, 1) := dk_6 (dk_at dksX0_would_3 9 rfl rfl)
theorem dX0_would_86 : decode cX0_would 86 = .ok (.iaload, 1) := dk_46 (dk_at dksX0_would_3 10 rfl rfl)
theorem dX0_would_87 : decode cX0_would 87 = .ok (.goto 38, 3) := dk_167 0 38 (dk_at dksX0_would_3 11 rfl rfl)
theorem dX0_would_90 : decode cX0_would 90 = .ok (.aload_n 3, 1) := dk_45 (dk_at dksX0_would_3 14 rfl rfl)
theorem dX0_would_91 : decode cX0_would 91 = .ok (.getfield 263, 3) := dk_180 1 7 (dk_at dksX0_would_3 15 rfl rfl)
theorem dX0_would_94 : decode cX0_would 94 = .ok (.iconst 4, 1) := dk_7 (dk_at dksX0_would_3 18 rfl rfl)
theorem dX0_would_95 : decode cX0_would 95 = .ok (.iaload, 1) := dk_46 (dk_at dksX0_would_3 19 rfl rfl)
theorem dX0_would_96 : decode cX0_would 96 = .ok (.goto 29, 3) := dk_167 0 29 (dk_at dksX0_would_3 20 rfl rfl)
theorem dX0_would_99 : decode cX0_would 99 = .ok (.aload_n 3, 1) := dk_45 (dk_at dksX0_would_3 23 rfl rfl)
theorem dX0_would_100 : decode cX0_would 100 = .ok (.getfield 389, 3) := dk_180 1 133 (dk_at dksX0_would_4 0 rfl rfl)
theorem dX0_would_103 : decode cX0_would 103 = .ok (.goto 22, 3) := dk_167 0 22 (dk_at dksX0_would_4 3 rfl rfl)
theorem dX0_would_106 : decode cX0_would 106 = .ok (.aload_n 3, 1) := dk_45 (dk_at dksX0_would_4 6 rfl rfl)
theorem dX0_would_107 : decode cX0_would 107 = .ok (.getfield 392, 3) := dk_180 1 136 (dk_at dksX0_would_4 7 rfl rfl)
theorem dX0_would_110 : decode cX0_would 110 = .ok (.goto 15, 3) := dk_167 0 15 (dk_at dksX0_would_4 10 rfl rfl)
theorem dX0_would_113 : decode cX0_would 113 = .ok (.aload_n 3, 1) := dk_45 (dk_at dksX0_would_4 13 rfl rfl)
theorem dX0_would_114 : decode cX0_would 114 = .ok (.invokevirtual 395, 3) := dk_182 1 139 (dk_at dksX0_would_4 14 rfl rfl)
theorem dX0_would_117 : decode cX0_would 117 = .ok (.aload_n 0, 1) := dk_42 (dk_at dksX0_would_4 17 rfl rfl)
theorem dX0_would_118 : decode cX0_would 118 = .ok (.getfield 39, 3) := dk_180 0 39 (dk_at dksX0_would_4 18 rfl rfl)
theorem dX0_would_121 : decode cX0_would 121 = .ok (.invokevirtual 395, 3) := dk_182 1 139 (dk_at dksX0_would_4 21 rfl rfl)
theorem dX0_would_124 : decode cX0_would 124 = .ok (.isub, 1) := dk_100 (dk_at dksX0_would_5 0 rfl rfl)
theorem dX0_would_125 : decode cX0_would 125 = .ok (.ireturn, 1) := dk_172 (dk_at dksX0_would_5 1 rfl rfl)
abbrev cX0_fails : ByteArray := prog_1_method_56_code
def yX0_fails : MethodName := ⟨RX0, "fails", "()I"⟩
def dkwX0_fails_1 : List UInt8 := [182, 1, 29, 158, 0, 10, 43, 180, 1, 10, 4, 100, 172, 132, 2, 1, 167, 255, 231, 2, 172]
abbrev dktX0_fails_1 : List UInt8 := dkwX0_fails_1 ++ []
def dkwX0_fails_0 : List UInt8 := [42, 180, 0, 51, 42, 180, 0, 39, 182, 1, 129, 76, 3, 61, 28, 17, 0, 200, 162, 0, 24, 43, 4]
abbrev dktX0_fails_0 : List UInt8 := dkwX0_fails_0 ++ dktX0_fails_1
theorem dksX0_fails_0 : cX0_fails.data.toList.drop 0 = dktX0_fails_0 := by decide +kernel
theorem dksX0_fails_1 : cX0_fails.data.toList.drop 23 = dktX0_fails_1 := dk_seg dksX0_fails_0 23 rfl rfl
theorem dX0_fails_0 : decode cX0_fails 0 = .ok (.aload_n 0, 1) := dk_42 (dk_at dksX0_fails_0 0 rfl rfl)
theorem dX0_fails_1 : decode cX0_fails 1 = .ok (.getfield 51, 3) := dk_180 0 51 (dk_at dksX0_fails_0 1 rfl rfl)
theorem dX0_fails_4 : decode cX0_fails 4 = .ok (.aload_n 0, 1) := dk_42 (dk_at dksX0_fails_0 4 rfl rfl)
theorem dX0_fails_5 : decode cX0_fails 5 = .ok (.getfield 39, 3) := dk_180 0 39 (dk_at dksX0_fails_0 5 rfl rfl)
theorem dX0_fails_8 : decode cX0_fails 8 = .ok (.invokevirtual 385, 3) := dk_182 1 129 (dk_at dksX0_fails_0 8 rfl rfl)
theorem dX0_fails_11 : decode cX0_fails 11 = .ok (.astore_n 1, 1) := dk_76 (dk_at dksX0_fails_0 11 rfl rfl)
theorem dX0_fails_12 : decode cX0_fails 12 = .ok (.iconst 0, 1) := dk_3 (dk_at dksX0_fails_0 12 rfl rfl)
theorem dX0_fails_13 : decode cX0_fails 13 = .ok (.istore_n 2, 1) := dk_61 (dk_at dksX0_fails_0 13 rfl rfl)
theorem dX0_fails_14 : decode cX0_fails 14 = .ok (.iload_n 2, 1) := dk_28 (dk_at dksX0_fails_0 14 rfl rfl)
theorem dX0_fails_15 : decode cX0_fails 15 = .ok (.sipush 200, 3) := dk_17 0 200 (dk_at dksX0_fails_0 15 rfl rfl)
theorem dX0_fails_18 : decode cX0_fails 18 = .ok (.if_icmp .ge 24, 3) := dk_162 0 24 (dk_at dksX0_fails_0 18 rfl rfl)
theorem dX0_fails_21 : decode cX0_fails 21 = .ok (.aload_n 1, 1) := dk_43 (dk_at dksX0_fails_0 21 rfl rfl)
theorem dX0_fails_22 : decode cX0_fails 22 = .ok (.iconst 1, 1) := dk_4 (dk_at dksX0_fails_0 22 rfl rfl)
theorem dX0_fails_23 : decode cX0_fails 23 = .ok (.invokevirtual 285, 3) := dk_182 1 29 (dk_at dksX0_fails_1 0 rfl rfl)
theorem dX0_fails_26 : decode cX0_fails 26 = .ok (.ifCond .le 10, 3) := dk_158 0 10 (dk_at dksX0_fails_1 3 rfl rfl)
theorem dX0_fails_29 : decode cX0_fails 29 = .ok (.aload_n 1, 1) := dk_43 (dk_at dksX0_fails_1 6 rfl rfl)
theorem dX0_fails_30 : decode cX0_fails 30 = .ok (.getfield 266, 3) := dk_180 1 10 (dk_at dksX0_fails_1 7 rfl rfl)
theorem dX0_fails_33 : decode cX0_fails 33 = .ok (.iconst 1, 1) := dk_4 (dk_at dksX0_fails_1 10 rfl rfl)
theorem dX0_fails_34 : decode cX0_fails 34 = .ok (.isub, 1) := dk_100 (dk_at dksX0_fails_1 11 rfl rfl)
theorem dX0_fails_35 : decode cX0_fails 35 = .ok (.ireturn, 1) := dk_172 (dk_at dksX0_fails_1 12 rfl rfl)
theorem dX0_fails_36 : decode cX0_fails 36 = .ok (.iinc 2 1, 3) := dk_132 2 1 (dk_at dksX0_fails_1 13 rfl rfl)
theorem dX0_fails_39 : decode cX0_fails 39 = .ok (.goto (-25), 3) := dk_167 255 231 (dk_at dksX0_fails_1 16 rfl rfl)
theorem dX0_fails_42 : decode cX0_fails 42 = .ok (.iconst (-1), 1) := dk_2 (dk_at dksX0_fails_1 19 rfl rfl)
theorem dX0_fails_43 : decode cX0_fails 43 = .ok (.ireturn, 1) := dk_172 (dk_at dksX0_fails_1 20 rfl rfl)
abbrev cX0_comes : ByteArray := prog_1_method_57_code
def yX0_comes : MethodName := ⟨RX0, "comes", "()I"⟩
def dkwX0_comes_2 : List UInt8 := [132, 3, 1, 167, 255, 227, 2, 172]
abbrev dktX0_comes_2 : List UInt8 := dkwX0_comes_2 ++ []
def dkwX0_comes_1 : List UInt8 := [162, 0, 28, 43, 182, 1, 144, 43, 180, 1, 141, 28, 164, 0, 10, 43, 180, 1, 10, 4, 100, 172]
abbrev dktX0_comes_1 : List UInt8 := dkwX0_comes_1 ++ dktX0_comes_2
def dkwX0_comes_0 : List UInt8 := [42, 180, 0, 51, 42, 180, 0, 39, 182, 1, 129, 76, 43, 180, 1, 141, 61, 3, 62, 29, 17, 1, 144]
abbrev dktX0_comes_0 : List UInt8 := dkwX0_comes_0 ++ dktX0_comes_1
theorem dksX0_comes_0 : cX0_comes.data.toList.drop 0 = dktX0_comes_0 := by decide +kernel
theorem dksX0_comes_1 : cX0_comes.data.toList.drop 23 = dktX0_comes_1 := dk_seg dksX0_comes_0 23 rfl rfl
theorem dksX0_comes_2 : cX0_comes.data.toList.drop 45 = dktX0_comes_2 := dk_seg dksX0_comes_1 22 rfl rfl
theorem dX0_comes_0 : decode cX0_comes 0 = .ok (.aload_n 0, 1) := dk_42 (dk_at dksX0_comes_0 0 rfl rfl)
theorem dX0_comes_1 : decode cX0_comes 1 = .ok (.getfield 51, 3) := dk_180 0 51 (dk_at dksX0_comes_0 1 rfl rfl)
theorem dX0_comes_4 : decode cX0_comes 4 = .ok (.aload_n 0, 1) := dk_42 (dk_at dksX0_comes_0 4 rfl rfl)
theorem dX0_comes_5 : decode cX0_comes 5 = .ok (.getfield 39, 3) := dk_180 0 39 (dk_at dksX0_comes_0 5 rfl rfl)
theorem dX0_comes_8 : decode cX0_comes 8 = .ok (.invokevirtual 385, 3) := dk_182 1 129 (dk_at dksX0_comes_0 8 rfl rfl)
theorem dX0_comes_11 : decode cX0_comes 11 = .ok (.astore_n 1, 1) := dk_76 (dk_at dksX0_comes_0 11 rfl rfl)
theorem dX0_comes_12 : decode cX0_comes 12 = .ok (.aload_n 1, 1) := dk_43 (dk_at dksX0_comes_0 12 rfl rfl)
theorem dX0_comes_13 : decode cX0_comes 13 = .ok (.getfield 397, 3) := dk_180 1 141 (dk_at dksX0_comes_0 13 rfl rfl)
theorem dX0_comes_16 : decode cX0_comes 16 = .ok (.istore_n 2, 1) := dk_61 (dk_at dksX0_comes_0 16 rfl rfl)
theorem dX0_comes_17 : decode cX0_comes 17 = .ok (.iconst 0, 1) := dk_3 (dk_at dksX0_comes_0 17 rfl rfl)
theorem dX0_comes_18 : decode cX0_comes 18 = .ok (.istore_n 3, 1) := dk_62 (dk_at dksX0_comes_0 18 rfl rfl)
theorem dX0_comes_19 : decode cX0_comes 19 = .ok (.iload_n 3, 1) := dk_29 (dk_at dksX0_comes_0 19 rfl rfl)
theorem dX0_comes_20 : decode cX0_comes 20 = .ok (.sipush 400, 3) := dk_17 1 144 (dk_at dksX0_comes_0 20 rfl rfl)
theorem dX0_comes_23 : decode cX0_comes 23 = .ok (.if_icmp .ge 28, 3) := dk_162 0 28 (dk_at dksX0_comes_1 0 rfl rfl)
theorem dX0_comes_26 : decode cX0_comes 26 = .ok (.aload_n 1, 1) := dk_43 (dk_at dksX0_comes_1 3 rfl rfl)
theorem dX0_comes_27 : decode cX0_comes 27 = .ok (.invokevirtual 400, 3) := dk_182 1 144 (dk_at dksX0_comes_1 4 rfl rfl)
theorem dX0_comes_30 : decode cX0_comes 30 = .ok (.aload_n 1, 1) := dk_43 (dk_at dksX0_comes_1 7 rfl rfl)
theorem dX0_comes_31 : decode cX0_comes 31 = .ok (.getfield 397, 3) := dk_180 1 141 (dk_at dksX0_comes_1 8 rfl rfl)
theorem dX0_comes_34 : decode cX0_comes 34 = .ok (.iload_n 2, 1) := dk_28 (dk_at dksX0_comes_1 11 rfl rfl)
theorem dX0_comes_35 : decode cX0_comes 35 = .ok (.if_icmp .le 10, 3) := dk_164 0 10 (dk_at dksX0_comes_1 12 rfl rfl)
theorem dX0_comes_38 : decode cX0_comes 38 = .ok (.aload_n 1, 1) := dk_43 (dk_at dksX0_comes_1 15 rfl rfl)
theorem dX0_comes_39 : decode cX0_comes 39 = .ok (.getfield 266, 3) := dk_180 1 10 (dk_at dksX0_comes_1 16 rfl rfl)
theorem dX0_comes_42 : decode cX0_comes 42 = .ok (.iconst 1, 1) := dk_4 (dk_at dksX0_comes_1 19 rfl rfl)
theorem dX0_comes_43 : decode cX0_comes 43 = .ok (.isub, 1) := dk_100 (dk_at dksX0_comes_1 20 rfl rfl)
theorem dX0_comes_44 : decode cX0_comes 44 = .ok (.ireturn, 1) := dk_172 (dk_at dksX0_comes_1 21 rfl rfl)
theorem dX0_comes_45 : decode cX0_comes 45 = .ok (.iinc 3 1, 3) := dk_132 3 1 (dk_at dksX0_comes_2 0 rfl rfl)
theorem dX0_comes_48 : decode cX0_comes 48 = .ok (.goto (-29), 3) := dk_167 255 227 (dk_at dksX0_comes_2 3 rfl rfl)
theorem dX0_comes_51 : decode cX0_comes 51 = .ok (.iconst (-1), 1) := dk_2 (dk_at dksX0_comes_2 6 rfl rfl)
theorem dX0_comes_52 : decode cX0_comes 52 = .ok (.ireturn, 1) := dk_172 (dk_at dksX0_comes_2 7 rfl rfl)
abbrev cX0_oil : ByteArray := prog_1_method_59_code
def yX0_oil : MethodName := ⟨RX0, "oil", "(I)I"⟩
def dkwX0_oil_1 : List UInt8 := [62, 42, 29, 27, 182, 1, 146, 28, 164, 0, 9, 132, 3, 1, 167, 255, 243, 29, 172]
abbrev dktX0_oil_1 : List UInt8 := dkwX0_oil_1 ++ []
def dkwX0_oil_0 : List UInt8 := [27, 184, 1, 26, 154, 0, 10, 42, 16, 154, 182, 0, 102, 172, 42, 17, 39, 15, 27, 182, 1, 146, 61, 3]
abbrev dktX0_oil_0 : List UInt8 := dkwX0_oil_0 ++ dktX0_oil_1
theorem dksX0_oil_0 : cX0_oil.data.toList.drop 0 = dktX0_oil_0 := by decide +kernel
theorem dksX0_oil_1 : cX0_oil.data.toList.drop 24 = dktX0_oil_1 := dk_seg dksX0_oil_0 24 rfl rfl
theorem dX0_oil_0 : decode cX0_oil 0 = .ok (.iload_n 1, 1) := dk_27 (dk_at dksX0_oil_0 0 rfl rfl)
theorem dX0_oil_1 : decode cX0_oil 1 = .ok (.invokestatic 282, 3) := dk_184 1 26 (dk_at dksX0_oil_0 1 rfl rfl)
theorem dX0_oil_4 : decode cX0_oil 4 = .ok (.ifCond .ne 10, 3) := dk_154 0 10 (dk_at dksX0_oil_0 4 rfl rfl)
theorem dX0_oil_7 : decode cX0_oil 7 = .ok (.aload_n 0, 1) := dk_42 (dk_at dksX0_oil_0 7 rfl rfl)
theorem dX0_oil_8 : decode cX0_oil 8 = .ok (.bipush (-102), 2) := dk_16 154 (dk_at dksX0_oil_0 8 rfl rfl)
theorem dX0_oil_10 : decode cX0_oil 10 = .ok (.invokevirtual 102, 3) := dk_182 0 102 (dk_at dksX0_oil_0 10 rfl rfl)
theorem dX0_oil_13 : decode cX0_oil 13 = .ok (.ireturn, 1) := dk_172 (dk_at dksX0_oil_0 13 rfl rfl)
theorem dX0_oil_14 : decode cX0_oil 14 = .ok (.aload_n 0, 1) := dk_42 (dk_at dksX0_oil_0 14 rfl rfl)
theorem dX0_oil_15 : decode cX0_oil 15 = .ok (.sipush 9999, 3) := dk_17 39 15 (dk_at dksX0_oil_0 15 rfl rfl)
theorem dX0_oil_18 : decode cX0_oil 18 = .ok (.iload_n 1, 1) := dk_27 (dk_at dksX0_oil_0 18 rfl rfl)
theorem dX0_oil_19 : decode cX0_oil 19 = .ok (.invokevirtual 402, 3) := dk_182 1 146 (dk_at dksX0_oil_0 19 rfl rfl)
theorem dX0_oil_22 : decode cX0_oil 22 = .ok (.istore_n 2, 1) := dk_61 (dk_at dksX0_oil_0 22 rfl rfl)
theorem dX0_oil_23 : decode cX0_oil 23 = .ok (.iconst 0, 1) := dk_3 (dk_at dksX0_oil_0 23 rfl rfl)
theorem dX0_oil_24 : decode cX0_oil 24 = .ok (.istore_n 3, 1) := dk_62 (dk_at dksX0_oil_1 0 rfl rfl)
theorem dX0_oil_25 : decode cX0_oil 25 = .ok (.aload_n 0, 1) := dk_42 (dk_at dksX0_oil_1 1 rfl rfl)
theorem dX0_oil_26 : decode cX0_oil 26 = .ok (.iload_n 3, 1) := dk_29 (dk_at dksX0_oil_1 2 rfl rfl)
theorem dX0_oil_27 : decode cX0_oil 27 = .ok (.iload_n 1, 1) := dk_27 (dk_at dksX0_oil_1 3 rfl rfl)
theorem dX0_oil_28 : decode cX0_oil 28 = .ok (.invokevirtual 402, 3) := dk_182 1 146 (dk_at dksX0_oil_1 4 rfl rfl)
theorem dX0_oil_31 : decode cX0_oil 31 = .ok (.iload_n 2, 1) := dk_28 (dk_at dksX0_oil_1 7 rfl rfl)
theorem dX0_oil_32 : decode cX0_oil 32 = .ok (.if_icmp .le 9, 3) := dk_164 0 9 (dk_at dksX0_oil_1 8 rfl rfl)
theorem dX0_oil_35 : decode cX0_oil 35 = .ok (.iinc 3 1, 3) := dk_132 3 1 (dk_at dksX0_oil_1 11 rfl rfl)
theorem dX0_oil_38 : decode cX0_oil 38 = .ok (.goto (-13), 3) := dk_167 255 243 (dk_at dksX0_oil_1 14 rfl rfl)
theorem dX0_oil_41 : decode cX0_oil 41 = .ok (.iload_n 3, 1) := dk_29 (dk_at dksX0_oil_1 17 rfl rfl)
theorem dX0_oil_42 : decode cX0_oil 42 = .ok (.ireturn, 1) := dk_172 (dk_at dksX0_oil_1 18 rfl rfl)
abbrev cX0_unlitWith : ByteArray := prog_1_method_58_code
def yX0_unlitWith : MethodName := ⟨RX0, "unlitWith", "(II)I"⟩
def dkwX0_unlitWith_1 : List UInt8 := [172]
abbrev dktX0_unlitWith_1 : List UInt8 := dkwX0_unlitWith_1 ++ []
def dkwX0_unlitWith_0 : List UInt8 := [42, 180, 0, 51, 42, 180, 0, 39, 182, 1, 129, 78, 45, 180, 1, 7, 6, 27, 79, 45, 28, 182, 1, 29]
abbrev dktX0_unlitWith_0 : List UInt8 := dkwX0_unlitWith_0 ++ dktX0_unlitWith_1
theorem dksX0_unlitWith_0 : cX0_unlitWith.data.toList.drop 0 = dktX0_unlitWith_0 := by decide +kernel
theorem dksX0_unlitWith_1 : cX0_unlitWith.data.toList.drop 24 = dktX0_unlitWith_1 := dk_seg dksX0_unlitWith_0 24 rfl rfl
theorem dX0_unlitWith_0 : decode cX0_unlitWith 0 = .ok (.aload_n 0, 1) := dk_42 (dk_at dksX0_unlitWith_0 0 rfl rfl)
theorem dX0_unlitWith_1 : decode cX0_unlitWith 1 = .ok (.getfield 51, 3) := dk_180 0 51 (dk_at dksX0_unlitWith_0 1 rfl rfl)
theorem dX0_unlitWith_4 : decode cX0_unlitWith 4 = .ok (.aload_n 0, 1) := dk_42 (dk_at dksX0_unlitWith_0 4 rfl rfl)
theorem dX0_unlitWith_5 : decode cX0_unlitWith 5 = .ok (.getfield 39, 3) := dk_180 0 39 (dk_at dksX0_unlitWith_0 5 rfl rfl)
theorem dX0_unlitWith_8 : decode cX0_unlitWith 8 = .ok (.invokevirtual 385, 3) := dk_182 1 129 (dk_at dksX0_unlitWith_0 8 rfl rfl)
theorem dX0_unlitWith_11 : decode cX0_unlitWith 11 = .ok (.astore_n 3, 1) := dk_78 (dk_at dksX0_unlitWith_0 11 rfl rfl)
theorem dX0_unlitWith_12 : decode cX0_unlitWith 12 = .ok (.aload_n 3, 1) := dk_45 (dk_at dksX0_unlitWith_0 12 rfl rfl)
theorem dX0_unlitWith_13 : decode cX0_unlitWith 13 = .ok (.getfield 263, 3) := dk_180 1 7 (dk_at dksX0_unlitWith_0 13 rfl rfl)
theorem dX0_unlitWith_16 : decode cX0_unlitWith 16 = .ok (.iconst 3, 1) := dk_6 (dk_at dksX0_unlitWith_0 16 rfl rfl)
theorem dX0_unlitWith_17 : decode cX0_unlitWith 17 = .ok (.iload_n 1, 1) := dk_27 (dk_at dksX0_unlitWith_0 17 rfl rfl)
theorem dX0_unlitWith_18 : decode cX0_unlitWith 18 = .ok (.iastore, 1) := dk_79 (dk_at dksX0_unlitWith_0 18 rfl rfl)
theorem dX0_unlitWith_19 : decode cX0_unlitWith 19 = .ok (.aload_n 3, 1) := dk_45 (dk_at dksX0_unlitWith_0 19 rfl rfl)
theorem dX0_unlitWith_20 : decode cX0_unlitWith 20 = .ok (.iload_n 2, 1) := dk_28 (dk_at dksX0_unlitWith_0 20 rfl rfl)
theorem dX0_unlitWith_21 : decode cX0_unlitWith 21 = .ok (.invokevirtual 285, 3) := dk_182 1 29 (dk_at dksX0_unlitWith_0 21 rfl rfl)
theorem dX0_unlitWith_24 : decode cX0_unlitWith 24 = .ok (.ireturn, 1) := dk_172 (dk_at dksX0_unlitWith_1 0 rfl rfl)
abbrev cX0_better : ByteArray := prog_1_method_61_code
def yX0_better : MethodName := ⟨RX0, "better", "(II)I"⟩
def dkwX0_better_6 : List UInt8 := [45, 21, 4, 184, 1, 174, 182, 1, 193, 172]
abbrev dktX0_better_6 : List UInt8 := dkwX0_better_6 ++ []
def dkwX0_better_5 : List UInt8 := [42, 27, 42, 180, 0, 39, 180, 0, 242, 27, 46, 28, 182, 1, 170, 21, 4, 163, 0, 7, 2, 167, 0, 12]
abbrev dktX0_better_5 : List UInt8 := dkwX0_better_5 ++ dktX0_better_6
def dkwX0_better_4 : List UInt8 := [182, 1, 170, 184, 1, 174, 182, 1, 180, 167, 255, 216, 45, 184, 1, 184, 192, 1, 175, 182, 1, 190, 54, 4]
abbrev dktX0_better_4 : List UInt8 := dkwX0_better_4 ++ dktX0_better_5
def dkwX0_better_3 : List UInt8 := [153, 0, 36, 25, 4, 185, 1, 165, 1, 0, 192, 0, 220, 58, 5, 45, 42, 27, 25, 5, 180, 1, 169, 28]
abbrev dktX0_better_3 : List UInt8 := dkwX0_better_3 ++ dktX0_better_4
def dkwX0_better_2 : List UInt8 := [183, 1, 155, 78, 42, 180, 0, 39, 180, 0, 72, 182, 1, 156, 58, 4, 25, 4, 185, 1, 160, 1, 0]
abbrev dktX0_better_2 : List UInt8 := dkwX0_better_2 ++ dktX0_better_3
def dkwX0_better_1 : List UInt8 := [42, 180, 0, 39, 180, 0, 72, 182, 1, 149, 153, 0, 10, 42, 16, 151, 182, 0, 102, 172, 187, 1, 153, 89]
abbrev dktX0_better_1 : List UInt8 := dkwX0_better_1 ++ dktX0_better_2
def dkwX0_better_0 : List UInt8 := [27, 3, 16, 23, 184, 0, 68, 153, 0, 10, 28, 184, 1, 26, 154, 0, 10, 42, 16, 154, 182, 0, 102, 172]
abbrev dktX0_better_0 : List UInt8 := dkwX0_better_0 ++ dktX0_better_1
theorem dksX0_better_0 : cX0_better.data.toList.drop 0 = dktX0_better_0 := by decide +kernel
theorem dksX0_better_1 : cX0_better.data.toList.drop 24 = dktX0_better_1 := dk_seg dksX0_better_0 24 rfl rfl
theorem dksX0_better_2 : cX0_better.data.toList.drop 48 = dktX0_better_2 := dk_seg dksX0_better_1 24 rfl rfl
theorem dksX0_better_3 : cX0_better.data.toList.drop 71 = dktX0_better_3 := dk_seg dksX0_better_2 23 rfl rfl
theorem dksX0_better_4 : cX0_better.data.toList.drop 95 = dktX0_better_4 := dk_seg dksX0_better_3 24 rfl rfl
theorem dksX0_better_5 : cX0_better.data.toList.drop 119 = dktX0_better_5 := dk_seg dksX0_better_4 24 rfl rfl
theorem dksX0_better_6 : cX0_better.data.toList.drop 143 = dktX0_better_6 := dk_seg dksX0_better_5 24 rfl rfl
theorem dX0_better_0 : decode cX0_better 0 = .ok (.iload_n 1, 1) := dk_27 (dk_at dksX0_better_0 0 rfl rfl)
theorem dX0_better_1 : decode cX0_better 1 = .ok (.iconst 0, 1) := dk_3 (dk_at dksX0_better_0 1 rfl rfl)
theorem dX0_better_2 : decode cX0_better 2 = .ok (.bipush 23, 2) := dk_16 23 (dk_at dksX0_better_0 2 rfl rfl)
theorem dX0_better_4 : decode cX0_better 4 = .ok (.invokestatic 68, 3) := dk_184 0 68 (dk_at dksX0_better_0 4 rfl rfl)
theorem dX0_better_7 : decode cX0_better 7 = .ok (.ifCond .eq 10, 3) := dk_153 0 10 (dk_at dksX0_better_0 7 rfl rfl)
theorem dX0_better_10 : decode cX0_better 10 = .ok (.iload_n 2, 1) := dk_28 (dk_at dksX0_better_0 10 rfl rfl)
theorem dX0_better_11 : decode cX0_better 11 = .ok (.invokestatic 282, 3) := dk_184 1 26 (dk_at dksX0_better_0 11 rfl rfl)
theorem dX0_better_14 : decode cX0_better 14 = .ok (.ifCond .ne 10, 3) := dk_154 0 10 (dk_at dksX0_better_0 14 rfl rfl)
theorem dX0_better_17 : decode cX0_better 17 = .ok (.aload_n 0, 1) := dk_42 (dk_at dksX0_better_0 17 rfl rfl)
theorem dX0_better_18 : decode cX0_better 18 = .ok (.bipush (-102), 2) := dk_16 154 (dk_at dksX0_better_0 18 rfl rfl)
theorem dX0_better_20 : decode cX0_better 20 = .ok (.invokevirtual 102, 3) := dk_182 0 102 (dk_at dksX0_better_0 20 rfl rfl)
theorem dX0_better_23 : decode cX0_better 23 = .ok (.ireturn, 1) := dk_172 (dk_at dksX0_better_0 23 rfl rfl)
theorem dX0_better_24 : decode cX0_better 24 = .ok (.aload_n 0, 1) := dk_42 (dk_at dksX0_better_1 0 rfl rfl)
theorem dX0_better_25 : decode cX0_better 25 = .ok (.getfield 39, 3) := dk_180 0 39 (dk_at dksX0_better_1 1 rfl rfl)
theorem dX0_better_28 : decode cX0_better 28 = .ok (.getfield 72, 3) := dk_180 0 72 (dk_at dksX0_better_1 4 rfl rfl)
theorem dX0_better_31 : decode cX0_better 31 = .ok (.invokevirtual 405, 3) := dk_182 1 149 (dk_at dksX0_better_1 7 rfl rfl)
theorem dX0_better_34 : decode cX0_better 34 = .ok (.ifCond .eq 10, 3) := dk_153 0 10 (dk_at dksX0_better_1 10 rfl rfl)
theorem dX0_better_37 : decode cX0_better 37 = .ok (.aload_n 0, 1) := dk_42 (dk_at dksX0_better_1 13 rfl rfl)
theorem dX0_better_38 : decode cX0_better 38 = .ok (.bipush (-105), 2) := dk_16 151 (dk_at dksX0_better_1 14 rfl rfl)
theorem dX0_better_40 : decode cX0_better 40 = .ok (.invokevirtual 102, 3) := dk_182 0 102 (dk_at dksX0_better_1 16 rfl rfl)
theorem dX0_better_43 : decode cX0_better 43 = .ok (.ireturn, 1) := dk_172 (dk_at dksX0_better_1 19 rfl rfl)
theorem dX0_better_44 : decode cX0_better 44 = .ok (.new 409, 3) := dk_187 1 153 (dk_at dksX0_better_1 20 rfl rfl)
theorem dX0_better_47 : decode cX0_better 47 = .ok (.dup, 1) := dk_89 (dk_at dksX0_better_1 23 rfl rfl)
theorem dX0_better_48 : decode cX0_better 48 = .ok (.invokespecial 411, 3) := dk_183 1 155 (dk_at dksX0_better_2 0 rfl rfl)
theorem dX0_better_51 : decode cX0_better 51 = .ok (.astore_n 3, 1) := dk_78 (dk_at dksX0_better_2 3 rfl rfl)
theorem dX0_better_52 : decode cX0_better 52 = .ok (.aload_n 0, 1) := dk_42 (dk_at dksX0_better_2 4 rfl rfl)
theorem dX0_better_53 : decode cX0_better 53 = .ok (.getfield 39, 3) := dk_180 0 39 (dk_at dksX0_better_2 5 rfl rfl)
theorem dX0_better_56 : decode cX0_better 56 = .ok (.getfield 72, 3) := dk_180 0 72 (dk_at dksX0_better_2 8 rfl rfl)
theorem dX0_better_59 : decode cX0_better 59 = .ok (.invokevirtual 412, 3) := dk_182 1 156 (dk_at dksX0_better_2 11 rfl rfl)
theorem dX0_better_62 : decode cX0_better 62 = .ok (.astore 4, 2) := dk_58 4 (dk_at dksX0_better_2 14 rfl rfl)
theorem dX0_better_64 : decode cX0_better 64 = .ok (.aload 4, 2) := dk_25 4 (dk_at dksX0_better_2 16 rfl rfl)
theorem dX0_better_66 : decode cX0_better 66 = .ok (.invokeinterface 416 1, 5) := by decide +kernel
theorem dX0_better_71 : decode cX0_better 71 = .ok (.ifCond .eq 36, 3) := dk_153 0 36 (dk_at dksX0_better_3 0 rfl rfl)
theorem dX0_better_74 : decode cX0_better 74 = .ok (.aload 4, 2) := dk_25 4 (dk_at dksX0_better_3 3 rfl rfl)
theorem dX0_better_76 : decode cX0_better 76 = .ok (.invokeinterface 421 1, 5) := by decide +kernel
theorem dX0_better_81 : decode cX0_better 81 = .ok (.checkcast 220, 3) := dk_192 0 220 (dk_at dksX0_better_3 10 rfl rfl)
theorem dX0_better_84 : decode cX0_better 84 = .ok (.astore 5, 2) := dk_58 5 (dk_at dksX0_better_3 13 rfl rfl)
theorem dX0_better_86 : decode cX0_better 86 = .ok (.aload_n 3, 1) := dk_45 (dk_at dksX0_better_3 15 rfl rfl)
theorem dX0_better_87 : decode cX0_better 87 = .ok (.aload_n 0, 1) := dk_42 (dk_at dksX0_better_3 16 rfl rfl)
theorem dX0_better_88 : decode cX0_better 88 = .ok (.iload_n 1, 1) := dk_27 (dk_at dksX0_better_3 17 rfl rfl)
theorem dX0_better_89 : decode cX0_better 89 = .ok (.aload 5, 2) := dk_25 5 (dk_at dksX0_better_3 18 rfl rfl)
theorem dX0_better_91 : decode cX0_better 91 = .ok (.getfield 425, 3) := dk_180 1 169 (dk_at dksX0_better_3 20 rfl rfl)
theorem dX0_better_94 : decode cX0_better 94 = .ok (.iload_n 2, 1) := dk_28 (dk_at dksX0_better_3 23 rfl rfl)
theorem dX0_better_95 : decode cX0_better 95 = .ok (.invokevirtual 426, 3) := dk_182 1 170 (dk_at dksX0_better_4 0 rfl rfl)
theorem dX0_better_98 : decode cX0_better 98 = .ok (.invokestatic 430, 3) := dk_184 1 174 (dk_at dksX0_better_4 3 rfl rfl)
theorem dX0_better_101 : decode cX0_better 101 = .ok (.invokevirtual 436, 3) := dk_182 1 180 (dk_at dksX0_better_4 6 rfl rfl)
theorem dX0_better_104 : decode cX0_better 104 = .ok (.goto (-40), 3) := dk_167 255 216 (dk_at dksX0_better_4 9 rfl rfl)
theorem dX0_better_107 : decode cX0_better 107 = .ok (.aload_n 3, 1) := dk_45 (dk_at dksX0_better_4 12 rfl rfl)
theorem dX0_better_108 : decode cX0_better 108 = .ok (.invokestatic 440, 3) := dk_184 1 184 (dk_at dksX0_better_4 13 rfl rfl)
theorem dX0_better_111 : decode cX0_better 111 = .ok (.checkcast 431, 3) := dk_192 1 175 (dk_at dksX0_better_4 16 rfl rfl)
theorem dX0_better_114 : decode cX0_better 114 = .ok (.invokevirtual 446, 3) := dk_182 1 190 (dk_at dksX0_better_4 19 rfl rfl)
theorem dX0_better_117 : decode cX0_better 117 = .ok (.istore 4, 2) := dk_54 4 (dk_at dksX0_better_4 22 rfl rfl)
theorem dX0_better_119 : decode cX0_better 119 = .ok (.aload_n 0, 1) := dk_42 (dk_at dksX0_better_5 0 rfl rfl)
theorem dX0_better_120 : decode cX0_better 120 = .ok (.iload_n 1, 1) := dk_27 (dk_at dksX0_better_5 1 rfl rfl)
theorem dX0_better_121 : decode cX0_better 121 = .ok (.aload_n 0, 1) := dk_42 (dk_at dksX0_better_5 2 rfl rfl)
theorem dX0_better_122 : decode cX0_better 122 = .ok (.getfield 39, 3) := dk_180 0 39 (dk_at dksX0_better_5 3 rfl rfl)
theorem dX0_better_125 : decode cX0_better 125 = .ok (.getfield 242, 3) := dk_180 0 242 (dk_at dksX0_better_5 6 rfl rfl)
theorem dX0_better_128 : decode cX0_better 128 = .ok (.iload_n 1, 1) := dk_27 (dk_at dksX0_better_5 9 rfl rfl)
theorem dX0_better_129 : decode cX0_better 129 = .ok (.iaload, 1) := dk_46 (dk_at dksX0_better_5 10 rfl rfl)
theorem dX0_better_130 : decode cX0_better 130 = .ok (.iload_n 2, 1) := dk_28 (dk_at dksX0_better_5 11 rfl rfl)
theorem dX0_better_131 : decode cX0_better 131 = .ok (.invokevirtual 426, 3) := dk_182 1 170 (dk_at dksX0_better_5 12 rfl rfl)
theorem dX0_better_134 : decode cX0_better 134 = .ok (.iload 4, 2) := dk_21 4 (dk_at dksX0_better_5 15 rfl rfl)
theorem dX0_better_136 : decode cX0_better 136 = .ok (.if_icmp .gt 7, 3) := dk_163 0 7 (dk_at dksX0_better_5 17 rfl rfl)
theorem dX0_better_139 : decode cX0_better 139 = .ok (.iconst (-1), 1) := dk_2 (dk_at dksX0_better_5 20 rfl rfl)
theorem dX0_better_140 : decode cX0_better 140 = .ok (.goto 12, 3) := dk_167 0 12 (dk_at dksX0_better_5 21 rfl rfl)
theorem dX0_better_143 : decode cX0_better 143 = .ok (.aload_n 3, 1) := dk_45 (dk_at dksX0_better_6 0 rfl rfl)
theorem dX0_better_144 : decode cX0_better 144 = .ok (.iload 4, 2) := dk_21 4 (dk_at dksX0_better_6 1 rfl rfl)
theorem dX0_better_146 : decode cX0_better 146 = .ok (.invokestatic 430, 3) := dk_184 1 174 (dk_at dksX0_better_6 3 rfl rfl)
theorem dX0_better_149 : decode cX0_better 149 = .ok (.invokevirtual 449, 3) := dk_182 1 193 (dk_at dksX0_better_6 6 rfl rfl)
theorem dX0_better_152 : decode cX0_better 152 = .ok (.ireturn, 1) := dk_172 (dk_at dksX0_better_6 9 rfl rfl)
abbrev cX0_unlitBy : ByteArray := prog_1_method_60_code
def yX0_unlitBy : MethodName := ⟨RX0, "unlitBy", "(III)I"⟩
def dkwX0_unlitBy_1 : List UInt8 := [182, 1, 29, 172]
abbrev dktX0_unlitBy_1 : List UInt8 := dkwX0_unlitBy_1 ++ []
def dkwX0_unlitBy_0 : List UInt8 := [42, 180, 0, 51, 42, 180, 0, 39, 182, 1, 129, 58, 4, 25, 4, 180, 0, 242, 27, 28, 79, 25, 4, 29]
abbrev dktX0_unlitBy_0 : List UInt8 := dkwX0_unlitBy_0 ++ dktX0_unlitBy_1
theorem dksX0_unlitBy_0 : cX0_unlitBy.data.toList.drop 0 = dktX0_unlitBy_0 := by decide +kernel
theorem dksX0_unlitBy_1 : cX0_unlitBy.data.toList.drop 24 = dktX0_unlitBy_1 := dk_seg dksX0_unlitBy_0 24 rfl rfl
theorem dX0_unlitBy_0 : decode cX0_unlitBy 0 = .ok (.aload_n 0, 1) := dk_42 (dk_at dksX0_unlitBy_0 0 rfl rfl)
theorem dX0_unlitBy_1 : decode cX0_unlitBy 1 = .ok (.getfield 51, 3) := dk_180 0 51 (dk_at dksX0_unlitBy_0 1 rfl rfl)
theorem dX0_unlitBy_4 : decode cX0_unlitBy 4 = .ok (.aload_n 0, 1) := dk_42 (dk_at dksX0_unlitBy_0 4 rfl rfl)
theorem dX0_unlitBy_5 : decode cX0_unlitBy 5 = .ok (.getfield 39, 3) := dk_180 0 39 (dk_at dksX0_unlitBy_0 5 rfl rfl)
theorem dX0_unlitBy_8 : decode cX0_unlitBy 8 = .ok (.invokevirtual 385, 3) := dk_182 1 129 (dk_at dksX0_unlitBy_0 8 rfl rfl)
theorem dX0_unlitBy_11 : decode cX0_unlitBy 11 = .ok (.astore 4, 2) := dk_58 4 (dk_at dksX0_unlitBy_0 11 rfl rfl)
theorem dX0_unlitBy_13 : decode cX0_unlitBy 13 = .ok (.aload 4, 2) := dk_25 4 (dk_at dksX0_unlitBy_0 13 rfl rfl)
theorem dX0_unlitBy_15 : decode cX0_unlitBy 15 = .ok (.getfield 242, 3) := dk_180 0 242 (dk_at dksX0_unlitBy_0 15 rfl rfl)
theorem dX0_unlitBy_18 : decode cX0_unlitBy 18 = .ok (.iload_n 1, 1) := dk_27 (dk_at dksX0_unlitBy_0 18 rfl rfl)
theorem dX0_unlitBy_19 : decode cX0_unlitBy 19 = .ok (.iload_n 2, 1) := dk_28 (dk_at dksX0_unlitBy_0 19 rfl rfl)
theorem dX0_unlitBy_20 : decode cX0_unlitBy 20 = .ok (.iastore, 1) := dk_79 (dk_at dksX0_unlitBy_0 20 rfl rfl)
theorem dX0_unlitBy_21 : decode cX0_unlitBy 21 = .ok (.aload 4, 2) := dk_25 4 (dk_at dksX0_unlitBy_0 21 rfl rfl)
theorem dX0_unlitBy_23 : decode cX0_unlitBy 23 = .ok (.iload_n 3, 1) := dk_29 (dk_at dksX0_unlitBy_0 23 rfl rfl)
theorem dX0_unlitBy_24 : decode cX0_unlitBy 24 = .ok (.invokevirtual 285, 3) := dk_182 1 29 (dk_at dksX0_unlitBy_1 0 rfl rfl)
theorem dX0_unlitBy_27 : decode cX0_unlitBy 27 = .ok (.ireturn, 1) := dk_172 (dk_at dksX0_unlitBy_1 3 rfl rfl)
abbrev cX0_other : ByteArray := prog_1_method_62_code
def yX0_other : MethodName := ⟨RX0, "other", "(II)I"⟩
def dkwX0_other_3 : List UInt8 := [180, 0, 131, 182, 0, 102, 172]
abbrev dktX0_other_3 : List UInt8 := dkwX0_other_3 ++ []
def dkwX0_other_2 : List UInt8 := [180, 0, 242, 3, 16, 24, 184, 0, 137, 25, 5, 28, 182, 1, 29, 21, 4, 100, 172, 78, 42, 45]
abbrev dktX0_other_2 : List UInt8 := dkwX0_other_2 ++ dktX0_other_3
def dkwX0_other_1 : List UInt8 := [182, 1, 29, 54, 4, 42, 180, 0, 51, 42, 180, 0, 39, 182, 1, 129, 58, 5, 45, 3, 25, 5]
abbrev dktX0_other_1 : List UInt8 := dkwX0_other_1 ++ dktX0_other_2
def dkwX0_other_0 : List UInt8 := [42, 28, 184, 1, 26, 27, 182, 0, 253, 78, 42, 180, 0, 51, 42, 180, 0, 39, 182, 1, 129, 28]
abbrev dktX0_other_0 : List UInt8 := dkwX0_other_0 ++ dktX0_other_1
theorem dksX0_other_0 : cX0_other.data.toList.drop 0 = dktX0_other_0 := by decide +kernel
theorem dksX0_other_1 : cX0_other.data.toList.drop 22 = dktX0_other_1 := dk_seg dksX0_other_0 22 rfl rfl
theorem dksX0_other_2 : cX0_other.data.toList.drop 44 = dktX0_other_2 := dk_seg dksX0_other_1 22 rfl rfl
theorem dksX0_other_3 : cX0_other.data.toList.drop 66 = dktX0_other_3 := dk_seg dksX0_other_2 22 rfl rfl
theorem dX0_other_0 : decode cX0_other 0 = .ok (.aload_n 0, 1) := dk_42 (dk_at dksX0_other_0 0 rfl rfl)
theorem dX0_other_1 : decode cX0_other 1 = .ok (.iload_n 2, 1) := dk_28 (dk_at dksX0_other_0 1 rfl rfl)
theorem dX0_other_2 : decode cX0_other 2 = .ok (.invokestatic 282, 3) := dk_184 1 26 (dk_at dksX0_other_0 2 rfl rfl)
theorem dX0_other_5 : decode cX0_other 5 = .ok (.iload_n 1, 1) := dk_27 (dk_at dksX0_other_0 5 rfl rfl)
theorem dX0_other_6 : decode cX0_other 6 = .ok (.invokevirtual 253, 3) := dk_182 0 253 (dk_at dksX0_other_0 6 rfl rfl)
theorem dX0_other_9 : decode cX0_other 9 = .ok (.astore_n 3, 1) := dk_78 (dk_at dksX0_other_0 9 rfl rfl)
theorem dX0_other_10 : decode cX0_other 10 = .ok (.aload_n 0, 1) := dk_42 (dk_at dksX0_other_0 10 rfl rfl)
theorem dX0_other_11 : decode cX0_other 11 = .ok (.getfield 51, 3) := dk_180 0 51 (dk_at dksX0_other_0 11 rfl rfl)
theorem dX0_other_14 : decode cX0_other 14 = .ok (.aload_n 0, 1) := dk_42 (dk_at dksX0_other_0 14 rfl rfl)
theorem dX0_other_15 : decode cX0_other 15 = .ok (.getfield 39, 3) := dk_180 0 39 (dk_at dksX0_other_0 15 rfl rfl)
theorem dX0_other_18 : decode cX0_other 18 = .ok (.invokevirtual 385, 3) := dk_182 1 129 (dk_at dksX0_other_0 18 rfl rfl)
theorem dX0_other_21 : decode cX0_other 21 = .ok (.iload_n 2, 1) := dk_28 (dk_at dksX0_other_0 21 rfl rfl)
theorem dX0_other_22 : decode cX0_other 22 = .ok (.invokevirtual 285, 3) := dk_182 1 29 (dk_at dksX0_other_1 0 rfl rfl)
theorem dX0_other_25 : decode cX0_other 25 = .ok (.istore 4, 2) := dk_54 4 (dk_at dksX0_other_1 3 rfl rfl)
theorem dX0_other_27 : decode cX0_other 27 = .ok (.aload_n 0, 1) := dk_42 (dk_at dksX0_other_1 5 rfl rfl)
theorem dX0_other_28 : decode cX0_other 28 = .ok (.getfield 51, 3) := dk_180 0 51 (dk_at dksX0_other_1 6 rfl rfl)
theorem dX0_other_31 : decode cX0_other 31 = .ok (.aload_n 0, 1) := dk_42 (dk_at dksX0_other_1 9 rfl rfl)
theorem dX0_other_32 : decode cX0_other 32 = .ok (.getfield 39, 3) := dk_180 0 39 (dk_at dksX0_other_1 10 rfl rfl)
theorem dX0_other_35 : decode cX0_other 35 = .ok (.invokevirtual 385, 3) := dk_182 1 129 (dk_at dksX0_other_1 13 rfl rfl)
theorem dX0_other_38 : decode cX0_other 38 = .ok (.astore 5, 2) := dk_58 5 (dk_at dksX0_other_1 16 rfl rfl)
theorem dX0_other_40 : decode cX0_other 40 = .ok (.aload_n 3, 1) := dk_45 (dk_at dksX0_other_1 18 rfl rfl)
theorem dX0_other_41 : decode cX0_other 41 = .ok (.iconst 0, 1) := dk_3 (dk_at dksX0_other_1 19 rfl rfl)
theorem dX0_other_42 : decode cX0_other 42 = .ok (.aload 5, 2) := dk_25 5 (dk_at dksX0_other_1 20 rfl rfl)
theorem dX0_other_44 : decode cX0_other 44 = .ok (.getfield 242, 3) := dk_180 0 242 (dk_at dksX0_other_2 0 rfl rfl)
theorem dX0_other_47 : decode cX0_other 47 = .ok (.iconst 0, 1) := dk_3 (dk_at dksX0_other_2 3 rfl rfl)
theorem dX0_other_48 : decode cX0_other 48 = .ok (.bipush 24, 2) := dk_16 24 (dk_at dksX0_other_2 4 rfl rfl)
theorem dX0_other_50 : decode cX0_other 50 = .ok (.invokestatic 137, 3) := dk_184 0 137 (dk_at dksX0_other_2 6 rfl rfl)
theorem dX0_other_53 : decode cX0_other 53 = .ok (.aload 5, 2) := dk_25 5 (dk_at dksX0_other_2 9 rfl rfl)
theorem dX0_other_55 : decode cX0_other 55 = .ok (.iload_n 2, 1) := dk_28 (dk_at dksX0_other_2 11 rfl rfl)
theorem dX0_other_56 : decode cX0_other 56 = .ok (.invokevirtual 285, 3) := dk_182 1 29 (dk_at dksX0_other_2 12 rfl rfl)
theorem dX0_other_59 : decode cX0_other 59 = .ok (.iload 4, 2) := dk_21 4 (dk_at dksX0_other_2 15 rfl rfl)
theorem dX0_other_61 : decode cX0_other 61 = .ok (.isub, 1) := dk_100 (dk_at dksX0_other_2 17 rfl rfl)
theorem dX0_other_62 : decode cX0_other 62 = .ok (.ireturn, 1) := dk_172 (dk_at dksX0_other_2 18 rfl rfl)
theorem dX0_other_63 : decode cX0_other 63 = .ok (.astore_n 3, 1) := dk_78 (dk_at dksX0_other_2 19 rfl rfl)
theorem dX0_other_64 : decode cX0_other 64 = .ok (.aload_n 0, 1) := dk_42 (dk_at dksX0_other_2 20 rfl rfl)
theorem dX0_other_65 : decode cX0_other 65 = .ok (.aload_n 3, 1) := dk_45 (dk_at dksX0_other_2 21 rfl rfl)
theorem dX0_other_66 : decode cX0_other 66 = .ok (.getfield 131, 3) := dk_180 0 131 (dk_at dksX0_other_3 0 rfl rfl)
theorem dX0_other_69 : decode cX0_other 69 = .ok (.invokevirtual 102, 3) := dk_182 0 102 (dk_at dksX0_other_3 3 rfl rfl)
theorem dX0_other_72 : decode cX0_other 72 = .ok (.ireturn, 1) := dk_172 (dk_at dksX0_other_3 6 rfl rfl)
abbrev cX0_idle : ByteArray := prog_1_method_63_code
def yX0_idle : MethodName := ⟨RX0, "idle", "(I)I"⟩
def dkwX0_idle_4 : List UInt8 := [163, 0, 13, 4, 25, 5, 180, 1, 169, 120, 167, 0, 4, 3, 128, 62, 167, 255, 193, 29, 172]
abbrev dktX0_idle_4 : List UInt8 := dkwX0_idle_4 ++ []
def dkwX0_idle_3 : List UInt8 := [180, 0, 51, 42, 180, 0, 39, 182, 1, 129, 25, 5, 180, 1, 169, 182, 1, 196, 27, 182, 1, 29, 28]
abbrev dktX0_idle_3 : List UInt8 := dkwX0_idle_3 ++ dktX0_idle_4
def dkwX0_idle_2 : List UInt8 := [185, 1, 160, 1, 0, 153, 0, 59, 25, 4, 185, 1, 165, 1, 0, 192, 0, 220, 58, 5, 29, 42]
abbrev dktX0_idle_2 : List UInt8 := dkwX0_idle_2 ++ dktX0_idle_3
def dkwX0_idle_1 : List UInt8 := [182, 1, 129, 27, 182, 1, 29, 61, 3, 62, 42, 180, 0, 39, 180, 0, 72, 182, 1, 156, 58, 4, 25, 4]
abbrev dktX0_idle_1 : List UInt8 := dkwX0_idle_1 ++ dktX0_idle_2
def dkwX0_idle_0 : List UInt8 := [27, 184, 1, 26, 154, 0, 10, 42, 16, 154, 182, 0, 102, 172, 42, 180, 0, 51, 42, 180, 0, 39]
abbrev dktX0_idle_0 : List UInt8 := dkwX0_idle_0 ++ dktX0_idle_1
theorem dksX0_idle_0 : cX0_idle.data.toList.drop 0 = dktX0_idle_0 := by decide +kernel
theorem dksX0_idle_1 : cX0_idle.data.toList.drop 22 = dktX0_idle_1 := dk_seg dksX0_idle_0 22 rfl rfl
theorem dksX0_idle_2 : cX0_idle.data.toList.drop 46 = dktX0_idle_2 := dk_seg dksX0_idle_1 24 rfl rfl
theorem dksX0_idle_3 : cX0_idle.data.toList.drop 68 = dktX0_idle_3 := dk_seg dksX0_idle_2 22 rfl rfl
theorem dksX0_idle_4 : cX0_idle.data.toList.drop 91 = dktX0_idle_4 := dk_seg dksX0_idle_3 23 rfl rfl
theorem dX0_idle_0 : decode cX0_idle 0 = .ok (.iload_n 1, 1) := dk_27 (dk_at dksX0_idle_0 0 rfl rfl)
theorem dX0_idle_1 : decode cX0_idle 1 = .ok (.invokestatic 282, 3) := dk_184 1 26 (dk_at dksX0_idle_0 1 rfl rfl)
theorem dX0_idle_4 : decode cX0_idle 4 = .ok (.ifCond .ne 10, 3) := dk_154 0 10 (dk_at dksX0_idle_0 4 rfl rfl)
theorem dX0_idle_7 : decode cX0_idle 7 = .ok (.aload_n 0, 1) := dk_42 (dk_at dksX0_idle_0 7 rfl rfl)
theorem dX0_idle_8 : decode cX0_idle 8 = .ok (.bipush (-102), 2) := dk_16 154 (dk_at dksX0_idle_0 8 rfl rfl)
theorem dX0_idle_10 : decode cX0_idle 10 = .ok (.invokevirtual 102, 3) := dk_182 0 102 (dk_at dksX0_idle_0 10 rfl rfl)
theorem dX0_idle_13 : decode cX0_idle 13 = .ok (.ireturn, 1) := dk_172 (dk_at dksX0_idle_0 13 rfl rfl)
theorem dX0_idle_14 : decode cX0_idle 14 = .ok (.aload_n 0, 1) := dk_42 (dk_at dksX0_idle_0 14 rfl rfl)
theorem dX0_idle_15 : decode cX0_idle 15 = .ok (.getfield 51, 3) := dk_180 0 51 (dk_at dksX0_idle_0 15 rfl rfl)
theorem dX0_idle_18 : decode cX0_idle 18 = .ok (.aload_n 0, 1) := dk_42 (dk_at dksX0_idle_0 18 rfl rfl)
theorem dX0_idle_19 : decode cX0_idle 19 = .ok (.getfield 39, 3) := dk_180 0 39 (dk_at dksX0_idle_0 19 rfl rfl)
theorem dX0_idle_22 : decode cX0_idle 22 = .ok (.invokevirtual 385, 3) := dk_182 1 129 (dk_at dksX0_idle_1 0 rfl rfl)
theorem dX0_idle_25 : decode cX0_idle 25 = .ok (.iload_n 1, 1) := dk_27 (dk_at dksX0_idle_1 3 rfl rfl)
theorem dX0_idle_26 : decode cX0_idle 26 = .ok (.invokevirtual 285, 3) := dk_182 1 29 (dk_at dksX0_idle_1 4 rfl rfl)
theorem dX0_idle_29 : decode cX0_idle 29 = .ok (.istore_n 2, 1) := dk_61 (dk_at dksX0_idle_1 7 rfl rfl)
theorem dX0_idle_30 : decode cX0_idle 30 = .ok (.iconst 0, 1) := dk_3 (dk_at dksX0_idle_1 8 rfl rfl)
theorem dX0_idle_31 : decode cX0_idle 31 = .ok (.istore_n 3, 1) := dk_62 (dk_at dksX0_idle_1 9 rfl rfl)
theorem dX0_idle_32 : decode cX0_idle 32 = .ok (.aload_n 0, 1) := dk_42 (dk_at dksX0_idle_1 10 rfl rfl)
theorem dX0_idle_33 : decode cX0_idle 33 = .ok (.getfield 39, 3) := dk_180 0 39 (dk_at dksX0_idle_1 11 rfl rfl)
theorem dX0_idle_36 : decode cX0_idle 36 = .ok (.getfield 72, 3) := dk_180 0 72 (dk_at dksX0_idle_1 14 rfl rfl)
theorem dX0_idle_39 : decode cX0_idle 39 = .ok (.invokevirtual 412, 3) := dk_182 1 156 (dk_at dksX0_idle_1 17 rfl rfl)
theorem dX0_idle_42 : decode cX0_idle 42 = .ok (.astore 4, 2) := dk_58 4 (dk_at dksX0_idle_1 20 rfl rfl)
theorem dX0_idle_44 : decode cX0_idle 44 = .ok (.aload 4, 2) := dk_25 4 (dk_at dksX0_idle_1 22 rfl rfl)
theorem dX0_idle_46 : decode cX0_idle 46 = .ok (.invokeinterface 416 1, 5) := by decide +kernel
theorem dX0_idle_51 : decode cX0_idle 51 = .ok (.ifCond .eq 59, 3) := dk_153 0 59 (dk_at dksX0_idle_2 5 rfl rfl)
theorem dX0_idle_54 : decode cX0_idle 54 = .ok (.aload 4, 2) := dk_25 4 (dk_at dksX0_idle_2 8 rfl rfl)
theorem dX0_idle_56 : decode cX0_idle 56 = .ok (.invokeinterface 421 1, 5) := by decide +kernel
theorem dX0_idle_61 : decode cX0_idle 61 = .ok (.checkcast 220, 3) := dk_192 0 220 (dk_at dksX0_idle_2 15 rfl rfl)
theorem dX0_idle_64 : decode cX0_idle 64 = .ok (.astore 5, 2) := dk_58 5 (dk_at dksX0_idle_2 18 rfl rfl)
theorem dX0_idle_66 : decode cX0_idle 66 = .ok (.iload_n 3, 1) := dk_29 (dk_at dksX0_idle_2 20 rfl rfl)
theorem dX0_idle_67 : decode cX0_idle 67 = .ok (.aload_n 0, 1) := dk_42 (dk_at dksX0_idle_2 21 rfl rfl)
theorem dX0_idle_68 : decode cX0_idle 68 = .ok (.getfield 51, 3) := dk_180 0 51 (dk_at dksX0_idle_3 0 rfl rfl)
theorem dX0_idle_71 : decode cX0_idle 71 = .ok (.aload_n 0, 1) := dk_42 (dk_at dksX0_idle_3 3 rfl rfl)
theorem dX0_idle_72 : decode cX0_idle 72 = .ok (.getfield 39, 3) := dk_180 0 39 (dk_at dksX0_idle_3 4 rfl rfl)
theorem dX0_idle_75 : decode cX0_idle 75 = .ok (.invokevirtual 385, 3) := dk_182 1 129 (dk_at dksX0_idle_3 7 rfl rfl)
theorem dX0_idle_78 : decode cX0_idle 78 = .ok (.aload 5, 2) := dk_25 5 (dk_at dksX0_idle_3 10 rfl rfl)
theorem dX0_idle_80 : decode cX0_idle 80 = .ok (.getfield 425, 3) := dk_180 1 169 (dk_at dksX0_idle_3 12 rfl rfl)
theorem dX0_idle_83 : decode cX0_idle 83 = .ok (.invokevirtual 452, 3) := dk_182 1 196 (dk_at dksX0_idle_3 15 rfl rfl)
theorem dX0_idle_86 : decode cX0_idle 86 = .ok (.iload_n 1, 1) := dk_27 (dk_at dksX0_idle_3 18 rfl rfl)
theorem dX0_idle_87 : decode cX0_idle 87 = .ok (.invokevirtual 285, 3) := dk_182 1 29 (dk_at dksX0_idle_3 19 rfl rfl)
theorem dX0_idle_90 : decode cX0_idle 90 = .ok (.iload_n 2, 1) := dk_28 (dk_at dksX0_idle_3 22 rfl rfl)
theorem dX0_idle_91 : decode cX0_idle 91 = .ok (.if_icmp .gt 13, 3) := dk_163 0 13 (dk_at dksX0_idle_4 0 rfl rfl)
theorem dX0_idle_94 : decode cX0_idle 94 = .ok (.iconst 1, 1) := dk_4 (dk_at dksX0_idle_4 3 rfl rfl)
theorem dX0_idle_95 : decode cX0_idle 95 = .ok (.aload 5, 2) := dk_25 5 (dk_at dksX0_idle_4 4 rfl rfl)
theorem dX0_idle_97 : decode cX0_idle 97 = .ok (.getfield 425, 3) := dk_180 1 169 (dk_at dksX0_idle_4 6 rfl rfl)
theorem dX0_idle_100 : decode cX0_idle 100 = .ok (.ishl, 1) := dk_120 (dk_at dksX0_idle_4 9 rfl rfl)
theorem dX0_idle_101 : decode cX0_idle 101 = .ok (.goto 4, 3) := dk_167 0 4 (dk_at dksX0_idle_4 10 rfl rfl)
theorem dX0_idle_104 : decode cX0_idle 104 = .ok (.iconst 0, 1) := dk_3 (dk_at dksX0_idle_4 13 rfl rfl)
theorem dX0_idle_105 : decode cX0_idle 105 = .ok (.ior, 1) := dk_128 (dk_at dksX0_idle_4 14 rfl rfl)
theorem dX0_idle_106 : decode cX0_idle 106 = .ok (.istore_n 3, 1) := dk_62 (dk_at dksX0_idle_4 15 rfl rfl)
theorem dX0_idle_107 : decode cX0_idle 107 = .ok (.goto (-63), 3) := dk_167 255 193 (dk_at dksX0_idle_4 16 rfl rfl)
theorem dX0_idle_110 : decode cX0_idle 110 = .ok (.iload_n 3, 1) := dk_29 (dk_at dksX0_idle_4 19 rfl rfl)
theorem dX0_idle_111 : decode cX0_idle 111 = .ok (.ireturn, 1) := dk_172 (dk_at dksX0_idle_4 20 rfl rfl)
abbrev cX0_judge : ByteArray := prog_1_method_64_code
def yX0_judge : MethodName := ⟨RX0, "judge", "(III)I"⟩
def dkwX0_judge_5 : List UInt8 := [25, 4, 180, 0, 131, 182, 0, 102, 172]
abbrev dktX0_judge_5 : List UInt8 := dkwX0_judge_5 ++ []
def dkwX0_judge_4 : List UInt8 := [21, 5, 104, 4, 96, 47, 148, 153, 0, 6, 21, 5, 172, 132, 5, 1, 167, 255, 169, 2, 172, 58, 4, 42]
abbrev dktX0_judge_4 : List UInt8 := dkwX0_judge_4 ++ dktX0_judge_5
def dkwX0_judge_3 : List UInt8 := [180, 1, 96, 133, 25, 4, 5, 21, 5, 104, 47, 148, 154, 0, 22, 25, 6, 180, 1, 99, 133, 25, 4, 5]
abbrev dktX0_judge_3 : List UInt8 := dkwX0_judge_3 ++ dktX0_judge_4
def dkwX0_judge_2 : List UInt8 := [21, 5, 172, 42, 180, 0, 39, 180, 1, 90, 27, 21, 5, 96, 182, 0, 159, 192, 1, 93, 58, 6, 25, 6]
abbrev dktX0_judge_2 : List UInt8 := dkwX0_judge_2 ++ dktX0_judge_3
def dkwX0_judge_1 : List UInt8 := [21, 5, 29, 162, 0, 87, 27, 42, 180, 0, 39, 180, 1, 90, 182, 0, 76, 21, 5, 100, 161, 0, 6]
abbrev dktX0_judge_1 : List UInt8 := dkwX0_judge_1 ++ dktX0_judge_2
def dkwX0_judge_0 : List UInt8 := [42, 27, 155, 0, 7, 4, 167, 0, 4, 3, 28, 29, 16, 20, 5, 182, 0, 249, 58, 4, 3, 54, 5]
abbrev dktX0_judge_0 : List UInt8 := dkwX0_judge_0 ++ dktX0_judge_1
theorem dksX0_judge_0 : cX0_judge.data.toList.drop 0 = dktX0_judge_0 := by decide +kernel
theorem dksX0_judge_1 : cX0_judge.data.toList.drop 23 = dktX0_judge_1 := dk_seg dksX0_judge_0 23 rfl rfl
theorem dksX0_judge_2 : cX0_judge.data.toList.drop 46 = dktX0_judge_2 := dk_seg dksX0_judge_1 23 rfl rfl
theorem dksX0_judge_3 : cX0_judge.data.toList.drop 70 = dktX0_judge_3 := dk_seg dksX0_judge_2 24 rfl rfl
theorem dksX0_judge_4 : cX0_judge.data.toList.drop 94 = dktX0_judge_4 := dk_seg dksX0_judge_3 24 rfl rfl
theorem dksX0_judge_5 : cX0_judge.data.toList.drop 118 = dktX0_judge_5 := dk_seg dksX0_judge_4 24 rfl rfl
theorem dX0_judge_0 : decode cX0_judge 0 = .ok (.aload_n 0, 1) := dk_42 (dk_at dksX0_judge_0 0 rfl rfl)
theorem dX0_judge_1 : decode cX0_judge 1 = .ok (.iload_n 1, 1) := dk_27 (dk_at dksX0_judge_0 1 rfl rfl)
theorem dX0_judge_2 : decode cX0_judge 2 = .ok (.ifCond .lt 7, 3) := dk_155 0 7 (dk_at dksX0_judge_0 2 rfl rfl)
theorem dX0_judge_5 : decode cX0_judge 5 = .ok (.iconst 1, 1) := dk_4 (dk_at dksX0_judge_0 5 rfl rfl)
theorem dX0_judge_6 : decode cX0_judge 6 = .ok (.goto 4, 3) := dk_167 0 4 (dk_at dksX0_judge_0 6 rfl rfl)
theorem dX0_judge_9 : decode cX0_judge 9 = .ok (.iconst 0, 1) := dk_3 (dk_at dksX0_judge_0 9 rfl rfl)
theorem dX0_judge_10 : decode cX0_judge 10 = .ok (.iload_n 2, 1) := dk_28 (dk_at dksX0_judge_0 10 rfl rfl)
theorem dX0_judge_11 : decode cX0_judge 11 = .ok (.iload_n 3, 1) := dk_29 (dk_at dksX0_judge_0 11 rfl rfl)
theorem dX0_judge_12 : decode cX0_judge 12 = .ok (.bipush 20, 2) := dk_16 20 (dk_at dksX0_judge_0 12 rfl rfl)
theorem dX0_judge_14 : decode cX0_judge 14 = .ok (.iconst 2, 1) := dk_5 (dk_at dksX0_judge_0 14 rfl rfl)
theorem dX0_judge_15 : decode cX0_judge 15 = .ok (.invokevirtual 249, 3) := dk_182 0 249 (dk_at dksX0_judge_0 15 rfl rfl)
theorem dX0_judge_18 : decode cX0_judge 18 = .ok (.astore 4, 2) := dk_58 4 (dk_at dksX0_judge_0 18 rfl rfl)
theorem dX0_judge_20 : decode cX0_judge 20 = .ok (.iconst 0, 1) := dk_3 (dk_at dksX0_judge_0 20 rfl rfl)
theorem dX0_judge_21 : decode cX0_judge 21 = .ok (.istore 5, 2) := dk_54 5 (dk_at dksX0_judge_0 21 rfl rfl)
theorem dX0_judge_23 : decode cX0_judge 23 = .ok (.iload 5, 2) := dk_21 5 (dk_at dksX0_judge_1 0 rfl rfl)
theorem dX0_judge_25 : decode cX0_judge 25 = .ok (.iload_n 3, 1) := dk_29 (dk_at dksX0_judge_1 2 rfl rfl)
theorem dX0_judge_26 : decode cX0_judge 26 = .ok (.if_icmp .ge 87, 3) := dk_162 0 87 (dk_at dksX0_judge_1 3 rfl rfl)
theorem dX0_judge_29 : decode cX0_judge 29 = .ok (.iload_n 1, 1) := dk_27 (dk_at dksX0_judge_1 6 rfl rfl)
theorem dX0_judge_30 : decode cX0_judge 30 = .ok (.aload_n 0, 1) := dk_42 (dk_at dksX0_judge_1 7 rfl rfl)
theorem dX0_judge_31 : decode cX0_judge 31 = .ok (.getfield 39, 3) := dk_180 0 39 (dk_at dksX0_judge_1 8 rfl rfl)
theorem dX0_judge_34 : decode cX0_judge 34 = .ok (.getfield 346, 3) := dk_180 1 90 (dk_at dksX0_judge_1 11 rfl rfl)
theorem dX0_judge_37 : decode cX0_judge 37 = .ok (.invokevirtual 76, 3) := dk_182 0 76 (dk_at dksX0_judge_1 14 rfl rfl)
theorem dX0_judge_40 : decode cX0_judge 40 = .ok (.iload 5, 2) := dk_21 5 (dk_at dksX0_judge_1 17 rfl rfl)
theorem dX0_judge_42 : decode cX0_judge 42 = .ok (.isub, 1) := dk_100 (dk_at dksX0_judge_1 19 rfl rfl)
theorem dX0_judge_43 : decode cX0_judge 43 = .ok (.if_icmp .lt 6, 3) := dk_161 0 6 (dk_at dksX0_judge_1 20 rfl rfl)
theorem dX0_judge_46 : decode cX0_judge 46 = .ok (.iload 5, 2) := dk_21 5 (dk_at dksX0_judge_2 0 rfl rfl)
theorem dX0_judge_48 : decode cX0_judge 48 = .ok (.ireturn, 1) := dk_172 (dk_at dksX0_judge_2 2 rfl rfl)
theorem dX0_judge_49 : decode cX0_judge 49 = .ok (.aload_n 0, 1) := dk_42 (dk_at dksX0_judge_2 3 rfl rfl)
theorem dX0_judge_50 : decode cX0_judge 50 = .ok (.getfield 39, 3) := dk_180 0 39 (dk_at dksX0_judge_2 4 rfl rfl)
theorem dX0_judge_53 : decode cX0_judge 53 = .ok (.getfield 346, 3) := dk_180 1 90 (dk_at dksX0_judge_2 7 rfl rfl)
theorem dX0_judge_56 : decode cX0_judge 56 = .ok (.iload_n 1, 1) := dk_27 (dk_at dksX0_judge_2 10 rfl rfl)
theorem dX0_judge_57 : decode cX0_judge 57 = .ok (.iload 5, 2) := dk_21 5 (dk_at dksX0_judge_2 11 rfl rfl)
theorem dX0_judge_59 : decode cX0_judge 59 = .ok (.iadd, 1) := dk_96 (dk_at dksX0_judge_2 13 rfl rfl)
theorem dX0_judge_60 : decode cX0_judge 60 = .ok (.invokevirtual 159, 3) := dk_182 0 159 (dk_at dksX0_judge_2 14 rfl rfl)
theorem dX0_judge_63 : decode cX0_judge 63 = .ok (.checkcast 349, 3) := dk_192 1 93 (dk_at dksX0_judge_2 17 rfl rfl)
theorem dX0_judge_66 : decode cX0_judge 66 = .ok (.astore 6, 2) := dk_58 6 (dk_at dksX0_judge_2 20 rfl rfl)
theorem dX0_judge_68 : decode cX0_judge 68 = .ok (.aload 6, 2) := dk_25 6 (dk_at dksX0_judge_2 22 rfl rfl)
theorem dX0_judge_70 : decode cX0_judge 70 = .ok (.getfield 352, 3) := dk_180 1 96 (dk_at dksX0_judge_3 0 rfl rfl)
theorem dX0_judge_73 : decode cX0_judge 73 = .ok (.i2l, 1) := dk_133 (dk_at dksX0_judge_3 3 rfl rfl)
theorem dX0_judge_74 : decode cX0_judge 74 = .ok (.aload 4, 2) := dk_25 4 (dk_at dksX0_judge_3 4 rfl rfl)
theorem dX0_judge_76 : decode cX0_judge 76 = .ok (.iconst 2, 1) := dk_5 (dk_at dksX0_judge_3 6 rfl rfl)
theorem dX0_judge_77 : decode cX0_judge 77 = .ok (.iload 5, 2) := dk_21 5 (dk_at dksX0_judge_3 7 rfl rfl)
theorem dX0_judge_79 : decode cX0_judge 79 = .ok (.imul, 1) := dk_104 (dk_at dksX0_judge_3 9 rfl rfl)
theorem dX0_judge_80 : decode cX0_judge 80 = .ok (.laload, 1) := dk_47 (dk_at dksX0_judge_3 10 rfl rfl)
theorem dX0_judge_81 : decode cX0_judge 81 = .ok (.lcmp, 1) := dk_148 (dk_at dksX0_judge_3 11 rfl rfl)
theorem dX0_judge_82 : decode cX0_judge 82 = .ok (.ifCond .ne 22, 3) := dk_154 0 22 (dk_at dksX0_judge_3 12 rfl rfl)
theorem dX0_judge_85 : decode cX0_judge 85 = .ok (.aload 6, 2) := dk_25 6 (dk_at dksX0_judge_3 15 rfl rfl)
theorem dX0_judge_87 : decode cX0_judge 87 = .ok (.getfield 355, 3) := dk_180 1 99 (dk_at dksX0_judge_3 17 rfl rfl)
theorem dX0_judge_90 : decode cX0_judge 90 = .ok (.i2l, 1) := dk_133 (dk_at dksX0_judge_3 20 rfl rfl)
theorem dX0_judge_91 : decode cX0_judge 91 = .ok (.aload 4, 2) := dk_25 4 (dk_at dksX0_judge_3 21 rfl rfl)
theorem dX0_judge_93 : decode cX0_judge 93 = .ok (.iconst 2, 1) := dk_5 (dk_at dksX0_judge_3 23 rfl rfl)
theorem dX0_judge_94 : decode cX0_judge 94 = .ok (.iload 5, 2) := dk_21 5 (dk_at dksX0_judge_4 0 rfl rfl)
theorem dX0_judge_96 : decode cX0_judge 96 = .ok (.imul, 1) := dk_104 (dk_at dksX0_judge_4 2 rfl rfl)
theorem dX0_judge_97 : decode cX0_judge 97 = .ok (.iconst 1, 1) := dk_4 (dk_at dksX0_judge_4 3 rfl rfl)
theorem dX0_judge_98 : decode cX0_judge 98 = .ok (.iadd, 1) := dk_96 (dk_at dksX0_judge_4 4 rfl rfl)
theorem dX0_judge_99 : decode cX0_judge 99 = .ok (.laload, 1) := dk_47 (dk_at dksX0_judge_4 5 rfl rfl)
theorem dX0_judge_100 : decode cX0_judge 100 = .ok (.lcmp, 1) := dk_148 (dk_at dksX0_judge_4 6 rfl rfl)
theorem dX0_judge_101 : decode cX0_judge 101 = .ok (.ifCond .eq 6, 3) := dk_153 0 6 (dk_at dksX0_judge_4 7 rfl rfl)
theorem dX0_judge_104 : decode cX0_judge 104 = .ok (.iload 5, 2) := dk_21 5 (dk_at dksX0_judge_4 10 rfl rfl)
theorem dX0_judge_106 : decode cX0_judge 106 = .ok (.ireturn, 1) := dk_172 (dk_at dksX0_judge_4 12 rfl rfl)
theorem dX0_judge_107 : decode cX0_judge 107 = .ok (.iinc 5 1, 3) := dk_132 5 1 (dk_at dksX0_judge_4 13 rfl rfl)
theorem dX0_judge_110 : decode cX0_judge 110 = .ok (.goto (-87), 3) := dk_167 255 169 (dk_at dksX0_judge_4 16 rfl rfl)
theorem dX0_judge_113 : decode cX0_judge 113 = .ok (.iconst (-1), 1) := dk_2 (dk_at dksX0_judge_4 19 rfl rfl)
theorem dX0_judge_114 : decode cX0_judge 114 = .ok (.ireturn, 1) := dk_172 (dk_at dksX0_judge_4 20 rfl rfl)
theorem dX0_judge_115 : decode cX0_judge 115 = .ok (.astore 4, 2) := dk_58 4 (dk_at dksX0_judge_4 21 rfl rfl)
theorem dX0_judge_117 : decode cX0_judge 117 = .ok (.aload_n 0, 1) := dk_42 (dk_at dksX0_judge_4 23 rfl rfl)
theorem dX0_judge_118 : decode cX0_judge 118 = .ok (.aload 4, 2) := dk_25 4 (dk_at dksX0_judge_5 0 rfl rfl)
theorem dX0_judge_120 : decode cX0_judge 120 = .ok (.getfield 131, 3) := dk_180 0 131 (dk_at dksX0_judge_5 2 rfl rfl)
theorem dX0_judge_123 : decode cX0_judge 123 = .ok (.invokevirtual 102, 3) := dk_182 0 102 (dk_at dksX0_judge_5 5 rfl rfl)
theorem dX0_judge_126 : decode cX0_judge 126 = .ok (.ireturn, 1) := dk_172 (dk_at dksX0_judge_5 8 rfl rfl)
abbrev cX0_days : ByteArray := prog_1_method_65_code
def yX0_days : MethodName := ⟨RX0, "days", "(I)I"⟩
def dkwX0_days_2 : List UInt8 := [180, 0, 39, 180, 1, 200, 28, 100, 172]
abbrev dktX0_days_2 : List UInt8 := dkwX0_days_2 ++ []
def dkwX0_days_1 : List UInt8 := [61, 3, 62, 29, 27, 162, 0, 16, 42, 180, 0, 39, 182, 1, 203, 132, 3, 1, 167, 255, 241, 42]
abbrev dktX0_days_1 : List UInt8 := dkwX0_days_1 ++ dktX0_days_2
def dkwX0_days_0 : List UInt8 := [27, 4, 16, 60, 184, 0, 68, 154, 0, 10, 42, 16, 154, 182, 0, 102, 172, 42, 180, 0, 39, 180, 1, 200]
abbrev dktX0_days_0 : List UInt8 := dkwX0_days_0 ++ dktX0_days_1
theorem dksX0_days_0 : cX0_days.data.toList.drop 0 = dktX0_days_0 := by decide +kernel
theorem dksX0_days_1 : cX0_days.data.toList.drop 24 = dktX0_days_1 := dk_seg dksX0_days_0 24 rfl rfl
theorem dksX0_days_2 : cX0_days.data.toList.drop 46 = dktX0_days_2 := dk_seg dksX0_days_1 22 rfl rfl
theorem dX0_days_0 : decode cX0_days 0 = .ok (.iload_n 1, 1) := dk_27 (dk_at dksX0_days_0 0 rfl rfl)
theorem dX0_days_1 : decode cX0_days 1 = .ok (.iconst 1, 1) := dk_4 (dk_at dksX0_days_0 1 rfl rfl)
theorem dX0_days_2 : decode cX0_days 2 = .ok (.bipush 60, 2) := dk_16 60 (dk_at dksX0_days_0 2 rfl rfl)
theorem dX0_days_4 : decode cX0_days 4 = .ok (.invokestatic 68, 3) := dk_184 0 68 (dk_at dksX0_days_0 4 rfl rfl)
theorem dX0_days_7 : decode cX0_days 7 = .ok (.ifCond .ne 10, 3) := dk_154 0 10 (dk_at dksX0_days_0 7 rfl rfl)
theorem dX0_days_10 : decode cX0_days 10 = .ok (.aload_n 0, 1) := dk_42 (dk_at dksX0_days_0 10 rfl rfl)
theorem dX0_days_11 : decode cX0_days 11 = .ok (.bipush (-102), 2) := dk_16 154 (dk_at dksX0_days_0 11 rfl rfl)
theorem dX0_days_13 : decode cX0_days 13 = .ok (.invokevirtual 102, 3) := dk_182 0 102 (dk_at dksX0_days_0 13 rfl rfl)
theorem dX0_days_16 : decode cX0_days 16 = .ok (.ireturn, 1) := dk_172 (dk_at dksX0_days_0 16 rfl rfl)
theorem dX0_days_17 : decode cX0_days 17 = .ok (.aload_n 0, 1) := dk_42 (dk_at dksX0_days_0 17 rfl rfl)
theorem dX0_days_18 : decode cX0_days 18 = .ok (.getfield 39, 3) := dk_180 0 39 (dk_at dksX0_days_0 18 rfl rfl)
theorem dX0_days_21 : decode cX0_days 21 = .ok (.getfield 456, 3) := dk_180 1 200 (dk_at dksX0_days_0 21 rfl rfl)
theorem dX0_days_24 : decode cX0_days 24 = .ok (.istore_n 2, 1) := dk_61 (dk_at dksX0_days_1 0 rfl rfl)
theorem dX0_days_25 : decode cX0_days 25 = .ok (.iconst 0, 1) := dk_3 (dk_at dksX0_days_1 1 rfl rfl)
theorem dX0_days_26 : decode cX0_days 26 = .ok (.istore_n 3, 1) := dk_62 (dk_at dksX0_days_1 2 rfl rfl)
theorem dX0_days_27 : decode cX0_days 27 = .ok (.iload_n 3, 1) := dk_29 (dk_at dksX0_days_1 3 rfl rfl)
theorem dX0_days_28 : decode cX0_days 28 = .ok (.iload_n 1, 1) := dk_27 (dk_at dksX0_days_1 4 rfl rfl)
theorem dX0_days_29 : decode cX0_days 29 = .ok (.if_icmp .ge 16, 3) := dk_162 0 16 (dk_at dksX0_days_1 5 rfl rfl)
theorem dX0_days_32 : decode cX0_days 32 = .ok (.aload_n 0, 1) := dk_42 (dk_at dksX0_days_1 8 rfl rfl)
theorem dX0_days_33 : decode cX0_days 33 = .ok (.getfield 39, 3) := dk_180 0 39 (dk_at dksX0_days_1 9 rfl rfl)
theorem dX0_days_36 : decode cX0_days 36 = .ok (.invokevirtual 459, 3) := dk_182 1 203 (dk_at dksX0_days_1 12 rfl rfl)
theorem dX0_days_39 : decode cX0_days 39 = .ok (.iinc 3 1, 3) := dk_132 3 1 (dk_at dksX0_days_1 15 rfl rfl)
theorem dX0_days_42 : decode cX0_days 42 = .ok (.goto (-15), 3) := dk_167 255 241 (dk_at dksX0_days_1 18 rfl rfl)
theorem dX0_days_45 : decode cX0_days 45 = .ok (.aload_n 0, 1) := dk_42 (dk_at dksX0_days_1 21 rfl rfl)
theorem dX0_days_46 : decode cX0_days 46 = .ok (.getfield 39, 3) := dk_180 0 39 (dk_at dksX0_days_2 0 rfl rfl)
theorem dX0_days_49 : decode cX0_days 49 = .ok (.getfield 456, 3) := dk_180 1 200 (dk_at dksX0_days_2 3 rfl rfl)
theorem dX0_days_52 : decode cX0_days 52 = .ok (.iload_n 2, 1) := dk_28 (dk_at dksX0_days_2 6 rfl rfl)
theorem dX0_days_53 : decode cX0_days 53 = .ok (.isub, 1) := dk_100 (dk_at dksX0_days_2 7 rfl rfl)
theorem dX0_days_54 : decode cX0_days 54 = .ok (.ireturn, 1) := dk_172 (dk_at dksX0_days_2 8 rfl rfl)
abbrev cX0_seed : ByteArray := prog_1_method_66_code
def yX0_seed : MethodName := ⟨RX0, "seed", "(I)I"⟩
def dkwX0_seed_0 : List UInt8 := [42, 180, 0, 39, 180, 1, 206, 61, 42, 180, 0, 39, 27, 181, 1, 206, 28, 172]
abbrev dktX0_seed_0 : List UInt8 := dkwX0_seed_0 ++ []
theorem dksX0_seed_0 : cX0_seed.data.toList.drop 0 = dktX0_seed_0 := by decide +kernel
theorem dX0_seed_0 : decode cX0_seed 0 = .ok (.aload_n 0, 1) := dk_42 (dk_at dksX0_seed_0 0 rfl rfl)
theorem dX0_seed_1 : decode cX0_seed 1 = .ok (.getfield 39, 3) := dk_180 0 39 (dk_at dksX0_seed_0 1 rfl rfl)
theorem dX0_seed_4 : decode cX0_seed 4 = .ok (.getfield 462, 3) := dk_180 1 206 (dk_at dksX0_seed_0 4 rfl rfl)
theorem dX0_seed_7 : decode cX0_seed 7 = .ok (.istore_n 2, 1) := dk_61 (dk_at dksX0_seed_0 7 rfl rfl)
theorem dX0_seed_8 : decode cX0_seed 8 = .ok (.aload_n 0, 1) := dk_42 (dk_at dksX0_seed_0 8 rfl rfl)
theorem dX0_seed_9 : decode cX0_seed 9 = .ok (.getfield 39, 3) := dk_180 0 39 (dk_at dksX0_seed_0 9 rfl rfl)
theorem dX0_seed_12 : decode cX0_seed 12 = .ok (.iload_n 1, 1) := dk_27 (dk_at dksX0_seed_0 12 rfl rfl)
theorem dX0_seed_13 : decode cX0_seed 13 = .ok (.putfield 462, 3) := dk_181 1 206 (dk_at dksX0_seed_0 13 rfl rfl)
theorem dX0_seed_16 : decode cX0_seed 16 = .ok (.iload_n 2, 1) := dk_28 (dk_at dksX0_seed_0 16 rfl rfl)
theorem dX0_seed_17 : decode cX0_seed 17 = .ok (.ireturn, 1) := dk_172 (dk_at dksX0_seed_0 17 rfl rfl)
abbrev cX0_image : ByteArray := prog_1_method_67_code
def yX0_image : MethodName := ⟨RX0, "image", "()I"⟩
def dkwX0_image_0 : List UInt8 := [42, 180, 0, 45, 42, 180, 0, 39, 182, 1, 209, 42, 4, 181, 1, 212, 4, 172]
abbrev dktX0_image_0 : List UInt8 := dkwX0_image_0 ++ []
theorem dksX0_image_0 : cX0_image.data.toList.drop 0 = dktX0_image_0 := by decide +kernel
theorem dX0_image_0 : decode cX0_image 0 = .ok (.aload_n 0, 1) := dk_42 (dk_at dksX0_image_0 0 rfl rfl)
theorem dX0_image_1 : decode cX0_image 1 = .ok (.getfield 45, 3) := dk_180 0 45 (dk_at dksX0_image_0 1 rfl rfl)
theorem dX0_image_4 : decode cX0_image 4 = .ok (.aload_n 0, 1) := dk_42 (dk_at dksX0_image_0 4 rfl rfl)
theorem dX0_image_5 : decode cX0_image 5 = .ok (.getfield 39, 3) := dk_180 0 39 (dk_at dksX0_image_0 5 rfl rfl)
theorem dX0_image_8 : decode cX0_image 8 = .ok (.invokevirtual 465, 3) := dk_182 1 209 (dk_at dksX0_image_0 8 rfl rfl)
theorem dX0_image_11 : decode cX0_image 11 = .ok (.aload_n 0, 1) := dk_42 (dk_at dksX0_image_0 11 rfl rfl)
theorem dX0_image_12 : decode cX0_image 12 = .ok (.iconst 1, 1) := dk_4 (dk_at dksX0_image_0 12 rfl rfl)
theorem dX0_image_13 : decode cX0_image 13 = .ok (.putfield 468, 3) := dk_181 1 212 (dk_at dksX0_image_0 13 rfl rfl)
theorem dX0_image_16 : decode cX0_image 16 = .ok (.iconst 1, 1) := dk_4 (dk_at dksX0_image_0 16 rfl rfl)
theorem dX0_image_17 : decode cX0_image 17 = .ok (.ireturn, 1) := dk_172 (dk_at dksX0_image_0 17 rfl rfl)
abbrev cX0_back : ByteArray := prog_1_method_68_code
def yX0_back : MethodName := ⟨RX0, "back", "()I"⟩
def dkwX0_back_3 : List UInt8 := [180, 0, 56, 27, 50, 1, 181, 0, 110, 132, 1, 1, 167, 255, 204, 4, 172]
abbrev dktX0_back_3 : List UInt8 := dkwX0_back_3 ++ []
def dkwX0_back_2 : List UInt8 := [193, 0, 116, 153, 0, 29, 45, 192, 0, 116, 77, 42, 44, 180, 0, 153, 182, 0, 156, 154, 0, 13, 42]
abbrev dktX0_back_2 : List UInt8 := dkwX0_back_2 ++ dktX0_back_3
def dkwX0_back_1 : List UInt8 := [182, 1, 216, 3, 60, 27, 16, 8, 162, 0, 52, 42, 180, 0, 56, 27, 50, 180, 0, 110, 78, 45]
abbrev dktX0_back_1 : List UInt8 := dkwX0_back_1 ++ dktX0_back_2
def dkwX0_back_0 : List UInt8 := [42, 180, 1, 212, 154, 0, 10, 42, 16, 151, 182, 0, 102, 172, 42, 180, 0, 39, 42, 180, 0, 45]
abbrev dktX0_back_0 : List UInt8 := dkwX0_back_0 ++ dktX0_back_1
theorem dksX0_back_0 : cX0_back.data.toList.drop 0 = dktX0_back_0 := by decide +kernel
theorem dksX0_back_1 : cX0_back.data.toList.drop 22 = dktX0_back_1 := dk_seg dksX0_back_0 22 rfl rfl
theorem dksX0_back_2 : cX0_back.data.toList.drop 44 = dktX0_back_2 := dk_seg dksX0_back_1 22 rfl rfl
theorem dksX0_back_3 : cX0_back.data.toList.drop 67 = dktX0_back_3 := dk_seg dksX0_back_2 23 rfl rfl
theorem dX0_back_0 : decode cX0_back 0 = .ok (.aload_n 0, 1) := dk_42 (dk_at dksX0_back_0 0 rfl rfl)
theorem dX0_back_1 : decode cX0_back 1 = .ok (.getfield 468, 3) := dk_180 1 212 (dk_at dksX0_back_0 1 rfl rfl)
theorem dX0_back_4 : decode cX0_back 4 = .ok (.ifCond .ne 10, 3) := dk_154 0 10 (dk_at dksX0_back_0 4 rfl rfl)
theorem dX0_back_7 : decode cX0_back 7 = .ok (.aload_n 0, 1) := dk_42 (dk_at dksX0_back_0 7 rfl rfl)
theorem dX0_back_8 : decode cX0_back 8 = .ok (.bipush (-105), 2) := dk_16 151 (dk_at dksX0_back_0 8 rfl rfl)
theorem dX0_back_10 : decode cX0_back 10 = .ok (.invokevirtual 102, 3) := dk_182 0 102 (dk_at dksX0_back_0 10 rfl rfl)
theorem dX0_back_13 : decode cX0_back 13 = .ok (.ireturn, 1) := dk_172 (dk_at dksX0_back_0 13 rfl rfl)
theorem dX0_back_14 : decode cX0_back 14 = .ok (.aload_n 0, 1) := dk_42 (dk_at dksX0_back_0 14 rfl rfl)
theorem dX0_back_15 : decode cX0_back 15 = .ok (.getfield 39, 3) := dk_180 0 39 (dk_at dksX0_back_0 15 rfl rfl)
theorem dX0_back_18 : decode cX0_back 18 = .ok (.aload_n 0, 1) := dk_42 (dk_at dksX0_back_0 18 rfl rfl)
theorem dX0_back_19 : decode cX0_back 19 = .ok (.getfield 45, 3) := dk_180 0 45 (dk_at dksX0_back_0 19 rfl rfl)
theorem dX0_back_22 : decode cX0_back 22 = .ok (.invokevirtual 472, 3) := dk_182 1 216 (dk_at dksX0_back_1 0 rfl rfl)
theorem dX0_back_25 : decode cX0_back 25 = .ok (.iconst 0, 1) := dk_3 (dk_at dksX0_back_1 3 rfl rfl)
theorem dX0_back_26 : decode cX0_back 26 = .ok (.istore_n 1, 1) := dk_60 (dk_at dksX0_back_1 4 rfl rfl)
theorem dX0_back_27 : decode cX0_back 27 = .ok (.iload_n 1, 1) := dk_27 (dk_at dksX0_back_1 5 rfl rfl)
theorem dX0_back_28 : decode cX0_back 28 = .ok (.bipush 8, 2) := dk_16 8 (dk_at dksX0_back_1 6 rfl rfl)
theorem dX0_back_30 : decode cX0_back 30 = .ok (.if_icmp .ge 52, 3) := dk_162 0 52 (dk_at dksX0_back_1 8 rfl rfl)
theorem dX0_back_33 : decode cX0_back 33 = .ok (.aload_n 0, 1) := dk_42 (dk_at dksX0_back_1 11 rfl rfl)
theorem dX0_back_34 : decode cX0_back 34 = .ok (.getfield 56, 3) := dk_180 0 56 (dk_at dksX0_back_1 12 rfl rfl)
theorem dX0_back_37 : decode cX0_back 37 = .ok (.iload_n 1, 1) := dk_27 (dk_at dksX0_back_1 15 rfl rfl)
theorem dX0_back_38 : decode cX0_back 38 = .ok (.aaload, 1) := dk_50 (dk_at dksX0_back_1 16 rfl rfl)
theorem dX0_back_39 : decode cX0_back 39 = .ok (.getfield 110, 3) := dk_180 0 110 (dk_at dksX0_back_1 17 rfl rfl)
theorem dX0_back_42 : decode cX0_back 42 = .ok (.astore_n 3, 1) := dk_78 (dk_at dksX0_back_1 20 rfl rfl)
theorem dX0_back_43 : decode cX0_back 43 = .ok (.aload_n 3, 1) := dk_45 (dk_at dksX0_back_1 21 rfl rfl)
theorem dX0_back_44 : decode cX0_back 44 = .ok (.instanceof 116, 3) := dk_193 0 116 (dk_at dksX0_back_2 0 rfl rfl)
theorem dX0_back_47 : decode cX0_back 47 = .ok (.ifCond .eq 29, 3) := dk_153 0 29 (dk_at dksX0_back_2 3 rfl rfl)
theorem dX0_back_50 : decode cX0_back 50 = .ok (.aload_n 3, 1) := dk_45 (dk_at dksX0_back_2 6 rfl rfl)
theorem dX0_back_51 : decode cX0_back 51 = .ok (.checkcast 116, 3) := dk_192 0 116 (dk_at dksX0_back_2 7 rfl rfl)
theorem dX0_back_54 : decode cX0_back 54 = .ok (.astore_n 2, 1) := dk_77 (dk_at dksX0_back_2 10 rfl rfl)
theorem dX0_back_55 : decode cX0_back 55 = .ok (.aload_n 0, 1) := dk_42 (dk_at dksX0_back_2 11 rfl rfl)
theorem dX0_back_56 : decode cX0_back 56 = .ok (.aload_n 2, 1) := dk_44 (dk_at dksX0_back_2 12 rfl rfl)
theorem dX0_back_57 : decode cX0_back 57 = .ok (.getfield 153, 3) := dk_180 0 153 (dk_at dksX0_back_2 13 rfl rfl)
theorem dX0_back_60 : decode cX0_back 60 = .ok (.invokevirtual 156, 3) := dk_182 0 156 (dk_at dksX0_back_2 16 rfl rfl)
theorem dX0_back_63 : decode cX0_back 63 = .ok (.ifCond .ne 13, 3) := dk_154 0 13 (dk_at dksX0_back_2 19 rfl rfl)
theorem dX0_back_66 : decode cX0_back 66 = .ok (.aload_n 0, 1) := dk_42 (dk_at dksX0_back_2 22 rfl rfl)
theorem dX0_back_67 : decode cX0_back 67 = .ok (.getfield 56, 3) := dk_180 0 56 (dk_at dksX0_back_3 0 rfl rfl)
theorem dX0_back_70 : decode cX0_back 70 = .ok (.iload_n 1, 1) := dk_27 (dk_at dksX0_back_3 3 rfl rfl)
theorem dX0_back_71 : decode cX0_back 71 = .ok (.aaload, 1) := dk_50 (dk_at dksX0_back_3 4 rfl rfl)
theorem dX0_back_72 : decode cX0_back 72 = .ok (.aconst_null, 1) := dk_1 (dk_at dksX0_back_3 5 rfl rfl)
theorem dX0_back_73 : decode cX0_back 73 = .ok (.putfield 110, 3) := dk_181 0 110 (dk_at dksX0_back_3 6 rfl rfl)
theorem dX0_back_76 : decode cX0_back 76 = .ok (.iinc 1 1, 3) := dk_132 1 1 (dk_at dksX0_back_3 9 rfl rfl)
theorem dX0_back_79 : decode cX0_back 79 = .ok (.goto (-52), 3) := dk_167 255 204 (dk_at dksX0_back_3 12 rfl rfl)
theorem dX0_back_82 : decode cX0_back 82 = .ok (.iconst 1, 1) := dk_4 (dk_at dksX0_back_3 15 rfl rfl)
theorem dX0_back_83 : decode cX0_back 83 = .ok (.ireturn, 1) := dk_172 (dk_at dksX0_back_3 16 rfl rfl)
abbrev cX0_status : ByteArray := prog_1_method_70_code
def yX0_status : MethodName := ⟨RX0, "status", "(I)I"⟩
def dkwX0_status_9 : List UInt8 := [167, 0, 4, 2, 172]
abbrev dktX0_status_9 : List UInt8 := dkwX0_status_9 ++ []
def dkwX0_status_8 : List UInt8 := [167, 0, 28, 42, 180, 0, 188, 167, 0, 21, 42, 180, 0, 39, 180, 1, 206, 167, 0, 11, 42, 182, 1, 225]
abbrev dktX0_status_8 : List UInt8 := dkwX0_status_8 ++ dktX0_status_9
def dkwX0_status_7 : List UInt8 := [167, 0, 51, 42, 180, 0, 39, 180, 0, 206, 182, 0, 76, 167, 0, 38, 42, 180, 0, 39, 180, 1, 141]
abbrev dktX0_status_7 : List UInt8 := dkwX0_status_7 ++ dktX0_status_8
def dkwX0_status_6 : List UInt8 := [167, 0, 73, 42, 180, 0, 39, 180, 1, 200, 167, 0, 63, 42, 180, 0, 39, 180, 1, 15, 3, 46]
abbrev dktX0_status_6 : List UInt8 := dkwX0_status_6 ++ dktX0_status_7
def dkwX0_status_5 : List UInt8 := [180, 0, 39, 180, 0, 82, 182, 0, 76, 167, 0, 86, 42, 180, 0, 39, 180, 1, 90, 182, 0, 76]
abbrev dktX0_status_5 : List UInt8 := dkwX0_status_5 ++ dktX0_status_6
def dkwX0_status_4 : List UInt8 := [42, 180, 0, 39, 180, 1, 222, 167, 0, 112, 42, 180, 0, 39, 180, 0, 72, 182, 0, 76, 167, 0, 99, 42]
abbrev dktX0_status_4 : List UInt8 := dkwX0_status_4 ++ dktX0_status_5
def dkwX0_status_3 : List UInt8 := [180, 0, 39, 180, 1, 7, 7, 46, 167, 0, 135, 42, 180, 0, 39, 180, 1, 219, 184, 1, 52, 167, 0, 122]
abbrev dktX0_status_3 : List UInt8 := dkwX0_status_3 ++ dktX0_status_4
def dkwX0_status_2 : List UInt8 := [42, 180, 0, 39, 180, 1, 10, 167, 0, 159, 42, 180, 0, 39, 180, 1, 7, 6, 46, 167, 0, 147, 42]
abbrev dktX0_status_2 : List UInt8 := dkwX0_status_2 ++ dktX0_status_3
def dkwX0_status_1 : List UInt8 := [170, 0, 0, 0, 1, 3, 0, 0, 0, 0, 0, 0, 0, 19, 0, 0, 0, 94, 0, 0, 0, 104, 0, 0, 0, 116, 0, 0, 0, 128, 0, 0, 0, 141, 0, 0, 0, 151, 0, 0, 0, 164, 0, 0, 0, 177, 0, 0, 0, 190, 0, 0, 0, 200, 0, 0, 0, 212, 0, 0, 0, 225, 0, 0, 1, 3, 0, 0, 1, 3, 0, 0, 1, 3, 0, 0, 1, 3, 0, 0, 1, 3, 0, 0, 0, 235, 0, 0, 0, 242, 0, 0, 0, 252]
abbrev dktX0_status_1 : List UInt8 := dkwX0_status_1 ++ dktX0_status_2
def dkwX0_status_0 : List UInt8 := [27, 16, 12, 16, 16, 184, 0, 68, 153, 0, 13, 42, 180, 0, 64, 27, 16, 10, 100, 46, 172, 27]
abbrev dktX0_status_0 : List UInt8 := dkwX0_status_0 ++ dktX0_status_1
theorem dksX0_status_0 : cX0_status.data.toList.drop 0 = dktX0_status_0 := by decide +kernel
theorem dksX0_status_1 : cX0_status.data.toList.drop 22 = dktX0_status_1 := dk_seg dksX0_status_0 22 rfl rfl
theorem dksX0_status_2 : cX0_status.data.toList.drop 116 = dktX0_status_2 := dk_seg dksX0_status_1 94 rfl rfl
theorem dksX0_status_3 : cX0_status.data.toList.drop 139 = dktX0_status_3 := dk_seg dksX0_status_2 23 rfl rfl
theorem dksX0_status_4 : cX0_status.data.toList.drop 163 = dktX0_status_4 := dk_seg dksX0_status_3 24 rfl rfl
theorem dksX0_status_5 : cX0_status.data.toList.drop 187 = dktX0_status_5 := dk_seg dksX0_status_4 24 rfl rfl
theorem dksX0_status_6 : cX0_status.data.toList.drop 209 = dktX0_status_6 := dk_seg dksX0_status_5 22 rfl rfl
theorem dksX0_status_7 : cX0_status.data.toList.drop 231 = dktX0_status_7 := dk_seg dksX0_status_6 22 rfl rfl
theorem dksX0_status_8 : cX0_status.data.toList.drop 254 = dktX0_status_8 := dk_seg dksX0_status_7 23 rfl rfl
theorem dksX0_status_9 : cX0_status.data.toList.drop 278 = dktX0_status_9 := dk_seg dksX0_status_8 24 rfl rfl
theorem dX0_status_0 : decode cX0_status 0 = .ok (.iload_n 1, 1) := dk_27 (dk_at dksX0_status_0 0 rfl rfl)
theorem dX0_status_1 : decode cX0_status 1 = .ok (.bipush 12, 2) := dk_16 12 (dk_at dksX0_status_0 1 rfl rfl)
theorem dX0_status_3 : decode cX0_status 3 = .ok (.bipush 16, 2) := dk_16 16 (dk_at dksX0_status_0 3 rfl rfl)
theorem dX0_status_5 : decode cX0_status 5 = .ok (.invokestatic 68, 3) := dk_184 0 68 (dk_at dksX0_status_0 5 rfl rfl)
theorem dX0_status_8 : decode cX0_status 8 = .ok (.ifCond .eq 13, 3) := dk_153 0 13 (dk_at dksX0_status_0 8 rfl rfl)
theorem dX0_status_11 : decode cX0_status 11 = .ok (.aload_n 0, 1) := dk_42 (dk_at dksX0_status_0 11 rfl rfl)
theorem dX0_status_12 : decode cX0_status 12 = .ok (.getfield 64, 3) := dk_180 0 64 (dk_at dksX0_status_0 12 rfl rfl)
theorem dX0_status_15 : decode cX0_status 15 = .ok (.iload_n 1, 1) := dk_27 (dk_at dksX0_status_0 15 rfl rfl)
theorem dX0_status_16 : decode cX0_status 16 = .ok (.bipush 10, 2) := dk_16 10 (dk_at dksX0_status_0 16 rfl rfl)
theorem dX0_status_18 : decode cX0_status 18 = .ok (.isub, 1) := dk_100 (dk_at dksX0_status_0 18 rfl rfl)
theorem dX0_status_19 : decode cX0_status 19 = .ok (.iaload, 1) := dk_46 (dk_at dksX0_status_0 19 rfl rfl)
theorem dX0_status_20 : decode cX0_status 20 = .ok (.ireturn, 1) := dk_172 (dk_at dksX0_status_0 20 rfl rfl)
theorem dX0_status_21 : decode cX0_status 21 = .ok (.iload_n 1, 1) := dk_27 (dk_at dksX0_status_0 21 rfl rfl)
theorem dX0_status_22 : decode cX0_status 22 = .ok (.tableswitch 259 0 19 #[94, 104, 116, 128, 141, 151, 164, 177, 190, 200, 212, 225, 259, 259, 259, 259, 259, 235, 242, 252], 94) := by decide +kernel
theorem dX0_status_116 : decode cX0_status 116 = .ok (.aload_n 0, 1) := dk_42 (dk_at dksX0_status_2 0 rfl rfl)
theorem dX0_status_117 : decode cX0_status 117 = .ok (.getfield 39, 3) := dk_180 0 39 (dk_at dksX0_status_2 1 rfl rfl)
theorem dX0_status_120 : decode cX0_status 120 = .ok (.getfield 266, 3) := dk_180 1 10 (dk_at dksX0_status_2 4 rfl rfl)
theorem dX0_status_123 : decode cX0_status 123 = .ok (.goto 159, 3) := dk_167 0 159 (dk_at dksX0_status_2 7 rfl rfl)
theorem dX0_status_126 : decode cX0_status 126 = .ok (.aload_n 0, 1) := dk_42 (dk_at dksX0_status_2 10 rfl rfl)
theorem dX0_status_127 : decode cX0_status 127 = .ok (.getfield 39, 3) := dk_180 0 39 (dk_at dksX0_status_2 11 rfl rfl)
theorem dX0_status_130 : decode cX0_status 130 = .ok (.getfield 263, 3) := dk_180 1 7 (dk_at dksX0_status_2 14 rfl rfl)
theorem dX0_status_133 : decode cX0_status 133 = .ok (.iconst 3, 1) := dk_6 (dk_at dksX0_status_2 17 rfl rfl)
theorem dX0_status_134 : decode cX0_status 134 = .ok (.iaload, 1) := dk_46 (dk_at dksX0_status_2 18 rfl rfl)
theorem dX0_status_135 : decode cX0_status 135 = .ok (.goto 147, 3) := dk_167 0 147 (dk_at dksX0_status_2 19 rfl rfl)
theorem dX0_status_138 : decode cX0_status 138 = .ok (.aload_n 0, 1) := dk_42 (dk_at dksX0_status_2 22 rfl rfl)
theorem dX0_status_139 : decode cX0_status 139 = .ok (.getfield 39, 3) := dk_180 0 39 (dk_at dksX0_status_3 0 rfl rfl)
theorem dX0_status_142 : decode cX0_status 142 = .ok (.getfield 263, 3) := dk_180 1 7 (dk_at dksX0_status_3 3 rfl rfl)
theorem dX0_status_145 : decode cX0_status 145 = .ok (.iconst 4, 1) := dk_7 (dk_at dksX0_status_3 6 rfl rfl)
theorem dX0_status_146 : decode cX0_status 146 = .ok (.iaload, 1) := dk_46 (dk_at dksX0_status_3 7 rfl rfl)
theorem dX0_status_147 : decode cX0_status 147 = .ok (.goto 135, 3) := dk_167 0 135 (dk_at dksX0_status_3 8 rfl rfl)
theorem dX0_status_150 : decode cX0_status 150 = .ok (.aload_n 0, 1) := dk_42 (dk_at dksX0_status_3 11 rfl rfl)
theorem dX0_status_151 : decode cX0_status 151 = .ok (.getfield 39, 3) := dk_180 0 39 (dk_at dksX0_status_3 12 rfl rfl)
theorem dX0_status_154 : decode cX0_status 154 = .ok (.getfield 475, 3) := dk_180 1 219 (dk_at dksX0_status_3 15 rfl rfl)
theorem dX0_status_157 : decode cX0_status 157 = .ok (.invokestatic 308, 3) := dk_184 1 52 (dk_at dksX0_status_3 18 rfl rfl)
theorem dX0_status_160 : decode cX0_status 160 = .ok (.goto 122, 3) := dk_167 0 122 (dk_at dksX0_status_3 21 rfl rfl)
theorem dX0_status_163 : decode cX0_status 163 = .ok (.aload_n 0, 1) := dk_42 (dk_at dksX0_status_4 0 rfl rfl)
theorem dX0_status_164 : decode cX0_status 164 = .ok (.getfield 39, 3) := dk_180 0 39 (dk_at dksX0_status_4 1 rfl rfl)
theorem dX0_status_167 : decode cX0_status 167 = .ok (.getfield 478, 3) := dk_180 1 222 (dk_at dksX0_status_4 4 rfl rfl)
theorem dX0_status_170 : decode cX0_status 170 = .ok (.goto 112, 3) := dk_167 0 112 (dk_at dksX0_status_4 7 rfl rfl)
theorem dX0_status_173 : decode cX0_status 173 = .ok (.aload_n 0, 1) := dk_42 (dk_at dksX0_status_4 10 rfl rfl)
theorem dX0_status_174 : decode cX0_status 174 = .ok (.getfield 39, 3) := dk_180 0 39 (dk_at dksX0_status_4 11 rfl rfl)
theorem dX0_status_177 : decode cX0_status 177 = .ok (.getfield 72, 3) := dk_180 0 72 (dk_at dksX0_status_4 14 rfl rfl)
theorem dX0_status_180 : decode cX0_status 180 = .ok (.invokevirtual 76, 3) := dk_182 0 76 (dk_at dksX0_status_4 17 rfl rfl)
theorem dX0_status_183 : decode cX0_status 183 = .ok (.goto 99, 3) := dk_167 0 99 (dk_at dksX0_status_4 20 rfl rfl)
theorem dX0_status_186 : decode cX0_status 186 = .ok (.aload_n 0, 1) := dk_42 (dk_at dksX0_status_4 23 rfl rfl)
theorem dX0_status_187 : decode cX0_status 187 = .ok (.getfield 39, 3) := dk_180 0 39 (dk_at dksX0_status_5 0 rfl rfl)
theorem dX0_status_190 : decode cX0_status 190 = .ok (.getfield 82, 3) := dk_180 0 82 (dk_at dksX0_status_5 3 rfl rfl)
theorem dX0_status_193 : decode cX0_status 193 = .ok (.invokevirtual 76, 3) := dk_182 0 76 (dk_at dksX0_status_5 6 rfl rfl)
theorem dX0_status_196 : decode cX0_status 196 = .ok (.goto 86, 3) := dk_167 0 86 (dk_at dksX0_status_5 9 rfl rfl)
theorem dX0_status_199 : decode cX0_status 199 = .ok (.aload_n 0, 1) := dk_42 (dk_at dksX0_status_5 12 rfl rfl)
theorem dX0_status_200 : decode cX0_status 200 = .ok (.getfield 39, 3) := dk_180 0 39 (dk_at dksX0_status_5 13 rfl rfl)
theorem dX0_status_203 : decode cX0_status 203 = .ok (.getfield 346, 3) := dk_180 1 90 (dk_at dksX0_status_5 16 rfl rfl)
theorem dX0_status_206 : decode cX0_status 206 = .ok (.invokevirtual 76, 3) := dk_182 0 76 (dk_at dksX0_status_5 19 rfl rfl)
theorem dX0_status_209 : decode cX0_status 209 = .ok (.goto 73, 3) := dk_167 0 73 (dk_at dksX0_status_6 0 rfl rfl)
theorem dX0_status_212 : decode cX0_status 212 = .ok (.aload_n 0, 1) := dk_42 (dk_at dksX0_status_6 3 rfl rfl)
theorem dX0_status_213 : decode cX0_status 213 = .ok (.getfield 39, 3) := dk_180 0 39 (dk_at dksX0_status_6 4 rfl rfl)
theorem dX0_status_216 : decode cX0_status 216 = .ok (.getfield 456, 3) := dk_180 1 200 (dk_at dksX0_status_6 7 rfl rfl)
theorem dX0_status_219 : decode cX0_status 219 = .ok (.goto 63, 3) := dk_167 0 63 (dk_at dksX0_status_6 10 rfl rfl)
theorem dX0_status_222 : decode cX0_status 222 = .ok (.aload_n 0, 1) := dk_42 (dk_at dksX0_status_6 13 rfl rfl)
theorem dX0_status_223 : decode cX0_status 223 = .ok (.getfield 39, 3) := dk_180 0 39 (dk_at dksX0_status_6 14 rfl rfl)
theorem dX0_status_226 : decode cX0_status 226 = .ok (.getfield 271, 3) := dk_180 1 15 (dk_at dksX0_status_6 17 rfl rfl)
theorem dX0_status_229 : decode cX0_status 229 = .ok (.iconst 0, 1) := dk_3 (dk_at dksX0_status_6 20 rfl rfl)
theorem dX0_status_230 : decode cX0_status 230 = .ok (.iaload, 1) := dk_46 (dk_at dksX0_status_6 21 rfl rfl)
theorem dX0_status_231 : decode cX0_status 231 = .ok (.goto 51, 3) := dk_167 0 51 (dk_at dksX0_status_7 0 rfl rfl)
theorem dX0_status_234 : decode cX0_status 234 = .ok (.aload_n 0, 1) := dk_42 (dk_at dksX0_status_7 3 rfl rfl)
theorem dX0_status_235 : decode cX0_status 235 = .ok (.getfield 39, 3) := dk_180 0 39 (dk_at dksX0_status_7 4 rfl rfl)
theorem dX0_status_238 : decode cX0_status 238 = .ok (.getfield 206, 3) := dk_180 0 206 (dk_at dksX0_status_7 7 rfl rfl)
theorem dX0_status_241 : decode cX0_status 241 = .ok (.invokevirtual 76, 3) := dk_182 0 76 (dk_at dksX0_status_7 10 rfl rfl)
theorem dX0_status_244 : decode cX0_status 244 = .ok (.goto 38, 3) := dk_167 0 38 (dk_at dksX0_status_7 13 rfl rfl)
theorem dX0_status_247 : decode cX0_status 247 = .ok (.aload_n 0, 1) := dk_42 (dk_at dksX0_status_7 16 rfl rfl)
theorem dX0_status_248 : decode cX0_status 248 = .ok (.getfield 39, 3) := dk_180 0 39 (dk_at dksX0_status_7 17 rfl rfl)
theorem dX0_status_251 : decode cX0_status 251 = .ok (.getfield 397, 3) := dk_180 1 141 (dk_at dksX0_status_7 20 rfl rfl)
theorem dX0_status_254 : decode cX0_status 254 = .ok (.goto 28, 3) := dk_167 0 28 (dk_at dksX0_status_8 0 rfl rfl)
theorem dX0_status_257 : decode cX0_status 257 = .ok (.aload_n 0, 1) := dk_42 (dk_at dksX0_status_8 3 rfl rfl)
theorem dX0_status_258 : decode cX0_status 258 = .ok (.getfield 188, 3) := dk_180 0 188 (dk_at dksX0_status_8 4 rfl rfl)
theorem dX0_status_261 : decode cX0_status 261 = .ok (.goto 21, 3) := dk_167 0 21 (dk_at dksX0_status_8 7 rfl rfl)
theorem dX0_status_264 : decode cX0_status 264 = .ok (.aload_n 0, 1) := dk_42 (dk_at dksX0_status_8 10 rfl rfl)
theorem dX0_status_265 : decode cX0_status 265 = .ok (.getfield 39, 3) := dk_180 0 39 (dk_at dksX0_status_8 11 rfl rfl)
theorem dX0_status_268 : decode cX0_status 268 = .ok (.getfield 462, 3) := dk_180 1 206 (dk_at dksX0_status_8 14 rfl rfl)
theorem dX0_status_271 : decode cX0_status 271 = .ok (.goto 11, 3) := dk_167 0 11 (dk_at dksX0_status_8 17 rfl rfl)
theorem dX0_status_274 : decode cX0_status 274 = .ok (.aload_n 0, 1) := dk_42 (dk_at dksX0_status_8 20 rfl rfl)
theorem dX0_status_275 : decode cX0_status 275 = .ok (.invokevirtual 481, 3) := dk_182 1 225 (dk_at dksX0_status_8 21 rfl rfl)
theorem dX0_status_278 : decode cX0_status 278 = .ok (.goto 4, 3) := dk_167 0 4 (dk_at dksX0_status_9 0 rfl rfl)
theorem dX0_status_281 : decode cX0_status 281 = .ok (.iconst (-1), 1) := dk_2 (dk_at dksX0_status_9 3 rfl rfl)
theorem dX0_status_282 : decode cX0_status 282 = .ok (.ireturn, 1) := dk_172 (dk_at dksX0_status_9 4 rfl rfl)
abbrev cX0_shelved : ByteArray := prog_1_method_69_code
def yX0_shelved : MethodName := ⟨RX0, "shelved", "()I"⟩
def dkwX0_shelved_1 : List UInt8 := [167, 0, 4, 3, 184, 1, 52, 96, 60, 132, 2, 1, 167, 255, 224, 27, 172]
abbrev dktX0_shelved_1 : List UInt8 := dkwX0_shelved_1 ++ []
def dkwX0_shelved_0 : List UInt8 := [3, 60, 3, 61, 28, 16, 8, 162, 0, 32, 27, 42, 180, 0, 56, 28, 50, 180, 0, 110, 198, 0, 7, 4]
abbrev dktX0_shelved_0 : List UInt8 := dkwX0_shelved_0 ++ dktX0_shelved_1
theorem dksX0_shelved_0 : cX0_shelved.data.toList.drop 0 = dktX0_shelved_0 := by decide +kernel
theorem dksX0_shelved_1 : cX0_shelved.data.toList.drop 24 = dktX0_shelved_1 := dk_seg dksX0_shelved_0 24 rfl rfl
theorem dX0_shelved_0 : decode cX0_shelved 0 = .ok (.iconst 0, 1) := dk_3 (dk_at dksX0_shelved_0 0 rfl rfl)
theorem dX0_shelved_1 : decode cX0_shelved 1 = .ok (.istore_n 1, 1) := dk_60 (dk_at dksX0_shelved_0 1 rfl rfl)
theorem dX0_shelved_2 : decode cX0_shelved 2 = .ok (.iconst 0, 1) := dk_3 (dk_at dksX0_shelved_0 2 rfl rfl)
theorem dX0_shelved_3 : decode cX0_shelved 3 = .ok (.istore_n 2, 1) := dk_61 (dk_at dksX0_shelved_0 3 rfl rfl)
theorem dX0_shelved_4 : decode cX0_shelved 4 = .ok (.iload_n 2, 1) := dk_28 (dk_at dksX0_shelved_0 4 rfl rfl)
theorem dX0_shelved_5 : decode cX0_shelved 5 = .ok (.bipush 8, 2) := dk_16 8 (dk_at dksX0_shelved_0 5 rfl rfl)
theorem dX0_shelved_7 : decode cX0_shelved 7 = .ok (.if_icmp .ge 32, 3) := dk_162 0 32 (dk_at dksX0_shelved_0 7 rfl rfl)
theorem dX0_shelved_10 : decode cX0_shelved 10 = .ok (.iload_n 1, 1) := dk_27 (dk_at dksX0_shelved_0 10 rfl rfl)
theorem dX0_shelved_11 : decode cX0_shelved 11 = .ok (.aload_n 0, 1) := dk_42 (dk_at dksX0_shelved_0 11 rfl rfl)
theorem dX0_shelved_12 : decode cX0_shelved 12 = .ok (.getfield 56, 3) := dk_180 0 56 (dk_at dksX0_shelved_0 12 rfl rfl)
theorem dX0_shelved_15 : decode cX0_shelved 15 = .ok (.iload_n 2, 1) := dk_28 (dk_at dksX0_shelved_0 15 rfl rfl)
theorem dX0_shelved_16 : decode cX0_shelved 16 = .ok (.aaload, 1) := dk_50 (dk_at dksX0_shelved_0 16 rfl rfl)
theorem dX0_shelved_17 : decode cX0_shelved 17 = .ok (.getfield 110, 3) := dk_180 0 110 (dk_at dksX0_shelved_0 17 rfl rfl)
theorem dX0_shelved_20 : decode cX0_shelved 20 = .ok (.ifnull 7, 3) := dk_198 0 7 (dk_at dksX0_shelved_0 20 rfl rfl)
theorem dX0_shelved_23 : decode cX0_shelved 23 = .ok (.iconst 1, 1) := dk_4 (dk_at dksX0_shelved_0 23 rfl rfl)
theorem dX0_shelved_24 : decode cX0_shelved 24 = .ok (.goto 4, 3) := dk_167 0 4 (dk_at dksX0_shelved_1 0 rfl rfl)
theorem dX0_shelved_27 : decode cX0_shelved 27 = .ok (.iconst 0, 1) := dk_3 (dk_at dksX0_shelved_1 3 rfl rfl)
theorem dX0_shelved_28 : decode cX0_shelved 28 = .ok (.invokestatic 308, 3) := dk_184 1 52 (dk_at dksX0_shelved_1 4 rfl rfl)
theorem dX0_shelved_31 : decode cX0_shelved 31 = .ok (.iadd, 1) := dk_96 (dk_at dksX0_shelved_1 7 rfl rfl)
theorem dX0_shelved_32 : decode cX0_shelved 32 = .ok (.istore_n 1, 1) := dk_60 (dk_at dksX0_shelved_1 8 rfl rfl)
theorem dX0_shelved_33 : decode cX0_shelved 33 = .ok (.iinc 2 1, 3) := dk_132 2 1 (dk_at dksX0_shelved_1 9 rfl rfl)
theorem dX0_shelved_36 : decode cX0_shelved 36 = .ok (.goto (-32), 3) := dk_167 255 224 (dk_at dksX0_shelved_1 12 rfl rfl)
theorem dX0_shelved_39 : decode cX0_shelved 39 = .ok (.iload_n 1, 1) := dk_27 (dk_at dksX0_shelved_1 15 rfl rfl)
theorem dX0_shelved_40 : decode cX0_shelved 40 = .ok (.ireturn, 1) := dk_172 (dk_at dksX0_shelved_1 16 rfl rfl)
theorem q77 : (Jvm.Cond.initialized "KeptLight") ∈ lw_all := lw_g (lw_at lw_m1 1 rfl) rfl
theorem q162 : (Jvm.Cond.instantiable "KeptLight" (8 : Nat)) ∈ lw_all := lw_g (lw_at lw_m1 86 rfl) rfl
theorem q164 : (Jvm.Cond.instanceMethod ({ cls := "KeptLight", name := "<init>", desc := "()V" } : Jvm.MethodName)) ∈ lw_all := lw_g (lw_at lw_m1 88 rfl) rfl
theorem q165 : (Jvm.Cond.code ({ cls := "KeptLight", name := "<init>", desc := "()V" } : Jvm.MethodName) prog_1_method_6_code (2 : Nat) (Option.none : Option Jvm.ClassFile.FieldType)) ∈ lw_all := lw_g (lw_at lw_m1 89 rfl) rfl
theorem q166 : (Jvm.Cond.methodLink "KeptLight" (31 : Nat) ({ cls := "java/lang/Object", name := "<init>", desc := "()V" } : Jvm.MethodName)) ∈ lw_all := lw_g (lw_at lw_m1 90 rfl) rfl
theorem q169 : (Jvm.Cond.classLink "KeptLight" (36 : Nat) "KeptLight$World") ∈ lw_all := lw_g (lw_at lw_m1 93 rfl) rfl
theorem q171 : (Jvm.Cond.methodLink "KeptLight" (38 : Nat) ({ cls := "KeptLight$World", name := "<init>", desc := "()V" } : Jvm.MethodName)) ∈ lw_all := lw_g (lw_at lw_m1 95 rfl) rfl
theorem q691 : (Jvm.Cond.fieldLink "KeptLight" (72 : Nat) "KeptLight$World" "keepers" "Ljava/util/ArrayList;") ∈ lw_all := lw_g (lw_at lw_m3 135 rfl) rfl
theorem q693 : (Jvm.Cond.fieldLink "KeptLight" (242 : Nat) "KeptLight$World" "plan" "[I") ∈ lw_all := lw_g (lw_at lw_m3 137 rfl) rfl
theorem q695 : (Jvm.Cond.fieldLink "KeptLight" (82 : Nat) "KeptLight$World" "ships" "Ljava/util/ArrayList;") ∈ lw_all := lw_g (lw_at lw_m3 139 rfl) rfl
theorem q699 : (Jvm.Cond.fieldLink "KeptLight" (346 : Nat) "KeptLight$World" "log" "Ljava/util/ArrayList;") ∈ lw_all := lw_g (lw_at lw_m3 143 rfl) rfl
theorem q701 : (Jvm.Cond.fieldLink "KeptLight" (206 : Nat) "KeptLight$World" "sky" "Ljava/util/ArrayList;") ∈ lw_all := lw_g (lw_at lw_m3 145 rfl) rfl
theorem q704 : (Jvm.Cond.fieldLink "KeptLight" (376 : Nat) "KeptLight$World" "unlitHours" "Ljava/util/BitSet;") ∈ lw_all := lw_g (lw_at lw_m3 148 rfl) rfl
theorem q706 : (Jvm.Cond.fieldLink "KeptLight" (266 : Nat) "KeptLight$World" "hour" "I") ∈ lw_all := lw_g (lw_at lw_m3 150 rfl) rfl
theorem q708 : (Jvm.Cond.fieldLink "KeptLight" (263 : Nat) "KeptLight$World" "told" "[I") ∈ lw_all := lw_g (lw_at lw_m3 152 rfl) rfl
theorem q710 : (Jvm.Cond.fieldLink "KeptLight" (271 : Nat) "KeptLight$World" "boat" "[I") ∈ lw_all := lw_g (lw_at lw_m3 154 rfl) rfl
theorem q712 : (Jvm.Cond.fieldLink "KeptLight" (475 : Nat) "KeptLight$World" "isLit" "Z") ∈ lw_all := lw_g (lw_at lw_m3 156 rfl) rfl
theorem q714 : (Jvm.Cond.fieldLink "KeptLight" (478 : Nat) "KeptLight$World" "untended" "I") ∈ lw_all := lw_g (lw_at lw_m3 158 rfl) rfl
theorem q716 : (Jvm.Cond.fieldLink "KeptLight" (456 : Nat) "KeptLight$World" "unlit" "I") ∈ lw_all := lw_g (lw_at lw_m3 160 rfl) rfl
theorem q718 : (Jvm.Cond.fieldLink "KeptLight" (397 : Nat) "KeptLight$World" "boats" "I") ∈ lw_all := lw_g (lw_at lw_m3 162 rfl) rfl
theorem q720 : (Jvm.Cond.fieldLink "KeptLight" (462 : Nat) "KeptLight$World" "seed" "I") ∈ lw_all := lw_g (lw_at lw_m3 164 rfl) rfl
theorem q723 : (Jvm.Cond.fieldLink "KeptLight" (389 : Nat) "KeptLight$World" "misses" "I") ∈ lw_all := lw_g (lw_at lw_m3 167 rfl) rfl
theorem q725 : (Jvm.Cond.fieldLink "KeptLight" (392 : Nat) "KeptLight$World" "wrecks" "I") ∈ lw_all := lw_g (lw_at lw_m3 169 rfl) rfl
theorem q773 : (Jvm.Cond.methodLink "KeptLight" (48 : Nat) ({ cls := "KeptLight$World", name := "<init>", desc := "(LKeptLight$World;)V" } : Jvm.MethodName)) ∈ lw_all := lw_g (lw_at lw_m3 217 rfl) rfl
theorem q776 : (Jvm.Cond.classLink "KeptLight" (54 : Nat) "KeptLight$Sheet") ∈ lw_all := lw_g (lw_at lw_m3 220 rfl) rfl
theorem q779 : (Jvm.Cond.methodLinkNest "KeptLight" (67 : Nat) ({ cls := "KeptLight$Sheet", name := "<init>", desc := "()V" } : Jvm.MethodName) "KeptLight") ∈ lw_tbl := lw_at lw_m3 223 rfl
theorem q783 : (Jvm.Cond.fieldLink "KeptLight" (110 : Nat) "KeptLight$Sheet" "held" "Ljava/lang/Object;") ∈ lw_all := lw_g (lw_at lw_m3 227 rfl) rfl
theorem q787 : (Jvm.Cond.fieldLink "KeptLight" (39 : Nat) "KeptLight" "now" "LKeptLight$World;") ∈ lw_all := lw_g (lw_at lw_m3 231 rfl) rfl
theorem q788 : (Jvm.Cond.fieldLink "KeptLight" (45 : Nat) "KeptLight" "kept" "LKeptLight$World;") ∈ lw_all := lw_g (lw_at lw_m3 232 rfl) rfl
theorem q789 : (Jvm.Cond.fieldLink "KeptLight" (51 : Nat) "KeptLight" "mind" "LKeptLight$World;") ∈ lw_all := lw_g (lw_at lw_m3 233 rfl) rfl
theorem q790 : (Jvm.Cond.fieldLink "KeptLight" (468 : Nat) "KeptLight" "isKept" "Z") ∈ lw_all := lw_g (lw_at lw_m3 234 rfl) rfl
theorem q791 : (Jvm.Cond.fieldLink "KeptLight" (56 : Nat) "KeptLight" "shelves" "[LKeptLight$Sheet;") ∈ lw_all := lw_g (lw_at lw_m3 235 rfl) rfl
theorem q793 : (Jvm.Cond.fieldLink "KeptLight" (60 : Nat) "KeptLight" "tape" "[I") ∈ lw_all := lw_g (lw_at lw_m3 237 rfl) rfl
theorem q795 : (Jvm.Cond.fieldLink "KeptLight" (188 : Nat) "KeptLight" "size" "I") ∈ lw_all := lw_g (lw_at lw_m3 239 rfl) rfl
theorem q796 : (Jvm.Cond.fieldLink "KeptLight" (64 : Nat) "KeptLight" "refused" "[I") ∈ lw_all := lw_g (lw_at lw_m4 0 rfl) rfl
theorem q797 : (Jvm.Cond.laysFinal "KeptLight" "KeptLight" "now" "LKeptLight$World;") ∈ lw_all := lw_g (lw_at lw_m4 1 rfl) rfl
theorem q798 : (Jvm.Cond.soleField "KeptLight" "now") ∈ lw_all := lw_g (lw_at lw_m4 2 rfl) rfl
theorem q799 : (Jvm.Cond.laysFinal "KeptLight" "KeptLight" "kept" "LKeptLight$World;") ∈ lw_all := lw_g (lw_at lw_m4 3 rfl) rfl
theorem q800 : (Jvm.Cond.soleField "KeptLight" "kept") ∈ lw_all := lw_g (lw_at lw_m4 4 rfl) rfl
theorem q801 : (Jvm.Cond.laysFinal "KeptLight" "KeptLight" "mind" "LKeptLight$World;") ∈ lw_all := lw_g (lw_at lw_m4 5 rfl) rfl
theorem q802 : (Jvm.Cond.soleField "KeptLight" "mind") ∈ lw_all := lw_g (lw_at lw_m4 6 rfl) rfl
theorem q803 : (Jvm.Cond.lays "KeptLight" "KeptLight" "isKept" "Z") ∈ lw_all := lw_g (lw_at lw_m4 7 rfl) rfl
theorem q804 : (Jvm.Cond.soleField "KeptLight" "isKept") ∈ lw_all := lw_g (lw_at lw_m4 8 rfl) rfl
theorem q805 : (Jvm.Cond.laysFinal "KeptLight" "KeptLight" "shelves" "[LKeptLight$Sheet;") ∈ lw_all := lw_g (lw_at lw_m4 9 rfl) rfl
theorem q806 : (Jvm.Cond.soleField "KeptLight" "shelves") ∈ lw_all := lw_g (lw_at lw_m4 10 rfl) rfl
theorem q807 : (Jvm.Cond.laysFinal "KeptLight" "KeptLight" "tape" "[I") ∈ lw_all := lw_g (lw_at lw_m4 11 rfl) rfl
theorem q808 : (Jvm.Cond.soleField "KeptLight" "tape") ∈ lw_all := lw_g (lw_at lw_m4 12 rfl) rfl
theorem q809 : (Jvm.Cond.lays "KeptLight" "KeptLight" "size" "I") ∈ lw_all := lw_g (lw_at lw_m4 13 rfl) rfl
theorem q810 : (Jvm.Cond.soleField "KeptLight" "size") ∈ lw_all := lw_g (lw_at lw_m4 14 rfl) rfl
theorem q811 : (Jvm.Cond.laysFinal "KeptLight" "KeptLight" "refused" "[I") ∈ lw_all := lw_g (lw_at lw_m4 15 rfl) rfl
theorem q812 : (Jvm.Cond.soleField "KeptLight" "refused") ∈ lw_all := lw_g (lw_at lw_m4 16 rfl) rfl
theorem q813 : (Jvm.Cond.superclass "KeptLight" "java/lang/Object") ∈ lw_all := lw_g (lw_at lw_m4 17 rfl) rfl
theorem q815 : (Jvm.Cond.instanceMethod ({ cls := "KeptLight", name := "row", desc := "(III)I" } : Jvm.MethodName)) ∈ lw_all := lw_g (lw_at lw_m4 19 rfl) rfl
theorem q816 : (Jvm.Cond.selects "KeptLight" ({ cls := "KeptLight", name := "row", desc := "(III)I" } : Jvm.MethodName) ({ cls := "KeptLight", name := "row", desc := "(III)I" } : Jvm.MethodName)) ∈ lw_all := lw_g (lw_at lw_m4 20 rfl) rfl
theorem q817 : (Jvm.Cond.codeWith ({ cls := "KeptLight", name := "row", desc := "(III)I" } : Jvm.MethodName) prog_1_method_16_code (5 : Nat) (Option.some Jvm.ClassFile.FieldType.int) [((29 : Nat), (43 : Nat), (46 : Nat), (114 : Nat))]) ∈ lw_all := lw_g (lw_at lw_m4 21 rfl) rfl
theorem q818 : (Jvm.Cond.classLink "KeptLight" (114 : Nat) "java/lang/NegativeArraySizeException") ∈ lw_all := lw_g (lw_at lw_m4 22 rfl) rfl
theorem q819 : (Jvm.Cond.methodLink "KeptLight" (98 : Nat) ({ cls := "KeptLight", name := "isShelf", desc := "(I)Z" } : Jvm.MethodName)) ∈ lw_all := lw_g (lw_at lw_m4 23 rfl) rfl
theorem q820 : (Jvm.Cond.static ({ cls := "KeptLight", name := "isShelf", desc := "(I)Z" } : Jvm.MethodName)) ∈ lw_all := lw_g (lw_at lw_m4 24 rfl) rfl
theorem q821 : (Jvm.Cond.code ({ cls := "KeptLight", name := "isShelf", desc := "(I)Z" } : Jvm.MethodName) prog_1_method_8_code (1 : Nat) (Option.some Jvm.ClassFile.FieldType.boolean)) ∈ lw_all := lw_g (lw_at lw_m4 25 rfl) rfl
theorem q822 : (Jvm.Cond.methodLink "KeptLight" (68 : Nat) ({ cls := "KeptLight", name := "isIn", desc := "(III)Z" } : Jvm.MethodName)) ∈ lw_all := lw_g (lw_at lw_m4 26 rfl) rfl
theorem q823 : (Jvm.Cond.static ({ cls := "KeptLight", name := "isIn", desc := "(III)Z" } : Jvm.MethodName)) ∈ lw_all := lw_g (lw_at lw_m4 27 rfl) rfl
theorem q824 : (Jvm.Cond.code ({ cls := "KeptLight", name := "isIn", desc := "(III)Z" } : Jvm.MethodName) prog_1_method_1_code (3 : Nat) (Option.some Jvm.ClassFile.FieldType.boolean)) ∈ lw_all := lw_g (lw_at lw_m4 28 rfl) rfl
theorem q825 : (Jvm.Cond.methodLink "KeptLight" (102 : Nat) ({ cls := "KeptLight", name := "no", desc := "(I)I" } : Jvm.MethodName)) ∈ lw_all := lw_g (lw_at lw_m4 29 rfl) rfl
theorem q826 : (Jvm.Cond.privateMethod ({ cls := "KeptLight", name := "no", desc := "(I)I" } : Jvm.MethodName)) ∈ lw_tbl := lw_at lw_m4 30 rfl
theorem q827 : (Jvm.Cond.instanceMethod ({ cls := "KeptLight", name := "no", desc := "(I)I" } : Jvm.MethodName)) ∈ lw_all := lw_g (lw_at lw_m4 31 rfl) rfl
theorem q828 : (Jvm.Cond.code ({ cls := "KeptLight", name := "no", desc := "(I)I" } : Jvm.MethodName) prog_1_method_7_code (2 : Nat) (Option.some Jvm.ClassFile.FieldType.int)) ∈ lw_all := lw_g (lw_at lw_m4 32 rfl) rfl
theorem q829 : (Jvm.Cond.methodLink "KeptLight" (106 : Nat) ({ cls := "KeptLight", name := "rowOf", desc := "(II)Ljava/lang/Object;" } : Jvm.MethodName)) ∈ lw_all := lw_g (lw_at lw_m4 33 rfl) rfl
theorem q830 : (Jvm.Cond.static ({ cls := "KeptLight", name := "rowOf", desc := "(II)Ljava/lang/Object;" } : Jvm.MethodName)) ∈ lw_all := lw_g (lw_at lw_m4 34 rfl) rfl
theorem q831 : (Jvm.Cond.code ({ cls := "KeptLight", name := "rowOf", desc := "(II)Ljava/lang/Object;" } : Jvm.MethodName) prog_1_method_12_code (2 : Nat) (Option.some (Jvm.ClassFile.FieldType.object "java/lang/Object"))) ∈ lw_all := lw_g (lw_at lw_m4 35 rfl) rfl
theorem q835 : (Jvm.Cond.instanceMethod ({ cls := "KeptLight", name := "set", desc := "(IIJ)I" } : Jvm.MethodName)) ∈ lw_all := lw_g (lw_at lw_m4 39 rfl) rfl
theorem q836 : (Jvm.Cond.selects "KeptLight" ({ cls := "KeptLight", name := "set", desc := "(IIJ)I" } : Jvm.MethodName) ({ cls := "KeptLight", name := "set", desc := "(IIJ)I" } : Jvm.MethodName)) ∈ lw_all := lw_g (lw_at lw_m4 40 rfl) rfl
theorem q837 : (Jvm.Cond.codeWith ({ cls := "KeptLight", name := "set", desc := "(IIJ)I" } : Jvm.MethodName) prog_1_method_18_code (6 : Nat) (Option.some Jvm.ClassFile.FieldType.int) [((14 : Nat), (25 : Nat), (26 : Nat), (118 : Nat)), ((14 : Nat), (25 : Nat), (38 : Nat), (135 : Nat))]) ∈ lw_all := lw_g (lw_at lw_m4 41 rfl) rfl
theorem q838 : (Jvm.Cond.classLink "KeptLight" (118 : Nat) "KeptLight$Refused") ∈ lw_all := lw_g (lw_at lw_m4 42 rfl) rfl
theorem q839 : (Jvm.Cond.classLink "KeptLight" (135 : Nat) "java/lang/ArrayIndexOutOfBoundsException") ∈ lw_all := lw_g (lw_at lw_m4 43 rfl) rfl
theorem q858 : (Jvm.Cond.methodLink "KeptLight" (123 : Nat) ({ cls := "KeptLight", name := "rowIn", desc := "(I)Ljava/lang/Object;" } : Jvm.MethodName)) ∈ lw_all := lw_g (lw_at lw_m4 62 rfl) rfl
theorem q859 : (Jvm.Cond.privateMethod ({ cls := "KeptLight", name := "rowIn", desc := "(I)Ljava/lang/Object;" } : Jvm.MethodName)) ∈ lw_tbl := lw_at lw_m4 63 rfl
theorem q860 : (Jvm.Cond.instanceMethod ({ cls := "KeptLight", name := "rowIn", desc := "(I)Ljava/lang/Object;" } : Jvm.MethodName)) ∈ lw_all := lw_g (lw_at lw_m4 64 rfl) rfl
theorem q861 : (Jvm.Cond.code ({ cls := "KeptLight", name := "rowIn", desc := "(I)Ljava/lang/Object;" } : Jvm.MethodName) prog_1_method_17_code (3 : Nat) (Option.some (Jvm.ClassFile.FieldType.object "java/lang/Object"))) ∈ lw_all := lw_g (lw_at lw_m4 65 rfl) rfl
theorem q862 : (Jvm.Cond.classLink "KeptLight" (116 : Nat) "KeptLight$Ship") ∈ lw_all := lw_g (lw_at lw_m4 66 rfl) rfl
theorem q871 : (Jvm.Cond.methodLink "KeptLight" (120 : Nat) ({ cls := "KeptLight$Refused", name := "<init>", desc := "(I)V" } : Jvm.MethodName)) ∈ lw_all := lw_g (lw_at lw_m4 75 rfl) rfl
theorem q884 : (Jvm.Cond.fieldLink "KeptLight" (131 : Nat) "KeptLight$Refused" "by" "I") ∈ lw_all := lw_g (lw_at lw_m4 88 rfl) rfl
theorem q889 : (Jvm.Cond.methodLink "KeptLight" (127 : Nat) ({ cls := "KeptLight", name := "puts", desc := "(Ljava/lang/Object;IJ)V" } : Jvm.MethodName)) ∈ lw_all := lw_g (lw_at lw_m4 93 rfl) rfl
theorem q890 : (Jvm.Cond.static ({ cls := "KeptLight", name := "puts", desc := "(Ljava/lang/Object;IJ)V" } : Jvm.MethodName)) ∈ lw_all := lw_g (lw_at lw_m4 94 rfl) rfl
theorem q891 : (Jvm.Cond.code ({ cls := "KeptLight", name := "puts", desc := "(Ljava/lang/Object;IJ)V" } : Jvm.MethodName) prog_1_method_15_code (4 : Nat) (Option.none : Option Jvm.ClassFile.FieldType)) ∈ lw_all := lw_g (lw_at lw_m4 95 rfl) rfl
theorem q892 : (Jvm.Cond.methodLink "KeptLight" (92 : Nat) ({ cls := "KeptLight", name := "sortOf", desc := "(Ljava/lang/Object;)I" } : Jvm.MethodName)) ∈ lw_all := lw_g (lw_at lw_m4 96 rfl) rfl
theorem q893 : (Jvm.Cond.static ({ cls := "KeptLight", name := "sortOf", desc := "(Ljava/lang/Object;)I" } : Jvm.MethodName)) ∈ lw_all := lw_g (lw_at lw_m4 97 rfl) rfl
theorem q894 : (Jvm.Cond.code ({ cls := "KeptLight", name := "sortOf", desc := "(Ljava/lang/Object;)I" } : Jvm.MethodName) prog_1_method_13_code (1 : Nat) (Option.some Jvm.ClassFile.FieldType.int)) ∈ lw_all := lw_g (lw_at lw_m4 98 rfl) rfl
theorem q895 : (Jvm.Cond.classLink "KeptLight" (85 : Nat) "[B") ∈ lw_all := lw_g (lw_at lw_m4 99 rfl) rfl
theorem q896 : (Jvm.Cond.classLink "KeptLight" (87 : Nat) "[S") ∈ lw_all := lw_g (lw_at lw_m4 100 rfl) rfl
theorem q897 : (Jvm.Cond.classLink "KeptLight" (89 : Nat) "[I") ∈ lw_all := lw_g (lw_at lw_m4 101 rfl) rfl
theorem q898 : (Jvm.Cond.classLink "KeptLight" (90 : Nat) "[J") ∈ lw_all := lw_g (lw_at lw_m4 102 rfl) rfl
theorem q899 : (Jvm.Cond.classLink "KeptLight" (96 : Nat) "[Z") ∈ lw_all := lw_g (lw_at lw_m4 103 rfl) rfl
theorem q901 : (Jvm.Cond.instanceMethod ({ cls := "KeptLight", name := "copy", desc := "(IIIII)I" } : Jvm.MethodName)) ∈ lw_all := lw_g (lw_at lw_m4 105 rfl) rfl
theorem q902 : (Jvm.Cond.selects "KeptLight" ({ cls := "KeptLight", name := "copy", desc := "(IIIII)I" } : Jvm.MethodName) ({ cls := "KeptLight", name := "copy", desc := "(IIIII)I" } : Jvm.MethodName)) ∈ lw_all := lw_g (lw_at lw_m4 106 rfl) rfl
theorem q903 : (Jvm.Cond.codeWith ({ cls := "KeptLight", name := "copy", desc := "(IIIII)I" } : Jvm.MethodName) prog_1_method_19_code (9 : Nat) (Option.some Jvm.ClassFile.FieldType.int) [((66 : Nat), (80 : Nat), (81 : Nat), (143 : Nat)), ((66 : Nat), (80 : Nat), (90 : Nat), (145 : Nat)), ((66 : Nat), (80 : Nat), (99 : Nat), (147 : Nat))]) ∈ lw_all := lw_g (lw_at lw_m4 107 rfl) rfl
theorem q904 : (Jvm.Cond.classLink "KeptLight" (143 : Nat) "java/lang/NullPointerException") ∈ lw_all := lw_g (lw_at lw_m4 108 rfl) rfl
theorem q923 : (Jvm.Cond.classLink "KeptLight" (145 : Nat) "java/lang/ArrayStoreException") ∈ lw_all := lw_g (lw_at lw_m4 127 rfl) rfl
theorem q937 : (Jvm.Cond.classLink "KeptLight" (147 : Nat) "java/lang/IndexOutOfBoundsException") ∈ lw_all := lw_g (lw_at lw_m4 141 rfl) rfl
theorem q938 : (Jvm.Cond.methodLink "KeptLight" (137 : Nat) ({ cls := "java/lang/System", name := "arraycopy", desc := "(Ljava/lang/Object;ILjava/lang/Object;II)V" } : Jvm.MethodName)) ∈ lw_all := lw_g (lw_at lw_m4 142 rfl) rfl
theorem q940 : (Jvm.Cond.instanceMethod ({ cls := "KeptLight", name := "element", desc := "(II)J" } : Jvm.MethodName)) ∈ lw_all := lw_g (lw_at lw_m4 144 rfl) rfl
theorem q941 : (Jvm.Cond.selects "KeptLight" ({ cls := "KeptLight", name := "element", desc := "(II)J" } : Jvm.MethodName) ({ cls := "KeptLight", name := "element", desc := "(II)J" } : Jvm.MethodName)) ∈ lw_all := lw_g (lw_at lw_m4 145 rfl) rfl
theorem q942 : (Jvm.Cond.codeWith ({ cls := "KeptLight", name := "element", desc := "(II)J" } : Jvm.MethodName) prog_1_method_20_code (4 : Nat) (Option.some Jvm.ClassFile.FieldType.long) [((9 : Nat), (18 : Nat), (19 : Nat), (118 : Nat)), ((9 : Nat), (18 : Nat), (22 : Nat), (135 : Nat))]) ∈ lw_all := lw_g (lw_at lw_m4 146 rfl) rfl
theorem q943 : (Jvm.Cond.methodLink "KeptLight" (149 : Nat) ({ cls := "KeptLight", name := "elementOf", desc := "(Ljava/lang/Object;I)J" } : Jvm.MethodName)) ∈ lw_all := lw_g (lw_at lw_m4 147 rfl) rfl
theorem q944 : (Jvm.Cond.static ({ cls := "KeptLight", name := "elementOf", desc := "(Ljava/lang/Object;I)J" } : Jvm.MethodName)) ∈ lw_all := lw_g (lw_at lw_m4 148 rfl) rfl
theorem q945 : (Jvm.Cond.code ({ cls := "KeptLight", name := "elementOf", desc := "(Ljava/lang/Object;I)J" } : Jvm.MethodName) prog_1_method_14_code (2 : Nat) (Option.some Jvm.ClassFile.FieldType.long)) ∈ lw_all := lw_g (lw_at lw_m4 149 rfl) rfl
theorem q947 : (Jvm.Cond.instanceMethod ({ cls := "KeptLight", name := "holds", desc := "(I)I" } : Jvm.MethodName)) ∈ lw_all := lw_g (lw_at lw_m4 151 rfl) rfl
theorem q948 : (Jvm.Cond.selects "KeptLight" ({ cls := "KeptLight", name := "holds", desc := "(I)I" } : Jvm.MethodName) ({ cls := "KeptLight", name := "holds", desc := "(I)I" } : Jvm.MethodName)) ∈ lw_all := lw_g (lw_at lw_m4 152 rfl) rfl
theorem q949 : (Jvm.Cond.code ({ cls := "KeptLight", name := "holds", desc := "(I)I" } : Jvm.MethodName) prog_1_method_21_code (3 : Nat) (Option.some Jvm.ClassFile.FieldType.int)) ∈ lw_all := lw_g (lw_at lw_m4 153 rfl) rfl
theorem q951 : (Jvm.Cond.instanceMethod ({ cls := "KeptLight", name := "show", desc := "(II)I" } : Jvm.MethodName)) ∈ lw_all := lw_g (lw_at lw_m4 155 rfl) rfl
theorem q952 : (Jvm.Cond.selects "KeptLight" ({ cls := "KeptLight", name := "show", desc := "(II)I" } : Jvm.MethodName) ({ cls := "KeptLight", name := "show", desc := "(II)I" } : Jvm.MethodName)) ∈ lw_all := lw_g (lw_at lw_m4 156 rfl) rfl
theorem q953 : (Jvm.Cond.code ({ cls := "KeptLight", name := "show", desc := "(II)I" } : Jvm.MethodName) prog_1_method_22_code (3 : Nat) (Option.some Jvm.ClassFile.FieldType.int)) ∈ lw_all := lw_g (lw_at lw_m4 157 rfl) rfl
theorem q954 : (Jvm.Cond.methodLink "KeptLight" (156 : Nat) ({ cls := "KeptLight", name := "isShip", desc := "(I)Z" } : Jvm.MethodName)) ∈ lw_all := lw_g (lw_at lw_m4 158 rfl) rfl
theorem q955 : (Jvm.Cond.privateMethod ({ cls := "KeptLight", name := "isShip", desc := "(I)Z" } : Jvm.MethodName)) ∈ lw_tbl := lw_at lw_m4 159 rfl
theorem q956 : (Jvm.Cond.instanceMethod ({ cls := "KeptLight", name := "isShip", desc := "(I)Z" } : Jvm.MethodName)) ∈ lw_all := lw_g (lw_at lw_m4 160 rfl) rfl
theorem q957 : (Jvm.Cond.code ({ cls := "KeptLight", name := "isShip", desc := "(I)Z" } : Jvm.MethodName) prog_1_method_10_code (2 : Nat) (Option.some Jvm.ClassFile.FieldType.boolean)) ∈ lw_all := lw_g (lw_at lw_m4 161 rfl) rfl
theorem q958 : (Jvm.Cond.methodLink "KeptLight" (76 : Nat) ({ cls := "java/util/ArrayList", name := "size", desc := "()I" } : Jvm.MethodName)) ∈ lw_all := lw_g (lw_at lw_m4 162 rfl) rfl
theorem q962 : (Jvm.Cond.methodLink "KeptLight" (159 : Nat) ({ cls := "java/util/ArrayList", name := "get", desc := "(I)Ljava/lang/Object;" } : Jvm.MethodName)) ∈ lw_all := lw_g (lw_at lw_m4 166 rfl) rfl
theorem q977 : (Jvm.Cond.instanceMethod ({ cls := "KeptLight", name := "says", desc := "(II)I" } : Jvm.MethodName)) ∈ lw_all := lw_g (lw_at lw_m4 181 rfl) rfl
theorem q978 : (Jvm.Cond.selects "KeptLight" ({ cls := "KeptLight", name := "says", desc := "(II)I" } : Jvm.MethodName) ({ cls := "KeptLight", name := "says", desc := "(II)I" } : Jvm.MethodName)) ∈ lw_all := lw_g (lw_at lw_m4 182 rfl) rfl
theorem q979 : (Jvm.Cond.codeWith ({ cls := "KeptLight", name := "says", desc := "(II)I" } : Jvm.MethodName) prog_1_method_23_code (5 : Nat) (Option.some Jvm.ClassFile.FieldType.int) [((45 : Nat), (165 : Nat), (166 : Nat), (186 : Nat))]) ∈ lw_all := lw_g (lw_at lw_m4 183 rfl) rfl
theorem q980 : (Jvm.Cond.classLink "KeptLight" (186 : Nat) "java/lang/ClassCastException") ∈ lw_all := lw_g (lw_at lw_m4 184 rfl) rfl
theorem q994 : (Jvm.Cond.classLink "KeptLight" (165 : Nat) "KeptLight$Small") ∈ lw_all := lw_g (lw_at lw_m4 198 rfl) rfl
theorem q995 : (Jvm.Cond.methodLink "KeptLight" (167 : Nat) ({ cls := "KeptLight$Small", name := "lacksInStorm", desc := "()I" } : Jvm.MethodName)) ∈ lw_all := lw_g (lw_at lw_m4 199 rfl) rfl
theorem q1031 : (Jvm.Cond.static ({ cls := "KeptLight", name := "one", desc := "(Z)I" } : Jvm.MethodName)) ∈ lw_all := lw_g (lw_at lw_m4 235 rfl) rfl
theorem q1032 : (Jvm.Cond.code ({ cls := "KeptLight", name := "one", desc := "(Z)I" } : Jvm.MethodName) prog_1_method_2_code (1 : Nat) (Option.some Jvm.ClassFile.FieldType.int)) ∈ lw_all := lw_g (lw_at lw_m4 236 rfl) rfl
theorem q1068 : (Jvm.Cond.classLink "KeptLight" (170 : Nat) "KeptLight$Great") ∈ lw_all := lw_g (lw_at lw_m5 32 rfl) rfl
theorem q1069 : (Jvm.Cond.methodLink "KeptLight" (172 : Nat) ({ cls := "KeptLight$Great", name := "lacksInFog", desc := "()I" } : Jvm.MethodName)) ∈ lw_all := lw_g (lw_at lw_m5 33 rfl) rfl
theorem q1085 : (Jvm.Cond.classLink "KeptLight" (1 : Nat) "KeptLight$Fisher") ∈ lw_all := lw_g (lw_at lw_m5 49 rfl) rfl
theorem q1086 : (Jvm.Cond.classLink "KeptLight" (7 : Nat) "KeptLight$Pilot") ∈ lw_all := lw_g (lw_at lw_m5 50 rfl) rfl
theorem q1087 : (Jvm.Cond.classLink "KeptLight" (10 : Nat) "KeptLight$Coaster") ∈ lw_all := lw_g (lw_at lw_m5 51 rfl) rfl
theorem q1088 : (Jvm.Cond.classLink "KeptLight" (13 : Nat) "KeptLight$Liner") ∈ lw_all := lw_g (lw_at lw_m5 52 rfl) rfl
theorem q1089 : (Jvm.Cond.classLink "KeptLight" (16 : Nat) "KeptLight$Mail") ∈ lw_all := lw_g (lw_at lw_m5 53 rfl) rfl
theorem q1090 : (Jvm.Cond.methodLink "KeptLight" (183 : Nat) ({ cls := "KeptLight$Mail", name := "isWreck", desc := "()I" } : Jvm.MethodName)) ∈ lw_all := lw_g (lw_at lw_m5 54 rfl) rfl
theorem q1095 : (Jvm.Cond.instanceMethod ({ cls := "KeptLight", name := "feed", desc := "(I)I" } : Jvm.MethodName)) ∈ lw_all := lw_g (lw_at lw_m5 59 rfl) rfl
theorem q1096 : (Jvm.Cond.selects "KeptLight" ({ cls := "KeptLight", name := "feed", desc := "(I)I" } : Jvm.MethodName) ({ cls := "KeptLight", name := "feed", desc := "(I)I" } : Jvm.MethodName)) ∈ lw_all := lw_g (lw_at lw_m5 60 rfl) rfl
theorem q1097 : (Jvm.Cond.code ({ cls := "KeptLight", name := "feed", desc := "(I)I" } : Jvm.MethodName) prog_1_method_24_code (2 : Nat) (Option.some Jvm.ClassFile.FieldType.int)) ∈ lw_all := lw_g (lw_at lw_m5 61 rfl) rfl
theorem q1099 : (Jvm.Cond.instanceMethod ({ cls := "KeptLight", name := "wipe", desc := "()I" } : Jvm.MethodName)) ∈ lw_all := lw_g (lw_at lw_m5 63 rfl) rfl
theorem q1100 : (Jvm.Cond.selects "KeptLight" ({ cls := "KeptLight", name := "wipe", desc := "()I" } : Jvm.MethodName) ({ cls := "KeptLight", name := "wipe", desc := "()I" } : Jvm.MethodName)) ∈ lw_all := lw_g (lw_at lw_m5 64 rfl) rfl
theorem q1101 : (Jvm.Cond.code ({ cls := "KeptLight", name := "wipe", desc := "()I" } : Jvm.MethodName) prog_1_method_25_code (2 : Nat) (Option.some Jvm.ClassFile.FieldType.int)) ∈ lw_all := lw_g (lw_at lw_m5 65 rfl) rfl
theorem q1103 : (Jvm.Cond.instanceMethod ({ cls := "KeptLight", name := "sky", desc := "()I" } : Jvm.MethodName)) ∈ lw_all := lw_g (lw_at lw_m5 67 rfl) rfl
theorem q1104 : (Jvm.Cond.selects "KeptLight" ({ cls := "KeptLight", name := "sky", desc := "()I" } : Jvm.MethodName) ({ cls := "KeptLight", name := "sky", desc := "()I" } : Jvm.MethodName)) ∈ lw_all := lw_g (lw_at lw_m5 68 rfl) rfl
theorem q1105 : (Jvm.Cond.codeWith ({ cls := "KeptLight", name := "sky", desc := "()I" } : Jvm.MethodName) prog_1_method_28_code (3 : Nat) (Option.some Jvm.ClassFile.FieldType.int) [((0 : Nat), (21 : Nat), (22 : Nat), (209 : Nat)), ((0 : Nat), (21 : Nat), (22 : Nat), (211 : Nat))]) ∈ lw_all := lw_g (lw_at lw_m5 69 rfl) rfl
theorem q1106 : (Jvm.Cond.classLink "KeptLight" (209 : Nat) "KeptLight$Fault") ∈ lw_all := lw_g (lw_at lw_m5 70 rfl) rfl
theorem q1107 : (Jvm.Cond.classLink "KeptLight" (211 : Nat) "KeptLight$Crowd") ∈ lw_all := lw_g (lw_at lw_m5 71 rfl) rfl
theorem q1108 : (Jvm.Cond.methodLink "KeptLight" (199 : Nat) ({ cls := "KeptLight", name := "read", desc := "()Ljava/util/LinkedList;" } : Jvm.MethodName)) ∈ lw_all := lw_g (lw_at lw_m5 72 rfl) rfl
theorem q1109 : (Jvm.Cond.privateMethod ({ cls := "KeptLight", name := "read", desc := "()Ljava/util/LinkedList;" } : Jvm.MethodName)) ∈ lw_tbl := lw_at lw_m5 73 rfl
theorem q1110 : (Jvm.Cond.instanceMethod ({ cls := "KeptLight", name := "read", desc := "()Ljava/util/LinkedList;" } : Jvm.MethodName)) ∈ lw_all := lw_g (lw_at lw_m5 74 rfl) rfl
theorem q1111 : (Jvm.Cond.codeWith ({ cls := "KeptLight", name := "read", desc := "()Ljava/util/LinkedList;" } : Jvm.MethodName) prog_1_method_27_code (3 : Nat) (Option.some (Jvm.ClassFile.FieldType.object "java/util/LinkedList")) [((0 : Nat), (12 : Nat), (19 : Nat), (0 : Nat))]) ∈ lw_all := lw_g (lw_at lw_m5 75 rfl) rfl
theorem q1112 : (Jvm.Cond.classLink "KeptLight" (190 : Nat) "KeptLight$Reader") ∈ lw_all := lw_g (lw_at lw_m5 76 rfl) rfl
theorem q1114 : (Jvm.Cond.methodLinkNest "KeptLight" (192 : Nat) ({ cls := "KeptLight$Reader", name := "<init>", desc := "(LKeptLight;)V" } : Jvm.MethodName) "KeptLight") ∈ lw_tbl := lw_at lw_m5 78 rfl
theorem q1125 : (Jvm.Cond.methodLink "KeptLight" (195 : Nat) ({ cls := "KeptLight$Reader", name := "spells", desc := "()Ljava/util/LinkedList;" } : Jvm.MethodName)) ∈ lw_all := lw_g (lw_at lw_m5 89 rfl) rfl
theorem q1219 : (Jvm.Cond.fieldLink "KeptLight" (216 : Nat) "KeptLight$Crowd" "place" "I") ∈ lw_all := lw_g (lw_at lw_m5 183 rfl) rfl
theorem q1244 : (Jvm.Cond.selects "KeptLight" ({ cls := "java/lang/Object", name := "getClass", desc := "()Ljava/lang/Class;" } : Jvm.MethodName) ({ cls := "java/lang/Object", name := "getClass", desc := "()Ljava/lang/Class;" } : Jvm.MethodName)) ∈ lw_all := lw_g (lw_at lw_m5 208 rfl) rfl
theorem q1361 : (Jvm.Cond.fieldLink "KeptLight" (213 : Nat) "KeptLight$Fault" "place" "I") ∈ lw_all := lw_g (lw_at lw_m6 85 rfl) rfl
theorem q1504 : (Jvm.Cond.methodLink "KeptLight" (202 : Nat) ({ cls := "KeptLight$World", name := "tells", desc := "(Ljava/util/LinkedList;)V" } : Jvm.MethodName)) ∈ lw_all := lw_g (lw_at lw_m6 228 rfl) rfl
theorem q1943 : (Jvm.Cond.methodLink "KeptLight" (217 : Nat) ({ cls := "KeptLight", name := "fault", desc := "(I)I" } : Jvm.MethodName)) ∈ lw_all := lw_g (lw_at lw_m8 187 rfl) rfl
theorem q1944 : (Jvm.Cond.privateMethod ({ cls := "KeptLight", name := "fault", desc := "(I)I" } : Jvm.MethodName)) ∈ lw_tbl := lw_at lw_m8 188 rfl
theorem q1945 : (Jvm.Cond.instanceMethod ({ cls := "KeptLight", name := "fault", desc := "(I)I" } : Jvm.MethodName)) ∈ lw_all := lw_g (lw_at lw_m8 189 rfl) rfl
theorem q1946 : (Jvm.Cond.code ({ cls := "KeptLight", name := "fault", desc := "(I)I" } : Jvm.MethodName) prog_1_method_26_code (2 : Nat) (Option.some Jvm.ClassFile.FieldType.int)) ∈ lw_all := lw_g (lw_at lw_m8 190 rfl) rfl
theorem q1948 : (Jvm.Cond.instanceMethod ({ cls := "KeptLight", name := "keeper", desc := "(I)I" } : Jvm.MethodName)) ∈ lw_all := lw_g (lw_at lw_m8 192 rfl) rfl
theorem q1949 : (Jvm.Cond.selects "KeptLight" ({ cls := "KeptLight", name := "keeper", desc := "(I)I" } : Jvm.MethodName) ({ cls := "KeptLight", name := "keeper", desc := "(I)I" } : Jvm.MethodName)) ∈ lw_all := lw_g (lw_at lw_m8 193 rfl) rfl
theorem q1950 : (Jvm.Cond.code ({ cls := "KeptLight", name := "keeper", desc := "(I)I" } : Jvm.MethodName) prog_1_method_29_code (2 : Nat) (Option.some Jvm.ClassFile.FieldType.int)) ∈ lw_all := lw_g (lw_at lw_m8 194 rfl) rfl
theorem q1951 : (Jvm.Cond.classLink "KeptLight" (220 : Nat) "KeptLight$Keeper") ∈ lw_all := lw_g (lw_at lw_m8 195 rfl) rfl
theorem q1953 : (Jvm.Cond.methodLink "KeptLight" (222 : Nat) ({ cls := "KeptLight", name := "rank", desc := "(I)LKeptLight$Rank;" } : Jvm.MethodName)) ∈ lw_all := lw_g (lw_at lw_m8 197 rfl) rfl
theorem q1954 : (Jvm.Cond.static ({ cls := "KeptLight", name := "rank", desc := "(I)LKeptLight$Rank;" } : Jvm.MethodName)) ∈ lw_all := lw_g (lw_at lw_m8 198 rfl) rfl
theorem q1955 : (Jvm.Cond.code ({ cls := "KeptLight", name := "rank", desc := "(I)LKeptLight$Rank;" } : Jvm.MethodName) prog_1_method_4_code (1 : Nat) (Option.some (Jvm.ClassFile.FieldType.object "KeptLight$Rank"))) ∈ lw_all := lw_g (lw_at lw_m8 199 rfl) rfl
theorem q1956 : (Jvm.Cond.fieldLink "KeptLight" (19 : Nat) "KeptLight$Rank" "HEAD" "LKeptLight$Rank;") ∈ lw_all := lw_g (lw_at lw_m8 200 rfl) rfl
theorem q1958 : (Jvm.Cond.fieldLink "KeptLight" (25 : Nat) "KeptLight$Rank" "HAND" "LKeptLight$Rank;") ∈ lw_all := lw_g (lw_at lw_m8 202 rfl) rfl
theorem q1960 : (Jvm.Cond.fieldLink "KeptLight" (28 : Nat) "KeptLight$Rank" "BOY" "LKeptLight$Rank;") ∈ lw_all := lw_g (lw_at lw_m8 204 rfl) rfl
theorem q1962 : (Jvm.Cond.methodLink "KeptLight" (226 : Nat) ({ cls := "KeptLight$Keeper", name := "<init>", desc := "(ILKeptLight$Rank;)V" } : Jvm.MethodName)) ∈ lw_all := lw_g (lw_at lw_m8 206 rfl) rfl
theorem q1968 : (Jvm.Cond.fieldLink "KeptLight" (425 : Nat) "KeptLight$Keeper" "number" "I") ∈ lw_all := lw_g (lw_at lw_m8 212 rfl) rfl
theorem q1971 : (Jvm.Cond.fieldLink "KeptLight" (312 : Nat) "KeptLight$Keeper" "rank" "LKeptLight$Rank;") ∈ lw_all := lw_g (lw_at lw_m8 215 rfl) rfl
theorem q1974 : (Jvm.Cond.fieldLink "KeptLight" (318 : Nat) "KeptLight$Keeper" "tired" "I") ∈ lw_all := lw_g (lw_at lw_m8 218 rfl) rfl
theorem q1977 : (Jvm.Cond.fieldLink "KeptLight" (324 : Nat) "KeptLight$Keeper" "tended" "I") ∈ lw_all := lw_g (lw_at lw_m8 221 rfl) rfl
theorem q1980 : (Jvm.Cond.fieldLink "KeptLight" (327 : Nat) "KeptLight$Keeper" "slept" "I") ∈ lw_all := lw_g (lw_at lw_m8 224 rfl) rfl
theorem q1992 : (Jvm.Cond.methodLink "KeptLight" (229 : Nat) ({ cls := "java/util/ArrayList", name := "add", desc := "(Ljava/lang/Object;)Z" } : Jvm.MethodName)) ∈ lw_all := lw_g (lw_at lw_m8 236 rfl) rfl
theorem q2005 : (Jvm.Cond.instanceMethod ({ cls := "KeptLight", name := "plan", desc := "(II)I" } : Jvm.MethodName)) ∈ lw_all := lw_g (lw_at lw_m9 9 rfl) rfl
theorem q2006 : (Jvm.Cond.selects "KeptLight" ({ cls := "KeptLight", name := "plan", desc := "(II)I" } : Jvm.MethodName) ({ cls := "KeptLight", name := "plan", desc := "(II)I" } : Jvm.MethodName)) ∈ lw_all := lw_g (lw_at lw_m9 10 rfl) rfl
theorem q2007 : (Jvm.Cond.code ({ cls := "KeptLight", name := "plan", desc := "(II)I" } : Jvm.MethodName) prog_1_method_31_code (4 : Nat) (Option.some Jvm.ClassFile.FieldType.int)) ∈ lw_all := lw_g (lw_at lw_m9 11 rfl) rfl
theorem q2008 : (Jvm.Cond.methodLink "KeptLight" (239 : Nat) ({ cls := "KeptLight", name := "isPlanned", desc := "(J)Z" } : Jvm.MethodName)) ∈ lw_all := lw_g (lw_at lw_m9 12 rfl) rfl
theorem q2009 : (Jvm.Cond.privateMethod ({ cls := "KeptLight", name := "isPlanned", desc := "(J)Z" } : Jvm.MethodName)) ∈ lw_tbl := lw_at lw_m9 13 rfl
theorem q2010 : (Jvm.Cond.instanceMethod ({ cls := "KeptLight", name := "isPlanned", desc := "(J)Z" } : Jvm.MethodName)) ∈ lw_all := lw_g (lw_at lw_m9 14 rfl) rfl
theorem q2011 : (Jvm.Cond.code ({ cls := "KeptLight", name := "isPlanned", desc := "(J)Z" } : Jvm.MethodName) prog_1_method_30_code (3 : Nat) (Option.some Jvm.ClassFile.FieldType.boolean)) ∈ lw_all := lw_g (lw_at lw_m9 15 rfl) rfl
theorem q2012 : (Jvm.Cond.constantLong "KeptLight" (233 : Nat) (-1 : Int64)) ∈ lw_all := lw_g (lw_at lw_m9 16 rfl) rfl
theorem q2013 : (Jvm.Cond.methodLink "KeptLight" (235 : Nat) ({ cls := "KeptLight", name := "isKeeper", desc := "(J)Z" } : Jvm.MethodName)) ∈ lw_all := lw_g (lw_at lw_m9 17 rfl) rfl
theorem q2014 : (Jvm.Cond.privateMethod ({ cls := "KeptLight", name := "isKeeper", desc := "(J)Z" } : Jvm.MethodName)) ∈ lw_tbl := lw_at lw_m9 18 rfl
theorem q2015 : (Jvm.Cond.instanceMethod ({ cls := "KeptLight", name := "isKeeper", desc := "(J)Z" } : Jvm.MethodName)) ∈ lw_all := lw_g (lw_at lw_m9 19 rfl) rfl
theorem q2016 : (Jvm.Cond.code ({ cls := "KeptLight", name := "isKeeper", desc := "(J)Z" } : Jvm.MethodName) prog_1_method_9_code (3 : Nat) (Option.some Jvm.ClassFile.FieldType.boolean)) ∈ lw_all := lw_g (lw_at lw_m9 20 rfl) rfl
theorem q2018 : (Jvm.Cond.instanceMethod ({ cls := "KeptLight", name := "plans", desc := "(I)I" } : Jvm.MethodName)) ∈ lw_all := lw_g (lw_at lw_m9 22 rfl) rfl
theorem q2019 : (Jvm.Cond.selects "KeptLight" ({ cls := "KeptLight", name := "plans", desc := "(I)I" } : Jvm.MethodName) ({ cls := "KeptLight", name := "plans", desc := "(I)I" } : Jvm.MethodName)) ∈ lw_all := lw_g (lw_at lw_m9 23 rfl) rfl
theorem q2020 : (Jvm.Cond.codeWith ({ cls := "KeptLight", name := "plans", desc := "(I)I" } : Jvm.MethodName) prog_1_method_35_code (3 : Nat) (Option.some Jvm.ClassFile.FieldType.int) [((0 : Nat), (21 : Nat), (22 : Nat), (118 : Nat))]) ∈ lw_all := lw_g (lw_at lw_m9 24 rfl) rfl
theorem q2021 : (Jvm.Cond.methodLink "KeptLight" (253 : Nat) ({ cls := "KeptLight", name := "planIn", desc := "(ZI)[I" } : Jvm.MethodName)) ∈ lw_all := lw_g (lw_at lw_m9 25 rfl) rfl
theorem q2022 : (Jvm.Cond.privateMethod ({ cls := "KeptLight", name := "planIn", desc := "(ZI)[I" } : Jvm.MethodName)) ∈ lw_tbl := lw_at lw_m9 26 rfl
theorem q2023 : (Jvm.Cond.instanceMethod ({ cls := "KeptLight", name := "planIn", desc := "(ZI)[I" } : Jvm.MethodName)) ∈ lw_all := lw_g (lw_at lw_m9 27 rfl) rfl
theorem q2024 : (Jvm.Cond.code ({ cls := "KeptLight", name := "planIn", desc := "(ZI)[I" } : Jvm.MethodName) prog_1_method_34_code (6 : Nat) (Option.some (Jvm.ClassFile.FieldType.array Jvm.ClassFile.FieldType.int))) ∈ lw_all := lw_g (lw_at lw_m9 28 rfl) rfl
theorem q2025 : (Jvm.Cond.methodLink "KeptLight" (249 : Nat) ({ cls := "KeptLight", name := "toldIn", desc := "(ZIIII)[J" } : Jvm.MethodName)) ∈ lw_all := lw_g (lw_at lw_m9 29 rfl) rfl
theorem q2026 : (Jvm.Cond.privateMethod ({ cls := "KeptLight", name := "toldIn", desc := "(ZIIII)[J" } : Jvm.MethodName)) ∈ lw_tbl := lw_at lw_m9 30 rfl
theorem q2027 : (Jvm.Cond.instanceMethod ({ cls := "KeptLight", name := "toldIn", desc := "(ZIIII)[J" } : Jvm.MethodName)) ∈ lw_all := lw_g (lw_at lw_m9 31 rfl) rfl
theorem q2028 : (Jvm.Cond.code ({ cls := "KeptLight", name := "toldIn", desc := "(ZIIII)[J" } : Jvm.MethodName) prog_1_method_33_code (6 : Nat) (Option.some (Jvm.ClassFile.FieldType.array Jvm.ClassFile.FieldType.long))) ∈ lw_all := lw_g (lw_at lw_m9 32 rfl) rfl
theorem q2029 : (Jvm.Cond.methodLink "KeptLight" (245 : Nat) ({ cls := "KeptLight", name := "elementsIn", desc := "(Ljava/lang/Object;I)[J" } : Jvm.MethodName)) ∈ lw_all := lw_g (lw_at lw_m9 33 rfl) rfl
theorem q2030 : (Jvm.Cond.static ({ cls := "KeptLight", name := "elementsIn", desc := "(Ljava/lang/Object;I)[J" } : Jvm.MethodName)) ∈ lw_all := lw_g (lw_at lw_m9 34 rfl) rfl
theorem q2031 : (Jvm.Cond.codeWith ({ cls := "KeptLight", name := "elementsIn", desc := "(Ljava/lang/Object;I)[J" } : Jvm.MethodName) prog_1_method_32_code (4 : Nat) (Option.some (Jvm.ClassFile.FieldType.array Jvm.ClassFile.FieldType.long)) [((4 : Nat), (25 : Nat), (28 : Nat), (135 : Nat))]) ∈ lw_all := lw_g (lw_at lw_m9 35 rfl) rfl
theorem q2033 : (Jvm.Cond.instanceMethod ({ cls := "KeptLight", name := "tell", desc := "(II)I" } : Jvm.MethodName)) ∈ lw_all := lw_g (lw_at lw_m9 37 rfl) rfl
theorem q2034 : (Jvm.Cond.selects "KeptLight" ({ cls := "KeptLight", name := "tell", desc := "(II)I" } : Jvm.MethodName) ({ cls := "KeptLight", name := "tell", desc := "(II)I" } : Jvm.MethodName)) ∈ lw_all := lw_g (lw_at lw_m9 38 rfl) rfl
theorem q2035 : (Jvm.Cond.code ({ cls := "KeptLight", name := "tell", desc := "(II)I" } : Jvm.MethodName) prog_1_method_38_code (4 : Nat) (Option.some Jvm.ClassFile.FieldType.int)) ∈ lw_all := lw_g (lw_at lw_m9 39 rfl) rfl
theorem q2036 : (Jvm.Cond.methodLink "KeptLight" (257 : Nat) ({ cls := "KeptLight", name := "least", desc := "(I)I" } : Jvm.MethodName)) ∈ lw_all := lw_g (lw_at lw_m9 40 rfl) rfl
theorem q2037 : (Jvm.Cond.static ({ cls := "KeptLight", name := "least", desc := "(I)I" } : Jvm.MethodName)) ∈ lw_all := lw_g (lw_at lw_m9 41 rfl) rfl
theorem q2038 : (Jvm.Cond.code ({ cls := "KeptLight", name := "least", desc := "(I)I" } : Jvm.MethodName) prog_1_method_36_code (1 : Nat) (Option.some Jvm.ClassFile.FieldType.int)) ∈ lw_all := lw_g (lw_at lw_m9 42 rfl) rfl
theorem q2039 : (Jvm.Cond.methodLink "KeptLight" (260 : Nat) ({ cls := "KeptLight", name := "most", desc := "(I)I" } : Jvm.MethodName)) ∈ lw_all := lw_g (lw_at lw_m9 43 rfl) rfl
theorem q2040 : (Jvm.Cond.static ({ cls := "KeptLight", name := "most", desc := "(I)I" } : Jvm.MethodName)) ∈ lw_all := lw_g (lw_at lw_m9 44 rfl) rfl
theorem q2041 : (Jvm.Cond.code ({ cls := "KeptLight", name := "most", desc := "(I)I" } : Jvm.MethodName) prog_1_method_37_code (1 : Nat) (Option.some Jvm.ClassFile.FieldType.int)) ∈ lw_all := lw_g (lw_at lw_m9 45 rfl) rfl
theorem q2043 : (Jvm.Cond.instanceMethod ({ cls := "KeptLight", name := "boat", desc := "(II)I" } : Jvm.MethodName)) ∈ lw_all := lw_g (lw_at lw_m9 47 rfl) rfl
theorem q2044 : (Jvm.Cond.selects "KeptLight" ({ cls := "KeptLight", name := "boat", desc := "(II)I" } : Jvm.MethodName) ({ cls := "KeptLight", name := "boat", desc := "(II)I" } : Jvm.MethodName)) ∈ lw_all := lw_g (lw_at lw_m9 48 rfl) rfl
theorem q2045 : (Jvm.Cond.code ({ cls := "KeptLight", name := "boat", desc := "(II)I" } : Jvm.MethodName) prog_1_method_40_code (4 : Nat) (Option.some Jvm.ClassFile.FieldType.int)) ∈ lw_all := lw_g (lw_at lw_m9 49 rfl) rfl
theorem q2046 : (Jvm.Cond.methodLink "KeptLight" (267 : Nat) ({ cls := "KeptLight", name := "isOfBoat", desc := "(II)Z" } : Jvm.MethodName)) ∈ lw_all := lw_g (lw_at lw_m9 50 rfl) rfl
theorem q2047 : (Jvm.Cond.privateMethod ({ cls := "KeptLight", name := "isOfBoat", desc := "(II)Z" } : Jvm.MethodName)) ∈ lw_tbl := lw_at lw_m9 51 rfl
theorem q2048 : (Jvm.Cond.instanceMethod ({ cls := "KeptLight", name := "isOfBoat", desc := "(II)Z" } : Jvm.MethodName)) ∈ lw_all := lw_g (lw_at lw_m9 52 rfl) rfl
theorem q2049 : (Jvm.Cond.code ({ cls := "KeptLight", name := "isOfBoat", desc := "(II)Z" } : Jvm.MethodName) prog_1_method_39_code (3 : Nat) (Option.some Jvm.ClassFile.FieldType.boolean)) ∈ lw_all := lw_g (lw_at lw_m9 53 rfl) rfl
theorem q2051 : (Jvm.Cond.instanceMethod ({ cls := "KeptLight", name := "ship", desc := "(II)I" } : Jvm.MethodName)) ∈ lw_all := lw_g (lw_at lw_m9 55 rfl) rfl
theorem q2052 : (Jvm.Cond.selects "KeptLight" ({ cls := "KeptLight", name := "ship", desc := "(II)I" } : Jvm.MethodName) ({ cls := "KeptLight", name := "ship", desc := "(II)I" } : Jvm.MethodName)) ∈ lw_all := lw_g (lw_at lw_m9 56 rfl) rfl
theorem q2053 : (Jvm.Cond.code ({ cls := "KeptLight", name := "ship", desc := "(II)I" } : Jvm.MethodName) prog_1_method_41_code (3 : Nat) (Option.some Jvm.ClassFile.FieldType.int)) ∈ lw_all := lw_g (lw_at lw_m9 57 rfl) rfl
theorem q2054 : (Jvm.Cond.methodLink "KeptLight" (274 : Nat) ({ cls := "KeptLight", name := "ship", desc := "(III)LKeptLight$Ship;" } : Jvm.MethodName)) ∈ lw_all := lw_g (lw_at lw_m9 58 rfl) rfl
theorem q2055 : (Jvm.Cond.static ({ cls := "KeptLight", name := "ship", desc := "(III)LKeptLight$Ship;" } : Jvm.MethodName)) ∈ lw_all := lw_g (lw_at lw_m9 59 rfl) rfl
theorem q2056 : (Jvm.Cond.code ({ cls := "KeptLight", name := "ship", desc := "(III)LKeptLight$Ship;" } : Jvm.MethodName) prog_1_method_3_code (3 : Nat) (Option.some (Jvm.ClassFile.FieldType.object "KeptLight$Ship"))) ∈ lw_all := lw_g (lw_at lw_m9 60 rfl) rfl
theorem q2058 : (Jvm.Cond.methodLink "KeptLight" (3 : Nat) ({ cls := "KeptLight$Fisher", name := "<init>", desc := "(II)V" } : Jvm.MethodName)) ∈ lw_all := lw_g (lw_at lw_m9 62 rfl) rfl
theorem q2072 : (Jvm.Cond.fieldLink "KeptLight" (153 : Nat) "KeptLight$Ship" "number" "I") ∈ lw_all := lw_g (lw_at lw_m9 76 rfl) rfl
theorem q2075 : (Jvm.Cond.fieldLink "KeptLight" (162 : Nat) "KeptLight$Ship" "hour" "I") ∈ lw_all := lw_g (lw_at lw_m9 79 rfl) rfl
theorem q2080 : (Jvm.Cond.fieldLink "KeptLight" (175 : Nat) "KeptLight$Fisher" "fate" "I") ∈ lw_all := lw_g (lw_at lw_m9 84 rfl) rfl
theorem q2082 : (Jvm.Cond.fieldLink "KeptLight" (178 : Nat) "KeptLight$Pilot" "fate" "I") ∈ lw_all := lw_g (lw_at lw_m9 86 rfl) rfl
theorem q2084 : (Jvm.Cond.fieldLink "KeptLight" (179 : Nat) "KeptLight$Coaster" "fate" "I") ∈ lw_all := lw_g (lw_at lw_m9 88 rfl) rfl
theorem q2086 : (Jvm.Cond.fieldLink "KeptLight" (333 : Nat) "KeptLight$Ship" "fate" "I") ∈ lw_all := lw_g (lw_at lw_m9 90 rfl) rfl
theorem q2089 : (Jvm.Cond.fieldLink "KeptLight" (180 : Nat) "KeptLight$Liner" "met" "I") ∈ lw_all := lw_g (lw_at lw_m9 93 rfl) rfl
theorem q2091 : (Jvm.Cond.fieldLink "KeptLight" (334 : Nat) "KeptLight$Ship" "met" "I") ∈ lw_all := lw_g (lw_at lw_m9 95 rfl) rfl
theorem q2102 : (Jvm.Cond.methodLink "KeptLight" (9 : Nat) ({ cls := "KeptLight$Pilot", name := "<init>", desc := "(II)V" } : Jvm.MethodName)) ∈ lw_all := lw_g (lw_at lw_m9 106 rfl) rfl
theorem q2112 : (Jvm.Cond.methodLink "KeptLight" (12 : Nat) ({ cls := "KeptLight$Coaster", name := "<init>", desc := "(II)V" } : Jvm.MethodName)) ∈ lw_all := lw_g (lw_at lw_m9 116 rfl) rfl
theorem q2125 : (Jvm.Cond.methodLink "KeptLight" (15 : Nat) ({ cls := "KeptLight$Liner", name := "<init>", desc := "(II)V" } : Jvm.MethodName)) ∈ lw_all := lw_g (lw_at lw_m9 129 rfl) rfl
theorem q2134 : (Jvm.Cond.methodLink "KeptLight" (18 : Nat) ({ cls := "KeptLight$Mail", name := "<init>", desc := "(II)V" } : Jvm.MethodName)) ∈ lw_all := lw_g (lw_at lw_m9 138 rfl) rfl
theorem q2142 : (Jvm.Cond.methodLink "KeptLight" (278 : Nat) ({ cls := "KeptLight$World", name := "comes", desc := "(LKeptLight$Ship;)V" } : Jvm.MethodName)) ∈ lw_all := lw_g (lw_at lw_m9 146 rfl) rfl
theorem q2556 : (Jvm.Cond.instanceMethod ({ cls := "KeptLight", name := "pass", desc := "(I)I" } : Jvm.MethodName)) ∈ lw_all := lw_g (lw_at lw_m11 80 rfl) rfl
theorem q2557 : (Jvm.Cond.selects "KeptLight" ({ cls := "KeptLight", name := "pass", desc := "(I)I" } : Jvm.MethodName) ({ cls := "KeptLight", name := "pass", desc := "(I)I" } : Jvm.MethodName)) ∈ lw_all := lw_g (lw_at lw_m11 81 rfl) rfl
theorem q2558 : (Jvm.Cond.code ({ cls := "KeptLight", name := "pass", desc := "(I)I" } : Jvm.MethodName) prog_1_method_42_code (2 : Nat) (Option.some Jvm.ClassFile.FieldType.int)) ∈ lw_all := lw_g (lw_at lw_m11 82 rfl) rfl
theorem q2559 : (Jvm.Cond.methodLink "KeptLight" (282 : Nat) ({ cls := "KeptLight", name := "areHours", desc := "(I)Z" } : Jvm.MethodName)) ∈ lw_all := lw_g (lw_at lw_m11 83 rfl) rfl
theorem q2560 : (Jvm.Cond.static ({ cls := "KeptLight", name := "areHours", desc := "(I)Z" } : Jvm.MethodName)) ∈ lw_all := lw_g (lw_at lw_m11 84 rfl) rfl
theorem q2561 : (Jvm.Cond.code ({ cls := "KeptLight", name := "areHours", desc := "(I)Z" } : Jvm.MethodName) prog_1_method_11_code (1 : Nat) (Option.some Jvm.ClassFile.FieldType.boolean)) ∈ lw_all := lw_g (lw_at lw_m11 85 rfl) rfl
theorem q2562 : (Jvm.Cond.methodLink "KeptLight" (285 : Nat) ({ cls := "KeptLight$World", name := "hours", desc := "(I)I" } : Jvm.MethodName)) ∈ lw_all := lw_g (lw_at lw_m11 86 rfl) rfl
theorem q2698 : (Jvm.Cond.fieldLink "KeptLight" (351 : Nat) "KeptLight$Entry" "hour" "I") ∈ lw_all := lw_g (lw_at lw_m11 222 rfl) rfl
theorem q2701 : (Jvm.Cond.fieldLink "KeptLight" (352 : Nat) "KeptLight$Entry" "sort" "I") ∈ lw_all := lw_g (lw_at lw_m11 225 rfl) rfl
theorem q2703 : (Jvm.Cond.fieldLink "KeptLight" (355 : Nat) "KeptLight$Entry" "ship" "I") ∈ lw_all := lw_g (lw_at lw_m11 227 rfl) rfl
theorem q2706 : (Jvm.Cond.fieldLink "KeptLight" (357 : Nat) "KeptLight$Entry" "keeper" "I") ∈ lw_all := lw_g (lw_at lw_m11 230 rfl) rfl
theorem q2763 : (Jvm.Cond.instanceMethod ({ cls := "KeptLight", name := "weather", desc := "(I)I" } : Jvm.MethodName)) ∈ lw_all := lw_g (lw_at lw_m12 47 rfl) rfl
theorem q2764 : (Jvm.Cond.selects "KeptLight" ({ cls := "KeptLight", name := "weather", desc := "(I)I" } : Jvm.MethodName) ({ cls := "KeptLight", name := "weather", desc := "(I)I" } : Jvm.MethodName)) ∈ lw_all := lw_g (lw_at lw_m12 48 rfl) rfl
theorem q2765 : (Jvm.Cond.code ({ cls := "KeptLight", name := "weather", desc := "(I)I" } : Jvm.MethodName) prog_1_method_44_code (2 : Nat) (Option.some Jvm.ClassFile.FieldType.int)) ∈ lw_all := lw_g (lw_at lw_m12 49 rfl) rfl
theorem q2766 : (Jvm.Cond.methodLink "KeptLight" (297 : Nat) ({ cls := "KeptLight$World", name := "weather", desc := "(I)LKeptLight$Weather;" } : Jvm.MethodName)) ∈ lw_all := lw_g (lw_at lw_m12 50 rfl) rfl
theorem q2767 : (Jvm.Cond.methodLink "KeptLight" (301 : Nat) ({ cls := "KeptLight", name := "numberOf", desc := "(LKeptLight$Weather;)I" } : Jvm.MethodName)) ∈ lw_all := lw_g (lw_at lw_m12 51 rfl) rfl
theorem q2768 : (Jvm.Cond.static ({ cls := "KeptLight", name := "numberOf", desc := "(LKeptLight$Weather;)I" } : Jvm.MethodName)) ∈ lw_all := lw_g (lw_at lw_m12 52 rfl) rfl
theorem q2769 : (Jvm.Cond.code ({ cls := "KeptLight", name := "numberOf", desc := "(LKeptLight$Weather;)I" } : Jvm.MethodName) prog_1_method_43_code (1 : Nat) (Option.some Jvm.ClassFile.FieldType.int)) ∈ lw_all := lw_g (lw_at lw_m12 53 rfl) rfl
theorem q2770 : (Jvm.Cond.fieldLink "KeptLight" (288 : Nat) "KeptLight$Weather" "CLEAR" "LKeptLight$Weather;") ∈ lw_all := lw_g (lw_at lw_m12 54 rfl) rfl
theorem q2771 : (Jvm.Cond.fieldLink "KeptLight" (294 : Nat) "KeptLight$Weather" "FOG" "LKeptLight$Weather;") ∈ lw_all := lw_g (lw_at lw_m12 55 rfl) rfl
theorem q2773 : (Jvm.Cond.instanceMethod ({ cls := "KeptLight", name := "dark", desc := "(I)I" } : Jvm.MethodName)) ∈ lw_all := lw_g (lw_at lw_m12 57 rfl) rfl
theorem q2774 : (Jvm.Cond.selects "KeptLight" ({ cls := "KeptLight", name := "dark", desc := "(I)I" } : Jvm.MethodName) ({ cls := "KeptLight", name := "dark", desc := "(I)I" } : Jvm.MethodName)) ∈ lw_all := lw_g (lw_at lw_m12 58 rfl) rfl
theorem q2775 : (Jvm.Cond.code ({ cls := "KeptLight", name := "dark", desc := "(I)I" } : Jvm.MethodName) prog_1_method_45_code (2 : Nat) (Option.some Jvm.ClassFile.FieldType.int)) ∈ lw_all := lw_g (lw_at lw_m12 59 rfl) rfl
theorem q2776 : (Jvm.Cond.methodLink "KeptLight" (305 : Nat) ({ cls := "KeptLight$World", name := "isDark", desc := "(I)Z" } : Jvm.MethodName)) ∈ lw_all := lw_g (lw_at lw_m12 60 rfl) rfl
theorem q2777 : (Jvm.Cond.methodLink "KeptLight" (308 : Nat) ({ cls := "KeptLight", name := "one", desc := "(Z)I" } : Jvm.MethodName)) ∈ lw_all := lw_g (lw_at lw_m12 61 rfl) rfl
theorem q2779 : (Jvm.Cond.instanceMethod ({ cls := "KeptLight", name := "keeperOf", desc := "(II)I" } : Jvm.MethodName)) ∈ lw_all := lw_g (lw_at lw_m12 63 rfl) rfl
theorem q2780 : (Jvm.Cond.selects "KeptLight" ({ cls := "KeptLight", name := "keeperOf", desc := "(II)I" } : Jvm.MethodName) ({ cls := "KeptLight", name := "keeperOf", desc := "(II)I" } : Jvm.MethodName)) ∈ lw_all := lw_g (lw_at lw_m12 64 rfl) rfl
theorem q2781 : (Jvm.Cond.code ({ cls := "KeptLight", name := "keeperOf", desc := "(II)I" } : Jvm.MethodName) prog_1_method_46_code (9 : Nat) (Option.some Jvm.ClassFile.FieldType.int)) ∈ lw_all := lw_g (lw_at lw_m12 65 rfl) rfl
theorem q2782 : (Jvm.Cond.methodLink "KeptLight" (314 : Nat) ({ cls := "KeptLight", name := "rankOf", desc := "(LKeptLight$Rank;)I" } : Jvm.MethodName)) ∈ lw_all := lw_g (lw_at lw_m12 66 rfl) rfl
theorem q2783 : (Jvm.Cond.static ({ cls := "KeptLight", name := "rankOf", desc := "(LKeptLight$Rank;)I" } : Jvm.MethodName)) ∈ lw_all := lw_g (lw_at lw_m12 67 rfl) rfl
theorem q2784 : (Jvm.Cond.code ({ cls := "KeptLight", name := "rankOf", desc := "(LKeptLight$Rank;)I" } : Jvm.MethodName) prog_1_method_5_code (1 : Nat) (Option.some Jvm.ClassFile.FieldType.int)) ∈ lw_all := lw_g (lw_at lw_m12 68 rfl) rfl
theorem q2785 : (Jvm.Cond.methodLink "KeptLight" (321 : Nat) ({ cls := "KeptLight$Rank", name := "lasts", desc := "()I" } : Jvm.MethodName)) ∈ lw_all := lw_g (lw_at lw_m12 69 rfl) rfl
theorem q2787 : (Jvm.Cond.instanceMethod ({ cls := "KeptLight", name := "shipOf", desc := "(II)I" } : Jvm.MethodName)) ∈ lw_all := lw_g (lw_at lw_m12 71 rfl) rfl
theorem q2788 : (Jvm.Cond.selects "KeptLight" ({ cls := "KeptLight", name := "shipOf", desc := "(II)I" } : Jvm.MethodName) ({ cls := "KeptLight", name := "shipOf", desc := "(II)I" } : Jvm.MethodName)) ∈ lw_all := lw_g (lw_at lw_m12 72 rfl) rfl
theorem q2789 : (Jvm.Cond.code ({ cls := "KeptLight", name := "shipOf", desc := "(II)I" } : Jvm.MethodName) prog_1_method_47_code (4 : Nat) (Option.some Jvm.ClassFile.FieldType.int)) ∈ lw_all := lw_g (lw_at lw_m12 73 rfl) rfl
theorem q2790 : (Jvm.Cond.methodLink "KeptLight" (330 : Nat) ({ cls := "KeptLight$Ship", name := "kind", desc := "()I" } : Jvm.MethodName)) ∈ lw_all := lw_g (lw_at lw_m12 74 rfl) rfl
theorem q2792 : (Jvm.Cond.instanceMethod ({ cls := "KeptLight", name := "shipAt", desc := "(II)I" } : Jvm.MethodName)) ∈ lw_all := lw_g (lw_at lw_m12 76 rfl) rfl
theorem q2793 : (Jvm.Cond.selects "KeptLight" ({ cls := "KeptLight", name := "shipAt", desc := "(II)I" } : Jvm.MethodName) ({ cls := "KeptLight", name := "shipAt", desc := "(II)I" } : Jvm.MethodName)) ∈ lw_all := lw_g (lw_at lw_m12 77 rfl) rfl
theorem q2794 : (Jvm.Cond.code ({ cls := "KeptLight", name := "shipAt", desc := "(II)I" } : Jvm.MethodName) prog_1_method_48_code (3 : Nat) (Option.some Jvm.ClassFile.FieldType.int)) ∈ lw_all := lw_g (lw_at lw_m12 78 rfl) rfl
theorem q2795 : (Jvm.Cond.methodLink "KeptLight" (335 : Nat) ({ cls := "KeptLight$World", name := "manyAt", desc := "(I)I" } : Jvm.MethodName)) ∈ lw_all := lw_g (lw_at lw_m12 79 rfl) rfl
theorem q2796 : (Jvm.Cond.methodLink "KeptLight" (338 : Nat) ({ cls := "KeptLight$World", name := "shipAt", desc := "(II)LKeptLight$Ship;" } : Jvm.MethodName)) ∈ lw_all := lw_g (lw_at lw_m12 80 rfl) rfl
theorem q2798 : (Jvm.Cond.instanceMethod ({ cls := "KeptLight", name := "many", desc := "(II)I" } : Jvm.MethodName)) ∈ lw_all := lw_g (lw_at lw_m12 82 rfl) rfl
theorem q2799 : (Jvm.Cond.selects "KeptLight" ({ cls := "KeptLight", name := "many", desc := "(II)I" } : Jvm.MethodName) ({ cls := "KeptLight", name := "many", desc := "(II)I" } : Jvm.MethodName)) ∈ lw_all := lw_g (lw_at lw_m12 83 rfl) rfl
theorem q2800 : (Jvm.Cond.code ({ cls := "KeptLight", name := "many", desc := "(II)I" } : Jvm.MethodName) prog_1_method_49_code (3 : Nat) (Option.some Jvm.ClassFile.FieldType.int)) ∈ lw_all := lw_g (lw_at lw_m12 84 rfl) rfl
theorem q2801 : (Jvm.Cond.methodLink "KeptLight" (342 : Nat) ({ cls := "KeptLight$World", name := "fates", desc := "(II)I" } : Jvm.MethodName)) ∈ lw_all := lw_g (lw_at lw_m12 85 rfl) rfl
theorem q2827 : (Jvm.Cond.instanceMethod ({ cls := "KeptLight", name := "log", desc := "(II)I" } : Jvm.MethodName)) ∈ lw_all := lw_g (lw_at lw_m12 111 rfl) rfl
theorem q2828 : (Jvm.Cond.selects "KeptLight" ({ cls := "KeptLight", name := "log", desc := "(II)I" } : Jvm.MethodName) ({ cls := "KeptLight", name := "log", desc := "(II)I" } : Jvm.MethodName)) ∈ lw_all := lw_g (lw_at lw_m12 112 rfl) rfl
theorem q2829 : (Jvm.Cond.code ({ cls := "KeptLight", name := "log", desc := "(II)I" } : Jvm.MethodName) prog_1_method_50_code (4 : Nat) (Option.some Jvm.ClassFile.FieldType.int)) ∈ lw_all := lw_g (lw_at lw_m12 113 rfl) rfl
theorem q2830 : (Jvm.Cond.classLink "KeptLight" (349 : Nat) "KeptLight$Entry") ∈ lw_all := lw_g (lw_at lw_m12 114 rfl) rfl
theorem q2832 : (Jvm.Cond.instanceMethod ({ cls := "KeptLight", name := "logged", desc := "(I)I" } : Jvm.MethodName)) ∈ lw_all := lw_g (lw_at lw_m12 116 rfl) rfl
theorem q2833 : (Jvm.Cond.selects "KeptLight" ({ cls := "KeptLight", name := "logged", desc := "(I)I" } : Jvm.MethodName) ({ cls := "KeptLight", name := "logged", desc := "(I)I" } : Jvm.MethodName)) ∈ lw_all := lw_g (lw_at lw_m12 117 rfl) rfl
theorem q2834 : (Jvm.Cond.code ({ cls := "KeptLight", name := "logged", desc := "(I)I" } : Jvm.MethodName) prog_1_method_51_code (4 : Nat) (Option.some Jvm.ClassFile.FieldType.int)) ∈ lw_all := lw_g (lw_at lw_m12 118 rfl) rfl
theorem q2836 : (Jvm.Cond.instanceMethod ({ cls := "KeptLight", name := "difference", desc := "(II)I" } : Jvm.MethodName)) ∈ lw_all := lw_g (lw_at lw_m12 120 rfl) rfl
theorem q2837 : (Jvm.Cond.selects "KeptLight" ({ cls := "KeptLight", name := "difference", desc := "(II)I" } : Jvm.MethodName) ({ cls := "KeptLight", name := "difference", desc := "(II)I" } : Jvm.MethodName)) ∈ lw_all := lw_g (lw_at lw_m12 121 rfl) rfl
theorem q2838 : (Jvm.Cond.code ({ cls := "KeptLight", name := "difference", desc := "(II)I" } : Jvm.MethodName) prog_1_method_52_code (4 : Nat) (Option.some Jvm.ClassFile.FieldType.int)) ∈ lw_all := lw_g (lw_at lw_m12 122 rfl) rfl
theorem q2839 : (Jvm.Cond.methodLink "KeptLight" (360 : Nat) ({ cls := "KeptLight$World", name := "difference", desc := "(I)LKeptLight$Difference;" } : Jvm.MethodName)) ∈ lw_all := lw_g (lw_at lw_m12 123 rfl) rfl
theorem q2858 : (Jvm.Cond.fieldLink "KeptLight" (364 : Nat) "KeptLight$Difference" "entry" "LKeptLight$Entry;") ∈ lw_all := lw_g (lw_at lw_m12 142 rfl) rfl
theorem q2860 : (Jvm.Cond.fieldLink "KeptLight" (370 : Nat) "KeptLight$Difference" "ship" "LKeptLight$Ship;") ∈ lw_all := lw_g (lw_at lw_m12 144 rfl) rfl
theorem q2867 : (Jvm.Cond.instanceMethod ({ cls := "KeptLight", name := "differences", desc := "(I)I" } : Jvm.MethodName)) ∈ lw_all := lw_g (lw_at lw_m12 151 rfl) rfl
theorem q2868 : (Jvm.Cond.selects "KeptLight" ({ cls := "KeptLight", name := "differences", desc := "(I)I" } : Jvm.MethodName) ({ cls := "KeptLight", name := "differences", desc := "(I)I" } : Jvm.MethodName)) ∈ lw_all := lw_g (lw_at lw_m12 152 rfl) rfl
theorem q2869 : (Jvm.Cond.code ({ cls := "KeptLight", name := "differences", desc := "(I)I" } : Jvm.MethodName) prog_1_method_53_code (2 : Nat) (Option.some Jvm.ClassFile.FieldType.int)) ∈ lw_all := lw_g (lw_at lw_m12 153 rfl) rfl
theorem q2870 : (Jvm.Cond.methodLink "KeptLight" (373 : Nat) ({ cls := "KeptLight$World", name := "differences", desc := "(I)I" } : Jvm.MethodName)) ∈ lw_all := lw_g (lw_at lw_m12 154 rfl) rfl
theorem q2875 : (Jvm.Cond.instanceMethod ({ cls := "KeptLight", name := "unlit", desc := "()I" } : Jvm.MethodName)) ∈ lw_all := lw_g (lw_at lw_m12 159 rfl) rfl
theorem q2876 : (Jvm.Cond.selects "KeptLight" ({ cls := "KeptLight", name := "unlit", desc := "()I" } : Jvm.MethodName) ({ cls := "KeptLight", name := "unlit", desc := "()I" } : Jvm.MethodName)) ∈ lw_all := lw_g (lw_at lw_m12 160 rfl) rfl
theorem q2877 : (Jvm.Cond.code ({ cls := "KeptLight", name := "unlit", desc := "()I" } : Jvm.MethodName) prog_1_method_54_code (3 : Nat) (Option.some Jvm.ClassFile.FieldType.int)) ∈ lw_all := lw_g (lw_at lw_m12 161 rfl) rfl
theorem q2878 : (Jvm.Cond.methodLink "KeptLight" (380 : Nat) ({ cls := "java/util/BitSet", name := "nextSetBit", desc := "(I)I" } : Jvm.MethodName)) ∈ lw_all := lw_g (lw_at lw_m12 162 rfl) rfl
theorem q2886 : (Jvm.Cond.instanceMethod ({ cls := "KeptLight", name := "would", desc := "(II)I" } : Jvm.MethodName)) ∈ lw_all := lw_g (lw_at lw_m12 170 rfl) rfl
theorem q2887 : (Jvm.Cond.selects "KeptLight" ({ cls := "KeptLight", name := "would", desc := "(II)I" } : Jvm.MethodName) ({ cls := "KeptLight", name := "would", desc := "(II)I" } : Jvm.MethodName)) ∈ lw_all := lw_g (lw_at lw_m12 171 rfl) rfl
theorem q2888 : (Jvm.Cond.code ({ cls := "KeptLight", name := "would", desc := "(II)I" } : Jvm.MethodName) prog_1_method_55_code (5 : Nat) (Option.some Jvm.ClassFile.FieldType.int)) ∈ lw_all := lw_g (lw_at lw_m12 172 rfl) rfl
theorem q2889 : (Jvm.Cond.methodLink "KeptLight" (385 : Nat) ({ cls := "KeptLight$World", name := "takes", desc := "(LKeptLight$World;)LKeptLight$World;" } : Jvm.MethodName)) ∈ lw_all := lw_g (lw_at lw_m12 173 rfl) rfl
theorem q2921 : (Jvm.Cond.methodLink "KeptLight" (395 : Nat) ({ cls := "KeptLight$World", name := "slept", desc := "()I" } : Jvm.MethodName)) ∈ lw_all := lw_g (lw_at lw_m12 205 rfl) rfl
theorem q2926 : (Jvm.Cond.instanceMethod ({ cls := "KeptLight", name := "fails", desc := "()I" } : Jvm.MethodName)) ∈ lw_all := lw_g (lw_at lw_m12 210 rfl) rfl
theorem q2927 : (Jvm.Cond.selects "KeptLight" ({ cls := "KeptLight", name := "fails", desc := "()I" } : Jvm.MethodName) ({ cls := "KeptLight", name := "fails", desc := "()I" } : Jvm.MethodName)) ∈ lw_all := lw_g (lw_at lw_m12 211 rfl) rfl
theorem q2928 : (Jvm.Cond.code ({ cls := "KeptLight", name := "fails", desc := "()I" } : Jvm.MethodName) prog_1_method_56_code (3 : Nat) (Option.some Jvm.ClassFile.FieldType.int)) ∈ lw_all := lw_g (lw_at lw_m12 212 rfl) rfl
theorem q2930 : (Jvm.Cond.instanceMethod ({ cls := "KeptLight", name := "comes", desc := "()I" } : Jvm.MethodName)) ∈ lw_all := lw_g (lw_at lw_m12 214 rfl) rfl
theorem q2931 : (Jvm.Cond.selects "KeptLight" ({ cls := "KeptLight", name := "comes", desc := "()I" } : Jvm.MethodName) ({ cls := "KeptLight", name := "comes", desc := "()I" } : Jvm.MethodName)) ∈ lw_all := lw_g (lw_at lw_m12 215 rfl) rfl
theorem q2932 : (Jvm.Cond.code ({ cls := "KeptLight", name := "comes", desc := "()I" } : Jvm.MethodName) prog_1_method_57_code (4 : Nat) (Option.some Jvm.ClassFile.FieldType.int)) ∈ lw_all := lw_g (lw_at lw_m12 216 rfl) rfl
theorem q2933 : (Jvm.Cond.methodLink "KeptLight" (400 : Nat) ({ cls := "KeptLight$World", name := "hours", desc := "()V" } : Jvm.MethodName)) ∈ lw_all := lw_g (lw_at lw_m12 217 rfl) rfl
theorem q2935 : (Jvm.Cond.instanceMethod ({ cls := "KeptLight", name := "oil", desc := "(I)I" } : Jvm.MethodName)) ∈ lw_all := lw_g (lw_at lw_m12 219 rfl) rfl
theorem q2936 : (Jvm.Cond.selects "KeptLight" ({ cls := "KeptLight", name := "oil", desc := "(I)I" } : Jvm.MethodName) ({ cls := "KeptLight", name := "oil", desc := "(I)I" } : Jvm.MethodName)) ∈ lw_all := lw_g (lw_at lw_m12 220 rfl) rfl
theorem q2937 : (Jvm.Cond.code ({ cls := "KeptLight", name := "oil", desc := "(I)I" } : Jvm.MethodName) prog_1_method_59_code (4 : Nat) (Option.some Jvm.ClassFile.FieldType.int)) ∈ lw_all := lw_g (lw_at lw_m12 221 rfl) rfl
theorem q2938 : (Jvm.Cond.methodLink "KeptLight" (402 : Nat) ({ cls := "KeptLight", name := "unlitWith", desc := "(II)I" } : Jvm.MethodName)) ∈ lw_all := lw_g (lw_at lw_m12 222 rfl) rfl
theorem q2939 : (Jvm.Cond.privateMethod ({ cls := "KeptLight", name := "unlitWith", desc := "(II)I" } : Jvm.MethodName)) ∈ lw_tbl := lw_at lw_m12 223 rfl
theorem q2940 : (Jvm.Cond.instanceMethod ({ cls := "KeptLight", name := "unlitWith", desc := "(II)I" } : Jvm.MethodName)) ∈ lw_all := lw_g (lw_at lw_m12 224 rfl) rfl
theorem q2941 : (Jvm.Cond.code ({ cls := "KeptLight", name := "unlitWith", desc := "(II)I" } : Jvm.MethodName) prog_1_method_58_code (4 : Nat) (Option.some Jvm.ClassFile.FieldType.int)) ∈ lw_all := lw_g (lw_at lw_m12 225 rfl) rfl
theorem q2943 : (Jvm.Cond.instanceMethod ({ cls := "KeptLight", name := "better", desc := "(II)I" } : Jvm.MethodName)) ∈ lw_all := lw_g (lw_at lw_m12 227 rfl) rfl
theorem q2944 : (Jvm.Cond.selects "KeptLight" ({ cls := "KeptLight", name := "better", desc := "(II)I" } : Jvm.MethodName) ({ cls := "KeptLight", name := "better", desc := "(II)I" } : Jvm.MethodName)) ∈ lw_all := lw_g (lw_at lw_m12 228 rfl) rfl
theorem q2945 : (Jvm.Cond.code ({ cls := "KeptLight", name := "better", desc := "(II)I" } : Jvm.MethodName) prog_1_method_61_code (6 : Nat) (Option.some Jvm.ClassFile.FieldType.int)) ∈ lw_all := lw_g (lw_at lw_m12 229 rfl) rfl
theorem q2946 : (Jvm.Cond.methodLink "KeptLight" (405 : Nat) ({ cls := "java/util/ArrayList", name := "isEmpty", desc := "()Z" } : Jvm.MethodName)) ∈ lw_all := lw_g (lw_at lw_m12 230 rfl) rfl
theorem q2947 : (Jvm.Cond.classLink "KeptLight" (409 : Nat) "java/util/LinkedList") ∈ lw_all := lw_g (lw_at lw_m12 231 rfl) rfl
theorem q2948 : (Jvm.Cond.methodLink "KeptLight" (411 : Nat) ({ cls := "java/util/LinkedList", name := "<init>", desc := "()V" } : Jvm.MethodName)) ∈ lw_all := lw_g (lw_at lw_m12 232 rfl) rfl
theorem q2949 : (Jvm.Cond.methodLink "KeptLight" (412 : Nat) ({ cls := "java/util/ArrayList", name := "iterator", desc := "()Ljava/util/Iterator;" } : Jvm.MethodName)) ∈ lw_all := lw_g (lw_at lw_m12 233 rfl) rfl
theorem q2950 : (Jvm.Cond.interfaceEntry "KeptLight" (416 : Nat)) ∈ lw_tbl := lw_at lw_m12 234 rfl
theorem q2951 : (Jvm.Cond.methodLink "KeptLight" (416 : Nat) ({ cls := "java/util/Iterator", name := "hasNext", desc := "()Z" } : Jvm.MethodName)) ∈ lw_all := lw_g (lw_at lw_m12 235 rfl) rfl
theorem q2952 : (Jvm.Cond.interfaceEntry "KeptLight" (421 : Nat)) ∈ lw_tbl := lw_at lw_m12 236 rfl
theorem q2953 : (Jvm.Cond.methodLink "KeptLight" (421 : Nat) ({ cls := "java/util/Iterator", name := "next", desc := "()Ljava/lang/Object;" } : Jvm.MethodName)) ∈ lw_all := lw_g (lw_at lw_m12 237 rfl) rfl
theorem q2954 : (Jvm.Cond.methodLink "KeptLight" (426 : Nat) ({ cls := "KeptLight", name := "unlitBy", desc := "(III)I" } : Jvm.MethodName)) ∈ lw_all := lw_g (lw_at lw_m12 238 rfl) rfl
theorem q2955 : (Jvm.Cond.privateMethod ({ cls := "KeptLight", name := "unlitBy", desc := "(III)I" } : Jvm.MethodName)) ∈ lw_tbl := lw_at lw_m12 239 rfl
theorem q2956 : (Jvm.Cond.instanceMethod ({ cls := "KeptLight", name := "unlitBy", desc := "(III)I" } : Jvm.MethodName)) ∈ lw_all := lw_g (lw_at lw_m13 0 rfl) rfl
theorem q2957 : (Jvm.Cond.code ({ cls := "KeptLight", name := "unlitBy", desc := "(III)I" } : Jvm.MethodName) prog_1_method_60_code (5 : Nat) (Option.some Jvm.ClassFile.FieldType.int)) ∈ lw_all := lw_g (lw_at lw_m13 1 rfl) rfl
theorem q2958 : (Jvm.Cond.methodLink "KeptLight" (430 : Nat) ({ cls := "java/lang/Integer", name := "valueOf", desc := "(I)Ljava/lang/Integer;" } : Jvm.MethodName)) ∈ lw_all := lw_g (lw_at lw_m13 2 rfl) rfl
theorem q2977 : (Jvm.Cond.methodLink "KeptLight" (436 : Nat) ({ cls := "java/util/LinkedList", name := "addLast", desc := "(Ljava/lang/Object;)V" } : Jvm.MethodName)) ∈ lw_all := lw_g (lw_at lw_m13 21 rfl) rfl
theorem q2981 : (Jvm.Cond.methodLink "KeptLight" (440 : Nat) ({ cls := "java/util/Collections", name := "min", desc := "(Ljava/util/Collection;)Ljava/lang/Object;" } : Jvm.MethodName)) ∈ lw_all := lw_g (lw_at lw_m13 25 rfl) rfl
theorem q3009 : (Jvm.Cond.classLink "KeptLight" (431 : Nat) "java/lang/Integer") ∈ lw_all := lw_g (lw_at lw_m13 53 rfl) rfl
theorem q3010 : (Jvm.Cond.methodLink "KeptLight" (446 : Nat) ({ cls := "java/lang/Integer", name := "intValue", desc := "()I" } : Jvm.MethodName)) ∈ lw_all := lw_g (lw_at lw_m13 54 rfl) rfl
theorem q3014 : (Jvm.Cond.methodLink "KeptLight" (449 : Nat) ({ cls := "java/util/LinkedList", name := "indexOf", desc := "(Ljava/lang/Object;)I" } : Jvm.MethodName)) ∈ lw_all := lw_g (lw_at lw_m13 58 rfl) rfl
theorem q3022 : (Jvm.Cond.selects "KeptLight" ({ cls := "java/lang/Object", name := "equals", desc := "(Ljava/lang/Object;)Z" } : Jvm.MethodName) ({ cls := "java/lang/Object", name := "equals", desc := "(Ljava/lang/Object;)Z" } : Jvm.MethodName)) ∈ lw_all := lw_g (lw_at lw_m13 66 rfl) rfl
theorem q3073 : (Jvm.Cond.instanceMethod ({ cls := "KeptLight", name := "other", desc := "(II)I" } : Jvm.MethodName)) ∈ lw_all := lw_g (lw_at lw_m13 117 rfl) rfl
theorem q3074 : (Jvm.Cond.selects "KeptLight" ({ cls := "KeptLight", name := "other", desc := "(II)I" } : Jvm.MethodName) ({ cls := "KeptLight", name := "other", desc := "(II)I" } : Jvm.MethodName)) ∈ lw_all := lw_g (lw_at lw_m13 118 rfl) rfl
theorem q3075 : (Jvm.Cond.codeWith ({ cls := "KeptLight", name := "other", desc := "(II)I" } : Jvm.MethodName) prog_1_method_62_code (6 : Nat) (Option.some Jvm.ClassFile.FieldType.int) [((0 : Nat), (62 : Nat), (63 : Nat), (118 : Nat))]) ∈ lw_all := lw_g (lw_at lw_m13 119 rfl) rfl
theorem q3077 : (Jvm.Cond.instanceMethod ({ cls := "KeptLight", name := "idle", desc := "(I)I" } : Jvm.MethodName)) ∈ lw_all := lw_g (lw_at lw_m13 121 rfl) rfl
theorem q3078 : (Jvm.Cond.selects "KeptLight" ({ cls := "KeptLight", name := "idle", desc := "(I)I" } : Jvm.MethodName) ({ cls := "KeptLight", name := "idle", desc := "(I)I" } : Jvm.MethodName)) ∈ lw_all := lw_g (lw_at lw_m13 122 rfl) rfl
theorem q3079 : (Jvm.Cond.code ({ cls := "KeptLight", name := "idle", desc := "(I)I" } : Jvm.MethodName) prog_1_method_63_code (6 : Nat) (Option.some Jvm.ClassFile.FieldType.int)) ∈ lw_all := lw_g (lw_at lw_m13 123 rfl) rfl
theorem q3080 : (Jvm.Cond.methodLink "KeptLight" (452 : Nat) ({ cls := "KeptLight$World", name := "without", desc := "(I)LKeptLight$World;" } : Jvm.MethodName)) ∈ lw_all := lw_g (lw_at lw_m13 124 rfl) rfl
theorem q3085 : (Jvm.Cond.instanceMethod ({ cls := "KeptLight", name := "judge", desc := "(III)I" } : Jvm.MethodName)) ∈ lw_all := lw_g (lw_at lw_m13 129 rfl) rfl
theorem q3086 : (Jvm.Cond.selects "KeptLight" ({ cls := "KeptLight", name := "judge", desc := "(III)I" } : Jvm.MethodName) ({ cls := "KeptLight", name := "judge", desc := "(III)I" } : Jvm.MethodName)) ∈ lw_all := lw_g (lw_at lw_m13 130 rfl) rfl
theorem q3087 : (Jvm.Cond.codeWith ({ cls := "KeptLight", name := "judge", desc := "(III)I" } : Jvm.MethodName) prog_1_method_64_code (7 : Nat) (Option.some Jvm.ClassFile.FieldType.int) [((0 : Nat), (48 : Nat), (115 : Nat), (118 : Nat)), ((49 : Nat), (106 : Nat), (115 : Nat), (118 : Nat)), ((107 : Nat), (114 : Nat), (115 : Nat), (118 : Nat))]) ∈ lw_all := lw_g (lw_at lw_m13 131 rfl) rfl
theorem q3089 : (Jvm.Cond.instanceMethod ({ cls := "KeptLight", name := "days", desc := "(I)I" } : Jvm.MethodName)) ∈ lw_all := lw_g (lw_at lw_m13 133 rfl) rfl
theorem q3090 : (Jvm.Cond.selects "KeptLight" ({ cls := "KeptLight", name := "days", desc := "(I)I" } : Jvm.MethodName) ({ cls := "KeptLight", name := "days", desc := "(I)I" } : Jvm.MethodName)) ∈ lw_all := lw_g (lw_at lw_m13 134 rfl) rfl
theorem q3091 : (Jvm.Cond.code ({ cls := "KeptLight", name := "days", desc := "(I)I" } : Jvm.MethodName) prog_1_method_65_code (4 : Nat) (Option.some Jvm.ClassFile.FieldType.int)) ∈ lw_all := lw_g (lw_at lw_m13 135 rfl) rfl
theorem q3092 : (Jvm.Cond.methodLink "KeptLight" (459 : Nat) ({ cls := "KeptLight$World", name := "day", desc := "()V" } : Jvm.MethodName)) ∈ lw_all := lw_g (lw_at lw_m13 136 rfl) rfl
theorem q3104 : (Jvm.Cond.instanceMethod ({ cls := "KeptLight", name := "seed", desc := "(I)I" } : Jvm.MethodName)) ∈ lw_all := lw_g (lw_at lw_m13 148 rfl) rfl
theorem q3105 : (Jvm.Cond.selects "KeptLight" ({ cls := "KeptLight", name := "seed", desc := "(I)I" } : Jvm.MethodName) ({ cls := "KeptLight", name := "seed", desc := "(I)I" } : Jvm.MethodName)) ∈ lw_all := lw_g (lw_at lw_m13 149 rfl) rfl
theorem q3106 : (Jvm.Cond.code ({ cls := "KeptLight", name := "seed", desc := "(I)I" } : Jvm.MethodName) prog_1_method_66_code (3 : Nat) (Option.some Jvm.ClassFile.FieldType.int)) ∈ lw_all := lw_g (lw_at lw_m13 150 rfl) rfl
theorem q3108 : (Jvm.Cond.instanceMethod ({ cls := "KeptLight", name := "image", desc := "()I" } : Jvm.MethodName)) ∈ lw_all := lw_g (lw_at lw_m13 152 rfl) rfl
theorem q3109 : (Jvm.Cond.selects "KeptLight" ({ cls := "KeptLight", name := "image", desc := "()I" } : Jvm.MethodName) ({ cls := "KeptLight", name := "image", desc := "()I" } : Jvm.MethodName)) ∈ lw_all := lw_g (lw_at lw_m13 153 rfl) rfl
theorem q3110 : (Jvm.Cond.code ({ cls := "KeptLight", name := "image", desc := "()I" } : Jvm.MethodName) prog_1_method_67_code (1 : Nat) (Option.some Jvm.ClassFile.FieldType.int)) ∈ lw_all := lw_g (lw_at lw_m13 154 rfl) rfl
theorem q3111 : (Jvm.Cond.methodLink "KeptLight" (465 : Nat) ({ cls := "KeptLight$World", name := "keeps", desc := "(LKeptLight$World;)V" } : Jvm.MethodName)) ∈ lw_all := lw_g (lw_at lw_m13 155 rfl) rfl
theorem q3117 : (Jvm.Cond.instanceMethod ({ cls := "KeptLight", name := "back", desc := "()I" } : Jvm.MethodName)) ∈ lw_all := lw_g (lw_at lw_m13 161 rfl) rfl
theorem q3118 : (Jvm.Cond.selects "KeptLight" ({ cls := "KeptLight", name := "back", desc := "()I" } : Jvm.MethodName) ({ cls := "KeptLight", name := "back", desc := "()I" } : Jvm.MethodName)) ∈ lw_all := lw_g (lw_at lw_m13 162 rfl) rfl
theorem q3119 : (Jvm.Cond.code ({ cls := "KeptLight", name := "back", desc := "()I" } : Jvm.MethodName) prog_1_method_68_code (4 : Nat) (Option.some Jvm.ClassFile.FieldType.int)) ∈ lw_all := lw_g (lw_at lw_m13 163 rfl) rfl
theorem q3120 : (Jvm.Cond.methodLink "KeptLight" (472 : Nat) ({ cls := "KeptLight$World", name := "returns", desc := "(LKeptLight$World;)V" } : Jvm.MethodName)) ∈ lw_all := lw_g (lw_at lw_m13 164 rfl) rfl
theorem q3239 : (Jvm.Cond.instanceMethod ({ cls := "KeptLight", name := "status", desc := "(I)I" } : Jvm.MethodName)) ∈ lw_all := lw_g (lw_at lw_m14 43 rfl) rfl
theorem q3240 : (Jvm.Cond.selects "KeptLight" ({ cls := "KeptLight", name := "status", desc := "(I)I" } : Jvm.MethodName) ({ cls := "KeptLight", name := "status", desc := "(I)I" } : Jvm.MethodName)) ∈ lw_all := lw_g (lw_at lw_m14 44 rfl) rfl
theorem q3241 : (Jvm.Cond.code ({ cls := "KeptLight", name := "status", desc := "(I)I" } : Jvm.MethodName) prog_1_method_70_code (2 : Nat) (Option.some Jvm.ClassFile.FieldType.int)) ∈ lw_all := lw_g (lw_at lw_m14 45 rfl) rfl
theorem q3242 : (Jvm.Cond.methodLink "KeptLight" (481 : Nat) ({ cls := "KeptLight", name := "shelved", desc := "()I" } : Jvm.MethodName)) ∈ lw_all := lw_g (lw_at lw_m14 46 rfl) rfl
theorem q3243 : (Jvm.Cond.privateMethod ({ cls := "KeptLight", name := "shelved", desc := "()I" } : Jvm.MethodName)) ∈ lw_tbl := lw_at lw_m14 47 rfl
theorem q3244 : (Jvm.Cond.instanceMethod ({ cls := "KeptLight", name := "shelved", desc := "()I" } : Jvm.MethodName)) ∈ lw_all := lw_g (lw_at lw_m14 48 rfl) rfl
theorem q3245 : (Jvm.Cond.code ({ cls := "KeptLight", name := "shelved", desc := "()I" } : Jvm.MethodName) prog_1_method_69_code (3 : Nat) (Option.some Jvm.ClassFile.FieldType.int)) ∈ lw_all := lw_g (lw_at lw_m14 49 rfl) rfl
theorem q3690 : (Jvm.Cond.castable "KeptLight" "java/lang/Object") ∈ lw_tbl := lw_at lw_m16 14 rfl
theorem in_X0 : ∀ w ∈ wsX00, w ∈ lw_all := lw_in wsX00 [797, 799, 801, 803, 805, 807, 809, 811] (by decide +kernel) (by decide +kernel)
/-! KeptLight$World -/
set_option maxRecDepth 100000
def RX1 : String := "KeptLight$World"
def TX1 : u_T := fun k => match k with
  | 0 => ("KeptLight$World", "keepers", "Ljava/util/ArrayList;", true)
  | 1 => ("KeptLight$World", "plan", "[I", true)
  | 2 => ("KeptLight$World", "ships", "Ljava/util/ArrayList;", true)
  | 3 => ("KeptLight$World", "coming", "LKeptLight$Coming;", true)
  | 4 => ("KeptLight$World", "sights", "LKeptLight$Sights;", true)
  | 5 => ("KeptLight$World", "log", "Ljava/util/ArrayList;", true)
  | 6 => ("KeptLight$World", "sky", "Ljava/util/ArrayList;", true)
  | 7 => ("KeptLight$World", "round", "I", false)
  | 8 => ("KeptLight$World", "unlitHours", "Ljava/util/BitSet;", true)
  | 9 => ("KeptLight$World", "hour", "I", false)
  | 10 => ("KeptLight$World", "told", "[I", true)
  | 11 => ("KeptLight$World", "boat", "[I", true)
  | 12 => ("KeptLight$World", "isLit", "Z", false)
  | 13 => ("KeptLight$World", "untended", "I", false)
  | 14 => ("KeptLight$World", "unlit", "I", false)
  | 15 => ("KeptLight$World", "boats", "I", false)
  | 16 => ("KeptLight$World", "seed", "I", false)
  | 17 => ("KeptLight$World", "isThought", "Z", true)
  | 18 => ("KeptLight$World", "misses", "I", false)
  | 19 => ("KeptLight$World", "wrecks", "I", false)
  | 20 => ("KeptLight$World", "fates", "[I", true)
  | _ => ("KeptLight$World", "mets", "[I", true)
def tyX1 : Nat → FieldType := fun k => match k with
  | 0 => .object "java/util/ArrayList"
  | 1 => .array .int
  | 2 => .object "java/util/ArrayList"
  | 3 => .object "KeptLight$Coming"
  | 4 => .object "KeptLight$Sights"
  | 5 => .object "java/util/ArrayList"
  | 6 => .object "java/util/ArrayList"
  | 7 => .int
  | 8 => .object "java/util/BitSet"
  | 9 => .int
  | 10 => .array .int
  | 11 => .array .int
  | 12 => .boolean
  | 13 => .int
  | 14 => .int
  | 15 => .int
  | 16 => .int
  | 17 => .boolean
  | 18 => .int
  | 19 => .int
  | 20 => .array .int
  | _ => .array .int
abbrev wsX10 : List Cond := u_ws RX1 TX1 22
set_option maxRecDepth 100000 in
theorem nmX1 : ∀ a, a < 22 → ∀ b, b < 22 → a ≠ b → (TX1 a).2.1 ≠ (TX1 b).2.1 := by decide +kernel
set_option maxRecDepth 100000 in
theorem tyX1_ok : ∀ k, k < 22 → parseFieldDescriptor (TX1 k).2.2.1 = some (tyX1 k) := by decide +kernel
abbrev cX1_init : ByteArray := prog_32_method_1_code
def yX1_init : MethodName := ⟨RX1, "<init>", "()V"⟩
def dkwX1_init_0 : List UInt8 := [42, 3, 187, 0, 3, 89, 183, 0, 5, 187, 0, 9, 89, 183, 0, 11, 183, 0, 12, 177]
abbrev dktX1_init_0 : List UInt8 := dkwX1_init_0 ++ []
theorem dksX1_init_0 : cX1_init.data.toList.drop 0 = dktX1_init_0 := by decide +kernel
theorem dX1_init_0 : decode cX1_init 0 = .ok (.aload_n 0, 1) := dk_42 (dk_at dksX1_init_0 0 rfl rfl)
theorem dX1_init_1 : decode cX1_init 1 = .ok (.iconst 0, 1) := dk_3 (dk_at dksX1_init_0 1 rfl rfl)
theorem dX1_init_2 : decode cX1_init 2 = .ok (.new 3, 3) := dk_187 0 3 (dk_at dksX1_init_0 2 rfl rfl)
theorem dX1_init_5 : decode cX1_init 5 = .ok (.dup, 1) := dk_89 (dk_at dksX1_init_0 5 rfl rfl)
theorem dX1_init_6 : decode cX1_init 6 = .ok (.invokespecial 5, 3) := dk_183 0 5 (dk_at dksX1_init_0 6 rfl rfl)
theorem dX1_init_9 : decode cX1_init 9 = .ok (.new 9, 3) := dk_187 0 9 (dk_at dksX1_init_0 9 rfl rfl)
theorem dX1_init_12 : decode cX1_init 12 = .ok (.dup, 1) := dk_89 (dk_at dksX1_init_0 12 rfl rfl)
theorem dX1_init_13 : decode cX1_init 13 = .ok (.invokespecial 11, 3) := dk_183 0 11 (dk_at dksX1_init_0 13 rfl rfl)
theorem dX1_init_16 : decode cX1_init 16 = .ok (.invokespecial 12, 3) := dk_183 0 12 (dk_at dksX1_init_0 16 rfl rfl)
theorem dX1_init_19 : decode cX1_init 19 = .ok (.return_, 1) := dk_177 (dk_at dksX1_init_0 19 rfl rfl)
abbrev cX1_init_2 : ByteArray := prog_32_method_3_code
def yX1_init_2 : MethodName := ⟨RX1, "<init>", "(ZLKeptLight$Coming;LKeptLight$Sights;)V"⟩
def dkwX1_init_2_7 : List UInt8 := [21, 4, 16, 24, 162, 0, 17, 42, 180, 0, 35, 21, 4, 2, 79, 132, 4, 1, 167, 255, 238, 177]
abbrev dktX1_init_2_7 : List UInt8 := dkwX1_init_2_7 ++ []
def dkwX1_init_2_6 : List UInt8 := [188, 10, 181, 0, 70, 42, 27, 181, 0, 73, 42, 44, 181, 0, 17, 42, 45, 181, 0, 21, 3, 54, 4]
abbrev dktX1_init_2_6 : List UInt8 := dkwX1_init_2_6 ++ dktX1_init_2_7
def dkwX1_init_2_5 : List UInt8 := [3, 79, 181, 0, 60, 42, 4, 181, 0, 63, 42, 17, 0, 200, 188, 10, 181, 0, 67, 42, 17, 0, 200]
abbrev dktX1_init_2_5 : List UInt8 := dkwX1_init_2_5 ++ dktX1_init_2_6
def dkwX1_init_2_4 : List UInt8 := [79, 181, 0, 57, 42, 7, 188, 10, 89, 3, 2, 79, 89, 4, 17, 0, 168, 79, 89, 5, 3, 79, 89, 6]
abbrev dktX1_init_2_4 : List UInt8 := dkwX1_init_2_4 ++ dktX1_init_2_5
def dkwX1_init_2_3 : List UInt8 := [8, 188, 10, 89, 3, 16, 6, 79, 89, 4, 16, 18, 79, 89, 5, 4, 79, 89, 6, 3, 79, 89, 7, 3]
abbrev dktX1_init_2_3 : List UInt8 := dkwX1_init_2_3 ++ dktX1_init_2_4
def dkwX1_init_2_2 : List UInt8 := [187, 0, 28, 89, 183, 0, 30, 181, 0, 45, 42, 187, 0, 48, 89, 16, 24, 183, 0, 50, 181, 0, 53, 42]
abbrev dktX1_init_2_2 : List UInt8 := dkwX1_init_2_2 ++ dktX1_init_2_3
def dkwX1_init_2_1 : List UInt8 := [187, 0, 28, 89, 183, 0, 30, 181, 0, 39, 42, 187, 0, 28, 89, 183, 0, 30, 181, 0, 42, 42]
abbrev dktX1_init_2_1 : List UInt8 := dkwX1_init_2_1 ++ dktX1_init_2_2
def dkwX1_init_2_0 : List UInt8 := [42, 183, 0, 25, 42, 187, 0, 28, 89, 183, 0, 30, 181, 0, 31, 42, 16, 24, 188, 10, 181, 0, 35, 42]
abbrev dktX1_init_2_0 : List UInt8 := dkwX1_init_2_0 ++ dktX1_init_2_1
theorem dksX1_init_2_0 : cX1_init_2.data.toList.drop 0 = dktX1_init_2_0 := by decide +kernel
theorem dksX1_init_2_1 : cX1_init_2.data.toList.drop 24 = dktX1_init_2_1 := dk_seg dksX1_init_2_0 24 rfl rfl
theorem dksX1_init_2_2 : cX1_init_2.data.toList.drop 46 = dktX1_init_2_2 := dk_seg dksX1_init_2_1 22 rfl rfl
theorem dksX1_init_2_3 : cX1_init_2.data.toList.drop 70 = dktX1_init_2_3 := dk_seg dksX1_init_2_2 24 rfl rfl
theorem dksX1_init_2_4 : cX1_init_2.data.toList.drop 94 = dktX1_init_2_4 := dk_seg dksX1_init_2_3 24 rfl rfl
theorem dksX1_init_2_5 : cX1_init_2.data.toList.drop 118 = dktX1_init_2_5 := dk_seg dksX1_init_2_4 24 rfl rfl
theorem dksX1_init_2_6 : cX1_init_2.data.toList.drop 141 = dktX1_init_2_6 := dk_seg dksX1_init_2_5 23 rfl rfl
theorem dksX1_init_2_7 : cX1_init_2.data.toList.drop 164 = dktX1_init_2_7 := dk_seg dksX1_init_2_6 23 rfl rfl
theorem dX1_init_2_0 : decode cX1_init_2 0 = .ok (.aload_n 0, 1) := dk_42 (dk_at dksX1_init_2_0 0 rfl rfl)
theorem dX1_init_2_1 : decode cX1_init_2 1 = .ok (.invokespecial 25, 3) := dk_183 0 25 (dk_at dksX1_init_2_0 1 rfl rfl)
theorem dX1_init_2_4 : decode cX1_init_2 4 = .ok (.aload_n 0, 1) := dk_42 (dk_at dksX1_init_2_0 4 rfl rfl)
theorem dX1_init_2_5 : decode cX1_init_2 5 = .ok (.new 28, 3) := dk_187 0 28 (dk_at dksX1_init_2_0 5 rfl rfl)
theorem dX1_init_2_8 : decode cX1_init_2 8 = .ok (.dup, 1) := dk_89 (dk_at dksX1_init_2_0 8 rfl rfl)
theorem dX1_init_2_9 : decode cX1_init_2 9 = .ok (.invokespecial 30, 3) := dk_183 0 30 (dk_at dksX1_init_2_0 9 rfl rfl)
theorem dX1_init_2_12 : decode cX1_init_2 12 = .ok (.putfield 31, 3) := dk_181 0 31 (dk_at dksX1_init_2_0 12 rfl rfl)
theorem dX1_init_2_15 : decode cX1_init_2 15 = .ok (.aload_n 0, 1) := dk_42 (dk_at dksX1_init_2_0 15 rfl rfl)
theorem dX1_init_2_16 : decode cX1_init_2 16 = .ok (.bipush 24, 2) := dk_16 24 (dk_at dksX1_init_2_0 16 rfl rfl)
theorem dX1_init_2_18 : decode cX1_init_2 18 = .ok (.newarray .int, 2) := dk_188_10 (dk_at dksX1_init_2_0 18 rfl rfl)
theorem dX1_init_2_20 : decode cX1_init_2 20 = .ok (.putfield 35, 3) := dk_181 0 35 (dk_at dksX1_init_2_0 20 rfl rfl)
theorem dX1_init_2_23 : decode cX1_init_2 23 = .ok (.aload_n 0, 1) := dk_42 (dk_at dksX1_init_2_0 23 rfl rfl)
theorem dX1_init_2_24 : decode cX1_init_2 24 = .ok (.new 28, 3) := dk_187 0 28 (dk_at dksX1_init_2_1 0 rfl rfl)
theorem dX1_init_2_27 : decode cX1_init_2 27 = .ok (.dup, 1) := dk_89 (dk_at dksX1_init_2_1 3 rfl rfl)
theorem dX1_init_2_28 : decode cX1_init_2 28 = .ok (.invokespecial 30, 3) := dk_183 0 30 (dk_at dksX1_init_2_1 4 rfl rfl)
theorem dX1_init_2_31 : decode cX1_init_2 31 = .ok (.putfield 39, 3) := dk_181 0 39 (dk_at dksX1_init_2_1 7 rfl rfl)
theorem dX1_init_2_34 : decode cX1_init_2 34 = .ok (.aload_n 0, 1) := dk_42 (dk_at dksX1_init_2_1 10 rfl rfl)
theorem dX1_init_2_35 : decode cX1_init_2 35 = .ok (.new 28, 3) := dk_187 0 28 (dk_at dksX1_init_2_1 11 rfl rfl)
theorem dX1_init_2_38 : decode cX1_init_2 38 = .ok (.dup, 1) := dk_89 (dk_at dksX1_init_2_1 14 rfl rfl)
theorem dX1_init_2_39 : decode cX1_init_2 39 = .ok (.invokespecial 30, 3) := dk_183 0 30 (dk_at dksX1_init_2_1 15 rfl rfl)
theorem dX1_init_2_42 : decode cX1_init_2 42 = .ok (.putfield 42, 3) := dk_181 0 42 (dk_at dksX1_init_2_1 18 rfl rfl)
theorem dX1_init_2_45 : decode cX1_init_2 45 = .ok (.aload_n 0, 1) := dk_42 (dk_at dksX1_init_2_1 21 rfl rfl)
theorem dX1_init_2_46 : decode cX1_init_2 46 = .ok (.new 28, 3) := dk_187 0 28 (dk_at dksX1_init_2_2 0 rfl rfl)
theorem dX1_init_2_49 : decode cX1_init_2 49 = .ok (.dup, 1) := dk_89 (dk_at dksX1_init_2_2 3 rfl rfl)
theorem dX1_init_2_50 : decode cX1_init_2 50 = .ok (.invokespecial 30, 3) := dk_183 0 30 (dk_at dksX1_init_2_2 4 rfl rfl)
theorem dX1_init_2_53 : decode cX1_init_2 53 = .ok (.putfield 45, 3) := dk_181 0 45 (dk_at dksX1_init_2_2 7 rfl rfl)
theorem dX1_init_2_56 : decode cX1_init_2 56 = .ok (.aload_n 0, 1) := dk_42 (dk_at dksX1_init_2_2 10 rfl rfl)
theorem dX1_init_2_57 : decode cX1_init_2 57 = .ok (.new 48, 3) := dk_187 0 48 (dk_at dksX1_init_2_2 11 rfl rfl)
theorem dX1_init_2_60 : decode cX1_init_2 60 = .ok (.dup, 1) := dk_89 (dk_at dksX1_init_2_2 14 rfl rfl)
theorem dX1_init_2_61 : decode cX1_init_2 61 = .ok (.bipush 24, 2) := dk_16 24 (dk_at dksX1_init_2_2 15 rfl rfl)
theorem dX1_init_2_63 : decode cX1_init_2 63 = .ok (.invokespecial 50, 3) := dk_183 0 50 (dk_at dksX1_init_2_2 17 rfl rfl)
theorem dX1_init_2_66 : decode cX1_init_2 66 = .ok (.putfield 53, 3) := dk_181 0 53 (dk_at dksX1_init_2_2 20 rfl rfl)
theorem dX1_init_2_69 : decode cX1_init_2 69 = .ok (.aload_n 0, 1) := dk_42 (dk_at dksX1_init_2_2 23 rfl rfl)
theorem dX1_init_2_70 : decode cX1_init_2 70 = .ok (.iconst 5, 1) := dk_8 (dk_at dksX1_init_2_3 0 rfl rfl)
theorem dX1_init_2_71 : decode cX1_init_2 71 = .ok (.newarray .int, 2) := dk_188_10 (dk_at dksX1_init_2_3 1 rfl rfl)
theorem dX1_init_2_73 : decode cX1_init_2 73 = .ok (.dup, 1) := dk_89 (dk_at dksX1_init_2_3 3 rfl rfl)
theorem dX1_init_2_74 : decode cX1_init_2 74 = .ok (.iconst 0, 1) := dk_3 (dk_at dksX1_init_2_3 4 rfl rfl)
theorem dX1_init_2_75 : decode cX1_init_2 75 = .ok (.bipush 6, 2) := dk_16 6 (dk_at dksX1_init_2_3 5 rfl rfl)
theorem dX1_init_2_77 : decode cX1_init_2 77 = .ok (.iastore, 1) := dk_79 (dk_at dksX1_init_2_3 7 rfl rfl)
theorem dX1_init_2_78 : decode cX1_init_2 78 = .ok (.dup, 1) := dk_89 (dk_at dksX1_init_2_3 8 rfl rfl)
theorem dX1_init_2_79 : decode cX1_init_2 79 = .ok (.iconst 1, 1) := dk_4 (dk_at dksX1_init_2_3 9 rfl rfl)
theorem dX1_init_2_80 : decode cX1_init_2 80 = .ok (.bipush 18, 2) := dk_16 18 (dk_at dksX1_init_2_3 10 rfl rfl)
theorem dX1_init_2_82 : decode cX1_init_2 82 = .ok (.iastore, 1) := dk_79 (dk_at dksX1_init_2_3 12 rfl rfl)
theorem dX1_init_2_83 : decode cX1_init_2 83 = .ok (.dup, 1) := dk_89 (dk_at dksX1_init_2_3 13 rfl rfl)
theorem dX1_init_2_84 : decode cX1_init_2 84 = .ok (.iconst 2, 1) := dk_5 (dk_at dksX1_init_2_3 14 rfl rfl)
theorem dX1_init_2_85 : decode cX1_init_2 85 = .ok (.iconst 1, 1) := dk_4 (dk_at dksX1_init_2_3 15 rfl rfl)
theorem dX1_init_2_86 : decode cX1_init_2 86 = .ok (.iastore, 1) := dk_79 (dk_at dksX1_init_2_3 16 rfl rfl)
theorem dX1_init_2_87 : decode cX1_init_2 87 = .ok (.dup, 1) := dk_89 (dk_at dksX1_init_2_3 17 rfl rfl)
theorem dX1_init_2_88 : decode cX1_init_2 88 = .ok (.iconst 3, 1) := dk_6 (dk_at dksX1_init_2_3 18 rfl rfl)
theorem dX1_init_2_89 : decode cX1_init_2 89 = .ok (.iconst 0, 1) := dk_3 (dk_at dksX1_init_2_3 19 rfl rfl)
theorem dX1_init_2_90 : decode cX1_init_2 90 = .ok (.iastore, 1) := dk_79 (dk_at dksX1_init_2_3 20 rfl rfl)
theorem dX1_init_2_91 : decode cX1_init_2 91 = .ok (.dup, 1) := dk_89 (dk_at dksX1_init_2_3 21 rfl rfl)
theorem dX1_init_2_92 : decode cX1_init_2 92 = .ok (.iconst 4, 1) := dk_7 (dk_at dksX1_init_2_3 22 rfl rfl)
theorem dX1_init_2_93 : decode cX1_init_2 93 = .ok (.iconst 0, 1) := dk_3 (dk_at dksX1_init_2_3 23 rfl rfl)
theorem dX1_init_2_94 : decode cX1_init_2 94 = .ok (.iastore, 1) := dk_79 (dk_at dksX1_init_2_4 0 rfl rfl)
theorem dX1_init_2_95 : decode cX1_init_2 95 = .ok (.putfield 57, 3) := dk_181 0 57 (dk_at dksX1_init_2_4 1 rfl rfl)
theorem dX1_init_2_98 : decode cX1_init_2 98 = .ok (.aload_n 0, 1) := dk_42 (dk_at dksX1_init_2_4 4 rfl rfl)
theorem dX1_init_2_99 : decode cX1_init_2 99 = .ok (.iconst 4, 1) := dk_7 (dk_at dksX1_init_2_4 5 rfl rfl)
theorem dX1_init_2_100 : decode cX1_init_2 100 = .ok (.newarray .int, 2) := dk_188_10 (dk_at dksX1_init_2_4 6 rfl rfl)
theorem dX1_init_2_102 : decode cX1_init_2 102 = .ok (.dup, 1) := dk_89 (dk_at dksX1_init_2_4 8 rfl rfl)
theorem dX1_init_2_103 : decode cX1_init_2 103 = .ok (.iconst 0, 1) := dk_3 (dk_at dksX1_init_2_4 9 rfl rfl)
theorem dX1_init_2_104 : decode cX1_init_2 104 = .ok (.iconst (-1), 1) := dk_2 (dk_at dksX1_init_2_4 10 rfl rfl)
theorem dX1_init_2_105 : decode cX1_init_2 105 = .ok (.iastore, 1) := dk_79 (dk_at dksX1_init_2_4 11 rfl rfl)
theorem dX1_init_2_106 : decode cX1_init_2 106 = .ok (.dup, 1) := dk_89 (dk_at dksX1_init_2_4 12 rfl rfl)
theorem dX1_init_2_107 : decode cX1_init_2 107 = .ok (.iconst 1, 1) := dk_4 (dk_at dksX1_init_2_4 13 rfl rfl)
theorem dX1_init_2_108 : decode cX1_init_2 108 = .ok (.sipush 168, 3) := dk_17 0 168 (dk_at dksX1_init_2_4 14 rfl rfl)
theorem dX1_init_2_111 : decode cX1_init_2 111 = .ok (.iastore, 1) := dk_79 (dk_at dksX1_init_2_4 17 rfl rfl)
theorem dX1_init_2_112 : decode cX1_init_2 112 = .ok (.dup, 1) := dk_89 (dk_at dksX1_init_2_4 18 rfl rfl)
theorem dX1_init_2_113 : decode cX1_init_2 113 = .ok (.iconst 2, 1) := dk_5 (dk_at dksX1_init_2_4 19 rfl rfl)
theorem dX1_init_2_114 : decode cX1_init_2 114 = .ok (.iconst 0, 1) := dk_3 (dk_at dksX1_init_2_4 20 rfl rfl)
theorem dX1_init_2_115 : decode cX1_init_2 115 = .ok (.iastore, 1) := dk_79 (dk_at dksX1_init_2_4 21 rfl rfl)
theorem dX1_init_2_116 : decode cX1_init_2 116 = .ok (.dup, 1) := dk_89 (dk_at dksX1_init_2_4 22 rfl rfl)
theorem dX1_init_2_117 : decode cX1_init_2 117 = .ok (.iconst 3, 1) := dk_6 (dk_at dksX1_init_2_4 23 rfl rfl)
theorem dX1_init_2_118 : decode cX1_init_2 118 = .ok (.iconst 0, 1) := dk_3 (dk_at dksX1_init_2_5 0 rfl rfl)
theorem dX1_init_2_119 : decode cX1_init_2 119 = .ok (.iastore, 1) := dk_79 (dk_at dksX1_init_2_5 1 rfl rfl)
theorem dX1_init_2_120 : decode cX1_init_2 120 = .ok (.putfield 60, 3) := dk_181 0 60 (dk_at dksX1_init_2_5 2 rfl rfl)
theorem dX1_init_2_123 : decode cX1_init_2 123 = .ok (.aload_n 0, 1) := dk_42 (dk_at dksX1_init_2_5 5 rfl rfl)
theorem dX1_init_2_124 : decode cX1_init_2 124 = .ok (.iconst 1, 1) := dk_4 (dk_at dksX1_init_2_5 6 rfl rfl)
theorem dX1_init_2_125 : decode cX1_init_2 125 = .ok (.putfield 63, 3) := dk_181 0 63 (dk_at dksX1_init_2_5 7 rfl rfl)
theorem dX1_init_2_128 : decode cX1_init_2 128 = .ok (.aload_n 0, 1) := dk_42 (dk_at dksX1_init_2_5 10 rfl rfl)
theorem dX1_init_2_129 : decode cX1_init_2 129 = .ok (.sipush 200, 3) := dk_17 0 200 (dk_at dksX1_init_2_5 11 rfl rfl)
theorem dX1_init_2_132 : decode cX1_init_2 132 = .ok (.newarray .int, 2) := dk_188_10 (dk_at dksX1_init_2_5 14 rfl rfl)
theorem dX1_init_2_134 : decode cX1_init_2 134 = .ok (.putfield 67, 3) := dk_181 0 67 (dk_at dksX1_init_2_5 16 rfl rfl)
theorem dX1_init_2_137 : decode cX1_init_2 137 = .ok (.aload_n 0, 1) := dk_42 (dk_at dksX1_init_2_5 19 rfl rfl)
theorem dX1_init_2_138 : decode cX1_init_2 138 = .ok (.sipush 200, 3) := dk_17 0 200 (dk_at dksX1_init_2_5 20 rfl rfl)
theorem dX1_init_2_141 : decode cX1_init_2 141 = .ok (.newarray .int, 2) := dk_188_10 (dk_at dksX1_init_2_6 0 rfl rfl)
theorem dX1_init_2_143 : decode cX1_init_2 143 = .ok (.putfield 70, 3) := dk_181 0 70 (dk_at dksX1_init_2_6 2 rfl rfl)
theorem dX1_init_2_146 : decode cX1_init_2 146 = .ok (.aload_n 0, 1) := dk_42 (dk_at dksX1_init_2_6 5 rfl rfl)
theorem dX1_init_2_147 : decode cX1_init_2 147 = .ok (.iload_n 1, 1) := dk_27 (dk_at dksX1_init_2_6 6 rfl rfl)
theorem dX1_init_2_148 : decode cX1_init_2 148 = .ok (.putfield 73, 3) := dk_181 0 73 (dk_at dksX1_init_2_6 7 rfl rfl)
theorem dX1_init_2_151 : decode cX1_init_2 151 = .ok (.aload_n 0, 1) := dk_42 (dk_at dksX1_init_2_6 10 rfl rfl)
theorem dX1_init_2_152 : decode cX1_init_2 152 = .ok (.aload_n 2, 1) := dk_44 (dk_at dksX1_init_2_6 11 rfl rfl)
theorem dX1_init_2_153 : decode cX1_init_2 153 = .ok (.putfield 17, 3) := dk_181 0 17 (dk_at dksX1_init_2_6 12 rfl rfl)
theorem dX1_init_2_156 : decode cX1_init_2 156 = .ok (.aload_n 0, 1) := dk_42 (dk_at dksX1_init_2_6 15 rfl rfl)
theorem dX1_init_2_157 : decode cX1_init_2 157 = .ok (.aload_n 3, 1) := dk_45 (dk_at dksX1_init_2_6 16 rfl rfl)
theorem dX1_init_2_158 : decode cX1_init_2 158 = .ok (.putfield 21, 3) := dk_181 0 21 (dk_at dksX1_init_2_6 17 rfl rfl)
theorem dX1_init_2_161 : decode cX1_init_2 161 = .ok (.iconst 0, 1) := dk_3 (dk_at dksX1_init_2_6 20 rfl rfl)
theorem dX1_init_2_162 : decode cX1_init_2 162 = .ok (.istore 4, 2) := dk_54 4 (dk_at dksX1_init_2_6 21 rfl rfl)
theorem dX1_init_2_164 : decode cX1_init_2 164 = .ok (.iload 4, 2) := dk_21 4 (dk_at dksX1_init_2_7 0 rfl rfl)
theorem dX1_init_2_166 : decode cX1_init_2 166 = .ok (.bipush 24, 2) := dk_16 24 (dk_at dksX1_init_2_7 2 rfl rfl)
theorem dX1_init_2_168 : decode cX1_init_2 168 = .ok (.if_icmp .ge 17, 3) := dk_162 0 17 (dk_at dksX1_init_2_7 4 rfl rfl)
theorem dX1_init_2_171 : decode cX1_init_2 171 = .ok (.aload_n 0, 1) := dk_42 (dk_at dksX1_init_2_7 7 rfl rfl)
theorem dX1_init_2_172 : decode cX1_init_2 172 = .ok (.getfield 35, 3) := dk_180 0 35 (dk_at dksX1_init_2_7 8 rfl rfl)
theorem dX1_init_2_175 : decode cX1_init_2 175 = .ok (.iload 4, 2) := dk_21 4 (dk_at dksX1_init_2_7 11 rfl rfl)
theorem dX1_init_2_177 : decode cX1_init_2 177 = .ok (.iconst (-1), 1) := dk_2 (dk_at dksX1_init_2_7 13 rfl rfl)
theorem dX1_init_2_178 : decode cX1_init_2 178 = .ok (.iastore, 1) := dk_79 (dk_at dksX1_init_2_7 14 rfl rfl)
theorem dX1_init_2_179 : decode cX1_init_2 179 = .ok (.iinc 4 1, 3) := dk_132 4 1 (dk_at dksX1_init_2_7 15 rfl rfl)
theorem dX1_init_2_182 : decode cX1_init_2 182 = .ok (.goto (-18), 3) := dk_167 255 238 (dk_at dksX1_init_2_7 18 rfl rfl)
theorem dX1_init_2_185 : decode cX1_init_2 185 = .ok (.return_, 1) := dk_177 (dk_at dksX1_init_2_7 21 rfl rfl)
abbrev cX1_init_3 : ByteArray := prog_32_method_2_code
def yX1_init_3 : MethodName := ⟨RX1, "<init>", "(LKeptLight$World;)V"⟩
def dkwX1_init_3_0 : List UInt8 := [42, 4, 43, 180, 0, 17, 43, 180, 0, 21, 183, 0, 12, 177]
abbrev dktX1_init_3_0 : List UInt8 := dkwX1_init_3_0 ++ []
theorem dksX1_init_3_0 : cX1_init_3.data.toList.drop 0 = dktX1_init_3_0 := by decide +kernel
theorem dX1_init_3_0 : decode cX1_init_3 0 = .ok (.aload_n 0, 1) := dk_42 (dk_at dksX1_init_3_0 0 rfl rfl)
theorem dX1_init_3_1 : decode cX1_init_3 1 = .ok (.iconst 1, 1) := dk_4 (dk_at dksX1_init_3_0 1 rfl rfl)
theorem dX1_init_3_2 : decode cX1_init_3 2 = .ok (.aload_n 1, 1) := dk_43 (dk_at dksX1_init_3_0 2 rfl rfl)
theorem dX1_init_3_3 : decode cX1_init_3 3 = .ok (.getfield 17, 3) := dk_180 0 17 (dk_at dksX1_init_3_0 3 rfl rfl)
theorem dX1_init_3_6 : decode cX1_init_3 6 = .ok (.aload_n 1, 1) := dk_43 (dk_at dksX1_init_3_0 6 rfl rfl)
theorem dX1_init_3_7 : decode cX1_init_3 7 = .ok (.getfield 21, 3) := dk_180 0 21 (dk_at dksX1_init_3_0 7 rfl rfl)
theorem dX1_init_3_10 : decode cX1_init_3 10 = .ok (.invokespecial 12, 3) := dk_183 0 12 (dk_at dksX1_init_3_0 10 rfl rfl)
theorem dX1_init_3_13 : decode cX1_init_3 13 = .ok (.return_, 1) := dk_177 (dk_at dksX1_init_3_0 13 rfl rfl)
abbrev cX1_tells : ByteArray := prog_32_method_8_code
def yX1_tells : MethodName := ⟨RX1, "tells", "(Ljava/util/LinkedList;)V"⟩
def dkwX1_tells_2 : List UInt8 := [89, 180, 0, 120, 45, 180, 0, 186, 96, 181, 0, 120, 167, 255, 224, 177]
abbrev dktX1_tells_2 : List UInt8 := dkwX1_tells_2 ++ []
def dkwX1_tells_1 : List UInt8 := [182, 0, 170, 77, 44, 185, 0, 176, 1, 0, 153, 0, 29, 44, 185, 0, 182, 1, 0, 192, 0, 118, 78, 42]
abbrev dktX1_tells_1 : List UInt8 := dkwX1_tells_1 ++ dktX1_tells_2
def dkwX1_tells_0 : List UInt8 := [42, 180, 0, 45, 182, 0, 115, 42, 180, 0, 45, 43, 182, 0, 166, 87, 42, 3, 181, 0, 120, 43]
abbrev dktX1_tells_0 : List UInt8 := dkwX1_tells_0 ++ dktX1_tells_1
theorem dksX1_tells_0 : cX1_tells.data.toList.drop 0 = dktX1_tells_0 := by decide +kernel
theorem dksX1_tells_1 : cX1_tells.data.toList.drop 22 = dktX1_tells_1 := dk_seg dksX1_tells_0 22 rfl rfl
theorem dksX1_tells_2 : cX1_tells.data.toList.drop 46 = dktX1_tells_2 := dk_seg dksX1_tells_1 24 rfl rfl
theorem dX1_tells_0 : decode cX1_tells 0 = .ok (.aload_n 0, 1) := dk_42 (dk_at dksX1_tells_0 0 rfl rfl)
theorem dX1_tells_1 : decode cX1_tells 1 = .ok (.getfield 45, 3) := dk_180 0 45 (dk_at dksX1_tells_0 1 rfl rfl)
theorem dX1_tells_4 : decode cX1_tells 4 = .ok (.invokevirtual 115, 3) := dk_182 0 115 (dk_at dksX1_tells_0 4 rfl rfl)
theorem dX1_tells_7 : decode cX1_tells 7 = .ok (.aload_n 0, 1) := dk_42 (dk_at dksX1_tells_0 7 rfl rfl)
theorem dX1_tells_8 : decode cX1_tells 8 = .ok (.getfield 45, 3) := dk_180 0 45 (dk_at dksX1_tells_0 8 rfl rfl)
theorem dX1_tells_11 : decode cX1_tells 11 = .ok (.aload_n 1, 1) := dk_43 (dk_at dksX1_tells_0 11 rfl rfl)
theorem dX1_tells_12 : decode cX1_tells 12 = .ok (.invokevirtual 166, 3) := dk_182 0 166 (dk_at dksX1_tells_0 12 rfl rfl)
theorem dX1_tells_15 : decode cX1_tells 15 = .ok (.pop, 1) := dk_87 (dk_at dksX1_tells_0 15 rfl rfl)
theorem dX1_tells_16 : decode cX1_tells 16 = .ok (.aload_n 0, 1) := dk_42 (dk_at dksX1_tells_0 16 rfl rfl)
theorem dX1_tells_17 : decode cX1_tells 17 = .ok (.iconst 0, 1) := dk_3 (dk_at dksX1_tells_0 17 rfl rfl)
theorem dX1_tells_18 : decode cX1_tells 18 = .ok (.putfield 120, 3) := dk_181 0 120 (dk_at dksX1_tells_0 18 rfl rfl)
theorem dX1_tells_21 : decode cX1_tells 21 = .ok (.aload_n 1, 1) := dk_43 (dk_at dksX1_tells_0 21 rfl rfl)
theorem dX1_tells_22 : decode cX1_tells 22 = .ok (.invokevirtual 170, 3) := dk_182 0 170 (dk_at dksX1_tells_1 0 rfl rfl)
theorem dX1_tells_25 : decode cX1_tells 25 = .ok (.astore_n 2, 1) := dk_77 (dk_at dksX1_tells_1 3 rfl rfl)
theorem dX1_tells_26 : decode cX1_tells 26 = .ok (.aload_n 2, 1) := dk_44 (dk_at dksX1_tells_1 4 rfl rfl)
theorem dX1_tells_27 : decode cX1_tells 27 = .ok (.invokeinterface 176 1, 5) := by decide +kernel
theorem dX1_tells_32 : decode cX1_tells 32 = .ok (.ifCond .eq 29, 3) := dk_153 0 29 (dk_at dksX1_tells_1 10 rfl rfl)
theorem dX1_tells_35 : decode cX1_tells 35 = .ok (.aload_n 2, 1) := dk_44 (dk_at dksX1_tells_1 13 rfl rfl)
theorem dX1_tells_36 : decode cX1_tells 36 = .ok (.invokeinterface 182 1, 5) := by decide +kernel
theorem dX1_tells_41 : decode cX1_tells 41 = .ok (.checkcast 118, 3) := dk_192 0 118 (dk_at dksX1_tells_1 19 rfl rfl)
theorem dX1_tells_44 : decode cX1_tells 44 = .ok (.astore_n 3, 1) := dk_78 (dk_at dksX1_tells_1 22 rfl rfl)
theorem dX1_tells_45 : decode cX1_tells 45 = .ok (.aload_n 0, 1) := dk_42 (dk_at dksX1_tells_1 23 rfl rfl)
theorem dX1_tells_46 : decode cX1_tells 46 = .ok (.dup, 1) := dk_89 (dk_at dksX1_tells_2 0 rfl rfl)
theorem dX1_tells_47 : decode cX1_tells 47 = .ok (.getfield 120, 3) := dk_180 0 120 (dk_at dksX1_tells_2 1 rfl rfl)
theorem dX1_tells_50 : decode cX1_tells 50 = .ok (.aload_n 3, 1) := dk_45 (dk_at dksX1_tells_2 4 rfl rfl)
theorem dX1_tells_51 : decode cX1_tells 51 = .ok (.getfield 186, 3) := dk_180 0 186 (dk_at dksX1_tells_2 5 rfl rfl)
theorem dX1_tells_54 : decode cX1_tells 54 = .ok (.iadd, 1) := dk_96 (dk_at dksX1_tells_2 8 rfl rfl)
theorem dX1_tells_55 : decode cX1_tells 55 = .ok (.putfield 120, 3) := dk_181 0 120 (dk_at dksX1_tells_2 9 rfl rfl)
theorem dX1_tells_58 : decode cX1_tells 58 = .ok (.goto (-32), 3) := dk_167 255 224 (dk_at dksX1_tells_2 12 rfl rfl)
theorem dX1_tells_61 : decode cX1_tells 61 = .ok (.return_, 1) := dk_177 (dk_at dksX1_tells_2 15 rfl rfl)
abbrev cX1_comes : ByteArray := prog_32_method_11_code
def yX1_comes : MethodName := ⟨RX1, "comes", "(LKeptLight$Ship;)V"⟩
def dkwX1_comes_0 : List UInt8 := [42, 180, 0, 39, 43, 182, 0, 97, 87, 42, 180, 0, 17, 43, 182, 0, 201, 177]
abbrev dktX1_comes_0 : List UInt8 := dkwX1_comes_0 ++ []
theorem dksX1_comes_0 : cX1_comes.data.toList.drop 0 = dktX1_comes_0 := by decide +kernel
theorem dX1_comes_0 : decode cX1_comes 0 = .ok (.aload_n 0, 1) := dk_42 (dk_at dksX1_comes_0 0 rfl rfl)
theorem dX1_comes_1 : decode cX1_comes 1 = .ok (.getfield 39, 3) := dk_180 0 39 (dk_at dksX1_comes_0 1 rfl rfl)
theorem dX1_comes_4 : decode cX1_comes 4 = .ok (.aload_n 1, 1) := dk_43 (dk_at dksX1_comes_0 4 rfl rfl)
theorem dX1_comes_5 : decode cX1_comes 5 = .ok (.invokevirtual 97, 3) := dk_182 0 97 (dk_at dksX1_comes_0 5 rfl rfl)
theorem dX1_comes_8 : decode cX1_comes 8 = .ok (.pop, 1) := dk_87 (dk_at dksX1_comes_0 8 rfl rfl)
theorem dX1_comes_9 : decode cX1_comes 9 = .ok (.aload_n 0, 1) := dk_42 (dk_at dksX1_comes_0 9 rfl rfl)
theorem dX1_comes_10 : decode cX1_comes 10 = .ok (.getfield 17, 3) := dk_180 0 17 (dk_at dksX1_comes_0 10 rfl rfl)
theorem dX1_comes_13 : decode cX1_comes 13 = .ok (.aload_n 1, 1) := dk_43 (dk_at dksX1_comes_0 13 rfl rfl)
theorem dX1_comes_14 : decode cX1_comes 14 = .ok (.invokevirtual 201, 3) := dk_182 0 201 (dk_at dksX1_comes_0 14 rfl rfl)
theorem dX1_comes_17 : decode cX1_comes 17 = .ok (.return_, 1) := dk_177 (dk_at dksX1_comes_0 17 rfl rfl)
abbrev cX1_hours : ByteArray := prog_32_method_21_code
def yX1_hours : MethodName := ⟨RX1, "hours", "(I)I"⟩
def dkwX1_hours_1 : List UInt8 := [180, 0, 137, 28, 100, 172]
abbrev dktX1_hours_1 : List UInt8 := dkwX1_hours_1 ++ []
def dkwX1_hours_0 : List UInt8 := [42, 180, 0, 137, 61, 3, 62, 29, 27, 162, 0, 13, 42, 182, 1, 58, 132, 3, 1, 167, 255, 244, 42]
abbrev dktX1_hours_0 : List UInt8 := dkwX1_hours_0 ++ dktX1_hours_1
theorem dksX1_hours_0 : cX1_hours.data.toList.drop 0 = dktX1_hours_0 := by decide +kernel
theorem dksX1_hours_1 : cX1_hours.data.toList.drop 23 = dktX1_hours_1 := dk_seg dksX1_hours_0 23 rfl rfl
theorem dX1_hours_0 : decode cX1_hours 0 = .ok (.aload_n 0, 1) := dk_42 (dk_at dksX1_hours_0 0 rfl rfl)
theorem dX1_hours_1 : decode cX1_hours 1 = .ok (.getfield 137, 3) := dk_180 0 137 (dk_at dksX1_hours_0 1 rfl rfl)
theorem dX1_hours_4 : decode cX1_hours 4 = .ok (.istore_n 2, 1) := dk_61 (dk_at dksX1_hours_0 4 rfl rfl)
theorem dX1_hours_5 : decode cX1_hours 5 = .ok (.iconst 0, 1) := dk_3 (dk_at dksX1_hours_0 5 rfl rfl)
theorem dX1_hours_6 : decode cX1_hours 6 = .ok (.istore_n 3, 1) := dk_62 (dk_at dksX1_hours_0 6 rfl rfl)
theorem dX1_hours_7 : decode cX1_hours 7 = .ok (.iload_n 3, 1) := dk_29 (dk_at dksX1_hours_0 7 rfl rfl)
theorem dX1_hours_8 : decode cX1_hours 8 = .ok (.iload_n 1, 1) := dk_27 (dk_at dksX1_hours_0 8 rfl rfl)
theorem dX1_hours_9 : decode cX1_hours 9 = .ok (.if_icmp .ge 13, 3) := dk_162 0 13 (dk_at dksX1_hours_0 9 rfl rfl)
theorem dX1_hours_12 : decode cX1_hours 12 = .ok (.aload_n 0, 1) := dk_42 (dk_at dksX1_hours_0 12 rfl rfl)
theorem dX1_hours_13 : decode cX1_hours 13 = .ok (.invokevirtual 314, 3) := dk_182 1 58 (dk_at dksX1_hours_0 13 rfl rfl)
theorem dX1_hours_16 : decode cX1_hours 16 = .ok (.iinc 3 1, 3) := dk_132 3 1 (dk_at dksX1_hours_0 16 rfl rfl)
theorem dX1_hours_19 : decode cX1_hours 19 = .ok (.goto (-12), 3) := dk_167 255 244 (dk_at dksX1_hours_0 19 rfl rfl)
theorem dX1_hours_22 : decode cX1_hours 22 = .ok (.aload_n 0, 1) := dk_42 (dk_at dksX1_hours_0 22 rfl rfl)
theorem dX1_hours_23 : decode cX1_hours 23 = .ok (.getfield 137, 3) := dk_180 0 137 (dk_at dksX1_hours_1 0 rfl rfl)
theorem dX1_hours_26 : decode cX1_hours 26 = .ok (.iload_n 2, 1) := dk_28 (dk_at dksX1_hours_1 3 rfl rfl)
theorem dX1_hours_27 : decode cX1_hours 27 = .ok (.isub, 1) := dk_100 (dk_at dksX1_hours_1 4 rfl rfl)
theorem dX1_hours_28 : decode cX1_hours 28 = .ok (.ireturn, 1) := dk_172 (dk_at dksX1_hours_1 5 rfl rfl)
abbrev cX1_hours_2 : ByteArray := prog_32_method_20_code
def yX1_hours_2 : MethodName := ⟨RX1, "hours", "()V"⟩
def dkwX1_hours_2_12 : List UInt8 := [42, 89, 180, 0, 128, 4, 96, 181, 0, 128, 177]
abbrev dktX1_hours_2_12 : List UInt8 := dkwX1_hours_2_12 ++ []
def dkwX1_hours_2_11 : List UInt8 := [153, 0, 11, 42, 4, 2, 25, 4, 182, 0, 224, 42, 25, 5, 43, 182, 1, 51, 42, 25, 7, 182, 1, 55]
abbrev dktX1_hours_2_11 : List UInt8 := dkwX1_hours_2_11 ++ dktX1_hours_2_12
def dkwX1_hours_2_10 : List UInt8 := [25, 4, 198, 0, 31, 25, 5, 199, 0, 26, 25, 4, 180, 0, 87, 182, 1, 46, 153, 0, 15, 28]
abbrev dktX1_hours_2_10 : List UInt8 := dkwX1_hours_2_10 ++ dktX1_hours_2_11
def dkwX1_hours_2_9 : List UInt8 := [180, 0, 73, 153, 0, 12, 42, 25, 7, 182, 1, 40, 167, 0, 44, 42, 25, 7, 25, 5, 182, 1, 43]
abbrev dktX1_hours_2_9 : List UInt8 := dkwX1_hours_2_9 ++ dktX1_hours_2_10
def dkwX1_hours_2_8 : List UInt8 := [25, 4, 89, 180, 1, 37, 25, 5, 199, 0, 7, 4, 167, 0, 4, 3, 184, 0, 247, 96, 181, 1, 37, 42]
abbrev dktX1_hours_2_8 : List UInt8 := dkwX1_hours_2_8 ++ dktX1_hours_2_9
def dkwX1_hours_2_7 : List UInt8 := [25, 4, 89, 180, 1, 34, 25, 5, 198, 0, 7, 4, 167, 0, 4, 3, 184, 0, 247, 96, 181, 1, 34]
abbrev dktX1_hours_2_7 : List UInt8 := dkwX1_hours_2_7 ++ dktX1_hours_2_8
def dkwX1_hours_2_6 : List UInt8 := [79, 42, 180, 0, 21, 43, 28, 42, 180, 0, 131, 21, 6, 182, 1, 30, 58, 7, 25, 4, 198, 0, 49]
abbrev dktX1_hours_2_6 : List UInt8 := dkwX1_hours_2_6 ++ dktX1_hours_2_7
def dkwX1_hours_2_5 : List UInt8 := [167, 0, 4, 3, 54, 6, 42, 180, 0, 57, 7, 92, 46, 21, 6, 153, 0, 7, 4, 167, 0, 4, 3, 100]
abbrev dktX1_hours_2_5 : List UInt8 := dkwX1_hours_2_5 ++ dktX1_hours_2_6
def dkwX1_hours_2_4 : List UInt8 := [182, 1, 27, 153, 0, 22, 25, 5, 198, 0, 17, 42, 180, 0, 57, 7, 46, 4, 161, 0, 7, 4]
abbrev dktX1_hours_2_4 : List UInt8 := dkwX1_hours_2_4 ++ dktX1_hours_2_5
def dkwX1_hours_2_3 : List UInt8 := [167, 0, 4, 1, 58, 5, 42, 28, 25, 5, 198, 0, 7, 4, 167, 0, 4, 3, 182, 1, 23, 43]
abbrev dktX1_hours_2_3 : List UInt8 := dkwX1_hours_2_3 ++ dktX1_hours_2_4
def dkwX1_hours_2_2 : List UInt8 := [182, 0, 81, 192, 0, 85, 58, 4, 25, 4, 198, 0, 16, 25, 4, 182, 1, 20, 154, 0, 8, 25, 4]
abbrev dktX1_hours_2_2 : List UInt8 := dkwX1_hours_2_2 ++ dktX1_hours_2_3
def dkwX1_hours_2_1 : List UInt8 := [180, 0, 128, 16, 24, 112, 46, 62, 29, 2, 160, 0, 7, 1, 167, 0, 14, 42, 180, 0, 31, 29]
abbrev dktX1_hours_2_1 : List UInt8 := dkwX1_hours_2_1 ++ dktX1_hours_2_2
def dkwX1_hours_2_0 : List UInt8 := [42, 42, 180, 0, 128, 182, 1, 14, 76, 42, 42, 180, 0, 128, 182, 1, 17, 61, 42, 180, 0, 35, 42]
abbrev dktX1_hours_2_0 : List UInt8 := dkwX1_hours_2_0 ++ dktX1_hours_2_1
theorem dksX1_hours_2_0 : cX1_hours_2.data.toList.drop 0 = dktX1_hours_2_0 := by decide +kernel
theorem dksX1_hours_2_1 : cX1_hours_2.data.toList.drop 23 = dktX1_hours_2_1 := dk_seg dksX1_hours_2_0 23 rfl rfl
theorem dksX1_hours_2_2 : cX1_hours_2.data.toList.drop 45 = dktX1_hours_2_2 := dk_seg dksX1_hours_2_1 22 rfl rfl
theorem dksX1_hours_2_3 : cX1_hours_2.data.toList.drop 68 = dktX1_hours_2_3 := dk_seg dksX1_hours_2_2 23 rfl rfl
theorem dksX1_hours_2_4 : cX1_hours_2.data.toList.drop 90 = dktX1_hours_2_4 := dk_seg dksX1_hours_2_3 22 rfl rfl
theorem dksX1_hours_2_5 : cX1_hours_2.data.toList.drop 112 = dktX1_hours_2_5 := dk_seg dksX1_hours_2_4 22 rfl rfl
theorem dksX1_hours_2_6 : cX1_hours_2.data.toList.drop 136 = dktX1_hours_2_6 := dk_seg dksX1_hours_2_5 24 rfl rfl
theorem dksX1_hours_2_7 : cX1_hours_2.data.toList.drop 159 = dktX1_hours_2_7 := dk_seg dksX1_hours_2_6 23 rfl rfl
theorem dksX1_hours_2_8 : cX1_hours_2.data.toList.drop 182 = dktX1_hours_2_8 := dk_seg dksX1_hours_2_7 23 rfl rfl
theorem dksX1_hours_2_9 : cX1_hours_2.data.toList.drop 206 = dktX1_hours_2_9 := dk_seg dksX1_hours_2_8 24 rfl rfl
theorem dksX1_hours_2_10 : cX1_hours_2.data.toList.drop 229 = dktX1_hours_2_10 := dk_seg dksX1_hours_2_9 23 rfl rfl
theorem dksX1_hours_2_11 : cX1_hours_2.data.toList.drop 251 = dktX1_hours_2_11 := dk_seg dksX1_hours_2_10 22 rfl rfl
theorem dksX1_hours_2_12 : cX1_hours_2.data.toList.drop 275 = dktX1_hours_2_12 := dk_seg dksX1_hours_2_11 24 rfl rfl
theorem dX1_hours_2_0 : decode cX1_hours_2 0 = .ok (.aload_n 0, 1) := dk_42 (dk_at dksX1_hours_2_0 0 rfl rfl)
theorem dX1_hours_2_1 : decode cX1_hours_2 1 = .ok (.aload_n 0, 1) := dk_42 (dk_at dksX1_hours_2_0 1 rfl rfl)
theorem dX1_hours_2_2 : decode cX1_hours_2 2 = .ok (.getfield 128, 3) := dk_180 0 128 (dk_at dksX1_hours_2_0 2 rfl rfl)
theorem dX1_hours_2_5 : decode cX1_hours_2 5 = .ok (.invokevirtual 270, 3) := dk_182 1 14 (dk_at dksX1_hours_2_0 5 rfl rfl)
theorem dX1_hours_2_8 : decode cX1_hours_2 8 = .ok (.astore_n 1, 1) := dk_76 (dk_at dksX1_hours_2_0 8 rfl rfl)
theorem dX1_hours_2_9 : decode cX1_hours_2 9 = .ok (.aload_n 0, 1) := dk_42 (dk_at dksX1_hours_2_0 9 rfl rfl)
theorem dX1_hours_2_10 : decode cX1_hours_2 10 = .ok (.aload_n 0, 1) := dk_42 (dk_at dksX1_hours_2_0 10 rfl rfl)
theorem dX1_hours_2_11 : decode cX1_hours_2 11 = .ok (.getfield 128, 3) := dk_180 0 128 (dk_at dksX1_hours_2_0 11 rfl rfl)
theorem dX1_hours_2_14 : decode cX1_hours_2 14 = .ok (.invokevirtual 273, 3) := dk_182 1 17 (dk_at dksX1_hours_2_0 14 rfl rfl)
theorem dX1_hours_2_17 : decode cX1_hours_2 17 = .ok (.istore_n 2, 1) := dk_61 (dk_at dksX1_hours_2_0 17 rfl rfl)
theorem dX1_hours_2_18 : decode cX1_hours_2 18 = .ok (.aload_n 0, 1) := dk_42 (dk_at dksX1_hours_2_0 18 rfl rfl)
theorem dX1_hours_2_19 : decode cX1_hours_2 19 = .ok (.getfield 35, 3) := dk_180 0 35 (dk_at dksX1_hours_2_0 19 rfl rfl)
theorem dX1_hours_2_22 : decode cX1_hours_2 22 = .ok (.aload_n 0, 1) := dk_42 (dk_at dksX1_hours_2_0 22 rfl rfl)
theorem dX1_hours_2_23 : decode cX1_hours_2 23 = .ok (.getfield 128, 3) := dk_180 0 128 (dk_at dksX1_hours_2_1 0 rfl rfl)
theorem dX1_hours_2_26 : decode cX1_hours_2 26 = .ok (.bipush 24, 2) := dk_16 24 (dk_at dksX1_hours_2_1 3 rfl rfl)
theorem dX1_hours_2_28 : decode cX1_hours_2 28 = .ok (.irem, 1) := dk_112 (dk_at dksX1_hours_2_1 5 rfl rfl)
theorem dX1_hours_2_29 : decode cX1_hours_2 29 = .ok (.iaload, 1) := dk_46 (dk_at dksX1_hours_2_1 6 rfl rfl)
theorem dX1_hours_2_30 : decode cX1_hours_2 30 = .ok (.istore_n 3, 1) := dk_62 (dk_at dksX1_hours_2_1 7 rfl rfl)
theorem dX1_hours_2_31 : decode cX1_hours_2 31 = .ok (.iload_n 3, 1) := dk_29 (dk_at dksX1_hours_2_1 8 rfl rfl)
theorem dX1_hours_2_32 : decode cX1_hours_2 32 = .ok (.iconst (-1), 1) := dk_2 (dk_at dksX1_hours_2_1 9 rfl rfl)
theorem dX1_hours_2_33 : decode cX1_hours_2 33 = .ok (.if_icmp .ne 7, 3) := dk_160 0 7 (dk_at dksX1_hours_2_1 10 rfl rfl)
theorem dX1_hours_2_36 : decode cX1_hours_2 36 = .ok (.aconst_null, 1) := dk_1 (dk_at dksX1_hours_2_1 13 rfl rfl)
theorem dX1_hours_2_37 : decode cX1_hours_2 37 = .ok (.goto 14, 3) := dk_167 0 14 (dk_at dksX1_hours_2_1 14 rfl rfl)
theorem dX1_hours_2_40 : decode cX1_hours_2 40 = .ok (.aload_n 0, 1) := dk_42 (dk_at dksX1_hours_2_1 17 rfl rfl)
theorem dX1_hours_2_41 : decode cX1_hours_2 41 = .ok (.getfield 31, 3) := dk_180 0 31 (dk_at dksX1_hours_2_1 18 rfl rfl)
theorem dX1_hours_2_44 : decode cX1_hours_2 44 = .ok (.iload_n 3, 1) := dk_29 (dk_at dksX1_hours_2_1 21 rfl rfl)
theorem dX1_hours_2_45 : decode cX1_hours_2 45 = .ok (.invokevirtual 81, 3) := dk_182 0 81 (dk_at dksX1_hours_2_2 0 rfl rfl)
theorem dX1_hours_2_48 : decode cX1_hours_2 48 = .ok (.checkcast 85, 3) := dk_192 0 85 (dk_at dksX1_hours_2_2 3 rfl rfl)
theorem dX1_hours_2_51 : decode cX1_hours_2 51 = .ok (.astore 4, 2) := dk_58 4 (dk_at dksX1_hours_2_2 6 rfl rfl)
theorem dX1_hours_2_53 : decode cX1_hours_2 53 = .ok (.aload 4, 2) := dk_25 4 (dk_at dksX1_hours_2_2 8 rfl rfl)
theorem dX1_hours_2_55 : decode cX1_hours_2 55 = .ok (.ifnull 16, 3) := dk_198 0 16 (dk_at dksX1_hours_2_2 10 rfl rfl)
theorem dX1_hours_2_58 : decode cX1_hours_2 58 = .ok (.aload 4, 2) := dk_25 4 (dk_at dksX1_hours_2_2 13 rfl rfl)
theorem dX1_hours_2_60 : decode cX1_hours_2 60 = .ok (.invokevirtual 276, 3) := dk_182 1 20 (dk_at dksX1_hours_2_2 15 rfl rfl)
theorem dX1_hours_2_63 : decode cX1_hours_2 63 = .ok (.ifCond .ne 8, 3) := dk_154 0 8 (dk_at dksX1_hours_2_2 18 rfl rfl)
theorem dX1_hours_2_66 : decode cX1_hours_2 66 = .ok (.aload 4, 2) := dk_25 4 (dk_at dksX1_hours_2_2 21 rfl rfl)
theorem dX1_hours_2_68 : decode cX1_hours_2 68 = .ok (.goto 4, 3) := dk_167 0 4 (dk_at dksX1_hours_2_3 0 rfl rfl)
theorem dX1_hours_2_71 : decode cX1_hours_2 71 = .ok (.aconst_null, 1) := dk_1 (dk_at dksX1_hours_2_3 3 rfl rfl)
theorem dX1_hours_2_72 : decode cX1_hours_2 72 = .ok (.astore 5, 2) := dk_58 5 (dk_at dksX1_hours_2_3 4 rfl rfl)
theorem dX1_hours_2_74 : decode cX1_hours_2 74 = .ok (.aload_n 0, 1) := dk_42 (dk_at dksX1_hours_2_3 6 rfl rfl)
theorem dX1_hours_2_75 : decode cX1_hours_2 75 = .ok (.iload_n 2, 1) := dk_28 (dk_at dksX1_hours_2_3 7 rfl rfl)
theorem dX1_hours_2_76 : decode cX1_hours_2 76 = .ok (.aload 5, 2) := dk_25 5 (dk_at dksX1_hours_2_3 8 rfl rfl)
theorem dX1_hours_2_78 : decode cX1_hours_2 78 = .ok (.ifnull 7, 3) := dk_198 0 7 (dk_at dksX1_hours_2_3 10 rfl rfl)
theorem dX1_hours_2_81 : decode cX1_hours_2 81 = .ok (.iconst 1, 1) := dk_4 (dk_at dksX1_hours_2_3 13 rfl rfl)
theorem dX1_hours_2_82 : decode cX1_hours_2 82 = .ok (.goto 4, 3) := dk_167 0 4 (dk_at dksX1_hours_2_3 14 rfl rfl)
theorem dX1_hours_2_85 : decode cX1_hours_2 85 = .ok (.iconst 0, 1) := dk_3 (dk_at dksX1_hours_2_3 17 rfl rfl)
theorem dX1_hours_2_86 : decode cX1_hours_2 86 = .ok (.invokevirtual 279, 3) := dk_182 1 23 (dk_at dksX1_hours_2_3 18 rfl rfl)
theorem dX1_hours_2_89 : decode cX1_hours_2 89 = .ok (.aload_n 1, 1) := dk_43 (dk_at dksX1_hours_2_3 21 rfl rfl)
theorem dX1_hours_2_90 : decode cX1_hours_2 90 = .ok (.invokevirtual 283, 3) := dk_182 1 27 (dk_at dksX1_hours_2_4 0 rfl rfl)
theorem dX1_hours_2_93 : decode cX1_hours_2 93 = .ok (.ifCond .eq 22, 3) := dk_153 0 22 (dk_at dksX1_hours_2_4 3 rfl rfl)
theorem dX1_hours_2_96 : decode cX1_hours_2 96 = .ok (.aload 5, 2) := dk_25 5 (dk_at dksX1_hours_2_4 6 rfl rfl)
theorem dX1_hours_2_98 : decode cX1_hours_2 98 = .ok (.ifnull 17, 3) := dk_198 0 17 (dk_at dksX1_hours_2_4 8 rfl rfl)
theorem dX1_hours_2_101 : decode cX1_hours_2 101 = .ok (.aload_n 0, 1) := dk_42 (dk_at dksX1_hours_2_4 11 rfl rfl)
theorem dX1_hours_2_102 : decode cX1_hours_2 102 = .ok (.getfield 57, 3) := dk_180 0 57 (dk_at dksX1_hours_2_4 12 rfl rfl)
theorem dX1_hours_2_105 : decode cX1_hours_2 105 = .ok (.iconst 4, 1) := dk_7 (dk_at dksX1_hours_2_4 15 rfl rfl)
theorem dX1_hours_2_106 : decode cX1_hours_2 106 = .ok (.iaload, 1) := dk_46 (dk_at dksX1_hours_2_4 16 rfl rfl)
theorem dX1_hours_2_107 : decode cX1_hours_2 107 = .ok (.iconst 1, 1) := dk_4 (dk_at dksX1_hours_2_4 17 rfl rfl)
theorem dX1_hours_2_108 : decode cX1_hours_2 108 = .ok (.if_icmp .lt 7, 3) := dk_161 0 7 (dk_at dksX1_hours_2_4 18 rfl rfl)
theorem dX1_hours_2_111 : decode cX1_hours_2 111 = .ok (.iconst 1, 1) := dk_4 (dk_at dksX1_hours_2_4 21 rfl rfl)
theorem dX1_hours_2_112 : decode cX1_hours_2 112 = .ok (.goto 4, 3) := dk_167 0 4 (dk_at dksX1_hours_2_5 0 rfl rfl)
theorem dX1_hours_2_115 : decode cX1_hours_2 115 = .ok (.iconst 0, 1) := dk_3 (dk_at dksX1_hours_2_5 3 rfl rfl)
theorem dX1_hours_2_116 : decode cX1_hours_2 116 = .ok (.istore 6, 2) := dk_54 6 (dk_at dksX1_hours_2_5 4 rfl rfl)
theorem dX1_hours_2_118 : decode cX1_hours_2 118 = .ok (.aload_n 0, 1) := dk_42 (dk_at dksX1_hours_2_5 6 rfl rfl)
theorem dX1_hours_2_119 : decode cX1_hours_2 119 = .ok (.getfield 57, 3) := dk_180 0 57 (dk_at dksX1_hours_2_5 7 rfl rfl)
theorem dX1_hours_2_122 : decode cX1_hours_2 122 = .ok (.iconst 4, 1) := dk_7 (dk_at dksX1_hours_2_5 10 rfl rfl)
theorem dX1_hours_2_123 : decode cX1_hours_2 123 = .ok (.dup2, 1) := dk_92 (dk_at dksX1_hours_2_5 11 rfl rfl)
theorem dX1_hours_2_124 : decode cX1_hours_2 124 = .ok (.iaload, 1) := dk_46 (dk_at dksX1_hours_2_5 12 rfl rfl)
theorem dX1_hours_2_125 : decode cX1_hours_2 125 = .ok (.iload 6, 2) := dk_21 6 (dk_at dksX1_hours_2_5 13 rfl rfl)
theorem dX1_hours_2_127 : decode cX1_hours_2 127 = .ok (.ifCond .eq 7, 3) := dk_153 0 7 (dk_at dksX1_hours_2_5 15 rfl rfl)
theorem dX1_hours_2_130 : decode cX1_hours_2 130 = .ok (.iconst 1, 1) := dk_4 (dk_at dksX1_hours_2_5 18 rfl rfl)
theorem dX1_hours_2_131 : decode cX1_hours_2 131 = .ok (.goto 4, 3) := dk_167 0 4 (dk_at dksX1_hours_2_5 19 rfl rfl)
theorem dX1_hours_2_134 : decode cX1_hours_2 134 = .ok (.iconst 0, 1) := dk_3 (dk_at dksX1_hours_2_5 22 rfl rfl)
theorem dX1_hours_2_135 : decode cX1_hours_2 135 = .ok (.isub, 1) := dk_100 (dk_at dksX1_hours_2_5 23 rfl rfl)
theorem dX1_hours_2_136 : decode cX1_hours_2 136 = .ok (.iastore, 1) := dk_79 (dk_at dksX1_hours_2_6 0 rfl rfl)
theorem dX1_hours_2_137 : decode cX1_hours_2 137 = .ok (.aload_n 0, 1) := dk_42 (dk_at dksX1_hours_2_6 1 rfl rfl)
theorem dX1_hours_2_138 : decode cX1_hours_2 138 = .ok (.getfield 21, 3) := dk_180 0 21 (dk_at dksX1_hours_2_6 2 rfl rfl)
theorem dX1_hours_2_141 : decode cX1_hours_2 141 = .ok (.aload_n 1, 1) := dk_43 (dk_at dksX1_hours_2_6 5 rfl rfl)
theorem dX1_hours_2_142 : decode cX1_hours_2 142 = .ok (.iload_n 2, 1) := dk_28 (dk_at dksX1_hours_2_6 6 rfl rfl)
theorem dX1_hours_2_143 : decode cX1_hours_2 143 = .ok (.aload_n 0, 1) := dk_42 (dk_at dksX1_hours_2_6 7 rfl rfl)
theorem dX1_hours_2_144 : decode cX1_hours_2 144 = .ok (.getfield 131, 3) := dk_180 0 131 (dk_at dksX1_hours_2_6 8 rfl rfl)
theorem dX1_hours_2_147 : decode cX1_hours_2 147 = .ok (.iload 6, 2) := dk_21 6 (dk_at dksX1_hours_2_6 11 rfl rfl)
theorem dX1_hours_2_149 : decode cX1_hours_2 149 = .ok (.invokevirtual 286, 3) := dk_182 1 30 (dk_at dksX1_hours_2_6 13 rfl rfl)
theorem dX1_hours_2_152 : decode cX1_hours_2 152 = .ok (.astore 7, 2) := dk_58 7 (dk_at dksX1_hours_2_6 16 rfl rfl)
theorem dX1_hours_2_154 : decode cX1_hours_2 154 = .ok (.aload 4, 2) := dk_25 4 (dk_at dksX1_hours_2_6 18 rfl rfl)
theorem dX1_hours_2_156 : decode cX1_hours_2 156 = .ok (.ifnull 49, 3) := dk_198 0 49 (dk_at dksX1_hours_2_6 20 rfl rfl)
theorem dX1_hours_2_159 : decode cX1_hours_2 159 = .ok (.aload 4, 2) := dk_25 4 (dk_at dksX1_hours_2_7 0 rfl rfl)
theorem dX1_hours_2_161 : decode cX1_hours_2 161 = .ok (.dup, 1) := dk_89 (dk_at dksX1_hours_2_7 2 rfl rfl)
theorem dX1_hours_2_162 : decode cX1_hours_2 162 = .ok (.getfield 290, 3) := dk_180 1 34 (dk_at dksX1_hours_2_7 3 rfl rfl)
theorem dX1_hours_2_165 : decode cX1_hours_2 165 = .ok (.aload 5, 2) := dk_25 5 (dk_at dksX1_hours_2_7 6 rfl rfl)
theorem dX1_hours_2_167 : decode cX1_hours_2 167 = .ok (.ifnull 7, 3) := dk_198 0 7 (dk_at dksX1_hours_2_7 8 rfl rfl)
theorem dX1_hours_2_170 : decode cX1_hours_2 170 = .ok (.iconst 1, 1) := dk_4 (dk_at dksX1_hours_2_7 11 rfl rfl)
theorem dX1_hours_2_171 : decode cX1_hours_2 171 = .ok (.goto 4, 3) := dk_167 0 4 (dk_at dksX1_hours_2_7 12 rfl rfl)
theorem dX1_hours_2_174 : decode cX1_hours_2 174 = .ok (.iconst 0, 1) := dk_3 (dk_at dksX1_hours_2_7 15 rfl rfl)
theorem dX1_hours_2_175 : decode cX1_hours_2 175 = .ok (.invokestatic 247, 3) := dk_184 0 247 (dk_at dksX1_hours_2_7 16 rfl rfl)
theorem dX1_hours_2_178 : decode cX1_hours_2 178 = .ok (.iadd, 1) := dk_96 (dk_at dksX1_hours_2_7 19 rfl rfl)
theorem dX1_hours_2_179 : decode cX1_hours_2 179 = .ok (.putfield 290, 3) := dk_181 1 34 (dk_at dksX1_hours_2_7 20 rfl rfl)
theorem dX1_hours_2_182 : decode cX1_hours_2 182 = .ok (.aload 4, 2) := dk_25 4 (dk_at dksX1_hours_2_8 0 rfl rfl)
theorem dX1_hours_2_184 : decode cX1_hours_2 184 = .ok (.dup, 1) := dk_89 (dk_at dksX1_hours_2_8 2 rfl rfl)
theorem dX1_hours_2_185 : decode cX1_hours_2 185 = .ok (.getfield 293, 3) := dk_180 1 37 (dk_at dksX1_hours_2_8 3 rfl rfl)
theorem dX1_hours_2_188 : decode cX1_hours_2 188 = .ok (.aload 5, 2) := dk_25 5 (dk_at dksX1_hours_2_8 6 rfl rfl)
theorem dX1_hours_2_190 : decode cX1_hours_2 190 = .ok (.ifnonnull 7, 3) := dk_199 0 7 (dk_at dksX1_hours_2_8 8 rfl rfl)
theorem dX1_hours_2_193 : decode cX1_hours_2 193 = .ok (.iconst 1, 1) := dk_4 (dk_at dksX1_hours_2_8 11 rfl rfl)
theorem dX1_hours_2_194 : decode cX1_hours_2 194 = .ok (.goto 4, 3) := dk_167 0 4 (dk_at dksX1_hours_2_8 12 rfl rfl)
theorem dX1_hours_2_197 : decode cX1_hours_2 197 = .ok (.iconst 0, 1) := dk_3 (dk_at dksX1_hours_2_8 15 rfl rfl)
theorem dX1_hours_2_198 : decode cX1_hours_2 198 = .ok (.invokestatic 247, 3) := dk_184 0 247 (dk_at dksX1_hours_2_8 16 rfl rfl)
theorem dX1_hours_2_201 : decode cX1_hours_2 201 = .ok (.iadd, 1) := dk_96 (dk_at dksX1_hours_2_8 19 rfl rfl)
theorem dX1_hours_2_202 : decode cX1_hours_2 202 = .ok (.putfield 293, 3) := dk_181 1 37 (dk_at dksX1_hours_2_8 20 rfl rfl)
theorem dX1_hours_2_205 : decode cX1_hours_2 205 = .ok (.aload_n 0, 1) := dk_42 (dk_at dksX1_hours_2_8 23 rfl rfl)
theorem dX1_hours_2_206 : decode cX1_hours_2 206 = .ok (.getfield 73, 3) := dk_180 0 73 (dk_at dksX1_hours_2_9 0 rfl rfl)
theorem dX1_hours_2_209 : decode cX1_hours_2 209 = .ok (.ifCond .eq 12, 3) := dk_153 0 12 (dk_at dksX1_hours_2_9 3 rfl rfl)
theorem dX1_hours_2_212 : decode cX1_hours_2 212 = .ok (.aload_n 0, 1) := dk_42 (dk_at dksX1_hours_2_9 6 rfl rfl)
theorem dX1_hours_2_213 : decode cX1_hours_2 213 = .ok (.aload 7, 2) := dk_25 7 (dk_at dksX1_hours_2_9 7 rfl rfl)
theorem dX1_hours_2_215 : decode cX1_hours_2 215 = .ok (.invokevirtual 296, 3) := dk_182 1 40 (dk_at dksX1_hours_2_9 9 rfl rfl)
theorem dX1_hours_2_218 : decode cX1_hours_2 218 = .ok (.goto 44, 3) := dk_167 0 44 (dk_at dksX1_hours_2_9 12 rfl rfl)
theorem dX1_hours_2_221 : decode cX1_hours_2 221 = .ok (.aload_n 0, 1) := dk_42 (dk_at dksX1_hours_2_9 15 rfl rfl)
theorem dX1_hours_2_222 : decode cX1_hours_2 222 = .ok (.aload 7, 2) := dk_25 7 (dk_at dksX1_hours_2_9 16 rfl rfl)
theorem dX1_hours_2_224 : decode cX1_hours_2 224 = .ok (.aload 5, 2) := dk_25 5 (dk_at dksX1_hours_2_9 18 rfl rfl)
theorem dX1_hours_2_226 : decode cX1_hours_2 226 = .ok (.invokevirtual 299, 3) := dk_182 1 43 (dk_at dksX1_hours_2_9 20 rfl rfl)
theorem dX1_hours_2_229 : decode cX1_hours_2 229 = .ok (.aload 4, 2) := dk_25 4 (dk_at dksX1_hours_2_10 0 rfl rfl)
theorem dX1_hours_2_231 : decode cX1_hours_2 231 = .ok (.ifnull 31, 3) := dk_198 0 31 (dk_at dksX1_hours_2_10 2 rfl rfl)
theorem dX1_hours_2_234 : decode cX1_hours_2 234 = .ok (.aload 5, 2) := dk_25 5 (dk_at dksX1_hours_2_10 5 rfl rfl)
theorem dX1_hours_2_236 : decode cX1_hours_2 236 = .ok (.ifnonnull 26, 3) := dk_199 0 26 (dk_at dksX1_hours_2_10 7 rfl rfl)
theorem dX1_hours_2_239 : decode cX1_hours_2 239 = .ok (.aload 4, 2) := dk_25 4 (dk_at dksX1_hours_2_10 10 rfl rfl)
theorem dX1_hours_2_241 : decode cX1_hours_2 241 = .ok (.getfield 87, 3) := dk_180 0 87 (dk_at dksX1_hours_2_10 12 rfl rfl)
theorem dX1_hours_2_244 : decode cX1_hours_2 244 = .ok (.invokevirtual 302, 3) := dk_182 1 46 (dk_at dksX1_hours_2_10 15 rfl rfl)
theorem dX1_hours_2_247 : decode cX1_hours_2 247 = .ok (.ifCond .eq 15, 3) := dk_153 0 15 (dk_at dksX1_hours_2_10 18 rfl rfl)
theorem dX1_hours_2_250 : decode cX1_hours_2 250 = .ok (.iload_n 2, 1) := dk_28 (dk_at dksX1_hours_2_10 21 rfl rfl)
theorem dX1_hours_2_251 : decode cX1_hours_2 251 = .ok (.ifCond .eq 11, 3) := dk_153 0 11 (dk_at dksX1_hours_2_11 0 rfl rfl)
theorem dX1_hours_2_254 : decode cX1_hours_2 254 = .ok (.aload_n 0, 1) := dk_42 (dk_at dksX1_hours_2_11 3 rfl rfl)
theorem dX1_hours_2_255 : decode cX1_hours_2 255 = .ok (.iconst 1, 1) := dk_4 (dk_at dksX1_hours_2_11 4 rfl rfl)
theorem dX1_hours_2_256 : decode cX1_hours_2 256 = .ok (.iconst (-1), 1) := dk_2 (dk_at dksX1_hours_2_11 5 rfl rfl)
theorem dX1_hours_2_257 : decode cX1_hours_2 257 = .ok (.aload 4, 2) := dk_25 4 (dk_at dksX1_hours_2_11 6 rfl rfl)
theorem dX1_hours_2_259 : decode cX1_hours_2 259 = .ok (.invokevirtual 224, 3) := dk_182 0 224 (dk_at dksX1_hours_2_11 8 rfl rfl)
theorem dX1_hours_2_262 : decode cX1_hours_2 262 = .ok (.aload_n 0, 1) := dk_42 (dk_at dksX1_hours_2_11 11 rfl rfl)
theorem dX1_hours_2_263 : decode cX1_hours_2 263 = .ok (.aload 5, 2) := dk_25 5 (dk_at dksX1_hours_2_11 12 rfl rfl)
theorem dX1_hours_2_265 : decode cX1_hours_2 265 = .ok (.aload_n 1, 1) := dk_43 (dk_at dksX1_hours_2_11 14 rfl rfl)
theorem dX1_hours_2_266 : decode cX1_hours_2 266 = .ok (.invokevirtual 307, 3) := dk_182 1 51 (dk_at dksX1_hours_2_11 15 rfl rfl)
theorem dX1_hours_2_269 : decode cX1_hours_2 269 = .ok (.aload_n 0, 1) := dk_42 (dk_at dksX1_hours_2_11 18 rfl rfl)
theorem dX1_hours_2_270 : decode cX1_hours_2 270 = .ok (.aload 7, 2) := dk_25 7 (dk_at dksX1_hours_2_11 19 rfl rfl)
theorem dX1_hours_2_272 : decode cX1_hours_2 272 = .ok (.invokevirtual 311, 3) := dk_182 1 55 (dk_at dksX1_hours_2_11 21 rfl rfl)
theorem dX1_hours_2_275 : decode cX1_hours_2 275 = .ok (.aload_n 0, 1) := dk_42 (dk_at dksX1_hours_2_12 0 rfl rfl)
theorem dX1_hours_2_276 : decode cX1_hours_2 276 = .ok (.dup, 1) := dk_89 (dk_at dksX1_hours_2_12 1 rfl rfl)
theorem dX1_hours_2_277 : decode cX1_hours_2 277 = .ok (.getfield 128, 3) := dk_180 0 128 (dk_at dksX1_hours_2_12 2 rfl rfl)
theorem dX1_hours_2_280 : decode cX1_hours_2 280 = .ok (.iconst 1, 1) := dk_4 (dk_at dksX1_hours_2_12 5 rfl rfl)
theorem dX1_hours_2_281 : decode cX1_hours_2 281 = .ok (.iadd, 1) := dk_96 (dk_at dksX1_hours_2_12 6 rfl rfl)
theorem dX1_hours_2_282 : decode cX1_hours_2 282 = .ok (.putfield 128, 3) := dk_181 0 128 (dk_at dksX1_hours_2_12 7 rfl rfl)
theorem dX1_hours_2_285 : decode cX1_hours_2 285 = .ok (.return_, 1) := dk_177 (dk_at dksX1_hours_2_12 10 rfl rfl)
abbrev cX1_weather : ByteArray := prog_32_method_9_code
def yX1_weather : MethodName := ⟨RX1, "weather", "(I)LKeptLight$Weather;"⟩
def dkwX1_weather_3 : List UInt8 := [182, 0, 81, 192, 0, 118, 180, 0, 198, 176]
abbrev dktX1_weather_3 : List UInt8 := dkwX1_weather_3 ++ []
def dkwX1_weather_2 : List UInt8 := [182, 0, 81, 192, 0, 118, 180, 0, 186, 100, 61, 132, 3, 1, 167, 255, 218, 42, 180, 0, 45, 29]
abbrev dktX1_weather_2 : List UInt8 := dkwX1_weather_2 ++ dktX1_weather_3
def dkwX1_weather_1 : List UInt8 := [42, 180, 0, 45, 29, 182, 0, 81, 192, 0, 118, 180, 0, 186, 161, 0, 26, 28, 42, 180, 0, 45, 29]
abbrev dktX1_weather_1 : List UInt8 := dkwX1_weather_1 ++ dktX1_weather_2
def dkwX1_weather_0 : List UInt8 := [42, 180, 0, 45, 182, 0, 189, 153, 0, 7, 178, 0, 192, 176, 27, 42, 180, 0, 120, 112, 61, 3, 62, 28]
abbrev dktX1_weather_0 : List UInt8 := dkwX1_weather_0 ++ dktX1_weather_1
theorem dksX1_weather_0 : cX1_weather.data.toList.drop 0 = dktX1_weather_0 := by decide +kernel
theorem dksX1_weather_1 : cX1_weather.data.toList.drop 24 = dktX1_weather_1 := dk_seg dksX1_weather_0 24 rfl rfl
theorem dksX1_weather_2 : cX1_weather.data.toList.drop 47 = dktX1_weather_2 := dk_seg dksX1_weather_1 23 rfl rfl
theorem dksX1_weather_3 : cX1_weather.data.toList.drop 69 = dktX1_weather_3 := dk_seg dksX1_weather_2 22 rfl rfl
theorem dX1_weather_0 : decode cX1_weather 0 = .ok (.aload_n 0, 1) := dk_42 (dk_at dksX1_weather_0 0 rfl rfl)
theorem dX1_weather_1 : decode cX1_weather 1 = .ok (.getfield 45, 3) := dk_180 0 45 (dk_at dksX1_weather_0 1 rfl rfl)
theorem dX1_weather_4 : decode cX1_weather 4 = .ok (.invokevirtual 189, 3) := dk_182 0 189 (dk_at dksX1_weather_0 4 rfl rfl)
theorem dX1_weather_7 : decode cX1_weather 7 = .ok (.ifCond .eq 7, 3) := dk_153 0 7 (dk_at dksX1_weather_0 7 rfl rfl)
theorem dX1_weather_10 : decode cX1_weather 10 = .ok (.getstatic 192, 3) := dk_178 0 192 (dk_at dksX1_weather_0 10 rfl rfl)
theorem dX1_weather_13 : decode cX1_weather 13 = .ok (.areturn, 1) := dk_176 (dk_at dksX1_weather_0 13 rfl rfl)
theorem dX1_weather_14 : decode cX1_weather 14 = .ok (.iload_n 1, 1) := dk_27 (dk_at dksX1_weather_0 14 rfl rfl)
theorem dX1_weather_15 : decode cX1_weather 15 = .ok (.aload_n 0, 1) := dk_42 (dk_at dksX1_weather_0 15 rfl rfl)
theorem dX1_weather_16 : decode cX1_weather 16 = .ok (.getfield 120, 3) := dk_180 0 120 (dk_at dksX1_weather_0 16 rfl rfl)
theorem dX1_weather_19 : decode cX1_weather 19 = .ok (.irem, 1) := dk_112 (dk_at dksX1_weather_0 19 rfl rfl)
theorem dX1_weather_20 : decode cX1_weather 20 = .ok (.istore_n 2, 1) := dk_61 (dk_at dksX1_weather_0 20 rfl rfl)
theorem dX1_weather_21 : decode cX1_weather 21 = .ok (.iconst 0, 1) := dk_3 (dk_at dksX1_weather_0 21 rfl rfl)
theorem dX1_weather_22 : decode cX1_weather 22 = .ok (.istore_n 3, 1) := dk_62 (dk_at dksX1_weather_0 22 rfl rfl)
theorem dX1_weather_23 : decode cX1_weather 23 = .ok (.iload_n 2, 1) := dk_28 (dk_at dksX1_weather_0 23 rfl rfl)
theorem dX1_weather_24 : decode cX1_weather 24 = .ok (.aload_n 0, 1) := dk_42 (dk_at dksX1_weather_1 0 rfl rfl)
theorem dX1_weather_25 : decode cX1_weather 25 = .ok (.getfield 45, 3) := dk_180 0 45 (dk_at dksX1_weather_1 1 rfl rfl)
theorem dX1_weather_28 : decode cX1_weather 28 = .ok (.iload_n 3, 1) := dk_29 (dk_at dksX1_weather_1 4 rfl rfl)
theorem dX1_weather_29 : decode cX1_weather 29 = .ok (.invokevirtual 81, 3) := dk_182 0 81 (dk_at dksX1_weather_1 5 rfl rfl)
theorem dX1_weather_32 : decode cX1_weather 32 = .ok (.checkcast 118, 3) := dk_192 0 118 (dk_at dksX1_weather_1 8 rfl rfl)
theorem dX1_weather_35 : decode cX1_weather 35 = .ok (.getfield 186, 3) := dk_180 0 186 (dk_at dksX1_weather_1 11 rfl rfl)
theorem dX1_weather_38 : decode cX1_weather 38 = .ok (.if_icmp .lt 26, 3) := dk_161 0 26 (dk_at dksX1_weather_1 14 rfl rfl)
theorem dX1_weather_41 : decode cX1_weather 41 = .ok (.iload_n 2, 1) := dk_28 (dk_at dksX1_weather_1 17 rfl rfl)
theorem dX1_weather_42 : decode cX1_weather 42 = .ok (.aload_n 0, 1) := dk_42 (dk_at dksX1_weather_1 18 rfl rfl)
theorem dX1_weather_43 : decode cX1_weather 43 = .ok (.getfield 45, 3) := dk_180 0 45 (dk_at dksX1_weather_1 19 rfl rfl)
theorem dX1_weather_46 : decode cX1_weather 46 = .ok (.iload_n 3, 1) := dk_29 (dk_at dksX1_weather_1 22 rfl rfl)
theorem dX1_weather_47 : decode cX1_weather 47 = .ok (.invokevirtual 81, 3) := dk_182 0 81 (dk_at dksX1_weather_2 0 rfl rfl)
theorem dX1_weather_50 : decode cX1_weather 50 = .ok (.checkcast 118, 3) := dk_192 0 118 (dk_at dksX1_weather_2 3 rfl rfl)
theorem dX1_weather_53 : decode cX1_weather 53 = .ok (.getfield 186, 3) := dk_180 0 186 (dk_at dksX1_weather_2 6 rfl rfl)
theorem dX1_weather_56 : decode cX1_weather 56 = .ok (.isub, 1) := dk_100 (dk_at dksX1_weather_2 9 rfl rfl)
theorem dX1_weather_57 : decode cX1_weather 57 = .ok (.istore_n 2, 1) := dk_61 (dk_at dksX1_weather_2 10 rfl rfl)
theorem dX1_weather_58 : decode cX1_weather 58 = .ok (.iinc 3 1, 3) := dk_132 3 1 (dk_at dksX1_weather_2 11 rfl rfl)
theorem dX1_weather_61 : decode cX1_weather 61 = .ok (.goto (-38), 3) := dk_167 255 218 (dk_at dksX1_weather_2 14 rfl rfl)
theorem dX1_weather_64 : decode cX1_weather 64 = .ok (.aload_n 0, 1) := dk_42 (dk_at dksX1_weather_2 17 rfl rfl)
theorem dX1_weather_65 : decode cX1_weather 65 = .ok (.getfield 45, 3) := dk_180 0 45 (dk_at dksX1_weather_2 18 rfl rfl)
theorem dX1_weather_68 : decode cX1_weather 68 = .ok (.iload_n 3, 1) := dk_29 (dk_at dksX1_weather_2 21 rfl rfl)
theorem dX1_weather_69 : decode cX1_weather 69 = .ok (.invokevirtual 81, 3) := dk_182 0 81 (dk_at dksX1_weather_3 0 rfl rfl)
theorem dX1_weather_72 : decode cX1_weather 72 = .ok (.checkcast 118, 3) := dk_192 0 118 (dk_at dksX1_weather_3 3 rfl rfl)
theorem dX1_weather_75 : decode cX1_weather 75 = .ok (.getfield 198, 3) := dk_180 0 198 (dk_at dksX1_weather_3 6 rfl rfl)
theorem dX1_weather_78 : decode cX1_weather 78 = .ok (.areturn, 1) := dk_176 (dk_at dksX1_weather_3 9 rfl rfl)
abbrev cX1_isDark : ByteArray := prog_32_method_10_code
def yX1_isDark : MethodName := ⟨RX1, "isDark", "(I)Z"⟩
def dkwX1_isDark_1 : List UInt8 := [161, 0, 7, 4, 167, 0, 4, 3, 172]
abbrev dktX1_isDark_1 : List UInt8 := dkwX1_isDark_1 ++ []
def dkwX1_isDark_0 : List UInt8 := [27, 16, 24, 112, 42, 180, 0, 57, 3, 46, 161, 0, 16, 27, 16, 24, 112, 42, 180, 0, 57, 4, 46]
abbrev dktX1_isDark_0 : List UInt8 := dkwX1_isDark_0 ++ dktX1_isDark_1
theorem dksX1_isDark_0 : cX1_isDark.data.toList.drop 0 = dktX1_isDark_0 := by decide +kernel
theorem dksX1_isDark_1 : cX1_isDark.data.toList.drop 23 = dktX1_isDark_1 := dk_seg dksX1_isDark_0 23 rfl rfl
theorem dX1_isDark_0 : decode cX1_isDark 0 = .ok (.iload_n 1, 1) := dk_27 (dk_at dksX1_isDark_0 0 rfl rfl)
theorem dX1_isDark_1 : decode cX1_isDark 1 = .ok (.bipush 24, 2) := dk_16 24 (dk_at dksX1_isDark_0 1 rfl rfl)
theorem dX1_isDark_3 : decode cX1_isDark 3 = .ok (.irem, 1) := dk_112 (dk_at dksX1_isDark_0 3 rfl rfl)
theorem dX1_isDark_4 : decode cX1_isDark 4 = .ok (.aload_n 0, 1) := dk_42 (dk_at dksX1_isDark_0 4 rfl rfl)
theorem dX1_isDark_5 : decode cX1_isDark 5 = .ok (.getfield 57, 3) := dk_180 0 57 (dk_at dksX1_isDark_0 5 rfl rfl)
theorem dX1_isDark_8 : decode cX1_isDark 8 = .ok (.iconst 0, 1) := dk_3 (dk_at dksX1_isDark_0 8 rfl rfl)
theorem dX1_isDark_9 : decode cX1_isDark 9 = .ok (.iaload, 1) := dk_46 (dk_at dksX1_isDark_0 9 rfl rfl)
theorem dX1_isDark_10 : decode cX1_isDark 10 = .ok (.if_icmp .lt 16, 3) := dk_161 0 16 (dk_at dksX1_isDark_0 10 rfl rfl)
theorem dX1_isDark_13 : decode cX1_isDark 13 = .ok (.iload_n 1, 1) := dk_27 (dk_at dksX1_isDark_0 13 rfl rfl)
theorem dX1_isDark_14 : decode cX1_isDark 14 = .ok (.bipush 24, 2) := dk_16 24 (dk_at dksX1_isDark_0 14 rfl rfl)
theorem dX1_isDark_16 : decode cX1_isDark 16 = .ok (.irem, 1) := dk_112 (dk_at dksX1_isDark_0 16 rfl rfl)
theorem dX1_isDark_17 : decode cX1_isDark 17 = .ok (.aload_n 0, 1) := dk_42 (dk_at dksX1_isDark_0 17 rfl rfl)
theorem dX1_isDark_18 : decode cX1_isDark 18 = .ok (.getfield 57, 3) := dk_180 0 57 (dk_at dksX1_isDark_0 18 rfl rfl)
theorem dX1_isDark_21 : decode cX1_isDark 21 = .ok (.iconst 1, 1) := dk_4 (dk_at dksX1_isDark_0 21 rfl rfl)
theorem dX1_isDark_22 : decode cX1_isDark 22 = .ok (.iaload, 1) := dk_46 (dk_at dksX1_isDark_0 22 rfl rfl)
theorem dX1_isDark_23 : decode cX1_isDark 23 = .ok (.if_icmp .lt 7, 3) := dk_161 0 7 (dk_at dksX1_isDark_1 0 rfl rfl)
theorem dX1_isDark_26 : decode cX1_isDark 26 = .ok (.iconst 1, 1) := dk_4 (dk_at dksX1_isDark_1 3 rfl rfl)
theorem dX1_isDark_27 : decode cX1_isDark 27 = .ok (.goto 4, 3) := dk_167 0 4 (dk_at dksX1_isDark_1 4 rfl rfl)
theorem dX1_isDark_30 : decode cX1_isDark 30 = .ok (.iconst 0, 1) := dk_3 (dk_at dksX1_isDark_1 7 rfl rfl)
theorem dX1_isDark_31 : decode cX1_isDark 31 = .ok (.ireturn, 1) := dk_172 (dk_at dksX1_isDark_1 8 rfl rfl)
abbrev cX1_burns : ByteArray := prog_32_method_15_code
def yX1_burns : MethodName := ⟨RX1, "burns", "(ZZ)V"⟩
def dkwX1_burns_5 : List UInt8 := [180, 0, 137, 4, 96, 181, 0, 137, 42, 180, 0, 53, 42, 180, 0, 128, 16, 24, 112, 182, 0, 215, 177]
abbrev dktX1_burns_5 : List UInt8 := dkwX1_burns_5 ++ []
def dkwX1_burns_4 : List UInt8 := [180, 0, 57, 5, 46, 167, 0, 4, 3, 100, 79, 27, 153, 0, 34, 42, 180, 0, 131, 154, 0, 27, 42, 89]
abbrev dktX1_burns_4 : List UInt8 := dkwX1_burns_4 ++ dktX1_burns_5
def dkwX1_burns_3 : List UInt8 := [167, 0, 4, 3, 181, 0, 134, 42, 180, 0, 57, 6, 92, 46, 42, 180, 0, 131, 153, 0, 12, 42]
abbrev dktX1_burns_3 : List UInt8 := dkwX1_burns_3 ++ dktX1_burns_4
def dkwX1_burns_2 : List UInt8 := [161, 0, 7, 4, 167, 0, 4, 3, 181, 0, 131, 42, 42, 180, 0, 131, 153, 0, 11, 28, 154, 0, 7, 4]
abbrev dktX1_burns_2 : List UInt8 := dkwX1_burns_2 ++ dktX1_burns_3
def dkwX1_burns_1 : List UInt8 := [167, 0, 4, 3, 62, 42, 29, 153, 0, 22, 42, 180, 0, 57, 6, 46, 42, 180, 0, 57, 5, 46]
abbrev dktX1_burns_1 : List UInt8 := dkwX1_burns_1 ++ dktX1_burns_2
def dkwX1_burns_0 : List UInt8 := [27, 153, 0, 25, 28, 154, 0, 17, 42, 180, 0, 131, 153, 0, 14, 42, 180, 0, 134, 154, 0, 7, 4]
abbrev dktX1_burns_0 : List UInt8 := dkwX1_burns_0 ++ dktX1_burns_1
theorem dksX1_burns_0 : cX1_burns.data.toList.drop 0 = dktX1_burns_0 := by decide +kernel
theorem dksX1_burns_1 : cX1_burns.data.toList.drop 23 = dktX1_burns_1 := dk_seg dksX1_burns_0 23 rfl rfl
theorem dksX1_burns_2 : cX1_burns.data.toList.drop 45 = dktX1_burns_2 := dk_seg dksX1_burns_1 22 rfl rfl
theorem dksX1_burns_3 : cX1_burns.data.toList.drop 69 = dktX1_burns_3 := dk_seg dksX1_burns_2 24 rfl rfl
theorem dksX1_burns_4 : cX1_burns.data.toList.drop 91 = dktX1_burns_4 := dk_seg dksX1_burns_3 22 rfl rfl
theorem dksX1_burns_5 : cX1_burns.data.toList.drop 115 = dktX1_burns_5 := dk_seg dksX1_burns_4 24 rfl rfl
theorem dX1_burns_0 : decode cX1_burns 0 = .ok (.iload_n 1, 1) := dk_27 (dk_at dksX1_burns_0 0 rfl rfl)
theorem dX1_burns_1 : decode cX1_burns 1 = .ok (.ifCond .eq 25, 3) := dk_153 0 25 (dk_at dksX1_burns_0 1 rfl rfl)
theorem dX1_burns_4 : decode cX1_burns 4 = .ok (.iload_n 2, 1) := dk_28 (dk_at dksX1_burns_0 4 rfl rfl)
theorem dX1_burns_5 : decode cX1_burns 5 = .ok (.ifCond .ne 17, 3) := dk_154 0 17 (dk_at dksX1_burns_0 5 rfl rfl)
theorem dX1_burns_8 : decode cX1_burns 8 = .ok (.aload_n 0, 1) := dk_42 (dk_at dksX1_burns_0 8 rfl rfl)
theorem dX1_burns_9 : decode cX1_burns 9 = .ok (.getfield 131, 3) := dk_180 0 131 (dk_at dksX1_burns_0 9 rfl rfl)
theorem dX1_burns_12 : decode cX1_burns 12 = .ok (.ifCond .eq 14, 3) := dk_153 0 14 (dk_at dksX1_burns_0 12 rfl rfl)
theorem dX1_burns_15 : decode cX1_burns 15 = .ok (.aload_n 0, 1) := dk_42 (dk_at dksX1_burns_0 15 rfl rfl)
theorem dX1_burns_16 : decode cX1_burns 16 = .ok (.getfield 134, 3) := dk_180 0 134 (dk_at dksX1_burns_0 16 rfl rfl)
theorem dX1_burns_19 : decode cX1_burns 19 = .ok (.ifCond .ne 7, 3) := dk_154 0 7 (dk_at dksX1_burns_0 19 rfl rfl)
theorem dX1_burns_22 : decode cX1_burns 22 = .ok (.iconst 1, 1) := dk_4 (dk_at dksX1_burns_0 22 rfl rfl)
theorem dX1_burns_23 : decode cX1_burns 23 = .ok (.goto 4, 3) := dk_167 0 4 (dk_at dksX1_burns_1 0 rfl rfl)
theorem dX1_burns_26 : decode cX1_burns 26 = .ok (.iconst 0, 1) := dk_3 (dk_at dksX1_burns_1 3 rfl rfl)
theorem dX1_burns_27 : decode cX1_burns 27 = .ok (.istore_n 3, 1) := dk_62 (dk_at dksX1_burns_1 4 rfl rfl)
theorem dX1_burns_28 : decode cX1_burns 28 = .ok (.aload_n 0, 1) := dk_42 (dk_at dksX1_burns_1 5 rfl rfl)
theorem dX1_burns_29 : decode cX1_burns 29 = .ok (.iload_n 3, 1) := dk_29 (dk_at dksX1_burns_1 6 rfl rfl)
theorem dX1_burns_30 : decode cX1_burns 30 = .ok (.ifCond .eq 22, 3) := dk_153 0 22 (dk_at dksX1_burns_1 7 rfl rfl)
theorem dX1_burns_33 : decode cX1_burns 33 = .ok (.aload_n 0, 1) := dk_42 (dk_at dksX1_burns_1 10 rfl rfl)
theorem dX1_burns_34 : decode cX1_burns 34 = .ok (.getfield 57, 3) := dk_180 0 57 (dk_at dksX1_burns_1 11 rfl rfl)
theorem dX1_burns_37 : decode cX1_burns 37 = .ok (.iconst 3, 1) := dk_6 (dk_at dksX1_burns_1 14 rfl rfl)
theorem dX1_burns_38 : decode cX1_burns 38 = .ok (.iaload, 1) := dk_46 (dk_at dksX1_burns_1 15 rfl rfl)
theorem dX1_burns_39 : decode cX1_burns 39 = .ok (.aload_n 0, 1) := dk_42 (dk_at dksX1_burns_1 16 rfl rfl)
theorem dX1_burns_40 : decode cX1_burns 40 = .ok (.getfield 57, 3) := dk_180 0 57 (dk_at dksX1_burns_1 17 rfl rfl)
theorem dX1_burns_43 : decode cX1_burns 43 = .ok (.iconst 2, 1) := dk_5 (dk_at dksX1_burns_1 20 rfl rfl)
theorem dX1_burns_44 : decode cX1_burns 44 = .ok (.iaload, 1) := dk_46 (dk_at dksX1_burns_1 21 rfl rfl)
theorem dX1_burns_45 : decode cX1_burns 45 = .ok (.if_icmp .lt 7, 3) := dk_161 0 7 (dk_at dksX1_burns_2 0 rfl rfl)
theorem dX1_burns_48 : decode cX1_burns 48 = .ok (.iconst 1, 1) := dk_4 (dk_at dksX1_burns_2 3 rfl rfl)
theorem dX1_burns_49 : decode cX1_burns 49 = .ok (.goto 4, 3) := dk_167 0 4 (dk_at dksX1_burns_2 4 rfl rfl)
theorem dX1_burns_52 : decode cX1_burns 52 = .ok (.iconst 0, 1) := dk_3 (dk_at dksX1_burns_2 7 rfl rfl)
theorem dX1_burns_53 : decode cX1_burns 53 = .ok (.putfield 131, 3) := dk_181 0 131 (dk_at dksX1_burns_2 8 rfl rfl)
theorem dX1_burns_56 : decode cX1_burns 56 = .ok (.aload_n 0, 1) := dk_42 (dk_at dksX1_burns_2 11 rfl rfl)
theorem dX1_burns_57 : decode cX1_burns 57 = .ok (.aload_n 0, 1) := dk_42 (dk_at dksX1_burns_2 12 rfl rfl)
theorem dX1_burns_58 : decode cX1_burns 58 = .ok (.getfield 131, 3) := dk_180 0 131 (dk_at dksX1_burns_2 13 rfl rfl)
theorem dX1_burns_61 : decode cX1_burns 61 = .ok (.ifCond .eq 11, 3) := dk_153 0 11 (dk_at dksX1_burns_2 16 rfl rfl)
theorem dX1_burns_64 : decode cX1_burns 64 = .ok (.iload_n 2, 1) := dk_28 (dk_at dksX1_burns_2 19 rfl rfl)
theorem dX1_burns_65 : decode cX1_burns 65 = .ok (.ifCond .ne 7, 3) := dk_154 0 7 (dk_at dksX1_burns_2 20 rfl rfl)
theorem dX1_burns_68 : decode cX1_burns 68 = .ok (.iconst 1, 1) := dk_4 (dk_at dksX1_burns_2 23 rfl rfl)
theorem dX1_burns_69 : decode cX1_burns 69 = .ok (.goto 4, 3) := dk_167 0 4 (dk_at dksX1_burns_3 0 rfl rfl)
theorem dX1_burns_72 : decode cX1_burns 72 = .ok (.iconst 0, 1) := dk_3 (dk_at dksX1_burns_3 3 rfl rfl)
theorem dX1_burns_73 : decode cX1_burns 73 = .ok (.putfield 134, 3) := dk_181 0 134 (dk_at dksX1_burns_3 4 rfl rfl)
theorem dX1_burns_76 : decode cX1_burns 76 = .ok (.aload_n 0, 1) := dk_42 (dk_at dksX1_burns_3 7 rfl rfl)
theorem dX1_burns_77 : decode cX1_burns 77 = .ok (.getfield 57, 3) := dk_180 0 57 (dk_at dksX1_burns_3 8 rfl rfl)
theorem dX1_burns_80 : decode cX1_burns 80 = .ok (.iconst 3, 1) := dk_6 (dk_at dksX1_burns_3 11 rfl rfl)
theorem dX1_burns_81 : decode cX1_burns 81 = .ok (.dup2, 1) := dk_92 (dk_at dksX1_burns_3 12 rfl rfl)
theorem dX1_burns_82 : decode cX1_burns 82 = .ok (.iaload, 1) := dk_46 (dk_at dksX1_burns_3 13 rfl rfl)
theorem dX1_burns_83 : decode cX1_burns 83 = .ok (.aload_n 0, 1) := dk_42 (dk_at dksX1_burns_3 14 rfl rfl)
theorem dX1_burns_84 : decode cX1_burns 84 = .ok (.getfield 131, 3) := dk_180 0 131 (dk_at dksX1_burns_3 15 rfl rfl)
theorem dX1_burns_87 : decode cX1_burns 87 = .ok (.ifCond .eq 12, 3) := dk_153 0 12 (dk_at dksX1_burns_3 18 rfl rfl)
theorem dX1_burns_90 : decode cX1_burns 90 = .ok (.aload_n 0, 1) := dk_42 (dk_at dksX1_burns_3 21 rfl rfl)
theorem dX1_burns_91 : decode cX1_burns 91 = .ok (.getfield 57, 3) := dk_180 0 57 (dk_at dksX1_burns_4 0 rfl rfl)
theorem dX1_burns_94 : decode cX1_burns 94 = .ok (.iconst 2, 1) := dk_5 (dk_at dksX1_burns_4 3 rfl rfl)
theorem dX1_burns_95 : decode cX1_burns 95 = .ok (.iaload, 1) := dk_46 (dk_at dksX1_burns_4 4 rfl rfl)
theorem dX1_burns_96 : decode cX1_burns 96 = .ok (.goto 4, 3) := dk_167 0 4 (dk_at dksX1_burns_4 5 rfl rfl)
theorem dX1_burns_99 : decode cX1_burns 99 = .ok (.iconst 0, 1) := dk_3 (dk_at dksX1_burns_4 8 rfl rfl)
theorem dX1_burns_100 : decode cX1_burns 100 = .ok (.isub, 1) := dk_100 (dk_at dksX1_burns_4 9 rfl rfl)
theorem dX1_burns_101 : decode cX1_burns 101 = .ok (.iastore, 1) := dk_79 (dk_at dksX1_burns_4 10 rfl rfl)
theorem dX1_burns_102 : decode cX1_burns 102 = .ok (.iload_n 1, 1) := dk_27 (dk_at dksX1_burns_4 11 rfl rfl)
theorem dX1_burns_103 : decode cX1_burns 103 = .ok (.ifCond .eq 34, 3) := dk_153 0 34 (dk_at dksX1_burns_4 12 rfl rfl)
theorem dX1_burns_106 : decode cX1_burns 106 = .ok (.aload_n 0, 1) := dk_42 (dk_at dksX1_burns_4 15 rfl rfl)
theorem dX1_burns_107 : decode cX1_burns 107 = .ok (.getfield 131, 3) := dk_180 0 131 (dk_at dksX1_burns_4 16 rfl rfl)
theorem dX1_burns_110 : decode cX1_burns 110 = .ok (.ifCond .ne 27, 3) := dk_154 0 27 (dk_at dksX1_burns_4 19 rfl rfl)
theorem dX1_burns_113 : decode cX1_burns 113 = .ok (.aload_n 0, 1) := dk_42 (dk_at dksX1_burns_4 22 rfl rfl)
theorem dX1_burns_114 : decode cX1_burns 114 = .ok (.dup, 1) := dk_89 (dk_at dksX1_burns_4 23 rfl rfl)
theorem dX1_burns_115 : decode cX1_burns 115 = .ok (.getfield 137, 3) := dk_180 0 137 (dk_at dksX1_burns_5 0 rfl rfl)
theorem dX1_burns_118 : decode cX1_burns 118 = .ok (.iconst 1, 1) := dk_4 (dk_at dksX1_burns_5 3 rfl rfl)
theorem dX1_burns_119 : decode cX1_burns 119 = .ok (.iadd, 1) := dk_96 (dk_at dksX1_burns_5 4 rfl rfl)
theorem dX1_burns_120 : decode cX1_burns 120 = .ok (.putfield 137, 3) := dk_181 0 137 (dk_at dksX1_burns_5 5 rfl rfl)
theorem dX1_burns_123 : decode cX1_burns 123 = .ok (.aload_n 0, 1) := dk_42 (dk_at dksX1_burns_5 8 rfl rfl)
theorem dX1_burns_124 : decode cX1_burns 124 = .ok (.getfield 53, 3) := dk_180 0 53 (dk_at dksX1_burns_5 9 rfl rfl)
theorem dX1_burns_127 : decode cX1_burns 127 = .ok (.aload_n 0, 1) := dk_42 (dk_at dksX1_burns_5 12 rfl rfl)
theorem dX1_burns_128 : decode cX1_burns 128 = .ok (.getfield 128, 3) := dk_180 0 128 (dk_at dksX1_burns_5 13 rfl rfl)
theorem dX1_burns_131 : decode cX1_burns 131 = .ok (.bipush 24, 2) := dk_16 24 (dk_at dksX1_burns_5 16 rfl rfl)
theorem dX1_burns_133 : decode cX1_burns 133 = .ok (.irem, 1) := dk_112 (dk_at dksX1_burns_5 18 rfl rfl)
theorem dX1_burns_134 : decode cX1_burns 134 = .ok (.invokevirtual 215, 3) := dk_182 0 215 (dk_at dksX1_burns_5 19 rfl rfl)
theorem dX1_burns_137 : decode cX1_burns 137 = .ok (.return_, 1) := dk_177 (dk_at dksX1_burns_5 22 rfl rfl)
abbrev cX1_wouldPass : ByteArray := prog_32_method_17_code
def yX1_wouldPass : MethodName := ⟨RX1, "wouldPass", "(LKeptLight$Sight;)V"⟩
def dkwX1_wouldPass_3 : List UInt8 := [181, 0, 146, 132, 2, 1, 167, 255, 183, 177]
abbrev dktX1_wouldPass_3 : List UInt8 := dkwX1_wouldPass_3 ++ []
def dkwX1_wouldPass_2 : List UInt8 := [181, 0, 143, 42, 89, 180, 0, 146, 29, 5, 160, 0, 7, 4, 167, 0, 4, 3, 184, 0, 247, 96]
abbrev dktX1_wouldPass_2 : List UInt8 := dkwX1_wouldPass_2 ++ dktX1_wouldPass_3
def dkwX1_wouldPass_1 : List UInt8 := [182, 0, 244, 62, 42, 89, 180, 0, 143, 29, 4, 160, 0, 7, 4, 167, 0, 4, 3, 184, 0, 247, 96]
abbrev dktX1_wouldPass_1 : List UInt8 := dkwX1_wouldPass_1 ++ dktX1_wouldPass_2
def dkwX1_wouldPass_0 : List UInt8 := [3, 61, 28, 42, 42, 180, 0, 128, 182, 0, 231, 162, 0, 67, 42, 42, 180, 0, 128, 28, 182, 0, 235, 43]
abbrev dktX1_wouldPass_0 : List UInt8 := dkwX1_wouldPass_0 ++ dktX1_wouldPass_1
theorem dksX1_wouldPass_0 : cX1_wouldPass.data.toList.drop 0 = dktX1_wouldPass_0 := by decide +kernel
theorem dksX1_wouldPass_1 : cX1_wouldPass.data.toList.drop 24 = dktX1_wouldPass_1 := dk_seg dksX1_wouldPass_0 24 rfl rfl
theorem dksX1_wouldPass_2 : cX1_wouldPass.data.toList.drop 47 = dktX1_wouldPass_2 := dk_seg dksX1_wouldPass_1 23 rfl rfl
theorem dksX1_wouldPass_3 : cX1_wouldPass.data.toList.drop 69 = dktX1_wouldPass_3 := dk_seg dksX1_wouldPass_2 22 rfl rfl
theorem dX1_wouldPass_0 : decode cX1_wouldPass 0 = .ok (.iconst 0, 1) := dk_3 (dk_at dksX1_wouldPass_0 0 rfl rfl)
theorem dX1_wouldPass_1 : decode cX1_wouldPass 1 = .ok (.istore_n 2, 1) := dk_61 (dk_at dksX1_wouldPass_0 1 rfl rfl)
theorem dX1_wouldPass_2 : decode cX1_wouldPass 2 = .ok (.iload_n 2, 1) := dk_28 (dk_at dksX1_wouldPass_0 2 rfl rfl)
theorem dX1_wouldPass_3 : decode cX1_wouldPass 3 = .ok (.aload_n 0, 1) := dk_42 (dk_at dksX1_wouldPass_0 3 rfl rfl)
theorem dX1_wouldPass_4 : decode cX1_wouldPass 4 = .ok (.aload_n 0, 1) := dk_42 (dk_at dksX1_wouldPass_0 4 rfl rfl)
theorem dX1_wouldPass_5 : decode cX1_wouldPass 5 = .ok (.getfield 128, 3) := dk_180 0 128 (dk_at dksX1_wouldPass_0 5 rfl rfl)
theorem dX1_wouldPass_8 : decode cX1_wouldPass 8 = .ok (.invokevirtual 231, 3) := dk_182 0 231 (dk_at dksX1_wouldPass_0 8 rfl rfl)
theorem dX1_wouldPass_11 : decode cX1_wouldPass 11 = .ok (.if_icmp .ge 67, 3) := dk_162 0 67 (dk_at dksX1_wouldPass_0 11 rfl rfl)
theorem dX1_wouldPass_14 : decode cX1_wouldPass 14 = .ok (.aload_n 0, 1) := dk_42 (dk_at dksX1_wouldPass_0 14 rfl rfl)
theorem dX1_wouldPass_15 : decode cX1_wouldPass 15 = .ok (.aload_n 0, 1) := dk_42 (dk_at dksX1_wouldPass_0 15 rfl rfl)
theorem dX1_wouldPass_16 : decode cX1_wouldPass 16 = .ok (.getfield 128, 3) := dk_180 0 128 (dk_at dksX1_wouldPass_0 16 rfl rfl)
theorem dX1_wouldPass_19 : decode cX1_wouldPass 19 = .ok (.iload_n 2, 1) := dk_28 (dk_at dksX1_wouldPass_0 19 rfl rfl)
theorem dX1_wouldPass_20 : decode cX1_wouldPass 20 = .ok (.invokevirtual 235, 3) := dk_182 0 235 (dk_at dksX1_wouldPass_0 20 rfl rfl)
theorem dX1_wouldPass_23 : decode cX1_wouldPass 23 = .ok (.aload_n 1, 1) := dk_43 (dk_at dksX1_wouldPass_0 23 rfl rfl)
theorem dX1_wouldPass_24 : decode cX1_wouldPass 24 = .ok (.invokevirtual 244, 3) := dk_182 0 244 (dk_at dksX1_wouldPass_1 0 rfl rfl)
theorem dX1_wouldPass_27 : decode cX1_wouldPass 27 = .ok (.istore_n 3, 1) := dk_62 (dk_at dksX1_wouldPass_1 3 rfl rfl)
theorem dX1_wouldPass_28 : decode cX1_wouldPass 28 = .ok (.aload_n 0, 1) := dk_42 (dk_at dksX1_wouldPass_1 4 rfl rfl)
theorem dX1_wouldPass_29 : decode cX1_wouldPass 29 = .ok (.dup, 1) := dk_89 (dk_at dksX1_wouldPass_1 5 rfl rfl)
theorem dX1_wouldPass_30 : decode cX1_wouldPass 30 = .ok (.getfield 143, 3) := dk_180 0 143 (dk_at dksX1_wouldPass_1 6 rfl rfl)
theorem dX1_wouldPass_33 : decode cX1_wouldPass 33 = .ok (.iload_n 3, 1) := dk_29 (dk_at dksX1_wouldPass_1 9 rfl rfl)
theorem dX1_wouldPass_34 : decode cX1_wouldPass 34 = .ok (.iconst 1, 1) := dk_4 (dk_at dksX1_wouldPass_1 10 rfl rfl)
theorem dX1_wouldPass_35 : decode cX1_wouldPass 35 = .ok (.if_icmp .ne 7, 3) := dk_160 0 7 (dk_at dksX1_wouldPass_1 11 rfl rfl)
theorem dX1_wouldPass_38 : decode cX1_wouldPass 38 = .ok (.iconst 1, 1) := dk_4 (dk_at dksX1_wouldPass_1 14 rfl rfl)
theorem dX1_wouldPass_39 : decode cX1_wouldPass 39 = .ok (.goto 4, 3) := dk_167 0 4 (dk_at dksX1_wouldPass_1 15 rfl rfl)
theorem dX1_wouldPass_42 : decode cX1_wouldPass 42 = .ok (.iconst 0, 1) := dk_3 (dk_at dksX1_wouldPass_1 18 rfl rfl)
theorem dX1_wouldPass_43 : decode cX1_wouldPass 43 = .ok (.invokestatic 247, 3) := dk_184 0 247 (dk_at dksX1_wouldPass_1 19 rfl rfl)
theorem dX1_wouldPass_46 : decode cX1_wouldPass 46 = .ok (.iadd, 1) := dk_96 (dk_at dksX1_wouldPass_1 22 rfl rfl)
theorem dX1_wouldPass_47 : decode cX1_wouldPass 47 = .ok (.putfield 143, 3) := dk_181 0 143 (dk_at dksX1_wouldPass_2 0 rfl rfl)
theorem dX1_wouldPass_50 : decode cX1_wouldPass 50 = .ok (.aload_n 0, 1) := dk_42 (dk_at dksX1_wouldPass_2 3 rfl rfl)
theorem dX1_wouldPass_51 : decode cX1_wouldPass 51 = .ok (.dup, 1) := dk_89 (dk_at dksX1_wouldPass_2 4 rfl rfl)
theorem dX1_wouldPass_52 : decode cX1_wouldPass 52 = .ok (.getfield 146, 3) := dk_180 0 146 (dk_at dksX1_wouldPass_2 5 rfl rfl)
theorem dX1_wouldPass_55 : decode cX1_wouldPass 55 = .ok (.iload_n 3, 1) := dk_29 (dk_at dksX1_wouldPass_2 8 rfl rfl)
theorem dX1_wouldPass_56 : decode cX1_wouldPass 56 = .ok (.iconst 2, 1) := dk_5 (dk_at dksX1_wouldPass_2 9 rfl rfl)
theorem dX1_wouldPass_57 : decode cX1_wouldPass 57 = .ok (.if_icmp .ne 7, 3) := dk_160 0 7 (dk_at dksX1_wouldPass_2 10 rfl rfl)
theorem dX1_wouldPass_60 : decode cX1_wouldPass 60 = .ok (.iconst 1, 1) := dk_4 (dk_at dksX1_wouldPass_2 13 rfl rfl)
theorem dX1_wouldPass_61 : decode cX1_wouldPass 61 = .ok (.goto 4, 3) := dk_167 0 4 (dk_at dksX1_wouldPass_2 14 rfl rfl)
theorem dX1_wouldPass_64 : decode cX1_wouldPass 64 = .ok (.iconst 0, 1) := dk_3 (dk_at dksX1_wouldPass_2 17 rfl rfl)
theorem dX1_wouldPass_65 : decode cX1_wouldPass 65 = .ok (.invokestatic 247, 3) := dk_184 0 247 (dk_at dksX1_wouldPass_2 18 rfl rfl)
theorem dX1_wouldPass_68 : decode cX1_wouldPass 68 = .ok (.iadd, 1) := dk_96 (dk_at dksX1_wouldPass_2 21 rfl rfl)
theorem dX1_wouldPass_69 : decode cX1_wouldPass 69 = .ok (.putfield 146, 3) := dk_181 0 146 (dk_at dksX1_wouldPass_3 0 rfl rfl)
theorem dX1_wouldPass_72 : decode cX1_wouldPass 72 = .ok (.iinc 2 1, 3) := dk_132 2 1 (dk_at dksX1_wouldPass_3 3 rfl rfl)
theorem dX1_wouldPass_75 : decode cX1_wouldPass 75 = .ok (.goto (-73), 3) := dk_167 255 183 (dk_at dksX1_wouldPass_3 6 rfl rfl)
theorem dX1_wouldPass_78 : decode cX1_wouldPass 78 = .ok (.return_, 1) := dk_177 (dk_at dksX1_wouldPass_3 9 rfl rfl)
abbrev cX1_manyAt : ByteArray := prog_32_method_12_code
def yX1_manyAt : MethodName := ⟨RX1, "manyAt", "(I)I"⟩
def dkwX1_manyAt_0 : List UInt8 := [42, 180, 0, 17, 27, 182, 0, 205, 77, 44, 199, 0, 7, 3, 167, 0, 7, 44, 182, 0, 77, 172]
abbrev dktX1_manyAt_0 : List UInt8 := dkwX1_manyAt_0 ++ []
theorem dksX1_manyAt_0 : cX1_manyAt.data.toList.drop 0 = dktX1_manyAt_0 := by decide +kernel
theorem dX1_manyAt_0 : decode cX1_manyAt 0 = .ok (.aload_n 0, 1) := dk_42 (dk_at dksX1_manyAt_0 0 rfl rfl)
theorem dX1_manyAt_1 : decode cX1_manyAt 1 = .ok (.getfield 17, 3) := dk_180 0 17 (dk_at dksX1_manyAt_0 1 rfl rfl)
theorem dX1_manyAt_4 : decode cX1_manyAt 4 = .ok (.iload_n 1, 1) := dk_27 (dk_at dksX1_manyAt_0 4 rfl rfl)
theorem dX1_manyAt_5 : decode cX1_manyAt 5 = .ok (.invokevirtual 205, 3) := dk_182 0 205 (dk_at dksX1_manyAt_0 5 rfl rfl)
theorem dX1_manyAt_8 : decode cX1_manyAt 8 = .ok (.astore_n 2, 1) := dk_77 (dk_at dksX1_manyAt_0 8 rfl rfl)
theorem dX1_manyAt_9 : decode cX1_manyAt 9 = .ok (.aload_n 2, 1) := dk_44 (dk_at dksX1_manyAt_0 9 rfl rfl)
theorem dX1_manyAt_10 : decode cX1_manyAt 10 = .ok (.ifnonnull 7, 3) := dk_199 0 7 (dk_at dksX1_manyAt_0 10 rfl rfl)
theorem dX1_manyAt_13 : decode cX1_manyAt 13 = .ok (.iconst 0, 1) := dk_3 (dk_at dksX1_manyAt_0 13 rfl rfl)
theorem dX1_manyAt_14 : decode cX1_manyAt 14 = .ok (.goto 7, 3) := dk_167 0 7 (dk_at dksX1_manyAt_0 14 rfl rfl)
theorem dX1_manyAt_17 : decode cX1_manyAt 17 = .ok (.aload_n 2, 1) := dk_44 (dk_at dksX1_manyAt_0 17 rfl rfl)
theorem dX1_manyAt_18 : decode cX1_manyAt 18 = .ok (.invokevirtual 77, 3) := dk_182 0 77 (dk_at dksX1_manyAt_0 18 rfl rfl)
theorem dX1_manyAt_21 : decode cX1_manyAt 21 = .ok (.ireturn, 1) := dk_172 (dk_at dksX1_manyAt_0 21 rfl rfl)
abbrev cX1_shipAt : ByteArray := prog_32_method_13_code
def yX1_shipAt : MethodName := ⟨RX1, "shipAt", "(II)LKeptLight$Ship;"⟩
def dkwX1_shipAt_0 : List UInt8 := [42, 180, 0, 17, 27, 182, 0, 205, 28, 182, 0, 81, 192, 0, 153, 176]
abbrev dktX1_shipAt_0 : List UInt8 := dkwX1_shipAt_0 ++ []
theorem dksX1_shipAt_0 : cX1_shipAt.data.toList.drop 0 = dktX1_shipAt_0 := by decide +kernel
theorem dX1_shipAt_0 : decode cX1_shipAt 0 = .ok (.aload_n 0, 1) := dk_42 (dk_at dksX1_shipAt_0 0 rfl rfl)
theorem dX1_shipAt_1 : decode cX1_shipAt 1 = .ok (.getfield 17, 3) := dk_180 0 17 (dk_at dksX1_shipAt_0 1 rfl rfl)
theorem dX1_shipAt_4 : decode cX1_shipAt 4 = .ok (.iload_n 1, 1) := dk_27 (dk_at dksX1_shipAt_0 4 rfl rfl)
theorem dX1_shipAt_5 : decode cX1_shipAt 5 = .ok (.invokevirtual 205, 3) := dk_182 0 205 (dk_at dksX1_shipAt_0 5 rfl rfl)
theorem dX1_shipAt_8 : decode cX1_shipAt 8 = .ok (.iload_n 2, 1) := dk_28 (dk_at dksX1_shipAt_0 8 rfl rfl)
theorem dX1_shipAt_9 : decode cX1_shipAt 9 = .ok (.invokevirtual 81, 3) := dk_182 0 81 (dk_at dksX1_shipAt_0 9 rfl rfl)
theorem dX1_shipAt_12 : decode cX1_shipAt 12 = .ok (.checkcast 153, 3) := dk_192 0 153 (dk_at dksX1_shipAt_0 12 rfl rfl)
theorem dX1_shipAt_15 : decode cX1_shipAt 15 = .ok (.areturn, 1) := dk_176 (dk_at dksX1_shipAt_0 15 rfl rfl)
abbrev cX1_passes : ByteArray := prog_32_method_16_code
def yX1_passes : MethodName := ⟨RX1, "passes", "(LKeptLight$Sight;LKeptLight$Keeper;)V"⟩
def dkwX1_passes_4 : List UInt8 := [182, 0, 224, 132, 3, 1, 167, 255, 203, 177]
abbrev dktX1_passes_4 : List UInt8 := dkwX1_passes_4 ++ []
def dkwX1_passes_3 : List UInt8 := [25, 4, 43, 182, 0, 239, 44, 198, 0, 20, 42, 7, 25, 4, 180, 0, 155, 96, 25, 4, 180, 0, 243, 44]
abbrev dktX1_passes_3 : List UInt8 := dkwX1_passes_3 ++ dktX1_passes_4
def dkwX1_passes_2 : List UInt8 := [62, 29, 42, 42, 180, 0, 128, 182, 0, 231, 162, 0, 47, 42, 42, 180, 0, 128, 29, 182, 0, 235, 58, 4]
abbrev dktX1_passes_2 : List UInt8 := dkwX1_passes_2 ++ dktX1_passes_3
def dkwX1_passes_1 : List UInt8 := [2, 44, 182, 0, 224, 44, 198, 0, 17, 43, 180, 0, 228, 153, 0, 10, 42, 6, 2, 44, 182, 0, 224, 3]
abbrev dktX1_passes_1 : List UInt8 := dkwX1_passes_1 ++ dktX1_passes_2
def dkwX1_passes_0 : List UInt8 := [44, 198, 0, 28, 43, 180, 0, 218, 153, 0, 21, 42, 43, 180, 0, 223, 153, 0, 7, 4, 167, 0, 4, 5]
abbrev dktX1_passes_0 : List UInt8 := dkwX1_passes_0 ++ dktX1_passes_1
theorem dksX1_passes_0 : cX1_passes.data.toList.drop 0 = dktX1_passes_0 := by decide +kernel
theorem dksX1_passes_1 : cX1_passes.data.toList.drop 24 = dktX1_passes_1 := dk_seg dksX1_passes_0 24 rfl rfl
theorem dksX1_passes_2 : cX1_passes.data.toList.drop 48 = dktX1_passes_2 := dk_seg dksX1_passes_1 24 rfl rfl
theorem dksX1_passes_3 : cX1_passes.data.toList.drop 72 = dktX1_passes_3 := dk_seg dksX1_passes_2 24 rfl rfl
theorem dksX1_passes_4 : cX1_passes.data.toList.drop 96 = dktX1_passes_4 := dk_seg dksX1_passes_3 24 rfl rfl
theorem dX1_passes_0 : decode cX1_passes 0 = .ok (.aload_n 2, 1) := dk_44 (dk_at dksX1_passes_0 0 rfl rfl)
theorem dX1_passes_1 : decode cX1_passes 1 = .ok (.ifnull 28, 3) := dk_198 0 28 (dk_at dksX1_passes_0 1 rfl rfl)
theorem dX1_passes_4 : decode cX1_passes 4 = .ok (.aload_n 1, 1) := dk_43 (dk_at dksX1_passes_0 4 rfl rfl)
theorem dX1_passes_5 : decode cX1_passes 5 = .ok (.getfield 218, 3) := dk_180 0 218 (dk_at dksX1_passes_0 5 rfl rfl)
theorem dX1_passes_8 : decode cX1_passes 8 = .ok (.ifCond .eq 21, 3) := dk_153 0 21 (dk_at dksX1_passes_0 8 rfl rfl)
theorem dX1_passes_11 : decode cX1_passes 11 = .ok (.aload_n 0, 1) := dk_42 (dk_at dksX1_passes_0 11 rfl rfl)
theorem dX1_passes_12 : decode cX1_passes 12 = .ok (.aload_n 1, 1) := dk_43 (dk_at dksX1_passes_0 12 rfl rfl)
theorem dX1_passes_13 : decode cX1_passes 13 = .ok (.getfield 223, 3) := dk_180 0 223 (dk_at dksX1_passes_0 13 rfl rfl)
theorem dX1_passes_16 : decode cX1_passes 16 = .ok (.ifCond .eq 7, 3) := dk_153 0 7 (dk_at dksX1_passes_0 16 rfl rfl)
theorem dX1_passes_19 : decode cX1_passes 19 = .ok (.iconst 1, 1) := dk_4 (dk_at dksX1_passes_0 19 rfl rfl)
theorem dX1_passes_20 : decode cX1_passes 20 = .ok (.goto 4, 3) := dk_167 0 4 (dk_at dksX1_passes_0 20 rfl rfl)
theorem dX1_passes_23 : decode cX1_passes 23 = .ok (.iconst 2, 1) := dk_5 (dk_at dksX1_passes_0 23 rfl rfl)
theorem dX1_passes_24 : decode cX1_passes 24 = .ok (.iconst (-1), 1) := dk_2 (dk_at dksX1_passes_1 0 rfl rfl)
theorem dX1_passes_25 : decode cX1_passes 25 = .ok (.aload_n 2, 1) := dk_44 (dk_at dksX1_passes_1 1 rfl rfl)
theorem dX1_passes_26 : decode cX1_passes 26 = .ok (.invokevirtual 224, 3) := dk_182 0 224 (dk_at dksX1_passes_1 2 rfl rfl)
theorem dX1_passes_29 : decode cX1_passes 29 = .ok (.aload_n 2, 1) := dk_44 (dk_at dksX1_passes_1 5 rfl rfl)
theorem dX1_passes_30 : decode cX1_passes 30 = .ok (.ifnull 17, 3) := dk_198 0 17 (dk_at dksX1_passes_1 6 rfl rfl)
theorem dX1_passes_33 : decode cX1_passes 33 = .ok (.aload_n 1, 1) := dk_43 (dk_at dksX1_passes_1 9 rfl rfl)
theorem dX1_passes_34 : decode cX1_passes 34 = .ok (.getfield 228, 3) := dk_180 0 228 (dk_at dksX1_passes_1 10 rfl rfl)
theorem dX1_passes_37 : decode cX1_passes 37 = .ok (.ifCond .eq 10, 3) := dk_153 0 10 (dk_at dksX1_passes_1 13 rfl rfl)
theorem dX1_passes_40 : decode cX1_passes 40 = .ok (.aload_n 0, 1) := dk_42 (dk_at dksX1_passes_1 16 rfl rfl)
theorem dX1_passes_41 : decode cX1_passes 41 = .ok (.iconst 3, 1) := dk_6 (dk_at dksX1_passes_1 17 rfl rfl)
theorem dX1_passes_42 : decode cX1_passes 42 = .ok (.iconst (-1), 1) := dk_2 (dk_at dksX1_passes_1 18 rfl rfl)
theorem dX1_passes_43 : decode cX1_passes 43 = .ok (.aload_n 2, 1) := dk_44 (dk_at dksX1_passes_1 19 rfl rfl)
theorem dX1_passes_44 : decode cX1_passes 44 = .ok (.invokevirtual 224, 3) := dk_182 0 224 (dk_at dksX1_passes_1 20 rfl rfl)
theorem dX1_passes_47 : decode cX1_passes 47 = .ok (.iconst 0, 1) := dk_3 (dk_at dksX1_passes_1 23 rfl rfl)
theorem dX1_passes_48 : decode cX1_passes 48 = .ok (.istore_n 3, 1) := dk_62 (dk_at dksX1_passes_2 0 rfl rfl)
theorem dX1_passes_49 : decode cX1_passes 49 = .ok (.iload_n 3, 1) := dk_29 (dk_at dksX1_passes_2 1 rfl rfl)
theorem dX1_passes_50 : decode cX1_passes 50 = .ok (.aload_n 0, 1) := dk_42 (dk_at dksX1_passes_2 2 rfl rfl)
theorem dX1_passes_51 : decode cX1_passes 51 = .ok (.aload_n 0, 1) := dk_42 (dk_at dksX1_passes_2 3 rfl rfl)
theorem dX1_passes_52 : decode cX1_passes 52 = .ok (.getfield 128, 3) := dk_180 0 128 (dk_at dksX1_passes_2 4 rfl rfl)
theorem dX1_passes_55 : decode cX1_passes 55 = .ok (.invokevirtual 231, 3) := dk_182 0 231 (dk_at dksX1_passes_2 7 rfl rfl)
theorem dX1_passes_58 : decode cX1_passes 58 = .ok (.if_icmp .ge 47, 3) := dk_162 0 47 (dk_at dksX1_passes_2 10 rfl rfl)
theorem dX1_passes_61 : decode cX1_passes 61 = .ok (.aload_n 0, 1) := dk_42 (dk_at dksX1_passes_2 13 rfl rfl)
theorem dX1_passes_62 : decode cX1_passes 62 = .ok (.aload_n 0, 1) := dk_42 (dk_at dksX1_passes_2 14 rfl rfl)
theorem dX1_passes_63 : decode cX1_passes 63 = .ok (.getfield 128, 3) := dk_180 0 128 (dk_at dksX1_passes_2 15 rfl rfl)
theorem dX1_passes_66 : decode cX1_passes 66 = .ok (.iload_n 3, 1) := dk_29 (dk_at dksX1_passes_2 18 rfl rfl)
theorem dX1_passes_67 : decode cX1_passes 67 = .ok (.invokevirtual 235, 3) := dk_182 0 235 (dk_at dksX1_passes_2 19 rfl rfl)
theorem dX1_passes_70 : decode cX1_passes 70 = .ok (.astore 4, 2) := dk_58 4 (dk_at dksX1_passes_2 22 rfl rfl)
theorem dX1_passes_72 : decode cX1_passes 72 = .ok (.aload 4, 2) := dk_25 4 (dk_at dksX1_passes_3 0 rfl rfl)
theorem dX1_passes_74 : decode cX1_passes 74 = .ok (.aload_n 1, 1) := dk_43 (dk_at dksX1_passes_3 2 rfl rfl)
theorem dX1_passes_75 : decode cX1_passes 75 = .ok (.invokevirtual 239, 3) := dk_182 0 239 (dk_at dksX1_passes_3 3 rfl rfl)
theorem dX1_passes_78 : decode cX1_passes 78 = .ok (.aload_n 2, 1) := dk_44 (dk_at dksX1_passes_3 6 rfl rfl)
theorem dX1_passes_79 : decode cX1_passes 79 = .ok (.ifnull 20, 3) := dk_198 0 20 (dk_at dksX1_passes_3 7 rfl rfl)
theorem dX1_passes_82 : decode cX1_passes 82 = .ok (.aload_n 0, 1) := dk_42 (dk_at dksX1_passes_3 10 rfl rfl)
theorem dX1_passes_83 : decode cX1_passes 83 = .ok (.iconst 4, 1) := dk_7 (dk_at dksX1_passes_3 11 rfl rfl)
theorem dX1_passes_84 : decode cX1_passes 84 = .ok (.aload 4, 2) := dk_25 4 (dk_at dksX1_passes_3 12 rfl rfl)
theorem dX1_passes_86 : decode cX1_passes 86 = .ok (.getfield 155, 3) := dk_180 0 155 (dk_at dksX1_passes_3 14 rfl rfl)
theorem dX1_passes_89 : decode cX1_passes 89 = .ok (.iadd, 1) := dk_96 (dk_at dksX1_passes_3 17 rfl rfl)
theorem dX1_passes_90 : decode cX1_passes 90 = .ok (.aload 4, 2) := dk_25 4 (dk_at dksX1_passes_3 18 rfl rfl)
theorem dX1_passes_92 : decode cX1_passes 92 = .ok (.getfield 243, 3) := dk_180 0 243 (dk_at dksX1_passes_3 20 rfl rfl)
theorem dX1_passes_95 : decode cX1_passes 95 = .ok (.aload_n 2, 1) := dk_44 (dk_at dksX1_passes_3 23 rfl rfl)
theorem dX1_passes_96 : decode cX1_passes 96 = .ok (.invokevirtual 224, 3) := dk_182 0 224 (dk_at dksX1_passes_4 0 rfl rfl)
theorem dX1_passes_99 : decode cX1_passes 99 = .ok (.iinc 3 1, 3) := dk_132 3 1 (dk_at dksX1_passes_4 3 rfl rfl)
theorem dX1_passes_102 : decode cX1_passes 102 = .ok (.goto (-53), 3) := dk_167 255 203 (dk_at dksX1_passes_4 6 rfl rfl)
theorem dX1_passes_105 : decode cX1_passes 105 = .ok (.return_, 1) := dk_177 (dk_at dksX1_passes_4 9 rfl rfl)
abbrev cX1_writes : ByteArray := prog_32_method_14_code
def yX1_writes : MethodName := ⟨RX1, "writes", "(IILKeptLight$Keeper;)V"⟩
def dkwX1_writes_1 : List UInt8 := [180, 0, 128, 27, 28, 45, 180, 0, 209, 183, 0, 212, 182, 0, 97, 87, 177]
abbrev dktX1_writes_1 : List UInt8 := dkwX1_writes_1 ++ []
def dkwX1_writes_0 : List UInt8 := [42, 180, 0, 42, 182, 0, 77, 17, 1, 144, 162, 0, 28, 42, 180, 0, 42, 187, 0, 161, 89, 42]
abbrev dktX1_writes_0 : List UInt8 := dkwX1_writes_0 ++ dktX1_writes_1
theorem dksX1_writes_0 : cX1_writes.data.toList.drop 0 = dktX1_writes_0 := by decide +kernel
theorem dksX1_writes_1 : cX1_writes.data.toList.drop 22 = dktX1_writes_1 := dk_seg dksX1_writes_0 22 rfl rfl
theorem dX1_writes_0 : decode cX1_writes 0 = .ok (.aload_n 0, 1) := dk_42 (dk_at dksX1_writes_0 0 rfl rfl)
theorem dX1_writes_1 : decode cX1_writes 1 = .ok (.getfield 42, 3) := dk_180 0 42 (dk_at dksX1_writes_0 1 rfl rfl)
theorem dX1_writes_4 : decode cX1_writes 4 = .ok (.invokevirtual 77, 3) := dk_182 0 77 (dk_at dksX1_writes_0 4 rfl rfl)
theorem dX1_writes_7 : decode cX1_writes 7 = .ok (.sipush 400, 3) := dk_17 1 144 (dk_at dksX1_writes_0 7 rfl rfl)
theorem dX1_writes_10 : decode cX1_writes 10 = .ok (.if_icmp .ge 28, 3) := dk_162 0 28 (dk_at dksX1_writes_0 10 rfl rfl)
theorem dX1_writes_13 : decode cX1_writes 13 = .ok (.aload_n 0, 1) := dk_42 (dk_at dksX1_writes_0 13 rfl rfl)
theorem dX1_writes_14 : decode cX1_writes 14 = .ok (.getfield 42, 3) := dk_180 0 42 (dk_at dksX1_writes_0 14 rfl rfl)
theorem dX1_writes_17 : decode cX1_writes 17 = .ok (.new 161, 3) := dk_187 0 161 (dk_at dksX1_writes_0 17 rfl rfl)
theorem dX1_writes_20 : decode cX1_writes 20 = .ok (.dup, 1) := dk_89 (dk_at dksX1_writes_0 20 rfl rfl)
theorem dX1_writes_21 : decode cX1_writes 21 = .ok (.aload_n 0, 1) := dk_42 (dk_at dksX1_writes_0 21 rfl rfl)
theorem dX1_writes_22 : decode cX1_writes 22 = .ok (.getfield 128, 3) := dk_180 0 128 (dk_at dksX1_writes_1 0 rfl rfl)
theorem dX1_writes_25 : decode cX1_writes 25 = .ok (.iload_n 1, 1) := dk_27 (dk_at dksX1_writes_1 3 rfl rfl)
theorem dX1_writes_26 : decode cX1_writes 26 = .ok (.iload_n 2, 1) := dk_28 (dk_at dksX1_writes_1 4 rfl rfl)
theorem dX1_writes_27 : decode cX1_writes 27 = .ok (.aload_n 3, 1) := dk_45 (dk_at dksX1_writes_1 5 rfl rfl)
theorem dX1_writes_28 : decode cX1_writes 28 = .ok (.getfield 209, 3) := dk_180 0 209 (dk_at dksX1_writes_1 6 rfl rfl)
theorem dX1_writes_31 : decode cX1_writes 31 = .ok (.invokespecial 212, 3) := dk_183 0 212 (dk_at dksX1_writes_1 9 rfl rfl)
theorem dX1_writes_34 : decode cX1_writes 34 = .ok (.invokevirtual 97, 3) := dk_182 0 97 (dk_at dksX1_writes_1 12 rfl rfl)
theorem dX1_writes_37 : decode cX1_writes 37 = .ok (.pop, 1) := dk_87 (dk_at dksX1_writes_1 15 rfl rfl)
theorem dX1_writes_38 : decode cX1_writes 38 = .ok (.return_, 1) := dk_177 (dk_at dksX1_writes_1 16 rfl rfl)
abbrev cX1_rests : ByteArray := prog_32_method_18_code
def yX1_rests : MethodName := ⟨RX1, "rests", "(LKeptLight$Keeper;LKeptLight$Weather;)V"⟩
def dkwX1_rests_2 : List UInt8 := [25, 4, 180, 0, 251, 5, 100, 184, 1, 1, 181, 0, 251, 132, 3, 1, 167, 255, 194, 177]
abbrev dktX1_rests_2 : List UInt8 := dkwX1_rests_2 ++ []
def dkwX1_rests_1 : List UInt8 := [58, 4, 25, 4, 25, 4, 43, 166, 0, 16, 25, 4, 180, 0, 251, 44, 182, 0, 254, 96, 167, 0, 14, 3]
abbrev dktX1_rests_1 : List UInt8 := dkwX1_rests_1 ++ dktX1_rests_2
def dkwX1_rests_0 : List UInt8 := [3, 62, 29, 42, 180, 0, 31, 182, 0, 77, 162, 0, 57, 42, 180, 0, 31, 29, 182, 0, 81, 192, 0, 85]
abbrev dktX1_rests_0 : List UInt8 := dkwX1_rests_0 ++ dktX1_rests_1
theorem dksX1_rests_0 : cX1_rests.data.toList.drop 0 = dktX1_rests_0 := by decide +kernel
theorem dksX1_rests_1 : cX1_rests.data.toList.drop 24 = dktX1_rests_1 := dk_seg dksX1_rests_0 24 rfl rfl
theorem dksX1_rests_2 : cX1_rests.data.toList.drop 48 = dktX1_rests_2 := dk_seg dksX1_rests_1 24 rfl rfl
theorem dX1_rests_0 : decode cX1_rests 0 = .ok (.iconst 0, 1) := dk_3 (dk_at dksX1_rests_0 0 rfl rfl)
theorem dX1_rests_1 : decode cX1_rests 1 = .ok (.istore_n 3, 1) := dk_62 (dk_at dksX1_rests_0 1 rfl rfl)
theorem dX1_rests_2 : decode cX1_rests 2 = .ok (.iload_n 3, 1) := dk_29 (dk_at dksX1_rests_0 2 rfl rfl)
theorem dX1_rests_3 : decode cX1_rests 3 = .ok (.aload_n 0, 1) := dk_42 (dk_at dksX1_rests_0 3 rfl rfl)
theorem dX1_rests_4 : decode cX1_rests 4 = .ok (.getfield 31, 3) := dk_180 0 31 (dk_at dksX1_rests_0 4 rfl rfl)
theorem dX1_rests_7 : decode cX1_rests 7 = .ok (.invokevirtual 77, 3) := dk_182 0 77 (dk_at dksX1_rests_0 7 rfl rfl)
theorem dX1_rests_10 : decode cX1_rests 10 = .ok (.if_icmp .ge 57, 3) := dk_162 0 57 (dk_at dksX1_rests_0 10 rfl rfl)
theorem dX1_rests_13 : decode cX1_rests 13 = .ok (.aload_n 0, 1) := dk_42 (dk_at dksX1_rests_0 13 rfl rfl)
theorem dX1_rests_14 : decode cX1_rests 14 = .ok (.getfield 31, 3) := dk_180 0 31 (dk_at dksX1_rests_0 14 rfl rfl)
theorem dX1_rests_17 : decode cX1_rests 17 = .ok (.iload_n 3, 1) := dk_29 (dk_at dksX1_rests_0 17 rfl rfl)
theorem dX1_rests_18 : decode cX1_rests 18 = .ok (.invokevirtual 81, 3) := dk_182 0 81 (dk_at dksX1_rests_0 18 rfl rfl)
theorem dX1_rests_21 : decode cX1_rests 21 = .ok (.checkcast 85, 3) := dk_192 0 85 (dk_at dksX1_rests_0 21 rfl rfl)
theorem dX1_rests_24 : decode cX1_rests 24 = .ok (.astore 4, 2) := dk_58 4 (dk_at dksX1_rests_1 0 rfl rfl)
theorem dX1_rests_26 : decode cX1_rests 26 = .ok (.aload 4, 2) := dk_25 4 (dk_at dksX1_rests_1 2 rfl rfl)
theorem dX1_rests_28 : decode cX1_rests 28 = .ok (.aload 4, 2) := dk_25 4 (dk_at dksX1_rests_1 4 rfl rfl)
theorem dX1_rests_30 : decode cX1_rests 30 = .ok (.aload_n 1, 1) := dk_43 (dk_at dksX1_rests_1 6 rfl rfl)
theorem dX1_rests_31 : decode cX1_rests 31 = .ok (.if_acmp .ne 16, 3) := dk_166 0 16 (dk_at dksX1_rests_1 7 rfl rfl)
theorem dX1_rests_34 : decode cX1_rests 34 = .ok (.aload 4, 2) := dk_25 4 (dk_at dksX1_rests_1 10 rfl rfl)
theorem dX1_rests_36 : decode cX1_rests 36 = .ok (.getfield 251, 3) := dk_180 0 251 (dk_at dksX1_rests_1 12 rfl rfl)
theorem dX1_rests_39 : decode cX1_rests 39 = .ok (.aload_n 2, 1) := dk_44 (dk_at dksX1_rests_1 15 rfl rfl)
theorem dX1_rests_40 : decode cX1_rests 40 = .ok (.invokevirtual 254, 3) := dk_182 0 254 (dk_at dksX1_rests_1 16 rfl rfl)
theorem dX1_rests_43 : decode cX1_rests 43 = .ok (.iadd, 1) := dk_96 (dk_at dksX1_rests_1 19 rfl rfl)
theorem dX1_rests_44 : decode cX1_rests 44 = .ok (.goto 14, 3) := dk_167 0 14 (dk_at dksX1_rests_1 20 rfl rfl)
theorem dX1_rests_47 : decode cX1_rests 47 = .ok (.iconst 0, 1) := dk_3 (dk_at dksX1_rests_1 23 rfl rfl)
theorem dX1_rests_48 : decode cX1_rests 48 = .ok (.aload 4, 2) := dk_25 4 (dk_at dksX1_rests_2 0 rfl rfl)
theorem dX1_rests_50 : decode cX1_rests 50 = .ok (.getfield 251, 3) := dk_180 0 251 (dk_at dksX1_rests_2 2 rfl rfl)
theorem dX1_rests_53 : decode cX1_rests 53 = .ok (.iconst 2, 1) := dk_5 (dk_at dksX1_rests_2 5 rfl rfl)
theorem dX1_rests_54 : decode cX1_rests 54 = .ok (.isub, 1) := dk_100 (dk_at dksX1_rests_2 6 rfl rfl)
theorem dX1_rests_55 : decode cX1_rests 55 = .ok (.invokestatic 257, 3) := dk_184 1 1 (dk_at dksX1_rests_2 7 rfl rfl)
theorem dX1_rests_58 : decode cX1_rests 58 = .ok (.putfield 251, 3) := dk_181 0 251 (dk_at dksX1_rests_2 10 rfl rfl)
theorem dX1_rests_61 : decode cX1_rests 61 = .ok (.iinc 3 1, 3) := dk_132 3 1 (dk_at dksX1_rests_2 13 rfl rfl)
theorem dX1_rests_64 : decode cX1_rests 64 = .ok (.goto (-62), 3) := dk_167 255 194 (dk_at dksX1_rests_2 16 rfl rfl)
theorem dX1_rests_67 : decode cX1_rests 67 = .ok (.return_, 1) := dk_177 (dk_at dksX1_rests_2 19 rfl rfl)
abbrev cX1_lands : ByteArray := prog_32_method_19_code
def yX1_lands : MethodName := ⟨RX1, "lands", "(LKeptLight$Sight;)V"⟩
def dkwX1_lands_6 : List UInt8 := [42, 180, 0, 31, 29, 182, 0, 81, 192, 0, 85, 3, 181, 0, 251, 132, 3, 1, 167, 255, 227, 177]
abbrev dktX1_lands_6 : List UInt8 := dkwX1_lands_6 ++ []
def dkwX1_lands_5 : List UInt8 := [180, 0, 128, 42, 180, 0, 60, 4, 46, 96, 79, 3, 62, 29, 42, 180, 0, 31, 182, 0, 77, 162, 0, 24]
abbrev dktX1_lands_5 : List UInt8 := dkwX1_lands_5 ++ dktX1_lands_6
def dkwX1_lands_4 : List UInt8 := [42, 180, 0, 57, 7, 46, 42, 180, 0, 60, 6, 46, 96, 184, 1, 11, 79, 42, 180, 0, 60, 3, 42]
abbrev dktX1_lands_4 : List UInt8 := dkwX1_lands_4 ++ dktX1_lands_5
def dkwX1_lands_3 : List UInt8 := [180, 0, 57, 6, 46, 42, 180, 0, 60, 5, 46, 96, 184, 1, 11, 79, 42, 180, 0, 57, 7, 17, 39, 15]
abbrev dktX1_lands_3 : List UInt8 := dkwX1_lands_3 ++ dktX1_lands_4
def dkwX1_lands_2 : List UInt8 := [154, 0, 4, 177, 42, 89, 180, 0, 140, 4, 96, 181, 0, 140, 42, 180, 0, 57, 6, 17, 39, 15, 42]
abbrev dktX1_lands_2 : List UInt8 := dkwX1_lands_2 ++ dktX1_lands_3
def dkwX1_lands_1 : List UInt8 := [180, 1, 7, 182, 1, 8, 154, 0, 14, 43, 180, 0, 218, 154, 0, 7, 4, 167, 0, 4, 3, 61, 28]
abbrev dktX1_lands_1 : List UInt8 := dkwX1_lands_1 ++ dktX1_lands_2
def dkwX1_lands_0 : List UInt8 := [42, 180, 0, 60, 3, 46, 2, 159, 0, 37, 42, 180, 0, 128, 42, 180, 0, 60, 3, 46, 161, 0, 24, 43]
abbrev dktX1_lands_0 : List UInt8 := dkwX1_lands_0 ++ dktX1_lands_1
theorem dksX1_lands_0 : cX1_lands.data.toList.drop 0 = dktX1_lands_0 := by decide +kernel
theorem dksX1_lands_1 : cX1_lands.data.toList.drop 24 = dktX1_lands_1 := dk_seg dksX1_lands_0 24 rfl rfl
theorem dksX1_lands_2 : cX1_lands.data.toList.drop 47 = dktX1_lands_2 := dk_seg dksX1_lands_1 23 rfl rfl
theorem dksX1_lands_3 : cX1_lands.data.toList.drop 70 = dktX1_lands_3 := dk_seg dksX1_lands_2 23 rfl rfl
theorem dksX1_lands_4 : cX1_lands.data.toList.drop 94 = dktX1_lands_4 := dk_seg dksX1_lands_3 24 rfl rfl
theorem dksX1_lands_5 : cX1_lands.data.toList.drop 117 = dktX1_lands_5 := dk_seg dksX1_lands_4 23 rfl rfl
theorem dksX1_lands_6 : cX1_lands.data.toList.drop 141 = dktX1_lands_6 := dk_seg dksX1_lands_5 24 rfl rfl
theorem dX1_lands_0 : decode cX1_lands 0 = .ok (.aload_n 0, 1) := dk_42 (dk_at dksX1_lands_0 0 rfl rfl)
theorem dX1_lands_1 : decode cX1_lands 1 = .ok (.getfield 60, 3) := dk_180 0 60 (dk_at dksX1_lands_0 1 rfl rfl)
theorem dX1_lands_4 : decode cX1_lands 4 = .ok (.iconst 0, 1) := dk_3 (dk_at dksX1_lands_0 4 rfl rfl)
theorem dX1_lands_5 : decode cX1_lands 5 = .ok (.iaload, 1) := dk_46 (dk_at dksX1_lands_0 5 rfl rfl)
theorem dX1_lands_6 : decode cX1_lands 6 = .ok (.iconst (-1), 1) := dk_2 (dk_at dksX1_lands_0 6 rfl rfl)
theorem dX1_lands_7 : decode cX1_lands 7 = .ok (.if_icmp .eq 37, 3) := dk_159 0 37 (dk_at dksX1_lands_0 7 rfl rfl)
theorem dX1_lands_10 : decode cX1_lands 10 = .ok (.aload_n 0, 1) := dk_42 (dk_at dksX1_lands_0 10 rfl rfl)
theorem dX1_lands_11 : decode cX1_lands 11 = .ok (.getfield 128, 3) := dk_180 0 128 (dk_at dksX1_lands_0 11 rfl rfl)
theorem dX1_lands_14 : decode cX1_lands 14 = .ok (.aload_n 0, 1) := dk_42 (dk_at dksX1_lands_0 14 rfl rfl)
theorem dX1_lands_15 : decode cX1_lands 15 = .ok (.getfield 60, 3) := dk_180 0 60 (dk_at dksX1_lands_0 15 rfl rfl)
theorem dX1_lands_18 : decode cX1_lands 18 = .ok (.iconst 0, 1) := dk_3 (dk_at dksX1_lands_0 18 rfl rfl)
theorem dX1_lands_19 : decode cX1_lands 19 = .ok (.iaload, 1) := dk_46 (dk_at dksX1_lands_0 19 rfl rfl)
theorem dX1_lands_20 : decode cX1_lands 20 = .ok (.if_icmp .lt 24, 3) := dk_161 0 24 (dk_at dksX1_lands_0 20 rfl rfl)
theorem dX1_lands_23 : decode cX1_lands 23 = .ok (.aload_n 1, 1) := dk_43 (dk_at dksX1_lands_0 23 rfl rfl)
theorem dX1_lands_24 : decode cX1_lands 24 = .ok (.getfield 263, 3) := dk_180 1 7 (dk_at dksX1_lands_1 0 rfl rfl)
theorem dX1_lands_27 : decode cX1_lands 27 = .ok (.invokevirtual 264, 3) := dk_182 1 8 (dk_at dksX1_lands_1 3 rfl rfl)
theorem dX1_lands_30 : decode cX1_lands 30 = .ok (.ifCond .ne 14, 3) := dk_154 0 14 (dk_at dksX1_lands_1 6 rfl rfl)
theorem dX1_lands_33 : decode cX1_lands 33 = .ok (.aload_n 1, 1) := dk_43 (dk_at dksX1_lands_1 9 rfl rfl)
theorem dX1_lands_34 : decode cX1_lands 34 = .ok (.getfield 218, 3) := dk_180 0 218 (dk_at dksX1_lands_1 10 rfl rfl)
theorem dX1_lands_37 : decode cX1_lands 37 = .ok (.ifCond .ne 7, 3) := dk_154 0 7 (dk_at dksX1_lands_1 13 rfl rfl)
theorem dX1_lands_40 : decode cX1_lands 40 = .ok (.iconst 1, 1) := dk_4 (dk_at dksX1_lands_1 16 rfl rfl)
theorem dX1_lands_41 : decode cX1_lands 41 = .ok (.goto 4, 3) := dk_167 0 4 (dk_at dksX1_lands_1 17 rfl rfl)
theorem dX1_lands_44 : decode cX1_lands 44 = .ok (.iconst 0, 1) := dk_3 (dk_at dksX1_lands_1 20 rfl rfl)
theorem dX1_lands_45 : decode cX1_lands 45 = .ok (.istore_n 2, 1) := dk_61 (dk_at dksX1_lands_1 21 rfl rfl)
theorem dX1_lands_46 : decode cX1_lands 46 = .ok (.iload_n 2, 1) := dk_28 (dk_at dksX1_lands_1 22 rfl rfl)
theorem dX1_lands_47 : decode cX1_lands 47 = .ok (.ifCond .ne 4, 3) := dk_154 0 4 (dk_at dksX1_lands_2 0 rfl rfl)
theorem dX1_lands_50 : decode cX1_lands 50 = .ok (.return_, 1) := dk_177 (dk_at dksX1_lands_2 3 rfl rfl)
theorem dX1_lands_51 : decode cX1_lands 51 = .ok (.aload_n 0, 1) := dk_42 (dk_at dksX1_lands_2 4 rfl rfl)
theorem dX1_lands_52 : decode cX1_lands 52 = .ok (.dup, 1) := dk_89 (dk_at dksX1_lands_2 5 rfl rfl)
theorem dX1_lands_53 : decode cX1_lands 53 = .ok (.getfield 140, 3) := dk_180 0 140 (dk_at dksX1_lands_2 6 rfl rfl)
theorem dX1_lands_56 : decode cX1_lands 56 = .ok (.iconst 1, 1) := dk_4 (dk_at dksX1_lands_2 9 rfl rfl)
theorem dX1_lands_57 : decode cX1_lands 57 = .ok (.iadd, 1) := dk_96 (dk_at dksX1_lands_2 10 rfl rfl)
theorem dX1_lands_58 : decode cX1_lands 58 = .ok (.putfield 140, 3) := dk_181 0 140 (dk_at dksX1_lands_2 11 rfl rfl)
theorem dX1_lands_61 : decode cX1_lands 61 = .ok (.aload_n 0, 1) := dk_42 (dk_at dksX1_lands_2 14 rfl rfl)
theorem dX1_lands_62 : decode cX1_lands 62 = .ok (.getfield 57, 3) := dk_180 0 57 (dk_at dksX1_lands_2 15 rfl rfl)
theorem dX1_lands_65 : decode cX1_lands 65 = .ok (.iconst 3, 1) := dk_6 (dk_at dksX1_lands_2 18 rfl rfl)
theorem dX1_lands_66 : decode cX1_lands 66 = .ok (.sipush 9999, 3) := dk_17 39 15 (dk_at dksX1_lands_2 19 rfl rfl)
theorem dX1_lands_69 : decode cX1_lands 69 = .ok (.aload_n 0, 1) := dk_42 (dk_at dksX1_lands_2 22 rfl rfl)
theorem dX1_lands_70 : decode cX1_lands 70 = .ok (.getfield 57, 3) := dk_180 0 57 (dk_at dksX1_lands_3 0 rfl rfl)
theorem dX1_lands_73 : decode cX1_lands 73 = .ok (.iconst 3, 1) := dk_6 (dk_at dksX1_lands_3 3 rfl rfl)
theorem dX1_lands_74 : decode cX1_lands 74 = .ok (.iaload, 1) := dk_46 (dk_at dksX1_lands_3 4 rfl rfl)
theorem dX1_lands_75 : decode cX1_lands 75 = .ok (.aload_n 0, 1) := dk_42 (dk_at dksX1_lands_3 5 rfl rfl)
theorem dX1_lands_76 : decode cX1_lands 76 = .ok (.getfield 60, 3) := dk_180 0 60 (dk_at dksX1_lands_3 6 rfl rfl)
theorem dX1_lands_79 : decode cX1_lands 79 = .ok (.iconst 2, 1) := dk_5 (dk_at dksX1_lands_3 9 rfl rfl)
theorem dX1_lands_80 : decode cX1_lands 80 = .ok (.iaload, 1) := dk_46 (dk_at dksX1_lands_3 10 rfl rfl)
theorem dX1_lands_81 : decode cX1_lands 81 = .ok (.iadd, 1) := dk_96 (dk_at dksX1_lands_3 11 rfl rfl)
theorem dX1_lands_82 : decode cX1_lands 82 = .ok (.invokestatic 267, 3) := dk_184 1 11 (dk_at dksX1_lands_3 12 rfl rfl)
theorem dX1_lands_85 : decode cX1_lands 85 = .ok (.iastore, 1) := dk_79 (dk_at dksX1_lands_3 15 rfl rfl)
theorem dX1_lands_86 : decode cX1_lands 86 = .ok (.aload_n 0, 1) := dk_42 (dk_at dksX1_lands_3 16 rfl rfl)
theorem dX1_lands_87 : decode cX1_lands 87 = .ok (.getfield 57, 3) := dk_180 0 57 (dk_at dksX1_lands_3 17 rfl rfl)
theorem dX1_lands_90 : decode cX1_lands 90 = .ok (.iconst 4, 1) := dk_7 (dk_at dksX1_lands_3 20 rfl rfl)
theorem dX1_lands_91 : decode cX1_lands 91 = .ok (.sipush 9999, 3) := dk_17 39 15 (dk_at dksX1_lands_3 21 rfl rfl)
theorem dX1_lands_94 : decode cX1_lands 94 = .ok (.aload_n 0, 1) := dk_42 (dk_at dksX1_lands_4 0 rfl rfl)
theorem dX1_lands_95 : decode cX1_lands 95 = .ok (.getfield 57, 3) := dk_180 0 57 (dk_at dksX1_lands_4 1 rfl rfl)
theorem dX1_lands_98 : decode cX1_lands 98 = .ok (.iconst 4, 1) := dk_7 (dk_at dksX1_lands_4 4 rfl rfl)
theorem dX1_lands_99 : decode cX1_lands 99 = .ok (.iaload, 1) := dk_46 (dk_at dksX1_lands_4 5 rfl rfl)
theorem dX1_lands_100 : decode cX1_lands 100 = .ok (.aload_n 0, 1) := dk_42 (dk_at dksX1_lands_4 6 rfl rfl)
theorem dX1_lands_101 : decode cX1_lands 101 = .ok (.getfield 60, 3) := dk_180 0 60 (dk_at dksX1_lands_4 7 rfl rfl)
theorem dX1_lands_104 : decode cX1_lands 104 = .ok (.iconst 3, 1) := dk_6 (dk_at dksX1_lands_4 10 rfl rfl)
theorem dX1_lands_105 : decode cX1_lands 105 = .ok (.iaload, 1) := dk_46 (dk_at dksX1_lands_4 11 rfl rfl)
theorem dX1_lands_106 : decode cX1_lands 106 = .ok (.iadd, 1) := dk_96 (dk_at dksX1_lands_4 12 rfl rfl)
theorem dX1_lands_107 : decode cX1_lands 107 = .ok (.invokestatic 267, 3) := dk_184 1 11 (dk_at dksX1_lands_4 13 rfl rfl)
theorem dX1_lands_110 : decode cX1_lands 110 = .ok (.iastore, 1) := dk_79 (dk_at dksX1_lands_4 16 rfl rfl)
theorem dX1_lands_111 : decode cX1_lands 111 = .ok (.aload_n 0, 1) := dk_42 (dk_at dksX1_lands_4 17 rfl rfl)
theorem dX1_lands_112 : decode cX1_lands 112 = .ok (.getfield 60, 3) := dk_180 0 60 (dk_at dksX1_lands_4 18 rfl rfl)
theorem dX1_lands_115 : decode cX1_lands 115 = .ok (.iconst 0, 1) := dk_3 (dk_at dksX1_lands_4 21 rfl rfl)
theorem dX1_lands_116 : decode cX1_lands 116 = .ok (.aload_n 0, 1) := dk_42 (dk_at dksX1_lands_4 22 rfl rfl)
theorem dX1_lands_117 : decode cX1_lands 117 = .ok (.getfield 128, 3) := dk_180 0 128 (dk_at dksX1_lands_5 0 rfl rfl)
theorem dX1_lands_120 : decode cX1_lands 120 = .ok (.aload_n 0, 1) := dk_42 (dk_at dksX1_lands_5 3 rfl rfl)
theorem dX1_lands_121 : decode cX1_lands 121 = .ok (.getfield 60, 3) := dk_180 0 60 (dk_at dksX1_lands_5 4 rfl rfl)
theorem dX1_lands_124 : decode cX1_lands 124 = .ok (.iconst 1, 1) := dk_4 (dk_at dksX1_lands_5 7 rfl rfl)
theorem dX1_lands_125 : decode cX1_lands 125 = .ok (.iaload, 1) := dk_46 (dk_at dksX1_lands_5 8 rfl rfl)
theorem dX1_lands_126 : decode cX1_lands 126 = .ok (.iadd, 1) := dk_96 (dk_at dksX1_lands_5 9 rfl rfl)
theorem dX1_lands_127 : decode cX1_lands 127 = .ok (.iastore, 1) := dk_79 (dk_at dksX1_lands_5 10 rfl rfl)
theorem dX1_lands_128 : decode cX1_lands 128 = .ok (.iconst 0, 1) := dk_3 (dk_at dksX1_lands_5 11 rfl rfl)
theorem dX1_lands_129 : decode cX1_lands 129 = .ok (.istore_n 3, 1) := dk_62 (dk_at dksX1_lands_5 12 rfl rfl)
theorem dX1_lands_130 : decode cX1_lands 130 = .ok (.iload_n 3, 1) := dk_29 (dk_at dksX1_lands_5 13 rfl rfl)
theorem dX1_lands_131 : decode cX1_lands 131 = .ok (.aload_n 0, 1) := dk_42 (dk_at dksX1_lands_5 14 rfl rfl)
theorem dX1_lands_132 : decode cX1_lands 132 = .ok (.getfield 31, 3) := dk_180 0 31 (dk_at dksX1_lands_5 15 rfl rfl)
theorem dX1_lands_135 : decode cX1_lands 135 = .ok (.invokevirtual 77, 3) := dk_182 0 77 (dk_at dksX1_lands_5 18 rfl rfl)
theorem dX1_lands_138 : decode cX1_lands 138 = .ok (.if_icmp .ge 24, 3) := dk_162 0 24 (dk_at dksX1_lands_5 21 rfl rfl)
theorem dX1_lands_141 : decode cX1_lands 141 = .ok (.aload_n 0, 1) := dk_42 (dk_at dksX1_lands_6 0 rfl rfl)
theorem dX1_lands_142 : decode cX1_lands 142 = .ok (.getfield 31, 3) := dk_180 0 31 (dk_at dksX1_lands_6 1 rfl rfl)
theorem dX1_lands_145 : decode cX1_lands 145 = .ok (.iload_n 3, 1) := dk_29 (dk_at dksX1_lands_6 4 rfl rfl)
theorem dX1_lands_146 : decode cX1_lands 146 = .ok (.invokevirtual 81, 3) := dk_182 0 81 (dk_at dksX1_lands_6 5 rfl rfl)
theorem dX1_lands_149 : decode cX1_lands 149 = .ok (.checkcast 85, 3) := dk_192 0 85 (dk_at dksX1_lands_6 8 rfl rfl)
theorem dX1_lands_152 : decode cX1_lands 152 = .ok (.iconst 0, 1) := dk_3 (dk_at dksX1_lands_6 11 rfl rfl)
theorem dX1_lands_153 : decode cX1_lands 153 = .ok (.putfield 251, 3) := dk_181 0 251 (dk_at dksX1_lands_6 12 rfl rfl)
theorem dX1_lands_156 : decode cX1_lands 156 = .ok (.iinc 3 1, 3) := dk_132 3 1 (dk_at dksX1_lands_6 15 rfl rfl)
theorem dX1_lands_159 : decode cX1_lands 159 = .ok (.goto (-29), 3) := dk_167 255 227 (dk_at dksX1_lands_6 18 rfl rfl)
theorem dX1_lands_162 : decode cX1_lands 162 = .ok (.return_, 1) := dk_177 (dk_at dksX1_lands_6 21 rfl rfl)
abbrev cX1_fates : ByteArray := prog_32_method_28_code
def yX1_fates : MethodName := ⟨RX1, "fates", "(II)I"⟩
def dkwX1_fates_3 : List UInt8 := [167, 255, 192, 29, 172]
abbrev dktX1_fates_3 : List UInt8 := dkwX1_fates_3 ++ []
def dkwX1_fates_2 : List UInt8 := [192, 0, 153, 180, 0, 155, 28, 160, 0, 7, 4, 167, 0, 4, 3, 184, 0, 247, 96, 62, 132, 4, 1]
abbrev dktX1_fates_2 : List UInt8 := dkwX1_fates_2 ++ dktX1_fates_3
def dkwX1_fates_1 : List UInt8 := [182, 0, 81, 192, 0, 153, 27, 182, 1, 90, 153, 0, 26, 42, 180, 0, 39, 21, 4, 182, 0, 81]
abbrev dktX1_fates_1 : List UInt8 := dkwX1_fates_1 ++ dktX1_fates_2
def dkwX1_fates_0 : List UInt8 := [3, 62, 3, 54, 4, 21, 4, 42, 180, 0, 39, 182, 0, 77, 162, 0, 58, 29, 42, 180, 0, 39, 21, 4]
abbrev dktX1_fates_0 : List UInt8 := dkwX1_fates_0 ++ dktX1_fates_1
theorem dksX1_fates_0 : cX1_fates.data.toList.drop 0 = dktX1_fates_0 := by decide +kernel
theorem dksX1_fates_1 : cX1_fates.data.toList.drop 24 = dktX1_fates_1 := dk_seg dksX1_fates_0 24 rfl rfl
theorem dksX1_fates_2 : cX1_fates.data.toList.drop 46 = dktX1_fates_2 := dk_seg dksX1_fates_1 22 rfl rfl
theorem dksX1_fates_3 : cX1_fates.data.toList.drop 69 = dktX1_fates_3 := dk_seg dksX1_fates_2 23 rfl rfl
theorem dX1_fates_0 : decode cX1_fates 0 = .ok (.iconst 0, 1) := dk_3 (dk_at dksX1_fates_0 0 rfl rfl)
theorem dX1_fates_1 : decode cX1_fates 1 = .ok (.istore_n 3, 1) := dk_62 (dk_at dksX1_fates_0 1 rfl rfl)
theorem dX1_fates_2 : decode cX1_fates 2 = .ok (.iconst 0, 1) := dk_3 (dk_at dksX1_fates_0 2 rfl rfl)
theorem dX1_fates_3 : decode cX1_fates 3 = .ok (.istore 4, 2) := dk_54 4 (dk_at dksX1_fates_0 3 rfl rfl)
theorem dX1_fates_5 : decode cX1_fates 5 = .ok (.iload 4, 2) := dk_21 4 (dk_at dksX1_fates_0 5 rfl rfl)
theorem dX1_fates_7 : decode cX1_fates 7 = .ok (.aload_n 0, 1) := dk_42 (dk_at dksX1_fates_0 7 rfl rfl)
theorem dX1_fates_8 : decode cX1_fates 8 = .ok (.getfield 39, 3) := dk_180 0 39 (dk_at dksX1_fates_0 8 rfl rfl)
theorem dX1_fates_11 : decode cX1_fates 11 = .ok (.invokevirtual 77, 3) := dk_182 0 77 (dk_at dksX1_fates_0 11 rfl rfl)
theorem dX1_fates_14 : decode cX1_fates 14 = .ok (.if_icmp .ge 58, 3) := dk_162 0 58 (dk_at dksX1_fates_0 14 rfl rfl)
theorem dX1_fates_17 : decode cX1_fates 17 = .ok (.iload_n 3, 1) := dk_29 (dk_at dksX1_fates_0 17 rfl rfl)
theorem dX1_fates_18 : decode cX1_fates 18 = .ok (.aload_n 0, 1) := dk_42 (dk_at dksX1_fates_0 18 rfl rfl)
theorem dX1_fates_19 : decode cX1_fates 19 = .ok (.getfield 39, 3) := dk_180 0 39 (dk_at dksX1_fates_0 19 rfl rfl)
theorem dX1_fates_22 : decode cX1_fates 22 = .ok (.iload 4, 2) := dk_21 4 (dk_at dksX1_fates_0 22 rfl rfl)
theorem dX1_fates_24 : decode cX1_fates 24 = .ok (.invokevirtual 81, 3) := dk_182 0 81 (dk_at dksX1_fates_1 0 rfl rfl)
theorem dX1_fates_27 : decode cX1_fates 27 = .ok (.checkcast 153, 3) := dk_192 0 153 (dk_at dksX1_fates_1 3 rfl rfl)
theorem dX1_fates_30 : decode cX1_fates 30 = .ok (.iload_n 1, 1) := dk_27 (dk_at dksX1_fates_1 6 rfl rfl)
theorem dX1_fates_31 : decode cX1_fates 31 = .ok (.invokevirtual 346, 3) := dk_182 1 90 (dk_at dksX1_fates_1 7 rfl rfl)
theorem dX1_fates_34 : decode cX1_fates 34 = .ok (.ifCond .eq 26, 3) := dk_153 0 26 (dk_at dksX1_fates_1 10 rfl rfl)
theorem dX1_fates_37 : decode cX1_fates 37 = .ok (.aload_n 0, 1) := dk_42 (dk_at dksX1_fates_1 13 rfl rfl)
theorem dX1_fates_38 : decode cX1_fates 38 = .ok (.getfield 39, 3) := dk_180 0 39 (dk_at dksX1_fates_1 14 rfl rfl)
theorem dX1_fates_41 : decode cX1_fates 41 = .ok (.iload 4, 2) := dk_21 4 (dk_at dksX1_fates_1 17 rfl rfl)
theorem dX1_fates_43 : decode cX1_fates 43 = .ok (.invokevirtual 81, 3) := dk_182 0 81 (dk_at dksX1_fates_1 19 rfl rfl)
theorem dX1_fates_46 : decode cX1_fates 46 = .ok (.checkcast 153, 3) := dk_192 0 153 (dk_at dksX1_fates_2 0 rfl rfl)
theorem dX1_fates_49 : decode cX1_fates 49 = .ok (.getfield 155, 3) := dk_180 0 155 (dk_at dksX1_fates_2 3 rfl rfl)
theorem dX1_fates_52 : decode cX1_fates 52 = .ok (.iload_n 2, 1) := dk_28 (dk_at dksX1_fates_2 6 rfl rfl)
theorem dX1_fates_53 : decode cX1_fates 53 = .ok (.if_icmp .ne 7, 3) := dk_160 0 7 (dk_at dksX1_fates_2 7 rfl rfl)
theorem dX1_fates_56 : decode cX1_fates 56 = .ok (.iconst 1, 1) := dk_4 (dk_at dksX1_fates_2 10 rfl rfl)
theorem dX1_fates_57 : decode cX1_fates 57 = .ok (.goto 4, 3) := dk_167 0 4 (dk_at dksX1_fates_2 11 rfl rfl)
theorem dX1_fates_60 : decode cX1_fates 60 = .ok (.iconst 0, 1) := dk_3 (dk_at dksX1_fates_2 14 rfl rfl)
theorem dX1_fates_61 : decode cX1_fates 61 = .ok (.invokestatic 247, 3) := dk_184 0 247 (dk_at dksX1_fates_2 15 rfl rfl)
theorem dX1_fates_64 : decode cX1_fates 64 = .ok (.iadd, 1) := dk_96 (dk_at dksX1_fates_2 18 rfl rfl)
theorem dX1_fates_65 : decode cX1_fates 65 = .ok (.istore_n 3, 1) := dk_62 (dk_at dksX1_fates_2 19 rfl rfl)
theorem dX1_fates_66 : decode cX1_fates 66 = .ok (.iinc 4 1, 3) := dk_132 4 1 (dk_at dksX1_fates_2 20 rfl rfl)
theorem dX1_fates_69 : decode cX1_fates 69 = .ok (.goto (-64), 3) := dk_167 255 192 (dk_at dksX1_fates_3 0 rfl rfl)
theorem dX1_fates_72 : decode cX1_fates 72 = .ok (.iload_n 3, 1) := dk_29 (dk_at dksX1_fates_3 3 rfl rfl)
theorem dX1_fates_73 : decode cX1_fates 73 = .ok (.ireturn, 1) := dk_172 (dk_at dksX1_fates_3 4 rfl rfl)
abbrev cX1_difference : ByteArray := prog_32_method_25_code
def yX1_difference : MethodName := ⟨RX1, "difference", "(I)LKeptLight$Difference;"⟩
def dkwX1_difference_3 : List UInt8 := [167, 255, 188, 1, 176]
abbrev dktX1_difference_3 : List UInt8 := dkwX1_difference_3 ++ []
def dkwX1_difference_2 : List UInt8 := [89, 42, 180, 0, 42, 29, 182, 0, 81, 192, 0, 161, 25, 4, 183, 1, 84, 176, 132, 2, 1, 132, 3, 1]
abbrev dktX1_difference_2 : List UInt8 := dkwX1_difference_2 ++ dktX1_difference_3
def dkwX1_difference_1 : List UInt8 := [192, 0, 161, 182, 1, 78, 58, 4, 25, 4, 199, 0, 6, 167, 0, 32, 28, 27, 160, 0, 24, 187, 1, 82]
abbrev dktX1_difference_1 : List UInt8 := dkwX1_difference_1 ++ dktX1_difference_2
def dkwX1_difference_0 : List UInt8 := [3, 61, 3, 62, 29, 42, 180, 0, 42, 182, 0, 77, 162, 0, 63, 42, 42, 180, 0, 42, 29, 182, 0, 81]
abbrev dktX1_difference_0 : List UInt8 := dkwX1_difference_0 ++ dktX1_difference_1
theorem dksX1_difference_0 : cX1_difference.data.toList.drop 0 = dktX1_difference_0 := by decide +kernel
theorem dksX1_difference_1 : cX1_difference.data.toList.drop 24 = dktX1_difference_1 := dk_seg dksX1_difference_0 24 rfl rfl
theorem dksX1_difference_2 : cX1_difference.data.toList.drop 48 = dktX1_difference_2 := dk_seg dksX1_difference_1 24 rfl rfl
theorem dksX1_difference_3 : cX1_difference.data.toList.drop 72 = dktX1_difference_3 := dk_seg dksX1_difference_2 24 rfl rfl
theorem dX1_difference_0 : decode cX1_difference 0 = .ok (.iconst 0, 1) := dk_3 (dk_at dksX1_difference_0 0 rfl rfl)
theorem dX1_difference_1 : decode cX1_difference 1 = .ok (.istore_n 2, 1) := dk_61 (dk_at dksX1_difference_0 1 rfl rfl)
theorem dX1_difference_2 : decode cX1_difference 2 = .ok (.iconst 0, 1) := dk_3 (dk_at dksX1_difference_0 2 rfl rfl)
theorem dX1_difference_3 : decode cX1_difference 3 = .ok (.istore_n 3, 1) := dk_62 (dk_at dksX1_difference_0 3 rfl rfl)
theorem dX1_difference_4 : decode cX1_difference 4 = .ok (.iload_n 3, 1) := dk_29 (dk_at dksX1_difference_0 4 rfl rfl)
theorem dX1_difference_5 : decode cX1_difference 5 = .ok (.aload_n 0, 1) := dk_42 (dk_at dksX1_difference_0 5 rfl rfl)
theorem dX1_difference_6 : decode cX1_difference 6 = .ok (.getfield 42, 3) := dk_180 0 42 (dk_at dksX1_difference_0 6 rfl rfl)
theorem dX1_difference_9 : decode cX1_difference 9 = .ok (.invokevirtual 77, 3) := dk_182 0 77 (dk_at dksX1_difference_0 9 rfl rfl)
theorem dX1_difference_12 : decode cX1_difference 12 = .ok (.if_icmp .ge 63, 3) := dk_162 0 63 (dk_at dksX1_difference_0 12 rfl rfl)
theorem dX1_difference_15 : decode cX1_difference 15 = .ok (.aload_n 0, 1) := dk_42 (dk_at dksX1_difference_0 15 rfl rfl)
theorem dX1_difference_16 : decode cX1_difference 16 = .ok (.aload_n 0, 1) := dk_42 (dk_at dksX1_difference_0 16 rfl rfl)
theorem dX1_difference_17 : decode cX1_difference 17 = .ok (.getfield 42, 3) := dk_180 0 42 (dk_at dksX1_difference_0 17 rfl rfl)
theorem dX1_difference_20 : decode cX1_difference 20 = .ok (.iload_n 3, 1) := dk_29 (dk_at dksX1_difference_0 20 rfl rfl)
theorem dX1_difference_21 : decode cX1_difference 21 = .ok (.invokevirtual 81, 3) := dk_182 0 81 (dk_at dksX1_difference_0 21 rfl rfl)
theorem dX1_difference_24 : decode cX1_difference 24 = .ok (.checkcast 161, 3) := dk_192 0 161 (dk_at dksX1_difference_1 0 rfl rfl)
theorem dX1_difference_27 : decode cX1_difference 27 = .ok (.invokevirtual 334, 3) := dk_182 1 78 (dk_at dksX1_difference_1 3 rfl rfl)
theorem dX1_difference_30 : decode cX1_difference 30 = .ok (.astore 4, 2) := dk_58 4 (dk_at dksX1_difference_1 6 rfl rfl)
theorem dX1_difference_32 : decode cX1_difference 32 = .ok (.aload 4, 2) := dk_25 4 (dk_at dksX1_difference_1 8 rfl rfl)
theorem dX1_difference_34 : decode cX1_difference 34 = .ok (.ifnonnull 6, 3) := dk_199 0 6 (dk_at dksX1_difference_1 10 rfl rfl)
theorem dX1_difference_37 : decode cX1_difference 37 = .ok (.goto 32, 3) := dk_167 0 32 (dk_at dksX1_difference_1 13 rfl rfl)
theorem dX1_difference_40 : decode cX1_difference 40 = .ok (.iload_n 2, 1) := dk_28 (dk_at dksX1_difference_1 16 rfl rfl)
theorem dX1_difference_41 : decode cX1_difference 41 = .ok (.iload_n 1, 1) := dk_27 (dk_at dksX1_difference_1 17 rfl rfl)
theorem dX1_difference_42 : decode cX1_difference 42 = .ok (.if_icmp .ne 24, 3) := dk_160 0 24 (dk_at dksX1_difference_1 18 rfl rfl)
theorem dX1_difference_45 : decode cX1_difference 45 = .ok (.new 338, 3) := dk_187 1 82 (dk_at dksX1_difference_1 21 rfl rfl)
theorem dX1_difference_48 : decode cX1_difference 48 = .ok (.dup, 1) := dk_89 (dk_at dksX1_difference_2 0 rfl rfl)
theorem dX1_difference_49 : decode cX1_difference 49 = .ok (.aload_n 0, 1) := dk_42 (dk_at dksX1_difference_2 1 rfl rfl)
theorem dX1_difference_50 : decode cX1_difference 50 = .ok (.getfield 42, 3) := dk_180 0 42 (dk_at dksX1_difference_2 2 rfl rfl)
theorem dX1_difference_53 : decode cX1_difference 53 = .ok (.iload_n 3, 1) := dk_29 (dk_at dksX1_difference_2 5 rfl rfl)
theorem dX1_difference_54 : decode cX1_difference 54 = .ok (.invokevirtual 81, 3) := dk_182 0 81 (dk_at dksX1_difference_2 6 rfl rfl)
theorem dX1_difference_57 : decode cX1_difference 57 = .ok (.checkcast 161, 3) := dk_192 0 161 (dk_at dksX1_difference_2 9 rfl rfl)
theorem dX1_difference_60 : decode cX1_difference 60 = .ok (.aload 4, 2) := dk_25 4 (dk_at dksX1_difference_2 12 rfl rfl)
theorem dX1_difference_62 : decode cX1_difference 62 = .ok (.invokespecial 340, 3) := dk_183 1 84 (dk_at dksX1_difference_2 14 rfl rfl)
theorem dX1_difference_65 : decode cX1_difference 65 = .ok (.areturn, 1) := dk_176 (dk_at dksX1_difference_2 17 rfl rfl)
theorem dX1_difference_66 : decode cX1_difference 66 = .ok (.iinc 2 1, 3) := dk_132 2 1 (dk_at dksX1_difference_2 18 rfl rfl)
theorem dX1_difference_69 : decode cX1_difference 69 = .ok (.iinc 3 1, 3) := dk_132 3 1 (dk_at dksX1_difference_2 21 rfl rfl)
theorem dX1_difference_72 : decode cX1_difference 72 = .ok (.goto (-68), 3) := dk_167 255 188 (dk_at dksX1_difference_3 0 rfl rfl)
theorem dX1_difference_75 : decode cX1_difference 75 = .ok (.aconst_null, 1) := dk_1 (dk_at dksX1_difference_3 3 rfl rfl)
theorem dX1_difference_76 : decode cX1_difference 76 = .ok (.areturn, 1) := dk_176 (dk_at dksX1_difference_3 4 rfl rfl)
abbrev cX1_against : ByteArray := prog_32_method_24_code
def yX1_against : MethodName := ⟨RX1, "against", "(LKeptLight$Entry;)LKeptLight$Ship;"⟩
def dkwX1_against_3 : List UInt8 := [3, 28, 159, 0, 6, 25, 4, 176, 132, 3, 1, 167, 255, 191, 1, 176]
abbrev dktX1_against_3 : List UInt8 := dkwX1_against_3 ++ []
def dkwX1_against_2 : List UInt8 := [25, 4, 180, 0, 158, 2, 159, 0, 26, 25, 4, 180, 0, 158, 5, 112, 4, 160, 0, 7, 4, 167, 0, 4]
abbrev dktX1_against_2 : List UInt8 := dkwX1_against_2 ++ dktX1_against_3
def dkwX1_against_1 : List UInt8 := [182, 0, 231, 162, 0, 59, 43, 182, 1, 75, 153, 0, 52, 42, 43, 180, 1, 74, 29, 182, 0, 235, 58, 4]
abbrev dktX1_against_1 : List UInt8 := dkwX1_against_1 ++ dktX1_against_2
def dkwX1_against_0 : List UInt8 := [43, 180, 1, 71, 4, 160, 0, 7, 4, 167, 0, 4, 3, 61, 3, 62, 29, 42, 43, 180, 1, 74]
abbrev dktX1_against_0 : List UInt8 := dkwX1_against_0 ++ dktX1_against_1
theorem dksX1_against_0 : cX1_against.data.toList.drop 0 = dktX1_against_0 := by decide +kernel
theorem dksX1_against_1 : cX1_against.data.toList.drop 22 = dktX1_against_1 := dk_seg dksX1_against_0 22 rfl rfl
theorem dksX1_against_2 : cX1_against.data.toList.drop 46 = dktX1_against_2 := dk_seg dksX1_against_1 24 rfl rfl
theorem dksX1_against_3 : cX1_against.data.toList.drop 70 = dktX1_against_3 := dk_seg dksX1_against_2 24 rfl rfl
theorem dX1_against_0 : decode cX1_against 0 = .ok (.aload_n 1, 1) := dk_43 (dk_at dksX1_against_0 0 rfl rfl)
theorem dX1_against_1 : decode cX1_against 1 = .ok (.getfield 327, 3) := dk_180 1 71 (dk_at dksX1_against_0 1 rfl rfl)
theorem dX1_against_4 : decode cX1_against 4 = .ok (.iconst 1, 1) := dk_4 (dk_at dksX1_against_0 4 rfl rfl)
theorem dX1_against_5 : decode cX1_against 5 = .ok (.if_icmp .ne 7, 3) := dk_160 0 7 (dk_at dksX1_against_0 5 rfl rfl)
theorem dX1_against_8 : decode cX1_against 8 = .ok (.iconst 1, 1) := dk_4 (dk_at dksX1_against_0 8 rfl rfl)
theorem dX1_against_9 : decode cX1_against 9 = .ok (.goto 4, 3) := dk_167 0 4 (dk_at dksX1_against_0 9 rfl rfl)
theorem dX1_against_12 : decode cX1_against 12 = .ok (.iconst 0, 1) := dk_3 (dk_at dksX1_against_0 12 rfl rfl)
theorem dX1_against_13 : decode cX1_against 13 = .ok (.istore_n 2, 1) := dk_61 (dk_at dksX1_against_0 13 rfl rfl)
theorem dX1_against_14 : decode cX1_against 14 = .ok (.iconst 0, 1) := dk_3 (dk_at dksX1_against_0 14 rfl rfl)
theorem dX1_against_15 : decode cX1_against 15 = .ok (.istore_n 3, 1) := dk_62 (dk_at dksX1_against_0 15 rfl rfl)
theorem dX1_against_16 : decode cX1_against 16 = .ok (.iload_n 3, 1) := dk_29 (dk_at dksX1_against_0 16 rfl rfl)
theorem dX1_against_17 : decode cX1_against 17 = .ok (.aload_n 0, 1) := dk_42 (dk_at dksX1_against_0 17 rfl rfl)
theorem dX1_against_18 : decode cX1_against 18 = .ok (.aload_n 1, 1) := dk_43 (dk_at dksX1_against_0 18 rfl rfl)
theorem dX1_against_19 : decode cX1_against 19 = .ok (.getfield 330, 3) := dk_180 1 74 (dk_at dksX1_against_0 19 rfl rfl)
theorem dX1_against_22 : decode cX1_against 22 = .ok (.invokevirtual 231, 3) := dk_182 0 231 (dk_at dksX1_against_1 0 rfl rfl)
theorem dX1_against_25 : decode cX1_against 25 = .ok (.if_icmp .ge 59, 3) := dk_162 0 59 (dk_at dksX1_against_1 3 rfl rfl)
theorem dX1_against_28 : decode cX1_against 28 = .ok (.aload_n 1, 1) := dk_43 (dk_at dksX1_against_1 6 rfl rfl)
theorem dX1_against_29 : decode cX1_against 29 = .ok (.invokevirtual 331, 3) := dk_182 1 75 (dk_at dksX1_against_1 7 rfl rfl)
theorem dX1_against_32 : decode cX1_against 32 = .ok (.ifCond .eq 52, 3) := dk_153 0 52 (dk_at dksX1_against_1 10 rfl rfl)
theorem dX1_against_35 : decode cX1_against 35 = .ok (.aload_n 0, 1) := dk_42 (dk_at dksX1_against_1 13 rfl rfl)
theorem dX1_against_36 : decode cX1_against 36 = .ok (.aload_n 1, 1) := dk_43 (dk_at dksX1_against_1 14 rfl rfl)
theorem dX1_against_37 : decode cX1_against 37 = .ok (.getfield 330, 3) := dk_180 1 74 (dk_at dksX1_against_1 15 rfl rfl)
theorem dX1_against_40 : decode cX1_against 40 = .ok (.iload_n 3, 1) := dk_29 (dk_at dksX1_against_1 18 rfl rfl)
theorem dX1_against_41 : decode cX1_against 41 = .ok (.invokevirtual 235, 3) := dk_182 0 235 (dk_at dksX1_against_1 19 rfl rfl)
theorem dX1_against_44 : decode cX1_against 44 = .ok (.astore 4, 2) := dk_58 4 (dk_at dksX1_against_1 22 rfl rfl)
theorem dX1_against_46 : decode cX1_against 46 = .ok (.aload 4, 2) := dk_25 4 (dk_at dksX1_against_2 0 rfl rfl)
theorem dX1_against_48 : decode cX1_against 48 = .ok (.getfield 158, 3) := dk_180 0 158 (dk_at dksX1_against_2 2 rfl rfl)
theorem dX1_against_51 : decode cX1_against 51 = .ok (.iconst (-1), 1) := dk_2 (dk_at dksX1_against_2 5 rfl rfl)
theorem dX1_against_52 : decode cX1_against 52 = .ok (.if_icmp .eq 26, 3) := dk_159 0 26 (dk_at dksX1_against_2 6 rfl rfl)
theorem dX1_against_55 : decode cX1_against 55 = .ok (.aload 4, 2) := dk_25 4 (dk_at dksX1_against_2 9 rfl rfl)
theorem dX1_against_57 : decode cX1_against 57 = .ok (.getfield 158, 3) := dk_180 0 158 (dk_at dksX1_against_2 11 rfl rfl)
theorem dX1_against_60 : decode cX1_against 60 = .ok (.iconst 2, 1) := dk_5 (dk_at dksX1_against_2 14 rfl rfl)
theorem dX1_against_61 : decode cX1_against 61 = .ok (.irem, 1) := dk_112 (dk_at dksX1_against_2 15 rfl rfl)
theorem dX1_against_62 : decode cX1_against 62 = .ok (.iconst 1, 1) := dk_4 (dk_at dksX1_against_2 16 rfl rfl)
theorem dX1_against_63 : decode cX1_against 63 = .ok (.if_icmp .ne 7, 3) := dk_160 0 7 (dk_at dksX1_against_2 17 rfl rfl)
theorem dX1_against_66 : decode cX1_against 66 = .ok (.iconst 1, 1) := dk_4 (dk_at dksX1_against_2 20 rfl rfl)
theorem dX1_against_67 : decode cX1_against 67 = .ok (.goto 4, 3) := dk_167 0 4 (dk_at dksX1_against_2 21 rfl rfl)
theorem dX1_against_70 : decode cX1_against 70 = .ok (.iconst 0, 1) := dk_3 (dk_at dksX1_against_3 0 rfl rfl)
theorem dX1_against_71 : decode cX1_against 71 = .ok (.iload_n 2, 1) := dk_28 (dk_at dksX1_against_3 1 rfl rfl)
theorem dX1_against_72 : decode cX1_against 72 = .ok (.if_icmp .eq 6, 3) := dk_159 0 6 (dk_at dksX1_against_3 2 rfl rfl)
theorem dX1_against_75 : decode cX1_against 75 = .ok (.aload 4, 2) := dk_25 4 (dk_at dksX1_against_3 5 rfl rfl)
theorem dX1_against_77 : decode cX1_against 77 = .ok (.areturn, 1) := dk_176 (dk_at dksX1_against_3 7 rfl rfl)
theorem dX1_against_78 : decode cX1_against 78 = .ok (.iinc 3 1, 3) := dk_132 3 1 (dk_at dksX1_against_3 8 rfl rfl)
theorem dX1_against_81 : decode cX1_against 81 = .ok (.goto (-65), 3) := dk_167 255 191 (dk_at dksX1_against_3 11 rfl rfl)
theorem dX1_against_84 : decode cX1_against 84 = .ok (.aconst_null, 1) := dk_1 (dk_at dksX1_against_3 14 rfl rfl)
theorem dX1_against_85 : decode cX1_against 85 = .ok (.areturn, 1) := dk_176 (dk_at dksX1_against_3 15 rfl rfl)
abbrev cX1_differences : ByteArray := prog_32_method_26_code
def yX1_differences : MethodName := ⟨RX1, "differences", "(I)I"⟩
def dkwX1_differences_3 : List UInt8 := [167, 0, 4, 3, 184, 0, 247, 96, 61, 132, 3, 1, 167, 255, 178, 28, 172]
abbrev dktX1_differences_3 : List UInt8 := dkwX1_differences_3 ++ []
def dkwX1_differences_2 : List UInt8 := [153, 0, 25, 42, 42, 180, 0, 42, 29, 182, 0, 81, 192, 0, 161, 182, 1, 78, 198, 0, 7, 4]
abbrev dktX1_differences_2 : List UInt8 := dkwX1_differences_2 ++ dktX1_differences_3
def dkwX1_differences_1 : List UInt8 := [29, 182, 0, 81, 192, 0, 161, 180, 1, 87, 27, 160, 0, 7, 4, 167, 0, 4, 3, 54, 4, 28, 21, 4]
abbrev dktX1_differences_1 : List UInt8 := dkwX1_differences_1 ++ dktX1_differences_2
def dkwX1_differences_0 : List UInt8 := [3, 61, 3, 62, 29, 42, 180, 0, 42, 182, 0, 77, 162, 0, 73, 27, 2, 159, 0, 21, 42, 180, 0, 42]
abbrev dktX1_differences_0 : List UInt8 := dkwX1_differences_0 ++ dktX1_differences_1
theorem dksX1_differences_0 : cX1_differences.data.toList.drop 0 = dktX1_differences_0 := by decide +kernel
theorem dksX1_differences_1 : cX1_differences.data.toList.drop 24 = dktX1_differences_1 := dk_seg dksX1_differences_0 24 rfl rfl
theorem dksX1_differences_2 : cX1_differences.data.toList.drop 48 = dktX1_differences_2 := dk_seg dksX1_differences_1 24 rfl rfl
theorem dksX1_differences_3 : cX1_differences.data.toList.drop 70 = dktX1_differences_3 := dk_seg dksX1_differences_2 22 rfl rfl
theorem dX1_differences_0 : decode cX1_differences 0 = .ok (.iconst 0, 1) := dk_3 (dk_at dksX1_differences_0 0 rfl rfl)
theorem dX1_differences_1 : decode cX1_differences 1 = .ok (.istore_n 2, 1) := dk_61 (dk_at dksX1_differences_0 1 rfl rfl)
theorem dX1_differences_2 : decode cX1_differences 2 = .ok (.iconst 0, 1) := dk_3 (dk_at dksX1_differences_0 2 rfl rfl)
theorem dX1_differences_3 : decode cX1_differences 3 = .ok (.istore_n 3, 1) := dk_62 (dk_at dksX1_differences_0 3 rfl rfl)
theorem dX1_differences_4 : decode cX1_differences 4 = .ok (.iload_n 3, 1) := dk_29 (dk_at dksX1_differences_0 4 rfl rfl)
theorem dX1_differences_5 : decode cX1_differences 5 = .ok (.aload_n 0, 1) := dk_42 (dk_at dksX1_differences_0 5 rfl rfl)
theorem dX1_differences_6 : decode cX1_differences 6 = .ok (.getfield 42, 3) := dk_180 0 42 (dk_at dksX1_differences_0 6 rfl rfl)
theorem dX1_differences_9 : decode cX1_differences 9 = .ok (.invokevirtual 77, 3) := dk_182 0 77 (dk_at dksX1_differences_0 9 rfl rfl)
theorem dX1_differences_12 : decode cX1_differences 12 = .ok (.if_icmp .ge 73, 3) := dk_162 0 73 (dk_at dksX1_differences_0 12 rfl rfl)
theorem dX1_differences_15 : decode cX1_differences 15 = .ok (.iload_n 1, 1) := dk_27 (dk_at dksX1_differences_0 15 rfl rfl)
theorem dX1_differences_16 : decode cX1_differences 16 = .ok (.iconst (-1), 1) := dk_2 (dk_at dksX1_differences_0 16 rfl rfl)
theorem dX1_differences_17 : decode cX1_differences 17 = .ok (.if_icmp .eq 21, 3) := dk_159 0 21 (dk_at dksX1_differences_0 17 rfl rfl)
theorem dX1_differences_20 : decode cX1_differences 20 = .ok (.aload_n 0, 1) := dk_42 (dk_at dksX1_differences_0 20 rfl rfl)
theorem dX1_differences_21 : decode cX1_differences 21 = .ok (.getfield 42, 3) := dk_180 0 42 (dk_at dksX1_differences_0 21 rfl rfl)
theorem dX1_differences_24 : decode cX1_differences 24 = .ok (.iload_n 3, 1) := dk_29 (dk_at dksX1_differences_1 0 rfl rfl)
theorem dX1_differences_25 : decode cX1_differences 25 = .ok (.invokevirtual 81, 3) := dk_182 0 81 (dk_at dksX1_differences_1 1 rfl rfl)
theorem dX1_differences_28 : decode cX1_differences 28 = .ok (.checkcast 161, 3) := dk_192 0 161 (dk_at dksX1_differences_1 4 rfl rfl)
theorem dX1_differences_31 : decode cX1_differences 31 = .ok (.getfield 343, 3) := dk_180 1 87 (dk_at dksX1_differences_1 7 rfl rfl)
theorem dX1_differences_34 : decode cX1_differences 34 = .ok (.iload_n 1, 1) := dk_27 (dk_at dksX1_differences_1 10 rfl rfl)
theorem dX1_differences_35 : decode cX1_differences 35 = .ok (.if_icmp .ne 7, 3) := dk_160 0 7 (dk_at dksX1_differences_1 11 rfl rfl)
theorem dX1_differences_38 : decode cX1_differences 38 = .ok (.iconst 1, 1) := dk_4 (dk_at dksX1_differences_1 14 rfl rfl)
theorem dX1_differences_39 : decode cX1_differences 39 = .ok (.goto 4, 3) := dk_167 0 4 (dk_at dksX1_differences_1 15 rfl rfl)
theorem dX1_differences_42 : decode cX1_differences 42 = .ok (.iconst 0, 1) := dk_3 (dk_at dksX1_differences_1 18 rfl rfl)
theorem dX1_differences_43 : decode cX1_differences 43 = .ok (.istore 4, 2) := dk_54 4 (dk_at dksX1_differences_1 19 rfl rfl)
theorem dX1_differences_45 : decode cX1_differences 45 = .ok (.iload_n 2, 1) := dk_28 (dk_at dksX1_differences_1 21 rfl rfl)
theorem dX1_differences_46 : decode cX1_differences 46 = .ok (.iload 4, 2) := dk_21 4 (dk_at dksX1_differences_1 22 rfl rfl)
theorem dX1_differences_48 : decode cX1_differences 48 = .ok (.ifCond .eq 25, 3) := dk_153 0 25 (dk_at dksX1_differences_2 0 rfl rfl)
theorem dX1_differences_51 : decode cX1_differences 51 = .ok (.aload_n 0, 1) := dk_42 (dk_at dksX1_differences_2 3 rfl rfl)
theorem dX1_differences_52 : decode cX1_differences 52 = .ok (.aload_n 0, 1) := dk_42 (dk_at dksX1_differences_2 4 rfl rfl)
theorem dX1_differences_53 : decode cX1_differences 53 = .ok (.getfield 42, 3) := dk_180 0 42 (dk_at dksX1_differences_2 5 rfl rfl)
theorem dX1_differences_56 : decode cX1_differences 56 = .ok (.iload_n 3, 1) := dk_29 (dk_at dksX1_differences_2 8 rfl rfl)
theorem dX1_differences_57 : decode cX1_differences 57 = .ok (.invokevirtual 81, 3) := dk_182 0 81 (dk_at dksX1_differences_2 9 rfl rfl)
theorem dX1_differences_60 : decode cX1_differences 60 = .ok (.checkcast 161, 3) := dk_192 0 161 (dk_at dksX1_differences_2 12 rfl rfl)
theorem dX1_differences_63 : decode cX1_differences 63 = .ok (.invokevirtual 334, 3) := dk_182 1 78 (dk_at dksX1_differences_2 15 rfl rfl)
theorem dX1_differences_66 : decode cX1_differences 66 = .ok (.ifnull 7, 3) := dk_198 0 7 (dk_at dksX1_differences_2 18 rfl rfl)
theorem dX1_differences_69 : decode cX1_differences 69 = .ok (.iconst 1, 1) := dk_4 (dk_at dksX1_differences_2 21 rfl rfl)
theorem dX1_differences_70 : decode cX1_differences 70 = .ok (.goto 4, 3) := dk_167 0 4 (dk_at dksX1_differences_3 0 rfl rfl)
theorem dX1_differences_73 : decode cX1_differences 73 = .ok (.iconst 0, 1) := dk_3 (dk_at dksX1_differences_3 3 rfl rfl)
theorem dX1_differences_74 : decode cX1_differences 74 = .ok (.invokestatic 247, 3) := dk_184 0 247 (dk_at dksX1_differences_3 4 rfl rfl)
theorem dX1_differences_77 : decode cX1_differences 77 = .ok (.iadd, 1) := dk_96 (dk_at dksX1_differences_3 7 rfl rfl)
theorem dX1_differences_78 : decode cX1_differences 78 = .ok (.istore_n 2, 1) := dk_61 (dk_at dksX1_differences_3 8 rfl rfl)
theorem dX1_differences_79 : decode cX1_differences 79 = .ok (.iinc 3 1, 3) := dk_132 3 1 (dk_at dksX1_differences_3 9 rfl rfl)
theorem dX1_differences_82 : decode cX1_differences 82 = .ok (.goto (-78), 3) := dk_167 255 178 (dk_at dksX1_differences_3 12 rfl rfl)
theorem dX1_differences_85 : decode cX1_differences 85 = .ok (.iload_n 2, 1) := dk_28 (dk_at dksX1_differences_3 15 rfl rfl)
theorem dX1_differences_86 : decode cX1_differences 86 = .ok (.ireturn, 1) := dk_172 (dk_at dksX1_differences_3 16 rfl rfl)
abbrev cX1_takes : ByteArray := prog_32_method_5_code
def yX1_takes : MethodName := ⟨RX1, "takes", "(LKeptLight$World;)LKeptLight$World;"⟩
def dkwX1_takes_7 : List UInt8 := [181, 0, 140, 42, 43, 180, 0, 63, 181, 0, 63, 42, 3, 181, 0, 143, 42, 3, 181, 0, 146, 42, 176]
abbrev dktX1_takes_7 : List UInt8 := dkwX1_takes_7 ++ []
def dkwX1_takes_6 : List UInt8 := [181, 0, 131, 42, 43, 180, 0, 134, 181, 0, 134, 42, 43, 180, 0, 137, 181, 0, 137, 42, 43, 180, 0, 140]
abbrev dktX1_takes_6 : List UInt8 := dkwX1_takes_6 ++ dktX1_takes_7
def dkwX1_takes_5 : List UInt8 := [43, 180, 0, 60, 3, 42, 180, 0, 60, 3, 42, 180, 0, 60, 190, 184, 0, 109, 42, 43, 180, 0, 131]
abbrev dktX1_takes_5 : List UInt8 := dkwX1_takes_5 ++ dktX1_takes_6
def dkwX1_takes_4 : List UInt8 := [180, 0, 128, 181, 0, 128, 43, 180, 0, 57, 3, 42, 180, 0, 57, 3, 42, 180, 0, 57, 190, 184, 0, 109]
abbrev dktX1_takes_4 : List UInt8 := dkwX1_takes_4 ++ dktX1_takes_5
def dkwX1_takes_3 : List UInt8 := [181, 0, 120, 42, 180, 0, 53, 182, 0, 123, 42, 180, 0, 53, 43, 180, 0, 53, 182, 0, 124, 42, 43]
abbrev dktX1_takes_3 : List UInt8 := dkwX1_takes_3 ++ dktX1_takes_4
def dkwX1_takes_2 : List UInt8 := [28, 182, 0, 81, 192, 0, 118, 182, 0, 97, 87, 132, 2, 1, 167, 255, 223, 42, 43, 180, 0, 120]
abbrev dktX1_takes_2 : List UInt8 := dkwX1_takes_2 ++ dktX1_takes_3
def dkwX1_takes_1 : List UInt8 := [182, 0, 115, 3, 61, 28, 43, 180, 0, 45, 182, 0, 77, 162, 0, 28, 42, 180, 0, 45, 43, 180, 0, 45]
abbrev dktX1_takes_1 : List UInt8 := dkwX1_takes_1 ++ dktX1_takes_2
def dkwX1_takes_0 : List UInt8 := [42, 43, 182, 0, 105, 43, 180, 0, 35, 3, 42, 180, 0, 35, 3, 16, 24, 184, 0, 109, 42, 180, 0, 45]
abbrev dktX1_takes_0 : List UInt8 := dkwX1_takes_0 ++ dktX1_takes_1
theorem dksX1_takes_0 : cX1_takes.data.toList.drop 0 = dktX1_takes_0 := by decide +kernel
theorem dksX1_takes_1 : cX1_takes.data.toList.drop 24 = dktX1_takes_1 := dk_seg dksX1_takes_0 24 rfl rfl
theorem dksX1_takes_2 : cX1_takes.data.toList.drop 48 = dktX1_takes_2 := dk_seg dksX1_takes_1 24 rfl rfl
theorem dksX1_takes_3 : cX1_takes.data.toList.drop 70 = dktX1_takes_3 := dk_seg dksX1_takes_2 22 rfl rfl
theorem dksX1_takes_4 : cX1_takes.data.toList.drop 93 = dktX1_takes_4 := dk_seg dksX1_takes_3 23 rfl rfl
theorem dksX1_takes_5 : cX1_takes.data.toList.drop 117 = dktX1_takes_5 := dk_seg dksX1_takes_4 24 rfl rfl
theorem dksX1_takes_6 : cX1_takes.data.toList.drop 140 = dktX1_takes_6 := dk_seg dksX1_takes_5 23 rfl rfl
theorem dksX1_takes_7 : cX1_takes.data.toList.drop 164 = dktX1_takes_7 := dk_seg dksX1_takes_6 24 rfl rfl
theorem dX1_takes_0 : decode cX1_takes 0 = .ok (.aload_n 0, 1) := dk_42 (dk_at dksX1_takes_0 0 rfl rfl)
theorem dX1_takes_1 : decode cX1_takes 1 = .ok (.aload_n 1, 1) := dk_43 (dk_at dksX1_takes_0 1 rfl rfl)
theorem dX1_takes_2 : decode cX1_takes 2 = .ok (.invokevirtual 105, 3) := dk_182 0 105 (dk_at dksX1_takes_0 2 rfl rfl)
theorem dX1_takes_5 : decode cX1_takes 5 = .ok (.aload_n 1, 1) := dk_43 (dk_at dksX1_takes_0 5 rfl rfl)
theorem dX1_takes_6 : decode cX1_takes 6 = .ok (.getfield 35, 3) := dk_180 0 35 (dk_at dksX1_takes_0 6 rfl rfl)
theorem dX1_takes_9 : decode cX1_takes 9 = .ok (.iconst 0, 1) := dk_3 (dk_at dksX1_takes_0 9 rfl rfl)
theorem dX1_takes_10 : decode cX1_takes 10 = .ok (.aload_n 0, 1) := dk_42 (dk_at dksX1_takes_0 10 rfl rfl)
theorem dX1_takes_11 : decode cX1_takes 11 = .ok (.getfield 35, 3) := dk_180 0 35 (dk_at dksX1_takes_0 11 rfl rfl)
theorem dX1_takes_14 : decode cX1_takes 14 = .ok (.iconst 0, 1) := dk_3 (dk_at dksX1_takes_0 14 rfl rfl)
theorem dX1_takes_15 : decode cX1_takes 15 = .ok (.bipush 24, 2) := dk_16 24 (dk_at dksX1_takes_0 15 rfl rfl)
theorem dX1_takes_17 : decode cX1_takes 17 = .ok (.invokestatic 109, 3) := dk_184 0 109 (dk_at dksX1_takes_0 17 rfl rfl)
theorem dX1_takes_20 : decode cX1_takes 20 = .ok (.aload_n 0, 1) := dk_42 (dk_at dksX1_takes_0 20 rfl rfl)
theorem dX1_takes_21 : decode cX1_takes 21 = .ok (.getfield 45, 3) := dk_180 0 45 (dk_at dksX1_takes_0 21 rfl rfl)
theorem dX1_takes_24 : decode cX1_takes 24 = .ok (.invokevirtual 115, 3) := dk_182 0 115 (dk_at dksX1_takes_1 0 rfl rfl)
theorem dX1_takes_27 : decode cX1_takes 27 = .ok (.iconst 0, 1) := dk_3 (dk_at dksX1_takes_1 3 rfl rfl)
theorem dX1_takes_28 : decode cX1_takes 28 = .ok (.istore_n 2, 1) := dk_61 (dk_at dksX1_takes_1 4 rfl rfl)
theorem dX1_takes_29 : decode cX1_takes 29 = .ok (.iload_n 2, 1) := dk_28 (dk_at dksX1_takes_1 5 rfl rfl)
theorem dX1_takes_30 : decode cX1_takes 30 = .ok (.aload_n 1, 1) := dk_43 (dk_at dksX1_takes_1 6 rfl rfl)
theorem dX1_takes_31 : decode cX1_takes 31 = .ok (.getfield 45, 3) := dk_180 0 45 (dk_at dksX1_takes_1 7 rfl rfl)
theorem dX1_takes_34 : decode cX1_takes 34 = .ok (.invokevirtual 77, 3) := dk_182 0 77 (dk_at dksX1_takes_1 10 rfl rfl)
theorem dX1_takes_37 : decode cX1_takes 37 = .ok (.if_icmp .ge 28, 3) := dk_162 0 28 (dk_at dksX1_takes_1 13 rfl rfl)
theorem dX1_takes_40 : decode cX1_takes 40 = .ok (.aload_n 0, 1) := dk_42 (dk_at dksX1_takes_1 16 rfl rfl)
theorem dX1_takes_41 : decode cX1_takes 41 = .ok (.getfield 45, 3) := dk_180 0 45 (dk_at dksX1_takes_1 17 rfl rfl)
theorem dX1_takes_44 : decode cX1_takes 44 = .ok (.aload_n 1, 1) := dk_43 (dk_at dksX1_takes_1 20 rfl rfl)
theorem dX1_takes_45 : decode cX1_takes 45 = .ok (.getfield 45, 3) := dk_180 0 45 (dk_at dksX1_takes_1 21 rfl rfl)
theorem dX1_takes_48 : decode cX1_takes 48 = .ok (.iload_n 2, 1) := dk_28 (dk_at dksX1_takes_2 0 rfl rfl)
theorem dX1_takes_49 : decode cX1_takes 49 = .ok (.invokevirtual 81, 3) := dk_182 0 81 (dk_at dksX1_takes_2 1 rfl rfl)
theorem dX1_takes_52 : decode cX1_takes 52 = .ok (.checkcast 118, 3) := dk_192 0 118 (dk_at dksX1_takes_2 4 rfl rfl)
theorem dX1_takes_55 : decode cX1_takes 55 = .ok (.invokevirtual 97, 3) := dk_182 0 97 (dk_at dksX1_takes_2 7 rfl rfl)
theorem dX1_takes_58 : decode cX1_takes 58 = .ok (.pop, 1) := dk_87 (dk_at dksX1_takes_2 10 rfl rfl)
theorem dX1_takes_59 : decode cX1_takes 59 = .ok (.iinc 2 1, 3) := dk_132 2 1 (dk_at dksX1_takes_2 11 rfl rfl)
theorem dX1_takes_62 : decode cX1_takes 62 = .ok (.goto (-33), 3) := dk_167 255 223 (dk_at dksX1_takes_2 14 rfl rfl)
theorem dX1_takes_65 : decode cX1_takes 65 = .ok (.aload_n 0, 1) := dk_42 (dk_at dksX1_takes_2 17 rfl rfl)
theorem dX1_takes_66 : decode cX1_takes 66 = .ok (.aload_n 1, 1) := dk_43 (dk_at dksX1_takes_2 18 rfl rfl)
theorem dX1_takes_67 : decode cX1_takes 67 = .ok (.getfield 120, 3) := dk_180 0 120 (dk_at dksX1_takes_2 19 rfl rfl)
theorem dX1_takes_70 : decode cX1_takes 70 = .ok (.putfield 120, 3) := dk_181 0 120 (dk_at dksX1_takes_3 0 rfl rfl)
theorem dX1_takes_73 : decode cX1_takes 73 = .ok (.aload_n 0, 1) := dk_42 (dk_at dksX1_takes_3 3 rfl rfl)
theorem dX1_takes_74 : decode cX1_takes 74 = .ok (.getfield 53, 3) := dk_180 0 53 (dk_at dksX1_takes_3 4 rfl rfl)
theorem dX1_takes_77 : decode cX1_takes 77 = .ok (.invokevirtual 123, 3) := dk_182 0 123 (dk_at dksX1_takes_3 7 rfl rfl)
theorem dX1_takes_80 : decode cX1_takes 80 = .ok (.aload_n 0, 1) := dk_42 (dk_at dksX1_takes_3 10 rfl rfl)
theorem dX1_takes_81 : decode cX1_takes 81 = .ok (.getfield 53, 3) := dk_180 0 53 (dk_at dksX1_takes_3 11 rfl rfl)
theorem dX1_takes_84 : decode cX1_takes 84 = .ok (.aload_n 1, 1) := dk_43 (dk_at dksX1_takes_3 14 rfl rfl)
theorem dX1_takes_85 : decode cX1_takes 85 = .ok (.getfield 53, 3) := dk_180 0 53 (dk_at dksX1_takes_3 15 rfl rfl)
theorem dX1_takes_88 : decode cX1_takes 88 = .ok (.invokevirtual 124, 3) := dk_182 0 124 (dk_at dksX1_takes_3 18 rfl rfl)
theorem dX1_takes_91 : decode cX1_takes 91 = .ok (.aload_n 0, 1) := dk_42 (dk_at dksX1_takes_3 21 rfl rfl)
theorem dX1_takes_92 : decode cX1_takes 92 = .ok (.aload_n 1, 1) := dk_43 (dk_at dksX1_takes_3 22 rfl rfl)
theorem dX1_takes_93 : decode cX1_takes 93 = .ok (.getfield 128, 3) := dk_180 0 128 (dk_at dksX1_takes_4 0 rfl rfl)
theorem dX1_takes_96 : decode cX1_takes 96 = .ok (.putfield 128, 3) := dk_181 0 128 (dk_at dksX1_takes_4 3 rfl rfl)
theorem dX1_takes_99 : decode cX1_takes 99 = .ok (.aload_n 1, 1) := dk_43 (dk_at dksX1_takes_4 6 rfl rfl)
theorem dX1_takes_100 : decode cX1_takes 100 = .ok (.getfield 57, 3) := dk_180 0 57 (dk_at dksX1_takes_4 7 rfl rfl)
theorem dX1_takes_103 : decode cX1_takes 103 = .ok (.iconst 0, 1) := dk_3 (dk_at dksX1_takes_4 10 rfl rfl)
theorem dX1_takes_104 : decode cX1_takes 104 = .ok (.aload_n 0, 1) := dk_42 (dk_at dksX1_takes_4 11 rfl rfl)
theorem dX1_takes_105 : decode cX1_takes 105 = .ok (.getfield 57, 3) := dk_180 0 57 (dk_at dksX1_takes_4 12 rfl rfl)
theorem dX1_takes_108 : decode cX1_takes 108 = .ok (.iconst 0, 1) := dk_3 (dk_at dksX1_takes_4 15 rfl rfl)
theorem dX1_takes_109 : decode cX1_takes 109 = .ok (.aload_n 0, 1) := dk_42 (dk_at dksX1_takes_4 16 rfl rfl)
theorem dX1_takes_110 : decode cX1_takes 110 = .ok (.getfield 57, 3) := dk_180 0 57 (dk_at dksX1_takes_4 17 rfl rfl)
theorem dX1_takes_113 : decode cX1_takes 113 = .ok (.arraylength, 1) := dk_190 (dk_at dksX1_takes_4 20 rfl rfl)
theorem dX1_takes_114 : decode cX1_takes 114 = .ok (.invokestatic 109, 3) := dk_184 0 109 (dk_at dksX1_takes_4 21 rfl rfl)
theorem dX1_takes_117 : decode cX1_takes 117 = .ok (.aload_n 1, 1) := dk_43 (dk_at dksX1_takes_5 0 rfl rfl)
theorem dX1_takes_118 : decode cX1_takes 118 = .ok (.getfield 60, 3) := dk_180 0 60 (dk_at dksX1_takes_5 1 rfl rfl)
theorem dX1_takes_121 : decode cX1_takes 121 = .ok (.iconst 0, 1) := dk_3 (dk_at dksX1_takes_5 4 rfl rfl)
theorem dX1_takes_122 : decode cX1_takes 122 = .ok (.aload_n 0, 1) := dk_42 (dk_at dksX1_takes_5 5 rfl rfl)
theorem dX1_takes_123 : decode cX1_takes 123 = .ok (.getfield 60, 3) := dk_180 0 60 (dk_at dksX1_takes_5 6 rfl rfl)
theorem dX1_takes_126 : decode cX1_takes 126 = .ok (.iconst 0, 1) := dk_3 (dk_at dksX1_takes_5 9 rfl rfl)
theorem dX1_takes_127 : decode cX1_takes 127 = .ok (.aload_n 0, 1) := dk_42 (dk_at dksX1_takes_5 10 rfl rfl)
theorem dX1_takes_128 : decode cX1_takes 128 = .ok (.getfield 60, 3) := dk_180 0 60 (dk_at dksX1_takes_5 11 rfl rfl)
theorem dX1_takes_131 : decode cX1_takes 131 = .ok (.arraylength, 1) := dk_190 (dk_at dksX1_takes_5 14 rfl rfl)
theorem dX1_takes_132 : decode cX1_takes 132 = .ok (.invokestatic 109, 3) := dk_184 0 109 (dk_at dksX1_takes_5 15 rfl rfl)
theorem dX1_takes_135 : decode cX1_takes 135 = .ok (.aload_n 0, 1) := dk_42 (dk_at dksX1_takes_5 18 rfl rfl)
theorem dX1_takes_136 : decode cX1_takes 136 = .ok (.aload_n 1, 1) := dk_43 (dk_at dksX1_takes_5 19 rfl rfl)
theorem dX1_takes_137 : decode cX1_takes 137 = .ok (.getfield 131, 3) := dk_180 0 131 (dk_at dksX1_takes_5 20 rfl rfl)
theorem dX1_takes_140 : decode cX1_takes 140 = .ok (.putfield 131, 3) := dk_181 0 131 (dk_at dksX1_takes_6 0 rfl rfl)
theorem dX1_takes_143 : decode cX1_takes 143 = .ok (.aload_n 0, 1) := dk_42 (dk_at dksX1_takes_6 3 rfl rfl)
theorem dX1_takes_144 : decode cX1_takes 144 = .ok (.aload_n 1, 1) := dk_43 (dk_at dksX1_takes_6 4 rfl rfl)
theorem dX1_takes_145 : decode cX1_takes 145 = .ok (.getfield 134, 3) := dk_180 0 134 (dk_at dksX1_takes_6 5 rfl rfl)
theorem dX1_takes_148 : decode cX1_takes 148 = .ok (.putfield 134, 3) := dk_181 0 134 (dk_at dksX1_takes_6 8 rfl rfl)
theorem dX1_takes_151 : decode cX1_takes 151 = .ok (.aload_n 0, 1) := dk_42 (dk_at dksX1_takes_6 11 rfl rfl)
theorem dX1_takes_152 : decode cX1_takes 152 = .ok (.aload_n 1, 1) := dk_43 (dk_at dksX1_takes_6 12 rfl rfl)
theorem dX1_takes_153 : decode cX1_takes 153 = .ok (.getfield 137, 3) := dk_180 0 137 (dk_at dksX1_takes_6 13 rfl rfl)
theorem dX1_takes_156 : decode cX1_takes 156 = .ok (.putfield 137, 3) := dk_181 0 137 (dk_at dksX1_takes_6 16 rfl rfl)
theorem dX1_takes_159 : decode cX1_takes 159 = .ok (.aload_n 0, 1) := dk_42 (dk_at dksX1_takes_6 19 rfl rfl)
theorem dX1_takes_160 : decode cX1_takes 160 = .ok (.aload_n 1, 1) := dk_43 (dk_at dksX1_takes_6 20 rfl rfl)
theorem dX1_takes_161 : decode cX1_takes 161 = .ok (.getfield 140, 3) := dk_180 0 140 (dk_at dksX1_takes_6 21 rfl rfl)
theorem dX1_takes_164 : decode cX1_takes 164 = .ok (.putfield 140, 3) := dk_181 0 140 (dk_at dksX1_takes_7 0 rfl rfl)
theorem dX1_takes_167 : decode cX1_takes 167 = .ok (.aload_n 0, 1) := dk_42 (dk_at dksX1_takes_7 3 rfl rfl)
theorem dX1_takes_168 : decode cX1_takes 168 = .ok (.aload_n 1, 1) := dk_43 (dk_at dksX1_takes_7 4 rfl rfl)
theorem dX1_takes_169 : decode cX1_takes 169 = .ok (.getfield 63, 3) := dk_180 0 63 (dk_at dksX1_takes_7 5 rfl rfl)
theorem dX1_takes_172 : decode cX1_takes 172 = .ok (.putfield 63, 3) := dk_181 0 63 (dk_at dksX1_takes_7 8 rfl rfl)
theorem dX1_takes_175 : decode cX1_takes 175 = .ok (.aload_n 0, 1) := dk_42 (dk_at dksX1_takes_7 11 rfl rfl)
theorem dX1_takes_176 : decode cX1_takes 176 = .ok (.iconst 0, 1) := dk_3 (dk_at dksX1_takes_7 12 rfl rfl)
theorem dX1_takes_177 : decode cX1_takes 177 = .ok (.putfield 143, 3) := dk_181 0 143 (dk_at dksX1_takes_7 13 rfl rfl)
theorem dX1_takes_180 : decode cX1_takes 180 = .ok (.aload_n 0, 1) := dk_42 (dk_at dksX1_takes_7 16 rfl rfl)
theorem dX1_takes_181 : decode cX1_takes 181 = .ok (.iconst 0, 1) := dk_3 (dk_at dksX1_takes_7 17 rfl rfl)
theorem dX1_takes_182 : decode cX1_takes 182 = .ok (.putfield 146, 3) := dk_181 0 146 (dk_at dksX1_takes_7 18 rfl rfl)
theorem dX1_takes_185 : decode cX1_takes 185 = .ok (.aload_n 0, 1) := dk_42 (dk_at dksX1_takes_7 21 rfl rfl)
theorem dX1_takes_186 : decode cX1_takes 186 = .ok (.areturn, 1) := dk_176 (dk_at dksX1_takes_7 22 rfl rfl)
abbrev cX1_takesKeepers : ByteArray := prog_32_method_4_code
def yX1_takesKeepers : MethodName := ⟨RX1, "takesKeepers", "(LKeptLight$World;)V"⟩
def dkwX1_takesKeepers_7 : List UInt8 := [182, 0, 81, 192, 0, 85, 182, 0, 101, 132, 3, 1, 167, 255, 176, 177]
abbrev dktX1_takesKeepers_7 : List UInt8 := dkwX1_takesKeepers_7 ++ []
def dkwX1_takesKeepers_6 : List UInt8 := [183, 0, 94, 182, 0, 97, 87, 42, 180, 0, 31, 29, 182, 0, 81, 192, 0, 85, 43, 180, 0, 31, 29]
abbrev dktX1_takesKeepers_6 : List UInt8 := dkwX1_takesKeepers_6 ++ dktX1_takesKeepers_7
def dkwX1_takesKeepers_5 : List UInt8 := [180, 0, 31, 187, 0, 85, 89, 29, 43, 180, 0, 31, 29, 182, 0, 81, 192, 0, 85, 180, 0, 87]
abbrev dktX1_takesKeepers_5 : List UInt8 := dkwX1_takesKeepers_5 ++ dktX1_takesKeepers_6
def dkwX1_takesKeepers_4 : List UInt8 := [62, 29, 43, 180, 0, 31, 182, 0, 77, 162, 0, 75, 29, 42, 180, 0, 31, 182, 0, 77, 160, 0, 33, 42]
abbrev dktX1_takesKeepers_4 : List UInt8 := dkwX1_takesKeepers_4 ++ dktX1_takesKeepers_5
def dkwX1_takesKeepers_3 : List UInt8 := [164, 0, 23, 42, 180, 0, 31, 42, 180, 0, 31, 182, 0, 77, 4, 100, 182, 0, 91, 87, 167, 255, 228, 3]
abbrev dktX1_takesKeepers_3 : List UInt8 := dkwX1_takesKeepers_3 ++ dktX1_takesKeepers_4
def dkwX1_takesKeepers_2 : List UInt8 := [192, 0, 85, 180, 0, 87, 166, 0, 9, 132, 2, 1, 167, 255, 200, 42, 180, 0, 31, 182, 0, 77, 28]
abbrev dktX1_takesKeepers_2 : List UInt8 := dkwX1_takesKeepers_2 ++ dktX1_takesKeepers_3
def dkwX1_takesKeepers_1 : List UInt8 := [42, 180, 0, 31, 28, 182, 0, 81, 192, 0, 85, 180, 0, 87, 43, 180, 0, 31, 28, 182, 0, 81]
abbrev dktX1_takesKeepers_1 : List UInt8 := dkwX1_takesKeepers_1 ++ dktX1_takesKeepers_2
def dkwX1_takesKeepers_0 : List UInt8 := [3, 61, 28, 42, 180, 0, 31, 182, 0, 77, 162, 0, 51, 28, 43, 180, 0, 31, 182, 0, 77, 162, 0, 40]
abbrev dktX1_takesKeepers_0 : List UInt8 := dkwX1_takesKeepers_0 ++ dktX1_takesKeepers_1
theorem dksX1_takesKeepers_0 : cX1_takesKeepers.data.toList.drop 0 = dktX1_takesKeepers_0 := by decide +kernel
theorem dksX1_takesKeepers_1 : cX1_takesKeepers.data.toList.drop 24 = dktX1_takesKeepers_1 := dk_seg dksX1_takesKeepers_0 24 rfl rfl
theorem dksX1_takesKeepers_2 : cX1_takesKeepers.data.toList.drop 46 = dktX1_takesKeepers_2 := dk_seg dksX1_takesKeepers_1 22 rfl rfl
theorem dksX1_takesKeepers_3 : cX1_takesKeepers.data.toList.drop 69 = dktX1_takesKeepers_3 := dk_seg dksX1_takesKeepers_2 23 rfl rfl
theorem dksX1_takesKeepers_4 : cX1_takesKeepers.data.toList.drop 93 = dktX1_takesKeepers_4 := dk_seg dksX1_takesKeepers_3 24 rfl rfl
theorem dksX1_takesKeepers_5 : cX1_takesKeepers.data.toList.drop 117 = dktX1_takesKeepers_5 := dk_seg dksX1_takesKeepers_4 24 rfl rfl
theorem dksX1_takesKeepers_6 : cX1_takesKeepers.data.toList.drop 139 = dktX1_takesKeepers_6 := dk_seg dksX1_takesKeepers_5 22 rfl rfl
theorem dksX1_takesKeepers_7 : cX1_takesKeepers.data.toList.drop 162 = dktX1_takesKeepers_7 := dk_seg dksX1_takesKeepers_6 23 rfl rfl
theorem dX1_takesKeepers_0 : decode cX1_takesKeepers 0 = .ok (.iconst 0, 1) := dk_3 (dk_at dksX1_takesKeepers_0 0 rfl rfl)
theorem dX1_takesKeepers_1 : decode cX1_takesKeepers 1 = .ok (.istore_n 2, 1) := dk_61 (dk_at dksX1_takesKeepers_0 1 rfl rfl)
theorem dX1_takesKeepers_2 : decode cX1_takesKeepers 2 = .ok (.iload_n 2, 1) := dk_28 (dk_at dksX1_takesKeepers_0 2 rfl rfl)
theorem dX1_takesKeepers_3 : decode cX1_takesKeepers 3 = .ok (.aload_n 0, 1) := dk_42 (dk_at dksX1_takesKeepers_0 3 rfl rfl)
theorem dX1_takesKeepers_4 : decode cX1_takesKeepers 4 = .ok (.getfield 31, 3) := dk_180 0 31 (dk_at dksX1_takesKeepers_0 4 rfl rfl)
theorem dX1_takesKeepers_7 : decode cX1_takesKeepers 7 = .ok (.invokevirtual 77, 3) := dk_182 0 77 (dk_at dksX1_takesKeepers_0 7 rfl rfl)
theorem dX1_takesKeepers_10 : decode cX1_takesKeepers 10 = .ok (.if_icmp .ge 51, 3) := dk_162 0 51 (dk_at dksX1_takesKeepers_0 10 rfl rfl)
theorem dX1_takesKeepers_13 : decode cX1_takesKeepers 13 = .ok (.iload_n 2, 1) := dk_28 (dk_at dksX1_takesKeepers_0 13 rfl rfl)
theorem dX1_takesKeepers_14 : decode cX1_takesKeepers 14 = .ok (.aload_n 1, 1) := dk_43 (dk_at dksX1_takesKeepers_0 14 rfl rfl)
theorem dX1_takesKeepers_15 : decode cX1_takesKeepers 15 = .ok (.getfield 31, 3) := dk_180 0 31 (dk_at dksX1_takesKeepers_0 15 rfl rfl)
theorem dX1_takesKeepers_18 : decode cX1_takesKeepers 18 = .ok (.invokevirtual 77, 3) := dk_182 0 77 (dk_at dksX1_takesKeepers_0 18 rfl rfl)
theorem dX1_takesKeepers_21 : decode cX1_takesKeepers 21 = .ok (.if_icmp .ge 40, 3) := dk_162 0 40 (dk_at dksX1_takesKeepers_0 21 rfl rfl)
theorem dX1_takesKeepers_24 : decode cX1_takesKeepers 24 = .ok (.aload_n 0, 1) := dk_42 (dk_at dksX1_takesKeepers_1 0 rfl rfl)
theorem dX1_takesKeepers_25 : decode cX1_takesKeepers 25 = .ok (.getfield 31, 3) := dk_180 0 31 (dk_at dksX1_takesKeepers_1 1 rfl rfl)
theorem dX1_takesKeepers_28 : decode cX1_takesKeepers 28 = .ok (.iload_n 2, 1) := dk_28 (dk_at dksX1_takesKeepers_1 4 rfl rfl)
theorem dX1_takesKeepers_29 : decode cX1_takesKeepers 29 = .ok (.invokevirtual 81, 3) := dk_182 0 81 (dk_at dksX1_takesKeepers_1 5 rfl rfl)
theorem dX1_takesKeepers_32 : decode cX1_takesKeepers 32 = .ok (.checkcast 85, 3) := dk_192 0 85 (dk_at dksX1_takesKeepers_1 8 rfl rfl)
theorem dX1_takesKeepers_35 : decode cX1_takesKeepers 35 = .ok (.getfield 87, 3) := dk_180 0 87 (dk_at dksX1_takesKeepers_1 11 rfl rfl)
theorem dX1_takesKeepers_38 : decode cX1_takesKeepers 38 = .ok (.aload_n 1, 1) := dk_43 (dk_at dksX1_takesKeepers_1 14 rfl rfl)
theorem dX1_takesKeepers_39 : decode cX1_takesKeepers 39 = .ok (.getfield 31, 3) := dk_180 0 31 (dk_at dksX1_takesKeepers_1 15 rfl rfl)
theorem dX1_takesKeepers_42 : decode cX1_takesKeepers 42 = .ok (.iload_n 2, 1) := dk_28 (dk_at dksX1_takesKeepers_1 18 rfl rfl)
theorem dX1_takesKeepers_43 : decode cX1_takesKeepers 43 = .ok (.invokevirtual 81, 3) := dk_182 0 81 (dk_at dksX1_takesKeepers_1 19 rfl rfl)
theorem dX1_takesKeepers_46 : decode cX1_takesKeepers 46 = .ok (.checkcast 85, 3) := dk_192 0 85 (dk_at dksX1_takesKeepers_2 0 rfl rfl)
theorem dX1_takesKeepers_49 : decode cX1_takesKeepers 49 = .ok (.getfield 87, 3) := dk_180 0 87 (dk_at dksX1_takesKeepers_2 3 rfl rfl)
theorem dX1_takesKeepers_52 : decode cX1_takesKeepers 52 = .ok (.if_acmp .ne 9, 3) := dk_166 0 9 (dk_at dksX1_takesKeepers_2 6 rfl rfl)
theorem dX1_takesKeepers_55 : decode cX1_takesKeepers 55 = .ok (.iinc 2 1, 3) := dk_132 2 1 (dk_at dksX1_takesKeepers_2 9 rfl rfl)
theorem dX1_takesKeepers_58 : decode cX1_takesKeepers 58 = .ok (.goto (-56), 3) := dk_167 255 200 (dk_at dksX1_takesKeepers_2 12 rfl rfl)
theorem dX1_takesKeepers_61 : decode cX1_takesKeepers 61 = .ok (.aload_n 0, 1) := dk_42 (dk_at dksX1_takesKeepers_2 15 rfl rfl)
theorem dX1_takesKeepers_62 : decode cX1_takesKeepers 62 = .ok (.getfield 31, 3) := dk_180 0 31 (dk_at dksX1_takesKeepers_2 16 rfl rfl)
theorem dX1_takesKeepers_65 : decode cX1_takesKeepers 65 = .ok (.invokevirtual 77, 3) := dk_182 0 77 (dk_at dksX1_takesKeepers_2 19 rfl rfl)
theorem dX1_takesKeepers_68 : decode cX1_takesKeepers 68 = .ok (.iload_n 2, 1) := dk_28 (dk_at dksX1_takesKeepers_2 22 rfl rfl)
theorem dX1_takesKeepers_69 : decode cX1_takesKeepers 69 = .ok (.if_icmp .le 23, 3) := dk_164 0 23 (dk_at dksX1_takesKeepers_3 0 rfl rfl)
theorem dX1_takesKeepers_72 : decode cX1_takesKeepers 72 = .ok (.aload_n 0, 1) := dk_42 (dk_at dksX1_takesKeepers_3 3 rfl rfl)
theorem dX1_takesKeepers_73 : decode cX1_takesKeepers 73 = .ok (.getfield 31, 3) := dk_180 0 31 (dk_at dksX1_takesKeepers_3 4 rfl rfl)
theorem dX1_takesKeepers_76 : decode cX1_takesKeepers 76 = .ok (.aload_n 0, 1) := dk_42 (dk_at dksX1_takesKeepers_3 7 rfl rfl)
theorem dX1_takesKeepers_77 : decode cX1_takesKeepers 77 = .ok (.getfield 31, 3) := dk_180 0 31 (dk_at dksX1_takesKeepers_3 8 rfl rfl)
theorem dX1_takesKeepers_80 : decode cX1_takesKeepers 80 = .ok (.invokevirtual 77, 3) := dk_182 0 77 (dk_at dksX1_takesKeepers_3 11 rfl rfl)
theorem dX1_takesKeepers_83 : decode cX1_takesKeepers 83 = .ok (.iconst 1, 1) := dk_4 (dk_at dksX1_takesKeepers_3 14 rfl rfl)
theorem dX1_takesKeepers_84 : decode cX1_takesKeepers 84 = .ok (.isub, 1) := dk_100 (dk_at dksX1_takesKeepers_3 15 rfl rfl)
theorem dX1_takesKeepers_85 : decode cX1_takesKeepers 85 = .ok (.invokevirtual 91, 3) := dk_182 0 91 (dk_at dksX1_takesKeepers_3 16 rfl rfl)
theorem dX1_takesKeepers_88 : decode cX1_takesKeepers 88 = .ok (.pop, 1) := dk_87 (dk_at dksX1_takesKeepers_3 19 rfl rfl)
theorem dX1_takesKeepers_89 : decode cX1_takesKeepers 89 = .ok (.goto (-28), 3) := dk_167 255 228 (dk_at dksX1_takesKeepers_3 20 rfl rfl)
theorem dX1_takesKeepers_92 : decode cX1_takesKeepers 92 = .ok (.iconst 0, 1) := dk_3 (dk_at dksX1_takesKeepers_3 23 rfl rfl)
theorem dX1_takesKeepers_93 : decode cX1_takesKeepers 93 = .ok (.istore_n 3, 1) := dk_62 (dk_at dksX1_takesKeepers_4 0 rfl rfl)
theorem dX1_takesKeepers_94 : decode cX1_takesKeepers 94 = .ok (.iload_n 3, 1) := dk_29 (dk_at dksX1_takesKeepers_4 1 rfl rfl)
theorem dX1_takesKeepers_95 : decode cX1_takesKeepers 95 = .ok (.aload_n 1, 1) := dk_43 (dk_at dksX1_takesKeepers_4 2 rfl rfl)
theorem dX1_takesKeepers_96 : decode cX1_takesKeepers 96 = .ok (.getfield 31, 3) := dk_180 0 31 (dk_at dksX1_takesKeepers_4 3 rfl rfl)
theorem dX1_takesKeepers_99 : decode cX1_takesKeepers 99 = .ok (.invokevirtual 77, 3) := dk_182 0 77 (dk_at dksX1_takesKeepers_4 6 rfl rfl)
theorem dX1_takesKeepers_102 : decode cX1_takesKeepers 102 = .ok (.if_icmp .ge 75, 3) := dk_162 0 75 (dk_at dksX1_takesKeepers_4 9 rfl rfl)
theorem dX1_takesKeepers_105 : decode cX1_takesKeepers 105 = .ok (.iload_n 3, 1) := dk_29 (dk_at dksX1_takesKeepers_4 12 rfl rfl)
theorem dX1_takesKeepers_106 : decode cX1_takesKeepers 106 = .ok (.aload_n 0, 1) := dk_42 (dk_at dksX1_takesKeepers_4 13 rfl rfl)
theorem dX1_takesKeepers_107 : decode cX1_takesKeepers 107 = .ok (.getfield 31, 3) := dk_180 0 31 (dk_at dksX1_takesKeepers_4 14 rfl rfl)
theorem dX1_takesKeepers_110 : decode cX1_takesKeepers 110 = .ok (.invokevirtual 77, 3) := dk_182 0 77 (dk_at dksX1_takesKeepers_4 17 rfl rfl)
theorem dX1_takesKeepers_113 : decode cX1_takesKeepers 113 = .ok (.if_icmp .ne 33, 3) := dk_160 0 33 (dk_at dksX1_takesKeepers_4 20 rfl rfl)
theorem dX1_takesKeepers_116 : decode cX1_takesKeepers 116 = .ok (.aload_n 0, 1) := dk_42 (dk_at dksX1_takesKeepers_4 23 rfl rfl)
theorem dX1_takesKeepers_117 : decode cX1_takesKeepers 117 = .ok (.getfield 31, 3) := dk_180 0 31 (dk_at dksX1_takesKeepers_5 0 rfl rfl)
theorem dX1_takesKeepers_120 : decode cX1_takesKeepers 120 = .ok (.new 85, 3) := dk_187 0 85 (dk_at dksX1_takesKeepers_5 3 rfl rfl)
theorem dX1_takesKeepers_123 : decode cX1_takesKeepers 123 = .ok (.dup, 1) := dk_89 (dk_at dksX1_takesKeepers_5 6 rfl rfl)
theorem dX1_takesKeepers_124 : decode cX1_takesKeepers 124 = .ok (.iload_n 3, 1) := dk_29 (dk_at dksX1_takesKeepers_5 7 rfl rfl)
theorem dX1_takesKeepers_125 : decode cX1_takesKeepers 125 = .ok (.aload_n 1, 1) := dk_43 (dk_at dksX1_takesKeepers_5 8 rfl rfl)
theorem dX1_takesKeepers_126 : decode cX1_takesKeepers 126 = .ok (.getfield 31, 3) := dk_180 0 31 (dk_at dksX1_takesKeepers_5 9 rfl rfl)
theorem dX1_takesKeepers_129 : decode cX1_takesKeepers 129 = .ok (.iload_n 3, 1) := dk_29 (dk_at dksX1_takesKeepers_5 12 rfl rfl)
theorem dX1_takesKeepers_130 : decode cX1_takesKeepers 130 = .ok (.invokevirtual 81, 3) := dk_182 0 81 (dk_at dksX1_takesKeepers_5 13 rfl rfl)
theorem dX1_takesKeepers_133 : decode cX1_takesKeepers 133 = .ok (.checkcast 85, 3) := dk_192 0 85 (dk_at dksX1_takesKeepers_5 16 rfl rfl)
theorem dX1_takesKeepers_136 : decode cX1_takesKeepers 136 = .ok (.getfield 87, 3) := dk_180 0 87 (dk_at dksX1_takesKeepers_5 19 rfl rfl)
theorem dX1_takesKeepers_139 : decode cX1_takesKeepers 139 = .ok (.invokespecial 94, 3) := dk_183 0 94 (dk_at dksX1_takesKeepers_6 0 rfl rfl)
theorem dX1_takesKeepers_142 : decode cX1_takesKeepers 142 = .ok (.invokevirtual 97, 3) := dk_182 0 97 (dk_at dksX1_takesKeepers_6 3 rfl rfl)
theorem dX1_takesKeepers_145 : decode cX1_takesKeepers 145 = .ok (.pop, 1) := dk_87 (dk_at dksX1_takesKeepers_6 6 rfl rfl)
theorem dX1_takesKeepers_146 : decode cX1_takesKeepers 146 = .ok (.aload_n 0, 1) := dk_42 (dk_at dksX1_takesKeepers_6 7 rfl rfl)
theorem dX1_takesKeepers_147 : decode cX1_takesKeepers 147 = .ok (.getfield 31, 3) := dk_180 0 31 (dk_at dksX1_takesKeepers_6 8 rfl rfl)
theorem dX1_takesKeepers_150 : decode cX1_takesKeepers 150 = .ok (.iload_n 3, 1) := dk_29 (dk_at dksX1_takesKeepers_6 11 rfl rfl)
theorem dX1_takesKeepers_151 : decode cX1_takesKeepers 151 = .ok (.invokevirtual 81, 3) := dk_182 0 81 (dk_at dksX1_takesKeepers_6 12 rfl rfl)
theorem dX1_takesKeepers_154 : decode cX1_takesKeepers 154 = .ok (.checkcast 85, 3) := dk_192 0 85 (dk_at dksX1_takesKeepers_6 15 rfl rfl)
theorem dX1_takesKeepers_157 : decode cX1_takesKeepers 157 = .ok (.aload_n 1, 1) := dk_43 (dk_at dksX1_takesKeepers_6 18 rfl rfl)
theorem dX1_takesKeepers_158 : decode cX1_takesKeepers 158 = .ok (.getfield 31, 3) := dk_180 0 31 (dk_at dksX1_takesKeepers_6 19 rfl rfl)
theorem dX1_takesKeepers_161 : decode cX1_takesKeepers 161 = .ok (.iload_n 3, 1) := dk_29 (dk_at dksX1_takesKeepers_6 22 rfl rfl)
theorem dX1_takesKeepers_162 : decode cX1_takesKeepers 162 = .ok (.invokevirtual 81, 3) := dk_182 0 81 (dk_at dksX1_takesKeepers_7 0 rfl rfl)
theorem dX1_takesKeepers_165 : decode cX1_takesKeepers 165 = .ok (.checkcast 85, 3) := dk_192 0 85 (dk_at dksX1_takesKeepers_7 3 rfl rfl)
theorem dX1_takesKeepers_168 : decode cX1_takesKeepers 168 = .ok (.invokevirtual 101, 3) := dk_182 0 101 (dk_at dksX1_takesKeepers_7 6 rfl rfl)
theorem dX1_takesKeepers_171 : decode cX1_takesKeepers 171 = .ok (.iinc 3 1, 3) := dk_132 3 1 (dk_at dksX1_takesKeepers_7 9 rfl rfl)
theorem dX1_takesKeepers_174 : decode cX1_takesKeepers 174 = .ok (.goto (-80), 3) := dk_167 255 176 (dk_at dksX1_takesKeepers_7 12 rfl rfl)
theorem dX1_takesKeepers_177 : decode cX1_takesKeepers 177 = .ok (.return_, 1) := dk_177 (dk_at dksX1_takesKeepers_7 15 rfl rfl)
abbrev cX1_slept : ByteArray := prog_32_method_27_code
def yX1_slept : MethodName := ⟨RX1, "slept", "()I"⟩
def dkwX1_slept_1 : List UInt8 := [192, 0, 85, 180, 1, 37, 96, 60, 132, 2, 1, 167, 255, 225, 27, 172]
abbrev dktX1_slept_1 : List UInt8 := dkwX1_slept_1 ++ []
def dkwX1_slept_0 : List UInt8 := [3, 60, 3, 61, 28, 42, 180, 0, 31, 182, 0, 77, 162, 0, 26, 27, 42, 180, 0, 31, 28, 182, 0, 81]
abbrev dktX1_slept_0 : List UInt8 := dkwX1_slept_0 ++ dktX1_slept_1
theorem dksX1_slept_0 : cX1_slept.data.toList.drop 0 = dktX1_slept_0 := by decide +kernel
theorem dksX1_slept_1 : cX1_slept.data.toList.drop 24 = dktX1_slept_1 := dk_seg dksX1_slept_0 24 rfl rfl
theorem dX1_slept_0 : decode cX1_slept 0 = .ok (.iconst 0, 1) := dk_3 (dk_at dksX1_slept_0 0 rfl rfl)
theorem dX1_slept_1 : decode cX1_slept 1 = .ok (.istore_n 1, 1) := dk_60 (dk_at dksX1_slept_0 1 rfl rfl)
theorem dX1_slept_2 : decode cX1_slept 2 = .ok (.iconst 0, 1) := dk_3 (dk_at dksX1_slept_0 2 rfl rfl)
theorem dX1_slept_3 : decode cX1_slept 3 = .ok (.istore_n 2, 1) := dk_61 (dk_at dksX1_slept_0 3 rfl rfl)
theorem dX1_slept_4 : decode cX1_slept 4 = .ok (.iload_n 2, 1) := dk_28 (dk_at dksX1_slept_0 4 rfl rfl)
theorem dX1_slept_5 : decode cX1_slept 5 = .ok (.aload_n 0, 1) := dk_42 (dk_at dksX1_slept_0 5 rfl rfl)
theorem dX1_slept_6 : decode cX1_slept 6 = .ok (.getfield 31, 3) := dk_180 0 31 (dk_at dksX1_slept_0 6 rfl rfl)
theorem dX1_slept_9 : decode cX1_slept 9 = .ok (.invokevirtual 77, 3) := dk_182 0 77 (dk_at dksX1_slept_0 9 rfl rfl)
theorem dX1_slept_12 : decode cX1_slept 12 = .ok (.if_icmp .ge 26, 3) := dk_162 0 26 (dk_at dksX1_slept_0 12 rfl rfl)
theorem dX1_slept_15 : decode cX1_slept 15 = .ok (.iload_n 1, 1) := dk_27 (dk_at dksX1_slept_0 15 rfl rfl)
theorem dX1_slept_16 : decode cX1_slept 16 = .ok (.aload_n 0, 1) := dk_42 (dk_at dksX1_slept_0 16 rfl rfl)
theorem dX1_slept_17 : decode cX1_slept 17 = .ok (.getfield 31, 3) := dk_180 0 31 (dk_at dksX1_slept_0 17 rfl rfl)
theorem dX1_slept_20 : decode cX1_slept 20 = .ok (.iload_n 2, 1) := dk_28 (dk_at dksX1_slept_0 20 rfl rfl)
theorem dX1_slept_21 : decode cX1_slept 21 = .ok (.invokevirtual 81, 3) := dk_182 0 81 (dk_at dksX1_slept_0 21 rfl rfl)
theorem dX1_slept_24 : decode cX1_slept 24 = .ok (.checkcast 85, 3) := dk_192 0 85 (dk_at dksX1_slept_1 0 rfl rfl)
theorem dX1_slept_27 : decode cX1_slept 27 = .ok (.getfield 293, 3) := dk_180 1 37 (dk_at dksX1_slept_1 3 rfl rfl)
theorem dX1_slept_30 : decode cX1_slept 30 = .ok (.iadd, 1) := dk_96 (dk_at dksX1_slept_1 6 rfl rfl)
theorem dX1_slept_31 : decode cX1_slept 31 = .ok (.istore_n 1, 1) := dk_60 (dk_at dksX1_slept_1 7 rfl rfl)
theorem dX1_slept_32 : decode cX1_slept 32 = .ok (.iinc 2 1, 3) := dk_132 2 1 (dk_at dksX1_slept_1 8 rfl rfl)
theorem dX1_slept_35 : decode cX1_slept 35 = .ok (.goto (-31), 3) := dk_167 255 225 (dk_at dksX1_slept_1 11 rfl rfl)
theorem dX1_slept_38 : decode cX1_slept 38 = .ok (.iload_n 1, 1) := dk_27 (dk_at dksX1_slept_1 14 rfl rfl)
theorem dX1_slept_39 : decode cX1_slept 39 = .ok (.ireturn, 1) := dk_172 (dk_at dksX1_slept_1 15 rfl rfl)
abbrev cX1_without : ByteArray := prog_32_method_29_code
def yX1_without : MethodName := ⟨RX1, "without", "(I)LKeptLight$World;"⟩
def dkwX1_without_1 : List UInt8 := [167, 0, 9, 42, 180, 0, 35, 28, 46, 79, 132, 2, 1, 167, 255, 221, 42, 176]
abbrev dktX1_without_1 : List UInt8 := dkwX1_without_1 ++ []
def dkwX1_without_0 : List UInt8 := [3, 61, 28, 16, 24, 162, 0, 35, 42, 180, 0, 35, 28, 42, 180, 0, 35, 28, 46, 27, 160, 0, 7, 2]
abbrev dktX1_without_0 : List UInt8 := dkwX1_without_0 ++ dktX1_without_1
theorem dksX1_without_0 : cX1_without.data.toList.drop 0 = dktX1_without_0 := by decide +kernel
theorem dksX1_without_1 : cX1_without.data.toList.drop 24 = dktX1_without_1 := dk_seg dksX1_without_0 24 rfl rfl
theorem dX1_without_0 : decode cX1_without 0 = .ok (.iconst 0, 1) := dk_3 (dk_at dksX1_without_0 0 rfl rfl)
theorem dX1_without_1 : decode cX1_without 1 = .ok (.istore_n 2, 1) := dk_61 (dk_at dksX1_without_0 1 rfl rfl)
theorem dX1_without_2 : decode cX1_without 2 = .ok (.iload_n 2, 1) := dk_28 (dk_at dksX1_without_0 2 rfl rfl)
theorem dX1_without_3 : decode cX1_without 3 = .ok (.bipush 24, 2) := dk_16 24 (dk_at dksX1_without_0 3 rfl rfl)
theorem dX1_without_5 : decode cX1_without 5 = .ok (.if_icmp .ge 35, 3) := dk_162 0 35 (dk_at dksX1_without_0 5 rfl rfl)
theorem dX1_without_8 : decode cX1_without 8 = .ok (.aload_n 0, 1) := dk_42 (dk_at dksX1_without_0 8 rfl rfl)
theorem dX1_without_9 : decode cX1_without 9 = .ok (.getfield 35, 3) := dk_180 0 35 (dk_at dksX1_without_0 9 rfl rfl)
theorem dX1_without_12 : decode cX1_without 12 = .ok (.iload_n 2, 1) := dk_28 (dk_at dksX1_without_0 12 rfl rfl)
theorem dX1_without_13 : decode cX1_without 13 = .ok (.aload_n 0, 1) := dk_42 (dk_at dksX1_without_0 13 rfl rfl)
theorem dX1_without_14 : decode cX1_without 14 = .ok (.getfield 35, 3) := dk_180 0 35 (dk_at dksX1_without_0 14 rfl rfl)
theorem dX1_without_17 : decode cX1_without 17 = .ok (.iload_n 2, 1) := dk_28 (dk_at dksX1_without_0 17 rfl rfl)
theorem dX1_without_18 : decode cX1_without 18 = .ok (.iaload, 1) := dk_46 (dk_at dksX1_without_0 18 rfl rfl)
theorem dX1_without_19 : decode cX1_without 19 = .ok (.iload_n 1, 1) := dk_27 (dk_at dksX1_without_0 19 rfl rfl)
theorem dX1_without_20 : decode cX1_without 20 = .ok (.if_icmp .ne 7, 3) := dk_160 0 7 (dk_at dksX1_without_0 20 rfl rfl)
theorem dX1_without_23 : decode cX1_without 23 = .ok (.iconst (-1), 1) := dk_2 (dk_at dksX1_without_0 23 rfl rfl)
theorem dX1_without_24 : decode cX1_without 24 = .ok (.goto 9, 3) := dk_167 0 9 (dk_at dksX1_without_1 0 rfl rfl)
theorem dX1_without_27 : decode cX1_without 27 = .ok (.aload_n 0, 1) := dk_42 (dk_at dksX1_without_1 3 rfl rfl)
theorem dX1_without_28 : decode cX1_without 28 = .ok (.getfield 35, 3) := dk_180 0 35 (dk_at dksX1_without_1 4 rfl rfl)
theorem dX1_without_31 : decode cX1_without 31 = .ok (.iload_n 2, 1) := dk_28 (dk_at dksX1_without_1 7 rfl rfl)
theorem dX1_without_32 : decode cX1_without 32 = .ok (.iaload, 1) := dk_46 (dk_at dksX1_without_1 8 rfl rfl)
theorem dX1_without_33 : decode cX1_without 33 = .ok (.iastore, 1) := dk_79 (dk_at dksX1_without_1 9 rfl rfl)
theorem dX1_without_34 : decode cX1_without 34 = .ok (.iinc 2 1, 3) := dk_132 2 1 (dk_at dksX1_without_1 10 rfl rfl)
theorem dX1_without_37 : decode cX1_without 37 = .ok (.goto (-35), 3) := dk_167 255 221 (dk_at dksX1_without_1 13 rfl rfl)
theorem dX1_without_40 : decode cX1_without 40 = .ok (.aload_n 0, 1) := dk_42 (dk_at dksX1_without_1 16 rfl rfl)
theorem dX1_without_41 : decode cX1_without 41 = .ok (.areturn, 1) := dk_176 (dk_at dksX1_without_1 17 rfl rfl)
abbrev cX1_day : ByteArray := prog_32_method_23_code
def yX1_day : MethodName := ⟨RX1, "day", "()V"⟩
def dkwX1_day_2 : List UInt8 := [96, 184, 1, 64, 182, 1, 68, 42, 182, 1, 58, 177]
abbrev dktX1_day_2 : List UInt8 := dkwX1_day_2 ++ []
def dkwX1_day_1 : List UInt8 := [182, 1, 61, 96, 60, 42, 27, 42, 180, 0, 39, 182, 0, 77, 42, 180, 0, 128, 42, 16, 24, 182, 1, 61]
abbrev dktX1_day_1 : List UInt8 := dkwX1_day_1 ++ dktX1_day_2
def dkwX1_day_0 : List UInt8 := [42, 6, 182, 1, 61, 154, 0, 50, 42, 180, 0, 39, 182, 0, 77, 17, 0, 200, 162, 0, 37, 6, 42, 8]
abbrev dktX1_day_0 : List UInt8 := dkwX1_day_0 ++ dktX1_day_1
theorem dksX1_day_0 : cX1_day.data.toList.drop 0 = dktX1_day_0 := by decide +kernel
theorem dksX1_day_1 : cX1_day.data.toList.drop 24 = dktX1_day_1 := dk_seg dksX1_day_0 24 rfl rfl
theorem dksX1_day_2 : cX1_day.data.toList.drop 48 = dktX1_day_2 := dk_seg dksX1_day_1 24 rfl rfl
theorem dX1_day_0 : decode cX1_day 0 = .ok (.aload_n 0, 1) := dk_42 (dk_at dksX1_day_0 0 rfl rfl)
theorem dX1_day_1 : decode cX1_day 1 = .ok (.iconst 3, 1) := dk_6 (dk_at dksX1_day_0 1 rfl rfl)
theorem dX1_day_2 : decode cX1_day 2 = .ok (.invokevirtual 317, 3) := dk_182 1 61 (dk_at dksX1_day_0 2 rfl rfl)
theorem dX1_day_5 : decode cX1_day 5 = .ok (.ifCond .ne 50, 3) := dk_154 0 50 (dk_at dksX1_day_0 5 rfl rfl)
theorem dX1_day_8 : decode cX1_day 8 = .ok (.aload_n 0, 1) := dk_42 (dk_at dksX1_day_0 8 rfl rfl)
theorem dX1_day_9 : decode cX1_day 9 = .ok (.getfield 39, 3) := dk_180 0 39 (dk_at dksX1_day_0 9 rfl rfl)
theorem dX1_day_12 : decode cX1_day 12 = .ok (.invokevirtual 77, 3) := dk_182 0 77 (dk_at dksX1_day_0 12 rfl rfl)
theorem dX1_day_15 : decode cX1_day 15 = .ok (.sipush 200, 3) := dk_17 0 200 (dk_at dksX1_day_0 15 rfl rfl)
theorem dX1_day_18 : decode cX1_day 18 = .ok (.if_icmp .ge 37, 3) := dk_162 0 37 (dk_at dksX1_day_0 18 rfl rfl)
theorem dX1_day_21 : decode cX1_day 21 = .ok (.iconst 3, 1) := dk_6 (dk_at dksX1_day_0 21 rfl rfl)
theorem dX1_day_22 : decode cX1_day 22 = .ok (.aload_n 0, 1) := dk_42 (dk_at dksX1_day_0 22 rfl rfl)
theorem dX1_day_23 : decode cX1_day 23 = .ok (.iconst 5, 1) := dk_8 (dk_at dksX1_day_0 23 rfl rfl)
theorem dX1_day_24 : decode cX1_day 24 = .ok (.invokevirtual 317, 3) := dk_182 1 61 (dk_at dksX1_day_1 0 rfl rfl)
theorem dX1_day_27 : decode cX1_day 27 = .ok (.iadd, 1) := dk_96 (dk_at dksX1_day_1 3 rfl rfl)
theorem dX1_day_28 : decode cX1_day 28 = .ok (.istore_n 1, 1) := dk_60 (dk_at dksX1_day_1 4 rfl rfl)
theorem dX1_day_29 : decode cX1_day 29 = .ok (.aload_n 0, 1) := dk_42 (dk_at dksX1_day_1 5 rfl rfl)
theorem dX1_day_30 : decode cX1_day 30 = .ok (.iload_n 1, 1) := dk_27 (dk_at dksX1_day_1 6 rfl rfl)
theorem dX1_day_31 : decode cX1_day 31 = .ok (.aload_n 0, 1) := dk_42 (dk_at dksX1_day_1 7 rfl rfl)
theorem dX1_day_32 : decode cX1_day 32 = .ok (.getfield 39, 3) := dk_180 0 39 (dk_at dksX1_day_1 8 rfl rfl)
theorem dX1_day_35 : decode cX1_day 35 = .ok (.invokevirtual 77, 3) := dk_182 0 77 (dk_at dksX1_day_1 11 rfl rfl)
theorem dX1_day_38 : decode cX1_day 38 = .ok (.aload_n 0, 1) := dk_42 (dk_at dksX1_day_1 14 rfl rfl)
theorem dX1_day_39 : decode cX1_day 39 = .ok (.getfield 128, 3) := dk_180 0 128 (dk_at dksX1_day_1 15 rfl rfl)
theorem dX1_day_42 : decode cX1_day 42 = .ok (.aload_n 0, 1) := dk_42 (dk_at dksX1_day_1 18 rfl rfl)
theorem dX1_day_43 : decode cX1_day 43 = .ok (.bipush 24, 2) := dk_16 24 (dk_at dksX1_day_1 19 rfl rfl)
theorem dX1_day_45 : decode cX1_day 45 = .ok (.invokevirtual 317, 3) := dk_182 1 61 (dk_at dksX1_day_1 21 rfl rfl)
theorem dX1_day_48 : decode cX1_day 48 = .ok (.iadd, 1) := dk_96 (dk_at dksX1_day_2 0 rfl rfl)
theorem dX1_day_49 : decode cX1_day 49 = .ok (.invokestatic 320, 3) := dk_184 1 64 (dk_at dksX1_day_2 1 rfl rfl)
theorem dX1_day_52 : decode cX1_day 52 = .ok (.invokevirtual 324, 3) := dk_182 1 68 (dk_at dksX1_day_2 4 rfl rfl)
theorem dX1_day_55 : decode cX1_day 55 = .ok (.aload_n 0, 1) := dk_42 (dk_at dksX1_day_2 7 rfl rfl)
theorem dX1_day_56 : decode cX1_day 56 = .ok (.invokevirtual 314, 3) := dk_182 1 58 (dk_at dksX1_day_2 8 rfl rfl)
theorem dX1_day_59 : decode cX1_day 59 = .ok (.return_, 1) := dk_177 (dk_at dksX1_day_2 11 rfl rfl)
abbrev cX1_draw : ByteArray := prog_32_method_22_code
def yX1_draw : MethodName := ⟨RX1, "draw", "(I)I"⟩
def dkwX1_draw_1 : List UInt8 := [112, 172]
abbrev dktX1_draw_1 : List UInt8 := dkwX1_draw_1 ++ []
def dkwX1_draw_0 : List UInt8 := [42, 42, 180, 0, 63, 19, 1, 60, 104, 17, 48, 57, 96, 181, 0, 63, 42, 180, 0, 63, 16, 16, 124, 27]
abbrev dktX1_draw_0 : List UInt8 := dkwX1_draw_0 ++ dktX1_draw_1
theorem dksX1_draw_0 : cX1_draw.data.toList.drop 0 = dktX1_draw_0 := by decide +kernel
theorem dksX1_draw_1 : cX1_draw.data.toList.drop 24 = dktX1_draw_1 := dk_seg dksX1_draw_0 24 rfl rfl
theorem dX1_draw_0 : decode cX1_draw 0 = .ok (.aload_n 0, 1) := dk_42 (dk_at dksX1_draw_0 0 rfl rfl)
theorem dX1_draw_1 : decode cX1_draw 1 = .ok (.aload_n 0, 1) := dk_42 (dk_at dksX1_draw_0 1 rfl rfl)
theorem dX1_draw_2 : decode cX1_draw 2 = .ok (.getfield 63, 3) := dk_180 0 63 (dk_at dksX1_draw_0 2 rfl rfl)
theorem dX1_draw_5 : decode cX1_draw 5 = .ok (.ldc_w 316, 3) := dk_19 1 60 (dk_at dksX1_draw_0 5 rfl rfl)
theorem dX1_draw_8 : decode cX1_draw 8 = .ok (.imul, 1) := dk_104 (dk_at dksX1_draw_0 8 rfl rfl)
theorem dX1_draw_9 : decode cX1_draw 9 = .ok (.sipush 12345, 3) := dk_17 48 57 (dk_at dksX1_draw_0 9 rfl rfl)
theorem dX1_draw_12 : decode cX1_draw 12 = .ok (.iadd, 1) := dk_96 (dk_at dksX1_draw_0 12 rfl rfl)
theorem dX1_draw_13 : decode cX1_draw 13 = .ok (.putfield 63, 3) := dk_181 0 63 (dk_at dksX1_draw_0 13 rfl rfl)
theorem dX1_draw_16 : decode cX1_draw 16 = .ok (.aload_n 0, 1) := dk_42 (dk_at dksX1_draw_0 16 rfl rfl)
theorem dX1_draw_17 : decode cX1_draw 17 = .ok (.getfield 63, 3) := dk_180 0 63 (dk_at dksX1_draw_0 17 rfl rfl)
theorem dX1_draw_20 : decode cX1_draw 20 = .ok (.bipush 16, 2) := dk_16 16 (dk_at dksX1_draw_0 20 rfl rfl)
theorem dX1_draw_22 : decode cX1_draw 22 = .ok (.iushr, 1) := dk_124 (dk_at dksX1_draw_0 22 rfl rfl)
theorem dX1_draw_23 : decode cX1_draw 23 = .ok (.iload_n 1, 1) := dk_27 (dk_at dksX1_draw_0 23 rfl rfl)
theorem dX1_draw_24 : decode cX1_draw 24 = .ok (.irem, 1) := dk_112 (dk_at dksX1_draw_1 0 rfl rfl)
theorem dX1_draw_25 : decode cX1_draw 25 = .ok (.ireturn, 1) := dk_172 (dk_at dksX1_draw_1 1 rfl rfl)
abbrev cX1_keeps : ByteArray := prog_32_method_6_code
def yX1_keeps : MethodName := ⟨RX1, "keeps", "(LKeptLight$World;)V"⟩
def dkwX1_keeps_5 : List UInt8 := [180, 0, 42, 28, 182, 0, 81, 192, 0, 161, 182, 0, 97, 87, 132, 2, 1, 167, 255, 223, 177]
abbrev dktX1_keeps_5 : List UInt8 := dkwX1_keeps_5 ++ []
def dkwX1_keeps_4 : List UInt8 := [180, 0, 42, 182, 0, 115, 3, 61, 28, 43, 180, 0, 42, 182, 0, 77, 162, 0, 28, 42, 180, 0, 42, 43]
abbrev dktX1_keeps_4 : List UInt8 := dkwX1_keeps_4 ++ dktX1_keeps_5
def dkwX1_keeps_3 : List UInt8 := [43, 180, 0, 39, 28, 182, 0, 81, 192, 0, 153, 180, 0, 158, 79, 132, 2, 1, 167, 255, 183, 42]
abbrev dktX1_keeps_3 : List UInt8 := dkwX1_keeps_3 ++ dktX1_keeps_4
def dkwX1_keeps_2 : List UInt8 := [180, 0, 67, 28, 43, 180, 0, 39, 28, 182, 0, 81, 192, 0, 153, 180, 0, 155, 79, 42, 180, 0, 70, 28]
abbrev dktX1_keeps_2 : List UInt8 := dkwX1_keeps_2 ++ dktX1_keeps_3
def dkwX1_keeps_1 : List UInt8 := [162, 0, 68, 42, 180, 0, 39, 43, 180, 0, 39, 28, 182, 0, 81, 192, 0, 153, 182, 0, 97, 87, 42]
abbrev dktX1_keeps_1 : List UInt8 := dkwX1_keeps_1 ++ dktX1_keeps_2
def dkwX1_keeps_0 : List UInt8 := [42, 43, 182, 0, 149, 87, 42, 180, 0, 39, 182, 0, 115, 3, 61, 28, 43, 180, 0, 39, 182, 0, 77]
abbrev dktX1_keeps_0 : List UInt8 := dkwX1_keeps_0 ++ dktX1_keeps_1
theorem dksX1_keeps_0 : cX1_keeps.data.toList.drop 0 = dktX1_keeps_0 := by decide +kernel
theorem dksX1_keeps_1 : cX1_keeps.data.toList.drop 23 = dktX1_keeps_1 := dk_seg dksX1_keeps_0 23 rfl rfl
theorem dksX1_keeps_2 : cX1_keeps.data.toList.drop 46 = dktX1_keeps_2 := dk_seg dksX1_keeps_1 23 rfl rfl
theorem dksX1_keeps_3 : cX1_keeps.data.toList.drop 70 = dktX1_keeps_3 := dk_seg dksX1_keeps_2 24 rfl rfl
theorem dksX1_keeps_4 : cX1_keeps.data.toList.drop 92 = dktX1_keeps_4 := dk_seg dksX1_keeps_3 22 rfl rfl
theorem dksX1_keeps_5 : cX1_keeps.data.toList.drop 116 = dktX1_keeps_5 := dk_seg dksX1_keeps_4 24 rfl rfl
theorem dX1_keeps_0 : decode cX1_keeps 0 = .ok (.aload_n 0, 1) := dk_42 (dk_at dksX1_keeps_0 0 rfl rfl)
theorem dX1_keeps_1 : decode cX1_keeps 1 = .ok (.aload_n 1, 1) := dk_43 (dk_at dksX1_keeps_0 1 rfl rfl)
theorem dX1_keeps_2 : decode cX1_keeps 2 = .ok (.invokevirtual 149, 3) := dk_182 0 149 (dk_at dksX1_keeps_0 2 rfl rfl)
theorem dX1_keeps_5 : decode cX1_keeps 5 = .ok (.pop, 1) := dk_87 (dk_at dksX1_keeps_0 5 rfl rfl)
theorem dX1_keeps_6 : decode cX1_keeps 6 = .ok (.aload_n 0, 1) := dk_42 (dk_at dksX1_keeps_0 6 rfl rfl)
theorem dX1_keeps_7 : decode cX1_keeps 7 = .ok (.getfield 39, 3) := dk_180 0 39 (dk_at dksX1_keeps_0 7 rfl rfl)
theorem dX1_keeps_10 : decode cX1_keeps 10 = .ok (.invokevirtual 115, 3) := dk_182 0 115 (dk_at dksX1_keeps_0 10 rfl rfl)
theorem dX1_keeps_13 : decode cX1_keeps 13 = .ok (.iconst 0, 1) := dk_3 (dk_at dksX1_keeps_0 13 rfl rfl)
theorem dX1_keeps_14 : decode cX1_keeps 14 = .ok (.istore_n 2, 1) := dk_61 (dk_at dksX1_keeps_0 14 rfl rfl)
theorem dX1_keeps_15 : decode cX1_keeps 15 = .ok (.iload_n 2, 1) := dk_28 (dk_at dksX1_keeps_0 15 rfl rfl)
theorem dX1_keeps_16 : decode cX1_keeps 16 = .ok (.aload_n 1, 1) := dk_43 (dk_at dksX1_keeps_0 16 rfl rfl)
theorem dX1_keeps_17 : decode cX1_keeps 17 = .ok (.getfield 39, 3) := dk_180 0 39 (dk_at dksX1_keeps_0 17 rfl rfl)
theorem dX1_keeps_20 : decode cX1_keeps 20 = .ok (.invokevirtual 77, 3) := dk_182 0 77 (dk_at dksX1_keeps_0 20 rfl rfl)
theorem dX1_keeps_23 : decode cX1_keeps 23 = .ok (.if_icmp .ge 68, 3) := dk_162 0 68 (dk_at dksX1_keeps_1 0 rfl rfl)
theorem dX1_keeps_26 : decode cX1_keeps 26 = .ok (.aload_n 0, 1) := dk_42 (dk_at dksX1_keeps_1 3 rfl rfl)
theorem dX1_keeps_27 : decode cX1_keeps 27 = .ok (.getfield 39, 3) := dk_180 0 39 (dk_at dksX1_keeps_1 4 rfl rfl)
theorem dX1_keeps_30 : decode cX1_keeps 30 = .ok (.aload_n 1, 1) := dk_43 (dk_at dksX1_keeps_1 7 rfl rfl)
theorem dX1_keeps_31 : decode cX1_keeps 31 = .ok (.getfield 39, 3) := dk_180 0 39 (dk_at dksX1_keeps_1 8 rfl rfl)
theorem dX1_keeps_34 : decode cX1_keeps 34 = .ok (.iload_n 2, 1) := dk_28 (dk_at dksX1_keeps_1 11 rfl rfl)
theorem dX1_keeps_35 : decode cX1_keeps 35 = .ok (.invokevirtual 81, 3) := dk_182 0 81 (dk_at dksX1_keeps_1 12 rfl rfl)
theorem dX1_keeps_38 : decode cX1_keeps 38 = .ok (.checkcast 153, 3) := dk_192 0 153 (dk_at dksX1_keeps_1 15 rfl rfl)
theorem dX1_keeps_41 : decode cX1_keeps 41 = .ok (.invokevirtual 97, 3) := dk_182 0 97 (dk_at dksX1_keeps_1 18 rfl rfl)
theorem dX1_keeps_44 : decode cX1_keeps 44 = .ok (.pop, 1) := dk_87 (dk_at dksX1_keeps_1 21 rfl rfl)
theorem dX1_keeps_45 : decode cX1_keeps 45 = .ok (.aload_n 0, 1) := dk_42 (dk_at dksX1_keeps_1 22 rfl rfl)
theorem dX1_keeps_46 : decode cX1_keeps 46 = .ok (.getfield 67, 3) := dk_180 0 67 (dk_at dksX1_keeps_2 0 rfl rfl)
theorem dX1_keeps_49 : decode cX1_keeps 49 = .ok (.iload_n 2, 1) := dk_28 (dk_at dksX1_keeps_2 3 rfl rfl)
theorem dX1_keeps_50 : decode cX1_keeps 50 = .ok (.aload_n 1, 1) := dk_43 (dk_at dksX1_keeps_2 4 rfl rfl)
theorem dX1_keeps_51 : decode cX1_keeps 51 = .ok (.getfield 39, 3) := dk_180 0 39 (dk_at dksX1_keeps_2 5 rfl rfl)
theorem dX1_keeps_54 : decode cX1_keeps 54 = .ok (.iload_n 2, 1) := dk_28 (dk_at dksX1_keeps_2 8 rfl rfl)
theorem dX1_keeps_55 : decode cX1_keeps 55 = .ok (.invokevirtual 81, 3) := dk_182 0 81 (dk_at dksX1_keeps_2 9 rfl rfl)
theorem dX1_keeps_58 : decode cX1_keeps 58 = .ok (.checkcast 153, 3) := dk_192 0 153 (dk_at dksX1_keeps_2 12 rfl rfl)
theorem dX1_keeps_61 : decode cX1_keeps 61 = .ok (.getfield 155, 3) := dk_180 0 155 (dk_at dksX1_keeps_2 15 rfl rfl)
theorem dX1_keeps_64 : decode cX1_keeps 64 = .ok (.iastore, 1) := dk_79 (dk_at dksX1_keeps_2 18 rfl rfl)
theorem dX1_keeps_65 : decode cX1_keeps 65 = .ok (.aload_n 0, 1) := dk_42 (dk_at dksX1_keeps_2 19 rfl rfl)
theorem dX1_keeps_66 : decode cX1_keeps 66 = .ok (.getfield 70, 3) := dk_180 0 70 (dk_at dksX1_keeps_2 20 rfl rfl)
theorem dX1_keeps_69 : decode cX1_keeps 69 = .ok (.iload_n 2, 1) := dk_28 (dk_at dksX1_keeps_2 23 rfl rfl)
theorem dX1_keeps_70 : decode cX1_keeps 70 = .ok (.aload_n 1, 1) := dk_43 (dk_at dksX1_keeps_3 0 rfl rfl)
theorem dX1_keeps_71 : decode cX1_keeps 71 = .ok (.getfield 39, 3) := dk_180 0 39 (dk_at dksX1_keeps_3 1 rfl rfl)
theorem dX1_keeps_74 : decode cX1_keeps 74 = .ok (.iload_n 2, 1) := dk_28 (dk_at dksX1_keeps_3 4 rfl rfl)
theorem dX1_keeps_75 : decode cX1_keeps 75 = .ok (.invokevirtual 81, 3) := dk_182 0 81 (dk_at dksX1_keeps_3 5 rfl rfl)
theorem dX1_keeps_78 : decode cX1_keeps 78 = .ok (.checkcast 153, 3) := dk_192 0 153 (dk_at dksX1_keeps_3 8 rfl rfl)
theorem dX1_keeps_81 : decode cX1_keeps 81 = .ok (.getfield 158, 3) := dk_180 0 158 (dk_at dksX1_keeps_3 11 rfl rfl)
theorem dX1_keeps_84 : decode cX1_keeps 84 = .ok (.iastore, 1) := dk_79 (dk_at dksX1_keeps_3 14 rfl rfl)
theorem dX1_keeps_85 : decode cX1_keeps 85 = .ok (.iinc 2 1, 3) := dk_132 2 1 (dk_at dksX1_keeps_3 15 rfl rfl)
theorem dX1_keeps_88 : decode cX1_keeps 88 = .ok (.goto (-73), 3) := dk_167 255 183 (dk_at dksX1_keeps_3 18 rfl rfl)
theorem dX1_keeps_91 : decode cX1_keeps 91 = .ok (.aload_n 0, 1) := dk_42 (dk_at dksX1_keeps_3 21 rfl rfl)
theorem dX1_keeps_92 : decode cX1_keeps 92 = .ok (.getfield 42, 3) := dk_180 0 42 (dk_at dksX1_keeps_4 0 rfl rfl)
theorem dX1_keeps_95 : decode cX1_keeps 95 = .ok (.invokevirtual 115, 3) := dk_182 0 115 (dk_at dksX1_keeps_4 3 rfl rfl)
theorem dX1_keeps_98 : decode cX1_keeps 98 = .ok (.iconst 0, 1) := dk_3 (dk_at dksX1_keeps_4 6 rfl rfl)
theorem dX1_keeps_99 : decode cX1_keeps 99 = .ok (.istore_n 2, 1) := dk_61 (dk_at dksX1_keeps_4 7 rfl rfl)
theorem dX1_keeps_100 : decode cX1_keeps 100 = .ok (.iload_n 2, 1) := dk_28 (dk_at dksX1_keeps_4 8 rfl rfl)
theorem dX1_keeps_101 : decode cX1_keeps 101 = .ok (.aload_n 1, 1) := dk_43 (dk_at dksX1_keeps_4 9 rfl rfl)
theorem dX1_keeps_102 : decode cX1_keeps 102 = .ok (.getfield 42, 3) := dk_180 0 42 (dk_at dksX1_keeps_4 10 rfl rfl)
theorem dX1_keeps_105 : decode cX1_keeps 105 = .ok (.invokevirtual 77, 3) := dk_182 0 77 (dk_at dksX1_keeps_4 13 rfl rfl)
theorem dX1_keeps_108 : decode cX1_keeps 108 = .ok (.if_icmp .ge 28, 3) := dk_162 0 28 (dk_at dksX1_keeps_4 16 rfl rfl)
theorem dX1_keeps_111 : decode cX1_keeps 111 = .ok (.aload_n 0, 1) := dk_42 (dk_at dksX1_keeps_4 19 rfl rfl)
theorem dX1_keeps_112 : decode cX1_keeps 112 = .ok (.getfield 42, 3) := dk_180 0 42 (dk_at dksX1_keeps_4 20 rfl rfl)
theorem dX1_keeps_115 : decode cX1_keeps 115 = .ok (.aload_n 1, 1) := dk_43 (dk_at dksX1_keeps_4 23 rfl rfl)
theorem dX1_keeps_116 : decode cX1_keeps 116 = .ok (.getfield 42, 3) := dk_180 0 42 (dk_at dksX1_keeps_5 0 rfl rfl)
theorem dX1_keeps_119 : decode cX1_keeps 119 = .ok (.iload_n 2, 1) := dk_28 (dk_at dksX1_keeps_5 3 rfl rfl)
theorem dX1_keeps_120 : decode cX1_keeps 120 = .ok (.invokevirtual 81, 3) := dk_182 0 81 (dk_at dksX1_keeps_5 4 rfl rfl)
theorem dX1_keeps_123 : decode cX1_keeps 123 = .ok (.checkcast 161, 3) := dk_192 0 161 (dk_at dksX1_keeps_5 7 rfl rfl)
theorem dX1_keeps_126 : decode cX1_keeps 126 = .ok (.invokevirtual 97, 3) := dk_182 0 97 (dk_at dksX1_keeps_5 10 rfl rfl)
theorem dX1_keeps_129 : decode cX1_keeps 129 = .ok (.pop, 1) := dk_87 (dk_at dksX1_keeps_5 13 rfl rfl)
theorem dX1_keeps_130 : decode cX1_keeps 130 = .ok (.iinc 2 1, 3) := dk_132 2 1 (dk_at dksX1_keeps_5 14 rfl rfl)
theorem dX1_keeps_133 : decode cX1_keeps 133 = .ok (.goto (-33), 3) := dk_167 255 223 (dk_at dksX1_keeps_5 17 rfl rfl)
theorem dX1_keeps_136 : decode cX1_keeps 136 = .ok (.return_, 1) := dk_177 (dk_at dksX1_keeps_5 20 rfl rfl)
abbrev cX1_returns : ByteArray := prog_32_method_7_code
def yX1_returns : MethodName := ⟨RX1, "returns", "(LKeptLight$World;)V"⟩
def dkwX1_returns_6 : List UInt8 := [182, 0, 77, 4, 100, 182, 0, 91, 87, 167, 255, 222, 177]
abbrev dktX1_returns_6 : List UInt8 := dkwX1_returns_6 ++ []
def dkwX1_returns_5 : List UInt8 := [180, 0, 42, 182, 0, 77, 43, 180, 0, 42, 182, 0, 77, 164, 0, 23, 42, 180, 0, 42, 42, 180, 0, 42]
abbrev dktX1_returns_5 : List UInt8 := dkwX1_returns_5 ++ dktX1_returns_6
def dkwX1_returns_4 : List UInt8 := [182, 0, 81, 192, 0, 153, 43, 180, 0, 70, 28, 46, 181, 0, 158, 132, 2, 1, 167, 255, 202, 42]
abbrev dktX1_returns_4 : List UInt8 := dkwX1_returns_4 ++ dktX1_returns_5
def dkwX1_returns_3 : List UInt8 := [180, 0, 39, 28, 182, 0, 81, 192, 0, 153, 43, 180, 0, 67, 28, 46, 181, 0, 155, 42, 180, 0, 39, 28]
abbrev dktX1_returns_3 : List UInt8 := dkwX1_returns_3 ++ dktX1_returns_4
def dkwX1_returns_2 : List UInt8 := [4, 100, 182, 0, 91, 87, 167, 255, 222, 3, 61, 28, 42, 180, 0, 39, 182, 0, 77, 162, 0, 49, 42]
abbrev dktX1_returns_2 : List UInt8 := dkwX1_returns_2 ++ dktX1_returns_3
def dkwX1_returns_1 : List UInt8 := [182, 0, 77, 43, 180, 0, 39, 182, 0, 77, 164, 0, 23, 42, 180, 0, 39, 42, 180, 0, 39, 182, 0, 77]
abbrev dktX1_returns_1 : List UInt8 := dkwX1_returns_1 ++ dktX1_returns_2
def dkwX1_returns_0 : List UInt8 := [42, 43, 182, 0, 149, 87, 42, 180, 0, 17, 43, 180, 0, 39, 182, 0, 77, 182, 0, 163, 42, 180, 0, 39]
abbrev dktX1_returns_0 : List UInt8 := dkwX1_returns_0 ++ dktX1_returns_1
theorem dksX1_returns_0 : cX1_returns.data.toList.drop 0 = dktX1_returns_0 := by decide +kernel
theorem dksX1_returns_1 : cX1_returns.data.toList.drop 24 = dktX1_returns_1 := dk_seg dksX1_returns_0 24 rfl rfl
theorem dksX1_returns_2 : cX1_returns.data.toList.drop 48 = dktX1_returns_2 := dk_seg dksX1_returns_1 24 rfl rfl
theorem dksX1_returns_3 : cX1_returns.data.toList.drop 71 = dktX1_returns_3 := dk_seg dksX1_returns_2 23 rfl rfl
theorem dksX1_returns_4 : cX1_returns.data.toList.drop 95 = dktX1_returns_4 := dk_seg dksX1_returns_3 24 rfl rfl
theorem dksX1_returns_5 : cX1_returns.data.toList.drop 117 = dktX1_returns_5 := dk_seg dksX1_returns_4 22 rfl rfl
theorem dksX1_returns_6 : cX1_returns.data.toList.drop 141 = dktX1_returns_6 := dk_seg dksX1_returns_5 24 rfl rfl
theorem dX1_returns_0 : decode cX1_returns 0 = .ok (.aload_n 0, 1) := dk_42 (dk_at dksX1_returns_0 0 rfl rfl)
theorem dX1_returns_1 : decode cX1_returns 1 = .ok (.aload_n 1, 1) := dk_43 (dk_at dksX1_returns_0 1 rfl rfl)
theorem dX1_returns_2 : decode cX1_returns 2 = .ok (.invokevirtual 149, 3) := dk_182 0 149 (dk_at dksX1_returns_0 2 rfl rfl)
theorem dX1_returns_5 : decode cX1_returns 5 = .ok (.pop, 1) := dk_87 (dk_at dksX1_returns_0 5 rfl rfl)
theorem dX1_returns_6 : decode cX1_returns 6 = .ok (.aload_n 0, 1) := dk_42 (dk_at dksX1_returns_0 6 rfl rfl)
theorem dX1_returns_7 : decode cX1_returns 7 = .ok (.getfield 17, 3) := dk_180 0 17 (dk_at dksX1_returns_0 7 rfl rfl)
theorem dX1_returns_10 : decode cX1_returns 10 = .ok (.aload_n 1, 1) := dk_43 (dk_at dksX1_returns_0 10 rfl rfl)
theorem dX1_returns_11 : decode cX1_returns 11 = .ok (.getfield 39, 3) := dk_180 0 39 (dk_at dksX1_returns_0 11 rfl rfl)
theorem dX1_returns_14 : decode cX1_returns 14 = .ok (.invokevirtual 77, 3) := dk_182 0 77 (dk_at dksX1_returns_0 14 rfl rfl)
theorem dX1_returns_17 : decode cX1_returns 17 = .ok (.invokevirtual 163, 3) := dk_182 0 163 (dk_at dksX1_returns_0 17 rfl rfl)
theorem dX1_returns_20 : decode cX1_returns 20 = .ok (.aload_n 0, 1) := dk_42 (dk_at dksX1_returns_0 20 rfl rfl)
theorem dX1_returns_21 : decode cX1_returns 21 = .ok (.getfield 39, 3) := dk_180 0 39 (dk_at dksX1_returns_0 21 rfl rfl)
theorem dX1_returns_24 : decode cX1_returns 24 = .ok (.invokevirtual 77, 3) := dk_182 0 77 (dk_at dksX1_returns_1 0 rfl rfl)
theorem dX1_returns_27 : decode cX1_returns 27 = .ok (.aload_n 1, 1) := dk_43 (dk_at dksX1_returns_1 3 rfl rfl)
theorem dX1_returns_28 : decode cX1_returns 28 = .ok (.getfield 39, 3) := dk_180 0 39 (dk_at dksX1_returns_1 4 rfl rfl)
theorem dX1_returns_31 : decode cX1_returns 31 = .ok (.invokevirtual 77, 3) := dk_182 0 77 (dk_at dksX1_returns_1 7 rfl rfl)
theorem dX1_returns_34 : decode cX1_returns 34 = .ok (.if_icmp .le 23, 3) := dk_164 0 23 (dk_at dksX1_returns_1 10 rfl rfl)
theorem dX1_returns_37 : decode cX1_returns 37 = .ok (.aload_n 0, 1) := dk_42 (dk_at dksX1_returns_1 13 rfl rfl)
theorem dX1_returns_38 : decode cX1_returns 38 = .ok (.getfield 39, 3) := dk_180 0 39 (dk_at dksX1_returns_1 14 rfl rfl)
theorem dX1_returns_41 : decode cX1_returns 41 = .ok (.aload_n 0, 1) := dk_42 (dk_at dksX1_returns_1 17 rfl rfl)
theorem dX1_returns_42 : decode cX1_returns 42 = .ok (.getfield 39, 3) := dk_180 0 39 (dk_at dksX1_returns_1 18 rfl rfl)
theorem dX1_returns_45 : decode cX1_returns 45 = .ok (.invokevirtual 77, 3) := dk_182 0 77 (dk_at dksX1_returns_1 21 rfl rfl)
theorem dX1_returns_48 : decode cX1_returns 48 = .ok (.iconst 1, 1) := dk_4 (dk_at dksX1_returns_2 0 rfl rfl)
theorem dX1_returns_49 : decode cX1_returns 49 = .ok (.isub, 1) := dk_100 (dk_at dksX1_returns_2 1 rfl rfl)
theorem dX1_returns_50 : decode cX1_returns 50 = .ok (.invokevirtual 91, 3) := dk_182 0 91 (dk_at dksX1_returns_2 2 rfl rfl)
theorem dX1_returns_53 : decode cX1_returns 53 = .ok (.pop, 1) := dk_87 (dk_at dksX1_returns_2 5 rfl rfl)
theorem dX1_returns_54 : decode cX1_returns 54 = .ok (.goto (-34), 3) := dk_167 255 222 (dk_at dksX1_returns_2 6 rfl rfl)
theorem dX1_returns_57 : decode cX1_returns 57 = .ok (.iconst 0, 1) := dk_3 (dk_at dksX1_returns_2 9 rfl rfl)
theorem dX1_returns_58 : decode cX1_returns 58 = .ok (.istore_n 2, 1) := dk_61 (dk_at dksX1_returns_2 10 rfl rfl)
theorem dX1_returns_59 : decode cX1_returns 59 = .ok (.iload_n 2, 1) := dk_28 (dk_at dksX1_returns_2 11 rfl rfl)
theorem dX1_returns_60 : decode cX1_returns 60 = .ok (.aload_n 0, 1) := dk_42 (dk_at dksX1_returns_2 12 rfl rfl)
theorem dX1_returns_61 : decode cX1_returns 61 = .ok (.getfield 39, 3) := dk_180 0 39 (dk_at dksX1_returns_2 13 rfl rfl)
theorem dX1_returns_64 : decode cX1_returns 64 = .ok (.invokevirtual 77, 3) := dk_182 0 77 (dk_at dksX1_returns_2 16 rfl rfl)
theorem dX1_returns_67 : decode cX1_returns 67 = .ok (.if_icmp .ge 49, 3) := dk_162 0 49 (dk_at dksX1_returns_2 19 rfl rfl)
theorem dX1_returns_70 : decode cX1_returns 70 = .ok (.aload_n 0, 1) := dk_42 (dk_at dksX1_returns_2 22 rfl rfl)
theorem dX1_returns_71 : decode cX1_returns 71 = .ok (.getfield 39, 3) := dk_180 0 39 (dk_at dksX1_returns_3 0 rfl rfl)
theorem dX1_returns_74 : decode cX1_returns 74 = .ok (.iload_n 2, 1) := dk_28 (dk_at dksX1_returns_3 3 rfl rfl)
theorem dX1_returns_75 : decode cX1_returns 75 = .ok (.invokevirtual 81, 3) := dk_182 0 81 (dk_at dksX1_returns_3 4 rfl rfl)
theorem dX1_returns_78 : decode cX1_returns 78 = .ok (.checkcast 153, 3) := dk_192 0 153 (dk_at dksX1_returns_3 7 rfl rfl)
theorem dX1_returns_81 : decode cX1_returns 81 = .ok (.aload_n 1, 1) := dk_43 (dk_at dksX1_returns_3 10 rfl rfl)
theorem dX1_returns_82 : decode cX1_returns 82 = .ok (.getfield 67, 3) := dk_180 0 67 (dk_at dksX1_returns_3 11 rfl rfl)
theorem dX1_returns_85 : decode cX1_returns 85 = .ok (.iload_n 2, 1) := dk_28 (dk_at dksX1_returns_3 14 rfl rfl)
theorem dX1_returns_86 : decode cX1_returns 86 = .ok (.iaload, 1) := dk_46 (dk_at dksX1_returns_3 15 rfl rfl)
theorem dX1_returns_87 : decode cX1_returns 87 = .ok (.putfield 155, 3) := dk_181 0 155 (dk_at dksX1_returns_3 16 rfl rfl)
theorem dX1_returns_90 : decode cX1_returns 90 = .ok (.aload_n 0, 1) := dk_42 (dk_at dksX1_returns_3 19 rfl rfl)
theorem dX1_returns_91 : decode cX1_returns 91 = .ok (.getfield 39, 3) := dk_180 0 39 (dk_at dksX1_returns_3 20 rfl rfl)
theorem dX1_returns_94 : decode cX1_returns 94 = .ok (.iload_n 2, 1) := dk_28 (dk_at dksX1_returns_3 23 rfl rfl)
theorem dX1_returns_95 : decode cX1_returns 95 = .ok (.invokevirtual 81, 3) := dk_182 0 81 (dk_at dksX1_returns_4 0 rfl rfl)
theorem dX1_returns_98 : decode cX1_returns 98 = .ok (.checkcast 153, 3) := dk_192 0 153 (dk_at dksX1_returns_4 3 rfl rfl)
theorem dX1_returns_101 : decode cX1_returns 101 = .ok (.aload_n 1, 1) := dk_43 (dk_at dksX1_returns_4 6 rfl rfl)
theorem dX1_returns_102 : decode cX1_returns 102 = .ok (.getfield 70, 3) := dk_180 0 70 (dk_at dksX1_returns_4 7 rfl rfl)
theorem dX1_returns_105 : decode cX1_returns 105 = .ok (.iload_n 2, 1) := dk_28 (dk_at dksX1_returns_4 10 rfl rfl)
theorem dX1_returns_106 : decode cX1_returns 106 = .ok (.iaload, 1) := dk_46 (dk_at dksX1_returns_4 11 rfl rfl)
theorem dX1_returns_107 : decode cX1_returns 107 = .ok (.putfield 158, 3) := dk_181 0 158 (dk_at dksX1_returns_4 12 rfl rfl)
theorem dX1_returns_110 : decode cX1_returns 110 = .ok (.iinc 2 1, 3) := dk_132 2 1 (dk_at dksX1_returns_4 15 rfl rfl)
theorem dX1_returns_113 : decode cX1_returns 113 = .ok (.goto (-54), 3) := dk_167 255 202 (dk_at dksX1_returns_4 18 rfl rfl)
theorem dX1_returns_116 : decode cX1_returns 116 = .ok (.aload_n 0, 1) := dk_42 (dk_at dksX1_returns_4 21 rfl rfl)
theorem dX1_returns_117 : decode cX1_returns 117 = .ok (.getfield 42, 3) := dk_180 0 42 (dk_at dksX1_returns_5 0 rfl rfl)
theorem dX1_returns_120 : decode cX1_returns 120 = .ok (.invokevirtual 77, 3) := dk_182 0 77 (dk_at dksX1_returns_5 3 rfl rfl)
theorem dX1_returns_123 : decode cX1_returns 123 = .ok (.aload_n 1, 1) := dk_43 (dk_at dksX1_returns_5 6 rfl rfl)
theorem dX1_returns_124 : decode cX1_returns 124 = .ok (.getfield 42, 3) := dk_180 0 42 (dk_at dksX1_returns_5 7 rfl rfl)
theorem dX1_returns_127 : decode cX1_returns 127 = .ok (.invokevirtual 77, 3) := dk_182 0 77 (dk_at dksX1_returns_5 10 rfl rfl)
theorem dX1_returns_130 : decode cX1_returns 130 = .ok (.if_icmp .le 23, 3) := dk_164 0 23 (dk_at dksX1_returns_5 13 rfl rfl)
theorem dX1_returns_133 : decode cX1_returns 133 = .ok (.aload_n 0, 1) := dk_42 (dk_at dksX1_returns_5 16 rfl rfl)
theorem dX1_returns_134 : decode cX1_returns 134 = .ok (.getfield 42, 3) := dk_180 0 42 (dk_at dksX1_returns_5 17 rfl rfl)
theorem dX1_returns_137 : decode cX1_returns 137 = .ok (.aload_n 0, 1) := dk_42 (dk_at dksX1_returns_5 20 rfl rfl)
theorem dX1_returns_138 : decode cX1_returns 138 = .ok (.getfield 42, 3) := dk_180 0 42 (dk_at dksX1_returns_5 21 rfl rfl)
theorem dX1_returns_141 : decode cX1_returns 141 = .ok (.invokevirtual 77, 3) := dk_182 0 77 (dk_at dksX1_returns_6 0 rfl rfl)
theorem dX1_returns_144 : decode cX1_returns 144 = .ok (.iconst 1, 1) := dk_4 (dk_at dksX1_returns_6 3 rfl rfl)
theorem dX1_returns_145 : decode cX1_returns 145 = .ok (.isub, 1) := dk_100 (dk_at dksX1_returns_6 4 rfl rfl)
theorem dX1_returns_146 : decode cX1_returns 146 = .ok (.invokevirtual 91, 3) := dk_182 0 91 (dk_at dksX1_returns_6 5 rfl rfl)
theorem dX1_returns_149 : decode cX1_returns 149 = .ok (.pop, 1) := dk_87 (dk_at dksX1_returns_6 8 rfl rfl)
theorem dX1_returns_150 : decode cX1_returns 150 = .ok (.goto (-34), 3) := dk_167 255 222 (dk_at dksX1_returns_6 9 rfl rfl)
theorem dX1_returns_153 : decode cX1_returns 153 = .ok (.return_, 1) := dk_177 (dk_at dksX1_returns_6 12 rfl rfl)
theorem q78 : (Jvm.Cond.initialized "KeptLight$World") ∈ lw_all := lw_g (lw_at lw_m1 2 rfl) rfl
theorem q170 : (Jvm.Cond.instantiable "KeptLight$World" (22 : Nat)) ∈ lw_all := lw_g (lw_at lw_m1 94 rfl) rfl
theorem q172 : (Jvm.Cond.instanceMethod ({ cls := "KeptLight$World", name := "<init>", desc := "()V" } : Jvm.MethodName)) ∈ lw_all := lw_g (lw_at lw_m1 96 rfl) rfl
theorem q173 : (Jvm.Cond.code ({ cls := "KeptLight$World", name := "<init>", desc := "()V" } : Jvm.MethodName) prog_32_method_1_code (1 : Nat) (Option.none : Option Jvm.ClassFile.FieldType)) ∈ lw_all := lw_g (lw_at lw_m1 97 rfl) rfl
theorem q174 : (Jvm.Cond.classLink "KeptLight$World" (3 : Nat) "KeptLight$Coming") ∈ lw_all := lw_g (lw_at lw_m1 98 rfl) rfl
theorem q176 : (Jvm.Cond.methodLinkNest "KeptLight$World" (5 : Nat) ({ cls := "KeptLight$Coming", name := "<init>", desc := "()V" } : Jvm.MethodName) "KeptLight") ∈ lw_tbl := lw_at lw_m1 100 rfl
theorem q243 : (Jvm.Cond.classLink "KeptLight$World" (9 : Nat) "KeptLight$Sights") ∈ lw_all := lw_g (lw_at lw_m1 167 rfl) rfl
theorem q245 : (Jvm.Cond.methodLink "KeptLight$World" (11 : Nat) ({ cls := "KeptLight$Sights", name := "<init>", desc := "()V" } : Jvm.MethodName)) ∈ lw_all := lw_g (lw_at lw_m1 169 rfl) rfl
theorem q267 : (Jvm.Cond.fieldLink "KeptLight$World" (263 : Nat) "KeptLight$Sight" "weather" "LKeptLight$Weather;") ∈ lw_all := lw_g (lw_at lw_m1 191 rfl) rfl
theorem q271 : (Jvm.Cond.fieldLink "KeptLight$World" (218 : Nat) "KeptLight$Sight" "isDark" "Z") ∈ lw_all := lw_g (lw_at lw_m1 195 rfl) rfl
theorem q274 : (Jvm.Cond.fieldLink "KeptLight$World" (223 : Nat) "KeptLight$Sight" "isLit" "Z") ∈ lw_all := lw_g (lw_at lw_m1 198 rfl) rfl
theorem q277 : (Jvm.Cond.fieldLink "KeptLight$World" (228 : Nat) "KeptLight$Sight" "isSounding" "Z") ∈ lw_all := lw_g (lw_at lw_m1 201 rfl) rfl
theorem q291 : (Jvm.Cond.methodLink "KeptLight$World" (12 : Nat) ({ cls := "KeptLight$World", name := "<init>", desc := "(ZLKeptLight$Coming;LKeptLight$Sights;)V" } : Jvm.MethodName)) ∈ lw_all := lw_g (lw_at lw_m1 215 rfl) rfl
theorem q292 : (Jvm.Cond.instanceMethod ({ cls := "KeptLight$World", name := "<init>", desc := "(ZLKeptLight$Coming;LKeptLight$Sights;)V" } : Jvm.MethodName)) ∈ lw_all := lw_g (lw_at lw_m1 216 rfl) rfl
theorem q293 : (Jvm.Cond.code ({ cls := "KeptLight$World", name := "<init>", desc := "(ZLKeptLight$Coming;LKeptLight$Sights;)V" } : Jvm.MethodName) prog_32_method_3_code (5 : Nat) (Option.none : Option Jvm.ClassFile.FieldType)) ∈ lw_all := lw_g (lw_at lw_m1 217 rfl) rfl
theorem q294 : (Jvm.Cond.methodLink "KeptLight$World" (25 : Nat) ({ cls := "java/lang/Object", name := "<init>", desc := "()V" } : Jvm.MethodName)) ∈ lw_all := lw_g (lw_at lw_m1 218 rfl) rfl
theorem q295 : (Jvm.Cond.classLink "KeptLight$World" (28 : Nat) "java/util/ArrayList") ∈ lw_all := lw_g (lw_at lw_m1 219 rfl) rfl
theorem q297 : (Jvm.Cond.methodLink "KeptLight$World" (30 : Nat) ({ cls := "java/util/ArrayList", name := "<init>", desc := "()V" } : Jvm.MethodName)) ∈ lw_all := lw_g (lw_at lw_m1 221 rfl) rfl
theorem q328 : (Jvm.Cond.classLink "KeptLight$World" (48 : Nat) "java/util/BitSet") ∈ lw_all := lw_g (lw_at lw_m2 12 rfl) rfl
theorem q330 : (Jvm.Cond.methodLink "KeptLight$World" (50 : Nat) ({ cls := "java/util/BitSet", name := "<init>", desc := "(I)V" } : Jvm.MethodName)) ∈ lw_all := lw_g (lw_at lw_m2 14 rfl) rfl
theorem q690 : (Jvm.Cond.fieldLink "KeptLight$World" (31 : Nat) "KeptLight$World" "keepers" "Ljava/util/ArrayList;") ∈ lw_all := lw_g (lw_at lw_m3 134 rfl) rfl
theorem q692 : (Jvm.Cond.fieldLink "KeptLight$World" (35 : Nat) "KeptLight$World" "plan" "[I") ∈ lw_all := lw_g (lw_at lw_m3 136 rfl) rfl
theorem q694 : (Jvm.Cond.fieldLink "KeptLight$World" (39 : Nat) "KeptLight$World" "ships" "Ljava/util/ArrayList;") ∈ lw_all := lw_g (lw_at lw_m3 138 rfl) rfl
theorem q696 : (Jvm.Cond.fieldLink "KeptLight$World" (17 : Nat) "KeptLight$World" "coming" "LKeptLight$Coming;") ∈ lw_all := lw_g (lw_at lw_m3 140 rfl) rfl
theorem q697 : (Jvm.Cond.fieldLink "KeptLight$World" (21 : Nat) "KeptLight$World" "sights" "LKeptLight$Sights;") ∈ lw_all := lw_g (lw_at lw_m3 141 rfl) rfl
theorem q698 : (Jvm.Cond.fieldLink "KeptLight$World" (42 : Nat) "KeptLight$World" "log" "Ljava/util/ArrayList;") ∈ lw_all := lw_g (lw_at lw_m3 142 rfl) rfl
theorem q700 : (Jvm.Cond.fieldLink "KeptLight$World" (45 : Nat) "KeptLight$World" "sky" "Ljava/util/ArrayList;") ∈ lw_all := lw_g (lw_at lw_m3 144 rfl) rfl
theorem q702 : (Jvm.Cond.fieldLink "KeptLight$World" (120 : Nat) "KeptLight$World" "round" "I") ∈ lw_all := lw_g (lw_at lw_m3 146 rfl) rfl
theorem q703 : (Jvm.Cond.fieldLink "KeptLight$World" (53 : Nat) "KeptLight$World" "unlitHours" "Ljava/util/BitSet;") ∈ lw_all := lw_g (lw_at lw_m3 147 rfl) rfl
theorem q705 : (Jvm.Cond.fieldLink "KeptLight$World" (128 : Nat) "KeptLight$World" "hour" "I") ∈ lw_all := lw_g (lw_at lw_m3 149 rfl) rfl
theorem q707 : (Jvm.Cond.fieldLink "KeptLight$World" (57 : Nat) "KeptLight$World" "told" "[I") ∈ lw_all := lw_g (lw_at lw_m3 151 rfl) rfl
theorem q709 : (Jvm.Cond.fieldLink "KeptLight$World" (60 : Nat) "KeptLight$World" "boat" "[I") ∈ lw_all := lw_g (lw_at lw_m3 153 rfl) rfl
theorem q711 : (Jvm.Cond.fieldLink "KeptLight$World" (131 : Nat) "KeptLight$World" "isLit" "Z") ∈ lw_all := lw_g (lw_at lw_m3 155 rfl) rfl
theorem q713 : (Jvm.Cond.fieldLink "KeptLight$World" (134 : Nat) "KeptLight$World" "untended" "I") ∈ lw_all := lw_g (lw_at lw_m3 157 rfl) rfl
theorem q715 : (Jvm.Cond.fieldLink "KeptLight$World" (137 : Nat) "KeptLight$World" "unlit" "I") ∈ lw_all := lw_g (lw_at lw_m3 159 rfl) rfl
theorem q717 : (Jvm.Cond.fieldLink "KeptLight$World" (140 : Nat) "KeptLight$World" "boats" "I") ∈ lw_all := lw_g (lw_at lw_m3 161 rfl) rfl
theorem q719 : (Jvm.Cond.fieldLink "KeptLight$World" (63 : Nat) "KeptLight$World" "seed" "I") ∈ lw_all := lw_g (lw_at lw_m3 163 rfl) rfl
theorem q721 : (Jvm.Cond.fieldLink "KeptLight$World" (73 : Nat) "KeptLight$World" "isThought" "Z") ∈ lw_all := lw_g (lw_at lw_m3 165 rfl) rfl
theorem q722 : (Jvm.Cond.fieldLink "KeptLight$World" (143 : Nat) "KeptLight$World" "misses" "I") ∈ lw_all := lw_g (lw_at lw_m3 166 rfl) rfl
theorem q724 : (Jvm.Cond.fieldLink "KeptLight$World" (146 : Nat) "KeptLight$World" "wrecks" "I") ∈ lw_all := lw_g (lw_at lw_m3 168 rfl) rfl
theorem q726 : (Jvm.Cond.fieldLink "KeptLight$World" (67 : Nat) "KeptLight$World" "fates" "[I") ∈ lw_all := lw_g (lw_at lw_m3 170 rfl) rfl
theorem q727 : (Jvm.Cond.fieldLink "KeptLight$World" (70 : Nat) "KeptLight$World" "mets" "[I") ∈ lw_all := lw_g (lw_at lw_m3 171 rfl) rfl
theorem q728 : (Jvm.Cond.laysFinal "KeptLight$World" "KeptLight$World" "keepers" "Ljava/util/ArrayList;") ∈ lw_all := lw_g (lw_at lw_m3 172 rfl) rfl
theorem q729 : (Jvm.Cond.soleField "KeptLight$World" "keepers") ∈ lw_all := lw_g (lw_at lw_m3 173 rfl) rfl
theorem q730 : (Jvm.Cond.laysFinal "KeptLight$World" "KeptLight$World" "plan" "[I") ∈ lw_all := lw_g (lw_at lw_m3 174 rfl) rfl
theorem q731 : (Jvm.Cond.soleField "KeptLight$World" "plan") ∈ lw_all := lw_g (lw_at lw_m3 175 rfl) rfl
theorem q732 : (Jvm.Cond.laysFinal "KeptLight$World" "KeptLight$World" "ships" "Ljava/util/ArrayList;") ∈ lw_all := lw_g (lw_at lw_m3 176 rfl) rfl
theorem q733 : (Jvm.Cond.soleField "KeptLight$World" "ships") ∈ lw_all := lw_g (lw_at lw_m3 177 rfl) rfl
theorem q734 : (Jvm.Cond.laysFinal "KeptLight$World" "KeptLight$World" "coming" "LKeptLight$Coming;") ∈ lw_all := lw_g (lw_at lw_m3 178 rfl) rfl
theorem q735 : (Jvm.Cond.soleField "KeptLight$World" "coming") ∈ lw_all := lw_g (lw_at lw_m3 179 rfl) rfl
theorem q736 : (Jvm.Cond.laysFinal "KeptLight$World" "KeptLight$World" "sights" "LKeptLight$Sights;") ∈ lw_all := lw_g (lw_at lw_m3 180 rfl) rfl
theorem q737 : (Jvm.Cond.soleField "KeptLight$World" "sights") ∈ lw_all := lw_g (lw_at lw_m3 181 rfl) rfl
theorem q738 : (Jvm.Cond.laysFinal "KeptLight$World" "KeptLight$World" "log" "Ljava/util/ArrayList;") ∈ lw_all := lw_g (lw_at lw_m3 182 rfl) rfl
theorem q739 : (Jvm.Cond.soleField "KeptLight$World" "log") ∈ lw_all := lw_g (lw_at lw_m3 183 rfl) rfl
theorem q740 : (Jvm.Cond.laysFinal "KeptLight$World" "KeptLight$World" "sky" "Ljava/util/ArrayList;") ∈ lw_all := lw_g (lw_at lw_m3 184 rfl) rfl
theorem q741 : (Jvm.Cond.soleField "KeptLight$World" "sky") ∈ lw_all := lw_g (lw_at lw_m3 185 rfl) rfl
theorem q742 : (Jvm.Cond.lays "KeptLight$World" "KeptLight$World" "round" "I") ∈ lw_all := lw_g (lw_at lw_m3 186 rfl) rfl
theorem q743 : (Jvm.Cond.soleField "KeptLight$World" "round") ∈ lw_all := lw_g (lw_at lw_m3 187 rfl) rfl
theorem q744 : (Jvm.Cond.laysFinal "KeptLight$World" "KeptLight$World" "unlitHours" "Ljava/util/BitSet;") ∈ lw_all := lw_g (lw_at lw_m3 188 rfl) rfl
theorem q745 : (Jvm.Cond.soleField "KeptLight$World" "unlitHours") ∈ lw_all := lw_g (lw_at lw_m3 189 rfl) rfl
theorem q746 : (Jvm.Cond.lays "KeptLight$World" "KeptLight$World" "hour" "I") ∈ lw_all := lw_g (lw_at lw_m3 190 rfl) rfl
theorem q747 : (Jvm.Cond.soleField "KeptLight$World" "hour") ∈ lw_all := lw_g (lw_at lw_m3 191 rfl) rfl
theorem q748 : (Jvm.Cond.laysFinal "KeptLight$World" "KeptLight$World" "told" "[I") ∈ lw_all := lw_g (lw_at lw_m3 192 rfl) rfl
theorem q749 : (Jvm.Cond.soleField "KeptLight$World" "told") ∈ lw_all := lw_g (lw_at lw_m3 193 rfl) rfl
theorem q750 : (Jvm.Cond.laysFinal "KeptLight$World" "KeptLight$World" "boat" "[I") ∈ lw_all := lw_g (lw_at lw_m3 194 rfl) rfl
theorem q751 : (Jvm.Cond.soleField "KeptLight$World" "boat") ∈ lw_all := lw_g (lw_at lw_m3 195 rfl) rfl
theorem q752 : (Jvm.Cond.lays "KeptLight$World" "KeptLight$World" "isLit" "Z") ∈ lw_all := lw_g (lw_at lw_m3 196 rfl) rfl
theorem q753 : (Jvm.Cond.soleField "KeptLight$World" "isLit") ∈ lw_all := lw_g (lw_at lw_m3 197 rfl) rfl
theorem q754 : (Jvm.Cond.lays "KeptLight$World" "KeptLight$World" "untended" "I") ∈ lw_all := lw_g (lw_at lw_m3 198 rfl) rfl
theorem q755 : (Jvm.Cond.soleField "KeptLight$World" "untended") ∈ lw_all := lw_g (lw_at lw_m3 199 rfl) rfl
theorem q756 : (Jvm.Cond.lays "KeptLight$World" "KeptLight$World" "unlit" "I") ∈ lw_all := lw_g (lw_at lw_m3 200 rfl) rfl
theorem q757 : (Jvm.Cond.soleField "KeptLight$World" "unlit") ∈ lw_all := lw_g (lw_at lw_m3 201 rfl) rfl
theorem q758 : (Jvm.Cond.lays "KeptLight$World" "KeptLight$World" "boats" "I") ∈ lw_all := lw_g (lw_at lw_m3 202 rfl) rfl
theorem q759 : (Jvm.Cond.soleField "KeptLight$World" "boats") ∈ lw_all := lw_g (lw_at lw_m3 203 rfl) rfl
theorem q760 : (Jvm.Cond.lays "KeptLight$World" "KeptLight$World" "seed" "I") ∈ lw_all := lw_g (lw_at lw_m3 204 rfl) rfl
theorem q761 : (Jvm.Cond.soleField "KeptLight$World" "seed") ∈ lw_all := lw_g (lw_at lw_m3 205 rfl) rfl
theorem q762 : (Jvm.Cond.laysFinal "KeptLight$World" "KeptLight$World" "isThought" "Z") ∈ lw_all := lw_g (lw_at lw_m3 206 rfl) rfl
theorem q763 : (Jvm.Cond.soleField "KeptLight$World" "isThought") ∈ lw_all := lw_g (lw_at lw_m3 207 rfl) rfl
theorem q764 : (Jvm.Cond.lays "KeptLight$World" "KeptLight$World" "misses" "I") ∈ lw_all := lw_g (lw_at lw_m3 208 rfl) rfl
theorem q765 : (Jvm.Cond.soleField "KeptLight$World" "misses") ∈ lw_all := lw_g (lw_at lw_m3 209 rfl) rfl
theorem q766 : (Jvm.Cond.lays "KeptLight$World" "KeptLight$World" "wrecks" "I") ∈ lw_all := lw_g (lw_at lw_m3 210 rfl) rfl
theorem q767 : (Jvm.Cond.soleField "KeptLight$World" "wrecks") ∈ lw_all := lw_g (lw_at lw_m3 211 rfl) rfl
theorem q768 : (Jvm.Cond.laysFinal "KeptLight$World" "KeptLight$World" "fates" "[I") ∈ lw_all := lw_g (lw_at lw_m3 212 rfl) rfl
theorem q769 : (Jvm.Cond.soleField "KeptLight$World" "fates") ∈ lw_all := lw_g (lw_at lw_m3 213 rfl) rfl
theorem q770 : (Jvm.Cond.laysFinal "KeptLight$World" "KeptLight$World" "mets" "[I") ∈ lw_all := lw_g (lw_at lw_m3 214 rfl) rfl
theorem q771 : (Jvm.Cond.soleField "KeptLight$World" "mets") ∈ lw_all := lw_g (lw_at lw_m3 215 rfl) rfl
theorem q772 : (Jvm.Cond.superclass "KeptLight$World" "java/lang/Object") ∈ lw_all := lw_g (lw_at lw_m3 216 rfl) rfl
theorem q774 : (Jvm.Cond.instanceMethod ({ cls := "KeptLight$World", name := "<init>", desc := "(LKeptLight$World;)V" } : Jvm.MethodName)) ∈ lw_all := lw_g (lw_at lw_m3 218 rfl) rfl
theorem q775 : (Jvm.Cond.code ({ cls := "KeptLight$World", name := "<init>", desc := "(LKeptLight$World;)V" } : Jvm.MethodName) prog_32_method_2_code (2 : Nat) (Option.none : Option Jvm.ClassFile.FieldType)) ∈ lw_all := lw_g (lw_at lw_m3 219 rfl) rfl
theorem q1270 : (Jvm.Cond.selects "KeptLight$World" ({ cls := "java/lang/Object", name := "getClass", desc := "()Ljava/lang/Class;" } : Jvm.MethodName) ({ cls := "java/lang/Object", name := "getClass", desc := "()Ljava/lang/Class;" } : Jvm.MethodName)) ∈ lw_all := lw_g (lw_at lw_m5 234 rfl) rfl
theorem q1467 : (Jvm.Cond.fieldLink "KeptLight$World" (198 : Nat) "KeptLight$Spell" "weather" "LKeptLight$Weather;") ∈ lw_all := lw_g (lw_at lw_m6 191 rfl) rfl
theorem q1469 : (Jvm.Cond.fieldLink "KeptLight$World" (186 : Nat) "KeptLight$Spell" "hours" "I") ∈ lw_all := lw_g (lw_at lw_m6 193 rfl) rfl
theorem q1505 : (Jvm.Cond.instanceMethod ({ cls := "KeptLight$World", name := "tells", desc := "(Ljava/util/LinkedList;)V" } : Jvm.MethodName)) ∈ lw_all := lw_g (lw_at lw_m6 229 rfl) rfl
theorem q1506 : (Jvm.Cond.selects "KeptLight$World" ({ cls := "KeptLight$World", name := "tells", desc := "(Ljava/util/LinkedList;)V" } : Jvm.MethodName) ({ cls := "KeptLight$World", name := "tells", desc := "(Ljava/util/LinkedList;)V" } : Jvm.MethodName)) ∈ lw_all := lw_g (lw_at lw_m6 230 rfl) rfl
theorem q1507 : (Jvm.Cond.code ({ cls := "KeptLight$World", name := "tells", desc := "(Ljava/util/LinkedList;)V" } : Jvm.MethodName) prog_32_method_8_code (4 : Nat) (Option.none : Option Jvm.ClassFile.FieldType)) ∈ lw_all := lw_g (lw_at lw_m6 231 rfl) rfl
theorem q1508 : (Jvm.Cond.methodLink "KeptLight$World" (115 : Nat) ({ cls := "java/util/ArrayList", name := "clear", desc := "()V" } : Jvm.MethodName)) ∈ lw_all := lw_g (lw_at lw_m6 232 rfl) rfl
theorem q1512 : (Jvm.Cond.methodLink "KeptLight$World" (166 : Nat) ({ cls := "java/util/ArrayList", name := "addAll", desc := "(Ljava/util/Collection;)Z" } : Jvm.MethodName)) ∈ lw_all := lw_g (lw_at lw_m6 236 rfl) rfl
theorem q1934 : (Jvm.Cond.methodLink "KeptLight$World" (170 : Nat) ({ cls := "java/util/LinkedList", name := "iterator", desc := "()Ljava/util/Iterator;" } : Jvm.MethodName)) ∈ lw_all := lw_g (lw_at lw_m8 178 rfl) rfl
theorem q1938 : (Jvm.Cond.interfaceEntry "KeptLight$World" (176 : Nat)) ∈ lw_tbl := lw_at lw_m8 182 rfl
theorem q1939 : (Jvm.Cond.methodLink "KeptLight$World" (176 : Nat) ({ cls := "java/util/Iterator", name := "hasNext", desc := "()Z" } : Jvm.MethodName)) ∈ lw_all := lw_g (lw_at lw_m8 183 rfl) rfl
theorem q1940 : (Jvm.Cond.interfaceEntry "KeptLight$World" (182 : Nat)) ∈ lw_tbl := lw_at lw_m8 184 rfl
theorem q1941 : (Jvm.Cond.methodLink "KeptLight$World" (182 : Nat) ({ cls := "java/util/Iterator", name := "next", desc := "()Ljava/lang/Object;" } : Jvm.MethodName)) ∈ lw_all := lw_g (lw_at lw_m8 185 rfl) rfl
theorem q1942 : (Jvm.Cond.classLink "KeptLight$World" (118 : Nat) "KeptLight$Spell") ∈ lw_all := lw_g (lw_at lw_m8 186 rfl) rfl
theorem q1967 : (Jvm.Cond.fieldLink "KeptLight$World" (209 : Nat) "KeptLight$Keeper" "number" "I") ∈ lw_all := lw_g (lw_at lw_m8 211 rfl) rfl
theorem q1970 : (Jvm.Cond.fieldLink "KeptLight$World" (87 : Nat) "KeptLight$Keeper" "rank" "LKeptLight$Rank;") ∈ lw_all := lw_g (lw_at lw_m8 214 rfl) rfl
theorem q1973 : (Jvm.Cond.fieldLink "KeptLight$World" (251 : Nat) "KeptLight$Keeper" "tired" "I") ∈ lw_all := lw_g (lw_at lw_m8 217 rfl) rfl
theorem q1976 : (Jvm.Cond.fieldLink "KeptLight$World" (290 : Nat) "KeptLight$Keeper" "tended" "I") ∈ lw_all := lw_g (lw_at lw_m8 220 rfl) rfl
theorem q1979 : (Jvm.Cond.fieldLink "KeptLight$World" (293 : Nat) "KeptLight$Keeper" "slept" "I") ∈ lw_all := lw_g (lw_at lw_m8 223 rfl) rfl
theorem q2071 : (Jvm.Cond.fieldLink "KeptLight$World" (243 : Nat) "KeptLight$Ship" "number" "I") ∈ lw_all := lw_g (lw_at lw_m9 75 rfl) rfl
theorem q2079 : (Jvm.Cond.fieldLink "KeptLight$World" (155 : Nat) "KeptLight$Ship" "fate" "I") ∈ lw_all := lw_g (lw_at lw_m9 83 rfl) rfl
theorem q2088 : (Jvm.Cond.fieldLink "KeptLight$World" (158 : Nat) "KeptLight$Ship" "met" "I") ∈ lw_all := lw_g (lw_at lw_m9 92 rfl) rfl
theorem q2143 : (Jvm.Cond.instanceMethod ({ cls := "KeptLight$World", name := "comes", desc := "(LKeptLight$Ship;)V" } : Jvm.MethodName)) ∈ lw_all := lw_g (lw_at lw_m9 147 rfl) rfl
theorem q2144 : (Jvm.Cond.selects "KeptLight$World" ({ cls := "KeptLight$World", name := "comes", desc := "(LKeptLight$Ship;)V" } : Jvm.MethodName) ({ cls := "KeptLight$World", name := "comes", desc := "(LKeptLight$Ship;)V" } : Jvm.MethodName)) ∈ lw_all := lw_g (lw_at lw_m9 148 rfl) rfl
theorem q2145 : (Jvm.Cond.code ({ cls := "KeptLight$World", name := "comes", desc := "(LKeptLight$Ship;)V" } : Jvm.MethodName) prog_32_method_11_code (2 : Nat) (Option.none : Option Jvm.ClassFile.FieldType)) ∈ lw_all := lw_g (lw_at lw_m9 149 rfl) rfl
theorem q2146 : (Jvm.Cond.methodLink "KeptLight$World" (97 : Nat) ({ cls := "java/util/ArrayList", name := "add", desc := "(Ljava/lang/Object;)Z" } : Jvm.MethodName)) ∈ lw_all := lw_g (lw_at lw_m9 150 rfl) rfl
theorem q2147 : (Jvm.Cond.methodLink "KeptLight$World" (201 : Nat) ({ cls := "KeptLight$Coming", name := "adds", desc := "(LKeptLight$Ship;)V" } : Jvm.MethodName)) ∈ lw_all := lw_g (lw_at lw_m9 151 rfl) rfl
theorem q2563 : (Jvm.Cond.instanceMethod ({ cls := "KeptLight$World", name := "hours", desc := "(I)I" } : Jvm.MethodName)) ∈ lw_all := lw_g (lw_at lw_m11 87 rfl) rfl
theorem q2564 : (Jvm.Cond.selects "KeptLight$World" ({ cls := "KeptLight$World", name := "hours", desc := "(I)I" } : Jvm.MethodName) ({ cls := "KeptLight$World", name := "hours", desc := "(I)I" } : Jvm.MethodName)) ∈ lw_all := lw_g (lw_at lw_m11 88 rfl) rfl
theorem q2565 : (Jvm.Cond.code ({ cls := "KeptLight$World", name := "hours", desc := "(I)I" } : Jvm.MethodName) prog_32_method_21_code (4 : Nat) (Option.some Jvm.ClassFile.FieldType.int)) ∈ lw_all := lw_g (lw_at lw_m11 89 rfl) rfl
theorem q2566 : (Jvm.Cond.methodLink "KeptLight$World" (314 : Nat) ({ cls := "KeptLight$World", name := "hours", desc := "()V" } : Jvm.MethodName)) ∈ lw_all := lw_g (lw_at lw_m11 90 rfl) rfl
theorem q2567 : (Jvm.Cond.instanceMethod ({ cls := "KeptLight$World", name := "hours", desc := "()V" } : Jvm.MethodName)) ∈ lw_all := lw_g (lw_at lw_m11 91 rfl) rfl
theorem q2568 : (Jvm.Cond.selects "KeptLight$World" ({ cls := "KeptLight$World", name := "hours", desc := "()V" } : Jvm.MethodName) ({ cls := "KeptLight$World", name := "hours", desc := "()V" } : Jvm.MethodName)) ∈ lw_all := lw_g (lw_at lw_m11 92 rfl) rfl
theorem q2569 : (Jvm.Cond.code ({ cls := "KeptLight$World", name := "hours", desc := "()V" } : Jvm.MethodName) prog_32_method_20_code (8 : Nat) (Option.none : Option Jvm.ClassFile.FieldType)) ∈ lw_all := lw_g (lw_at lw_m11 93 rfl) rfl
theorem q2570 : (Jvm.Cond.methodLink "KeptLight$World" (270 : Nat) ({ cls := "KeptLight$World", name := "weather", desc := "(I)LKeptLight$Weather;" } : Jvm.MethodName)) ∈ lw_all := lw_g (lw_at lw_m11 94 rfl) rfl
theorem q2571 : (Jvm.Cond.instanceMethod ({ cls := "KeptLight$World", name := "weather", desc := "(I)LKeptLight$Weather;" } : Jvm.MethodName)) ∈ lw_all := lw_g (lw_at lw_m11 95 rfl) rfl
theorem q2572 : (Jvm.Cond.selects "KeptLight$World" ({ cls := "KeptLight$World", name := "weather", desc := "(I)LKeptLight$Weather;" } : Jvm.MethodName) ({ cls := "KeptLight$World", name := "weather", desc := "(I)LKeptLight$Weather;" } : Jvm.MethodName)) ∈ lw_all := lw_g (lw_at lw_m11 96 rfl) rfl
theorem q2573 : (Jvm.Cond.code ({ cls := "KeptLight$World", name := "weather", desc := "(I)LKeptLight$Weather;" } : Jvm.MethodName) prog_32_method_9_code (4 : Nat) (Option.some (Jvm.ClassFile.FieldType.object "KeptLight$Weather"))) ∈ lw_all := lw_g (lw_at lw_m11 97 rfl) rfl
theorem q2574 : (Jvm.Cond.methodLink "KeptLight$World" (189 : Nat) ({ cls := "java/util/ArrayList", name := "isEmpty", desc := "()Z" } : Jvm.MethodName)) ∈ lw_all := lw_g (lw_at lw_m11 98 rfl) rfl
theorem q2578 : (Jvm.Cond.fieldLink "KeptLight$World" (192 : Nat) "KeptLight$Weather" "CLEAR" "LKeptLight$Weather;") ∈ lw_all := lw_g (lw_at lw_m11 102 rfl) rfl
theorem q2579 : (Jvm.Cond.methodLink "KeptLight$World" (81 : Nat) ({ cls := "java/util/ArrayList", name := "get", desc := "(I)Ljava/lang/Object;" } : Jvm.MethodName)) ∈ lw_all := lw_g (lw_at lw_m11 103 rfl) rfl
theorem q2580 : (Jvm.Cond.methodLink "KeptLight$World" (273 : Nat) ({ cls := "KeptLight$World", name := "isDark", desc := "(I)Z" } : Jvm.MethodName)) ∈ lw_all := lw_g (lw_at lw_m11 104 rfl) rfl
theorem q2581 : (Jvm.Cond.instanceMethod ({ cls := "KeptLight$World", name := "isDark", desc := "(I)Z" } : Jvm.MethodName)) ∈ lw_all := lw_g (lw_at lw_m11 105 rfl) rfl
theorem q2582 : (Jvm.Cond.selects "KeptLight$World" ({ cls := "KeptLight$World", name := "isDark", desc := "(I)Z" } : Jvm.MethodName) ({ cls := "KeptLight$World", name := "isDark", desc := "(I)Z" } : Jvm.MethodName)) ∈ lw_all := lw_g (lw_at lw_m11 106 rfl) rfl
theorem q2583 : (Jvm.Cond.code ({ cls := "KeptLight$World", name := "isDark", desc := "(I)Z" } : Jvm.MethodName) prog_32_method_10_code (2 : Nat) (Option.some Jvm.ClassFile.FieldType.boolean)) ∈ lw_all := lw_g (lw_at lw_m11 107 rfl) rfl
theorem q2584 : (Jvm.Cond.classLink "KeptLight$World" (85 : Nat) "KeptLight$Keeper") ∈ lw_all := lw_g (lw_at lw_m11 108 rfl) rfl
theorem q2585 : (Jvm.Cond.methodLink "KeptLight$World" (276 : Nat) ({ cls := "KeptLight$Keeper", name := "isAsleep", desc := "()Z" } : Jvm.MethodName)) ∈ lw_all := lw_g (lw_at lw_m11 109 rfl) rfl
theorem q2601 : (Jvm.Cond.methodLink "KeptLight$World" (279 : Nat) ({ cls := "KeptLight$World", name := "burns", desc := "(ZZ)V" } : Jvm.MethodName)) ∈ lw_all := lw_g (lw_at lw_m11 125 rfl) rfl
theorem q2602 : (Jvm.Cond.privateMethod ({ cls := "KeptLight$World", name := "burns", desc := "(ZZ)V" } : Jvm.MethodName)) ∈ lw_tbl := lw_at lw_m11 126 rfl
theorem q2603 : (Jvm.Cond.instanceMethod ({ cls := "KeptLight$World", name := "burns", desc := "(ZZ)V" } : Jvm.MethodName)) ∈ lw_all := lw_g (lw_at lw_m11 127 rfl) rfl
theorem q2604 : (Jvm.Cond.code ({ cls := "KeptLight$World", name := "burns", desc := "(ZZ)V" } : Jvm.MethodName) prog_32_method_15_code (4 : Nat) (Option.none : Option Jvm.ClassFile.FieldType)) ∈ lw_all := lw_g (lw_at lw_m11 128 rfl) rfl
theorem q2605 : (Jvm.Cond.methodLink "KeptLight$World" (215 : Nat) ({ cls := "java/util/BitSet", name := "set", desc := "(I)V" } : Jvm.MethodName)) ∈ lw_all := lw_g (lw_at lw_m11 129 rfl) rfl
theorem q2635 : (Jvm.Cond.methodLink "KeptLight$World" (283 : Nat) ({ cls := "KeptLight$Weather", name := "wantsSound", desc := "()Z" } : Jvm.MethodName)) ∈ lw_all := lw_g (lw_at lw_m11 159 rfl) rfl
theorem q2636 : (Jvm.Cond.methodLink "KeptLight$World" (286 : Nat) ({ cls := "KeptLight$Sights", name := "of", desc := "(LKeptLight$Weather;ZZZ)LKeptLight$Sight;" } : Jvm.MethodName)) ∈ lw_all := lw_g (lw_at lw_m11 160 rfl) rfl
theorem q2643 : (Jvm.Cond.methodLinkNest "KeptLight$World" (247 : Nat) ({ cls := "KeptLight", name := "one", desc := "(Z)I" } : Jvm.MethodName) "KeptLight") ∈ lw_tbl := lw_at lw_m11 167 rfl
theorem q2644 : (Jvm.Cond.methodLink "KeptLight$World" (296 : Nat) ({ cls := "KeptLight$World", name := "wouldPass", desc := "(LKeptLight$Sight;)V" } : Jvm.MethodName)) ∈ lw_all := lw_g (lw_at lw_m11 168 rfl) rfl
theorem q2645 : (Jvm.Cond.privateMethod ({ cls := "KeptLight$World", name := "wouldPass", desc := "(LKeptLight$Sight;)V" } : Jvm.MethodName)) ∈ lw_tbl := lw_at lw_m11 169 rfl
theorem q2646 : (Jvm.Cond.instanceMethod ({ cls := "KeptLight$World", name := "wouldPass", desc := "(LKeptLight$Sight;)V" } : Jvm.MethodName)) ∈ lw_all := lw_g (lw_at lw_m11 170 rfl) rfl
theorem q2647 : (Jvm.Cond.code ({ cls := "KeptLight$World", name := "wouldPass", desc := "(LKeptLight$Sight;)V" } : Jvm.MethodName) prog_32_method_17_code (4 : Nat) (Option.none : Option Jvm.ClassFile.FieldType)) ∈ lw_all := lw_g (lw_at lw_m11 171 rfl) rfl
theorem q2648 : (Jvm.Cond.methodLink "KeptLight$World" (231 : Nat) ({ cls := "KeptLight$World", name := "manyAt", desc := "(I)I" } : Jvm.MethodName)) ∈ lw_all := lw_g (lw_at lw_m11 172 rfl) rfl
theorem q2649 : (Jvm.Cond.instanceMethod ({ cls := "KeptLight$World", name := "manyAt", desc := "(I)I" } : Jvm.MethodName)) ∈ lw_all := lw_g (lw_at lw_m11 173 rfl) rfl
theorem q2650 : (Jvm.Cond.selects "KeptLight$World" ({ cls := "KeptLight$World", name := "manyAt", desc := "(I)I" } : Jvm.MethodName) ({ cls := "KeptLight$World", name := "manyAt", desc := "(I)I" } : Jvm.MethodName)) ∈ lw_all := lw_g (lw_at lw_m11 174 rfl) rfl
theorem q2651 : (Jvm.Cond.code ({ cls := "KeptLight$World", name := "manyAt", desc := "(I)I" } : Jvm.MethodName) prog_32_method_12_code (3 : Nat) (Option.some Jvm.ClassFile.FieldType.int)) ∈ lw_all := lw_g (lw_at lw_m11 175 rfl) rfl
theorem q2652 : (Jvm.Cond.methodLink "KeptLight$World" (205 : Nat) ({ cls := "KeptLight$Coming", name := "at", desc := "(I)Ljava/util/ArrayList;" } : Jvm.MethodName)) ∈ lw_all := lw_g (lw_at lw_m11 176 rfl) rfl
theorem q2653 : (Jvm.Cond.methodLink "KeptLight$World" (77 : Nat) ({ cls := "java/util/ArrayList", name := "size", desc := "()I" } : Jvm.MethodName)) ∈ lw_all := lw_g (lw_at lw_m11 177 rfl) rfl
theorem q2654 : (Jvm.Cond.methodLink "KeptLight$World" (235 : Nat) ({ cls := "KeptLight$World", name := "shipAt", desc := "(II)LKeptLight$Ship;" } : Jvm.MethodName)) ∈ lw_all := lw_g (lw_at lw_m11 178 rfl) rfl
theorem q2655 : (Jvm.Cond.instanceMethod ({ cls := "KeptLight$World", name := "shipAt", desc := "(II)LKeptLight$Ship;" } : Jvm.MethodName)) ∈ lw_all := lw_g (lw_at lw_m11 179 rfl) rfl
theorem q2656 : (Jvm.Cond.selects "KeptLight$World" ({ cls := "KeptLight$World", name := "shipAt", desc := "(II)LKeptLight$Ship;" } : Jvm.MethodName) ({ cls := "KeptLight$World", name := "shipAt", desc := "(II)LKeptLight$Ship;" } : Jvm.MethodName)) ∈ lw_all := lw_g (lw_at lw_m11 180 rfl) rfl
theorem q2657 : (Jvm.Cond.code ({ cls := "KeptLight$World", name := "shipAt", desc := "(II)LKeptLight$Ship;" } : Jvm.MethodName) prog_32_method_13_code (3 : Nat) (Option.some (Jvm.ClassFile.FieldType.object "KeptLight$Ship"))) ∈ lw_all := lw_g (lw_at lw_m11 181 rfl) rfl
theorem q2658 : (Jvm.Cond.classLink "KeptLight$World" (153 : Nat) "KeptLight$Ship") ∈ lw_all := lw_g (lw_at lw_m11 182 rfl) rfl
theorem q2659 : (Jvm.Cond.methodLink "KeptLight$World" (244 : Nat) ({ cls := "KeptLight$Ship", name := "becomes", desc := "(LKeptLight$Sight;)I" } : Jvm.MethodName)) ∈ lw_all := lw_g (lw_at lw_m11 183 rfl) rfl
theorem q2682 : (Jvm.Cond.methodLink "KeptLight$World" (299 : Nat) ({ cls := "KeptLight$World", name := "passes", desc := "(LKeptLight$Sight;LKeptLight$Keeper;)V" } : Jvm.MethodName)) ∈ lw_all := lw_g (lw_at lw_m11 206 rfl) rfl
theorem q2683 : (Jvm.Cond.privateMethod ({ cls := "KeptLight$World", name := "passes", desc := "(LKeptLight$Sight;LKeptLight$Keeper;)V" } : Jvm.MethodName)) ∈ lw_tbl := lw_at lw_m11 207 rfl
theorem q2684 : (Jvm.Cond.instanceMethod ({ cls := "KeptLight$World", name := "passes", desc := "(LKeptLight$Sight;LKeptLight$Keeper;)V" } : Jvm.MethodName)) ∈ lw_all := lw_g (lw_at lw_m11 208 rfl) rfl
theorem q2685 : (Jvm.Cond.code ({ cls := "KeptLight$World", name := "passes", desc := "(LKeptLight$Sight;LKeptLight$Keeper;)V" } : Jvm.MethodName) prog_32_method_16_code (5 : Nat) (Option.none : Option Jvm.ClassFile.FieldType)) ∈ lw_all := lw_g (lw_at lw_m11 209 rfl) rfl
theorem q2686 : (Jvm.Cond.methodLink "KeptLight$World" (224 : Nat) ({ cls := "KeptLight$World", name := "writes", desc := "(IILKeptLight$Keeper;)V" } : Jvm.MethodName)) ∈ lw_all := lw_g (lw_at lw_m11 210 rfl) rfl
theorem q2687 : (Jvm.Cond.privateMethod ({ cls := "KeptLight$World", name := "writes", desc := "(IILKeptLight$Keeper;)V" } : Jvm.MethodName)) ∈ lw_tbl := lw_at lw_m11 211 rfl
theorem q2688 : (Jvm.Cond.instanceMethod ({ cls := "KeptLight$World", name := "writes", desc := "(IILKeptLight$Keeper;)V" } : Jvm.MethodName)) ∈ lw_all := lw_g (lw_at lw_m11 212 rfl) rfl
theorem q2689 : (Jvm.Cond.code ({ cls := "KeptLight$World", name := "writes", desc := "(IILKeptLight$Keeper;)V" } : Jvm.MethodName) prog_32_method_14_code (4 : Nat) (Option.none : Option Jvm.ClassFile.FieldType)) ∈ lw_all := lw_g (lw_at lw_m11 213 rfl) rfl
theorem q2690 : (Jvm.Cond.classLink "KeptLight$World" (161 : Nat) "KeptLight$Entry") ∈ lw_all := lw_g (lw_at lw_m11 214 rfl) rfl
theorem q2692 : (Jvm.Cond.methodLink "KeptLight$World" (212 : Nat) ({ cls := "KeptLight$Entry", name := "<init>", desc := "(IIII)V" } : Jvm.MethodName)) ∈ lw_all := lw_g (lw_at lw_m11 216 rfl) rfl
theorem q2697 : (Jvm.Cond.fieldLink "KeptLight$World" (330 : Nat) "KeptLight$Entry" "hour" "I") ∈ lw_all := lw_g (lw_at lw_m11 221 rfl) rfl
theorem q2700 : (Jvm.Cond.fieldLink "KeptLight$World" (327 : Nat) "KeptLight$Entry" "sort" "I") ∈ lw_all := lw_g (lw_at lw_m11 224 rfl) rfl
theorem q2705 : (Jvm.Cond.fieldLink "KeptLight$World" (343 : Nat) "KeptLight$Entry" "keeper" "I") ∈ lw_all := lw_g (lw_at lw_m11 229 rfl) rfl
theorem q2716 : (Jvm.Cond.methodLink "KeptLight$World" (239 : Nat) ({ cls := "KeptLight$Ship", name := "passes", desc := "(LKeptLight$Sight;)V" } : Jvm.MethodName)) ∈ lw_all := lw_g (lw_at lw_m12 0 rfl) rfl
theorem q2730 : (Jvm.Cond.methodLink "KeptLight$World" (302 : Nat) ({ cls := "KeptLight$Rank", name := "fillsIn", desc := "()Z" } : Jvm.MethodName)) ∈ lw_all := lw_g (lw_at lw_m12 14 rfl) rfl
theorem q2739 : (Jvm.Cond.methodLink "KeptLight$World" (307 : Nat) ({ cls := "KeptLight$World", name := "rests", desc := "(LKeptLight$Keeper;LKeptLight$Weather;)V" } : Jvm.MethodName)) ∈ lw_all := lw_g (lw_at lw_m12 23 rfl) rfl
theorem q2740 : (Jvm.Cond.privateMethod ({ cls := "KeptLight$World", name := "rests", desc := "(LKeptLight$Keeper;LKeptLight$Weather;)V" } : Jvm.MethodName)) ∈ lw_tbl := lw_at lw_m12 24 rfl
theorem q2741 : (Jvm.Cond.instanceMethod ({ cls := "KeptLight$World", name := "rests", desc := "(LKeptLight$Keeper;LKeptLight$Weather;)V" } : Jvm.MethodName)) ∈ lw_all := lw_g (lw_at lw_m12 25 rfl) rfl
theorem q2742 : (Jvm.Cond.code ({ cls := "KeptLight$World", name := "rests", desc := "(LKeptLight$Keeper;LKeptLight$Weather;)V" } : Jvm.MethodName) prog_32_method_18_code (5 : Nat) (Option.none : Option Jvm.ClassFile.FieldType)) ∈ lw_all := lw_g (lw_at lw_m12 26 rfl) rfl
theorem q2743 : (Jvm.Cond.methodLink "KeptLight$World" (254 : Nat) ({ cls := "KeptLight$Weather", name := "tires", desc := "()I" } : Jvm.MethodName)) ∈ lw_all := lw_g (lw_at lw_m12 27 rfl) rfl
theorem q2755 : (Jvm.Cond.methodLink "KeptLight$World" (257 : Nat) ({ cls := "java/lang/Math", name := "max", desc := "(II)I" } : Jvm.MethodName)) ∈ lw_all := lw_g (lw_at lw_m12 39 rfl) rfl
theorem q2756 : (Jvm.Cond.methodLink "KeptLight$World" (311 : Nat) ({ cls := "KeptLight$World", name := "lands", desc := "(LKeptLight$Sight;)V" } : Jvm.MethodName)) ∈ lw_all := lw_g (lw_at lw_m12 40 rfl) rfl
theorem q2757 : (Jvm.Cond.privateMethod ({ cls := "KeptLight$World", name := "lands", desc := "(LKeptLight$Sight;)V" } : Jvm.MethodName)) ∈ lw_tbl := lw_at lw_m12 41 rfl
theorem q2758 : (Jvm.Cond.instanceMethod ({ cls := "KeptLight$World", name := "lands", desc := "(LKeptLight$Sight;)V" } : Jvm.MethodName)) ∈ lw_all := lw_g (lw_at lw_m12 42 rfl) rfl
theorem q2759 : (Jvm.Cond.code ({ cls := "KeptLight$World", name := "lands", desc := "(LKeptLight$Sight;)V" } : Jvm.MethodName) prog_32_method_19_code (4 : Nat) (Option.none : Option Jvm.ClassFile.FieldType)) ∈ lw_all := lw_g (lw_at lw_m12 43 rfl) rfl
theorem q2760 : (Jvm.Cond.methodLink "KeptLight$World" (264 : Nat) ({ cls := "KeptLight$Weather", name := "isWild", desc := "()Z" } : Jvm.MethodName)) ∈ lw_all := lw_g (lw_at lw_m12 44 rfl) rfl
theorem q2761 : (Jvm.Cond.methodLink "KeptLight$World" (267 : Nat) ({ cls := "java/lang/Math", name := "min", desc := "(II)I" } : Jvm.MethodName)) ∈ lw_all := lw_g (lw_at lw_m12 45 rfl) rfl
theorem q2802 : (Jvm.Cond.instanceMethod ({ cls := "KeptLight$World", name := "fates", desc := "(II)I" } : Jvm.MethodName)) ∈ lw_all := lw_g (lw_at lw_m12 86 rfl) rfl
theorem q2803 : (Jvm.Cond.selects "KeptLight$World" ({ cls := "KeptLight$World", name := "fates", desc := "(II)I" } : Jvm.MethodName) ({ cls := "KeptLight$World", name := "fates", desc := "(II)I" } : Jvm.MethodName)) ∈ lw_all := lw_g (lw_at lw_m12 87 rfl) rfl
theorem q2804 : (Jvm.Cond.code ({ cls := "KeptLight$World", name := "fates", desc := "(II)I" } : Jvm.MethodName) prog_32_method_28_code (5 : Nat) (Option.some Jvm.ClassFile.FieldType.int)) ∈ lw_all := lw_g (lw_at lw_m12 88 rfl) rfl
theorem q2805 : (Jvm.Cond.methodLink "KeptLight$World" (346 : Nat) ({ cls := "KeptLight$Ship", name := "isUnder", desc := "(I)Z" } : Jvm.MethodName)) ∈ lw_all := lw_g (lw_at lw_m12 89 rfl) rfl
theorem q2840 : (Jvm.Cond.instanceMethod ({ cls := "KeptLight$World", name := "difference", desc := "(I)LKeptLight$Difference;" } : Jvm.MethodName)) ∈ lw_all := lw_g (lw_at lw_m12 124 rfl) rfl
theorem q2841 : (Jvm.Cond.selects "KeptLight$World" ({ cls := "KeptLight$World", name := "difference", desc := "(I)LKeptLight$Difference;" } : Jvm.MethodName) ({ cls := "KeptLight$World", name := "difference", desc := "(I)LKeptLight$Difference;" } : Jvm.MethodName)) ∈ lw_all := lw_g (lw_at lw_m12 125 rfl) rfl
theorem q2842 : (Jvm.Cond.code ({ cls := "KeptLight$World", name := "difference", desc := "(I)LKeptLight$Difference;" } : Jvm.MethodName) prog_32_method_25_code (5 : Nat) (Option.some (Jvm.ClassFile.FieldType.object "KeptLight$Difference"))) ∈ lw_all := lw_g (lw_at lw_m12 126 rfl) rfl
theorem q2843 : (Jvm.Cond.methodLink "KeptLight$World" (334 : Nat) ({ cls := "KeptLight$World", name := "against", desc := "(LKeptLight$Entry;)LKeptLight$Ship;" } : Jvm.MethodName)) ∈ lw_all := lw_g (lw_at lw_m12 127 rfl) rfl
theorem q2844 : (Jvm.Cond.instanceMethod ({ cls := "KeptLight$World", name := "against", desc := "(LKeptLight$Entry;)LKeptLight$Ship;" } : Jvm.MethodName)) ∈ lw_all := lw_g (lw_at lw_m12 128 rfl) rfl
theorem q2845 : (Jvm.Cond.selects "KeptLight$World" ({ cls := "KeptLight$World", name := "against", desc := "(LKeptLight$Entry;)LKeptLight$Ship;" } : Jvm.MethodName) ({ cls := "KeptLight$World", name := "against", desc := "(LKeptLight$Entry;)LKeptLight$Ship;" } : Jvm.MethodName)) ∈ lw_all := lw_g (lw_at lw_m12 129 rfl) rfl
theorem q2846 : (Jvm.Cond.code ({ cls := "KeptLight$World", name := "against", desc := "(LKeptLight$Entry;)LKeptLight$Ship;" } : Jvm.MethodName) prog_32_method_24_code (5 : Nat) (Option.some (Jvm.ClassFile.FieldType.object "KeptLight$Ship"))) ∈ lw_all := lw_g (lw_at lw_m12 130 rfl) rfl
theorem q2847 : (Jvm.Cond.methodLink "KeptLight$World" (331 : Nat) ({ cls := "KeptLight$Entry", name := "isOfLamp", desc := "()Z" } : Jvm.MethodName)) ∈ lw_all := lw_g (lw_at lw_m12 131 rfl) rfl
theorem q2851 : (Jvm.Cond.classLink "KeptLight$World" (338 : Nat) "KeptLight$Difference") ∈ lw_all := lw_g (lw_at lw_m12 135 rfl) rfl
theorem q2853 : (Jvm.Cond.methodLink "KeptLight$World" (340 : Nat) ({ cls := "KeptLight$Difference", name := "<init>", desc := "(LKeptLight$Entry;LKeptLight$Ship;)V" } : Jvm.MethodName)) ∈ lw_all := lw_g (lw_at lw_m12 137 rfl) rfl
theorem q2871 : (Jvm.Cond.instanceMethod ({ cls := "KeptLight$World", name := "differences", desc := "(I)I" } : Jvm.MethodName)) ∈ lw_all := lw_g (lw_at lw_m12 155 rfl) rfl
theorem q2872 : (Jvm.Cond.selects "KeptLight$World" ({ cls := "KeptLight$World", name := "differences", desc := "(I)I" } : Jvm.MethodName) ({ cls := "KeptLight$World", name := "differences", desc := "(I)I" } : Jvm.MethodName)) ∈ lw_all := lw_g (lw_at lw_m12 156 rfl) rfl
theorem q2873 : (Jvm.Cond.code ({ cls := "KeptLight$World", name := "differences", desc := "(I)I" } : Jvm.MethodName) prog_32_method_26_code (5 : Nat) (Option.some Jvm.ClassFile.FieldType.int)) ∈ lw_all := lw_g (lw_at lw_m12 157 rfl) rfl
theorem q2890 : (Jvm.Cond.instanceMethod ({ cls := "KeptLight$World", name := "takes", desc := "(LKeptLight$World;)LKeptLight$World;" } : Jvm.MethodName)) ∈ lw_all := lw_g (lw_at lw_m12 174 rfl) rfl
theorem q2891 : (Jvm.Cond.selects "KeptLight$World" ({ cls := "KeptLight$World", name := "takes", desc := "(LKeptLight$World;)LKeptLight$World;" } : Jvm.MethodName) ({ cls := "KeptLight$World", name := "takes", desc := "(LKeptLight$World;)LKeptLight$World;" } : Jvm.MethodName)) ∈ lw_all := lw_g (lw_at lw_m12 175 rfl) rfl
theorem q2892 : (Jvm.Cond.code ({ cls := "KeptLight$World", name := "takes", desc := "(LKeptLight$World;)LKeptLight$World;" } : Jvm.MethodName) prog_32_method_5_code (3 : Nat) (Option.some (Jvm.ClassFile.FieldType.object "KeptLight$World"))) ∈ lw_all := lw_g (lw_at lw_m12 176 rfl) rfl
theorem q2893 : (Jvm.Cond.methodLink "KeptLight$World" (105 : Nat) ({ cls := "KeptLight$World", name := "takesKeepers", desc := "(LKeptLight$World;)V" } : Jvm.MethodName)) ∈ lw_all := lw_g (lw_at lw_m12 177 rfl) rfl
theorem q2894 : (Jvm.Cond.privateMethod ({ cls := "KeptLight$World", name := "takesKeepers", desc := "(LKeptLight$World;)V" } : Jvm.MethodName)) ∈ lw_tbl := lw_at lw_m12 178 rfl
theorem q2895 : (Jvm.Cond.instanceMethod ({ cls := "KeptLight$World", name := "takesKeepers", desc := "(LKeptLight$World;)V" } : Jvm.MethodName)) ∈ lw_all := lw_g (lw_at lw_m12 179 rfl) rfl
theorem q2896 : (Jvm.Cond.code ({ cls := "KeptLight$World", name := "takesKeepers", desc := "(LKeptLight$World;)V" } : Jvm.MethodName) prog_32_method_4_code (4 : Nat) (Option.none : Option Jvm.ClassFile.FieldType)) ∈ lw_all := lw_g (lw_at lw_m12 180 rfl) rfl
theorem q2897 : (Jvm.Cond.methodLink "KeptLight$World" (91 : Nat) ({ cls := "java/util/ArrayList", name := "remove", desc := "(I)Ljava/lang/Object;" } : Jvm.MethodName)) ∈ lw_all := lw_g (lw_at lw_m12 181 rfl) rfl
theorem q2905 : (Jvm.Cond.methodLink "KeptLight$World" (94 : Nat) ({ cls := "KeptLight$Keeper", name := "<init>", desc := "(ILKeptLight$Rank;)V" } : Jvm.MethodName)) ∈ lw_all := lw_g (lw_at lw_m12 189 rfl) rfl
theorem q2906 : (Jvm.Cond.methodLink "KeptLight$World" (101 : Nat) ({ cls := "KeptLight$Keeper", name := "becomes", desc := "(LKeptLight$Keeper;)V" } : Jvm.MethodName)) ∈ lw_all := lw_g (lw_at lw_m12 190 rfl) rfl
theorem q2910 : (Jvm.Cond.methodLink "KeptLight$World" (109 : Nat) ({ cls := "java/lang/System", name := "arraycopy", desc := "(Ljava/lang/Object;ILjava/lang/Object;II)V" } : Jvm.MethodName)) ∈ lw_all := lw_g (lw_at lw_m12 194 rfl) rfl
theorem q2911 : (Jvm.Cond.methodLink "KeptLight$World" (123 : Nat) ({ cls := "java/util/BitSet", name := "clear", desc := "()V" } : Jvm.MethodName)) ∈ lw_all := lw_g (lw_at lw_m12 195 rfl) rfl
theorem q2915 : (Jvm.Cond.methodLink "KeptLight$World" (124 : Nat) ({ cls := "java/util/BitSet", name := "or", desc := "(Ljava/util/BitSet;)V" } : Jvm.MethodName)) ∈ lw_all := lw_g (lw_at lw_m12 199 rfl) rfl
theorem q2922 : (Jvm.Cond.instanceMethod ({ cls := "KeptLight$World", name := "slept", desc := "()I" } : Jvm.MethodName)) ∈ lw_all := lw_g (lw_at lw_m12 206 rfl) rfl
theorem q2923 : (Jvm.Cond.selects "KeptLight$World" ({ cls := "KeptLight$World", name := "slept", desc := "()I" } : Jvm.MethodName) ({ cls := "KeptLight$World", name := "slept", desc := "()I" } : Jvm.MethodName)) ∈ lw_all := lw_g (lw_at lw_m12 207 rfl) rfl
theorem q2924 : (Jvm.Cond.code ({ cls := "KeptLight$World", name := "slept", desc := "()I" } : Jvm.MethodName) prog_32_method_27_code (3 : Nat) (Option.some Jvm.ClassFile.FieldType.int)) ∈ lw_all := lw_g (lw_at lw_m12 208 rfl) rfl
theorem q3050 : (Jvm.Cond.selects "KeptLight$World" ({ cls := "java/lang/Object", name := "equals", desc := "(Ljava/lang/Object;)Z" } : Jvm.MethodName) ({ cls := "java/lang/Object", name := "equals", desc := "(Ljava/lang/Object;)Z" } : Jvm.MethodName)) ∈ lw_all := lw_g (lw_at lw_m13 94 rfl) rfl
theorem q3081 : (Jvm.Cond.instanceMethod ({ cls := "KeptLight$World", name := "without", desc := "(I)LKeptLight$World;" } : Jvm.MethodName)) ∈ lw_all := lw_g (lw_at lw_m13 125 rfl) rfl
theorem q3082 : (Jvm.Cond.selects "KeptLight$World" ({ cls := "KeptLight$World", name := "without", desc := "(I)LKeptLight$World;" } : Jvm.MethodName) ({ cls := "KeptLight$World", name := "without", desc := "(I)LKeptLight$World;" } : Jvm.MethodName)) ∈ lw_all := lw_g (lw_at lw_m13 126 rfl) rfl
theorem q3083 : (Jvm.Cond.code ({ cls := "KeptLight$World", name := "without", desc := "(I)LKeptLight$World;" } : Jvm.MethodName) prog_32_method_29_code (3 : Nat) (Option.some (Jvm.ClassFile.FieldType.object "KeptLight$World"))) ∈ lw_all := lw_g (lw_at lw_m13 127 rfl) rfl
theorem q3093 : (Jvm.Cond.instanceMethod ({ cls := "KeptLight$World", name := "day", desc := "()V" } : Jvm.MethodName)) ∈ lw_all := lw_g (lw_at lw_m13 137 rfl) rfl
theorem q3094 : (Jvm.Cond.selects "KeptLight$World" ({ cls := "KeptLight$World", name := "day", desc := "()V" } : Jvm.MethodName) ({ cls := "KeptLight$World", name := "day", desc := "()V" } : Jvm.MethodName)) ∈ lw_all := lw_g (lw_at lw_m13 138 rfl) rfl
theorem q3095 : (Jvm.Cond.code ({ cls := "KeptLight$World", name := "day", desc := "()V" } : Jvm.MethodName) prog_32_method_23_code (2 : Nat) (Option.none : Option Jvm.ClassFile.FieldType)) ∈ lw_all := lw_g (lw_at lw_m13 139 rfl) rfl
theorem q3096 : (Jvm.Cond.methodLink "KeptLight$World" (317 : Nat) ({ cls := "KeptLight$World", name := "draw", desc := "(I)I" } : Jvm.MethodName)) ∈ lw_all := lw_g (lw_at lw_m13 140 rfl) rfl
theorem q3097 : (Jvm.Cond.instanceMethod ({ cls := "KeptLight$World", name := "draw", desc := "(I)I" } : Jvm.MethodName)) ∈ lw_all := lw_g (lw_at lw_m13 141 rfl) rfl
theorem q3098 : (Jvm.Cond.selects "KeptLight$World" ({ cls := "KeptLight$World", name := "draw", desc := "(I)I" } : Jvm.MethodName) ({ cls := "KeptLight$World", name := "draw", desc := "(I)I" } : Jvm.MethodName)) ∈ lw_all := lw_g (lw_at lw_m13 142 rfl) rfl
theorem q3099 : (Jvm.Cond.code ({ cls := "KeptLight$World", name := "draw", desc := "(I)I" } : Jvm.MethodName) prog_32_method_22_code (2 : Nat) (Option.some Jvm.ClassFile.FieldType.int)) ∈ lw_all := lw_g (lw_at lw_m13 143 rfl) rfl
theorem q3100 : (Jvm.Cond.constant "KeptLight$World" (316 : Nat) (1103515245 : Int32)) ∈ lw_all := lw_g (lw_at lw_m13 144 rfl) rfl
theorem q3101 : (Jvm.Cond.methodLinkNest "KeptLight$World" (320 : Nat) ({ cls := "KeptLight", name := "ship", desc := "(III)LKeptLight$Ship;" } : Jvm.MethodName) "KeptLight") ∈ lw_tbl := lw_at lw_m13 145 rfl
theorem q3102 : (Jvm.Cond.methodLink "KeptLight$World" (324 : Nat) ({ cls := "KeptLight$World", name := "comes", desc := "(LKeptLight$Ship;)V" } : Jvm.MethodName)) ∈ lw_all := lw_g (lw_at lw_m13 146 rfl) rfl
theorem q3112 : (Jvm.Cond.instanceMethod ({ cls := "KeptLight$World", name := "keeps", desc := "(LKeptLight$World;)V" } : Jvm.MethodName)) ∈ lw_all := lw_g (lw_at lw_m13 156 rfl) rfl
theorem q3113 : (Jvm.Cond.selects "KeptLight$World" ({ cls := "KeptLight$World", name := "keeps", desc := "(LKeptLight$World;)V" } : Jvm.MethodName) ({ cls := "KeptLight$World", name := "keeps", desc := "(LKeptLight$World;)V" } : Jvm.MethodName)) ∈ lw_all := lw_g (lw_at lw_m13 157 rfl) rfl
theorem q3114 : (Jvm.Cond.code ({ cls := "KeptLight$World", name := "keeps", desc := "(LKeptLight$World;)V" } : Jvm.MethodName) prog_32_method_6_code (3 : Nat) (Option.none : Option Jvm.ClassFile.FieldType)) ∈ lw_all := lw_g (lw_at lw_m13 158 rfl) rfl
theorem q3115 : (Jvm.Cond.methodLink "KeptLight$World" (149 : Nat) ({ cls := "KeptLight$World", name := "takes", desc := "(LKeptLight$World;)LKeptLight$World;" } : Jvm.MethodName)) ∈ lw_all := lw_g (lw_at lw_m13 159 rfl) rfl
theorem q3121 : (Jvm.Cond.instanceMethod ({ cls := "KeptLight$World", name := "returns", desc := "(LKeptLight$World;)V" } : Jvm.MethodName)) ∈ lw_all := lw_g (lw_at lw_m13 165 rfl) rfl
theorem q3122 : (Jvm.Cond.selects "KeptLight$World" ({ cls := "KeptLight$World", name := "returns", desc := "(LKeptLight$World;)V" } : Jvm.MethodName) ({ cls := "KeptLight$World", name := "returns", desc := "(LKeptLight$World;)V" } : Jvm.MethodName)) ∈ lw_all := lw_g (lw_at lw_m13 166 rfl) rfl
theorem q3123 : (Jvm.Cond.code ({ cls := "KeptLight$World", name := "returns", desc := "(LKeptLight$World;)V" } : Jvm.MethodName) prog_32_method_7_code (3 : Nat) (Option.none : Option Jvm.ClassFile.FieldType)) ∈ lw_all := lw_g (lw_at lw_m13 167 rfl) rfl
theorem q3124 : (Jvm.Cond.methodLink "KeptLight$World" (163 : Nat) ({ cls := "KeptLight$Coming", name := "forgets", desc := "(I)V" } : Jvm.MethodName)) ∈ lw_all := lw_g (lw_at lw_m13 168 rfl) rfl
theorem q3691 : (Jvm.Cond.castable "KeptLight$World" "java/lang/Object") ∈ lw_tbl := lw_at lw_m16 15 rfl
theorem in_X1 : ∀ w ∈ wsX10, w ∈ lw_all := lw_in wsX10 [728, 730, 732, 734, 736, 738, 740, 742, 744, 746, 748, 750, 752, 754, 756, 758, 760, 762, 764, 766, 768, 770] (by decide +kernel) (by decide +kernel)
/-! KeptLight$Coming -/
set_option maxRecDepth 100000
def RX2 : String := "KeptLight$Coming"
def TX2 : u_T := fun k => match k with
  | 0 => ("KeptLight$Coming", "all", "Ljava/util/TreeMap;", true)
  | 1 => ("KeptLight$Coming", "byRank", "LKeptLight$ByRank;", true)
  | _ => ("KeptLight$Coming", "asked", "LKeptLight$Hour;", true)
def tyX2 : Nat → FieldType := fun k => match k with
  | 0 => .object "java/util/TreeMap"
  | 1 => .object "KeptLight$ByRank"
  | _ => .object "KeptLight$Hour"
abbrev wsX20 : List Cond := u_ws RX2 TX2 3
theorem nmX2 : ∀ a, a < 3 → ∀ b, b < 3 → a ≠ b → (TX2 a).2.1 ≠ (TX2 b).2.1 := by decide +kernel
theorem tyX2_ok : ∀ k, k < 3 → parseFieldDescriptor (TX2 k).2.2.1 = some (tyX2 k) := by decide +kernel
abbrev cX2_init : ByteArray := prog_4_method_1_code
def yX2_init : MethodName := ⟨RX2, "<init>", "()V"⟩
def dkwX2_init_1 : List UInt8 := [181, 0, 19, 42, 187, 0, 23, 89, 3, 183, 0, 25, 181, 0, 28, 177]
abbrev dktX2_init_1 : List UInt8 := dkwX2_init_1 ++ []
def dkwX2_init_0 : List UInt8 := [42, 183, 0, 1, 42, 187, 0, 7, 89, 183, 0, 9, 181, 0, 10, 42, 187, 0, 16, 89, 183, 0, 18]
abbrev dktX2_init_0 : List UInt8 := dkwX2_init_0 ++ dktX2_init_1
theorem dksX2_init_0 : cX2_init.data.toList.drop 0 = dktX2_init_0 := by decide +kernel
theorem dksX2_init_1 : cX2_init.data.toList.drop 23 = dktX2_init_1 := dk_seg dksX2_init_0 23 rfl rfl
theorem dX2_init_0 : decode cX2_init 0 = .ok (.aload_n 0, 1) := dk_42 (dk_at dksX2_init_0 0 rfl rfl)
theorem dX2_init_1 : decode cX2_init 1 = .ok (.invokespecial 1, 3) := dk_183 0 1 (dk_at dksX2_init_0 1 rfl rfl)
theorem dX2_init_4 : decode cX2_init 4 = .ok (.aload_n 0, 1) := dk_42 (dk_at dksX2_init_0 4 rfl rfl)
theorem dX2_init_5 : decode cX2_init 5 = .ok (.new 7, 3) := dk_187 0 7 (dk_at dksX2_init_0 5 rfl rfl)
theorem dX2_init_8 : decode cX2_init 8 = .ok (.dup, 1) := dk_89 (dk_at dksX2_init_0 8 rfl rfl)
theorem dX2_init_9 : decode cX2_init 9 = .ok (.invokespecial 9, 3) := dk_183 0 9 (dk_at dksX2_init_0 9 rfl rfl)
theorem dX2_init_12 : decode cX2_init 12 = .ok (.putfield 10, 3) := dk_181 0 10 (dk_at dksX2_init_0 12 rfl rfl)
theorem dX2_init_15 : decode cX2_init 15 = .ok (.aload_n 0, 1) := dk_42 (dk_at dksX2_init_0 15 rfl rfl)
theorem dX2_init_16 : decode cX2_init 16 = .ok (.new 16, 3) := dk_187 0 16 (dk_at dksX2_init_0 16 rfl rfl)
theorem dX2_init_19 : decode cX2_init 19 = .ok (.dup, 1) := dk_89 (dk_at dksX2_init_0 19 rfl rfl)
theorem dX2_init_20 : decode cX2_init 20 = .ok (.invokespecial 18, 3) := dk_183 0 18 (dk_at dksX2_init_0 20 rfl rfl)
theorem dX2_init_23 : decode cX2_init 23 = .ok (.putfield 19, 3) := dk_181 0 19 (dk_at dksX2_init_1 0 rfl rfl)
theorem dX2_init_26 : decode cX2_init 26 = .ok (.aload_n 0, 1) := dk_42 (dk_at dksX2_init_1 3 rfl rfl)
theorem dX2_init_27 : decode cX2_init 27 = .ok (.new 23, 3) := dk_187 0 23 (dk_at dksX2_init_1 4 rfl rfl)
theorem dX2_init_30 : decode cX2_init 30 = .ok (.dup, 1) := dk_89 (dk_at dksX2_init_1 7 rfl rfl)
theorem dX2_init_31 : decode cX2_init 31 = .ok (.iconst 0, 1) := dk_3 (dk_at dksX2_init_1 8 rfl rfl)
theorem dX2_init_32 : decode cX2_init 32 = .ok (.invokespecial 25, 3) := dk_183 0 25 (dk_at dksX2_init_1 9 rfl rfl)
theorem dX2_init_35 : decode cX2_init 35 = .ok (.putfield 28, 3) := dk_181 0 28 (dk_at dksX2_init_1 12 rfl rfl)
theorem dX2_init_38 : decode cX2_init 38 = .ok (.return_, 1) := dk_177 (dk_at dksX2_init_1 15 rfl rfl)
abbrev cX2_adds : ByteArray := prog_4_method_3_code
def yX2_adds : MethodName := ⟨RX2, "adds", "(LKeptLight$Ship;)V"⟩
def dkwX2_adds_3 : List UInt8 := [156, 0, 9, 132, 3, 1, 167, 255, 226, 44, 29, 43, 182, 0, 66, 177]
abbrev dktX2_adds_3 : List UInt8 := dkwX2_adds_3 ++ []
def dkwX2_adds_2 : List UInt8 := [182, 0, 55, 162, 0, 28, 42, 180, 0, 19, 44, 29, 182, 0, 59, 192, 0, 43, 43, 182, 0, 62]
abbrev dktX2_adds_2 : List UInt8 := dkwX2_adds_2 ++ dktX2_adds_3
def dkwX2_adds_1 : List UInt8 := [180, 0, 10, 187, 0, 23, 89, 43, 180, 0, 42, 183, 0, 25, 44, 182, 0, 51, 87, 3, 62, 29, 44]
abbrev dktX2_adds_1 : List UInt8 := dkwX2_adds_1 ++ dktX2_adds_2
def dkwX2_adds_0 : List UInt8 := [42, 43, 180, 0, 42, 182, 0, 47, 77, 44, 199, 0, 31, 187, 0, 40, 89, 183, 0, 50, 77, 42]
abbrev dktX2_adds_0 : List UInt8 := dkwX2_adds_0 ++ dktX2_adds_1
theorem dksX2_adds_0 : cX2_adds.data.toList.drop 0 = dktX2_adds_0 := by decide +kernel
theorem dksX2_adds_1 : cX2_adds.data.toList.drop 22 = dktX2_adds_1 := dk_seg dksX2_adds_0 22 rfl rfl
theorem dksX2_adds_2 : cX2_adds.data.toList.drop 45 = dktX2_adds_2 := dk_seg dksX2_adds_1 23 rfl rfl
theorem dksX2_adds_3 : cX2_adds.data.toList.drop 67 = dktX2_adds_3 := dk_seg dksX2_adds_2 22 rfl rfl
theorem dX2_adds_0 : decode cX2_adds 0 = .ok (.aload_n 0, 1) := dk_42 (dk_at dksX2_adds_0 0 rfl rfl)
theorem dX2_adds_1 : decode cX2_adds 1 = .ok (.aload_n 1, 1) := dk_43 (dk_at dksX2_adds_0 1 rfl rfl)
theorem dX2_adds_2 : decode cX2_adds 2 = .ok (.getfield 42, 3) := dk_180 0 42 (dk_at dksX2_adds_0 2 rfl rfl)
theorem dX2_adds_5 : decode cX2_adds 5 = .ok (.invokevirtual 47, 3) := dk_182 0 47 (dk_at dksX2_adds_0 5 rfl rfl)
theorem dX2_adds_8 : decode cX2_adds 8 = .ok (.astore_n 2, 1) := dk_77 (dk_at dksX2_adds_0 8 rfl rfl)
theorem dX2_adds_9 : decode cX2_adds 9 = .ok (.aload_n 2, 1) := dk_44 (dk_at dksX2_adds_0 9 rfl rfl)
theorem dX2_adds_10 : decode cX2_adds 10 = .ok (.ifnonnull 31, 3) := dk_199 0 31 (dk_at dksX2_adds_0 10 rfl rfl)
theorem dX2_adds_13 : decode cX2_adds 13 = .ok (.new 40, 3) := dk_187 0 40 (dk_at dksX2_adds_0 13 rfl rfl)
theorem dX2_adds_16 : decode cX2_adds 16 = .ok (.dup, 1) := dk_89 (dk_at dksX2_adds_0 16 rfl rfl)
theorem dX2_adds_17 : decode cX2_adds 17 = .ok (.invokespecial 50, 3) := dk_183 0 50 (dk_at dksX2_adds_0 17 rfl rfl)
theorem dX2_adds_20 : decode cX2_adds 20 = .ok (.astore_n 2, 1) := dk_77 (dk_at dksX2_adds_0 20 rfl rfl)
theorem dX2_adds_21 : decode cX2_adds 21 = .ok (.aload_n 0, 1) := dk_42 (dk_at dksX2_adds_0 21 rfl rfl)
theorem dX2_adds_22 : decode cX2_adds 22 = .ok (.getfield 10, 3) := dk_180 0 10 (dk_at dksX2_adds_1 0 rfl rfl)
theorem dX2_adds_25 : decode cX2_adds 25 = .ok (.new 23, 3) := dk_187 0 23 (dk_at dksX2_adds_1 3 rfl rfl)
theorem dX2_adds_28 : decode cX2_adds 28 = .ok (.dup, 1) := dk_89 (dk_at dksX2_adds_1 6 rfl rfl)
theorem dX2_adds_29 : decode cX2_adds 29 = .ok (.aload_n 1, 1) := dk_43 (dk_at dksX2_adds_1 7 rfl rfl)
theorem dX2_adds_30 : decode cX2_adds 30 = .ok (.getfield 42, 3) := dk_180 0 42 (dk_at dksX2_adds_1 8 rfl rfl)
theorem dX2_adds_33 : decode cX2_adds 33 = .ok (.invokespecial 25, 3) := dk_183 0 25 (dk_at dksX2_adds_1 11 rfl rfl)
theorem dX2_adds_36 : decode cX2_adds 36 = .ok (.aload_n 2, 1) := dk_44 (dk_at dksX2_adds_1 14 rfl rfl)
theorem dX2_adds_37 : decode cX2_adds 37 = .ok (.invokevirtual 51, 3) := dk_182 0 51 (dk_at dksX2_adds_1 15 rfl rfl)
theorem dX2_adds_40 : decode cX2_adds 40 = .ok (.pop, 1) := dk_87 (dk_at dksX2_adds_1 18 rfl rfl)
theorem dX2_adds_41 : decode cX2_adds 41 = .ok (.iconst 0, 1) := dk_3 (dk_at dksX2_adds_1 19 rfl rfl)
theorem dX2_adds_42 : decode cX2_adds 42 = .ok (.istore_n 3, 1) := dk_62 (dk_at dksX2_adds_1 20 rfl rfl)
theorem dX2_adds_43 : decode cX2_adds 43 = .ok (.iload_n 3, 1) := dk_29 (dk_at dksX2_adds_1 21 rfl rfl)
theorem dX2_adds_44 : decode cX2_adds 44 = .ok (.aload_n 2, 1) := dk_44 (dk_at dksX2_adds_1 22 rfl rfl)
theorem dX2_adds_45 : decode cX2_adds 45 = .ok (.invokevirtual 55, 3) := dk_182 0 55 (dk_at dksX2_adds_2 0 rfl rfl)
theorem dX2_adds_48 : decode cX2_adds 48 = .ok (.if_icmp .ge 28, 3) := dk_162 0 28 (dk_at dksX2_adds_2 3 rfl rfl)
theorem dX2_adds_51 : decode cX2_adds 51 = .ok (.aload_n 0, 1) := dk_42 (dk_at dksX2_adds_2 6 rfl rfl)
theorem dX2_adds_52 : decode cX2_adds 52 = .ok (.getfield 19, 3) := dk_180 0 19 (dk_at dksX2_adds_2 7 rfl rfl)
theorem dX2_adds_55 : decode cX2_adds 55 = .ok (.aload_n 2, 1) := dk_44 (dk_at dksX2_adds_2 10 rfl rfl)
theorem dX2_adds_56 : decode cX2_adds 56 = .ok (.iload_n 3, 1) := dk_29 (dk_at dksX2_adds_2 11 rfl rfl)
theorem dX2_adds_57 : decode cX2_adds 57 = .ok (.invokevirtual 59, 3) := dk_182 0 59 (dk_at dksX2_adds_2 12 rfl rfl)
theorem dX2_adds_60 : decode cX2_adds 60 = .ok (.checkcast 43, 3) := dk_192 0 43 (dk_at dksX2_adds_2 15 rfl rfl)
theorem dX2_adds_63 : decode cX2_adds 63 = .ok (.aload_n 1, 1) := dk_43 (dk_at dksX2_adds_2 18 rfl rfl)
theorem dX2_adds_64 : decode cX2_adds 64 = .ok (.invokevirtual 62, 3) := dk_182 0 62 (dk_at dksX2_adds_2 19 rfl rfl)
theorem dX2_adds_67 : decode cX2_adds 67 = .ok (.ifCond .ge 9, 3) := dk_156 0 9 (dk_at dksX2_adds_3 0 rfl rfl)
theorem dX2_adds_70 : decode cX2_adds 70 = .ok (.iinc 3 1, 3) := dk_132 3 1 (dk_at dksX2_adds_3 3 rfl rfl)
theorem dX2_adds_73 : decode cX2_adds 73 = .ok (.goto (-30), 3) := dk_167 255 226 (dk_at dksX2_adds_3 6 rfl rfl)
theorem dX2_adds_76 : decode cX2_adds 76 = .ok (.aload_n 2, 1) := dk_44 (dk_at dksX2_adds_3 9 rfl rfl)
theorem dX2_adds_77 : decode cX2_adds 77 = .ok (.iload_n 3, 1) := dk_29 (dk_at dksX2_adds_3 10 rfl rfl)
theorem dX2_adds_78 : decode cX2_adds 78 = .ok (.aload_n 1, 1) := dk_43 (dk_at dksX2_adds_3 11 rfl rfl)
theorem dX2_adds_79 : decode cX2_adds 79 = .ok (.invokevirtual 66, 3) := dk_182 0 66 (dk_at dksX2_adds_3 12 rfl rfl)
theorem dX2_adds_82 : decode cX2_adds 82 = .ok (.return_, 1) := dk_177 (dk_at dksX2_adds_3 15 rfl rfl)
abbrev cX2_at : ByteArray := prog_4_method_2_code
def yX2_at : MethodName := ⟨RX2, "at", "(I)Ljava/util/ArrayList;"⟩
def dkwX2_at_0 : List UInt8 := [42, 180, 0, 28, 27, 181, 0, 32, 42, 180, 0, 10, 42, 180, 0, 28, 182, 0, 36, 192, 0, 40, 176]
abbrev dktX2_at_0 : List UInt8 := dkwX2_at_0 ++ []
theorem dksX2_at_0 : cX2_at.data.toList.drop 0 = dktX2_at_0 := by decide +kernel
theorem dX2_at_0 : decode cX2_at 0 = .ok (.aload_n 0, 1) := dk_42 (dk_at dksX2_at_0 0 rfl rfl)
theorem dX2_at_1 : decode cX2_at 1 = .ok (.getfield 28, 3) := dk_180 0 28 (dk_at dksX2_at_0 1 rfl rfl)
theorem dX2_at_4 : decode cX2_at 4 = .ok (.iload_n 1, 1) := dk_27 (dk_at dksX2_at_0 4 rfl rfl)
theorem dX2_at_5 : decode cX2_at 5 = .ok (.putfield 32, 3) := dk_181 0 32 (dk_at dksX2_at_0 5 rfl rfl)
theorem dX2_at_8 : decode cX2_at 8 = .ok (.aload_n 0, 1) := dk_42 (dk_at dksX2_at_0 8 rfl rfl)
theorem dX2_at_9 : decode cX2_at 9 = .ok (.getfield 10, 3) := dk_180 0 10 (dk_at dksX2_at_0 9 rfl rfl)
theorem dX2_at_12 : decode cX2_at 12 = .ok (.aload_n 0, 1) := dk_42 (dk_at dksX2_at_0 12 rfl rfl)
theorem dX2_at_13 : decode cX2_at 13 = .ok (.getfield 28, 3) := dk_180 0 28 (dk_at dksX2_at_0 13 rfl rfl)
theorem dX2_at_16 : decode cX2_at 16 = .ok (.invokevirtual 36, 3) := dk_182 0 36 (dk_at dksX2_at_0 16 rfl rfl)
theorem dX2_at_19 : decode cX2_at 19 = .ok (.checkcast 40, 3) := dk_192 0 40 (dk_at dksX2_at_0 19 rfl rfl)
theorem dX2_at_22 : decode cX2_at 22 = .ok (.areturn, 1) := dk_176 (dk_at dksX2_at_0 22 rfl rfl)
abbrev cX2_forgets : ByteArray := prog_4_method_4_code
def yX2_forgets : MethodName := ⟨RX2, "forgets", "(I)V"⟩
def dkwX2_forgets_3 : List UInt8 := [132, 4, 255, 167, 255, 225, 45, 182, 0, 96, 153, 0, 9, 44, 185, 0, 99, 1, 0, 167, 255, 182, 177]
abbrev dktX2_forgets_3 : List UInt8 := dkwX2_forgets_3 ++ []
def dkwX2_forgets_2 : List UInt8 := [21, 4, 182, 0, 59, 192, 0, 43, 180, 0, 90, 27, 161, 0, 10, 45, 21, 4, 182, 0, 93, 87]
abbrev dktX2_forgets_2 : List UInt8 := dkwX2_forgets_2 ++ dktX2_forgets_3
def dkwX2_forgets_1 : List UInt8 := [185, 0, 86, 1, 0, 192, 0, 40, 78, 45, 182, 0, 55, 4, 100, 54, 4, 21, 4, 155, 0, 32, 45]
abbrev dktX2_forgets_1 : List UInt8 := dkwX2_forgets_1 ++ dktX2_forgets_2
def dkwX2_forgets_0 : List UInt8 := [42, 180, 0, 10, 182, 0, 70, 185, 0, 74, 1, 0, 77, 44, 185, 0, 80, 1, 0, 153, 0, 71, 44]
abbrev dktX2_forgets_0 : List UInt8 := dkwX2_forgets_0 ++ dktX2_forgets_1
theorem dksX2_forgets_0 : cX2_forgets.data.toList.drop 0 = dktX2_forgets_0 := by decide +kernel
theorem dksX2_forgets_1 : cX2_forgets.data.toList.drop 23 = dktX2_forgets_1 := dk_seg dksX2_forgets_0 23 rfl rfl
theorem dksX2_forgets_2 : cX2_forgets.data.toList.drop 46 = dktX2_forgets_2 := dk_seg dksX2_forgets_1 23 rfl rfl
theorem dksX2_forgets_3 : cX2_forgets.data.toList.drop 68 = dktX2_forgets_3 := dk_seg dksX2_forgets_2 22 rfl rfl
theorem dX2_forgets_0 : decode cX2_forgets 0 = .ok (.aload_n 0, 1) := dk_42 (dk_at dksX2_forgets_0 0 rfl rfl)
theorem dX2_forgets_1 : decode cX2_forgets 1 = .ok (.getfield 10, 3) := dk_180 0 10 (dk_at dksX2_forgets_0 1 rfl rfl)
theorem dX2_forgets_4 : decode cX2_forgets 4 = .ok (.invokevirtual 70, 3) := dk_182 0 70 (dk_at dksX2_forgets_0 4 rfl rfl)
theorem dX2_forgets_7 : decode cX2_forgets 7 = .ok (.invokeinterface 74 1, 5) := by decide +kernel
theorem dX2_forgets_12 : decode cX2_forgets 12 = .ok (.astore_n 2, 1) := dk_77 (dk_at dksX2_forgets_0 12 rfl rfl)
theorem dX2_forgets_13 : decode cX2_forgets 13 = .ok (.aload_n 2, 1) := dk_44 (dk_at dksX2_forgets_0 13 rfl rfl)
theorem dX2_forgets_14 : decode cX2_forgets 14 = .ok (.invokeinterface 80 1, 5) := by decide +kernel
theorem dX2_forgets_19 : decode cX2_forgets 19 = .ok (.ifCond .eq 71, 3) := dk_153 0 71 (dk_at dksX2_forgets_0 19 rfl rfl)
theorem dX2_forgets_22 : decode cX2_forgets 22 = .ok (.aload_n 2, 1) := dk_44 (dk_at dksX2_forgets_0 22 rfl rfl)
theorem dX2_forgets_23 : decode cX2_forgets 23 = .ok (.invokeinterface 86 1, 5) := by decide +kernel
theorem dX2_forgets_28 : decode cX2_forgets 28 = .ok (.checkcast 40, 3) := dk_192 0 40 (dk_at dksX2_forgets_1 5 rfl rfl)
theorem dX2_forgets_31 : decode cX2_forgets 31 = .ok (.astore_n 3, 1) := dk_78 (dk_at dksX2_forgets_1 8 rfl rfl)
theorem dX2_forgets_32 : decode cX2_forgets 32 = .ok (.aload_n 3, 1) := dk_45 (dk_at dksX2_forgets_1 9 rfl rfl)
theorem dX2_forgets_33 : decode cX2_forgets 33 = .ok (.invokevirtual 55, 3) := dk_182 0 55 (dk_at dksX2_forgets_1 10 rfl rfl)
theorem dX2_forgets_36 : decode cX2_forgets 36 = .ok (.iconst 1, 1) := dk_4 (dk_at dksX2_forgets_1 13 rfl rfl)
theorem dX2_forgets_37 : decode cX2_forgets 37 = .ok (.isub, 1) := dk_100 (dk_at dksX2_forgets_1 14 rfl rfl)
theorem dX2_forgets_38 : decode cX2_forgets 38 = .ok (.istore 4, 2) := dk_54 4 (dk_at dksX2_forgets_1 15 rfl rfl)
theorem dX2_forgets_40 : decode cX2_forgets 40 = .ok (.iload 4, 2) := dk_21 4 (dk_at dksX2_forgets_1 17 rfl rfl)
theorem dX2_forgets_42 : decode cX2_forgets 42 = .ok (.ifCond .lt 32, 3) := dk_155 0 32 (dk_at dksX2_forgets_1 19 rfl rfl)
theorem dX2_forgets_45 : decode cX2_forgets 45 = .ok (.aload_n 3, 1) := dk_45 (dk_at dksX2_forgets_1 22 rfl rfl)
theorem dX2_forgets_46 : decode cX2_forgets 46 = .ok (.iload 4, 2) := dk_21 4 (dk_at dksX2_forgets_2 0 rfl rfl)
theorem dX2_forgets_48 : decode cX2_forgets 48 = .ok (.invokevirtual 59, 3) := dk_182 0 59 (dk_at dksX2_forgets_2 2 rfl rfl)
theorem dX2_forgets_51 : decode cX2_forgets 51 = .ok (.checkcast 43, 3) := dk_192 0 43 (dk_at dksX2_forgets_2 5 rfl rfl)
theorem dX2_forgets_54 : decode cX2_forgets 54 = .ok (.getfield 90, 3) := dk_180 0 90 (dk_at dksX2_forgets_2 8 rfl rfl)
theorem dX2_forgets_57 : decode cX2_forgets 57 = .ok (.iload_n 1, 1) := dk_27 (dk_at dksX2_forgets_2 11 rfl rfl)
theorem dX2_forgets_58 : decode cX2_forgets 58 = .ok (.if_icmp .lt 10, 3) := dk_161 0 10 (dk_at dksX2_forgets_2 12 rfl rfl)
theorem dX2_forgets_61 : decode cX2_forgets 61 = .ok (.aload_n 3, 1) := dk_45 (dk_at dksX2_forgets_2 15 rfl rfl)
theorem dX2_forgets_62 : decode cX2_forgets 62 = .ok (.iload 4, 2) := dk_21 4 (dk_at dksX2_forgets_2 16 rfl rfl)
theorem dX2_forgets_64 : decode cX2_forgets 64 = .ok (.invokevirtual 93, 3) := dk_182 0 93 (dk_at dksX2_forgets_2 18 rfl rfl)
theorem dX2_forgets_67 : decode cX2_forgets 67 = .ok (.pop, 1) := dk_87 (dk_at dksX2_forgets_2 21 rfl rfl)
theorem dX2_forgets_68 : decode cX2_forgets 68 = .ok (.iinc 4 (-1), 3) := dk_132 4 255 (dk_at dksX2_forgets_3 0 rfl rfl)
theorem dX2_forgets_71 : decode cX2_forgets 71 = .ok (.goto (-31), 3) := dk_167 255 225 (dk_at dksX2_forgets_3 3 rfl rfl)
theorem dX2_forgets_74 : decode cX2_forgets 74 = .ok (.aload_n 3, 1) := dk_45 (dk_at dksX2_forgets_3 6 rfl rfl)
theorem dX2_forgets_75 : decode cX2_forgets 75 = .ok (.invokevirtual 96, 3) := dk_182 0 96 (dk_at dksX2_forgets_3 7 rfl rfl)
theorem dX2_forgets_78 : decode cX2_forgets 78 = .ok (.ifCond .eq 9, 3) := dk_153 0 9 (dk_at dksX2_forgets_3 10 rfl rfl)
theorem dX2_forgets_81 : decode cX2_forgets 81 = .ok (.aload_n 2, 1) := dk_44 (dk_at dksX2_forgets_3 13 rfl rfl)
theorem dX2_forgets_82 : decode cX2_forgets 82 = .ok (.invokeinterface 99 1, 5) := by decide +kernel
theorem dX2_forgets_87 : decode cX2_forgets 87 = .ok (.goto (-74), 3) := dk_167 255 182 (dk_at dksX2_forgets_3 19 rfl rfl)
theorem dX2_forgets_90 : decode cX2_forgets 90 = .ok (.return_, 1) := dk_177 (dk_at dksX2_forgets_3 22 rfl rfl)
theorem q79 : (Jvm.Cond.initialized "KeptLight$Coming") ∈ lw_all := lw_g (lw_at lw_m1 3 rfl) rfl
theorem q175 : (Jvm.Cond.instantiable "KeptLight$Coming" (3 : Nat)) ∈ lw_all := lw_g (lw_at lw_m1 99 rfl) rfl
theorem q177 : (Jvm.Cond.instanceMethod ({ cls := "KeptLight$Coming", name := "<init>", desc := "()V" } : Jvm.MethodName)) ∈ lw_all := lw_g (lw_at lw_m1 101 rfl) rfl
theorem q178 : (Jvm.Cond.code ({ cls := "KeptLight$Coming", name := "<init>", desc := "()V" } : Jvm.MethodName) prog_4_method_1_code (1 : Nat) (Option.none : Option Jvm.ClassFile.FieldType)) ∈ lw_all := lw_g (lw_at lw_m1 102 rfl) rfl
theorem q179 : (Jvm.Cond.methodLink "KeptLight$Coming" (1 : Nat) ({ cls := "java/lang/Object", name := "<init>", desc := "()V" } : Jvm.MethodName)) ∈ lw_all := lw_g (lw_at lw_m1 103 rfl) rfl
theorem q180 : (Jvm.Cond.classLink "KeptLight$Coming" (7 : Nat) "java/util/TreeMap") ∈ lw_all := lw_g (lw_at lw_m1 104 rfl) rfl
theorem q182 : (Jvm.Cond.methodLink "KeptLight$Coming" (9 : Nat) ({ cls := "java/util/TreeMap", name := "<init>", desc := "()V" } : Jvm.MethodName)) ∈ lw_all := lw_g (lw_at lw_m1 106 rfl) rfl
theorem q215 : (Jvm.Cond.classLink "KeptLight$Coming" (16 : Nat) "KeptLight$ByRank") ∈ lw_all := lw_g (lw_at lw_m1 139 rfl) rfl
theorem q217 : (Jvm.Cond.methodLinkNest "KeptLight$Coming" (18 : Nat) ({ cls := "KeptLight$ByRank", name := "<init>", desc := "()V" } : Jvm.MethodName) "KeptLight") ∈ lw_tbl := lw_at lw_m1 141 rfl
theorem q222 : (Jvm.Cond.classLink "KeptLight$Coming" (23 : Nat) "KeptLight$Hour") ∈ lw_all := lw_g (lw_at lw_m1 146 rfl) rfl
theorem q224 : (Jvm.Cond.methodLink "KeptLight$Coming" (25 : Nat) ({ cls := "KeptLight$Hour", name := "<init>", desc := "(I)V" } : Jvm.MethodName)) ∈ lw_all := lw_g (lw_at lw_m1 148 rfl) rfl
theorem q229 : (Jvm.Cond.fieldLink "KeptLight$Coming" (32 : Nat) "KeptLight$Hour" "at" "I") ∈ lw_all := lw_g (lw_at lw_m1 153 rfl) rfl
theorem q233 : (Jvm.Cond.fieldLink "KeptLight$Coming" (10 : Nat) "KeptLight$Coming" "all" "Ljava/util/TreeMap;") ∈ lw_all := lw_g (lw_at lw_m1 157 rfl) rfl
theorem q234 : (Jvm.Cond.fieldLink "KeptLight$Coming" (19 : Nat) "KeptLight$Coming" "byRank" "LKeptLight$ByRank;") ∈ lw_all := lw_g (lw_at lw_m1 158 rfl) rfl
theorem q235 : (Jvm.Cond.fieldLink "KeptLight$Coming" (28 : Nat) "KeptLight$Coming" "asked" "LKeptLight$Hour;") ∈ lw_all := lw_g (lw_at lw_m1 159 rfl) rfl
theorem q236 : (Jvm.Cond.laysFinal "KeptLight$Coming" "KeptLight$Coming" "all" "Ljava/util/TreeMap;") ∈ lw_all := lw_g (lw_at lw_m1 160 rfl) rfl
theorem q237 : (Jvm.Cond.soleField "KeptLight$Coming" "all") ∈ lw_all := lw_g (lw_at lw_m1 161 rfl) rfl
theorem q238 : (Jvm.Cond.laysFinal "KeptLight$Coming" "KeptLight$Coming" "byRank" "LKeptLight$ByRank;") ∈ lw_all := lw_g (lw_at lw_m1 162 rfl) rfl
theorem q239 : (Jvm.Cond.soleField "KeptLight$Coming" "byRank") ∈ lw_all := lw_g (lw_at lw_m1 163 rfl) rfl
theorem q240 : (Jvm.Cond.laysFinal "KeptLight$Coming" "KeptLight$Coming" "asked" "LKeptLight$Hour;") ∈ lw_all := lw_g (lw_at lw_m1 164 rfl) rfl
theorem q241 : (Jvm.Cond.soleField "KeptLight$Coming" "asked") ∈ lw_all := lw_g (lw_at lw_m1 165 rfl) rfl
theorem q242 : (Jvm.Cond.superclass "KeptLight$Coming" "java/lang/Object") ∈ lw_all := lw_g (lw_at lw_m1 166 rfl) rfl
theorem q1247 : (Jvm.Cond.selects "KeptLight$Coming" ({ cls := "java/lang/Object", name := "getClass", desc := "()Ljava/lang/Class;" } : Jvm.MethodName) ({ cls := "java/lang/Object", name := "getClass", desc := "()Ljava/lang/Class;" } : Jvm.MethodName)) ∈ lw_all := lw_g (lw_at lw_m5 211 rfl) rfl
theorem q2070 : (Jvm.Cond.fieldLink "KeptLight$Coming" (90 : Nat) "KeptLight$Ship" "number" "I") ∈ lw_all := lw_g (lw_at lw_m9 74 rfl) rfl
theorem q2074 : (Jvm.Cond.fieldLink "KeptLight$Coming" (42 : Nat) "KeptLight$Ship" "hour" "I") ∈ lw_all := lw_g (lw_at lw_m9 78 rfl) rfl
theorem q2148 : (Jvm.Cond.instanceMethod ({ cls := "KeptLight$Coming", name := "adds", desc := "(LKeptLight$Ship;)V" } : Jvm.MethodName)) ∈ lw_all := lw_g (lw_at lw_m9 152 rfl) rfl
theorem q2149 : (Jvm.Cond.selects "KeptLight$Coming" ({ cls := "KeptLight$Coming", name := "adds", desc := "(LKeptLight$Ship;)V" } : Jvm.MethodName) ({ cls := "KeptLight$Coming", name := "adds", desc := "(LKeptLight$Ship;)V" } : Jvm.MethodName)) ∈ lw_all := lw_g (lw_at lw_m9 153 rfl) rfl
theorem q2150 : (Jvm.Cond.code ({ cls := "KeptLight$Coming", name := "adds", desc := "(LKeptLight$Ship;)V" } : Jvm.MethodName) prog_4_method_3_code (4 : Nat) (Option.none : Option Jvm.ClassFile.FieldType)) ∈ lw_all := lw_g (lw_at lw_m9 154 rfl) rfl
theorem q2151 : (Jvm.Cond.methodLink "KeptLight$Coming" (47 : Nat) ({ cls := "KeptLight$Coming", name := "at", desc := "(I)Ljava/util/ArrayList;" } : Jvm.MethodName)) ∈ lw_all := lw_g (lw_at lw_m9 155 rfl) rfl
theorem q2152 : (Jvm.Cond.instanceMethod ({ cls := "KeptLight$Coming", name := "at", desc := "(I)Ljava/util/ArrayList;" } : Jvm.MethodName)) ∈ lw_all := lw_g (lw_at lw_m9 156 rfl) rfl
theorem q2153 : (Jvm.Cond.selects "KeptLight$Coming" ({ cls := "KeptLight$Coming", name := "at", desc := "(I)Ljava/util/ArrayList;" } : Jvm.MethodName) ({ cls := "KeptLight$Coming", name := "at", desc := "(I)Ljava/util/ArrayList;" } : Jvm.MethodName)) ∈ lw_all := lw_g (lw_at lw_m9 157 rfl) rfl
theorem q2154 : (Jvm.Cond.code ({ cls := "KeptLight$Coming", name := "at", desc := "(I)Ljava/util/ArrayList;" } : Jvm.MethodName) prog_4_method_2_code (2 : Nat) (Option.some (Jvm.ClassFile.FieldType.object "java/util/ArrayList"))) ∈ lw_all := lw_g (lw_at lw_m9 158 rfl) rfl
theorem q2155 : (Jvm.Cond.methodLink "KeptLight$Coming" (36 : Nat) ({ cls := "java/util/TreeMap", name := "get", desc := "(Ljava/lang/Object;)Ljava/lang/Object;" } : Jvm.MethodName)) ∈ lw_all := lw_g (lw_at lw_m9 159 rfl) rfl
theorem q2466 : (Jvm.Cond.classLink "KeptLight$Coming" (40 : Nat) "java/util/ArrayList") ∈ lw_all := lw_g (lw_at lw_m10 230 rfl) rfl
theorem q2467 : (Jvm.Cond.methodLink "KeptLight$Coming" (50 : Nat) ({ cls := "java/util/ArrayList", name := "<init>", desc := "()V" } : Jvm.MethodName)) ∈ lw_all := lw_g (lw_at lw_m10 231 rfl) rfl
theorem q2468 : (Jvm.Cond.methodLink "KeptLight$Coming" (51 : Nat) ({ cls := "java/util/TreeMap", name := "put", desc := "(Ljava/lang/Object;Ljava/lang/Object;)Ljava/lang/Object;" } : Jvm.MethodName)) ∈ lw_all := lw_g (lw_at lw_m10 232 rfl) rfl
theorem q2547 : (Jvm.Cond.methodLink "KeptLight$Coming" (55 : Nat) ({ cls := "java/util/ArrayList", name := "size", desc := "()I" } : Jvm.MethodName)) ∈ lw_all := lw_g (lw_at lw_m11 71 rfl) rfl
theorem q2548 : (Jvm.Cond.methodLink "KeptLight$Coming" (59 : Nat) ({ cls := "java/util/ArrayList", name := "get", desc := "(I)Ljava/lang/Object;" } : Jvm.MethodName)) ∈ lw_all := lw_g (lw_at lw_m11 72 rfl) rfl
theorem q2549 : (Jvm.Cond.classLink "KeptLight$Coming" (43 : Nat) "KeptLight$Ship") ∈ lw_all := lw_g (lw_at lw_m11 73 rfl) rfl
theorem q2550 : (Jvm.Cond.methodLink "KeptLight$Coming" (62 : Nat) ({ cls := "KeptLight$ByRank", name := "compare", desc := "(LKeptLight$Ship;LKeptLight$Ship;)I" } : Jvm.MethodName)) ∈ lw_all := lw_g (lw_at lw_m11 74 rfl) rfl
theorem q2551 : (Jvm.Cond.methodLink "KeptLight$Coming" (66 : Nat) ({ cls := "java/util/ArrayList", name := "add", desc := "(ILjava/lang/Object;)V" } : Jvm.MethodName)) ∈ lw_all := lw_g (lw_at lw_m11 75 rfl) rfl
theorem q3025 : (Jvm.Cond.selects "KeptLight$Coming" ({ cls := "java/lang/Object", name := "equals", desc := "(Ljava/lang/Object;)Z" } : Jvm.MethodName) ({ cls := "java/lang/Object", name := "equals", desc := "(Ljava/lang/Object;)Z" } : Jvm.MethodName)) ∈ lw_all := lw_g (lw_at lw_m13 69 rfl) rfl
theorem q3125 : (Jvm.Cond.instanceMethod ({ cls := "KeptLight$Coming", name := "forgets", desc := "(I)V" } : Jvm.MethodName)) ∈ lw_all := lw_g (lw_at lw_m13 169 rfl) rfl
theorem q3126 : (Jvm.Cond.selects "KeptLight$Coming" ({ cls := "KeptLight$Coming", name := "forgets", desc := "(I)V" } : Jvm.MethodName) ({ cls := "KeptLight$Coming", name := "forgets", desc := "(I)V" } : Jvm.MethodName)) ∈ lw_all := lw_g (lw_at lw_m13 170 rfl) rfl
theorem q3127 : (Jvm.Cond.code ({ cls := "KeptLight$Coming", name := "forgets", desc := "(I)V" } : Jvm.MethodName) prog_4_method_4_code (5 : Nat) (Option.none : Option Jvm.ClassFile.FieldType)) ∈ lw_all := lw_g (lw_at lw_m13 171 rfl) rfl
theorem q3128 : (Jvm.Cond.methodLink "KeptLight$Coming" (70 : Nat) ({ cls := "java/util/TreeMap", name := "values", desc := "()Ljava/util/Collection;" } : Jvm.MethodName)) ∈ lw_all := lw_g (lw_at lw_m13 172 rfl) rfl
theorem q3142 : (Jvm.Cond.interfaceEntry "KeptLight$Coming" (74 : Nat)) ∈ lw_tbl := lw_at lw_m13 186 rfl
theorem q3143 : (Jvm.Cond.methodLink "KeptLight$Coming" (74 : Nat) ({ cls := "java/util/Collection", name := "iterator", desc := "()Ljava/util/Iterator;" } : Jvm.MethodName)) ∈ lw_all := lw_g (lw_at lw_m13 187 rfl) rfl
theorem q3144 : (Jvm.Cond.interfaceEntry "KeptLight$Coming" (80 : Nat)) ∈ lw_tbl := lw_at lw_m13 188 rfl
theorem q3145 : (Jvm.Cond.methodLink "KeptLight$Coming" (80 : Nat) ({ cls := "java/util/Iterator", name := "hasNext", desc := "()Z" } : Jvm.MethodName)) ∈ lw_all := lw_g (lw_at lw_m13 189 rfl) rfl
theorem q3146 : (Jvm.Cond.interfaceEntry "KeptLight$Coming" (86 : Nat)) ∈ lw_tbl := lw_at lw_m13 190 rfl
theorem q3147 : (Jvm.Cond.methodLink "KeptLight$Coming" (86 : Nat) ({ cls := "java/util/Iterator", name := "next", desc := "()Ljava/lang/Object;" } : Jvm.MethodName)) ∈ lw_all := lw_g (lw_at lw_m13 191 rfl) rfl
theorem q3148 : (Jvm.Cond.methodLink "KeptLight$Coming" (93 : Nat) ({ cls := "java/util/ArrayList", name := "remove", desc := "(I)Ljava/lang/Object;" } : Jvm.MethodName)) ∈ lw_all := lw_g (lw_at lw_m13 192 rfl) rfl
theorem q3149 : (Jvm.Cond.methodLink "KeptLight$Coming" (96 : Nat) ({ cls := "java/util/ArrayList", name := "isEmpty", desc := "()Z" } : Jvm.MethodName)) ∈ lw_all := lw_g (lw_at lw_m13 193 rfl) rfl
theorem q3150 : (Jvm.Cond.interfaceEntry "KeptLight$Coming" (99 : Nat)) ∈ lw_tbl := lw_at lw_m13 194 rfl
theorem q3151 : (Jvm.Cond.methodLink "KeptLight$Coming" (99 : Nat) ({ cls := "java/util/Iterator", name := "remove", desc := "()V" } : Jvm.MethodName)) ∈ lw_all := lw_g (lw_at lw_m13 195 rfl) rfl
theorem q3692 : (Jvm.Cond.castable "KeptLight$Coming" "java/lang/Object") ∈ lw_tbl := lw_at lw_m16 16 rfl
theorem in_X2 : ∀ w ∈ wsX20, w ∈ lw_all := lw_in wsX20 [236, 238, 240] (by decide +kernel) (by decide +kernel)
/-! KeptLight$ByRank -/
set_option maxRecDepth 100000
def RX3 : String := "KeptLight$ByRank"
abbrev cX3_init : ByteArray := prog_2_method_1_code
def yX3_init : MethodName := ⟨RX3, "<init>", "()V"⟩
theorem dX3_init_0 : decode cX3_init 0 = .ok (.aload_n 0, 1) := by decide +kernel
theorem dX3_init_1 : decode cX3_init 1 = .ok (.invokespecial 1, 3) := by decide +kernel
theorem dX3_init_4 : decode cX3_init 4 = .ok (.return_, 1) := by decide +kernel
abbrev cX3_compare : ByteArray := prog_2_method_3_code
def yX3_compare : MethodName := ⟨RX3, "compare", "(Ljava/lang/Object;Ljava/lang/Object;)I"⟩
def dkwX3_compare_0 : List UInt8 := [42, 43, 192, 0, 8, 44, 192, 0, 8, 182, 0, 17, 172]
abbrev dktX3_compare_0 : List UInt8 := dkwX3_compare_0 ++ []
theorem dksX3_compare_0 : cX3_compare.data.toList.drop 0 = dktX3_compare_0 := by decide +kernel
theorem dX3_compare_0 : decode cX3_compare 0 = .ok (.aload_n 0, 1) := dk_42 (dk_at dksX3_compare_0 0 rfl rfl)
theorem dX3_compare_1 : decode cX3_compare 1 = .ok (.aload_n 1, 1) := dk_43 (dk_at dksX3_compare_0 1 rfl rfl)
theorem dX3_compare_2 : decode cX3_compare 2 = .ok (.checkcast 8, 3) := dk_192 0 8 (dk_at dksX3_compare_0 2 rfl rfl)
theorem dX3_compare_5 : decode cX3_compare 5 = .ok (.aload_n 2, 1) := dk_44 (dk_at dksX3_compare_0 5 rfl rfl)
theorem dX3_compare_6 : decode cX3_compare 6 = .ok (.checkcast 8, 3) := dk_192 0 8 (dk_at dksX3_compare_0 6 rfl rfl)
theorem dX3_compare_9 : decode cX3_compare 9 = .ok (.invokevirtual 17, 3) := dk_182 0 17 (dk_at dksX3_compare_0 9 rfl rfl)
theorem dX3_compare_12 : decode cX3_compare 12 = .ok (.ireturn, 1) := dk_172 (dk_at dksX3_compare_0 12 rfl rfl)
abbrev cX3_compare_2 : ByteArray := prog_2_method_2_code
def yX3_compare_2 : MethodName := ⟨RX3, "compare", "(LKeptLight$Ship;LKeptLight$Ship;)I"⟩
def dkwX3_compare_2_1 : List UInt8 := [180, 0, 13, 44, 180, 0, 13, 100, 172]
abbrev dktX3_compare_2_1 : List UInt8 := dkwX3_compare_2_1 ++ []
def dkwX3_compare_2_0 : List UInt8 := [43, 182, 0, 7, 44, 182, 0, 7, 159, 0, 15, 44, 182, 0, 7, 43, 182, 0, 7, 100, 167, 0, 12, 43]
abbrev dktX3_compare_2_0 : List UInt8 := dkwX3_compare_2_0 ++ dktX3_compare_2_1
theorem dksX3_compare_2_0 : cX3_compare_2.data.toList.drop 0 = dktX3_compare_2_0 := by decide +kernel
theorem dksX3_compare_2_1 : cX3_compare_2.data.toList.drop 24 = dktX3_compare_2_1 := dk_seg dksX3_compare_2_0 24 rfl rfl
theorem dX3_compare_2_0 : decode cX3_compare_2 0 = .ok (.aload_n 1, 1) := dk_43 (dk_at dksX3_compare_2_0 0 rfl rfl)
theorem dX3_compare_2_1 : decode cX3_compare_2 1 = .ok (.invokevirtual 7, 3) := dk_182 0 7 (dk_at dksX3_compare_2_0 1 rfl rfl)
theorem dX3_compare_2_4 : decode cX3_compare_2 4 = .ok (.aload_n 2, 1) := dk_44 (dk_at dksX3_compare_2_0 4 rfl rfl)
theorem dX3_compare_2_5 : decode cX3_compare_2 5 = .ok (.invokevirtual 7, 3) := dk_182 0 7 (dk_at dksX3_compare_2_0 5 rfl rfl)
theorem dX3_compare_2_8 : decode cX3_compare_2 8 = .ok (.if_icmp .eq 15, 3) := dk_159 0 15 (dk_at dksX3_compare_2_0 8 rfl rfl)
theorem dX3_compare_2_11 : decode cX3_compare_2 11 = .ok (.aload_n 2, 1) := dk_44 (dk_at dksX3_compare_2_0 11 rfl rfl)
theorem dX3_compare_2_12 : decode cX3_compare_2 12 = .ok (.invokevirtual 7, 3) := dk_182 0 7 (dk_at dksX3_compare_2_0 12 rfl rfl)
theorem dX3_compare_2_15 : decode cX3_compare_2 15 = .ok (.aload_n 1, 1) := dk_43 (dk_at dksX3_compare_2_0 15 rfl rfl)
theorem dX3_compare_2_16 : decode cX3_compare_2 16 = .ok (.invokevirtual 7, 3) := dk_182 0 7 (dk_at dksX3_compare_2_0 16 rfl rfl)
theorem dX3_compare_2_19 : decode cX3_compare_2 19 = .ok (.isub, 1) := dk_100 (dk_at dksX3_compare_2_0 19 rfl rfl)
theorem dX3_compare_2_20 : decode cX3_compare_2 20 = .ok (.goto 12, 3) := dk_167 0 12 (dk_at dksX3_compare_2_0 20 rfl rfl)
theorem dX3_compare_2_23 : decode cX3_compare_2 23 = .ok (.aload_n 1, 1) := dk_43 (dk_at dksX3_compare_2_0 23 rfl rfl)
theorem dX3_compare_2_24 : decode cX3_compare_2 24 = .ok (.getfield 13, 3) := dk_180 0 13 (dk_at dksX3_compare_2_1 0 rfl rfl)
theorem dX3_compare_2_27 : decode cX3_compare_2 27 = .ok (.aload_n 2, 1) := dk_44 (dk_at dksX3_compare_2_1 3 rfl rfl)
theorem dX3_compare_2_28 : decode cX3_compare_2 28 = .ok (.getfield 13, 3) := dk_180 0 13 (dk_at dksX3_compare_2_1 4 rfl rfl)
theorem dX3_compare_2_31 : decode cX3_compare_2 31 = .ok (.isub, 1) := dk_100 (dk_at dksX3_compare_2_1 7 rfl rfl)
theorem dX3_compare_2_32 : decode cX3_compare_2 32 = .ok (.ireturn, 1) := dk_172 (dk_at dksX3_compare_2_1 8 rfl rfl)
theorem q82 : (Jvm.Cond.initialized "KeptLight$ByRank") ∈ lw_all := lw_g (lw_at lw_m1 6 rfl) rfl
theorem q216 : (Jvm.Cond.instantiable "KeptLight$ByRank" (0 : Nat)) ∈ lw_all := lw_g (lw_at lw_m1 140 rfl) rfl
theorem q218 : (Jvm.Cond.instanceMethod ({ cls := "KeptLight$ByRank", name := "<init>", desc := "()V" } : Jvm.MethodName)) ∈ lw_all := lw_g (lw_at lw_m1 142 rfl) rfl
theorem q219 : (Jvm.Cond.code ({ cls := "KeptLight$ByRank", name := "<init>", desc := "()V" } : Jvm.MethodName) prog_2_method_1_code (1 : Nat) (Option.none : Option Jvm.ClassFile.FieldType)) ∈ lw_all := lw_g (lw_at lw_m1 143 rfl) rfl
theorem q220 : (Jvm.Cond.methodLink "KeptLight$ByRank" (1 : Nat) ({ cls := "java/lang/Object", name := "<init>", desc := "()V" } : Jvm.MethodName)) ∈ lw_all := lw_g (lw_at lw_m1 144 rfl) rfl
theorem q221 : (Jvm.Cond.superclass "KeptLight$ByRank" "java/lang/Object") ∈ lw_all := lw_g (lw_at lw_m1 145 rfl) rfl
theorem q1245 : (Jvm.Cond.selects "KeptLight$ByRank" ({ cls := "java/lang/Object", name := "getClass", desc := "()Ljava/lang/Class;" } : Jvm.MethodName) ({ cls := "java/lang/Object", name := "getClass", desc := "()Ljava/lang/Class;" } : Jvm.MethodName)) ∈ lw_all := lw_g (lw_at lw_m5 209 rfl) rfl
theorem q2069 : (Jvm.Cond.fieldLink "KeptLight$ByRank" (13 : Nat) "KeptLight$Ship" "number" "I") ∈ lw_all := lw_g (lw_at lw_m9 73 rfl) rfl
theorem q2171 : (Jvm.Cond.castable "KeptLight$ByRank" "java/util/Comparator") ∈ lw_tbl := lw_at lw_m9 175 rfl
theorem q2172 : (Jvm.Cond.selects "KeptLight$ByRank" ({ cls := "java/util/Comparator", name := "compare", desc := "(Ljava/lang/Object;Ljava/lang/Object;)I" } : Jvm.MethodName) ({ cls := "KeptLight$ByRank", name := "compare", desc := "(Ljava/lang/Object;Ljava/lang/Object;)I" } : Jvm.MethodName)) ∈ lw_all := lw_g (lw_at lw_m9 176 rfl) rfl
theorem q2173 : (Jvm.Cond.unhidden "KeptLight$ByRank" "compare" "(Ljava/lang/Object;Ljava/lang/Object;)I") ∈ lw_tbl := lw_at lw_m9 177 rfl
theorem q2174 : (Jvm.Cond.instanceMethod ({ cls := "KeptLight$ByRank", name := "compare", desc := "(Ljava/lang/Object;Ljava/lang/Object;)I" } : Jvm.MethodName)) ∈ lw_all := lw_g (lw_at lw_m9 178 rfl) rfl
theorem q2175 : (Jvm.Cond.publicMethod ({ cls := "KeptLight$ByRank", name := "compare", desc := "(Ljava/lang/Object;Ljava/lang/Object;)I" } : Jvm.MethodName)) ∈ lw_tbl := lw_at lw_m9 179 rfl
theorem q2176 : (Jvm.Cond.code ({ cls := "KeptLight$ByRank", name := "compare", desc := "(Ljava/lang/Object;Ljava/lang/Object;)I" } : Jvm.MethodName) prog_2_method_3_code (3 : Nat) (Option.some Jvm.ClassFile.FieldType.int)) ∈ lw_all := lw_g (lw_at lw_m9 180 rfl) rfl
theorem q2177 : (Jvm.Cond.classLink "KeptLight$ByRank" (8 : Nat) "KeptLight$Ship") ∈ lw_all := lw_g (lw_at lw_m9 181 rfl) rfl
theorem q2178 : (Jvm.Cond.methodLink "KeptLight$ByRank" (17 : Nat) ({ cls := "KeptLight$ByRank", name := "compare", desc := "(LKeptLight$Ship;LKeptLight$Ship;)I" } : Jvm.MethodName)) ∈ lw_all := lw_g (lw_at lw_m9 182 rfl) rfl
theorem q2179 : (Jvm.Cond.instanceMethod ({ cls := "KeptLight$ByRank", name := "compare", desc := "(LKeptLight$Ship;LKeptLight$Ship;)I" } : Jvm.MethodName)) ∈ lw_all := lw_g (lw_at lw_m9 183 rfl) rfl
theorem q2180 : (Jvm.Cond.selects "KeptLight$ByRank" ({ cls := "KeptLight$ByRank", name := "compare", desc := "(LKeptLight$Ship;LKeptLight$Ship;)I" } : Jvm.MethodName) ({ cls := "KeptLight$ByRank", name := "compare", desc := "(LKeptLight$Ship;LKeptLight$Ship;)I" } : Jvm.MethodName)) ∈ lw_all := lw_g (lw_at lw_m9 184 rfl) rfl
theorem q2181 : (Jvm.Cond.code ({ cls := "KeptLight$ByRank", name := "compare", desc := "(LKeptLight$Ship;LKeptLight$Ship;)I" } : Jvm.MethodName) prog_2_method_2_code (3 : Nat) (Option.some Jvm.ClassFile.FieldType.int)) ∈ lw_all := lw_g (lw_at lw_m9 185 rfl) rfl
theorem q2182 : (Jvm.Cond.methodLink "KeptLight$ByRank" (7 : Nat) ({ cls := "KeptLight$Ship", name := "kind", desc := "()I" } : Jvm.MethodName)) ∈ lw_all := lw_g (lw_at lw_m9 186 rfl) rfl
theorem q3023 : (Jvm.Cond.selects "KeptLight$ByRank" ({ cls := "java/lang/Object", name := "equals", desc := "(Ljava/lang/Object;)Z" } : Jvm.MethodName) ({ cls := "java/lang/Object", name := "equals", desc := "(Ljava/lang/Object;)Z" } : Jvm.MethodName)) ∈ lw_all := lw_g (lw_at lw_m13 67 rfl) rfl
theorem q3694 : (Jvm.Cond.castable "KeptLight$ByRank" "java/lang/Object") ∈ lw_tbl := lw_at lw_m16 18 rfl
/-! KeptLight$Hour -/
set_option maxRecDepth 100000
def RX4 : String := "KeptLight$Hour"
def TX4 : u_T := fun k => match k with
  | _ => ("KeptLight$Hour", "at", "I", false)
def tyX4 : Nat → FieldType := fun k => match k with
  | _ => .int
abbrev wsX40 : List Cond := u_ws RX4 TX4 1
theorem nmX4 : ∀ a, a < 1 → ∀ b, b < 1 → a ≠ b → (TX4 a).2.1 ≠ (TX4 b).2.1 := by decide +kernel
theorem tyX4_ok : ∀ k, k < 1 → parseFieldDescriptor (TX4 k).2.2.1 = some (tyX4 k) := by decide +kernel
abbrev cX4_init : ByteArray := prog_11_method_1_code
def yX4_init : MethodName := ⟨RX4, "<init>", "(I)V"⟩
def dkwX4_init_0 : List UInt8 := [42, 183, 0, 1, 42, 27, 181, 0, 7, 177]
abbrev dktX4_init_0 : List UInt8 := dkwX4_init_0 ++ []
theorem dksX4_init_0 : cX4_init.data.toList.drop 0 = dktX4_init_0 := by decide +kernel
theorem dX4_init_0 : decode cX4_init 0 = .ok (.aload_n 0, 1) := dk_42 (dk_at dksX4_init_0 0 rfl rfl)
theorem dX4_init_1 : decode cX4_init 1 = .ok (.invokespecial 1, 3) := dk_183 0 1 (dk_at dksX4_init_0 1 rfl rfl)
theorem dX4_init_4 : decode cX4_init 4 = .ok (.aload_n 0, 1) := dk_42 (dk_at dksX4_init_0 4 rfl rfl)
theorem dX4_init_5 : decode cX4_init 5 = .ok (.iload_n 1, 1) := dk_27 (dk_at dksX4_init_0 5 rfl rfl)
theorem dX4_init_6 : decode cX4_init 6 = .ok (.putfield 7, 3) := dk_181 0 7 (dk_at dksX4_init_0 6 rfl rfl)
theorem dX4_init_9 : decode cX4_init 9 = .ok (.return_, 1) := dk_177 (dk_at dksX4_init_0 9 rfl rfl)
abbrev cX4_compareTo : ByteArray := prog_11_method_3_code
def yX4_compareTo : MethodName := ⟨RX4, "compareTo", "(Ljava/lang/Object;)I"⟩
def dkwX4_compareTo_0 : List UInt8 := [42, 43, 192, 0, 8, 182, 0, 13, 172]
abbrev dktX4_compareTo_0 : List UInt8 := dkwX4_compareTo_0 ++ []
theorem dksX4_compareTo_0 : cX4_compareTo.data.toList.drop 0 = dktX4_compareTo_0 := by decide +kernel
theorem dX4_compareTo_0 : decode cX4_compareTo 0 = .ok (.aload_n 0, 1) := dk_42 (dk_at dksX4_compareTo_0 0 rfl rfl)
theorem dX4_compareTo_1 : decode cX4_compareTo 1 = .ok (.aload_n 1, 1) := dk_43 (dk_at dksX4_compareTo_0 1 rfl rfl)
theorem dX4_compareTo_2 : decode cX4_compareTo 2 = .ok (.checkcast 8, 3) := dk_192 0 8 (dk_at dksX4_compareTo_0 2 rfl rfl)
theorem dX4_compareTo_5 : decode cX4_compareTo 5 = .ok (.invokevirtual 13, 3) := dk_182 0 13 (dk_at dksX4_compareTo_0 5 rfl rfl)
theorem dX4_compareTo_8 : decode cX4_compareTo 8 = .ok (.ireturn, 1) := dk_172 (dk_at dksX4_compareTo_0 8 rfl rfl)
abbrev cX4_compareTo_2 : ByteArray := prog_11_method_2_code
def yX4_compareTo_2 : MethodName := ⟨RX4, "compareTo", "(LKeptLight$Hour;)I"⟩
def dkwX4_compareTo_2_0 : List UInt8 := [42, 180, 0, 7, 43, 180, 0, 7, 100, 172]
abbrev dktX4_compareTo_2_0 : List UInt8 := dkwX4_compareTo_2_0 ++ []
theorem dksX4_compareTo_2_0 : cX4_compareTo_2.data.toList.drop 0 = dktX4_compareTo_2_0 := by decide +kernel
theorem dX4_compareTo_2_0 : decode cX4_compareTo_2 0 = .ok (.aload_n 0, 1) := dk_42 (dk_at dksX4_compareTo_2_0 0 rfl rfl)
theorem dX4_compareTo_2_1 : decode cX4_compareTo_2 1 = .ok (.getfield 7, 3) := dk_180 0 7 (dk_at dksX4_compareTo_2_0 1 rfl rfl)
theorem dX4_compareTo_2_4 : decode cX4_compareTo_2 4 = .ok (.aload_n 1, 1) := dk_43 (dk_at dksX4_compareTo_2_0 4 rfl rfl)
theorem dX4_compareTo_2_5 : decode cX4_compareTo_2 5 = .ok (.getfield 7, 3) := dk_180 0 7 (dk_at dksX4_compareTo_2_0 5 rfl rfl)
theorem dX4_compareTo_2_8 : decode cX4_compareTo_2 8 = .ok (.isub, 1) := dk_100 (dk_at dksX4_compareTo_2_0 8 rfl rfl)
theorem dX4_compareTo_2_9 : decode cX4_compareTo_2 9 = .ok (.ireturn, 1) := dk_172 (dk_at dksX4_compareTo_2_0 9 rfl rfl)
theorem q83 : (Jvm.Cond.initialized "KeptLight$Hour") ∈ lw_all := lw_g (lw_at lw_m1 7 rfl) rfl
theorem q223 : (Jvm.Cond.instantiable "KeptLight$Hour" (1 : Nat)) ∈ lw_all := lw_g (lw_at lw_m1 147 rfl) rfl
theorem q225 : (Jvm.Cond.instanceMethod ({ cls := "KeptLight$Hour", name := "<init>", desc := "(I)V" } : Jvm.MethodName)) ∈ lw_all := lw_g (lw_at lw_m1 149 rfl) rfl
theorem q226 : (Jvm.Cond.code ({ cls := "KeptLight$Hour", name := "<init>", desc := "(I)V" } : Jvm.MethodName) prog_11_method_1_code (2 : Nat) (Option.none : Option Jvm.ClassFile.FieldType)) ∈ lw_all := lw_g (lw_at lw_m1 150 rfl) rfl
theorem q227 : (Jvm.Cond.methodLink "KeptLight$Hour" (1 : Nat) ({ cls := "java/lang/Object", name := "<init>", desc := "()V" } : Jvm.MethodName)) ∈ lw_all := lw_g (lw_at lw_m1 151 rfl) rfl
theorem q228 : (Jvm.Cond.fieldLink "KeptLight$Hour" (7 : Nat) "KeptLight$Hour" "at" "I") ∈ lw_all := lw_g (lw_at lw_m1 152 rfl) rfl
theorem q230 : (Jvm.Cond.lays "KeptLight$Hour" "KeptLight$Hour" "at" "I") ∈ lw_all := lw_g (lw_at lw_m1 154 rfl) rfl
theorem q231 : (Jvm.Cond.soleField "KeptLight$Hour" "at") ∈ lw_all := lw_g (lw_at lw_m1 155 rfl) rfl
theorem q232 : (Jvm.Cond.superclass "KeptLight$Hour" "java/lang/Object") ∈ lw_all := lw_g (lw_at lw_m1 156 rfl) rfl
theorem q1253 : (Jvm.Cond.selects "KeptLight$Hour" ({ cls := "java/lang/Object", name := "getClass", desc := "()Ljava/lang/Class;" } : Jvm.MethodName) ({ cls := "java/lang/Object", name := "getClass", desc := "()Ljava/lang/Class;" } : Jvm.MethodName)) ∈ lw_all := lw_g (lw_at lw_m5 217 rfl) rfl
theorem q2216 : (Jvm.Cond.castable "KeptLight$Hour" "java/lang/Comparable") ∈ lw_tbl := lw_at lw_m9 220 rfl
theorem q2217 : (Jvm.Cond.selects "KeptLight$Hour" ({ cls := "java/lang/Comparable", name := "compareTo", desc := "(Ljava/lang/Object;)I" } : Jvm.MethodName) ({ cls := "KeptLight$Hour", name := "compareTo", desc := "(Ljava/lang/Object;)I" } : Jvm.MethodName)) ∈ lw_all := lw_g (lw_at lw_m9 221 rfl) rfl
theorem q2218 : (Jvm.Cond.unhidden "KeptLight$Hour" "compareTo" "(Ljava/lang/Object;)I") ∈ lw_tbl := lw_at lw_m9 222 rfl
theorem q2219 : (Jvm.Cond.instanceMethod ({ cls := "KeptLight$Hour", name := "compareTo", desc := "(Ljava/lang/Object;)I" } : Jvm.MethodName)) ∈ lw_all := lw_g (lw_at lw_m9 223 rfl) rfl
theorem q2220 : (Jvm.Cond.publicMethod ({ cls := "KeptLight$Hour", name := "compareTo", desc := "(Ljava/lang/Object;)I" } : Jvm.MethodName)) ∈ lw_tbl := lw_at lw_m9 224 rfl
theorem q2221 : (Jvm.Cond.code ({ cls := "KeptLight$Hour", name := "compareTo", desc := "(Ljava/lang/Object;)I" } : Jvm.MethodName) prog_11_method_3_code (2 : Nat) (Option.some Jvm.ClassFile.FieldType.int)) ∈ lw_all := lw_g (lw_at lw_m9 225 rfl) rfl
theorem q2222 : (Jvm.Cond.classLink "KeptLight$Hour" (8 : Nat) "KeptLight$Hour") ∈ lw_all := lw_g (lw_at lw_m9 226 rfl) rfl
theorem q2223 : (Jvm.Cond.methodLink "KeptLight$Hour" (13 : Nat) ({ cls := "KeptLight$Hour", name := "compareTo", desc := "(LKeptLight$Hour;)I" } : Jvm.MethodName)) ∈ lw_all := lw_g (lw_at lw_m9 227 rfl) rfl
theorem q2224 : (Jvm.Cond.instanceMethod ({ cls := "KeptLight$Hour", name := "compareTo", desc := "(LKeptLight$Hour;)I" } : Jvm.MethodName)) ∈ lw_all := lw_g (lw_at lw_m9 228 rfl) rfl
theorem q2225 : (Jvm.Cond.selects "KeptLight$Hour" ({ cls := "KeptLight$Hour", name := "compareTo", desc := "(LKeptLight$Hour;)I" } : Jvm.MethodName) ({ cls := "KeptLight$Hour", name := "compareTo", desc := "(LKeptLight$Hour;)I" } : Jvm.MethodName)) ∈ lw_all := lw_g (lw_at lw_m9 229 rfl) rfl
theorem q2226 : (Jvm.Cond.code ({ cls := "KeptLight$Hour", name := "compareTo", desc := "(LKeptLight$Hour;)I" } : Jvm.MethodName) prog_11_method_2_code (2 : Nat) (Option.some Jvm.ClassFile.FieldType.int)) ∈ lw_all := lw_g (lw_at lw_m9 230 rfl) rfl
theorem q3031 : (Jvm.Cond.selects "KeptLight$Hour" ({ cls := "java/lang/Object", name := "equals", desc := "(Ljava/lang/Object;)Z" } : Jvm.MethodName) ({ cls := "java/lang/Object", name := "equals", desc := "(Ljava/lang/Object;)Z" } : Jvm.MethodName)) ∈ lw_all := lw_g (lw_at lw_m13 75 rfl) rfl
theorem q3695 : (Jvm.Cond.castable "KeptLight$Hour" "java/lang/Object") ∈ lw_tbl := lw_at lw_m16 19 rfl
theorem in_X4 : ∀ w ∈ wsX40, w ∈ lw_all := lw_in wsX40 [230] (by decide +kernel) (by decide +kernel)
/-! KeptLight$Sights -/
set_option maxRecDepth 100000
def RX5 : String := "KeptLight$Sights"
def TX5 : u_T := fun k => match k with
  | _ => ("KeptLight$Sights", "all", "[LKeptLight$Sight;", true)
def tyX5 : Nat → FieldType := fun k => match k with
  | _ => .array (.object "KeptLight$Sight")
abbrev wsX50 : List Cond := u_ws RX5 TX5 1
theorem nmX5 : ∀ a, a < 1 → ∀ b, b < 1 → a ≠ b → (TX5 a).2.1 ≠ (TX5 b).2.1 := by decide +kernel
theorem tyX5_ok : ∀ k, k < 1 → parseFieldDescriptor (TX5 k).2.2.1 = some (tyX5 k) := by decide +kernel
abbrev cX5_init : ByteArray := prog_25_method_1_code
def yX5_init : MethodName := ⟨RX5, "<init>", "()V"⟩
def dkwX5_init_4 : List UInt8 := [167, 0, 4, 3, 183, 0, 27, 83, 132, 1, 1, 167, 255, 166, 177]
abbrev dktX5_init_4 : List UInt8 := dkwX5_init_4 ++ []
def dkwX5_init_3 : List UInt8 := [167, 0, 4, 3, 27, 5, 126, 5, 160, 0, 7, 4, 167, 0, 4, 3, 27, 7, 126, 7, 160, 0, 7, 4]
abbrev dktX5_init_3 : List UInt8 := dkwX5_init_3 ++ dktX5_init_4
def dkwX5_init_2 : List UInt8 := [178, 0, 24, 77, 42, 180, 0, 9, 27, 187, 0, 7, 89, 44, 27, 4, 126, 4, 160, 0, 7, 4]
abbrev dktX5_init_2 : List UInt8 := dkwX5_init_2 ++ dktX5_init_3
def dkwX5_init_1 : List UInt8 := [108, 154, 0, 9, 178, 0, 15, 167, 0, 20, 27, 16, 8, 108, 4, 160, 0, 9, 178, 0, 21, 167, 0, 6]
abbrev dktX5_init_1 : List UInt8 := dkwX5_init_1 ++ dktX5_init_2
def dkwX5_init_0 : List UInt8 := [42, 183, 0, 1, 42, 16, 24, 189, 0, 7, 181, 0, 9, 3, 60, 27, 16, 24, 162, 0, 90, 27, 16, 8]
abbrev dktX5_init_0 : List UInt8 := dkwX5_init_0 ++ dktX5_init_1
theorem dksX5_init_0 : cX5_init.data.toList.drop 0 = dktX5_init_0 := by decide +kernel
theorem dksX5_init_1 : cX5_init.data.toList.drop 24 = dktX5_init_1 := dk_seg dksX5_init_0 24 rfl rfl
theorem dksX5_init_2 : cX5_init.data.toList.drop 48 = dktX5_init_2 := dk_seg dksX5_init_1 24 rfl rfl
theorem dksX5_init_3 : cX5_init.data.toList.drop 70 = dktX5_init_3 := dk_seg dksX5_init_2 22 rfl rfl
theorem dksX5_init_4 : cX5_init.data.toList.drop 94 = dktX5_init_4 := dk_seg dksX5_init_3 24 rfl rfl
theorem dX5_init_0 : decode cX5_init 0 = .ok (.aload_n 0, 1) := dk_42 (dk_at dksX5_init_0 0 rfl rfl)
theorem dX5_init_1 : decode cX5_init 1 = .ok (.invokespecial 1, 3) := dk_183 0 1 (dk_at dksX5_init_0 1 rfl rfl)
theorem dX5_init_4 : decode cX5_init 4 = .ok (.aload_n 0, 1) := dk_42 (dk_at dksX5_init_0 4 rfl rfl)
theorem dX5_init_5 : decode cX5_init 5 = .ok (.bipush 24, 2) := dk_16 24 (dk_at dksX5_init_0 5 rfl rfl)
theorem dX5_init_7 : decode cX5_init 7 = .ok (.anewarray 7, 3) := dk_189 0 7 (dk_at dksX5_init_0 7 rfl rfl)
theorem dX5_init_10 : decode cX5_init 10 = .ok (.putfield 9, 3) := dk_181 0 9 (dk_at dksX5_init_0 10 rfl rfl)
theorem dX5_init_13 : decode cX5_init 13 = .ok (.iconst 0, 1) := dk_3 (dk_at dksX5_init_0 13 rfl rfl)
theorem dX5_init_14 : decode cX5_init 14 = .ok (.istore_n 1, 1) := dk_60 (dk_at dksX5_init_0 14 rfl rfl)
theorem dX5_init_15 : decode cX5_init 15 = .ok (.iload_n 1, 1) := dk_27 (dk_at dksX5_init_0 15 rfl rfl)
theorem dX5_init_16 : decode cX5_init 16 = .ok (.bipush 24, 2) := dk_16 24 (dk_at dksX5_init_0 16 rfl rfl)
theorem dX5_init_18 : decode cX5_init 18 = .ok (.if_icmp .ge 90, 3) := dk_162 0 90 (dk_at dksX5_init_0 18 rfl rfl)
theorem dX5_init_21 : decode cX5_init 21 = .ok (.iload_n 1, 1) := dk_27 (dk_at dksX5_init_0 21 rfl rfl)
theorem dX5_init_22 : decode cX5_init 22 = .ok (.bipush 8, 2) := dk_16 8 (dk_at dksX5_init_0 22 rfl rfl)
theorem dX5_init_24 : decode cX5_init 24 = .ok (.idiv, 1) := dk_108 (dk_at dksX5_init_1 0 rfl rfl)
theorem dX5_init_25 : decode cX5_init 25 = .ok (.ifCond .ne 9, 3) := dk_154 0 9 (dk_at dksX5_init_1 1 rfl rfl)
theorem dX5_init_28 : decode cX5_init 28 = .ok (.getstatic 15, 3) := dk_178 0 15 (dk_at dksX5_init_1 4 rfl rfl)
theorem dX5_init_31 : decode cX5_init 31 = .ok (.goto 20, 3) := dk_167 0 20 (dk_at dksX5_init_1 7 rfl rfl)
theorem dX5_init_34 : decode cX5_init 34 = .ok (.iload_n 1, 1) := dk_27 (dk_at dksX5_init_1 10 rfl rfl)
theorem dX5_init_35 : decode cX5_init 35 = .ok (.bipush 8, 2) := dk_16 8 (dk_at dksX5_init_1 11 rfl rfl)
theorem dX5_init_37 : decode cX5_init 37 = .ok (.idiv, 1) := dk_108 (dk_at dksX5_init_1 13 rfl rfl)
theorem dX5_init_38 : decode cX5_init 38 = .ok (.iconst 1, 1) := dk_4 (dk_at dksX5_init_1 14 rfl rfl)
theorem dX5_init_39 : decode cX5_init 39 = .ok (.if_icmp .ne 9, 3) := dk_160 0 9 (dk_at dksX5_init_1 15 rfl rfl)
theorem dX5_init_42 : decode cX5_init 42 = .ok (.getstatic 21, 3) := dk_178 0 21 (dk_at dksX5_init_1 18 rfl rfl)
theorem dX5_init_45 : decode cX5_init 45 = .ok (.goto 6, 3) := dk_167 0 6 (dk_at dksX5_init_1 21 rfl rfl)
theorem dX5_init_48 : decode cX5_init 48 = .ok (.getstatic 24, 3) := dk_178 0 24 (dk_at dksX5_init_2 0 rfl rfl)
theorem dX5_init_51 : decode cX5_init 51 = .ok (.astore_n 2, 1) := dk_77 (dk_at dksX5_init_2 3 rfl rfl)
theorem dX5_init_52 : decode cX5_init 52 = .ok (.aload_n 0, 1) := dk_42 (dk_at dksX5_init_2 4 rfl rfl)
theorem dX5_init_53 : decode cX5_init 53 = .ok (.getfield 9, 3) := dk_180 0 9 (dk_at dksX5_init_2 5 rfl rfl)
theorem dX5_init_56 : decode cX5_init 56 = .ok (.iload_n 1, 1) := dk_27 (dk_at dksX5_init_2 8 rfl rfl)
theorem dX5_init_57 : decode cX5_init 57 = .ok (.new 7, 3) := dk_187 0 7 (dk_at dksX5_init_2 9 rfl rfl)
theorem dX5_init_60 : decode cX5_init 60 = .ok (.dup, 1) := dk_89 (dk_at dksX5_init_2 12 rfl rfl)
theorem dX5_init_61 : decode cX5_init 61 = .ok (.aload_n 2, 1) := dk_44 (dk_at dksX5_init_2 13 rfl rfl)
theorem dX5_init_62 : decode cX5_init 62 = .ok (.iload_n 1, 1) := dk_27 (dk_at dksX5_init_2 14 rfl rfl)
theorem dX5_init_63 : decode cX5_init 63 = .ok (.iconst 1, 1) := dk_4 (dk_at dksX5_init_2 15 rfl rfl)
theorem dX5_init_64 : decode cX5_init 64 = .ok (.iand, 1) := dk_126 (dk_at dksX5_init_2 16 rfl rfl)
theorem dX5_init_65 : decode cX5_init 65 = .ok (.iconst 1, 1) := dk_4 (dk_at dksX5_init_2 17 rfl rfl)
theorem dX5_init_66 : decode cX5_init 66 = .ok (.if_icmp .ne 7, 3) := dk_160 0 7 (dk_at dksX5_init_2 18 rfl rfl)
theorem dX5_init_69 : decode cX5_init 69 = .ok (.iconst 1, 1) := dk_4 (dk_at dksX5_init_2 21 rfl rfl)
theorem dX5_init_70 : decode cX5_init 70 = .ok (.goto 4, 3) := dk_167 0 4 (dk_at dksX5_init_3 0 rfl rfl)
theorem dX5_init_73 : decode cX5_init 73 = .ok (.iconst 0, 1) := dk_3 (dk_at dksX5_init_3 3 rfl rfl)
theorem dX5_init_74 : decode cX5_init 74 = .ok (.iload_n 1, 1) := dk_27 (dk_at dksX5_init_3 4 rfl rfl)
theorem dX5_init_75 : decode cX5_init 75 = .ok (.iconst 2, 1) := dk_5 (dk_at dksX5_init_3 5 rfl rfl)
theorem dX5_init_76 : decode cX5_init 76 = .ok (.iand, 1) := dk_126 (dk_at dksX5_init_3 6 rfl rfl)
theorem dX5_init_77 : decode cX5_init 77 = .ok (.iconst 2, 1) := dk_5 (dk_at dksX5_init_3 7 rfl rfl)
theorem dX5_init_78 : decode cX5_init 78 = .ok (.if_icmp .ne 7, 3) := dk_160 0 7 (dk_at dksX5_init_3 8 rfl rfl)
theorem dX5_init_81 : decode cX5_init 81 = .ok (.iconst 1, 1) := dk_4 (dk_at dksX5_init_3 11 rfl rfl)
theorem dX5_init_82 : decode cX5_init 82 = .ok (.goto 4, 3) := dk_167 0 4 (dk_at dksX5_init_3 12 rfl rfl)
theorem dX5_init_85 : decode cX5_init 85 = .ok (.iconst 0, 1) := dk_3 (dk_at dksX5_init_3 15 rfl rfl)
theorem dX5_init_86 : decode cX5_init 86 = .ok (.iload_n 1, 1) := dk_27 (dk_at dksX5_init_3 16 rfl rfl)
theorem dX5_init_87 : decode cX5_init 87 = .ok (.iconst 4, 1) := dk_7 (dk_at dksX5_init_3 17 rfl rfl)
theorem dX5_init_88 : decode cX5_init 88 = .ok (.iand, 1) := dk_126 (dk_at dksX5_init_3 18 rfl rfl)
theorem dX5_init_89 : decode cX5_init 89 = .ok (.iconst 4, 1) := dk_7 (dk_at dksX5_init_3 19 rfl rfl)
theorem dX5_init_90 : decode cX5_init 90 = .ok (.if_icmp .ne 7, 3) := dk_160 0 7 (dk_at dksX5_init_3 20 rfl rfl)
theorem dX5_init_93 : decode cX5_init 93 = .ok (.iconst 1, 1) := dk_4 (dk_at dksX5_init_3 23 rfl rfl)
theorem dX5_init_94 : decode cX5_init 94 = .ok (.goto 4, 3) := dk_167 0 4 (dk_at dksX5_init_4 0 rfl rfl)
theorem dX5_init_97 : decode cX5_init 97 = .ok (.iconst 0, 1) := dk_3 (dk_at dksX5_init_4 3 rfl rfl)
theorem dX5_init_98 : decode cX5_init 98 = .ok (.invokespecial 27, 3) := dk_183 0 27 (dk_at dksX5_init_4 4 rfl rfl)
theorem dX5_init_101 : decode cX5_init 101 = .ok (.aastore, 1) := dk_83 (dk_at dksX5_init_4 7 rfl rfl)
theorem dX5_init_102 : decode cX5_init 102 = .ok (.iinc 1 1, 3) := dk_132 1 1 (dk_at dksX5_init_4 8 rfl rfl)
theorem dX5_init_105 : decode cX5_init 105 = .ok (.goto (-90), 3) := dk_167 255 166 (dk_at dksX5_init_4 11 rfl rfl)
theorem dX5_init_108 : decode cX5_init 108 = .ok (.return_, 1) := dk_177 (dk_at dksX5_init_4 14 rfl rfl)
abbrev cX5_of : ByteArray := prog_25_method_2_code
def yX5_of : MethodName := ⟨RX5, "of", "(LKeptLight$Weather;ZZZ)LKeptLight$Sight;"⟩
def dkwX5_of_2 : List UInt8 := [184, 0, 37, 104, 96, 50, 176]
abbrev dktX5_of_2 : List UInt8 := dkwX5_of_2 ++ []
def dkwX5_of_1 : List UInt8 := [3, 54, 5, 42, 180, 0, 9, 21, 5, 28, 184, 0, 37, 96, 5, 29, 184, 0, 37, 104, 96, 7, 21, 4]
abbrev dktX5_of_1 : List UInt8 := dkwX5_of_1 ++ dktX5_of_2
def dkwX5_of_0 : List UInt8 := [43, 182, 0, 30, 153, 0, 8, 16, 8, 167, 0, 16, 43, 182, 0, 34, 153, 0, 8, 16, 16, 167, 0, 4]
abbrev dktX5_of_0 : List UInt8 := dkwX5_of_0 ++ dktX5_of_1
theorem dksX5_of_0 : cX5_of.data.toList.drop 0 = dktX5_of_0 := by decide +kernel
theorem dksX5_of_1 : cX5_of.data.toList.drop 24 = dktX5_of_1 := dk_seg dksX5_of_0 24 rfl rfl
theorem dksX5_of_2 : cX5_of.data.toList.drop 48 = dktX5_of_2 := dk_seg dksX5_of_1 24 rfl rfl
theorem dX5_of_0 : decode cX5_of 0 = .ok (.aload_n 1, 1) := dk_43 (dk_at dksX5_of_0 0 rfl rfl)
theorem dX5_of_1 : decode cX5_of 1 = .ok (.invokevirtual 30, 3) := dk_182 0 30 (dk_at dksX5_of_0 1 rfl rfl)
theorem dX5_of_4 : decode cX5_of 4 = .ok (.ifCond .eq 8, 3) := dk_153 0 8 (dk_at dksX5_of_0 4 rfl rfl)
theorem dX5_of_7 : decode cX5_of 7 = .ok (.bipush 8, 2) := dk_16 8 (dk_at dksX5_of_0 7 rfl rfl)
theorem dX5_of_9 : decode cX5_of 9 = .ok (.goto 16, 3) := dk_167 0 16 (dk_at dksX5_of_0 9 rfl rfl)
theorem dX5_of_12 : decode cX5_of 12 = .ok (.aload_n 1, 1) := dk_43 (dk_at dksX5_of_0 12 rfl rfl)
theorem dX5_of_13 : decode cX5_of 13 = .ok (.invokevirtual 34, 3) := dk_182 0 34 (dk_at dksX5_of_0 13 rfl rfl)
theorem dX5_of_16 : decode cX5_of 16 = .ok (.ifCond .eq 8, 3) := dk_153 0 8 (dk_at dksX5_of_0 16 rfl rfl)
theorem dX5_of_19 : decode cX5_of 19 = .ok (.bipush 16, 2) := dk_16 16 (dk_at dksX5_of_0 19 rfl rfl)
theorem dX5_of_21 : decode cX5_of 21 = .ok (.goto 4, 3) := dk_167 0 4 (dk_at dksX5_of_0 21 rfl rfl)
theorem dX5_of_24 : decode cX5_of 24 = .ok (.iconst 0, 1) := dk_3 (dk_at dksX5_of_1 0 rfl rfl)
theorem dX5_of_25 : decode cX5_of 25 = .ok (.istore 5, 2) := dk_54 5 (dk_at dksX5_of_1 1 rfl rfl)
theorem dX5_of_27 : decode cX5_of 27 = .ok (.aload_n 0, 1) := dk_42 (dk_at dksX5_of_1 3 rfl rfl)
theorem dX5_of_28 : decode cX5_of 28 = .ok (.getfield 9, 3) := dk_180 0 9 (dk_at dksX5_of_1 4 rfl rfl)
theorem dX5_of_31 : decode cX5_of 31 = .ok (.iload 5, 2) := dk_21 5 (dk_at dksX5_of_1 7 rfl rfl)
theorem dX5_of_33 : decode cX5_of 33 = .ok (.iload_n 2, 1) := dk_28 (dk_at dksX5_of_1 9 rfl rfl)
theorem dX5_of_34 : decode cX5_of 34 = .ok (.invokestatic 37, 3) := dk_184 0 37 (dk_at dksX5_of_1 10 rfl rfl)
theorem dX5_of_37 : decode cX5_of 37 = .ok (.iadd, 1) := dk_96 (dk_at dksX5_of_1 13 rfl rfl)
theorem dX5_of_38 : decode cX5_of 38 = .ok (.iconst 2, 1) := dk_5 (dk_at dksX5_of_1 14 rfl rfl)
theorem dX5_of_39 : decode cX5_of 39 = .ok (.iload_n 3, 1) := dk_29 (dk_at dksX5_of_1 15 rfl rfl)
theorem dX5_of_40 : decode cX5_of 40 = .ok (.invokestatic 37, 3) := dk_184 0 37 (dk_at dksX5_of_1 16 rfl rfl)
theorem dX5_of_43 : decode cX5_of 43 = .ok (.imul, 1) := dk_104 (dk_at dksX5_of_1 19 rfl rfl)
theorem dX5_of_44 : decode cX5_of 44 = .ok (.iadd, 1) := dk_96 (dk_at dksX5_of_1 20 rfl rfl)
theorem dX5_of_45 : decode cX5_of 45 = .ok (.iconst 4, 1) := dk_7 (dk_at dksX5_of_1 21 rfl rfl)
theorem dX5_of_46 : decode cX5_of 46 = .ok (.iload 4, 2) := dk_21 4 (dk_at dksX5_of_1 22 rfl rfl)
theorem dX5_of_48 : decode cX5_of 48 = .ok (.invokestatic 37, 3) := dk_184 0 37 (dk_at dksX5_of_2 0 rfl rfl)
theorem dX5_of_51 : decode cX5_of 51 = .ok (.imul, 1) := dk_104 (dk_at dksX5_of_2 3 rfl rfl)
theorem dX5_of_52 : decode cX5_of 52 = .ok (.iadd, 1) := dk_96 (dk_at dksX5_of_2 4 rfl rfl)
theorem dX5_of_53 : decode cX5_of 53 = .ok (.aaload, 1) := dk_50 (dk_at dksX5_of_2 5 rfl rfl)
theorem dX5_of_54 : decode cX5_of 54 = .ok (.areturn, 1) := dk_176 (dk_at dksX5_of_2 6 rfl rfl)
theorem q84 : (Jvm.Cond.initialized "KeptLight$Sights") ∈ lw_all := lw_g (lw_at lw_m1 8 rfl) rfl
theorem q244 : (Jvm.Cond.instantiable "KeptLight$Sights" (1 : Nat)) ∈ lw_all := lw_g (lw_at lw_m1 168 rfl) rfl
theorem q246 : (Jvm.Cond.instanceMethod ({ cls := "KeptLight$Sights", name := "<init>", desc := "()V" } : Jvm.MethodName)) ∈ lw_all := lw_g (lw_at lw_m1 170 rfl) rfl
theorem q247 : (Jvm.Cond.code ({ cls := "KeptLight$Sights", name := "<init>", desc := "()V" } : Jvm.MethodName) prog_25_method_1_code (3 : Nat) (Option.none : Option Jvm.ClassFile.FieldType)) ∈ lw_all := lw_g (lw_at lw_m1 171 rfl) rfl
theorem q248 : (Jvm.Cond.methodLink "KeptLight$Sights" (1 : Nat) ({ cls := "java/lang/Object", name := "<init>", desc := "()V" } : Jvm.MethodName)) ∈ lw_all := lw_g (lw_at lw_m1 172 rfl) rfl
theorem q249 : (Jvm.Cond.classLink "KeptLight$Sights" (7 : Nat) "KeptLight$Sight") ∈ lw_all := lw_g (lw_at lw_m1 173 rfl) rfl
theorem q251 : (Jvm.Cond.fieldLink "KeptLight$Sights" (15 : Nat) "KeptLight$Weather" "CLEAR" "LKeptLight$Weather;") ∈ lw_all := lw_g (lw_at lw_m1 175 rfl) rfl
theorem q253 : (Jvm.Cond.fieldLink "KeptLight$Sights" (21 : Nat) "KeptLight$Weather" "FOG" "LKeptLight$Weather;") ∈ lw_all := lw_g (lw_at lw_m1 177 rfl) rfl
theorem q255 : (Jvm.Cond.fieldLink "KeptLight$Sights" (24 : Nat) "KeptLight$Weather" "STORM" "LKeptLight$Weather;") ∈ lw_all := lw_g (lw_at lw_m1 179 rfl) rfl
theorem q258 : (Jvm.Cond.methodLink "KeptLight$Sights" (27 : Nat) ({ cls := "KeptLight$Sight", name := "<init>", desc := "(LKeptLight$Weather;ZZZ)V" } : Jvm.MethodName)) ∈ lw_all := lw_g (lw_at lw_m1 182 rfl) rfl
theorem q287 : (Jvm.Cond.fieldLink "KeptLight$Sights" (9 : Nat) "KeptLight$Sights" "all" "[LKeptLight$Sight;") ∈ lw_all := lw_g (lw_at lw_m1 211 rfl) rfl
theorem q288 : (Jvm.Cond.laysFinal "KeptLight$Sights" "KeptLight$Sights" "all" "[LKeptLight$Sight;") ∈ lw_all := lw_g (lw_at lw_m1 212 rfl) rfl
theorem q289 : (Jvm.Cond.soleField "KeptLight$Sights" "all") ∈ lw_all := lw_g (lw_at lw_m1 213 rfl) rfl
theorem q290 : (Jvm.Cond.superclass "KeptLight$Sights" "java/lang/Object") ∈ lw_all := lw_g (lw_at lw_m1 214 rfl) rfl
theorem q1265 : (Jvm.Cond.selects "KeptLight$Sights" ({ cls := "java/lang/Object", name := "getClass", desc := "()Ljava/lang/Class;" } : Jvm.MethodName) ({ cls := "java/lang/Object", name := "getClass", desc := "()Ljava/lang/Class;" } : Jvm.MethodName)) ∈ lw_all := lw_g (lw_at lw_m5 229 rfl) rfl
theorem q2637 : (Jvm.Cond.instanceMethod ({ cls := "KeptLight$Sights", name := "of", desc := "(LKeptLight$Weather;ZZZ)LKeptLight$Sight;" } : Jvm.MethodName)) ∈ lw_all := lw_g (lw_at lw_m11 161 rfl) rfl
theorem q2638 : (Jvm.Cond.selects "KeptLight$Sights" ({ cls := "KeptLight$Sights", name := "of", desc := "(LKeptLight$Weather;ZZZ)LKeptLight$Sight;" } : Jvm.MethodName) ({ cls := "KeptLight$Sights", name := "of", desc := "(LKeptLight$Weather;ZZZ)LKeptLight$Sight;" } : Jvm.MethodName)) ∈ lw_all := lw_g (lw_at lw_m11 162 rfl) rfl
theorem q2639 : (Jvm.Cond.code ({ cls := "KeptLight$Sights", name := "of", desc := "(LKeptLight$Weather;ZZZ)LKeptLight$Sight;" } : Jvm.MethodName) prog_25_method_2_code (6 : Nat) (Option.some (Jvm.ClassFile.FieldType.object "KeptLight$Sight"))) ∈ lw_all := lw_g (lw_at lw_m11 163 rfl) rfl
theorem q2640 : (Jvm.Cond.methodLink "KeptLight$Sights" (30 : Nat) ({ cls := "KeptLight$Weather", name := "wantsSound", desc := "()Z" } : Jvm.MethodName)) ∈ lw_all := lw_g (lw_at lw_m11 164 rfl) rfl
theorem q2641 : (Jvm.Cond.methodLink "KeptLight$Sights" (34 : Nat) ({ cls := "KeptLight$Weather", name := "isWild", desc := "()Z" } : Jvm.MethodName)) ∈ lw_all := lw_g (lw_at lw_m11 165 rfl) rfl
theorem q2642 : (Jvm.Cond.methodLinkNest "KeptLight$Sights" (37 : Nat) ({ cls := "KeptLight", name := "one", desc := "(Z)I" } : Jvm.MethodName) "KeptLight") ∈ lw_tbl := lw_at lw_m11 166 rfl
theorem q3045 : (Jvm.Cond.selects "KeptLight$Sights" ({ cls := "java/lang/Object", name := "equals", desc := "(Ljava/lang/Object;)Z" } : Jvm.MethodName) ({ cls := "java/lang/Object", name := "equals", desc := "(Ljava/lang/Object;)Z" } : Jvm.MethodName)) ∈ lw_all := lw_g (lw_at lw_m13 89 rfl) rfl
theorem q3696 : (Jvm.Cond.castable "KeptLight$Sights" "java/lang/Object") ∈ lw_tbl := lw_at lw_m16 20 rfl
theorem in_X5 : ∀ w ∈ wsX50, w ∈ lw_all := lw_in wsX50 [288] (by decide +kernel) (by decide +kernel)
/-! KeptLight$Weather -/
set_option maxRecDepth 100000
def RX6 : String := "KeptLight$Weather"
abbrev cX6_isWild : ByteArray := prog_28_method_6_code
def yX6_isWild : MethodName := ⟨RX6, "isWild", "()Z"⟩
theorem dX6_isWild_0 : decode cX6_isWild 0 = .ok (.iconst 0, 1) := by decide +kernel
theorem dX6_isWild_1 : decode cX6_isWild 1 = .ok (.ireturn, 1) := by decide +kernel
abbrev cX6_wantsSound : ByteArray := prog_28_method_5_code
def yX6_wantsSound : MethodName := ⟨RX6, "wantsSound", "()Z"⟩
theorem dX6_wantsSound_0 : decode cX6_wantsSound 0 = .ok (.iconst 0, 1) := by decide +kernel
theorem dX6_wantsSound_1 : decode cX6_wantsSound 1 = .ok (.ireturn, 1) := by decide +kernel
theorem q86 : (Jvm.Cond.initialized "KeptLight$Weather") ∈ lw_all := lw_g (lw_at lw_m1 10 rfl) rfl
theorem q252 : (Jvm.Cond.laysStatic "KeptLight$Weather" "CLEAR" "LKeptLight$Weather;") ∈ lw_tbl := lw_at lw_m1 176 rfl
theorem q254 : (Jvm.Cond.laysStatic "KeptLight$Weather" "FOG" "LKeptLight$Weather;") ∈ lw_tbl := lw_at lw_m1 178 rfl
theorem q256 : (Jvm.Cond.laysStatic "KeptLight$Weather" "STORM" "LKeptLight$Weather;") ∈ lw_tbl := lw_at lw_m1 180 rfl
theorem q1034 : (Jvm.Cond.instanceMethod ({ cls := "KeptLight$Weather", name := "isWild", desc := "()Z" } : Jvm.MethodName)) ∈ lw_all := lw_g (lw_at lw_m4 238 rfl) rfl
theorem q1035 : (Jvm.Cond.sameMethod "KeptLight$Weather" "KeptLight$Weather" "isWild" "()Z") ∈ lw_all := lw_g (lw_at lw_m4 239 rfl) rfl
theorem q1041 : (Jvm.Cond.code ({ cls := "KeptLight$Weather", name := "isWild", desc := "()Z" } : Jvm.MethodName) prog_28_method_6_code (1 : Nat) (Option.some Jvm.ClassFile.FieldType.boolean)) ∈ lw_all := lw_g (lw_at lw_m5 5 rfl) rfl
theorem q1058 : (Jvm.Cond.instanceMethod ({ cls := "KeptLight$Weather", name := "wantsSound", desc := "()Z" } : Jvm.MethodName)) ∈ lw_all := lw_g (lw_at lw_m5 22 rfl) rfl
theorem q1059 : (Jvm.Cond.sameMethod "KeptLight$Weather" "KeptLight$Weather" "wantsSound" "()Z") ∈ lw_all := lw_g (lw_at lw_m5 23 rfl) rfl
theorem q1065 : (Jvm.Cond.code ({ cls := "KeptLight$Weather", name := "wantsSound", desc := "()Z" } : Jvm.MethodName) prog_28_method_5_code (1 : Nat) (Option.some Jvm.ClassFile.FieldType.boolean)) ∈ lw_all := lw_g (lw_at lw_m5 29 rfl) rfl
theorem q2744 : (Jvm.Cond.declares ({ cls := "KeptLight$Weather", name := "tires", desc := "()I" } : Jvm.MethodName)) ∈ lw_tbl := lw_at lw_m12 28 rfl
theorem q2745 : (Jvm.Cond.sameMethod "KeptLight$Weather" "KeptLight$Weather" "tires" "()I") ∈ lw_all := lw_g (lw_at lw_m12 29 rfl) rfl
theorem q3749 : (Jvm.Cond.castable "KeptLight$Weather" "java/lang/Object") ∈ lw_tbl := lw_at lw_m16 73 rfl
/-! KeptLight$Sight -/
set_option maxRecDepth 100000
def RX7 : String := "KeptLight$Sight"
def TX7 : u_T := fun k => match k with
  | 0 => ("KeptLight$Sight", "weather", "LKeptLight$Weather;", true)
  | 1 => ("KeptLight$Sight", "isDark", "Z", true)
  | 2 => ("KeptLight$Sight", "isLit", "Z", true)
  | _ => ("KeptLight$Sight", "isSounding", "Z", true)
def tyX7 : Nat → FieldType := fun k => match k with
  | 0 => .object "KeptLight$Weather"
  | 1 => .boolean
  | 2 => .boolean
  | _ => .boolean
abbrev wsX70 : List Cond := u_ws RX7 TX7 4
theorem nmX7 : ∀ a, a < 4 → ∀ b, b < 4 → a ≠ b → (TX7 a).2.1 ≠ (TX7 b).2.1 := by decide +kernel
theorem tyX7_ok : ∀ k, k < 4 → parseFieldDescriptor (TX7 k).2.2.1 = some (tyX7 k) := by decide +kernel
abbrev cX7_init : ByteArray := prog_24_method_1_code
def yX7_init : MethodName := ⟨RX7, "<init>", "(LKeptLight$Weather;ZZZ)V"⟩
def dkwX7_init_1 : List UInt8 := [181, 0, 20, 177]
abbrev dktX7_init_1 : List UInt8 := dkwX7_init_1 ++ []
def dkwX7_init_0 : List UInt8 := [42, 183, 0, 1, 42, 43, 181, 0, 7, 42, 28, 181, 0, 13, 42, 29, 181, 0, 17, 42, 21, 4]
abbrev dktX7_init_0 : List UInt8 := dkwX7_init_0 ++ dktX7_init_1
theorem dksX7_init_0 : cX7_init.data.toList.drop 0 = dktX7_init_0 := by decide +kernel
theorem dksX7_init_1 : cX7_init.data.toList.drop 22 = dktX7_init_1 := dk_seg dksX7_init_0 22 rfl rfl
theorem dX7_init_0 : decode cX7_init 0 = .ok (.aload_n 0, 1) := dk_42 (dk_at dksX7_init_0 0 rfl rfl)
theorem dX7_init_1 : decode cX7_init 1 = .ok (.invokespecial 1, 3) := dk_183 0 1 (dk_at dksX7_init_0 1 rfl rfl)
theorem dX7_init_4 : decode cX7_init 4 = .ok (.aload_n 0, 1) := dk_42 (dk_at dksX7_init_0 4 rfl rfl)
theorem dX7_init_5 : decode cX7_init 5 = .ok (.aload_n 1, 1) := dk_43 (dk_at dksX7_init_0 5 rfl rfl)
theorem dX7_init_6 : decode cX7_init 6 = .ok (.putfield 7, 3) := dk_181 0 7 (dk_at dksX7_init_0 6 rfl rfl)
theorem dX7_init_9 : decode cX7_init 9 = .ok (.aload_n 0, 1) := dk_42 (dk_at dksX7_init_0 9 rfl rfl)
theorem dX7_init_10 : decode cX7_init 10 = .ok (.iload_n 2, 1) := dk_28 (dk_at dksX7_init_0 10 rfl rfl)
theorem dX7_init_11 : decode cX7_init 11 = .ok (.putfield 13, 3) := dk_181 0 13 (dk_at dksX7_init_0 11 rfl rfl)
theorem dX7_init_14 : decode cX7_init 14 = .ok (.aload_n 0, 1) := dk_42 (dk_at dksX7_init_0 14 rfl rfl)
theorem dX7_init_15 : decode cX7_init 15 = .ok (.iload_n 3, 1) := dk_29 (dk_at dksX7_init_0 15 rfl rfl)
theorem dX7_init_16 : decode cX7_init 16 = .ok (.putfield 17, 3) := dk_181 0 17 (dk_at dksX7_init_0 16 rfl rfl)
theorem dX7_init_19 : decode cX7_init 19 = .ok (.aload_n 0, 1) := dk_42 (dk_at dksX7_init_0 19 rfl rfl)
theorem dX7_init_20 : decode cX7_init 20 = .ok (.iload 4, 2) := dk_21 4 (dk_at dksX7_init_0 20 rfl rfl)
theorem dX7_init_22 : decode cX7_init 22 = .ok (.putfield 20, 3) := dk_181 0 20 (dk_at dksX7_init_1 0 rfl rfl)
theorem dX7_init_25 : decode cX7_init 25 = .ok (.return_, 1) := dk_177 (dk_at dksX7_init_1 3 rfl rfl)
abbrev cX7_met : ByteArray := prog_24_method_2_code
def yX7_met : MethodName := ⟨RX7, "met", "()I"⟩
def dkwX7_met_1 : List UInt8 := [96, 172]
abbrev dktX7_met_1 : List UInt8 := dkwX7_met_1 ++ []
def dkwX7_met_0 : List UInt8 := [42, 180, 0, 17, 153, 0, 7, 4, 167, 0, 4, 3, 42, 180, 0, 20, 153, 0, 7, 5, 167, 0, 4, 3]
abbrev dktX7_met_0 : List UInt8 := dkwX7_met_0 ++ dktX7_met_1
theorem dksX7_met_0 : cX7_met.data.toList.drop 0 = dktX7_met_0 := by decide +kernel
theorem dksX7_met_1 : cX7_met.data.toList.drop 24 = dktX7_met_1 := dk_seg dksX7_met_0 24 rfl rfl
theorem dX7_met_0 : decode cX7_met 0 = .ok (.aload_n 0, 1) := dk_42 (dk_at dksX7_met_0 0 rfl rfl)
theorem dX7_met_1 : decode cX7_met 1 = .ok (.getfield 17, 3) := dk_180 0 17 (dk_at dksX7_met_0 1 rfl rfl)
theorem dX7_met_4 : decode cX7_met 4 = .ok (.ifCond .eq 7, 3) := dk_153 0 7 (dk_at dksX7_met_0 4 rfl rfl)
theorem dX7_met_7 : decode cX7_met 7 = .ok (.iconst 1, 1) := dk_4 (dk_at dksX7_met_0 7 rfl rfl)
theorem dX7_met_8 : decode cX7_met 8 = .ok (.goto 4, 3) := dk_167 0 4 (dk_at dksX7_met_0 8 rfl rfl)
theorem dX7_met_11 : decode cX7_met 11 = .ok (.iconst 0, 1) := dk_3 (dk_at dksX7_met_0 11 rfl rfl)
theorem dX7_met_12 : decode cX7_met 12 = .ok (.aload_n 0, 1) := dk_42 (dk_at dksX7_met_0 12 rfl rfl)
theorem dX7_met_13 : decode cX7_met 13 = .ok (.getfield 20, 3) := dk_180 0 20 (dk_at dksX7_met_0 13 rfl rfl)
theorem dX7_met_16 : decode cX7_met 16 = .ok (.ifCond .eq 7, 3) := dk_153 0 7 (dk_at dksX7_met_0 16 rfl rfl)
theorem dX7_met_19 : decode cX7_met 19 = .ok (.iconst 2, 1) := dk_5 (dk_at dksX7_met_0 19 rfl rfl)
theorem dX7_met_20 : decode cX7_met 20 = .ok (.goto 4, 3) := dk_167 0 4 (dk_at dksX7_met_0 20 rfl rfl)
theorem dX7_met_23 : decode cX7_met 23 = .ok (.iconst 0, 1) := dk_3 (dk_at dksX7_met_0 23 rfl rfl)
theorem dX7_met_24 : decode cX7_met 24 = .ok (.iadd, 1) := dk_96 (dk_at dksX7_met_1 0 rfl rfl)
theorem dX7_met_25 : decode cX7_met 25 = .ok (.ireturn, 1) := dk_172 (dk_at dksX7_met_1 1 rfl rfl)
theorem q87 : (Jvm.Cond.initialized "KeptLight$Sight") ∈ lw_all := lw_g (lw_at lw_m1 11 rfl) rfl
theorem q257 : (Jvm.Cond.instantiable "KeptLight$Sight" (4 : Nat)) ∈ lw_all := lw_g (lw_at lw_m1 181 rfl) rfl
theorem q259 : (Jvm.Cond.instanceMethod ({ cls := "KeptLight$Sight", name := "<init>", desc := "(LKeptLight$Weather;ZZZ)V" } : Jvm.MethodName)) ∈ lw_all := lw_g (lw_at lw_m1 183 rfl) rfl
theorem q260 : (Jvm.Cond.code ({ cls := "KeptLight$Sight", name := "<init>", desc := "(LKeptLight$Weather;ZZZ)V" } : Jvm.MethodName) prog_24_method_1_code (5 : Nat) (Option.none : Option Jvm.ClassFile.FieldType)) ∈ lw_all := lw_g (lw_at lw_m1 184 rfl) rfl
theorem q261 : (Jvm.Cond.methodLink "KeptLight$Sight" (1 : Nat) ({ cls := "java/lang/Object", name := "<init>", desc := "()V" } : Jvm.MethodName)) ∈ lw_all := lw_g (lw_at lw_m1 185 rfl) rfl
theorem q262 : (Jvm.Cond.fieldLink "KeptLight$Sight" (7 : Nat) "KeptLight$Sight" "weather" "LKeptLight$Weather;") ∈ lw_all := lw_g (lw_at lw_m1 186 rfl) rfl
theorem q268 : (Jvm.Cond.fieldLink "KeptLight$Sight" (13 : Nat) "KeptLight$Sight" "isDark" "Z") ∈ lw_all := lw_g (lw_at lw_m1 192 rfl) rfl
theorem q272 : (Jvm.Cond.fieldLink "KeptLight$Sight" (17 : Nat) "KeptLight$Sight" "isLit" "Z") ∈ lw_all := lw_g (lw_at lw_m1 196 rfl) rfl
theorem q275 : (Jvm.Cond.fieldLink "KeptLight$Sight" (20 : Nat) "KeptLight$Sight" "isSounding" "Z") ∈ lw_all := lw_g (lw_at lw_m1 199 rfl) rfl
theorem q278 : (Jvm.Cond.laysFinal "KeptLight$Sight" "KeptLight$Sight" "weather" "LKeptLight$Weather;") ∈ lw_all := lw_g (lw_at lw_m1 202 rfl) rfl
theorem q279 : (Jvm.Cond.soleField "KeptLight$Sight" "weather") ∈ lw_all := lw_g (lw_at lw_m1 203 rfl) rfl
theorem q280 : (Jvm.Cond.laysFinal "KeptLight$Sight" "KeptLight$Sight" "isDark" "Z") ∈ lw_all := lw_g (lw_at lw_m1 204 rfl) rfl
theorem q281 : (Jvm.Cond.soleField "KeptLight$Sight" "isDark") ∈ lw_all := lw_g (lw_at lw_m1 205 rfl) rfl
theorem q282 : (Jvm.Cond.laysFinal "KeptLight$Sight" "KeptLight$Sight" "isLit" "Z") ∈ lw_all := lw_g (lw_at lw_m1 206 rfl) rfl
theorem q283 : (Jvm.Cond.soleField "KeptLight$Sight" "isLit") ∈ lw_all := lw_g (lw_at lw_m1 207 rfl) rfl
theorem q284 : (Jvm.Cond.laysFinal "KeptLight$Sight" "KeptLight$Sight" "isSounding" "Z") ∈ lw_all := lw_g (lw_at lw_m1 208 rfl) rfl
theorem q285 : (Jvm.Cond.soleField "KeptLight$Sight" "isSounding") ∈ lw_all := lw_g (lw_at lw_m1 209 rfl) rfl
theorem q286 : (Jvm.Cond.superclass "KeptLight$Sight" "java/lang/Object") ∈ lw_all := lw_g (lw_at lw_m1 210 rfl) rfl
theorem q1264 : (Jvm.Cond.selects "KeptLight$Sight" ({ cls := "java/lang/Object", name := "getClass", desc := "()Ljava/lang/Class;" } : Jvm.MethodName) ({ cls := "java/lang/Object", name := "getClass", desc := "()Ljava/lang/Class;" } : Jvm.MethodName)) ∈ lw_all := lw_g (lw_at lw_m5 228 rfl) rfl
theorem q2727 : (Jvm.Cond.instanceMethod ({ cls := "KeptLight$Sight", name := "met", desc := "()I" } : Jvm.MethodName)) ∈ lw_all := lw_g (lw_at lw_m12 11 rfl) rfl
theorem q2728 : (Jvm.Cond.selects "KeptLight$Sight" ({ cls := "KeptLight$Sight", name := "met", desc := "()I" } : Jvm.MethodName) ({ cls := "KeptLight$Sight", name := "met", desc := "()I" } : Jvm.MethodName)) ∈ lw_all := lw_g (lw_at lw_m12 12 rfl) rfl
theorem q2729 : (Jvm.Cond.code ({ cls := "KeptLight$Sight", name := "met", desc := "()I" } : Jvm.MethodName) prog_24_method_2_code (1 : Nat) (Option.some Jvm.ClassFile.FieldType.int)) ∈ lw_all := lw_g (lw_at lw_m12 13 rfl) rfl
theorem q3044 : (Jvm.Cond.selects "KeptLight$Sight" ({ cls := "java/lang/Object", name := "equals", desc := "(Ljava/lang/Object;)Z" } : Jvm.MethodName) ({ cls := "java/lang/Object", name := "equals", desc := "(Ljava/lang/Object;)Z" } : Jvm.MethodName)) ∈ lw_all := lw_g (lw_at lw_m13 88 rfl) rfl
theorem q3688 : (Jvm.Cond.castable "KeptLight$Sight" "java/lang/Object") ∈ lw_tbl := lw_at lw_m16 12 rfl
theorem in_X7 : ∀ w ∈ wsX70, w ∈ lw_all := lw_in wsX70 [278, 280, 282, 284] (by decide +kernel) (by decide +kernel)
/-! KeptLight$Sheet -/
set_option maxRecDepth 100000
def RX8 : String := "KeptLight$Sheet"
def TX8 : u_T := fun k => match k with
  | _ => ("KeptLight$Sheet", "held", "Ljava/lang/Object;", false)
def tyX8 : Nat → FieldType := fun k => match k with
  | _ => .object "java/lang/Object"
abbrev wsX80 : List Cond := u_ws RX8 TX8 1
theorem nmX8 : ∀ a, a < 1 → ∀ b, b < 1 → a ≠ b → (TX8 a).2.1 ≠ (TX8 b).2.1 := by decide +kernel
theorem tyX8_ok : ∀ k, k < 1 → parseFieldDescriptor (TX8 k).2.2.1 = some (tyX8 k) := by decide +kernel
abbrev cX8_init : ByteArray := prog_22_method_1_code
def yX8_init : MethodName := ⟨RX8, "<init>", "()V"⟩
theorem dX8_init_0 : decode cX8_init 0 = .ok (.aload_n 0, 1) := by decide +kernel
theorem dX8_init_1 : decode cX8_init 1 = .ok (.invokespecial 1, 3) := by decide +kernel
theorem dX8_init_4 : decode cX8_init 4 = .ok (.return_, 1) := by decide +kernel
theorem q108 : (Jvm.Cond.initialized "KeptLight$Sheet") ∈ lw_all := lw_g (lw_at lw_m1 32 rfl) rfl
theorem q778 : (Jvm.Cond.instantiable "KeptLight$Sheet" (1 : Nat)) ∈ lw_all := lw_g (lw_at lw_m3 222 rfl) rfl
theorem q780 : (Jvm.Cond.instanceMethod ({ cls := "KeptLight$Sheet", name := "<init>", desc := "()V" } : Jvm.MethodName)) ∈ lw_all := lw_g (lw_at lw_m3 224 rfl) rfl
theorem q781 : (Jvm.Cond.code ({ cls := "KeptLight$Sheet", name := "<init>", desc := "()V" } : Jvm.MethodName) prog_22_method_1_code (1 : Nat) (Option.none : Option Jvm.ClassFile.FieldType)) ∈ lw_all := lw_g (lw_at lw_m3 225 rfl) rfl
theorem q782 : (Jvm.Cond.methodLink "KeptLight$Sheet" (1 : Nat) ({ cls := "java/lang/Object", name := "<init>", desc := "()V" } : Jvm.MethodName)) ∈ lw_all := lw_g (lw_at lw_m3 226 rfl) rfl
theorem q784 : (Jvm.Cond.lays "KeptLight$Sheet" "KeptLight$Sheet" "held" "Ljava/lang/Object;") ∈ lw_all := lw_g (lw_at lw_m3 228 rfl) rfl
theorem q785 : (Jvm.Cond.soleField "KeptLight$Sheet" "held") ∈ lw_all := lw_g (lw_at lw_m3 229 rfl) rfl
theorem q786 : (Jvm.Cond.superclass "KeptLight$Sheet" "java/lang/Object") ∈ lw_all := lw_g (lw_at lw_m3 230 rfl) rfl
theorem q1263 : (Jvm.Cond.selects "KeptLight$Sheet" ({ cls := "java/lang/Object", name := "getClass", desc := "()Ljava/lang/Class;" } : Jvm.MethodName) ({ cls := "java/lang/Object", name := "getClass", desc := "()Ljava/lang/Class;" } : Jvm.MethodName)) ∈ lw_all := lw_g (lw_at lw_m5 227 rfl) rfl
theorem q3043 : (Jvm.Cond.selects "KeptLight$Sheet" ({ cls := "java/lang/Object", name := "equals", desc := "(Ljava/lang/Object;)Z" } : Jvm.MethodName) ({ cls := "java/lang/Object", name := "equals", desc := "(Ljava/lang/Object;)Z" } : Jvm.MethodName)) ∈ lw_all := lw_g (lw_at lw_m13 87 rfl) rfl
theorem q3689 : (Jvm.Cond.castable "KeptLight$Sheet" "java/lang/Object") ∈ lw_tbl := lw_at lw_m16 13 rfl
theorem in_X8 : ∀ w ∈ wsX80, w ∈ lw_all := lw_in wsX80 [784] (by decide +kernel) (by decide +kernel)
/-! KeptLight$Refused -/
set_option maxRecDepth 100000
def RX10 : String := "KeptLight$Refused"
def TX10 : u_T := fun k => match k with
  | 0 => ("java/lang/Throwable", "cause", "Ljava/lang/Throwable;", false)
  | 1 => ("java/lang/Throwable", "stackTrace", "[Ljava/lang/StackTraceElement;", false)
  | 2 => ("java/lang/Throwable", "suppressedExceptions", "Ljava/util/List;", false)
  | 3 => ("java/lang/Throwable", "detailMessage", "Ljava/lang/String;", false)
  | 4 => ("java/lang/Throwable", "backtrace", "Ljava/lang/Object;", false)
  | 5 => ("java/lang/Throwable", "depth", "I", false)
  | _ => ("KeptLight$Refused", "by", "I", true)
def tyX10 : Nat → FieldType := fun k => match k with
  | 0 => .object "java/lang/Throwable"
  | 1 => .array (.object "java/lang/StackTraceElement")
  | 2 => .object "java/util/List"
  | 3 => .object "java/lang/String"
  | 4 => .object "java/lang/Object"
  | 5 => .int
  | _ => .int
abbrev wsX100 : List Cond := u_ws RX10 TX10 7
theorem nmX10 : ∀ a, a < 7 → ∀ b, b < 7 → a ≠ b → (TX10 a).2.1 ≠ (TX10 b).2.1 := by decide +kernel
theorem tyX10_ok : ∀ k, k < 7 → parseFieldDescriptor (TX10 k).2.2.1 = some (tyX10 k) := by decide +kernel
abbrev cX10_init : ByteArray := prog_21_method_1_code
def yX10_init : MethodName := ⟨RX10, "<init>", "(I)V"⟩
def dkwX10_init_0 : List UInt8 := [42, 1, 1, 3, 3, 183, 0, 1, 42, 27, 181, 0, 7, 177]
abbrev dktX10_init_0 : List UInt8 := dkwX10_init_0 ++ []
theorem dksX10_init_0 : cX10_init.data.toList.drop 0 = dktX10_init_0 := by decide +kernel
theorem dX10_init_0 : decode cX10_init 0 = .ok (.aload_n 0, 1) := dk_42 (dk_at dksX10_init_0 0 rfl rfl)
theorem dX10_init_1 : decode cX10_init 1 = .ok (.aconst_null, 1) := dk_1 (dk_at dksX10_init_0 1 rfl rfl)
theorem dX10_init_2 : decode cX10_init 2 = .ok (.aconst_null, 1) := dk_1 (dk_at dksX10_init_0 2 rfl rfl)
theorem dX10_init_3 : decode cX10_init 3 = .ok (.iconst 0, 1) := dk_3 (dk_at dksX10_init_0 3 rfl rfl)
theorem dX10_init_4 : decode cX10_init 4 = .ok (.iconst 0, 1) := dk_3 (dk_at dksX10_init_0 4 rfl rfl)
theorem dX10_init_5 : decode cX10_init 5 = .ok (.invokespecial 1, 3) := dk_183 0 1 (dk_at dksX10_init_0 5 rfl rfl)
theorem dX10_init_8 : decode cX10_init 8 = .ok (.aload_n 0, 1) := dk_42 (dk_at dksX10_init_0 8 rfl rfl)
theorem dX10_init_9 : decode cX10_init 9 = .ok (.iload_n 1, 1) := dk_27 (dk_at dksX10_init_0 9 rfl rfl)
theorem dX10_init_10 : decode cX10_init 10 = .ok (.putfield 7, 3) := dk_181 0 7 (dk_at dksX10_init_0 10 rfl rfl)
theorem dX10_init_13 : decode cX10_init 13 = .ok (.return_, 1) := dk_177 (dk_at dksX10_init_0 13 rfl rfl)
theorem q112 : (Jvm.Cond.initialized "KeptLight$Refused") ∈ lw_all := lw_g (lw_at lw_m1 36 rfl) rfl
theorem q369 : (Jvm.Cond.selects "KeptLight$Refused" ({ cls := "java/lang/Throwable", name := "fillInStackTrace", desc := "()Ljava/lang/Throwable;" } : Jvm.MethodName) ({ cls := "java/lang/Throwable", name := "fillInStackTrace", desc := "()Ljava/lang/Throwable;" } : Jvm.MethodName)) ∈ lw_all := lw_g (lw_at lw_m2 53 rfl) rfl
theorem q863 : (Jvm.Cond.instantiable "KeptLight$Refused" (7 : Nat)) ∈ lw_all := lw_g (lw_at lw_m4 67 rfl) rfl
theorem q864 : (Jvm.Cond.castable "KeptLight$Refused" "KeptLight$Refused") ∈ lw_tbl := lw_at lw_m4 68 rfl
theorem q865 : (Jvm.Cond.selects "KeptLight$Refused" ({ cls := "java/lang/Throwable", name := "fillInStackTrace", desc := "(I)Ljava/lang/Throwable;" } : Jvm.MethodName) ({ cls := "java/lang/Throwable", name := "fillInStackTrace", desc := "(I)Ljava/lang/Throwable;" } : Jvm.MethodName)) ∈ lw_all := lw_g (lw_at lw_m4 69 rfl) rfl
theorem q866 : (Jvm.Cond.lays "KeptLight$Refused" "java/lang/Throwable" "cause" "Ljava/lang/Throwable;") ∈ lw_all := lw_g (lw_at lw_m4 70 rfl) rfl
theorem q867 : (Jvm.Cond.lays "KeptLight$Refused" "java/lang/Throwable" "stackTrace" "[Ljava/lang/StackTraceElement;") ∈ lw_all := lw_g (lw_at lw_m4 71 rfl) rfl
theorem q868 : (Jvm.Cond.lays "KeptLight$Refused" "java/lang/Throwable" "suppressedExceptions" "Ljava/util/List;") ∈ lw_all := lw_g (lw_at lw_m4 72 rfl) rfl
theorem q869 : (Jvm.Cond.lays "KeptLight$Refused" "java/lang/Throwable" "detailMessage" "Ljava/lang/String;") ∈ lw_all := lw_g (lw_at lw_m4 73 rfl) rfl
theorem q870 : (Jvm.Cond.lays "KeptLight$Refused" "java/lang/Throwable" "backtrace" "Ljava/lang/Object;") ∈ lw_all := lw_g (lw_at lw_m4 74 rfl) rfl
theorem q872 : (Jvm.Cond.instanceMethod ({ cls := "KeptLight$Refused", name := "<init>", desc := "(I)V" } : Jvm.MethodName)) ∈ lw_all := lw_g (lw_at lw_m4 76 rfl) rfl
theorem q873 : (Jvm.Cond.code ({ cls := "KeptLight$Refused", name := "<init>", desc := "(I)V" } : Jvm.MethodName) prog_21_method_1_code (2 : Nat) (Option.none : Option Jvm.ClassFile.FieldType)) ∈ lw_all := lw_g (lw_at lw_m4 77 rfl) rfl
theorem q874 : (Jvm.Cond.methodLink "KeptLight$Refused" (1 : Nat) ({ cls := "java/lang/RuntimeException", name := "<init>", desc := "(Ljava/lang/String;Ljava/lang/Throwable;ZZ)V" } : Jvm.MethodName)) ∈ lw_all := lw_g (lw_at lw_m4 78 rfl) rfl
theorem q883 : (Jvm.Cond.fieldLink "KeptLight$Refused" (7 : Nat) "KeptLight$Refused" "by" "I") ∈ lw_all := lw_g (lw_at lw_m4 87 rfl) rfl
theorem q885 : (Jvm.Cond.laysFinal "KeptLight$Refused" "KeptLight$Refused" "by" "I") ∈ lw_all := lw_g (lw_at lw_m4 89 rfl) rfl
theorem q886 : (Jvm.Cond.soleField "KeptLight$Refused" "by") ∈ lw_all := lw_g (lw_at lw_m4 90 rfl) rfl
theorem q887 : (Jvm.Cond.lays "KeptLight$Refused" "java/lang/Throwable" "depth" "I") ∈ lw_all := lw_g (lw_at lw_m4 91 rfl) rfl
theorem q888 : (Jvm.Cond.superclass "KeptLight$Refused" "java/lang/RuntimeException") ∈ lw_all := lw_g (lw_at lw_m4 92 rfl) rfl
theorem q1262 : (Jvm.Cond.selects "KeptLight$Refused" ({ cls := "java/lang/Object", name := "getClass", desc := "()Ljava/lang/Class;" } : Jvm.MethodName) ({ cls := "java/lang/Object", name := "getClass", desc := "()Ljava/lang/Class;" } : Jvm.MethodName)) ∈ lw_all := lw_g (lw_at lw_m5 226 rfl) rfl
theorem q1817 : (Jvm.Cond.selects "KeptLight$Refused" ({ cls := "java/lang/Throwable", name := "toString", desc := "()Ljava/lang/String;" } : Jvm.MethodName) ({ cls := "java/lang/Throwable", name := "toString", desc := "()Ljava/lang/String;" } : Jvm.MethodName)) ∈ lw_all := lw_g (lw_at lw_m8 61 rfl) rfl
theorem q1834 : (Jvm.Cond.selects "KeptLight$Refused" ({ cls := "java/lang/Throwable", name := "getLocalizedMessage", desc := "()Ljava/lang/String;" } : Jvm.MethodName) ({ cls := "java/lang/Throwable", name := "getLocalizedMessage", desc := "()Ljava/lang/String;" } : Jvm.MethodName)) ∈ lw_all := lw_g (lw_at lw_m8 78 rfl) rfl
theorem q1850 : (Jvm.Cond.selects "KeptLight$Refused" ({ cls := "java/lang/Throwable", name := "getMessage", desc := "()Ljava/lang/String;" } : Jvm.MethodName) ({ cls := "java/lang/Throwable", name := "getMessage", desc := "()Ljava/lang/String;" } : Jvm.MethodName)) ∈ lw_all := lw_g (lw_at lw_m8 94 rfl) rfl
theorem q3042 : (Jvm.Cond.selects "KeptLight$Refused" ({ cls := "java/lang/Object", name := "equals", desc := "(Ljava/lang/Object;)Z" } : Jvm.MethodName) ({ cls := "java/lang/Object", name := "equals", desc := "(Ljava/lang/Object;)Z" } : Jvm.MethodName)) ∈ lw_all := lw_g (lw_at lw_m13 86 rfl) rfl
theorem q3707 : (Jvm.Cond.castable "KeptLight$Refused" "java/lang/Object") ∈ lw_tbl := lw_at lw_m16 31 rfl
theorem in_X10 : ∀ w ∈ wsX100, w ∈ lw_all := lw_in wsX100 [866, 867, 868, 869, 870, 887, 885] (by decide +kernel) (by decide +kernel)
/-! KeptLight$Reader -/
set_option maxRecDepth 100000
def RX11 : String := "KeptLight$Reader"
def TX11 : u_T := fun k => match k with
  | 0 => ("KeptLight$Reader", "at", "I", false)
  | _ => ("KeptLight$Reader", "this$0", "LKeptLight;", true)
def tyX11 : Nat → FieldType := fun k => match k with
  | 0 => .int
  | _ => .object "KeptLight"
abbrev wsX110 : List Cond := u_ws RX11 TX11 2
theorem nmX11 : ∀ a, a < 2 → ∀ b, b < 2 → a ≠ b → (TX11 a).2.1 ≠ (TX11 b).2.1 := by decide +kernel
theorem tyX11_ok : ∀ k, k < 2 → parseFieldDescriptor (TX11 k).2.2.1 = some (tyX11 k) := by decide +kernel
abbrev cX11_init : ByteArray := prog_20_method_1_code
def yX11_init : MethodName := ⟨RX11, "<init>", "(LKeptLight;)V"⟩
def dkwX11_init_0 : List UInt8 := [42, 43, 181, 0, 3, 42, 183, 0, 9, 177]
abbrev dktX11_init_0 : List UInt8 := dkwX11_init_0 ++ []
theorem dksX11_init_0 : cX11_init.data.toList.drop 0 = dktX11_init_0 := by decide +kernel
theorem dX11_init_0 : decode cX11_init 0 = .ok (.aload_n 0, 1) := dk_42 (dk_at dksX11_init_0 0 rfl rfl)
theorem dX11_init_1 : decode cX11_init 1 = .ok (.aload_n 1, 1) := dk_43 (dk_at dksX11_init_0 1 rfl rfl)
theorem dX11_init_2 : decode cX11_init 2 = .ok (.putfield 3, 3) := dk_181 0 3 (dk_at dksX11_init_0 2 rfl rfl)
theorem dX11_init_5 : decode cX11_init 5 = .ok (.aload_n 0, 1) := dk_42 (dk_at dksX11_init_0 5 rfl rfl)
theorem dX11_init_6 : decode cX11_init 6 = .ok (.invokespecial 9, 3) := dk_183 0 9 (dk_at dksX11_init_0 6 rfl rfl)
theorem dX11_init_9 : decode cX11_init 9 = .ok (.return_, 1) := dk_177 (dk_at dksX11_init_0 9 rfl rfl)
abbrev cX11_spells : ByteArray := prog_20_method_5_code
def yX11_spells : MethodName := ⟨RX11, "spells", "()Ljava/util/LinkedList;"⟩
def dkwX11_spells_5 : List UInt8 := [180, 0, 19, 162, 0, 15, 187, 0, 30, 89, 42, 180, 0, 15, 183, 0, 32, 191, 43, 176]
abbrev dktX11_spells_5 : List UInt8 := dkwX11_spells_5 ++ []
def dkwX11_spells_4 : List UInt8 := [153, 0, 7, 4, 167, 0, 4, 3, 96, 181, 0, 15, 167, 255, 161, 42, 180, 0, 15, 42, 180, 0, 3]
abbrev dktX11_spells_4 : List UInt8 := dkwX11_spells_4 ++ dktX11_spells_5
def dkwX11_spells_3 : List UInt8 := [182, 0, 82, 182, 0, 86, 87, 42, 16, 32, 16, 32, 182, 0, 26, 61, 42, 89, 180, 0, 15, 28]
abbrev dktX11_spells_3 : List UInt8 := dkwX11_spells_3 ++ dktX11_spells_4
def dkwX11_spells_2 : List UInt8 := [180, 0, 15, 46, 182, 0, 55, 155, 0, 15, 187, 0, 79, 89, 42, 180, 0, 15, 183, 0, 81, 191, 43, 42]
abbrev dktX11_spells_2 : List UInt8 := dkwX11_spells_2 ++ dktX11_spells_3
def dkwX11_spells_1 : List UInt8 := [180, 0, 15, 42, 180, 0, 3, 180, 0, 19, 162, 0, 35, 18, 53, 42, 180, 0, 3, 180, 0, 22, 42]
abbrev dktX11_spells_1 : List UInt8 := dkwX11_spells_1 ++ dktX11_spells_2
def dkwX11_spells_0 : List UInt8 := [187, 0, 74, 89, 183, 0, 76, 76, 4, 61, 28, 153, 0, 97, 43, 182, 0, 77, 16, 20, 160, 0, 49, 42]
abbrev dktX11_spells_0 : List UInt8 := dkwX11_spells_0 ++ dktX11_spells_1
theorem dksX11_spells_0 : cX11_spells.data.toList.drop 0 = dktX11_spells_0 := by decide +kernel
theorem dksX11_spells_1 : cX11_spells.data.toList.drop 24 = dktX11_spells_1 := dk_seg dksX11_spells_0 24 rfl rfl
theorem dksX11_spells_2 : cX11_spells.data.toList.drop 47 = dktX11_spells_2 := dk_seg dksX11_spells_1 23 rfl rfl
theorem dksX11_spells_3 : cX11_spells.data.toList.drop 71 = dktX11_spells_3 := dk_seg dksX11_spells_2 24 rfl rfl
theorem dksX11_spells_4 : cX11_spells.data.toList.drop 93 = dktX11_spells_4 := dk_seg dksX11_spells_3 22 rfl rfl
theorem dksX11_spells_5 : cX11_spells.data.toList.drop 116 = dktX11_spells_5 := dk_seg dksX11_spells_4 23 rfl rfl
theorem dX11_spells_0 : decode cX11_spells 0 = .ok (.new 74, 3) := dk_187 0 74 (dk_at dksX11_spells_0 0 rfl rfl)
theorem dX11_spells_3 : decode cX11_spells 3 = .ok (.dup, 1) := dk_89 (dk_at dksX11_spells_0 3 rfl rfl)
theorem dX11_spells_4 : decode cX11_spells 4 = .ok (.invokespecial 76, 3) := dk_183 0 76 (dk_at dksX11_spells_0 4 rfl rfl)
theorem dX11_spells_7 : decode cX11_spells 7 = .ok (.astore_n 1, 1) := dk_76 (dk_at dksX11_spells_0 7 rfl rfl)
theorem dX11_spells_8 : decode cX11_spells 8 = .ok (.iconst 1, 1) := dk_4 (dk_at dksX11_spells_0 8 rfl rfl)
theorem dX11_spells_9 : decode cX11_spells 9 = .ok (.istore_n 2, 1) := dk_61 (dk_at dksX11_spells_0 9 rfl rfl)
theorem dX11_spells_10 : decode cX11_spells 10 = .ok (.iload_n 2, 1) := dk_28 (dk_at dksX11_spells_0 10 rfl rfl)
theorem dX11_spells_11 : decode cX11_spells 11 = .ok (.ifCond .eq 97, 3) := dk_153 0 97 (dk_at dksX11_spells_0 11 rfl rfl)
theorem dX11_spells_14 : decode cX11_spells 14 = .ok (.aload_n 1, 1) := dk_43 (dk_at dksX11_spells_0 14 rfl rfl)
theorem dX11_spells_15 : decode cX11_spells 15 = .ok (.invokevirtual 77, 3) := dk_182 0 77 (dk_at dksX11_spells_0 15 rfl rfl)
theorem dX11_spells_18 : decode cX11_spells 18 = .ok (.bipush 20, 2) := dk_16 20 (dk_at dksX11_spells_0 18 rfl rfl)
theorem dX11_spells_20 : decode cX11_spells 20 = .ok (.if_icmp .ne 49, 3) := dk_160 0 49 (dk_at dksX11_spells_0 20 rfl rfl)
theorem dX11_spells_23 : decode cX11_spells 23 = .ok (.aload_n 0, 1) := dk_42 (dk_at dksX11_spells_0 23 rfl rfl)
theorem dX11_spells_24 : decode cX11_spells 24 = .ok (.getfield 15, 3) := dk_180 0 15 (dk_at dksX11_spells_1 0 rfl rfl)
theorem dX11_spells_27 : decode cX11_spells 27 = .ok (.aload_n 0, 1) := dk_42 (dk_at dksX11_spells_1 3 rfl rfl)
theorem dX11_spells_28 : decode cX11_spells 28 = .ok (.getfield 3, 3) := dk_180 0 3 (dk_at dksX11_spells_1 4 rfl rfl)
theorem dX11_spells_31 : decode cX11_spells 31 = .ok (.getfield 19, 3) := dk_180 0 19 (dk_at dksX11_spells_1 7 rfl rfl)
theorem dX11_spells_34 : decode cX11_spells 34 = .ok (.if_icmp .ge 35, 3) := dk_162 0 35 (dk_at dksX11_spells_1 10 rfl rfl)
theorem dX11_spells_37 : decode cX11_spells 37 = .ok (.ldc 53, 2) := dk_18 53 (dk_at dksX11_spells_1 13 rfl rfl)
theorem dX11_spells_39 : decode cX11_spells 39 = .ok (.aload_n 0, 1) := dk_42 (dk_at dksX11_spells_1 15 rfl rfl)
theorem dX11_spells_40 : decode cX11_spells 40 = .ok (.getfield 3, 3) := dk_180 0 3 (dk_at dksX11_spells_1 16 rfl rfl)
theorem dX11_spells_43 : decode cX11_spells 43 = .ok (.getfield 22, 3) := dk_180 0 22 (dk_at dksX11_spells_1 19 rfl rfl)
theorem dX11_spells_46 : decode cX11_spells 46 = .ok (.aload_n 0, 1) := dk_42 (dk_at dksX11_spells_1 22 rfl rfl)
theorem dX11_spells_47 : decode cX11_spells 47 = .ok (.getfield 15, 3) := dk_180 0 15 (dk_at dksX11_spells_2 0 rfl rfl)
theorem dX11_spells_50 : decode cX11_spells 50 = .ok (.iaload, 1) := dk_46 (dk_at dksX11_spells_2 3 rfl rfl)
theorem dX11_spells_51 : decode cX11_spells 51 = .ok (.invokevirtual 55, 3) := dk_182 0 55 (dk_at dksX11_spells_2 4 rfl rfl)
theorem dX11_spells_54 : decode cX11_spells 54 = .ok (.ifCond .lt 15, 3) := dk_155 0 15 (dk_at dksX11_spells_2 7 rfl rfl)
theorem dX11_spells_57 : decode cX11_spells 57 = .ok (.new 79, 3) := dk_187 0 79 (dk_at dksX11_spells_2 10 rfl rfl)
theorem dX11_spells_60 : decode cX11_spells 60 = .ok (.dup, 1) := dk_89 (dk_at dksX11_spells_2 13 rfl rfl)
theorem dX11_spells_61 : decode cX11_spells 61 = .ok (.aload_n 0, 1) := dk_42 (dk_at dksX11_spells_2 14 rfl rfl)
theorem dX11_spells_62 : decode cX11_spells 62 = .ok (.getfield 15, 3) := dk_180 0 15 (dk_at dksX11_spells_2 15 rfl rfl)
theorem dX11_spells_65 : decode cX11_spells 65 = .ok (.invokespecial 81, 3) := dk_183 0 81 (dk_at dksX11_spells_2 18 rfl rfl)
theorem dX11_spells_68 : decode cX11_spells 68 = .ok (.athrow, 1) := dk_191 (dk_at dksX11_spells_2 21 rfl rfl)
theorem dX11_spells_69 : decode cX11_spells 69 = .ok (.aload_n 1, 1) := dk_43 (dk_at dksX11_spells_2 22 rfl rfl)
theorem dX11_spells_70 : decode cX11_spells 70 = .ok (.aload_n 0, 1) := dk_42 (dk_at dksX11_spells_2 23 rfl rfl)
theorem dX11_spells_71 : decode cX11_spells 71 = .ok (.invokevirtual 82, 3) := dk_182 0 82 (dk_at dksX11_spells_3 0 rfl rfl)
theorem dX11_spells_74 : decode cX11_spells 74 = .ok (.invokevirtual 86, 3) := dk_182 0 86 (dk_at dksX11_spells_3 3 rfl rfl)
theorem dX11_spells_77 : decode cX11_spells 77 = .ok (.pop, 1) := dk_87 (dk_at dksX11_spells_3 6 rfl rfl)
theorem dX11_spells_78 : decode cX11_spells 78 = .ok (.aload_n 0, 1) := dk_42 (dk_at dksX11_spells_3 7 rfl rfl)
theorem dX11_spells_79 : decode cX11_spells 79 = .ok (.bipush 32, 2) := dk_16 32 (dk_at dksX11_spells_3 8 rfl rfl)
theorem dX11_spells_81 : decode cX11_spells 81 = .ok (.bipush 32, 2) := dk_16 32 (dk_at dksX11_spells_3 10 rfl rfl)
theorem dX11_spells_83 : decode cX11_spells 83 = .ok (.invokevirtual 26, 3) := dk_182 0 26 (dk_at dksX11_spells_3 12 rfl rfl)
theorem dX11_spells_86 : decode cX11_spells 86 = .ok (.istore_n 2, 1) := dk_61 (dk_at dksX11_spells_3 15 rfl rfl)
theorem dX11_spells_87 : decode cX11_spells 87 = .ok (.aload_n 0, 1) := dk_42 (dk_at dksX11_spells_3 16 rfl rfl)
theorem dX11_spells_88 : decode cX11_spells 88 = .ok (.dup, 1) := dk_89 (dk_at dksX11_spells_3 17 rfl rfl)
theorem dX11_spells_89 : decode cX11_spells 89 = .ok (.getfield 15, 3) := dk_180 0 15 (dk_at dksX11_spells_3 18 rfl rfl)
theorem dX11_spells_92 : decode cX11_spells 92 = .ok (.iload_n 2, 1) := dk_28 (dk_at dksX11_spells_3 21 rfl rfl)
theorem dX11_spells_93 : decode cX11_spells 93 = .ok (.ifCond .eq 7, 3) := dk_153 0 7 (dk_at dksX11_spells_4 0 rfl rfl)
theorem dX11_spells_96 : decode cX11_spells 96 = .ok (.iconst 1, 1) := dk_4 (dk_at dksX11_spells_4 3 rfl rfl)
theorem dX11_spells_97 : decode cX11_spells 97 = .ok (.goto 4, 3) := dk_167 0 4 (dk_at dksX11_spells_4 4 rfl rfl)
theorem dX11_spells_100 : decode cX11_spells 100 = .ok (.iconst 0, 1) := dk_3 (dk_at dksX11_spells_4 7 rfl rfl)
theorem dX11_spells_101 : decode cX11_spells 101 = .ok (.iadd, 1) := dk_96 (dk_at dksX11_spells_4 8 rfl rfl)
theorem dX11_spells_102 : decode cX11_spells 102 = .ok (.putfield 15, 3) := dk_181 0 15 (dk_at dksX11_spells_4 9 rfl rfl)
theorem dX11_spells_105 : decode cX11_spells 105 = .ok (.goto (-95), 3) := dk_167 255 161 (dk_at dksX11_spells_4 12 rfl rfl)
theorem dX11_spells_108 : decode cX11_spells 108 = .ok (.aload_n 0, 1) := dk_42 (dk_at dksX11_spells_4 15 rfl rfl)
theorem dX11_spells_109 : decode cX11_spells 109 = .ok (.getfield 15, 3) := dk_180 0 15 (dk_at dksX11_spells_4 16 rfl rfl)
theorem dX11_spells_112 : decode cX11_spells 112 = .ok (.aload_n 0, 1) := dk_42 (dk_at dksX11_spells_4 19 rfl rfl)
theorem dX11_spells_113 : decode cX11_spells 113 = .ok (.getfield 3, 3) := dk_180 0 3 (dk_at dksX11_spells_4 20 rfl rfl)
theorem dX11_spells_116 : decode cX11_spells 116 = .ok (.getfield 19, 3) := dk_180 0 19 (dk_at dksX11_spells_5 0 rfl rfl)
theorem dX11_spells_119 : decode cX11_spells 119 = .ok (.if_icmp .ge 15, 3) := dk_162 0 15 (dk_at dksX11_spells_5 3 rfl rfl)
theorem dX11_spells_122 : decode cX11_spells 122 = .ok (.new 30, 3) := dk_187 0 30 (dk_at dksX11_spells_5 6 rfl rfl)
theorem dX11_spells_125 : decode cX11_spells 125 = .ok (.dup, 1) := dk_89 (dk_at dksX11_spells_5 9 rfl rfl)
theorem dX11_spells_126 : decode cX11_spells 126 = .ok (.aload_n 0, 1) := dk_42 (dk_at dksX11_spells_5 10 rfl rfl)
theorem dX11_spells_127 : decode cX11_spells 127 = .ok (.getfield 15, 3) := dk_180 0 15 (dk_at dksX11_spells_5 11 rfl rfl)
theorem dX11_spells_130 : decode cX11_spells 130 = .ok (.invokespecial 32, 3) := dk_183 0 32 (dk_at dksX11_spells_5 14 rfl rfl)
theorem dX11_spells_133 : decode cX11_spells 133 = .ok (.athrow, 1) := dk_191 (dk_at dksX11_spells_5 17 rfl rfl)
theorem dX11_spells_134 : decode cX11_spells 134 = .ok (.aload_n 1, 1) := dk_43 (dk_at dksX11_spells_5 18 rfl rfl)
theorem dX11_spells_135 : decode cX11_spells 135 = .ok (.areturn, 1) := dk_176 (dk_at dksX11_spells_5 19 rfl rfl)
abbrev cX11_spell : ByteArray := prog_20_method_4_code
def yX11_spell : MethodName := ⟨RX11, "spell", "()LKeptLight$Spell;"⟩
def dkwX11_spell_4 : List UInt8 := [176]
abbrev dktX11_spell_4 : List UInt8 := dkwX11_spell_4 ++ []
def dkwX11_spell_3 : List UInt8 := [181, 0, 15, 187, 0, 61, 89, 43, 28, 185, 0, 63, 2, 0, 192, 0, 36, 42, 182, 0, 67, 183, 0, 71]
abbrev dktX11_spell_3 : List UInt8 := dkwX11_spell_3 ++ dktX11_spell_4
def dkwX11_spell_2 : List UInt8 := [61, 28, 156, 0, 15, 187, 0, 30, 89, 42, 180, 0, 15, 183, 0, 32, 191, 42, 89, 180, 0, 15, 4, 96]
abbrev dktX11_spell_2 : List UInt8 := dkwX11_spell_2 ++ dktX11_spell_3
def dkwX11_spell_1 : List UInt8 := [162, 0, 23, 18, 53, 42, 180, 0, 3, 180, 0, 22, 42, 180, 0, 15, 46, 182, 0, 55, 167, 0, 4, 2]
abbrev dktX11_spell_1 : List UInt8 := dkwX11_spell_1 ++ dktX11_spell_2
def dkwX11_spell_0 : List UInt8 := [178, 0, 35, 178, 0, 41, 178, 0, 44, 184, 0, 47, 76, 42, 180, 0, 15, 42, 180, 0, 3, 180, 0, 19]
abbrev dktX11_spell_0 : List UInt8 := dkwX11_spell_0 ++ dktX11_spell_1
theorem dksX11_spell_0 : cX11_spell.data.toList.drop 0 = dktX11_spell_0 := by decide +kernel
theorem dksX11_spell_1 : cX11_spell.data.toList.drop 24 = dktX11_spell_1 := dk_seg dksX11_spell_0 24 rfl rfl
theorem dksX11_spell_2 : cX11_spell.data.toList.drop 48 = dktX11_spell_2 := dk_seg dksX11_spell_1 24 rfl rfl
theorem dksX11_spell_3 : cX11_spell.data.toList.drop 72 = dktX11_spell_3 := dk_seg dksX11_spell_2 24 rfl rfl
theorem dksX11_spell_4 : cX11_spell.data.toList.drop 96 = dktX11_spell_4 := dk_seg dksX11_spell_3 24 rfl rfl
theorem dX11_spell_0 : decode cX11_spell 0 = .ok (.getstatic 35, 3) := dk_178 0 35 (dk_at dksX11_spell_0 0 rfl rfl)
theorem dX11_spell_3 : decode cX11_spell 3 = .ok (.getstatic 41, 3) := dk_178 0 41 (dk_at dksX11_spell_0 3 rfl rfl)
theorem dX11_spell_6 : decode cX11_spell 6 = .ok (.getstatic 44, 3) := dk_178 0 44 (dk_at dksX11_spell_0 6 rfl rfl)
theorem dX11_spell_9 : decode cX11_spell 9 = .ok (.invokestatic 47, 3) := dk_184 0 47 (dk_at dksX11_spell_0 9 rfl rfl)
theorem dX11_spell_12 : decode cX11_spell 12 = .ok (.astore_n 1, 1) := dk_76 (dk_at dksX11_spell_0 12 rfl rfl)
theorem dX11_spell_13 : decode cX11_spell 13 = .ok (.aload_n 0, 1) := dk_42 (dk_at dksX11_spell_0 13 rfl rfl)
theorem dX11_spell_14 : decode cX11_spell 14 = .ok (.getfield 15, 3) := dk_180 0 15 (dk_at dksX11_spell_0 14 rfl rfl)
theorem dX11_spell_17 : decode cX11_spell 17 = .ok (.aload_n 0, 1) := dk_42 (dk_at dksX11_spell_0 17 rfl rfl)
theorem dX11_spell_18 : decode cX11_spell 18 = .ok (.getfield 3, 3) := dk_180 0 3 (dk_at dksX11_spell_0 18 rfl rfl)
theorem dX11_spell_21 : decode cX11_spell 21 = .ok (.getfield 19, 3) := dk_180 0 19 (dk_at dksX11_spell_0 21 rfl rfl)
theorem dX11_spell_24 : decode cX11_spell 24 = .ok (.if_icmp .ge 23, 3) := dk_162 0 23 (dk_at dksX11_spell_1 0 rfl rfl)
theorem dX11_spell_27 : decode cX11_spell 27 = .ok (.ldc 53, 2) := dk_18 53 (dk_at dksX11_spell_1 3 rfl rfl)
theorem dX11_spell_29 : decode cX11_spell 29 = .ok (.aload_n 0, 1) := dk_42 (dk_at dksX11_spell_1 5 rfl rfl)
theorem dX11_spell_30 : decode cX11_spell 30 = .ok (.getfield 3, 3) := dk_180 0 3 (dk_at dksX11_spell_1 6 rfl rfl)
theorem dX11_spell_33 : decode cX11_spell 33 = .ok (.getfield 22, 3) := dk_180 0 22 (dk_at dksX11_spell_1 9 rfl rfl)
theorem dX11_spell_36 : decode cX11_spell 36 = .ok (.aload_n 0, 1) := dk_42 (dk_at dksX11_spell_1 12 rfl rfl)
theorem dX11_spell_37 : decode cX11_spell 37 = .ok (.getfield 15, 3) := dk_180 0 15 (dk_at dksX11_spell_1 13 rfl rfl)
theorem dX11_spell_40 : decode cX11_spell 40 = .ok (.iaload, 1) := dk_46 (dk_at dksX11_spell_1 16 rfl rfl)
theorem dX11_spell_41 : decode cX11_spell 41 = .ok (.invokevirtual 55, 3) := dk_182 0 55 (dk_at dksX11_spell_1 17 rfl rfl)
theorem dX11_spell_44 : decode cX11_spell 44 = .ok (.goto 4, 3) := dk_167 0 4 (dk_at dksX11_spell_1 20 rfl rfl)
theorem dX11_spell_47 : decode cX11_spell 47 = .ok (.iconst (-1), 1) := dk_2 (dk_at dksX11_spell_1 23 rfl rfl)
theorem dX11_spell_48 : decode cX11_spell 48 = .ok (.istore_n 2, 1) := dk_61 (dk_at dksX11_spell_2 0 rfl rfl)
theorem dX11_spell_49 : decode cX11_spell 49 = .ok (.iload_n 2, 1) := dk_28 (dk_at dksX11_spell_2 1 rfl rfl)
theorem dX11_spell_50 : decode cX11_spell 50 = .ok (.ifCond .ge 15, 3) := dk_156 0 15 (dk_at dksX11_spell_2 2 rfl rfl)
theorem dX11_spell_53 : decode cX11_spell 53 = .ok (.new 30, 3) := dk_187 0 30 (dk_at dksX11_spell_2 5 rfl rfl)
theorem dX11_spell_56 : decode cX11_spell 56 = .ok (.dup, 1) := dk_89 (dk_at dksX11_spell_2 8 rfl rfl)
theorem dX11_spell_57 : decode cX11_spell 57 = .ok (.aload_n 0, 1) := dk_42 (dk_at dksX11_spell_2 9 rfl rfl)
theorem dX11_spell_58 : decode cX11_spell 58 = .ok (.getfield 15, 3) := dk_180 0 15 (dk_at dksX11_spell_2 10 rfl rfl)
theorem dX11_spell_61 : decode cX11_spell 61 = .ok (.invokespecial 32, 3) := dk_183 0 32 (dk_at dksX11_spell_2 13 rfl rfl)
theorem dX11_spell_64 : decode cX11_spell 64 = .ok (.athrow, 1) := dk_191 (dk_at dksX11_spell_2 16 rfl rfl)
theorem dX11_spell_65 : decode cX11_spell 65 = .ok (.aload_n 0, 1) := dk_42 (dk_at dksX11_spell_2 17 rfl rfl)
theorem dX11_spell_66 : decode cX11_spell 66 = .ok (.dup, 1) := dk_89 (dk_at dksX11_spell_2 18 rfl rfl)
theorem dX11_spell_67 : decode cX11_spell 67 = .ok (.getfield 15, 3) := dk_180 0 15 (dk_at dksX11_spell_2 19 rfl rfl)
theorem dX11_spell_70 : decode cX11_spell 70 = .ok (.iconst 1, 1) := dk_4 (dk_at dksX11_spell_2 22 rfl rfl)
theorem dX11_spell_71 : decode cX11_spell 71 = .ok (.iadd, 1) := dk_96 (dk_at dksX11_spell_2 23 rfl rfl)
theorem dX11_spell_72 : decode cX11_spell 72 = .ok (.putfield 15, 3) := dk_181 0 15 (dk_at dksX11_spell_3 0 rfl rfl)
theorem dX11_spell_75 : decode cX11_spell 75 = .ok (.new 61, 3) := dk_187 0 61 (dk_at dksX11_spell_3 3 rfl rfl)
theorem dX11_spell_78 : decode cX11_spell 78 = .ok (.dup, 1) := dk_89 (dk_at dksX11_spell_3 6 rfl rfl)
theorem dX11_spell_79 : decode cX11_spell 79 = .ok (.aload_n 1, 1) := dk_43 (dk_at dksX11_spell_3 7 rfl rfl)
theorem dX11_spell_80 : decode cX11_spell 80 = .ok (.iload_n 2, 1) := dk_28 (dk_at dksX11_spell_3 8 rfl rfl)
theorem dX11_spell_81 : decode cX11_spell 81 = .ok (.invokeinterface 63 2, 5) := by decide +kernel
theorem dX11_spell_86 : decode cX11_spell 86 = .ok (.checkcast 36, 3) := dk_192 0 36 (dk_at dksX11_spell_3 14 rfl rfl)
theorem dX11_spell_89 : decode cX11_spell 89 = .ok (.aload_n 0, 1) := dk_42 (dk_at dksX11_spell_3 17 rfl rfl)
theorem dX11_spell_90 : decode cX11_spell 90 = .ok (.invokevirtual 67, 3) := dk_182 0 67 (dk_at dksX11_spell_3 18 rfl rfl)
theorem dX11_spell_93 : decode cX11_spell 93 = .ok (.invokespecial 71, 3) := dk_183 0 71 (dk_at dksX11_spell_3 21 rfl rfl)
theorem dX11_spell_96 : decode cX11_spell 96 = .ok (.areturn, 1) := dk_176 (dk_at dksX11_spell_4 0 rfl rfl)
abbrev cX11_number : ByteArray := prog_20_method_3_code
def yX11_number : MethodName := ⟨RX11, "number", "()I"⟩
def dkwX11_number_3 : List UInt8 := [187, 0, 30, 89, 27, 183, 0, 32, 191, 28, 172]
abbrev dktX11_number_3 : List UInt8 := dkwX11_number_3 ++ []
def dkwX11_number_2 : List UInt8 := [16, 48, 100, 61, 42, 89, 180, 0, 15, 4, 96, 181, 0, 15, 167, 255, 204, 28, 4, 162, 0, 12]
abbrev dktX11_number_2 : List UInt8 := dkwX11_number_2 ++ dktX11_number_3
def dkwX11_number_1 : List UInt8 := [182, 0, 26, 153, 0, 37, 16, 10, 28, 104, 42, 180, 0, 3, 180, 0, 22, 42, 180, 0, 15, 46, 96]
abbrev dktX11_number_1 : List UInt8 := dkwX11_number_1 ++ dktX11_number_2
def dkwX11_number_0 : List UInt8 := [42, 180, 0, 15, 60, 3, 61, 42, 180, 0, 15, 27, 100, 5, 162, 0, 48, 42, 16, 48, 16, 57]
abbrev dktX11_number_0 : List UInt8 := dkwX11_number_0 ++ dktX11_number_1
theorem dksX11_number_0 : cX11_number.data.toList.drop 0 = dktX11_number_0 := by decide +kernel
theorem dksX11_number_1 : cX11_number.data.toList.drop 22 = dktX11_number_1 := dk_seg dksX11_number_0 22 rfl rfl
theorem dksX11_number_2 : cX11_number.data.toList.drop 45 = dktX11_number_2 := dk_seg dksX11_number_1 23 rfl rfl
theorem dksX11_number_3 : cX11_number.data.toList.drop 67 = dktX11_number_3 := dk_seg dksX11_number_2 22 rfl rfl
theorem dX11_number_0 : decode cX11_number 0 = .ok (.aload_n 0, 1) := dk_42 (dk_at dksX11_number_0 0 rfl rfl)
theorem dX11_number_1 : decode cX11_number 1 = .ok (.getfield 15, 3) := dk_180 0 15 (dk_at dksX11_number_0 1 rfl rfl)
theorem dX11_number_4 : decode cX11_number 4 = .ok (.istore_n 1, 1) := dk_60 (dk_at dksX11_number_0 4 rfl rfl)
theorem dX11_number_5 : decode cX11_number 5 = .ok (.iconst 0, 1) := dk_3 (dk_at dksX11_number_0 5 rfl rfl)
theorem dX11_number_6 : decode cX11_number 6 = .ok (.istore_n 2, 1) := dk_61 (dk_at dksX11_number_0 6 rfl rfl)
theorem dX11_number_7 : decode cX11_number 7 = .ok (.aload_n 0, 1) := dk_42 (dk_at dksX11_number_0 7 rfl rfl)
theorem dX11_number_8 : decode cX11_number 8 = .ok (.getfield 15, 3) := dk_180 0 15 (dk_at dksX11_number_0 8 rfl rfl)
theorem dX11_number_11 : decode cX11_number 11 = .ok (.iload_n 1, 1) := dk_27 (dk_at dksX11_number_0 11 rfl rfl)
theorem dX11_number_12 : decode cX11_number 12 = .ok (.isub, 1) := dk_100 (dk_at dksX11_number_0 12 rfl rfl)
theorem dX11_number_13 : decode cX11_number 13 = .ok (.iconst 2, 1) := dk_5 (dk_at dksX11_number_0 13 rfl rfl)
theorem dX11_number_14 : decode cX11_number 14 = .ok (.if_icmp .ge 48, 3) := dk_162 0 48 (dk_at dksX11_number_0 14 rfl rfl)
theorem dX11_number_17 : decode cX11_number 17 = .ok (.aload_n 0, 1) := dk_42 (dk_at dksX11_number_0 17 rfl rfl)
theorem dX11_number_18 : decode cX11_number 18 = .ok (.bipush 48, 2) := dk_16 48 (dk_at dksX11_number_0 18 rfl rfl)
theorem dX11_number_20 : decode cX11_number 20 = .ok (.bipush 57, 2) := dk_16 57 (dk_at dksX11_number_0 20 rfl rfl)
theorem dX11_number_22 : decode cX11_number 22 = .ok (.invokevirtual 26, 3) := dk_182 0 26 (dk_at dksX11_number_1 0 rfl rfl)
theorem dX11_number_25 : decode cX11_number 25 = .ok (.ifCond .eq 37, 3) := dk_153 0 37 (dk_at dksX11_number_1 3 rfl rfl)
theorem dX11_number_28 : decode cX11_number 28 = .ok (.bipush 10, 2) := dk_16 10 (dk_at dksX11_number_1 6 rfl rfl)
theorem dX11_number_30 : decode cX11_number 30 = .ok (.iload_n 2, 1) := dk_28 (dk_at dksX11_number_1 8 rfl rfl)
theorem dX11_number_31 : decode cX11_number 31 = .ok (.imul, 1) := dk_104 (dk_at dksX11_number_1 9 rfl rfl)
theorem dX11_number_32 : decode cX11_number 32 = .ok (.aload_n 0, 1) := dk_42 (dk_at dksX11_number_1 10 rfl rfl)
theorem dX11_number_33 : decode cX11_number 33 = .ok (.getfield 3, 3) := dk_180 0 3 (dk_at dksX11_number_1 11 rfl rfl)
theorem dX11_number_36 : decode cX11_number 36 = .ok (.getfield 22, 3) := dk_180 0 22 (dk_at dksX11_number_1 14 rfl rfl)
theorem dX11_number_39 : decode cX11_number 39 = .ok (.aload_n 0, 1) := dk_42 (dk_at dksX11_number_1 17 rfl rfl)
theorem dX11_number_40 : decode cX11_number 40 = .ok (.getfield 15, 3) := dk_180 0 15 (dk_at dksX11_number_1 18 rfl rfl)
theorem dX11_number_43 : decode cX11_number 43 = .ok (.iaload, 1) := dk_46 (dk_at dksX11_number_1 21 rfl rfl)
theorem dX11_number_44 : decode cX11_number 44 = .ok (.iadd, 1) := dk_96 (dk_at dksX11_number_1 22 rfl rfl)
theorem dX11_number_45 : decode cX11_number 45 = .ok (.bipush 48, 2) := dk_16 48 (dk_at dksX11_number_2 0 rfl rfl)
theorem dX11_number_47 : decode cX11_number 47 = .ok (.isub, 1) := dk_100 (dk_at dksX11_number_2 2 rfl rfl)
theorem dX11_number_48 : decode cX11_number 48 = .ok (.istore_n 2, 1) := dk_61 (dk_at dksX11_number_2 3 rfl rfl)
theorem dX11_number_49 : decode cX11_number 49 = .ok (.aload_n 0, 1) := dk_42 (dk_at dksX11_number_2 4 rfl rfl)
theorem dX11_number_50 : decode cX11_number 50 = .ok (.dup, 1) := dk_89 (dk_at dksX11_number_2 5 rfl rfl)
theorem dX11_number_51 : decode cX11_number 51 = .ok (.getfield 15, 3) := dk_180 0 15 (dk_at dksX11_number_2 6 rfl rfl)
theorem dX11_number_54 : decode cX11_number 54 = .ok (.iconst 1, 1) := dk_4 (dk_at dksX11_number_2 9 rfl rfl)
theorem dX11_number_55 : decode cX11_number 55 = .ok (.iadd, 1) := dk_96 (dk_at dksX11_number_2 10 rfl rfl)
theorem dX11_number_56 : decode cX11_number 56 = .ok (.putfield 15, 3) := dk_181 0 15 (dk_at dksX11_number_2 11 rfl rfl)
theorem dX11_number_59 : decode cX11_number 59 = .ok (.goto (-52), 3) := dk_167 255 204 (dk_at dksX11_number_2 14 rfl rfl)
theorem dX11_number_62 : decode cX11_number 62 = .ok (.iload_n 2, 1) := dk_28 (dk_at dksX11_number_2 17 rfl rfl)
theorem dX11_number_63 : decode cX11_number 63 = .ok (.iconst 1, 1) := dk_4 (dk_at dksX11_number_2 18 rfl rfl)
theorem dX11_number_64 : decode cX11_number 64 = .ok (.if_icmp .ge 12, 3) := dk_162 0 12 (dk_at dksX11_number_2 19 rfl rfl)
theorem dX11_number_67 : decode cX11_number 67 = .ok (.new 30, 3) := dk_187 0 30 (dk_at dksX11_number_3 0 rfl rfl)
theorem dX11_number_70 : decode cX11_number 70 = .ok (.dup, 1) := dk_89 (dk_at dksX11_number_3 3 rfl rfl)
theorem dX11_number_71 : decode cX11_number 71 = .ok (.iload_n 1, 1) := dk_27 (dk_at dksX11_number_3 4 rfl rfl)
theorem dX11_number_72 : decode cX11_number 72 = .ok (.invokespecial 32, 3) := dk_183 0 32 (dk_at dksX11_number_3 5 rfl rfl)
theorem dX11_number_75 : decode cX11_number 75 = .ok (.athrow, 1) := dk_191 (dk_at dksX11_number_3 8 rfl rfl)
theorem dX11_number_76 : decode cX11_number 76 = .ok (.iload_n 2, 1) := dk_28 (dk_at dksX11_number_3 9 rfl rfl)
theorem dX11_number_77 : decode cX11_number 77 = .ok (.ireturn, 1) := dk_172 (dk_at dksX11_number_3 10 rfl rfl)
abbrev cX11_is : ByteArray := prog_20_method_2_code
def yX11_is : MethodName := ⟨RX11, "is", "(II)Z"⟩
def dkwX11_is_2 : List UInt8 := [4, 167, 0, 4, 3, 172]
abbrev dktX11_is_2 : List UInt8 := dkwX11_is_2 ++ []
def dkwX11_is_1 : List UInt8 := [180, 0, 15, 46, 27, 161, 0, 23, 42, 180, 0, 3, 180, 0, 22, 42, 180, 0, 15, 46, 28, 163, 0, 7]
abbrev dktX11_is_1 : List UInt8 := dkwX11_is_1 ++ dktX11_is_2
def dkwX11_is_0 : List UInt8 := [42, 180, 0, 15, 42, 180, 0, 3, 180, 0, 19, 162, 0, 39, 42, 180, 0, 3, 180, 0, 22, 42]
abbrev dktX11_is_0 : List UInt8 := dkwX11_is_0 ++ dktX11_is_1
theorem dksX11_is_0 : cX11_is.data.toList.drop 0 = dktX11_is_0 := by decide +kernel
theorem dksX11_is_1 : cX11_is.data.toList.drop 22 = dktX11_is_1 := dk_seg dksX11_is_0 22 rfl rfl
theorem dksX11_is_2 : cX11_is.data.toList.drop 46 = dktX11_is_2 := dk_seg dksX11_is_1 24 rfl rfl
theorem dX11_is_0 : decode cX11_is 0 = .ok (.aload_n 0, 1) := dk_42 (dk_at dksX11_is_0 0 rfl rfl)
theorem dX11_is_1 : decode cX11_is 1 = .ok (.getfield 15, 3) := dk_180 0 15 (dk_at dksX11_is_0 1 rfl rfl)
theorem dX11_is_4 : decode cX11_is 4 = .ok (.aload_n 0, 1) := dk_42 (dk_at dksX11_is_0 4 rfl rfl)
theorem dX11_is_5 : decode cX11_is 5 = .ok (.getfield 3, 3) := dk_180 0 3 (dk_at dksX11_is_0 5 rfl rfl)
theorem dX11_is_8 : decode cX11_is 8 = .ok (.getfield 19, 3) := dk_180 0 19 (dk_at dksX11_is_0 8 rfl rfl)
theorem dX11_is_11 : decode cX11_is 11 = .ok (.if_icmp .ge 39, 3) := dk_162 0 39 (dk_at dksX11_is_0 11 rfl rfl)
theorem dX11_is_14 : decode cX11_is 14 = .ok (.aload_n 0, 1) := dk_42 (dk_at dksX11_is_0 14 rfl rfl)
theorem dX11_is_15 : decode cX11_is 15 = .ok (.getfield 3, 3) := dk_180 0 3 (dk_at dksX11_is_0 15 rfl rfl)
theorem dX11_is_18 : decode cX11_is 18 = .ok (.getfield 22, 3) := dk_180 0 22 (dk_at dksX11_is_0 18 rfl rfl)
theorem dX11_is_21 : decode cX11_is 21 = .ok (.aload_n 0, 1) := dk_42 (dk_at dksX11_is_0 21 rfl rfl)
theorem dX11_is_22 : decode cX11_is 22 = .ok (.getfield 15, 3) := dk_180 0 15 (dk_at dksX11_is_1 0 rfl rfl)
theorem dX11_is_25 : decode cX11_is 25 = .ok (.iaload, 1) := dk_46 (dk_at dksX11_is_1 3 rfl rfl)
theorem dX11_is_26 : decode cX11_is 26 = .ok (.iload_n 1, 1) := dk_27 (dk_at dksX11_is_1 4 rfl rfl)
theorem dX11_is_27 : decode cX11_is 27 = .ok (.if_icmp .lt 23, 3) := dk_161 0 23 (dk_at dksX11_is_1 5 rfl rfl)
theorem dX11_is_30 : decode cX11_is 30 = .ok (.aload_n 0, 1) := dk_42 (dk_at dksX11_is_1 8 rfl rfl)
theorem dX11_is_31 : decode cX11_is 31 = .ok (.getfield 3, 3) := dk_180 0 3 (dk_at dksX11_is_1 9 rfl rfl)
theorem dX11_is_34 : decode cX11_is 34 = .ok (.getfield 22, 3) := dk_180 0 22 (dk_at dksX11_is_1 12 rfl rfl)
theorem dX11_is_37 : decode cX11_is 37 = .ok (.aload_n 0, 1) := dk_42 (dk_at dksX11_is_1 15 rfl rfl)
theorem dX11_is_38 : decode cX11_is 38 = .ok (.getfield 15, 3) := dk_180 0 15 (dk_at dksX11_is_1 16 rfl rfl)
theorem dX11_is_41 : decode cX11_is 41 = .ok (.iaload, 1) := dk_46 (dk_at dksX11_is_1 19 rfl rfl)
theorem dX11_is_42 : decode cX11_is 42 = .ok (.iload_n 2, 1) := dk_28 (dk_at dksX11_is_1 20 rfl rfl)
theorem dX11_is_43 : decode cX11_is 43 = .ok (.if_icmp .gt 7, 3) := dk_163 0 7 (dk_at dksX11_is_1 21 rfl rfl)
theorem dX11_is_46 : decode cX11_is 46 = .ok (.iconst 1, 1) := dk_4 (dk_at dksX11_is_2 0 rfl rfl)
theorem dX11_is_47 : decode cX11_is 47 = .ok (.goto 4, 3) := dk_167 0 4 (dk_at dksX11_is_2 1 rfl rfl)
theorem dX11_is_50 : decode cX11_is 50 = .ok (.iconst 0, 1) := dk_3 (dk_at dksX11_is_2 4 rfl rfl)
theorem dX11_is_51 : decode cX11_is 51 = .ok (.ireturn, 1) := dk_172 (dk_at dksX11_is_2 5 rfl rfl)
theorem q117 : (Jvm.Cond.initialized "KeptLight$Reader") ∈ lw_all := lw_g (lw_at lw_m1 41 rfl) rfl
theorem q792 : (Jvm.Cond.fieldLinkNest "KeptLight$Reader" (22 : Nat) "KeptLight" "tape" "[I" "KeptLight") ∈ lw_tbl := lw_at lw_m3 236 rfl
theorem q794 : (Jvm.Cond.fieldLinkNest "KeptLight$Reader" (19 : Nat) "KeptLight" "size" "I" "KeptLight") ∈ lw_tbl := lw_at lw_m3 238 rfl
theorem q1113 : (Jvm.Cond.instantiable "KeptLight$Reader" (2 : Nat)) ∈ lw_all := lw_g (lw_at lw_m5 77 rfl) rfl
theorem q1115 : (Jvm.Cond.instanceMethod ({ cls := "KeptLight$Reader", name := "<init>", desc := "(LKeptLight;)V" } : Jvm.MethodName)) ∈ lw_all := lw_g (lw_at lw_m5 79 rfl) rfl
theorem q1116 : (Jvm.Cond.code ({ cls := "KeptLight$Reader", name := "<init>", desc := "(LKeptLight;)V" } : Jvm.MethodName) prog_20_method_1_code (2 : Nat) (Option.none : Option Jvm.ClassFile.FieldType)) ∈ lw_all := lw_g (lw_at lw_m5 80 rfl) rfl
theorem q1117 : (Jvm.Cond.methodLink "KeptLight$Reader" (9 : Nat) ({ cls := "java/lang/Object", name := "<init>", desc := "()V" } : Jvm.MethodName)) ∈ lw_all := lw_g (lw_at lw_m5 81 rfl) rfl
theorem q1118 : (Jvm.Cond.fieldLink "KeptLight$Reader" (15 : Nat) "KeptLight$Reader" "at" "I") ∈ lw_all := lw_g (lw_at lw_m5 82 rfl) rfl
theorem q1119 : (Jvm.Cond.fieldLink "KeptLight$Reader" (3 : Nat) "KeptLight$Reader" "this$0" "LKeptLight;") ∈ lw_all := lw_g (lw_at lw_m5 83 rfl) rfl
theorem q1120 : (Jvm.Cond.lays "KeptLight$Reader" "KeptLight$Reader" "at" "I") ∈ lw_all := lw_g (lw_at lw_m5 84 rfl) rfl
theorem q1121 : (Jvm.Cond.soleField "KeptLight$Reader" "at") ∈ lw_all := lw_g (lw_at lw_m5 85 rfl) rfl
theorem q1122 : (Jvm.Cond.laysFinal "KeptLight$Reader" "KeptLight$Reader" "this$0" "LKeptLight;") ∈ lw_all := lw_g (lw_at lw_m5 86 rfl) rfl
theorem q1123 : (Jvm.Cond.soleField "KeptLight$Reader" "this$0") ∈ lw_all := lw_g (lw_at lw_m5 87 rfl) rfl
theorem q1124 : (Jvm.Cond.superclass "KeptLight$Reader" "java/lang/Object") ∈ lw_all := lw_g (lw_at lw_m5 88 rfl) rfl
theorem q1126 : (Jvm.Cond.instanceMethod ({ cls := "KeptLight$Reader", name := "spells", desc := "()Ljava/util/LinkedList;" } : Jvm.MethodName)) ∈ lw_all := lw_g (lw_at lw_m5 90 rfl) rfl
theorem q1127 : (Jvm.Cond.selects "KeptLight$Reader" ({ cls := "KeptLight$Reader", name := "spells", desc := "()Ljava/util/LinkedList;" } : Jvm.MethodName) ({ cls := "KeptLight$Reader", name := "spells", desc := "()Ljava/util/LinkedList;" } : Jvm.MethodName)) ∈ lw_all := lw_g (lw_at lw_m5 91 rfl) rfl
theorem q1128 : (Jvm.Cond.code ({ cls := "KeptLight$Reader", name := "spells", desc := "()Ljava/util/LinkedList;" } : Jvm.MethodName) prog_20_method_5_code (3 : Nat) (Option.some (Jvm.ClassFile.FieldType.object "java/util/LinkedList"))) ∈ lw_all := lw_g (lw_at lw_m5 92 rfl) rfl
theorem q1129 : (Jvm.Cond.classLink "KeptLight$Reader" (74 : Nat) "java/util/LinkedList") ∈ lw_all := lw_g (lw_at lw_m5 93 rfl) rfl
theorem q1131 : (Jvm.Cond.methodLink "KeptLight$Reader" (76 : Nat) ({ cls := "java/util/LinkedList", name := "<init>", desc := "()V" } : Jvm.MethodName)) ∈ lw_all := lw_g (lw_at lw_m5 95 rfl) rfl
theorem q1150 : (Jvm.Cond.methodLink "KeptLight$Reader" (77 : Nat) ({ cls := "java/util/LinkedList", name := "size", desc := "()I" } : Jvm.MethodName)) ∈ lw_all := lw_g (lw_at lw_m5 114 rfl) rfl
theorem q1154 : (Jvm.Cond.stringRef "KeptLight$Reader" (53 : Nat) "cfs") ∈ lw_tbl := lw_at lw_m5 118 rfl
theorem q1155 : (Jvm.Cond.methodLink "KeptLight$Reader" (55 : Nat) ({ cls := "java/lang/String", name := "indexOf", desc := "(I)I" } : Jvm.MethodName)) ∈ lw_all := lw_g (lw_at lw_m5 119 rfl) rfl
theorem q1205 : (Jvm.Cond.classLink "KeptLight$Reader" (79 : Nat) "KeptLight$Crowd") ∈ lw_all := lw_g (lw_at lw_m5 169 rfl) rfl
theorem q1214 : (Jvm.Cond.methodLink "KeptLight$Reader" (81 : Nat) ({ cls := "KeptLight$Crowd", name := "<init>", desc := "(I)V" } : Jvm.MethodName)) ∈ lw_all := lw_g (lw_at lw_m5 178 rfl) rfl
theorem q1224 : (Jvm.Cond.methodLink "KeptLight$Reader" (82 : Nat) ({ cls := "KeptLight$Reader", name := "spell", desc := "()LKeptLight$Spell;" } : Jvm.MethodName)) ∈ lw_all := lw_g (lw_at lw_m5 188 rfl) rfl
theorem q1225 : (Jvm.Cond.privateMethod ({ cls := "KeptLight$Reader", name := "spell", desc := "()LKeptLight$Spell;" } : Jvm.MethodName)) ∈ lw_tbl := lw_at lw_m5 189 rfl
theorem q1226 : (Jvm.Cond.instanceMethod ({ cls := "KeptLight$Reader", name := "spell", desc := "()LKeptLight$Spell;" } : Jvm.MethodName)) ∈ lw_all := lw_g (lw_at lw_m5 190 rfl) rfl
theorem q1227 : (Jvm.Cond.code ({ cls := "KeptLight$Reader", name := "spell", desc := "()LKeptLight$Spell;" } : Jvm.MethodName) prog_20_method_4_code (3 : Nat) (Option.some (Jvm.ClassFile.FieldType.object "KeptLight$Spell"))) ∈ lw_all := lw_g (lw_at lw_m5 191 rfl) rfl
theorem q1228 : (Jvm.Cond.fieldLink "KeptLight$Reader" (35 : Nat) "KeptLight$Weather" "CLEAR" "LKeptLight$Weather;") ∈ lw_all := lw_g (lw_at lw_m5 192 rfl) rfl
theorem q1229 : (Jvm.Cond.fieldLink "KeptLight$Reader" (41 : Nat) "KeptLight$Weather" "FOG" "LKeptLight$Weather;") ∈ lw_all := lw_g (lw_at lw_m5 193 rfl) rfl
theorem q1230 : (Jvm.Cond.fieldLink "KeptLight$Reader" (44 : Nat) "KeptLight$Weather" "STORM" "LKeptLight$Weather;") ∈ lw_all := lw_g (lw_at lw_m5 194 rfl) rfl
theorem q1231 : (Jvm.Cond.methodLink "KeptLight$Reader" (47 : Nat) ({ cls := "java/util/List", name := "of", desc := "(Ljava/lang/Object;Ljava/lang/Object;Ljava/lang/Object;)Ljava/util/List;" } : Jvm.MethodName)) ∈ lw_all := lw_g (lw_at lw_m5 195 rfl) rfl
theorem q1261 : (Jvm.Cond.selects "KeptLight$Reader" ({ cls := "java/lang/Object", name := "getClass", desc := "()Ljava/lang/Class;" } : Jvm.MethodName) ({ cls := "java/lang/Object", name := "getClass", desc := "()Ljava/lang/Class;" } : Jvm.MethodName)) ∈ lw_all := lw_g (lw_at lw_m5 225 rfl) rfl
theorem q1347 : (Jvm.Cond.classLink "KeptLight$Reader" (30 : Nat) "KeptLight$Fault") ∈ lw_all := lw_g (lw_at lw_m6 71 rfl) rfl
theorem q1356 : (Jvm.Cond.methodLink "KeptLight$Reader" (32 : Nat) ({ cls := "KeptLight$Fault", name := "<init>", desc := "(I)V" } : Jvm.MethodName)) ∈ lw_all := lw_g (lw_at lw_m6 80 rfl) rfl
theorem q1366 : (Jvm.Cond.classLink "KeptLight$Reader" (61 : Nat) "KeptLight$Spell") ∈ lw_all := lw_g (lw_at lw_m6 90 rfl) rfl
theorem q1368 : (Jvm.Cond.interfaceEntry "KeptLight$Reader" (63 : Nat)) ∈ lw_tbl := lw_at lw_m6 92 rfl
theorem q1369 : (Jvm.Cond.methodLink "KeptLight$Reader" (63 : Nat) ({ cls := "java/util/List", name := "get", desc := "(I)Ljava/lang/Object;" } : Jvm.MethodName)) ∈ lw_all := lw_g (lw_at lw_m6 93 rfl) rfl
theorem q1453 : (Jvm.Cond.classLink "KeptLight$Reader" (36 : Nat) "KeptLight$Weather") ∈ lw_all := lw_g (lw_at lw_m6 177 rfl) rfl
theorem q1454 : (Jvm.Cond.methodLink "KeptLight$Reader" (67 : Nat) ({ cls := "KeptLight$Reader", name := "number", desc := "()I" } : Jvm.MethodName)) ∈ lw_all := lw_g (lw_at lw_m6 178 rfl) rfl
theorem q1455 : (Jvm.Cond.privateMethod ({ cls := "KeptLight$Reader", name := "number", desc := "()I" } : Jvm.MethodName)) ∈ lw_tbl := lw_at lw_m6 179 rfl
theorem q1456 : (Jvm.Cond.instanceMethod ({ cls := "KeptLight$Reader", name := "number", desc := "()I" } : Jvm.MethodName)) ∈ lw_all := lw_g (lw_at lw_m6 180 rfl) rfl
theorem q1457 : (Jvm.Cond.code ({ cls := "KeptLight$Reader", name := "number", desc := "()I" } : Jvm.MethodName) prog_20_method_3_code (3 : Nat) (Option.some Jvm.ClassFile.FieldType.int)) ∈ lw_all := lw_g (lw_at lw_m6 181 rfl) rfl
theorem q1458 : (Jvm.Cond.methodLink "KeptLight$Reader" (26 : Nat) ({ cls := "KeptLight$Reader", name := "is", desc := "(II)Z" } : Jvm.MethodName)) ∈ lw_all := lw_g (lw_at lw_m6 182 rfl) rfl
theorem q1459 : (Jvm.Cond.privateMethod ({ cls := "KeptLight$Reader", name := "is", desc := "(II)Z" } : Jvm.MethodName)) ∈ lw_tbl := lw_at lw_m6 183 rfl
theorem q1460 : (Jvm.Cond.instanceMethod ({ cls := "KeptLight$Reader", name := "is", desc := "(II)Z" } : Jvm.MethodName)) ∈ lw_all := lw_g (lw_at lw_m6 184 rfl) rfl
theorem q1461 : (Jvm.Cond.code ({ cls := "KeptLight$Reader", name := "is", desc := "(II)Z" } : Jvm.MethodName) prog_20_method_2_code (3 : Nat) (Option.some Jvm.ClassFile.FieldType.boolean)) ∈ lw_all := lw_g (lw_at lw_m6 185 rfl) rfl
theorem q1462 : (Jvm.Cond.methodLink "KeptLight$Reader" (71 : Nat) ({ cls := "KeptLight$Spell", name := "<init>", desc := "(LKeptLight$Weather;I)V" } : Jvm.MethodName)) ∈ lw_all := lw_g (lw_at lw_m6 186 rfl) rfl
theorem q1475 : (Jvm.Cond.methodLink "KeptLight$Reader" (86 : Nat) ({ cls := "java/util/LinkedList", name := "add", desc := "(Ljava/lang/Object;)Z" } : Jvm.MethodName)) ∈ lw_all := lw_g (lw_at lw_m6 199 rfl) rfl
theorem q3041 : (Jvm.Cond.selects "KeptLight$Reader" ({ cls := "java/lang/Object", name := "equals", desc := "(Ljava/lang/Object;)Z" } : Jvm.MethodName) ({ cls := "java/lang/Object", name := "equals", desc := "(Ljava/lang/Object;)Z" } : Jvm.MethodName)) ∈ lw_all := lw_g (lw_at lw_m13 85 rfl) rfl
theorem q3711 : (Jvm.Cond.castable "KeptLight$Reader" "java/lang/Object") ∈ lw_tbl := lw_at lw_m16 35 rfl
theorem in_X11 : ∀ w ∈ wsX110, w ∈ lw_all := lw_in wsX110 [1120, 1122] (by decide +kernel) (by decide +kernel)
/-! KeptLight$Crowd -/
set_option maxRecDepth 100000
def RX12 : String := "KeptLight$Crowd"
def TX12 : u_T := fun k => match k with
  | 0 => ("java/lang/Throwable", "cause", "Ljava/lang/Throwable;", false)
  | 1 => ("java/lang/Throwable", "stackTrace", "[Ljava/lang/StackTraceElement;", false)
  | 2 => ("java/lang/Throwable", "suppressedExceptions", "Ljava/util/List;", false)
  | 3 => ("java/lang/Throwable", "detailMessage", "Ljava/lang/String;", false)
  | 4 => ("java/lang/Throwable", "backtrace", "Ljava/lang/Object;", false)
  | 5 => ("java/lang/Throwable", "depth", "I", false)
  | _ => ("KeptLight$Crowd", "place", "I", true)
def tyX12 : Nat → FieldType := fun k => match k with
  | 0 => .object "java/lang/Throwable"
  | 1 => .array (.object "java/lang/StackTraceElement")
  | 2 => .object "java/util/List"
  | 3 => .object "java/lang/String"
  | 4 => .object "java/lang/Object"
  | 5 => .int
  | _ => .int
abbrev wsX120 : List Cond := u_ws RX12 TX12 7
theorem nmX12 : ∀ a, a < 7 → ∀ b, b < 7 → a ≠ b → (TX12 a).2.1 ≠ (TX12 b).2.1 := by decide +kernel
theorem tyX12_ok : ∀ k, k < 7 → parseFieldDescriptor (TX12 k).2.2.1 = some (tyX12 k) := by decide +kernel
abbrev cX12_init : ByteArray := prog_5_method_1_code
def yX12_init : MethodName := ⟨RX12, "<init>", "(I)V"⟩
def dkwX12_init_0 : List UInt8 := [42, 183, 0, 1, 42, 27, 181, 0, 7, 177]
abbrev dktX12_init_0 : List UInt8 := dkwX12_init_0 ++ []
theorem dksX12_init_0 : cX12_init.data.toList.drop 0 = dktX12_init_0 := by decide +kernel
theorem dX12_init_0 : decode cX12_init 0 = .ok (.aload_n 0, 1) := dk_42 (dk_at dksX12_init_0 0 rfl rfl)
theorem dX12_init_1 : decode cX12_init 1 = .ok (.invokespecial 1, 3) := dk_183 0 1 (dk_at dksX12_init_0 1 rfl rfl)
theorem dX12_init_4 : decode cX12_init 4 = .ok (.aload_n 0, 1) := dk_42 (dk_at dksX12_init_0 4 rfl rfl)
theorem dX12_init_5 : decode cX12_init 5 = .ok (.iload_n 1, 1) := dk_27 (dk_at dksX12_init_0 5 rfl rfl)
theorem dX12_init_6 : decode cX12_init 6 = .ok (.putfield 7, 3) := dk_181 0 7 (dk_at dksX12_init_0 6 rfl rfl)
theorem dX12_init_9 : decode cX12_init 9 = .ok (.return_, 1) := dk_177 (dk_at dksX12_init_0 9 rfl rfl)
theorem q121 : (Jvm.Cond.initialized "KeptLight$Crowd") ∈ lw_all := lw_g (lw_at lw_m1 45 rfl) rfl
theorem q367 : (Jvm.Cond.selects "KeptLight$Crowd" ({ cls := "java/lang/Throwable", name := "fillInStackTrace", desc := "()Ljava/lang/Throwable;" } : Jvm.MethodName) ({ cls := "java/lang/Throwable", name := "fillInStackTrace", desc := "()Ljava/lang/Throwable;" } : Jvm.MethodName)) ∈ lw_all := lw_g (lw_at lw_m2 51 rfl) rfl
theorem q1206 : (Jvm.Cond.instantiable "KeptLight$Crowd" (7 : Nat)) ∈ lw_all := lw_g (lw_at lw_m5 170 rfl) rfl
theorem q1207 : (Jvm.Cond.castable "KeptLight$Crowd" "KeptLight$Crowd") ∈ lw_tbl := lw_at lw_m5 171 rfl
theorem q1208 : (Jvm.Cond.selects "KeptLight$Crowd" ({ cls := "java/lang/Throwable", name := "fillInStackTrace", desc := "(I)Ljava/lang/Throwable;" } : Jvm.MethodName) ({ cls := "java/lang/Throwable", name := "fillInStackTrace", desc := "(I)Ljava/lang/Throwable;" } : Jvm.MethodName)) ∈ lw_all := lw_g (lw_at lw_m5 172 rfl) rfl
theorem q1209 : (Jvm.Cond.lays "KeptLight$Crowd" "java/lang/Throwable" "cause" "Ljava/lang/Throwable;") ∈ lw_all := lw_g (lw_at lw_m5 173 rfl) rfl
theorem q1210 : (Jvm.Cond.lays "KeptLight$Crowd" "java/lang/Throwable" "stackTrace" "[Ljava/lang/StackTraceElement;") ∈ lw_all := lw_g (lw_at lw_m5 174 rfl) rfl
theorem q1211 : (Jvm.Cond.lays "KeptLight$Crowd" "java/lang/Throwable" "suppressedExceptions" "Ljava/util/List;") ∈ lw_all := lw_g (lw_at lw_m5 175 rfl) rfl
theorem q1212 : (Jvm.Cond.lays "KeptLight$Crowd" "java/lang/Throwable" "detailMessage" "Ljava/lang/String;") ∈ lw_all := lw_g (lw_at lw_m5 176 rfl) rfl
theorem q1213 : (Jvm.Cond.lays "KeptLight$Crowd" "java/lang/Throwable" "backtrace" "Ljava/lang/Object;") ∈ lw_all := lw_g (lw_at lw_m5 177 rfl) rfl
theorem q1215 : (Jvm.Cond.instanceMethod ({ cls := "KeptLight$Crowd", name := "<init>", desc := "(I)V" } : Jvm.MethodName)) ∈ lw_all := lw_g (lw_at lw_m5 179 rfl) rfl
theorem q1216 : (Jvm.Cond.code ({ cls := "KeptLight$Crowd", name := "<init>", desc := "(I)V" } : Jvm.MethodName) prog_5_method_1_code (2 : Nat) (Option.none : Option Jvm.ClassFile.FieldType)) ∈ lw_all := lw_g (lw_at lw_m5 180 rfl) rfl
theorem q1217 : (Jvm.Cond.methodLink "KeptLight$Crowd" (1 : Nat) ({ cls := "java/lang/Exception", name := "<init>", desc := "()V" } : Jvm.MethodName)) ∈ lw_all := lw_g (lw_at lw_m5 181 rfl) rfl
theorem q1218 : (Jvm.Cond.fieldLink "KeptLight$Crowd" (7 : Nat) "KeptLight$Crowd" "place" "I") ∈ lw_all := lw_g (lw_at lw_m5 182 rfl) rfl
theorem q1220 : (Jvm.Cond.laysFinal "KeptLight$Crowd" "KeptLight$Crowd" "place" "I") ∈ lw_all := lw_g (lw_at lw_m5 184 rfl) rfl
theorem q1221 : (Jvm.Cond.soleField "KeptLight$Crowd" "place") ∈ lw_all := lw_g (lw_at lw_m5 185 rfl) rfl
theorem q1222 : (Jvm.Cond.lays "KeptLight$Crowd" "java/lang/Throwable" "depth" "I") ∈ lw_all := lw_g (lw_at lw_m5 186 rfl) rfl
theorem q1223 : (Jvm.Cond.superclass "KeptLight$Crowd" "java/lang/Exception") ∈ lw_all := lw_g (lw_at lw_m5 187 rfl) rfl
theorem q1248 : (Jvm.Cond.selects "KeptLight$Crowd" ({ cls := "java/lang/Object", name := "getClass", desc := "()Ljava/lang/Class;" } : Jvm.MethodName) ({ cls := "java/lang/Object", name := "getClass", desc := "()Ljava/lang/Class;" } : Jvm.MethodName)) ∈ lw_all := lw_g (lw_at lw_m5 212 rfl) rfl
theorem q1815 : (Jvm.Cond.selects "KeptLight$Crowd" ({ cls := "java/lang/Throwable", name := "toString", desc := "()Ljava/lang/String;" } : Jvm.MethodName) ({ cls := "java/lang/Throwable", name := "toString", desc := "()Ljava/lang/String;" } : Jvm.MethodName)) ∈ lw_all := lw_g (lw_at lw_m8 59 rfl) rfl
theorem q1832 : (Jvm.Cond.selects "KeptLight$Crowd" ({ cls := "java/lang/Throwable", name := "getLocalizedMessage", desc := "()Ljava/lang/String;" } : Jvm.MethodName) ({ cls := "java/lang/Throwable", name := "getLocalizedMessage", desc := "()Ljava/lang/String;" } : Jvm.MethodName)) ∈ lw_all := lw_g (lw_at lw_m8 76 rfl) rfl
theorem q1848 : (Jvm.Cond.selects "KeptLight$Crowd" ({ cls := "java/lang/Throwable", name := "getMessage", desc := "()Ljava/lang/String;" } : Jvm.MethodName) ({ cls := "java/lang/Throwable", name := "getMessage", desc := "()Ljava/lang/String;" } : Jvm.MethodName)) ∈ lw_all := lw_g (lw_at lw_m8 92 rfl) rfl
theorem q3026 : (Jvm.Cond.selects "KeptLight$Crowd" ({ cls := "java/lang/Object", name := "equals", desc := "(Ljava/lang/Object;)Z" } : Jvm.MethodName) ({ cls := "java/lang/Object", name := "equals", desc := "(Ljava/lang/Object;)Z" } : Jvm.MethodName)) ∈ lw_all := lw_g (lw_at lw_m13 70 rfl) rfl
theorem q3713 : (Jvm.Cond.castable "KeptLight$Crowd" "java/lang/Object") ∈ lw_tbl := lw_at lw_m16 37 rfl
theorem in_X12 : ∀ w ∈ wsX120, w ∈ lw_all := lw_in wsX120 [1209, 1210, 1211, 1212, 1213, 1222, 1220] (by decide +kernel) (by decide +kernel)
/-! KeptLight$Fault -/
set_option maxRecDepth 100000
def RX13 : String := "KeptLight$Fault"
def TX13 : u_T := fun k => match k with
  | 0 => ("java/lang/Throwable", "cause", "Ljava/lang/Throwable;", false)
  | 1 => ("java/lang/Throwable", "stackTrace", "[Ljava/lang/StackTraceElement;", false)
  | 2 => ("java/lang/Throwable", "suppressedExceptions", "Ljava/util/List;", false)
  | 3 => ("java/lang/Throwable", "detailMessage", "Ljava/lang/String;", false)
  | 4 => ("java/lang/Throwable", "backtrace", "Ljava/lang/Object;", false)
  | 5 => ("java/lang/Throwable", "depth", "I", false)
  | _ => ("KeptLight$Fault", "place", "I", true)
def tyX13 : Nat → FieldType := fun k => match k with
  | 0 => .object "java/lang/Throwable"
  | 1 => .array (.object "java/lang/StackTraceElement")
  | 2 => .object "java/util/List"
  | 3 => .object "java/lang/String"
  | 4 => .object "java/lang/Object"
  | 5 => .int
  | _ => .int
abbrev wsX130 : List Cond := u_ws RX13 TX13 7
theorem nmX13 : ∀ a, a < 7 → ∀ b, b < 7 → a ≠ b → (TX13 a).2.1 ≠ (TX13 b).2.1 := by decide +kernel
theorem tyX13_ok : ∀ k, k < 7 → parseFieldDescriptor (TX13 k).2.2.1 = some (tyX13 k) := by decide +kernel
abbrev cX13_init : ByteArray := prog_8_method_1_code
def yX13_init : MethodName := ⟨RX13, "<init>", "(I)V"⟩
def dkwX13_init_0 : List UInt8 := [42, 1, 1, 3, 3, 183, 0, 1, 42, 27, 181, 0, 7, 177]
abbrev dktX13_init_0 : List UInt8 := dkwX13_init_0 ++ []
theorem dksX13_init_0 : cX13_init.data.toList.drop 0 = dktX13_init_0 := by decide +kernel
theorem dX13_init_0 : decode cX13_init 0 = .ok (.aload_n 0, 1) := dk_42 (dk_at dksX13_init_0 0 rfl rfl)
theorem dX13_init_1 : decode cX13_init 1 = .ok (.aconst_null, 1) := dk_1 (dk_at dksX13_init_0 1 rfl rfl)
theorem dX13_init_2 : decode cX13_init 2 = .ok (.aconst_null, 1) := dk_1 (dk_at dksX13_init_0 2 rfl rfl)
theorem dX13_init_3 : decode cX13_init 3 = .ok (.iconst 0, 1) := dk_3 (dk_at dksX13_init_0 3 rfl rfl)
theorem dX13_init_4 : decode cX13_init 4 = .ok (.iconst 0, 1) := dk_3 (dk_at dksX13_init_0 4 rfl rfl)
theorem dX13_init_5 : decode cX13_init 5 = .ok (.invokespecial 1, 3) := dk_183 0 1 (dk_at dksX13_init_0 5 rfl rfl)
theorem dX13_init_8 : decode cX13_init 8 = .ok (.aload_n 0, 1) := dk_42 (dk_at dksX13_init_0 8 rfl rfl)
theorem dX13_init_9 : decode cX13_init 9 = .ok (.iload_n 1, 1) := dk_27 (dk_at dksX13_init_0 9 rfl rfl)
theorem dX13_init_10 : decode cX13_init 10 = .ok (.putfield 7, 3) := dk_181 0 7 (dk_at dksX13_init_0 10 rfl rfl)
theorem dX13_init_13 : decode cX13_init 13 = .ok (.return_, 1) := dk_177 (dk_at dksX13_init_0 13 rfl rfl)
theorem q128 : (Jvm.Cond.initialized "KeptLight$Fault") ∈ lw_all := lw_g (lw_at lw_m1 52 rfl) rfl
theorem q368 : (Jvm.Cond.selects "KeptLight$Fault" ({ cls := "java/lang/Throwable", name := "fillInStackTrace", desc := "()Ljava/lang/Throwable;" } : Jvm.MethodName) ({ cls := "java/lang/Throwable", name := "fillInStackTrace", desc := "()Ljava/lang/Throwable;" } : Jvm.MethodName)) ∈ lw_all := lw_g (lw_at lw_m2 52 rfl) rfl
theorem q1251 : (Jvm.Cond.selects "KeptLight$Fault" ({ cls := "java/lang/Object", name := "getClass", desc := "()Ljava/lang/Class;" } : Jvm.MethodName) ({ cls := "java/lang/Object", name := "getClass", desc := "()Ljava/lang/Class;" } : Jvm.MethodName)) ∈ lw_all := lw_g (lw_at lw_m5 215 rfl) rfl
theorem q1348 : (Jvm.Cond.instantiable "KeptLight$Fault" (7 : Nat)) ∈ lw_all := lw_g (lw_at lw_m6 72 rfl) rfl
theorem q1349 : (Jvm.Cond.castable "KeptLight$Fault" "KeptLight$Fault") ∈ lw_tbl := lw_at lw_m6 73 rfl
theorem q1350 : (Jvm.Cond.selects "KeptLight$Fault" ({ cls := "java/lang/Throwable", name := "fillInStackTrace", desc := "(I)Ljava/lang/Throwable;" } : Jvm.MethodName) ({ cls := "java/lang/Throwable", name := "fillInStackTrace", desc := "(I)Ljava/lang/Throwable;" } : Jvm.MethodName)) ∈ lw_all := lw_g (lw_at lw_m6 74 rfl) rfl
theorem q1351 : (Jvm.Cond.lays "KeptLight$Fault" "java/lang/Throwable" "cause" "Ljava/lang/Throwable;") ∈ lw_all := lw_g (lw_at lw_m6 75 rfl) rfl
theorem q1352 : (Jvm.Cond.lays "KeptLight$Fault" "java/lang/Throwable" "stackTrace" "[Ljava/lang/StackTraceElement;") ∈ lw_all := lw_g (lw_at lw_m6 76 rfl) rfl
theorem q1353 : (Jvm.Cond.lays "KeptLight$Fault" "java/lang/Throwable" "suppressedExceptions" "Ljava/util/List;") ∈ lw_all := lw_g (lw_at lw_m6 77 rfl) rfl
theorem q1354 : (Jvm.Cond.lays "KeptLight$Fault" "java/lang/Throwable" "detailMessage" "Ljava/lang/String;") ∈ lw_all := lw_g (lw_at lw_m6 78 rfl) rfl
theorem q1355 : (Jvm.Cond.lays "KeptLight$Fault" "java/lang/Throwable" "backtrace" "Ljava/lang/Object;") ∈ lw_all := lw_g (lw_at lw_m6 79 rfl) rfl
theorem q1357 : (Jvm.Cond.instanceMethod ({ cls := "KeptLight$Fault", name := "<init>", desc := "(I)V" } : Jvm.MethodName)) ∈ lw_all := lw_g (lw_at lw_m6 81 rfl) rfl
theorem q1358 : (Jvm.Cond.code ({ cls := "KeptLight$Fault", name := "<init>", desc := "(I)V" } : Jvm.MethodName) prog_8_method_1_code (2 : Nat) (Option.none : Option Jvm.ClassFile.FieldType)) ∈ lw_all := lw_g (lw_at lw_m6 82 rfl) rfl
theorem q1359 : (Jvm.Cond.methodLink "KeptLight$Fault" (1 : Nat) ({ cls := "java/lang/Exception", name := "<init>", desc := "(Ljava/lang/String;Ljava/lang/Throwable;ZZ)V" } : Jvm.MethodName)) ∈ lw_all := lw_g (lw_at lw_m6 83 rfl) rfl
theorem q1360 : (Jvm.Cond.fieldLink "KeptLight$Fault" (7 : Nat) "KeptLight$Fault" "place" "I") ∈ lw_all := lw_g (lw_at lw_m6 84 rfl) rfl
theorem q1362 : (Jvm.Cond.laysFinal "KeptLight$Fault" "KeptLight$Fault" "place" "I") ∈ lw_all := lw_g (lw_at lw_m6 86 rfl) rfl
theorem q1363 : (Jvm.Cond.soleField "KeptLight$Fault" "place") ∈ lw_all := lw_g (lw_at lw_m6 87 rfl) rfl
theorem q1364 : (Jvm.Cond.lays "KeptLight$Fault" "java/lang/Throwable" "depth" "I") ∈ lw_all := lw_g (lw_at lw_m6 88 rfl) rfl
theorem q1365 : (Jvm.Cond.superclass "KeptLight$Fault" "java/lang/Exception") ∈ lw_all := lw_g (lw_at lw_m6 89 rfl) rfl
theorem q1816 : (Jvm.Cond.selects "KeptLight$Fault" ({ cls := "java/lang/Throwable", name := "toString", desc := "()Ljava/lang/String;" } : Jvm.MethodName) ({ cls := "java/lang/Throwable", name := "toString", desc := "()Ljava/lang/String;" } : Jvm.MethodName)) ∈ lw_all := lw_g (lw_at lw_m8 60 rfl) rfl
theorem q1833 : (Jvm.Cond.selects "KeptLight$Fault" ({ cls := "java/lang/Throwable", name := "getLocalizedMessage", desc := "()Ljava/lang/String;" } : Jvm.MethodName) ({ cls := "java/lang/Throwable", name := "getLocalizedMessage", desc := "()Ljava/lang/String;" } : Jvm.MethodName)) ∈ lw_all := lw_g (lw_at lw_m8 77 rfl) rfl
theorem q1849 : (Jvm.Cond.selects "KeptLight$Fault" ({ cls := "java/lang/Throwable", name := "getMessage", desc := "()Ljava/lang/String;" } : Jvm.MethodName) ({ cls := "java/lang/Throwable", name := "getMessage", desc := "()Ljava/lang/String;" } : Jvm.MethodName)) ∈ lw_all := lw_g (lw_at lw_m8 93 rfl) rfl
theorem q3029 : (Jvm.Cond.selects "KeptLight$Fault" ({ cls := "java/lang/Object", name := "equals", desc := "(Ljava/lang/Object;)Z" } : Jvm.MethodName) ({ cls := "java/lang/Object", name := "equals", desc := "(Ljava/lang/Object;)Z" } : Jvm.MethodName)) ∈ lw_all := lw_g (lw_at lw_m13 73 rfl) rfl
theorem q3716 : (Jvm.Cond.castable "KeptLight$Fault" "java/lang/Object") ∈ lw_tbl := lw_at lw_m16 40 rfl
theorem in_X13 : ∀ w ∈ wsX130, w ∈ lw_all := lw_in wsX130 [1351, 1352, 1353, 1354, 1355, 1364, 1362] (by decide +kernel) (by decide +kernel)
/-! KeptLight$Spell -/
set_option maxRecDepth 100000
def RX14 : String := "KeptLight$Spell"
def TX14 : u_T := fun k => match k with
  | 0 => ("KeptLight$Spell", "weather", "LKeptLight$Weather;", true)
  | _ => ("KeptLight$Spell", "hours", "I", true)
def tyX14 : Nat → FieldType := fun k => match k with
  | 0 => .object "KeptLight$Weather"
  | _ => .int
abbrev wsX140 : List Cond := u_ws RX14 TX14 2
theorem nmX14 : ∀ a, a < 2 → ∀ b, b < 2 → a ≠ b → (TX14 a).2.1 ≠ (TX14 b).2.1 := by decide +kernel
theorem tyX14_ok : ∀ k, k < 2 → parseFieldDescriptor (TX14 k).2.2.1 = some (tyX14 k) := by decide +kernel
abbrev cX14_init : ByteArray := prog_27_method_1_code
def yX14_init : MethodName := ⟨RX14, "<init>", "(LKeptLight$Weather;I)V"⟩
def dkwX14_init_0 : List UInt8 := [42, 183, 0, 1, 42, 43, 181, 0, 7, 42, 28, 181, 0, 13, 177]
abbrev dktX14_init_0 : List UInt8 := dkwX14_init_0 ++ []
theorem dksX14_init_0 : cX14_init.data.toList.drop 0 = dktX14_init_0 := by decide +kernel
theorem dX14_init_0 : decode cX14_init 0 = .ok (.aload_n 0, 1) := dk_42 (dk_at dksX14_init_0 0 rfl rfl)
theorem dX14_init_1 : decode cX14_init 1 = .ok (.invokespecial 1, 3) := dk_183 0 1 (dk_at dksX14_init_0 1 rfl rfl)
theorem dX14_init_4 : decode cX14_init 4 = .ok (.aload_n 0, 1) := dk_42 (dk_at dksX14_init_0 4 rfl rfl)
theorem dX14_init_5 : decode cX14_init 5 = .ok (.aload_n 1, 1) := dk_43 (dk_at dksX14_init_0 5 rfl rfl)
theorem dX14_init_6 : decode cX14_init 6 = .ok (.putfield 7, 3) := dk_181 0 7 (dk_at dksX14_init_0 6 rfl rfl)
theorem dX14_init_9 : decode cX14_init 9 = .ok (.aload_n 0, 1) := dk_42 (dk_at dksX14_init_0 9 rfl rfl)
theorem dX14_init_10 : decode cX14_init 10 = .ok (.iload_n 2, 1) := dk_28 (dk_at dksX14_init_0 10 rfl rfl)
theorem dX14_init_11 : decode cX14_init 11 = .ok (.putfield 13, 3) := dk_181 0 13 (dk_at dksX14_init_0 11 rfl rfl)
theorem dX14_init_14 : decode cX14_init 14 = .ok (.return_, 1) := dk_177 (dk_at dksX14_init_0 14 rfl rfl)
theorem q129 : (Jvm.Cond.initialized "KeptLight$Spell") ∈ lw_all := lw_g (lw_at lw_m1 53 rfl) rfl
theorem q1266 : (Jvm.Cond.selects "KeptLight$Spell" ({ cls := "java/lang/Object", name := "getClass", desc := "()Ljava/lang/Class;" } : Jvm.MethodName) ({ cls := "java/lang/Object", name := "getClass", desc := "()Ljava/lang/Class;" } : Jvm.MethodName)) ∈ lw_all := lw_g (lw_at lw_m5 230 rfl) rfl
theorem q1367 : (Jvm.Cond.instantiable "KeptLight$Spell" (2 : Nat)) ∈ lw_all := lw_g (lw_at lw_m6 91 rfl) rfl
theorem q1463 : (Jvm.Cond.instanceMethod ({ cls := "KeptLight$Spell", name := "<init>", desc := "(LKeptLight$Weather;I)V" } : Jvm.MethodName)) ∈ lw_all := lw_g (lw_at lw_m6 187 rfl) rfl
theorem q1464 : (Jvm.Cond.code ({ cls := "KeptLight$Spell", name := "<init>", desc := "(LKeptLight$Weather;I)V" } : Jvm.MethodName) prog_27_method_1_code (3 : Nat) (Option.none : Option Jvm.ClassFile.FieldType)) ∈ lw_all := lw_g (lw_at lw_m6 188 rfl) rfl
theorem q1465 : (Jvm.Cond.methodLink "KeptLight$Spell" (1 : Nat) ({ cls := "java/lang/Object", name := "<init>", desc := "()V" } : Jvm.MethodName)) ∈ lw_all := lw_g (lw_at lw_m6 189 rfl) rfl
theorem q1466 : (Jvm.Cond.fieldLink "KeptLight$Spell" (7 : Nat) "KeptLight$Spell" "weather" "LKeptLight$Weather;") ∈ lw_all := lw_g (lw_at lw_m6 190 rfl) rfl
theorem q1468 : (Jvm.Cond.fieldLink "KeptLight$Spell" (13 : Nat) "KeptLight$Spell" "hours" "I") ∈ lw_all := lw_g (lw_at lw_m6 192 rfl) rfl
theorem q1470 : (Jvm.Cond.laysFinal "KeptLight$Spell" "KeptLight$Spell" "weather" "LKeptLight$Weather;") ∈ lw_all := lw_g (lw_at lw_m6 194 rfl) rfl
theorem q1471 : (Jvm.Cond.soleField "KeptLight$Spell" "weather") ∈ lw_all := lw_g (lw_at lw_m6 195 rfl) rfl
theorem q1472 : (Jvm.Cond.laysFinal "KeptLight$Spell" "KeptLight$Spell" "hours" "I") ∈ lw_all := lw_g (lw_at lw_m6 196 rfl) rfl
theorem q1473 : (Jvm.Cond.soleField "KeptLight$Spell" "hours") ∈ lw_all := lw_g (lw_at lw_m6 197 rfl) rfl
theorem q1474 : (Jvm.Cond.superclass "KeptLight$Spell" "java/lang/Object") ∈ lw_all := lw_g (lw_at lw_m6 198 rfl) rfl
theorem q3046 : (Jvm.Cond.selects "KeptLight$Spell" ({ cls := "java/lang/Object", name := "equals", desc := "(Ljava/lang/Object;)Z" } : Jvm.MethodName) ({ cls := "java/lang/Object", name := "equals", desc := "(Ljava/lang/Object;)Z" } : Jvm.MethodName)) ∈ lw_all := lw_g (lw_at lw_m13 90 rfl) rfl
theorem q3717 : (Jvm.Cond.castable "KeptLight$Spell" "java/lang/Object") ∈ lw_tbl := lw_at lw_m16 41 rfl
theorem in_X14 : ∀ w ∈ wsX140, w ∈ lw_all := lw_in wsX140 [1470, 1472] (by decide +kernel) (by decide +kernel)
/-! KeptLight$Keeper -/
set_option maxRecDepth 100000
def RX15 : String := "KeptLight$Keeper"
def TX15 : u_T := fun k => match k with
  | 0 => ("KeptLight$Keeper", "number", "I", true)
  | 1 => ("KeptLight$Keeper", "rank", "LKeptLight$Rank;", true)
  | 2 => ("KeptLight$Keeper", "tired", "I", false)
  | 3 => ("KeptLight$Keeper", "tended", "I", false)
  | _ => ("KeptLight$Keeper", "slept", "I", false)
def tyX15 : Nat → FieldType := fun k => match k with
  | 0 => .int
  | 1 => .object "KeptLight$Rank"
  | 2 => .int
  | 3 => .int
  | _ => .int
abbrev wsX150 : List Cond := u_ws RX15 TX15 5
theorem nmX15 : ∀ a, a < 5 → ∀ b, b < 5 → a ≠ b → (TX15 a).2.1 ≠ (TX15 b).2.1 := by decide +kernel
theorem tyX15_ok : ∀ k, k < 5 → parseFieldDescriptor (TX15 k).2.2.1 = some (tyX15 k) := by decide +kernel
abbrev cX15_init : ByteArray := prog_12_method_1_code
def yX15_init : MethodName := ⟨RX15, "<init>", "(ILKeptLight$Rank;)V"⟩
def dkwX15_init_0 : List UInt8 := [42, 183, 0, 1, 42, 27, 181, 0, 7, 42, 44, 181, 0, 13, 177]
abbrev dktX15_init_0 : List UInt8 := dkwX15_init_0 ++ []
theorem dksX15_init_0 : cX15_init.data.toList.drop 0 = dktX15_init_0 := by decide +kernel
theorem dX15_init_0 : decode cX15_init 0 = .ok (.aload_n 0, 1) := dk_42 (dk_at dksX15_init_0 0 rfl rfl)
theorem dX15_init_1 : decode cX15_init 1 = .ok (.invokespecial 1, 3) := dk_183 0 1 (dk_at dksX15_init_0 1 rfl rfl)
theorem dX15_init_4 : decode cX15_init 4 = .ok (.aload_n 0, 1) := dk_42 (dk_at dksX15_init_0 4 rfl rfl)
theorem dX15_init_5 : decode cX15_init 5 = .ok (.iload_n 1, 1) := dk_27 (dk_at dksX15_init_0 5 rfl rfl)
theorem dX15_init_6 : decode cX15_init 6 = .ok (.putfield 7, 3) := dk_181 0 7 (dk_at dksX15_init_0 6 rfl rfl)
theorem dX15_init_9 : decode cX15_init 9 = .ok (.aload_n 0, 1) := dk_42 (dk_at dksX15_init_0 9 rfl rfl)
theorem dX15_init_10 : decode cX15_init 10 = .ok (.aload_n 2, 1) := dk_44 (dk_at dksX15_init_0 10 rfl rfl)
theorem dX15_init_11 : decode cX15_init 11 = .ok (.putfield 13, 3) := dk_181 0 13 (dk_at dksX15_init_0 11 rfl rfl)
theorem dX15_init_14 : decode cX15_init 14 = .ok (.return_, 1) := dk_177 (dk_at dksX15_init_0 14 rfl rfl)
abbrev cX15_isAsleep : ByteArray := prog_12_method_3_code
def yX15_isAsleep : MethodName := ⟨RX15, "isAsleep", "()Z"⟩
def dkwX15_isAsleep_0 : List UInt8 := [42, 180, 0, 17, 42, 180, 0, 13, 182, 0, 26, 161, 0, 7, 4, 167, 0, 4, 3, 172]
abbrev dktX15_isAsleep_0 : List UInt8 := dkwX15_isAsleep_0 ++ []
theorem dksX15_isAsleep_0 : cX15_isAsleep.data.toList.drop 0 = dktX15_isAsleep_0 := by decide +kernel
theorem dX15_isAsleep_0 : decode cX15_isAsleep 0 = .ok (.aload_n 0, 1) := dk_42 (dk_at dksX15_isAsleep_0 0 rfl rfl)
theorem dX15_isAsleep_1 : decode cX15_isAsleep 1 = .ok (.getfield 17, 3) := dk_180 0 17 (dk_at dksX15_isAsleep_0 1 rfl rfl)
theorem dX15_isAsleep_4 : decode cX15_isAsleep 4 = .ok (.aload_n 0, 1) := dk_42 (dk_at dksX15_isAsleep_0 4 rfl rfl)
theorem dX15_isAsleep_5 : decode cX15_isAsleep 5 = .ok (.getfield 13, 3) := dk_180 0 13 (dk_at dksX15_isAsleep_0 5 rfl rfl)
theorem dX15_isAsleep_8 : decode cX15_isAsleep 8 = .ok (.invokevirtual 26, 3) := dk_182 0 26 (dk_at dksX15_isAsleep_0 8 rfl rfl)
theorem dX15_isAsleep_11 : decode cX15_isAsleep 11 = .ok (.if_icmp .lt 7, 3) := dk_161 0 7 (dk_at dksX15_isAsleep_0 11 rfl rfl)
theorem dX15_isAsleep_14 : decode cX15_isAsleep 14 = .ok (.iconst 1, 1) := dk_4 (dk_at dksX15_isAsleep_0 14 rfl rfl)
theorem dX15_isAsleep_15 : decode cX15_isAsleep 15 = .ok (.goto 4, 3) := dk_167 0 4 (dk_at dksX15_isAsleep_0 15 rfl rfl)
theorem dX15_isAsleep_18 : decode cX15_isAsleep 18 = .ok (.iconst 0, 1) := dk_3 (dk_at dksX15_isAsleep_0 18 rfl rfl)
theorem dX15_isAsleep_19 : decode cX15_isAsleep 19 = .ok (.ireturn, 1) := dk_172 (dk_at dksX15_isAsleep_0 19 rfl rfl)
abbrev cX15_becomes : ByteArray := prog_12_method_2_code
def yX15_becomes : MethodName := ⟨RX15, "becomes", "(LKeptLight$Keeper;)V"⟩
def dkwX15_becomes_1 : List UInt8 := [177]
abbrev dktX15_becomes_1 : List UInt8 := dkwX15_becomes_1 ++ []
def dkwX15_becomes_0 : List UInt8 := [42, 43, 180, 0, 17, 181, 0, 17, 42, 43, 180, 0, 20, 181, 0, 20, 42, 43, 180, 0, 23, 181, 0, 23]
abbrev dktX15_becomes_0 : List UInt8 := dkwX15_becomes_0 ++ dktX15_becomes_1
theorem dksX15_becomes_0 : cX15_becomes.data.toList.drop 0 = dktX15_becomes_0 := by decide +kernel
theorem dksX15_becomes_1 : cX15_becomes.data.toList.drop 24 = dktX15_becomes_1 := dk_seg dksX15_becomes_0 24 rfl rfl
theorem dX15_becomes_0 : decode cX15_becomes 0 = .ok (.aload_n 0, 1) := dk_42 (dk_at dksX15_becomes_0 0 rfl rfl)
theorem dX15_becomes_1 : decode cX15_becomes 1 = .ok (.aload_n 1, 1) := dk_43 (dk_at dksX15_becomes_0 1 rfl rfl)
theorem dX15_becomes_2 : decode cX15_becomes 2 = .ok (.getfield 17, 3) := dk_180 0 17 (dk_at dksX15_becomes_0 2 rfl rfl)
theorem dX15_becomes_5 : decode cX15_becomes 5 = .ok (.putfield 17, 3) := dk_181 0 17 (dk_at dksX15_becomes_0 5 rfl rfl)
theorem dX15_becomes_8 : decode cX15_becomes 8 = .ok (.aload_n 0, 1) := dk_42 (dk_at dksX15_becomes_0 8 rfl rfl)
theorem dX15_becomes_9 : decode cX15_becomes 9 = .ok (.aload_n 1, 1) := dk_43 (dk_at dksX15_becomes_0 9 rfl rfl)
theorem dX15_becomes_10 : decode cX15_becomes 10 = .ok (.getfield 20, 3) := dk_180 0 20 (dk_at dksX15_becomes_0 10 rfl rfl)
theorem dX15_becomes_13 : decode cX15_becomes 13 = .ok (.putfield 20, 3) := dk_181 0 20 (dk_at dksX15_becomes_0 13 rfl rfl)
theorem dX15_becomes_16 : decode cX15_becomes 16 = .ok (.aload_n 0, 1) := dk_42 (dk_at dksX15_becomes_0 16 rfl rfl)
theorem dX15_becomes_17 : decode cX15_becomes 17 = .ok (.aload_n 1, 1) := dk_43 (dk_at dksX15_becomes_0 17 rfl rfl)
theorem dX15_becomes_18 : decode cX15_becomes 18 = .ok (.getfield 23, 3) := dk_180 0 23 (dk_at dksX15_becomes_0 18 rfl rfl)
theorem dX15_becomes_21 : decode cX15_becomes 21 = .ok (.putfield 23, 3) := dk_181 0 23 (dk_at dksX15_becomes_0 21 rfl rfl)
theorem dX15_becomes_24 : decode cX15_becomes 24 = .ok (.return_, 1) := dk_177 (dk_at dksX15_becomes_1 0 rfl rfl)
theorem q140 : (Jvm.Cond.initialized "KeptLight$Keeper") ∈ lw_all := lw_g (lw_at lw_m1 64 rfl) rfl
theorem q1254 : (Jvm.Cond.selects "KeptLight$Keeper" ({ cls := "java/lang/Object", name := "getClass", desc := "()Ljava/lang/Class;" } : Jvm.MethodName) ({ cls := "java/lang/Object", name := "getClass", desc := "()Ljava/lang/Class;" } : Jvm.MethodName)) ∈ lw_all := lw_g (lw_at lw_m5 218 rfl) rfl
theorem q1952 : (Jvm.Cond.instantiable "KeptLight$Keeper" (5 : Nat)) ∈ lw_all := lw_g (lw_at lw_m8 196 rfl) rfl
theorem q1963 : (Jvm.Cond.instanceMethod ({ cls := "KeptLight$Keeper", name := "<init>", desc := "(ILKeptLight$Rank;)V" } : Jvm.MethodName)) ∈ lw_all := lw_g (lw_at lw_m8 207 rfl) rfl
theorem q1964 : (Jvm.Cond.code ({ cls := "KeptLight$Keeper", name := "<init>", desc := "(ILKeptLight$Rank;)V" } : Jvm.MethodName) prog_12_method_1_code (3 : Nat) (Option.none : Option Jvm.ClassFile.FieldType)) ∈ lw_all := lw_g (lw_at lw_m8 208 rfl) rfl
theorem q1965 : (Jvm.Cond.methodLink "KeptLight$Keeper" (1 : Nat) ({ cls := "java/lang/Object", name := "<init>", desc := "()V" } : Jvm.MethodName)) ∈ lw_all := lw_g (lw_at lw_m8 209 rfl) rfl
theorem q1966 : (Jvm.Cond.fieldLink "KeptLight$Keeper" (7 : Nat) "KeptLight$Keeper" "number" "I") ∈ lw_all := lw_g (lw_at lw_m8 210 rfl) rfl
theorem q1969 : (Jvm.Cond.fieldLink "KeptLight$Keeper" (13 : Nat) "KeptLight$Keeper" "rank" "LKeptLight$Rank;") ∈ lw_all := lw_g (lw_at lw_m8 213 rfl) rfl
theorem q1972 : (Jvm.Cond.fieldLink "KeptLight$Keeper" (17 : Nat) "KeptLight$Keeper" "tired" "I") ∈ lw_all := lw_g (lw_at lw_m8 216 rfl) rfl
theorem q1975 : (Jvm.Cond.fieldLink "KeptLight$Keeper" (20 : Nat) "KeptLight$Keeper" "tended" "I") ∈ lw_all := lw_g (lw_at lw_m8 219 rfl) rfl
theorem q1978 : (Jvm.Cond.fieldLink "KeptLight$Keeper" (23 : Nat) "KeptLight$Keeper" "slept" "I") ∈ lw_all := lw_g (lw_at lw_m8 222 rfl) rfl
theorem q1981 : (Jvm.Cond.laysFinal "KeptLight$Keeper" "KeptLight$Keeper" "number" "I") ∈ lw_all := lw_g (lw_at lw_m8 225 rfl) rfl
theorem q1982 : (Jvm.Cond.soleField "KeptLight$Keeper" "number") ∈ lw_all := lw_g (lw_at lw_m8 226 rfl) rfl
theorem q1983 : (Jvm.Cond.laysFinal "KeptLight$Keeper" "KeptLight$Keeper" "rank" "LKeptLight$Rank;") ∈ lw_all := lw_g (lw_at lw_m8 227 rfl) rfl
theorem q1984 : (Jvm.Cond.soleField "KeptLight$Keeper" "rank") ∈ lw_all := lw_g (lw_at lw_m8 228 rfl) rfl
theorem q1985 : (Jvm.Cond.lays "KeptLight$Keeper" "KeptLight$Keeper" "tired" "I") ∈ lw_all := lw_g (lw_at lw_m8 229 rfl) rfl
theorem q1986 : (Jvm.Cond.soleField "KeptLight$Keeper" "tired") ∈ lw_all := lw_g (lw_at lw_m8 230 rfl) rfl
theorem q1987 : (Jvm.Cond.lays "KeptLight$Keeper" "KeptLight$Keeper" "tended" "I") ∈ lw_all := lw_g (lw_at lw_m8 231 rfl) rfl
theorem q1988 : (Jvm.Cond.soleField "KeptLight$Keeper" "tended") ∈ lw_all := lw_g (lw_at lw_m8 232 rfl) rfl
theorem q1989 : (Jvm.Cond.lays "KeptLight$Keeper" "KeptLight$Keeper" "slept" "I") ∈ lw_all := lw_g (lw_at lw_m8 233 rfl) rfl
theorem q1990 : (Jvm.Cond.soleField "KeptLight$Keeper" "slept") ∈ lw_all := lw_g (lw_at lw_m8 234 rfl) rfl
theorem q1991 : (Jvm.Cond.superclass "KeptLight$Keeper" "java/lang/Object") ∈ lw_all := lw_g (lw_at lw_m8 235 rfl) rfl
theorem q2586 : (Jvm.Cond.instanceMethod ({ cls := "KeptLight$Keeper", name := "isAsleep", desc := "()Z" } : Jvm.MethodName)) ∈ lw_all := lw_g (lw_at lw_m11 110 rfl) rfl
theorem q2587 : (Jvm.Cond.selects "KeptLight$Keeper" ({ cls := "KeptLight$Keeper", name := "isAsleep", desc := "()Z" } : Jvm.MethodName) ({ cls := "KeptLight$Keeper", name := "isAsleep", desc := "()Z" } : Jvm.MethodName)) ∈ lw_all := lw_g (lw_at lw_m11 111 rfl) rfl
theorem q2588 : (Jvm.Cond.code ({ cls := "KeptLight$Keeper", name := "isAsleep", desc := "()Z" } : Jvm.MethodName) prog_12_method_3_code (1 : Nat) (Option.some Jvm.ClassFile.FieldType.boolean)) ∈ lw_all := lw_g (lw_at lw_m11 112 rfl) rfl
theorem q2589 : (Jvm.Cond.methodLink "KeptLight$Keeper" (26 : Nat) ({ cls := "KeptLight$Rank", name := "lasts", desc := "()I" } : Jvm.MethodName)) ∈ lw_all := lw_g (lw_at lw_m11 113 rfl) rfl
theorem q2907 : (Jvm.Cond.instanceMethod ({ cls := "KeptLight$Keeper", name := "becomes", desc := "(LKeptLight$Keeper;)V" } : Jvm.MethodName)) ∈ lw_all := lw_g (lw_at lw_m12 191 rfl) rfl
theorem q2908 : (Jvm.Cond.selects "KeptLight$Keeper" ({ cls := "KeptLight$Keeper", name := "becomes", desc := "(LKeptLight$Keeper;)V" } : Jvm.MethodName) ({ cls := "KeptLight$Keeper", name := "becomes", desc := "(LKeptLight$Keeper;)V" } : Jvm.MethodName)) ∈ lw_all := lw_g (lw_at lw_m12 192 rfl) rfl
theorem q2909 : (Jvm.Cond.code ({ cls := "KeptLight$Keeper", name := "becomes", desc := "(LKeptLight$Keeper;)V" } : Jvm.MethodName) prog_12_method_2_code (2 : Nat) (Option.none : Option Jvm.ClassFile.FieldType)) ∈ lw_all := lw_g (lw_at lw_m12 193 rfl) rfl
theorem q3032 : (Jvm.Cond.selects "KeptLight$Keeper" ({ cls := "java/lang/Object", name := "equals", desc := "(Ljava/lang/Object;)Z" } : Jvm.MethodName) ({ cls := "java/lang/Object", name := "equals", desc := "(Ljava/lang/Object;)Z" } : Jvm.MethodName)) ∈ lw_all := lw_g (lw_at lw_m13 76 rfl) rfl
theorem q3724 : (Jvm.Cond.castable "KeptLight$Keeper" "java/lang/Object") ∈ lw_tbl := lw_at lw_m16 48 rfl
theorem in_X15 : ∀ w ∈ wsX150, w ∈ lw_all := lw_in wsX150 [1981, 1983, 1985, 1987, 1989] (by decide +kernel) (by decide +kernel)
/-! KeptLight$Rank -/
set_option maxRecDepth 100000
def RX16 : String := "KeptLight$Rank"
abbrev cX16_fillsIn : ByteArray := prog_16_method_5_code
def yX16_fillsIn : MethodName := ⟨RX16, "fillsIn", "()Z"⟩
theorem dX16_fillsIn_0 : decode cX16_fillsIn 0 = .ok (.iconst 0, 1) := by decide +kernel
theorem dX16_fillsIn_1 : decode cX16_fillsIn 1 = .ok (.ireturn, 1) := by decide +kernel
theorem q141 : (Jvm.Cond.initialized "KeptLight$Rank") ∈ lw_all := lw_g (lw_at lw_m1 65 rfl) rfl
theorem q1957 : (Jvm.Cond.laysStatic "KeptLight$Rank" "HEAD" "LKeptLight$Rank;") ∈ lw_tbl := lw_at lw_m8 201 rfl
theorem q1959 : (Jvm.Cond.laysStatic "KeptLight$Rank" "HAND" "LKeptLight$Rank;") ∈ lw_tbl := lw_at lw_m8 203 rfl
theorem q1961 : (Jvm.Cond.laysStatic "KeptLight$Rank" "BOY" "LKeptLight$Rank;") ∈ lw_tbl := lw_at lw_m8 205 rfl
theorem q2590 : (Jvm.Cond.declares ({ cls := "KeptLight$Rank", name := "lasts", desc := "()I" } : Jvm.MethodName)) ∈ lw_tbl := lw_at lw_m11 114 rfl
theorem q2591 : (Jvm.Cond.sameMethod "KeptLight$Rank" "KeptLight$Rank" "lasts" "()I") ∈ lw_all := lw_g (lw_at lw_m11 115 rfl) rfl
theorem q2731 : (Jvm.Cond.instanceMethod ({ cls := "KeptLight$Rank", name := "fillsIn", desc := "()Z" } : Jvm.MethodName)) ∈ lw_all := lw_g (lw_at lw_m12 15 rfl) rfl
theorem q2732 : (Jvm.Cond.sameMethod "KeptLight$Rank" "KeptLight$Rank" "fillsIn" "()Z") ∈ lw_all := lw_g (lw_at lw_m12 16 rfl) rfl
theorem q2738 : (Jvm.Cond.code ({ cls := "KeptLight$Rank", name := "fillsIn", desc := "()Z" } : Jvm.MethodName) prog_16_method_5_code (1 : Nat) (Option.some Jvm.ClassFile.FieldType.boolean)) ∈ lw_all := lw_g (lw_at lw_m12 22 rfl) rfl
theorem q3748 : (Jvm.Cond.castable "KeptLight$Rank" "java/lang/Object") ∈ lw_tbl := lw_at lw_m16 72 rfl
/-! KeptLight$Ship -/
set_option maxRecDepth 100000
def RX17 : String := "KeptLight$Ship"
abbrev cX17_lacks : ByteArray := prog_23_method_6_code
def yX17_lacks : MethodName := ⟨RX17, "lacks", "(LKeptLight$Sight;)I"⟩
def dkwX17_lacks_0 : List UInt8 := [42, 43, 182, 0, 54, 42, 43, 182, 0, 58, 96, 172]
abbrev dktX17_lacks_0 : List UInt8 := dkwX17_lacks_0 ++ []
theorem dksX17_lacks_0 : cX17_lacks.data.toList.drop 0 = dktX17_lacks_0 := by decide +kernel
theorem dX17_lacks_0 : decode cX17_lacks 0 = .ok (.aload_n 0, 1) := dk_42 (dk_at dksX17_lacks_0 0 rfl rfl)
theorem dX17_lacks_1 : decode cX17_lacks 1 = .ok (.aload_n 1, 1) := dk_43 (dk_at dksX17_lacks_0 1 rfl rfl)
theorem dX17_lacks_2 : decode cX17_lacks 2 = .ok (.invokevirtual 54, 3) := dk_182 0 54 (dk_at dksX17_lacks_0 2 rfl rfl)
theorem dX17_lacks_5 : decode cX17_lacks 5 = .ok (.aload_n 0, 1) := dk_42 (dk_at dksX17_lacks_0 5 rfl rfl)
theorem dX17_lacks_6 : decode cX17_lacks 6 = .ok (.aload_n 1, 1) := dk_43 (dk_at dksX17_lacks_0 6 rfl rfl)
theorem dX17_lacks_7 : decode cX17_lacks 7 = .ok (.invokevirtual 58, 3) := dk_182 0 58 (dk_at dksX17_lacks_0 7 rfl rfl)
theorem dX17_lacks_10 : decode cX17_lacks 10 = .ok (.iadd, 1) := dk_96 (dk_at dksX17_lacks_0 10 rfl rfl)
theorem dX17_lacks_11 : decode cX17_lacks 11 = .ok (.ireturn, 1) := dk_172 (dk_at dksX17_lacks_0 11 rfl rfl)
abbrev cX17_lacksLight : ByteArray := prog_23_method_4_code
def yX17_lacksLight : MethodName := ⟨RX17, "lacksLight", "(LKeptLight$Sight;)I"⟩
def dkwX17_lacksLight_0 : List UInt8 := [43, 180, 0, 28, 153, 0, 14, 43, 180, 0, 34, 154, 0, 7, 4, 167, 0, 4, 3, 184, 0, 37, 172]
abbrev dktX17_lacksLight_0 : List UInt8 := dkwX17_lacksLight_0 ++ []
theorem dksX17_lacksLight_0 : cX17_lacksLight.data.toList.drop 0 = dktX17_lacksLight_0 := by decide +kernel
theorem dX17_lacksLight_0 : decode cX17_lacksLight 0 = .ok (.aload_n 1, 1) := dk_43 (dk_at dksX17_lacksLight_0 0 rfl rfl)
theorem dX17_lacksLight_1 : decode cX17_lacksLight 1 = .ok (.getfield 28, 3) := dk_180 0 28 (dk_at dksX17_lacksLight_0 1 rfl rfl)
theorem dX17_lacksLight_4 : decode cX17_lacksLight 4 = .ok (.ifCond .eq 14, 3) := dk_153 0 14 (dk_at dksX17_lacksLight_0 4 rfl rfl)
theorem dX17_lacksLight_7 : decode cX17_lacksLight 7 = .ok (.aload_n 1, 1) := dk_43 (dk_at dksX17_lacksLight_0 7 rfl rfl)
theorem dX17_lacksLight_8 : decode cX17_lacksLight 8 = .ok (.getfield 34, 3) := dk_180 0 34 (dk_at dksX17_lacksLight_0 8 rfl rfl)
theorem dX17_lacksLight_11 : decode cX17_lacksLight 11 = .ok (.ifCond .ne 7, 3) := dk_154 0 7 (dk_at dksX17_lacksLight_0 11 rfl rfl)
theorem dX17_lacksLight_14 : decode cX17_lacksLight 14 = .ok (.iconst 1, 1) := dk_4 (dk_at dksX17_lacksLight_0 14 rfl rfl)
theorem dX17_lacksLight_15 : decode cX17_lacksLight 15 = .ok (.goto 4, 3) := dk_167 0 4 (dk_at dksX17_lacksLight_0 15 rfl rfl)
theorem dX17_lacksLight_18 : decode cX17_lacksLight 18 = .ok (.iconst 0, 1) := dk_3 (dk_at dksX17_lacksLight_0 18 rfl rfl)
theorem dX17_lacksLight_19 : decode cX17_lacksLight 19 = .ok (.invokestatic 37, 3) := dk_184 0 37 (dk_at dksX17_lacksLight_0 19 rfl rfl)
theorem dX17_lacksLight_22 : decode cX17_lacksLight 22 = .ok (.ireturn, 1) := dk_172 (dk_at dksX17_lacksLight_0 22 rfl rfl)
abbrev cX17_lacksSound : ByteArray := prog_23_method_5_code
def yX17_lacksSound : MethodName := ⟨RX17, "lacksSound", "(LKeptLight$Sight;)I"⟩
def dkwX17_lacksSound_1 : List UInt8 := [184, 0, 37, 172]
abbrev dktX17_lacksSound_1 : List UInt8 := dkwX17_lacksSound_1 ++ []
def dkwX17_lacksSound_0 : List UInt8 := [43, 180, 0, 41, 182, 0, 45, 153, 0, 14, 43, 180, 0, 51, 154, 0, 7, 4, 167, 0, 4, 3]
abbrev dktX17_lacksSound_0 : List UInt8 := dkwX17_lacksSound_0 ++ dktX17_lacksSound_1
theorem dksX17_lacksSound_0 : cX17_lacksSound.data.toList.drop 0 = dktX17_lacksSound_0 := by decide +kernel
theorem dksX17_lacksSound_1 : cX17_lacksSound.data.toList.drop 22 = dktX17_lacksSound_1 := dk_seg dksX17_lacksSound_0 22 rfl rfl
theorem dX17_lacksSound_0 : decode cX17_lacksSound 0 = .ok (.aload_n 1, 1) := dk_43 (dk_at dksX17_lacksSound_0 0 rfl rfl)
theorem dX17_lacksSound_1 : decode cX17_lacksSound 1 = .ok (.getfield 41, 3) := dk_180 0 41 (dk_at dksX17_lacksSound_0 1 rfl rfl)
theorem dX17_lacksSound_4 : decode cX17_lacksSound 4 = .ok (.invokevirtual 45, 3) := dk_182 0 45 (dk_at dksX17_lacksSound_0 4 rfl rfl)
theorem dX17_lacksSound_7 : decode cX17_lacksSound 7 = .ok (.ifCond .eq 14, 3) := dk_153 0 14 (dk_at dksX17_lacksSound_0 7 rfl rfl)
theorem dX17_lacksSound_10 : decode cX17_lacksSound 10 = .ok (.aload_n 1, 1) := dk_43 (dk_at dksX17_lacksSound_0 10 rfl rfl)
theorem dX17_lacksSound_11 : decode cX17_lacksSound 11 = .ok (.getfield 51, 3) := dk_180 0 51 (dk_at dksX17_lacksSound_0 11 rfl rfl)
theorem dX17_lacksSound_14 : decode cX17_lacksSound 14 = .ok (.ifCond .ne 7, 3) := dk_154 0 7 (dk_at dksX17_lacksSound_0 14 rfl rfl)
theorem dX17_lacksSound_17 : decode cX17_lacksSound 17 = .ok (.iconst 1, 1) := dk_4 (dk_at dksX17_lacksSound_0 17 rfl rfl)
theorem dX17_lacksSound_18 : decode cX17_lacksSound 18 = .ok (.goto 4, 3) := dk_167 0 4 (dk_at dksX17_lacksSound_0 18 rfl rfl)
theorem dX17_lacksSound_21 : decode cX17_lacksSound 21 = .ok (.iconst 0, 1) := dk_3 (dk_at dksX17_lacksSound_0 21 rfl rfl)
theorem dX17_lacksSound_22 : decode cX17_lacksSound 22 = .ok (.invokestatic 37, 3) := dk_184 0 37 (dk_at dksX17_lacksSound_1 0 rfl rfl)
theorem dX17_lacksSound_25 : decode cX17_lacksSound 25 = .ok (.ireturn, 1) := dk_172 (dk_at dksX17_lacksSound_1 3 rfl rfl)
abbrev cX17_init : ByteArray := prog_23_method_1_code
def yX17_init : MethodName := ⟨RX17, "<init>", "(II)V"⟩
def dkwX17_init_1 : List UInt8 := [177]
abbrev dktX17_init_1 : List UInt8 := dkwX17_init_1 ++ []
def dkwX17_init_0 : List UInt8 := [42, 183, 0, 3, 42, 2, 181, 0, 9, 42, 2, 181, 0, 15, 42, 27, 181, 0, 18, 42, 28, 181, 0, 21]
abbrev dktX17_init_0 : List UInt8 := dkwX17_init_0 ++ dktX17_init_1
theorem dksX17_init_0 : cX17_init.data.toList.drop 0 = dktX17_init_0 := by decide +kernel
theorem dksX17_init_1 : cX17_init.data.toList.drop 24 = dktX17_init_1 := dk_seg dksX17_init_0 24 rfl rfl
theorem dX17_init_0 : decode cX17_init 0 = .ok (.aload_n 0, 1) := dk_42 (dk_at dksX17_init_0 0 rfl rfl)
theorem dX17_init_1 : decode cX17_init 1 = .ok (.invokespecial 3, 3) := dk_183 0 3 (dk_at dksX17_init_0 1 rfl rfl)
theorem dX17_init_4 : decode cX17_init 4 = .ok (.aload_n 0, 1) := dk_42 (dk_at dksX17_init_0 4 rfl rfl)
theorem dX17_init_5 : decode cX17_init 5 = .ok (.iconst (-1), 1) := dk_2 (dk_at dksX17_init_0 5 rfl rfl)
theorem dX17_init_6 : decode cX17_init 6 = .ok (.putfield 9, 3) := dk_181 0 9 (dk_at dksX17_init_0 6 rfl rfl)
theorem dX17_init_9 : decode cX17_init 9 = .ok (.aload_n 0, 1) := dk_42 (dk_at dksX17_init_0 9 rfl rfl)
theorem dX17_init_10 : decode cX17_init 10 = .ok (.iconst (-1), 1) := dk_2 (dk_at dksX17_init_0 10 rfl rfl)
theorem dX17_init_11 : decode cX17_init 11 = .ok (.putfield 15, 3) := dk_181 0 15 (dk_at dksX17_init_0 11 rfl rfl)
theorem dX17_init_14 : decode cX17_init 14 = .ok (.aload_n 0, 1) := dk_42 (dk_at dksX17_init_0 14 rfl rfl)
theorem dX17_init_15 : decode cX17_init 15 = .ok (.iload_n 1, 1) := dk_27 (dk_at dksX17_init_0 15 rfl rfl)
theorem dX17_init_16 : decode cX17_init 16 = .ok (.putfield 18, 3) := dk_181 0 18 (dk_at dksX17_init_0 16 rfl rfl)
theorem dX17_init_19 : decode cX17_init 19 = .ok (.aload_n 0, 1) := dk_42 (dk_at dksX17_init_0 19 rfl rfl)
theorem dX17_init_20 : decode cX17_init 20 = .ok (.iload_n 2, 1) := dk_28 (dk_at dksX17_init_0 20 rfl rfl)
theorem dX17_init_21 : decode cX17_init 21 = .ok (.putfield 21, 3) := dk_181 0 21 (dk_at dksX17_init_0 21 rfl rfl)
theorem dX17_init_24 : decode cX17_init 24 = .ok (.return_, 1) := dk_177 (dk_at dksX17_init_1 0 rfl rfl)
abbrev cX17_kind : ByteArray := prog_23_method_2_code
def yX17_kind : MethodName := ⟨RX17, "kind", "()I"⟩
theorem dX17_kind_0 : decode cX17_kind 0 = .ok (.iconst 0, 1) := by decide +kernel
theorem dX17_kind_1 : decode cX17_kind 1 = .ok (.ireturn, 1) := by decide +kernel
abbrev cX17_becomes : ByteArray := prog_23_method_9_code
def yX17_becomes : MethodName := ⟨RX17, "becomes", "(LKeptLight$Sight;)I"⟩
def dkwX17_becomes_1 : List UInt8 := [167, 0, 4, 5, 172]
abbrev dktX17_becomes_1 : List UInt8 := dkwX17_becomes_1 ++ []
def dkwX17_becomes_0 : List UInt8 := [42, 43, 182, 0, 66, 61, 28, 154, 0, 7, 3, 167, 0, 17, 28, 4, 160, 0, 11, 42, 43, 182, 0, 69]
abbrev dktX17_becomes_0 : List UInt8 := dkwX17_becomes_0 ++ dktX17_becomes_1
theorem dksX17_becomes_0 : cX17_becomes.data.toList.drop 0 = dktX17_becomes_0 := by decide +kernel
theorem dksX17_becomes_1 : cX17_becomes.data.toList.drop 24 = dktX17_becomes_1 := dk_seg dksX17_becomes_0 24 rfl rfl
theorem dX17_becomes_0 : decode cX17_becomes 0 = .ok (.aload_n 0, 1) := dk_42 (dk_at dksX17_becomes_0 0 rfl rfl)
theorem dX17_becomes_1 : decode cX17_becomes 1 = .ok (.aload_n 1, 1) := dk_43 (dk_at dksX17_becomes_0 1 rfl rfl)
theorem dX17_becomes_2 : decode cX17_becomes 2 = .ok (.invokevirtual 66, 3) := dk_182 0 66 (dk_at dksX17_becomes_0 2 rfl rfl)
theorem dX17_becomes_5 : decode cX17_becomes 5 = .ok (.istore_n 2, 1) := dk_61 (dk_at dksX17_becomes_0 5 rfl rfl)
theorem dX17_becomes_6 : decode cX17_becomes 6 = .ok (.iload_n 2, 1) := dk_28 (dk_at dksX17_becomes_0 6 rfl rfl)
theorem dX17_becomes_7 : decode cX17_becomes 7 = .ok (.ifCond .ne 7, 3) := dk_154 0 7 (dk_at dksX17_becomes_0 7 rfl rfl)
theorem dX17_becomes_10 : decode cX17_becomes 10 = .ok (.iconst 0, 1) := dk_3 (dk_at dksX17_becomes_0 10 rfl rfl)
theorem dX17_becomes_11 : decode cX17_becomes 11 = .ok (.goto 17, 3) := dk_167 0 17 (dk_at dksX17_becomes_0 11 rfl rfl)
theorem dX17_becomes_14 : decode cX17_becomes 14 = .ok (.iload_n 2, 1) := dk_28 (dk_at dksX17_becomes_0 14 rfl rfl)
theorem dX17_becomes_15 : decode cX17_becomes 15 = .ok (.iconst 1, 1) := dk_4 (dk_at dksX17_becomes_0 15 rfl rfl)
theorem dX17_becomes_16 : decode cX17_becomes 16 = .ok (.if_icmp .ne 11, 3) := dk_160 0 11 (dk_at dksX17_becomes_0 16 rfl rfl)
theorem dX17_becomes_19 : decode cX17_becomes 19 = .ok (.aload_n 0, 1) := dk_42 (dk_at dksX17_becomes_0 19 rfl rfl)
theorem dX17_becomes_20 : decode cX17_becomes 20 = .ok (.aload_n 1, 1) := dk_43 (dk_at dksX17_becomes_0 20 rfl rfl)
theorem dX17_becomes_21 : decode cX17_becomes 21 = .ok (.invokevirtual 69, 3) := dk_182 0 69 (dk_at dksX17_becomes_0 21 rfl rfl)
theorem dX17_becomes_24 : decode cX17_becomes 24 = .ok (.goto 4, 3) := dk_167 0 4 (dk_at dksX17_becomes_1 0 rfl rfl)
theorem dX17_becomes_27 : decode cX17_becomes 27 = .ok (.iconst 2, 1) := dk_5 (dk_at dksX17_becomes_1 3 rfl rfl)
theorem dX17_becomes_28 : decode cX17_becomes 28 = .ok (.ireturn, 1) := dk_172 (dk_at dksX17_becomes_1 4 rfl rfl)
abbrev cX17_alone : ByteArray := prog_23_method_7_code
def yX17_alone : MethodName := ⟨RX17, "alone", "(LKeptLight$Sight;)I"⟩
theorem dX17_alone_0 : decode cX17_alone 0 = .ok (.iconst 1, 1) := by decide +kernel
theorem dX17_alone_1 : decode cX17_alone 1 = .ok (.ireturn, 1) := by decide +kernel
abbrev cX17_passes : ByteArray := prog_23_method_8_code
def yX17_passes : MethodName := ⟨RX17, "passes", "(LKeptLight$Sight;)V"⟩
def dkwX17_passes_0 : List UInt8 := [42, 42, 43, 182, 0, 61, 181, 0, 9, 42, 43, 182, 0, 64, 181, 0, 15, 177]
abbrev dktX17_passes_0 : List UInt8 := dkwX17_passes_0 ++ []
theorem dksX17_passes_0 : cX17_passes.data.toList.drop 0 = dktX17_passes_0 := by decide +kernel
theorem dX17_passes_0 : decode cX17_passes 0 = .ok (.aload_n 0, 1) := dk_42 (dk_at dksX17_passes_0 0 rfl rfl)
theorem dX17_passes_1 : decode cX17_passes 1 = .ok (.aload_n 0, 1) := dk_42 (dk_at dksX17_passes_0 1 rfl rfl)
theorem dX17_passes_2 : decode cX17_passes 2 = .ok (.aload_n 1, 1) := dk_43 (dk_at dksX17_passes_0 2 rfl rfl)
theorem dX17_passes_3 : decode cX17_passes 3 = .ok (.invokevirtual 61, 3) := dk_182 0 61 (dk_at dksX17_passes_0 3 rfl rfl)
theorem dX17_passes_6 : decode cX17_passes 6 = .ok (.putfield 9, 3) := dk_181 0 9 (dk_at dksX17_passes_0 6 rfl rfl)
theorem dX17_passes_9 : decode cX17_passes 9 = .ok (.aload_n 0, 1) := dk_42 (dk_at dksX17_passes_0 9 rfl rfl)
theorem dX17_passes_10 : decode cX17_passes 10 = .ok (.aload_n 1, 1) := dk_43 (dk_at dksX17_passes_0 10 rfl rfl)
theorem dX17_passes_11 : decode cX17_passes 11 = .ok (.invokevirtual 64, 3) := dk_182 0 64 (dk_at dksX17_passes_0 11 rfl rfl)
theorem dX17_passes_14 : decode cX17_passes 14 = .ok (.putfield 15, 3) := dk_181 0 15 (dk_at dksX17_passes_0 14 rfl rfl)
theorem dX17_passes_17 : decode cX17_passes 17 = .ok (.return_, 1) := dk_177 (dk_at dksX17_passes_0 17 rfl rfl)
abbrev cX17_isUnder : ByteArray := prog_23_method_3_code
def yX17_isUnder : MethodName := ⟨RX17, "isUnder", "(I)Z"⟩
def dkwX17_isUnder_0 : List UInt8 := [27, 153, 0, 11, 27, 42, 182, 0, 24, 160, 0, 7, 4, 167, 0, 4, 3, 172]
abbrev dktX17_isUnder_0 : List UInt8 := dkwX17_isUnder_0 ++ []
theorem dksX17_isUnder_0 : cX17_isUnder.data.toList.drop 0 = dktX17_isUnder_0 := by decide +kernel
theorem dX17_isUnder_0 : decode cX17_isUnder 0 = .ok (.iload_n 1, 1) := dk_27 (dk_at dksX17_isUnder_0 0 rfl rfl)
theorem dX17_isUnder_1 : decode cX17_isUnder 1 = .ok (.ifCond .eq 11, 3) := dk_153 0 11 (dk_at dksX17_isUnder_0 1 rfl rfl)
theorem dX17_isUnder_4 : decode cX17_isUnder 4 = .ok (.iload_n 1, 1) := dk_27 (dk_at dksX17_isUnder_0 4 rfl rfl)
theorem dX17_isUnder_5 : decode cX17_isUnder 5 = .ok (.aload_n 0, 1) := dk_42 (dk_at dksX17_isUnder_0 5 rfl rfl)
theorem dX17_isUnder_6 : decode cX17_isUnder 6 = .ok (.invokevirtual 24, 3) := dk_182 0 24 (dk_at dksX17_isUnder_0 6 rfl rfl)
theorem dX17_isUnder_9 : decode cX17_isUnder 9 = .ok (.if_icmp .ne 7, 3) := dk_160 0 7 (dk_at dksX17_isUnder_0 9 rfl rfl)
theorem dX17_isUnder_12 : decode cX17_isUnder 12 = .ok (.iconst 1, 1) := dk_4 (dk_at dksX17_isUnder_0 12 rfl rfl)
theorem dX17_isUnder_13 : decode cX17_isUnder 13 = .ok (.goto 4, 3) := dk_167 0 4 (dk_at dksX17_isUnder_0 13 rfl rfl)
theorem dX17_isUnder_16 : decode cX17_isUnder 16 = .ok (.iconst 0, 1) := dk_3 (dk_at dksX17_isUnder_0 16 rfl rfl)
theorem dX17_isUnder_17 : decode cX17_isUnder 17 = .ok (.ireturn, 1) := dk_172 (dk_at dksX17_isUnder_0 17 rfl rfl)
theorem q142 : (Jvm.Cond.initialized "KeptLight$Ship") ∈ lw_all := lw_g (lw_at lw_m1 66 rfl) rfl
theorem q266 : (Jvm.Cond.fieldLink "KeptLight$Ship" (41 : Nat) "KeptLight$Sight" "weather" "LKeptLight$Weather;") ∈ lw_all := lw_g (lw_at lw_m1 190 rfl) rfl
theorem q269 : (Jvm.Cond.fieldLink "KeptLight$Ship" (28 : Nat) "KeptLight$Sight" "isDark" "Z") ∈ lw_all := lw_g (lw_at lw_m1 193 rfl) rfl
theorem q273 : (Jvm.Cond.fieldLink "KeptLight$Ship" (34 : Nat) "KeptLight$Sight" "isLit" "Z") ∈ lw_all := lw_g (lw_at lw_m1 197 rfl) rfl
theorem q276 : (Jvm.Cond.fieldLink "KeptLight$Ship" (51 : Nat) "KeptLight$Sight" "isSounding" "Z") ∈ lw_all := lw_g (lw_at lw_m1 200 rfl) rfl
theorem q1012 : (Jvm.Cond.instanceMethod ({ cls := "KeptLight$Ship", name := "lacks", desc := "(LKeptLight$Sight;)I" } : Jvm.MethodName)) ∈ lw_all := lw_g (lw_at lw_m4 216 rfl) rfl
theorem q1013 : (Jvm.Cond.code ({ cls := "KeptLight$Ship", name := "lacks", desc := "(LKeptLight$Sight;)I" } : Jvm.MethodName) prog_23_method_6_code (2 : Nat) (Option.some Jvm.ClassFile.FieldType.int)) ∈ lw_all := lw_g (lw_at lw_m4 217 rfl) rfl
theorem q1014 : (Jvm.Cond.methodLink "KeptLight$Ship" (54 : Nat) ({ cls := "KeptLight$Ship", name := "lacksLight", desc := "(LKeptLight$Sight;)I" } : Jvm.MethodName)) ∈ lw_all := lw_g (lw_at lw_m4 218 rfl) rfl
theorem q1015 : (Jvm.Cond.instanceMethod ({ cls := "KeptLight$Ship", name := "lacksLight", desc := "(LKeptLight$Sight;)I" } : Jvm.MethodName)) ∈ lw_all := lw_g (lw_at lw_m4 219 rfl) rfl
theorem q1016 : (Jvm.Cond.sameMethod "KeptLight$Ship" "KeptLight$Ship" "lacksLight" "(LKeptLight$Sight;)I") ∈ lw_all := lw_g (lw_at lw_m4 220 rfl) rfl
theorem q1025 : (Jvm.Cond.declares ({ cls := "KeptLight$Ship", name := "lacksLight", desc := "(LKeptLight$Sight;)I" } : Jvm.MethodName)) ∈ lw_tbl := lw_at lw_m4 229 rfl
theorem q1029 : (Jvm.Cond.code ({ cls := "KeptLight$Ship", name := "lacksLight", desc := "(LKeptLight$Sight;)I" } : Jvm.MethodName) prog_23_method_4_code (2 : Nat) (Option.some Jvm.ClassFile.FieldType.int)) ∈ lw_all := lw_g (lw_at lw_m4 233 rfl) rfl
theorem q1030 : (Jvm.Cond.methodLinkNest "KeptLight$Ship" (37 : Nat) ({ cls := "KeptLight", name := "one", desc := "(Z)I" } : Jvm.MethodName) "KeptLight") ∈ lw_tbl := lw_at lw_m4 234 rfl
theorem q1046 : (Jvm.Cond.methodLink "KeptLight$Ship" (58 : Nat) ({ cls := "KeptLight$Ship", name := "lacksSound", desc := "(LKeptLight$Sight;)I" } : Jvm.MethodName)) ∈ lw_all := lw_g (lw_at lw_m5 10 rfl) rfl
theorem q1047 : (Jvm.Cond.instanceMethod ({ cls := "KeptLight$Ship", name := "lacksSound", desc := "(LKeptLight$Sight;)I" } : Jvm.MethodName)) ∈ lw_all := lw_g (lw_at lw_m5 11 rfl) rfl
theorem q1048 : (Jvm.Cond.sameMethod "KeptLight$Ship" "KeptLight$Ship" "lacksSound" "(LKeptLight$Sight;)I") ∈ lw_all := lw_g (lw_at lw_m5 12 rfl) rfl
theorem q1056 : (Jvm.Cond.code ({ cls := "KeptLight$Ship", name := "lacksSound", desc := "(LKeptLight$Sight;)I" } : Jvm.MethodName) prog_23_method_5_code (2 : Nat) (Option.some Jvm.ClassFile.FieldType.int)) ∈ lw_all := lw_g (lw_at lw_m5 20 rfl) rfl
theorem q1057 : (Jvm.Cond.methodLink "KeptLight$Ship" (45 : Nat) ({ cls := "KeptLight$Weather", name := "wantsSound", desc := "()Z" } : Jvm.MethodName)) ∈ lw_all := lw_g (lw_at lw_m5 21 rfl) rfl
theorem q1081 : (Jvm.Cond.declares ({ cls := "KeptLight$Ship", name := "lacks", desc := "(LKeptLight$Sight;)I" } : Jvm.MethodName)) ∈ lw_tbl := lw_at lw_m5 45 rfl
theorem q2065 : (Jvm.Cond.instanceMethod ({ cls := "KeptLight$Ship", name := "<init>", desc := "(II)V" } : Jvm.MethodName)) ∈ lw_all := lw_g (lw_at lw_m9 69 rfl) rfl
theorem q2066 : (Jvm.Cond.code ({ cls := "KeptLight$Ship", name := "<init>", desc := "(II)V" } : Jvm.MethodName) prog_23_method_1_code (3 : Nat) (Option.none : Option Jvm.ClassFile.FieldType)) ∈ lw_all := lw_g (lw_at lw_m9 70 rfl) rfl
theorem q2067 : (Jvm.Cond.methodLink "KeptLight$Ship" (3 : Nat) ({ cls := "java/lang/Object", name := "<init>", desc := "()V" } : Jvm.MethodName)) ∈ lw_all := lw_g (lw_at lw_m9 71 rfl) rfl
theorem q2068 : (Jvm.Cond.fieldLink "KeptLight$Ship" (18 : Nat) "KeptLight$Ship" "number" "I") ∈ lw_all := lw_g (lw_at lw_m9 72 rfl) rfl
theorem q2073 : (Jvm.Cond.fieldLink "KeptLight$Ship" (21 : Nat) "KeptLight$Ship" "hour" "I") ∈ lw_all := lw_g (lw_at lw_m9 77 rfl) rfl
theorem q2076 : (Jvm.Cond.fieldLink "KeptLight$Ship" (9 : Nat) "KeptLight$Ship" "fate" "I") ∈ lw_all := lw_g (lw_at lw_m9 80 rfl) rfl
theorem q2087 : (Jvm.Cond.fieldLink "KeptLight$Ship" (15 : Nat) "KeptLight$Ship" "met" "I") ∈ lw_all := lw_g (lw_at lw_m9 91 rfl) rfl
theorem q2093 : (Jvm.Cond.soleField "KeptLight$Ship" "number") ∈ lw_all := lw_g (lw_at lw_m9 97 rfl) rfl
theorem q2095 : (Jvm.Cond.soleField "KeptLight$Ship" "hour") ∈ lw_all := lw_g (lw_at lw_m9 99 rfl) rfl
theorem q2097 : (Jvm.Cond.soleField "KeptLight$Ship" "fate") ∈ lw_all := lw_g (lw_at lw_m9 101 rfl) rfl
theorem q2099 : (Jvm.Cond.soleField "KeptLight$Ship" "met") ∈ lw_all := lw_g (lw_at lw_m9 103 rfl) rfl
theorem q2183 : (Jvm.Cond.instanceMethod ({ cls := "KeptLight$Ship", name := "kind", desc := "()I" } : Jvm.MethodName)) ∈ lw_all := lw_g (lw_at lw_m9 187 rfl) rfl
theorem q2184 : (Jvm.Cond.sameMethod "KeptLight$Ship" "KeptLight$Ship" "kind" "()I") ∈ lw_all := lw_g (lw_at lw_m9 188 rfl) rfl
theorem q2209 : (Jvm.Cond.code ({ cls := "KeptLight$Ship", name := "kind", desc := "()I" } : Jvm.MethodName) prog_23_method_2_code (1 : Nat) (Option.some Jvm.ClassFile.FieldType.int)) ∈ lw_all := lw_g (lw_at lw_m9 213 rfl) rfl
theorem q2660 : (Jvm.Cond.instanceMethod ({ cls := "KeptLight$Ship", name := "becomes", desc := "(LKeptLight$Sight;)I" } : Jvm.MethodName)) ∈ lw_all := lw_g (lw_at lw_m11 184 rfl) rfl
theorem q2661 : (Jvm.Cond.sameMethod "KeptLight$Ship" "KeptLight$Ship" "becomes" "(LKeptLight$Sight;)I") ∈ lw_all := lw_g (lw_at lw_m11 185 rfl) rfl
theorem q2667 : (Jvm.Cond.code ({ cls := "KeptLight$Ship", name := "becomes", desc := "(LKeptLight$Sight;)I" } : Jvm.MethodName) prog_23_method_9_code (3 : Nat) (Option.some Jvm.ClassFile.FieldType.int)) ∈ lw_all := lw_g (lw_at lw_m11 191 rfl) rfl
theorem q2668 : (Jvm.Cond.methodLink "KeptLight$Ship" (66 : Nat) ({ cls := "KeptLight$Ship", name := "lacks", desc := "(LKeptLight$Sight;)I" } : Jvm.MethodName)) ∈ lw_all := lw_g (lw_at lw_m11 192 rfl) rfl
theorem q2669 : (Jvm.Cond.methodLink "KeptLight$Ship" (69 : Nat) ({ cls := "KeptLight$Ship", name := "alone", desc := "(LKeptLight$Sight;)I" } : Jvm.MethodName)) ∈ lw_all := lw_g (lw_at lw_m11 193 rfl) rfl
theorem q2670 : (Jvm.Cond.instanceMethod ({ cls := "KeptLight$Ship", name := "alone", desc := "(LKeptLight$Sight;)I" } : Jvm.MethodName)) ∈ lw_all := lw_g (lw_at lw_m11 194 rfl) rfl
theorem q2671 : (Jvm.Cond.sameMethod "KeptLight$Ship" "KeptLight$Ship" "alone" "(LKeptLight$Sight;)I") ∈ lw_all := lw_g (lw_at lw_m11 195 rfl) rfl
theorem q2677 : (Jvm.Cond.code ({ cls := "KeptLight$Ship", name := "alone", desc := "(LKeptLight$Sight;)I" } : Jvm.MethodName) prog_23_method_7_code (2 : Nat) (Option.some Jvm.ClassFile.FieldType.int)) ∈ lw_all := lw_g (lw_at lw_m11 201 rfl) rfl
theorem q2717 : (Jvm.Cond.instanceMethod ({ cls := "KeptLight$Ship", name := "passes", desc := "(LKeptLight$Sight;)V" } : Jvm.MethodName)) ∈ lw_all := lw_g (lw_at lw_m12 1 rfl) rfl
theorem q2718 : (Jvm.Cond.sameMethod "KeptLight$Ship" "KeptLight$Ship" "passes" "(LKeptLight$Sight;)V") ∈ lw_all := lw_g (lw_at lw_m12 2 rfl) rfl
theorem q2724 : (Jvm.Cond.code ({ cls := "KeptLight$Ship", name := "passes", desc := "(LKeptLight$Sight;)V" } : Jvm.MethodName) prog_23_method_8_code (2 : Nat) (Option.none : Option Jvm.ClassFile.FieldType)) ∈ lw_all := lw_g (lw_at lw_m12 8 rfl) rfl
theorem q2725 : (Jvm.Cond.methodLink "KeptLight$Ship" (61 : Nat) ({ cls := "KeptLight$Ship", name := "becomes", desc := "(LKeptLight$Sight;)I" } : Jvm.MethodName)) ∈ lw_all := lw_g (lw_at lw_m12 9 rfl) rfl
theorem q2726 : (Jvm.Cond.methodLink "KeptLight$Ship" (64 : Nat) ({ cls := "KeptLight$Sight", name := "met", desc := "()I" } : Jvm.MethodName)) ∈ lw_all := lw_g (lw_at lw_m12 10 rfl) rfl
theorem q2806 : (Jvm.Cond.instanceMethod ({ cls := "KeptLight$Ship", name := "isUnder", desc := "(I)Z" } : Jvm.MethodName)) ∈ lw_all := lw_g (lw_at lw_m12 90 rfl) rfl
theorem q2807 : (Jvm.Cond.sameMethod "KeptLight$Ship" "KeptLight$Ship" "isUnder" "(I)Z") ∈ lw_all := lw_g (lw_at lw_m12 91 rfl) rfl
theorem q2812 : (Jvm.Cond.code ({ cls := "KeptLight$Ship", name := "isUnder", desc := "(I)Z" } : Jvm.MethodName) prog_23_method_3_code (2 : Nat) (Option.some Jvm.ClassFile.FieldType.boolean)) ∈ lw_all := lw_g (lw_at lw_m12 96 rfl) rfl
theorem q2813 : (Jvm.Cond.methodLink "KeptLight$Ship" (24 : Nat) ({ cls := "KeptLight$Ship", name := "kind", desc := "()I" } : Jvm.MethodName)) ∈ lw_all := lw_g (lw_at lw_m12 97 rfl) rfl
theorem q3648 : (Jvm.Cond.sameMethod "KeptLight$Ship" "KeptLight$Ship" "lacks" "(LKeptLight$Sight;)I") ∈ lw_all := lw_g (lw_at lw_m15 212 rfl) rfl
/-! KeptLight$Small -/
set_option maxRecDepth 100000
def RX18 : String := "KeptLight$Small"
abbrev cX18_lacksInStorm : ByteArray := prog_26_method_5_code
def yX18_lacksInStorm : MethodName := ⟨RX18, "lacksInStorm", "()I"⟩
def dkwX18_lacksInStorm_0 : List UInt8 := [42, 187, 0, 16, 89, 178, 0, 33, 3, 3, 3, 183, 0, 36, 182, 0, 39, 172]
abbrev dktX18_lacksInStorm_0 : List UInt8 := dkwX18_lacksInStorm_0 ++ []
theorem dksX18_lacksInStorm_0 : cX18_lacksInStorm.data.toList.drop 0 = dktX18_lacksInStorm_0 := by decide +kernel
theorem dX18_lacksInStorm_0 : decode cX18_lacksInStorm 0 = .ok (.aload_n 0, 1) := dk_42 (dk_at dksX18_lacksInStorm_0 0 rfl rfl)
theorem dX18_lacksInStorm_1 : decode cX18_lacksInStorm 1 = .ok (.new 16, 3) := dk_187 0 16 (dk_at dksX18_lacksInStorm_0 1 rfl rfl)
theorem dX18_lacksInStorm_4 : decode cX18_lacksInStorm 4 = .ok (.dup, 1) := dk_89 (dk_at dksX18_lacksInStorm_0 4 rfl rfl)
theorem dX18_lacksInStorm_5 : decode cX18_lacksInStorm 5 = .ok (.getstatic 33, 3) := dk_178 0 33 (dk_at dksX18_lacksInStorm_0 5 rfl rfl)
theorem dX18_lacksInStorm_8 : decode cX18_lacksInStorm 8 = .ok (.iconst 0, 1) := dk_3 (dk_at dksX18_lacksInStorm_0 8 rfl rfl)
theorem dX18_lacksInStorm_9 : decode cX18_lacksInStorm 9 = .ok (.iconst 0, 1) := dk_3 (dk_at dksX18_lacksInStorm_0 9 rfl rfl)
theorem dX18_lacksInStorm_10 : decode cX18_lacksInStorm 10 = .ok (.iconst 0, 1) := dk_3 (dk_at dksX18_lacksInStorm_0 10 rfl rfl)
theorem dX18_lacksInStorm_11 : decode cX18_lacksInStorm 11 = .ok (.invokespecial 36, 3) := dk_183 0 36 (dk_at dksX18_lacksInStorm_0 11 rfl rfl)
theorem dX18_lacksInStorm_14 : decode cX18_lacksInStorm 14 = .ok (.invokevirtual 39, 3) := dk_182 0 39 (dk_at dksX18_lacksInStorm_0 14 rfl rfl)
theorem dX18_lacksInStorm_17 : decode cX18_lacksInStorm 17 = .ok (.ireturn, 1) := dk_172 (dk_at dksX18_lacksInStorm_0 17 rfl rfl)
abbrev cX18_lacks : ByteArray := prog_26_method_4_code
def yX18_lacks : MethodName := ⟨RX18, "lacks", "(LKeptLight$Sight;)I"⟩
def dkwX18_lacks_0 : List UInt8 := [42, 43, 183, 0, 11, 43, 180, 0, 15, 182, 0, 21, 184, 0, 27, 96, 172]
abbrev dktX18_lacks_0 : List UInt8 := dkwX18_lacks_0 ++ []
theorem dksX18_lacks_0 : cX18_lacks.data.toList.drop 0 = dktX18_lacks_0 := by decide +kernel
theorem dX18_lacks_0 : decode cX18_lacks 0 = .ok (.aload_n 0, 1) := dk_42 (dk_at dksX18_lacks_0 0 rfl rfl)
theorem dX18_lacks_1 : decode cX18_lacks 1 = .ok (.aload_n 1, 1) := dk_43 (dk_at dksX18_lacks_0 1 rfl rfl)
theorem dX18_lacks_2 : decode cX18_lacks 2 = .ok (.invokespecial 11, 3) := dk_183 0 11 (dk_at dksX18_lacks_0 2 rfl rfl)
theorem dX18_lacks_5 : decode cX18_lacks 5 = .ok (.aload_n 1, 1) := dk_43 (dk_at dksX18_lacks_0 5 rfl rfl)
theorem dX18_lacks_6 : decode cX18_lacks 6 = .ok (.getfield 15, 3) := dk_180 0 15 (dk_at dksX18_lacks_0 6 rfl rfl)
theorem dX18_lacks_9 : decode cX18_lacks 9 = .ok (.invokevirtual 21, 3) := dk_182 0 21 (dk_at dksX18_lacks_0 9 rfl rfl)
theorem dX18_lacks_12 : decode cX18_lacks 12 = .ok (.invokestatic 27, 3) := dk_184 0 27 (dk_at dksX18_lacks_0 12 rfl rfl)
theorem dX18_lacks_15 : decode cX18_lacks 15 = .ok (.iadd, 1) := dk_96 (dk_at dksX18_lacks_0 15 rfl rfl)
theorem dX18_lacks_16 : decode cX18_lacks 16 = .ok (.ireturn, 1) := dk_172 (dk_at dksX18_lacks_0 16 rfl rfl)
abbrev cX18_init : ByteArray := prog_26_method_1_code
def yX18_init : MethodName := ⟨RX18, "<init>", "(II)V"⟩
def dkwX18_init_0 : List UInt8 := [42, 27, 28, 183, 0, 1, 177]
abbrev dktX18_init_0 : List UInt8 := dkwX18_init_0 ++ []
theorem dksX18_init_0 : cX18_init.data.toList.drop 0 = dktX18_init_0 := by decide +kernel
theorem dX18_init_0 : decode cX18_init 0 = .ok (.aload_n 0, 1) := dk_42 (dk_at dksX18_init_0 0 rfl rfl)
theorem dX18_init_1 : decode cX18_init 1 = .ok (.iload_n 1, 1) := dk_27 (dk_at dksX18_init_0 1 rfl rfl)
theorem dX18_init_2 : decode cX18_init 2 = .ok (.iload_n 2, 1) := dk_28 (dk_at dksX18_init_0 2 rfl rfl)
theorem dX18_init_3 : decode cX18_init 3 = .ok (.invokespecial 1, 3) := dk_183 0 1 (dk_at dksX18_init_0 3 rfl rfl)
theorem dX18_init_6 : decode cX18_init 6 = .ok (.return_, 1) := dk_177 (dk_at dksX18_init_0 6 rfl rfl)
abbrev cX18_kind : ByteArray := prog_26_method_2_code
def yX18_kind : MethodName := ⟨RX18, "kind", "()I"⟩
theorem dX18_kind_0 : decode cX18_kind 0 = .ok (.iconst 1, 1) := by decide +kernel
theorem dX18_kind_1 : decode cX18_kind 1 = .ok (.ireturn, 1) := by decide +kernel
abbrev cX18_isUnder : ByteArray := prog_26_method_3_code
def yX18_isUnder : MethodName := ⟨RX18, "isUnder", "(I)Z"⟩
def dkwX18_isUnder_0 : List UInt8 := [42, 27, 183, 0, 7, 154, 0, 8, 27, 4, 160, 0, 7, 4, 167, 0, 4, 3, 172]
abbrev dktX18_isUnder_0 : List UInt8 := dkwX18_isUnder_0 ++ []
theorem dksX18_isUnder_0 : cX18_isUnder.data.toList.drop 0 = dktX18_isUnder_0 := by decide +kernel
theorem dX18_isUnder_0 : decode cX18_isUnder 0 = .ok (.aload_n 0, 1) := dk_42 (dk_at dksX18_isUnder_0 0 rfl rfl)
theorem dX18_isUnder_1 : decode cX18_isUnder 1 = .ok (.iload_n 1, 1) := dk_27 (dk_at dksX18_isUnder_0 1 rfl rfl)
theorem dX18_isUnder_2 : decode cX18_isUnder 2 = .ok (.invokespecial 7, 3) := dk_183 0 7 (dk_at dksX18_isUnder_0 2 rfl rfl)
theorem dX18_isUnder_5 : decode cX18_isUnder 5 = .ok (.ifCond .ne 8, 3) := dk_154 0 8 (dk_at dksX18_isUnder_0 5 rfl rfl)
theorem dX18_isUnder_8 : decode cX18_isUnder 8 = .ok (.iload_n 1, 1) := dk_27 (dk_at dksX18_isUnder_0 8 rfl rfl)
theorem dX18_isUnder_9 : decode cX18_isUnder 9 = .ok (.iconst 1, 1) := dk_4 (dk_at dksX18_isUnder_0 9 rfl rfl)
theorem dX18_isUnder_10 : decode cX18_isUnder 10 = .ok (.if_icmp .ne 7, 3) := dk_160 0 7 (dk_at dksX18_isUnder_0 10 rfl rfl)
theorem dX18_isUnder_13 : decode cX18_isUnder 13 = .ok (.iconst 1, 1) := dk_4 (dk_at dksX18_isUnder_0 13 rfl rfl)
theorem dX18_isUnder_14 : decode cX18_isUnder 14 = .ok (.goto 4, 3) := dk_167 0 4 (dk_at dksX18_isUnder_0 14 rfl rfl)
theorem dX18_isUnder_17 : decode cX18_isUnder 17 = .ok (.iconst 0, 1) := dk_3 (dk_at dksX18_isUnder_0 17 rfl rfl)
theorem dX18_isUnder_18 : decode cX18_isUnder 18 = .ok (.ireturn, 1) := dk_172 (dk_at dksX18_isUnder_0 18 rfl rfl)
theorem q143 : (Jvm.Cond.initialized "KeptLight$Small") ∈ lw_all := lw_g (lw_at lw_m1 67 rfl) rfl
theorem q264 : (Jvm.Cond.fieldLink "KeptLight$Small" (15 : Nat) "KeptLight$Sight" "weather" "LKeptLight$Weather;") ∈ lw_all := lw_g (lw_at lw_m1 188 rfl) rfl
theorem q996 : (Jvm.Cond.instanceMethod ({ cls := "KeptLight$Small", name := "lacksInStorm", desc := "()I" } : Jvm.MethodName)) ∈ lw_all := lw_g (lw_at lw_m4 200 rfl) rfl
theorem q997 : (Jvm.Cond.sameMethod "KeptLight$Small" "KeptLight$Small" "lacksInStorm" "()I") ∈ lw_all := lw_g (lw_at lw_m4 201 rfl) rfl
theorem q1000 : (Jvm.Cond.code ({ cls := "KeptLight$Small", name := "lacksInStorm", desc := "()I" } : Jvm.MethodName) prog_26_method_5_code (1 : Nat) (Option.some Jvm.ClassFile.FieldType.int)) ∈ lw_all := lw_g (lw_at lw_m4 204 rfl) rfl
theorem q1001 : (Jvm.Cond.classLink "KeptLight$Small" (16 : Nat) "KeptLight$Sight") ∈ lw_all := lw_g (lw_at lw_m4 205 rfl) rfl
theorem q1002 : (Jvm.Cond.fieldLink "KeptLight$Small" (33 : Nat) "KeptLight$Weather" "STORM" "LKeptLight$Weather;") ∈ lw_all := lw_g (lw_at lw_m4 206 rfl) rfl
theorem q1003 : (Jvm.Cond.methodLink "KeptLight$Small" (36 : Nat) ({ cls := "KeptLight$Sight", name := "<init>", desc := "(LKeptLight$Weather;ZZZ)V" } : Jvm.MethodName)) ∈ lw_all := lw_g (lw_at lw_m4 207 rfl) rfl
theorem q1004 : (Jvm.Cond.methodLink "KeptLight$Small" (39 : Nat) ({ cls := "KeptLight$Small", name := "lacks", desc := "(LKeptLight$Sight;)I" } : Jvm.MethodName)) ∈ lw_all := lw_g (lw_at lw_m4 208 rfl) rfl
theorem q1005 : (Jvm.Cond.instanceMethod ({ cls := "KeptLight$Small", name := "lacks", desc := "(LKeptLight$Sight;)I" } : Jvm.MethodName)) ∈ lw_all := lw_g (lw_at lw_m4 209 rfl) rfl
theorem q1006 : (Jvm.Cond.sameMethod "KeptLight$Small" "KeptLight$Small" "lacks" "(LKeptLight$Sight;)I") ∈ lw_all := lw_g (lw_at lw_m4 210 rfl) rfl
theorem q1009 : (Jvm.Cond.code ({ cls := "KeptLight$Small", name := "lacks", desc := "(LKeptLight$Sight;)I" } : Jvm.MethodName) prog_26_method_4_code (2 : Nat) (Option.some Jvm.ClassFile.FieldType.int)) ∈ lw_all := lw_g (lw_at lw_m4 213 rfl) rfl
theorem q1010 : (Jvm.Cond.methodLink "KeptLight$Small" (11 : Nat) ({ cls := "KeptLight$Ship", name := "lacks", desc := "(LKeptLight$Sight;)I" } : Jvm.MethodName)) ∈ lw_all := lw_g (lw_at lw_m4 214 rfl) rfl
theorem q1011 : (Jvm.Cond.superclass "KeptLight$Small" "KeptLight$Ship") ∈ lw_all := lw_g (lw_at lw_m4 215 rfl) rfl
theorem q1066 : (Jvm.Cond.methodLink "KeptLight$Small" (21 : Nat) ({ cls := "KeptLight$Weather", name := "isWild", desc := "()Z" } : Jvm.MethodName)) ∈ lw_all := lw_g (lw_at lw_m5 30 rfl) rfl
theorem q1067 : (Jvm.Cond.methodLinkNest "KeptLight$Small" (27 : Nat) ({ cls := "KeptLight", name := "one", desc := "(Z)I" } : Jvm.MethodName) "KeptLight") ∈ lw_tbl := lw_at lw_m5 31 rfl
theorem q2062 : (Jvm.Cond.instanceMethod ({ cls := "KeptLight$Small", name := "<init>", desc := "(II)V" } : Jvm.MethodName)) ∈ lw_all := lw_g (lw_at lw_m9 66 rfl) rfl
theorem q2063 : (Jvm.Cond.code ({ cls := "KeptLight$Small", name := "<init>", desc := "(II)V" } : Jvm.MethodName) prog_26_method_1_code (3 : Nat) (Option.none : Option Jvm.ClassFile.FieldType)) ∈ lw_all := lw_g (lw_at lw_m9 67 rfl) rfl
theorem q2064 : (Jvm.Cond.methodLink "KeptLight$Small" (1 : Nat) ({ cls := "KeptLight$Ship", name := "<init>", desc := "(II)V" } : Jvm.MethodName)) ∈ lw_all := lw_g (lw_at lw_m9 68 rfl) rfl
theorem q2195 : (Jvm.Cond.instanceMethod ({ cls := "KeptLight$Small", name := "kind", desc := "()I" } : Jvm.MethodName)) ∈ lw_all := lw_g (lw_at lw_m9 199 rfl) rfl
theorem q2196 : (Jvm.Cond.code ({ cls := "KeptLight$Small", name := "kind", desc := "()I" } : Jvm.MethodName) prog_26_method_2_code (1 : Nat) (Option.some Jvm.ClassFile.FieldType.int)) ∈ lw_all := lw_g (lw_at lw_m9 200 rfl) rfl
theorem q2815 : (Jvm.Cond.instanceMethod ({ cls := "KeptLight$Small", name := "isUnder", desc := "(I)Z" } : Jvm.MethodName)) ∈ lw_all := lw_g (lw_at lw_m12 99 rfl) rfl
theorem q2816 : (Jvm.Cond.code ({ cls := "KeptLight$Small", name := "isUnder", desc := "(I)Z" } : Jvm.MethodName) prog_26_method_3_code (2 : Nat) (Option.some Jvm.ClassFile.FieldType.boolean)) ∈ lw_all := lw_g (lw_at lw_m12 100 rfl) rfl
theorem q2817 : (Jvm.Cond.methodLink "KeptLight$Small" (7 : Nat) ({ cls := "KeptLight$Ship", name := "isUnder", desc := "(I)Z" } : Jvm.MethodName)) ∈ lw_all := lw_g (lw_at lw_m12 101 rfl) rfl
theorem q3657 : (Jvm.Cond.sameMethod "KeptLight$Small" "KeptLight$Small" "kind" "()I") ∈ lw_all := lw_g (lw_at lw_m15 221 rfl) rfl
/-! KeptLight$Fisher -/
set_option maxRecDepth 100000
def RX19 : String := "KeptLight$Fisher"
def TX19 : u_T := fun k => match k with
  | 0 => ("KeptLight$Ship", "number", "I", true)
  | 1 => ("KeptLight$Ship", "hour", "I", true)
  | 2 => ("KeptLight$Ship", "fate", "I", false)
  | _ => ("KeptLight$Ship", "met", "I", false)
def tyX19 : Nat → FieldType := fun k => match k with
  | 0 => .int
  | 1 => .int
  | 2 => .int
  | _ => .int
abbrev wsX190 : List Cond := u_ws RX19 TX19 4
theorem nmX19 : ∀ a, a < 4 → ∀ b, b < 4 → a ≠ b → (TX19 a).2.1 ≠ (TX19 b).2.1 := by decide +kernel
theorem tyX19_ok : ∀ k, k < 4 → parseFieldDescriptor (TX19 k).2.2.1 = some (tyX19 k) := by decide +kernel
abbrev cX19_lacksSound : ByteArray := prog_9_method_3_code
def yX19_lacksSound : MethodName := ⟨RX19, "lacksSound", "(LKeptLight$Sight;)I"⟩
theorem dX19_lacksSound_0 : decode cX19_lacksSound 0 = .ok (.iconst 0, 1) := by decide +kernel
theorem dX19_lacksSound_1 : decode cX19_lacksSound 1 = .ok (.ireturn, 1) := by decide +kernel
abbrev cX19_init : ByteArray := prog_9_method_1_code
def yX19_init : MethodName := ⟨RX19, "<init>", "(II)V"⟩
def dkwX19_init_0 : List UInt8 := [42, 27, 28, 183, 0, 1, 177]
abbrev dktX19_init_0 : List UInt8 := dkwX19_init_0 ++ []
theorem dksX19_init_0 : cX19_init.data.toList.drop 0 = dktX19_init_0 := by decide +kernel
theorem dX19_init_0 : decode cX19_init 0 = .ok (.aload_n 0, 1) := dk_42 (dk_at dksX19_init_0 0 rfl rfl)
theorem dX19_init_1 : decode cX19_init 1 = .ok (.iload_n 1, 1) := dk_27 (dk_at dksX19_init_0 1 rfl rfl)
theorem dX19_init_2 : decode cX19_init 2 = .ok (.iload_n 2, 1) := dk_28 (dk_at dksX19_init_0 2 rfl rfl)
theorem dX19_init_3 : decode cX19_init 3 = .ok (.invokespecial 1, 3) := dk_183 0 1 (dk_at dksX19_init_0 3 rfl rfl)
theorem dX19_init_6 : decode cX19_init 6 = .ok (.return_, 1) := dk_177 (dk_at dksX19_init_0 6 rfl rfl)
abbrev cX19_kind : ByteArray := prog_9_method_2_code
def yX19_kind : MethodName := ⟨RX19, "kind", "()I"⟩
def dkwX19_kind_0 : List UInt8 := [42, 183, 0, 7, 5, 96, 172]
abbrev dktX19_kind_0 : List UInt8 := dkwX19_kind_0 ++ []
theorem dksX19_kind_0 : cX19_kind.data.toList.drop 0 = dktX19_kind_0 := by decide +kernel
theorem dX19_kind_0 : decode cX19_kind 0 = .ok (.aload_n 0, 1) := dk_42 (dk_at dksX19_kind_0 0 rfl rfl)
theorem dX19_kind_1 : decode cX19_kind 1 = .ok (.invokespecial 7, 3) := dk_183 0 7 (dk_at dksX19_kind_0 1 rfl rfl)
theorem dX19_kind_4 : decode cX19_kind 4 = .ok (.iconst 2, 1) := dk_5 (dk_at dksX19_kind_0 4 rfl rfl)
theorem dX19_kind_5 : decode cX19_kind 5 = .ok (.iadd, 1) := dk_96 (dk_at dksX19_kind_0 5 rfl rfl)
theorem dX19_kind_6 : decode cX19_kind 6 = .ok (.ireturn, 1) := dk_172 (dk_at dksX19_kind_0 6 rfl rfl)
theorem q144 : (Jvm.Cond.initialized "KeptLight$Fisher") ∈ lw_all := lw_g (lw_at lw_m1 68 rfl) rfl
theorem q998 : (Jvm.Cond.selects "KeptLight$Fisher" ({ cls := "KeptLight$Small", name := "lacksInStorm", desc := "()I" } : Jvm.MethodName) ({ cls := "KeptLight$Small", name := "lacksInStorm", desc := "()I" } : Jvm.MethodName)) ∈ lw_all := lw_g (lw_at lw_m4 202 rfl) rfl
theorem q1007 : (Jvm.Cond.selects "KeptLight$Fisher" ({ cls := "KeptLight$Small", name := "lacks", desc := "(LKeptLight$Sight;)I" } : Jvm.MethodName) ({ cls := "KeptLight$Small", name := "lacks", desc := "(LKeptLight$Sight;)I" } : Jvm.MethodName)) ∈ lw_all := lw_g (lw_at lw_m4 211 rfl) rfl
theorem q1018 : (Jvm.Cond.selects "KeptLight$Fisher" ({ cls := "KeptLight$Ship", name := "lacksLight", desc := "(LKeptLight$Sight;)I" } : Jvm.MethodName) ({ cls := "KeptLight$Ship", name := "lacksLight", desc := "(LKeptLight$Sight;)I" } : Jvm.MethodName)) ∈ lw_all := lw_g (lw_at lw_m4 222 rfl) rfl
theorem q1050 : (Jvm.Cond.selects "KeptLight$Fisher" ({ cls := "KeptLight$Ship", name := "lacksSound", desc := "(LKeptLight$Sight;)I" } : Jvm.MethodName) ({ cls := "KeptLight$Fisher", name := "lacksSound", desc := "(LKeptLight$Sight;)I" } : Jvm.MethodName)) ∈ lw_all := lw_g (lw_at lw_m5 14 rfl) rfl
theorem q1051 : (Jvm.Cond.instanceMethod ({ cls := "KeptLight$Fisher", name := "lacksSound", desc := "(LKeptLight$Sight;)I" } : Jvm.MethodName)) ∈ lw_all := lw_g (lw_at lw_m5 15 rfl) rfl
theorem q1052 : (Jvm.Cond.code ({ cls := "KeptLight$Fisher", name := "lacksSound", desc := "(LKeptLight$Sight;)I" } : Jvm.MethodName) prog_9_method_3_code (2 : Nat) (Option.some Jvm.ClassFile.FieldType.int)) ∈ lw_all := lw_g (lw_at lw_m5 16 rfl) rfl
theorem q1252 : (Jvm.Cond.selects "KeptLight$Fisher" ({ cls := "java/lang/Object", name := "getClass", desc := "()Ljava/lang/Class;" } : Jvm.MethodName) ({ cls := "java/lang/Object", name := "getClass", desc := "()Ljava/lang/Class;" } : Jvm.MethodName)) ∈ lw_all := lw_g (lw_at lw_m5 216 rfl) rfl
theorem q2057 : (Jvm.Cond.instantiable "KeptLight$Fisher" (4 : Nat)) ∈ lw_all := lw_g (lw_at lw_m9 61 rfl) rfl
theorem q2059 : (Jvm.Cond.instanceMethod ({ cls := "KeptLight$Fisher", name := "<init>", desc := "(II)V" } : Jvm.MethodName)) ∈ lw_all := lw_g (lw_at lw_m9 63 rfl) rfl
theorem q2060 : (Jvm.Cond.code ({ cls := "KeptLight$Fisher", name := "<init>", desc := "(II)V" } : Jvm.MethodName) prog_9_method_1_code (3 : Nat) (Option.none : Option Jvm.ClassFile.FieldType)) ∈ lw_all := lw_g (lw_at lw_m9 64 rfl) rfl
theorem q2061 : (Jvm.Cond.methodLink "KeptLight$Fisher" (1 : Nat) ({ cls := "KeptLight$Small", name := "<init>", desc := "(II)V" } : Jvm.MethodName)) ∈ lw_all := lw_g (lw_at lw_m9 65 rfl) rfl
theorem q2081 : (Jvm.Cond.sameField "KeptLight$Fisher" "KeptLight$Ship" "fate" "I") ∈ lw_all := lw_g (lw_at lw_m9 85 rfl) rfl
theorem q2092 : (Jvm.Cond.laysFinal "KeptLight$Fisher" "KeptLight$Ship" "number" "I") ∈ lw_all := lw_g (lw_at lw_m9 96 rfl) rfl
theorem q2094 : (Jvm.Cond.laysFinal "KeptLight$Fisher" "KeptLight$Ship" "hour" "I") ∈ lw_all := lw_g (lw_at lw_m9 98 rfl) rfl
theorem q2096 : (Jvm.Cond.lays "KeptLight$Fisher" "KeptLight$Ship" "fate" "I") ∈ lw_all := lw_g (lw_at lw_m9 100 rfl) rfl
theorem q2098 : (Jvm.Cond.lays "KeptLight$Fisher" "KeptLight$Ship" "met" "I") ∈ lw_all := lw_g (lw_at lw_m9 102 rfl) rfl
theorem q2100 : (Jvm.Cond.superclass "KeptLight$Fisher" "KeptLight$Small") ∈ lw_all := lw_g (lw_at lw_m9 104 rfl) rfl
theorem q2191 : (Jvm.Cond.selects "KeptLight$Fisher" ({ cls := "KeptLight$Ship", name := "kind", desc := "()I" } : Jvm.MethodName) ({ cls := "KeptLight$Fisher", name := "kind", desc := "()I" } : Jvm.MethodName)) ∈ lw_all := lw_g (lw_at lw_m9 195 rfl) rfl
theorem q2192 : (Jvm.Cond.instanceMethod ({ cls := "KeptLight$Fisher", name := "kind", desc := "()I" } : Jvm.MethodName)) ∈ lw_all := lw_g (lw_at lw_m9 196 rfl) rfl
theorem q2193 : (Jvm.Cond.code ({ cls := "KeptLight$Fisher", name := "kind", desc := "()I" } : Jvm.MethodName) prog_9_method_2_code (1 : Nat) (Option.some Jvm.ClassFile.FieldType.int)) ∈ lw_all := lw_g (lw_at lw_m9 197 rfl) rfl
theorem q2194 : (Jvm.Cond.methodLink "KeptLight$Fisher" (7 : Nat) ({ cls := "KeptLight$Small", name := "kind", desc := "()I" } : Jvm.MethodName)) ∈ lw_all := lw_g (lw_at lw_m9 198 rfl) rfl
theorem q2663 : (Jvm.Cond.selects "KeptLight$Fisher" ({ cls := "KeptLight$Ship", name := "becomes", desc := "(LKeptLight$Sight;)I" } : Jvm.MethodName) ({ cls := "KeptLight$Ship", name := "becomes", desc := "(LKeptLight$Sight;)I" } : Jvm.MethodName)) ∈ lw_all := lw_g (lw_at lw_m11 187 rfl) rfl
theorem q2678 : (Jvm.Cond.selects "KeptLight$Fisher" ({ cls := "KeptLight$Ship", name := "alone", desc := "(LKeptLight$Sight;)I" } : Jvm.MethodName) ({ cls := "KeptLight$Ship", name := "alone", desc := "(LKeptLight$Sight;)I" } : Jvm.MethodName)) ∈ lw_all := lw_g (lw_at lw_m11 202 rfl) rfl
theorem q2720 : (Jvm.Cond.selects "KeptLight$Fisher" ({ cls := "KeptLight$Ship", name := "passes", desc := "(LKeptLight$Sight;)V" } : Jvm.MethodName) ({ cls := "KeptLight$Ship", name := "passes", desc := "(LKeptLight$Sight;)V" } : Jvm.MethodName)) ∈ lw_all := lw_g (lw_at lw_m12 4 rfl) rfl
theorem q2814 : (Jvm.Cond.selects "KeptLight$Fisher" ({ cls := "KeptLight$Ship", name := "isUnder", desc := "(I)Z" } : Jvm.MethodName) ({ cls := "KeptLight$Small", name := "isUnder", desc := "(I)Z" } : Jvm.MethodName)) ∈ lw_all := lw_g (lw_at lw_m12 98 rfl) rfl
theorem q3030 : (Jvm.Cond.selects "KeptLight$Fisher" ({ cls := "java/lang/Object", name := "equals", desc := "(Ljava/lang/Object;)Z" } : Jvm.MethodName) ({ cls := "java/lang/Object", name := "equals", desc := "(Ljava/lang/Object;)Z" } : Jvm.MethodName)) ∈ lw_all := lw_g (lw_at lw_m13 74 rfl) rfl
theorem q3661 : (Jvm.Cond.selects "KeptLight$Fisher" ({ cls := "KeptLight$Ship", name := "lacks", desc := "(LKeptLight$Sight;)I" } : Jvm.MethodName) ({ cls := "KeptLight$Small", name := "lacks", desc := "(LKeptLight$Sight;)I" } : Jvm.MethodName)) ∈ lw_all := lw_g (lw_at lw_m15 225 rfl) rfl
theorem q3675 : (Jvm.Cond.castable "KeptLight$Fisher" "KeptLight$Ship") ∈ lw_tbl := lw_at lw_m15 239 rfl
theorem q3679 : (Jvm.Cond.castable "KeptLight$Fisher" "KeptLight$Small") ∈ lw_tbl := lw_at lw_m16 3 rfl
theorem q3728 : (Jvm.Cond.castable "KeptLight$Fisher" "java/lang/Object") ∈ lw_tbl := lw_at lw_m16 52 rfl
theorem in_X19 : ∀ w ∈ wsX190, w ∈ lw_all := lw_in wsX190 [2092, 2094, 2096, 2098] (by decide +kernel) (by decide +kernel)
/-! KeptLight$Pilot -/
set_option maxRecDepth 100000
def RX20 : String := "KeptLight$Pilot"
def TX20 : u_T := fun k => match k with
  | 0 => ("KeptLight$Ship", "number", "I", true)
  | 1 => ("KeptLight$Ship", "hour", "I", true)
  | 2 => ("KeptLight$Ship", "fate", "I", false)
  | _ => ("KeptLight$Ship", "met", "I", false)
def tyX20 : Nat → FieldType := fun k => match k with
  | 0 => .int
  | 1 => .int
  | 2 => .int
  | _ => .int
abbrev wsX200 : List Cond := u_ws RX20 TX20 4
theorem nmX20 : ∀ a, a < 4 → ∀ b, b < 4 → a ≠ b → (TX20 a).2.1 ≠ (TX20 b).2.1 := by decide +kernel
theorem tyX20_ok : ∀ k, k < 4 → parseFieldDescriptor (TX20 k).2.2.1 = some (tyX20 k) := by decide +kernel
abbrev cX20_lacksLight : ByteArray := prog_15_method_3_code
def yX20_lacksLight : MethodName := ⟨RX20, "lacksLight", "(LKeptLight$Sight;)I"⟩
theorem dX20_lacksLight_0 : decode cX20_lacksLight 0 = .ok (.iconst 0, 1) := by decide +kernel
theorem dX20_lacksLight_1 : decode cX20_lacksLight 1 = .ok (.ireturn, 1) := by decide +kernel
abbrev cX20_init : ByteArray := prog_15_method_1_code
def yX20_init : MethodName := ⟨RX20, "<init>", "(II)V"⟩
def dkwX20_init_0 : List UInt8 := [42, 27, 28, 183, 0, 1, 177]
abbrev dktX20_init_0 : List UInt8 := dkwX20_init_0 ++ []
theorem dksX20_init_0 : cX20_init.data.toList.drop 0 = dktX20_init_0 := by decide +kernel
theorem dX20_init_0 : decode cX20_init 0 = .ok (.aload_n 0, 1) := dk_42 (dk_at dksX20_init_0 0 rfl rfl)
theorem dX20_init_1 : decode cX20_init 1 = .ok (.iload_n 1, 1) := dk_27 (dk_at dksX20_init_0 1 rfl rfl)
theorem dX20_init_2 : decode cX20_init 2 = .ok (.iload_n 2, 1) := dk_28 (dk_at dksX20_init_0 2 rfl rfl)
theorem dX20_init_3 : decode cX20_init 3 = .ok (.invokespecial 1, 3) := dk_183 0 1 (dk_at dksX20_init_0 3 rfl rfl)
theorem dX20_init_6 : decode cX20_init 6 = .ok (.return_, 1) := dk_177 (dk_at dksX20_init_0 6 rfl rfl)
abbrev cX20_kind : ByteArray := prog_15_method_2_code
def yX20_kind : MethodName := ⟨RX20, "kind", "()I"⟩
def dkwX20_kind_0 : List UInt8 := [42, 183, 0, 7, 6, 96, 172]
abbrev dktX20_kind_0 : List UInt8 := dkwX20_kind_0 ++ []
theorem dksX20_kind_0 : cX20_kind.data.toList.drop 0 = dktX20_kind_0 := by decide +kernel
theorem dX20_kind_0 : decode cX20_kind 0 = .ok (.aload_n 0, 1) := dk_42 (dk_at dksX20_kind_0 0 rfl rfl)
theorem dX20_kind_1 : decode cX20_kind 1 = .ok (.invokespecial 7, 3) := dk_183 0 7 (dk_at dksX20_kind_0 1 rfl rfl)
theorem dX20_kind_4 : decode cX20_kind 4 = .ok (.iconst 3, 1) := dk_6 (dk_at dksX20_kind_0 4 rfl rfl)
theorem dX20_kind_5 : decode cX20_kind 5 = .ok (.iadd, 1) := dk_96 (dk_at dksX20_kind_0 5 rfl rfl)
theorem dX20_kind_6 : decode cX20_kind 6 = .ok (.ireturn, 1) := dk_172 (dk_at dksX20_kind_0 6 rfl rfl)
theorem q145 : (Jvm.Cond.initialized "KeptLight$Pilot") ∈ lw_all := lw_g (lw_at lw_m1 69 rfl) rfl
theorem q999 : (Jvm.Cond.selects "KeptLight$Pilot" ({ cls := "KeptLight$Small", name := "lacksInStorm", desc := "()I" } : Jvm.MethodName) ({ cls := "KeptLight$Small", name := "lacksInStorm", desc := "()I" } : Jvm.MethodName)) ∈ lw_all := lw_g (lw_at lw_m4 203 rfl) rfl
theorem q1008 : (Jvm.Cond.selects "KeptLight$Pilot" ({ cls := "KeptLight$Small", name := "lacks", desc := "(LKeptLight$Sight;)I" } : Jvm.MethodName) ({ cls := "KeptLight$Small", name := "lacks", desc := "(LKeptLight$Sight;)I" } : Jvm.MethodName)) ∈ lw_all := lw_g (lw_at lw_m4 212 rfl) rfl
theorem q1043 : (Jvm.Cond.selects "KeptLight$Pilot" ({ cls := "KeptLight$Ship", name := "lacksLight", desc := "(LKeptLight$Sight;)I" } : Jvm.MethodName) ({ cls := "KeptLight$Pilot", name := "lacksLight", desc := "(LKeptLight$Sight;)I" } : Jvm.MethodName)) ∈ lw_all := lw_g (lw_at lw_m5 7 rfl) rfl
theorem q1044 : (Jvm.Cond.instanceMethod ({ cls := "KeptLight$Pilot", name := "lacksLight", desc := "(LKeptLight$Sight;)I" } : Jvm.MethodName)) ∈ lw_all := lw_g (lw_at lw_m5 8 rfl) rfl
theorem q1045 : (Jvm.Cond.code ({ cls := "KeptLight$Pilot", name := "lacksLight", desc := "(LKeptLight$Sight;)I" } : Jvm.MethodName) prog_15_method_3_code (2 : Nat) (Option.some Jvm.ClassFile.FieldType.int)) ∈ lw_all := lw_g (lw_at lw_m5 9 rfl) rfl
theorem q1055 : (Jvm.Cond.selects "KeptLight$Pilot" ({ cls := "KeptLight$Ship", name := "lacksSound", desc := "(LKeptLight$Sight;)I" } : Jvm.MethodName) ({ cls := "KeptLight$Ship", name := "lacksSound", desc := "(LKeptLight$Sight;)I" } : Jvm.MethodName)) ∈ lw_all := lw_g (lw_at lw_m5 19 rfl) rfl
theorem q1257 : (Jvm.Cond.selects "KeptLight$Pilot" ({ cls := "java/lang/Object", name := "getClass", desc := "()Ljava/lang/Class;" } : Jvm.MethodName) ({ cls := "java/lang/Object", name := "getClass", desc := "()Ljava/lang/Class;" } : Jvm.MethodName)) ∈ lw_all := lw_g (lw_at lw_m5 221 rfl) rfl
theorem q2083 : (Jvm.Cond.sameField "KeptLight$Pilot" "KeptLight$Ship" "fate" "I") ∈ lw_all := lw_g (lw_at lw_m9 87 rfl) rfl
theorem q2101 : (Jvm.Cond.instantiable "KeptLight$Pilot" (4 : Nat)) ∈ lw_all := lw_g (lw_at lw_m9 105 rfl) rfl
theorem q2103 : (Jvm.Cond.instanceMethod ({ cls := "KeptLight$Pilot", name := "<init>", desc := "(II)V" } : Jvm.MethodName)) ∈ lw_all := lw_g (lw_at lw_m9 107 rfl) rfl
theorem q2104 : (Jvm.Cond.code ({ cls := "KeptLight$Pilot", name := "<init>", desc := "(II)V" } : Jvm.MethodName) prog_15_method_1_code (3 : Nat) (Option.none : Option Jvm.ClassFile.FieldType)) ∈ lw_all := lw_g (lw_at lw_m9 108 rfl) rfl
theorem q2105 : (Jvm.Cond.methodLink "KeptLight$Pilot" (1 : Nat) ({ cls := "KeptLight$Small", name := "<init>", desc := "(II)V" } : Jvm.MethodName)) ∈ lw_all := lw_g (lw_at lw_m9 109 rfl) rfl
theorem q2106 : (Jvm.Cond.laysFinal "KeptLight$Pilot" "KeptLight$Ship" "number" "I") ∈ lw_all := lw_g (lw_at lw_m9 110 rfl) rfl
theorem q2107 : (Jvm.Cond.laysFinal "KeptLight$Pilot" "KeptLight$Ship" "hour" "I") ∈ lw_all := lw_g (lw_at lw_m9 111 rfl) rfl
theorem q2108 : (Jvm.Cond.lays "KeptLight$Pilot" "KeptLight$Ship" "fate" "I") ∈ lw_all := lw_g (lw_at lw_m9 112 rfl) rfl
theorem q2109 : (Jvm.Cond.lays "KeptLight$Pilot" "KeptLight$Ship" "met" "I") ∈ lw_all := lw_g (lw_at lw_m9 113 rfl) rfl
theorem q2110 : (Jvm.Cond.superclass "KeptLight$Pilot" "KeptLight$Small") ∈ lw_all := lw_g (lw_at lw_m9 114 rfl) rfl
theorem q2205 : (Jvm.Cond.selects "KeptLight$Pilot" ({ cls := "KeptLight$Ship", name := "kind", desc := "()I" } : Jvm.MethodName) ({ cls := "KeptLight$Pilot", name := "kind", desc := "()I" } : Jvm.MethodName)) ∈ lw_all := lw_g (lw_at lw_m9 209 rfl) rfl
theorem q2206 : (Jvm.Cond.instanceMethod ({ cls := "KeptLight$Pilot", name := "kind", desc := "()I" } : Jvm.MethodName)) ∈ lw_all := lw_g (lw_at lw_m9 210 rfl) rfl
theorem q2207 : (Jvm.Cond.code ({ cls := "KeptLight$Pilot", name := "kind", desc := "()I" } : Jvm.MethodName) prog_15_method_2_code (1 : Nat) (Option.some Jvm.ClassFile.FieldType.int)) ∈ lw_all := lw_g (lw_at lw_m9 211 rfl) rfl
theorem q2208 : (Jvm.Cond.methodLink "KeptLight$Pilot" (7 : Nat) ({ cls := "KeptLight$Small", name := "kind", desc := "()I" } : Jvm.MethodName)) ∈ lw_all := lw_g (lw_at lw_m9 212 rfl) rfl
theorem q2666 : (Jvm.Cond.selects "KeptLight$Pilot" ({ cls := "KeptLight$Ship", name := "becomes", desc := "(LKeptLight$Sight;)I" } : Jvm.MethodName) ({ cls := "KeptLight$Ship", name := "becomes", desc := "(LKeptLight$Sight;)I" } : Jvm.MethodName)) ∈ lw_all := lw_g (lw_at lw_m11 190 rfl) rfl
theorem q2681 : (Jvm.Cond.selects "KeptLight$Pilot" ({ cls := "KeptLight$Ship", name := "alone", desc := "(LKeptLight$Sight;)I" } : Jvm.MethodName) ({ cls := "KeptLight$Ship", name := "alone", desc := "(LKeptLight$Sight;)I" } : Jvm.MethodName)) ∈ lw_all := lw_g (lw_at lw_m11 205 rfl) rfl
theorem q2723 : (Jvm.Cond.selects "KeptLight$Pilot" ({ cls := "KeptLight$Ship", name := "passes", desc := "(LKeptLight$Sight;)V" } : Jvm.MethodName) ({ cls := "KeptLight$Ship", name := "passes", desc := "(LKeptLight$Sight;)V" } : Jvm.MethodName)) ∈ lw_all := lw_g (lw_at lw_m12 7 rfl) rfl
theorem q2825 : (Jvm.Cond.selects "KeptLight$Pilot" ({ cls := "KeptLight$Ship", name := "isUnder", desc := "(I)Z" } : Jvm.MethodName) ({ cls := "KeptLight$Small", name := "isUnder", desc := "(I)Z" } : Jvm.MethodName)) ∈ lw_all := lw_g (lw_at lw_m12 109 rfl) rfl
theorem q3035 : (Jvm.Cond.selects "KeptLight$Pilot" ({ cls := "java/lang/Object", name := "equals", desc := "(Ljava/lang/Object;)Z" } : Jvm.MethodName) ({ cls := "java/lang/Object", name := "equals", desc := "(Ljava/lang/Object;)Z" } : Jvm.MethodName)) ∈ lw_all := lw_g (lw_at lw_m13 79 rfl) rfl
theorem q3664 : (Jvm.Cond.selects "KeptLight$Pilot" ({ cls := "KeptLight$Ship", name := "lacks", desc := "(LKeptLight$Sight;)I" } : Jvm.MethodName) ({ cls := "KeptLight$Small", name := "lacks", desc := "(LKeptLight$Sight;)I" } : Jvm.MethodName)) ∈ lw_all := lw_g (lw_at lw_m15 228 rfl) rfl
theorem q3678 : (Jvm.Cond.castable "KeptLight$Pilot" "KeptLight$Ship") ∈ lw_tbl := lw_at lw_m16 2 rfl
theorem q3680 : (Jvm.Cond.castable "KeptLight$Pilot" "KeptLight$Small") ∈ lw_tbl := lw_at lw_m16 4 rfl
theorem q3729 : (Jvm.Cond.castable "KeptLight$Pilot" "java/lang/Object") ∈ lw_tbl := lw_at lw_m16 53 rfl
theorem in_X20 : ∀ w ∈ wsX200, w ∈ lw_all := lw_in wsX200 [2106, 2107, 2108, 2109] (by decide +kernel) (by decide +kernel)
/-! KeptLight$Great -/
set_option maxRecDepth 100000
def RX21 : String := "KeptLight$Great"
abbrev cX21_lacksInFog : ByteArray := prog_10_method_5_code
def yX21_lacksInFog : MethodName := ⟨RX21, "lacksInFog", "()I"⟩
def dkwX21_lacksInFog_0 : List UInt8 := [42, 187, 0, 14, 89, 178, 0, 29, 4, 3, 3, 183, 0, 32, 182, 0, 35, 172]
abbrev dktX21_lacksInFog_0 : List UInt8 := dkwX21_lacksInFog_0 ++ []
theorem dksX21_lacksInFog_0 : cX21_lacksInFog.data.toList.drop 0 = dktX21_lacksInFog_0 := by decide +kernel
theorem dX21_lacksInFog_0 : decode cX21_lacksInFog 0 = .ok (.aload_n 0, 1) := dk_42 (dk_at dksX21_lacksInFog_0 0 rfl rfl)
theorem dX21_lacksInFog_1 : decode cX21_lacksInFog 1 = .ok (.new 14, 3) := dk_187 0 14 (dk_at dksX21_lacksInFog_0 1 rfl rfl)
theorem dX21_lacksInFog_4 : decode cX21_lacksInFog 4 = .ok (.dup, 1) := dk_89 (dk_at dksX21_lacksInFog_0 4 rfl rfl)
theorem dX21_lacksInFog_5 : decode cX21_lacksInFog 5 = .ok (.getstatic 29, 3) := dk_178 0 29 (dk_at dksX21_lacksInFog_0 5 rfl rfl)
theorem dX21_lacksInFog_8 : decode cX21_lacksInFog 8 = .ok (.iconst 1, 1) := dk_4 (dk_at dksX21_lacksInFog_0 8 rfl rfl)
theorem dX21_lacksInFog_9 : decode cX21_lacksInFog 9 = .ok (.iconst 0, 1) := dk_3 (dk_at dksX21_lacksInFog_0 9 rfl rfl)
theorem dX21_lacksInFog_10 : decode cX21_lacksInFog 10 = .ok (.iconst 0, 1) := dk_3 (dk_at dksX21_lacksInFog_0 10 rfl rfl)
theorem dX21_lacksInFog_11 : decode cX21_lacksInFog 11 = .ok (.invokespecial 32, 3) := dk_183 0 32 (dk_at dksX21_lacksInFog_0 11 rfl rfl)
theorem dX21_lacksInFog_14 : decode cX21_lacksInFog 14 = .ok (.invokevirtual 35, 3) := dk_182 0 35 (dk_at dksX21_lacksInFog_0 14 rfl rfl)
theorem dX21_lacksInFog_17 : decode cX21_lacksInFog 17 = .ok (.ireturn, 1) := dk_172 (dk_at dksX21_lacksInFog_0 17 rfl rfl)
abbrev cX21_init : ByteArray := prog_10_method_1_code
def yX21_init : MethodName := ⟨RX21, "<init>", "(II)V"⟩
def dkwX21_init_0 : List UInt8 := [42, 27, 28, 183, 0, 3, 177]
abbrev dktX21_init_0 : List UInt8 := dkwX21_init_0 ++ []
theorem dksX21_init_0 : cX21_init.data.toList.drop 0 = dktX21_init_0 := by decide +kernel
theorem dX21_init_0 : decode cX21_init 0 = .ok (.aload_n 0, 1) := dk_42 (dk_at dksX21_init_0 0 rfl rfl)
theorem dX21_init_1 : decode cX21_init 1 = .ok (.iload_n 1, 1) := dk_27 (dk_at dksX21_init_0 1 rfl rfl)
theorem dX21_init_2 : decode cX21_init 2 = .ok (.iload_n 2, 1) := dk_28 (dk_at dksX21_init_0 2 rfl rfl)
theorem dX21_init_3 : decode cX21_init 3 = .ok (.invokespecial 3, 3) := dk_183 0 3 (dk_at dksX21_init_0 3 rfl rfl)
theorem dX21_init_6 : decode cX21_init 6 = .ok (.return_, 1) := dk_177 (dk_at dksX21_init_0 6 rfl rfl)
abbrev cX21_kind : ByteArray := prog_10_method_2_code
def yX21_kind : MethodName := ⟨RX21, "kind", "()I"⟩
theorem dX21_kind_0 : decode cX21_kind 0 = .ok (.iconst 2, 1) := by decide +kernel
theorem dX21_kind_1 : decode cX21_kind 1 = .ok (.ireturn, 1) := by decide +kernel
abbrev cX21_alone : ByteArray := prog_10_method_4_code
def yX21_alone : MethodName := ⟨RX21, "alone", "(LKeptLight$Sight;)I"⟩
def dkwX21_alone_0 : List UInt8 := [43, 180, 0, 13, 182, 0, 19, 153, 0, 7, 5, 167, 0, 8, 42, 43, 183, 0, 25, 172]
abbrev dktX21_alone_0 : List UInt8 := dkwX21_alone_0 ++ []
theorem dksX21_alone_0 : cX21_alone.data.toList.drop 0 = dktX21_alone_0 := by decide +kernel
theorem dX21_alone_0 : decode cX21_alone 0 = .ok (.aload_n 1, 1) := dk_43 (dk_at dksX21_alone_0 0 rfl rfl)
theorem dX21_alone_1 : decode cX21_alone 1 = .ok (.getfield 13, 3) := dk_180 0 13 (dk_at dksX21_alone_0 1 rfl rfl)
theorem dX21_alone_4 : decode cX21_alone 4 = .ok (.invokevirtual 19, 3) := dk_182 0 19 (dk_at dksX21_alone_0 4 rfl rfl)
theorem dX21_alone_7 : decode cX21_alone 7 = .ok (.ifCond .eq 7, 3) := dk_153 0 7 (dk_at dksX21_alone_0 7 rfl rfl)
theorem dX21_alone_10 : decode cX21_alone 10 = .ok (.iconst 2, 1) := dk_5 (dk_at dksX21_alone_0 10 rfl rfl)
theorem dX21_alone_11 : decode cX21_alone 11 = .ok (.goto 8, 3) := dk_167 0 8 (dk_at dksX21_alone_0 11 rfl rfl)
theorem dX21_alone_14 : decode cX21_alone 14 = .ok (.aload_n 0, 1) := dk_42 (dk_at dksX21_alone_0 14 rfl rfl)
theorem dX21_alone_15 : decode cX21_alone 15 = .ok (.aload_n 1, 1) := dk_43 (dk_at dksX21_alone_0 15 rfl rfl)
theorem dX21_alone_16 : decode cX21_alone 16 = .ok (.invokespecial 25, 3) := dk_183 0 25 (dk_at dksX21_alone_0 16 rfl rfl)
theorem dX21_alone_19 : decode cX21_alone 19 = .ok (.ireturn, 1) := dk_172 (dk_at dksX21_alone_0 19 rfl rfl)
abbrev cX21_isUnder : ByteArray := prog_10_method_3_code
def yX21_isUnder : MethodName := ⟨RX21, "isUnder", "(I)Z"⟩
def dkwX21_isUnder_0 : List UInt8 := [42, 27, 183, 0, 9, 154, 0, 8, 27, 5, 160, 0, 7, 4, 167, 0, 4, 3, 172]
abbrev dktX21_isUnder_0 : List UInt8 := dkwX21_isUnder_0 ++ []
theorem dksX21_isUnder_0 : cX21_isUnder.data.toList.drop 0 = dktX21_isUnder_0 := by decide +kernel
theorem dX21_isUnder_0 : decode cX21_isUnder 0 = .ok (.aload_n 0, 1) := dk_42 (dk_at dksX21_isUnder_0 0 rfl rfl)
theorem dX21_isUnder_1 : decode cX21_isUnder 1 = .ok (.iload_n 1, 1) := dk_27 (dk_at dksX21_isUnder_0 1 rfl rfl)
theorem dX21_isUnder_2 : decode cX21_isUnder 2 = .ok (.invokespecial 9, 3) := dk_183 0 9 (dk_at dksX21_isUnder_0 2 rfl rfl)
theorem dX21_isUnder_5 : decode cX21_isUnder 5 = .ok (.ifCond .ne 8, 3) := dk_154 0 8 (dk_at dksX21_isUnder_0 5 rfl rfl)
theorem dX21_isUnder_8 : decode cX21_isUnder 8 = .ok (.iload_n 1, 1) := dk_27 (dk_at dksX21_isUnder_0 8 rfl rfl)
theorem dX21_isUnder_9 : decode cX21_isUnder 9 = .ok (.iconst 2, 1) := dk_5 (dk_at dksX21_isUnder_0 9 rfl rfl)
theorem dX21_isUnder_10 : decode cX21_isUnder 10 = .ok (.if_icmp .ne 7, 3) := dk_160 0 7 (dk_at dksX21_isUnder_0 10 rfl rfl)
theorem dX21_isUnder_13 : decode cX21_isUnder 13 = .ok (.iconst 1, 1) := dk_4 (dk_at dksX21_isUnder_0 13 rfl rfl)
theorem dX21_isUnder_14 : decode cX21_isUnder 14 = .ok (.goto 4, 3) := dk_167 0 4 (dk_at dksX21_isUnder_0 14 rfl rfl)
theorem dX21_isUnder_17 : decode cX21_isUnder 17 = .ok (.iconst 0, 1) := dk_3 (dk_at dksX21_isUnder_0 17 rfl rfl)
theorem dX21_isUnder_18 : decode cX21_isUnder 18 = .ok (.ireturn, 1) := dk_172 (dk_at dksX21_isUnder_0 18 rfl rfl)
theorem q146 : (Jvm.Cond.initialized "KeptLight$Great") ∈ lw_all := lw_g (lw_at lw_m1 70 rfl) rfl
theorem q263 : (Jvm.Cond.fieldLink "KeptLight$Great" (13 : Nat) "KeptLight$Sight" "weather" "LKeptLight$Weather;") ∈ lw_all := lw_g (lw_at lw_m1 187 rfl) rfl
theorem q1028 : (Jvm.Cond.superclass "KeptLight$Great" "KeptLight$Ship") ∈ lw_all := lw_g (lw_at lw_m4 232 rfl) rfl
theorem q1070 : (Jvm.Cond.instanceMethod ({ cls := "KeptLight$Great", name := "lacksInFog", desc := "()I" } : Jvm.MethodName)) ∈ lw_all := lw_g (lw_at lw_m5 34 rfl) rfl
theorem q1071 : (Jvm.Cond.sameMethod "KeptLight$Great" "KeptLight$Great" "lacksInFog" "()I") ∈ lw_all := lw_g (lw_at lw_m5 35 rfl) rfl
theorem q1075 : (Jvm.Cond.code ({ cls := "KeptLight$Great", name := "lacksInFog", desc := "()I" } : Jvm.MethodName) prog_10_method_5_code (1 : Nat) (Option.some Jvm.ClassFile.FieldType.int)) ∈ lw_all := lw_g (lw_at lw_m5 39 rfl) rfl
theorem q1076 : (Jvm.Cond.classLink "KeptLight$Great" (14 : Nat) "KeptLight$Sight") ∈ lw_all := lw_g (lw_at lw_m5 40 rfl) rfl
theorem q1077 : (Jvm.Cond.fieldLink "KeptLight$Great" (29 : Nat) "KeptLight$Weather" "FOG" "LKeptLight$Weather;") ∈ lw_all := lw_g (lw_at lw_m5 41 rfl) rfl
theorem q1078 : (Jvm.Cond.methodLink "KeptLight$Great" (32 : Nat) ({ cls := "KeptLight$Sight", name := "<init>", desc := "(LKeptLight$Weather;ZZZ)V" } : Jvm.MethodName)) ∈ lw_all := lw_g (lw_at lw_m5 42 rfl) rfl
theorem q1079 : (Jvm.Cond.methodLink "KeptLight$Great" (35 : Nat) ({ cls := "KeptLight$Great", name := "lacks", desc := "(LKeptLight$Sight;)I" } : Jvm.MethodName)) ∈ lw_all := lw_g (lw_at lw_m5 43 rfl) rfl
theorem q1080 : (Jvm.Cond.sameMethod "KeptLight$Great" "KeptLight$Ship" "lacks" "(LKeptLight$Sight;)I") ∈ lw_all := lw_g (lw_at lw_m5 44 rfl) rfl
theorem q2116 : (Jvm.Cond.instanceMethod ({ cls := "KeptLight$Great", name := "<init>", desc := "(II)V" } : Jvm.MethodName)) ∈ lw_all := lw_g (lw_at lw_m9 120 rfl) rfl
theorem q2117 : (Jvm.Cond.code ({ cls := "KeptLight$Great", name := "<init>", desc := "(II)V" } : Jvm.MethodName) prog_10_method_1_code (3 : Nat) (Option.none : Option Jvm.ClassFile.FieldType)) ∈ lw_all := lw_g (lw_at lw_m9 121 rfl) rfl
theorem q2118 : (Jvm.Cond.methodLink "KeptLight$Great" (3 : Nat) ({ cls := "KeptLight$Ship", name := "<init>", desc := "(II)V" } : Jvm.MethodName)) ∈ lw_all := lw_g (lw_at lw_m9 122 rfl) rfl
theorem q2189 : (Jvm.Cond.instanceMethod ({ cls := "KeptLight$Great", name := "kind", desc := "()I" } : Jvm.MethodName)) ∈ lw_all := lw_g (lw_at lw_m9 193 rfl) rfl
theorem q2190 : (Jvm.Cond.code ({ cls := "KeptLight$Great", name := "kind", desc := "()I" } : Jvm.MethodName) prog_10_method_2_code (1 : Nat) (Option.some Jvm.ClassFile.FieldType.int)) ∈ lw_all := lw_g (lw_at lw_m9 194 rfl) rfl
theorem q2673 : (Jvm.Cond.instanceMethod ({ cls := "KeptLight$Great", name := "alone", desc := "(LKeptLight$Sight;)I" } : Jvm.MethodName)) ∈ lw_all := lw_g (lw_at lw_m11 197 rfl) rfl
theorem q2674 : (Jvm.Cond.code ({ cls := "KeptLight$Great", name := "alone", desc := "(LKeptLight$Sight;)I" } : Jvm.MethodName) prog_10_method_4_code (2 : Nat) (Option.some Jvm.ClassFile.FieldType.int)) ∈ lw_all := lw_g (lw_at lw_m11 198 rfl) rfl
theorem q2675 : (Jvm.Cond.methodLink "KeptLight$Great" (19 : Nat) ({ cls := "KeptLight$Weather", name := "isWild", desc := "()Z" } : Jvm.MethodName)) ∈ lw_all := lw_g (lw_at lw_m11 199 rfl) rfl
theorem q2676 : (Jvm.Cond.methodLink "KeptLight$Great" (25 : Nat) ({ cls := "KeptLight$Ship", name := "alone", desc := "(LKeptLight$Sight;)I" } : Jvm.MethodName)) ∈ lw_all := lw_g (lw_at lw_m11 200 rfl) rfl
theorem q2809 : (Jvm.Cond.instanceMethod ({ cls := "KeptLight$Great", name := "isUnder", desc := "(I)Z" } : Jvm.MethodName)) ∈ lw_all := lw_g (lw_at lw_m12 93 rfl) rfl
theorem q2810 : (Jvm.Cond.code ({ cls := "KeptLight$Great", name := "isUnder", desc := "(I)Z" } : Jvm.MethodName) prog_10_method_3_code (2 : Nat) (Option.some Jvm.ClassFile.FieldType.boolean)) ∈ lw_all := lw_g (lw_at lw_m12 94 rfl) rfl
theorem q2811 : (Jvm.Cond.methodLink "KeptLight$Great" (9 : Nat) ({ cls := "KeptLight$Ship", name := "isUnder", desc := "(I)Z" } : Jvm.MethodName)) ∈ lw_all := lw_g (lw_at lw_m12 95 rfl) rfl
theorem q2824 : (Jvm.Cond.declares ({ cls := "KeptLight$Great", name := "isUnder", desc := "(I)Z" } : Jvm.MethodName)) ∈ lw_tbl := lw_at lw_m12 108 rfl
theorem q3656 : (Jvm.Cond.sameMethod "KeptLight$Great" "KeptLight$Great" "kind" "()I") ∈ lw_all := lw_g (lw_at lw_m15 220 rfl) rfl
/-! KeptLight$Coaster -/
set_option maxRecDepth 100000
def RX22 : String := "KeptLight$Coaster"
def TX22 : u_T := fun k => match k with
  | 0 => ("KeptLight$Ship", "number", "I", true)
  | 1 => ("KeptLight$Ship", "hour", "I", true)
  | 2 => ("KeptLight$Ship", "fate", "I", false)
  | _ => ("KeptLight$Ship", "met", "I", false)
def tyX22 : Nat → FieldType := fun k => match k with
  | 0 => .int
  | 1 => .int
  | 2 => .int
  | _ => .int
abbrev wsX220 : List Cond := u_ws RX22 TX22 4
theorem nmX22 : ∀ a, a < 4 → ∀ b, b < 4 → a ≠ b → (TX22 a).2.1 ≠ (TX22 b).2.1 := by decide +kernel
theorem tyX22_ok : ∀ k, k < 4 → parseFieldDescriptor (TX22 k).2.2.1 = some (tyX22 k) := by decide +kernel
abbrev cX22_init : ByteArray := prog_3_method_1_code
def yX22_init : MethodName := ⟨RX22, "<init>", "(II)V"⟩
def dkwX22_init_0 : List UInt8 := [42, 27, 28, 183, 0, 1, 177]
abbrev dktX22_init_0 : List UInt8 := dkwX22_init_0 ++ []
theorem dksX22_init_0 : cX22_init.data.toList.drop 0 = dktX22_init_0 := by decide +kernel
theorem dX22_init_0 : decode cX22_init 0 = .ok (.aload_n 0, 1) := dk_42 (dk_at dksX22_init_0 0 rfl rfl)
theorem dX22_init_1 : decode cX22_init 1 = .ok (.iload_n 1, 1) := dk_27 (dk_at dksX22_init_0 1 rfl rfl)
theorem dX22_init_2 : decode cX22_init 2 = .ok (.iload_n 2, 1) := dk_28 (dk_at dksX22_init_0 2 rfl rfl)
theorem dX22_init_3 : decode cX22_init 3 = .ok (.invokespecial 1, 3) := dk_183 0 1 (dk_at dksX22_init_0 3 rfl rfl)
theorem dX22_init_6 : decode cX22_init 6 = .ok (.return_, 1) := dk_177 (dk_at dksX22_init_0 6 rfl rfl)
abbrev cX22_kind : ByteArray := prog_3_method_2_code
def yX22_kind : MethodName := ⟨RX22, "kind", "()I"⟩
def dkwX22_kind_0 : List UInt8 := [42, 183, 0, 7, 6, 96, 172]
abbrev dktX22_kind_0 : List UInt8 := dkwX22_kind_0 ++ []
theorem dksX22_kind_0 : cX22_kind.data.toList.drop 0 = dktX22_kind_0 := by decide +kernel
theorem dX22_kind_0 : decode cX22_kind 0 = .ok (.aload_n 0, 1) := dk_42 (dk_at dksX22_kind_0 0 rfl rfl)
theorem dX22_kind_1 : decode cX22_kind 1 = .ok (.invokespecial 7, 3) := dk_183 0 7 (dk_at dksX22_kind_0 1 rfl rfl)
theorem dX22_kind_4 : decode cX22_kind 4 = .ok (.iconst 3, 1) := dk_6 (dk_at dksX22_kind_0 4 rfl rfl)
theorem dX22_kind_5 : decode cX22_kind 5 = .ok (.iadd, 1) := dk_96 (dk_at dksX22_kind_0 5 rfl rfl)
theorem dX22_kind_6 : decode cX22_kind 6 = .ok (.ireturn, 1) := dk_172 (dk_at dksX22_kind_0 6 rfl rfl)
theorem q147 : (Jvm.Cond.initialized "KeptLight$Coaster") ∈ lw_all := lw_g (lw_at lw_m1 71 rfl) rfl
theorem q1017 : (Jvm.Cond.selects "KeptLight$Coaster" ({ cls := "KeptLight$Ship", name := "lacksLight", desc := "(LKeptLight$Sight;)I" } : Jvm.MethodName) ({ cls := "KeptLight$Ship", name := "lacksLight", desc := "(LKeptLight$Sight;)I" } : Jvm.MethodName)) ∈ lw_all := lw_g (lw_at lw_m4 221 rfl) rfl
theorem q1049 : (Jvm.Cond.selects "KeptLight$Coaster" ({ cls := "KeptLight$Ship", name := "lacksSound", desc := "(LKeptLight$Sight;)I" } : Jvm.MethodName) ({ cls := "KeptLight$Ship", name := "lacksSound", desc := "(LKeptLight$Sight;)I" } : Jvm.MethodName)) ∈ lw_all := lw_g (lw_at lw_m5 13 rfl) rfl
theorem q1072 : (Jvm.Cond.selects "KeptLight$Coaster" ({ cls := "KeptLight$Great", name := "lacksInFog", desc := "()I" } : Jvm.MethodName) ({ cls := "KeptLight$Great", name := "lacksInFog", desc := "()I" } : Jvm.MethodName)) ∈ lw_all := lw_g (lw_at lw_m5 36 rfl) rfl
theorem q1082 : (Jvm.Cond.selects "KeptLight$Coaster" ({ cls := "KeptLight$Great", name := "lacks", desc := "(LKeptLight$Sight;)I" } : Jvm.MethodName) ({ cls := "KeptLight$Ship", name := "lacks", desc := "(LKeptLight$Sight;)I" } : Jvm.MethodName)) ∈ lw_all := lw_g (lw_at lw_m5 46 rfl) rfl
theorem q1246 : (Jvm.Cond.selects "KeptLight$Coaster" ({ cls := "java/lang/Object", name := "getClass", desc := "()Ljava/lang/Class;" } : Jvm.MethodName) ({ cls := "java/lang/Object", name := "getClass", desc := "()Ljava/lang/Class;" } : Jvm.MethodName)) ∈ lw_all := lw_g (lw_at lw_m5 210 rfl) rfl
theorem q2085 : (Jvm.Cond.sameField "KeptLight$Coaster" "KeptLight$Ship" "fate" "I") ∈ lw_all := lw_g (lw_at lw_m9 89 rfl) rfl
theorem q2111 : (Jvm.Cond.instantiable "KeptLight$Coaster" (4 : Nat)) ∈ lw_all := lw_g (lw_at lw_m9 115 rfl) rfl
theorem q2113 : (Jvm.Cond.instanceMethod ({ cls := "KeptLight$Coaster", name := "<init>", desc := "(II)V" } : Jvm.MethodName)) ∈ lw_all := lw_g (lw_at lw_m9 117 rfl) rfl
theorem q2114 : (Jvm.Cond.code ({ cls := "KeptLight$Coaster", name := "<init>", desc := "(II)V" } : Jvm.MethodName) prog_3_method_1_code (3 : Nat) (Option.none : Option Jvm.ClassFile.FieldType)) ∈ lw_all := lw_g (lw_at lw_m9 118 rfl) rfl
theorem q2115 : (Jvm.Cond.methodLink "KeptLight$Coaster" (1 : Nat) ({ cls := "KeptLight$Great", name := "<init>", desc := "(II)V" } : Jvm.MethodName)) ∈ lw_all := lw_g (lw_at lw_m9 119 rfl) rfl
theorem q2119 : (Jvm.Cond.laysFinal "KeptLight$Coaster" "KeptLight$Ship" "number" "I") ∈ lw_all := lw_g (lw_at lw_m9 123 rfl) rfl
theorem q2120 : (Jvm.Cond.laysFinal "KeptLight$Coaster" "KeptLight$Ship" "hour" "I") ∈ lw_all := lw_g (lw_at lw_m9 124 rfl) rfl
theorem q2121 : (Jvm.Cond.lays "KeptLight$Coaster" "KeptLight$Ship" "fate" "I") ∈ lw_all := lw_g (lw_at lw_m9 125 rfl) rfl
theorem q2122 : (Jvm.Cond.lays "KeptLight$Coaster" "KeptLight$Ship" "met" "I") ∈ lw_all := lw_g (lw_at lw_m9 126 rfl) rfl
theorem q2123 : (Jvm.Cond.superclass "KeptLight$Coaster" "KeptLight$Great") ∈ lw_all := lw_g (lw_at lw_m9 127 rfl) rfl
theorem q2185 : (Jvm.Cond.selects "KeptLight$Coaster" ({ cls := "KeptLight$Ship", name := "kind", desc := "()I" } : Jvm.MethodName) ({ cls := "KeptLight$Coaster", name := "kind", desc := "()I" } : Jvm.MethodName)) ∈ lw_all := lw_g (lw_at lw_m9 189 rfl) rfl
theorem q2186 : (Jvm.Cond.instanceMethod ({ cls := "KeptLight$Coaster", name := "kind", desc := "()I" } : Jvm.MethodName)) ∈ lw_all := lw_g (lw_at lw_m9 190 rfl) rfl
theorem q2187 : (Jvm.Cond.code ({ cls := "KeptLight$Coaster", name := "kind", desc := "()I" } : Jvm.MethodName) prog_3_method_2_code (1 : Nat) (Option.some Jvm.ClassFile.FieldType.int)) ∈ lw_all := lw_g (lw_at lw_m9 191 rfl) rfl
theorem q2188 : (Jvm.Cond.methodLink "KeptLight$Coaster" (7 : Nat) ({ cls := "KeptLight$Great", name := "kind", desc := "()I" } : Jvm.MethodName)) ∈ lw_all := lw_g (lw_at lw_m9 192 rfl) rfl
theorem q2662 : (Jvm.Cond.selects "KeptLight$Coaster" ({ cls := "KeptLight$Ship", name := "becomes", desc := "(LKeptLight$Sight;)I" } : Jvm.MethodName) ({ cls := "KeptLight$Ship", name := "becomes", desc := "(LKeptLight$Sight;)I" } : Jvm.MethodName)) ∈ lw_all := lw_g (lw_at lw_m11 186 rfl) rfl
theorem q2672 : (Jvm.Cond.selects "KeptLight$Coaster" ({ cls := "KeptLight$Ship", name := "alone", desc := "(LKeptLight$Sight;)I" } : Jvm.MethodName) ({ cls := "KeptLight$Great", name := "alone", desc := "(LKeptLight$Sight;)I" } : Jvm.MethodName)) ∈ lw_all := lw_g (lw_at lw_m11 196 rfl) rfl
theorem q2719 : (Jvm.Cond.selects "KeptLight$Coaster" ({ cls := "KeptLight$Ship", name := "passes", desc := "(LKeptLight$Sight;)V" } : Jvm.MethodName) ({ cls := "KeptLight$Ship", name := "passes", desc := "(LKeptLight$Sight;)V" } : Jvm.MethodName)) ∈ lw_all := lw_g (lw_at lw_m12 3 rfl) rfl
theorem q2808 : (Jvm.Cond.selects "KeptLight$Coaster" ({ cls := "KeptLight$Ship", name := "isUnder", desc := "(I)Z" } : Jvm.MethodName) ({ cls := "KeptLight$Great", name := "isUnder", desc := "(I)Z" } : Jvm.MethodName)) ∈ lw_all := lw_g (lw_at lw_m12 92 rfl) rfl
theorem q3024 : (Jvm.Cond.selects "KeptLight$Coaster" ({ cls := "java/lang/Object", name := "equals", desc := "(Ljava/lang/Object;)Z" } : Jvm.MethodName) ({ cls := "java/lang/Object", name := "equals", desc := "(Ljava/lang/Object;)Z" } : Jvm.MethodName)) ∈ lw_all := lw_g (lw_at lw_m13 68 rfl) rfl
theorem q3660 : (Jvm.Cond.selects "KeptLight$Coaster" ({ cls := "KeptLight$Ship", name := "lacks", desc := "(LKeptLight$Sight;)I" } : Jvm.MethodName) ({ cls := "KeptLight$Ship", name := "lacks", desc := "(LKeptLight$Sight;)I" } : Jvm.MethodName)) ∈ lw_all := lw_g (lw_at lw_m15 224 rfl) rfl
theorem q3674 : (Jvm.Cond.castable "KeptLight$Coaster" "KeptLight$Ship") ∈ lw_tbl := lw_at lw_m15 238 rfl
theorem q3681 : (Jvm.Cond.castable "KeptLight$Coaster" "KeptLight$Great") ∈ lw_tbl := lw_at lw_m16 5 rfl
theorem q3730 : (Jvm.Cond.castable "KeptLight$Coaster" "java/lang/Object") ∈ lw_tbl := lw_at lw_m16 54 rfl
theorem in_X22 : ∀ w ∈ wsX220, w ∈ lw_all := lw_in wsX220 [2119, 2120, 2121, 2122] (by decide +kernel) (by decide +kernel)
/-! KeptLight$Liner -/
set_option maxRecDepth 100000
def RX23 : String := "KeptLight$Liner"
def TX23 : u_T := fun k => match k with
  | 0 => ("KeptLight$Ship", "number", "I", true)
  | 1 => ("KeptLight$Ship", "hour", "I", true)
  | 2 => ("KeptLight$Ship", "fate", "I", false)
  | _ => ("KeptLight$Ship", "met", "I", false)
def tyX23 : Nat → FieldType := fun k => match k with
  | 0 => .int
  | 1 => .int
  | 2 => .int
  | _ => .int
abbrev wsX230 : List Cond := u_ws RX23 TX23 4
theorem nmX23 : ∀ a, a < 4 → ∀ b, b < 4 → a ≠ b → (TX23 a).2.1 ≠ (TX23 b).2.1 := by decide +kernel
theorem tyX23_ok : ∀ k, k < 4 → parseFieldDescriptor (TX23 k).2.2.1 = some (tyX23 k) := by decide +kernel
abbrev cX23_init : ByteArray := prog_13_method_1_code
def yX23_init : MethodName := ⟨RX23, "<init>", "(II)V"⟩
def dkwX23_init_0 : List UInt8 := [42, 27, 28, 183, 0, 1, 177]
abbrev dktX23_init_0 : List UInt8 := dkwX23_init_0 ++ []
theorem dksX23_init_0 : cX23_init.data.toList.drop 0 = dktX23_init_0 := by decide +kernel
theorem dX23_init_0 : decode cX23_init 0 = .ok (.aload_n 0, 1) := dk_42 (dk_at dksX23_init_0 0 rfl rfl)
theorem dX23_init_1 : decode cX23_init 1 = .ok (.iload_n 1, 1) := dk_27 (dk_at dksX23_init_0 1 rfl rfl)
theorem dX23_init_2 : decode cX23_init 2 = .ok (.iload_n 2, 1) := dk_28 (dk_at dksX23_init_0 2 rfl rfl)
theorem dX23_init_3 : decode cX23_init 3 = .ok (.invokespecial 1, 3) := dk_183 0 1 (dk_at dksX23_init_0 3 rfl rfl)
theorem dX23_init_6 : decode cX23_init 6 = .ok (.return_, 1) := dk_177 (dk_at dksX23_init_0 6 rfl rfl)
abbrev cX23_kind : ByteArray := prog_13_method_2_code
def yX23_kind : MethodName := ⟨RX23, "kind", "()I"⟩
def dkwX23_kind_0 : List UInt8 := [42, 183, 0, 7, 7, 96, 172]
abbrev dktX23_kind_0 : List UInt8 := dkwX23_kind_0 ++ []
theorem dksX23_kind_0 : cX23_kind.data.toList.drop 0 = dktX23_kind_0 := by decide +kernel
theorem dX23_kind_0 : decode cX23_kind 0 = .ok (.aload_n 0, 1) := dk_42 (dk_at dksX23_kind_0 0 rfl rfl)
theorem dX23_kind_1 : decode cX23_kind 1 = .ok (.invokespecial 7, 3) := dk_183 0 7 (dk_at dksX23_kind_0 1 rfl rfl)
theorem dX23_kind_4 : decode cX23_kind 4 = .ok (.iconst 4, 1) := dk_7 (dk_at dksX23_kind_0 4 rfl rfl)
theorem dX23_kind_5 : decode cX23_kind 5 = .ok (.iadd, 1) := dk_96 (dk_at dksX23_kind_0 5 rfl rfl)
theorem dX23_kind_6 : decode cX23_kind 6 = .ok (.ireturn, 1) := dk_172 (dk_at dksX23_kind_0 6 rfl rfl)
theorem q148 : (Jvm.Cond.initialized "KeptLight$Liner") ∈ lw_all := lw_g (lw_at lw_m1 72 rfl) rfl
theorem q1019 : (Jvm.Cond.selects "KeptLight$Liner" ({ cls := "KeptLight$Ship", name := "lacksLight", desc := "(LKeptLight$Sight;)I" } : Jvm.MethodName) ({ cls := "KeptLight$Ship", name := "lacksLight", desc := "(LKeptLight$Sight;)I" } : Jvm.MethodName)) ∈ lw_all := lw_g (lw_at lw_m4 223 rfl) rfl
theorem q1024 : (Jvm.Cond.sameMethod "KeptLight$Liner" "KeptLight$Ship" "lacksLight" "(LKeptLight$Sight;)I") ∈ lw_all := lw_g (lw_at lw_m4 228 rfl) rfl
theorem q1027 : (Jvm.Cond.superclass "KeptLight$Liner" "KeptLight$Great") ∈ lw_all := lw_g (lw_at lw_m4 231 rfl) rfl
theorem q1053 : (Jvm.Cond.selects "KeptLight$Liner" ({ cls := "KeptLight$Ship", name := "lacksSound", desc := "(LKeptLight$Sight;)I" } : Jvm.MethodName) ({ cls := "KeptLight$Ship", name := "lacksSound", desc := "(LKeptLight$Sight;)I" } : Jvm.MethodName)) ∈ lw_all := lw_g (lw_at lw_m5 17 rfl) rfl
theorem q1073 : (Jvm.Cond.selects "KeptLight$Liner" ({ cls := "KeptLight$Great", name := "lacksInFog", desc := "()I" } : Jvm.MethodName) ({ cls := "KeptLight$Great", name := "lacksInFog", desc := "()I" } : Jvm.MethodName)) ∈ lw_all := lw_g (lw_at lw_m5 37 rfl) rfl
theorem q1083 : (Jvm.Cond.selects "KeptLight$Liner" ({ cls := "KeptLight$Great", name := "lacks", desc := "(LKeptLight$Sight;)I" } : Jvm.MethodName) ({ cls := "KeptLight$Ship", name := "lacks", desc := "(LKeptLight$Sight;)I" } : Jvm.MethodName)) ∈ lw_all := lw_g (lw_at lw_m5 47 rfl) rfl
theorem q1255 : (Jvm.Cond.selects "KeptLight$Liner" ({ cls := "java/lang/Object", name := "getClass", desc := "()Ljava/lang/Class;" } : Jvm.MethodName) ({ cls := "java/lang/Object", name := "getClass", desc := "()Ljava/lang/Class;" } : Jvm.MethodName)) ∈ lw_all := lw_g (lw_at lw_m5 219 rfl) rfl
theorem q2090 : (Jvm.Cond.sameField "KeptLight$Liner" "KeptLight$Ship" "met" "I") ∈ lw_all := lw_g (lw_at lw_m9 94 rfl) rfl
theorem q2124 : (Jvm.Cond.instantiable "KeptLight$Liner" (4 : Nat)) ∈ lw_all := lw_g (lw_at lw_m9 128 rfl) rfl
theorem q2126 : (Jvm.Cond.instanceMethod ({ cls := "KeptLight$Liner", name := "<init>", desc := "(II)V" } : Jvm.MethodName)) ∈ lw_all := lw_g (lw_at lw_m9 130 rfl) rfl
theorem q2127 : (Jvm.Cond.code ({ cls := "KeptLight$Liner", name := "<init>", desc := "(II)V" } : Jvm.MethodName) prog_13_method_1_code (3 : Nat) (Option.none : Option Jvm.ClassFile.FieldType)) ∈ lw_all := lw_g (lw_at lw_m9 131 rfl) rfl
theorem q2128 : (Jvm.Cond.methodLink "KeptLight$Liner" (1 : Nat) ({ cls := "KeptLight$Great", name := "<init>", desc := "(II)V" } : Jvm.MethodName)) ∈ lw_all := lw_g (lw_at lw_m9 132 rfl) rfl
theorem q2129 : (Jvm.Cond.laysFinal "KeptLight$Liner" "KeptLight$Ship" "number" "I") ∈ lw_all := lw_g (lw_at lw_m9 133 rfl) rfl
theorem q2130 : (Jvm.Cond.laysFinal "KeptLight$Liner" "KeptLight$Ship" "hour" "I") ∈ lw_all := lw_g (lw_at lw_m9 134 rfl) rfl
theorem q2131 : (Jvm.Cond.lays "KeptLight$Liner" "KeptLight$Ship" "fate" "I") ∈ lw_all := lw_g (lw_at lw_m9 135 rfl) rfl
theorem q2132 : (Jvm.Cond.lays "KeptLight$Liner" "KeptLight$Ship" "met" "I") ∈ lw_all := lw_g (lw_at lw_m9 136 rfl) rfl
theorem q2197 : (Jvm.Cond.selects "KeptLight$Liner" ({ cls := "KeptLight$Ship", name := "kind", desc := "()I" } : Jvm.MethodName) ({ cls := "KeptLight$Liner", name := "kind", desc := "()I" } : Jvm.MethodName)) ∈ lw_all := lw_g (lw_at lw_m9 201 rfl) rfl
theorem q2198 : (Jvm.Cond.instanceMethod ({ cls := "KeptLight$Liner", name := "kind", desc := "()I" } : Jvm.MethodName)) ∈ lw_all := lw_g (lw_at lw_m9 202 rfl) rfl
theorem q2199 : (Jvm.Cond.code ({ cls := "KeptLight$Liner", name := "kind", desc := "()I" } : Jvm.MethodName) prog_13_method_2_code (1 : Nat) (Option.some Jvm.ClassFile.FieldType.int)) ∈ lw_all := lw_g (lw_at lw_m9 203 rfl) rfl
theorem q2200 : (Jvm.Cond.methodLink "KeptLight$Liner" (7 : Nat) ({ cls := "KeptLight$Great", name := "kind", desc := "()I" } : Jvm.MethodName)) ∈ lw_all := lw_g (lw_at lw_m9 204 rfl) rfl
theorem q2664 : (Jvm.Cond.selects "KeptLight$Liner" ({ cls := "KeptLight$Ship", name := "becomes", desc := "(LKeptLight$Sight;)I" } : Jvm.MethodName) ({ cls := "KeptLight$Ship", name := "becomes", desc := "(LKeptLight$Sight;)I" } : Jvm.MethodName)) ∈ lw_all := lw_g (lw_at lw_m11 188 rfl) rfl
theorem q2679 : (Jvm.Cond.selects "KeptLight$Liner" ({ cls := "KeptLight$Ship", name := "alone", desc := "(LKeptLight$Sight;)I" } : Jvm.MethodName) ({ cls := "KeptLight$Great", name := "alone", desc := "(LKeptLight$Sight;)I" } : Jvm.MethodName)) ∈ lw_all := lw_g (lw_at lw_m11 203 rfl) rfl
theorem q2721 : (Jvm.Cond.selects "KeptLight$Liner" ({ cls := "KeptLight$Ship", name := "passes", desc := "(LKeptLight$Sight;)V" } : Jvm.MethodName) ({ cls := "KeptLight$Ship", name := "passes", desc := "(LKeptLight$Sight;)V" } : Jvm.MethodName)) ∈ lw_all := lw_g (lw_at lw_m12 5 rfl) rfl
theorem q2818 : (Jvm.Cond.selects "KeptLight$Liner" ({ cls := "KeptLight$Ship", name := "isUnder", desc := "(I)Z" } : Jvm.MethodName) ({ cls := "KeptLight$Great", name := "isUnder", desc := "(I)Z" } : Jvm.MethodName)) ∈ lw_all := lw_g (lw_at lw_m12 102 rfl) rfl
theorem q2823 : (Jvm.Cond.sameMethod "KeptLight$Liner" "KeptLight$Great" "isUnder" "(I)Z") ∈ lw_all := lw_g (lw_at lw_m12 107 rfl) rfl
theorem q3033 : (Jvm.Cond.selects "KeptLight$Liner" ({ cls := "java/lang/Object", name := "equals", desc := "(Ljava/lang/Object;)Z" } : Jvm.MethodName) ({ cls := "java/lang/Object", name := "equals", desc := "(Ljava/lang/Object;)Z" } : Jvm.MethodName)) ∈ lw_all := lw_g (lw_at lw_m13 77 rfl) rfl
theorem q3658 : (Jvm.Cond.sameMethod "KeptLight$Liner" "KeptLight$Liner" "kind" "()I") ∈ lw_all := lw_g (lw_at lw_m15 222 rfl) rfl
theorem q3662 : (Jvm.Cond.selects "KeptLight$Liner" ({ cls := "KeptLight$Ship", name := "lacks", desc := "(LKeptLight$Sight;)I" } : Jvm.MethodName) ({ cls := "KeptLight$Ship", name := "lacks", desc := "(LKeptLight$Sight;)I" } : Jvm.MethodName)) ∈ lw_all := lw_g (lw_at lw_m15 226 rfl) rfl
theorem q3676 : (Jvm.Cond.castable "KeptLight$Liner" "KeptLight$Ship") ∈ lw_tbl := lw_at lw_m16 0 rfl
theorem q3682 : (Jvm.Cond.castable "KeptLight$Liner" "KeptLight$Great") ∈ lw_tbl := lw_at lw_m16 6 rfl
theorem q3731 : (Jvm.Cond.castable "KeptLight$Liner" "java/lang/Object") ∈ lw_tbl := lw_at lw_m16 55 rfl
theorem in_X23 : ∀ w ∈ wsX230, w ∈ lw_all := lw_in wsX230 [2129, 2130, 2131, 2132] (by decide +kernel) (by decide +kernel)
/-! KeptLight$Mail -/
set_option maxRecDepth 100000
def RX24 : String := "KeptLight$Mail"
def TX24 : u_T := fun k => match k with
  | 0 => ("KeptLight$Ship", "number", "I", true)
  | 1 => ("KeptLight$Ship", "hour", "I", true)
  | 2 => ("KeptLight$Ship", "fate", "I", false)
  | _ => ("KeptLight$Ship", "met", "I", false)
def tyX24 : Nat → FieldType := fun k => match k with
  | 0 => .int
  | 1 => .int
  | 2 => .int
  | _ => .int
abbrev wsX240 : List Cond := u_ws RX24 TX24 4
theorem nmX24 : ∀ a, a < 4 → ∀ b, b < 4 → a ≠ b → (TX24 a).2.1 ≠ (TX24 b).2.1 := by decide +kernel
theorem tyX24_ok : ∀ k, k < 4 → parseFieldDescriptor (TX24 k).2.2.1 = some (tyX24 k) := by decide +kernel
abbrev cX24_lacksLight : ByteArray := prog_14_method_4_code
def yX24_lacksLight : MethodName := ⟨RX24, "lacksLight", "(LKeptLight$Sight;)I"⟩
def dkwX24_lacksLight_1 : List UInt8 := [167, 0, 4, 3, 184, 0, 37, 96, 172]
abbrev dktX24_lacksLight_1 : List UInt8 := dkwX24_lacksLight_1 ++ []
def dkwX24_lacksLight_0 : List UInt8 := [42, 43, 183, 0, 17, 43, 180, 0, 21, 154, 0, 17, 43, 180, 0, 27, 182, 0, 31, 153, 0, 7, 4]
abbrev dktX24_lacksLight_0 : List UInt8 := dkwX24_lacksLight_0 ++ dktX24_lacksLight_1
theorem dksX24_lacksLight_0 : cX24_lacksLight.data.toList.drop 0 = dktX24_lacksLight_0 := by decide +kernel
theorem dksX24_lacksLight_1 : cX24_lacksLight.data.toList.drop 23 = dktX24_lacksLight_1 := dk_seg dksX24_lacksLight_0 23 rfl rfl
theorem dX24_lacksLight_0 : decode cX24_lacksLight 0 = .ok (.aload_n 0, 1) := dk_42 (dk_at dksX24_lacksLight_0 0 rfl rfl)
theorem dX24_lacksLight_1 : decode cX24_lacksLight 1 = .ok (.aload_n 1, 1) := dk_43 (dk_at dksX24_lacksLight_0 1 rfl rfl)
theorem dX24_lacksLight_2 : decode cX24_lacksLight 2 = .ok (.invokespecial 17, 3) := dk_183 0 17 (dk_at dksX24_lacksLight_0 2 rfl rfl)
theorem dX24_lacksLight_5 : decode cX24_lacksLight 5 = .ok (.aload_n 1, 1) := dk_43 (dk_at dksX24_lacksLight_0 5 rfl rfl)
theorem dX24_lacksLight_6 : decode cX24_lacksLight 6 = .ok (.getfield 21, 3) := dk_180 0 21 (dk_at dksX24_lacksLight_0 6 rfl rfl)
theorem dX24_lacksLight_9 : decode cX24_lacksLight 9 = .ok (.ifCond .ne 17, 3) := dk_154 0 17 (dk_at dksX24_lacksLight_0 9 rfl rfl)
theorem dX24_lacksLight_12 : decode cX24_lacksLight 12 = .ok (.aload_n 1, 1) := dk_43 (dk_at dksX24_lacksLight_0 12 rfl rfl)
theorem dX24_lacksLight_13 : decode cX24_lacksLight 13 = .ok (.getfield 27, 3) := dk_180 0 27 (dk_at dksX24_lacksLight_0 13 rfl rfl)
theorem dX24_lacksLight_16 : decode cX24_lacksLight 16 = .ok (.invokevirtual 31, 3) := dk_182 0 31 (dk_at dksX24_lacksLight_0 16 rfl rfl)
theorem dX24_lacksLight_19 : decode cX24_lacksLight 19 = .ok (.ifCond .eq 7, 3) := dk_153 0 7 (dk_at dksX24_lacksLight_0 19 rfl rfl)
theorem dX24_lacksLight_22 : decode cX24_lacksLight 22 = .ok (.iconst 1, 1) := dk_4 (dk_at dksX24_lacksLight_0 22 rfl rfl)
theorem dX24_lacksLight_23 : decode cX24_lacksLight 23 = .ok (.goto 4, 3) := dk_167 0 4 (dk_at dksX24_lacksLight_1 0 rfl rfl)
theorem dX24_lacksLight_26 : decode cX24_lacksLight 26 = .ok (.iconst 0, 1) := dk_3 (dk_at dksX24_lacksLight_1 3 rfl rfl)
theorem dX24_lacksLight_27 : decode cX24_lacksLight 27 = .ok (.invokestatic 37, 3) := dk_184 0 37 (dk_at dksX24_lacksLight_1 4 rfl rfl)
theorem dX24_lacksLight_30 : decode cX24_lacksLight 30 = .ok (.iadd, 1) := dk_96 (dk_at dksX24_lacksLight_1 7 rfl rfl)
theorem dX24_lacksLight_31 : decode cX24_lacksLight 31 = .ok (.ireturn, 1) := dk_172 (dk_at dksX24_lacksLight_1 8 rfl rfl)
abbrev cX24_isWreck : ByteArray := prog_14_method_5_code
def yX24_isWreck : MethodName := ⟨RX24, "isWreck", "()I"⟩
def dkwX24_isWreck_0 : List UInt8 := [42, 180, 0, 41, 5, 160, 0, 7, 4, 167, 0, 4, 3, 184, 0, 37, 172]
abbrev dktX24_isWreck_0 : List UInt8 := dkwX24_isWreck_0 ++ []
theorem dksX24_isWreck_0 : cX24_isWreck.data.toList.drop 0 = dktX24_isWreck_0 := by decide +kernel
theorem dX24_isWreck_0 : decode cX24_isWreck 0 = .ok (.aload_n 0, 1) := dk_42 (dk_at dksX24_isWreck_0 0 rfl rfl)
theorem dX24_isWreck_1 : decode cX24_isWreck 1 = .ok (.getfield 41, 3) := dk_180 0 41 (dk_at dksX24_isWreck_0 1 rfl rfl)
theorem dX24_isWreck_4 : decode cX24_isWreck 4 = .ok (.iconst 2, 1) := dk_5 (dk_at dksX24_isWreck_0 4 rfl rfl)
theorem dX24_isWreck_5 : decode cX24_isWreck 5 = .ok (.if_icmp .ne 7, 3) := dk_160 0 7 (dk_at dksX24_isWreck_0 5 rfl rfl)
theorem dX24_isWreck_8 : decode cX24_isWreck 8 = .ok (.iconst 1, 1) := dk_4 (dk_at dksX24_isWreck_0 8 rfl rfl)
theorem dX24_isWreck_9 : decode cX24_isWreck 9 = .ok (.goto 4, 3) := dk_167 0 4 (dk_at dksX24_isWreck_0 9 rfl rfl)
theorem dX24_isWreck_12 : decode cX24_isWreck 12 = .ok (.iconst 0, 1) := dk_3 (dk_at dksX24_isWreck_0 12 rfl rfl)
theorem dX24_isWreck_13 : decode cX24_isWreck 13 = .ok (.invokestatic 37, 3) := dk_184 0 37 (dk_at dksX24_isWreck_0 13 rfl rfl)
theorem dX24_isWreck_16 : decode cX24_isWreck 16 = .ok (.ireturn, 1) := dk_172 (dk_at dksX24_isWreck_0 16 rfl rfl)
abbrev cX24_init : ByteArray := prog_14_method_1_code
def yX24_init : MethodName := ⟨RX24, "<init>", "(II)V"⟩
def dkwX24_init_0 : List UInt8 := [42, 27, 28, 183, 0, 3, 177]
abbrev dktX24_init_0 : List UInt8 := dkwX24_init_0 ++ []
theorem dksX24_init_0 : cX24_init.data.toList.drop 0 = dktX24_init_0 := by decide +kernel
theorem dX24_init_0 : decode cX24_init 0 = .ok (.aload_n 0, 1) := dk_42 (dk_at dksX24_init_0 0 rfl rfl)
theorem dX24_init_1 : decode cX24_init 1 = .ok (.iload_n 1, 1) := dk_27 (dk_at dksX24_init_0 1 rfl rfl)
theorem dX24_init_2 : decode cX24_init 2 = .ok (.iload_n 2, 1) := dk_28 (dk_at dksX24_init_0 2 rfl rfl)
theorem dX24_init_3 : decode cX24_init 3 = .ok (.invokespecial 3, 3) := dk_183 0 3 (dk_at dksX24_init_0 3 rfl rfl)
theorem dX24_init_6 : decode cX24_init 6 = .ok (.return_, 1) := dk_177 (dk_at dksX24_init_0 6 rfl rfl)
abbrev cX24_kind : ByteArray := prog_14_method_2_code
def yX24_kind : MethodName := ⟨RX24, "kind", "()I"⟩
def dkwX24_kind_0 : List UInt8 := [42, 183, 0, 9, 4, 96, 172]
abbrev dktX24_kind_0 : List UInt8 := dkwX24_kind_0 ++ []
theorem dksX24_kind_0 : cX24_kind.data.toList.drop 0 = dktX24_kind_0 := by decide +kernel
theorem dX24_kind_0 : decode cX24_kind 0 = .ok (.aload_n 0, 1) := dk_42 (dk_at dksX24_kind_0 0 rfl rfl)
theorem dX24_kind_1 : decode cX24_kind 1 = .ok (.invokespecial 9, 3) := dk_183 0 9 (dk_at dksX24_kind_0 1 rfl rfl)
theorem dX24_kind_4 : decode cX24_kind 4 = .ok (.iconst 1, 1) := dk_4 (dk_at dksX24_kind_0 4 rfl rfl)
theorem dX24_kind_5 : decode cX24_kind 5 = .ok (.iadd, 1) := dk_96 (dk_at dksX24_kind_0 5 rfl rfl)
theorem dX24_kind_6 : decode cX24_kind 6 = .ok (.ireturn, 1) := dk_172 (dk_at dksX24_kind_0 6 rfl rfl)
abbrev cX24_isUnder : ByteArray := prog_14_method_3_code
def yX24_isUnder : MethodName := ⟨RX24, "isUnder", "(I)Z"⟩
def dkwX24_isUnder_0 : List UInt8 := [42, 27, 183, 0, 13, 154, 0, 9, 27, 16, 6, 160, 0, 7, 4, 167, 0, 4, 3, 172]
abbrev dktX24_isUnder_0 : List UInt8 := dkwX24_isUnder_0 ++ []
theorem dksX24_isUnder_0 : cX24_isUnder.data.toList.drop 0 = dktX24_isUnder_0 := by decide +kernel
theorem dX24_isUnder_0 : decode cX24_isUnder 0 = .ok (.aload_n 0, 1) := dk_42 (dk_at dksX24_isUnder_0 0 rfl rfl)
theorem dX24_isUnder_1 : decode cX24_isUnder 1 = .ok (.iload_n 1, 1) := dk_27 (dk_at dksX24_isUnder_0 1 rfl rfl)
theorem dX24_isUnder_2 : decode cX24_isUnder 2 = .ok (.invokespecial 13, 3) := dk_183 0 13 (dk_at dksX24_isUnder_0 2 rfl rfl)
theorem dX24_isUnder_5 : decode cX24_isUnder 5 = .ok (.ifCond .ne 9, 3) := dk_154 0 9 (dk_at dksX24_isUnder_0 5 rfl rfl)
theorem dX24_isUnder_8 : decode cX24_isUnder 8 = .ok (.iload_n 1, 1) := dk_27 (dk_at dksX24_isUnder_0 8 rfl rfl)
theorem dX24_isUnder_9 : decode cX24_isUnder 9 = .ok (.bipush 6, 2) := dk_16 6 (dk_at dksX24_isUnder_0 9 rfl rfl)
theorem dX24_isUnder_11 : decode cX24_isUnder 11 = .ok (.if_icmp .ne 7, 3) := dk_160 0 7 (dk_at dksX24_isUnder_0 11 rfl rfl)
theorem dX24_isUnder_14 : decode cX24_isUnder 14 = .ok (.iconst 1, 1) := dk_4 (dk_at dksX24_isUnder_0 14 rfl rfl)
theorem dX24_isUnder_15 : decode cX24_isUnder 15 = .ok (.goto 4, 3) := dk_167 0 4 (dk_at dksX24_isUnder_0 15 rfl rfl)
theorem dX24_isUnder_18 : decode cX24_isUnder 18 = .ok (.iconst 0, 1) := dk_3 (dk_at dksX24_isUnder_0 18 rfl rfl)
theorem dX24_isUnder_19 : decode cX24_isUnder 19 = .ok (.ireturn, 1) := dk_172 (dk_at dksX24_isUnder_0 19 rfl rfl)
theorem q149 : (Jvm.Cond.initialized "KeptLight$Mail") ∈ lw_all := lw_g (lw_at lw_m1 73 rfl) rfl
theorem q265 : (Jvm.Cond.fieldLink "KeptLight$Mail" (27 : Nat) "KeptLight$Sight" "weather" "LKeptLight$Weather;") ∈ lw_all := lw_g (lw_at lw_m1 189 rfl) rfl
theorem q270 : (Jvm.Cond.fieldLink "KeptLight$Mail" (21 : Nat) "KeptLight$Sight" "isDark" "Z") ∈ lw_all := lw_g (lw_at lw_m1 194 rfl) rfl
theorem q1020 : (Jvm.Cond.selects "KeptLight$Mail" ({ cls := "KeptLight$Ship", name := "lacksLight", desc := "(LKeptLight$Sight;)I" } : Jvm.MethodName) ({ cls := "KeptLight$Mail", name := "lacksLight", desc := "(LKeptLight$Sight;)I" } : Jvm.MethodName)) ∈ lw_all := lw_g (lw_at lw_m4 224 rfl) rfl
theorem q1021 : (Jvm.Cond.instanceMethod ({ cls := "KeptLight$Mail", name := "lacksLight", desc := "(LKeptLight$Sight;)I" } : Jvm.MethodName)) ∈ lw_all := lw_g (lw_at lw_m4 225 rfl) rfl
theorem q1022 : (Jvm.Cond.code ({ cls := "KeptLight$Mail", name := "lacksLight", desc := "(LKeptLight$Sight;)I" } : Jvm.MethodName) prog_14_method_4_code (2 : Nat) (Option.some Jvm.ClassFile.FieldType.int)) ∈ lw_all := lw_g (lw_at lw_m4 226 rfl) rfl
theorem q1023 : (Jvm.Cond.methodLink "KeptLight$Mail" (17 : Nat) ({ cls := "KeptLight$Liner", name := "lacksLight", desc := "(LKeptLight$Sight;)I" } : Jvm.MethodName)) ∈ lw_all := lw_g (lw_at lw_m4 227 rfl) rfl
theorem q1026 : (Jvm.Cond.superclass "KeptLight$Mail" "KeptLight$Liner") ∈ lw_all := lw_g (lw_at lw_m4 230 rfl) rfl
theorem q1033 : (Jvm.Cond.methodLink "KeptLight$Mail" (31 : Nat) ({ cls := "KeptLight$Weather", name := "isWild", desc := "()Z" } : Jvm.MethodName)) ∈ lw_all := lw_g (lw_at lw_m4 237 rfl) rfl
theorem q1042 : (Jvm.Cond.methodLinkNest "KeptLight$Mail" (37 : Nat) ({ cls := "KeptLight", name := "one", desc := "(Z)I" } : Jvm.MethodName) "KeptLight") ∈ lw_tbl := lw_at lw_m5 6 rfl
theorem q1054 : (Jvm.Cond.selects "KeptLight$Mail" ({ cls := "KeptLight$Ship", name := "lacksSound", desc := "(LKeptLight$Sight;)I" } : Jvm.MethodName) ({ cls := "KeptLight$Ship", name := "lacksSound", desc := "(LKeptLight$Sight;)I" } : Jvm.MethodName)) ∈ lw_all := lw_g (lw_at lw_m5 18 rfl) rfl
theorem q1074 : (Jvm.Cond.selects "KeptLight$Mail" ({ cls := "KeptLight$Great", name := "lacksInFog", desc := "()I" } : Jvm.MethodName) ({ cls := "KeptLight$Great", name := "lacksInFog", desc := "()I" } : Jvm.MethodName)) ∈ lw_all := lw_g (lw_at lw_m5 38 rfl) rfl
theorem q1084 : (Jvm.Cond.selects "KeptLight$Mail" ({ cls := "KeptLight$Great", name := "lacks", desc := "(LKeptLight$Sight;)I" } : Jvm.MethodName) ({ cls := "KeptLight$Ship", name := "lacks", desc := "(LKeptLight$Sight;)I" } : Jvm.MethodName)) ∈ lw_all := lw_g (lw_at lw_m5 48 rfl) rfl
theorem q1091 : (Jvm.Cond.instanceMethod ({ cls := "KeptLight$Mail", name := "isWreck", desc := "()I" } : Jvm.MethodName)) ∈ lw_all := lw_g (lw_at lw_m5 55 rfl) rfl
theorem q1092 : (Jvm.Cond.selects "KeptLight$Mail" ({ cls := "KeptLight$Mail", name := "isWreck", desc := "()I" } : Jvm.MethodName) ({ cls := "KeptLight$Mail", name := "isWreck", desc := "()I" } : Jvm.MethodName)) ∈ lw_all := lw_g (lw_at lw_m5 56 rfl) rfl
theorem q1093 : (Jvm.Cond.code ({ cls := "KeptLight$Mail", name := "isWreck", desc := "()I" } : Jvm.MethodName) prog_14_method_5_code (1 : Nat) (Option.some Jvm.ClassFile.FieldType.int)) ∈ lw_all := lw_g (lw_at lw_m5 57 rfl) rfl
theorem q1256 : (Jvm.Cond.selects "KeptLight$Mail" ({ cls := "java/lang/Object", name := "getClass", desc := "()Ljava/lang/Class;" } : Jvm.MethodName) ({ cls := "java/lang/Object", name := "getClass", desc := "()Ljava/lang/Class;" } : Jvm.MethodName)) ∈ lw_all := lw_g (lw_at lw_m5 220 rfl) rfl
theorem q2077 : (Jvm.Cond.fieldLink "KeptLight$Mail" (41 : Nat) "KeptLight$Mail" "fate" "I") ∈ lw_all := lw_g (lw_at lw_m9 81 rfl) rfl
theorem q2078 : (Jvm.Cond.sameField "KeptLight$Mail" "KeptLight$Ship" "fate" "I") ∈ lw_all := lw_g (lw_at lw_m9 82 rfl) rfl
theorem q2133 : (Jvm.Cond.instantiable "KeptLight$Mail" (4 : Nat)) ∈ lw_all := lw_g (lw_at lw_m9 137 rfl) rfl
theorem q2135 : (Jvm.Cond.instanceMethod ({ cls := "KeptLight$Mail", name := "<init>", desc := "(II)V" } : Jvm.MethodName)) ∈ lw_all := lw_g (lw_at lw_m9 139 rfl) rfl
theorem q2136 : (Jvm.Cond.code ({ cls := "KeptLight$Mail", name := "<init>", desc := "(II)V" } : Jvm.MethodName) prog_14_method_1_code (3 : Nat) (Option.none : Option Jvm.ClassFile.FieldType)) ∈ lw_all := lw_g (lw_at lw_m9 140 rfl) rfl
theorem q2137 : (Jvm.Cond.methodLink "KeptLight$Mail" (3 : Nat) ({ cls := "KeptLight$Liner", name := "<init>", desc := "(II)V" } : Jvm.MethodName)) ∈ lw_all := lw_g (lw_at lw_m9 141 rfl) rfl
theorem q2138 : (Jvm.Cond.laysFinal "KeptLight$Mail" "KeptLight$Ship" "number" "I") ∈ lw_all := lw_g (lw_at lw_m9 142 rfl) rfl
theorem q2139 : (Jvm.Cond.laysFinal "KeptLight$Mail" "KeptLight$Ship" "hour" "I") ∈ lw_all := lw_g (lw_at lw_m9 143 rfl) rfl
theorem q2140 : (Jvm.Cond.lays "KeptLight$Mail" "KeptLight$Ship" "fate" "I") ∈ lw_all := lw_g (lw_at lw_m9 144 rfl) rfl
theorem q2141 : (Jvm.Cond.lays "KeptLight$Mail" "KeptLight$Ship" "met" "I") ∈ lw_all := lw_g (lw_at lw_m9 145 rfl) rfl
theorem q2201 : (Jvm.Cond.selects "KeptLight$Mail" ({ cls := "KeptLight$Ship", name := "kind", desc := "()I" } : Jvm.MethodName) ({ cls := "KeptLight$Mail", name := "kind", desc := "()I" } : Jvm.MethodName)) ∈ lw_all := lw_g (lw_at lw_m9 205 rfl) rfl
theorem q2202 : (Jvm.Cond.instanceMethod ({ cls := "KeptLight$Mail", name := "kind", desc := "()I" } : Jvm.MethodName)) ∈ lw_all := lw_g (lw_at lw_m9 206 rfl) rfl
theorem q2203 : (Jvm.Cond.code ({ cls := "KeptLight$Mail", name := "kind", desc := "()I" } : Jvm.MethodName) prog_14_method_2_code (1 : Nat) (Option.some Jvm.ClassFile.FieldType.int)) ∈ lw_all := lw_g (lw_at lw_m9 207 rfl) rfl
theorem q2204 : (Jvm.Cond.methodLink "KeptLight$Mail" (9 : Nat) ({ cls := "KeptLight$Liner", name := "kind", desc := "()I" } : Jvm.MethodName)) ∈ lw_all := lw_g (lw_at lw_m9 208 rfl) rfl
theorem q2665 : (Jvm.Cond.selects "KeptLight$Mail" ({ cls := "KeptLight$Ship", name := "becomes", desc := "(LKeptLight$Sight;)I" } : Jvm.MethodName) ({ cls := "KeptLight$Ship", name := "becomes", desc := "(LKeptLight$Sight;)I" } : Jvm.MethodName)) ∈ lw_all := lw_g (lw_at lw_m11 189 rfl) rfl
theorem q2680 : (Jvm.Cond.selects "KeptLight$Mail" ({ cls := "KeptLight$Ship", name := "alone", desc := "(LKeptLight$Sight;)I" } : Jvm.MethodName) ({ cls := "KeptLight$Great", name := "alone", desc := "(LKeptLight$Sight;)I" } : Jvm.MethodName)) ∈ lw_all := lw_g (lw_at lw_m11 204 rfl) rfl
theorem q2722 : (Jvm.Cond.selects "KeptLight$Mail" ({ cls := "KeptLight$Ship", name := "passes", desc := "(LKeptLight$Sight;)V" } : Jvm.MethodName) ({ cls := "KeptLight$Ship", name := "passes", desc := "(LKeptLight$Sight;)V" } : Jvm.MethodName)) ∈ lw_all := lw_g (lw_at lw_m12 6 rfl) rfl
theorem q2819 : (Jvm.Cond.selects "KeptLight$Mail" ({ cls := "KeptLight$Ship", name := "isUnder", desc := "(I)Z" } : Jvm.MethodName) ({ cls := "KeptLight$Mail", name := "isUnder", desc := "(I)Z" } : Jvm.MethodName)) ∈ lw_all := lw_g (lw_at lw_m12 103 rfl) rfl
theorem q2820 : (Jvm.Cond.instanceMethod ({ cls := "KeptLight$Mail", name := "isUnder", desc := "(I)Z" } : Jvm.MethodName)) ∈ lw_all := lw_g (lw_at lw_m12 104 rfl) rfl
theorem q2821 : (Jvm.Cond.code ({ cls := "KeptLight$Mail", name := "isUnder", desc := "(I)Z" } : Jvm.MethodName) prog_14_method_3_code (2 : Nat) (Option.some Jvm.ClassFile.FieldType.boolean)) ∈ lw_all := lw_g (lw_at lw_m12 105 rfl) rfl
theorem q2822 : (Jvm.Cond.methodLink "KeptLight$Mail" (13 : Nat) ({ cls := "KeptLight$Liner", name := "isUnder", desc := "(I)Z" } : Jvm.MethodName)) ∈ lw_all := lw_g (lw_at lw_m12 106 rfl) rfl
theorem q3034 : (Jvm.Cond.selects "KeptLight$Mail" ({ cls := "java/lang/Object", name := "equals", desc := "(Ljava/lang/Object;)Z" } : Jvm.MethodName) ({ cls := "java/lang/Object", name := "equals", desc := "(Ljava/lang/Object;)Z" } : Jvm.MethodName)) ∈ lw_all := lw_g (lw_at lw_m13 78 rfl) rfl
theorem q3663 : (Jvm.Cond.selects "KeptLight$Mail" ({ cls := "KeptLight$Ship", name := "lacks", desc := "(LKeptLight$Sight;)I" } : Jvm.MethodName) ({ cls := "KeptLight$Ship", name := "lacks", desc := "(LKeptLight$Sight;)I" } : Jvm.MethodName)) ∈ lw_all := lw_g (lw_at lw_m15 227 rfl) rfl
theorem q3677 : (Jvm.Cond.castable "KeptLight$Mail" "KeptLight$Ship") ∈ lw_tbl := lw_at lw_m16 1 rfl
theorem q3683 : (Jvm.Cond.castable "KeptLight$Mail" "KeptLight$Great") ∈ lw_tbl := lw_at lw_m16 7 rfl
theorem q3684 : (Jvm.Cond.castable "KeptLight$Mail" "KeptLight$Liner") ∈ lw_tbl := lw_at lw_m16 8 rfl
theorem q3732 : (Jvm.Cond.castable "KeptLight$Mail" "java/lang/Object") ∈ lw_tbl := lw_at lw_m16 56 rfl
theorem in_X24 : ∀ w ∈ wsX240, w ∈ lw_all := lw_in wsX240 [2138, 2139, 2140, 2141] (by decide +kernel) (by decide +kernel)
/-! KeptLight$Entry -/
set_option maxRecDepth 100000
def RX25 : String := "KeptLight$Entry"
def TX25 : u_T := fun k => match k with
  | 0 => ("KeptLight$Entry", "hour", "I", true)
  | 1 => ("KeptLight$Entry", "sort", "I", true)
  | 2 => ("KeptLight$Entry", "ship", "I", true)
  | _ => ("KeptLight$Entry", "keeper", "I", true)
def tyX25 : Nat → FieldType := fun k => match k with
  | 0 => .int
  | 1 => .int
  | 2 => .int
  | _ => .int
abbrev wsX250 : List Cond := u_ws RX25 TX25 4
theorem nmX25 : ∀ a, a < 4 → ∀ b, b < 4 → a ≠ b → (TX25 a).2.1 ≠ (TX25 b).2.1 := by decide +kernel
theorem tyX25_ok : ∀ k, k < 4 → parseFieldDescriptor (TX25 k).2.2.1 = some (tyX25 k) := by decide +kernel
abbrev cX25_init : ByteArray := prog_7_method_1_code
def yX25_init : MethodName := ⟨RX25, "<init>", "(IIII)V"⟩
def dkwX25_init_1 : List UInt8 := [181, 0, 21, 177]
abbrev dktX25_init_1 : List UInt8 := dkwX25_init_1 ++ []
def dkwX25_init_0 : List UInt8 := [42, 183, 0, 3, 42, 27, 181, 0, 9, 42, 28, 181, 0, 15, 42, 29, 181, 0, 18, 42, 21, 4]
abbrev dktX25_init_0 : List UInt8 := dkwX25_init_0 ++ dktX25_init_1
theorem dksX25_init_0 : cX25_init.data.toList.drop 0 = dktX25_init_0 := by decide +kernel
theorem dksX25_init_1 : cX25_init.data.toList.drop 22 = dktX25_init_1 := dk_seg dksX25_init_0 22 rfl rfl
theorem dX25_init_0 : decode cX25_init 0 = .ok (.aload_n 0, 1) := dk_42 (dk_at dksX25_init_0 0 rfl rfl)
theorem dX25_init_1 : decode cX25_init 1 = .ok (.invokespecial 3, 3) := dk_183 0 3 (dk_at dksX25_init_0 1 rfl rfl)
theorem dX25_init_4 : decode cX25_init 4 = .ok (.aload_n 0, 1) := dk_42 (dk_at dksX25_init_0 4 rfl rfl)
theorem dX25_init_5 : decode cX25_init 5 = .ok (.iload_n 1, 1) := dk_27 (dk_at dksX25_init_0 5 rfl rfl)
theorem dX25_init_6 : decode cX25_init 6 = .ok (.putfield 9, 3) := dk_181 0 9 (dk_at dksX25_init_0 6 rfl rfl)
theorem dX25_init_9 : decode cX25_init 9 = .ok (.aload_n 0, 1) := dk_42 (dk_at dksX25_init_0 9 rfl rfl)
theorem dX25_init_10 : decode cX25_init 10 = .ok (.iload_n 2, 1) := dk_28 (dk_at dksX25_init_0 10 rfl rfl)
theorem dX25_init_11 : decode cX25_init 11 = .ok (.putfield 15, 3) := dk_181 0 15 (dk_at dksX25_init_0 11 rfl rfl)
theorem dX25_init_14 : decode cX25_init 14 = .ok (.aload_n 0, 1) := dk_42 (dk_at dksX25_init_0 14 rfl rfl)
theorem dX25_init_15 : decode cX25_init 15 = .ok (.iload_n 3, 1) := dk_29 (dk_at dksX25_init_0 15 rfl rfl)
theorem dX25_init_16 : decode cX25_init 16 = .ok (.putfield 18, 3) := dk_181 0 18 (dk_at dksX25_init_0 16 rfl rfl)
theorem dX25_init_19 : decode cX25_init 19 = .ok (.aload_n 0, 1) := dk_42 (dk_at dksX25_init_0 19 rfl rfl)
theorem dX25_init_20 : decode cX25_init 20 = .ok (.iload 4, 2) := dk_21 4 (dk_at dksX25_init_0 20 rfl rfl)
theorem dX25_init_22 : decode cX25_init 22 = .ok (.putfield 21, 3) := dk_181 0 21 (dk_at dksX25_init_1 0 rfl rfl)
theorem dX25_init_25 : decode cX25_init 25 = .ok (.return_, 1) := dk_177 (dk_at dksX25_init_1 3 rfl rfl)
abbrev cX25_isOfLamp : ByteArray := prog_7_method_2_code
def yX25_isOfLamp : MethodName := ⟨RX25, "isOfLamp", "()Z"⟩
def dkwX25_isOfLamp_0 : List UInt8 := [42, 180, 0, 15, 5, 163, 0, 7, 4, 167, 0, 4, 3, 172]
abbrev dktX25_isOfLamp_0 : List UInt8 := dkwX25_isOfLamp_0 ++ []
theorem dksX25_isOfLamp_0 : cX25_isOfLamp.data.toList.drop 0 = dktX25_isOfLamp_0 := by decide +kernel
theorem dX25_isOfLamp_0 : decode cX25_isOfLamp 0 = .ok (.aload_n 0, 1) := dk_42 (dk_at dksX25_isOfLamp_0 0 rfl rfl)
theorem dX25_isOfLamp_1 : decode cX25_isOfLamp 1 = .ok (.getfield 15, 3) := dk_180 0 15 (dk_at dksX25_isOfLamp_0 1 rfl rfl)
theorem dX25_isOfLamp_4 : decode cX25_isOfLamp 4 = .ok (.iconst 2, 1) := dk_5 (dk_at dksX25_isOfLamp_0 4 rfl rfl)
theorem dX25_isOfLamp_5 : decode cX25_isOfLamp 5 = .ok (.if_icmp .gt 7, 3) := dk_163 0 7 (dk_at dksX25_isOfLamp_0 5 rfl rfl)
theorem dX25_isOfLamp_8 : decode cX25_isOfLamp 8 = .ok (.iconst 1, 1) := dk_4 (dk_at dksX25_isOfLamp_0 8 rfl rfl)
theorem dX25_isOfLamp_9 : decode cX25_isOfLamp 9 = .ok (.goto 4, 3) := dk_167 0 4 (dk_at dksX25_isOfLamp_0 9 rfl rfl)
theorem dX25_isOfLamp_12 : decode cX25_isOfLamp 12 = .ok (.iconst 0, 1) := dk_3 (dk_at dksX25_isOfLamp_0 12 rfl rfl)
theorem dX25_isOfLamp_13 : decode cX25_isOfLamp 13 = .ok (.ireturn, 1) := dk_172 (dk_at dksX25_isOfLamp_0 13 rfl rfl)
theorem q154 : (Jvm.Cond.initialized "KeptLight$Entry") ∈ lw_all := lw_g (lw_at lw_m1 78 rfl) rfl
theorem q1250 : (Jvm.Cond.selects "KeptLight$Entry" ({ cls := "java/lang/Object", name := "getClass", desc := "()Ljava/lang/Class;" } : Jvm.MethodName) ({ cls := "java/lang/Object", name := "getClass", desc := "()Ljava/lang/Class;" } : Jvm.MethodName)) ∈ lw_all := lw_g (lw_at lw_m5 214 rfl) rfl
theorem q2691 : (Jvm.Cond.instantiable "KeptLight$Entry" (4 : Nat)) ∈ lw_all := lw_g (lw_at lw_m11 215 rfl) rfl
theorem q2693 : (Jvm.Cond.instanceMethod ({ cls := "KeptLight$Entry", name := "<init>", desc := "(IIII)V" } : Jvm.MethodName)) ∈ lw_all := lw_g (lw_at lw_m11 217 rfl) rfl
theorem q2694 : (Jvm.Cond.code ({ cls := "KeptLight$Entry", name := "<init>", desc := "(IIII)V" } : Jvm.MethodName) prog_7_method_1_code (5 : Nat) (Option.none : Option Jvm.ClassFile.FieldType)) ∈ lw_all := lw_g (lw_at lw_m11 218 rfl) rfl
theorem q2695 : (Jvm.Cond.methodLink "KeptLight$Entry" (3 : Nat) ({ cls := "java/lang/Object", name := "<init>", desc := "()V" } : Jvm.MethodName)) ∈ lw_all := lw_g (lw_at lw_m11 219 rfl) rfl
theorem q2696 : (Jvm.Cond.fieldLink "KeptLight$Entry" (9 : Nat) "KeptLight$Entry" "hour" "I") ∈ lw_all := lw_g (lw_at lw_m11 220 rfl) rfl
theorem q2699 : (Jvm.Cond.fieldLink "KeptLight$Entry" (15 : Nat) "KeptLight$Entry" "sort" "I") ∈ lw_all := lw_g (lw_at lw_m11 223 rfl) rfl
theorem q2702 : (Jvm.Cond.fieldLink "KeptLight$Entry" (18 : Nat) "KeptLight$Entry" "ship" "I") ∈ lw_all := lw_g (lw_at lw_m11 226 rfl) rfl
theorem q2704 : (Jvm.Cond.fieldLink "KeptLight$Entry" (21 : Nat) "KeptLight$Entry" "keeper" "I") ∈ lw_all := lw_g (lw_at lw_m11 228 rfl) rfl
theorem q2707 : (Jvm.Cond.laysFinal "KeptLight$Entry" "KeptLight$Entry" "hour" "I") ∈ lw_all := lw_g (lw_at lw_m11 231 rfl) rfl
theorem q2708 : (Jvm.Cond.soleField "KeptLight$Entry" "hour") ∈ lw_all := lw_g (lw_at lw_m11 232 rfl) rfl
theorem q2709 : (Jvm.Cond.laysFinal "KeptLight$Entry" "KeptLight$Entry" "sort" "I") ∈ lw_all := lw_g (lw_at lw_m11 233 rfl) rfl
theorem q2710 : (Jvm.Cond.soleField "KeptLight$Entry" "sort") ∈ lw_all := lw_g (lw_at lw_m11 234 rfl) rfl
theorem q2711 : (Jvm.Cond.laysFinal "KeptLight$Entry" "KeptLight$Entry" "ship" "I") ∈ lw_all := lw_g (lw_at lw_m11 235 rfl) rfl
theorem q2712 : (Jvm.Cond.soleField "KeptLight$Entry" "ship") ∈ lw_all := lw_g (lw_at lw_m11 236 rfl) rfl
theorem q2713 : (Jvm.Cond.laysFinal "KeptLight$Entry" "KeptLight$Entry" "keeper" "I") ∈ lw_all := lw_g (lw_at lw_m11 237 rfl) rfl
theorem q2714 : (Jvm.Cond.soleField "KeptLight$Entry" "keeper") ∈ lw_all := lw_g (lw_at lw_m11 238 rfl) rfl
theorem q2715 : (Jvm.Cond.superclass "KeptLight$Entry" "java/lang/Object") ∈ lw_all := lw_g (lw_at lw_m11 239 rfl) rfl
theorem q2848 : (Jvm.Cond.instanceMethod ({ cls := "KeptLight$Entry", name := "isOfLamp", desc := "()Z" } : Jvm.MethodName)) ∈ lw_all := lw_g (lw_at lw_m12 132 rfl) rfl
theorem q2849 : (Jvm.Cond.selects "KeptLight$Entry" ({ cls := "KeptLight$Entry", name := "isOfLamp", desc := "()Z" } : Jvm.MethodName) ({ cls := "KeptLight$Entry", name := "isOfLamp", desc := "()Z" } : Jvm.MethodName)) ∈ lw_all := lw_g (lw_at lw_m12 133 rfl) rfl
theorem q2850 : (Jvm.Cond.code ({ cls := "KeptLight$Entry", name := "isOfLamp", desc := "()Z" } : Jvm.MethodName) prog_7_method_2_code (1 : Nat) (Option.some Jvm.ClassFile.FieldType.boolean)) ∈ lw_all := lw_g (lw_at lw_m12 134 rfl) rfl
theorem q3028 : (Jvm.Cond.selects "KeptLight$Entry" ({ cls := "java/lang/Object", name := "equals", desc := "(Ljava/lang/Object;)Z" } : Jvm.MethodName) ({ cls := "java/lang/Object", name := "equals", desc := "(Ljava/lang/Object;)Z" } : Jvm.MethodName)) ∈ lw_all := lw_g (lw_at lw_m13 72 rfl) rfl
theorem q3735 : (Jvm.Cond.castable "KeptLight$Entry" "java/lang/Object") ∈ lw_tbl := lw_at lw_m16 59 rfl
theorem in_X25 : ∀ w ∈ wsX250, w ∈ lw_all := lw_in wsX250 [2707, 2709, 2711, 2713] (by decide +kernel) (by decide +kernel)
/-! KeptLight$Difference -/
set_option maxRecDepth 100000
def RX26 : String := "KeptLight$Difference"
def TX26 : u_T := fun k => match k with
  | 0 => ("KeptLight$Difference", "entry", "LKeptLight$Entry;", true)
  | _ => ("KeptLight$Difference", "ship", "LKeptLight$Ship;", true)
def tyX26 : Nat → FieldType := fun k => match k with
  | 0 => .object "KeptLight$Entry"
  | _ => .object "KeptLight$Ship"
abbrev wsX260 : List Cond := u_ws RX26 TX26 2
theorem nmX26 : ∀ a, a < 2 → ∀ b, b < 2 → a ≠ b → (TX26 a).2.1 ≠ (TX26 b).2.1 := by decide +kernel
theorem tyX26_ok : ∀ k, k < 2 → parseFieldDescriptor (TX26 k).2.2.1 = some (tyX26 k) := by decide +kernel
abbrev cX26_init : ByteArray := prog_6_method_1_code
def yX26_init : MethodName := ⟨RX26, "<init>", "(LKeptLight$Entry;LKeptLight$Ship;)V"⟩
def dkwX26_init_0 : List UInt8 := [42, 183, 0, 1, 42, 43, 181, 0, 7, 42, 44, 181, 0, 13, 177]
abbrev dktX26_init_0 : List UInt8 := dkwX26_init_0 ++ []
theorem dksX26_init_0 : cX26_init.data.toList.drop 0 = dktX26_init_0 := by decide +kernel
theorem dX26_init_0 : decode cX26_init 0 = .ok (.aload_n 0, 1) := dk_42 (dk_at dksX26_init_0 0 rfl rfl)
theorem dX26_init_1 : decode cX26_init 1 = .ok (.invokespecial 1, 3) := dk_183 0 1 (dk_at dksX26_init_0 1 rfl rfl)
theorem dX26_init_4 : decode cX26_init 4 = .ok (.aload_n 0, 1) := dk_42 (dk_at dksX26_init_0 4 rfl rfl)
theorem dX26_init_5 : decode cX26_init 5 = .ok (.aload_n 1, 1) := dk_43 (dk_at dksX26_init_0 5 rfl rfl)
theorem dX26_init_6 : decode cX26_init 6 = .ok (.putfield 7, 3) := dk_181 0 7 (dk_at dksX26_init_0 6 rfl rfl)
theorem dX26_init_9 : decode cX26_init 9 = .ok (.aload_n 0, 1) := dk_42 (dk_at dksX26_init_0 9 rfl rfl)
theorem dX26_init_10 : decode cX26_init 10 = .ok (.aload_n 2, 1) := dk_44 (dk_at dksX26_init_0 10 rfl rfl)
theorem dX26_init_11 : decode cX26_init 11 = .ok (.putfield 13, 3) := dk_181 0 13 (dk_at dksX26_init_0 11 rfl rfl)
theorem dX26_init_14 : decode cX26_init 14 = .ok (.return_, 1) := dk_177 (dk_at dksX26_init_0 14 rfl rfl)
theorem q155 : (Jvm.Cond.initialized "KeptLight$Difference") ∈ lw_all := lw_g (lw_at lw_m1 79 rfl) rfl
theorem q1249 : (Jvm.Cond.selects "KeptLight$Difference" ({ cls := "java/lang/Object", name := "getClass", desc := "()Ljava/lang/Class;" } : Jvm.MethodName) ({ cls := "java/lang/Object", name := "getClass", desc := "()Ljava/lang/Class;" } : Jvm.MethodName)) ∈ lw_all := lw_g (lw_at lw_m5 213 rfl) rfl
theorem q2852 : (Jvm.Cond.instantiable "KeptLight$Difference" (2 : Nat)) ∈ lw_all := lw_g (lw_at lw_m12 136 rfl) rfl
theorem q2854 : (Jvm.Cond.instanceMethod ({ cls := "KeptLight$Difference", name := "<init>", desc := "(LKeptLight$Entry;LKeptLight$Ship;)V" } : Jvm.MethodName)) ∈ lw_all := lw_g (lw_at lw_m12 138 rfl) rfl
theorem q2855 : (Jvm.Cond.code ({ cls := "KeptLight$Difference", name := "<init>", desc := "(LKeptLight$Entry;LKeptLight$Ship;)V" } : Jvm.MethodName) prog_6_method_1_code (3 : Nat) (Option.none : Option Jvm.ClassFile.FieldType)) ∈ lw_all := lw_g (lw_at lw_m12 139 rfl) rfl
theorem q2856 : (Jvm.Cond.methodLink "KeptLight$Difference" (1 : Nat) ({ cls := "java/lang/Object", name := "<init>", desc := "()V" } : Jvm.MethodName)) ∈ lw_all := lw_g (lw_at lw_m12 140 rfl) rfl
theorem q2857 : (Jvm.Cond.fieldLink "KeptLight$Difference" (7 : Nat) "KeptLight$Difference" "entry" "LKeptLight$Entry;") ∈ lw_all := lw_g (lw_at lw_m12 141 rfl) rfl
theorem q2859 : (Jvm.Cond.fieldLink "KeptLight$Difference" (13 : Nat) "KeptLight$Difference" "ship" "LKeptLight$Ship;") ∈ lw_all := lw_g (lw_at lw_m12 143 rfl) rfl
theorem q2861 : (Jvm.Cond.laysFinal "KeptLight$Difference" "KeptLight$Difference" "entry" "LKeptLight$Entry;") ∈ lw_all := lw_g (lw_at lw_m12 145 rfl) rfl
theorem q2862 : (Jvm.Cond.soleField "KeptLight$Difference" "entry") ∈ lw_all := lw_g (lw_at lw_m12 146 rfl) rfl
theorem q2863 : (Jvm.Cond.laysFinal "KeptLight$Difference" "KeptLight$Difference" "ship" "LKeptLight$Ship;") ∈ lw_all := lw_g (lw_at lw_m12 147 rfl) rfl
theorem q2864 : (Jvm.Cond.soleField "KeptLight$Difference" "ship") ∈ lw_all := lw_g (lw_at lw_m12 148 rfl) rfl
theorem q2865 : (Jvm.Cond.superclass "KeptLight$Difference" "java/lang/Object") ∈ lw_all := lw_g (lw_at lw_m12 149 rfl) rfl
theorem q3027 : (Jvm.Cond.selects "KeptLight$Difference" ({ cls := "java/lang/Object", name := "equals", desc := "(Ljava/lang/Object;)Z" } : Jvm.MethodName) ({ cls := "java/lang/Object", name := "equals", desc := "(Ljava/lang/Object;)Z" } : Jvm.MethodName)) ∈ lw_all := lw_g (lw_at lw_m13 71 rfl) rfl
theorem q3736 : (Jvm.Cond.castable "KeptLight$Difference" "java/lang/Object") ∈ lw_tbl := lw_at lw_m16 60 rfl
theorem in_X26 : ∀ w ∈ wsX260, w ∈ lw_all := lw_in wsX260 [2861, 2863] (by decide +kernel) (by decide +kernel)
/-! KeptLight$Weather$1 -/
set_option maxRecDepth 100000
def RX27 : String := "KeptLight$Weather$1"
abbrev cX27_tires : ByteArray := prog_29_method_2_code
def yX27_tires : MethodName := ⟨RX27, "tires", "()I"⟩
theorem dX27_tires_0 : decode cX27_tires 0 = .ok (.iconst 1, 1) := by decide +kernel
theorem dX27_tires_1 : decode cX27_tires 1 = .ok (.ireturn, 1) := by decide +kernel
theorem q1036 : (Jvm.Cond.selects "KeptLight$Weather$1" ({ cls := "KeptLight$Weather", name := "isWild", desc := "()Z" } : Jvm.MethodName) ({ cls := "KeptLight$Weather", name := "isWild", desc := "()Z" } : Jvm.MethodName)) ∈ lw_all := lw_g (lw_at lw_m5 0 rfl) rfl
theorem q1060 : (Jvm.Cond.selects "KeptLight$Weather$1" ({ cls := "KeptLight$Weather", name := "wantsSound", desc := "()Z" } : Jvm.MethodName) ({ cls := "KeptLight$Weather", name := "wantsSound", desc := "()Z" } : Jvm.MethodName)) ∈ lw_all := lw_g (lw_at lw_m5 24 rfl) rfl
theorem q1267 : (Jvm.Cond.selects "KeptLight$Weather$1" ({ cls := "java/lang/Object", name := "getClass", desc := "()Ljava/lang/Class;" } : Jvm.MethodName) ({ cls := "java/lang/Object", name := "getClass", desc := "()Ljava/lang/Class;" } : Jvm.MethodName)) ∈ lw_all := lw_g (lw_at lw_m5 231 rfl) rfl
theorem q2240 : (Jvm.Cond.selects "KeptLight$Weather$1" ({ cls := "java/lang/Enum", name := "compareTo", desc := "(Ljava/lang/Enum;)I" } : Jvm.MethodName) ({ cls := "java/lang/Enum", name := "compareTo", desc := "(Ljava/lang/Enum;)I" } : Jvm.MethodName)) ∈ lw_all := lw_g (lw_at lw_m10 4 rfl) rfl
theorem q2251 : (Jvm.Cond.selects "KeptLight$Weather$1" ({ cls := "java/lang/Enum", name := "getDeclaringClass", desc := "()Ljava/lang/Class;" } : Jvm.MethodName) ({ cls := "java/lang/Enum", name := "getDeclaringClass", desc := "()Ljava/lang/Class;" } : Jvm.MethodName)) ∈ lw_all := lw_g (lw_at lw_m10 15 rfl) rfl
theorem q2266 : (Jvm.Cond.castable "KeptLight$Weather$1" "java/lang/Comparable") ∈ lw_tbl := lw_at lw_m10 30 rfl
theorem q2267 : (Jvm.Cond.selects "KeptLight$Weather$1" ({ cls := "java/lang/Comparable", name := "compareTo", desc := "(Ljava/lang/Object;)I" } : Jvm.MethodName) ({ cls := "java/lang/Enum", name := "compareTo", desc := "(Ljava/lang/Object;)I" } : Jvm.MethodName)) ∈ lw_all := lw_g (lw_at lw_m10 31 rfl) rfl
theorem q2268 : (Jvm.Cond.unhidden "KeptLight$Weather$1" "compareTo" "(Ljava/lang/Object;)I") ∈ lw_tbl := lw_at lw_m10 32 rfl
theorem q2746 : (Jvm.Cond.selects "KeptLight$Weather$1" ({ cls := "KeptLight$Weather", name := "tires", desc := "()I" } : Jvm.MethodName) ({ cls := "KeptLight$Weather$1", name := "tires", desc := "()I" } : Jvm.MethodName)) ∈ lw_all := lw_g (lw_at lw_m12 30 rfl) rfl
theorem q2747 : (Jvm.Cond.instanceMethod ({ cls := "KeptLight$Weather$1", name := "tires", desc := "()I" } : Jvm.MethodName)) ∈ lw_all := lw_g (lw_at lw_m12 31 rfl) rfl
theorem q2748 : (Jvm.Cond.code ({ cls := "KeptLight$Weather$1", name := "tires", desc := "()I" } : Jvm.MethodName) prog_29_method_2_code (1 : Nat) (Option.some Jvm.ClassFile.FieldType.int)) ∈ lw_all := lw_g (lw_at lw_m12 32 rfl) rfl
theorem q3047 : (Jvm.Cond.selects "KeptLight$Weather$1" ({ cls := "java/lang/Object", name := "equals", desc := "(Ljava/lang/Object;)Z" } : Jvm.MethodName) ({ cls := "java/lang/Enum", name := "equals", desc := "(Ljava/lang/Object;)Z" } : Jvm.MethodName)) ∈ lw_all := lw_g (lw_at lw_m13 91 rfl) rfl
theorem q3671 : (Jvm.Cond.castable "KeptLight$Weather$1" "java/lang/Enum") ∈ lw_tbl := lw_at lw_m15 235 rfl
theorem q3685 : (Jvm.Cond.castable "KeptLight$Weather$1" "KeptLight$Weather") ∈ lw_tbl := lw_at lw_m16 9 rfl
theorem q3697 : (Jvm.Cond.castable "KeptLight$Weather$1" "java/lang/Object") ∈ lw_tbl := lw_at lw_m16 21 rfl
/-! KeptLight$Weather$2 -/
set_option maxRecDepth 100000
def RX28 : String := "KeptLight$Weather$2"
abbrev cX28_wantsSound : ByteArray := prog_30_method_3_code
def yX28_wantsSound : MethodName := ⟨RX28, "wantsSound", "()Z"⟩
theorem dX28_wantsSound_0 : decode cX28_wantsSound 0 = .ok (.iconst 1, 1) := by decide +kernel
theorem dX28_wantsSound_1 : decode cX28_wantsSound 1 = .ok (.ireturn, 1) := by decide +kernel
abbrev cX28_tires : ByteArray := prog_30_method_2_code
def yX28_tires : MethodName := ⟨RX28, "tires", "()I"⟩
theorem dX28_tires_0 : decode cX28_tires 0 = .ok (.iconst 1, 1) := by decide +kernel
theorem dX28_tires_1 : decode cX28_tires 1 = .ok (.ireturn, 1) := by decide +kernel
theorem q1037 : (Jvm.Cond.selects "KeptLight$Weather$2" ({ cls := "KeptLight$Weather", name := "isWild", desc := "()Z" } : Jvm.MethodName) ({ cls := "KeptLight$Weather", name := "isWild", desc := "()Z" } : Jvm.MethodName)) ∈ lw_all := lw_g (lw_at lw_m5 1 rfl) rfl
theorem q1061 : (Jvm.Cond.selects "KeptLight$Weather$2" ({ cls := "KeptLight$Weather", name := "wantsSound", desc := "()Z" } : Jvm.MethodName) ({ cls := "KeptLight$Weather$2", name := "wantsSound", desc := "()Z" } : Jvm.MethodName)) ∈ lw_all := lw_g (lw_at lw_m5 25 rfl) rfl
theorem q1062 : (Jvm.Cond.instanceMethod ({ cls := "KeptLight$Weather$2", name := "wantsSound", desc := "()Z" } : Jvm.MethodName)) ∈ lw_all := lw_g (lw_at lw_m5 26 rfl) rfl
theorem q1063 : (Jvm.Cond.code ({ cls := "KeptLight$Weather$2", name := "wantsSound", desc := "()Z" } : Jvm.MethodName) prog_30_method_3_code (1 : Nat) (Option.some Jvm.ClassFile.FieldType.boolean)) ∈ lw_all := lw_g (lw_at lw_m5 27 rfl) rfl
theorem q1268 : (Jvm.Cond.selects "KeptLight$Weather$2" ({ cls := "java/lang/Object", name := "getClass", desc := "()Ljava/lang/Class;" } : Jvm.MethodName) ({ cls := "java/lang/Object", name := "getClass", desc := "()Ljava/lang/Class;" } : Jvm.MethodName)) ∈ lw_all := lw_g (lw_at lw_m5 232 rfl) rfl
theorem q2241 : (Jvm.Cond.selects "KeptLight$Weather$2" ({ cls := "java/lang/Enum", name := "compareTo", desc := "(Ljava/lang/Enum;)I" } : Jvm.MethodName) ({ cls := "java/lang/Enum", name := "compareTo", desc := "(Ljava/lang/Enum;)I" } : Jvm.MethodName)) ∈ lw_all := lw_g (lw_at lw_m10 5 rfl) rfl
theorem q2252 : (Jvm.Cond.selects "KeptLight$Weather$2" ({ cls := "java/lang/Enum", name := "getDeclaringClass", desc := "()Ljava/lang/Class;" } : Jvm.MethodName) ({ cls := "java/lang/Enum", name := "getDeclaringClass", desc := "()Ljava/lang/Class;" } : Jvm.MethodName)) ∈ lw_all := lw_g (lw_at lw_m10 16 rfl) rfl
theorem q2269 : (Jvm.Cond.castable "KeptLight$Weather$2" "java/lang/Comparable") ∈ lw_tbl := lw_at lw_m10 33 rfl
theorem q2270 : (Jvm.Cond.selects "KeptLight$Weather$2" ({ cls := "java/lang/Comparable", name := "compareTo", desc := "(Ljava/lang/Object;)I" } : Jvm.MethodName) ({ cls := "java/lang/Enum", name := "compareTo", desc := "(Ljava/lang/Object;)I" } : Jvm.MethodName)) ∈ lw_all := lw_g (lw_at lw_m10 34 rfl) rfl
theorem q2271 : (Jvm.Cond.unhidden "KeptLight$Weather$2" "compareTo" "(Ljava/lang/Object;)I") ∈ lw_tbl := lw_at lw_m10 35 rfl
theorem q2749 : (Jvm.Cond.selects "KeptLight$Weather$2" ({ cls := "KeptLight$Weather", name := "tires", desc := "()I" } : Jvm.MethodName) ({ cls := "KeptLight$Weather$2", name := "tires", desc := "()I" } : Jvm.MethodName)) ∈ lw_all := lw_g (lw_at lw_m12 33 rfl) rfl
theorem q2750 : (Jvm.Cond.instanceMethod ({ cls := "KeptLight$Weather$2", name := "tires", desc := "()I" } : Jvm.MethodName)) ∈ lw_all := lw_g (lw_at lw_m12 34 rfl) rfl
theorem q2751 : (Jvm.Cond.code ({ cls := "KeptLight$Weather$2", name := "tires", desc := "()I" } : Jvm.MethodName) prog_30_method_2_code (1 : Nat) (Option.some Jvm.ClassFile.FieldType.int)) ∈ lw_all := lw_g (lw_at lw_m12 35 rfl) rfl
theorem q3048 : (Jvm.Cond.selects "KeptLight$Weather$2" ({ cls := "java/lang/Object", name := "equals", desc := "(Ljava/lang/Object;)Z" } : Jvm.MethodName) ({ cls := "java/lang/Enum", name := "equals", desc := "(Ljava/lang/Object;)Z" } : Jvm.MethodName)) ∈ lw_all := lw_g (lw_at lw_m13 92 rfl) rfl
theorem q3672 : (Jvm.Cond.castable "KeptLight$Weather$2" "java/lang/Enum") ∈ lw_tbl := lw_at lw_m15 236 rfl
theorem q3686 : (Jvm.Cond.castable "KeptLight$Weather$2" "KeptLight$Weather") ∈ lw_tbl := lw_at lw_m16 10 rfl
theorem q3698 : (Jvm.Cond.castable "KeptLight$Weather$2" "java/lang/Object") ∈ lw_tbl := lw_at lw_m16 22 rfl
/-! KeptLight$Weather$3 -/
set_option maxRecDepth 100000
def RX29 : String := "KeptLight$Weather$3"
abbrev cX29_isWild : ByteArray := prog_31_method_3_code
def yX29_isWild : MethodName := ⟨RX29, "isWild", "()Z"⟩
theorem dX29_isWild_0 : decode cX29_isWild 0 = .ok (.iconst 1, 1) := by decide +kernel
theorem dX29_isWild_1 : decode cX29_isWild 1 = .ok (.ireturn, 1) := by decide +kernel
abbrev cX29_tires : ByteArray := prog_31_method_2_code
def yX29_tires : MethodName := ⟨RX29, "tires", "()I"⟩
theorem dX29_tires_0 : decode cX29_tires 0 = .ok (.iconst 2, 1) := by decide +kernel
theorem dX29_tires_1 : decode cX29_tires 1 = .ok (.ireturn, 1) := by decide +kernel
theorem q1038 : (Jvm.Cond.selects "KeptLight$Weather$3" ({ cls := "KeptLight$Weather", name := "isWild", desc := "()Z" } : Jvm.MethodName) ({ cls := "KeptLight$Weather$3", name := "isWild", desc := "()Z" } : Jvm.MethodName)) ∈ lw_all := lw_g (lw_at lw_m5 2 rfl) rfl
theorem q1039 : (Jvm.Cond.instanceMethod ({ cls := "KeptLight$Weather$3", name := "isWild", desc := "()Z" } : Jvm.MethodName)) ∈ lw_all := lw_g (lw_at lw_m5 3 rfl) rfl
theorem q1040 : (Jvm.Cond.code ({ cls := "KeptLight$Weather$3", name := "isWild", desc := "()Z" } : Jvm.MethodName) prog_31_method_3_code (1 : Nat) (Option.some Jvm.ClassFile.FieldType.boolean)) ∈ lw_all := lw_g (lw_at lw_m5 4 rfl) rfl
theorem q1064 : (Jvm.Cond.selects "KeptLight$Weather$3" ({ cls := "KeptLight$Weather", name := "wantsSound", desc := "()Z" } : Jvm.MethodName) ({ cls := "KeptLight$Weather", name := "wantsSound", desc := "()Z" } : Jvm.MethodName)) ∈ lw_all := lw_g (lw_at lw_m5 28 rfl) rfl
theorem q1269 : (Jvm.Cond.selects "KeptLight$Weather$3" ({ cls := "java/lang/Object", name := "getClass", desc := "()Ljava/lang/Class;" } : Jvm.MethodName) ({ cls := "java/lang/Object", name := "getClass", desc := "()Ljava/lang/Class;" } : Jvm.MethodName)) ∈ lw_all := lw_g (lw_at lw_m5 233 rfl) rfl
theorem q2242 : (Jvm.Cond.selects "KeptLight$Weather$3" ({ cls := "java/lang/Enum", name := "compareTo", desc := "(Ljava/lang/Enum;)I" } : Jvm.MethodName) ({ cls := "java/lang/Enum", name := "compareTo", desc := "(Ljava/lang/Enum;)I" } : Jvm.MethodName)) ∈ lw_all := lw_g (lw_at lw_m10 6 rfl) rfl
theorem q2253 : (Jvm.Cond.selects "KeptLight$Weather$3" ({ cls := "java/lang/Enum", name := "getDeclaringClass", desc := "()Ljava/lang/Class;" } : Jvm.MethodName) ({ cls := "java/lang/Enum", name := "getDeclaringClass", desc := "()Ljava/lang/Class;" } : Jvm.MethodName)) ∈ lw_all := lw_g (lw_at lw_m10 17 rfl) rfl
theorem q2272 : (Jvm.Cond.castable "KeptLight$Weather$3" "java/lang/Comparable") ∈ lw_tbl := lw_at lw_m10 36 rfl
theorem q2273 : (Jvm.Cond.selects "KeptLight$Weather$3" ({ cls := "java/lang/Comparable", name := "compareTo", desc := "(Ljava/lang/Object;)I" } : Jvm.MethodName) ({ cls := "java/lang/Enum", name := "compareTo", desc := "(Ljava/lang/Object;)I" } : Jvm.MethodName)) ∈ lw_all := lw_g (lw_at lw_m10 37 rfl) rfl
theorem q2274 : (Jvm.Cond.unhidden "KeptLight$Weather$3" "compareTo" "(Ljava/lang/Object;)I") ∈ lw_tbl := lw_at lw_m10 38 rfl
theorem q2752 : (Jvm.Cond.selects "KeptLight$Weather$3" ({ cls := "KeptLight$Weather", name := "tires", desc := "()I" } : Jvm.MethodName) ({ cls := "KeptLight$Weather$3", name := "tires", desc := "()I" } : Jvm.MethodName)) ∈ lw_all := lw_g (lw_at lw_m12 36 rfl) rfl
theorem q2753 : (Jvm.Cond.instanceMethod ({ cls := "KeptLight$Weather$3", name := "tires", desc := "()I" } : Jvm.MethodName)) ∈ lw_all := lw_g (lw_at lw_m12 37 rfl) rfl
theorem q2754 : (Jvm.Cond.code ({ cls := "KeptLight$Weather$3", name := "tires", desc := "()I" } : Jvm.MethodName) prog_31_method_2_code (1 : Nat) (Option.some Jvm.ClassFile.FieldType.int)) ∈ lw_all := lw_g (lw_at lw_m12 38 rfl) rfl
theorem q3049 : (Jvm.Cond.selects "KeptLight$Weather$3" ({ cls := "java/lang/Object", name := "equals", desc := "(Ljava/lang/Object;)Z" } : Jvm.MethodName) ({ cls := "java/lang/Enum", name := "equals", desc := "(Ljava/lang/Object;)Z" } : Jvm.MethodName)) ∈ lw_all := lw_g (lw_at lw_m13 93 rfl) rfl
theorem q3673 : (Jvm.Cond.castable "KeptLight$Weather$3" "java/lang/Enum") ∈ lw_tbl := lw_at lw_m15 237 rfl
theorem q3687 : (Jvm.Cond.castable "KeptLight$Weather$3" "KeptLight$Weather") ∈ lw_tbl := lw_at lw_m16 11 rfl
theorem q3699 : (Jvm.Cond.castable "KeptLight$Weather$3" "java/lang/Object") ∈ lw_tbl := lw_at lw_m16 23 rfl
/-! KeptLight$Rank$1 -/
set_option maxRecDepth 100000
def RX30 : String := "KeptLight$Rank$1"
abbrev cX30_lasts : ByteArray := prog_17_method_2_code
def yX30_lasts : MethodName := ⟨RX30, "lasts", "()I"⟩
theorem dX30_lasts_0 : decode cX30_lasts 0 = .ok (.bipush 12, 2) := by decide +kernel
theorem dX30_lasts_2 : decode cX30_lasts 2 = .ok (.ireturn, 1) := by decide +kernel
theorem q1258 : (Jvm.Cond.selects "KeptLight$Rank$1" ({ cls := "java/lang/Object", name := "getClass", desc := "()Ljava/lang/Class;" } : Jvm.MethodName) ({ cls := "java/lang/Object", name := "getClass", desc := "()Ljava/lang/Class;" } : Jvm.MethodName)) ∈ lw_all := lw_g (lw_at lw_m5 222 rfl) rfl
theorem q2227 : (Jvm.Cond.castable "KeptLight$Rank$1" "java/lang/Comparable") ∈ lw_tbl := lw_at lw_m9 231 rfl
theorem q2228 : (Jvm.Cond.selects "KeptLight$Rank$1" ({ cls := "java/lang/Comparable", name := "compareTo", desc := "(Ljava/lang/Object;)I" } : Jvm.MethodName) ({ cls := "java/lang/Enum", name := "compareTo", desc := "(Ljava/lang/Object;)I" } : Jvm.MethodName)) ∈ lw_all := lw_g (lw_at lw_m9 232 rfl) rfl
theorem q2229 : (Jvm.Cond.unhidden "KeptLight$Rank$1" "compareTo" "(Ljava/lang/Object;)I") ∈ lw_tbl := lw_at lw_m9 233 rfl
theorem q2237 : (Jvm.Cond.selects "KeptLight$Rank$1" ({ cls := "java/lang/Enum", name := "compareTo", desc := "(Ljava/lang/Enum;)I" } : Jvm.MethodName) ({ cls := "java/lang/Enum", name := "compareTo", desc := "(Ljava/lang/Enum;)I" } : Jvm.MethodName)) ∈ lw_all := lw_g (lw_at lw_m10 1 rfl) rfl
theorem q2248 : (Jvm.Cond.selects "KeptLight$Rank$1" ({ cls := "java/lang/Enum", name := "getDeclaringClass", desc := "()Ljava/lang/Class;" } : Jvm.MethodName) ({ cls := "java/lang/Enum", name := "getDeclaringClass", desc := "()Ljava/lang/Class;" } : Jvm.MethodName)) ∈ lw_all := lw_g (lw_at lw_m10 12 rfl) rfl
theorem q2592 : (Jvm.Cond.selects "KeptLight$Rank$1" ({ cls := "KeptLight$Rank", name := "lasts", desc := "()I" } : Jvm.MethodName) ({ cls := "KeptLight$Rank$1", name := "lasts", desc := "()I" } : Jvm.MethodName)) ∈ lw_all := lw_g (lw_at lw_m11 116 rfl) rfl
theorem q2593 : (Jvm.Cond.instanceMethod ({ cls := "KeptLight$Rank$1", name := "lasts", desc := "()I" } : Jvm.MethodName)) ∈ lw_all := lw_g (lw_at lw_m11 117 rfl) rfl
theorem q2594 : (Jvm.Cond.code ({ cls := "KeptLight$Rank$1", name := "lasts", desc := "()I" } : Jvm.MethodName) prog_17_method_2_code (1 : Nat) (Option.some Jvm.ClassFile.FieldType.int)) ∈ lw_all := lw_g (lw_at lw_m11 118 rfl) rfl
theorem q2733 : (Jvm.Cond.selects "KeptLight$Rank$1" ({ cls := "KeptLight$Rank", name := "fillsIn", desc := "()Z" } : Jvm.MethodName) ({ cls := "KeptLight$Rank", name := "fillsIn", desc := "()Z" } : Jvm.MethodName)) ∈ lw_all := lw_g (lw_at lw_m12 17 rfl) rfl
theorem q3036 : (Jvm.Cond.selects "KeptLight$Rank$1" ({ cls := "java/lang/Object", name := "equals", desc := "(Ljava/lang/Object;)Z" } : Jvm.MethodName) ({ cls := "java/lang/Enum", name := "equals", desc := "(Ljava/lang/Object;)Z" } : Jvm.MethodName)) ∈ lw_all := lw_g (lw_at lw_m13 80 rfl) rfl
theorem q3668 : (Jvm.Cond.castable "KeptLight$Rank$1" "java/lang/Enum") ∈ lw_tbl := lw_at lw_m15 232 rfl
theorem q3725 : (Jvm.Cond.castable "KeptLight$Rank$1" "java/lang/Object") ∈ lw_tbl := lw_at lw_m16 49 rfl
/-! KeptLight$Rank$2 -/
set_option maxRecDepth 100000
def RX31 : String := "KeptLight$Rank$2"
abbrev cX31_lasts : ByteArray := prog_18_method_2_code
def yX31_lasts : MethodName := ⟨RX31, "lasts", "()I"⟩
theorem dX31_lasts_0 : decode cX31_lasts 0 = .ok (.bipush 9, 2) := by decide +kernel
theorem dX31_lasts_2 : decode cX31_lasts 2 = .ok (.ireturn, 1) := by decide +kernel
theorem q1259 : (Jvm.Cond.selects "KeptLight$Rank$2" ({ cls := "java/lang/Object", name := "getClass", desc := "()Ljava/lang/Class;" } : Jvm.MethodName) ({ cls := "java/lang/Object", name := "getClass", desc := "()Ljava/lang/Class;" } : Jvm.MethodName)) ∈ lw_all := lw_g (lw_at lw_m5 223 rfl) rfl
theorem q2238 : (Jvm.Cond.selects "KeptLight$Rank$2" ({ cls := "java/lang/Enum", name := "compareTo", desc := "(Ljava/lang/Enum;)I" } : Jvm.MethodName) ({ cls := "java/lang/Enum", name := "compareTo", desc := "(Ljava/lang/Enum;)I" } : Jvm.MethodName)) ∈ lw_all := lw_g (lw_at lw_m10 2 rfl) rfl
theorem q2249 : (Jvm.Cond.selects "KeptLight$Rank$2" ({ cls := "java/lang/Enum", name := "getDeclaringClass", desc := "()Ljava/lang/Class;" } : Jvm.MethodName) ({ cls := "java/lang/Enum", name := "getDeclaringClass", desc := "()Ljava/lang/Class;" } : Jvm.MethodName)) ∈ lw_all := lw_g (lw_at lw_m10 13 rfl) rfl
theorem q2260 : (Jvm.Cond.castable "KeptLight$Rank$2" "java/lang/Comparable") ∈ lw_tbl := lw_at lw_m10 24 rfl
theorem q2261 : (Jvm.Cond.selects "KeptLight$Rank$2" ({ cls := "java/lang/Comparable", name := "compareTo", desc := "(Ljava/lang/Object;)I" } : Jvm.MethodName) ({ cls := "java/lang/Enum", name := "compareTo", desc := "(Ljava/lang/Object;)I" } : Jvm.MethodName)) ∈ lw_all := lw_g (lw_at lw_m10 25 rfl) rfl
theorem q2262 : (Jvm.Cond.unhidden "KeptLight$Rank$2" "compareTo" "(Ljava/lang/Object;)I") ∈ lw_tbl := lw_at lw_m10 26 rfl
theorem q2595 : (Jvm.Cond.selects "KeptLight$Rank$2" ({ cls := "KeptLight$Rank", name := "lasts", desc := "()I" } : Jvm.MethodName) ({ cls := "KeptLight$Rank$2", name := "lasts", desc := "()I" } : Jvm.MethodName)) ∈ lw_all := lw_g (lw_at lw_m11 119 rfl) rfl
theorem q2596 : (Jvm.Cond.instanceMethod ({ cls := "KeptLight$Rank$2", name := "lasts", desc := "()I" } : Jvm.MethodName)) ∈ lw_all := lw_g (lw_at lw_m11 120 rfl) rfl
theorem q2597 : (Jvm.Cond.code ({ cls := "KeptLight$Rank$2", name := "lasts", desc := "()I" } : Jvm.MethodName) prog_18_method_2_code (1 : Nat) (Option.some Jvm.ClassFile.FieldType.int)) ∈ lw_all := lw_g (lw_at lw_m11 121 rfl) rfl
theorem q2734 : (Jvm.Cond.selects "KeptLight$Rank$2" ({ cls := "KeptLight$Rank", name := "fillsIn", desc := "()Z" } : Jvm.MethodName) ({ cls := "KeptLight$Rank", name := "fillsIn", desc := "()Z" } : Jvm.MethodName)) ∈ lw_all := lw_g (lw_at lw_m12 18 rfl) rfl
theorem q3039 : (Jvm.Cond.selects "KeptLight$Rank$2" ({ cls := "java/lang/Object", name := "equals", desc := "(Ljava/lang/Object;)Z" } : Jvm.MethodName) ({ cls := "java/lang/Enum", name := "equals", desc := "(Ljava/lang/Object;)Z" } : Jvm.MethodName)) ∈ lw_all := lw_g (lw_at lw_m13 83 rfl) rfl
theorem q3669 : (Jvm.Cond.castable "KeptLight$Rank$2" "java/lang/Enum") ∈ lw_tbl := lw_at lw_m15 233 rfl
theorem q3726 : (Jvm.Cond.castable "KeptLight$Rank$2" "java/lang/Object") ∈ lw_tbl := lw_at lw_m16 50 rfl
/-! KeptLight$Rank$3 -/
set_option maxRecDepth 100000
def RX32 : String := "KeptLight$Rank$3"
abbrev cX32_lasts : ByteArray := prog_19_method_2_code
def yX32_lasts : MethodName := ⟨RX32, "lasts", "()I"⟩
theorem dX32_lasts_0 : decode cX32_lasts 0 = .ok (.bipush 6, 2) := by decide +kernel
theorem dX32_lasts_2 : decode cX32_lasts 2 = .ok (.ireturn, 1) := by decide +kernel
abbrev cX32_fillsIn : ByteArray := prog_19_method_3_code
def yX32_fillsIn : MethodName := ⟨RX32, "fillsIn", "()Z"⟩
theorem dX32_fillsIn_0 : decode cX32_fillsIn 0 = .ok (.iconst 1, 1) := by decide +kernel
theorem dX32_fillsIn_1 : decode cX32_fillsIn 1 = .ok (.ireturn, 1) := by decide +kernel
theorem q1260 : (Jvm.Cond.selects "KeptLight$Rank$3" ({ cls := "java/lang/Object", name := "getClass", desc := "()Ljava/lang/Class;" } : Jvm.MethodName) ({ cls := "java/lang/Object", name := "getClass", desc := "()Ljava/lang/Class;" } : Jvm.MethodName)) ∈ lw_all := lw_g (lw_at lw_m5 224 rfl) rfl
theorem q2239 : (Jvm.Cond.selects "KeptLight$Rank$3" ({ cls := "java/lang/Enum", name := "compareTo", desc := "(Ljava/lang/Enum;)I" } : Jvm.MethodName) ({ cls := "java/lang/Enum", name := "compareTo", desc := "(Ljava/lang/Enum;)I" } : Jvm.MethodName)) ∈ lw_all := lw_g (lw_at lw_m10 3 rfl) rfl
theorem q2250 : (Jvm.Cond.selects "KeptLight$Rank$3" ({ cls := "java/lang/Enum", name := "getDeclaringClass", desc := "()Ljava/lang/Class;" } : Jvm.MethodName) ({ cls := "java/lang/Enum", name := "getDeclaringClass", desc := "()Ljava/lang/Class;" } : Jvm.MethodName)) ∈ lw_all := lw_g (lw_at lw_m10 14 rfl) rfl
theorem q2263 : (Jvm.Cond.castable "KeptLight$Rank$3" "java/lang/Comparable") ∈ lw_tbl := lw_at lw_m10 27 rfl
theorem q2264 : (Jvm.Cond.selects "KeptLight$Rank$3" ({ cls := "java/lang/Comparable", name := "compareTo", desc := "(Ljava/lang/Object;)I" } : Jvm.MethodName) ({ cls := "java/lang/Enum", name := "compareTo", desc := "(Ljava/lang/Object;)I" } : Jvm.MethodName)) ∈ lw_all := lw_g (lw_at lw_m10 28 rfl) rfl
theorem q2265 : (Jvm.Cond.unhidden "KeptLight$Rank$3" "compareTo" "(Ljava/lang/Object;)I") ∈ lw_tbl := lw_at lw_m10 29 rfl
theorem q2598 : (Jvm.Cond.selects "KeptLight$Rank$3" ({ cls := "KeptLight$Rank", name := "lasts", desc := "()I" } : Jvm.MethodName) ({ cls := "KeptLight$Rank$3", name := "lasts", desc := "()I" } : Jvm.MethodName)) ∈ lw_all := lw_g (lw_at lw_m11 122 rfl) rfl
theorem q2599 : (Jvm.Cond.instanceMethod ({ cls := "KeptLight$Rank$3", name := "lasts", desc := "()I" } : Jvm.MethodName)) ∈ lw_all := lw_g (lw_at lw_m11 123 rfl) rfl
theorem q2600 : (Jvm.Cond.code ({ cls := "KeptLight$Rank$3", name := "lasts", desc := "()I" } : Jvm.MethodName) prog_19_method_2_code (1 : Nat) (Option.some Jvm.ClassFile.FieldType.int)) ∈ lw_all := lw_g (lw_at lw_m11 124 rfl) rfl
theorem q2735 : (Jvm.Cond.selects "KeptLight$Rank$3" ({ cls := "KeptLight$Rank", name := "fillsIn", desc := "()Z" } : Jvm.MethodName) ({ cls := "KeptLight$Rank$3", name := "fillsIn", desc := "()Z" } : Jvm.MethodName)) ∈ lw_all := lw_g (lw_at lw_m12 19 rfl) rfl
theorem q2736 : (Jvm.Cond.instanceMethod ({ cls := "KeptLight$Rank$3", name := "fillsIn", desc := "()Z" } : Jvm.MethodName)) ∈ lw_all := lw_g (lw_at lw_m12 20 rfl) rfl
theorem q2737 : (Jvm.Cond.code ({ cls := "KeptLight$Rank$3", name := "fillsIn", desc := "()Z" } : Jvm.MethodName) prog_19_method_3_code (1 : Nat) (Option.some Jvm.ClassFile.FieldType.boolean)) ∈ lw_all := lw_g (lw_at lw_m12 21 rfl) rfl
theorem q3040 : (Jvm.Cond.selects "KeptLight$Rank$3" ({ cls := "java/lang/Object", name := "equals", desc := "(Ljava/lang/Object;)Z" } : Jvm.MethodName) ({ cls := "java/lang/Enum", name := "equals", desc := "(Ljava/lang/Object;)Z" } : Jvm.MethodName)) ∈ lw_all := lw_g (lw_at lw_m13 84 rfl) rfl
theorem q3670 : (Jvm.Cond.castable "KeptLight$Rank$3" "java/lang/Enum") ∈ lw_tbl := lw_at lw_m15 234 rfl
theorem q3727 : (Jvm.Cond.castable "KeptLight$Rank$3" "java/lang/Object") ∈ lw_tbl := lw_at lw_m16 51 rfl
