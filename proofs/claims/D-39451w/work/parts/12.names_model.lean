/-! SlidingtrayModel -/
set_option maxRecDepth 100000
def RX6 : String := "SlidingtrayModel"
def TX6 : u_T := fun k => match k with
  | 0 => ("SlidingtrayModel", "cellOf", "[I", true)
  | 1 => ("SlidingtrayModel", "openOf", "[I", true)
  | 2 => ("SlidingtrayModel", "near", "[I", true)
  | 3 => ("SlidingtrayModel", "steps", "[I", true)
  | 4 => ("SlidingtrayModel", "isWall", "[Z", true)
  | 5 => ("SlidingtrayModel", "rows", "I", false)
  | 6 => ("SlidingtrayModel", "columns", "I", false)
  | 7 => ("SlidingtrayModel", "open", "I", false)
  | 8 => ("SlidingtrayModel", "thrown", "I", false)
  | 9 => ("SlidingtrayModel", "lies", "[I", true)
  | 10 => ("SlidingtrayModel", "goalOf", "[I", true)
  | 11 => ("SlidingtrayModel", "weight", "[I", true)
  | 12 => ("SlidingtrayModel", "isFree", "[Z", true)
  | 13 => ("SlidingtrayModel", "limit", "I", false)
  | 14 => ("SlidingtrayModel", "back", "[I", true)
  | 15 => ("SlidingtrayModel", "macroMany", "[I", true)
  | 16 => ("SlidingtrayModel", "macro", "[I", true)
  | 17 => ("SlidingtrayModel", "backs", "I", false)
  | 18 => ("SlidingtrayModel", "imageLies", "[I", true)
  | 19 => ("SlidingtrayModel", "imageGoal", "[I", true)
  | 20 => ("SlidingtrayModel", "imageWeight", "[I", true)
  | 21 => ("SlidingtrayModel", "imageFree", "[Z", true)
  | 22 => ("SlidingtrayModel", "isKept", "[Z", true)
  | 23 => ("SlidingtrayModel", "wasWall", "[Z", true)
  | 24 => ("SlidingtrayModel", "isMet", "[Z", true)
  | 25 => ("SlidingtrayModel", "isUsed", "[Z", true)
  | 26 => ("SlidingtrayModel", "lineWeight", "[I", true)
  | 27 => ("SlidingtrayModel", "lineGoal", "[I", true)
  | 28 => ("SlidingtrayModel", "partTile", "[I", true)
  | 29 => ("SlidingtrayModel", "partMany", "[I", true)
  | 30 => ("SlidingtrayModel", "table", "[I", true)
  | 31 => ("SlidingtrayModel", "partAt", "[I", true)
  | 32 => ("SlidingtrayModel", "parts", "I", false)
  | 33 => ("SlidingtrayModel", "goal", "[I", true)
  | 34 => ("SlidingtrayModel", "stateTile", "[I", true)
  | 35 => ("SlidingtrayModel", "stateCost", "[I", true)
  | 36 => ("SlidingtrayModel", "stateEstimate", "[I", true)
  | 37 => ("SlidingtrayModel", "stateFrom", "[I", true)
  | 38 => ("SlidingtrayModel", "stateMove", "[I", true)
  | 39 => ("SlidingtrayModel", "bucket", "[I", true)
  | 40 => ("SlidingtrayModel", "stateRank", "[J", true)
  | 41 => ("SlidingtrayModel", "isTaken", "[Z", true)
  | 42 => ("SlidingtrayModel", "states", "I", false)
  | 43 => ("SlidingtrayModel", "row", "[I", true)
  | 44 => ("SlidingtrayModel", "way", "[I", true)
  | 45 => ("SlidingtrayModel", "aside", "[I", true)
  | 46 => ("SlidingtrayModel", "wayMany", "I", false)
  | 47 => ("SlidingtrayModel", "taken", "I", false)
  | 48 => ("SlidingtrayModel", "rounds", "I", false)
  | 49 => ("SlidingtrayModel", "toldWay", "I", false)
  | 50 => ("SlidingtrayModel", "asideMany", "I", false)
  | 51 => ("SlidingtrayModel", "asideTaken", "I", false)
  | 52 => ("SlidingtrayModel", "asideRounds", "I", false)
  | 53 => ("SlidingtrayModel", "bound", "I", false)
  | 54 => ("SlidingtrayModel", "beyond", "I", false)
  | 55 => ("SlidingtrayModel", "byEstimate", "I", false)
  | 56 => ("SlidingtrayModel", "isRefused", "Z", false)
  | 57 => ("SlidingtrayModel", "nextAt", "[I", true)
  | 58 => ("SlidingtrayModel", "costAt", "[I", true)
  | 59 => ("SlidingtrayModel", "fromAt", "[I", true)
  | 60 => ("SlidingtrayModel", "ringOf", "[I", true)
  | 61 => ("SlidingtrayModel", "costOf", "[I", true)
  | 62 => ("SlidingtrayModel", "nextOf", "[I", true)
  | 63 => ("SlidingtrayModel", "nextCost", "[I", true)
  | 64 => ("SlidingtrayModel", "manyWays", "[I", true)
  | 65 => ("SlidingtrayModel", "all", "I", false)
  | _ => ("SlidingtrayModel", "estimateOf", "[I", true)
def tyX6 : Nat → FieldType := fun k => match k with
  | 0 => .array .int
  | 1 => .array .int
  | 2 => .array .int
  | 3 => .array .int
  | 4 => .array .boolean
  | 5 => .int
  | 6 => .int
  | 7 => .int
  | 8 => .int
  | 9 => .array .int
  | 10 => .array .int
  | 11 => .array .int
  | 12 => .array .boolean
  | 13 => .int
  | 14 => .array .int
  | 15 => .array .int
  | 16 => .array .int
  | 17 => .int
  | 18 => .array .int
  | 19 => .array .int
  | 20 => .array .int
  | 21 => .array .boolean
  | 22 => .array .boolean
  | 23 => .array .boolean
  | 24 => .array .boolean
  | 25 => .array .boolean
  | 26 => .array .int
  | 27 => .array .int
  | 28 => .array .int
  | 29 => .array .int
  | 30 => .array .int
  | 31 => .array .int
  | 32 => .int
  | 33 => .array .int
  | 34 => .array .int
  | 35 => .array .int
  | 36 => .array .int
  | 37 => .array .int
  | 38 => .array .int
  | 39 => .array .int
  | 40 => .array .long
  | 41 => .array .boolean
  | 42 => .int
  | 43 => .array .int
  | 44 => .array .int
  | 45 => .array .int
  | 46 => .int
  | 47 => .int
  | 48 => .int
  | 49 => .int
  | 50 => .int
  | 51 => .int
  | 52 => .int
  | 53 => .int
  | 54 => .int
  | 55 => .int
  | 56 => .boolean
  | 57 => .array .int
  | 58 => .array .int
  | 59 => .array .int
  | 60 => .array .int
  | 61 => .array .int
  | 62 => .array .int
  | 63 => .array .int
  | 64 => .array .int
  | 65 => .int
  | _ => .array .int
abbrev wsX60 : List Cond := u_ws RX6 TX6 67
set_option maxRecDepth 100000 in
theorem nmX6 : ∀ a, a < 67 → ∀ b, b < 67 → a ≠ b → (TX6 a).2.1 ≠ (TX6 b).2.1 := by decide +kernel
set_option maxRecDepth 100000 in
theorem tyX6_ok : ∀ k, k < 67 → parseFieldDescriptor (TX6 k).2.2.1 = some (tyX6 k) := by decide +kernel
abbrev cX6_init : ByteArray := prog_15_method_1_code
def yX6_init : MethodName := ⟨RX6, "<init>", "()V"⟩
def dkwX6_init_17 : List UInt8 := [181, 0, 158, 42, 17, 2, 208, 188, 10, 181, 0, 161, 42, 182, 0, 164, 177]
abbrev dktX6_init_17 : List UInt8 := dkwX6_init_17 ++ []
def dkwX6_init_16 : List UInt8 := [17, 11, 64, 188, 10, 181, 0, 152, 42, 17, 11, 64, 188, 10, 181, 0, 155, 42, 17, 2, 208, 188, 10]
abbrev dktX6_init_16 : List UInt8 := dkwX6_init_16 ++ dktX6_init_17
def dkwX6_init_15 : List UInt8 := [181, 0, 143, 42, 17, 32, 10, 188, 10, 181, 0, 146, 42, 17, 2, 208, 188, 10, 181, 0, 149, 42]
abbrev dktX6_init_15 : List UInt8 := dkwX6_init_15 ++ dktX6_init_16
def dkwX6_init_14 : List UInt8 := [17, 3, 233, 188, 10, 181, 0, 137, 42, 17, 3, 233, 188, 10, 181, 0, 140, 42, 17, 3, 233, 188, 10]
abbrev dktX6_init_14 : List UInt8 := dkwX6_init_14 ++ dktX6_init_15
def dkwX6_init_13 : List UInt8 := [188, 10, 181, 0, 128, 42, 17, 16, 5, 188, 10, 181, 0, 131, 42, 17, 16, 5, 188, 10, 181, 0, 134, 42]
abbrev dktX6_init_13 : List UInt8 := dkwX6_init_13 ++ dktX6_init_14
def dkwX6_init_12 : List UInt8 := [181, 0, 118, 42, 17, 16, 5, 188, 11, 181, 0, 121, 42, 17, 16, 5, 188, 4, 181, 0, 125, 42, 16, 16]
abbrev dktX6_init_12 : List UInt8 := dkwX6_init_12 ++ dktX6_init_13
def dkwX6_init_11 : List UInt8 := [17, 16, 5, 188, 10, 181, 0, 112, 42, 17, 16, 5, 188, 10, 181, 0, 115, 42, 17, 64, 0, 188, 10]
abbrev dktX6_init_11 : List UInt8 := dkwX6_init_11 ++ dktX6_init_12
def dkwX6_init_10 : List UInt8 := [188, 10, 181, 0, 103, 42, 17, 16, 5, 188, 10, 181, 0, 106, 42, 17, 16, 5, 188, 10, 181, 0, 109, 42]
abbrev dktX6_init_10 : List UInt8 := dkwX6_init_10 ++ dktX6_init_11
def dkwX6_init_9 : List UInt8 := [188, 10, 181, 0, 93, 42, 7, 188, 10, 181, 0, 96, 42, 16, 16, 188, 10, 181, 0, 99, 42, 18, 102]
abbrev dktX6_init_9 : List UInt8 := dkwX6_init_9 ++ dktX6_init_10
def dkwX6_init_8 : List UInt8 := [188, 10, 181, 0, 84, 42, 16, 6, 188, 10, 181, 0, 87, 42, 5, 188, 10, 181, 0, 90, 42, 17, 51, 66]
abbrev dktX6_init_8 : List UInt8 := dkwX6_init_8 ++ dktX6_init_9
def dkwX6_init_7 : List UInt8 := [16, 16, 188, 4, 181, 0, 75, 42, 16, 16, 188, 4, 181, 0, 78, 42, 7, 188, 10, 181, 0, 81, 42, 7]
abbrev dktX6_init_7 : List UInt8 := dkwX6_init_7 ++ dktX6_init_8
def dkwX6_init_6 : List UInt8 := [16, 32, 188, 4, 181, 0, 66, 42, 5, 188, 4, 181, 0, 69, 42, 16, 16, 188, 4, 181, 0, 72, 42]
abbrev dktX6_init_6 : List UInt8 := dkwX6_init_6 ++ dktX6_init_7
def dkwX6_init_5 : List UInt8 := [16, 32, 188, 10, 181, 0, 57, 42, 16, 32, 188, 10, 181, 0, 60, 42, 16, 32, 188, 10, 181, 0, 63, 42]
abbrev dktX6_init_5 : List UInt8 := dkwX6_init_5 ++ dktX6_init_6
def dkwX6_init_4 : List UInt8 := [17, 0, 200, 188, 10, 181, 0, 48, 42, 7, 188, 10, 181, 0, 51, 42, 16, 32, 188, 10, 181, 0, 54, 42]
abbrev dktX6_init_4 : List UInt8 := dkwX6_init_4 ++ dktX6_init_5
def dkwX6_init_3 : List UInt8 := [42, 16, 16, 188, 10, 181, 0, 39, 42, 16, 16, 188, 4, 181, 0, 42, 42, 17, 1, 244, 181, 0, 45, 42]
abbrev dktX6_init_3 : List UInt8 := dkwX6_init_3 ++ dktX6_init_4
def dkwX6_init_2 : List UInt8 := [181, 0, 26, 42, 6, 181, 0, 30, 42, 16, 16, 188, 10, 181, 0, 33, 42, 16, 16, 188, 10, 181, 0, 36]
abbrev dktX6_init_2 : List UInt8 := dkwX6_init_2 ++ dktX6_init_3
def dkwX6_init_1 : List UInt8 := [188, 10, 181, 0, 16, 42, 17, 1, 0, 188, 10, 181, 0, 19, 42, 16, 16, 188, 4, 181, 0, 22, 42, 6]
abbrev dktX6_init_1 : List UInt8 := dkwX6_init_1 ++ dktX6_init_2
def dkwX6_init_0 : List UInt8 := [42, 183, 0, 1, 42, 16, 16, 188, 10, 181, 0, 7, 42, 16, 16, 188, 10, 181, 0, 13, 42, 16, 64]
abbrev dktX6_init_0 : List UInt8 := dkwX6_init_0 ++ dktX6_init_1
theorem dksX6_init_0 : cX6_init.data.toList.drop 0 = dktX6_init_0 := by decide +kernel
theorem dksX6_init_1 : cX6_init.data.toList.drop 23 = dktX6_init_1 := dk_seg dksX6_init_0 23 rfl rfl
theorem dksX6_init_2 : cX6_init.data.toList.drop 47 = dktX6_init_2 := dk_seg dksX6_init_1 24 rfl rfl
theorem dksX6_init_3 : cX6_init.data.toList.drop 71 = dktX6_init_3 := dk_seg dksX6_init_2 24 rfl rfl
theorem dksX6_init_4 : cX6_init.data.toList.drop 95 = dktX6_init_4 := dk_seg dksX6_init_3 24 rfl rfl
theorem dksX6_init_5 : cX6_init.data.toList.drop 119 = dktX6_init_5 := dk_seg dksX6_init_4 24 rfl rfl
theorem dksX6_init_6 : cX6_init.data.toList.drop 143 = dktX6_init_6 := dk_seg dksX6_init_5 24 rfl rfl
theorem dksX6_init_7 : cX6_init.data.toList.drop 166 = dktX6_init_7 := dk_seg dksX6_init_6 23 rfl rfl
theorem dksX6_init_8 : cX6_init.data.toList.drop 190 = dktX6_init_8 := dk_seg dksX6_init_7 24 rfl rfl
theorem dksX6_init_9 : cX6_init.data.toList.drop 214 = dktX6_init_9 := dk_seg dksX6_init_8 24 rfl rfl
theorem dksX6_init_10 : cX6_init.data.toList.drop 237 = dktX6_init_10 := dk_seg dksX6_init_9 23 rfl rfl
theorem dksX6_init_11 : cX6_init.data.toList.drop 261 = dktX6_init_11 := dk_seg dksX6_init_10 24 rfl rfl
theorem dksX6_init_12 : cX6_init.data.toList.drop 284 = dktX6_init_12 := dk_seg dksX6_init_11 23 rfl rfl
theorem dksX6_init_13 : cX6_init.data.toList.drop 308 = dktX6_init_13 := dk_seg dksX6_init_12 24 rfl rfl
theorem dksX6_init_14 : cX6_init.data.toList.drop 332 = dktX6_init_14 := dk_seg dksX6_init_13 24 rfl rfl
theorem dksX6_init_15 : cX6_init.data.toList.drop 355 = dktX6_init_15 := dk_seg dksX6_init_14 23 rfl rfl
theorem dksX6_init_16 : cX6_init.data.toList.drop 377 = dktX6_init_16 := dk_seg dksX6_init_15 22 rfl rfl
theorem dksX6_init_17 : cX6_init.data.toList.drop 400 = dktX6_init_17 := dk_seg dksX6_init_16 23 rfl rfl
theorem dX6_init_0 : decode cX6_init 0 = .ok (.aload_n 0, 1) := dk_42 (dk_at dksX6_init_0 0 rfl rfl)
theorem dX6_init_1 : decode cX6_init 1 = .ok (.invokespecial 1, 3) := dk_183 0 1 (dk_at dksX6_init_0 1 rfl rfl)
theorem dX6_init_4 : decode cX6_init 4 = .ok (.aload_n 0, 1) := dk_42 (dk_at dksX6_init_0 4 rfl rfl)
theorem dX6_init_5 : decode cX6_init 5 = .ok (.bipush 16, 2) := dk_16 16 (dk_at dksX6_init_0 5 rfl rfl)
theorem dX6_init_7 : decode cX6_init 7 = .ok (.newarray .int, 2) := dk_188_10 (dk_at dksX6_init_0 7 rfl rfl)
theorem dX6_init_9 : decode cX6_init 9 = .ok (.putfield 7, 3) := dk_181 0 7 (dk_at dksX6_init_0 9 rfl rfl)
theorem dX6_init_12 : decode cX6_init 12 = .ok (.aload_n 0, 1) := dk_42 (dk_at dksX6_init_0 12 rfl rfl)
theorem dX6_init_13 : decode cX6_init 13 = .ok (.bipush 16, 2) := dk_16 16 (dk_at dksX6_init_0 13 rfl rfl)
theorem dX6_init_15 : decode cX6_init 15 = .ok (.newarray .int, 2) := dk_188_10 (dk_at dksX6_init_0 15 rfl rfl)
theorem dX6_init_17 : decode cX6_init 17 = .ok (.putfield 13, 3) := dk_181 0 13 (dk_at dksX6_init_0 17 rfl rfl)
theorem dX6_init_20 : decode cX6_init 20 = .ok (.aload_n 0, 1) := dk_42 (dk_at dksX6_init_0 20 rfl rfl)
theorem dX6_init_21 : decode cX6_init 21 = .ok (.bipush 64, 2) := dk_16 64 (dk_at dksX6_init_0 21 rfl rfl)
theorem dX6_init_23 : decode cX6_init 23 = .ok (.newarray .int, 2) := dk_188_10 (dk_at dksX6_init_1 0 rfl rfl)
theorem dX6_init_25 : decode cX6_init 25 = .ok (.putfield 16, 3) := dk_181 0 16 (dk_at dksX6_init_1 2 rfl rfl)
theorem dX6_init_28 : decode cX6_init 28 = .ok (.aload_n 0, 1) := dk_42 (dk_at dksX6_init_1 5 rfl rfl)
theorem dX6_init_29 : decode cX6_init 29 = .ok (.sipush 256, 3) := dk_17 1 0 (dk_at dksX6_init_1 6 rfl rfl)
theorem dX6_init_32 : decode cX6_init 32 = .ok (.newarray .int, 2) := dk_188_10 (dk_at dksX6_init_1 9 rfl rfl)
theorem dX6_init_34 : decode cX6_init 34 = .ok (.putfield 19, 3) := dk_181 0 19 (dk_at dksX6_init_1 11 rfl rfl)
theorem dX6_init_37 : decode cX6_init 37 = .ok (.aload_n 0, 1) := dk_42 (dk_at dksX6_init_1 14 rfl rfl)
theorem dX6_init_38 : decode cX6_init 38 = .ok (.bipush 16, 2) := dk_16 16 (dk_at dksX6_init_1 15 rfl rfl)
theorem dX6_init_40 : decode cX6_init 40 = .ok (.newarray .boolean, 2) := dk_188_4 (dk_at dksX6_init_1 17 rfl rfl)
theorem dX6_init_42 : decode cX6_init 42 = .ok (.putfield 22, 3) := dk_181 0 22 (dk_at dksX6_init_1 19 rfl rfl)
theorem dX6_init_45 : decode cX6_init 45 = .ok (.aload_n 0, 1) := dk_42 (dk_at dksX6_init_1 22 rfl rfl)
theorem dX6_init_46 : decode cX6_init 46 = .ok (.iconst 3, 1) := dk_6 (dk_at dksX6_init_1 23 rfl rfl)
theorem dX6_init_47 : decode cX6_init 47 = .ok (.putfield 26, 3) := dk_181 0 26 (dk_at dksX6_init_2 0 rfl rfl)
theorem dX6_init_50 : decode cX6_init 50 = .ok (.aload_n 0, 1) := dk_42 (dk_at dksX6_init_2 3 rfl rfl)
theorem dX6_init_51 : decode cX6_init 51 = .ok (.iconst 3, 1) := dk_6 (dk_at dksX6_init_2 4 rfl rfl)
theorem dX6_init_52 : decode cX6_init 52 = .ok (.putfield 30, 3) := dk_181 0 30 (dk_at dksX6_init_2 5 rfl rfl)
theorem dX6_init_55 : decode cX6_init 55 = .ok (.aload_n 0, 1) := dk_42 (dk_at dksX6_init_2 8 rfl rfl)
theorem dX6_init_56 : decode cX6_init 56 = .ok (.bipush 16, 2) := dk_16 16 (dk_at dksX6_init_2 9 rfl rfl)
theorem dX6_init_58 : decode cX6_init 58 = .ok (.newarray .int, 2) := dk_188_10 (dk_at dksX6_init_2 11 rfl rfl)
theorem dX6_init_60 : decode cX6_init 60 = .ok (.putfield 33, 3) := dk_181 0 33 (dk_at dksX6_init_2 13 rfl rfl)
theorem dX6_init_63 : decode cX6_init 63 = .ok (.aload_n 0, 1) := dk_42 (dk_at dksX6_init_2 16 rfl rfl)
theorem dX6_init_64 : decode cX6_init 64 = .ok (.bipush 16, 2) := dk_16 16 (dk_at dksX6_init_2 17 rfl rfl)
theorem dX6_init_66 : decode cX6_init 66 = .ok (.newarray .int, 2) := dk_188_10 (dk_at dksX6_init_2 19 rfl rfl)
theorem dX6_init_68 : decode cX6_init 68 = .ok (.putfield 36, 3) := dk_181 0 36 (dk_at dksX6_init_2 21 rfl rfl)
theorem dX6_init_71 : decode cX6_init 71 = .ok (.aload_n 0, 1) := dk_42 (dk_at dksX6_init_3 0 rfl rfl)
theorem dX6_init_72 : decode cX6_init 72 = .ok (.bipush 16, 2) := dk_16 16 (dk_at dksX6_init_3 1 rfl rfl)
theorem dX6_init_74 : decode cX6_init 74 = .ok (.newarray .int, 2) := dk_188_10 (dk_at dksX6_init_3 3 rfl rfl)
theorem dX6_init_76 : decode cX6_init 76 = .ok (.putfield 39, 3) := dk_181 0 39 (dk_at dksX6_init_3 5 rfl rfl)
theorem dX6_init_79 : decode cX6_init 79 = .ok (.aload_n 0, 1) := dk_42 (dk_at dksX6_init_3 8 rfl rfl)
theorem dX6_init_80 : decode cX6_init 80 = .ok (.bipush 16, 2) := dk_16 16 (dk_at dksX6_init_3 9 rfl rfl)
theorem dX6_init_82 : decode cX6_init 82 = .ok (.newarray .boolean, 2) := dk_188_4 (dk_at dksX6_init_3 11 rfl rfl)
theorem dX6_init_84 : decode cX6_init 84 = .ok (.putfield 42, 3) := dk_181 0 42 (dk_at dksX6_init_3 13 rfl rfl)
theorem dX6_init_87 : decode cX6_init 87 = .ok (.aload_n 0, 1) := dk_42 (dk_at dksX6_init_3 16 rfl rfl)
theorem dX6_init_88 : decode cX6_init 88 = .ok (.sipush 500, 3) := dk_17 1 244 (dk_at dksX6_init_3 17 rfl rfl)
theorem dX6_init_91 : decode cX6_init 91 = .ok (.putfield 45, 3) := dk_181 0 45 (dk_at dksX6_init_3 20 rfl rfl)
theorem dX6_init_94 : decode cX6_init 94 = .ok (.aload_n 0, 1) := dk_42 (dk_at dksX6_init_3 23 rfl rfl)
theorem dX6_init_95 : decode cX6_init 95 = .ok (.sipush 200, 3) := dk_17 0 200 (dk_at dksX6_init_4 0 rfl rfl)
theorem dX6_init_98 : decode cX6_init 98 = .ok (.newarray .int, 2) := dk_188_10 (dk_at dksX6_init_4 3 rfl rfl)
theorem dX6_init_100 : decode cX6_init 100 = .ok (.putfield 48, 3) := dk_181 0 48 (dk_at dksX6_init_4 5 rfl rfl)
theorem dX6_init_103 : decode cX6_init 103 = .ok (.aload_n 0, 1) := dk_42 (dk_at dksX6_init_4 8 rfl rfl)
theorem dX6_init_104 : decode cX6_init 104 = .ok (.iconst 4, 1) := dk_7 (dk_at dksX6_init_4 9 rfl rfl)
theorem dX6_init_105 : decode cX6_init 105 = .ok (.newarray .int, 2) := dk_188_10 (dk_at dksX6_init_4 10 rfl rfl)
theorem dX6_init_107 : decode cX6_init 107 = .ok (.putfield 51, 3) := dk_181 0 51 (dk_at dksX6_init_4 12 rfl rfl)
theorem dX6_init_110 : decode cX6_init 110 = .ok (.aload_n 0, 1) := dk_42 (dk_at dksX6_init_4 15 rfl rfl)
theorem dX6_init_111 : decode cX6_init 111 = .ok (.bipush 32, 2) := dk_16 32 (dk_at dksX6_init_4 16 rfl rfl)
theorem dX6_init_113 : decode cX6_init 113 = .ok (.newarray .int, 2) := dk_188_10 (dk_at dksX6_init_4 18 rfl rfl)
theorem dX6_init_115 : decode cX6_init 115 = .ok (.putfield 54, 3) := dk_181 0 54 (dk_at dksX6_init_4 20 rfl rfl)
theorem dX6_init_118 : decode cX6_init 118 = .ok (.aload_n 0, 1) := dk_42 (dk_at dksX6_init_4 23 rfl rfl)
theorem dX6_init_119 : decode cX6_init 119 = .ok (.bipush 32, 2) := dk_16 32 (dk_at dksX6_init_5 0 rfl rfl)
theorem dX6_init_121 : decode cX6_init 121 = .ok (.newarray .int, 2) := dk_188_10 (dk_at dksX6_init_5 2 rfl rfl)
theorem dX6_init_123 : decode cX6_init 123 = .ok (.putfield 57, 3) := dk_181 0 57 (dk_at dksX6_init_5 4 rfl rfl)
theorem dX6_init_126 : decode cX6_init 126 = .ok (.aload_n 0, 1) := dk_42 (dk_at dksX6_init_5 7 rfl rfl)
theorem dX6_init_127 : decode cX6_init 127 = .ok (.bipush 32, 2) := dk_16 32 (dk_at dksX6_init_5 8 rfl rfl)
theorem dX6_init_129 : decode cX6_init 129 = .ok (.newarray .int, 2) := dk_188_10 (dk_at dksX6_init_5 10 rfl rfl)
theorem dX6_init_131 : decode cX6_init 131 = .ok (.putfield 60, 3) := dk_181 0 60 (dk_at dksX6_init_5 12 rfl rfl)
theorem dX6_init_134 : decode cX6_init 134 = .ok (.aload_n 0, 1) := dk_42 (dk_at dksX6_init_5 15 rfl rfl)
theorem dX6_init_135 : decode cX6_init 135 = .ok (.bipush 32, 2) := dk_16 32 (dk_at dksX6_init_5 16 rfl rfl)
theorem dX6_init_137 : decode cX6_init 137 = .ok (.newarray .int, 2) := dk_188_10 (dk_at dksX6_init_5 18 rfl rfl)
theorem dX6_init_139 : decode cX6_init 139 = .ok (.putfield 63, 3) := dk_181 0 63 (dk_at dksX6_init_5 20 rfl rfl)
theorem dX6_init_142 : decode cX6_init 142 = .ok (.aload_n 0, 1) := dk_42 (dk_at dksX6_init_5 23 rfl rfl)
theorem dX6_init_143 : decode cX6_init 143 = .ok (.bipush 32, 2) := dk_16 32 (dk_at dksX6_init_6 0 rfl rfl)
theorem dX6_init_145 : decode cX6_init 145 = .ok (.newarray .boolean, 2) := dk_188_4 (dk_at dksX6_init_6 2 rfl rfl)
theorem dX6_init_147 : decode cX6_init 147 = .ok (.putfield 66, 3) := dk_181 0 66 (dk_at dksX6_init_6 4 rfl rfl)
theorem dX6_init_150 : decode cX6_init 150 = .ok (.aload_n 0, 1) := dk_42 (dk_at dksX6_init_6 7 rfl rfl)
theorem dX6_init_151 : decode cX6_init 151 = .ok (.iconst 2, 1) := dk_5 (dk_at dksX6_init_6 8 rfl rfl)
theorem dX6_init_152 : decode cX6_init 152 = .ok (.newarray .boolean, 2) := dk_188_4 (dk_at dksX6_init_6 9 rfl rfl)
theorem dX6_init_154 : decode cX6_init 154 = .ok (.putfield 69, 3) := dk_181 0 69 (dk_at dksX6_init_6 11 rfl rfl)
theorem dX6_init_157 : decode cX6_init 157 = .ok (.aload_n 0, 1) := dk_42 (dk_at dksX6_init_6 14 rfl rfl)
theorem dX6_init_158 : decode cX6_init 158 = .ok (.bipush 16, 2) := dk_16 16 (dk_at dksX6_init_6 15 rfl rfl)
theorem dX6_init_160 : decode cX6_init 160 = .ok (.newarray .boolean, 2) := dk_188_4 (dk_at dksX6_init_6 17 rfl rfl)
theorem dX6_init_162 : decode cX6_init 162 = .ok (.putfield 72, 3) := dk_181 0 72 (dk_at dksX6_init_6 19 rfl rfl)
theorem dX6_init_165 : decode cX6_init 165 = .ok (.aload_n 0, 1) := dk_42 (dk_at dksX6_init_6 22 rfl rfl)
theorem dX6_init_166 : decode cX6_init 166 = .ok (.bipush 16, 2) := dk_16 16 (dk_at dksX6_init_7 0 rfl rfl)
theorem dX6_init_168 : decode cX6_init 168 = .ok (.newarray .boolean, 2) := dk_188_4 (dk_at dksX6_init_7 2 rfl rfl)
theorem dX6_init_170 : decode cX6_init 170 = .ok (.putfield 75, 3) := dk_181 0 75 (dk_at dksX6_init_7 4 rfl rfl)
theorem dX6_init_173 : decode cX6_init 173 = .ok (.aload_n 0, 1) := dk_42 (dk_at dksX6_init_7 7 rfl rfl)
theorem dX6_init_174 : decode cX6_init 174 = .ok (.bipush 16, 2) := dk_16 16 (dk_at dksX6_init_7 8 rfl rfl)
theorem dX6_init_176 : decode cX6_init 176 = .ok (.newarray .boolean, 2) := dk_188_4 (dk_at dksX6_init_7 10 rfl rfl)
theorem dX6_init_178 : decode cX6_init 178 = .ok (.putfield 78, 3) := dk_181 0 78 (dk_at dksX6_init_7 12 rfl rfl)
theorem dX6_init_181 : decode cX6_init 181 = .ok (.aload_n 0, 1) := dk_42 (dk_at dksX6_init_7 15 rfl rfl)
theorem dX6_init_182 : decode cX6_init 182 = .ok (.iconst 4, 1) := dk_7 (dk_at dksX6_init_7 16 rfl rfl)
theorem dX6_init_183 : decode cX6_init 183 = .ok (.newarray .int, 2) := dk_188_10 (dk_at dksX6_init_7 17 rfl rfl)
theorem dX6_init_185 : decode cX6_init 185 = .ok (.putfield 81, 3) := dk_181 0 81 (dk_at dksX6_init_7 19 rfl rfl)
theorem dX6_init_188 : decode cX6_init 188 = .ok (.aload_n 0, 1) := dk_42 (dk_at dksX6_init_7 22 rfl rfl)
theorem dX6_init_189 : decode cX6_init 189 = .ok (.iconst 4, 1) := dk_7 (dk_at dksX6_init_7 23 rfl rfl)
theorem dX6_init_190 : decode cX6_init 190 = .ok (.newarray .int, 2) := dk_188_10 (dk_at dksX6_init_8 0 rfl rfl)
theorem dX6_init_192 : decode cX6_init 192 = .ok (.putfield 84, 3) := dk_181 0 84 (dk_at dksX6_init_8 2 rfl rfl)
theorem dX6_init_195 : decode cX6_init 195 = .ok (.aload_n 0, 1) := dk_42 (dk_at dksX6_init_8 5 rfl rfl)
theorem dX6_init_196 : decode cX6_init 196 = .ok (.bipush 6, 2) := dk_16 6 (dk_at dksX6_init_8 6 rfl rfl)
theorem dX6_init_198 : decode cX6_init 198 = .ok (.newarray .int, 2) := dk_188_10 (dk_at dksX6_init_8 8 rfl rfl)
theorem dX6_init_200 : decode cX6_init 200 = .ok (.putfield 87, 3) := dk_181 0 87 (dk_at dksX6_init_8 10 rfl rfl)
theorem dX6_init_203 : decode cX6_init 203 = .ok (.aload_n 0, 1) := dk_42 (dk_at dksX6_init_8 13 rfl rfl)
theorem dX6_init_204 : decode cX6_init 204 = .ok (.iconst 2, 1) := dk_5 (dk_at dksX6_init_8 14 rfl rfl)
theorem dX6_init_205 : decode cX6_init 205 = .ok (.newarray .int, 2) := dk_188_10 (dk_at dksX6_init_8 15 rfl rfl)
theorem dX6_init_207 : decode cX6_init 207 = .ok (.putfield 90, 3) := dk_181 0 90 (dk_at dksX6_init_8 17 rfl rfl)
theorem dX6_init_210 : decode cX6_init 210 = .ok (.aload_n 0, 1) := dk_42 (dk_at dksX6_init_8 20 rfl rfl)
theorem dX6_init_211 : decode cX6_init 211 = .ok (.sipush 13122, 3) := dk_17 51 66 (dk_at dksX6_init_8 21 rfl rfl)
theorem dX6_init_214 : decode cX6_init 214 = .ok (.newarray .int, 2) := dk_188_10 (dk_at dksX6_init_9 0 rfl rfl)
theorem dX6_init_216 : decode cX6_init 216 = .ok (.putfield 93, 3) := dk_181 0 93 (dk_at dksX6_init_9 2 rfl rfl)
theorem dX6_init_219 : decode cX6_init 219 = .ok (.aload_n 0, 1) := dk_42 (dk_at dksX6_init_9 5 rfl rfl)
theorem dX6_init_220 : decode cX6_init 220 = .ok (.iconst 4, 1) := dk_7 (dk_at dksX6_init_9 6 rfl rfl)
theorem dX6_init_221 : decode cX6_init 221 = .ok (.newarray .int, 2) := dk_188_10 (dk_at dksX6_init_9 7 rfl rfl)
theorem dX6_init_223 : decode cX6_init 223 = .ok (.putfield 96, 3) := dk_181 0 96 (dk_at dksX6_init_9 9 rfl rfl)
theorem dX6_init_226 : decode cX6_init 226 = .ok (.aload_n 0, 1) := dk_42 (dk_at dksX6_init_9 12 rfl rfl)
theorem dX6_init_227 : decode cX6_init 227 = .ok (.bipush 16, 2) := dk_16 16 (dk_at dksX6_init_9 13 rfl rfl)
theorem dX6_init_229 : decode cX6_init 229 = .ok (.newarray .int, 2) := dk_188_10 (dk_at dksX6_init_9 15 rfl rfl)
theorem dX6_init_231 : decode cX6_init 231 = .ok (.putfield 99, 3) := dk_181 0 99 (dk_at dksX6_init_9 17 rfl rfl)
theorem dX6_init_234 : decode cX6_init 234 = .ok (.aload_n 0, 1) := dk_42 (dk_at dksX6_init_9 20 rfl rfl)
theorem dX6_init_235 : decode cX6_init 235 = .ok (.ldc 102, 2) := dk_18 102 (dk_at dksX6_init_9 21 rfl rfl)
theorem dX6_init_237 : decode cX6_init 237 = .ok (.newarray .int, 2) := dk_188_10 (dk_at dksX6_init_10 0 rfl rfl)
theorem dX6_init_239 : decode cX6_init 239 = .ok (.putfield 103, 3) := dk_181 0 103 (dk_at dksX6_init_10 2 rfl rfl)
theorem dX6_init_242 : decode cX6_init 242 = .ok (.aload_n 0, 1) := dk_42 (dk_at dksX6_init_10 5 rfl rfl)
theorem dX6_init_243 : decode cX6_init 243 = .ok (.sipush 4101, 3) := dk_17 16 5 (dk_at dksX6_init_10 6 rfl rfl)
theorem dX6_init_246 : decode cX6_init 246 = .ok (.newarray .int, 2) := dk_188_10 (dk_at dksX6_init_10 9 rfl rfl)
theorem dX6_init_248 : decode cX6_init 248 = .ok (.putfield 106, 3) := dk_181 0 106 (dk_at dksX6_init_10 11 rfl rfl)
theorem dX6_init_251 : decode cX6_init 251 = .ok (.aload_n 0, 1) := dk_42 (dk_at dksX6_init_10 14 rfl rfl)
theorem dX6_init_252 : decode cX6_init 252 = .ok (.sipush 4101, 3) := dk_17 16 5 (dk_at dksX6_init_10 15 rfl rfl)
theorem dX6_init_255 : decode cX6_init 255 = .ok (.newarray .int, 2) := dk_188_10 (dk_at dksX6_init_10 18 rfl rfl)
theorem dX6_init_257 : decode cX6_init 257 = .ok (.putfield 109, 3) := dk_181 0 109 (dk_at dksX6_init_10 20 rfl rfl)
theorem dX6_init_260 : decode cX6_init 260 = .ok (.aload_n 0, 1) := dk_42 (dk_at dksX6_init_10 23 rfl rfl)
theorem dX6_init_261 : decode cX6_init 261 = .ok (.sipush 4101, 3) := dk_17 16 5 (dk_at dksX6_init_11 0 rfl rfl)
theorem dX6_init_264 : decode cX6_init 264 = .ok (.newarray .int, 2) := dk_188_10 (dk_at dksX6_init_11 3 rfl rfl)
theorem dX6_init_266 : decode cX6_init 266 = .ok (.putfield 112, 3) := dk_181 0 112 (dk_at dksX6_init_11 5 rfl rfl)
theorem dX6_init_269 : decode cX6_init 269 = .ok (.aload_n 0, 1) := dk_42 (dk_at dksX6_init_11 8 rfl rfl)
theorem dX6_init_270 : decode cX6_init 270 = .ok (.sipush 4101, 3) := dk_17 16 5 (dk_at dksX6_init_11 9 rfl rfl)
theorem dX6_init_273 : decode cX6_init 273 = .ok (.newarray .int, 2) := dk_188_10 (dk_at dksX6_init_11 12 rfl rfl)
theorem dX6_init_275 : decode cX6_init 275 = .ok (.putfield 115, 3) := dk_181 0 115 (dk_at dksX6_init_11 14 rfl rfl)
theorem dX6_init_278 : decode cX6_init 278 = .ok (.aload_n 0, 1) := dk_42 (dk_at dksX6_init_11 17 rfl rfl)
theorem dX6_init_279 : decode cX6_init 279 = .ok (.sipush 16384, 3) := dk_17 64 0 (dk_at dksX6_init_11 18 rfl rfl)
theorem dX6_init_282 : decode cX6_init 282 = .ok (.newarray .int, 2) := dk_188_10 (dk_at dksX6_init_11 21 rfl rfl)
theorem dX6_init_284 : decode cX6_init 284 = .ok (.putfield 118, 3) := dk_181 0 118 (dk_at dksX6_init_12 0 rfl rfl)
theorem dX6_init_287 : decode cX6_init 287 = .ok (.aload_n 0, 1) := dk_42 (dk_at dksX6_init_12 3 rfl rfl)
theorem dX6_init_288 : decode cX6_init 288 = .ok (.sipush 4101, 3) := dk_17 16 5 (dk_at dksX6_init_12 4 rfl rfl)
theorem dX6_init_291 : decode cX6_init 291 = .ok (.newarray .long, 2) := dk_188_11 (dk_at dksX6_init_12 7 rfl rfl)
theorem dX6_init_293 : decode cX6_init 293 = .ok (.putfield 121, 3) := dk_181 0 121 (dk_at dksX6_init_12 9 rfl rfl)
theorem dX6_init_296 : decode cX6_init 296 = .ok (.aload_n 0, 1) := dk_42 (dk_at dksX6_init_12 12 rfl rfl)
theorem dX6_init_297 : decode cX6_init 297 = .ok (.sipush 4101, 3) := dk_17 16 5 (dk_at dksX6_init_12 13 rfl rfl)
theorem dX6_init_300 : decode cX6_init 300 = .ok (.newarray .boolean, 2) := dk_188_4 (dk_at dksX6_init_12 16 rfl rfl)
theorem dX6_init_302 : decode cX6_init 302 = .ok (.putfield 125, 3) := dk_181 0 125 (dk_at dksX6_init_12 18 rfl rfl)
theorem dX6_init_305 : decode cX6_init 305 = .ok (.aload_n 0, 1) := dk_42 (dk_at dksX6_init_12 21 rfl rfl)
theorem dX6_init_306 : decode cX6_init 306 = .ok (.bipush 16, 2) := dk_16 16 (dk_at dksX6_init_12 22 rfl rfl)
theorem dX6_init_308 : decode cX6_init 308 = .ok (.newarray .int, 2) := dk_188_10 (dk_at dksX6_init_13 0 rfl rfl)
theorem dX6_init_310 : decode cX6_init 310 = .ok (.putfield 128, 3) := dk_181 0 128 (dk_at dksX6_init_13 2 rfl rfl)
theorem dX6_init_313 : decode cX6_init 313 = .ok (.aload_n 0, 1) := dk_42 (dk_at dksX6_init_13 5 rfl rfl)
theorem dX6_init_314 : decode cX6_init 314 = .ok (.sipush 4101, 3) := dk_17 16 5 (dk_at dksX6_init_13 6 rfl rfl)
theorem dX6_init_317 : decode cX6_init 317 = .ok (.newarray .int, 2) := dk_188_10 (dk_at dksX6_init_13 9 rfl rfl)
theorem dX6_init_319 : decode cX6_init 319 = .ok (.putfield 131, 3) := dk_181 0 131 (dk_at dksX6_init_13 11 rfl rfl)
theorem dX6_init_322 : decode cX6_init 322 = .ok (.aload_n 0, 1) := dk_42 (dk_at dksX6_init_13 14 rfl rfl)
theorem dX6_init_323 : decode cX6_init 323 = .ok (.sipush 4101, 3) := dk_17 16 5 (dk_at dksX6_init_13 15 rfl rfl)
theorem dX6_init_326 : decode cX6_init 326 = .ok (.newarray .int, 2) := dk_188_10 (dk_at dksX6_init_13 18 rfl rfl)
theorem dX6_init_328 : decode cX6_init 328 = .ok (.putfield 134, 3) := dk_181 0 134 (dk_at dksX6_init_13 20 rfl rfl)
theorem dX6_init_331 : decode cX6_init 331 = .ok (.aload_n 0, 1) := dk_42 (dk_at dksX6_init_13 23 rfl rfl)
theorem dX6_init_332 : decode cX6_init 332 = .ok (.sipush 1001, 3) := dk_17 3 233 (dk_at dksX6_init_14 0 rfl rfl)
theorem dX6_init_335 : decode cX6_init 335 = .ok (.newarray .int, 2) := dk_188_10 (dk_at dksX6_init_14 3 rfl rfl)
theorem dX6_init_337 : decode cX6_init 337 = .ok (.putfield 137, 3) := dk_181 0 137 (dk_at dksX6_init_14 5 rfl rfl)
theorem dX6_init_340 : decode cX6_init 340 = .ok (.aload_n 0, 1) := dk_42 (dk_at dksX6_init_14 8 rfl rfl)
theorem dX6_init_341 : decode cX6_init 341 = .ok (.sipush 1001, 3) := dk_17 3 233 (dk_at dksX6_init_14 9 rfl rfl)
theorem dX6_init_344 : decode cX6_init 344 = .ok (.newarray .int, 2) := dk_188_10 (dk_at dksX6_init_14 12 rfl rfl)
theorem dX6_init_346 : decode cX6_init 346 = .ok (.putfield 140, 3) := dk_181 0 140 (dk_at dksX6_init_14 14 rfl rfl)
theorem dX6_init_349 : decode cX6_init 349 = .ok (.aload_n 0, 1) := dk_42 (dk_at dksX6_init_14 17 rfl rfl)
theorem dX6_init_350 : decode cX6_init 350 = .ok (.sipush 1001, 3) := dk_17 3 233 (dk_at dksX6_init_14 18 rfl rfl)
theorem dX6_init_353 : decode cX6_init 353 = .ok (.newarray .int, 2) := dk_188_10 (dk_at dksX6_init_14 21 rfl rfl)
theorem dX6_init_355 : decode cX6_init 355 = .ok (.putfield 143, 3) := dk_181 0 143 (dk_at dksX6_init_15 0 rfl rfl)
theorem dX6_init_358 : decode cX6_init 358 = .ok (.aload_n 0, 1) := dk_42 (dk_at dksX6_init_15 3 rfl rfl)
theorem dX6_init_359 : decode cX6_init 359 = .ok (.sipush 8202, 3) := dk_17 32 10 (dk_at dksX6_init_15 4 rfl rfl)
theorem dX6_init_362 : decode cX6_init 362 = .ok (.newarray .int, 2) := dk_188_10 (dk_at dksX6_init_15 7 rfl rfl)
theorem dX6_init_364 : decode cX6_init 364 = .ok (.putfield 146, 3) := dk_181 0 146 (dk_at dksX6_init_15 9 rfl rfl)
theorem dX6_init_367 : decode cX6_init 367 = .ok (.aload_n 0, 1) := dk_42 (dk_at dksX6_init_15 12 rfl rfl)
theorem dX6_init_368 : decode cX6_init 368 = .ok (.sipush 720, 3) := dk_17 2 208 (dk_at dksX6_init_15 13 rfl rfl)
theorem dX6_init_371 : decode cX6_init 371 = .ok (.newarray .int, 2) := dk_188_10 (dk_at dksX6_init_15 16 rfl rfl)
theorem dX6_init_373 : decode cX6_init 373 = .ok (.putfield 149, 3) := dk_181 0 149 (dk_at dksX6_init_15 18 rfl rfl)
theorem dX6_init_376 : decode cX6_init 376 = .ok (.aload_n 0, 1) := dk_42 (dk_at dksX6_init_15 21 rfl rfl)
theorem dX6_init_377 : decode cX6_init 377 = .ok (.sipush 2880, 3) := dk_17 11 64 (dk_at dksX6_init_16 0 rfl rfl)
theorem dX6_init_380 : decode cX6_init 380 = .ok (.newarray .int, 2) := dk_188_10 (dk_at dksX6_init_16 3 rfl rfl)
theorem dX6_init_382 : decode cX6_init 382 = .ok (.putfield 152, 3) := dk_181 0 152 (dk_at dksX6_init_16 5 rfl rfl)
theorem dX6_init_385 : decode cX6_init 385 = .ok (.aload_n 0, 1) := dk_42 (dk_at dksX6_init_16 8 rfl rfl)
theorem dX6_init_386 : decode cX6_init 386 = .ok (.sipush 2880, 3) := dk_17 11 64 (dk_at dksX6_init_16 9 rfl rfl)
theorem dX6_init_389 : decode cX6_init 389 = .ok (.newarray .int, 2) := dk_188_10 (dk_at dksX6_init_16 12 rfl rfl)
theorem dX6_init_391 : decode cX6_init 391 = .ok (.putfield 155, 3) := dk_181 0 155 (dk_at dksX6_init_16 14 rfl rfl)
theorem dX6_init_394 : decode cX6_init 394 = .ok (.aload_n 0, 1) := dk_42 (dk_at dksX6_init_16 17 rfl rfl)
theorem dX6_init_395 : decode cX6_init 395 = .ok (.sipush 720, 3) := dk_17 2 208 (dk_at dksX6_init_16 18 rfl rfl)
theorem dX6_init_398 : decode cX6_init 398 = .ok (.newarray .int, 2) := dk_188_10 (dk_at dksX6_init_16 21 rfl rfl)
theorem dX6_init_400 : decode cX6_init 400 = .ok (.putfield 158, 3) := dk_181 0 158 (dk_at dksX6_init_17 0 rfl rfl)
theorem dX6_init_403 : decode cX6_init 403 = .ok (.aload_n 0, 1) := dk_42 (dk_at dksX6_init_17 3 rfl rfl)
theorem dX6_init_404 : decode cX6_init 404 = .ok (.sipush 720, 3) := dk_17 2 208 (dk_at dksX6_init_17 4 rfl rfl)
theorem dX6_init_407 : decode cX6_init 407 = .ok (.newarray .int, 2) := dk_188_10 (dk_at dksX6_init_17 7 rfl rfl)
theorem dX6_init_409 : decode cX6_init 409 = .ok (.putfield 161, 3) := dk_181 0 161 (dk_at dksX6_init_17 9 rfl rfl)
theorem dX6_init_412 : decode cX6_init 412 = .ok (.aload_n 0, 1) := dk_42 (dk_at dksX6_init_17 12 rfl rfl)
theorem dX6_init_413 : decode cX6_init 413 = .ok (.invokevirtual 164, 3) := dk_182 0 164 (dk_at dksX6_init_17 13 rfl rfl)
theorem dX6_init_416 : decode cX6_init 416 = .ok (.return_, 1) := dk_177 (dk_at dksX6_init_17 16 rfl rfl)
abbrev cX6_makes : ByteArray := prog_15_method_9_code
def yX6_makes : MethodName := ⟨RX6, "makes", "()V"⟩
def dkwX6_makes_12 : List UInt8 := [3, 181, 0, 193, 42, 3, 181, 0, 196, 177]
abbrev dktX6_makes_12 : List UInt8 := dkwX6_makes_12 ++ []
def dkwX6_makes_11 : List UInt8 := [180, 0, 69, 3, 3, 84, 42, 180, 0, 69, 4, 3, 84, 42, 3, 181, 0, 187, 42, 3, 181, 0, 190, 42]
abbrev dktX6_makes_11 : List UInt8 := dkwX6_makes_11 ++ dktX6_makes_12
def dkwX6_makes_10 : List UInt8 := [181, 0, 184, 3, 60, 27, 7, 162, 0, 16, 42, 180, 0, 51, 27, 3, 79, 132, 1, 1, 167, 255, 241, 42]
abbrev dktX6_makes_10 : List UInt8 := dkwX6_makes_10 ++ dktX6_makes_11
def dkwX6_makes_9 : List UInt8 := [4, 79, 42, 180, 0, 42, 27, 3, 84, 132, 1, 1, 167, 255, 199, 42, 3, 181, 0, 181, 42, 3]
abbrev dktX6_makes_9 : List UInt8 := dkwX6_makes_9 ++ dktX6_makes_10
def dkwX6_makes_8 : List UInt8 := [167, 0, 4, 3, 61, 42, 180, 0, 33, 27, 28, 79, 42, 180, 0, 36, 28, 27, 79, 42, 180, 0, 39, 27]
abbrev dktX6_makes_8 : List UInt8 := dkwX6_makes_8 ++ dktX6_makes_9
def dkwX6_makes_7 : List UInt8 := [3, 60, 27, 42, 180, 0, 170, 162, 0, 55, 27, 4, 96, 42, 180, 0, 170, 162, 0, 9, 27, 4, 96]
abbrev dktX6_makes_7 : List UInt8 := dkwX6_makes_7 ++ dktX6_makes_8
def dkwX6_makes_6 : List UInt8 := [167, 255, 195, 3, 60, 27, 42, 180, 0, 170, 162, 0, 14, 42, 27, 182, 0, 177, 132, 1, 1, 167, 255, 240]
abbrev dktX6_makes_6 : List UInt8 := dkwX6_makes_6 ++ dktX6_makes_7
def dkwX6_makes_5 : List UInt8 := [160, 0, 7, 2, 167, 0, 9, 42, 180, 0, 13, 29, 46, 79, 132, 2, 1, 167, 255, 211, 132, 1, 1]
abbrev dktX6_makes_5 : List UInt8 := dkwX6_makes_5 ++ dktX6_makes_6
def dkwX6_makes_4 : List UInt8 := [42, 180, 0, 7, 27, 46, 28, 182, 0, 173, 62, 42, 180, 0, 16, 7, 27, 104, 28, 96, 29, 2]
abbrev dktX6_makes_4 : List UInt8 := dkwX6_makes_4 ++ dktX6_makes_5
def dkwX6_makes_3 : List UInt8 := [132, 1, 1, 167, 255, 188, 3, 60, 27, 42, 180, 0, 170, 162, 0, 59, 3, 61, 28, 7, 162, 0, 46, 42]
abbrev dktX6_makes_3 : List UInt8 := dkwX6_makes_3 ++ dktX6_makes_4
def dkwX6_makes_2 : List UInt8 := [51, 154, 0, 23, 42, 180, 0, 7, 42, 180, 0, 170, 27, 79, 42, 89, 180, 0, 170, 4, 96, 181, 0, 170]
abbrev dktX6_makes_2 : List UInt8 := dkwX6_makes_2 ++ dktX6_makes_3
def dkwX6_makes_1 : List UInt8 := [27, 42, 180, 0, 22, 27, 51, 153, 0, 7, 2, 167, 0, 7, 42, 180, 0, 170, 79, 42, 180, 0, 22, 27]
abbrev dktX6_makes_1 : List UInt8 := dkwX6_makes_1 ++ dktX6_makes_2
def dkwX6_makes_0 : List UInt8 := [42, 3, 181, 0, 170, 3, 60, 27, 42, 180, 0, 26, 42, 180, 0, 30, 104, 162, 0, 61, 42, 180, 0, 13]
abbrev dktX6_makes_0 : List UInt8 := dkwX6_makes_0 ++ dktX6_makes_1
theorem dksX6_makes_0 : cX6_makes.data.toList.drop 0 = dktX6_makes_0 := by decide +kernel
theorem dksX6_makes_1 : cX6_makes.data.toList.drop 24 = dktX6_makes_1 := dk_seg dksX6_makes_0 24 rfl rfl
theorem dksX6_makes_2 : cX6_makes.data.toList.drop 48 = dktX6_makes_2 := dk_seg dksX6_makes_1 24 rfl rfl
theorem dksX6_makes_3 : cX6_makes.data.toList.drop 72 = dktX6_makes_3 := dk_seg dksX6_makes_2 24 rfl rfl
theorem dksX6_makes_4 : cX6_makes.data.toList.drop 96 = dktX6_makes_4 := dk_seg dksX6_makes_3 24 rfl rfl
theorem dksX6_makes_5 : cX6_makes.data.toList.drop 118 = dktX6_makes_5 := dk_seg dksX6_makes_4 22 rfl rfl
theorem dksX6_makes_6 : cX6_makes.data.toList.drop 141 = dktX6_makes_6 := dk_seg dksX6_makes_5 23 rfl rfl
theorem dksX6_makes_7 : cX6_makes.data.toList.drop 165 = dktX6_makes_7 := dk_seg dksX6_makes_6 24 rfl rfl
theorem dksX6_makes_8 : cX6_makes.data.toList.drop 188 = dktX6_makes_8 := dk_seg dksX6_makes_7 23 rfl rfl
theorem dksX6_makes_9 : cX6_makes.data.toList.drop 212 = dktX6_makes_9 := dk_seg dksX6_makes_8 24 rfl rfl
theorem dksX6_makes_10 : cX6_makes.data.toList.drop 234 = dktX6_makes_10 := dk_seg dksX6_makes_9 22 rfl rfl
theorem dksX6_makes_11 : cX6_makes.data.toList.drop 258 = dktX6_makes_11 := dk_seg dksX6_makes_10 24 rfl rfl
theorem dksX6_makes_12 : cX6_makes.data.toList.drop 282 = dktX6_makes_12 := dk_seg dksX6_makes_11 24 rfl rfl
theorem dX6_makes_0 : decode cX6_makes 0 = .ok (.aload_n 0, 1) := dk_42 (dk_at dksX6_makes_0 0 rfl rfl)
theorem dX6_makes_1 : decode cX6_makes 1 = .ok (.iconst 0, 1) := dk_3 (dk_at dksX6_makes_0 1 rfl rfl)
theorem dX6_makes_2 : decode cX6_makes 2 = .ok (.putfield 170, 3) := dk_181 0 170 (dk_at dksX6_makes_0 2 rfl rfl)
theorem dX6_makes_5 : decode cX6_makes 5 = .ok (.iconst 0, 1) := dk_3 (dk_at dksX6_makes_0 5 rfl rfl)
theorem dX6_makes_6 : decode cX6_makes 6 = .ok (.istore_n 1, 1) := dk_60 (dk_at dksX6_makes_0 6 rfl rfl)
theorem dX6_makes_7 : decode cX6_makes 7 = .ok (.iload_n 1, 1) := dk_27 (dk_at dksX6_makes_0 7 rfl rfl)
theorem dX6_makes_8 : decode cX6_makes 8 = .ok (.aload_n 0, 1) := dk_42 (dk_at dksX6_makes_0 8 rfl rfl)
theorem dX6_makes_9 : decode cX6_makes 9 = .ok (.getfield 26, 3) := dk_180 0 26 (dk_at dksX6_makes_0 9 rfl rfl)
theorem dX6_makes_12 : decode cX6_makes 12 = .ok (.aload_n 0, 1) := dk_42 (dk_at dksX6_makes_0 12 rfl rfl)
theorem dX6_makes_13 : decode cX6_makes 13 = .ok (.getfield 30, 3) := dk_180 0 30 (dk_at dksX6_makes_0 13 rfl rfl)
theorem dX6_makes_16 : decode cX6_makes 16 = .ok (.imul, 1) := dk_104 (dk_at dksX6_makes_0 16 rfl rfl)
theorem dX6_makes_17 : decode cX6_makes 17 = .ok (.if_icmp .ge 61, 3) := dk_162 0 61 (dk_at dksX6_makes_0 17 rfl rfl)
theorem dX6_makes_20 : decode cX6_makes 20 = .ok (.aload_n 0, 1) := dk_42 (dk_at dksX6_makes_0 20 rfl rfl)
theorem dX6_makes_21 : decode cX6_makes 21 = .ok (.getfield 13, 3) := dk_180 0 13 (dk_at dksX6_makes_0 21 rfl rfl)
theorem dX6_makes_24 : decode cX6_makes 24 = .ok (.iload_n 1, 1) := dk_27 (dk_at dksX6_makes_1 0 rfl rfl)
theorem dX6_makes_25 : decode cX6_makes 25 = .ok (.aload_n 0, 1) := dk_42 (dk_at dksX6_makes_1 1 rfl rfl)
theorem dX6_makes_26 : decode cX6_makes 26 = .ok (.getfield 22, 3) := dk_180 0 22 (dk_at dksX6_makes_1 2 rfl rfl)
theorem dX6_makes_29 : decode cX6_makes 29 = .ok (.iload_n 1, 1) := dk_27 (dk_at dksX6_makes_1 5 rfl rfl)
theorem dX6_makes_30 : decode cX6_makes 30 = .ok (.baload, 1) := dk_51 (dk_at dksX6_makes_1 6 rfl rfl)
theorem dX6_makes_31 : decode cX6_makes 31 = .ok (.ifCond .eq 7, 3) := dk_153 0 7 (dk_at dksX6_makes_1 7 rfl rfl)
theorem dX6_makes_34 : decode cX6_makes 34 = .ok (.iconst (-1), 1) := dk_2 (dk_at dksX6_makes_1 10 rfl rfl)
theorem dX6_makes_35 : decode cX6_makes 35 = .ok (.goto 7, 3) := dk_167 0 7 (dk_at dksX6_makes_1 11 rfl rfl)
theorem dX6_makes_38 : decode cX6_makes 38 = .ok (.aload_n 0, 1) := dk_42 (dk_at dksX6_makes_1 14 rfl rfl)
theorem dX6_makes_39 : decode cX6_makes 39 = .ok (.getfield 170, 3) := dk_180 0 170 (dk_at dksX6_makes_1 15 rfl rfl)
theorem dX6_makes_42 : decode cX6_makes 42 = .ok (.iastore, 1) := dk_79 (dk_at dksX6_makes_1 18 rfl rfl)
theorem dX6_makes_43 : decode cX6_makes 43 = .ok (.aload_n 0, 1) := dk_42 (dk_at dksX6_makes_1 19 rfl rfl)
theorem dX6_makes_44 : decode cX6_makes 44 = .ok (.getfield 22, 3) := dk_180 0 22 (dk_at dksX6_makes_1 20 rfl rfl)
theorem dX6_makes_47 : decode cX6_makes 47 = .ok (.iload_n 1, 1) := dk_27 (dk_at dksX6_makes_1 23 rfl rfl)
theorem dX6_makes_48 : decode cX6_makes 48 = .ok (.baload, 1) := dk_51 (dk_at dksX6_makes_2 0 rfl rfl)
theorem dX6_makes_49 : decode cX6_makes 49 = .ok (.ifCond .ne 23, 3) := dk_154 0 23 (dk_at dksX6_makes_2 1 rfl rfl)
theorem dX6_makes_52 : decode cX6_makes 52 = .ok (.aload_n 0, 1) := dk_42 (dk_at dksX6_makes_2 4 rfl rfl)
theorem dX6_makes_53 : decode cX6_makes 53 = .ok (.getfield 7, 3) := dk_180 0 7 (dk_at dksX6_makes_2 5 rfl rfl)
theorem dX6_makes_56 : decode cX6_makes 56 = .ok (.aload_n 0, 1) := dk_42 (dk_at dksX6_makes_2 8 rfl rfl)
theorem dX6_makes_57 : decode cX6_makes 57 = .ok (.getfield 170, 3) := dk_180 0 170 (dk_at dksX6_makes_2 9 rfl rfl)
theorem dX6_makes_60 : decode cX6_makes 60 = .ok (.iload_n 1, 1) := dk_27 (dk_at dksX6_makes_2 12 rfl rfl)
theorem dX6_makes_61 : decode cX6_makes 61 = .ok (.iastore, 1) := dk_79 (dk_at dksX6_makes_2 13 rfl rfl)
theorem dX6_makes_62 : decode cX6_makes 62 = .ok (.aload_n 0, 1) := dk_42 (dk_at dksX6_makes_2 14 rfl rfl)
theorem dX6_makes_63 : decode cX6_makes 63 = .ok (.dup, 1) := dk_89 (dk_at dksX6_makes_2 15 rfl rfl)
theorem dX6_makes_64 : decode cX6_makes 64 = .ok (.getfield 170, 3) := dk_180 0 170 (dk_at dksX6_makes_2 16 rfl rfl)
theorem dX6_makes_67 : decode cX6_makes 67 = .ok (.iconst 1, 1) := dk_4 (dk_at dksX6_makes_2 19 rfl rfl)
theorem dX6_makes_68 : decode cX6_makes 68 = .ok (.iadd, 1) := dk_96 (dk_at dksX6_makes_2 20 rfl rfl)
theorem dX6_makes_69 : decode cX6_makes 69 = .ok (.putfield 170, 3) := dk_181 0 170 (dk_at dksX6_makes_2 21 rfl rfl)
theorem dX6_makes_72 : decode cX6_makes 72 = .ok (.iinc 1 1, 3) := dk_132 1 1 (dk_at dksX6_makes_3 0 rfl rfl)
theorem dX6_makes_75 : decode cX6_makes 75 = .ok (.goto (-68), 3) := dk_167 255 188 (dk_at dksX6_makes_3 3 rfl rfl)
theorem dX6_makes_78 : decode cX6_makes 78 = .ok (.iconst 0, 1) := dk_3 (dk_at dksX6_makes_3 6 rfl rfl)
theorem dX6_makes_79 : decode cX6_makes 79 = .ok (.istore_n 1, 1) := dk_60 (dk_at dksX6_makes_3 7 rfl rfl)
theorem dX6_makes_80 : decode cX6_makes 80 = .ok (.iload_n 1, 1) := dk_27 (dk_at dksX6_makes_3 8 rfl rfl)
theorem dX6_makes_81 : decode cX6_makes 81 = .ok (.aload_n 0, 1) := dk_42 (dk_at dksX6_makes_3 9 rfl rfl)
theorem dX6_makes_82 : decode cX6_makes 82 = .ok (.getfield 170, 3) := dk_180 0 170 (dk_at dksX6_makes_3 10 rfl rfl)
theorem dX6_makes_85 : decode cX6_makes 85 = .ok (.if_icmp .ge 59, 3) := dk_162 0 59 (dk_at dksX6_makes_3 13 rfl rfl)
theorem dX6_makes_88 : decode cX6_makes 88 = .ok (.iconst 0, 1) := dk_3 (dk_at dksX6_makes_3 16 rfl rfl)
theorem dX6_makes_89 : decode cX6_makes 89 = .ok (.istore_n 2, 1) := dk_61 (dk_at dksX6_makes_3 17 rfl rfl)
theorem dX6_makes_90 : decode cX6_makes 90 = .ok (.iload_n 2, 1) := dk_28 (dk_at dksX6_makes_3 18 rfl rfl)
theorem dX6_makes_91 : decode cX6_makes 91 = .ok (.iconst 4, 1) := dk_7 (dk_at dksX6_makes_3 19 rfl rfl)
theorem dX6_makes_92 : decode cX6_makes 92 = .ok (.if_icmp .ge 46, 3) := dk_162 0 46 (dk_at dksX6_makes_3 20 rfl rfl)
theorem dX6_makes_95 : decode cX6_makes 95 = .ok (.aload_n 0, 1) := dk_42 (dk_at dksX6_makes_3 23 rfl rfl)
theorem dX6_makes_96 : decode cX6_makes 96 = .ok (.aload_n 0, 1) := dk_42 (dk_at dksX6_makes_4 0 rfl rfl)
theorem dX6_makes_97 : decode cX6_makes 97 = .ok (.getfield 7, 3) := dk_180 0 7 (dk_at dksX6_makes_4 1 rfl rfl)
theorem dX6_makes_100 : decode cX6_makes 100 = .ok (.iload_n 1, 1) := dk_27 (dk_at dksX6_makes_4 4 rfl rfl)
theorem dX6_makes_101 : decode cX6_makes 101 = .ok (.iaload, 1) := dk_46 (dk_at dksX6_makes_4 5 rfl rfl)
theorem dX6_makes_102 : decode cX6_makes 102 = .ok (.iload_n 2, 1) := dk_28 (dk_at dksX6_makes_4 6 rfl rfl)
theorem dX6_makes_103 : decode cX6_makes 103 = .ok (.invokevirtual 173, 3) := dk_182 0 173 (dk_at dksX6_makes_4 7 rfl rfl)
theorem dX6_makes_106 : decode cX6_makes 106 = .ok (.istore_n 3, 1) := dk_62 (dk_at dksX6_makes_4 10 rfl rfl)
theorem dX6_makes_107 : decode cX6_makes 107 = .ok (.aload_n 0, 1) := dk_42 (dk_at dksX6_makes_4 11 rfl rfl)
theorem dX6_makes_108 : decode cX6_makes 108 = .ok (.getfield 16, 3) := dk_180 0 16 (dk_at dksX6_makes_4 12 rfl rfl)
theorem dX6_makes_111 : decode cX6_makes 111 = .ok (.iconst 4, 1) := dk_7 (dk_at dksX6_makes_4 15 rfl rfl)
theorem dX6_makes_112 : decode cX6_makes 112 = .ok (.iload_n 1, 1) := dk_27 (dk_at dksX6_makes_4 16 rfl rfl)
theorem dX6_makes_113 : decode cX6_makes 113 = .ok (.imul, 1) := dk_104 (dk_at dksX6_makes_4 17 rfl rfl)
theorem dX6_makes_114 : decode cX6_makes 114 = .ok (.iload_n 2, 1) := dk_28 (dk_at dksX6_makes_4 18 rfl rfl)
theorem dX6_makes_115 : decode cX6_makes 115 = .ok (.iadd, 1) := dk_96 (dk_at dksX6_makes_4 19 rfl rfl)
theorem dX6_makes_116 : decode cX6_makes 116 = .ok (.iload_n 3, 1) := dk_29 (dk_at dksX6_makes_4 20 rfl rfl)
theorem dX6_makes_117 : decode cX6_makes 117 = .ok (.iconst (-1), 1) := dk_2 (dk_at dksX6_makes_4 21 rfl rfl)
theorem dX6_makes_118 : decode cX6_makes 118 = .ok (.if_icmp .ne 7, 3) := dk_160 0 7 (dk_at dksX6_makes_5 0 rfl rfl)
theorem dX6_makes_121 : decode cX6_makes 121 = .ok (.iconst (-1), 1) := dk_2 (dk_at dksX6_makes_5 3 rfl rfl)
theorem dX6_makes_122 : decode cX6_makes 122 = .ok (.goto 9, 3) := dk_167 0 9 (dk_at dksX6_makes_5 4 rfl rfl)
theorem dX6_makes_125 : decode cX6_makes 125 = .ok (.aload_n 0, 1) := dk_42 (dk_at dksX6_makes_5 7 rfl rfl)
theorem dX6_makes_126 : decode cX6_makes 126 = .ok (.getfield 13, 3) := dk_180 0 13 (dk_at dksX6_makes_5 8 rfl rfl)
theorem dX6_makes_129 : decode cX6_makes 129 = .ok (.iload_n 3, 1) := dk_29 (dk_at dksX6_makes_5 11 rfl rfl)
theorem dX6_makes_130 : decode cX6_makes 130 = .ok (.iaload, 1) := dk_46 (dk_at dksX6_makes_5 12 rfl rfl)
theorem dX6_makes_131 : decode cX6_makes 131 = .ok (.iastore, 1) := dk_79 (dk_at dksX6_makes_5 13 rfl rfl)
theorem dX6_makes_132 : decode cX6_makes 132 = .ok (.iinc 2 1, 3) := dk_132 2 1 (dk_at dksX6_makes_5 14 rfl rfl)
theorem dX6_makes_135 : decode cX6_makes 135 = .ok (.goto (-45), 3) := dk_167 255 211 (dk_at dksX6_makes_5 17 rfl rfl)
theorem dX6_makes_138 : decode cX6_makes 138 = .ok (.iinc 1 1, 3) := dk_132 1 1 (dk_at dksX6_makes_5 20 rfl rfl)
theorem dX6_makes_141 : decode cX6_makes 141 = .ok (.goto (-61), 3) := dk_167 255 195 (dk_at dksX6_makes_6 0 rfl rfl)
theorem dX6_makes_144 : decode cX6_makes 144 = .ok (.iconst 0, 1) := dk_3 (dk_at dksX6_makes_6 3 rfl rfl)
theorem dX6_makes_145 : decode cX6_makes 145 = .ok (.istore_n 1, 1) := dk_60 (dk_at dksX6_makes_6 4 rfl rfl)
theorem dX6_makes_146 : decode cX6_makes 146 = .ok (.iload_n 1, 1) := dk_27 (dk_at dksX6_makes_6 5 rfl rfl)
theorem dX6_makes_147 : decode cX6_makes 147 = .ok (.aload_n 0, 1) := dk_42 (dk_at dksX6_makes_6 6 rfl rfl)
theorem dX6_makes_148 : decode cX6_makes 148 = .ok (.getfield 170, 3) := dk_180 0 170 (dk_at dksX6_makes_6 7 rfl rfl)
theorem dX6_makes_151 : decode cX6_makes 151 = .ok (.if_icmp .ge 14, 3) := dk_162 0 14 (dk_at dksX6_makes_6 10 rfl rfl)
theorem dX6_makes_154 : decode cX6_makes 154 = .ok (.aload_n 0, 1) := dk_42 (dk_at dksX6_makes_6 13 rfl rfl)
theorem dX6_makes_155 : decode cX6_makes 155 = .ok (.iload_n 1, 1) := dk_27 (dk_at dksX6_makes_6 14 rfl rfl)
theorem dX6_makes_156 : decode cX6_makes 156 = .ok (.invokevirtual 177, 3) := dk_182 0 177 (dk_at dksX6_makes_6 15 rfl rfl)
theorem dX6_makes_159 : decode cX6_makes 159 = .ok (.iinc 1 1, 3) := dk_132 1 1 (dk_at dksX6_makes_6 18 rfl rfl)
theorem dX6_makes_162 : decode cX6_makes 162 = .ok (.goto (-16), 3) := dk_167 255 240 (dk_at dksX6_makes_6 21 rfl rfl)
theorem dX6_makes_165 : decode cX6_makes 165 = .ok (.iconst 0, 1) := dk_3 (dk_at dksX6_makes_7 0 rfl rfl)
theorem dX6_makes_166 : decode cX6_makes 166 = .ok (.istore_n 1, 1) := dk_60 (dk_at dksX6_makes_7 1 rfl rfl)
theorem dX6_makes_167 : decode cX6_makes 167 = .ok (.iload_n 1, 1) := dk_27 (dk_at dksX6_makes_7 2 rfl rfl)
theorem dX6_makes_168 : decode cX6_makes 168 = .ok (.aload_n 0, 1) := dk_42 (dk_at dksX6_makes_7 3 rfl rfl)
theorem dX6_makes_169 : decode cX6_makes 169 = .ok (.getfield 170, 3) := dk_180 0 170 (dk_at dksX6_makes_7 4 rfl rfl)
theorem dX6_makes_172 : decode cX6_makes 172 = .ok (.if_icmp .ge 55, 3) := dk_162 0 55 (dk_at dksX6_makes_7 7 rfl rfl)
theorem dX6_makes_175 : decode cX6_makes 175 = .ok (.iload_n 1, 1) := dk_27 (dk_at dksX6_makes_7 10 rfl rfl)
theorem dX6_makes_176 : decode cX6_makes 176 = .ok (.iconst 1, 1) := dk_4 (dk_at dksX6_makes_7 11 rfl rfl)
theorem dX6_makes_177 : decode cX6_makes 177 = .ok (.iadd, 1) := dk_96 (dk_at dksX6_makes_7 12 rfl rfl)
theorem dX6_makes_178 : decode cX6_makes 178 = .ok (.aload_n 0, 1) := dk_42 (dk_at dksX6_makes_7 13 rfl rfl)
theorem dX6_makes_179 : decode cX6_makes 179 = .ok (.getfield 170, 3) := dk_180 0 170 (dk_at dksX6_makes_7 14 rfl rfl)
theorem dX6_makes_182 : decode cX6_makes 182 = .ok (.if_icmp .ge 9, 3) := dk_162 0 9 (dk_at dksX6_makes_7 17 rfl rfl)
theorem dX6_makes_185 : decode cX6_makes 185 = .ok (.iload_n 1, 1) := dk_27 (dk_at dksX6_makes_7 20 rfl rfl)
theorem dX6_makes_186 : decode cX6_makes 186 = .ok (.iconst 1, 1) := dk_4 (dk_at dksX6_makes_7 21 rfl rfl)
theorem dX6_makes_187 : decode cX6_makes 187 = .ok (.iadd, 1) := dk_96 (dk_at dksX6_makes_7 22 rfl rfl)
theorem dX6_makes_188 : decode cX6_makes 188 = .ok (.goto 4, 3) := dk_167 0 4 (dk_at dksX6_makes_8 0 rfl rfl)
theorem dX6_makes_191 : decode cX6_makes 191 = .ok (.iconst 0, 1) := dk_3 (dk_at dksX6_makes_8 3 rfl rfl)
theorem dX6_makes_192 : decode cX6_makes 192 = .ok (.istore_n 2, 1) := dk_61 (dk_at dksX6_makes_8 4 rfl rfl)
theorem dX6_makes_193 : decode cX6_makes 193 = .ok (.aload_n 0, 1) := dk_42 (dk_at dksX6_makes_8 5 rfl rfl)
theorem dX6_makes_194 : decode cX6_makes 194 = .ok (.getfield 33, 3) := dk_180 0 33 (dk_at dksX6_makes_8 6 rfl rfl)
theorem dX6_makes_197 : decode cX6_makes 197 = .ok (.iload_n 1, 1) := dk_27 (dk_at dksX6_makes_8 9 rfl rfl)
theorem dX6_makes_198 : decode cX6_makes 198 = .ok (.iload_n 2, 1) := dk_28 (dk_at dksX6_makes_8 10 rfl rfl)
theorem dX6_makes_199 : decode cX6_makes 199 = .ok (.iastore, 1) := dk_79 (dk_at dksX6_makes_8 11 rfl rfl)
theorem dX6_makes_200 : decode cX6_makes 200 = .ok (.aload_n 0, 1) := dk_42 (dk_at dksX6_makes_8 12 rfl rfl)
theorem dX6_makes_201 : decode cX6_makes 201 = .ok (.getfield 36, 3) := dk_180 0 36 (dk_at dksX6_makes_8 13 rfl rfl)
theorem dX6_makes_204 : decode cX6_makes 204 = .ok (.iload_n 2, 1) := dk_28 (dk_at dksX6_makes_8 16 rfl rfl)
theorem dX6_makes_205 : decode cX6_makes 205 = .ok (.iload_n 1, 1) := dk_27 (dk_at dksX6_makes_8 17 rfl rfl)
theorem dX6_makes_206 : decode cX6_makes 206 = .ok (.iastore, 1) := dk_79 (dk_at dksX6_makes_8 18 rfl rfl)
theorem dX6_makes_207 : decode cX6_makes 207 = .ok (.aload_n 0, 1) := dk_42 (dk_at dksX6_makes_8 19 rfl rfl)
theorem dX6_makes_208 : decode cX6_makes 208 = .ok (.getfield 39, 3) := dk_180 0 39 (dk_at dksX6_makes_8 20 rfl rfl)
theorem dX6_makes_211 : decode cX6_makes 211 = .ok (.iload_n 1, 1) := dk_27 (dk_at dksX6_makes_8 23 rfl rfl)
theorem dX6_makes_212 : decode cX6_makes 212 = .ok (.iconst 1, 1) := dk_4 (dk_at dksX6_makes_9 0 rfl rfl)
theorem dX6_makes_213 : decode cX6_makes 213 = .ok (.iastore, 1) := dk_79 (dk_at dksX6_makes_9 1 rfl rfl)
theorem dX6_makes_214 : decode cX6_makes 214 = .ok (.aload_n 0, 1) := dk_42 (dk_at dksX6_makes_9 2 rfl rfl)
theorem dX6_makes_215 : decode cX6_makes 215 = .ok (.getfield 42, 3) := dk_180 0 42 (dk_at dksX6_makes_9 3 rfl rfl)
theorem dX6_makes_218 : decode cX6_makes 218 = .ok (.iload_n 1, 1) := dk_27 (dk_at dksX6_makes_9 6 rfl rfl)
theorem dX6_makes_219 : decode cX6_makes 219 = .ok (.iconst 0, 1) := dk_3 (dk_at dksX6_makes_9 7 rfl rfl)
theorem dX6_makes_220 : decode cX6_makes 220 = .ok (.bastore, 1) := dk_84 (dk_at dksX6_makes_9 8 rfl rfl)
theorem dX6_makes_221 : decode cX6_makes 221 = .ok (.iinc 1 1, 3) := dk_132 1 1 (dk_at dksX6_makes_9 9 rfl rfl)
theorem dX6_makes_224 : decode cX6_makes 224 = .ok (.goto (-57), 3) := dk_167 255 199 (dk_at dksX6_makes_9 12 rfl rfl)
theorem dX6_makes_227 : decode cX6_makes 227 = .ok (.aload_n 0, 1) := dk_42 (dk_at dksX6_makes_9 15 rfl rfl)
theorem dX6_makes_228 : decode cX6_makes 228 = .ok (.iconst 0, 1) := dk_3 (dk_at dksX6_makes_9 16 rfl rfl)
theorem dX6_makes_229 : decode cX6_makes 229 = .ok (.putfield 181, 3) := dk_181 0 181 (dk_at dksX6_makes_9 17 rfl rfl)
theorem dX6_makes_232 : decode cX6_makes 232 = .ok (.aload_n 0, 1) := dk_42 (dk_at dksX6_makes_9 20 rfl rfl)
theorem dX6_makes_233 : decode cX6_makes 233 = .ok (.iconst 0, 1) := dk_3 (dk_at dksX6_makes_9 21 rfl rfl)
theorem dX6_makes_234 : decode cX6_makes 234 = .ok (.putfield 184, 3) := dk_181 0 184 (dk_at dksX6_makes_10 0 rfl rfl)
theorem dX6_makes_237 : decode cX6_makes 237 = .ok (.iconst 0, 1) := dk_3 (dk_at dksX6_makes_10 3 rfl rfl)
theorem dX6_makes_238 : decode cX6_makes 238 = .ok (.istore_n 1, 1) := dk_60 (dk_at dksX6_makes_10 4 rfl rfl)
theorem dX6_makes_239 : decode cX6_makes 239 = .ok (.iload_n 1, 1) := dk_27 (dk_at dksX6_makes_10 5 rfl rfl)
theorem dX6_makes_240 : decode cX6_makes 240 = .ok (.iconst 4, 1) := dk_7 (dk_at dksX6_makes_10 6 rfl rfl)
theorem dX6_makes_241 : decode cX6_makes 241 = .ok (.if_icmp .ge 16, 3) := dk_162 0 16 (dk_at dksX6_makes_10 7 rfl rfl)
theorem dX6_makes_244 : decode cX6_makes 244 = .ok (.aload_n 0, 1) := dk_42 (dk_at dksX6_makes_10 10 rfl rfl)
theorem dX6_makes_245 : decode cX6_makes 245 = .ok (.getfield 51, 3) := dk_180 0 51 (dk_at dksX6_makes_10 11 rfl rfl)
theorem dX6_makes_248 : decode cX6_makes 248 = .ok (.iload_n 1, 1) := dk_27 (dk_at dksX6_makes_10 14 rfl rfl)
theorem dX6_makes_249 : decode cX6_makes 249 = .ok (.iconst 0, 1) := dk_3 (dk_at dksX6_makes_10 15 rfl rfl)
theorem dX6_makes_250 : decode cX6_makes 250 = .ok (.iastore, 1) := dk_79 (dk_at dksX6_makes_10 16 rfl rfl)
theorem dX6_makes_251 : decode cX6_makes 251 = .ok (.iinc 1 1, 3) := dk_132 1 1 (dk_at dksX6_makes_10 17 rfl rfl)
theorem dX6_makes_254 : decode cX6_makes 254 = .ok (.goto (-15), 3) := dk_167 255 241 (dk_at dksX6_makes_10 20 rfl rfl)
theorem dX6_makes_257 : decode cX6_makes 257 = .ok (.aload_n 0, 1) := dk_42 (dk_at dksX6_makes_10 23 rfl rfl)
theorem dX6_makes_258 : decode cX6_makes 258 = .ok (.getfield 69, 3) := dk_180 0 69 (dk_at dksX6_makes_11 0 rfl rfl)
theorem dX6_makes_261 : decode cX6_makes 261 = .ok (.iconst 0, 1) := dk_3 (dk_at dksX6_makes_11 3 rfl rfl)
theorem dX6_makes_262 : decode cX6_makes 262 = .ok (.iconst 0, 1) := dk_3 (dk_at dksX6_makes_11 4 rfl rfl)
theorem dX6_makes_263 : decode cX6_makes 263 = .ok (.bastore, 1) := dk_84 (dk_at dksX6_makes_11 5 rfl rfl)
theorem dX6_makes_264 : decode cX6_makes 264 = .ok (.aload_n 0, 1) := dk_42 (dk_at dksX6_makes_11 6 rfl rfl)
theorem dX6_makes_265 : decode cX6_makes 265 = .ok (.getfield 69, 3) := dk_180 0 69 (dk_at dksX6_makes_11 7 rfl rfl)
theorem dX6_makes_268 : decode cX6_makes 268 = .ok (.iconst 1, 1) := dk_4 (dk_at dksX6_makes_11 10 rfl rfl)
theorem dX6_makes_269 : decode cX6_makes 269 = .ok (.iconst 0, 1) := dk_3 (dk_at dksX6_makes_11 11 rfl rfl)
theorem dX6_makes_270 : decode cX6_makes 270 = .ok (.bastore, 1) := dk_84 (dk_at dksX6_makes_11 12 rfl rfl)
theorem dX6_makes_271 : decode cX6_makes 271 = .ok (.aload_n 0, 1) := dk_42 (dk_at dksX6_makes_11 13 rfl rfl)
theorem dX6_makes_272 : decode cX6_makes 272 = .ok (.iconst 0, 1) := dk_3 (dk_at dksX6_makes_11 14 rfl rfl)
theorem dX6_makes_273 : decode cX6_makes 273 = .ok (.putfield 187, 3) := dk_181 0 187 (dk_at dksX6_makes_11 15 rfl rfl)
theorem dX6_makes_276 : decode cX6_makes 276 = .ok (.aload_n 0, 1) := dk_42 (dk_at dksX6_makes_11 18 rfl rfl)
theorem dX6_makes_277 : decode cX6_makes 277 = .ok (.iconst 0, 1) := dk_3 (dk_at dksX6_makes_11 19 rfl rfl)
theorem dX6_makes_278 : decode cX6_makes 278 = .ok (.putfield 190, 3) := dk_181 0 190 (dk_at dksX6_makes_11 20 rfl rfl)
theorem dX6_makes_281 : decode cX6_makes 281 = .ok (.aload_n 0, 1) := dk_42 (dk_at dksX6_makes_11 23 rfl rfl)
theorem dX6_makes_282 : decode cX6_makes 282 = .ok (.iconst 0, 1) := dk_3 (dk_at dksX6_makes_12 0 rfl rfl)
theorem dX6_makes_283 : decode cX6_makes 283 = .ok (.putfield 193, 3) := dk_181 0 193 (dk_at dksX6_makes_12 1 rfl rfl)
theorem dX6_makes_286 : decode cX6_makes 286 = .ok (.aload_n 0, 1) := dk_42 (dk_at dksX6_makes_12 4 rfl rfl)
theorem dX6_makes_287 : decode cX6_makes 287 = .ok (.iconst 0, 1) := dk_3 (dk_at dksX6_makes_12 5 rfl rfl)
theorem dX6_makes_288 : decode cX6_makes 288 = .ok (.putfield 196, 3) := dk_181 0 196 (dk_at dksX6_makes_12 6 rfl rfl)
theorem dX6_makes_291 : decode cX6_makes 291 = .ok (.return_, 1) := dk_177 (dk_at dksX6_makes_12 9 rfl rfl)
abbrev cX6_cellBeside : ByteArray := prog_15_method_8_code
def yX6_cellBeside : MethodName := ⟨RX6, "cellBeside", "(II)I"⟩
def dkwX6_cellBeside_4 : List UInt8 := [4, 96, 42, 180, 0, 26, 160, 0, 7, 2, 167, 0, 9, 27, 42, 180, 0, 30, 96, 172]
abbrev dktX6_cellBeside_4 : List UInt8 := dkwX6_cellBeside_4 ++ []
def dkwX6_cellBeside_3 : List UInt8 := [27, 4, 100, 172, 21, 4, 4, 96, 42, 180, 0, 30, 160, 0, 7, 2, 167, 0, 6, 27, 4, 96, 172, 29]
abbrev dktX6_cellBeside_3 : List UInt8 := dkwX6_cellBeside_3 ++ dktX6_cellBeside_4
def dkwX6_cellBeside_2 : List UInt8 := [29, 154, 0, 7, 2, 167, 0, 9, 27, 42, 180, 0, 30, 100, 172, 21, 4, 154, 0, 7, 2, 167, 0, 6]
abbrev dktX6_cellBeside_2 : List UInt8 := dkwX6_cellBeside_2 ++ dktX6_cellBeside_3
def dkwX6_cellBeside_1 : List UInt8 := [170, 0, 0, 0, 0, 0, 0, 75, 0, 0, 0, 0, 0, 0, 0, 2, 0, 0, 0, 28, 0, 0, 0, 43, 0, 0, 0, 56]
abbrev dktX6_cellBeside_1 : List UInt8 := dkwX6_cellBeside_1 ++ dktX6_cellBeside_2
def dkwX6_cellBeside_0 : List UInt8 := [27, 42, 180, 0, 30, 108, 62, 27, 42, 180, 0, 30, 112, 54, 4, 28]
abbrev dktX6_cellBeside_0 : List UInt8 := dkwX6_cellBeside_0 ++ dktX6_cellBeside_1
theorem dksX6_cellBeside_0 : cX6_cellBeside.data.toList.drop 0 = dktX6_cellBeside_0 := by decide +kernel
theorem dksX6_cellBeside_1 : cX6_cellBeside.data.toList.drop 16 = dktX6_cellBeside_1 := dk_seg dksX6_cellBeside_0 16 rfl rfl
theorem dksX6_cellBeside_2 : cX6_cellBeside.data.toList.drop 44 = dktX6_cellBeside_2 := dk_seg dksX6_cellBeside_1 28 rfl rfl
theorem dksX6_cellBeside_3 : cX6_cellBeside.data.toList.drop 68 = dktX6_cellBeside_3 := dk_seg dksX6_cellBeside_2 24 rfl rfl
theorem dksX6_cellBeside_4 : cX6_cellBeside.data.toList.drop 92 = dktX6_cellBeside_4 := dk_seg dksX6_cellBeside_3 24 rfl rfl
theorem dX6_cellBeside_0 : decode cX6_cellBeside 0 = .ok (.iload_n 1, 1) := dk_27 (dk_at dksX6_cellBeside_0 0 rfl rfl)
theorem dX6_cellBeside_1 : decode cX6_cellBeside 1 = .ok (.aload_n 0, 1) := dk_42 (dk_at dksX6_cellBeside_0 1 rfl rfl)
theorem dX6_cellBeside_2 : decode cX6_cellBeside 2 = .ok (.getfield 30, 3) := dk_180 0 30 (dk_at dksX6_cellBeside_0 2 rfl rfl)
theorem dX6_cellBeside_5 : decode cX6_cellBeside 5 = .ok (.idiv, 1) := dk_108 (dk_at dksX6_cellBeside_0 5 rfl rfl)
theorem dX6_cellBeside_6 : decode cX6_cellBeside 6 = .ok (.istore_n 3, 1) := dk_62 (dk_at dksX6_cellBeside_0 6 rfl rfl)
theorem dX6_cellBeside_7 : decode cX6_cellBeside 7 = .ok (.iload_n 1, 1) := dk_27 (dk_at dksX6_cellBeside_0 7 rfl rfl)
theorem dX6_cellBeside_8 : decode cX6_cellBeside 8 = .ok (.aload_n 0, 1) := dk_42 (dk_at dksX6_cellBeside_0 8 rfl rfl)
theorem dX6_cellBeside_9 : decode cX6_cellBeside 9 = .ok (.getfield 30, 3) := dk_180 0 30 (dk_at dksX6_cellBeside_0 9 rfl rfl)
theorem dX6_cellBeside_12 : decode cX6_cellBeside 12 = .ok (.irem, 1) := dk_112 (dk_at dksX6_cellBeside_0 12 rfl rfl)
theorem dX6_cellBeside_13 : decode cX6_cellBeside 13 = .ok (.istore 4, 2) := dk_54 4 (dk_at dksX6_cellBeside_0 13 rfl rfl)
theorem dX6_cellBeside_15 : decode cX6_cellBeside 15 = .ok (.iload_n 2, 1) := dk_28 (dk_at dksX6_cellBeside_0 15 rfl rfl)
theorem dX6_cellBeside_16 : decode cX6_cellBeside 16 = .ok (.tableswitch 75 0 2 #[28, 43, 56], 28) := by decide +kernel
theorem dX6_cellBeside_44 : decode cX6_cellBeside 44 = .ok (.iload_n 3, 1) := dk_29 (dk_at dksX6_cellBeside_2 0 rfl rfl)
theorem dX6_cellBeside_45 : decode cX6_cellBeside 45 = .ok (.ifCond .ne 7, 3) := dk_154 0 7 (dk_at dksX6_cellBeside_2 1 rfl rfl)
theorem dX6_cellBeside_48 : decode cX6_cellBeside 48 = .ok (.iconst (-1), 1) := dk_2 (dk_at dksX6_cellBeside_2 4 rfl rfl)
theorem dX6_cellBeside_49 : decode cX6_cellBeside 49 = .ok (.goto 9, 3) := dk_167 0 9 (dk_at dksX6_cellBeside_2 5 rfl rfl)
theorem dX6_cellBeside_52 : decode cX6_cellBeside 52 = .ok (.iload_n 1, 1) := dk_27 (dk_at dksX6_cellBeside_2 8 rfl rfl)
theorem dX6_cellBeside_53 : decode cX6_cellBeside 53 = .ok (.aload_n 0, 1) := dk_42 (dk_at dksX6_cellBeside_2 9 rfl rfl)
theorem dX6_cellBeside_54 : decode cX6_cellBeside 54 = .ok (.getfield 30, 3) := dk_180 0 30 (dk_at dksX6_cellBeside_2 10 rfl rfl)
theorem dX6_cellBeside_57 : decode cX6_cellBeside 57 = .ok (.isub, 1) := dk_100 (dk_at dksX6_cellBeside_2 13 rfl rfl)
theorem dX6_cellBeside_58 : decode cX6_cellBeside 58 = .ok (.ireturn, 1) := dk_172 (dk_at dksX6_cellBeside_2 14 rfl rfl)
theorem dX6_cellBeside_59 : decode cX6_cellBeside 59 = .ok (.iload 4, 2) := dk_21 4 (dk_at dksX6_cellBeside_2 15 rfl rfl)
theorem dX6_cellBeside_61 : decode cX6_cellBeside 61 = .ok (.ifCond .ne 7, 3) := dk_154 0 7 (dk_at dksX6_cellBeside_2 17 rfl rfl)
theorem dX6_cellBeside_64 : decode cX6_cellBeside 64 = .ok (.iconst (-1), 1) := dk_2 (dk_at dksX6_cellBeside_2 20 rfl rfl)
theorem dX6_cellBeside_65 : decode cX6_cellBeside 65 = .ok (.goto 6, 3) := dk_167 0 6 (dk_at dksX6_cellBeside_2 21 rfl rfl)
theorem dX6_cellBeside_68 : decode cX6_cellBeside 68 = .ok (.iload_n 1, 1) := dk_27 (dk_at dksX6_cellBeside_3 0 rfl rfl)
theorem dX6_cellBeside_69 : decode cX6_cellBeside 69 = .ok (.iconst 1, 1) := dk_4 (dk_at dksX6_cellBeside_3 1 rfl rfl)
theorem dX6_cellBeside_70 : decode cX6_cellBeside 70 = .ok (.isub, 1) := dk_100 (dk_at dksX6_cellBeside_3 2 rfl rfl)
theorem dX6_cellBeside_71 : decode cX6_cellBeside 71 = .ok (.ireturn, 1) := dk_172 (dk_at dksX6_cellBeside_3 3 rfl rfl)
theorem dX6_cellBeside_72 : decode cX6_cellBeside 72 = .ok (.iload 4, 2) := dk_21 4 (dk_at dksX6_cellBeside_3 4 rfl rfl)
theorem dX6_cellBeside_74 : decode cX6_cellBeside 74 = .ok (.iconst 1, 1) := dk_4 (dk_at dksX6_cellBeside_3 6 rfl rfl)
theorem dX6_cellBeside_75 : decode cX6_cellBeside 75 = .ok (.iadd, 1) := dk_96 (dk_at dksX6_cellBeside_3 7 rfl rfl)
theorem dX6_cellBeside_76 : decode cX6_cellBeside 76 = .ok (.aload_n 0, 1) := dk_42 (dk_at dksX6_cellBeside_3 8 rfl rfl)
theorem dX6_cellBeside_77 : decode cX6_cellBeside 77 = .ok (.getfield 30, 3) := dk_180 0 30 (dk_at dksX6_cellBeside_3 9 rfl rfl)
theorem dX6_cellBeside_80 : decode cX6_cellBeside 80 = .ok (.if_icmp .ne 7, 3) := dk_160 0 7 (dk_at dksX6_cellBeside_3 12 rfl rfl)
theorem dX6_cellBeside_83 : decode cX6_cellBeside 83 = .ok (.iconst (-1), 1) := dk_2 (dk_at dksX6_cellBeside_3 15 rfl rfl)
theorem dX6_cellBeside_84 : decode cX6_cellBeside 84 = .ok (.goto 6, 3) := dk_167 0 6 (dk_at dksX6_cellBeside_3 16 rfl rfl)
theorem dX6_cellBeside_87 : decode cX6_cellBeside 87 = .ok (.iload_n 1, 1) := dk_27 (dk_at dksX6_cellBeside_3 19 rfl rfl)
theorem dX6_cellBeside_88 : decode cX6_cellBeside 88 = .ok (.iconst 1, 1) := dk_4 (dk_at dksX6_cellBeside_3 20 rfl rfl)
theorem dX6_cellBeside_89 : decode cX6_cellBeside 89 = .ok (.iadd, 1) := dk_96 (dk_at dksX6_cellBeside_3 21 rfl rfl)
theorem dX6_cellBeside_90 : decode cX6_cellBeside 90 = .ok (.ireturn, 1) := dk_172 (dk_at dksX6_cellBeside_3 22 rfl rfl)
theorem dX6_cellBeside_91 : decode cX6_cellBeside 91 = .ok (.iload_n 3, 1) := dk_29 (dk_at dksX6_cellBeside_3 23 rfl rfl)
theorem dX6_cellBeside_92 : decode cX6_cellBeside 92 = .ok (.iconst 1, 1) := dk_4 (dk_at dksX6_cellBeside_4 0 rfl rfl)
theorem dX6_cellBeside_93 : decode cX6_cellBeside 93 = .ok (.iadd, 1) := dk_96 (dk_at dksX6_cellBeside_4 1 rfl rfl)
theorem dX6_cellBeside_94 : decode cX6_cellBeside 94 = .ok (.aload_n 0, 1) := dk_42 (dk_at dksX6_cellBeside_4 2 rfl rfl)
theorem dX6_cellBeside_95 : decode cX6_cellBeside 95 = .ok (.getfield 26, 3) := dk_180 0 26 (dk_at dksX6_cellBeside_4 3 rfl rfl)
theorem dX6_cellBeside_98 : decode cX6_cellBeside 98 = .ok (.if_icmp .ne 7, 3) := dk_160 0 7 (dk_at dksX6_cellBeside_4 6 rfl rfl)
theorem dX6_cellBeside_101 : decode cX6_cellBeside 101 = .ok (.iconst (-1), 1) := dk_2 (dk_at dksX6_cellBeside_4 9 rfl rfl)
theorem dX6_cellBeside_102 : decode cX6_cellBeside 102 = .ok (.goto 9, 3) := dk_167 0 9 (dk_at dksX6_cellBeside_4 10 rfl rfl)
theorem dX6_cellBeside_105 : decode cX6_cellBeside 105 = .ok (.iload_n 1, 1) := dk_27 (dk_at dksX6_cellBeside_4 13 rfl rfl)
theorem dX6_cellBeside_106 : decode cX6_cellBeside 106 = .ok (.aload_n 0, 1) := dk_42 (dk_at dksX6_cellBeside_4 14 rfl rfl)
theorem dX6_cellBeside_107 : decode cX6_cellBeside 107 = .ok (.getfield 30, 3) := dk_180 0 30 (dk_at dksX6_cellBeside_4 15 rfl rfl)
theorem dX6_cellBeside_110 : decode cX6_cellBeside 110 = .ok (.iadd, 1) := dk_96 (dk_at dksX6_cellBeside_4 18 rfl rfl)
theorem dX6_cellBeside_111 : decode cX6_cellBeside 111 = .ok (.ireturn, 1) := dk_172 (dk_at dksX6_cellBeside_4 19 rfl rfl)
abbrev cX6_walksFrom : ByteArray := prog_15_method_10_code
def yX6_walksFrom : MethodName := ⟨RX6, "walksFrom", "(I)V"⟩
def dkwX6_walksFrom_6 : List UInt8 := [46, 4, 96, 79, 132, 4, 1, 167, 255, 175, 132, 3, 1, 167, 255, 158, 132, 2, 1, 167, 255, 142, 177]
abbrev dktX6_walksFrom_6 : List UInt8 := dkwX6_walksFrom_6 ++ []
def dkwX6_walksFrom_5 : List UInt8 := [162, 0, 28, 42, 180, 0, 19, 16, 16, 27, 104, 21, 5, 96, 42, 180, 0, 19, 16, 16, 27, 104, 29, 96]
abbrev dktX6_walksFrom_5 : List UInt8 := dkwX6_walksFrom_5 ++ dktX6_walksFrom_6
def dkwX6_walksFrom_4 : List UInt8 := [180, 0, 19, 16, 16, 27, 104, 29, 96, 46, 4, 96, 42, 180, 0, 19, 16, 16, 27, 104, 21, 5, 96, 46]
abbrev dktX6_walksFrom_4 : List UInt8 := dkwX6_walksFrom_4 ++ dktX6_walksFrom_5
def dkwX6_walksFrom_3 : List UInt8 := [162, 0, 81, 42, 180, 0, 16, 7, 29, 104, 21, 4, 96, 46, 54, 5, 21, 5, 2, 159, 0, 56, 42]
abbrev dktX6_walksFrom_3 : List UInt8 := dkwX6_walksFrom_3 ++ dktX6_walksFrom_4
def dkwX6_walksFrom_2 : List UInt8 := [180, 0, 170, 162, 0, 112, 3, 62, 29, 42, 180, 0, 170, 162, 0, 96, 3, 54, 4, 21, 4, 7]
abbrev dktX6_walksFrom_2 : List UInt8 := dkwX6_walksFrom_2 ++ dktX6_walksFrom_3
def dkwX6_walksFrom_1 : List UInt8 := [132, 2, 1, 167, 255, 232, 42, 180, 0, 19, 16, 16, 27, 104, 27, 96, 3, 79, 3, 61, 28, 42]
abbrev dktX6_walksFrom_1 : List UInt8 := dkwX6_walksFrom_1 ++ dktX6_walksFrom_2
def dkwX6_walksFrom_0 : List UInt8 := [3, 61, 28, 42, 180, 0, 170, 162, 0, 22, 42, 180, 0, 19, 16, 16, 27, 104, 28, 96, 18, 199, 79]
abbrev dktX6_walksFrom_0 : List UInt8 := dkwX6_walksFrom_0 ++ dktX6_walksFrom_1
theorem dksX6_walksFrom_0 : cX6_walksFrom.data.toList.drop 0 = dktX6_walksFrom_0 := by decide +kernel
theorem dksX6_walksFrom_1 : cX6_walksFrom.data.toList.drop 23 = dktX6_walksFrom_1 := dk_seg dksX6_walksFrom_0 23 rfl rfl
theorem dksX6_walksFrom_2 : cX6_walksFrom.data.toList.drop 45 = dktX6_walksFrom_2 := dk_seg dksX6_walksFrom_1 22 rfl rfl
theorem dksX6_walksFrom_3 : cX6_walksFrom.data.toList.drop 67 = dktX6_walksFrom_3 := dk_seg dksX6_walksFrom_2 22 rfl rfl
theorem dksX6_walksFrom_4 : cX6_walksFrom.data.toList.drop 90 = dktX6_walksFrom_4 := dk_seg dksX6_walksFrom_3 23 rfl rfl
theorem dksX6_walksFrom_5 : cX6_walksFrom.data.toList.drop 114 = dktX6_walksFrom_5 := dk_seg dksX6_walksFrom_4 24 rfl rfl
theorem dksX6_walksFrom_6 : cX6_walksFrom.data.toList.drop 138 = dktX6_walksFrom_6 := dk_seg dksX6_walksFrom_5 24 rfl rfl
theorem dX6_walksFrom_0 : decode cX6_walksFrom 0 = .ok (.iconst 0, 1) := dk_3 (dk_at dksX6_walksFrom_0 0 rfl rfl)
theorem dX6_walksFrom_1 : decode cX6_walksFrom 1 = .ok (.istore_n 2, 1) := dk_61 (dk_at dksX6_walksFrom_0 1 rfl rfl)
theorem dX6_walksFrom_2 : decode cX6_walksFrom 2 = .ok (.iload_n 2, 1) := dk_28 (dk_at dksX6_walksFrom_0 2 rfl rfl)
theorem dX6_walksFrom_3 : decode cX6_walksFrom 3 = .ok (.aload_n 0, 1) := dk_42 (dk_at dksX6_walksFrom_0 3 rfl rfl)
theorem dX6_walksFrom_4 : decode cX6_walksFrom 4 = .ok (.getfield 170, 3) := dk_180 0 170 (dk_at dksX6_walksFrom_0 4 rfl rfl)
theorem dX6_walksFrom_7 : decode cX6_walksFrom 7 = .ok (.if_icmp .ge 22, 3) := dk_162 0 22 (dk_at dksX6_walksFrom_0 7 rfl rfl)
theorem dX6_walksFrom_10 : decode cX6_walksFrom 10 = .ok (.aload_n 0, 1) := dk_42 (dk_at dksX6_walksFrom_0 10 rfl rfl)
theorem dX6_walksFrom_11 : decode cX6_walksFrom 11 = .ok (.getfield 19, 3) := dk_180 0 19 (dk_at dksX6_walksFrom_0 11 rfl rfl)
theorem dX6_walksFrom_14 : decode cX6_walksFrom 14 = .ok (.bipush 16, 2) := dk_16 16 (dk_at dksX6_walksFrom_0 14 rfl rfl)
theorem dX6_walksFrom_16 : decode cX6_walksFrom 16 = .ok (.iload_n 1, 1) := dk_27 (dk_at dksX6_walksFrom_0 16 rfl rfl)
theorem dX6_walksFrom_17 : decode cX6_walksFrom 17 = .ok (.imul, 1) := dk_104 (dk_at dksX6_walksFrom_0 17 rfl rfl)
theorem dX6_walksFrom_18 : decode cX6_walksFrom 18 = .ok (.iload_n 2, 1) := dk_28 (dk_at dksX6_walksFrom_0 18 rfl rfl)
theorem dX6_walksFrom_19 : decode cX6_walksFrom 19 = .ok (.iadd, 1) := dk_96 (dk_at dksX6_walksFrom_0 19 rfl rfl)
theorem dX6_walksFrom_20 : decode cX6_walksFrom 20 = .ok (.ldc 199, 2) := dk_18 199 (dk_at dksX6_walksFrom_0 20 rfl rfl)
theorem dX6_walksFrom_22 : decode cX6_walksFrom 22 = .ok (.iastore, 1) := dk_79 (dk_at dksX6_walksFrom_0 22 rfl rfl)
theorem dX6_walksFrom_23 : decode cX6_walksFrom 23 = .ok (.iinc 2 1, 3) := dk_132 2 1 (dk_at dksX6_walksFrom_1 0 rfl rfl)
theorem dX6_walksFrom_26 : decode cX6_walksFrom 26 = .ok (.goto (-24), 3) := dk_167 255 232 (dk_at dksX6_walksFrom_1 3 rfl rfl)
theorem dX6_walksFrom_29 : decode cX6_walksFrom 29 = .ok (.aload_n 0, 1) := dk_42 (dk_at dksX6_walksFrom_1 6 rfl rfl)
theorem dX6_walksFrom_30 : decode cX6_walksFrom 30 = .ok (.getfield 19, 3) := dk_180 0 19 (dk_at dksX6_walksFrom_1 7 rfl rfl)
theorem dX6_walksFrom_33 : decode cX6_walksFrom 33 = .ok (.bipush 16, 2) := dk_16 16 (dk_at dksX6_walksFrom_1 10 rfl rfl)
theorem dX6_walksFrom_35 : decode cX6_walksFrom 35 = .ok (.iload_n 1, 1) := dk_27 (dk_at dksX6_walksFrom_1 12 rfl rfl)
theorem dX6_walksFrom_36 : decode cX6_walksFrom 36 = .ok (.imul, 1) := dk_104 (dk_at dksX6_walksFrom_1 13 rfl rfl)
theorem dX6_walksFrom_37 : decode cX6_walksFrom 37 = .ok (.iload_n 1, 1) := dk_27 (dk_at dksX6_walksFrom_1 14 rfl rfl)
theorem dX6_walksFrom_38 : decode cX6_walksFrom 38 = .ok (.iadd, 1) := dk_96 (dk_at dksX6_walksFrom_1 15 rfl rfl)
theorem dX6_walksFrom_39 : decode cX6_walksFrom 39 = .ok (.iconst 0, 1) := dk_3 (dk_at dksX6_walksFrom_1 16 rfl rfl)
theorem dX6_walksFrom_40 : decode cX6_walksFrom 40 = .ok (.iastore, 1) := dk_79 (dk_at dksX6_walksFrom_1 17 rfl rfl)
theorem dX6_walksFrom_41 : decode cX6_walksFrom 41 = .ok (.iconst 0, 1) := dk_3 (dk_at dksX6_walksFrom_1 18 rfl rfl)
theorem dX6_walksFrom_42 : decode cX6_walksFrom 42 = .ok (.istore_n 2, 1) := dk_61 (dk_at dksX6_walksFrom_1 19 rfl rfl)
theorem dX6_walksFrom_43 : decode cX6_walksFrom 43 = .ok (.iload_n 2, 1) := dk_28 (dk_at dksX6_walksFrom_1 20 rfl rfl)
theorem dX6_walksFrom_44 : decode cX6_walksFrom 44 = .ok (.aload_n 0, 1) := dk_42 (dk_at dksX6_walksFrom_1 21 rfl rfl)
theorem dX6_walksFrom_45 : decode cX6_walksFrom 45 = .ok (.getfield 170, 3) := dk_180 0 170 (dk_at dksX6_walksFrom_2 0 rfl rfl)
theorem dX6_walksFrom_48 : decode cX6_walksFrom 48 = .ok (.if_icmp .ge 112, 3) := dk_162 0 112 (dk_at dksX6_walksFrom_2 3 rfl rfl)
theorem dX6_walksFrom_51 : decode cX6_walksFrom 51 = .ok (.iconst 0, 1) := dk_3 (dk_at dksX6_walksFrom_2 6 rfl rfl)
theorem dX6_walksFrom_52 : decode cX6_walksFrom 52 = .ok (.istore_n 3, 1) := dk_62 (dk_at dksX6_walksFrom_2 7 rfl rfl)
theorem dX6_walksFrom_53 : decode cX6_walksFrom 53 = .ok (.iload_n 3, 1) := dk_29 (dk_at dksX6_walksFrom_2 8 rfl rfl)
theorem dX6_walksFrom_54 : decode cX6_walksFrom 54 = .ok (.aload_n 0, 1) := dk_42 (dk_at dksX6_walksFrom_2 9 rfl rfl)
theorem dX6_walksFrom_55 : decode cX6_walksFrom 55 = .ok (.getfield 170, 3) := dk_180 0 170 (dk_at dksX6_walksFrom_2 10 rfl rfl)
theorem dX6_walksFrom_58 : decode cX6_walksFrom 58 = .ok (.if_icmp .ge 96, 3) := dk_162 0 96 (dk_at dksX6_walksFrom_2 13 rfl rfl)
theorem dX6_walksFrom_61 : decode cX6_walksFrom 61 = .ok (.iconst 0, 1) := dk_3 (dk_at dksX6_walksFrom_2 16 rfl rfl)
theorem dX6_walksFrom_62 : decode cX6_walksFrom 62 = .ok (.istore 4, 2) := dk_54 4 (dk_at dksX6_walksFrom_2 17 rfl rfl)
theorem dX6_walksFrom_64 : decode cX6_walksFrom 64 = .ok (.iload 4, 2) := dk_21 4 (dk_at dksX6_walksFrom_2 19 rfl rfl)
theorem dX6_walksFrom_66 : decode cX6_walksFrom 66 = .ok (.iconst 4, 1) := dk_7 (dk_at dksX6_walksFrom_2 21 rfl rfl)
theorem dX6_walksFrom_67 : decode cX6_walksFrom 67 = .ok (.if_icmp .ge 81, 3) := dk_162 0 81 (dk_at dksX6_walksFrom_3 0 rfl rfl)
theorem dX6_walksFrom_70 : decode cX6_walksFrom 70 = .ok (.aload_n 0, 1) := dk_42 (dk_at dksX6_walksFrom_3 3 rfl rfl)
theorem dX6_walksFrom_71 : decode cX6_walksFrom 71 = .ok (.getfield 16, 3) := dk_180 0 16 (dk_at dksX6_walksFrom_3 4 rfl rfl)
theorem dX6_walksFrom_74 : decode cX6_walksFrom 74 = .ok (.iconst 4, 1) := dk_7 (dk_at dksX6_walksFrom_3 7 rfl rfl)
theorem dX6_walksFrom_75 : decode cX6_walksFrom 75 = .ok (.iload_n 3, 1) := dk_29 (dk_at dksX6_walksFrom_3 8 rfl rfl)
theorem dX6_walksFrom_76 : decode cX6_walksFrom 76 = .ok (.imul, 1) := dk_104 (dk_at dksX6_walksFrom_3 9 rfl rfl)
theorem dX6_walksFrom_77 : decode cX6_walksFrom 77 = .ok (.iload 4, 2) := dk_21 4 (dk_at dksX6_walksFrom_3 10 rfl rfl)
theorem dX6_walksFrom_79 : decode cX6_walksFrom 79 = .ok (.iadd, 1) := dk_96 (dk_at dksX6_walksFrom_3 12 rfl rfl)
theorem dX6_walksFrom_80 : decode cX6_walksFrom 80 = .ok (.iaload, 1) := dk_46 (dk_at dksX6_walksFrom_3 13 rfl rfl)
theorem dX6_walksFrom_81 : decode cX6_walksFrom 81 = .ok (.istore 5, 2) := dk_54 5 (dk_at dksX6_walksFrom_3 14 rfl rfl)
theorem dX6_walksFrom_83 : decode cX6_walksFrom 83 = .ok (.iload 5, 2) := dk_21 5 (dk_at dksX6_walksFrom_3 16 rfl rfl)
theorem dX6_walksFrom_85 : decode cX6_walksFrom 85 = .ok (.iconst (-1), 1) := dk_2 (dk_at dksX6_walksFrom_3 18 rfl rfl)
theorem dX6_walksFrom_86 : decode cX6_walksFrom 86 = .ok (.if_icmp .eq 56, 3) := dk_159 0 56 (dk_at dksX6_walksFrom_3 19 rfl rfl)
theorem dX6_walksFrom_89 : decode cX6_walksFrom 89 = .ok (.aload_n 0, 1) := dk_42 (dk_at dksX6_walksFrom_3 22 rfl rfl)
theorem dX6_walksFrom_90 : decode cX6_walksFrom 90 = .ok (.getfield 19, 3) := dk_180 0 19 (dk_at dksX6_walksFrom_4 0 rfl rfl)
theorem dX6_walksFrom_93 : decode cX6_walksFrom 93 = .ok (.bipush 16, 2) := dk_16 16 (dk_at dksX6_walksFrom_4 3 rfl rfl)
theorem dX6_walksFrom_95 : decode cX6_walksFrom 95 = .ok (.iload_n 1, 1) := dk_27 (dk_at dksX6_walksFrom_4 5 rfl rfl)
theorem dX6_walksFrom_96 : decode cX6_walksFrom 96 = .ok (.imul, 1) := dk_104 (dk_at dksX6_walksFrom_4 6 rfl rfl)
theorem dX6_walksFrom_97 : decode cX6_walksFrom 97 = .ok (.iload_n 3, 1) := dk_29 (dk_at dksX6_walksFrom_4 7 rfl rfl)
theorem dX6_walksFrom_98 : decode cX6_walksFrom 98 = .ok (.iadd, 1) := dk_96 (dk_at dksX6_walksFrom_4 8 rfl rfl)
theorem dX6_walksFrom_99 : decode cX6_walksFrom 99 = .ok (.iaload, 1) := dk_46 (dk_at dksX6_walksFrom_4 9 rfl rfl)
theorem dX6_walksFrom_100 : decode cX6_walksFrom 100 = .ok (.iconst 1, 1) := dk_4 (dk_at dksX6_walksFrom_4 10 rfl rfl)
theorem dX6_walksFrom_101 : decode cX6_walksFrom 101 = .ok (.iadd, 1) := dk_96 (dk_at dksX6_walksFrom_4 11 rfl rfl)
theorem dX6_walksFrom_102 : decode cX6_walksFrom 102 = .ok (.aload_n 0, 1) := dk_42 (dk_at dksX6_walksFrom_4 12 rfl rfl)
theorem dX6_walksFrom_103 : decode cX6_walksFrom 103 = .ok (.getfield 19, 3) := dk_180 0 19 (dk_at dksX6_walksFrom_4 13 rfl rfl)
theorem dX6_walksFrom_106 : decode cX6_walksFrom 106 = .ok (.bipush 16, 2) := dk_16 16 (dk_at dksX6_walksFrom_4 16 rfl rfl)
theorem dX6_walksFrom_108 : decode cX6_walksFrom 108 = .ok (.iload_n 1, 1) := dk_27 (dk_at dksX6_walksFrom_4 18 rfl rfl)
theorem dX6_walksFrom_109 : decode cX6_walksFrom 109 = .ok (.imul, 1) := dk_104 (dk_at dksX6_walksFrom_4 19 rfl rfl)
theorem dX6_walksFrom_110 : decode cX6_walksFrom 110 = .ok (.iload 5, 2) := dk_21 5 (dk_at dksX6_walksFrom_4 20 rfl rfl)
theorem dX6_walksFrom_112 : decode cX6_walksFrom 112 = .ok (.iadd, 1) := dk_96 (dk_at dksX6_walksFrom_4 22 rfl rfl)
theorem dX6_walksFrom_113 : decode cX6_walksFrom 113 = .ok (.iaload, 1) := dk_46 (dk_at dksX6_walksFrom_4 23 rfl rfl)
theorem dX6_walksFrom_114 : decode cX6_walksFrom 114 = .ok (.if_icmp .ge 28, 3) := dk_162 0 28 (dk_at dksX6_walksFrom_5 0 rfl rfl)
theorem dX6_walksFrom_117 : decode cX6_walksFrom 117 = .ok (.aload_n 0, 1) := dk_42 (dk_at dksX6_walksFrom_5 3 rfl rfl)
theorem dX6_walksFrom_118 : decode cX6_walksFrom 118 = .ok (.getfield 19, 3) := dk_180 0 19 (dk_at dksX6_walksFrom_5 4 rfl rfl)
theorem dX6_walksFrom_121 : decode cX6_walksFrom 121 = .ok (.bipush 16, 2) := dk_16 16 (dk_at dksX6_walksFrom_5 7 rfl rfl)
theorem dX6_walksFrom_123 : decode cX6_walksFrom 123 = .ok (.iload_n 1, 1) := dk_27 (dk_at dksX6_walksFrom_5 9 rfl rfl)
theorem dX6_walksFrom_124 : decode cX6_walksFrom 124 = .ok (.imul, 1) := dk_104 (dk_at dksX6_walksFrom_5 10 rfl rfl)
theorem dX6_walksFrom_125 : decode cX6_walksFrom 125 = .ok (.iload 5, 2) := dk_21 5 (dk_at dksX6_walksFrom_5 11 rfl rfl)
theorem dX6_walksFrom_127 : decode cX6_walksFrom 127 = .ok (.iadd, 1) := dk_96 (dk_at dksX6_walksFrom_5 13 rfl rfl)
theorem dX6_walksFrom_128 : decode cX6_walksFrom 128 = .ok (.aload_n 0, 1) := dk_42 (dk_at dksX6_walksFrom_5 14 rfl rfl)
theorem dX6_walksFrom_129 : decode cX6_walksFrom 129 = .ok (.getfield 19, 3) := dk_180 0 19 (dk_at dksX6_walksFrom_5 15 rfl rfl)
theorem dX6_walksFrom_132 : decode cX6_walksFrom 132 = .ok (.bipush 16, 2) := dk_16 16 (dk_at dksX6_walksFrom_5 18 rfl rfl)
theorem dX6_walksFrom_134 : decode cX6_walksFrom 134 = .ok (.iload_n 1, 1) := dk_27 (dk_at dksX6_walksFrom_5 20 rfl rfl)
theorem dX6_walksFrom_135 : decode cX6_walksFrom 135 = .ok (.imul, 1) := dk_104 (dk_at dksX6_walksFrom_5 21 rfl rfl)
theorem dX6_walksFrom_136 : decode cX6_walksFrom 136 = .ok (.iload_n 3, 1) := dk_29 (dk_at dksX6_walksFrom_5 22 rfl rfl)
theorem dX6_walksFrom_137 : decode cX6_walksFrom 137 = .ok (.iadd, 1) := dk_96 (dk_at dksX6_walksFrom_5 23 rfl rfl)
theorem dX6_walksFrom_138 : decode cX6_walksFrom 138 = .ok (.iaload, 1) := dk_46 (dk_at dksX6_walksFrom_6 0 rfl rfl)
theorem dX6_walksFrom_139 : decode cX6_walksFrom 139 = .ok (.iconst 1, 1) := dk_4 (dk_at dksX6_walksFrom_6 1 rfl rfl)
theorem dX6_walksFrom_140 : decode cX6_walksFrom 140 = .ok (.iadd, 1) := dk_96 (dk_at dksX6_walksFrom_6 2 rfl rfl)
theorem dX6_walksFrom_141 : decode cX6_walksFrom 141 = .ok (.iastore, 1) := dk_79 (dk_at dksX6_walksFrom_6 3 rfl rfl)
theorem dX6_walksFrom_142 : decode cX6_walksFrom 142 = .ok (.iinc 4 1, 3) := dk_132 4 1 (dk_at dksX6_walksFrom_6 4 rfl rfl)
theorem dX6_walksFrom_145 : decode cX6_walksFrom 145 = .ok (.goto (-81), 3) := dk_167 255 175 (dk_at dksX6_walksFrom_6 7 rfl rfl)
theorem dX6_walksFrom_148 : decode cX6_walksFrom 148 = .ok (.iinc 3 1, 3) := dk_132 3 1 (dk_at dksX6_walksFrom_6 10 rfl rfl)
theorem dX6_walksFrom_151 : decode cX6_walksFrom 151 = .ok (.goto (-98), 3) := dk_167 255 158 (dk_at dksX6_walksFrom_6 13 rfl rfl)
theorem dX6_walksFrom_154 : decode cX6_walksFrom 154 = .ok (.iinc 2 1, 3) := dk_132 2 1 (dk_at dksX6_walksFrom_6 16 rfl rfl)
theorem dX6_walksFrom_157 : decode cX6_walksFrom 157 = .ok (.goto (-114), 3) := dk_167 255 142 (dk_at dksX6_walksFrom_6 19 rfl rfl)
theorem dX6_walksFrom_160 : decode cX6_walksFrom 160 = .ok (.return_, 1) := dk_177 (dk_at dksX6_walksFrom_6 22 rfl rfl)
abbrev cX6_thrown : ByteArray := prog_15_method_2_code
def yX6_thrown : MethodName := ⟨RX6, "thrown", "()I"⟩
theorem dX6_thrown_0 : decode cX6_thrown 0 = .ok (.aload_n 0, 1) := by decide +kernel
theorem dX6_thrown_1 : decode cX6_thrown 1 = .ok (.getfield 167, 3) := by decide +kernel
theorem dX6_thrown_4 : decode cX6_thrown 4 = .ok (.ireturn, 1) := by decide +kernel
abbrev cX6_tray : ByteArray := prog_15_method_13_code
def yX6_tray : MethodName := ⟨RX6, "tray", "(III)I"⟩
def dkwX6_tray_8 : List UInt8 := [172]
abbrev dktX6_tray_8 : List UInt8 := dkwX6_tray_8 ++ []
def dkwX6_tray_7 : List UInt8 := [4, 167, 0, 4, 3, 84, 132, 5, 1, 167, 255, 216, 42, 182, 0, 164, 42, 42, 182, 0, 211, 182, 0, 215]
abbrev dktX6_tray_7 : List UInt8 := dkwX6_tray_7 ++ dktX6_tray_8
def dkwX6_tray_6 : List UInt8 := [42, 180, 0, 22, 21, 5, 21, 5, 27, 28, 104, 162, 0, 17, 42, 180, 0, 72, 21, 5, 51, 153, 0, 7]
abbrev dktX6_tray_6 : List UInt8 := dkwX6_tray_6 ++ dktX6_tray_7
def dkwX6_tray_5 : List UInt8 := [182, 0, 204, 172, 42, 27, 181, 0, 26, 42, 28, 181, 0, 30, 3, 54, 5, 21, 5, 16, 16, 162, 0, 39]
abbrev dktX6_tray_5 : List UInt8 := dkwX6_tray_5 ++ dktX6_tray_6
def dkwX6_tray_4 : List UInt8 := [167, 255, 203, 21, 4, 6, 161, 0, 14, 42, 27, 28, 21, 4, 182, 0, 208, 154, 0, 9, 42, 4]
abbrev dktX6_tray_4 : List UInt8 := dkwX6_tray_4 ++ dktX6_tray_5
def dkwX6_tray_3 : List UInt8 := [84, 21, 4, 42, 180, 0, 72, 21, 5, 51, 153, 0, 7, 3, 167, 0, 4, 4, 96, 54, 4, 132, 5, 1]
abbrev dktX6_tray_3 : List UInt8 := dkwX6_tray_3 ++ dktX6_tray_4
def dkwX6_tray_2 : List UInt8 := [162, 0, 51, 42, 180, 0, 72, 21, 5, 29, 21, 5, 122, 4, 126, 4, 160, 0, 7, 4, 167, 0, 4, 3]
abbrev dktX6_tray_2 : List UInt8 := dkwX6_tray_2 ++ dktX6_tray_3
def dkwX6_tray_1 : List UInt8 := [27, 28, 104, 120, 161, 0, 9, 42, 4, 182, 0, 204, 172, 3, 54, 4, 3, 54, 5, 21, 5, 27, 28, 104]
abbrev dktX6_tray_1 : List UInt8 := dkwX6_tray_1 ++ dktX6_tray_2
def dkwX6_tray_0 : List UInt8 := [27, 5, 7, 184, 0, 200, 153, 0, 25, 28, 5, 7, 184, 0, 200, 153, 0, 16, 29, 155, 0, 12, 29, 4]
abbrev dktX6_tray_0 : List UInt8 := dkwX6_tray_0 ++ dktX6_tray_1
theorem dksX6_tray_0 : cX6_tray.data.toList.drop 0 = dktX6_tray_0 := by decide +kernel
theorem dksX6_tray_1 : cX6_tray.data.toList.drop 24 = dktX6_tray_1 := dk_seg dksX6_tray_0 24 rfl rfl
theorem dksX6_tray_2 : cX6_tray.data.toList.drop 48 = dktX6_tray_2 := dk_seg dksX6_tray_1 24 rfl rfl
theorem dksX6_tray_3 : cX6_tray.data.toList.drop 72 = dktX6_tray_3 := dk_seg dksX6_tray_2 24 rfl rfl
theorem dksX6_tray_4 : cX6_tray.data.toList.drop 96 = dktX6_tray_4 := dk_seg dksX6_tray_3 24 rfl rfl
theorem dksX6_tray_5 : cX6_tray.data.toList.drop 118 = dktX6_tray_5 := dk_seg dksX6_tray_4 22 rfl rfl
theorem dksX6_tray_6 : cX6_tray.data.toList.drop 142 = dktX6_tray_6 := dk_seg dksX6_tray_5 24 rfl rfl
theorem dksX6_tray_7 : cX6_tray.data.toList.drop 166 = dktX6_tray_7 := dk_seg dksX6_tray_6 24 rfl rfl
theorem dksX6_tray_8 : cX6_tray.data.toList.drop 190 = dktX6_tray_8 := dk_seg dksX6_tray_7 24 rfl rfl
theorem dX6_tray_0 : decode cX6_tray 0 = .ok (.iload_n 1, 1) := dk_27 (dk_at dksX6_tray_0 0 rfl rfl)
theorem dX6_tray_1 : decode cX6_tray 1 = .ok (.iconst 2, 1) := dk_5 (dk_at dksX6_tray_0 1 rfl rfl)
theorem dX6_tray_2 : decode cX6_tray 2 = .ok (.iconst 4, 1) := dk_7 (dk_at dksX6_tray_0 2 rfl rfl)
theorem dX6_tray_3 : decode cX6_tray 3 = .ok (.invokestatic 200, 3) := dk_184 0 200 (dk_at dksX6_tray_0 3 rfl rfl)
theorem dX6_tray_6 : decode cX6_tray 6 = .ok (.ifCond .eq 25, 3) := dk_153 0 25 (dk_at dksX6_tray_0 6 rfl rfl)
theorem dX6_tray_9 : decode cX6_tray 9 = .ok (.iload_n 2, 1) := dk_28 (dk_at dksX6_tray_0 9 rfl rfl)
theorem dX6_tray_10 : decode cX6_tray 10 = .ok (.iconst 2, 1) := dk_5 (dk_at dksX6_tray_0 10 rfl rfl)
theorem dX6_tray_11 : decode cX6_tray 11 = .ok (.iconst 4, 1) := dk_7 (dk_at dksX6_tray_0 11 rfl rfl)
theorem dX6_tray_12 : decode cX6_tray 12 = .ok (.invokestatic 200, 3) := dk_184 0 200 (dk_at dksX6_tray_0 12 rfl rfl)
theorem dX6_tray_15 : decode cX6_tray 15 = .ok (.ifCond .eq 16, 3) := dk_153 0 16 (dk_at dksX6_tray_0 15 rfl rfl)
theorem dX6_tray_18 : decode cX6_tray 18 = .ok (.iload_n 3, 1) := dk_29 (dk_at dksX6_tray_0 18 rfl rfl)
theorem dX6_tray_19 : decode cX6_tray 19 = .ok (.ifCond .lt 12, 3) := dk_155 0 12 (dk_at dksX6_tray_0 19 rfl rfl)
theorem dX6_tray_22 : decode cX6_tray 22 = .ok (.iload_n 3, 1) := dk_29 (dk_at dksX6_tray_0 22 rfl rfl)
theorem dX6_tray_23 : decode cX6_tray 23 = .ok (.iconst 1, 1) := dk_4 (dk_at dksX6_tray_0 23 rfl rfl)
theorem dX6_tray_24 : decode cX6_tray 24 = .ok (.iload_n 1, 1) := dk_27 (dk_at dksX6_tray_1 0 rfl rfl)
theorem dX6_tray_25 : decode cX6_tray 25 = .ok (.iload_n 2, 1) := dk_28 (dk_at dksX6_tray_1 1 rfl rfl)
theorem dX6_tray_26 : decode cX6_tray 26 = .ok (.imul, 1) := dk_104 (dk_at dksX6_tray_1 2 rfl rfl)
theorem dX6_tray_27 : decode cX6_tray 27 = .ok (.ishl, 1) := dk_120 (dk_at dksX6_tray_1 3 rfl rfl)
theorem dX6_tray_28 : decode cX6_tray 28 = .ok (.if_icmp .lt 9, 3) := dk_161 0 9 (dk_at dksX6_tray_1 4 rfl rfl)
theorem dX6_tray_31 : decode cX6_tray 31 = .ok (.aload_n 0, 1) := dk_42 (dk_at dksX6_tray_1 7 rfl rfl)
theorem dX6_tray_32 : decode cX6_tray 32 = .ok (.iconst 1, 1) := dk_4 (dk_at dksX6_tray_1 8 rfl rfl)
theorem dX6_tray_33 : decode cX6_tray 33 = .ok (.invokevirtual 204, 3) := dk_182 0 204 (dk_at dksX6_tray_1 9 rfl rfl)
theorem dX6_tray_36 : decode cX6_tray 36 = .ok (.ireturn, 1) := dk_172 (dk_at dksX6_tray_1 12 rfl rfl)
theorem dX6_tray_37 : decode cX6_tray 37 = .ok (.iconst 0, 1) := dk_3 (dk_at dksX6_tray_1 13 rfl rfl)
theorem dX6_tray_38 : decode cX6_tray 38 = .ok (.istore 4, 2) := dk_54 4 (dk_at dksX6_tray_1 14 rfl rfl)
theorem dX6_tray_40 : decode cX6_tray 40 = .ok (.iconst 0, 1) := dk_3 (dk_at dksX6_tray_1 16 rfl rfl)
theorem dX6_tray_41 : decode cX6_tray 41 = .ok (.istore 5, 2) := dk_54 5 (dk_at dksX6_tray_1 17 rfl rfl)
theorem dX6_tray_43 : decode cX6_tray 43 = .ok (.iload 5, 2) := dk_21 5 (dk_at dksX6_tray_1 19 rfl rfl)
theorem dX6_tray_45 : decode cX6_tray 45 = .ok (.iload_n 1, 1) := dk_27 (dk_at dksX6_tray_1 21 rfl rfl)
theorem dX6_tray_46 : decode cX6_tray 46 = .ok (.iload_n 2, 1) := dk_28 (dk_at dksX6_tray_1 22 rfl rfl)
theorem dX6_tray_47 : decode cX6_tray 47 = .ok (.imul, 1) := dk_104 (dk_at dksX6_tray_1 23 rfl rfl)
theorem dX6_tray_48 : decode cX6_tray 48 = .ok (.if_icmp .ge 51, 3) := dk_162 0 51 (dk_at dksX6_tray_2 0 rfl rfl)
theorem dX6_tray_51 : decode cX6_tray 51 = .ok (.aload_n 0, 1) := dk_42 (dk_at dksX6_tray_2 3 rfl rfl)
theorem dX6_tray_52 : decode cX6_tray 52 = .ok (.getfield 72, 3) := dk_180 0 72 (dk_at dksX6_tray_2 4 rfl rfl)
theorem dX6_tray_55 : decode cX6_tray 55 = .ok (.iload 5, 2) := dk_21 5 (dk_at dksX6_tray_2 7 rfl rfl)
theorem dX6_tray_57 : decode cX6_tray 57 = .ok (.iload_n 3, 1) := dk_29 (dk_at dksX6_tray_2 9 rfl rfl)
theorem dX6_tray_58 : decode cX6_tray 58 = .ok (.iload 5, 2) := dk_21 5 (dk_at dksX6_tray_2 10 rfl rfl)
theorem dX6_tray_60 : decode cX6_tray 60 = .ok (.ishr, 1) := dk_122 (dk_at dksX6_tray_2 12 rfl rfl)
theorem dX6_tray_61 : decode cX6_tray 61 = .ok (.iconst 1, 1) := dk_4 (dk_at dksX6_tray_2 13 rfl rfl)
theorem dX6_tray_62 : decode cX6_tray 62 = .ok (.iand, 1) := dk_126 (dk_at dksX6_tray_2 14 rfl rfl)
theorem dX6_tray_63 : decode cX6_tray 63 = .ok (.iconst 1, 1) := dk_4 (dk_at dksX6_tray_2 15 rfl rfl)
theorem dX6_tray_64 : decode cX6_tray 64 = .ok (.if_icmp .ne 7, 3) := dk_160 0 7 (dk_at dksX6_tray_2 16 rfl rfl)
theorem dX6_tray_67 : decode cX6_tray 67 = .ok (.iconst 1, 1) := dk_4 (dk_at dksX6_tray_2 19 rfl rfl)
theorem dX6_tray_68 : decode cX6_tray 68 = .ok (.goto 4, 3) := dk_167 0 4 (dk_at dksX6_tray_2 20 rfl rfl)
theorem dX6_tray_71 : decode cX6_tray 71 = .ok (.iconst 0, 1) := dk_3 (dk_at dksX6_tray_2 23 rfl rfl)
theorem dX6_tray_72 : decode cX6_tray 72 = .ok (.bastore, 1) := dk_84 (dk_at dksX6_tray_3 0 rfl rfl)
theorem dX6_tray_73 : decode cX6_tray 73 = .ok (.iload 4, 2) := dk_21 4 (dk_at dksX6_tray_3 1 rfl rfl)
theorem dX6_tray_75 : decode cX6_tray 75 = .ok (.aload_n 0, 1) := dk_42 (dk_at dksX6_tray_3 3 rfl rfl)
theorem dX6_tray_76 : decode cX6_tray 76 = .ok (.getfield 72, 3) := dk_180 0 72 (dk_at dksX6_tray_3 4 rfl rfl)
theorem dX6_tray_79 : decode cX6_tray 79 = .ok (.iload 5, 2) := dk_21 5 (dk_at dksX6_tray_3 7 rfl rfl)
theorem dX6_tray_81 : decode cX6_tray 81 = .ok (.baload, 1) := dk_51 (dk_at dksX6_tray_3 9 rfl rfl)
theorem dX6_tray_82 : decode cX6_tray 82 = .ok (.ifCond .eq 7, 3) := dk_153 0 7 (dk_at dksX6_tray_3 10 rfl rfl)
theorem dX6_tray_85 : decode cX6_tray 85 = .ok (.iconst 0, 1) := dk_3 (dk_at dksX6_tray_3 13 rfl rfl)
theorem dX6_tray_86 : decode cX6_tray 86 = .ok (.goto 4, 3) := dk_167 0 4 (dk_at dksX6_tray_3 14 rfl rfl)
theorem dX6_tray_89 : decode cX6_tray 89 = .ok (.iconst 1, 1) := dk_4 (dk_at dksX6_tray_3 17 rfl rfl)
theorem dX6_tray_90 : decode cX6_tray 90 = .ok (.iadd, 1) := dk_96 (dk_at dksX6_tray_3 18 rfl rfl)
theorem dX6_tray_91 : decode cX6_tray 91 = .ok (.istore 4, 2) := dk_54 4 (dk_at dksX6_tray_3 19 rfl rfl)
theorem dX6_tray_93 : decode cX6_tray 93 = .ok (.iinc 5 1, 3) := dk_132 5 1 (dk_at dksX6_tray_3 21 rfl rfl)
theorem dX6_tray_96 : decode cX6_tray 96 = .ok (.goto (-53), 3) := dk_167 255 203 (dk_at dksX6_tray_4 0 rfl rfl)
theorem dX6_tray_99 : decode cX6_tray 99 = .ok (.iload 4, 2) := dk_21 4 (dk_at dksX6_tray_4 3 rfl rfl)
theorem dX6_tray_101 : decode cX6_tray 101 = .ok (.iconst 3, 1) := dk_6 (dk_at dksX6_tray_4 5 rfl rfl)
theorem dX6_tray_102 : decode cX6_tray 102 = .ok (.if_icmp .lt 14, 3) := dk_161 0 14 (dk_at dksX6_tray_4 6 rfl rfl)
theorem dX6_tray_105 : decode cX6_tray 105 = .ok (.aload_n 0, 1) := dk_42 (dk_at dksX6_tray_4 9 rfl rfl)
theorem dX6_tray_106 : decode cX6_tray 106 = .ok (.iload_n 1, 1) := dk_27 (dk_at dksX6_tray_4 10 rfl rfl)
theorem dX6_tray_107 : decode cX6_tray 107 = .ok (.iload_n 2, 1) := dk_28 (dk_at dksX6_tray_4 11 rfl rfl)
theorem dX6_tray_108 : decode cX6_tray 108 = .ok (.iload 4, 2) := dk_21 4 (dk_at dksX6_tray_4 12 rfl rfl)
theorem dX6_tray_110 : decode cX6_tray 110 = .ok (.invokevirtual 208, 3) := dk_182 0 208 (dk_at dksX6_tray_4 14 rfl rfl)
theorem dX6_tray_113 : decode cX6_tray 113 = .ok (.ifCond .ne 9, 3) := dk_154 0 9 (dk_at dksX6_tray_4 17 rfl rfl)
theorem dX6_tray_116 : decode cX6_tray 116 = .ok (.aload_n 0, 1) := dk_42 (dk_at dksX6_tray_4 20 rfl rfl)
theorem dX6_tray_117 : decode cX6_tray 117 = .ok (.iconst 1, 1) := dk_4 (dk_at dksX6_tray_4 21 rfl rfl)
theorem dX6_tray_118 : decode cX6_tray 118 = .ok (.invokevirtual 204, 3) := dk_182 0 204 (dk_at dksX6_tray_5 0 rfl rfl)
theorem dX6_tray_121 : decode cX6_tray 121 = .ok (.ireturn, 1) := dk_172 (dk_at dksX6_tray_5 3 rfl rfl)
theorem dX6_tray_122 : decode cX6_tray 122 = .ok (.aload_n 0, 1) := dk_42 (dk_at dksX6_tray_5 4 rfl rfl)
theorem dX6_tray_123 : decode cX6_tray 123 = .ok (.iload_n 1, 1) := dk_27 (dk_at dksX6_tray_5 5 rfl rfl)
theorem dX6_tray_124 : decode cX6_tray 124 = .ok (.putfield 26, 3) := dk_181 0 26 (dk_at dksX6_tray_5 6 rfl rfl)
theorem dX6_tray_127 : decode cX6_tray 127 = .ok (.aload_n 0, 1) := dk_42 (dk_at dksX6_tray_5 9 rfl rfl)
theorem dX6_tray_128 : decode cX6_tray 128 = .ok (.iload_n 2, 1) := dk_28 (dk_at dksX6_tray_5 10 rfl rfl)
theorem dX6_tray_129 : decode cX6_tray 129 = .ok (.putfield 30, 3) := dk_181 0 30 (dk_at dksX6_tray_5 11 rfl rfl)
theorem dX6_tray_132 : decode cX6_tray 132 = .ok (.iconst 0, 1) := dk_3 (dk_at dksX6_tray_5 14 rfl rfl)
theorem dX6_tray_133 : decode cX6_tray 133 = .ok (.istore 5, 2) := dk_54 5 (dk_at dksX6_tray_5 15 rfl rfl)
theorem dX6_tray_135 : decode cX6_tray 135 = .ok (.iload 5, 2) := dk_21 5 (dk_at dksX6_tray_5 17 rfl rfl)
theorem dX6_tray_137 : decode cX6_tray 137 = .ok (.bipush 16, 2) := dk_16 16 (dk_at dksX6_tray_5 19 rfl rfl)
theorem dX6_tray_139 : decode cX6_tray 139 = .ok (.if_icmp .ge 39, 3) := dk_162 0 39 (dk_at dksX6_tray_5 21 rfl rfl)
theorem dX6_tray_142 : decode cX6_tray 142 = .ok (.aload_n 0, 1) := dk_42 (dk_at dksX6_tray_6 0 rfl rfl)
theorem dX6_tray_143 : decode cX6_tray 143 = .ok (.getfield 22, 3) := dk_180 0 22 (dk_at dksX6_tray_6 1 rfl rfl)
theorem dX6_tray_146 : decode cX6_tray 146 = .ok (.iload 5, 2) := dk_21 5 (dk_at dksX6_tray_6 4 rfl rfl)
theorem dX6_tray_148 : decode cX6_tray 148 = .ok (.iload 5, 2) := dk_21 5 (dk_at dksX6_tray_6 6 rfl rfl)
theorem dX6_tray_150 : decode cX6_tray 150 = .ok (.iload_n 1, 1) := dk_27 (dk_at dksX6_tray_6 8 rfl rfl)
theorem dX6_tray_151 : decode cX6_tray 151 = .ok (.iload_n 2, 1) := dk_28 (dk_at dksX6_tray_6 9 rfl rfl)
theorem dX6_tray_152 : decode cX6_tray 152 = .ok (.imul, 1) := dk_104 (dk_at dksX6_tray_6 10 rfl rfl)
theorem dX6_tray_153 : decode cX6_tray 153 = .ok (.if_icmp .ge 17, 3) := dk_162 0 17 (dk_at dksX6_tray_6 11 rfl rfl)
theorem dX6_tray_156 : decode cX6_tray 156 = .ok (.aload_n 0, 1) := dk_42 (dk_at dksX6_tray_6 14 rfl rfl)
theorem dX6_tray_157 : decode cX6_tray 157 = .ok (.getfield 72, 3) := dk_180 0 72 (dk_at dksX6_tray_6 15 rfl rfl)
theorem dX6_tray_160 : decode cX6_tray 160 = .ok (.iload 5, 2) := dk_21 5 (dk_at dksX6_tray_6 18 rfl rfl)
theorem dX6_tray_162 : decode cX6_tray 162 = .ok (.baload, 1) := dk_51 (dk_at dksX6_tray_6 20 rfl rfl)
theorem dX6_tray_163 : decode cX6_tray 163 = .ok (.ifCond .eq 7, 3) := dk_153 0 7 (dk_at dksX6_tray_6 21 rfl rfl)
theorem dX6_tray_166 : decode cX6_tray 166 = .ok (.iconst 1, 1) := dk_4 (dk_at dksX6_tray_7 0 rfl rfl)
theorem dX6_tray_167 : decode cX6_tray 167 = .ok (.goto 4, 3) := dk_167 0 4 (dk_at dksX6_tray_7 1 rfl rfl)
theorem dX6_tray_170 : decode cX6_tray 170 = .ok (.iconst 0, 1) := dk_3 (dk_at dksX6_tray_7 4 rfl rfl)
theorem dX6_tray_171 : decode cX6_tray 171 = .ok (.bastore, 1) := dk_84 (dk_at dksX6_tray_7 5 rfl rfl)
theorem dX6_tray_172 : decode cX6_tray 172 = .ok (.iinc 5 1, 3) := dk_132 5 1 (dk_at dksX6_tray_7 6 rfl rfl)
theorem dX6_tray_175 : decode cX6_tray 175 = .ok (.goto (-40), 3) := dk_167 255 216 (dk_at dksX6_tray_7 9 rfl rfl)
theorem dX6_tray_178 : decode cX6_tray 178 = .ok (.aload_n 0, 1) := dk_42 (dk_at dksX6_tray_7 12 rfl rfl)
theorem dX6_tray_179 : decode cX6_tray 179 = .ok (.invokevirtual 164, 3) := dk_182 0 164 (dk_at dksX6_tray_7 13 rfl rfl)
theorem dX6_tray_182 : decode cX6_tray 182 = .ok (.aload_n 0, 1) := dk_42 (dk_at dksX6_tray_7 16 rfl rfl)
theorem dX6_tray_183 : decode cX6_tray 183 = .ok (.aload_n 0, 1) := dk_42 (dk_at dksX6_tray_7 17 rfl rfl)
theorem dX6_tray_184 : decode cX6_tray 184 = .ok (.invokevirtual 211, 3) := dk_182 0 211 (dk_at dksX6_tray_7 18 rfl rfl)
theorem dX6_tray_187 : decode cX6_tray 187 = .ok (.invokevirtual 215, 3) := dk_182 0 215 (dk_at dksX6_tray_7 21 rfl rfl)
theorem dX6_tray_190 : decode cX6_tray 190 = .ok (.ireturn, 1) := dk_172 (dk_at dksX6_tray_8 0 rfl rfl)
abbrev cX6_in : ByteArray := prog_15_method_3_code
def yX6_in : MethodName := ⟨RX6, "in", "(III)Z"⟩
def dkwX6_in_0 : List UInt8 := [26, 27, 161, 0, 12, 26, 28, 163, 0, 7, 4, 167, 0, 4, 3, 172]
abbrev dktX6_in_0 : List UInt8 := dkwX6_in_0 ++ []
theorem dksX6_in_0 : cX6_in.data.toList.drop 0 = dktX6_in_0 := by decide +kernel
theorem dX6_in_0 : decode cX6_in 0 = .ok (.iload_n 0, 1) := dk_26 (dk_at dksX6_in_0 0 rfl rfl)
theorem dX6_in_1 : decode cX6_in 1 = .ok (.iload_n 1, 1) := dk_27 (dk_at dksX6_in_0 1 rfl rfl)
theorem dX6_in_2 : decode cX6_in 2 = .ok (.if_icmp .lt 12, 3) := dk_161 0 12 (dk_at dksX6_in_0 2 rfl rfl)
theorem dX6_in_5 : decode cX6_in 5 = .ok (.iload_n 0, 1) := dk_26 (dk_at dksX6_in_0 5 rfl rfl)
theorem dX6_in_6 : decode cX6_in 6 = .ok (.iload_n 2, 1) := dk_28 (dk_at dksX6_in_0 6 rfl rfl)
theorem dX6_in_7 : decode cX6_in 7 = .ok (.if_icmp .gt 7, 3) := dk_163 0 7 (dk_at dksX6_in_0 7 rfl rfl)
theorem dX6_in_10 : decode cX6_in 10 = .ok (.iconst 1, 1) := dk_4 (dk_at dksX6_in_0 10 rfl rfl)
theorem dX6_in_11 : decode cX6_in 11 = .ok (.goto 4, 3) := dk_167 0 4 (dk_at dksX6_in_0 11 rfl rfl)
theorem dX6_in_14 : decode cX6_in 14 = .ok (.iconst 0, 1) := dk_3 (dk_at dksX6_in_0 14 rfl rfl)
theorem dX6_in_15 : decode cX6_in 15 = .ok (.ireturn, 1) := dk_172 (dk_at dksX6_in_0 15 rfl rfl)
abbrev cX6_refuse : ByteArray := prog_15_method_4_code
def yX6_refuse : MethodName := ⟨RX6, "refuse", "(I)I"⟩
def dkwX6_refuse_0 : List UInt8 := [42, 27, 181, 0, 167, 3, 172]
abbrev dktX6_refuse_0 : List UInt8 := dkwX6_refuse_0 ++ []
theorem dksX6_refuse_0 : cX6_refuse.data.toList.drop 0 = dktX6_refuse_0 := by decide +kernel
theorem dX6_refuse_0 : decode cX6_refuse 0 = .ok (.aload_n 0, 1) := dk_42 (dk_at dksX6_refuse_0 0 rfl rfl)
theorem dX6_refuse_1 : decode cX6_refuse 1 = .ok (.iload_n 1, 1) := dk_27 (dk_at dksX6_refuse_0 1 rfl rfl)
theorem dX6_refuse_2 : decode cX6_refuse 2 = .ok (.putfield 167, 3) := dk_181 0 167 (dk_at dksX6_refuse_0 2 rfl rfl)
theorem dX6_refuse_5 : decode cX6_refuse 5 = .ok (.iconst 0, 1) := dk_3 (dk_at dksX6_refuse_0 5 rfl rfl)
theorem dX6_refuse_6 : decode cX6_refuse 6 = .ok (.ireturn, 1) := dk_172 (dk_at dksX6_refuse_0 6 rfl rfl)
abbrev cX6_isWhole : ByteArray := prog_15_method_14_code
def yX6_isWhole : MethodName := ⟨RX6, "isWhole", "(III)Z"⟩
def dkwX6_isWhole_11 : List UInt8 := [132, 6, 1, 167, 255, 225, 21, 5, 29, 160, 0, 7, 4, 167, 0, 4, 3, 172]
abbrev dktX6_isWhole_11 : List UInt8 := dkwX6_isWhole_11 ++ []
def dkwX6_isWhole_10 : List UInt8 := [162, 0, 29, 21, 5, 42, 180, 0, 75, 21, 6, 51, 153, 0, 7, 4, 167, 0, 4, 3, 96, 54, 5]
abbrev dktX6_isWhole_10 : List UInt8 := dkwX6_isWhole_10 ++ dktX6_isWhole_11
def dkwX6_isWhole_9 : List UInt8 := [132, 6, 1, 167, 255, 108, 132, 5, 1, 167, 255, 92, 3, 54, 5, 3, 54, 6, 21, 6, 27, 28, 104]
abbrev dktX6_isWhole_9 : List UInt8 := dkwX6_isWhole_9 ++ dktX6_isWhole_10
def dkwX6_isWhole_8 : List UInt8 := [154, 0, 18, 21, 7, 153, 0, 17, 42, 180, 0, 72, 21, 6, 51, 154, 0, 7, 4, 167, 0, 4, 3, 84]
abbrev dktX6_isWhole_8 : List UInt8 := dkwX6_isWhole_8 ++ dktX6_isWhole_9
def dkwX6_isWhole_7 : List UInt8 := [153, 0, 7, 4, 167, 0, 4, 3, 54, 7, 42, 180, 0, 75, 21, 6, 42, 180, 0, 75, 21, 6, 51]
abbrev dktX6_isWhole_7 : List UInt8 := dkwX6_isWhole_7 ++ dktX6_isWhole_8
def dkwX6_isWhole_6 : List UInt8 := [154, 0, 25, 21, 6, 28, 96, 27, 28, 104, 162, 0, 19, 42, 180, 0, 75, 21, 6, 28, 96, 51]
abbrev dktX6_isWhole_6 : List UInt8 := dkwX6_isWhole_6 ++ dktX6_isWhole_7
def dkwX6_isWhole_5 : List UInt8 := [21, 7, 154, 0, 47, 21, 6, 28, 112, 4, 96, 28, 162, 0, 15, 42, 180, 0, 75, 21, 6, 4, 96, 51]
abbrev dktX6_isWhole_5 : List UInt8 := dkwX6_isWhole_5 ++ dktX6_isWhole_6
def dkwX6_isWhole_4 : List UInt8 := [112, 158, 0, 19, 42, 180, 0, 75, 21, 6, 4, 100, 51, 153, 0, 7, 4, 167, 0, 4, 3, 54, 7]
abbrev dktX6_isWhole_4 : List UInt8 := dkwX6_isWhole_4 ++ dktX6_isWhole_5
def dkwX6_isWhole_3 : List UInt8 := [162, 0, 146, 21, 6, 28, 161, 0, 15, 42, 180, 0, 75, 21, 6, 28, 100, 51, 154, 0, 22, 21, 6, 28]
abbrev dktX6_isWhole_3 : List UInt8 := dkwX6_isWhole_3 ++ dktX6_isWhole_4
def dkwX6_isWhole_2 : List UInt8 := [132, 5, 1, 167, 255, 227, 3, 54, 5, 21, 5, 16, 16, 162, 0, 163, 3, 54, 6, 21, 6, 27, 28, 104]
abbrev dktX6_isWhole_2 : List UInt8 := dkwX6_isWhole_2 ++ dktX6_isWhole_3
def dkwX6_isWhole_1 : List UInt8 := [16, 16, 162, 0, 28, 42, 180, 0, 75, 21, 5, 21, 5, 21, 4, 160, 0, 7, 4, 167, 0, 4, 3, 84]
abbrev dktX6_isWhole_1 : List UInt8 := dkwX6_isWhole_1 ++ dktX6_isWhole_2
def dkwX6_isWhole_0 : List UInt8 := [3, 54, 4, 42, 180, 0, 72, 21, 4, 51, 153, 0, 9, 132, 4, 1, 167, 255, 243, 3, 54, 5, 21, 5]
abbrev dktX6_isWhole_0 : List UInt8 := dkwX6_isWhole_0 ++ dktX6_isWhole_1
theorem dksX6_isWhole_0 : cX6_isWhole.data.toList.drop 0 = dktX6_isWhole_0 := by decide +kernel
theorem dksX6_isWhole_1 : cX6_isWhole.data.toList.drop 24 = dktX6_isWhole_1 := dk_seg dksX6_isWhole_0 24 rfl rfl
theorem dksX6_isWhole_2 : cX6_isWhole.data.toList.drop 48 = dktX6_isWhole_2 := dk_seg dksX6_isWhole_1 24 rfl rfl
theorem dksX6_isWhole_3 : cX6_isWhole.data.toList.drop 72 = dktX6_isWhole_3 := dk_seg dksX6_isWhole_2 24 rfl rfl
theorem dksX6_isWhole_4 : cX6_isWhole.data.toList.drop 96 = dktX6_isWhole_4 := dk_seg dksX6_isWhole_3 24 rfl rfl
theorem dksX6_isWhole_5 : cX6_isWhole.data.toList.drop 119 = dktX6_isWhole_5 := dk_seg dksX6_isWhole_4 23 rfl rfl
theorem dksX6_isWhole_6 : cX6_isWhole.data.toList.drop 143 = dktX6_isWhole_6 := dk_seg dksX6_isWhole_5 24 rfl rfl
theorem dksX6_isWhole_7 : cX6_isWhole.data.toList.drop 165 = dktX6_isWhole_7 := dk_seg dksX6_isWhole_6 22 rfl rfl
theorem dksX6_isWhole_8 : cX6_isWhole.data.toList.drop 188 = dktX6_isWhole_8 := dk_seg dksX6_isWhole_7 23 rfl rfl
theorem dksX6_isWhole_9 : cX6_isWhole.data.toList.drop 212 = dktX6_isWhole_9 := dk_seg dksX6_isWhole_8 24 rfl rfl
theorem dksX6_isWhole_10 : cX6_isWhole.data.toList.drop 235 = dktX6_isWhole_10 := dk_seg dksX6_isWhole_9 23 rfl rfl
theorem dksX6_isWhole_11 : cX6_isWhole.data.toList.drop 258 = dktX6_isWhole_11 := dk_seg dksX6_isWhole_10 23 rfl rfl
theorem dX6_isWhole_0 : decode cX6_isWhole 0 = .ok (.iconst 0, 1) := dk_3 (dk_at dksX6_isWhole_0 0 rfl rfl)
theorem dX6_isWhole_1 : decode cX6_isWhole 1 = .ok (.istore 4, 2) := dk_54 4 (dk_at dksX6_isWhole_0 1 rfl rfl)
theorem dX6_isWhole_3 : decode cX6_isWhole 3 = .ok (.aload_n 0, 1) := dk_42 (dk_at dksX6_isWhole_0 3 rfl rfl)
theorem dX6_isWhole_4 : decode cX6_isWhole 4 = .ok (.getfield 72, 3) := dk_180 0 72 (dk_at dksX6_isWhole_0 4 rfl rfl)
theorem dX6_isWhole_7 : decode cX6_isWhole 7 = .ok (.iload 4, 2) := dk_21 4 (dk_at dksX6_isWhole_0 7 rfl rfl)
theorem dX6_isWhole_9 : decode cX6_isWhole 9 = .ok (.baload, 1) := dk_51 (dk_at dksX6_isWhole_0 9 rfl rfl)
theorem dX6_isWhole_10 : decode cX6_isWhole 10 = .ok (.ifCond .eq 9, 3) := dk_153 0 9 (dk_at dksX6_isWhole_0 10 rfl rfl)
theorem dX6_isWhole_13 : decode cX6_isWhole 13 = .ok (.iinc 4 1, 3) := dk_132 4 1 (dk_at dksX6_isWhole_0 13 rfl rfl)
theorem dX6_isWhole_16 : decode cX6_isWhole 16 = .ok (.goto (-13), 3) := dk_167 255 243 (dk_at dksX6_isWhole_0 16 rfl rfl)
theorem dX6_isWhole_19 : decode cX6_isWhole 19 = .ok (.iconst 0, 1) := dk_3 (dk_at dksX6_isWhole_0 19 rfl rfl)
theorem dX6_isWhole_20 : decode cX6_isWhole 20 = .ok (.istore 5, 2) := dk_54 5 (dk_at dksX6_isWhole_0 20 rfl rfl)
theorem dX6_isWhole_22 : decode cX6_isWhole 22 = .ok (.iload 5, 2) := dk_21 5 (dk_at dksX6_isWhole_0 22 rfl rfl)
theorem dX6_isWhole_24 : decode cX6_isWhole 24 = .ok (.bipush 16, 2) := dk_16 16 (dk_at dksX6_isWhole_1 0 rfl rfl)
theorem dX6_isWhole_26 : decode cX6_isWhole 26 = .ok (.if_icmp .ge 28, 3) := dk_162 0 28 (dk_at dksX6_isWhole_1 2 rfl rfl)
theorem dX6_isWhole_29 : decode cX6_isWhole 29 = .ok (.aload_n 0, 1) := dk_42 (dk_at dksX6_isWhole_1 5 rfl rfl)
theorem dX6_isWhole_30 : decode cX6_isWhole 30 = .ok (.getfield 75, 3) := dk_180 0 75 (dk_at dksX6_isWhole_1 6 rfl rfl)
theorem dX6_isWhole_33 : decode cX6_isWhole 33 = .ok (.iload 5, 2) := dk_21 5 (dk_at dksX6_isWhole_1 9 rfl rfl)
theorem dX6_isWhole_35 : decode cX6_isWhole 35 = .ok (.iload 5, 2) := dk_21 5 (dk_at dksX6_isWhole_1 11 rfl rfl)
theorem dX6_isWhole_37 : decode cX6_isWhole 37 = .ok (.iload 4, 2) := dk_21 4 (dk_at dksX6_isWhole_1 13 rfl rfl)
theorem dX6_isWhole_39 : decode cX6_isWhole 39 = .ok (.if_icmp .ne 7, 3) := dk_160 0 7 (dk_at dksX6_isWhole_1 15 rfl rfl)
theorem dX6_isWhole_42 : decode cX6_isWhole 42 = .ok (.iconst 1, 1) := dk_4 (dk_at dksX6_isWhole_1 18 rfl rfl)
theorem dX6_isWhole_43 : decode cX6_isWhole 43 = .ok (.goto 4, 3) := dk_167 0 4 (dk_at dksX6_isWhole_1 19 rfl rfl)
theorem dX6_isWhole_46 : decode cX6_isWhole 46 = .ok (.iconst 0, 1) := dk_3 (dk_at dksX6_isWhole_1 22 rfl rfl)
theorem dX6_isWhole_47 : decode cX6_isWhole 47 = .ok (.bastore, 1) := dk_84 (dk_at dksX6_isWhole_1 23 rfl rfl)
theorem dX6_isWhole_48 : decode cX6_isWhole 48 = .ok (.iinc 5 1, 3) := dk_132 5 1 (dk_at dksX6_isWhole_2 0 rfl rfl)
theorem dX6_isWhole_51 : decode cX6_isWhole 51 = .ok (.goto (-29), 3) := dk_167 255 227 (dk_at dksX6_isWhole_2 3 rfl rfl)
theorem dX6_isWhole_54 : decode cX6_isWhole 54 = .ok (.iconst 0, 1) := dk_3 (dk_at dksX6_isWhole_2 6 rfl rfl)
theorem dX6_isWhole_55 : decode cX6_isWhole 55 = .ok (.istore 5, 2) := dk_54 5 (dk_at dksX6_isWhole_2 7 rfl rfl)
theorem dX6_isWhole_57 : decode cX6_isWhole 57 = .ok (.iload 5, 2) := dk_21 5 (dk_at dksX6_isWhole_2 9 rfl rfl)
theorem dX6_isWhole_59 : decode cX6_isWhole 59 = .ok (.bipush 16, 2) := dk_16 16 (dk_at dksX6_isWhole_2 11 rfl rfl)
theorem dX6_isWhole_61 : decode cX6_isWhole 61 = .ok (.if_icmp .ge 163, 3) := dk_162 0 163 (dk_at dksX6_isWhole_2 13 rfl rfl)
theorem dX6_isWhole_64 : decode cX6_isWhole 64 = .ok (.iconst 0, 1) := dk_3 (dk_at dksX6_isWhole_2 16 rfl rfl)
theorem dX6_isWhole_65 : decode cX6_isWhole 65 = .ok (.istore 6, 2) := dk_54 6 (dk_at dksX6_isWhole_2 17 rfl rfl)
theorem dX6_isWhole_67 : decode cX6_isWhole 67 = .ok (.iload 6, 2) := dk_21 6 (dk_at dksX6_isWhole_2 19 rfl rfl)
theorem dX6_isWhole_69 : decode cX6_isWhole 69 = .ok (.iload_n 1, 1) := dk_27 (dk_at dksX6_isWhole_2 21 rfl rfl)
theorem dX6_isWhole_70 : decode cX6_isWhole 70 = .ok (.iload_n 2, 1) := dk_28 (dk_at dksX6_isWhole_2 22 rfl rfl)
theorem dX6_isWhole_71 : decode cX6_isWhole 71 = .ok (.imul, 1) := dk_104 (dk_at dksX6_isWhole_2 23 rfl rfl)
theorem dX6_isWhole_72 : decode cX6_isWhole 72 = .ok (.if_icmp .ge 146, 3) := dk_162 0 146 (dk_at dksX6_isWhole_3 0 rfl rfl)
theorem dX6_isWhole_75 : decode cX6_isWhole 75 = .ok (.iload 6, 2) := dk_21 6 (dk_at dksX6_isWhole_3 3 rfl rfl)
theorem dX6_isWhole_77 : decode cX6_isWhole 77 = .ok (.iload_n 2, 1) := dk_28 (dk_at dksX6_isWhole_3 5 rfl rfl)
theorem dX6_isWhole_78 : decode cX6_isWhole 78 = .ok (.if_icmp .lt 15, 3) := dk_161 0 15 (dk_at dksX6_isWhole_3 6 rfl rfl)
theorem dX6_isWhole_81 : decode cX6_isWhole 81 = .ok (.aload_n 0, 1) := dk_42 (dk_at dksX6_isWhole_3 9 rfl rfl)
theorem dX6_isWhole_82 : decode cX6_isWhole 82 = .ok (.getfield 75, 3) := dk_180 0 75 (dk_at dksX6_isWhole_3 10 rfl rfl)
theorem dX6_isWhole_85 : decode cX6_isWhole 85 = .ok (.iload 6, 2) := dk_21 6 (dk_at dksX6_isWhole_3 13 rfl rfl)
theorem dX6_isWhole_87 : decode cX6_isWhole 87 = .ok (.iload_n 2, 1) := dk_28 (dk_at dksX6_isWhole_3 15 rfl rfl)
theorem dX6_isWhole_88 : decode cX6_isWhole 88 = .ok (.isub, 1) := dk_100 (dk_at dksX6_isWhole_3 16 rfl rfl)
theorem dX6_isWhole_89 : decode cX6_isWhole 89 = .ok (.baload, 1) := dk_51 (dk_at dksX6_isWhole_3 17 rfl rfl)
theorem dX6_isWhole_90 : decode cX6_isWhole 90 = .ok (.ifCond .ne 22, 3) := dk_154 0 22 (dk_at dksX6_isWhole_3 18 rfl rfl)
theorem dX6_isWhole_93 : decode cX6_isWhole 93 = .ok (.iload 6, 2) := dk_21 6 (dk_at dksX6_isWhole_3 21 rfl rfl)
theorem dX6_isWhole_95 : decode cX6_isWhole 95 = .ok (.iload_n 2, 1) := dk_28 (dk_at dksX6_isWhole_3 23 rfl rfl)
theorem dX6_isWhole_96 : decode cX6_isWhole 96 = .ok (.irem, 1) := dk_112 (dk_at dksX6_isWhole_4 0 rfl rfl)
theorem dX6_isWhole_97 : decode cX6_isWhole 97 = .ok (.ifCond .le 19, 3) := dk_158 0 19 (dk_at dksX6_isWhole_4 1 rfl rfl)
theorem dX6_isWhole_100 : decode cX6_isWhole 100 = .ok (.aload_n 0, 1) := dk_42 (dk_at dksX6_isWhole_4 4 rfl rfl)
theorem dX6_isWhole_101 : decode cX6_isWhole 101 = .ok (.getfield 75, 3) := dk_180 0 75 (dk_at dksX6_isWhole_4 5 rfl rfl)
theorem dX6_isWhole_104 : decode cX6_isWhole 104 = .ok (.iload 6, 2) := dk_21 6 (dk_at dksX6_isWhole_4 8 rfl rfl)
theorem dX6_isWhole_106 : decode cX6_isWhole 106 = .ok (.iconst 1, 1) := dk_4 (dk_at dksX6_isWhole_4 10 rfl rfl)
theorem dX6_isWhole_107 : decode cX6_isWhole 107 = .ok (.isub, 1) := dk_100 (dk_at dksX6_isWhole_4 11 rfl rfl)
theorem dX6_isWhole_108 : decode cX6_isWhole 108 = .ok (.baload, 1) := dk_51 (dk_at dksX6_isWhole_4 12 rfl rfl)
theorem dX6_isWhole_109 : decode cX6_isWhole 109 = .ok (.ifCond .eq 7, 3) := dk_153 0 7 (dk_at dksX6_isWhole_4 13 rfl rfl)
theorem dX6_isWhole_112 : decode cX6_isWhole 112 = .ok (.iconst 1, 1) := dk_4 (dk_at dksX6_isWhole_4 16 rfl rfl)
theorem dX6_isWhole_113 : decode cX6_isWhole 113 = .ok (.goto 4, 3) := dk_167 0 4 (dk_at dksX6_isWhole_4 17 rfl rfl)
theorem dX6_isWhole_116 : decode cX6_isWhole 116 = .ok (.iconst 0, 1) := dk_3 (dk_at dksX6_isWhole_4 20 rfl rfl)
theorem dX6_isWhole_117 : decode cX6_isWhole 117 = .ok (.istore 7, 2) := dk_54 7 (dk_at dksX6_isWhole_4 21 rfl rfl)
theorem dX6_isWhole_119 : decode cX6_isWhole 119 = .ok (.iload 7, 2) := dk_21 7 (dk_at dksX6_isWhole_5 0 rfl rfl)
theorem dX6_isWhole_121 : decode cX6_isWhole 121 = .ok (.ifCond .ne 47, 3) := dk_154 0 47 (dk_at dksX6_isWhole_5 2 rfl rfl)
theorem dX6_isWhole_124 : decode cX6_isWhole 124 = .ok (.iload 6, 2) := dk_21 6 (dk_at dksX6_isWhole_5 5 rfl rfl)
theorem dX6_isWhole_126 : decode cX6_isWhole 126 = .ok (.iload_n 2, 1) := dk_28 (dk_at dksX6_isWhole_5 7 rfl rfl)
theorem dX6_isWhole_127 : decode cX6_isWhole 127 = .ok (.irem, 1) := dk_112 (dk_at dksX6_isWhole_5 8 rfl rfl)
theorem dX6_isWhole_128 : decode cX6_isWhole 128 = .ok (.iconst 1, 1) := dk_4 (dk_at dksX6_isWhole_5 9 rfl rfl)
theorem dX6_isWhole_129 : decode cX6_isWhole 129 = .ok (.iadd, 1) := dk_96 (dk_at dksX6_isWhole_5 10 rfl rfl)
theorem dX6_isWhole_130 : decode cX6_isWhole 130 = .ok (.iload_n 2, 1) := dk_28 (dk_at dksX6_isWhole_5 11 rfl rfl)
theorem dX6_isWhole_131 : decode cX6_isWhole 131 = .ok (.if_icmp .ge 15, 3) := dk_162 0 15 (dk_at dksX6_isWhole_5 12 rfl rfl)
theorem dX6_isWhole_134 : decode cX6_isWhole 134 = .ok (.aload_n 0, 1) := dk_42 (dk_at dksX6_isWhole_5 15 rfl rfl)
theorem dX6_isWhole_135 : decode cX6_isWhole 135 = .ok (.getfield 75, 3) := dk_180 0 75 (dk_at dksX6_isWhole_5 16 rfl rfl)
theorem dX6_isWhole_138 : decode cX6_isWhole 138 = .ok (.iload 6, 2) := dk_21 6 (dk_at dksX6_isWhole_5 19 rfl rfl)
theorem dX6_isWhole_140 : decode cX6_isWhole 140 = .ok (.iconst 1, 1) := dk_4 (dk_at dksX6_isWhole_5 21 rfl rfl)
theorem dX6_isWhole_141 : decode cX6_isWhole 141 = .ok (.iadd, 1) := dk_96 (dk_at dksX6_isWhole_5 22 rfl rfl)
theorem dX6_isWhole_142 : decode cX6_isWhole 142 = .ok (.baload, 1) := dk_51 (dk_at dksX6_isWhole_5 23 rfl rfl)
theorem dX6_isWhole_143 : decode cX6_isWhole 143 = .ok (.ifCond .ne 25, 3) := dk_154 0 25 (dk_at dksX6_isWhole_6 0 rfl rfl)
theorem dX6_isWhole_146 : decode cX6_isWhole 146 = .ok (.iload 6, 2) := dk_21 6 (dk_at dksX6_isWhole_6 3 rfl rfl)
theorem dX6_isWhole_148 : decode cX6_isWhole 148 = .ok (.iload_n 2, 1) := dk_28 (dk_at dksX6_isWhole_6 5 rfl rfl)
theorem dX6_isWhole_149 : decode cX6_isWhole 149 = .ok (.iadd, 1) := dk_96 (dk_at dksX6_isWhole_6 6 rfl rfl)
theorem dX6_isWhole_150 : decode cX6_isWhole 150 = .ok (.iload_n 1, 1) := dk_27 (dk_at dksX6_isWhole_6 7 rfl rfl)
theorem dX6_isWhole_151 : decode cX6_isWhole 151 = .ok (.iload_n 2, 1) := dk_28 (dk_at dksX6_isWhole_6 8 rfl rfl)
theorem dX6_isWhole_152 : decode cX6_isWhole 152 = .ok (.imul, 1) := dk_104 (dk_at dksX6_isWhole_6 9 rfl rfl)
theorem dX6_isWhole_153 : decode cX6_isWhole 153 = .ok (.if_icmp .ge 19, 3) := dk_162 0 19 (dk_at dksX6_isWhole_6 10 rfl rfl)
theorem dX6_isWhole_156 : decode cX6_isWhole 156 = .ok (.aload_n 0, 1) := dk_42 (dk_at dksX6_isWhole_6 13 rfl rfl)
theorem dX6_isWhole_157 : decode cX6_isWhole 157 = .ok (.getfield 75, 3) := dk_180 0 75 (dk_at dksX6_isWhole_6 14 rfl rfl)
theorem dX6_isWhole_160 : decode cX6_isWhole 160 = .ok (.iload 6, 2) := dk_21 6 (dk_at dksX6_isWhole_6 17 rfl rfl)
theorem dX6_isWhole_162 : decode cX6_isWhole 162 = .ok (.iload_n 2, 1) := dk_28 (dk_at dksX6_isWhole_6 19 rfl rfl)
theorem dX6_isWhole_163 : decode cX6_isWhole 163 = .ok (.iadd, 1) := dk_96 (dk_at dksX6_isWhole_6 20 rfl rfl)
theorem dX6_isWhole_164 : decode cX6_isWhole 164 = .ok (.baload, 1) := dk_51 (dk_at dksX6_isWhole_6 21 rfl rfl)
theorem dX6_isWhole_165 : decode cX6_isWhole 165 = .ok (.ifCond .eq 7, 3) := dk_153 0 7 (dk_at dksX6_isWhole_7 0 rfl rfl)
theorem dX6_isWhole_168 : decode cX6_isWhole 168 = .ok (.iconst 1, 1) := dk_4 (dk_at dksX6_isWhole_7 3 rfl rfl)
theorem dX6_isWhole_169 : decode cX6_isWhole 169 = .ok (.goto 4, 3) := dk_167 0 4 (dk_at dksX6_isWhole_7 4 rfl rfl)
theorem dX6_isWhole_172 : decode cX6_isWhole 172 = .ok (.iconst 0, 1) := dk_3 (dk_at dksX6_isWhole_7 7 rfl rfl)
theorem dX6_isWhole_173 : decode cX6_isWhole 173 = .ok (.istore 7, 2) := dk_54 7 (dk_at dksX6_isWhole_7 8 rfl rfl)
theorem dX6_isWhole_175 : decode cX6_isWhole 175 = .ok (.aload_n 0, 1) := dk_42 (dk_at dksX6_isWhole_7 10 rfl rfl)
theorem dX6_isWhole_176 : decode cX6_isWhole 176 = .ok (.getfield 75, 3) := dk_180 0 75 (dk_at dksX6_isWhole_7 11 rfl rfl)
theorem dX6_isWhole_179 : decode cX6_isWhole 179 = .ok (.iload 6, 2) := dk_21 6 (dk_at dksX6_isWhole_7 14 rfl rfl)
theorem dX6_isWhole_181 : decode cX6_isWhole 181 = .ok (.aload_n 0, 1) := dk_42 (dk_at dksX6_isWhole_7 16 rfl rfl)
theorem dX6_isWhole_182 : decode cX6_isWhole 182 = .ok (.getfield 75, 3) := dk_180 0 75 (dk_at dksX6_isWhole_7 17 rfl rfl)
theorem dX6_isWhole_185 : decode cX6_isWhole 185 = .ok (.iload 6, 2) := dk_21 6 (dk_at dksX6_isWhole_7 20 rfl rfl)
theorem dX6_isWhole_187 : decode cX6_isWhole 187 = .ok (.baload, 1) := dk_51 (dk_at dksX6_isWhole_7 22 rfl rfl)
theorem dX6_isWhole_188 : decode cX6_isWhole 188 = .ok (.ifCond .ne 18, 3) := dk_154 0 18 (dk_at dksX6_isWhole_8 0 rfl rfl)
theorem dX6_isWhole_191 : decode cX6_isWhole 191 = .ok (.iload 7, 2) := dk_21 7 (dk_at dksX6_isWhole_8 3 rfl rfl)
theorem dX6_isWhole_193 : decode cX6_isWhole 193 = .ok (.ifCond .eq 17, 3) := dk_153 0 17 (dk_at dksX6_isWhole_8 5 rfl rfl)
theorem dX6_isWhole_196 : decode cX6_isWhole 196 = .ok (.aload_n 0, 1) := dk_42 (dk_at dksX6_isWhole_8 8 rfl rfl)
theorem dX6_isWhole_197 : decode cX6_isWhole 197 = .ok (.getfield 72, 3) := dk_180 0 72 (dk_at dksX6_isWhole_8 9 rfl rfl)
theorem dX6_isWhole_200 : decode cX6_isWhole 200 = .ok (.iload 6, 2) := dk_21 6 (dk_at dksX6_isWhole_8 12 rfl rfl)
theorem dX6_isWhole_202 : decode cX6_isWhole 202 = .ok (.baload, 1) := dk_51 (dk_at dksX6_isWhole_8 14 rfl rfl)
theorem dX6_isWhole_203 : decode cX6_isWhole 203 = .ok (.ifCond .ne 7, 3) := dk_154 0 7 (dk_at dksX6_isWhole_8 15 rfl rfl)
theorem dX6_isWhole_206 : decode cX6_isWhole 206 = .ok (.iconst 1, 1) := dk_4 (dk_at dksX6_isWhole_8 18 rfl rfl)
theorem dX6_isWhole_207 : decode cX6_isWhole 207 = .ok (.goto 4, 3) := dk_167 0 4 (dk_at dksX6_isWhole_8 19 rfl rfl)
theorem dX6_isWhole_210 : decode cX6_isWhole 210 = .ok (.iconst 0, 1) := dk_3 (dk_at dksX6_isWhole_8 22 rfl rfl)
theorem dX6_isWhole_211 : decode cX6_isWhole 211 = .ok (.bastore, 1) := dk_84 (dk_at dksX6_isWhole_8 23 rfl rfl)
theorem dX6_isWhole_212 : decode cX6_isWhole 212 = .ok (.iinc 6 1, 3) := dk_132 6 1 (dk_at dksX6_isWhole_9 0 rfl rfl)
theorem dX6_isWhole_215 : decode cX6_isWhole 215 = .ok (.goto (-148), 3) := dk_167 255 108 (dk_at dksX6_isWhole_9 3 rfl rfl)
theorem dX6_isWhole_218 : decode cX6_isWhole 218 = .ok (.iinc 5 1, 3) := dk_132 5 1 (dk_at dksX6_isWhole_9 6 rfl rfl)
theorem dX6_isWhole_221 : decode cX6_isWhole 221 = .ok (.goto (-164), 3) := dk_167 255 92 (dk_at dksX6_isWhole_9 9 rfl rfl)
theorem dX6_isWhole_224 : decode cX6_isWhole 224 = .ok (.iconst 0, 1) := dk_3 (dk_at dksX6_isWhole_9 12 rfl rfl)
theorem dX6_isWhole_225 : decode cX6_isWhole 225 = .ok (.istore 5, 2) := dk_54 5 (dk_at dksX6_isWhole_9 13 rfl rfl)
theorem dX6_isWhole_227 : decode cX6_isWhole 227 = .ok (.iconst 0, 1) := dk_3 (dk_at dksX6_isWhole_9 15 rfl rfl)
theorem dX6_isWhole_228 : decode cX6_isWhole 228 = .ok (.istore 6, 2) := dk_54 6 (dk_at dksX6_isWhole_9 16 rfl rfl)
theorem dX6_isWhole_230 : decode cX6_isWhole 230 = .ok (.iload 6, 2) := dk_21 6 (dk_at dksX6_isWhole_9 18 rfl rfl)
theorem dX6_isWhole_232 : decode cX6_isWhole 232 = .ok (.iload_n 1, 1) := dk_27 (dk_at dksX6_isWhole_9 20 rfl rfl)
theorem dX6_isWhole_233 : decode cX6_isWhole 233 = .ok (.iload_n 2, 1) := dk_28 (dk_at dksX6_isWhole_9 21 rfl rfl)
theorem dX6_isWhole_234 : decode cX6_isWhole 234 = .ok (.imul, 1) := dk_104 (dk_at dksX6_isWhole_9 22 rfl rfl)
theorem dX6_isWhole_235 : decode cX6_isWhole 235 = .ok (.if_icmp .ge 29, 3) := dk_162 0 29 (dk_at dksX6_isWhole_10 0 rfl rfl)
theorem dX6_isWhole_238 : decode cX6_isWhole 238 = .ok (.iload 5, 2) := dk_21 5 (dk_at dksX6_isWhole_10 3 rfl rfl)
theorem dX6_isWhole_240 : decode cX6_isWhole 240 = .ok (.aload_n 0, 1) := dk_42 (dk_at dksX6_isWhole_10 5 rfl rfl)
theorem dX6_isWhole_241 : decode cX6_isWhole 241 = .ok (.getfield 75, 3) := dk_180 0 75 (dk_at dksX6_isWhole_10 6 rfl rfl)
theorem dX6_isWhole_244 : decode cX6_isWhole 244 = .ok (.iload 6, 2) := dk_21 6 (dk_at dksX6_isWhole_10 9 rfl rfl)
theorem dX6_isWhole_246 : decode cX6_isWhole 246 = .ok (.baload, 1) := dk_51 (dk_at dksX6_isWhole_10 11 rfl rfl)
theorem dX6_isWhole_247 : decode cX6_isWhole 247 = .ok (.ifCond .eq 7, 3) := dk_153 0 7 (dk_at dksX6_isWhole_10 12 rfl rfl)
theorem dX6_isWhole_250 : decode cX6_isWhole 250 = .ok (.iconst 1, 1) := dk_4 (dk_at dksX6_isWhole_10 15 rfl rfl)
theorem dX6_isWhole_251 : decode cX6_isWhole 251 = .ok (.goto 4, 3) := dk_167 0 4 (dk_at dksX6_isWhole_10 16 rfl rfl)
theorem dX6_isWhole_254 : decode cX6_isWhole 254 = .ok (.iconst 0, 1) := dk_3 (dk_at dksX6_isWhole_10 19 rfl rfl)
theorem dX6_isWhole_255 : decode cX6_isWhole 255 = .ok (.iadd, 1) := dk_96 (dk_at dksX6_isWhole_10 20 rfl rfl)
theorem dX6_isWhole_256 : decode cX6_isWhole 256 = .ok (.istore 5, 2) := dk_54 5 (dk_at dksX6_isWhole_10 21 rfl rfl)
theorem dX6_isWhole_258 : decode cX6_isWhole 258 = .ok (.iinc 6 1, 3) := dk_132 6 1 (dk_at dksX6_isWhole_11 0 rfl rfl)
theorem dX6_isWhole_261 : decode cX6_isWhole 261 = .ok (.goto (-31), 3) := dk_167 255 225 (dk_at dksX6_isWhole_11 3 rfl rfl)
theorem dX6_isWhole_264 : decode cX6_isWhole 264 = .ok (.iload 5, 2) := dk_21 5 (dk_at dksX6_isWhole_11 6 rfl rfl)
theorem dX6_isWhole_266 : decode cX6_isWhole 266 = .ok (.iload_n 3, 1) := dk_29 (dk_at dksX6_isWhole_11 8 rfl rfl)
theorem dX6_isWhole_267 : decode cX6_isWhole 267 = .ok (.if_icmp .ne 7, 3) := dk_160 0 7 (dk_at dksX6_isWhole_11 9 rfl rfl)
theorem dX6_isWhole_270 : decode cX6_isWhole 270 = .ok (.iconst 1, 1) := dk_4 (dk_at dksX6_isWhole_11 12 rfl rfl)
theorem dX6_isWhole_271 : decode cX6_isWhole 271 = .ok (.goto 4, 3) := dk_167 0 4 (dk_at dksX6_isWhole_11 13 rfl rfl)
theorem dX6_isWhole_274 : decode cX6_isWhole 274 = .ok (.iconst 0, 1) := dk_3 (dk_at dksX6_isWhole_11 16 rfl rfl)
theorem dX6_isWhole_275 : decode cX6_isWhole 275 = .ok (.ireturn, 1) := dk_172 (dk_at dksX6_isWhole_11 17 rfl rfl)
abbrev cX6_tiles : ByteArray := prog_15_method_11_code
def yX6_tiles : MethodName := ⟨RX6, "tiles", "()I"⟩
def dkwX6_tiles_0 : List UInt8 := [42, 180, 0, 170, 4, 100, 172]
abbrev dktX6_tiles_0 : List UInt8 := dkwX6_tiles_0 ++ []
theorem dksX6_tiles_0 : cX6_tiles.data.toList.drop 0 = dktX6_tiles_0 := by decide +kernel
theorem dX6_tiles_0 : decode cX6_tiles 0 = .ok (.aload_n 0, 1) := dk_42 (dk_at dksX6_tiles_0 0 rfl rfl)
theorem dX6_tiles_1 : decode cX6_tiles 1 = .ok (.getfield 170, 3) := dk_180 0 170 (dk_at dksX6_tiles_0 1 rfl rfl)
theorem dX6_tiles_4 : decode cX6_tiles 4 = .ok (.iconst 1, 1) := dk_4 (dk_at dksX6_tiles_0 4 rfl rfl)
theorem dX6_tiles_5 : decode cX6_tiles 5 = .ok (.isub, 1) := dk_100 (dk_at dksX6_tiles_0 5 rfl rfl)
theorem dX6_tiles_6 : decode cX6_tiles 6 = .ok (.ireturn, 1) := dk_172 (dk_at dksX6_tiles_0 6 rfl rfl)
abbrev cX6_told : ByteArray := prog_15_method_5_code
def yX6_told : MethodName := ⟨RX6, "told", "(I)I"⟩
def dkwX6_told_0 : List UInt8 := [42, 3, 181, 0, 167, 27, 172]
abbrev dktX6_told_0 : List UInt8 := dkwX6_told_0 ++ []
theorem dksX6_told_0 : cX6_told.data.toList.drop 0 = dktX6_told_0 := by decide +kernel
theorem dX6_told_0 : decode cX6_told 0 = .ok (.aload_n 0, 1) := dk_42 (dk_at dksX6_told_0 0 rfl rfl)
theorem dX6_told_1 : decode cX6_told 1 = .ok (.iconst 0, 1) := dk_3 (dk_at dksX6_told_0 1 rfl rfl)
theorem dX6_told_2 : decode cX6_told 2 = .ok (.putfield 167, 3) := dk_181 0 167 (dk_at dksX6_told_0 2 rfl rfl)
theorem dX6_told_5 : decode cX6_told 5 = .ok (.iload_n 1, 1) := dk_27 (dk_at dksX6_told_0 5 rfl rfl)
theorem dX6_told_6 : decode cX6_told 6 = .ok (.ireturn, 1) := dk_172 (dk_at dksX6_told_0 6 rfl rfl)
abbrev cX6_part : ByteArray := prog_15_method_31_code
def yX6_part : MethodName := ⟨RX6, "part", "(I)I"⟩
def dkwX6_part_12 : List UInt8 := [21, 4, 182, 0, 215, 172]
abbrev dktX6_part_12 : List UInt8 := dkwX6_part_12 ++ []
def dkwX6_part_11 : List UInt8 := [167, 255, 198, 42, 42, 180, 0, 181, 182, 1, 6, 54, 4, 42, 89, 180, 0, 181, 4, 96, 181, 0, 181, 42]
abbrev dktX6_part_11 : List UInt8 := dkwX6_part_11 ++ dktX6_part_12
def dkwX6_part_10 : List UInt8 := [180, 0, 181, 46, 96, 21, 4, 79, 42, 180, 0, 90, 42, 180, 0, 181, 92, 46, 4, 96, 79, 132, 4, 1]
abbrev dktX6_part_10 : List UInt8 := dkwX6_part_10 ++ dktX6_part_11
def dkwX6_part_9 : List UInt8 := [122, 4, 126, 4, 160, 0, 39, 42, 180, 0, 87, 6, 42, 180, 0, 181, 104, 42, 180, 0, 90, 42]
abbrev dktX6_part_9 : List UInt8 := dkwX6_part_9 ++ dktX6_part_10
def dkwX6_part_8 : List UInt8 := [180, 0, 90, 42, 180, 0, 181, 3, 79, 4, 54, 4, 21, 4, 42, 180, 0, 170, 162, 0, 55, 27, 21, 4]
abbrev dktX6_part_8 : List UInt8 := dkwX6_part_8 ++ dktX6_part_9
def dkwX6_part_7 : List UInt8 := [159, 0, 16, 29, 154, 0, 12, 42, 180, 0, 170, 16, 9, 164, 0, 9, 42, 5, 182, 0, 204, 172, 42]
abbrev dktX6_part_7 : List UInt8 := dkwX6_part_7 ++ dktX6_part_8
def dkwX6_part_6 : List UInt8 := [167, 0, 4, 3, 62, 132, 5, 1, 167, 255, 211, 132, 4, 1, 167, 255, 193, 42, 180, 0, 181, 5]
abbrev dktX6_part_6 : List UInt8 := dkwX6_part_6 ++ dktX6_part_7
def dkwX6_part_5 : List UInt8 := [154, 0, 23, 27, 42, 180, 0, 87, 6, 21, 4, 104, 21, 5, 96, 46, 122, 4, 126, 4, 160, 0, 7, 4]
abbrev dktX6_part_5 : List UInt8 := dkwX6_part_5 ++ dktX6_part_6
def dkwX6_part_4 : List UInt8 := [180, 0, 181, 162, 0, 60, 3, 54, 5, 21, 5, 42, 180, 0, 90, 21, 4, 46, 162, 0, 39, 29]
abbrev dktX6_part_4 : List UInt8 := dkwX6_part_4 ++ dktX6_part_5
def dkwX6_part_3 : List UInt8 := [132, 3, 1, 167, 255, 218, 28, 154, 0, 9, 42, 4, 182, 0, 204, 172, 3, 62, 3, 54, 4, 21, 4, 42]
abbrev dktX6_part_3 : List UInt8 := dkwX6_part_3 ++ dktX6_part_4
def dkwX6_part_2 : List UInt8 := [27, 29, 122, 4, 126, 153, 0, 12, 42, 180, 0, 42, 29, 51, 154, 0, 7, 4, 167, 0, 4, 3, 61]
abbrev dktX6_part_2 : List UInt8 := dkwX6_part_2 ++ dktX6_part_3
def dkwX6_part_1 : List UInt8 := [6, 163, 0, 7, 4, 167, 0, 4, 3, 61, 4, 62, 29, 42, 180, 0, 170, 162, 0, 36, 28, 153, 0, 32]
abbrev dktX6_part_1 : List UInt8 := dkwX6_part_1 ++ dktX6_part_2
def dkwX6_part_0 : List UInt8 := [27, 158, 0, 31, 27, 4, 126, 154, 0, 25, 27, 4, 42, 180, 0, 170, 120, 162, 0, 15, 27, 184, 1, 3]
abbrev dktX6_part_0 : List UInt8 := dkwX6_part_0 ++ dktX6_part_1
theorem dksX6_part_0 : cX6_part.data.toList.drop 0 = dktX6_part_0 := by decide +kernel
theorem dksX6_part_1 : cX6_part.data.toList.drop 24 = dktX6_part_1 := dk_seg dksX6_part_0 24 rfl rfl
theorem dksX6_part_2 : cX6_part.data.toList.drop 48 = dktX6_part_2 := dk_seg dksX6_part_1 24 rfl rfl
theorem dksX6_part_3 : cX6_part.data.toList.drop 71 = dktX6_part_3 := dk_seg dksX6_part_2 23 rfl rfl
theorem dksX6_part_4 : cX6_part.data.toList.drop 95 = dktX6_part_4 := dk_seg dksX6_part_3 24 rfl rfl
theorem dksX6_part_5 : cX6_part.data.toList.drop 117 = dktX6_part_5 := dk_seg dksX6_part_4 22 rfl rfl
theorem dksX6_part_6 : cX6_part.data.toList.drop 141 = dktX6_part_6 := dk_seg dksX6_part_5 24 rfl rfl
theorem dksX6_part_7 : cX6_part.data.toList.drop 163 = dktX6_part_7 := dk_seg dksX6_part_6 22 rfl rfl
theorem dksX6_part_8 : cX6_part.data.toList.drop 186 = dktX6_part_8 := dk_seg dksX6_part_7 23 rfl rfl
theorem dksX6_part_9 : cX6_part.data.toList.drop 210 = dktX6_part_9 := dk_seg dksX6_part_8 24 rfl rfl
theorem dksX6_part_10 : cX6_part.data.toList.drop 232 = dktX6_part_10 := dk_seg dksX6_part_9 22 rfl rfl
theorem dksX6_part_11 : cX6_part.data.toList.drop 256 = dktX6_part_11 := dk_seg dksX6_part_10 24 rfl rfl
theorem dksX6_part_12 : cX6_part.data.toList.drop 280 = dktX6_part_12 := dk_seg dksX6_part_11 24 rfl rfl
theorem dX6_part_0 : decode cX6_part 0 = .ok (.iload_n 1, 1) := dk_27 (dk_at dksX6_part_0 0 rfl rfl)
theorem dX6_part_1 : decode cX6_part 1 = .ok (.ifCond .le 31, 3) := dk_158 0 31 (dk_at dksX6_part_0 1 rfl rfl)
theorem dX6_part_4 : decode cX6_part 4 = .ok (.iload_n 1, 1) := dk_27 (dk_at dksX6_part_0 4 rfl rfl)
theorem dX6_part_5 : decode cX6_part 5 = .ok (.iconst 1, 1) := dk_4 (dk_at dksX6_part_0 5 rfl rfl)
theorem dX6_part_6 : decode cX6_part 6 = .ok (.iand, 1) := dk_126 (dk_at dksX6_part_0 6 rfl rfl)
theorem dX6_part_7 : decode cX6_part 7 = .ok (.ifCond .ne 25, 3) := dk_154 0 25 (dk_at dksX6_part_0 7 rfl rfl)
theorem dX6_part_10 : decode cX6_part 10 = .ok (.iload_n 1, 1) := dk_27 (dk_at dksX6_part_0 10 rfl rfl)
theorem dX6_part_11 : decode cX6_part 11 = .ok (.iconst 1, 1) := dk_4 (dk_at dksX6_part_0 11 rfl rfl)
theorem dX6_part_12 : decode cX6_part 12 = .ok (.aload_n 0, 1) := dk_42 (dk_at dksX6_part_0 12 rfl rfl)
theorem dX6_part_13 : decode cX6_part 13 = .ok (.getfield 170, 3) := dk_180 0 170 (dk_at dksX6_part_0 13 rfl rfl)
theorem dX6_part_16 : decode cX6_part 16 = .ok (.ishl, 1) := dk_120 (dk_at dksX6_part_0 16 rfl rfl)
theorem dX6_part_17 : decode cX6_part 17 = .ok (.if_icmp .ge 15, 3) := dk_162 0 15 (dk_at dksX6_part_0 17 rfl rfl)
theorem dX6_part_20 : decode cX6_part 20 = .ok (.iload_n 1, 1) := dk_27 (dk_at dksX6_part_0 20 rfl rfl)
theorem dX6_part_21 : decode cX6_part 21 = .ok (.invokestatic 259, 3) := dk_184 1 3 (dk_at dksX6_part_0 21 rfl rfl)
theorem dX6_part_24 : decode cX6_part 24 = .ok (.iconst 3, 1) := dk_6 (dk_at dksX6_part_1 0 rfl rfl)
theorem dX6_part_25 : decode cX6_part 25 = .ok (.if_icmp .gt 7, 3) := dk_163 0 7 (dk_at dksX6_part_1 1 rfl rfl)
theorem dX6_part_28 : decode cX6_part 28 = .ok (.iconst 1, 1) := dk_4 (dk_at dksX6_part_1 4 rfl rfl)
theorem dX6_part_29 : decode cX6_part 29 = .ok (.goto 4, 3) := dk_167 0 4 (dk_at dksX6_part_1 5 rfl rfl)
theorem dX6_part_32 : decode cX6_part 32 = .ok (.iconst 0, 1) := dk_3 (dk_at dksX6_part_1 8 rfl rfl)
theorem dX6_part_33 : decode cX6_part 33 = .ok (.istore_n 2, 1) := dk_61 (dk_at dksX6_part_1 9 rfl rfl)
theorem dX6_part_34 : decode cX6_part 34 = .ok (.iconst 1, 1) := dk_4 (dk_at dksX6_part_1 10 rfl rfl)
theorem dX6_part_35 : decode cX6_part 35 = .ok (.istore_n 3, 1) := dk_62 (dk_at dksX6_part_1 11 rfl rfl)
theorem dX6_part_36 : decode cX6_part 36 = .ok (.iload_n 3, 1) := dk_29 (dk_at dksX6_part_1 12 rfl rfl)
theorem dX6_part_37 : decode cX6_part 37 = .ok (.aload_n 0, 1) := dk_42 (dk_at dksX6_part_1 13 rfl rfl)
theorem dX6_part_38 : decode cX6_part 38 = .ok (.getfield 170, 3) := dk_180 0 170 (dk_at dksX6_part_1 14 rfl rfl)
theorem dX6_part_41 : decode cX6_part 41 = .ok (.if_icmp .ge 36, 3) := dk_162 0 36 (dk_at dksX6_part_1 17 rfl rfl)
theorem dX6_part_44 : decode cX6_part 44 = .ok (.iload_n 2, 1) := dk_28 (dk_at dksX6_part_1 20 rfl rfl)
theorem dX6_part_45 : decode cX6_part 45 = .ok (.ifCond .eq 32, 3) := dk_153 0 32 (dk_at dksX6_part_1 21 rfl rfl)
theorem dX6_part_48 : decode cX6_part 48 = .ok (.iload_n 1, 1) := dk_27 (dk_at dksX6_part_2 0 rfl rfl)
theorem dX6_part_49 : decode cX6_part 49 = .ok (.iload_n 3, 1) := dk_29 (dk_at dksX6_part_2 1 rfl rfl)
theorem dX6_part_50 : decode cX6_part 50 = .ok (.ishr, 1) := dk_122 (dk_at dksX6_part_2 2 rfl rfl)
theorem dX6_part_51 : decode cX6_part 51 = .ok (.iconst 1, 1) := dk_4 (dk_at dksX6_part_2 3 rfl rfl)
theorem dX6_part_52 : decode cX6_part 52 = .ok (.iand, 1) := dk_126 (dk_at dksX6_part_2 4 rfl rfl)
theorem dX6_part_53 : decode cX6_part 53 = .ok (.ifCond .eq 12, 3) := dk_153 0 12 (dk_at dksX6_part_2 5 rfl rfl)
theorem dX6_part_56 : decode cX6_part 56 = .ok (.aload_n 0, 1) := dk_42 (dk_at dksX6_part_2 8 rfl rfl)
theorem dX6_part_57 : decode cX6_part 57 = .ok (.getfield 42, 3) := dk_180 0 42 (dk_at dksX6_part_2 9 rfl rfl)
theorem dX6_part_60 : decode cX6_part 60 = .ok (.iload_n 3, 1) := dk_29 (dk_at dksX6_part_2 12 rfl rfl)
theorem dX6_part_61 : decode cX6_part 61 = .ok (.baload, 1) := dk_51 (dk_at dksX6_part_2 13 rfl rfl)
theorem dX6_part_62 : decode cX6_part 62 = .ok (.ifCond .ne 7, 3) := dk_154 0 7 (dk_at dksX6_part_2 14 rfl rfl)
theorem dX6_part_65 : decode cX6_part 65 = .ok (.iconst 1, 1) := dk_4 (dk_at dksX6_part_2 17 rfl rfl)
theorem dX6_part_66 : decode cX6_part 66 = .ok (.goto 4, 3) := dk_167 0 4 (dk_at dksX6_part_2 18 rfl rfl)
theorem dX6_part_69 : decode cX6_part 69 = .ok (.iconst 0, 1) := dk_3 (dk_at dksX6_part_2 21 rfl rfl)
theorem dX6_part_70 : decode cX6_part 70 = .ok (.istore_n 2, 1) := dk_61 (dk_at dksX6_part_2 22 rfl rfl)
theorem dX6_part_71 : decode cX6_part 71 = .ok (.iinc 3 1, 3) := dk_132 3 1 (dk_at dksX6_part_3 0 rfl rfl)
theorem dX6_part_74 : decode cX6_part 74 = .ok (.goto (-38), 3) := dk_167 255 218 (dk_at dksX6_part_3 3 rfl rfl)
theorem dX6_part_77 : decode cX6_part 77 = .ok (.iload_n 2, 1) := dk_28 (dk_at dksX6_part_3 6 rfl rfl)
theorem dX6_part_78 : decode cX6_part 78 = .ok (.ifCond .ne 9, 3) := dk_154 0 9 (dk_at dksX6_part_3 7 rfl rfl)
theorem dX6_part_81 : decode cX6_part 81 = .ok (.aload_n 0, 1) := dk_42 (dk_at dksX6_part_3 10 rfl rfl)
theorem dX6_part_82 : decode cX6_part 82 = .ok (.iconst 1, 1) := dk_4 (dk_at dksX6_part_3 11 rfl rfl)
theorem dX6_part_83 : decode cX6_part 83 = .ok (.invokevirtual 204, 3) := dk_182 0 204 (dk_at dksX6_part_3 12 rfl rfl)
theorem dX6_part_86 : decode cX6_part 86 = .ok (.ireturn, 1) := dk_172 (dk_at dksX6_part_3 15 rfl rfl)
theorem dX6_part_87 : decode cX6_part 87 = .ok (.iconst 0, 1) := dk_3 (dk_at dksX6_part_3 16 rfl rfl)
theorem dX6_part_88 : decode cX6_part 88 = .ok (.istore_n 3, 1) := dk_62 (dk_at dksX6_part_3 17 rfl rfl)
theorem dX6_part_89 : decode cX6_part 89 = .ok (.iconst 0, 1) := dk_3 (dk_at dksX6_part_3 18 rfl rfl)
theorem dX6_part_90 : decode cX6_part 90 = .ok (.istore 4, 2) := dk_54 4 (dk_at dksX6_part_3 19 rfl rfl)
theorem dX6_part_92 : decode cX6_part 92 = .ok (.iload 4, 2) := dk_21 4 (dk_at dksX6_part_3 21 rfl rfl)
theorem dX6_part_94 : decode cX6_part 94 = .ok (.aload_n 0, 1) := dk_42 (dk_at dksX6_part_3 23 rfl rfl)
theorem dX6_part_95 : decode cX6_part 95 = .ok (.getfield 181, 3) := dk_180 0 181 (dk_at dksX6_part_4 0 rfl rfl)
theorem dX6_part_98 : decode cX6_part 98 = .ok (.if_icmp .ge 60, 3) := dk_162 0 60 (dk_at dksX6_part_4 3 rfl rfl)
theorem dX6_part_101 : decode cX6_part 101 = .ok (.iconst 0, 1) := dk_3 (dk_at dksX6_part_4 6 rfl rfl)
theorem dX6_part_102 : decode cX6_part 102 = .ok (.istore 5, 2) := dk_54 5 (dk_at dksX6_part_4 7 rfl rfl)
theorem dX6_part_104 : decode cX6_part 104 = .ok (.iload 5, 2) := dk_21 5 (dk_at dksX6_part_4 9 rfl rfl)
theorem dX6_part_106 : decode cX6_part 106 = .ok (.aload_n 0, 1) := dk_42 (dk_at dksX6_part_4 11 rfl rfl)
theorem dX6_part_107 : decode cX6_part 107 = .ok (.getfield 90, 3) := dk_180 0 90 (dk_at dksX6_part_4 12 rfl rfl)
theorem dX6_part_110 : decode cX6_part 110 = .ok (.iload 4, 2) := dk_21 4 (dk_at dksX6_part_4 15 rfl rfl)
theorem dX6_part_112 : decode cX6_part 112 = .ok (.iaload, 1) := dk_46 (dk_at dksX6_part_4 17 rfl rfl)
theorem dX6_part_113 : decode cX6_part 113 = .ok (.if_icmp .ge 39, 3) := dk_162 0 39 (dk_at dksX6_part_4 18 rfl rfl)
theorem dX6_part_116 : decode cX6_part 116 = .ok (.iload_n 3, 1) := dk_29 (dk_at dksX6_part_4 21 rfl rfl)
theorem dX6_part_117 : decode cX6_part 117 = .ok (.ifCond .ne 23, 3) := dk_154 0 23 (dk_at dksX6_part_5 0 rfl rfl)
theorem dX6_part_120 : decode cX6_part 120 = .ok (.iload_n 1, 1) := dk_27 (dk_at dksX6_part_5 3 rfl rfl)
theorem dX6_part_121 : decode cX6_part 121 = .ok (.aload_n 0, 1) := dk_42 (dk_at dksX6_part_5 4 rfl rfl)
theorem dX6_part_122 : decode cX6_part 122 = .ok (.getfield 87, 3) := dk_180 0 87 (dk_at dksX6_part_5 5 rfl rfl)
theorem dX6_part_125 : decode cX6_part 125 = .ok (.iconst 3, 1) := dk_6 (dk_at dksX6_part_5 8 rfl rfl)
theorem dX6_part_126 : decode cX6_part 126 = .ok (.iload 4, 2) := dk_21 4 (dk_at dksX6_part_5 9 rfl rfl)
theorem dX6_part_128 : decode cX6_part 128 = .ok (.imul, 1) := dk_104 (dk_at dksX6_part_5 11 rfl rfl)
theorem dX6_part_129 : decode cX6_part 129 = .ok (.iload 5, 2) := dk_21 5 (dk_at dksX6_part_5 12 rfl rfl)
theorem dX6_part_131 : decode cX6_part 131 = .ok (.iadd, 1) := dk_96 (dk_at dksX6_part_5 14 rfl rfl)
theorem dX6_part_132 : decode cX6_part 132 = .ok (.iaload, 1) := dk_46 (dk_at dksX6_part_5 15 rfl rfl)
theorem dX6_part_133 : decode cX6_part 133 = .ok (.ishr, 1) := dk_122 (dk_at dksX6_part_5 16 rfl rfl)
theorem dX6_part_134 : decode cX6_part 134 = .ok (.iconst 1, 1) := dk_4 (dk_at dksX6_part_5 17 rfl rfl)
theorem dX6_part_135 : decode cX6_part 135 = .ok (.iand, 1) := dk_126 (dk_at dksX6_part_5 18 rfl rfl)
theorem dX6_part_136 : decode cX6_part 136 = .ok (.iconst 1, 1) := dk_4 (dk_at dksX6_part_5 19 rfl rfl)
theorem dX6_part_137 : decode cX6_part 137 = .ok (.if_icmp .ne 7, 3) := dk_160 0 7 (dk_at dksX6_part_5 20 rfl rfl)
theorem dX6_part_140 : decode cX6_part 140 = .ok (.iconst 1, 1) := dk_4 (dk_at dksX6_part_5 23 rfl rfl)
theorem dX6_part_141 : decode cX6_part 141 = .ok (.goto 4, 3) := dk_167 0 4 (dk_at dksX6_part_6 0 rfl rfl)
theorem dX6_part_144 : decode cX6_part 144 = .ok (.iconst 0, 1) := dk_3 (dk_at dksX6_part_6 3 rfl rfl)
theorem dX6_part_145 : decode cX6_part 145 = .ok (.istore_n 3, 1) := dk_62 (dk_at dksX6_part_6 4 rfl rfl)
theorem dX6_part_146 : decode cX6_part 146 = .ok (.iinc 5 1, 3) := dk_132 5 1 (dk_at dksX6_part_6 5 rfl rfl)
theorem dX6_part_149 : decode cX6_part 149 = .ok (.goto (-45), 3) := dk_167 255 211 (dk_at dksX6_part_6 8 rfl rfl)
theorem dX6_part_152 : decode cX6_part 152 = .ok (.iinc 4 1, 3) := dk_132 4 1 (dk_at dksX6_part_6 11 rfl rfl)
theorem dX6_part_155 : decode cX6_part 155 = .ok (.goto (-63), 3) := dk_167 255 193 (dk_at dksX6_part_6 14 rfl rfl)
theorem dX6_part_158 : decode cX6_part 158 = .ok (.aload_n 0, 1) := dk_42 (dk_at dksX6_part_6 17 rfl rfl)
theorem dX6_part_159 : decode cX6_part 159 = .ok (.getfield 181, 3) := dk_180 0 181 (dk_at dksX6_part_6 18 rfl rfl)
theorem dX6_part_162 : decode cX6_part 162 = .ok (.iconst 2, 1) := dk_5 (dk_at dksX6_part_6 21 rfl rfl)
theorem dX6_part_163 : decode cX6_part 163 = .ok (.if_icmp .eq 16, 3) := dk_159 0 16 (dk_at dksX6_part_7 0 rfl rfl)
theorem dX6_part_166 : decode cX6_part 166 = .ok (.iload_n 3, 1) := dk_29 (dk_at dksX6_part_7 3 rfl rfl)
theorem dX6_part_167 : decode cX6_part 167 = .ok (.ifCond .ne 12, 3) := dk_154 0 12 (dk_at dksX6_part_7 4 rfl rfl)
theorem dX6_part_170 : decode cX6_part 170 = .ok (.aload_n 0, 1) := dk_42 (dk_at dksX6_part_7 7 rfl rfl)
theorem dX6_part_171 : decode cX6_part 171 = .ok (.getfield 170, 3) := dk_180 0 170 (dk_at dksX6_part_7 8 rfl rfl)
theorem dX6_part_174 : decode cX6_part 174 = .ok (.bipush 9, 2) := dk_16 9 (dk_at dksX6_part_7 11 rfl rfl)
theorem dX6_part_176 : decode cX6_part 176 = .ok (.if_icmp .le 9, 3) := dk_164 0 9 (dk_at dksX6_part_7 13 rfl rfl)
theorem dX6_part_179 : decode cX6_part 179 = .ok (.aload_n 0, 1) := dk_42 (dk_at dksX6_part_7 16 rfl rfl)
theorem dX6_part_180 : decode cX6_part 180 = .ok (.iconst 2, 1) := dk_5 (dk_at dksX6_part_7 17 rfl rfl)
theorem dX6_part_181 : decode cX6_part 181 = .ok (.invokevirtual 204, 3) := dk_182 0 204 (dk_at dksX6_part_7 18 rfl rfl)
theorem dX6_part_184 : decode cX6_part 184 = .ok (.ireturn, 1) := dk_172 (dk_at dksX6_part_7 21 rfl rfl)
theorem dX6_part_185 : decode cX6_part 185 = .ok (.aload_n 0, 1) := dk_42 (dk_at dksX6_part_7 22 rfl rfl)
theorem dX6_part_186 : decode cX6_part 186 = .ok (.getfield 90, 3) := dk_180 0 90 (dk_at dksX6_part_8 0 rfl rfl)
theorem dX6_part_189 : decode cX6_part 189 = .ok (.aload_n 0, 1) := dk_42 (dk_at dksX6_part_8 3 rfl rfl)
theorem dX6_part_190 : decode cX6_part 190 = .ok (.getfield 181, 3) := dk_180 0 181 (dk_at dksX6_part_8 4 rfl rfl)
theorem dX6_part_193 : decode cX6_part 193 = .ok (.iconst 0, 1) := dk_3 (dk_at dksX6_part_8 7 rfl rfl)
theorem dX6_part_194 : decode cX6_part 194 = .ok (.iastore, 1) := dk_79 (dk_at dksX6_part_8 8 rfl rfl)
theorem dX6_part_195 : decode cX6_part 195 = .ok (.iconst 1, 1) := dk_4 (dk_at dksX6_part_8 9 rfl rfl)
theorem dX6_part_196 : decode cX6_part 196 = .ok (.istore 4, 2) := dk_54 4 (dk_at dksX6_part_8 10 rfl rfl)
theorem dX6_part_198 : decode cX6_part 198 = .ok (.iload 4, 2) := dk_21 4 (dk_at dksX6_part_8 12 rfl rfl)
theorem dX6_part_200 : decode cX6_part 200 = .ok (.aload_n 0, 1) := dk_42 (dk_at dksX6_part_8 14 rfl rfl)
theorem dX6_part_201 : decode cX6_part 201 = .ok (.getfield 170, 3) := dk_180 0 170 (dk_at dksX6_part_8 15 rfl rfl)
theorem dX6_part_204 : decode cX6_part 204 = .ok (.if_icmp .ge 55, 3) := dk_162 0 55 (dk_at dksX6_part_8 18 rfl rfl)
theorem dX6_part_207 : decode cX6_part 207 = .ok (.iload_n 1, 1) := dk_27 (dk_at dksX6_part_8 21 rfl rfl)
theorem dX6_part_208 : decode cX6_part 208 = .ok (.iload 4, 2) := dk_21 4 (dk_at dksX6_part_8 22 rfl rfl)
theorem dX6_part_210 : decode cX6_part 210 = .ok (.ishr, 1) := dk_122 (dk_at dksX6_part_9 0 rfl rfl)
theorem dX6_part_211 : decode cX6_part 211 = .ok (.iconst 1, 1) := dk_4 (dk_at dksX6_part_9 1 rfl rfl)
theorem dX6_part_212 : decode cX6_part 212 = .ok (.iand, 1) := dk_126 (dk_at dksX6_part_9 2 rfl rfl)
theorem dX6_part_213 : decode cX6_part 213 = .ok (.iconst 1, 1) := dk_4 (dk_at dksX6_part_9 3 rfl rfl)
theorem dX6_part_214 : decode cX6_part 214 = .ok (.if_icmp .ne 39, 3) := dk_160 0 39 (dk_at dksX6_part_9 4 rfl rfl)
theorem dX6_part_217 : decode cX6_part 217 = .ok (.aload_n 0, 1) := dk_42 (dk_at dksX6_part_9 7 rfl rfl)
theorem dX6_part_218 : decode cX6_part 218 = .ok (.getfield 87, 3) := dk_180 0 87 (dk_at dksX6_part_9 8 rfl rfl)
theorem dX6_part_221 : decode cX6_part 221 = .ok (.iconst 3, 1) := dk_6 (dk_at dksX6_part_9 11 rfl rfl)
theorem dX6_part_222 : decode cX6_part 222 = .ok (.aload_n 0, 1) := dk_42 (dk_at dksX6_part_9 12 rfl rfl)
theorem dX6_part_223 : decode cX6_part 223 = .ok (.getfield 181, 3) := dk_180 0 181 (dk_at dksX6_part_9 13 rfl rfl)
theorem dX6_part_226 : decode cX6_part 226 = .ok (.imul, 1) := dk_104 (dk_at dksX6_part_9 16 rfl rfl)
theorem dX6_part_227 : decode cX6_part 227 = .ok (.aload_n 0, 1) := dk_42 (dk_at dksX6_part_9 17 rfl rfl)
theorem dX6_part_228 : decode cX6_part 228 = .ok (.getfield 90, 3) := dk_180 0 90 (dk_at dksX6_part_9 18 rfl rfl)
theorem dX6_part_231 : decode cX6_part 231 = .ok (.aload_n 0, 1) := dk_42 (dk_at dksX6_part_9 21 rfl rfl)
theorem dX6_part_232 : decode cX6_part 232 = .ok (.getfield 181, 3) := dk_180 0 181 (dk_at dksX6_part_10 0 rfl rfl)
theorem dX6_part_235 : decode cX6_part 235 = .ok (.iaload, 1) := dk_46 (dk_at dksX6_part_10 3 rfl rfl)
theorem dX6_part_236 : decode cX6_part 236 = .ok (.iadd, 1) := dk_96 (dk_at dksX6_part_10 4 rfl rfl)
theorem dX6_part_237 : decode cX6_part 237 = .ok (.iload 4, 2) := dk_21 4 (dk_at dksX6_part_10 5 rfl rfl)
theorem dX6_part_239 : decode cX6_part 239 = .ok (.iastore, 1) := dk_79 (dk_at dksX6_part_10 7 rfl rfl)
theorem dX6_part_240 : decode cX6_part 240 = .ok (.aload_n 0, 1) := dk_42 (dk_at dksX6_part_10 8 rfl rfl)
theorem dX6_part_241 : decode cX6_part 241 = .ok (.getfield 90, 3) := dk_180 0 90 (dk_at dksX6_part_10 9 rfl rfl)
theorem dX6_part_244 : decode cX6_part 244 = .ok (.aload_n 0, 1) := dk_42 (dk_at dksX6_part_10 12 rfl rfl)
theorem dX6_part_245 : decode cX6_part 245 = .ok (.getfield 181, 3) := dk_180 0 181 (dk_at dksX6_part_10 13 rfl rfl)
theorem dX6_part_248 : decode cX6_part 248 = .ok (.dup2, 1) := dk_92 (dk_at dksX6_part_10 16 rfl rfl)
theorem dX6_part_249 : decode cX6_part 249 = .ok (.iaload, 1) := dk_46 (dk_at dksX6_part_10 17 rfl rfl)
theorem dX6_part_250 : decode cX6_part 250 = .ok (.iconst 1, 1) := dk_4 (dk_at dksX6_part_10 18 rfl rfl)
theorem dX6_part_251 : decode cX6_part 251 = .ok (.iadd, 1) := dk_96 (dk_at dksX6_part_10 19 rfl rfl)
theorem dX6_part_252 : decode cX6_part 252 = .ok (.iastore, 1) := dk_79 (dk_at dksX6_part_10 20 rfl rfl)
theorem dX6_part_253 : decode cX6_part 253 = .ok (.iinc 4 1, 3) := dk_132 4 1 (dk_at dksX6_part_10 21 rfl rfl)
theorem dX6_part_256 : decode cX6_part 256 = .ok (.goto (-58), 3) := dk_167 255 198 (dk_at dksX6_part_11 0 rfl rfl)
theorem dX6_part_259 : decode cX6_part 259 = .ok (.aload_n 0, 1) := dk_42 (dk_at dksX6_part_11 3 rfl rfl)
theorem dX6_part_260 : decode cX6_part 260 = .ok (.aload_n 0, 1) := dk_42 (dk_at dksX6_part_11 4 rfl rfl)
theorem dX6_part_261 : decode cX6_part 261 = .ok (.getfield 181, 3) := dk_180 0 181 (dk_at dksX6_part_11 5 rfl rfl)
theorem dX6_part_264 : decode cX6_part 264 = .ok (.invokevirtual 262, 3) := dk_182 1 6 (dk_at dksX6_part_11 8 rfl rfl)
theorem dX6_part_267 : decode cX6_part 267 = .ok (.istore 4, 2) := dk_54 4 (dk_at dksX6_part_11 11 rfl rfl)
theorem dX6_part_269 : decode cX6_part 269 = .ok (.aload_n 0, 1) := dk_42 (dk_at dksX6_part_11 13 rfl rfl)
theorem dX6_part_270 : decode cX6_part 270 = .ok (.dup, 1) := dk_89 (dk_at dksX6_part_11 14 rfl rfl)
theorem dX6_part_271 : decode cX6_part 271 = .ok (.getfield 181, 3) := dk_180 0 181 (dk_at dksX6_part_11 15 rfl rfl)
theorem dX6_part_274 : decode cX6_part 274 = .ok (.iconst 1, 1) := dk_4 (dk_at dksX6_part_11 18 rfl rfl)
theorem dX6_part_275 : decode cX6_part 275 = .ok (.iadd, 1) := dk_96 (dk_at dksX6_part_11 19 rfl rfl)
theorem dX6_part_276 : decode cX6_part 276 = .ok (.putfield 181, 3) := dk_181 0 181 (dk_at dksX6_part_11 20 rfl rfl)
theorem dX6_part_279 : decode cX6_part 279 = .ok (.aload_n 0, 1) := dk_42 (dk_at dksX6_part_11 23 rfl rfl)
theorem dX6_part_280 : decode cX6_part 280 = .ok (.iload 4, 2) := dk_21 4 (dk_at dksX6_part_12 0 rfl rfl)
theorem dX6_part_282 : decode cX6_part 282 = .ok (.invokevirtual 215, 3) := dk_182 0 215 (dk_at dksX6_part_12 2 rfl rfl)
theorem dX6_part_285 : decode cX6_part 285 = .ok (.ireturn, 1) := dk_172 (dk_at dksX6_part_12 5 rfl rfl)
abbrev cX6_bits : ByteArray := prog_15_method_30_code
def yX6_bits : MethodName := ⟨RX6, "bits", "(I)I"⟩
def dkwX6_bits_1 : List UInt8 := [27, 172]
abbrev dktX6_bits_1 : List UInt8 := dkwX6_bits_1 ++ []
def dkwX6_bits_0 : List UInt8 := [3, 60, 3, 61, 28, 16, 31, 162, 0, 17, 27, 26, 28, 122, 4, 126, 96, 60, 132, 2, 1, 167, 255, 239]
abbrev dktX6_bits_0 : List UInt8 := dkwX6_bits_0 ++ dktX6_bits_1
theorem dksX6_bits_0 : cX6_bits.data.toList.drop 0 = dktX6_bits_0 := by decide +kernel
theorem dksX6_bits_1 : cX6_bits.data.toList.drop 24 = dktX6_bits_1 := dk_seg dksX6_bits_0 24 rfl rfl
theorem dX6_bits_0 : decode cX6_bits 0 = .ok (.iconst 0, 1) := dk_3 (dk_at dksX6_bits_0 0 rfl rfl)
theorem dX6_bits_1 : decode cX6_bits 1 = .ok (.istore_n 1, 1) := dk_60 (dk_at dksX6_bits_0 1 rfl rfl)
theorem dX6_bits_2 : decode cX6_bits 2 = .ok (.iconst 0, 1) := dk_3 (dk_at dksX6_bits_0 2 rfl rfl)
theorem dX6_bits_3 : decode cX6_bits 3 = .ok (.istore_n 2, 1) := dk_61 (dk_at dksX6_bits_0 3 rfl rfl)
theorem dX6_bits_4 : decode cX6_bits 4 = .ok (.iload_n 2, 1) := dk_28 (dk_at dksX6_bits_0 4 rfl rfl)
theorem dX6_bits_5 : decode cX6_bits 5 = .ok (.bipush 31, 2) := dk_16 31 (dk_at dksX6_bits_0 5 rfl rfl)
theorem dX6_bits_7 : decode cX6_bits 7 = .ok (.if_icmp .ge 17, 3) := dk_162 0 17 (dk_at dksX6_bits_0 7 rfl rfl)
theorem dX6_bits_10 : decode cX6_bits 10 = .ok (.iload_n 1, 1) := dk_27 (dk_at dksX6_bits_0 10 rfl rfl)
theorem dX6_bits_11 : decode cX6_bits 11 = .ok (.iload_n 0, 1) := dk_26 (dk_at dksX6_bits_0 11 rfl rfl)
theorem dX6_bits_12 : decode cX6_bits 12 = .ok (.iload_n 2, 1) := dk_28 (dk_at dksX6_bits_0 12 rfl rfl)
theorem dX6_bits_13 : decode cX6_bits 13 = .ok (.ishr, 1) := dk_122 (dk_at dksX6_bits_0 13 rfl rfl)
theorem dX6_bits_14 : decode cX6_bits 14 = .ok (.iconst 1, 1) := dk_4 (dk_at dksX6_bits_0 14 rfl rfl)
theorem dX6_bits_15 : decode cX6_bits 15 = .ok (.iand, 1) := dk_126 (dk_at dksX6_bits_0 15 rfl rfl)
theorem dX6_bits_16 : decode cX6_bits 16 = .ok (.iadd, 1) := dk_96 (dk_at dksX6_bits_0 16 rfl rfl)
theorem dX6_bits_17 : decode cX6_bits 17 = .ok (.istore_n 1, 1) := dk_60 (dk_at dksX6_bits_0 17 rfl rfl)
theorem dX6_bits_18 : decode cX6_bits 18 = .ok (.iinc 2 1, 3) := dk_132 2 1 (dk_at dksX6_bits_0 18 rfl rfl)
theorem dX6_bits_21 : decode cX6_bits 21 = .ok (.goto (-17), 3) := dk_167 255 239 (dk_at dksX6_bits_0 21 rfl rfl)
theorem dX6_bits_24 : decode cX6_bits 24 = .ok (.iload_n 1, 1) := dk_27 (dk_at dksX6_bits_1 0 rfl rfl)
theorem dX6_bits_25 : decode cX6_bits 25 = .ok (.ireturn, 1) := dk_172 (dk_at dksX6_bits_1 1 rfl rfl)
abbrev cX6_fills : ByteArray := prog_15_method_29_code
def yX6_fills : MethodName := ⟨RX6, "fills", "(I)I"⟩
def dkwX6_fills_10 : List UInt8 := [162, 0, 7, 4, 167, 0, 4, 3, 96, 54, 5, 132, 6, 1, 167, 255, 223, 21, 5, 172]
abbrev dktX6_fills_10 : List UInt8 := dkwX6_fills_10 ++ []
def dkwX6_fills_9 : List UInt8 := [54, 5, 3, 54, 6, 21, 6, 28, 162, 0, 33, 21, 5, 42, 180, 0, 93, 29, 21, 6, 96, 46, 18, 199]
abbrev dktX6_fills_9 : List UInt8 := dkwX6_fills_9 ++ dktX6_fills_10
def dkwX6_fills_8 : List UInt8 := [21, 7, 96, 79, 4, 54, 4, 132, 6, 1, 167, 255, 162, 132, 5, 1, 167, 255, 147, 167, 255, 133, 3]
abbrev dktX6_fills_8 : List UInt8 := dkwX6_fills_8 ++ dktX6_fills_9
def dkwX6_fills_7 : List UInt8 := [96, 42, 180, 0, 93, 29, 21, 5, 96, 46, 162, 0, 20, 42, 180, 0, 93, 29, 21, 5, 96, 21, 8]
abbrev dktX6_fills_7 : List UInt8 := dkwX6_fills_7 ++ dktX6_fills_8
def dkwX6_fills_6 : List UInt8 := [180, 0, 93, 29, 42, 27, 182, 1, 0, 96, 46, 54, 8, 21, 8, 18, 199, 162, 0, 37, 21, 8, 21, 7]
abbrev dktX6_fills_6 : List UInt8 := dkwX6_fills_6 ++ dktX6_fills_7
def dkwX6_fills_5 : List UInt8 := [153, 0, 84, 42, 27, 21, 6, 182, 0, 253, 54, 7, 21, 7, 2, 160, 0, 8, 18, 199, 167, 0, 15, 42]
abbrev dktX6_fills_5 : List UInt8 := dkwX6_fills_5 ++ dktX6_fills_6
def dkwX6_fills_4 : List UInt8 := [54, 5, 21, 5, 28, 162, 0, 109, 3, 54, 6, 21, 6, 7, 162, 0, 94, 42, 27, 21, 5, 182, 0, 245]
abbrev dktX6_fills_4 : List UInt8 := dkwX6_fills_4 ++ dktX6_fills_5
def dkwX6_fills_3 : List UInt8 := [167, 0, 5, 18, 199, 79, 132, 4, 1, 167, 255, 214, 4, 54, 4, 21, 4, 153, 0, 124, 3, 54, 4, 3]
abbrev dktX6_fills_3 : List UInt8 := dkwX6_fills_3 ++ dktX6_fills_4
def dkwX6_fills_2 : List UInt8 := [21, 4, 96, 42, 27, 21, 4, 182, 0, 245, 153, 0, 15, 42, 27, 182, 0, 249, 153, 0, 7, 3]
abbrev dktX6_fills_2 : List UInt8 := dkwX6_fills_2 ++ dktX6_fills_3
def dkwX6_fills_1 : List UInt8 := [167, 255, 238, 17, 25, 161, 27, 104, 62, 3, 54, 4, 21, 4, 28, 162, 0, 42, 42, 180, 0, 93, 29]
abbrev dktX6_fills_1 : List UInt8 := dkwX6_fills_1 ++ dktX6_fills_2
def dkwX6_fills_0 : List UInt8 := [16, 9, 61, 3, 62, 29, 42, 180, 0, 90, 27, 46, 162, 0, 14, 28, 16, 9, 104, 61, 132, 3, 1]
abbrev dktX6_fills_0 : List UInt8 := dkwX6_fills_0 ++ dktX6_fills_1
theorem dksX6_fills_0 : cX6_fills.data.toList.drop 0 = dktX6_fills_0 := by decide +kernel
theorem dksX6_fills_1 : cX6_fills.data.toList.drop 23 = dktX6_fills_1 := dk_seg dksX6_fills_0 23 rfl rfl
theorem dksX6_fills_2 : cX6_fills.data.toList.drop 46 = dktX6_fills_2 := dk_seg dksX6_fills_1 23 rfl rfl
theorem dksX6_fills_3 : cX6_fills.data.toList.drop 68 = dktX6_fills_3 := dk_seg dksX6_fills_2 22 rfl rfl
theorem dksX6_fills_4 : cX6_fills.data.toList.drop 92 = dktX6_fills_4 := dk_seg dksX6_fills_3 24 rfl rfl
theorem dksX6_fills_5 : cX6_fills.data.toList.drop 116 = dktX6_fills_5 := dk_seg dksX6_fills_4 24 rfl rfl
theorem dksX6_fills_6 : cX6_fills.data.toList.drop 140 = dktX6_fills_6 := dk_seg dksX6_fills_5 24 rfl rfl
theorem dksX6_fills_7 : cX6_fills.data.toList.drop 164 = dktX6_fills_7 := dk_seg dksX6_fills_6 24 rfl rfl
theorem dksX6_fills_8 : cX6_fills.data.toList.drop 187 = dktX6_fills_8 := dk_seg dksX6_fills_7 23 rfl rfl
theorem dksX6_fills_9 : cX6_fills.data.toList.drop 210 = dktX6_fills_9 := dk_seg dksX6_fills_8 23 rfl rfl
theorem dksX6_fills_10 : cX6_fills.data.toList.drop 234 = dktX6_fills_10 := dk_seg dksX6_fills_9 24 rfl rfl
theorem dX6_fills_0 : decode cX6_fills 0 = .ok (.bipush 9, 2) := dk_16 9 (dk_at dksX6_fills_0 0 rfl rfl)
theorem dX6_fills_2 : decode cX6_fills 2 = .ok (.istore_n 2, 1) := dk_61 (dk_at dksX6_fills_0 2 rfl rfl)
theorem dX6_fills_3 : decode cX6_fills 3 = .ok (.iconst 0, 1) := dk_3 (dk_at dksX6_fills_0 3 rfl rfl)
theorem dX6_fills_4 : decode cX6_fills 4 = .ok (.istore_n 3, 1) := dk_62 (dk_at dksX6_fills_0 4 rfl rfl)
theorem dX6_fills_5 : decode cX6_fills 5 = .ok (.iload_n 3, 1) := dk_29 (dk_at dksX6_fills_0 5 rfl rfl)
theorem dX6_fills_6 : decode cX6_fills 6 = .ok (.aload_n 0, 1) := dk_42 (dk_at dksX6_fills_0 6 rfl rfl)
theorem dX6_fills_7 : decode cX6_fills 7 = .ok (.getfield 90, 3) := dk_180 0 90 (dk_at dksX6_fills_0 7 rfl rfl)
theorem dX6_fills_10 : decode cX6_fills 10 = .ok (.iload_n 1, 1) := dk_27 (dk_at dksX6_fills_0 10 rfl rfl)
theorem dX6_fills_11 : decode cX6_fills 11 = .ok (.iaload, 1) := dk_46 (dk_at dksX6_fills_0 11 rfl rfl)
theorem dX6_fills_12 : decode cX6_fills 12 = .ok (.if_icmp .ge 14, 3) := dk_162 0 14 (dk_at dksX6_fills_0 12 rfl rfl)
theorem dX6_fills_15 : decode cX6_fills 15 = .ok (.iload_n 2, 1) := dk_28 (dk_at dksX6_fills_0 15 rfl rfl)
theorem dX6_fills_16 : decode cX6_fills 16 = .ok (.bipush 9, 2) := dk_16 9 (dk_at dksX6_fills_0 16 rfl rfl)
theorem dX6_fills_18 : decode cX6_fills 18 = .ok (.imul, 1) := dk_104 (dk_at dksX6_fills_0 18 rfl rfl)
theorem dX6_fills_19 : decode cX6_fills 19 = .ok (.istore_n 2, 1) := dk_61 (dk_at dksX6_fills_0 19 rfl rfl)
theorem dX6_fills_20 : decode cX6_fills 20 = .ok (.iinc 3 1, 3) := dk_132 3 1 (dk_at dksX6_fills_0 20 rfl rfl)
theorem dX6_fills_23 : decode cX6_fills 23 = .ok (.goto (-18), 3) := dk_167 255 238 (dk_at dksX6_fills_1 0 rfl rfl)
theorem dX6_fills_26 : decode cX6_fills 26 = .ok (.sipush 6561, 3) := dk_17 25 161 (dk_at dksX6_fills_1 3 rfl rfl)
theorem dX6_fills_29 : decode cX6_fills 29 = .ok (.iload_n 1, 1) := dk_27 (dk_at dksX6_fills_1 6 rfl rfl)
theorem dX6_fills_30 : decode cX6_fills 30 = .ok (.imul, 1) := dk_104 (dk_at dksX6_fills_1 7 rfl rfl)
theorem dX6_fills_31 : decode cX6_fills 31 = .ok (.istore_n 3, 1) := dk_62 (dk_at dksX6_fills_1 8 rfl rfl)
theorem dX6_fills_32 : decode cX6_fills 32 = .ok (.iconst 0, 1) := dk_3 (dk_at dksX6_fills_1 9 rfl rfl)
theorem dX6_fills_33 : decode cX6_fills 33 = .ok (.istore 4, 2) := dk_54 4 (dk_at dksX6_fills_1 10 rfl rfl)
theorem dX6_fills_35 : decode cX6_fills 35 = .ok (.iload 4, 2) := dk_21 4 (dk_at dksX6_fills_1 12 rfl rfl)
theorem dX6_fills_37 : decode cX6_fills 37 = .ok (.iload_n 2, 1) := dk_28 (dk_at dksX6_fills_1 14 rfl rfl)
theorem dX6_fills_38 : decode cX6_fills 38 = .ok (.if_icmp .ge 42, 3) := dk_162 0 42 (dk_at dksX6_fills_1 15 rfl rfl)
theorem dX6_fills_41 : decode cX6_fills 41 = .ok (.aload_n 0, 1) := dk_42 (dk_at dksX6_fills_1 18 rfl rfl)
theorem dX6_fills_42 : decode cX6_fills 42 = .ok (.getfield 93, 3) := dk_180 0 93 (dk_at dksX6_fills_1 19 rfl rfl)
theorem dX6_fills_45 : decode cX6_fills 45 = .ok (.iload_n 3, 1) := dk_29 (dk_at dksX6_fills_1 22 rfl rfl)
theorem dX6_fills_46 : decode cX6_fills 46 = .ok (.iload 4, 2) := dk_21 4 (dk_at dksX6_fills_2 0 rfl rfl)
theorem dX6_fills_48 : decode cX6_fills 48 = .ok (.iadd, 1) := dk_96 (dk_at dksX6_fills_2 2 rfl rfl)
theorem dX6_fills_49 : decode cX6_fills 49 = .ok (.aload_n 0, 1) := dk_42 (dk_at dksX6_fills_2 3 rfl rfl)
theorem dX6_fills_50 : decode cX6_fills 50 = .ok (.iload_n 1, 1) := dk_27 (dk_at dksX6_fills_2 4 rfl rfl)
theorem dX6_fills_51 : decode cX6_fills 51 = .ok (.iload 4, 2) := dk_21 4 (dk_at dksX6_fills_2 5 rfl rfl)
theorem dX6_fills_53 : decode cX6_fills 53 = .ok (.invokevirtual 245, 3) := dk_182 0 245 (dk_at dksX6_fills_2 7 rfl rfl)
theorem dX6_fills_56 : decode cX6_fills 56 = .ok (.ifCond .eq 15, 3) := dk_153 0 15 (dk_at dksX6_fills_2 10 rfl rfl)
theorem dX6_fills_59 : decode cX6_fills 59 = .ok (.aload_n 0, 1) := dk_42 (dk_at dksX6_fills_2 13 rfl rfl)
theorem dX6_fills_60 : decode cX6_fills 60 = .ok (.iload_n 1, 1) := dk_27 (dk_at dksX6_fills_2 14 rfl rfl)
theorem dX6_fills_61 : decode cX6_fills 61 = .ok (.invokevirtual 249, 3) := dk_182 0 249 (dk_at dksX6_fills_2 15 rfl rfl)
theorem dX6_fills_64 : decode cX6_fills 64 = .ok (.ifCond .eq 7, 3) := dk_153 0 7 (dk_at dksX6_fills_2 18 rfl rfl)
theorem dX6_fills_67 : decode cX6_fills 67 = .ok (.iconst 0, 1) := dk_3 (dk_at dksX6_fills_2 21 rfl rfl)
theorem dX6_fills_68 : decode cX6_fills 68 = .ok (.goto 5, 3) := dk_167 0 5 (dk_at dksX6_fills_3 0 rfl rfl)
theorem dX6_fills_71 : decode cX6_fills 71 = .ok (.ldc 199, 2) := dk_18 199 (dk_at dksX6_fills_3 3 rfl rfl)
theorem dX6_fills_73 : decode cX6_fills 73 = .ok (.iastore, 1) := dk_79 (dk_at dksX6_fills_3 5 rfl rfl)
theorem dX6_fills_74 : decode cX6_fills 74 = .ok (.iinc 4 1, 3) := dk_132 4 1 (dk_at dksX6_fills_3 6 rfl rfl)
theorem dX6_fills_77 : decode cX6_fills 77 = .ok (.goto (-42), 3) := dk_167 255 214 (dk_at dksX6_fills_3 9 rfl rfl)
theorem dX6_fills_80 : decode cX6_fills 80 = .ok (.iconst 1, 1) := dk_4 (dk_at dksX6_fills_3 12 rfl rfl)
theorem dX6_fills_81 : decode cX6_fills 81 = .ok (.istore 4, 2) := dk_54 4 (dk_at dksX6_fills_3 13 rfl rfl)
theorem dX6_fills_83 : decode cX6_fills 83 = .ok (.iload 4, 2) := dk_21 4 (dk_at dksX6_fills_3 15 rfl rfl)
theorem dX6_fills_85 : decode cX6_fills 85 = .ok (.ifCond .eq 124, 3) := dk_153 0 124 (dk_at dksX6_fills_3 17 rfl rfl)
theorem dX6_fills_88 : decode cX6_fills 88 = .ok (.iconst 0, 1) := dk_3 (dk_at dksX6_fills_3 20 rfl rfl)
theorem dX6_fills_89 : decode cX6_fills 89 = .ok (.istore 4, 2) := dk_54 4 (dk_at dksX6_fills_3 21 rfl rfl)
theorem dX6_fills_91 : decode cX6_fills 91 = .ok (.iconst 0, 1) := dk_3 (dk_at dksX6_fills_3 23 rfl rfl)
theorem dX6_fills_92 : decode cX6_fills 92 = .ok (.istore 5, 2) := dk_54 5 (dk_at dksX6_fills_4 0 rfl rfl)
theorem dX6_fills_94 : decode cX6_fills 94 = .ok (.iload 5, 2) := dk_21 5 (dk_at dksX6_fills_4 2 rfl rfl)
theorem dX6_fills_96 : decode cX6_fills 96 = .ok (.iload_n 2, 1) := dk_28 (dk_at dksX6_fills_4 4 rfl rfl)
theorem dX6_fills_97 : decode cX6_fills 97 = .ok (.if_icmp .ge 109, 3) := dk_162 0 109 (dk_at dksX6_fills_4 5 rfl rfl)
theorem dX6_fills_100 : decode cX6_fills 100 = .ok (.iconst 0, 1) := dk_3 (dk_at dksX6_fills_4 8 rfl rfl)
theorem dX6_fills_101 : decode cX6_fills 101 = .ok (.istore 6, 2) := dk_54 6 (dk_at dksX6_fills_4 9 rfl rfl)
theorem dX6_fills_103 : decode cX6_fills 103 = .ok (.iload 6, 2) := dk_21 6 (dk_at dksX6_fills_4 11 rfl rfl)
theorem dX6_fills_105 : decode cX6_fills 105 = .ok (.iconst 4, 1) := dk_7 (dk_at dksX6_fills_4 13 rfl rfl)
theorem dX6_fills_106 : decode cX6_fills 106 = .ok (.if_icmp .ge 94, 3) := dk_162 0 94 (dk_at dksX6_fills_4 14 rfl rfl)
theorem dX6_fills_109 : decode cX6_fills 109 = .ok (.aload_n 0, 1) := dk_42 (dk_at dksX6_fills_4 17 rfl rfl)
theorem dX6_fills_110 : decode cX6_fills 110 = .ok (.iload_n 1, 1) := dk_27 (dk_at dksX6_fills_4 18 rfl rfl)
theorem dX6_fills_111 : decode cX6_fills 111 = .ok (.iload 5, 2) := dk_21 5 (dk_at dksX6_fills_4 19 rfl rfl)
theorem dX6_fills_113 : decode cX6_fills 113 = .ok (.invokevirtual 245, 3) := dk_182 0 245 (dk_at dksX6_fills_4 21 rfl rfl)
theorem dX6_fills_116 : decode cX6_fills 116 = .ok (.ifCond .eq 84, 3) := dk_153 0 84 (dk_at dksX6_fills_5 0 rfl rfl)
theorem dX6_fills_119 : decode cX6_fills 119 = .ok (.aload_n 0, 1) := dk_42 (dk_at dksX6_fills_5 3 rfl rfl)
theorem dX6_fills_120 : decode cX6_fills 120 = .ok (.iload_n 1, 1) := dk_27 (dk_at dksX6_fills_5 4 rfl rfl)
theorem dX6_fills_121 : decode cX6_fills 121 = .ok (.iload 6, 2) := dk_21 6 (dk_at dksX6_fills_5 5 rfl rfl)
theorem dX6_fills_123 : decode cX6_fills 123 = .ok (.invokevirtual 253, 3) := dk_182 0 253 (dk_at dksX6_fills_5 7 rfl rfl)
theorem dX6_fills_126 : decode cX6_fills 126 = .ok (.istore 7, 2) := dk_54 7 (dk_at dksX6_fills_5 10 rfl rfl)
theorem dX6_fills_128 : decode cX6_fills 128 = .ok (.iload 7, 2) := dk_21 7 (dk_at dksX6_fills_5 12 rfl rfl)
theorem dX6_fills_130 : decode cX6_fills 130 = .ok (.iconst (-1), 1) := dk_2 (dk_at dksX6_fills_5 14 rfl rfl)
theorem dX6_fills_131 : decode cX6_fills 131 = .ok (.if_icmp .ne 8, 3) := dk_160 0 8 (dk_at dksX6_fills_5 15 rfl rfl)
theorem dX6_fills_134 : decode cX6_fills 134 = .ok (.ldc 199, 2) := dk_18 199 (dk_at dksX6_fills_5 18 rfl rfl)
theorem dX6_fills_136 : decode cX6_fills 136 = .ok (.goto 15, 3) := dk_167 0 15 (dk_at dksX6_fills_5 20 rfl rfl)
theorem dX6_fills_139 : decode cX6_fills 139 = .ok (.aload_n 0, 1) := dk_42 (dk_at dksX6_fills_5 23 rfl rfl)
theorem dX6_fills_140 : decode cX6_fills 140 = .ok (.getfield 93, 3) := dk_180 0 93 (dk_at dksX6_fills_6 0 rfl rfl)
theorem dX6_fills_143 : decode cX6_fills 143 = .ok (.iload_n 3, 1) := dk_29 (dk_at dksX6_fills_6 3 rfl rfl)
theorem dX6_fills_144 : decode cX6_fills 144 = .ok (.aload_n 0, 1) := dk_42 (dk_at dksX6_fills_6 4 rfl rfl)
theorem dX6_fills_145 : decode cX6_fills 145 = .ok (.iload_n 1, 1) := dk_27 (dk_at dksX6_fills_6 5 rfl rfl)
theorem dX6_fills_146 : decode cX6_fills 146 = .ok (.invokevirtual 256, 3) := dk_182 1 0 (dk_at dksX6_fills_6 6 rfl rfl)
theorem dX6_fills_149 : decode cX6_fills 149 = .ok (.iadd, 1) := dk_96 (dk_at dksX6_fills_6 9 rfl rfl)
theorem dX6_fills_150 : decode cX6_fills 150 = .ok (.iaload, 1) := dk_46 (dk_at dksX6_fills_6 10 rfl rfl)
theorem dX6_fills_151 : decode cX6_fills 151 = .ok (.istore 8, 2) := dk_54 8 (dk_at dksX6_fills_6 11 rfl rfl)
theorem dX6_fills_153 : decode cX6_fills 153 = .ok (.iload 8, 2) := dk_21 8 (dk_at dksX6_fills_6 13 rfl rfl)
theorem dX6_fills_155 : decode cX6_fills 155 = .ok (.ldc 199, 2) := dk_18 199 (dk_at dksX6_fills_6 15 rfl rfl)
theorem dX6_fills_157 : decode cX6_fills 157 = .ok (.if_icmp .ge 37, 3) := dk_162 0 37 (dk_at dksX6_fills_6 17 rfl rfl)
theorem dX6_fills_160 : decode cX6_fills 160 = .ok (.iload 8, 2) := dk_21 8 (dk_at dksX6_fills_6 20 rfl rfl)
theorem dX6_fills_162 : decode cX6_fills 162 = .ok (.iload 7, 2) := dk_21 7 (dk_at dksX6_fills_6 22 rfl rfl)
theorem dX6_fills_164 : decode cX6_fills 164 = .ok (.iadd, 1) := dk_96 (dk_at dksX6_fills_7 0 rfl rfl)
theorem dX6_fills_165 : decode cX6_fills 165 = .ok (.aload_n 0, 1) := dk_42 (dk_at dksX6_fills_7 1 rfl rfl)
theorem dX6_fills_166 : decode cX6_fills 166 = .ok (.getfield 93, 3) := dk_180 0 93 (dk_at dksX6_fills_7 2 rfl rfl)
theorem dX6_fills_169 : decode cX6_fills 169 = .ok (.iload_n 3, 1) := dk_29 (dk_at dksX6_fills_7 5 rfl rfl)
theorem dX6_fills_170 : decode cX6_fills 170 = .ok (.iload 5, 2) := dk_21 5 (dk_at dksX6_fills_7 6 rfl rfl)
theorem dX6_fills_172 : decode cX6_fills 172 = .ok (.iadd, 1) := dk_96 (dk_at dksX6_fills_7 8 rfl rfl)
theorem dX6_fills_173 : decode cX6_fills 173 = .ok (.iaload, 1) := dk_46 (dk_at dksX6_fills_7 9 rfl rfl)
theorem dX6_fills_174 : decode cX6_fills 174 = .ok (.if_icmp .ge 20, 3) := dk_162 0 20 (dk_at dksX6_fills_7 10 rfl rfl)
theorem dX6_fills_177 : decode cX6_fills 177 = .ok (.aload_n 0, 1) := dk_42 (dk_at dksX6_fills_7 13 rfl rfl)
theorem dX6_fills_178 : decode cX6_fills 178 = .ok (.getfield 93, 3) := dk_180 0 93 (dk_at dksX6_fills_7 14 rfl rfl)
theorem dX6_fills_181 : decode cX6_fills 181 = .ok (.iload_n 3, 1) := dk_29 (dk_at dksX6_fills_7 17 rfl rfl)
theorem dX6_fills_182 : decode cX6_fills 182 = .ok (.iload 5, 2) := dk_21 5 (dk_at dksX6_fills_7 18 rfl rfl)
theorem dX6_fills_184 : decode cX6_fills 184 = .ok (.iadd, 1) := dk_96 (dk_at dksX6_fills_7 20 rfl rfl)
theorem dX6_fills_185 : decode cX6_fills 185 = .ok (.iload 8, 2) := dk_21 8 (dk_at dksX6_fills_7 21 rfl rfl)
theorem dX6_fills_187 : decode cX6_fills 187 = .ok (.iload 7, 2) := dk_21 7 (dk_at dksX6_fills_8 0 rfl rfl)
theorem dX6_fills_189 : decode cX6_fills 189 = .ok (.iadd, 1) := dk_96 (dk_at dksX6_fills_8 2 rfl rfl)
theorem dX6_fills_190 : decode cX6_fills 190 = .ok (.iastore, 1) := dk_79 (dk_at dksX6_fills_8 3 rfl rfl)
theorem dX6_fills_191 : decode cX6_fills 191 = .ok (.iconst 1, 1) := dk_4 (dk_at dksX6_fills_8 4 rfl rfl)
theorem dX6_fills_192 : decode cX6_fills 192 = .ok (.istore 4, 2) := dk_54 4 (dk_at dksX6_fills_8 5 rfl rfl)
theorem dX6_fills_194 : decode cX6_fills 194 = .ok (.iinc 6 1, 3) := dk_132 6 1 (dk_at dksX6_fills_8 7 rfl rfl)
theorem dX6_fills_197 : decode cX6_fills 197 = .ok (.goto (-94), 3) := dk_167 255 162 (dk_at dksX6_fills_8 10 rfl rfl)
theorem dX6_fills_200 : decode cX6_fills 200 = .ok (.iinc 5 1, 3) := dk_132 5 1 (dk_at dksX6_fills_8 13 rfl rfl)
theorem dX6_fills_203 : decode cX6_fills 203 = .ok (.goto (-109), 3) := dk_167 255 147 (dk_at dksX6_fills_8 16 rfl rfl)
theorem dX6_fills_206 : decode cX6_fills 206 = .ok (.goto (-123), 3) := dk_167 255 133 (dk_at dksX6_fills_8 19 rfl rfl)
theorem dX6_fills_209 : decode cX6_fills 209 = .ok (.iconst 0, 1) := dk_3 (dk_at dksX6_fills_8 22 rfl rfl)
theorem dX6_fills_210 : decode cX6_fills 210 = .ok (.istore 5, 2) := dk_54 5 (dk_at dksX6_fills_9 0 rfl rfl)
theorem dX6_fills_212 : decode cX6_fills 212 = .ok (.iconst 0, 1) := dk_3 (dk_at dksX6_fills_9 2 rfl rfl)
theorem dX6_fills_213 : decode cX6_fills 213 = .ok (.istore 6, 2) := dk_54 6 (dk_at dksX6_fills_9 3 rfl rfl)
theorem dX6_fills_215 : decode cX6_fills 215 = .ok (.iload 6, 2) := dk_21 6 (dk_at dksX6_fills_9 5 rfl rfl)
theorem dX6_fills_217 : decode cX6_fills 217 = .ok (.iload_n 2, 1) := dk_28 (dk_at dksX6_fills_9 7 rfl rfl)
theorem dX6_fills_218 : decode cX6_fills 218 = .ok (.if_icmp .ge 33, 3) := dk_162 0 33 (dk_at dksX6_fills_9 8 rfl rfl)
theorem dX6_fills_221 : decode cX6_fills 221 = .ok (.iload 5, 2) := dk_21 5 (dk_at dksX6_fills_9 11 rfl rfl)
theorem dX6_fills_223 : decode cX6_fills 223 = .ok (.aload_n 0, 1) := dk_42 (dk_at dksX6_fills_9 13 rfl rfl)
theorem dX6_fills_224 : decode cX6_fills 224 = .ok (.getfield 93, 3) := dk_180 0 93 (dk_at dksX6_fills_9 14 rfl rfl)
theorem dX6_fills_227 : decode cX6_fills 227 = .ok (.iload_n 3, 1) := dk_29 (dk_at dksX6_fills_9 17 rfl rfl)
theorem dX6_fills_228 : decode cX6_fills 228 = .ok (.iload 6, 2) := dk_21 6 (dk_at dksX6_fills_9 18 rfl rfl)
theorem dX6_fills_230 : decode cX6_fills 230 = .ok (.iadd, 1) := dk_96 (dk_at dksX6_fills_9 20 rfl rfl)
theorem dX6_fills_231 : decode cX6_fills 231 = .ok (.iaload, 1) := dk_46 (dk_at dksX6_fills_9 21 rfl rfl)
theorem dX6_fills_232 : decode cX6_fills 232 = .ok (.ldc 199, 2) := dk_18 199 (dk_at dksX6_fills_9 22 rfl rfl)
theorem dX6_fills_234 : decode cX6_fills 234 = .ok (.if_icmp .ge 7, 3) := dk_162 0 7 (dk_at dksX6_fills_10 0 rfl rfl)
theorem dX6_fills_237 : decode cX6_fills 237 = .ok (.iconst 1, 1) := dk_4 (dk_at dksX6_fills_10 3 rfl rfl)
theorem dX6_fills_238 : decode cX6_fills 238 = .ok (.goto 4, 3) := dk_167 0 4 (dk_at dksX6_fills_10 4 rfl rfl)
theorem dX6_fills_241 : decode cX6_fills 241 = .ok (.iconst 0, 1) := dk_3 (dk_at dksX6_fills_10 7 rfl rfl)
theorem dX6_fills_242 : decode cX6_fills 242 = .ok (.iadd, 1) := dk_96 (dk_at dksX6_fills_10 8 rfl rfl)
theorem dX6_fills_243 : decode cX6_fills 243 = .ok (.istore 5, 2) := dk_54 5 (dk_at dksX6_fills_10 9 rfl rfl)
theorem dX6_fills_245 : decode cX6_fills 245 = .ok (.iinc 6 1, 3) := dk_132 6 1 (dk_at dksX6_fills_10 11 rfl rfl)
theorem dX6_fills_248 : decode cX6_fills 248 = .ok (.goto (-33), 3) := dk_167 255 223 (dk_at dksX6_fills_10 14 rfl rfl)
theorem dX6_fills_251 : decode cX6_fills 251 = .ok (.iload 5, 2) := dk_21 5 (dk_at dksX6_fills_10 17 rfl rfl)
theorem dX6_fills_253 : decode cX6_fills 253 = .ok (.ireturn, 1) := dk_172 (dk_at dksX6_fills_10 19 rfl rfl)
abbrev cX6_isPlace : ByteArray := prog_15_method_25_code
def yX6_isPlace : MethodName := ⟨RX6, "isPlace", "(II)Z"⟩
def dkwX6_isPlace_6 : List UInt8 := [167, 0, 4, 3, 172]
abbrev dktX6_isPlace_6 : List UInt8 := dkwX6_isPlace_6 ++ []
def dkwX6_isPlace_5 : List UInt8 := [132, 6, 1, 167, 255, 217, 132, 5, 1, 167, 255, 197, 21, 4, 153, 0, 11, 29, 154, 0, 7, 4]
abbrev dktX6_isPlace_5 : List UInt8 := dkwX6_isPlace_5 ++ dktX6_isPlace_6
def dkwX6_isPlace_4 : List UInt8 := [42, 180, 0, 96, 21, 6, 46, 42, 180, 0, 96, 21, 5, 46, 159, 0, 7, 4, 167, 0, 4, 3, 54, 4]
abbrev dktX6_isPlace_4 : List UInt8 := dkwX6_isPlace_4 ++ dktX6_isPlace_5
def dkwX6_isPlace_3 : List UInt8 := [42, 180, 0, 90, 27, 46, 163, 0, 54, 3, 54, 6, 21, 6, 21, 5, 162, 0, 38, 21, 4, 153, 0, 24]
abbrev dktX6_isPlace_3 : List UInt8 := dkwX6_isPlace_3 ++ dktX6_isPlace_4
def dkwX6_isPlace_2 : List UInt8 := [180, 0, 170, 162, 0, 7, 4, 167, 0, 4, 3, 54, 4, 132, 5, 255, 167, 255, 206, 3, 54, 5, 21, 5]
abbrev dktX6_isPlace_2 : List UInt8 := dkwX6_isPlace_2 ++ dktX6_isPlace_3
def dkwX6_isPlace_1 : List UInt8 := [29, 16, 9, 112, 79, 29, 16, 9, 108, 62, 21, 4, 153, 0, 21, 42, 180, 0, 96, 21, 5, 46, 42]
abbrev dktX6_isPlace_1 : List UInt8 := dkwX6_isPlace_1 ++ dktX6_isPlace_2
def dkwX6_isPlace_0 : List UInt8 := [28, 62, 4, 54, 4, 42, 180, 0, 90, 27, 46, 54, 5, 21, 5, 155, 0, 51, 42, 180, 0, 96, 21, 5]
abbrev dktX6_isPlace_0 : List UInt8 := dkwX6_isPlace_0 ++ dktX6_isPlace_1
theorem dksX6_isPlace_0 : cX6_isPlace.data.toList.drop 0 = dktX6_isPlace_0 := by decide +kernel
theorem dksX6_isPlace_1 : cX6_isPlace.data.toList.drop 24 = dktX6_isPlace_1 := dk_seg dksX6_isPlace_0 24 rfl rfl
theorem dksX6_isPlace_2 : cX6_isPlace.data.toList.drop 47 = dktX6_isPlace_2 := dk_seg dksX6_isPlace_1 23 rfl rfl
theorem dksX6_isPlace_3 : cX6_isPlace.data.toList.drop 71 = dktX6_isPlace_3 := dk_seg dksX6_isPlace_2 24 rfl rfl
theorem dksX6_isPlace_4 : cX6_isPlace.data.toList.drop 95 = dktX6_isPlace_4 := dk_seg dksX6_isPlace_3 24 rfl rfl
theorem dksX6_isPlace_5 : cX6_isPlace.data.toList.drop 119 = dktX6_isPlace_5 := dk_seg dksX6_isPlace_4 24 rfl rfl
theorem dksX6_isPlace_6 : cX6_isPlace.data.toList.drop 141 = dktX6_isPlace_6 := dk_seg dksX6_isPlace_5 22 rfl rfl
theorem dX6_isPlace_0 : decode cX6_isPlace 0 = .ok (.iload_n 2, 1) := dk_28 (dk_at dksX6_isPlace_0 0 rfl rfl)
theorem dX6_isPlace_1 : decode cX6_isPlace 1 = .ok (.istore_n 3, 1) := dk_62 (dk_at dksX6_isPlace_0 1 rfl rfl)
theorem dX6_isPlace_2 : decode cX6_isPlace 2 = .ok (.iconst 1, 1) := dk_4 (dk_at dksX6_isPlace_0 2 rfl rfl)
theorem dX6_isPlace_3 : decode cX6_isPlace 3 = .ok (.istore 4, 2) := dk_54 4 (dk_at dksX6_isPlace_0 3 rfl rfl)
theorem dX6_isPlace_5 : decode cX6_isPlace 5 = .ok (.aload_n 0, 1) := dk_42 (dk_at dksX6_isPlace_0 5 rfl rfl)
theorem dX6_isPlace_6 : decode cX6_isPlace 6 = .ok (.getfield 90, 3) := dk_180 0 90 (dk_at dksX6_isPlace_0 6 rfl rfl)
theorem dX6_isPlace_9 : decode cX6_isPlace 9 = .ok (.iload_n 1, 1) := dk_27 (dk_at dksX6_isPlace_0 9 rfl rfl)
theorem dX6_isPlace_10 : decode cX6_isPlace 10 = .ok (.iaload, 1) := dk_46 (dk_at dksX6_isPlace_0 10 rfl rfl)
theorem dX6_isPlace_11 : decode cX6_isPlace 11 = .ok (.istore 5, 2) := dk_54 5 (dk_at dksX6_isPlace_0 11 rfl rfl)
theorem dX6_isPlace_13 : decode cX6_isPlace 13 = .ok (.iload 5, 2) := dk_21 5 (dk_at dksX6_isPlace_0 13 rfl rfl)
theorem dX6_isPlace_15 : decode cX6_isPlace 15 = .ok (.ifCond .lt 51, 3) := dk_155 0 51 (dk_at dksX6_isPlace_0 15 rfl rfl)
theorem dX6_isPlace_18 : decode cX6_isPlace 18 = .ok (.aload_n 0, 1) := dk_42 (dk_at dksX6_isPlace_0 18 rfl rfl)
theorem dX6_isPlace_19 : decode cX6_isPlace 19 = .ok (.getfield 96, 3) := dk_180 0 96 (dk_at dksX6_isPlace_0 19 rfl rfl)
theorem dX6_isPlace_22 : decode cX6_isPlace 22 = .ok (.iload 5, 2) := dk_21 5 (dk_at dksX6_isPlace_0 22 rfl rfl)
theorem dX6_isPlace_24 : decode cX6_isPlace 24 = .ok (.iload_n 3, 1) := dk_29 (dk_at dksX6_isPlace_1 0 rfl rfl)
theorem dX6_isPlace_25 : decode cX6_isPlace 25 = .ok (.bipush 9, 2) := dk_16 9 (dk_at dksX6_isPlace_1 1 rfl rfl)
theorem dX6_isPlace_27 : decode cX6_isPlace 27 = .ok (.irem, 1) := dk_112 (dk_at dksX6_isPlace_1 3 rfl rfl)
theorem dX6_isPlace_28 : decode cX6_isPlace 28 = .ok (.iastore, 1) := dk_79 (dk_at dksX6_isPlace_1 4 rfl rfl)
theorem dX6_isPlace_29 : decode cX6_isPlace 29 = .ok (.iload_n 3, 1) := dk_29 (dk_at dksX6_isPlace_1 5 rfl rfl)
theorem dX6_isPlace_30 : decode cX6_isPlace 30 = .ok (.bipush 9, 2) := dk_16 9 (dk_at dksX6_isPlace_1 6 rfl rfl)
theorem dX6_isPlace_32 : decode cX6_isPlace 32 = .ok (.idiv, 1) := dk_108 (dk_at dksX6_isPlace_1 8 rfl rfl)
theorem dX6_isPlace_33 : decode cX6_isPlace 33 = .ok (.istore_n 3, 1) := dk_62 (dk_at dksX6_isPlace_1 9 rfl rfl)
theorem dX6_isPlace_34 : decode cX6_isPlace 34 = .ok (.iload 4, 2) := dk_21 4 (dk_at dksX6_isPlace_1 10 rfl rfl)
theorem dX6_isPlace_36 : decode cX6_isPlace 36 = .ok (.ifCond .eq 21, 3) := dk_153 0 21 (dk_at dksX6_isPlace_1 12 rfl rfl)
theorem dX6_isPlace_39 : decode cX6_isPlace 39 = .ok (.aload_n 0, 1) := dk_42 (dk_at dksX6_isPlace_1 15 rfl rfl)
theorem dX6_isPlace_40 : decode cX6_isPlace 40 = .ok (.getfield 96, 3) := dk_180 0 96 (dk_at dksX6_isPlace_1 16 rfl rfl)
theorem dX6_isPlace_43 : decode cX6_isPlace 43 = .ok (.iload 5, 2) := dk_21 5 (dk_at dksX6_isPlace_1 19 rfl rfl)
theorem dX6_isPlace_45 : decode cX6_isPlace 45 = .ok (.iaload, 1) := dk_46 (dk_at dksX6_isPlace_1 21 rfl rfl)
theorem dX6_isPlace_46 : decode cX6_isPlace 46 = .ok (.aload_n 0, 1) := dk_42 (dk_at dksX6_isPlace_1 22 rfl rfl)
theorem dX6_isPlace_47 : decode cX6_isPlace 47 = .ok (.getfield 170, 3) := dk_180 0 170 (dk_at dksX6_isPlace_2 0 rfl rfl)
theorem dX6_isPlace_50 : decode cX6_isPlace 50 = .ok (.if_icmp .ge 7, 3) := dk_162 0 7 (dk_at dksX6_isPlace_2 3 rfl rfl)
theorem dX6_isPlace_53 : decode cX6_isPlace 53 = .ok (.iconst 1, 1) := dk_4 (dk_at dksX6_isPlace_2 6 rfl rfl)
theorem dX6_isPlace_54 : decode cX6_isPlace 54 = .ok (.goto 4, 3) := dk_167 0 4 (dk_at dksX6_isPlace_2 7 rfl rfl)
theorem dX6_isPlace_57 : decode cX6_isPlace 57 = .ok (.iconst 0, 1) := dk_3 (dk_at dksX6_isPlace_2 10 rfl rfl)
theorem dX6_isPlace_58 : decode cX6_isPlace 58 = .ok (.istore 4, 2) := dk_54 4 (dk_at dksX6_isPlace_2 11 rfl rfl)
theorem dX6_isPlace_60 : decode cX6_isPlace 60 = .ok (.iinc 5 (-1), 3) := dk_132 5 255 (dk_at dksX6_isPlace_2 13 rfl rfl)
theorem dX6_isPlace_63 : decode cX6_isPlace 63 = .ok (.goto (-50), 3) := dk_167 255 206 (dk_at dksX6_isPlace_2 16 rfl rfl)
theorem dX6_isPlace_66 : decode cX6_isPlace 66 = .ok (.iconst 0, 1) := dk_3 (dk_at dksX6_isPlace_2 19 rfl rfl)
theorem dX6_isPlace_67 : decode cX6_isPlace 67 = .ok (.istore 5, 2) := dk_54 5 (dk_at dksX6_isPlace_2 20 rfl rfl)
theorem dX6_isPlace_69 : decode cX6_isPlace 69 = .ok (.iload 5, 2) := dk_21 5 (dk_at dksX6_isPlace_2 22 rfl rfl)
theorem dX6_isPlace_71 : decode cX6_isPlace 71 = .ok (.aload_n 0, 1) := dk_42 (dk_at dksX6_isPlace_3 0 rfl rfl)
theorem dX6_isPlace_72 : decode cX6_isPlace 72 = .ok (.getfield 90, 3) := dk_180 0 90 (dk_at dksX6_isPlace_3 1 rfl rfl)
theorem dX6_isPlace_75 : decode cX6_isPlace 75 = .ok (.iload_n 1, 1) := dk_27 (dk_at dksX6_isPlace_3 4 rfl rfl)
theorem dX6_isPlace_76 : decode cX6_isPlace 76 = .ok (.iaload, 1) := dk_46 (dk_at dksX6_isPlace_3 5 rfl rfl)
theorem dX6_isPlace_77 : decode cX6_isPlace 77 = .ok (.if_icmp .gt 54, 3) := dk_163 0 54 (dk_at dksX6_isPlace_3 6 rfl rfl)
theorem dX6_isPlace_80 : decode cX6_isPlace 80 = .ok (.iconst 0, 1) := dk_3 (dk_at dksX6_isPlace_3 9 rfl rfl)
theorem dX6_isPlace_81 : decode cX6_isPlace 81 = .ok (.istore 6, 2) := dk_54 6 (dk_at dksX6_isPlace_3 10 rfl rfl)
theorem dX6_isPlace_83 : decode cX6_isPlace 83 = .ok (.iload 6, 2) := dk_21 6 (dk_at dksX6_isPlace_3 12 rfl rfl)
theorem dX6_isPlace_85 : decode cX6_isPlace 85 = .ok (.iload 5, 2) := dk_21 5 (dk_at dksX6_isPlace_3 14 rfl rfl)
theorem dX6_isPlace_87 : decode cX6_isPlace 87 = .ok (.if_icmp .ge 38, 3) := dk_162 0 38 (dk_at dksX6_isPlace_3 16 rfl rfl)
theorem dX6_isPlace_90 : decode cX6_isPlace 90 = .ok (.iload 4, 2) := dk_21 4 (dk_at dksX6_isPlace_3 19 rfl rfl)
theorem dX6_isPlace_92 : decode cX6_isPlace 92 = .ok (.ifCond .eq 24, 3) := dk_153 0 24 (dk_at dksX6_isPlace_3 21 rfl rfl)
theorem dX6_isPlace_95 : decode cX6_isPlace 95 = .ok (.aload_n 0, 1) := dk_42 (dk_at dksX6_isPlace_4 0 rfl rfl)
theorem dX6_isPlace_96 : decode cX6_isPlace 96 = .ok (.getfield 96, 3) := dk_180 0 96 (dk_at dksX6_isPlace_4 1 rfl rfl)
theorem dX6_isPlace_99 : decode cX6_isPlace 99 = .ok (.iload 6, 2) := dk_21 6 (dk_at dksX6_isPlace_4 4 rfl rfl)
theorem dX6_isPlace_101 : decode cX6_isPlace 101 = .ok (.iaload, 1) := dk_46 (dk_at dksX6_isPlace_4 6 rfl rfl)
theorem dX6_isPlace_102 : decode cX6_isPlace 102 = .ok (.aload_n 0, 1) := dk_42 (dk_at dksX6_isPlace_4 7 rfl rfl)
theorem dX6_isPlace_103 : decode cX6_isPlace 103 = .ok (.getfield 96, 3) := dk_180 0 96 (dk_at dksX6_isPlace_4 8 rfl rfl)
theorem dX6_isPlace_106 : decode cX6_isPlace 106 = .ok (.iload 5, 2) := dk_21 5 (dk_at dksX6_isPlace_4 11 rfl rfl)
theorem dX6_isPlace_108 : decode cX6_isPlace 108 = .ok (.iaload, 1) := dk_46 (dk_at dksX6_isPlace_4 13 rfl rfl)
theorem dX6_isPlace_109 : decode cX6_isPlace 109 = .ok (.if_icmp .eq 7, 3) := dk_159 0 7 (dk_at dksX6_isPlace_4 14 rfl rfl)
theorem dX6_isPlace_112 : decode cX6_isPlace 112 = .ok (.iconst 1, 1) := dk_4 (dk_at dksX6_isPlace_4 17 rfl rfl)
theorem dX6_isPlace_113 : decode cX6_isPlace 113 = .ok (.goto 4, 3) := dk_167 0 4 (dk_at dksX6_isPlace_4 18 rfl rfl)
theorem dX6_isPlace_116 : decode cX6_isPlace 116 = .ok (.iconst 0, 1) := dk_3 (dk_at dksX6_isPlace_4 21 rfl rfl)
theorem dX6_isPlace_117 : decode cX6_isPlace 117 = .ok (.istore 4, 2) := dk_54 4 (dk_at dksX6_isPlace_4 22 rfl rfl)
theorem dX6_isPlace_119 : decode cX6_isPlace 119 = .ok (.iinc 6 1, 3) := dk_132 6 1 (dk_at dksX6_isPlace_5 0 rfl rfl)
theorem dX6_isPlace_122 : decode cX6_isPlace 122 = .ok (.goto (-39), 3) := dk_167 255 217 (dk_at dksX6_isPlace_5 3 rfl rfl)
theorem dX6_isPlace_125 : decode cX6_isPlace 125 = .ok (.iinc 5 1, 3) := dk_132 5 1 (dk_at dksX6_isPlace_5 6 rfl rfl)
theorem dX6_isPlace_128 : decode cX6_isPlace 128 = .ok (.goto (-59), 3) := dk_167 255 197 (dk_at dksX6_isPlace_5 9 rfl rfl)
theorem dX6_isPlace_131 : decode cX6_isPlace 131 = .ok (.iload 4, 2) := dk_21 4 (dk_at dksX6_isPlace_5 12 rfl rfl)
theorem dX6_isPlace_133 : decode cX6_isPlace 133 = .ok (.ifCond .eq 11, 3) := dk_153 0 11 (dk_at dksX6_isPlace_5 14 rfl rfl)
theorem dX6_isPlace_136 : decode cX6_isPlace 136 = .ok (.iload_n 3, 1) := dk_29 (dk_at dksX6_isPlace_5 17 rfl rfl)
theorem dX6_isPlace_137 : decode cX6_isPlace 137 = .ok (.ifCond .ne 7, 3) := dk_154 0 7 (dk_at dksX6_isPlace_5 18 rfl rfl)
theorem dX6_isPlace_140 : decode cX6_isPlace 140 = .ok (.iconst 1, 1) := dk_4 (dk_at dksX6_isPlace_5 21 rfl rfl)
theorem dX6_isPlace_141 : decode cX6_isPlace 141 = .ok (.goto 4, 3) := dk_167 0 4 (dk_at dksX6_isPlace_6 0 rfl rfl)
theorem dX6_isPlace_144 : decode cX6_isPlace 144 = .ok (.iconst 0, 1) := dk_3 (dk_at dksX6_isPlace_6 3 rfl rfl)
theorem dX6_isPlace_145 : decode cX6_isPlace 145 = .ok (.ireturn, 1) := dk_172 (dk_at dksX6_isPlace_6 4 rfl rfl)
abbrev cX6_isPartGoal : ByteArray := prog_15_method_28_code
def yX6_isPartGoal : MethodName := ⟨RX6, "isPartGoal", "(I)Z"⟩
def dkwX6_isPartGoal_2 : List UInt8 := [132, 3, 1, 167, 255, 209, 28, 172]
abbrev dktX6_isPartGoal_2 : List UInt8 := dkwX6_isPartGoal_2 ++ []
def dkwX6_isPartGoal_1 : List UInt8 := [42, 180, 0, 36, 42, 180, 0, 87, 6, 27, 104, 29, 96, 46, 46, 160, 0, 7, 4, 167, 0, 4, 3, 61]
abbrev dktX6_isPartGoal_1 : List UInt8 := dkwX6_isPartGoal_1 ++ dktX6_isPartGoal_2
def dkwX6_isPartGoal_0 : List UInt8 := [4, 61, 3, 62, 29, 42, 180, 0, 90, 27, 46, 162, 0, 43, 28, 153, 0, 31, 42, 180, 0, 96, 29, 46]
abbrev dktX6_isPartGoal_0 : List UInt8 := dkwX6_isPartGoal_0 ++ dktX6_isPartGoal_1
theorem dksX6_isPartGoal_0 : cX6_isPartGoal.data.toList.drop 0 = dktX6_isPartGoal_0 := by decide +kernel
theorem dksX6_isPartGoal_1 : cX6_isPartGoal.data.toList.drop 24 = dktX6_isPartGoal_1 := dk_seg dksX6_isPartGoal_0 24 rfl rfl
theorem dksX6_isPartGoal_2 : cX6_isPartGoal.data.toList.drop 48 = dktX6_isPartGoal_2 := dk_seg dksX6_isPartGoal_1 24 rfl rfl
theorem dX6_isPartGoal_0 : decode cX6_isPartGoal 0 = .ok (.iconst 1, 1) := dk_4 (dk_at dksX6_isPartGoal_0 0 rfl rfl)
theorem dX6_isPartGoal_1 : decode cX6_isPartGoal 1 = .ok (.istore_n 2, 1) := dk_61 (dk_at dksX6_isPartGoal_0 1 rfl rfl)
theorem dX6_isPartGoal_2 : decode cX6_isPartGoal 2 = .ok (.iconst 0, 1) := dk_3 (dk_at dksX6_isPartGoal_0 2 rfl rfl)
theorem dX6_isPartGoal_3 : decode cX6_isPartGoal 3 = .ok (.istore_n 3, 1) := dk_62 (dk_at dksX6_isPartGoal_0 3 rfl rfl)
theorem dX6_isPartGoal_4 : decode cX6_isPartGoal 4 = .ok (.iload_n 3, 1) := dk_29 (dk_at dksX6_isPartGoal_0 4 rfl rfl)
theorem dX6_isPartGoal_5 : decode cX6_isPartGoal 5 = .ok (.aload_n 0, 1) := dk_42 (dk_at dksX6_isPartGoal_0 5 rfl rfl)
theorem dX6_isPartGoal_6 : decode cX6_isPartGoal 6 = .ok (.getfield 90, 3) := dk_180 0 90 (dk_at dksX6_isPartGoal_0 6 rfl rfl)
theorem dX6_isPartGoal_9 : decode cX6_isPartGoal 9 = .ok (.iload_n 1, 1) := dk_27 (dk_at dksX6_isPartGoal_0 9 rfl rfl)
theorem dX6_isPartGoal_10 : decode cX6_isPartGoal 10 = .ok (.iaload, 1) := dk_46 (dk_at dksX6_isPartGoal_0 10 rfl rfl)
theorem dX6_isPartGoal_11 : decode cX6_isPartGoal 11 = .ok (.if_icmp .ge 43, 3) := dk_162 0 43 (dk_at dksX6_isPartGoal_0 11 rfl rfl)
theorem dX6_isPartGoal_14 : decode cX6_isPartGoal 14 = .ok (.iload_n 2, 1) := dk_28 (dk_at dksX6_isPartGoal_0 14 rfl rfl)
theorem dX6_isPartGoal_15 : decode cX6_isPartGoal 15 = .ok (.ifCond .eq 31, 3) := dk_153 0 31 (dk_at dksX6_isPartGoal_0 15 rfl rfl)
theorem dX6_isPartGoal_18 : decode cX6_isPartGoal 18 = .ok (.aload_n 0, 1) := dk_42 (dk_at dksX6_isPartGoal_0 18 rfl rfl)
theorem dX6_isPartGoal_19 : decode cX6_isPartGoal 19 = .ok (.getfield 96, 3) := dk_180 0 96 (dk_at dksX6_isPartGoal_0 19 rfl rfl)
theorem dX6_isPartGoal_22 : decode cX6_isPartGoal 22 = .ok (.iload_n 3, 1) := dk_29 (dk_at dksX6_isPartGoal_0 22 rfl rfl)
theorem dX6_isPartGoal_23 : decode cX6_isPartGoal 23 = .ok (.iaload, 1) := dk_46 (dk_at dksX6_isPartGoal_0 23 rfl rfl)
theorem dX6_isPartGoal_24 : decode cX6_isPartGoal 24 = .ok (.aload_n 0, 1) := dk_42 (dk_at dksX6_isPartGoal_1 0 rfl rfl)
theorem dX6_isPartGoal_25 : decode cX6_isPartGoal 25 = .ok (.getfield 36, 3) := dk_180 0 36 (dk_at dksX6_isPartGoal_1 1 rfl rfl)
theorem dX6_isPartGoal_28 : decode cX6_isPartGoal 28 = .ok (.aload_n 0, 1) := dk_42 (dk_at dksX6_isPartGoal_1 4 rfl rfl)
theorem dX6_isPartGoal_29 : decode cX6_isPartGoal 29 = .ok (.getfield 87, 3) := dk_180 0 87 (dk_at dksX6_isPartGoal_1 5 rfl rfl)
theorem dX6_isPartGoal_32 : decode cX6_isPartGoal 32 = .ok (.iconst 3, 1) := dk_6 (dk_at dksX6_isPartGoal_1 8 rfl rfl)
theorem dX6_isPartGoal_33 : decode cX6_isPartGoal 33 = .ok (.iload_n 1, 1) := dk_27 (dk_at dksX6_isPartGoal_1 9 rfl rfl)
theorem dX6_isPartGoal_34 : decode cX6_isPartGoal 34 = .ok (.imul, 1) := dk_104 (dk_at dksX6_isPartGoal_1 10 rfl rfl)
theorem dX6_isPartGoal_35 : decode cX6_isPartGoal 35 = .ok (.iload_n 3, 1) := dk_29 (dk_at dksX6_isPartGoal_1 11 rfl rfl)
theorem dX6_isPartGoal_36 : decode cX6_isPartGoal 36 = .ok (.iadd, 1) := dk_96 (dk_at dksX6_isPartGoal_1 12 rfl rfl)
theorem dX6_isPartGoal_37 : decode cX6_isPartGoal 37 = .ok (.iaload, 1) := dk_46 (dk_at dksX6_isPartGoal_1 13 rfl rfl)
theorem dX6_isPartGoal_38 : decode cX6_isPartGoal 38 = .ok (.iaload, 1) := dk_46 (dk_at dksX6_isPartGoal_1 14 rfl rfl)
theorem dX6_isPartGoal_39 : decode cX6_isPartGoal 39 = .ok (.if_icmp .ne 7, 3) := dk_160 0 7 (dk_at dksX6_isPartGoal_1 15 rfl rfl)
theorem dX6_isPartGoal_42 : decode cX6_isPartGoal 42 = .ok (.iconst 1, 1) := dk_4 (dk_at dksX6_isPartGoal_1 18 rfl rfl)
theorem dX6_isPartGoal_43 : decode cX6_isPartGoal 43 = .ok (.goto 4, 3) := dk_167 0 4 (dk_at dksX6_isPartGoal_1 19 rfl rfl)
theorem dX6_isPartGoal_46 : decode cX6_isPartGoal 46 = .ok (.iconst 0, 1) := dk_3 (dk_at dksX6_isPartGoal_1 22 rfl rfl)
theorem dX6_isPartGoal_47 : decode cX6_isPartGoal 47 = .ok (.istore_n 2, 1) := dk_61 (dk_at dksX6_isPartGoal_1 23 rfl rfl)
theorem dX6_isPartGoal_48 : decode cX6_isPartGoal 48 = .ok (.iinc 3 1, 3) := dk_132 3 1 (dk_at dksX6_isPartGoal_2 0 rfl rfl)
theorem dX6_isPartGoal_51 : decode cX6_isPartGoal 51 = .ok (.goto (-47), 3) := dk_167 255 209 (dk_at dksX6_isPartGoal_2 3 rfl rfl)
theorem dX6_isPartGoal_54 : decode cX6_isPartGoal 54 = .ok (.iload_n 2, 1) := dk_28 (dk_at dksX6_isPartGoal_2 6 rfl rfl)
theorem dX6_isPartGoal_55 : decode cX6_isPartGoal 55 = .ok (.ireturn, 1) := dk_172 (dk_at dksX6_isPartGoal_2 7 rfl rfl)
abbrev cX6_moves : ByteArray := prog_15_method_27_code
def yX6_moves : MethodName := ⟨RX6, "moves", "(II)I"⟩
def dkwX6_moves_4 : List UInt8 := [180, 0, 96, 29, 21, 4, 79, 21, 5, 172]
abbrev dktX6_moves_4 : List UInt8 := dkwX6_moves_4 ++ []
def dkwX6_moves_3 : List UInt8 := [54, 5, 42, 180, 0, 96, 21, 6, 42, 180, 0, 96, 29, 46, 79, 132, 6, 1, 167, 255, 204, 42]
abbrev dktX6_moves_3 : List UInt8 := dkwX6_moves_3 ++ dktX6_moves_4
def dkwX6_moves_2 : List UInt8 := [21, 6, 46, 21, 4, 160, 0, 34, 42, 180, 0, 39, 42, 180, 0, 87, 6, 27, 104, 21, 6, 96, 46, 46]
abbrev dktX6_moves_2 : List UInt8 := dkwX6_moves_2 ++ dktX6_moves_3
def dkwX6_moves_1 : List UInt8 := [21, 4, 2, 160, 0, 5, 2, 172, 3, 54, 5, 3, 54, 6, 21, 6, 29, 162, 0, 52, 42, 180, 0, 96]
abbrev dktX6_moves_1 : List UInt8 := dkwX6_moves_1 ++ dktX6_moves_2
def dkwX6_moves_0 : List UInt8 := [42, 180, 0, 90, 27, 46, 62, 42, 180, 0, 16, 7, 42, 180, 0, 96, 29, 46, 104, 28, 96, 46, 54, 4]
abbrev dktX6_moves_0 : List UInt8 := dkwX6_moves_0 ++ dktX6_moves_1
theorem dksX6_moves_0 : cX6_moves.data.toList.drop 0 = dktX6_moves_0 := by decide +kernel
theorem dksX6_moves_1 : cX6_moves.data.toList.drop 24 = dktX6_moves_1 := dk_seg dksX6_moves_0 24 rfl rfl
theorem dksX6_moves_2 : cX6_moves.data.toList.drop 48 = dktX6_moves_2 := dk_seg dksX6_moves_1 24 rfl rfl
theorem dksX6_moves_3 : cX6_moves.data.toList.drop 72 = dktX6_moves_3 := dk_seg dksX6_moves_2 24 rfl rfl
theorem dksX6_moves_4 : cX6_moves.data.toList.drop 94 = dktX6_moves_4 := dk_seg dksX6_moves_3 22 rfl rfl
theorem dX6_moves_0 : decode cX6_moves 0 = .ok (.aload_n 0, 1) := dk_42 (dk_at dksX6_moves_0 0 rfl rfl)
theorem dX6_moves_1 : decode cX6_moves 1 = .ok (.getfield 90, 3) := dk_180 0 90 (dk_at dksX6_moves_0 1 rfl rfl)
theorem dX6_moves_4 : decode cX6_moves 4 = .ok (.iload_n 1, 1) := dk_27 (dk_at dksX6_moves_0 4 rfl rfl)
theorem dX6_moves_5 : decode cX6_moves 5 = .ok (.iaload, 1) := dk_46 (dk_at dksX6_moves_0 5 rfl rfl)
theorem dX6_moves_6 : decode cX6_moves 6 = .ok (.istore_n 3, 1) := dk_62 (dk_at dksX6_moves_0 6 rfl rfl)
theorem dX6_moves_7 : decode cX6_moves 7 = .ok (.aload_n 0, 1) := dk_42 (dk_at dksX6_moves_0 7 rfl rfl)
theorem dX6_moves_8 : decode cX6_moves 8 = .ok (.getfield 16, 3) := dk_180 0 16 (dk_at dksX6_moves_0 8 rfl rfl)
theorem dX6_moves_11 : decode cX6_moves 11 = .ok (.iconst 4, 1) := dk_7 (dk_at dksX6_moves_0 11 rfl rfl)
theorem dX6_moves_12 : decode cX6_moves 12 = .ok (.aload_n 0, 1) := dk_42 (dk_at dksX6_moves_0 12 rfl rfl)
theorem dX6_moves_13 : decode cX6_moves 13 = .ok (.getfield 96, 3) := dk_180 0 96 (dk_at dksX6_moves_0 13 rfl rfl)
theorem dX6_moves_16 : decode cX6_moves 16 = .ok (.iload_n 3, 1) := dk_29 (dk_at dksX6_moves_0 16 rfl rfl)
theorem dX6_moves_17 : decode cX6_moves 17 = .ok (.iaload, 1) := dk_46 (dk_at dksX6_moves_0 17 rfl rfl)
theorem dX6_moves_18 : decode cX6_moves 18 = .ok (.imul, 1) := dk_104 (dk_at dksX6_moves_0 18 rfl rfl)
theorem dX6_moves_19 : decode cX6_moves 19 = .ok (.iload_n 2, 1) := dk_28 (dk_at dksX6_moves_0 19 rfl rfl)
theorem dX6_moves_20 : decode cX6_moves 20 = .ok (.iadd, 1) := dk_96 (dk_at dksX6_moves_0 20 rfl rfl)
theorem dX6_moves_21 : decode cX6_moves 21 = .ok (.iaload, 1) := dk_46 (dk_at dksX6_moves_0 21 rfl rfl)
theorem dX6_moves_22 : decode cX6_moves 22 = .ok (.istore 4, 2) := dk_54 4 (dk_at dksX6_moves_0 22 rfl rfl)
theorem dX6_moves_24 : decode cX6_moves 24 = .ok (.iload 4, 2) := dk_21 4 (dk_at dksX6_moves_1 0 rfl rfl)
theorem dX6_moves_26 : decode cX6_moves 26 = .ok (.iconst (-1), 1) := dk_2 (dk_at dksX6_moves_1 2 rfl rfl)
theorem dX6_moves_27 : decode cX6_moves 27 = .ok (.if_icmp .ne 5, 3) := dk_160 0 5 (dk_at dksX6_moves_1 3 rfl rfl)
theorem dX6_moves_30 : decode cX6_moves 30 = .ok (.iconst (-1), 1) := dk_2 (dk_at dksX6_moves_1 6 rfl rfl)
theorem dX6_moves_31 : decode cX6_moves 31 = .ok (.ireturn, 1) := dk_172 (dk_at dksX6_moves_1 7 rfl rfl)
theorem dX6_moves_32 : decode cX6_moves 32 = .ok (.iconst 0, 1) := dk_3 (dk_at dksX6_moves_1 8 rfl rfl)
theorem dX6_moves_33 : decode cX6_moves 33 = .ok (.istore 5, 2) := dk_54 5 (dk_at dksX6_moves_1 9 rfl rfl)
theorem dX6_moves_35 : decode cX6_moves 35 = .ok (.iconst 0, 1) := dk_3 (dk_at dksX6_moves_1 11 rfl rfl)
theorem dX6_moves_36 : decode cX6_moves 36 = .ok (.istore 6, 2) := dk_54 6 (dk_at dksX6_moves_1 12 rfl rfl)
theorem dX6_moves_38 : decode cX6_moves 38 = .ok (.iload 6, 2) := dk_21 6 (dk_at dksX6_moves_1 14 rfl rfl)
theorem dX6_moves_40 : decode cX6_moves 40 = .ok (.iload_n 3, 1) := dk_29 (dk_at dksX6_moves_1 16 rfl rfl)
theorem dX6_moves_41 : decode cX6_moves 41 = .ok (.if_icmp .ge 52, 3) := dk_162 0 52 (dk_at dksX6_moves_1 17 rfl rfl)
theorem dX6_moves_44 : decode cX6_moves 44 = .ok (.aload_n 0, 1) := dk_42 (dk_at dksX6_moves_1 20 rfl rfl)
theorem dX6_moves_45 : decode cX6_moves 45 = .ok (.getfield 96, 3) := dk_180 0 96 (dk_at dksX6_moves_1 21 rfl rfl)
theorem dX6_moves_48 : decode cX6_moves 48 = .ok (.iload 6, 2) := dk_21 6 (dk_at dksX6_moves_2 0 rfl rfl)
theorem dX6_moves_50 : decode cX6_moves 50 = .ok (.iaload, 1) := dk_46 (dk_at dksX6_moves_2 2 rfl rfl)
theorem dX6_moves_51 : decode cX6_moves 51 = .ok (.iload 4, 2) := dk_21 4 (dk_at dksX6_moves_2 3 rfl rfl)
theorem dX6_moves_53 : decode cX6_moves 53 = .ok (.if_icmp .ne 34, 3) := dk_160 0 34 (dk_at dksX6_moves_2 5 rfl rfl)
theorem dX6_moves_56 : decode cX6_moves 56 = .ok (.aload_n 0, 1) := dk_42 (dk_at dksX6_moves_2 8 rfl rfl)
theorem dX6_moves_57 : decode cX6_moves 57 = .ok (.getfield 39, 3) := dk_180 0 39 (dk_at dksX6_moves_2 9 rfl rfl)
theorem dX6_moves_60 : decode cX6_moves 60 = .ok (.aload_n 0, 1) := dk_42 (dk_at dksX6_moves_2 12 rfl rfl)
theorem dX6_moves_61 : decode cX6_moves 61 = .ok (.getfield 87, 3) := dk_180 0 87 (dk_at dksX6_moves_2 13 rfl rfl)
theorem dX6_moves_64 : decode cX6_moves 64 = .ok (.iconst 3, 1) := dk_6 (dk_at dksX6_moves_2 16 rfl rfl)
theorem dX6_moves_65 : decode cX6_moves 65 = .ok (.iload_n 1, 1) := dk_27 (dk_at dksX6_moves_2 17 rfl rfl)
theorem dX6_moves_66 : decode cX6_moves 66 = .ok (.imul, 1) := dk_104 (dk_at dksX6_moves_2 18 rfl rfl)
theorem dX6_moves_67 : decode cX6_moves 67 = .ok (.iload 6, 2) := dk_21 6 (dk_at dksX6_moves_2 19 rfl rfl)
theorem dX6_moves_69 : decode cX6_moves 69 = .ok (.iadd, 1) := dk_96 (dk_at dksX6_moves_2 21 rfl rfl)
theorem dX6_moves_70 : decode cX6_moves 70 = .ok (.iaload, 1) := dk_46 (dk_at dksX6_moves_2 22 rfl rfl)
theorem dX6_moves_71 : decode cX6_moves 71 = .ok (.iaload, 1) := dk_46 (dk_at dksX6_moves_2 23 rfl rfl)
theorem dX6_moves_72 : decode cX6_moves 72 = .ok (.istore 5, 2) := dk_54 5 (dk_at dksX6_moves_3 0 rfl rfl)
theorem dX6_moves_74 : decode cX6_moves 74 = .ok (.aload_n 0, 1) := dk_42 (dk_at dksX6_moves_3 2 rfl rfl)
theorem dX6_moves_75 : decode cX6_moves 75 = .ok (.getfield 96, 3) := dk_180 0 96 (dk_at dksX6_moves_3 3 rfl rfl)
theorem dX6_moves_78 : decode cX6_moves 78 = .ok (.iload 6, 2) := dk_21 6 (dk_at dksX6_moves_3 6 rfl rfl)
theorem dX6_moves_80 : decode cX6_moves 80 = .ok (.aload_n 0, 1) := dk_42 (dk_at dksX6_moves_3 8 rfl rfl)
theorem dX6_moves_81 : decode cX6_moves 81 = .ok (.getfield 96, 3) := dk_180 0 96 (dk_at dksX6_moves_3 9 rfl rfl)
theorem dX6_moves_84 : decode cX6_moves 84 = .ok (.iload_n 3, 1) := dk_29 (dk_at dksX6_moves_3 12 rfl rfl)
theorem dX6_moves_85 : decode cX6_moves 85 = .ok (.iaload, 1) := dk_46 (dk_at dksX6_moves_3 13 rfl rfl)
theorem dX6_moves_86 : decode cX6_moves 86 = .ok (.iastore, 1) := dk_79 (dk_at dksX6_moves_3 14 rfl rfl)
theorem dX6_moves_87 : decode cX6_moves 87 = .ok (.iinc 6 1, 3) := dk_132 6 1 (dk_at dksX6_moves_3 15 rfl rfl)
theorem dX6_moves_90 : decode cX6_moves 90 = .ok (.goto (-52), 3) := dk_167 255 204 (dk_at dksX6_moves_3 18 rfl rfl)
theorem dX6_moves_93 : decode cX6_moves 93 = .ok (.aload_n 0, 1) := dk_42 (dk_at dksX6_moves_3 21 rfl rfl)
theorem dX6_moves_94 : decode cX6_moves 94 = .ok (.getfield 96, 3) := dk_180 0 96 (dk_at dksX6_moves_4 0 rfl rfl)
theorem dX6_moves_97 : decode cX6_moves 97 = .ok (.iload_n 3, 1) := dk_29 (dk_at dksX6_moves_4 3 rfl rfl)
theorem dX6_moves_98 : decode cX6_moves 98 = .ok (.iload 4, 2) := dk_21 4 (dk_at dksX6_moves_4 4 rfl rfl)
theorem dX6_moves_100 : decode cX6_moves 100 = .ok (.iastore, 1) := dk_79 (dk_at dksX6_moves_4 6 rfl rfl)
theorem dX6_moves_101 : decode cX6_moves 101 = .ok (.iload 5, 2) := dk_21 5 (dk_at dksX6_moves_4 7 rfl rfl)
theorem dX6_moves_103 : decode cX6_moves 103 = .ok (.ireturn, 1) := dk_172 (dk_at dksX6_moves_4 9 rfl rfl)
abbrev cX6_placeAt : ByteArray := prog_15_method_26_code
def yX6_placeAt : MethodName := ⟨RX6, "placeAt", "(I)I"⟩
def dkwX6_placeAt_1 : List UInt8 := [96, 61, 132, 3, 1, 167, 255, 231, 28, 172]
abbrev dktX6_placeAt_1 : List UInt8 := dkwX6_placeAt_1 ++ []
def dkwX6_placeAt_0 : List UInt8 := [3, 61, 3, 62, 29, 42, 180, 0, 90, 27, 46, 163, 0, 21, 16, 9, 28, 104, 42, 180, 0, 96, 29, 46]
abbrev dktX6_placeAt_0 : List UInt8 := dkwX6_placeAt_0 ++ dktX6_placeAt_1
theorem dksX6_placeAt_0 : cX6_placeAt.data.toList.drop 0 = dktX6_placeAt_0 := by decide +kernel
theorem dksX6_placeAt_1 : cX6_placeAt.data.toList.drop 24 = dktX6_placeAt_1 := dk_seg dksX6_placeAt_0 24 rfl rfl
theorem dX6_placeAt_0 : decode cX6_placeAt 0 = .ok (.iconst 0, 1) := dk_3 (dk_at dksX6_placeAt_0 0 rfl rfl)
theorem dX6_placeAt_1 : decode cX6_placeAt 1 = .ok (.istore_n 2, 1) := dk_61 (dk_at dksX6_placeAt_0 1 rfl rfl)
theorem dX6_placeAt_2 : decode cX6_placeAt 2 = .ok (.iconst 0, 1) := dk_3 (dk_at dksX6_placeAt_0 2 rfl rfl)
theorem dX6_placeAt_3 : decode cX6_placeAt 3 = .ok (.istore_n 3, 1) := dk_62 (dk_at dksX6_placeAt_0 3 rfl rfl)
theorem dX6_placeAt_4 : decode cX6_placeAt 4 = .ok (.iload_n 3, 1) := dk_29 (dk_at dksX6_placeAt_0 4 rfl rfl)
theorem dX6_placeAt_5 : decode cX6_placeAt 5 = .ok (.aload_n 0, 1) := dk_42 (dk_at dksX6_placeAt_0 5 rfl rfl)
theorem dX6_placeAt_6 : decode cX6_placeAt 6 = .ok (.getfield 90, 3) := dk_180 0 90 (dk_at dksX6_placeAt_0 6 rfl rfl)
theorem dX6_placeAt_9 : decode cX6_placeAt 9 = .ok (.iload_n 1, 1) := dk_27 (dk_at dksX6_placeAt_0 9 rfl rfl)
theorem dX6_placeAt_10 : decode cX6_placeAt 10 = .ok (.iaload, 1) := dk_46 (dk_at dksX6_placeAt_0 10 rfl rfl)
theorem dX6_placeAt_11 : decode cX6_placeAt 11 = .ok (.if_icmp .gt 21, 3) := dk_163 0 21 (dk_at dksX6_placeAt_0 11 rfl rfl)
theorem dX6_placeAt_14 : decode cX6_placeAt 14 = .ok (.bipush 9, 2) := dk_16 9 (dk_at dksX6_placeAt_0 14 rfl rfl)
theorem dX6_placeAt_16 : decode cX6_placeAt 16 = .ok (.iload_n 2, 1) := dk_28 (dk_at dksX6_placeAt_0 16 rfl rfl)
theorem dX6_placeAt_17 : decode cX6_placeAt 17 = .ok (.imul, 1) := dk_104 (dk_at dksX6_placeAt_0 17 rfl rfl)
theorem dX6_placeAt_18 : decode cX6_placeAt 18 = .ok (.aload_n 0, 1) := dk_42 (dk_at dksX6_placeAt_0 18 rfl rfl)
theorem dX6_placeAt_19 : decode cX6_placeAt 19 = .ok (.getfield 96, 3) := dk_180 0 96 (dk_at dksX6_placeAt_0 19 rfl rfl)
theorem dX6_placeAt_22 : decode cX6_placeAt 22 = .ok (.iload_n 3, 1) := dk_29 (dk_at dksX6_placeAt_0 22 rfl rfl)
theorem dX6_placeAt_23 : decode cX6_placeAt 23 = .ok (.iaload, 1) := dk_46 (dk_at dksX6_placeAt_0 23 rfl rfl)
theorem dX6_placeAt_24 : decode cX6_placeAt 24 = .ok (.iadd, 1) := dk_96 (dk_at dksX6_placeAt_1 0 rfl rfl)
theorem dX6_placeAt_25 : decode cX6_placeAt 25 = .ok (.istore_n 2, 1) := dk_61 (dk_at dksX6_placeAt_1 1 rfl rfl)
theorem dX6_placeAt_26 : decode cX6_placeAt 26 = .ok (.iinc 3 1, 3) := dk_132 3 1 (dk_at dksX6_placeAt_1 2 rfl rfl)
theorem dX6_placeAt_29 : decode cX6_placeAt 29 = .ok (.goto (-25), 3) := dk_167 255 231 (dk_at dksX6_placeAt_1 5 rfl rfl)
theorem dX6_placeAt_32 : decode cX6_placeAt 32 = .ok (.iload_n 2, 1) := dk_28 (dk_at dksX6_placeAt_1 8 rfl rfl)
theorem dX6_placeAt_33 : decode cX6_placeAt 33 = .ok (.ireturn, 1) := dk_172 (dk_at dksX6_placeAt_1 9 rfl rfl)
abbrev cX6_lay : ByteArray := prog_15_method_34_code
def yX6_lay : MethodName := ⟨RX6, "lay", "(J)I"⟩
def dkwX6_lay_2 : List UInt8 := [46, 182, 0, 215, 172]
abbrev dktX6_lay_2 : List UInt8 := dkwX6_lay_2 ++ []
def dkwX6_lay_1 : List UInt8 := [180, 0, 33, 182, 1, 9, 42, 3, 181, 0, 184, 42, 42, 180, 0, 7, 42, 42, 180, 0, 33, 182, 0, 242]
abbrev dktX6_lay_1 : List UInt8 := dkwX6_lay_1 ++ dktX6_lay_2
def dkwX6_lay_0 : List UInt8 := [31, 9, 148, 155, 0, 12, 31, 42, 182, 0, 221, 148, 155, 0, 9, 42, 4, 182, 0, 204, 172, 42, 31, 42]
abbrev dktX6_lay_0 : List UInt8 := dkwX6_lay_0 ++ dktX6_lay_1
theorem dksX6_lay_0 : cX6_lay.data.toList.drop 0 = dktX6_lay_0 := by decide +kernel
theorem dksX6_lay_1 : cX6_lay.data.toList.drop 24 = dktX6_lay_1 := dk_seg dksX6_lay_0 24 rfl rfl
theorem dksX6_lay_2 : cX6_lay.data.toList.drop 48 = dktX6_lay_2 := dk_seg dksX6_lay_1 24 rfl rfl
theorem dX6_lay_0 : decode cX6_lay 0 = .ok (.lload_n 1, 1) := dk_31 (dk_at dksX6_lay_0 0 rfl rfl)
theorem dX6_lay_1 : decode cX6_lay 1 = .ok (.lconst 0, 1) := dk_9 (dk_at dksX6_lay_0 1 rfl rfl)
theorem dX6_lay_2 : decode cX6_lay 2 = .ok (.lcmp, 1) := dk_148 (dk_at dksX6_lay_0 2 rfl rfl)
theorem dX6_lay_3 : decode cX6_lay 3 = .ok (.ifCond .lt 12, 3) := dk_155 0 12 (dk_at dksX6_lay_0 3 rfl rfl)
theorem dX6_lay_6 : decode cX6_lay 6 = .ok (.lload_n 1, 1) := dk_31 (dk_at dksX6_lay_0 6 rfl rfl)
theorem dX6_lay_7 : decode cX6_lay 7 = .ok (.aload_n 0, 1) := dk_42 (dk_at dksX6_lay_0 7 rfl rfl)
theorem dX6_lay_8 : decode cX6_lay 8 = .ok (.invokevirtual 221, 3) := dk_182 0 221 (dk_at dksX6_lay_0 8 rfl rfl)
theorem dX6_lay_11 : decode cX6_lay 11 = .ok (.lcmp, 1) := dk_148 (dk_at dksX6_lay_0 11 rfl rfl)
theorem dX6_lay_12 : decode cX6_lay 12 = .ok (.ifCond .lt 9, 3) := dk_155 0 9 (dk_at dksX6_lay_0 12 rfl rfl)
theorem dX6_lay_15 : decode cX6_lay 15 = .ok (.aload_n 0, 1) := dk_42 (dk_at dksX6_lay_0 15 rfl rfl)
theorem dX6_lay_16 : decode cX6_lay 16 = .ok (.iconst 1, 1) := dk_4 (dk_at dksX6_lay_0 16 rfl rfl)
theorem dX6_lay_17 : decode cX6_lay 17 = .ok (.invokevirtual 204, 3) := dk_182 0 204 (dk_at dksX6_lay_0 17 rfl rfl)
theorem dX6_lay_20 : decode cX6_lay 20 = .ok (.ireturn, 1) := dk_172 (dk_at dksX6_lay_0 20 rfl rfl)
theorem dX6_lay_21 : decode cX6_lay 21 = .ok (.aload_n 0, 1) := dk_42 (dk_at dksX6_lay_0 21 rfl rfl)
theorem dX6_lay_22 : decode cX6_lay 22 = .ok (.lload_n 1, 1) := dk_31 (dk_at dksX6_lay_0 22 rfl rfl)
theorem dX6_lay_23 : decode cX6_lay 23 = .ok (.aload_n 0, 1) := dk_42 (dk_at dksX6_lay_0 23 rfl rfl)
theorem dX6_lay_24 : decode cX6_lay 24 = .ok (.getfield 33, 3) := dk_180 0 33 (dk_at dksX6_lay_1 0 rfl rfl)
theorem dX6_lay_27 : decode cX6_lay 27 = .ok (.invokevirtual 265, 3) := dk_182 1 9 (dk_at dksX6_lay_1 3 rfl rfl)
theorem dX6_lay_30 : decode cX6_lay 30 = .ok (.aload_n 0, 1) := dk_42 (dk_at dksX6_lay_1 6 rfl rfl)
theorem dX6_lay_31 : decode cX6_lay 31 = .ok (.iconst 0, 1) := dk_3 (dk_at dksX6_lay_1 7 rfl rfl)
theorem dX6_lay_32 : decode cX6_lay 32 = .ok (.putfield 184, 3) := dk_181 0 184 (dk_at dksX6_lay_1 8 rfl rfl)
theorem dX6_lay_35 : decode cX6_lay 35 = .ok (.aload_n 0, 1) := dk_42 (dk_at dksX6_lay_1 11 rfl rfl)
theorem dX6_lay_36 : decode cX6_lay 36 = .ok (.aload_n 0, 1) := dk_42 (dk_at dksX6_lay_1 12 rfl rfl)
theorem dX6_lay_37 : decode cX6_lay 37 = .ok (.getfield 7, 3) := dk_180 0 7 (dk_at dksX6_lay_1 13 rfl rfl)
theorem dX6_lay_40 : decode cX6_lay 40 = .ok (.aload_n 0, 1) := dk_42 (dk_at dksX6_lay_1 16 rfl rfl)
theorem dX6_lay_41 : decode cX6_lay 41 = .ok (.aload_n 0, 1) := dk_42 (dk_at dksX6_lay_1 17 rfl rfl)
theorem dX6_lay_42 : decode cX6_lay 42 = .ok (.getfield 33, 3) := dk_180 0 33 (dk_at dksX6_lay_1 18 rfl rfl)
theorem dX6_lay_45 : decode cX6_lay 45 = .ok (.invokevirtual 242, 3) := dk_182 0 242 (dk_at dksX6_lay_1 21 rfl rfl)
theorem dX6_lay_48 : decode cX6_lay 48 = .ok (.iaload, 1) := dk_46 (dk_at dksX6_lay_2 0 rfl rfl)
theorem dX6_lay_49 : decode cX6_lay 49 = .ok (.invokevirtual 215, 3) := dk_182 0 215 (dk_at dksX6_lay_2 1 rfl rfl)
theorem dX6_lay_52 : decode cX6_lay 52 = .ok (.ireturn, 1) := dk_172 (dk_at dksX6_lay_2 4 rfl rfl)
abbrev cX6_arrangements : ByteArray := prog_15_method_17_code
def yX6_arrangements : MethodName := ⟨RX6, "arrangements", "()J"⟩
def dkwX6_arrangements_1 : List UInt8 := [173]
abbrev dktX6_arrangements_1 : List UInt8 := dkwX6_arrangements_1 ++ []
def dkwX6_arrangements_0 : List UInt8 := [10, 64, 5, 62, 29, 42, 180, 0, 170, 163, 0, 14, 31, 29, 133, 105, 64, 132, 3, 1, 167, 255, 240, 31]
abbrev dktX6_arrangements_0 : List UInt8 := dkwX6_arrangements_0 ++ dktX6_arrangements_1
theorem dksX6_arrangements_0 : cX6_arrangements.data.toList.drop 0 = dktX6_arrangements_0 := by decide +kernel
theorem dksX6_arrangements_1 : cX6_arrangements.data.toList.drop 24 = dktX6_arrangements_1 := dk_seg dksX6_arrangements_0 24 rfl rfl
theorem dX6_arrangements_0 : decode cX6_arrangements 0 = .ok (.lconst 1, 1) := dk_10 (dk_at dksX6_arrangements_0 0 rfl rfl)
theorem dX6_arrangements_1 : decode cX6_arrangements 1 = .ok (.lstore_n 1, 1) := dk_64 (dk_at dksX6_arrangements_0 1 rfl rfl)
theorem dX6_arrangements_2 : decode cX6_arrangements 2 = .ok (.iconst 2, 1) := dk_5 (dk_at dksX6_arrangements_0 2 rfl rfl)
theorem dX6_arrangements_3 : decode cX6_arrangements 3 = .ok (.istore_n 3, 1) := dk_62 (dk_at dksX6_arrangements_0 3 rfl rfl)
theorem dX6_arrangements_4 : decode cX6_arrangements 4 = .ok (.iload_n 3, 1) := dk_29 (dk_at dksX6_arrangements_0 4 rfl rfl)
theorem dX6_arrangements_5 : decode cX6_arrangements 5 = .ok (.aload_n 0, 1) := dk_42 (dk_at dksX6_arrangements_0 5 rfl rfl)
theorem dX6_arrangements_6 : decode cX6_arrangements 6 = .ok (.getfield 170, 3) := dk_180 0 170 (dk_at dksX6_arrangements_0 6 rfl rfl)
theorem dX6_arrangements_9 : decode cX6_arrangements 9 = .ok (.if_icmp .gt 14, 3) := dk_163 0 14 (dk_at dksX6_arrangements_0 9 rfl rfl)
theorem dX6_arrangements_12 : decode cX6_arrangements 12 = .ok (.lload_n 1, 1) := dk_31 (dk_at dksX6_arrangements_0 12 rfl rfl)
theorem dX6_arrangements_13 : decode cX6_arrangements 13 = .ok (.iload_n 3, 1) := dk_29 (dk_at dksX6_arrangements_0 13 rfl rfl)
theorem dX6_arrangements_14 : decode cX6_arrangements 14 = .ok (.i2l, 1) := dk_133 (dk_at dksX6_arrangements_0 14 rfl rfl)
theorem dX6_arrangements_15 : decode cX6_arrangements 15 = .ok (.lmul, 1) := dk_105 (dk_at dksX6_arrangements_0 15 rfl rfl)
theorem dX6_arrangements_16 : decode cX6_arrangements 16 = .ok (.lstore_n 1, 1) := dk_64 (dk_at dksX6_arrangements_0 16 rfl rfl)
theorem dX6_arrangements_17 : decode cX6_arrangements 17 = .ok (.iinc 3 1, 3) := dk_132 3 1 (dk_at dksX6_arrangements_0 17 rfl rfl)
theorem dX6_arrangements_20 : decode cX6_arrangements 20 = .ok (.goto (-16), 3) := dk_167 255 240 (dk_at dksX6_arrangements_0 20 rfl rfl)
theorem dX6_arrangements_23 : decode cX6_arrangements 23 = .ok (.lload_n 1, 1) := dk_31 (dk_at dksX6_arrangements_0 23 rfl rfl)
theorem dX6_arrangements_24 : decode cX6_arrangements 24 = .ok (.lreturn, 1) := dk_173 (dk_at dksX6_arrangements_1 0 rfl rfl)
abbrev cX6_lays : ByteArray := prog_15_method_18_code
def yX6_lays : MethodName := ⟨RX6, "lays", "(J[I)V"⟩
def dkwX6_lays_6 : List UInt8 := [132, 8, 1, 167, 255, 153, 177]
abbrev dktX6_lays_6 : List UInt8 := dkwX6_lays_6 ++ []
def dkwX6_lays_5 : List UInt8 := [180, 0, 78, 21, 10, 42, 180, 0, 170, 112, 4, 84, 45, 21, 8, 21, 10, 42, 180, 0, 170, 112, 79]
abbrev dktX6_lays_5 : List UInt8 := dkwX6_lays_5 ++ dktX6_lays_6
def dkwX6_lays_4 : List UInt8 := [21, 10, 42, 180, 0, 170, 112, 51, 153, 0, 7, 3, 167, 0, 4, 4, 100, 54, 9, 167, 255, 223, 42]
abbrev dktX6_lays_4 : List UInt8 := dkwX6_lays_4 ++ dktX6_lays_5
def dkwX6_lays_3 : List UInt8 := [22, 4, 22, 6, 113, 55, 4, 3, 54, 10, 21, 9, 155, 0, 34, 132, 10, 1, 21, 9, 42, 180, 0, 78]
abbrev dktX6_lays_3 : List UInt8 := dkwX6_lays_3 ++ dktX6_lays_4
def dkwX6_lays_2 : List UInt8 := [162, 0, 100, 22, 6, 42, 180, 0, 170, 21, 8, 100, 133, 109, 55, 6, 22, 4, 22, 6, 109, 136, 54, 9]
abbrev dktX6_lays_2 : List UInt8 := dkwX6_lays_2 ++ dktX6_lays_3
def dkwX6_lays_1 : List UInt8 := [180, 0, 78, 21, 8, 3, 84, 132, 8, 1, 167, 255, 236, 3, 54, 8, 21, 8, 42, 180, 0, 170]
abbrev dktX6_lays_1 : List UInt8 := dkwX6_lays_1 ++ dktX6_lays_2
def dkwX6_lays_0 : List UInt8 := [31, 55, 4, 42, 182, 0, 221, 55, 6, 3, 54, 8, 21, 8, 42, 180, 0, 170, 162, 0, 17, 42]
abbrev dktX6_lays_0 : List UInt8 := dkwX6_lays_0 ++ dktX6_lays_1
theorem dksX6_lays_0 : cX6_lays.data.toList.drop 0 = dktX6_lays_0 := by decide +kernel
theorem dksX6_lays_1 : cX6_lays.data.toList.drop 22 = dktX6_lays_1 := dk_seg dksX6_lays_0 22 rfl rfl
theorem dksX6_lays_2 : cX6_lays.data.toList.drop 44 = dktX6_lays_2 := dk_seg dksX6_lays_1 22 rfl rfl
theorem dksX6_lays_3 : cX6_lays.data.toList.drop 68 = dktX6_lays_3 := dk_seg dksX6_lays_2 24 rfl rfl
theorem dksX6_lays_4 : cX6_lays.data.toList.drop 92 = dktX6_lays_4 := dk_seg dksX6_lays_3 24 rfl rfl
theorem dksX6_lays_5 : cX6_lays.data.toList.drop 115 = dktX6_lays_5 := dk_seg dksX6_lays_4 23 rfl rfl
theorem dksX6_lays_6 : cX6_lays.data.toList.drop 138 = dktX6_lays_6 := dk_seg dksX6_lays_5 23 rfl rfl
theorem dX6_lays_0 : decode cX6_lays 0 = .ok (.lload_n 1, 1) := dk_31 (dk_at dksX6_lays_0 0 rfl rfl)
theorem dX6_lays_1 : decode cX6_lays 1 = .ok (.lstore 4, 2) := dk_55 4 (dk_at dksX6_lays_0 1 rfl rfl)
theorem dX6_lays_3 : decode cX6_lays 3 = .ok (.aload_n 0, 1) := dk_42 (dk_at dksX6_lays_0 3 rfl rfl)
theorem dX6_lays_4 : decode cX6_lays 4 = .ok (.invokevirtual 221, 3) := dk_182 0 221 (dk_at dksX6_lays_0 4 rfl rfl)
theorem dX6_lays_7 : decode cX6_lays 7 = .ok (.lstore 6, 2) := dk_55 6 (dk_at dksX6_lays_0 7 rfl rfl)
theorem dX6_lays_9 : decode cX6_lays 9 = .ok (.iconst 0, 1) := dk_3 (dk_at dksX6_lays_0 9 rfl rfl)
theorem dX6_lays_10 : decode cX6_lays 10 = .ok (.istore 8, 2) := dk_54 8 (dk_at dksX6_lays_0 10 rfl rfl)
theorem dX6_lays_12 : decode cX6_lays 12 = .ok (.iload 8, 2) := dk_21 8 (dk_at dksX6_lays_0 12 rfl rfl)
theorem dX6_lays_14 : decode cX6_lays 14 = .ok (.aload_n 0, 1) := dk_42 (dk_at dksX6_lays_0 14 rfl rfl)
theorem dX6_lays_15 : decode cX6_lays 15 = .ok (.getfield 170, 3) := dk_180 0 170 (dk_at dksX6_lays_0 15 rfl rfl)
theorem dX6_lays_18 : decode cX6_lays 18 = .ok (.if_icmp .ge 17, 3) := dk_162 0 17 (dk_at dksX6_lays_0 18 rfl rfl)
theorem dX6_lays_21 : decode cX6_lays 21 = .ok (.aload_n 0, 1) := dk_42 (dk_at dksX6_lays_0 21 rfl rfl)
theorem dX6_lays_22 : decode cX6_lays 22 = .ok (.getfield 78, 3) := dk_180 0 78 (dk_at dksX6_lays_1 0 rfl rfl)
theorem dX6_lays_25 : decode cX6_lays 25 = .ok (.iload 8, 2) := dk_21 8 (dk_at dksX6_lays_1 3 rfl rfl)
theorem dX6_lays_27 : decode cX6_lays 27 = .ok (.iconst 0, 1) := dk_3 (dk_at dksX6_lays_1 5 rfl rfl)
theorem dX6_lays_28 : decode cX6_lays 28 = .ok (.bastore, 1) := dk_84 (dk_at dksX6_lays_1 6 rfl rfl)
theorem dX6_lays_29 : decode cX6_lays 29 = .ok (.iinc 8 1, 3) := dk_132 8 1 (dk_at dksX6_lays_1 7 rfl rfl)
theorem dX6_lays_32 : decode cX6_lays 32 = .ok (.goto (-20), 3) := dk_167 255 236 (dk_at dksX6_lays_1 10 rfl rfl)
theorem dX6_lays_35 : decode cX6_lays 35 = .ok (.iconst 0, 1) := dk_3 (dk_at dksX6_lays_1 13 rfl rfl)
theorem dX6_lays_36 : decode cX6_lays 36 = .ok (.istore 8, 2) := dk_54 8 (dk_at dksX6_lays_1 14 rfl rfl)
theorem dX6_lays_38 : decode cX6_lays 38 = .ok (.iload 8, 2) := dk_21 8 (dk_at dksX6_lays_1 16 rfl rfl)
theorem dX6_lays_40 : decode cX6_lays 40 = .ok (.aload_n 0, 1) := dk_42 (dk_at dksX6_lays_1 18 rfl rfl)
theorem dX6_lays_41 : decode cX6_lays 41 = .ok (.getfield 170, 3) := dk_180 0 170 (dk_at dksX6_lays_1 19 rfl rfl)
theorem dX6_lays_44 : decode cX6_lays 44 = .ok (.if_icmp .ge 100, 3) := dk_162 0 100 (dk_at dksX6_lays_2 0 rfl rfl)
theorem dX6_lays_47 : decode cX6_lays 47 = .ok (.lload 6, 2) := dk_22 6 (dk_at dksX6_lays_2 3 rfl rfl)
theorem dX6_lays_49 : decode cX6_lays 49 = .ok (.aload_n 0, 1) := dk_42 (dk_at dksX6_lays_2 5 rfl rfl)
theorem dX6_lays_50 : decode cX6_lays 50 = .ok (.getfield 170, 3) := dk_180 0 170 (dk_at dksX6_lays_2 6 rfl rfl)
theorem dX6_lays_53 : decode cX6_lays 53 = .ok (.iload 8, 2) := dk_21 8 (dk_at dksX6_lays_2 9 rfl rfl)
theorem dX6_lays_55 : decode cX6_lays 55 = .ok (.isub, 1) := dk_100 (dk_at dksX6_lays_2 11 rfl rfl)
theorem dX6_lays_56 : decode cX6_lays 56 = .ok (.i2l, 1) := dk_133 (dk_at dksX6_lays_2 12 rfl rfl)
theorem dX6_lays_57 : decode cX6_lays 57 = .ok (.ldiv, 1) := dk_109 (dk_at dksX6_lays_2 13 rfl rfl)
theorem dX6_lays_58 : decode cX6_lays 58 = .ok (.lstore 6, 2) := dk_55 6 (dk_at dksX6_lays_2 14 rfl rfl)
theorem dX6_lays_60 : decode cX6_lays 60 = .ok (.lload 4, 2) := dk_22 4 (dk_at dksX6_lays_2 16 rfl rfl)
theorem dX6_lays_62 : decode cX6_lays 62 = .ok (.lload 6, 2) := dk_22 6 (dk_at dksX6_lays_2 18 rfl rfl)
theorem dX6_lays_64 : decode cX6_lays 64 = .ok (.ldiv, 1) := dk_109 (dk_at dksX6_lays_2 20 rfl rfl)
theorem dX6_lays_65 : decode cX6_lays 65 = .ok (.l2i, 1) := dk_136 (dk_at dksX6_lays_2 21 rfl rfl)
theorem dX6_lays_66 : decode cX6_lays 66 = .ok (.istore 9, 2) := dk_54 9 (dk_at dksX6_lays_2 22 rfl rfl)
theorem dX6_lays_68 : decode cX6_lays 68 = .ok (.lload 4, 2) := dk_22 4 (dk_at dksX6_lays_3 0 rfl rfl)
theorem dX6_lays_70 : decode cX6_lays 70 = .ok (.lload 6, 2) := dk_22 6 (dk_at dksX6_lays_3 2 rfl rfl)
theorem dX6_lays_72 : decode cX6_lays 72 = .ok (.lrem, 1) := dk_113 (dk_at dksX6_lays_3 4 rfl rfl)
theorem dX6_lays_73 : decode cX6_lays 73 = .ok (.lstore 4, 2) := dk_55 4 (dk_at dksX6_lays_3 5 rfl rfl)
theorem dX6_lays_75 : decode cX6_lays 75 = .ok (.iconst 0, 1) := dk_3 (dk_at dksX6_lays_3 7 rfl rfl)
theorem dX6_lays_76 : decode cX6_lays 76 = .ok (.istore 10, 2) := dk_54 10 (dk_at dksX6_lays_3 8 rfl rfl)
theorem dX6_lays_78 : decode cX6_lays 78 = .ok (.iload 9, 2) := dk_21 9 (dk_at dksX6_lays_3 10 rfl rfl)
theorem dX6_lays_80 : decode cX6_lays 80 = .ok (.ifCond .lt 34, 3) := dk_155 0 34 (dk_at dksX6_lays_3 12 rfl rfl)
theorem dX6_lays_83 : decode cX6_lays 83 = .ok (.iinc 10 1, 3) := dk_132 10 1 (dk_at dksX6_lays_3 15 rfl rfl)
theorem dX6_lays_86 : decode cX6_lays 86 = .ok (.iload 9, 2) := dk_21 9 (dk_at dksX6_lays_3 18 rfl rfl)
theorem dX6_lays_88 : decode cX6_lays 88 = .ok (.aload_n 0, 1) := dk_42 (dk_at dksX6_lays_3 20 rfl rfl)
theorem dX6_lays_89 : decode cX6_lays 89 = .ok (.getfield 78, 3) := dk_180 0 78 (dk_at dksX6_lays_3 21 rfl rfl)
theorem dX6_lays_92 : decode cX6_lays 92 = .ok (.iload 10, 2) := dk_21 10 (dk_at dksX6_lays_4 0 rfl rfl)
theorem dX6_lays_94 : decode cX6_lays 94 = .ok (.aload_n 0, 1) := dk_42 (dk_at dksX6_lays_4 2 rfl rfl)
theorem dX6_lays_95 : decode cX6_lays 95 = .ok (.getfield 170, 3) := dk_180 0 170 (dk_at dksX6_lays_4 3 rfl rfl)
theorem dX6_lays_98 : decode cX6_lays 98 = .ok (.irem, 1) := dk_112 (dk_at dksX6_lays_4 6 rfl rfl)
theorem dX6_lays_99 : decode cX6_lays 99 = .ok (.baload, 1) := dk_51 (dk_at dksX6_lays_4 7 rfl rfl)
theorem dX6_lays_100 : decode cX6_lays 100 = .ok (.ifCond .eq 7, 3) := dk_153 0 7 (dk_at dksX6_lays_4 8 rfl rfl)
theorem dX6_lays_103 : decode cX6_lays 103 = .ok (.iconst 0, 1) := dk_3 (dk_at dksX6_lays_4 11 rfl rfl)
theorem dX6_lays_104 : decode cX6_lays 104 = .ok (.goto 4, 3) := dk_167 0 4 (dk_at dksX6_lays_4 12 rfl rfl)
theorem dX6_lays_107 : decode cX6_lays 107 = .ok (.iconst 1, 1) := dk_4 (dk_at dksX6_lays_4 15 rfl rfl)
theorem dX6_lays_108 : decode cX6_lays 108 = .ok (.isub, 1) := dk_100 (dk_at dksX6_lays_4 16 rfl rfl)
theorem dX6_lays_109 : decode cX6_lays 109 = .ok (.istore 9, 2) := dk_54 9 (dk_at dksX6_lays_4 17 rfl rfl)
theorem dX6_lays_111 : decode cX6_lays 111 = .ok (.goto (-33), 3) := dk_167 255 223 (dk_at dksX6_lays_4 19 rfl rfl)
theorem dX6_lays_114 : decode cX6_lays 114 = .ok (.aload_n 0, 1) := dk_42 (dk_at dksX6_lays_4 22 rfl rfl)
theorem dX6_lays_115 : decode cX6_lays 115 = .ok (.getfield 78, 3) := dk_180 0 78 (dk_at dksX6_lays_5 0 rfl rfl)
theorem dX6_lays_118 : decode cX6_lays 118 = .ok (.iload 10, 2) := dk_21 10 (dk_at dksX6_lays_5 3 rfl rfl)
theorem dX6_lays_120 : decode cX6_lays 120 = .ok (.aload_n 0, 1) := dk_42 (dk_at dksX6_lays_5 5 rfl rfl)
theorem dX6_lays_121 : decode cX6_lays 121 = .ok (.getfield 170, 3) := dk_180 0 170 (dk_at dksX6_lays_5 6 rfl rfl)
theorem dX6_lays_124 : decode cX6_lays 124 = .ok (.irem, 1) := dk_112 (dk_at dksX6_lays_5 9 rfl rfl)
theorem dX6_lays_125 : decode cX6_lays 125 = .ok (.iconst 1, 1) := dk_4 (dk_at dksX6_lays_5 10 rfl rfl)
theorem dX6_lays_126 : decode cX6_lays 126 = .ok (.bastore, 1) := dk_84 (dk_at dksX6_lays_5 11 rfl rfl)
theorem dX6_lays_127 : decode cX6_lays 127 = .ok (.aload_n 3, 1) := dk_45 (dk_at dksX6_lays_5 12 rfl rfl)
theorem dX6_lays_128 : decode cX6_lays 128 = .ok (.iload 8, 2) := dk_21 8 (dk_at dksX6_lays_5 13 rfl rfl)
theorem dX6_lays_130 : decode cX6_lays 130 = .ok (.iload 10, 2) := dk_21 10 (dk_at dksX6_lays_5 15 rfl rfl)
theorem dX6_lays_132 : decode cX6_lays 132 = .ok (.aload_n 0, 1) := dk_42 (dk_at dksX6_lays_5 17 rfl rfl)
theorem dX6_lays_133 : decode cX6_lays 133 = .ok (.getfield 170, 3) := dk_180 0 170 (dk_at dksX6_lays_5 18 rfl rfl)
theorem dX6_lays_136 : decode cX6_lays 136 = .ok (.irem, 1) := dk_112 (dk_at dksX6_lays_5 21 rfl rfl)
theorem dX6_lays_137 : decode cX6_lays 137 = .ok (.iastore, 1) := dk_79 (dk_at dksX6_lays_5 22 rfl rfl)
theorem dX6_lays_138 : decode cX6_lays 138 = .ok (.iinc 8 1, 3) := dk_132 8 1 (dk_at dksX6_lays_6 0 rfl rfl)
theorem dX6_lays_141 : decode cX6_lays 141 = .ok (.goto (-103), 3) := dk_167 255 153 (dk_at dksX6_lays_6 3 rfl rfl)
theorem dX6_lays_144 : decode cX6_lays 144 = .ok (.return_, 1) := dk_177 (dk_at dksX6_lays_6 6 rfl rfl)
abbrev cX6_gapIn : ByteArray := prog_15_method_12_code
def yX6_gapIn : MethodName := ⟨RX6, "gapIn", "([I)I"⟩
def dkwX6_gapIn_0 : List UInt8 := [3, 61, 43, 28, 46, 153, 0, 9, 132, 2, 1, 167, 255, 247, 28, 172]
abbrev dktX6_gapIn_0 : List UInt8 := dkwX6_gapIn_0 ++ []
theorem dksX6_gapIn_0 : cX6_gapIn.data.toList.drop 0 = dktX6_gapIn_0 := by decide +kernel
theorem dX6_gapIn_0 : decode cX6_gapIn 0 = .ok (.iconst 0, 1) := dk_3 (dk_at dksX6_gapIn_0 0 rfl rfl)
theorem dX6_gapIn_1 : decode cX6_gapIn 1 = .ok (.istore_n 2, 1) := dk_61 (dk_at dksX6_gapIn_0 1 rfl rfl)
theorem dX6_gapIn_2 : decode cX6_gapIn 2 = .ok (.aload_n 1, 1) := dk_43 (dk_at dksX6_gapIn_0 2 rfl rfl)
theorem dX6_gapIn_3 : decode cX6_gapIn 3 = .ok (.iload_n 2, 1) := dk_28 (dk_at dksX6_gapIn_0 3 rfl rfl)
theorem dX6_gapIn_4 : decode cX6_gapIn 4 = .ok (.iaload, 1) := dk_46 (dk_at dksX6_gapIn_0 4 rfl rfl)
theorem dX6_gapIn_5 : decode cX6_gapIn 5 = .ok (.ifCond .eq 9, 3) := dk_153 0 9 (dk_at dksX6_gapIn_0 5 rfl rfl)
theorem dX6_gapIn_8 : decode cX6_gapIn 8 = .ok (.iinc 2 1, 3) := dk_132 2 1 (dk_at dksX6_gapIn_0 8 rfl rfl)
theorem dX6_gapIn_11 : decode cX6_gapIn 11 = .ok (.goto (-9), 3) := dk_167 255 247 (dk_at dksX6_gapIn_0 11 rfl rfl)
theorem dX6_gapIn_14 : decode cX6_gapIn 14 = .ok (.iload_n 2, 1) := dk_28 (dk_at dksX6_gapIn_0 14 rfl rfl)
theorem dX6_gapIn_15 : decode cX6_gapIn 15 = .ok (.ireturn, 1) := dk_172 (dk_at dksX6_gapIn_0 15 rfl rfl)
abbrev cX6_mix : ByteArray := prog_15_method_35_code
def yX6_mix : MethodName := ⟨RX6, "mix", "(II)I"⟩
def dkwX6_mix_7 : List UInt8 := [181, 0, 184, 42, 42, 180, 0, 7, 42, 42, 180, 0, 33, 182, 0, 242, 46, 182, 0, 215, 172]
abbrev dktX6_mix_7 : List UInt8 := dkwX6_mix_7 ++ []
def dkwX6_mix_6 : List UInt8 := [167, 255, 222, 42, 42, 180, 0, 33, 21, 8, 182, 1, 14, 54, 9, 132, 4, 1, 167, 255, 122, 42, 3]
abbrev dktX6_mix_6 : List UInt8 := dkwX6_mix_6 ++ dktX6_mix_7
def dkwX6_mix_5 : List UInt8 := [180, 0, 16, 7, 21, 5, 104, 21, 8, 96, 46, 2, 160, 0, 7, 3, 167, 0, 4, 4, 100, 54, 7]
abbrev dktX6_mix_5 : List UInt8 := dkwX6_mix_5 ++ dktX6_mix_6
def dkwX6_mix_4 : List UInt8 := [16, 16, 124, 21, 6, 112, 54, 7, 2, 54, 8, 21, 7, 155, 0, 35, 132, 8, 1, 21, 7, 42]
abbrev dktX6_mix_4 : List UInt8 := dkwX6_mix_4 ++ dktX6_mix_5
def dkwX6_mix_3 : List UInt8 := [167, 0, 4, 4, 96, 54, 6, 132, 7, 1, 167, 255, 221, 29, 19, 1, 13, 104, 17, 48, 57, 96, 62, 29]
abbrev dktX6_mix_3 : List UInt8 := dkwX6_mix_3 ++ dktX6_mix_4
def dkwX6_mix_2 : List UInt8 := [162, 0, 35, 21, 6, 42, 180, 0, 16, 7, 21, 5, 104, 21, 7, 96, 46, 2, 160, 0, 7, 3]
abbrev dktX6_mix_2 : List UInt8 := dkwX6_mix_2 ++ dktX6_mix_3
def dkwX6_mix_1 : List UInt8 := [28, 162, 0, 134, 42, 42, 180, 0, 33, 182, 0, 242, 54, 5, 3, 54, 6, 3, 54, 7, 21, 7, 7]
abbrev dktX6_mix_1 : List UInt8 := dkwX6_mix_1 ++ dktX6_mix_2
def dkwX6_mix_0 : List UInt8 := [28, 3, 17, 0, 200, 184, 0, 200, 154, 0, 9, 42, 4, 182, 0, 204, 172, 27, 62, 3, 54, 4, 21, 4]
abbrev dktX6_mix_0 : List UInt8 := dkwX6_mix_0 ++ dktX6_mix_1
theorem dksX6_mix_0 : cX6_mix.data.toList.drop 0 = dktX6_mix_0 := by decide +kernel
theorem dksX6_mix_1 : cX6_mix.data.toList.drop 24 = dktX6_mix_1 := dk_seg dksX6_mix_0 24 rfl rfl
theorem dksX6_mix_2 : cX6_mix.data.toList.drop 47 = dktX6_mix_2 := dk_seg dksX6_mix_1 23 rfl rfl
theorem dksX6_mix_3 : cX6_mix.data.toList.drop 69 = dktX6_mix_3 := dk_seg dksX6_mix_2 22 rfl rfl
theorem dksX6_mix_4 : cX6_mix.data.toList.drop 93 = dktX6_mix_4 := dk_seg dksX6_mix_3 24 rfl rfl
theorem dksX6_mix_5 : cX6_mix.data.toList.drop 115 = dktX6_mix_5 := dk_seg dksX6_mix_4 22 rfl rfl
theorem dksX6_mix_6 : cX6_mix.data.toList.drop 138 = dktX6_mix_6 := dk_seg dksX6_mix_5 23 rfl rfl
theorem dksX6_mix_7 : cX6_mix.data.toList.drop 161 = dktX6_mix_7 := dk_seg dksX6_mix_6 23 rfl rfl
theorem dX6_mix_0 : decode cX6_mix 0 = .ok (.iload_n 2, 1) := dk_28 (dk_at dksX6_mix_0 0 rfl rfl)
theorem dX6_mix_1 : decode cX6_mix 1 = .ok (.iconst 0, 1) := dk_3 (dk_at dksX6_mix_0 1 rfl rfl)
theorem dX6_mix_2 : decode cX6_mix 2 = .ok (.sipush 200, 3) := dk_17 0 200 (dk_at dksX6_mix_0 2 rfl rfl)
theorem dX6_mix_5 : decode cX6_mix 5 = .ok (.invokestatic 200, 3) := dk_184 0 200 (dk_at dksX6_mix_0 5 rfl rfl)
theorem dX6_mix_8 : decode cX6_mix 8 = .ok (.ifCond .ne 9, 3) := dk_154 0 9 (dk_at dksX6_mix_0 8 rfl rfl)
theorem dX6_mix_11 : decode cX6_mix 11 = .ok (.aload_n 0, 1) := dk_42 (dk_at dksX6_mix_0 11 rfl rfl)
theorem dX6_mix_12 : decode cX6_mix 12 = .ok (.iconst 1, 1) := dk_4 (dk_at dksX6_mix_0 12 rfl rfl)
theorem dX6_mix_13 : decode cX6_mix 13 = .ok (.invokevirtual 204, 3) := dk_182 0 204 (dk_at dksX6_mix_0 13 rfl rfl)
theorem dX6_mix_16 : decode cX6_mix 16 = .ok (.ireturn, 1) := dk_172 (dk_at dksX6_mix_0 16 rfl rfl)
theorem dX6_mix_17 : decode cX6_mix 17 = .ok (.iload_n 1, 1) := dk_27 (dk_at dksX6_mix_0 17 rfl rfl)
theorem dX6_mix_18 : decode cX6_mix 18 = .ok (.istore_n 3, 1) := dk_62 (dk_at dksX6_mix_0 18 rfl rfl)
theorem dX6_mix_19 : decode cX6_mix 19 = .ok (.iconst 0, 1) := dk_3 (dk_at dksX6_mix_0 19 rfl rfl)
theorem dX6_mix_20 : decode cX6_mix 20 = .ok (.istore 4, 2) := dk_54 4 (dk_at dksX6_mix_0 20 rfl rfl)
theorem dX6_mix_22 : decode cX6_mix 22 = .ok (.iload 4, 2) := dk_21 4 (dk_at dksX6_mix_0 22 rfl rfl)
theorem dX6_mix_24 : decode cX6_mix 24 = .ok (.iload_n 2, 1) := dk_28 (dk_at dksX6_mix_1 0 rfl rfl)
theorem dX6_mix_25 : decode cX6_mix 25 = .ok (.if_icmp .ge 134, 3) := dk_162 0 134 (dk_at dksX6_mix_1 1 rfl rfl)
theorem dX6_mix_28 : decode cX6_mix 28 = .ok (.aload_n 0, 1) := dk_42 (dk_at dksX6_mix_1 4 rfl rfl)
theorem dX6_mix_29 : decode cX6_mix 29 = .ok (.aload_n 0, 1) := dk_42 (dk_at dksX6_mix_1 5 rfl rfl)
theorem dX6_mix_30 : decode cX6_mix 30 = .ok (.getfield 33, 3) := dk_180 0 33 (dk_at dksX6_mix_1 6 rfl rfl)
theorem dX6_mix_33 : decode cX6_mix 33 = .ok (.invokevirtual 242, 3) := dk_182 0 242 (dk_at dksX6_mix_1 9 rfl rfl)
theorem dX6_mix_36 : decode cX6_mix 36 = .ok (.istore 5, 2) := dk_54 5 (dk_at dksX6_mix_1 12 rfl rfl)
theorem dX6_mix_38 : decode cX6_mix 38 = .ok (.iconst 0, 1) := dk_3 (dk_at dksX6_mix_1 14 rfl rfl)
theorem dX6_mix_39 : decode cX6_mix 39 = .ok (.istore 6, 2) := dk_54 6 (dk_at dksX6_mix_1 15 rfl rfl)
theorem dX6_mix_41 : decode cX6_mix 41 = .ok (.iconst 0, 1) := dk_3 (dk_at dksX6_mix_1 17 rfl rfl)
theorem dX6_mix_42 : decode cX6_mix 42 = .ok (.istore 7, 2) := dk_54 7 (dk_at dksX6_mix_1 18 rfl rfl)
theorem dX6_mix_44 : decode cX6_mix 44 = .ok (.iload 7, 2) := dk_21 7 (dk_at dksX6_mix_1 20 rfl rfl)
theorem dX6_mix_46 : decode cX6_mix 46 = .ok (.iconst 4, 1) := dk_7 (dk_at dksX6_mix_1 22 rfl rfl)
theorem dX6_mix_47 : decode cX6_mix 47 = .ok (.if_icmp .ge 35, 3) := dk_162 0 35 (dk_at dksX6_mix_2 0 rfl rfl)
theorem dX6_mix_50 : decode cX6_mix 50 = .ok (.iload 6, 2) := dk_21 6 (dk_at dksX6_mix_2 3 rfl rfl)
theorem dX6_mix_52 : decode cX6_mix 52 = .ok (.aload_n 0, 1) := dk_42 (dk_at dksX6_mix_2 5 rfl rfl)
theorem dX6_mix_53 : decode cX6_mix 53 = .ok (.getfield 16, 3) := dk_180 0 16 (dk_at dksX6_mix_2 6 rfl rfl)
theorem dX6_mix_56 : decode cX6_mix 56 = .ok (.iconst 4, 1) := dk_7 (dk_at dksX6_mix_2 9 rfl rfl)
theorem dX6_mix_57 : decode cX6_mix 57 = .ok (.iload 5, 2) := dk_21 5 (dk_at dksX6_mix_2 10 rfl rfl)
theorem dX6_mix_59 : decode cX6_mix 59 = .ok (.imul, 1) := dk_104 (dk_at dksX6_mix_2 12 rfl rfl)
theorem dX6_mix_60 : decode cX6_mix 60 = .ok (.iload 7, 2) := dk_21 7 (dk_at dksX6_mix_2 13 rfl rfl)
theorem dX6_mix_62 : decode cX6_mix 62 = .ok (.iadd, 1) := dk_96 (dk_at dksX6_mix_2 15 rfl rfl)
theorem dX6_mix_63 : decode cX6_mix 63 = .ok (.iaload, 1) := dk_46 (dk_at dksX6_mix_2 16 rfl rfl)
theorem dX6_mix_64 : decode cX6_mix 64 = .ok (.iconst (-1), 1) := dk_2 (dk_at dksX6_mix_2 17 rfl rfl)
theorem dX6_mix_65 : decode cX6_mix 65 = .ok (.if_icmp .ne 7, 3) := dk_160 0 7 (dk_at dksX6_mix_2 18 rfl rfl)
theorem dX6_mix_68 : decode cX6_mix 68 = .ok (.iconst 0, 1) := dk_3 (dk_at dksX6_mix_2 21 rfl rfl)
theorem dX6_mix_69 : decode cX6_mix 69 = .ok (.goto 4, 3) := dk_167 0 4 (dk_at dksX6_mix_3 0 rfl rfl)
theorem dX6_mix_72 : decode cX6_mix 72 = .ok (.iconst 1, 1) := dk_4 (dk_at dksX6_mix_3 3 rfl rfl)
theorem dX6_mix_73 : decode cX6_mix 73 = .ok (.iadd, 1) := dk_96 (dk_at dksX6_mix_3 4 rfl rfl)
theorem dX6_mix_74 : decode cX6_mix 74 = .ok (.istore 6, 2) := dk_54 6 (dk_at dksX6_mix_3 5 rfl rfl)
theorem dX6_mix_76 : decode cX6_mix 76 = .ok (.iinc 7 1, 3) := dk_132 7 1 (dk_at dksX6_mix_3 7 rfl rfl)
theorem dX6_mix_79 : decode cX6_mix 79 = .ok (.goto (-35), 3) := dk_167 255 221 (dk_at dksX6_mix_3 10 rfl rfl)
theorem dX6_mix_82 : decode cX6_mix 82 = .ok (.iload_n 3, 1) := dk_29 (dk_at dksX6_mix_3 13 rfl rfl)
theorem dX6_mix_83 : decode cX6_mix 83 = .ok (.ldc_w 269, 3) := dk_19 1 13 (dk_at dksX6_mix_3 14 rfl rfl)
theorem dX6_mix_86 : decode cX6_mix 86 = .ok (.imul, 1) := dk_104 (dk_at dksX6_mix_3 17 rfl rfl)
theorem dX6_mix_87 : decode cX6_mix 87 = .ok (.sipush 12345, 3) := dk_17 48 57 (dk_at dksX6_mix_3 18 rfl rfl)
theorem dX6_mix_90 : decode cX6_mix 90 = .ok (.iadd, 1) := dk_96 (dk_at dksX6_mix_3 21 rfl rfl)
theorem dX6_mix_91 : decode cX6_mix 91 = .ok (.istore_n 3, 1) := dk_62 (dk_at dksX6_mix_3 22 rfl rfl)
theorem dX6_mix_92 : decode cX6_mix 92 = .ok (.iload_n 3, 1) := dk_29 (dk_at dksX6_mix_3 23 rfl rfl)
theorem dX6_mix_93 : decode cX6_mix 93 = .ok (.bipush 16, 2) := dk_16 16 (dk_at dksX6_mix_4 0 rfl rfl)
theorem dX6_mix_95 : decode cX6_mix 95 = .ok (.iushr, 1) := dk_124 (dk_at dksX6_mix_4 2 rfl rfl)
theorem dX6_mix_96 : decode cX6_mix 96 = .ok (.iload 6, 2) := dk_21 6 (dk_at dksX6_mix_4 3 rfl rfl)
theorem dX6_mix_98 : decode cX6_mix 98 = .ok (.irem, 1) := dk_112 (dk_at dksX6_mix_4 5 rfl rfl)
theorem dX6_mix_99 : decode cX6_mix 99 = .ok (.istore 7, 2) := dk_54 7 (dk_at dksX6_mix_4 6 rfl rfl)
theorem dX6_mix_101 : decode cX6_mix 101 = .ok (.iconst (-1), 1) := dk_2 (dk_at dksX6_mix_4 8 rfl rfl)
theorem dX6_mix_102 : decode cX6_mix 102 = .ok (.istore 8, 2) := dk_54 8 (dk_at dksX6_mix_4 9 rfl rfl)
theorem dX6_mix_104 : decode cX6_mix 104 = .ok (.iload 7, 2) := dk_21 7 (dk_at dksX6_mix_4 11 rfl rfl)
theorem dX6_mix_106 : decode cX6_mix 106 = .ok (.ifCond .lt 35, 3) := dk_155 0 35 (dk_at dksX6_mix_4 13 rfl rfl)
theorem dX6_mix_109 : decode cX6_mix 109 = .ok (.iinc 8 1, 3) := dk_132 8 1 (dk_at dksX6_mix_4 16 rfl rfl)
theorem dX6_mix_112 : decode cX6_mix 112 = .ok (.iload 7, 2) := dk_21 7 (dk_at dksX6_mix_4 19 rfl rfl)
theorem dX6_mix_114 : decode cX6_mix 114 = .ok (.aload_n 0, 1) := dk_42 (dk_at dksX6_mix_4 21 rfl rfl)
theorem dX6_mix_115 : decode cX6_mix 115 = .ok (.getfield 16, 3) := dk_180 0 16 (dk_at dksX6_mix_5 0 rfl rfl)
theorem dX6_mix_118 : decode cX6_mix 118 = .ok (.iconst 4, 1) := dk_7 (dk_at dksX6_mix_5 3 rfl rfl)
theorem dX6_mix_119 : decode cX6_mix 119 = .ok (.iload 5, 2) := dk_21 5 (dk_at dksX6_mix_5 4 rfl rfl)
theorem dX6_mix_121 : decode cX6_mix 121 = .ok (.imul, 1) := dk_104 (dk_at dksX6_mix_5 6 rfl rfl)
theorem dX6_mix_122 : decode cX6_mix 122 = .ok (.iload 8, 2) := dk_21 8 (dk_at dksX6_mix_5 7 rfl rfl)
theorem dX6_mix_124 : decode cX6_mix 124 = .ok (.iadd, 1) := dk_96 (dk_at dksX6_mix_5 9 rfl rfl)
theorem dX6_mix_125 : decode cX6_mix 125 = .ok (.iaload, 1) := dk_46 (dk_at dksX6_mix_5 10 rfl rfl)
theorem dX6_mix_126 : decode cX6_mix 126 = .ok (.iconst (-1), 1) := dk_2 (dk_at dksX6_mix_5 11 rfl rfl)
theorem dX6_mix_127 : decode cX6_mix 127 = .ok (.if_icmp .ne 7, 3) := dk_160 0 7 (dk_at dksX6_mix_5 12 rfl rfl)
theorem dX6_mix_130 : decode cX6_mix 130 = .ok (.iconst 0, 1) := dk_3 (dk_at dksX6_mix_5 15 rfl rfl)
theorem dX6_mix_131 : decode cX6_mix 131 = .ok (.goto 4, 3) := dk_167 0 4 (dk_at dksX6_mix_5 16 rfl rfl)
theorem dX6_mix_134 : decode cX6_mix 134 = .ok (.iconst 1, 1) := dk_4 (dk_at dksX6_mix_5 19 rfl rfl)
theorem dX6_mix_135 : decode cX6_mix 135 = .ok (.isub, 1) := dk_100 (dk_at dksX6_mix_5 20 rfl rfl)
theorem dX6_mix_136 : decode cX6_mix 136 = .ok (.istore 7, 2) := dk_54 7 (dk_at dksX6_mix_5 21 rfl rfl)
theorem dX6_mix_138 : decode cX6_mix 138 = .ok (.goto (-34), 3) := dk_167 255 222 (dk_at dksX6_mix_6 0 rfl rfl)
theorem dX6_mix_141 : decode cX6_mix 141 = .ok (.aload_n 0, 1) := dk_42 (dk_at dksX6_mix_6 3 rfl rfl)
theorem dX6_mix_142 : decode cX6_mix 142 = .ok (.aload_n 0, 1) := dk_42 (dk_at dksX6_mix_6 4 rfl rfl)
theorem dX6_mix_143 : decode cX6_mix 143 = .ok (.getfield 33, 3) := dk_180 0 33 (dk_at dksX6_mix_6 5 rfl rfl)
theorem dX6_mix_146 : decode cX6_mix 146 = .ok (.iload 8, 2) := dk_21 8 (dk_at dksX6_mix_6 8 rfl rfl)
theorem dX6_mix_148 : decode cX6_mix 148 = .ok (.invokevirtual 270, 3) := dk_182 1 14 (dk_at dksX6_mix_6 10 rfl rfl)
theorem dX6_mix_151 : decode cX6_mix 151 = .ok (.istore 9, 2) := dk_54 9 (dk_at dksX6_mix_6 13 rfl rfl)
theorem dX6_mix_153 : decode cX6_mix 153 = .ok (.iinc 4 1, 3) := dk_132 4 1 (dk_at dksX6_mix_6 15 rfl rfl)
theorem dX6_mix_156 : decode cX6_mix 156 = .ok (.goto (-134), 3) := dk_167 255 122 (dk_at dksX6_mix_6 18 rfl rfl)
theorem dX6_mix_159 : decode cX6_mix 159 = .ok (.aload_n 0, 1) := dk_42 (dk_at dksX6_mix_6 21 rfl rfl)
theorem dX6_mix_160 : decode cX6_mix 160 = .ok (.iconst 0, 1) := dk_3 (dk_at dksX6_mix_6 22 rfl rfl)
theorem dX6_mix_161 : decode cX6_mix 161 = .ok (.putfield 184, 3) := dk_181 0 184 (dk_at dksX6_mix_7 0 rfl rfl)
theorem dX6_mix_164 : decode cX6_mix 164 = .ok (.aload_n 0, 1) := dk_42 (dk_at dksX6_mix_7 3 rfl rfl)
theorem dX6_mix_165 : decode cX6_mix 165 = .ok (.aload_n 0, 1) := dk_42 (dk_at dksX6_mix_7 4 rfl rfl)
theorem dX6_mix_166 : decode cX6_mix 166 = .ok (.getfield 7, 3) := dk_180 0 7 (dk_at dksX6_mix_7 5 rfl rfl)
theorem dX6_mix_169 : decode cX6_mix 169 = .ok (.aload_n 0, 1) := dk_42 (dk_at dksX6_mix_7 8 rfl rfl)
theorem dX6_mix_170 : decode cX6_mix 170 = .ok (.aload_n 0, 1) := dk_42 (dk_at dksX6_mix_7 9 rfl rfl)
theorem dX6_mix_171 : decode cX6_mix 171 = .ok (.getfield 33, 3) := dk_180 0 33 (dk_at dksX6_mix_7 10 rfl rfl)
theorem dX6_mix_174 : decode cX6_mix 174 = .ok (.invokevirtual 242, 3) := dk_182 0 242 (dk_at dksX6_mix_7 13 rfl rfl)
theorem dX6_mix_177 : decode cX6_mix 177 = .ok (.iaload, 1) := dk_46 (dk_at dksX6_mix_7 16 rfl rfl)
theorem dX6_mix_178 : decode cX6_mix 178 = .ok (.invokevirtual 215, 3) := dk_182 0 215 (dk_at dksX6_mix_7 17 rfl rfl)
theorem dX6_mix_181 : decode cX6_mix 181 = .ok (.ireturn, 1) := dk_172 (dk_at dksX6_mix_7 20 rfl rfl)
abbrev cX6_goes : ByteArray := prog_15_method_33_code
def yX6_goes : MethodName := ⟨RX6, "goes", "([II)I"⟩
def dkwX6_goes_2 : List UInt8 := [46, 172]
abbrev dktX6_goes_2 : List UInt8 := dkwX6_goes_2 ++ []
def dkwX6_goes_1 : List UInt8 := [2, 172, 43, 21, 4, 46, 54, 5, 43, 29, 21, 5, 79, 43, 21, 4, 3, 79, 42, 180, 0, 39, 21, 5]
abbrev dktX6_goes_1 : List UInt8 := dkwX6_goes_1 ++ dktX6_goes_2
def dkwX6_goes_0 : List UInt8 := [42, 43, 182, 0, 242, 62, 42, 180, 0, 16, 7, 29, 104, 28, 96, 46, 54, 4, 21, 4, 2, 160, 0, 5]
abbrev dktX6_goes_0 : List UInt8 := dkwX6_goes_0 ++ dktX6_goes_1
theorem dksX6_goes_0 : cX6_goes.data.toList.drop 0 = dktX6_goes_0 := by decide +kernel
theorem dksX6_goes_1 : cX6_goes.data.toList.drop 24 = dktX6_goes_1 := dk_seg dksX6_goes_0 24 rfl rfl
theorem dksX6_goes_2 : cX6_goes.data.toList.drop 48 = dktX6_goes_2 := dk_seg dksX6_goes_1 24 rfl rfl
theorem dX6_goes_0 : decode cX6_goes 0 = .ok (.aload_n 0, 1) := dk_42 (dk_at dksX6_goes_0 0 rfl rfl)
theorem dX6_goes_1 : decode cX6_goes 1 = .ok (.aload_n 1, 1) := dk_43 (dk_at dksX6_goes_0 1 rfl rfl)
theorem dX6_goes_2 : decode cX6_goes 2 = .ok (.invokevirtual 242, 3) := dk_182 0 242 (dk_at dksX6_goes_0 2 rfl rfl)
theorem dX6_goes_5 : decode cX6_goes 5 = .ok (.istore_n 3, 1) := dk_62 (dk_at dksX6_goes_0 5 rfl rfl)
theorem dX6_goes_6 : decode cX6_goes 6 = .ok (.aload_n 0, 1) := dk_42 (dk_at dksX6_goes_0 6 rfl rfl)
theorem dX6_goes_7 : decode cX6_goes 7 = .ok (.getfield 16, 3) := dk_180 0 16 (dk_at dksX6_goes_0 7 rfl rfl)
theorem dX6_goes_10 : decode cX6_goes 10 = .ok (.iconst 4, 1) := dk_7 (dk_at dksX6_goes_0 10 rfl rfl)
theorem dX6_goes_11 : decode cX6_goes 11 = .ok (.iload_n 3, 1) := dk_29 (dk_at dksX6_goes_0 11 rfl rfl)
theorem dX6_goes_12 : decode cX6_goes 12 = .ok (.imul, 1) := dk_104 (dk_at dksX6_goes_0 12 rfl rfl)
theorem dX6_goes_13 : decode cX6_goes 13 = .ok (.iload_n 2, 1) := dk_28 (dk_at dksX6_goes_0 13 rfl rfl)
theorem dX6_goes_14 : decode cX6_goes 14 = .ok (.iadd, 1) := dk_96 (dk_at dksX6_goes_0 14 rfl rfl)
theorem dX6_goes_15 : decode cX6_goes 15 = .ok (.iaload, 1) := dk_46 (dk_at dksX6_goes_0 15 rfl rfl)
theorem dX6_goes_16 : decode cX6_goes 16 = .ok (.istore 4, 2) := dk_54 4 (dk_at dksX6_goes_0 16 rfl rfl)
theorem dX6_goes_18 : decode cX6_goes 18 = .ok (.iload 4, 2) := dk_21 4 (dk_at dksX6_goes_0 18 rfl rfl)
theorem dX6_goes_20 : decode cX6_goes 20 = .ok (.iconst (-1), 1) := dk_2 (dk_at dksX6_goes_0 20 rfl rfl)
theorem dX6_goes_21 : decode cX6_goes 21 = .ok (.if_icmp .ne 5, 3) := dk_160 0 5 (dk_at dksX6_goes_0 21 rfl rfl)
theorem dX6_goes_24 : decode cX6_goes 24 = .ok (.iconst (-1), 1) := dk_2 (dk_at dksX6_goes_1 0 rfl rfl)
theorem dX6_goes_25 : decode cX6_goes 25 = .ok (.ireturn, 1) := dk_172 (dk_at dksX6_goes_1 1 rfl rfl)
theorem dX6_goes_26 : decode cX6_goes 26 = .ok (.aload_n 1, 1) := dk_43 (dk_at dksX6_goes_1 2 rfl rfl)
theorem dX6_goes_27 : decode cX6_goes 27 = .ok (.iload 4, 2) := dk_21 4 (dk_at dksX6_goes_1 3 rfl rfl)
theorem dX6_goes_29 : decode cX6_goes 29 = .ok (.iaload, 1) := dk_46 (dk_at dksX6_goes_1 5 rfl rfl)
theorem dX6_goes_30 : decode cX6_goes 30 = .ok (.istore 5, 2) := dk_54 5 (dk_at dksX6_goes_1 6 rfl rfl)
theorem dX6_goes_32 : decode cX6_goes 32 = .ok (.aload_n 1, 1) := dk_43 (dk_at dksX6_goes_1 8 rfl rfl)
theorem dX6_goes_33 : decode cX6_goes 33 = .ok (.iload_n 3, 1) := dk_29 (dk_at dksX6_goes_1 9 rfl rfl)
theorem dX6_goes_34 : decode cX6_goes 34 = .ok (.iload 5, 2) := dk_21 5 (dk_at dksX6_goes_1 10 rfl rfl)
theorem dX6_goes_36 : decode cX6_goes 36 = .ok (.iastore, 1) := dk_79 (dk_at dksX6_goes_1 12 rfl rfl)
theorem dX6_goes_37 : decode cX6_goes 37 = .ok (.aload_n 1, 1) := dk_43 (dk_at dksX6_goes_1 13 rfl rfl)
theorem dX6_goes_38 : decode cX6_goes 38 = .ok (.iload 4, 2) := dk_21 4 (dk_at dksX6_goes_1 14 rfl rfl)
theorem dX6_goes_40 : decode cX6_goes 40 = .ok (.iconst 0, 1) := dk_3 (dk_at dksX6_goes_1 16 rfl rfl)
theorem dX6_goes_41 : decode cX6_goes 41 = .ok (.iastore, 1) := dk_79 (dk_at dksX6_goes_1 17 rfl rfl)
theorem dX6_goes_42 : decode cX6_goes 42 = .ok (.aload_n 0, 1) := dk_42 (dk_at dksX6_goes_1 18 rfl rfl)
theorem dX6_goes_43 : decode cX6_goes 43 = .ok (.getfield 39, 3) := dk_180 0 39 (dk_at dksX6_goes_1 19 rfl rfl)
theorem dX6_goes_46 : decode cX6_goes 46 = .ok (.iload 5, 2) := dk_21 5 (dk_at dksX6_goes_1 22 rfl rfl)
theorem dX6_goes_48 : decode cX6_goes 48 = .ok (.iaload, 1) := dk_46 (dk_at dksX6_goes_2 0 rfl rfl)
theorem dX6_goes_49 : decode cX6_goes 49 = .ok (.ireturn, 1) := dk_172 (dk_at dksX6_goes_2 1 rfl rfl)
abbrev cX6_setGoal : ByteArray := prog_15_method_36_code
def yX6_setGoal : MethodName := ⟨RX6, "setGoal", "()J"⟩
def dkwX6_setGoal_1 : List UInt8 := [46, 27, 79, 132, 1, 1, 167, 255, 233, 42, 3, 181, 0, 181, 42, 42, 180, 0, 33, 182, 1, 18, 173]
abbrev dktX6_setGoal_1 : List UInt8 := dkwX6_setGoal_1 ++ []
def dkwX6_setGoal_0 : List UInt8 := [42, 3, 181, 0, 167, 3, 60, 27, 42, 180, 0, 170, 162, 0, 21, 42, 180, 0, 36, 42, 180, 0, 33, 27]
abbrev dktX6_setGoal_0 : List UInt8 := dkwX6_setGoal_0 ++ dktX6_setGoal_1
theorem dksX6_setGoal_0 : cX6_setGoal.data.toList.drop 0 = dktX6_setGoal_0 := by decide +kernel
theorem dksX6_setGoal_1 : cX6_setGoal.data.toList.drop 24 = dktX6_setGoal_1 := dk_seg dksX6_setGoal_0 24 rfl rfl
theorem dX6_setGoal_0 : decode cX6_setGoal 0 = .ok (.aload_n 0, 1) := dk_42 (dk_at dksX6_setGoal_0 0 rfl rfl)
theorem dX6_setGoal_1 : decode cX6_setGoal 1 = .ok (.iconst 0, 1) := dk_3 (dk_at dksX6_setGoal_0 1 rfl rfl)
theorem dX6_setGoal_2 : decode cX6_setGoal 2 = .ok (.putfield 167, 3) := dk_181 0 167 (dk_at dksX6_setGoal_0 2 rfl rfl)
theorem dX6_setGoal_5 : decode cX6_setGoal 5 = .ok (.iconst 0, 1) := dk_3 (dk_at dksX6_setGoal_0 5 rfl rfl)
theorem dX6_setGoal_6 : decode cX6_setGoal 6 = .ok (.istore_n 1, 1) := dk_60 (dk_at dksX6_setGoal_0 6 rfl rfl)
theorem dX6_setGoal_7 : decode cX6_setGoal 7 = .ok (.iload_n 1, 1) := dk_27 (dk_at dksX6_setGoal_0 7 rfl rfl)
theorem dX6_setGoal_8 : decode cX6_setGoal 8 = .ok (.aload_n 0, 1) := dk_42 (dk_at dksX6_setGoal_0 8 rfl rfl)
theorem dX6_setGoal_9 : decode cX6_setGoal 9 = .ok (.getfield 170, 3) := dk_180 0 170 (dk_at dksX6_setGoal_0 9 rfl rfl)
theorem dX6_setGoal_12 : decode cX6_setGoal 12 = .ok (.if_icmp .ge 21, 3) := dk_162 0 21 (dk_at dksX6_setGoal_0 12 rfl rfl)
theorem dX6_setGoal_15 : decode cX6_setGoal 15 = .ok (.aload_n 0, 1) := dk_42 (dk_at dksX6_setGoal_0 15 rfl rfl)
theorem dX6_setGoal_16 : decode cX6_setGoal 16 = .ok (.getfield 36, 3) := dk_180 0 36 (dk_at dksX6_setGoal_0 16 rfl rfl)
theorem dX6_setGoal_19 : decode cX6_setGoal 19 = .ok (.aload_n 0, 1) := dk_42 (dk_at dksX6_setGoal_0 19 rfl rfl)
theorem dX6_setGoal_20 : decode cX6_setGoal 20 = .ok (.getfield 33, 3) := dk_180 0 33 (dk_at dksX6_setGoal_0 20 rfl rfl)
theorem dX6_setGoal_23 : decode cX6_setGoal 23 = .ok (.iload_n 1, 1) := dk_27 (dk_at dksX6_setGoal_0 23 rfl rfl)
theorem dX6_setGoal_24 : decode cX6_setGoal 24 = .ok (.iaload, 1) := dk_46 (dk_at dksX6_setGoal_1 0 rfl rfl)
theorem dX6_setGoal_25 : decode cX6_setGoal 25 = .ok (.iload_n 1, 1) := dk_27 (dk_at dksX6_setGoal_1 1 rfl rfl)
theorem dX6_setGoal_26 : decode cX6_setGoal 26 = .ok (.iastore, 1) := dk_79 (dk_at dksX6_setGoal_1 2 rfl rfl)
theorem dX6_setGoal_27 : decode cX6_setGoal 27 = .ok (.iinc 1 1, 3) := dk_132 1 1 (dk_at dksX6_setGoal_1 3 rfl rfl)
theorem dX6_setGoal_30 : decode cX6_setGoal 30 = .ok (.goto (-23), 3) := dk_167 255 233 (dk_at dksX6_setGoal_1 6 rfl rfl)
theorem dX6_setGoal_33 : decode cX6_setGoal 33 = .ok (.aload_n 0, 1) := dk_42 (dk_at dksX6_setGoal_1 9 rfl rfl)
theorem dX6_setGoal_34 : decode cX6_setGoal 34 = .ok (.iconst 0, 1) := dk_3 (dk_at dksX6_setGoal_1 10 rfl rfl)
theorem dX6_setGoal_35 : decode cX6_setGoal 35 = .ok (.putfield 181, 3) := dk_181 0 181 (dk_at dksX6_setGoal_1 11 rfl rfl)
theorem dX6_setGoal_38 : decode cX6_setGoal 38 = .ok (.aload_n 0, 1) := dk_42 (dk_at dksX6_setGoal_1 14 rfl rfl)
theorem dX6_setGoal_39 : decode cX6_setGoal 39 = .ok (.aload_n 0, 1) := dk_42 (dk_at dksX6_setGoal_1 15 rfl rfl)
theorem dX6_setGoal_40 : decode cX6_setGoal 40 = .ok (.getfield 33, 3) := dk_180 0 33 (dk_at dksX6_setGoal_1 16 rfl rfl)
theorem dX6_setGoal_43 : decode cX6_setGoal 43 = .ok (.invokevirtual 274, 3) := dk_182 1 18 (dk_at dksX6_setGoal_1 19 rfl rfl)
theorem dX6_setGoal_46 : decode cX6_setGoal 46 = .ok (.lreturn, 1) := dk_173 (dk_at dksX6_setGoal_1 22 rfl rfl)
abbrev cX6_rankOf : ByteArray := prog_15_method_16_code
def yX6_rankOf : MethodName := ⟨RX6, "rankOf", "([I)J"⟩
def dkwX6_rankOf_3 : List UInt8 := [180, 0, 170, 21, 4, 100, 133, 105, 21, 5, 133, 97, 65, 132, 4, 1, 167, 255, 176, 32, 173]
abbrev dktX6_rankOf_3 : List UInt8 := dkwX6_rankOf_3 ++ []
def dkwX6_rankOf_2 : List UInt8 := [182, 0, 218, 162, 0, 7, 4, 167, 0, 4, 3, 96, 54, 5, 132, 6, 1, 167, 255, 215, 32, 42]
abbrev dktX6_rankOf_2 : List UInt8 := dkwX6_rankOf_2 ++ dktX6_rankOf_3
def dkwX6_rankOf_1 : List UInt8 := [21, 6, 42, 180, 0, 170, 162, 0, 38, 21, 5, 42, 43, 21, 6, 46, 182, 0, 218, 42, 43, 21, 4, 46]
abbrev dktX6_rankOf_1 : List UInt8 := dkwX6_rankOf_1 ++ dktX6_rankOf_2
def dkwX6_rankOf_0 : List UInt8 := [9, 65, 3, 54, 4, 21, 4, 42, 180, 0, 170, 162, 0, 77, 3, 54, 5, 21, 4, 4, 96, 54, 6]
abbrev dktX6_rankOf_0 : List UInt8 := dkwX6_rankOf_0 ++ dktX6_rankOf_1
theorem dksX6_rankOf_0 : cX6_rankOf.data.toList.drop 0 = dktX6_rankOf_0 := by decide +kernel
theorem dksX6_rankOf_1 : cX6_rankOf.data.toList.drop 23 = dktX6_rankOf_1 := dk_seg dksX6_rankOf_0 23 rfl rfl
theorem dksX6_rankOf_2 : cX6_rankOf.data.toList.drop 47 = dktX6_rankOf_2 := dk_seg dksX6_rankOf_1 24 rfl rfl
theorem dksX6_rankOf_3 : cX6_rankOf.data.toList.drop 69 = dktX6_rankOf_3 := dk_seg dksX6_rankOf_2 22 rfl rfl
theorem dX6_rankOf_0 : decode cX6_rankOf 0 = .ok (.lconst 0, 1) := dk_9 (dk_at dksX6_rankOf_0 0 rfl rfl)
theorem dX6_rankOf_1 : decode cX6_rankOf 1 = .ok (.lstore_n 2, 1) := dk_65 (dk_at dksX6_rankOf_0 1 rfl rfl)
theorem dX6_rankOf_2 : decode cX6_rankOf 2 = .ok (.iconst 0, 1) := dk_3 (dk_at dksX6_rankOf_0 2 rfl rfl)
theorem dX6_rankOf_3 : decode cX6_rankOf 3 = .ok (.istore 4, 2) := dk_54 4 (dk_at dksX6_rankOf_0 3 rfl rfl)
theorem dX6_rankOf_5 : decode cX6_rankOf 5 = .ok (.iload 4, 2) := dk_21 4 (dk_at dksX6_rankOf_0 5 rfl rfl)
theorem dX6_rankOf_7 : decode cX6_rankOf 7 = .ok (.aload_n 0, 1) := dk_42 (dk_at dksX6_rankOf_0 7 rfl rfl)
theorem dX6_rankOf_8 : decode cX6_rankOf 8 = .ok (.getfield 170, 3) := dk_180 0 170 (dk_at dksX6_rankOf_0 8 rfl rfl)
theorem dX6_rankOf_11 : decode cX6_rankOf 11 = .ok (.if_icmp .ge 77, 3) := dk_162 0 77 (dk_at dksX6_rankOf_0 11 rfl rfl)
theorem dX6_rankOf_14 : decode cX6_rankOf 14 = .ok (.iconst 0, 1) := dk_3 (dk_at dksX6_rankOf_0 14 rfl rfl)
theorem dX6_rankOf_15 : decode cX6_rankOf 15 = .ok (.istore 5, 2) := dk_54 5 (dk_at dksX6_rankOf_0 15 rfl rfl)
theorem dX6_rankOf_17 : decode cX6_rankOf 17 = .ok (.iload 4, 2) := dk_21 4 (dk_at dksX6_rankOf_0 17 rfl rfl)
theorem dX6_rankOf_19 : decode cX6_rankOf 19 = .ok (.iconst 1, 1) := dk_4 (dk_at dksX6_rankOf_0 19 rfl rfl)
theorem dX6_rankOf_20 : decode cX6_rankOf 20 = .ok (.iadd, 1) := dk_96 (dk_at dksX6_rankOf_0 20 rfl rfl)
theorem dX6_rankOf_21 : decode cX6_rankOf 21 = .ok (.istore 6, 2) := dk_54 6 (dk_at dksX6_rankOf_0 21 rfl rfl)
theorem dX6_rankOf_23 : decode cX6_rankOf 23 = .ok (.iload 6, 2) := dk_21 6 (dk_at dksX6_rankOf_1 0 rfl rfl)
theorem dX6_rankOf_25 : decode cX6_rankOf 25 = .ok (.aload_n 0, 1) := dk_42 (dk_at dksX6_rankOf_1 2 rfl rfl)
theorem dX6_rankOf_26 : decode cX6_rankOf 26 = .ok (.getfield 170, 3) := dk_180 0 170 (dk_at dksX6_rankOf_1 3 rfl rfl)
theorem dX6_rankOf_29 : decode cX6_rankOf 29 = .ok (.if_icmp .ge 38, 3) := dk_162 0 38 (dk_at dksX6_rankOf_1 6 rfl rfl)
theorem dX6_rankOf_32 : decode cX6_rankOf 32 = .ok (.iload 5, 2) := dk_21 5 (dk_at dksX6_rankOf_1 9 rfl rfl)
theorem dX6_rankOf_34 : decode cX6_rankOf 34 = .ok (.aload_n 0, 1) := dk_42 (dk_at dksX6_rankOf_1 11 rfl rfl)
theorem dX6_rankOf_35 : decode cX6_rankOf 35 = .ok (.aload_n 1, 1) := dk_43 (dk_at dksX6_rankOf_1 12 rfl rfl)
theorem dX6_rankOf_36 : decode cX6_rankOf 36 = .ok (.iload 6, 2) := dk_21 6 (dk_at dksX6_rankOf_1 13 rfl rfl)
theorem dX6_rankOf_38 : decode cX6_rankOf 38 = .ok (.iaload, 1) := dk_46 (dk_at dksX6_rankOf_1 15 rfl rfl)
theorem dX6_rankOf_39 : decode cX6_rankOf 39 = .ok (.invokevirtual 218, 3) := dk_182 0 218 (dk_at dksX6_rankOf_1 16 rfl rfl)
theorem dX6_rankOf_42 : decode cX6_rankOf 42 = .ok (.aload_n 0, 1) := dk_42 (dk_at dksX6_rankOf_1 19 rfl rfl)
theorem dX6_rankOf_43 : decode cX6_rankOf 43 = .ok (.aload_n 1, 1) := dk_43 (dk_at dksX6_rankOf_1 20 rfl rfl)
theorem dX6_rankOf_44 : decode cX6_rankOf 44 = .ok (.iload 4, 2) := dk_21 4 (dk_at dksX6_rankOf_1 21 rfl rfl)
theorem dX6_rankOf_46 : decode cX6_rankOf 46 = .ok (.iaload, 1) := dk_46 (dk_at dksX6_rankOf_1 23 rfl rfl)
theorem dX6_rankOf_47 : decode cX6_rankOf 47 = .ok (.invokevirtual 218, 3) := dk_182 0 218 (dk_at dksX6_rankOf_2 0 rfl rfl)
theorem dX6_rankOf_50 : decode cX6_rankOf 50 = .ok (.if_icmp .ge 7, 3) := dk_162 0 7 (dk_at dksX6_rankOf_2 3 rfl rfl)
theorem dX6_rankOf_53 : decode cX6_rankOf 53 = .ok (.iconst 1, 1) := dk_4 (dk_at dksX6_rankOf_2 6 rfl rfl)
theorem dX6_rankOf_54 : decode cX6_rankOf 54 = .ok (.goto 4, 3) := dk_167 0 4 (dk_at dksX6_rankOf_2 7 rfl rfl)
theorem dX6_rankOf_57 : decode cX6_rankOf 57 = .ok (.iconst 0, 1) := dk_3 (dk_at dksX6_rankOf_2 10 rfl rfl)
theorem dX6_rankOf_58 : decode cX6_rankOf 58 = .ok (.iadd, 1) := dk_96 (dk_at dksX6_rankOf_2 11 rfl rfl)
theorem dX6_rankOf_59 : decode cX6_rankOf 59 = .ok (.istore 5, 2) := dk_54 5 (dk_at dksX6_rankOf_2 12 rfl rfl)
theorem dX6_rankOf_61 : decode cX6_rankOf 61 = .ok (.iinc 6 1, 3) := dk_132 6 1 (dk_at dksX6_rankOf_2 14 rfl rfl)
theorem dX6_rankOf_64 : decode cX6_rankOf 64 = .ok (.goto (-41), 3) := dk_167 255 215 (dk_at dksX6_rankOf_2 17 rfl rfl)
theorem dX6_rankOf_67 : decode cX6_rankOf 67 = .ok (.lload_n 2, 1) := dk_32 (dk_at dksX6_rankOf_2 20 rfl rfl)
theorem dX6_rankOf_68 : decode cX6_rankOf 68 = .ok (.aload_n 0, 1) := dk_42 (dk_at dksX6_rankOf_2 21 rfl rfl)
theorem dX6_rankOf_69 : decode cX6_rankOf 69 = .ok (.getfield 170, 3) := dk_180 0 170 (dk_at dksX6_rankOf_3 0 rfl rfl)
theorem dX6_rankOf_72 : decode cX6_rankOf 72 = .ok (.iload 4, 2) := dk_21 4 (dk_at dksX6_rankOf_3 3 rfl rfl)
theorem dX6_rankOf_74 : decode cX6_rankOf 74 = .ok (.isub, 1) := dk_100 (dk_at dksX6_rankOf_3 5 rfl rfl)
theorem dX6_rankOf_75 : decode cX6_rankOf 75 = .ok (.i2l, 1) := dk_133 (dk_at dksX6_rankOf_3 6 rfl rfl)
theorem dX6_rankOf_76 : decode cX6_rankOf 76 = .ok (.lmul, 1) := dk_105 (dk_at dksX6_rankOf_3 7 rfl rfl)
theorem dX6_rankOf_77 : decode cX6_rankOf 77 = .ok (.iload 5, 2) := dk_21 5 (dk_at dksX6_rankOf_3 8 rfl rfl)
theorem dX6_rankOf_79 : decode cX6_rankOf 79 = .ok (.i2l, 1) := dk_133 (dk_at dksX6_rankOf_3 10 rfl rfl)
theorem dX6_rankOf_80 : decode cX6_rankOf 80 = .ok (.ladd, 1) := dk_97 (dk_at dksX6_rankOf_3 11 rfl rfl)
theorem dX6_rankOf_81 : decode cX6_rankOf 81 = .ok (.lstore_n 2, 1) := dk_65 (dk_at dksX6_rankOf_3 12 rfl rfl)
theorem dX6_rankOf_82 : decode cX6_rankOf 82 = .ok (.iinc 4 1, 3) := dk_132 4 1 (dk_at dksX6_rankOf_3 13 rfl rfl)
theorem dX6_rankOf_85 : decode cX6_rankOf 85 = .ok (.goto (-80), 3) := dk_167 255 176 (dk_at dksX6_rankOf_3 16 rfl rfl)
theorem dX6_rankOf_88 : decode cX6_rankOf 88 = .ok (.lload_n 2, 1) := dk_32 (dk_at dksX6_rankOf_3 19 rfl rfl)
theorem dX6_rankOf_89 : decode cX6_rankOf 89 = .ok (.lreturn, 1) := dk_173 (dk_at dksX6_rankOf_3 20 rfl rfl)
abbrev cX6_valueOf : ByteArray := prog_15_method_15_code
def yX6_valueOf : MethodName := ⟨RX6, "valueOf", "(I)I"⟩
def dkwX6_valueOf_0 : List UInt8 := [27, 154, 0, 10, 42, 180, 0, 170, 167, 0, 4, 27, 172]
abbrev dktX6_valueOf_0 : List UInt8 := dkwX6_valueOf_0 ++ []
theorem dksX6_valueOf_0 : cX6_valueOf.data.toList.drop 0 = dktX6_valueOf_0 := by decide +kernel
theorem dX6_valueOf_0 : decode cX6_valueOf 0 = .ok (.iload_n 1, 1) := dk_27 (dk_at dksX6_valueOf_0 0 rfl rfl)
theorem dX6_valueOf_1 : decode cX6_valueOf 1 = .ok (.ifCond .ne 10, 3) := dk_154 0 10 (dk_at dksX6_valueOf_0 1 rfl rfl)
theorem dX6_valueOf_4 : decode cX6_valueOf 4 = .ok (.aload_n 0, 1) := dk_42 (dk_at dksX6_valueOf_0 4 rfl rfl)
theorem dX6_valueOf_5 : decode cX6_valueOf 5 = .ok (.getfield 170, 3) := dk_180 0 170 (dk_at dksX6_valueOf_0 5 rfl rfl)
theorem dX6_valueOf_8 : decode cX6_valueOf 8 = .ok (.goto 4, 3) := dk_167 0 4 (dk_at dksX6_valueOf_0 8 rfl rfl)
theorem dX6_valueOf_11 : decode cX6_valueOf 11 = .ok (.iload_n 1, 1) := dk_27 (dk_at dksX6_valueOf_0 11 rfl rfl)
theorem dX6_valueOf_12 : decode cX6_valueOf 12 = .ok (.ireturn, 1) := dk_172 (dk_at dksX6_valueOf_0 12 rfl rfl)
abbrev cX6_setFree : ByteArray := prog_15_method_37_code
def yX6_setFree : MethodName := ⟨RX6, "setFree", "(IZ)Z"⟩
def dkwX6_setFree_1 : List UInt8 := [62, 42, 180, 0, 42, 27, 28, 84, 42, 3, 181, 0, 181, 42, 29, 182, 1, 25, 172]
abbrev dktX6_setFree_1 : List UInt8 := dkwX6_setFree_1 ++ []
def dkwX6_setFree_0 : List UInt8 := [27, 3, 42, 182, 0, 211, 184, 0, 200, 154, 0, 9, 42, 4, 182, 1, 22, 172, 42, 180, 0, 42, 27, 51]
abbrev dktX6_setFree_0 : List UInt8 := dkwX6_setFree_0 ++ dktX6_setFree_1
theorem dksX6_setFree_0 : cX6_setFree.data.toList.drop 0 = dktX6_setFree_0 := by decide +kernel
theorem dksX6_setFree_1 : cX6_setFree.data.toList.drop 24 = dktX6_setFree_1 := dk_seg dksX6_setFree_0 24 rfl rfl
theorem dX6_setFree_0 : decode cX6_setFree 0 = .ok (.iload_n 1, 1) := dk_27 (dk_at dksX6_setFree_0 0 rfl rfl)
theorem dX6_setFree_1 : decode cX6_setFree 1 = .ok (.iconst 0, 1) := dk_3 (dk_at dksX6_setFree_0 1 rfl rfl)
theorem dX6_setFree_2 : decode cX6_setFree 2 = .ok (.aload_n 0, 1) := dk_42 (dk_at dksX6_setFree_0 2 rfl rfl)
theorem dX6_setFree_3 : decode cX6_setFree 3 = .ok (.invokevirtual 211, 3) := dk_182 0 211 (dk_at dksX6_setFree_0 3 rfl rfl)
theorem dX6_setFree_6 : decode cX6_setFree 6 = .ok (.invokestatic 200, 3) := dk_184 0 200 (dk_at dksX6_setFree_0 6 rfl rfl)
theorem dX6_setFree_9 : decode cX6_setFree 9 = .ok (.ifCond .ne 9, 3) := dk_154 0 9 (dk_at dksX6_setFree_0 9 rfl rfl)
theorem dX6_setFree_12 : decode cX6_setFree 12 = .ok (.aload_n 0, 1) := dk_42 (dk_at dksX6_setFree_0 12 rfl rfl)
theorem dX6_setFree_13 : decode cX6_setFree 13 = .ok (.iconst 1, 1) := dk_4 (dk_at dksX6_setFree_0 13 rfl rfl)
theorem dX6_setFree_14 : decode cX6_setFree 14 = .ok (.invokevirtual 278, 3) := dk_182 1 22 (dk_at dksX6_setFree_0 14 rfl rfl)
theorem dX6_setFree_17 : decode cX6_setFree 17 = .ok (.ireturn, 1) := dk_172 (dk_at dksX6_setFree_0 17 rfl rfl)
theorem dX6_setFree_18 : decode cX6_setFree 18 = .ok (.aload_n 0, 1) := dk_42 (dk_at dksX6_setFree_0 18 rfl rfl)
theorem dX6_setFree_19 : decode cX6_setFree 19 = .ok (.getfield 42, 3) := dk_180 0 42 (dk_at dksX6_setFree_0 19 rfl rfl)
theorem dX6_setFree_22 : decode cX6_setFree 22 = .ok (.iload_n 1, 1) := dk_27 (dk_at dksX6_setFree_0 22 rfl rfl)
theorem dX6_setFree_23 : decode cX6_setFree 23 = .ok (.baload, 1) := dk_51 (dk_at dksX6_setFree_0 23 rfl rfl)
theorem dX6_setFree_24 : decode cX6_setFree 24 = .ok (.istore_n 3, 1) := dk_62 (dk_at dksX6_setFree_1 0 rfl rfl)
theorem dX6_setFree_25 : decode cX6_setFree 25 = .ok (.aload_n 0, 1) := dk_42 (dk_at dksX6_setFree_1 1 rfl rfl)
theorem dX6_setFree_26 : decode cX6_setFree 26 = .ok (.getfield 42, 3) := dk_180 0 42 (dk_at dksX6_setFree_1 2 rfl rfl)
theorem dX6_setFree_29 : decode cX6_setFree 29 = .ok (.iload_n 1, 1) := dk_27 (dk_at dksX6_setFree_1 5 rfl rfl)
theorem dX6_setFree_30 : decode cX6_setFree 30 = .ok (.iload_n 2, 1) := dk_28 (dk_at dksX6_setFree_1 6 rfl rfl)
theorem dX6_setFree_31 : decode cX6_setFree 31 = .ok (.bastore, 1) := dk_84 (dk_at dksX6_setFree_1 7 rfl rfl)
theorem dX6_setFree_32 : decode cX6_setFree 32 = .ok (.aload_n 0, 1) := dk_42 (dk_at dksX6_setFree_1 8 rfl rfl)
theorem dX6_setFree_33 : decode cX6_setFree 33 = .ok (.iconst 0, 1) := dk_3 (dk_at dksX6_setFree_1 9 rfl rfl)
theorem dX6_setFree_34 : decode cX6_setFree 34 = .ok (.putfield 181, 3) := dk_181 0 181 (dk_at dksX6_setFree_1 10 rfl rfl)
theorem dX6_setFree_37 : decode cX6_setFree 37 = .ok (.aload_n 0, 1) := dk_42 (dk_at dksX6_setFree_1 13 rfl rfl)
theorem dX6_setFree_38 : decode cX6_setFree 38 = .ok (.iload_n 3, 1) := dk_29 (dk_at dksX6_setFree_1 14 rfl rfl)
theorem dX6_setFree_39 : decode cX6_setFree 39 = .ok (.invokevirtual 281, 3) := dk_182 1 25 (dk_at dksX6_setFree_1 15 rfl rfl)
theorem dX6_setFree_42 : decode cX6_setFree 42 = .ok (.ireturn, 1) := dk_172 (dk_at dksX6_setFree_1 18 rfl rfl)
abbrev cX6_denies : ByteArray := prog_15_method_7_code
def yX6_denies : MethodName := ⟨RX6, "denies", "(I)Z"⟩
def dkwX6_denies_0 : List UInt8 := [42, 27, 181, 0, 167, 3, 172]
abbrev dktX6_denies_0 : List UInt8 := dkwX6_denies_0 ++ []
theorem dksX6_denies_0 : cX6_denies.data.toList.drop 0 = dktX6_denies_0 := by decide +kernel
theorem dX6_denies_0 : decode cX6_denies 0 = .ok (.aload_n 0, 1) := dk_42 (dk_at dksX6_denies_0 0 rfl rfl)
theorem dX6_denies_1 : decode cX6_denies 1 = .ok (.iload_n 1, 1) := dk_27 (dk_at dksX6_denies_0 1 rfl rfl)
theorem dX6_denies_2 : decode cX6_denies 2 = .ok (.putfield 167, 3) := dk_181 0 167 (dk_at dksX6_denies_0 2 rfl rfl)
theorem dX6_denies_5 : decode cX6_denies 5 = .ok (.iconst 0, 1) := dk_3 (dk_at dksX6_denies_0 5 rfl rfl)
theorem dX6_denies_6 : decode cX6_denies 6 = .ok (.ireturn, 1) := dk_172 (dk_at dksX6_denies_0 6 rfl rfl)
abbrev cX6_says : ByteArray := prog_15_method_6_code
def yX6_says : MethodName := ⟨RX6, "says", "(Z)Z"⟩
def dkwX6_says_0 : List UInt8 := [42, 3, 181, 0, 167, 27, 172]
abbrev dktX6_says_0 : List UInt8 := dkwX6_says_0 ++ []
theorem dksX6_says_0 : cX6_says.data.toList.drop 0 = dktX6_says_0 := by decide +kernel
theorem dX6_says_0 : decode cX6_says 0 = .ok (.aload_n 0, 1) := dk_42 (dk_at dksX6_says_0 0 rfl rfl)
theorem dX6_says_1 : decode cX6_says 1 = .ok (.iconst 0, 1) := dk_3 (dk_at dksX6_says_0 1 rfl rfl)
theorem dX6_says_2 : decode cX6_says 2 = .ok (.putfield 167, 3) := dk_181 0 167 (dk_at dksX6_says_0 2 rfl rfl)
theorem dX6_says_5 : decode cX6_says 5 = .ok (.iload_n 1, 1) := dk_27 (dk_at dksX6_says_0 5 rfl rfl)
theorem dX6_says_6 : decode cX6_says 6 = .ok (.ireturn, 1) := dk_172 (dk_at dksX6_says_0 6 rfl rfl)
abbrev cX6_setWeight : ByteArray := prog_15_method_38_code
def yX6_setWeight : MethodName := ⟨RX6, "setWeight", "(II)I"⟩
def dkwX6_setWeight_2 : List UInt8 := [28, 79, 42, 3, 181, 0, 181, 42, 29, 182, 0, 215, 172]
abbrev dktX6_setWeight_2 : List UInt8 := dkwX6_setWeight_2 ++ []
def dkwX6_setWeight_1 : List UInt8 := [184, 0, 200, 154, 0, 9, 42, 5, 182, 0, 204, 172, 42, 180, 0, 39, 27, 46, 62, 42, 180, 0, 39, 27]
abbrev dktX6_setWeight_1 : List UInt8 := dkwX6_setWeight_1 ++ dktX6_setWeight_2
def dkwX6_setWeight_0 : List UInt8 := [27, 4, 42, 182, 0, 211, 184, 0, 200, 154, 0, 9, 42, 4, 182, 0, 204, 172, 28, 4, 16, 9]
abbrev dktX6_setWeight_0 : List UInt8 := dkwX6_setWeight_0 ++ dktX6_setWeight_1
theorem dksX6_setWeight_0 : cX6_setWeight.data.toList.drop 0 = dktX6_setWeight_0 := by decide +kernel
theorem dksX6_setWeight_1 : cX6_setWeight.data.toList.drop 22 = dktX6_setWeight_1 := dk_seg dksX6_setWeight_0 22 rfl rfl
theorem dksX6_setWeight_2 : cX6_setWeight.data.toList.drop 46 = dktX6_setWeight_2 := dk_seg dksX6_setWeight_1 24 rfl rfl
theorem dX6_setWeight_0 : decode cX6_setWeight 0 = .ok (.iload_n 1, 1) := dk_27 (dk_at dksX6_setWeight_0 0 rfl rfl)
theorem dX6_setWeight_1 : decode cX6_setWeight 1 = .ok (.iconst 1, 1) := dk_4 (dk_at dksX6_setWeight_0 1 rfl rfl)
theorem dX6_setWeight_2 : decode cX6_setWeight 2 = .ok (.aload_n 0, 1) := dk_42 (dk_at dksX6_setWeight_0 2 rfl rfl)
theorem dX6_setWeight_3 : decode cX6_setWeight 3 = .ok (.invokevirtual 211, 3) := dk_182 0 211 (dk_at dksX6_setWeight_0 3 rfl rfl)
theorem dX6_setWeight_6 : decode cX6_setWeight 6 = .ok (.invokestatic 200, 3) := dk_184 0 200 (dk_at dksX6_setWeight_0 6 rfl rfl)
theorem dX6_setWeight_9 : decode cX6_setWeight 9 = .ok (.ifCond .ne 9, 3) := dk_154 0 9 (dk_at dksX6_setWeight_0 9 rfl rfl)
theorem dX6_setWeight_12 : decode cX6_setWeight 12 = .ok (.aload_n 0, 1) := dk_42 (dk_at dksX6_setWeight_0 12 rfl rfl)
theorem dX6_setWeight_13 : decode cX6_setWeight 13 = .ok (.iconst 1, 1) := dk_4 (dk_at dksX6_setWeight_0 13 rfl rfl)
theorem dX6_setWeight_14 : decode cX6_setWeight 14 = .ok (.invokevirtual 204, 3) := dk_182 0 204 (dk_at dksX6_setWeight_0 14 rfl rfl)
theorem dX6_setWeight_17 : decode cX6_setWeight 17 = .ok (.ireturn, 1) := dk_172 (dk_at dksX6_setWeight_0 17 rfl rfl)
theorem dX6_setWeight_18 : decode cX6_setWeight 18 = .ok (.iload_n 2, 1) := dk_28 (dk_at dksX6_setWeight_0 18 rfl rfl)
theorem dX6_setWeight_19 : decode cX6_setWeight 19 = .ok (.iconst 1, 1) := dk_4 (dk_at dksX6_setWeight_0 19 rfl rfl)
theorem dX6_setWeight_20 : decode cX6_setWeight 20 = .ok (.bipush 9, 2) := dk_16 9 (dk_at dksX6_setWeight_0 20 rfl rfl)
theorem dX6_setWeight_22 : decode cX6_setWeight 22 = .ok (.invokestatic 200, 3) := dk_184 0 200 (dk_at dksX6_setWeight_1 0 rfl rfl)
theorem dX6_setWeight_25 : decode cX6_setWeight 25 = .ok (.ifCond .ne 9, 3) := dk_154 0 9 (dk_at dksX6_setWeight_1 3 rfl rfl)
theorem dX6_setWeight_28 : decode cX6_setWeight 28 = .ok (.aload_n 0, 1) := dk_42 (dk_at dksX6_setWeight_1 6 rfl rfl)
theorem dX6_setWeight_29 : decode cX6_setWeight 29 = .ok (.iconst 2, 1) := dk_5 (dk_at dksX6_setWeight_1 7 rfl rfl)
theorem dX6_setWeight_30 : decode cX6_setWeight 30 = .ok (.invokevirtual 204, 3) := dk_182 0 204 (dk_at dksX6_setWeight_1 8 rfl rfl)
theorem dX6_setWeight_33 : decode cX6_setWeight 33 = .ok (.ireturn, 1) := dk_172 (dk_at dksX6_setWeight_1 11 rfl rfl)
theorem dX6_setWeight_34 : decode cX6_setWeight 34 = .ok (.aload_n 0, 1) := dk_42 (dk_at dksX6_setWeight_1 12 rfl rfl)
theorem dX6_setWeight_35 : decode cX6_setWeight 35 = .ok (.getfield 39, 3) := dk_180 0 39 (dk_at dksX6_setWeight_1 13 rfl rfl)
theorem dX6_setWeight_38 : decode cX6_setWeight 38 = .ok (.iload_n 1, 1) := dk_27 (dk_at dksX6_setWeight_1 16 rfl rfl)
theorem dX6_setWeight_39 : decode cX6_setWeight 39 = .ok (.iaload, 1) := dk_46 (dk_at dksX6_setWeight_1 17 rfl rfl)
theorem dX6_setWeight_40 : decode cX6_setWeight 40 = .ok (.istore_n 3, 1) := dk_62 (dk_at dksX6_setWeight_1 18 rfl rfl)
theorem dX6_setWeight_41 : decode cX6_setWeight 41 = .ok (.aload_n 0, 1) := dk_42 (dk_at dksX6_setWeight_1 19 rfl rfl)
theorem dX6_setWeight_42 : decode cX6_setWeight 42 = .ok (.getfield 39, 3) := dk_180 0 39 (dk_at dksX6_setWeight_1 20 rfl rfl)
theorem dX6_setWeight_45 : decode cX6_setWeight 45 = .ok (.iload_n 1, 1) := dk_27 (dk_at dksX6_setWeight_1 23 rfl rfl)
theorem dX6_setWeight_46 : decode cX6_setWeight 46 = .ok (.iload_n 2, 1) := dk_28 (dk_at dksX6_setWeight_2 0 rfl rfl)
theorem dX6_setWeight_47 : decode cX6_setWeight 47 = .ok (.iastore, 1) := dk_79 (dk_at dksX6_setWeight_2 1 rfl rfl)
theorem dX6_setWeight_48 : decode cX6_setWeight 48 = .ok (.aload_n 0, 1) := dk_42 (dk_at dksX6_setWeight_2 2 rfl rfl)
theorem dX6_setWeight_49 : decode cX6_setWeight 49 = .ok (.iconst 0, 1) := dk_3 (dk_at dksX6_setWeight_2 3 rfl rfl)
theorem dX6_setWeight_50 : decode cX6_setWeight 50 = .ok (.putfield 181, 3) := dk_181 0 181 (dk_at dksX6_setWeight_2 4 rfl rfl)
theorem dX6_setWeight_53 : decode cX6_setWeight 53 = .ok (.aload_n 0, 1) := dk_42 (dk_at dksX6_setWeight_2 7 rfl rfl)
theorem dX6_setWeight_54 : decode cX6_setWeight 54 = .ok (.iload_n 3, 1) := dk_29 (dk_at dksX6_setWeight_2 8 rfl rfl)
theorem dX6_setWeight_55 : decode cX6_setWeight 55 = .ok (.invokevirtual 215, 3) := dk_182 0 215 (dk_at dksX6_setWeight_2 9 rfl rfl)
theorem dX6_setWeight_58 : decode cX6_setWeight 58 = .ok (.ireturn, 1) := dk_172 (dk_at dksX6_setWeight_2 12 rfl rfl)
abbrev cX6_setLimit : ByteArray := prog_15_method_39_code
def yX6_setLimit : MethodName := ⟨RX6, "setLimit", "(I)I"⟩
def dkwX6_setLimit_1 : List UInt8 := [181, 0, 45, 42, 28, 182, 0, 215, 172]
abbrev dktX6_setLimit_1 : List UInt8 := dkwX6_setLimit_1 ++ []
def dkwX6_setLimit_0 : List UInt8 := [27, 4, 17, 3, 232, 184, 0, 200, 154, 0, 9, 42, 4, 182, 0, 204, 172, 42, 180, 0, 45, 61, 42, 27]
abbrev dktX6_setLimit_0 : List UInt8 := dkwX6_setLimit_0 ++ dktX6_setLimit_1
theorem dksX6_setLimit_0 : cX6_setLimit.data.toList.drop 0 = dktX6_setLimit_0 := by decide +kernel
theorem dksX6_setLimit_1 : cX6_setLimit.data.toList.drop 24 = dktX6_setLimit_1 := dk_seg dksX6_setLimit_0 24 rfl rfl
theorem dX6_setLimit_0 : decode cX6_setLimit 0 = .ok (.iload_n 1, 1) := dk_27 (dk_at dksX6_setLimit_0 0 rfl rfl)
theorem dX6_setLimit_1 : decode cX6_setLimit 1 = .ok (.iconst 1, 1) := dk_4 (dk_at dksX6_setLimit_0 1 rfl rfl)
theorem dX6_setLimit_2 : decode cX6_setLimit 2 = .ok (.sipush 1000, 3) := dk_17 3 232 (dk_at dksX6_setLimit_0 2 rfl rfl)
theorem dX6_setLimit_5 : decode cX6_setLimit 5 = .ok (.invokestatic 200, 3) := dk_184 0 200 (dk_at dksX6_setLimit_0 5 rfl rfl)
theorem dX6_setLimit_8 : decode cX6_setLimit 8 = .ok (.ifCond .ne 9, 3) := dk_154 0 9 (dk_at dksX6_setLimit_0 8 rfl rfl)
theorem dX6_setLimit_11 : decode cX6_setLimit 11 = .ok (.aload_n 0, 1) := dk_42 (dk_at dksX6_setLimit_0 11 rfl rfl)
theorem dX6_setLimit_12 : decode cX6_setLimit 12 = .ok (.iconst 1, 1) := dk_4 (dk_at dksX6_setLimit_0 12 rfl rfl)
theorem dX6_setLimit_13 : decode cX6_setLimit 13 = .ok (.invokevirtual 204, 3) := dk_182 0 204 (dk_at dksX6_setLimit_0 13 rfl rfl)
theorem dX6_setLimit_16 : decode cX6_setLimit 16 = .ok (.ireturn, 1) := dk_172 (dk_at dksX6_setLimit_0 16 rfl rfl)
theorem dX6_setLimit_17 : decode cX6_setLimit 17 = .ok (.aload_n 0, 1) := dk_42 (dk_at dksX6_setLimit_0 17 rfl rfl)
theorem dX6_setLimit_18 : decode cX6_setLimit 18 = .ok (.getfield 45, 3) := dk_180 0 45 (dk_at dksX6_setLimit_0 18 rfl rfl)
theorem dX6_setLimit_21 : decode cX6_setLimit 21 = .ok (.istore_n 2, 1) := dk_61 (dk_at dksX6_setLimit_0 21 rfl rfl)
theorem dX6_setLimit_22 : decode cX6_setLimit 22 = .ok (.aload_n 0, 1) := dk_42 (dk_at dksX6_setLimit_0 22 rfl rfl)
theorem dX6_setLimit_23 : decode cX6_setLimit 23 = .ok (.iload_n 1, 1) := dk_27 (dk_at dksX6_setLimit_0 23 rfl rfl)
theorem dX6_setLimit_24 : decode cX6_setLimit 24 = .ok (.putfield 45, 3) := dk_181 0 45 (dk_at dksX6_setLimit_1 0 rfl rfl)
theorem dX6_setLimit_27 : decode cX6_setLimit 27 = .ok (.aload_n 0, 1) := dk_42 (dk_at dksX6_setLimit_1 3 rfl rfl)
theorem dX6_setLimit_28 : decode cX6_setLimit 28 = .ok (.iload_n 2, 1) := dk_28 (dk_at dksX6_setLimit_1 4 rfl rfl)
theorem dX6_setLimit_29 : decode cX6_setLimit 29 = .ok (.invokevirtual 215, 3) := dk_182 0 215 (dk_at dksX6_setLimit_1 5 rfl rfl)
theorem dX6_setLimit_32 : decode cX6_setLimit 32 = .ok (.ireturn, 1) := dk_172 (dk_at dksX6_setLimit_1 8 rfl rfl)
abbrev cX6_move : ByteArray := prog_15_method_41_code
def yX6_move : MethodName := ⟨RX6, "move", "(II)I"⟩
def dkwX6_move_4 : List UInt8 := [27, 182, 1, 29, 96, 54, 4, 132, 5, 1, 167, 255, 237, 42, 21, 4, 182, 0, 215, 172]
abbrev dktX6_move_4 : List UInt8 := dkwX6_move_4 ++ []
def dkwX6_move_3 : List UInt8 := [160, 0, 9, 42, 5, 182, 0, 204, 172, 3, 54, 4, 3, 54, 5, 21, 5, 28, 162, 0, 19, 21, 4, 42]
abbrev dktX6_move_3 : List UInt8 := dkwX6_move_3 ++ dktX6_move_4
def dkwX6_move_2 : List UInt8 := [167, 0, 13, 42, 180, 0, 16, 7, 29, 104, 27, 96, 46, 62, 132, 4, 1, 167, 255, 227, 29, 2]
abbrev dktX6_move_2 : List UInt8 := dkwX6_move_2 ++ dktX6_move_3
def dkwX6_move_1 : List UInt8 := [42, 42, 180, 0, 33, 182, 0, 242, 62, 3, 54, 4, 21, 4, 28, 162, 0, 29, 29, 2, 160, 0, 7, 2]
abbrev dktX6_move_1 : List UInt8 := dkwX6_move_1 ++ dktX6_move_2
def dkwX6_move_0 : List UInt8 := [27, 3, 6, 184, 0, 200, 153, 0, 12, 28, 4, 6, 184, 0, 200, 154, 0, 9, 42, 4, 182, 0, 204, 172]
abbrev dktX6_move_0 : List UInt8 := dkwX6_move_0 ++ dktX6_move_1
theorem dksX6_move_0 : cX6_move.data.toList.drop 0 = dktX6_move_0 := by decide +kernel
theorem dksX6_move_1 : cX6_move.data.toList.drop 24 = dktX6_move_1 := dk_seg dksX6_move_0 24 rfl rfl
theorem dksX6_move_2 : cX6_move.data.toList.drop 48 = dktX6_move_2 := dk_seg dksX6_move_1 24 rfl rfl
theorem dksX6_move_3 : cX6_move.data.toList.drop 70 = dktX6_move_3 := dk_seg dksX6_move_2 22 rfl rfl
theorem dksX6_move_4 : cX6_move.data.toList.drop 94 = dktX6_move_4 := dk_seg dksX6_move_3 24 rfl rfl
theorem dX6_move_0 : decode cX6_move 0 = .ok (.iload_n 1, 1) := dk_27 (dk_at dksX6_move_0 0 rfl rfl)
theorem dX6_move_1 : decode cX6_move 1 = .ok (.iconst 0, 1) := dk_3 (dk_at dksX6_move_0 1 rfl rfl)
theorem dX6_move_2 : decode cX6_move 2 = .ok (.iconst 3, 1) := dk_6 (dk_at dksX6_move_0 2 rfl rfl)
theorem dX6_move_3 : decode cX6_move 3 = .ok (.invokestatic 200, 3) := dk_184 0 200 (dk_at dksX6_move_0 3 rfl rfl)
theorem dX6_move_6 : decode cX6_move 6 = .ok (.ifCond .eq 12, 3) := dk_153 0 12 (dk_at dksX6_move_0 6 rfl rfl)
theorem dX6_move_9 : decode cX6_move 9 = .ok (.iload_n 2, 1) := dk_28 (dk_at dksX6_move_0 9 rfl rfl)
theorem dX6_move_10 : decode cX6_move 10 = .ok (.iconst 1, 1) := dk_4 (dk_at dksX6_move_0 10 rfl rfl)
theorem dX6_move_11 : decode cX6_move 11 = .ok (.iconst 3, 1) := dk_6 (dk_at dksX6_move_0 11 rfl rfl)
theorem dX6_move_12 : decode cX6_move 12 = .ok (.invokestatic 200, 3) := dk_184 0 200 (dk_at dksX6_move_0 12 rfl rfl)
theorem dX6_move_15 : decode cX6_move 15 = .ok (.ifCond .ne 9, 3) := dk_154 0 9 (dk_at dksX6_move_0 15 rfl rfl)
theorem dX6_move_18 : decode cX6_move 18 = .ok (.aload_n 0, 1) := dk_42 (dk_at dksX6_move_0 18 rfl rfl)
theorem dX6_move_19 : decode cX6_move 19 = .ok (.iconst 1, 1) := dk_4 (dk_at dksX6_move_0 19 rfl rfl)
theorem dX6_move_20 : decode cX6_move 20 = .ok (.invokevirtual 204, 3) := dk_182 0 204 (dk_at dksX6_move_0 20 rfl rfl)
theorem dX6_move_23 : decode cX6_move 23 = .ok (.ireturn, 1) := dk_172 (dk_at dksX6_move_0 23 rfl rfl)
theorem dX6_move_24 : decode cX6_move 24 = .ok (.aload_n 0, 1) := dk_42 (dk_at dksX6_move_1 0 rfl rfl)
theorem dX6_move_25 : decode cX6_move 25 = .ok (.aload_n 0, 1) := dk_42 (dk_at dksX6_move_1 1 rfl rfl)
theorem dX6_move_26 : decode cX6_move 26 = .ok (.getfield 33, 3) := dk_180 0 33 (dk_at dksX6_move_1 2 rfl rfl)
theorem dX6_move_29 : decode cX6_move 29 = .ok (.invokevirtual 242, 3) := dk_182 0 242 (dk_at dksX6_move_1 5 rfl rfl)
theorem dX6_move_32 : decode cX6_move 32 = .ok (.istore_n 3, 1) := dk_62 (dk_at dksX6_move_1 8 rfl rfl)
theorem dX6_move_33 : decode cX6_move 33 = .ok (.iconst 0, 1) := dk_3 (dk_at dksX6_move_1 9 rfl rfl)
theorem dX6_move_34 : decode cX6_move 34 = .ok (.istore 4, 2) := dk_54 4 (dk_at dksX6_move_1 10 rfl rfl)
theorem dX6_move_36 : decode cX6_move 36 = .ok (.iload 4, 2) := dk_21 4 (dk_at dksX6_move_1 12 rfl rfl)
theorem dX6_move_38 : decode cX6_move 38 = .ok (.iload_n 2, 1) := dk_28 (dk_at dksX6_move_1 14 rfl rfl)
theorem dX6_move_39 : decode cX6_move 39 = .ok (.if_icmp .ge 29, 3) := dk_162 0 29 (dk_at dksX6_move_1 15 rfl rfl)
theorem dX6_move_42 : decode cX6_move 42 = .ok (.iload_n 3, 1) := dk_29 (dk_at dksX6_move_1 18 rfl rfl)
theorem dX6_move_43 : decode cX6_move 43 = .ok (.iconst (-1), 1) := dk_2 (dk_at dksX6_move_1 19 rfl rfl)
theorem dX6_move_44 : decode cX6_move 44 = .ok (.if_icmp .ne 7, 3) := dk_160 0 7 (dk_at dksX6_move_1 20 rfl rfl)
theorem dX6_move_47 : decode cX6_move 47 = .ok (.iconst (-1), 1) := dk_2 (dk_at dksX6_move_1 23 rfl rfl)
theorem dX6_move_48 : decode cX6_move 48 = .ok (.goto 13, 3) := dk_167 0 13 (dk_at dksX6_move_2 0 rfl rfl)
theorem dX6_move_51 : decode cX6_move 51 = .ok (.aload_n 0, 1) := dk_42 (dk_at dksX6_move_2 3 rfl rfl)
theorem dX6_move_52 : decode cX6_move 52 = .ok (.getfield 16, 3) := dk_180 0 16 (dk_at dksX6_move_2 4 rfl rfl)
theorem dX6_move_55 : decode cX6_move 55 = .ok (.iconst 4, 1) := dk_7 (dk_at dksX6_move_2 7 rfl rfl)
theorem dX6_move_56 : decode cX6_move 56 = .ok (.iload_n 3, 1) := dk_29 (dk_at dksX6_move_2 8 rfl rfl)
theorem dX6_move_57 : decode cX6_move 57 = .ok (.imul, 1) := dk_104 (dk_at dksX6_move_2 9 rfl rfl)
theorem dX6_move_58 : decode cX6_move 58 = .ok (.iload_n 1, 1) := dk_27 (dk_at dksX6_move_2 10 rfl rfl)
theorem dX6_move_59 : decode cX6_move 59 = .ok (.iadd, 1) := dk_96 (dk_at dksX6_move_2 11 rfl rfl)
theorem dX6_move_60 : decode cX6_move 60 = .ok (.iaload, 1) := dk_46 (dk_at dksX6_move_2 12 rfl rfl)
theorem dX6_move_61 : decode cX6_move 61 = .ok (.istore_n 3, 1) := dk_62 (dk_at dksX6_move_2 13 rfl rfl)
theorem dX6_move_62 : decode cX6_move 62 = .ok (.iinc 4 1, 3) := dk_132 4 1 (dk_at dksX6_move_2 14 rfl rfl)
theorem dX6_move_65 : decode cX6_move 65 = .ok (.goto (-29), 3) := dk_167 255 227 (dk_at dksX6_move_2 17 rfl rfl)
theorem dX6_move_68 : decode cX6_move 68 = .ok (.iload_n 3, 1) := dk_29 (dk_at dksX6_move_2 20 rfl rfl)
theorem dX6_move_69 : decode cX6_move 69 = .ok (.iconst (-1), 1) := dk_2 (dk_at dksX6_move_2 21 rfl rfl)
theorem dX6_move_70 : decode cX6_move 70 = .ok (.if_icmp .ne 9, 3) := dk_160 0 9 (dk_at dksX6_move_3 0 rfl rfl)
theorem dX6_move_73 : decode cX6_move 73 = .ok (.aload_n 0, 1) := dk_42 (dk_at dksX6_move_3 3 rfl rfl)
theorem dX6_move_74 : decode cX6_move 74 = .ok (.iconst 2, 1) := dk_5 (dk_at dksX6_move_3 4 rfl rfl)
theorem dX6_move_75 : decode cX6_move 75 = .ok (.invokevirtual 204, 3) := dk_182 0 204 (dk_at dksX6_move_3 5 rfl rfl)
theorem dX6_move_78 : decode cX6_move 78 = .ok (.ireturn, 1) := dk_172 (dk_at dksX6_move_3 8 rfl rfl)
theorem dX6_move_79 : decode cX6_move 79 = .ok (.iconst 0, 1) := dk_3 (dk_at dksX6_move_3 9 rfl rfl)
theorem dX6_move_80 : decode cX6_move 80 = .ok (.istore 4, 2) := dk_54 4 (dk_at dksX6_move_3 10 rfl rfl)
theorem dX6_move_82 : decode cX6_move 82 = .ok (.iconst 0, 1) := dk_3 (dk_at dksX6_move_3 12 rfl rfl)
theorem dX6_move_83 : decode cX6_move 83 = .ok (.istore 5, 2) := dk_54 5 (dk_at dksX6_move_3 13 rfl rfl)
theorem dX6_move_85 : decode cX6_move 85 = .ok (.iload 5, 2) := dk_21 5 (dk_at dksX6_move_3 15 rfl rfl)
theorem dX6_move_87 : decode cX6_move 87 = .ok (.iload_n 2, 1) := dk_28 (dk_at dksX6_move_3 17 rfl rfl)
theorem dX6_move_88 : decode cX6_move 88 = .ok (.if_icmp .ge 19, 3) := dk_162 0 19 (dk_at dksX6_move_3 18 rfl rfl)
theorem dX6_move_91 : decode cX6_move 91 = .ok (.iload 4, 2) := dk_21 4 (dk_at dksX6_move_3 21 rfl rfl)
theorem dX6_move_93 : decode cX6_move 93 = .ok (.aload_n 0, 1) := dk_42 (dk_at dksX6_move_3 23 rfl rfl)
theorem dX6_move_94 : decode cX6_move 94 = .ok (.iload_n 1, 1) := dk_27 (dk_at dksX6_move_4 0 rfl rfl)
theorem dX6_move_95 : decode cX6_move 95 = .ok (.invokevirtual 285, 3) := dk_182 1 29 (dk_at dksX6_move_4 1 rfl rfl)
theorem dX6_move_98 : decode cX6_move 98 = .ok (.iadd, 1) := dk_96 (dk_at dksX6_move_4 4 rfl rfl)
theorem dX6_move_99 : decode cX6_move 99 = .ok (.istore 4, 2) := dk_54 4 (dk_at dksX6_move_4 5 rfl rfl)
theorem dX6_move_101 : decode cX6_move 101 = .ok (.iinc 5 1, 3) := dk_132 5 1 (dk_at dksX6_move_4 7 rfl rfl)
theorem dX6_move_104 : decode cX6_move 104 = .ok (.goto (-19), 3) := dk_167 255 237 (dk_at dksX6_move_4 10 rfl rfl)
theorem dX6_move_107 : decode cX6_move 107 = .ok (.aload_n 0, 1) := dk_42 (dk_at dksX6_move_4 13 rfl rfl)
theorem dX6_move_108 : decode cX6_move 108 = .ok (.iload 4, 2) := dk_21 4 (dk_at dksX6_move_4 14 rfl rfl)
theorem dX6_move_110 : decode cX6_move 110 = .ok (.invokevirtual 215, 3) := dk_182 0 215 (dk_at dksX6_move_4 16 rfl rfl)
theorem dX6_move_113 : decode cX6_move 113 = .ok (.ireturn, 1) := dk_172 (dk_at dksX6_move_4 19 rfl rfl)
abbrev cX6_makes_2 : ByteArray := prog_15_method_40_code
def yX6_makes_2 : MethodName := ⟨RX6, "makes", "(I)I"⟩
def dkwX6_makes_2_3 : List UInt8 := [180, 0, 184, 6, 27, 100, 79, 42, 89, 180, 0, 184, 4, 96, 181, 0, 184, 28, 172]
abbrev dktX6_makes_2_3 : List UInt8 := dkwX6_makes_2_3 ++ []
def dkwX6_makes_2_2 : List UInt8 := [46, 79, 132, 3, 1, 167, 255, 232, 42, 89, 180, 0, 184, 4, 100, 181, 0, 184, 42, 180, 0, 48, 42]
abbrev dktX6_makes_2_2 : List UInt8 := dkwX6_makes_2_2 ++ dktX6_makes_2_3
def dkwX6_makes_2_1 : List UInt8 := [160, 0, 42, 4, 62, 29, 17, 0, 200, 162, 0, 23, 42, 180, 0, 48, 29, 4, 100, 42, 180, 0, 48, 29]
abbrev dktX6_makes_2_1 : List UInt8 := dkwX6_makes_2_1 ++ dktX6_makes_2_2
def dkwX6_makes_2_0 : List UInt8 := [42, 42, 180, 0, 33, 27, 182, 1, 14, 61, 28, 2, 160, 0, 5, 2, 172, 42, 180, 0, 184, 17, 0, 200]
abbrev dktX6_makes_2_0 : List UInt8 := dkwX6_makes_2_0 ++ dktX6_makes_2_1
theorem dksX6_makes_2_0 : cX6_makes_2.data.toList.drop 0 = dktX6_makes_2_0 := by decide +kernel
theorem dksX6_makes_2_1 : cX6_makes_2.data.toList.drop 24 = dktX6_makes_2_1 := dk_seg dksX6_makes_2_0 24 rfl rfl
theorem dksX6_makes_2_2 : cX6_makes_2.data.toList.drop 48 = dktX6_makes_2_2 := dk_seg dksX6_makes_2_1 24 rfl rfl
theorem dksX6_makes_2_3 : cX6_makes_2.data.toList.drop 71 = dktX6_makes_2_3 := dk_seg dksX6_makes_2_2 23 rfl rfl
theorem dX6_makes_2_0 : decode cX6_makes_2 0 = .ok (.aload_n 0, 1) := dk_42 (dk_at dksX6_makes_2_0 0 rfl rfl)
theorem dX6_makes_2_1 : decode cX6_makes_2 1 = .ok (.aload_n 0, 1) := dk_42 (dk_at dksX6_makes_2_0 1 rfl rfl)
theorem dX6_makes_2_2 : decode cX6_makes_2 2 = .ok (.getfield 33, 3) := dk_180 0 33 (dk_at dksX6_makes_2_0 2 rfl rfl)
theorem dX6_makes_2_5 : decode cX6_makes_2 5 = .ok (.iload_n 1, 1) := dk_27 (dk_at dksX6_makes_2_0 5 rfl rfl)
theorem dX6_makes_2_6 : decode cX6_makes_2 6 = .ok (.invokevirtual 270, 3) := dk_182 1 14 (dk_at dksX6_makes_2_0 6 rfl rfl)
theorem dX6_makes_2_9 : decode cX6_makes_2 9 = .ok (.istore_n 2, 1) := dk_61 (dk_at dksX6_makes_2_0 9 rfl rfl)
theorem dX6_makes_2_10 : decode cX6_makes_2 10 = .ok (.iload_n 2, 1) := dk_28 (dk_at dksX6_makes_2_0 10 rfl rfl)
theorem dX6_makes_2_11 : decode cX6_makes_2 11 = .ok (.iconst (-1), 1) := dk_2 (dk_at dksX6_makes_2_0 11 rfl rfl)
theorem dX6_makes_2_12 : decode cX6_makes_2 12 = .ok (.if_icmp .ne 5, 3) := dk_160 0 5 (dk_at dksX6_makes_2_0 12 rfl rfl)
theorem dX6_makes_2_15 : decode cX6_makes_2 15 = .ok (.iconst (-1), 1) := dk_2 (dk_at dksX6_makes_2_0 15 rfl rfl)
theorem dX6_makes_2_16 : decode cX6_makes_2 16 = .ok (.ireturn, 1) := dk_172 (dk_at dksX6_makes_2_0 16 rfl rfl)
theorem dX6_makes_2_17 : decode cX6_makes_2 17 = .ok (.aload_n 0, 1) := dk_42 (dk_at dksX6_makes_2_0 17 rfl rfl)
theorem dX6_makes_2_18 : decode cX6_makes_2 18 = .ok (.getfield 184, 3) := dk_180 0 184 (dk_at dksX6_makes_2_0 18 rfl rfl)
theorem dX6_makes_2_21 : decode cX6_makes_2 21 = .ok (.sipush 200, 3) := dk_17 0 200 (dk_at dksX6_makes_2_0 21 rfl rfl)
theorem dX6_makes_2_24 : decode cX6_makes_2 24 = .ok (.if_icmp .ne 42, 3) := dk_160 0 42 (dk_at dksX6_makes_2_1 0 rfl rfl)
theorem dX6_makes_2_27 : decode cX6_makes_2 27 = .ok (.iconst 1, 1) := dk_4 (dk_at dksX6_makes_2_1 3 rfl rfl)
theorem dX6_makes_2_28 : decode cX6_makes_2 28 = .ok (.istore_n 3, 1) := dk_62 (dk_at dksX6_makes_2_1 4 rfl rfl)
theorem dX6_makes_2_29 : decode cX6_makes_2 29 = .ok (.iload_n 3, 1) := dk_29 (dk_at dksX6_makes_2_1 5 rfl rfl)
theorem dX6_makes_2_30 : decode cX6_makes_2 30 = .ok (.sipush 200, 3) := dk_17 0 200 (dk_at dksX6_makes_2_1 6 rfl rfl)
theorem dX6_makes_2_33 : decode cX6_makes_2 33 = .ok (.if_icmp .ge 23, 3) := dk_162 0 23 (dk_at dksX6_makes_2_1 9 rfl rfl)
theorem dX6_makes_2_36 : decode cX6_makes_2 36 = .ok (.aload_n 0, 1) := dk_42 (dk_at dksX6_makes_2_1 12 rfl rfl)
theorem dX6_makes_2_37 : decode cX6_makes_2 37 = .ok (.getfield 48, 3) := dk_180 0 48 (dk_at dksX6_makes_2_1 13 rfl rfl)
theorem dX6_makes_2_40 : decode cX6_makes_2 40 = .ok (.iload_n 3, 1) := dk_29 (dk_at dksX6_makes_2_1 16 rfl rfl)
theorem dX6_makes_2_41 : decode cX6_makes_2 41 = .ok (.iconst 1, 1) := dk_4 (dk_at dksX6_makes_2_1 17 rfl rfl)
theorem dX6_makes_2_42 : decode cX6_makes_2 42 = .ok (.isub, 1) := dk_100 (dk_at dksX6_makes_2_1 18 rfl rfl)
theorem dX6_makes_2_43 : decode cX6_makes_2 43 = .ok (.aload_n 0, 1) := dk_42 (dk_at dksX6_makes_2_1 19 rfl rfl)
theorem dX6_makes_2_44 : decode cX6_makes_2 44 = .ok (.getfield 48, 3) := dk_180 0 48 (dk_at dksX6_makes_2_1 20 rfl rfl)
theorem dX6_makes_2_47 : decode cX6_makes_2 47 = .ok (.iload_n 3, 1) := dk_29 (dk_at dksX6_makes_2_1 23 rfl rfl)
theorem dX6_makes_2_48 : decode cX6_makes_2 48 = .ok (.iaload, 1) := dk_46 (dk_at dksX6_makes_2_2 0 rfl rfl)
theorem dX6_makes_2_49 : decode cX6_makes_2 49 = .ok (.iastore, 1) := dk_79 (dk_at dksX6_makes_2_2 1 rfl rfl)
theorem dX6_makes_2_50 : decode cX6_makes_2 50 = .ok (.iinc 3 1, 3) := dk_132 3 1 (dk_at dksX6_makes_2_2 2 rfl rfl)
theorem dX6_makes_2_53 : decode cX6_makes_2 53 = .ok (.goto (-24), 3) := dk_167 255 232 (dk_at dksX6_makes_2_2 5 rfl rfl)
theorem dX6_makes_2_56 : decode cX6_makes_2 56 = .ok (.aload_n 0, 1) := dk_42 (dk_at dksX6_makes_2_2 8 rfl rfl)
theorem dX6_makes_2_57 : decode cX6_makes_2 57 = .ok (.dup, 1) := dk_89 (dk_at dksX6_makes_2_2 9 rfl rfl)
theorem dX6_makes_2_58 : decode cX6_makes_2 58 = .ok (.getfield 184, 3) := dk_180 0 184 (dk_at dksX6_makes_2_2 10 rfl rfl)
theorem dX6_makes_2_61 : decode cX6_makes_2 61 = .ok (.iconst 1, 1) := dk_4 (dk_at dksX6_makes_2_2 13 rfl rfl)
theorem dX6_makes_2_62 : decode cX6_makes_2 62 = .ok (.isub, 1) := dk_100 (dk_at dksX6_makes_2_2 14 rfl rfl)
theorem dX6_makes_2_63 : decode cX6_makes_2 63 = .ok (.putfield 184, 3) := dk_181 0 184 (dk_at dksX6_makes_2_2 15 rfl rfl)
theorem dX6_makes_2_66 : decode cX6_makes_2 66 = .ok (.aload_n 0, 1) := dk_42 (dk_at dksX6_makes_2_2 18 rfl rfl)
theorem dX6_makes_2_67 : decode cX6_makes_2 67 = .ok (.getfield 48, 3) := dk_180 0 48 (dk_at dksX6_makes_2_2 19 rfl rfl)
theorem dX6_makes_2_70 : decode cX6_makes_2 70 = .ok (.aload_n 0, 1) := dk_42 (dk_at dksX6_makes_2_2 22 rfl rfl)
theorem dX6_makes_2_71 : decode cX6_makes_2 71 = .ok (.getfield 184, 3) := dk_180 0 184 (dk_at dksX6_makes_2_3 0 rfl rfl)
theorem dX6_makes_2_74 : decode cX6_makes_2 74 = .ok (.iconst 3, 1) := dk_6 (dk_at dksX6_makes_2_3 3 rfl rfl)
theorem dX6_makes_2_75 : decode cX6_makes_2 75 = .ok (.iload_n 1, 1) := dk_27 (dk_at dksX6_makes_2_3 4 rfl rfl)
theorem dX6_makes_2_76 : decode cX6_makes_2 76 = .ok (.isub, 1) := dk_100 (dk_at dksX6_makes_2_3 5 rfl rfl)
theorem dX6_makes_2_77 : decode cX6_makes_2 77 = .ok (.iastore, 1) := dk_79 (dk_at dksX6_makes_2_3 6 rfl rfl)
theorem dX6_makes_2_78 : decode cX6_makes_2 78 = .ok (.aload_n 0, 1) := dk_42 (dk_at dksX6_makes_2_3 7 rfl rfl)
theorem dX6_makes_2_79 : decode cX6_makes_2 79 = .ok (.dup, 1) := dk_89 (dk_at dksX6_makes_2_3 8 rfl rfl)
theorem dX6_makes_2_80 : decode cX6_makes_2 80 = .ok (.getfield 184, 3) := dk_180 0 184 (dk_at dksX6_makes_2_3 9 rfl rfl)
theorem dX6_makes_2_83 : decode cX6_makes_2 83 = .ok (.iconst 1, 1) := dk_4 (dk_at dksX6_makes_2_3 12 rfl rfl)
theorem dX6_makes_2_84 : decode cX6_makes_2 84 = .ok (.iadd, 1) := dk_96 (dk_at dksX6_makes_2_3 13 rfl rfl)
theorem dX6_makes_2_85 : decode cX6_makes_2 85 = .ok (.putfield 184, 3) := dk_181 0 184 (dk_at dksX6_makes_2_3 14 rfl rfl)
theorem dX6_makes_2_88 : decode cX6_makes_2 88 = .ok (.iload_n 2, 1) := dk_28 (dk_at dksX6_makes_2_3 17 rfl rfl)
theorem dX6_makes_2_89 : decode cX6_makes_2 89 = .ok (.ireturn, 1) := dk_172 (dk_at dksX6_makes_2_3 18 rfl rfl)
abbrev cX6_undo : ByteArray := prog_15_method_42_code
def yX6_undo : MethodName := ⟨RX6, "undo", "(I)I"⟩
def dkwX6_undo_2 : List UInt8 := [180, 0, 48, 42, 180, 0, 184, 46, 182, 1, 14, 62, 132, 2, 1, 167, 255, 213, 42, 28, 182, 0, 215, 172]
abbrev dktX6_undo_2 : List UInt8 := dkwX6_undo_2 ++ []
def dkwX6_undo_1 : List UInt8 := [42, 180, 0, 184, 158, 0, 37, 42, 89, 180, 0, 184, 4, 100, 181, 0, 184, 42, 42, 180, 0, 33, 42]
abbrev dktX6_undo_1 : List UInt8 := dkwX6_undo_1 ++ dktX6_undo_2
def dkwX6_undo_0 : List UInt8 := [27, 4, 17, 0, 200, 184, 0, 200, 154, 0, 9, 42, 4, 182, 0, 204, 172, 3, 61, 28, 27, 162, 0, 44]
abbrev dktX6_undo_0 : List UInt8 := dkwX6_undo_0 ++ dktX6_undo_1
theorem dksX6_undo_0 : cX6_undo.data.toList.drop 0 = dktX6_undo_0 := by decide +kernel
theorem dksX6_undo_1 : cX6_undo.data.toList.drop 24 = dktX6_undo_1 := dk_seg dksX6_undo_0 24 rfl rfl
theorem dksX6_undo_2 : cX6_undo.data.toList.drop 47 = dktX6_undo_2 := dk_seg dksX6_undo_1 23 rfl rfl
theorem dX6_undo_0 : decode cX6_undo 0 = .ok (.iload_n 1, 1) := dk_27 (dk_at dksX6_undo_0 0 rfl rfl)
theorem dX6_undo_1 : decode cX6_undo 1 = .ok (.iconst 1, 1) := dk_4 (dk_at dksX6_undo_0 1 rfl rfl)
theorem dX6_undo_2 : decode cX6_undo 2 = .ok (.sipush 200, 3) := dk_17 0 200 (dk_at dksX6_undo_0 2 rfl rfl)
theorem dX6_undo_5 : decode cX6_undo 5 = .ok (.invokestatic 200, 3) := dk_184 0 200 (dk_at dksX6_undo_0 5 rfl rfl)
theorem dX6_undo_8 : decode cX6_undo 8 = .ok (.ifCond .ne 9, 3) := dk_154 0 9 (dk_at dksX6_undo_0 8 rfl rfl)
theorem dX6_undo_11 : decode cX6_undo 11 = .ok (.aload_n 0, 1) := dk_42 (dk_at dksX6_undo_0 11 rfl rfl)
theorem dX6_undo_12 : decode cX6_undo 12 = .ok (.iconst 1, 1) := dk_4 (dk_at dksX6_undo_0 12 rfl rfl)
theorem dX6_undo_13 : decode cX6_undo 13 = .ok (.invokevirtual 204, 3) := dk_182 0 204 (dk_at dksX6_undo_0 13 rfl rfl)
theorem dX6_undo_16 : decode cX6_undo 16 = .ok (.ireturn, 1) := dk_172 (dk_at dksX6_undo_0 16 rfl rfl)
theorem dX6_undo_17 : decode cX6_undo 17 = .ok (.iconst 0, 1) := dk_3 (dk_at dksX6_undo_0 17 rfl rfl)
theorem dX6_undo_18 : decode cX6_undo 18 = .ok (.istore_n 2, 1) := dk_61 (dk_at dksX6_undo_0 18 rfl rfl)
theorem dX6_undo_19 : decode cX6_undo 19 = .ok (.iload_n 2, 1) := dk_28 (dk_at dksX6_undo_0 19 rfl rfl)
theorem dX6_undo_20 : decode cX6_undo 20 = .ok (.iload_n 1, 1) := dk_27 (dk_at dksX6_undo_0 20 rfl rfl)
theorem dX6_undo_21 : decode cX6_undo 21 = .ok (.if_icmp .ge 44, 3) := dk_162 0 44 (dk_at dksX6_undo_0 21 rfl rfl)
theorem dX6_undo_24 : decode cX6_undo 24 = .ok (.aload_n 0, 1) := dk_42 (dk_at dksX6_undo_1 0 rfl rfl)
theorem dX6_undo_25 : decode cX6_undo 25 = .ok (.getfield 184, 3) := dk_180 0 184 (dk_at dksX6_undo_1 1 rfl rfl)
theorem dX6_undo_28 : decode cX6_undo 28 = .ok (.ifCond .le 37, 3) := dk_158 0 37 (dk_at dksX6_undo_1 4 rfl rfl)
theorem dX6_undo_31 : decode cX6_undo 31 = .ok (.aload_n 0, 1) := dk_42 (dk_at dksX6_undo_1 7 rfl rfl)
theorem dX6_undo_32 : decode cX6_undo 32 = .ok (.dup, 1) := dk_89 (dk_at dksX6_undo_1 8 rfl rfl)
theorem dX6_undo_33 : decode cX6_undo 33 = .ok (.getfield 184, 3) := dk_180 0 184 (dk_at dksX6_undo_1 9 rfl rfl)
theorem dX6_undo_36 : decode cX6_undo 36 = .ok (.iconst 1, 1) := dk_4 (dk_at dksX6_undo_1 12 rfl rfl)
theorem dX6_undo_37 : decode cX6_undo 37 = .ok (.isub, 1) := dk_100 (dk_at dksX6_undo_1 13 rfl rfl)
theorem dX6_undo_38 : decode cX6_undo 38 = .ok (.putfield 184, 3) := dk_181 0 184 (dk_at dksX6_undo_1 14 rfl rfl)
theorem dX6_undo_41 : decode cX6_undo 41 = .ok (.aload_n 0, 1) := dk_42 (dk_at dksX6_undo_1 17 rfl rfl)
theorem dX6_undo_42 : decode cX6_undo 42 = .ok (.aload_n 0, 1) := dk_42 (dk_at dksX6_undo_1 18 rfl rfl)
theorem dX6_undo_43 : decode cX6_undo 43 = .ok (.getfield 33, 3) := dk_180 0 33 (dk_at dksX6_undo_1 19 rfl rfl)
theorem dX6_undo_46 : decode cX6_undo 46 = .ok (.aload_n 0, 1) := dk_42 (dk_at dksX6_undo_1 22 rfl rfl)
theorem dX6_undo_47 : decode cX6_undo 47 = .ok (.getfield 48, 3) := dk_180 0 48 (dk_at dksX6_undo_2 0 rfl rfl)
theorem dX6_undo_50 : decode cX6_undo 50 = .ok (.aload_n 0, 1) := dk_42 (dk_at dksX6_undo_2 3 rfl rfl)
theorem dX6_undo_51 : decode cX6_undo 51 = .ok (.getfield 184, 3) := dk_180 0 184 (dk_at dksX6_undo_2 4 rfl rfl)
theorem dX6_undo_54 : decode cX6_undo 54 = .ok (.iaload, 1) := dk_46 (dk_at dksX6_undo_2 7 rfl rfl)
theorem dX6_undo_55 : decode cX6_undo 55 = .ok (.invokevirtual 270, 3) := dk_182 1 14 (dk_at dksX6_undo_2 8 rfl rfl)
theorem dX6_undo_58 : decode cX6_undo 58 = .ok (.istore_n 3, 1) := dk_62 (dk_at dksX6_undo_2 11 rfl rfl)
theorem dX6_undo_59 : decode cX6_undo 59 = .ok (.iinc 2 1, 3) := dk_132 2 1 (dk_at dksX6_undo_2 12 rfl rfl)
theorem dX6_undo_62 : decode cX6_undo 62 = .ok (.goto (-43), 3) := dk_167 255 213 (dk_at dksX6_undo_2 15 rfl rfl)
theorem dX6_undo_65 : decode cX6_undo 65 = .ok (.aload_n 0, 1) := dk_42 (dk_at dksX6_undo_2 18 rfl rfl)
theorem dX6_undo_66 : decode cX6_undo 66 = .ok (.iload_n 2, 1) := dk_28 (dk_at dksX6_undo_2 19 rfl rfl)
theorem dX6_undo_67 : decode cX6_undo 67 = .ok (.invokevirtual 215, 3) := dk_182 0 215 (dk_at dksX6_undo_2 20 rfl rfl)
theorem dX6_undo_70 : decode cX6_undo 70 = .ok (.ireturn, 1) := dk_172 (dk_at dksX6_undo_2 23 rfl rfl)
abbrev cX6_setMacro : ByteArray := prog_15_method_44_code
def yX6_setMacro : MethodName := ⟨RX6, "setMacro", "(IJ)I"⟩
def dkwX6_setMacro_6 : List UInt8 := [167, 255, 209, 42, 180, 0, 51, 27, 21, 5, 79, 42, 21, 5, 182, 0, 215, 172]
abbrev dktX6_setMacro_6 : List UInt8 := dkwX6_setMacro_6 ++ []
def dkwX6_setMacro_5 : List UInt8 := [180, 0, 54, 16, 8, 27, 104, 21, 5, 96, 21, 7, 184, 1, 33, 79, 132, 5, 1, 132, 6, 255]
abbrev dktX6_setMacro_5 : List UInt8 := dkwX6_setMacro_5 ++ dktX6_setMacro_6
def dkwX6_setMacro_4 : List UInt8 := [155, 0, 48, 32, 16, 8, 21, 6, 104, 125, 20, 1, 31, 127, 136, 54, 7, 21, 7, 153, 0, 23, 42]
abbrev dktX6_setMacro_4 : List UInt8 := dkwX6_setMacro_4 ++ dktX6_setMacro_5
def dkwX6_setMacro_3 : List UInt8 := [167, 255, 206, 21, 4, 154, 0, 9, 42, 5, 182, 0, 204, 172, 3, 54, 5, 16, 7, 54, 6, 21, 6]
abbrev dktX6_setMacro_3 : List UInt8 := dkwX6_setMacro_3 ++ dktX6_setMacro_4
def dkwX6_setMacro_2 : List UInt8 := [21, 6, 153, 0, 12, 21, 6, 184, 1, 33, 2, 159, 0, 7, 4, 167, 0, 4, 3, 54, 4, 132, 5, 1]
abbrev dktX6_setMacro_2 : List UInt8 := dkwX6_setMacro_2 ++ dktX6_setMacro_3
def dkwX6_setMacro_1 : List UInt8 := [16, 8, 162, 0, 49, 32, 16, 8, 21, 5, 104, 125, 20, 1, 31, 127, 136, 54, 6, 21, 4, 153, 0, 21]
abbrev dktX6_setMacro_1 : List UInt8 := dkwX6_setMacro_1 ++ dktX6_setMacro_2
def dkwX6_setMacro_0 : List UInt8 := [27, 3, 6, 184, 0, 200, 154, 0, 9, 42, 4, 182, 0, 204, 172, 4, 54, 4, 3, 54, 5, 21, 5]
abbrev dktX6_setMacro_0 : List UInt8 := dkwX6_setMacro_0 ++ dktX6_setMacro_1
theorem dksX6_setMacro_0 : cX6_setMacro.data.toList.drop 0 = dktX6_setMacro_0 := by decide +kernel
theorem dksX6_setMacro_1 : cX6_setMacro.data.toList.drop 23 = dktX6_setMacro_1 := dk_seg dksX6_setMacro_0 23 rfl rfl
theorem dksX6_setMacro_2 : cX6_setMacro.data.toList.drop 47 = dktX6_setMacro_2 := dk_seg dksX6_setMacro_1 24 rfl rfl
theorem dksX6_setMacro_3 : cX6_setMacro.data.toList.drop 71 = dktX6_setMacro_3 := dk_seg dksX6_setMacro_2 24 rfl rfl
theorem dksX6_setMacro_4 : cX6_setMacro.data.toList.drop 94 = dktX6_setMacro_4 := dk_seg dksX6_setMacro_3 23 rfl rfl
theorem dksX6_setMacro_5 : cX6_setMacro.data.toList.drop 117 = dktX6_setMacro_5 := dk_seg dksX6_setMacro_4 23 rfl rfl
theorem dksX6_setMacro_6 : cX6_setMacro.data.toList.drop 139 = dktX6_setMacro_6 := dk_seg dksX6_setMacro_5 22 rfl rfl
theorem dX6_setMacro_0 : decode cX6_setMacro 0 = .ok (.iload_n 1, 1) := dk_27 (dk_at dksX6_setMacro_0 0 rfl rfl)
theorem dX6_setMacro_1 : decode cX6_setMacro 1 = .ok (.iconst 0, 1) := dk_3 (dk_at dksX6_setMacro_0 1 rfl rfl)
theorem dX6_setMacro_2 : decode cX6_setMacro 2 = .ok (.iconst 3, 1) := dk_6 (dk_at dksX6_setMacro_0 2 rfl rfl)
theorem dX6_setMacro_3 : decode cX6_setMacro 3 = .ok (.invokestatic 200, 3) := dk_184 0 200 (dk_at dksX6_setMacro_0 3 rfl rfl)
theorem dX6_setMacro_6 : decode cX6_setMacro 6 = .ok (.ifCond .ne 9, 3) := dk_154 0 9 (dk_at dksX6_setMacro_0 6 rfl rfl)
theorem dX6_setMacro_9 : decode cX6_setMacro 9 = .ok (.aload_n 0, 1) := dk_42 (dk_at dksX6_setMacro_0 9 rfl rfl)
theorem dX6_setMacro_10 : decode cX6_setMacro 10 = .ok (.iconst 1, 1) := dk_4 (dk_at dksX6_setMacro_0 10 rfl rfl)
theorem dX6_setMacro_11 : decode cX6_setMacro 11 = .ok (.invokevirtual 204, 3) := dk_182 0 204 (dk_at dksX6_setMacro_0 11 rfl rfl)
theorem dX6_setMacro_14 : decode cX6_setMacro 14 = .ok (.ireturn, 1) := dk_172 (dk_at dksX6_setMacro_0 14 rfl rfl)
theorem dX6_setMacro_15 : decode cX6_setMacro 15 = .ok (.iconst 1, 1) := dk_4 (dk_at dksX6_setMacro_0 15 rfl rfl)
theorem dX6_setMacro_16 : decode cX6_setMacro 16 = .ok (.istore 4, 2) := dk_54 4 (dk_at dksX6_setMacro_0 16 rfl rfl)
theorem dX6_setMacro_18 : decode cX6_setMacro 18 = .ok (.iconst 0, 1) := dk_3 (dk_at dksX6_setMacro_0 18 rfl rfl)
theorem dX6_setMacro_19 : decode cX6_setMacro 19 = .ok (.istore 5, 2) := dk_54 5 (dk_at dksX6_setMacro_0 19 rfl rfl)
theorem dX6_setMacro_21 : decode cX6_setMacro 21 = .ok (.iload 5, 2) := dk_21 5 (dk_at dksX6_setMacro_0 21 rfl rfl)
theorem dX6_setMacro_23 : decode cX6_setMacro 23 = .ok (.bipush 8, 2) := dk_16 8 (dk_at dksX6_setMacro_1 0 rfl rfl)
theorem dX6_setMacro_25 : decode cX6_setMacro 25 = .ok (.if_icmp .ge 49, 3) := dk_162 0 49 (dk_at dksX6_setMacro_1 2 rfl rfl)
theorem dX6_setMacro_28 : decode cX6_setMacro 28 = .ok (.lload_n 2, 1) := dk_32 (dk_at dksX6_setMacro_1 5 rfl rfl)
theorem dX6_setMacro_29 : decode cX6_setMacro 29 = .ok (.bipush 8, 2) := dk_16 8 (dk_at dksX6_setMacro_1 6 rfl rfl)
theorem dX6_setMacro_31 : decode cX6_setMacro 31 = .ok (.iload 5, 2) := dk_21 5 (dk_at dksX6_setMacro_1 8 rfl rfl)
theorem dX6_setMacro_33 : decode cX6_setMacro 33 = .ok (.imul, 1) := dk_104 (dk_at dksX6_setMacro_1 10 rfl rfl)
theorem dX6_setMacro_34 : decode cX6_setMacro 34 = .ok (.lushr, 1) := dk_125 (dk_at dksX6_setMacro_1 11 rfl rfl)
theorem dX6_setMacro_35 : decode cX6_setMacro 35 = .ok (.ldc2_w 287, 3) := dk_20 1 31 (dk_at dksX6_setMacro_1 12 rfl rfl)
theorem dX6_setMacro_38 : decode cX6_setMacro 38 = .ok (.land, 1) := dk_127 (dk_at dksX6_setMacro_1 15 rfl rfl)
theorem dX6_setMacro_39 : decode cX6_setMacro 39 = .ok (.l2i, 1) := dk_136 (dk_at dksX6_setMacro_1 16 rfl rfl)
theorem dX6_setMacro_40 : decode cX6_setMacro 40 = .ok (.istore 6, 2) := dk_54 6 (dk_at dksX6_setMacro_1 17 rfl rfl)
theorem dX6_setMacro_42 : decode cX6_setMacro 42 = .ok (.iload 4, 2) := dk_21 4 (dk_at dksX6_setMacro_1 19 rfl rfl)
theorem dX6_setMacro_44 : decode cX6_setMacro 44 = .ok (.ifCond .eq 21, 3) := dk_153 0 21 (dk_at dksX6_setMacro_1 21 rfl rfl)
theorem dX6_setMacro_47 : decode cX6_setMacro 47 = .ok (.iload 6, 2) := dk_21 6 (dk_at dksX6_setMacro_2 0 rfl rfl)
theorem dX6_setMacro_49 : decode cX6_setMacro 49 = .ok (.ifCond .eq 12, 3) := dk_153 0 12 (dk_at dksX6_setMacro_2 2 rfl rfl)
theorem dX6_setMacro_52 : decode cX6_setMacro 52 = .ok (.iload 6, 2) := dk_21 6 (dk_at dksX6_setMacro_2 5 rfl rfl)
theorem dX6_setMacro_54 : decode cX6_setMacro 54 = .ok (.invokestatic 289, 3) := dk_184 1 33 (dk_at dksX6_setMacro_2 7 rfl rfl)
theorem dX6_setMacro_57 : decode cX6_setMacro 57 = .ok (.iconst (-1), 1) := dk_2 (dk_at dksX6_setMacro_2 10 rfl rfl)
theorem dX6_setMacro_58 : decode cX6_setMacro 58 = .ok (.if_icmp .eq 7, 3) := dk_159 0 7 (dk_at dksX6_setMacro_2 11 rfl rfl)
theorem dX6_setMacro_61 : decode cX6_setMacro 61 = .ok (.iconst 1, 1) := dk_4 (dk_at dksX6_setMacro_2 14 rfl rfl)
theorem dX6_setMacro_62 : decode cX6_setMacro 62 = .ok (.goto 4, 3) := dk_167 0 4 (dk_at dksX6_setMacro_2 15 rfl rfl)
theorem dX6_setMacro_65 : decode cX6_setMacro 65 = .ok (.iconst 0, 1) := dk_3 (dk_at dksX6_setMacro_2 18 rfl rfl)
theorem dX6_setMacro_66 : decode cX6_setMacro 66 = .ok (.istore 4, 2) := dk_54 4 (dk_at dksX6_setMacro_2 19 rfl rfl)
theorem dX6_setMacro_68 : decode cX6_setMacro 68 = .ok (.iinc 5 1, 3) := dk_132 5 1 (dk_at dksX6_setMacro_2 21 rfl rfl)
theorem dX6_setMacro_71 : decode cX6_setMacro 71 = .ok (.goto (-50), 3) := dk_167 255 206 (dk_at dksX6_setMacro_3 0 rfl rfl)
theorem dX6_setMacro_74 : decode cX6_setMacro 74 = .ok (.iload 4, 2) := dk_21 4 (dk_at dksX6_setMacro_3 3 rfl rfl)
theorem dX6_setMacro_76 : decode cX6_setMacro 76 = .ok (.ifCond .ne 9, 3) := dk_154 0 9 (dk_at dksX6_setMacro_3 5 rfl rfl)
theorem dX6_setMacro_79 : decode cX6_setMacro 79 = .ok (.aload_n 0, 1) := dk_42 (dk_at dksX6_setMacro_3 8 rfl rfl)
theorem dX6_setMacro_80 : decode cX6_setMacro 80 = .ok (.iconst 2, 1) := dk_5 (dk_at dksX6_setMacro_3 9 rfl rfl)
theorem dX6_setMacro_81 : decode cX6_setMacro 81 = .ok (.invokevirtual 204, 3) := dk_182 0 204 (dk_at dksX6_setMacro_3 10 rfl rfl)
theorem dX6_setMacro_84 : decode cX6_setMacro 84 = .ok (.ireturn, 1) := dk_172 (dk_at dksX6_setMacro_3 13 rfl rfl)
theorem dX6_setMacro_85 : decode cX6_setMacro 85 = .ok (.iconst 0, 1) := dk_3 (dk_at dksX6_setMacro_3 14 rfl rfl)
theorem dX6_setMacro_86 : decode cX6_setMacro 86 = .ok (.istore 5, 2) := dk_54 5 (dk_at dksX6_setMacro_3 15 rfl rfl)
theorem dX6_setMacro_88 : decode cX6_setMacro 88 = .ok (.bipush 7, 2) := dk_16 7 (dk_at dksX6_setMacro_3 17 rfl rfl)
theorem dX6_setMacro_90 : decode cX6_setMacro 90 = .ok (.istore 6, 2) := dk_54 6 (dk_at dksX6_setMacro_3 19 rfl rfl)
theorem dX6_setMacro_92 : decode cX6_setMacro 92 = .ok (.iload 6, 2) := dk_21 6 (dk_at dksX6_setMacro_3 21 rfl rfl)
theorem dX6_setMacro_94 : decode cX6_setMacro 94 = .ok (.ifCond .lt 48, 3) := dk_155 0 48 (dk_at dksX6_setMacro_4 0 rfl rfl)
theorem dX6_setMacro_97 : decode cX6_setMacro 97 = .ok (.lload_n 2, 1) := dk_32 (dk_at dksX6_setMacro_4 3 rfl rfl)
theorem dX6_setMacro_98 : decode cX6_setMacro 98 = .ok (.bipush 8, 2) := dk_16 8 (dk_at dksX6_setMacro_4 4 rfl rfl)
theorem dX6_setMacro_100 : decode cX6_setMacro 100 = .ok (.iload 6, 2) := dk_21 6 (dk_at dksX6_setMacro_4 6 rfl rfl)
theorem dX6_setMacro_102 : decode cX6_setMacro 102 = .ok (.imul, 1) := dk_104 (dk_at dksX6_setMacro_4 8 rfl rfl)
theorem dX6_setMacro_103 : decode cX6_setMacro 103 = .ok (.lushr, 1) := dk_125 (dk_at dksX6_setMacro_4 9 rfl rfl)
theorem dX6_setMacro_104 : decode cX6_setMacro 104 = .ok (.ldc2_w 287, 3) := dk_20 1 31 (dk_at dksX6_setMacro_4 10 rfl rfl)
theorem dX6_setMacro_107 : decode cX6_setMacro 107 = .ok (.land, 1) := dk_127 (dk_at dksX6_setMacro_4 13 rfl rfl)
theorem dX6_setMacro_108 : decode cX6_setMacro 108 = .ok (.l2i, 1) := dk_136 (dk_at dksX6_setMacro_4 14 rfl rfl)
theorem dX6_setMacro_109 : decode cX6_setMacro 109 = .ok (.istore 7, 2) := dk_54 7 (dk_at dksX6_setMacro_4 15 rfl rfl)
theorem dX6_setMacro_111 : decode cX6_setMacro 111 = .ok (.iload 7, 2) := dk_21 7 (dk_at dksX6_setMacro_4 17 rfl rfl)
theorem dX6_setMacro_113 : decode cX6_setMacro 113 = .ok (.ifCond .eq 23, 3) := dk_153 0 23 (dk_at dksX6_setMacro_4 19 rfl rfl)
theorem dX6_setMacro_116 : decode cX6_setMacro 116 = .ok (.aload_n 0, 1) := dk_42 (dk_at dksX6_setMacro_4 22 rfl rfl)
theorem dX6_setMacro_117 : decode cX6_setMacro 117 = .ok (.getfield 54, 3) := dk_180 0 54 (dk_at dksX6_setMacro_5 0 rfl rfl)
theorem dX6_setMacro_120 : decode cX6_setMacro 120 = .ok (.bipush 8, 2) := dk_16 8 (dk_at dksX6_setMacro_5 3 rfl rfl)
theorem dX6_setMacro_122 : decode cX6_setMacro 122 = .ok (.iload_n 1, 1) := dk_27 (dk_at dksX6_setMacro_5 5 rfl rfl)
theorem dX6_setMacro_123 : decode cX6_setMacro 123 = .ok (.imul, 1) := dk_104 (dk_at dksX6_setMacro_5 6 rfl rfl)
theorem dX6_setMacro_124 : decode cX6_setMacro 124 = .ok (.iload 5, 2) := dk_21 5 (dk_at dksX6_setMacro_5 7 rfl rfl)
theorem dX6_setMacro_126 : decode cX6_setMacro 126 = .ok (.iadd, 1) := dk_96 (dk_at dksX6_setMacro_5 9 rfl rfl)
theorem dX6_setMacro_127 : decode cX6_setMacro 127 = .ok (.iload 7, 2) := dk_21 7 (dk_at dksX6_setMacro_5 10 rfl rfl)
theorem dX6_setMacro_129 : decode cX6_setMacro 129 = .ok (.invokestatic 289, 3) := dk_184 1 33 (dk_at dksX6_setMacro_5 12 rfl rfl)
theorem dX6_setMacro_132 : decode cX6_setMacro 132 = .ok (.iastore, 1) := dk_79 (dk_at dksX6_setMacro_5 15 rfl rfl)
theorem dX6_setMacro_133 : decode cX6_setMacro 133 = .ok (.iinc 5 1, 3) := dk_132 5 1 (dk_at dksX6_setMacro_5 16 rfl rfl)
theorem dX6_setMacro_136 : decode cX6_setMacro 136 = .ok (.iinc 6 (-1), 3) := dk_132 6 255 (dk_at dksX6_setMacro_5 19 rfl rfl)
theorem dX6_setMacro_139 : decode cX6_setMacro 139 = .ok (.goto (-47), 3) := dk_167 255 209 (dk_at dksX6_setMacro_6 0 rfl rfl)
theorem dX6_setMacro_142 : decode cX6_setMacro 142 = .ok (.aload_n 0, 1) := dk_42 (dk_at dksX6_setMacro_6 3 rfl rfl)
theorem dX6_setMacro_143 : decode cX6_setMacro 143 = .ok (.getfield 51, 3) := dk_180 0 51 (dk_at dksX6_setMacro_6 4 rfl rfl)
theorem dX6_setMacro_146 : decode cX6_setMacro 146 = .ok (.iload_n 1, 1) := dk_27 (dk_at dksX6_setMacro_6 7 rfl rfl)
theorem dX6_setMacro_147 : decode cX6_setMacro 147 = .ok (.iload 5, 2) := dk_21 5 (dk_at dksX6_setMacro_6 8 rfl rfl)
theorem dX6_setMacro_149 : decode cX6_setMacro 149 = .ok (.iastore, 1) := dk_79 (dk_at dksX6_setMacro_6 10 rfl rfl)
theorem dX6_setMacro_150 : decode cX6_setMacro 150 = .ok (.aload_n 0, 1) := dk_42 (dk_at dksX6_setMacro_6 11 rfl rfl)
theorem dX6_setMacro_151 : decode cX6_setMacro 151 = .ok (.iload 5, 2) := dk_21 5 (dk_at dksX6_setMacro_6 12 rfl rfl)
theorem dX6_setMacro_153 : decode cX6_setMacro 153 = .ok (.invokevirtual 215, 3) := dk_182 0 215 (dk_at dksX6_setMacro_6 14 rfl rfl)
theorem dX6_setMacro_156 : decode cX6_setMacro 156 = .ok (.ireturn, 1) := dk_172 (dk_at dksX6_setMacro_6 17 rfl rfl)
abbrev cX6_directionOf : ByteArray := prog_15_method_43_code
def yX6_directionOf : MethodName := ⟨RX6, "directionOf", "(I)I"⟩
def dkwX6_directionOf_1 : List UInt8 := [160, 0, 7, 5, 167, 0, 14, 26, 16, 100, 160, 0, 7, 6, 167, 0, 4, 2, 172]
abbrev dktX6_directionOf_1 : List UInt8 := dkwX6_directionOf_1 ++ []
def dkwX6_directionOf_0 : List UInt8 := [26, 16, 117, 160, 0, 7, 3, 167, 0, 34, 26, 16, 108, 160, 0, 7, 4, 167, 0, 24, 26, 16, 114]
abbrev dktX6_directionOf_0 : List UInt8 := dkwX6_directionOf_0 ++ dktX6_directionOf_1
theorem dksX6_directionOf_0 : cX6_directionOf.data.toList.drop 0 = dktX6_directionOf_0 := by decide +kernel
theorem dksX6_directionOf_1 : cX6_directionOf.data.toList.drop 23 = dktX6_directionOf_1 := dk_seg dksX6_directionOf_0 23 rfl rfl
theorem dX6_directionOf_0 : decode cX6_directionOf 0 = .ok (.iload_n 0, 1) := dk_26 (dk_at dksX6_directionOf_0 0 rfl rfl)
theorem dX6_directionOf_1 : decode cX6_directionOf 1 = .ok (.bipush 117, 2) := dk_16 117 (dk_at dksX6_directionOf_0 1 rfl rfl)
theorem dX6_directionOf_3 : decode cX6_directionOf 3 = .ok (.if_icmp .ne 7, 3) := dk_160 0 7 (dk_at dksX6_directionOf_0 3 rfl rfl)
theorem dX6_directionOf_6 : decode cX6_directionOf 6 = .ok (.iconst 0, 1) := dk_3 (dk_at dksX6_directionOf_0 6 rfl rfl)
theorem dX6_directionOf_7 : decode cX6_directionOf 7 = .ok (.goto 34, 3) := dk_167 0 34 (dk_at dksX6_directionOf_0 7 rfl rfl)
theorem dX6_directionOf_10 : decode cX6_directionOf 10 = .ok (.iload_n 0, 1) := dk_26 (dk_at dksX6_directionOf_0 10 rfl rfl)
theorem dX6_directionOf_11 : decode cX6_directionOf 11 = .ok (.bipush 108, 2) := dk_16 108 (dk_at dksX6_directionOf_0 11 rfl rfl)
theorem dX6_directionOf_13 : decode cX6_directionOf 13 = .ok (.if_icmp .ne 7, 3) := dk_160 0 7 (dk_at dksX6_directionOf_0 13 rfl rfl)
theorem dX6_directionOf_16 : decode cX6_directionOf 16 = .ok (.iconst 1, 1) := dk_4 (dk_at dksX6_directionOf_0 16 rfl rfl)
theorem dX6_directionOf_17 : decode cX6_directionOf 17 = .ok (.goto 24, 3) := dk_167 0 24 (dk_at dksX6_directionOf_0 17 rfl rfl)
theorem dX6_directionOf_20 : decode cX6_directionOf 20 = .ok (.iload_n 0, 1) := dk_26 (dk_at dksX6_directionOf_0 20 rfl rfl)
theorem dX6_directionOf_21 : decode cX6_directionOf 21 = .ok (.bipush 114, 2) := dk_16 114 (dk_at dksX6_directionOf_0 21 rfl rfl)
theorem dX6_directionOf_23 : decode cX6_directionOf 23 = .ok (.if_icmp .ne 7, 3) := dk_160 0 7 (dk_at dksX6_directionOf_1 0 rfl rfl)
theorem dX6_directionOf_26 : decode cX6_directionOf 26 = .ok (.iconst 2, 1) := dk_5 (dk_at dksX6_directionOf_1 3 rfl rfl)
theorem dX6_directionOf_27 : decode cX6_directionOf 27 = .ok (.goto 14, 3) := dk_167 0 14 (dk_at dksX6_directionOf_1 4 rfl rfl)
theorem dX6_directionOf_30 : decode cX6_directionOf 30 = .ok (.iload_n 0, 1) := dk_26 (dk_at dksX6_directionOf_1 7 rfl rfl)
theorem dX6_directionOf_31 : decode cX6_directionOf 31 = .ok (.bipush 100, 2) := dk_16 100 (dk_at dksX6_directionOf_1 8 rfl rfl)
theorem dX6_directionOf_33 : decode cX6_directionOf 33 = .ok (.if_icmp .ne 7, 3) := dk_160 0 7 (dk_at dksX6_directionOf_1 10 rfl rfl)
theorem dX6_directionOf_36 : decode cX6_directionOf 36 = .ok (.iconst 3, 1) := dk_6 (dk_at dksX6_directionOf_1 13 rfl rfl)
theorem dX6_directionOf_37 : decode cX6_directionOf 37 = .ok (.goto 4, 3) := dk_167 0 4 (dk_at dksX6_directionOf_1 14 rfl rfl)
theorem dX6_directionOf_40 : decode cX6_directionOf 40 = .ok (.iconst (-1), 1) := dk_2 (dk_at dksX6_directionOf_1 17 rfl rfl)
theorem dX6_directionOf_41 : decode cX6_directionOf 41 = .ok (.ireturn, 1) := dk_172 (dk_at dksX6_directionOf_1 18 rfl rfl)
abbrev cX6_play : ByteArray := prog_15_method_45_code
def yX6_play : MethodName := ⟨RX6, "play", "(II)I"⟩
def dkwX6_play_4 : List UInt8 := [182, 0, 215, 172]
abbrev dktX6_play_4 : List UInt8 := dkwX6_play_4 ++ []
def dkwX6_play_3 : List UInt8 := [42, 180, 0, 51, 27, 46, 112, 96, 46, 182, 1, 29, 2, 159, 0, 9, 132, 3, 1, 167, 255, 215, 42, 29]
abbrev dktX6_play_3 : List UInt8 := dkwX6_play_3 ++ dktX6_play_4
def dkwX6_play_2 : List UInt8 := [3, 62, 29, 28, 42, 180, 0, 51, 27, 46, 104, 162, 0, 35, 42, 42, 180, 0, 54, 16, 8, 27, 104, 29]
abbrev dktX6_play_2 : List UInt8 := dkwX6_play_2 ++ dktX6_play_3
def dkwX6_play_1 : List UInt8 := [154, 0, 9, 42, 5, 182, 0, 204, 172, 42, 180, 0, 51, 27, 46, 154, 0, 9, 42, 6, 182, 0, 204, 172]
abbrev dktX6_play_1 : List UInt8 := dkwX6_play_1 ++ dktX6_play_2
def dkwX6_play_0 : List UInt8 := [27, 3, 6, 184, 0, 200, 154, 0, 9, 42, 4, 182, 0, 204, 172, 28, 4, 16, 20, 184, 0, 200]
abbrev dktX6_play_0 : List UInt8 := dkwX6_play_0 ++ dktX6_play_1
theorem dksX6_play_0 : cX6_play.data.toList.drop 0 = dktX6_play_0 := by decide +kernel
theorem dksX6_play_1 : cX6_play.data.toList.drop 22 = dktX6_play_1 := dk_seg dksX6_play_0 22 rfl rfl
theorem dksX6_play_2 : cX6_play.data.toList.drop 46 = dktX6_play_2 := dk_seg dksX6_play_1 24 rfl rfl
theorem dksX6_play_3 : cX6_play.data.toList.drop 70 = dktX6_play_3 := dk_seg dksX6_play_2 24 rfl rfl
theorem dksX6_play_4 : cX6_play.data.toList.drop 94 = dktX6_play_4 := dk_seg dksX6_play_3 24 rfl rfl
theorem dX6_play_0 : decode cX6_play 0 = .ok (.iload_n 1, 1) := dk_27 (dk_at dksX6_play_0 0 rfl rfl)
theorem dX6_play_1 : decode cX6_play 1 = .ok (.iconst 0, 1) := dk_3 (dk_at dksX6_play_0 1 rfl rfl)
theorem dX6_play_2 : decode cX6_play 2 = .ok (.iconst 3, 1) := dk_6 (dk_at dksX6_play_0 2 rfl rfl)
theorem dX6_play_3 : decode cX6_play 3 = .ok (.invokestatic 200, 3) := dk_184 0 200 (dk_at dksX6_play_0 3 rfl rfl)
theorem dX6_play_6 : decode cX6_play 6 = .ok (.ifCond .ne 9, 3) := dk_154 0 9 (dk_at dksX6_play_0 6 rfl rfl)
theorem dX6_play_9 : decode cX6_play 9 = .ok (.aload_n 0, 1) := dk_42 (dk_at dksX6_play_0 9 rfl rfl)
theorem dX6_play_10 : decode cX6_play 10 = .ok (.iconst 1, 1) := dk_4 (dk_at dksX6_play_0 10 rfl rfl)
theorem dX6_play_11 : decode cX6_play 11 = .ok (.invokevirtual 204, 3) := dk_182 0 204 (dk_at dksX6_play_0 11 rfl rfl)
theorem dX6_play_14 : decode cX6_play 14 = .ok (.ireturn, 1) := dk_172 (dk_at dksX6_play_0 14 rfl rfl)
theorem dX6_play_15 : decode cX6_play 15 = .ok (.iload_n 2, 1) := dk_28 (dk_at dksX6_play_0 15 rfl rfl)
theorem dX6_play_16 : decode cX6_play 16 = .ok (.iconst 1, 1) := dk_4 (dk_at dksX6_play_0 16 rfl rfl)
theorem dX6_play_17 : decode cX6_play 17 = .ok (.bipush 20, 2) := dk_16 20 (dk_at dksX6_play_0 17 rfl rfl)
theorem dX6_play_19 : decode cX6_play 19 = .ok (.invokestatic 200, 3) := dk_184 0 200 (dk_at dksX6_play_0 19 rfl rfl)
theorem dX6_play_22 : decode cX6_play 22 = .ok (.ifCond .ne 9, 3) := dk_154 0 9 (dk_at dksX6_play_1 0 rfl rfl)
theorem dX6_play_25 : decode cX6_play 25 = .ok (.aload_n 0, 1) := dk_42 (dk_at dksX6_play_1 3 rfl rfl)
theorem dX6_play_26 : decode cX6_play 26 = .ok (.iconst 2, 1) := dk_5 (dk_at dksX6_play_1 4 rfl rfl)
theorem dX6_play_27 : decode cX6_play 27 = .ok (.invokevirtual 204, 3) := dk_182 0 204 (dk_at dksX6_play_1 5 rfl rfl)
theorem dX6_play_30 : decode cX6_play 30 = .ok (.ireturn, 1) := dk_172 (dk_at dksX6_play_1 8 rfl rfl)
theorem dX6_play_31 : decode cX6_play 31 = .ok (.aload_n 0, 1) := dk_42 (dk_at dksX6_play_1 9 rfl rfl)
theorem dX6_play_32 : decode cX6_play 32 = .ok (.getfield 51, 3) := dk_180 0 51 (dk_at dksX6_play_1 10 rfl rfl)
theorem dX6_play_35 : decode cX6_play 35 = .ok (.iload_n 1, 1) := dk_27 (dk_at dksX6_play_1 13 rfl rfl)
theorem dX6_play_36 : decode cX6_play 36 = .ok (.iaload, 1) := dk_46 (dk_at dksX6_play_1 14 rfl rfl)
theorem dX6_play_37 : decode cX6_play 37 = .ok (.ifCond .ne 9, 3) := dk_154 0 9 (dk_at dksX6_play_1 15 rfl rfl)
theorem dX6_play_40 : decode cX6_play 40 = .ok (.aload_n 0, 1) := dk_42 (dk_at dksX6_play_1 18 rfl rfl)
theorem dX6_play_41 : decode cX6_play 41 = .ok (.iconst 3, 1) := dk_6 (dk_at dksX6_play_1 19 rfl rfl)
theorem dX6_play_42 : decode cX6_play 42 = .ok (.invokevirtual 204, 3) := dk_182 0 204 (dk_at dksX6_play_1 20 rfl rfl)
theorem dX6_play_45 : decode cX6_play 45 = .ok (.ireturn, 1) := dk_172 (dk_at dksX6_play_1 23 rfl rfl)
theorem dX6_play_46 : decode cX6_play 46 = .ok (.iconst 0, 1) := dk_3 (dk_at dksX6_play_2 0 rfl rfl)
theorem dX6_play_47 : decode cX6_play 47 = .ok (.istore_n 3, 1) := dk_62 (dk_at dksX6_play_2 1 rfl rfl)
theorem dX6_play_48 : decode cX6_play 48 = .ok (.iload_n 3, 1) := dk_29 (dk_at dksX6_play_2 2 rfl rfl)
theorem dX6_play_49 : decode cX6_play 49 = .ok (.iload_n 2, 1) := dk_28 (dk_at dksX6_play_2 3 rfl rfl)
theorem dX6_play_50 : decode cX6_play 50 = .ok (.aload_n 0, 1) := dk_42 (dk_at dksX6_play_2 4 rfl rfl)
theorem dX6_play_51 : decode cX6_play 51 = .ok (.getfield 51, 3) := dk_180 0 51 (dk_at dksX6_play_2 5 rfl rfl)
theorem dX6_play_54 : decode cX6_play 54 = .ok (.iload_n 1, 1) := dk_27 (dk_at dksX6_play_2 8 rfl rfl)
theorem dX6_play_55 : decode cX6_play 55 = .ok (.iaload, 1) := dk_46 (dk_at dksX6_play_2 9 rfl rfl)
theorem dX6_play_56 : decode cX6_play 56 = .ok (.imul, 1) := dk_104 (dk_at dksX6_play_2 10 rfl rfl)
theorem dX6_play_57 : decode cX6_play 57 = .ok (.if_icmp .ge 35, 3) := dk_162 0 35 (dk_at dksX6_play_2 11 rfl rfl)
theorem dX6_play_60 : decode cX6_play 60 = .ok (.aload_n 0, 1) := dk_42 (dk_at dksX6_play_2 14 rfl rfl)
theorem dX6_play_61 : decode cX6_play 61 = .ok (.aload_n 0, 1) := dk_42 (dk_at dksX6_play_2 15 rfl rfl)
theorem dX6_play_62 : decode cX6_play 62 = .ok (.getfield 54, 3) := dk_180 0 54 (dk_at dksX6_play_2 16 rfl rfl)
theorem dX6_play_65 : decode cX6_play 65 = .ok (.bipush 8, 2) := dk_16 8 (dk_at dksX6_play_2 19 rfl rfl)
theorem dX6_play_67 : decode cX6_play 67 = .ok (.iload_n 1, 1) := dk_27 (dk_at dksX6_play_2 21 rfl rfl)
theorem dX6_play_68 : decode cX6_play 68 = .ok (.imul, 1) := dk_104 (dk_at dksX6_play_2 22 rfl rfl)
theorem dX6_play_69 : decode cX6_play 69 = .ok (.iload_n 3, 1) := dk_29 (dk_at dksX6_play_2 23 rfl rfl)
theorem dX6_play_70 : decode cX6_play 70 = .ok (.aload_n 0, 1) := dk_42 (dk_at dksX6_play_3 0 rfl rfl)
theorem dX6_play_71 : decode cX6_play 71 = .ok (.getfield 51, 3) := dk_180 0 51 (dk_at dksX6_play_3 1 rfl rfl)
theorem dX6_play_74 : decode cX6_play 74 = .ok (.iload_n 1, 1) := dk_27 (dk_at dksX6_play_3 4 rfl rfl)
theorem dX6_play_75 : decode cX6_play 75 = .ok (.iaload, 1) := dk_46 (dk_at dksX6_play_3 5 rfl rfl)
theorem dX6_play_76 : decode cX6_play 76 = .ok (.irem, 1) := dk_112 (dk_at dksX6_play_3 6 rfl rfl)
theorem dX6_play_77 : decode cX6_play 77 = .ok (.iadd, 1) := dk_96 (dk_at dksX6_play_3 7 rfl rfl)
theorem dX6_play_78 : decode cX6_play 78 = .ok (.iaload, 1) := dk_46 (dk_at dksX6_play_3 8 rfl rfl)
theorem dX6_play_79 : decode cX6_play 79 = .ok (.invokevirtual 285, 3) := dk_182 1 29 (dk_at dksX6_play_3 9 rfl rfl)
theorem dX6_play_82 : decode cX6_play 82 = .ok (.iconst (-1), 1) := dk_2 (dk_at dksX6_play_3 12 rfl rfl)
theorem dX6_play_83 : decode cX6_play 83 = .ok (.if_icmp .eq 9, 3) := dk_159 0 9 (dk_at dksX6_play_3 13 rfl rfl)
theorem dX6_play_86 : decode cX6_play 86 = .ok (.iinc 3 1, 3) := dk_132 3 1 (dk_at dksX6_play_3 16 rfl rfl)
theorem dX6_play_89 : decode cX6_play 89 = .ok (.goto (-41), 3) := dk_167 255 215 (dk_at dksX6_play_3 19 rfl rfl)
theorem dX6_play_92 : decode cX6_play 92 = .ok (.aload_n 0, 1) := dk_42 (dk_at dksX6_play_3 22 rfl rfl)
theorem dX6_play_93 : decode cX6_play 93 = .ok (.iload_n 3, 1) := dk_29 (dk_at dksX6_play_3 23 rfl rfl)
theorem dX6_play_94 : decode cX6_play 94 = .ok (.invokevirtual 215, 3) := dk_182 0 215 (dk_at dksX6_play_4 0 rfl rfl)
theorem dX6_play_97 : decode cX6_play 97 = .ok (.ireturn, 1) := dk_172 (dk_at dksX6_play_4 3 rfl rfl)
abbrev cX6_keep : ByteArray := prog_15_method_46_code
def yX6_keep : MethodName := ⟨RX6, "keep", "(I)J"⟩
def dkwX6_keep_5 : List UInt8 := [180, 0, 33, 182, 1, 18, 173]
abbrev dktX6_keep_5 : List UInt8 := dkwX6_keep_5 ++ []
def dkwX6_keep_4 : List UInt8 := [28, 96, 42, 180, 0, 42, 28, 51, 84, 132, 2, 1, 167, 255, 179, 42, 180, 0, 69, 27, 4, 84, 42, 42]
abbrev dktX6_keep_4 : List UInt8 := dkwX6_keep_4 ++ dktX6_keep_5
def dkwX6_keep_3 : List UInt8 := [180, 0, 63, 16, 16, 27, 104, 28, 96, 42, 180, 0, 39, 28, 46, 79, 42, 180, 0, 66, 16, 16, 27, 104]
abbrev dktX6_keep_3 : List UInt8 := dkwX6_keep_3 ++ dktX6_keep_4
def dkwX6_keep_2 : List UInt8 := [180, 0, 33, 28, 46, 79, 42, 180, 0, 60, 16, 16, 27, 104, 28, 96, 42, 180, 0, 36, 28, 46, 79, 42]
abbrev dktX6_keep_2 : List UInt8 := dkwX6_keep_2 ++ dktX6_keep_3
def dkwX6_keep_1 : List UInt8 := [153, 0, 5, 9, 173, 3, 61, 28, 16, 16, 162, 0, 77, 42, 180, 0, 57, 16, 16, 27, 104, 28, 96, 42]
abbrev dktX6_keep_1 : List UInt8 := dkwX6_keep_1 ++ dktX6_keep_2
def dkwX6_keep_0 : List UInt8 := [42, 27, 3, 4, 184, 0, 200, 153, 0, 7, 3, 167, 0, 4, 4, 181, 0, 167, 42, 180, 0, 167]
abbrev dktX6_keep_0 : List UInt8 := dkwX6_keep_0 ++ dktX6_keep_1
theorem dksX6_keep_0 : cX6_keep.data.toList.drop 0 = dktX6_keep_0 := by decide +kernel
theorem dksX6_keep_1 : cX6_keep.data.toList.drop 22 = dktX6_keep_1 := dk_seg dksX6_keep_0 22 rfl rfl
theorem dksX6_keep_2 : cX6_keep.data.toList.drop 46 = dktX6_keep_2 := dk_seg dksX6_keep_1 24 rfl rfl
theorem dksX6_keep_3 : cX6_keep.data.toList.drop 70 = dktX6_keep_3 := dk_seg dksX6_keep_2 24 rfl rfl
theorem dksX6_keep_4 : cX6_keep.data.toList.drop 94 = dktX6_keep_4 := dk_seg dksX6_keep_3 24 rfl rfl
theorem dksX6_keep_5 : cX6_keep.data.toList.drop 118 = dktX6_keep_5 := dk_seg dksX6_keep_4 24 rfl rfl
theorem dX6_keep_0 : decode cX6_keep 0 = .ok (.aload_n 0, 1) := dk_42 (dk_at dksX6_keep_0 0 rfl rfl)
theorem dX6_keep_1 : decode cX6_keep 1 = .ok (.iload_n 1, 1) := dk_27 (dk_at dksX6_keep_0 1 rfl rfl)
theorem dX6_keep_2 : decode cX6_keep 2 = .ok (.iconst 0, 1) := dk_3 (dk_at dksX6_keep_0 2 rfl rfl)
theorem dX6_keep_3 : decode cX6_keep 3 = .ok (.iconst 1, 1) := dk_4 (dk_at dksX6_keep_0 3 rfl rfl)
theorem dX6_keep_4 : decode cX6_keep 4 = .ok (.invokestatic 200, 3) := dk_184 0 200 (dk_at dksX6_keep_0 4 rfl rfl)
theorem dX6_keep_7 : decode cX6_keep 7 = .ok (.ifCond .eq 7, 3) := dk_153 0 7 (dk_at dksX6_keep_0 7 rfl rfl)
theorem dX6_keep_10 : decode cX6_keep 10 = .ok (.iconst 0, 1) := dk_3 (dk_at dksX6_keep_0 10 rfl rfl)
theorem dX6_keep_11 : decode cX6_keep 11 = .ok (.goto 4, 3) := dk_167 0 4 (dk_at dksX6_keep_0 11 rfl rfl)
theorem dX6_keep_14 : decode cX6_keep 14 = .ok (.iconst 1, 1) := dk_4 (dk_at dksX6_keep_0 14 rfl rfl)
theorem dX6_keep_15 : decode cX6_keep 15 = .ok (.putfield 167, 3) := dk_181 0 167 (dk_at dksX6_keep_0 15 rfl rfl)
theorem dX6_keep_18 : decode cX6_keep 18 = .ok (.aload_n 0, 1) := dk_42 (dk_at dksX6_keep_0 18 rfl rfl)
theorem dX6_keep_19 : decode cX6_keep 19 = .ok (.getfield 167, 3) := dk_180 0 167 (dk_at dksX6_keep_0 19 rfl rfl)
theorem dX6_keep_22 : decode cX6_keep 22 = .ok (.ifCond .eq 5, 3) := dk_153 0 5 (dk_at dksX6_keep_1 0 rfl rfl)
theorem dX6_keep_25 : decode cX6_keep 25 = .ok (.lconst 0, 1) := dk_9 (dk_at dksX6_keep_1 3 rfl rfl)
theorem dX6_keep_26 : decode cX6_keep 26 = .ok (.lreturn, 1) := dk_173 (dk_at dksX6_keep_1 4 rfl rfl)
theorem dX6_keep_27 : decode cX6_keep 27 = .ok (.iconst 0, 1) := dk_3 (dk_at dksX6_keep_1 5 rfl rfl)
theorem dX6_keep_28 : decode cX6_keep 28 = .ok (.istore_n 2, 1) := dk_61 (dk_at dksX6_keep_1 6 rfl rfl)
theorem dX6_keep_29 : decode cX6_keep 29 = .ok (.iload_n 2, 1) := dk_28 (dk_at dksX6_keep_1 7 rfl rfl)
theorem dX6_keep_30 : decode cX6_keep 30 = .ok (.bipush 16, 2) := dk_16 16 (dk_at dksX6_keep_1 8 rfl rfl)
theorem dX6_keep_32 : decode cX6_keep 32 = .ok (.if_icmp .ge 77, 3) := dk_162 0 77 (dk_at dksX6_keep_1 10 rfl rfl)
theorem dX6_keep_35 : decode cX6_keep 35 = .ok (.aload_n 0, 1) := dk_42 (dk_at dksX6_keep_1 13 rfl rfl)
theorem dX6_keep_36 : decode cX6_keep 36 = .ok (.getfield 57, 3) := dk_180 0 57 (dk_at dksX6_keep_1 14 rfl rfl)
theorem dX6_keep_39 : decode cX6_keep 39 = .ok (.bipush 16, 2) := dk_16 16 (dk_at dksX6_keep_1 17 rfl rfl)
theorem dX6_keep_41 : decode cX6_keep 41 = .ok (.iload_n 1, 1) := dk_27 (dk_at dksX6_keep_1 19 rfl rfl)
theorem dX6_keep_42 : decode cX6_keep 42 = .ok (.imul, 1) := dk_104 (dk_at dksX6_keep_1 20 rfl rfl)
theorem dX6_keep_43 : decode cX6_keep 43 = .ok (.iload_n 2, 1) := dk_28 (dk_at dksX6_keep_1 21 rfl rfl)
theorem dX6_keep_44 : decode cX6_keep 44 = .ok (.iadd, 1) := dk_96 (dk_at dksX6_keep_1 22 rfl rfl)
theorem dX6_keep_45 : decode cX6_keep 45 = .ok (.aload_n 0, 1) := dk_42 (dk_at dksX6_keep_1 23 rfl rfl)
theorem dX6_keep_46 : decode cX6_keep 46 = .ok (.getfield 33, 3) := dk_180 0 33 (dk_at dksX6_keep_2 0 rfl rfl)
theorem dX6_keep_49 : decode cX6_keep 49 = .ok (.iload_n 2, 1) := dk_28 (dk_at dksX6_keep_2 3 rfl rfl)
theorem dX6_keep_50 : decode cX6_keep 50 = .ok (.iaload, 1) := dk_46 (dk_at dksX6_keep_2 4 rfl rfl)
theorem dX6_keep_51 : decode cX6_keep 51 = .ok (.iastore, 1) := dk_79 (dk_at dksX6_keep_2 5 rfl rfl)
theorem dX6_keep_52 : decode cX6_keep 52 = .ok (.aload_n 0, 1) := dk_42 (dk_at dksX6_keep_2 6 rfl rfl)
theorem dX6_keep_53 : decode cX6_keep 53 = .ok (.getfield 60, 3) := dk_180 0 60 (dk_at dksX6_keep_2 7 rfl rfl)
theorem dX6_keep_56 : decode cX6_keep 56 = .ok (.bipush 16, 2) := dk_16 16 (dk_at dksX6_keep_2 10 rfl rfl)
theorem dX6_keep_58 : decode cX6_keep 58 = .ok (.iload_n 1, 1) := dk_27 (dk_at dksX6_keep_2 12 rfl rfl)
theorem dX6_keep_59 : decode cX6_keep 59 = .ok (.imul, 1) := dk_104 (dk_at dksX6_keep_2 13 rfl rfl)
theorem dX6_keep_60 : decode cX6_keep 60 = .ok (.iload_n 2, 1) := dk_28 (dk_at dksX6_keep_2 14 rfl rfl)
theorem dX6_keep_61 : decode cX6_keep 61 = .ok (.iadd, 1) := dk_96 (dk_at dksX6_keep_2 15 rfl rfl)
theorem dX6_keep_62 : decode cX6_keep 62 = .ok (.aload_n 0, 1) := dk_42 (dk_at dksX6_keep_2 16 rfl rfl)
theorem dX6_keep_63 : decode cX6_keep 63 = .ok (.getfield 36, 3) := dk_180 0 36 (dk_at dksX6_keep_2 17 rfl rfl)
theorem dX6_keep_66 : decode cX6_keep 66 = .ok (.iload_n 2, 1) := dk_28 (dk_at dksX6_keep_2 20 rfl rfl)
theorem dX6_keep_67 : decode cX6_keep 67 = .ok (.iaload, 1) := dk_46 (dk_at dksX6_keep_2 21 rfl rfl)
theorem dX6_keep_68 : decode cX6_keep 68 = .ok (.iastore, 1) := dk_79 (dk_at dksX6_keep_2 22 rfl rfl)
theorem dX6_keep_69 : decode cX6_keep 69 = .ok (.aload_n 0, 1) := dk_42 (dk_at dksX6_keep_2 23 rfl rfl)
theorem dX6_keep_70 : decode cX6_keep 70 = .ok (.getfield 63, 3) := dk_180 0 63 (dk_at dksX6_keep_3 0 rfl rfl)
theorem dX6_keep_73 : decode cX6_keep 73 = .ok (.bipush 16, 2) := dk_16 16 (dk_at dksX6_keep_3 3 rfl rfl)
theorem dX6_keep_75 : decode cX6_keep 75 = .ok (.iload_n 1, 1) := dk_27 (dk_at dksX6_keep_3 5 rfl rfl)
theorem dX6_keep_76 : decode cX6_keep 76 = .ok (.imul, 1) := dk_104 (dk_at dksX6_keep_3 6 rfl rfl)
theorem dX6_keep_77 : decode cX6_keep 77 = .ok (.iload_n 2, 1) := dk_28 (dk_at dksX6_keep_3 7 rfl rfl)
theorem dX6_keep_78 : decode cX6_keep 78 = .ok (.iadd, 1) := dk_96 (dk_at dksX6_keep_3 8 rfl rfl)
theorem dX6_keep_79 : decode cX6_keep 79 = .ok (.aload_n 0, 1) := dk_42 (dk_at dksX6_keep_3 9 rfl rfl)
theorem dX6_keep_80 : decode cX6_keep 80 = .ok (.getfield 39, 3) := dk_180 0 39 (dk_at dksX6_keep_3 10 rfl rfl)
theorem dX6_keep_83 : decode cX6_keep 83 = .ok (.iload_n 2, 1) := dk_28 (dk_at dksX6_keep_3 13 rfl rfl)
theorem dX6_keep_84 : decode cX6_keep 84 = .ok (.iaload, 1) := dk_46 (dk_at dksX6_keep_3 14 rfl rfl)
theorem dX6_keep_85 : decode cX6_keep 85 = .ok (.iastore, 1) := dk_79 (dk_at dksX6_keep_3 15 rfl rfl)
theorem dX6_keep_86 : decode cX6_keep 86 = .ok (.aload_n 0, 1) := dk_42 (dk_at dksX6_keep_3 16 rfl rfl)
theorem dX6_keep_87 : decode cX6_keep 87 = .ok (.getfield 66, 3) := dk_180 0 66 (dk_at dksX6_keep_3 17 rfl rfl)
theorem dX6_keep_90 : decode cX6_keep 90 = .ok (.bipush 16, 2) := dk_16 16 (dk_at dksX6_keep_3 20 rfl rfl)
theorem dX6_keep_92 : decode cX6_keep 92 = .ok (.iload_n 1, 1) := dk_27 (dk_at dksX6_keep_3 22 rfl rfl)
theorem dX6_keep_93 : decode cX6_keep 93 = .ok (.imul, 1) := dk_104 (dk_at dksX6_keep_3 23 rfl rfl)
theorem dX6_keep_94 : decode cX6_keep 94 = .ok (.iload_n 2, 1) := dk_28 (dk_at dksX6_keep_4 0 rfl rfl)
theorem dX6_keep_95 : decode cX6_keep 95 = .ok (.iadd, 1) := dk_96 (dk_at dksX6_keep_4 1 rfl rfl)
theorem dX6_keep_96 : decode cX6_keep 96 = .ok (.aload_n 0, 1) := dk_42 (dk_at dksX6_keep_4 2 rfl rfl)
theorem dX6_keep_97 : decode cX6_keep 97 = .ok (.getfield 42, 3) := dk_180 0 42 (dk_at dksX6_keep_4 3 rfl rfl)
theorem dX6_keep_100 : decode cX6_keep 100 = .ok (.iload_n 2, 1) := dk_28 (dk_at dksX6_keep_4 6 rfl rfl)
theorem dX6_keep_101 : decode cX6_keep 101 = .ok (.baload, 1) := dk_51 (dk_at dksX6_keep_4 7 rfl rfl)
theorem dX6_keep_102 : decode cX6_keep 102 = .ok (.bastore, 1) := dk_84 (dk_at dksX6_keep_4 8 rfl rfl)
theorem dX6_keep_103 : decode cX6_keep 103 = .ok (.iinc 2 1, 3) := dk_132 2 1 (dk_at dksX6_keep_4 9 rfl rfl)
theorem dX6_keep_106 : decode cX6_keep 106 = .ok (.goto (-77), 3) := dk_167 255 179 (dk_at dksX6_keep_4 12 rfl rfl)
theorem dX6_keep_109 : decode cX6_keep 109 = .ok (.aload_n 0, 1) := dk_42 (dk_at dksX6_keep_4 15 rfl rfl)
theorem dX6_keep_110 : decode cX6_keep 110 = .ok (.getfield 69, 3) := dk_180 0 69 (dk_at dksX6_keep_4 16 rfl rfl)
theorem dX6_keep_113 : decode cX6_keep 113 = .ok (.iload_n 1, 1) := dk_27 (dk_at dksX6_keep_4 19 rfl rfl)
theorem dX6_keep_114 : decode cX6_keep 114 = .ok (.iconst 1, 1) := dk_4 (dk_at dksX6_keep_4 20 rfl rfl)
theorem dX6_keep_115 : decode cX6_keep 115 = .ok (.bastore, 1) := dk_84 (dk_at dksX6_keep_4 21 rfl rfl)
theorem dX6_keep_116 : decode cX6_keep 116 = .ok (.aload_n 0, 1) := dk_42 (dk_at dksX6_keep_4 22 rfl rfl)
theorem dX6_keep_117 : decode cX6_keep 117 = .ok (.aload_n 0, 1) := dk_42 (dk_at dksX6_keep_4 23 rfl rfl)
theorem dX6_keep_118 : decode cX6_keep 118 = .ok (.getfield 33, 3) := dk_180 0 33 (dk_at dksX6_keep_5 0 rfl rfl)
theorem dX6_keep_121 : decode cX6_keep 121 = .ok (.invokevirtual 274, 3) := dk_182 1 18 (dk_at dksX6_keep_5 3 rfl rfl)
theorem dX6_keep_124 : decode cX6_keep 124 = .ok (.lreturn, 1) := dk_173 (dk_at dksX6_keep_5 6 rfl rfl)
abbrev cX6_restore : ByteArray := prog_15_method_47_code
def yX6_restore : MethodName := ⟨RX6, "restore", "(I)I"⟩
def dkwX6_restore_5 : List UInt8 := [181, 0, 184, 42, 42, 180, 0, 7, 42, 42, 180, 0, 33, 182, 0, 242, 46, 182, 0, 215, 172]
abbrev dktX6_restore_5 : List UInt8 := dkwX6_restore_5 ++ []
def dkwX6_restore_4 : List UInt8 := [180, 0, 66, 16, 16, 27, 104, 28, 96, 51, 84, 132, 2, 1, 167, 255, 179, 42, 3, 181, 0, 181, 42, 3]
abbrev dktX6_restore_4 : List UInt8 := dkwX6_restore_4 ++ dktX6_restore_5
def dkwX6_restore_3 : List UInt8 := [79, 42, 180, 0, 39, 28, 42, 180, 0, 63, 16, 16, 27, 104, 28, 96, 46, 79, 42, 180, 0, 42, 28, 42]
abbrev dktX6_restore_3 : List UInt8 := dkwX6_restore_3 ++ dktX6_restore_4
def dkwX6_restore_2 : List UInt8 := [16, 16, 27, 104, 28, 96, 46, 79, 42, 180, 0, 36, 28, 42, 180, 0, 60, 16, 16, 27, 104, 28, 96, 46]
abbrev dktX6_restore_2 : List UInt8 := dkwX6_restore_2 ++ dktX6_restore_3
def dkwX6_restore_1 : List UInt8 := [42, 5, 182, 0, 204, 172, 3, 61, 28, 16, 16, 162, 0, 77, 42, 180, 0, 33, 28, 42, 180, 0, 57]
abbrev dktX6_restore_1 : List UInt8 := dkwX6_restore_1 ++ dktX6_restore_2
def dkwX6_restore_0 : List UInt8 := [27, 3, 4, 184, 0, 200, 154, 0, 9, 42, 4, 182, 0, 204, 172, 42, 180, 0, 69, 27, 51, 154, 0, 9]
abbrev dktX6_restore_0 : List UInt8 := dkwX6_restore_0 ++ dktX6_restore_1
theorem dksX6_restore_0 : cX6_restore.data.toList.drop 0 = dktX6_restore_0 := by decide +kernel
theorem dksX6_restore_1 : cX6_restore.data.toList.drop 24 = dktX6_restore_1 := dk_seg dksX6_restore_0 24 rfl rfl
theorem dksX6_restore_2 : cX6_restore.data.toList.drop 47 = dktX6_restore_2 := dk_seg dksX6_restore_1 23 rfl rfl
theorem dksX6_restore_3 : cX6_restore.data.toList.drop 71 = dktX6_restore_3 := dk_seg dksX6_restore_2 24 rfl rfl
theorem dksX6_restore_4 : cX6_restore.data.toList.drop 95 = dktX6_restore_4 := dk_seg dksX6_restore_3 24 rfl rfl
theorem dksX6_restore_5 : cX6_restore.data.toList.drop 119 = dktX6_restore_5 := dk_seg dksX6_restore_4 24 rfl rfl
theorem dX6_restore_0 : decode cX6_restore 0 = .ok (.iload_n 1, 1) := dk_27 (dk_at dksX6_restore_0 0 rfl rfl)
theorem dX6_restore_1 : decode cX6_restore 1 = .ok (.iconst 0, 1) := dk_3 (dk_at dksX6_restore_0 1 rfl rfl)
theorem dX6_restore_2 : decode cX6_restore 2 = .ok (.iconst 1, 1) := dk_4 (dk_at dksX6_restore_0 2 rfl rfl)
theorem dX6_restore_3 : decode cX6_restore 3 = .ok (.invokestatic 200, 3) := dk_184 0 200 (dk_at dksX6_restore_0 3 rfl rfl)
theorem dX6_restore_6 : decode cX6_restore 6 = .ok (.ifCond .ne 9, 3) := dk_154 0 9 (dk_at dksX6_restore_0 6 rfl rfl)
theorem dX6_restore_9 : decode cX6_restore 9 = .ok (.aload_n 0, 1) := dk_42 (dk_at dksX6_restore_0 9 rfl rfl)
theorem dX6_restore_10 : decode cX6_restore 10 = .ok (.iconst 1, 1) := dk_4 (dk_at dksX6_restore_0 10 rfl rfl)
theorem dX6_restore_11 : decode cX6_restore 11 = .ok (.invokevirtual 204, 3) := dk_182 0 204 (dk_at dksX6_restore_0 11 rfl rfl)
theorem dX6_restore_14 : decode cX6_restore 14 = .ok (.ireturn, 1) := dk_172 (dk_at dksX6_restore_0 14 rfl rfl)
theorem dX6_restore_15 : decode cX6_restore 15 = .ok (.aload_n 0, 1) := dk_42 (dk_at dksX6_restore_0 15 rfl rfl)
theorem dX6_restore_16 : decode cX6_restore 16 = .ok (.getfield 69, 3) := dk_180 0 69 (dk_at dksX6_restore_0 16 rfl rfl)
theorem dX6_restore_19 : decode cX6_restore 19 = .ok (.iload_n 1, 1) := dk_27 (dk_at dksX6_restore_0 19 rfl rfl)
theorem dX6_restore_20 : decode cX6_restore 20 = .ok (.baload, 1) := dk_51 (dk_at dksX6_restore_0 20 rfl rfl)
theorem dX6_restore_21 : decode cX6_restore 21 = .ok (.ifCond .ne 9, 3) := dk_154 0 9 (dk_at dksX6_restore_0 21 rfl rfl)
theorem dX6_restore_24 : decode cX6_restore 24 = .ok (.aload_n 0, 1) := dk_42 (dk_at dksX6_restore_1 0 rfl rfl)
theorem dX6_restore_25 : decode cX6_restore 25 = .ok (.iconst 2, 1) := dk_5 (dk_at dksX6_restore_1 1 rfl rfl)
theorem dX6_restore_26 : decode cX6_restore 26 = .ok (.invokevirtual 204, 3) := dk_182 0 204 (dk_at dksX6_restore_1 2 rfl rfl)
theorem dX6_restore_29 : decode cX6_restore 29 = .ok (.ireturn, 1) := dk_172 (dk_at dksX6_restore_1 5 rfl rfl)
theorem dX6_restore_30 : decode cX6_restore 30 = .ok (.iconst 0, 1) := dk_3 (dk_at dksX6_restore_1 6 rfl rfl)
theorem dX6_restore_31 : decode cX6_restore 31 = .ok (.istore_n 2, 1) := dk_61 (dk_at dksX6_restore_1 7 rfl rfl)
theorem dX6_restore_32 : decode cX6_restore 32 = .ok (.iload_n 2, 1) := dk_28 (dk_at dksX6_restore_1 8 rfl rfl)
theorem dX6_restore_33 : decode cX6_restore 33 = .ok (.bipush 16, 2) := dk_16 16 (dk_at dksX6_restore_1 9 rfl rfl)
theorem dX6_restore_35 : decode cX6_restore 35 = .ok (.if_icmp .ge 77, 3) := dk_162 0 77 (dk_at dksX6_restore_1 11 rfl rfl)
theorem dX6_restore_38 : decode cX6_restore 38 = .ok (.aload_n 0, 1) := dk_42 (dk_at dksX6_restore_1 14 rfl rfl)
theorem dX6_restore_39 : decode cX6_restore 39 = .ok (.getfield 33, 3) := dk_180 0 33 (dk_at dksX6_restore_1 15 rfl rfl)
theorem dX6_restore_42 : decode cX6_restore 42 = .ok (.iload_n 2, 1) := dk_28 (dk_at dksX6_restore_1 18 rfl rfl)
theorem dX6_restore_43 : decode cX6_restore 43 = .ok (.aload_n 0, 1) := dk_42 (dk_at dksX6_restore_1 19 rfl rfl)
theorem dX6_restore_44 : decode cX6_restore 44 = .ok (.getfield 57, 3) := dk_180 0 57 (dk_at dksX6_restore_1 20 rfl rfl)
theorem dX6_restore_47 : decode cX6_restore 47 = .ok (.bipush 16, 2) := dk_16 16 (dk_at dksX6_restore_2 0 rfl rfl)
theorem dX6_restore_49 : decode cX6_restore 49 = .ok (.iload_n 1, 1) := dk_27 (dk_at dksX6_restore_2 2 rfl rfl)
theorem dX6_restore_50 : decode cX6_restore 50 = .ok (.imul, 1) := dk_104 (dk_at dksX6_restore_2 3 rfl rfl)
theorem dX6_restore_51 : decode cX6_restore 51 = .ok (.iload_n 2, 1) := dk_28 (dk_at dksX6_restore_2 4 rfl rfl)
theorem dX6_restore_52 : decode cX6_restore 52 = .ok (.iadd, 1) := dk_96 (dk_at dksX6_restore_2 5 rfl rfl)
theorem dX6_restore_53 : decode cX6_restore 53 = .ok (.iaload, 1) := dk_46 (dk_at dksX6_restore_2 6 rfl rfl)
theorem dX6_restore_54 : decode cX6_restore 54 = .ok (.iastore, 1) := dk_79 (dk_at dksX6_restore_2 7 rfl rfl)
theorem dX6_restore_55 : decode cX6_restore 55 = .ok (.aload_n 0, 1) := dk_42 (dk_at dksX6_restore_2 8 rfl rfl)
theorem dX6_restore_56 : decode cX6_restore 56 = .ok (.getfield 36, 3) := dk_180 0 36 (dk_at dksX6_restore_2 9 rfl rfl)
theorem dX6_restore_59 : decode cX6_restore 59 = .ok (.iload_n 2, 1) := dk_28 (dk_at dksX6_restore_2 12 rfl rfl)
theorem dX6_restore_60 : decode cX6_restore 60 = .ok (.aload_n 0, 1) := dk_42 (dk_at dksX6_restore_2 13 rfl rfl)
theorem dX6_restore_61 : decode cX6_restore 61 = .ok (.getfield 60, 3) := dk_180 0 60 (dk_at dksX6_restore_2 14 rfl rfl)
theorem dX6_restore_64 : decode cX6_restore 64 = .ok (.bipush 16, 2) := dk_16 16 (dk_at dksX6_restore_2 17 rfl rfl)
theorem dX6_restore_66 : decode cX6_restore 66 = .ok (.iload_n 1, 1) := dk_27 (dk_at dksX6_restore_2 19 rfl rfl)
theorem dX6_restore_67 : decode cX6_restore 67 = .ok (.imul, 1) := dk_104 (dk_at dksX6_restore_2 20 rfl rfl)
theorem dX6_restore_68 : decode cX6_restore 68 = .ok (.iload_n 2, 1) := dk_28 (dk_at dksX6_restore_2 21 rfl rfl)
theorem dX6_restore_69 : decode cX6_restore 69 = .ok (.iadd, 1) := dk_96 (dk_at dksX6_restore_2 22 rfl rfl)
theorem dX6_restore_70 : decode cX6_restore 70 = .ok (.iaload, 1) := dk_46 (dk_at dksX6_restore_2 23 rfl rfl)
theorem dX6_restore_71 : decode cX6_restore 71 = .ok (.iastore, 1) := dk_79 (dk_at dksX6_restore_3 0 rfl rfl)
theorem dX6_restore_72 : decode cX6_restore 72 = .ok (.aload_n 0, 1) := dk_42 (dk_at dksX6_restore_3 1 rfl rfl)
theorem dX6_restore_73 : decode cX6_restore 73 = .ok (.getfield 39, 3) := dk_180 0 39 (dk_at dksX6_restore_3 2 rfl rfl)
theorem dX6_restore_76 : decode cX6_restore 76 = .ok (.iload_n 2, 1) := dk_28 (dk_at dksX6_restore_3 5 rfl rfl)
theorem dX6_restore_77 : decode cX6_restore 77 = .ok (.aload_n 0, 1) := dk_42 (dk_at dksX6_restore_3 6 rfl rfl)
theorem dX6_restore_78 : decode cX6_restore 78 = .ok (.getfield 63, 3) := dk_180 0 63 (dk_at dksX6_restore_3 7 rfl rfl)
theorem dX6_restore_81 : decode cX6_restore 81 = .ok (.bipush 16, 2) := dk_16 16 (dk_at dksX6_restore_3 10 rfl rfl)
theorem dX6_restore_83 : decode cX6_restore 83 = .ok (.iload_n 1, 1) := dk_27 (dk_at dksX6_restore_3 12 rfl rfl)
theorem dX6_restore_84 : decode cX6_restore 84 = .ok (.imul, 1) := dk_104 (dk_at dksX6_restore_3 13 rfl rfl)
theorem dX6_restore_85 : decode cX6_restore 85 = .ok (.iload_n 2, 1) := dk_28 (dk_at dksX6_restore_3 14 rfl rfl)
theorem dX6_restore_86 : decode cX6_restore 86 = .ok (.iadd, 1) := dk_96 (dk_at dksX6_restore_3 15 rfl rfl)
theorem dX6_restore_87 : decode cX6_restore 87 = .ok (.iaload, 1) := dk_46 (dk_at dksX6_restore_3 16 rfl rfl)
theorem dX6_restore_88 : decode cX6_restore 88 = .ok (.iastore, 1) := dk_79 (dk_at dksX6_restore_3 17 rfl rfl)
theorem dX6_restore_89 : decode cX6_restore 89 = .ok (.aload_n 0, 1) := dk_42 (dk_at dksX6_restore_3 18 rfl rfl)
theorem dX6_restore_90 : decode cX6_restore 90 = .ok (.getfield 42, 3) := dk_180 0 42 (dk_at dksX6_restore_3 19 rfl rfl)
theorem dX6_restore_93 : decode cX6_restore 93 = .ok (.iload_n 2, 1) := dk_28 (dk_at dksX6_restore_3 22 rfl rfl)
theorem dX6_restore_94 : decode cX6_restore 94 = .ok (.aload_n 0, 1) := dk_42 (dk_at dksX6_restore_3 23 rfl rfl)
theorem dX6_restore_95 : decode cX6_restore 95 = .ok (.getfield 66, 3) := dk_180 0 66 (dk_at dksX6_restore_4 0 rfl rfl)
theorem dX6_restore_98 : decode cX6_restore 98 = .ok (.bipush 16, 2) := dk_16 16 (dk_at dksX6_restore_4 3 rfl rfl)
theorem dX6_restore_100 : decode cX6_restore 100 = .ok (.iload_n 1, 1) := dk_27 (dk_at dksX6_restore_4 5 rfl rfl)
theorem dX6_restore_101 : decode cX6_restore 101 = .ok (.imul, 1) := dk_104 (dk_at dksX6_restore_4 6 rfl rfl)
theorem dX6_restore_102 : decode cX6_restore 102 = .ok (.iload_n 2, 1) := dk_28 (dk_at dksX6_restore_4 7 rfl rfl)
theorem dX6_restore_103 : decode cX6_restore 103 = .ok (.iadd, 1) := dk_96 (dk_at dksX6_restore_4 8 rfl rfl)
theorem dX6_restore_104 : decode cX6_restore 104 = .ok (.baload, 1) := dk_51 (dk_at dksX6_restore_4 9 rfl rfl)
theorem dX6_restore_105 : decode cX6_restore 105 = .ok (.bastore, 1) := dk_84 (dk_at dksX6_restore_4 10 rfl rfl)
theorem dX6_restore_106 : decode cX6_restore 106 = .ok (.iinc 2 1, 3) := dk_132 2 1 (dk_at dksX6_restore_4 11 rfl rfl)
theorem dX6_restore_109 : decode cX6_restore 109 = .ok (.goto (-77), 3) := dk_167 255 179 (dk_at dksX6_restore_4 14 rfl rfl)
theorem dX6_restore_112 : decode cX6_restore 112 = .ok (.aload_n 0, 1) := dk_42 (dk_at dksX6_restore_4 17 rfl rfl)
theorem dX6_restore_113 : decode cX6_restore 113 = .ok (.iconst 0, 1) := dk_3 (dk_at dksX6_restore_4 18 rfl rfl)
theorem dX6_restore_114 : decode cX6_restore 114 = .ok (.putfield 181, 3) := dk_181 0 181 (dk_at dksX6_restore_4 19 rfl rfl)
theorem dX6_restore_117 : decode cX6_restore 117 = .ok (.aload_n 0, 1) := dk_42 (dk_at dksX6_restore_4 22 rfl rfl)
theorem dX6_restore_118 : decode cX6_restore 118 = .ok (.iconst 0, 1) := dk_3 (dk_at dksX6_restore_4 23 rfl rfl)
theorem dX6_restore_119 : decode cX6_restore 119 = .ok (.putfield 184, 3) := dk_181 0 184 (dk_at dksX6_restore_5 0 rfl rfl)
theorem dX6_restore_122 : decode cX6_restore 122 = .ok (.aload_n 0, 1) := dk_42 (dk_at dksX6_restore_5 3 rfl rfl)
theorem dX6_restore_123 : decode cX6_restore 123 = .ok (.aload_n 0, 1) := dk_42 (dk_at dksX6_restore_5 4 rfl rfl)
theorem dX6_restore_124 : decode cX6_restore 124 = .ok (.getfield 7, 3) := dk_180 0 7 (dk_at dksX6_restore_5 5 rfl rfl)
theorem dX6_restore_127 : decode cX6_restore 127 = .ok (.aload_n 0, 1) := dk_42 (dk_at dksX6_restore_5 8 rfl rfl)
theorem dX6_restore_128 : decode cX6_restore 128 = .ok (.aload_n 0, 1) := dk_42 (dk_at dksX6_restore_5 9 rfl rfl)
theorem dX6_restore_129 : decode cX6_restore 129 = .ok (.getfield 33, 3) := dk_180 0 33 (dk_at dksX6_restore_5 10 rfl rfl)
theorem dX6_restore_132 : decode cX6_restore 132 = .ok (.invokevirtual 242, 3) := dk_182 0 242 (dk_at dksX6_restore_5 13 rfl rfl)
theorem dX6_restore_135 : decode cX6_restore 135 = .ok (.iaload, 1) := dk_46 (dk_at dksX6_restore_5 16 rfl rfl)
theorem dX6_restore_136 : decode cX6_restore 136 = .ok (.invokevirtual 215, 3) := dk_182 0 215 (dk_at dksX6_restore_5 17 rfl rfl)
theorem dX6_restore_139 : decode cX6_restore 139 = .ok (.ireturn, 1) := dk_172 (dk_at dksX6_restore_5 20 rfl rfl)
abbrev cX6_tileAt : ByteArray := prog_15_method_48_code
def yX6_tileAt : MethodName := ⟨RX6, "tileAt", "(I)I"⟩
def dkwX6_tileAt_2 : List UInt8 := [46, 46, 182, 0, 215, 172]
abbrev dktX6_tileAt_2 : List UInt8 := dkwX6_tileAt_2 ++ []
def dkwX6_tileAt_1 : List UInt8 := [172, 42, 42, 180, 0, 22, 27, 51, 153, 0, 7, 2, 167, 0, 14, 42, 180, 0, 33, 42, 180, 0, 13, 27]
abbrev dktX6_tileAt_1 : List UInt8 := dkwX6_tileAt_1 ++ dktX6_tileAt_2
def dkwX6_tileAt_0 : List UInt8 := [27, 3, 42, 180, 0, 26, 42, 180, 0, 30, 104, 4, 100, 184, 0, 200, 154, 0, 9, 42, 4, 182, 0, 204]
abbrev dktX6_tileAt_0 : List UInt8 := dkwX6_tileAt_0 ++ dktX6_tileAt_1
theorem dksX6_tileAt_0 : cX6_tileAt.data.toList.drop 0 = dktX6_tileAt_0 := by decide +kernel
theorem dksX6_tileAt_1 : cX6_tileAt.data.toList.drop 24 = dktX6_tileAt_1 := dk_seg dksX6_tileAt_0 24 rfl rfl
theorem dksX6_tileAt_2 : cX6_tileAt.data.toList.drop 48 = dktX6_tileAt_2 := dk_seg dksX6_tileAt_1 24 rfl rfl
theorem dX6_tileAt_0 : decode cX6_tileAt 0 = .ok (.iload_n 1, 1) := dk_27 (dk_at dksX6_tileAt_0 0 rfl rfl)
theorem dX6_tileAt_1 : decode cX6_tileAt 1 = .ok (.iconst 0, 1) := dk_3 (dk_at dksX6_tileAt_0 1 rfl rfl)
theorem dX6_tileAt_2 : decode cX6_tileAt 2 = .ok (.aload_n 0, 1) := dk_42 (dk_at dksX6_tileAt_0 2 rfl rfl)
theorem dX6_tileAt_3 : decode cX6_tileAt 3 = .ok (.getfield 26, 3) := dk_180 0 26 (dk_at dksX6_tileAt_0 3 rfl rfl)
theorem dX6_tileAt_6 : decode cX6_tileAt 6 = .ok (.aload_n 0, 1) := dk_42 (dk_at dksX6_tileAt_0 6 rfl rfl)
theorem dX6_tileAt_7 : decode cX6_tileAt 7 = .ok (.getfield 30, 3) := dk_180 0 30 (dk_at dksX6_tileAt_0 7 rfl rfl)
theorem dX6_tileAt_10 : decode cX6_tileAt 10 = .ok (.imul, 1) := dk_104 (dk_at dksX6_tileAt_0 10 rfl rfl)
theorem dX6_tileAt_11 : decode cX6_tileAt 11 = .ok (.iconst 1, 1) := dk_4 (dk_at dksX6_tileAt_0 11 rfl rfl)
theorem dX6_tileAt_12 : decode cX6_tileAt 12 = .ok (.isub, 1) := dk_100 (dk_at dksX6_tileAt_0 12 rfl rfl)
theorem dX6_tileAt_13 : decode cX6_tileAt 13 = .ok (.invokestatic 200, 3) := dk_184 0 200 (dk_at dksX6_tileAt_0 13 rfl rfl)
theorem dX6_tileAt_16 : decode cX6_tileAt 16 = .ok (.ifCond .ne 9, 3) := dk_154 0 9 (dk_at dksX6_tileAt_0 16 rfl rfl)
theorem dX6_tileAt_19 : decode cX6_tileAt 19 = .ok (.aload_n 0, 1) := dk_42 (dk_at dksX6_tileAt_0 19 rfl rfl)
theorem dX6_tileAt_20 : decode cX6_tileAt 20 = .ok (.iconst 1, 1) := dk_4 (dk_at dksX6_tileAt_0 20 rfl rfl)
theorem dX6_tileAt_21 : decode cX6_tileAt 21 = .ok (.invokevirtual 204, 3) := dk_182 0 204 (dk_at dksX6_tileAt_0 21 rfl rfl)
theorem dX6_tileAt_24 : decode cX6_tileAt 24 = .ok (.ireturn, 1) := dk_172 (dk_at dksX6_tileAt_1 0 rfl rfl)
theorem dX6_tileAt_25 : decode cX6_tileAt 25 = .ok (.aload_n 0, 1) := dk_42 (dk_at dksX6_tileAt_1 1 rfl rfl)
theorem dX6_tileAt_26 : decode cX6_tileAt 26 = .ok (.aload_n 0, 1) := dk_42 (dk_at dksX6_tileAt_1 2 rfl rfl)
theorem dX6_tileAt_27 : decode cX6_tileAt 27 = .ok (.getfield 22, 3) := dk_180 0 22 (dk_at dksX6_tileAt_1 3 rfl rfl)
theorem dX6_tileAt_30 : decode cX6_tileAt 30 = .ok (.iload_n 1, 1) := dk_27 (dk_at dksX6_tileAt_1 6 rfl rfl)
theorem dX6_tileAt_31 : decode cX6_tileAt 31 = .ok (.baload, 1) := dk_51 (dk_at dksX6_tileAt_1 7 rfl rfl)
theorem dX6_tileAt_32 : decode cX6_tileAt 32 = .ok (.ifCond .eq 7, 3) := dk_153 0 7 (dk_at dksX6_tileAt_1 8 rfl rfl)
theorem dX6_tileAt_35 : decode cX6_tileAt 35 = .ok (.iconst (-1), 1) := dk_2 (dk_at dksX6_tileAt_1 11 rfl rfl)
theorem dX6_tileAt_36 : decode cX6_tileAt 36 = .ok (.goto 14, 3) := dk_167 0 14 (dk_at dksX6_tileAt_1 12 rfl rfl)
theorem dX6_tileAt_39 : decode cX6_tileAt 39 = .ok (.aload_n 0, 1) := dk_42 (dk_at dksX6_tileAt_1 15 rfl rfl)
theorem dX6_tileAt_40 : decode cX6_tileAt 40 = .ok (.getfield 33, 3) := dk_180 0 33 (dk_at dksX6_tileAt_1 16 rfl rfl)
theorem dX6_tileAt_43 : decode cX6_tileAt 43 = .ok (.aload_n 0, 1) := dk_42 (dk_at dksX6_tileAt_1 19 rfl rfl)
theorem dX6_tileAt_44 : decode cX6_tileAt 44 = .ok (.getfield 13, 3) := dk_180 0 13 (dk_at dksX6_tileAt_1 20 rfl rfl)
theorem dX6_tileAt_47 : decode cX6_tileAt 47 = .ok (.iload_n 1, 1) := dk_27 (dk_at dksX6_tileAt_1 23 rfl rfl)
theorem dX6_tileAt_48 : decode cX6_tileAt 48 = .ok (.iaload, 1) := dk_46 (dk_at dksX6_tileAt_2 0 rfl rfl)
theorem dX6_tileAt_49 : decode cX6_tileAt 49 = .ok (.iaload, 1) := dk_46 (dk_at dksX6_tileAt_2 1 rfl rfl)
theorem dX6_tileAt_50 : decode cX6_tileAt 50 = .ok (.invokevirtual 215, 3) := dk_182 0 215 (dk_at dksX6_tileAt_2 2 rfl rfl)
theorem dX6_tileAt_53 : decode cX6_tileAt 53 = .ok (.ireturn, 1) := dk_172 (dk_at dksX6_tileAt_2 5 rfl rfl)
abbrev cX6_rank : ByteArray := prog_15_method_49_code
def yX6_rank : MethodName := ⟨RX6, "rank", "()J"⟩
def dkwX6_rank_0 : List UInt8 := [42, 3, 181, 0, 167, 42, 42, 180, 0, 33, 182, 1, 18, 173]
abbrev dktX6_rank_0 : List UInt8 := dkwX6_rank_0 ++ []
theorem dksX6_rank_0 : cX6_rank.data.toList.drop 0 = dktX6_rank_0 := by decide +kernel
theorem dX6_rank_0 : decode cX6_rank 0 = .ok (.aload_n 0, 1) := dk_42 (dk_at dksX6_rank_0 0 rfl rfl)
theorem dX6_rank_1 : decode cX6_rank 1 = .ok (.iconst 0, 1) := dk_3 (dk_at dksX6_rank_0 1 rfl rfl)
theorem dX6_rank_2 : decode cX6_rank 2 = .ok (.putfield 167, 3) := dk_181 0 167 (dk_at dksX6_rank_0 2 rfl rfl)
theorem dX6_rank_5 : decode cX6_rank 5 = .ok (.aload_n 0, 1) := dk_42 (dk_at dksX6_rank_0 5 rfl rfl)
theorem dX6_rank_6 : decode cX6_rank 6 = .ok (.aload_n 0, 1) := dk_42 (dk_at dksX6_rank_0 6 rfl rfl)
theorem dX6_rank_7 : decode cX6_rank 7 = .ok (.getfield 33, 3) := dk_180 0 33 (dk_at dksX6_rank_0 7 rfl rfl)
theorem dX6_rank_10 : decode cX6_rank 10 = .ok (.invokevirtual 274, 3) := dk_182 1 18 (dk_at dksX6_rank_0 10 rfl rfl)
theorem dX6_rank_13 : decode cX6_rank 13 = .ok (.lreturn, 1) := dk_173 (dk_at dksX6_rank_0 13 rfl rfl)
abbrev cX6_inversions : ByteArray := prog_15_method_51_code
def yX6_inversions : MethodName := ⟨RX6, "inversions", "()I"⟩
def dkwX6_inversions_0 : List UInt8 := [42, 42, 42, 180, 0, 33, 182, 1, 36, 182, 0, 215, 172]
abbrev dktX6_inversions_0 : List UInt8 := dkwX6_inversions_0 ++ []
theorem dksX6_inversions_0 : cX6_inversions.data.toList.drop 0 = dktX6_inversions_0 := by decide +kernel
theorem dX6_inversions_0 : decode cX6_inversions 0 = .ok (.aload_n 0, 1) := dk_42 (dk_at dksX6_inversions_0 0 rfl rfl)
theorem dX6_inversions_1 : decode cX6_inversions 1 = .ok (.aload_n 0, 1) := dk_42 (dk_at dksX6_inversions_0 1 rfl rfl)
theorem dX6_inversions_2 : decode cX6_inversions 2 = .ok (.aload_n 0, 1) := dk_42 (dk_at dksX6_inversions_0 2 rfl rfl)
theorem dX6_inversions_3 : decode cX6_inversions 3 = .ok (.getfield 33, 3) := dk_180 0 33 (dk_at dksX6_inversions_0 3 rfl rfl)
theorem dX6_inversions_6 : decode cX6_inversions 6 = .ok (.invokevirtual 292, 3) := dk_182 1 36 (dk_at dksX6_inversions_0 6 rfl rfl)
theorem dX6_inversions_9 : decode cX6_inversions 9 = .ok (.invokevirtual 215, 3) := dk_182 0 215 (dk_at dksX6_inversions_0 9 rfl rfl)
theorem dX6_inversions_12 : decode cX6_inversions 12 = .ok (.ireturn, 1) := dk_172 (dk_at dksX6_inversions_0 12 rfl rfl)
abbrev cX6_inversionsOf : ByteArray := prog_15_method_50_code
def yX6_inversionsOf : MethodName := ⟨RX6, "inversionsOf", "([I)I"⟩
def dkwX6_inversionsOf_2 : List UInt8 := [132, 4, 1, 167, 255, 221, 132, 3, 1, 167, 255, 204, 28, 172]
abbrev dktX6_inversionsOf_2 : List UInt8 := dkwX6_inversionsOf_2 ++ []
def dkwX6_inversionsOf_1 : List UInt8 := [21, 4, 46, 182, 0, 218, 42, 43, 29, 46, 182, 0, 218, 164, 0, 7, 4, 167, 0, 4, 3, 96, 61]
abbrev dktX6_inversionsOf_1 : List UInt8 := dkwX6_inversionsOf_1 ++ dktX6_inversionsOf_2
def dkwX6_inversionsOf_0 : List UInt8 := [3, 61, 3, 62, 29, 42, 180, 0, 170, 162, 0, 50, 3, 54, 4, 21, 4, 29, 162, 0, 35, 28, 42, 43]
abbrev dktX6_inversionsOf_0 : List UInt8 := dkwX6_inversionsOf_0 ++ dktX6_inversionsOf_1
theorem dksX6_inversionsOf_0 : cX6_inversionsOf.data.toList.drop 0 = dktX6_inversionsOf_0 := by decide +kernel
theorem dksX6_inversionsOf_1 : cX6_inversionsOf.data.toList.drop 24 = dktX6_inversionsOf_1 := dk_seg dksX6_inversionsOf_0 24 rfl rfl
theorem dksX6_inversionsOf_2 : cX6_inversionsOf.data.toList.drop 47 = dktX6_inversionsOf_2 := dk_seg dksX6_inversionsOf_1 23 rfl rfl
theorem dX6_inversionsOf_0 : decode cX6_inversionsOf 0 = .ok (.iconst 0, 1) := dk_3 (dk_at dksX6_inversionsOf_0 0 rfl rfl)
theorem dX6_inversionsOf_1 : decode cX6_inversionsOf 1 = .ok (.istore_n 2, 1) := dk_61 (dk_at dksX6_inversionsOf_0 1 rfl rfl)
theorem dX6_inversionsOf_2 : decode cX6_inversionsOf 2 = .ok (.iconst 0, 1) := dk_3 (dk_at dksX6_inversionsOf_0 2 rfl rfl)
theorem dX6_inversionsOf_3 : decode cX6_inversionsOf 3 = .ok (.istore_n 3, 1) := dk_62 (dk_at dksX6_inversionsOf_0 3 rfl rfl)
theorem dX6_inversionsOf_4 : decode cX6_inversionsOf 4 = .ok (.iload_n 3, 1) := dk_29 (dk_at dksX6_inversionsOf_0 4 rfl rfl)
theorem dX6_inversionsOf_5 : decode cX6_inversionsOf 5 = .ok (.aload_n 0, 1) := dk_42 (dk_at dksX6_inversionsOf_0 5 rfl rfl)
theorem dX6_inversionsOf_6 : decode cX6_inversionsOf 6 = .ok (.getfield 170, 3) := dk_180 0 170 (dk_at dksX6_inversionsOf_0 6 rfl rfl)
theorem dX6_inversionsOf_9 : decode cX6_inversionsOf 9 = .ok (.if_icmp .ge 50, 3) := dk_162 0 50 (dk_at dksX6_inversionsOf_0 9 rfl rfl)
theorem dX6_inversionsOf_12 : decode cX6_inversionsOf 12 = .ok (.iconst 0, 1) := dk_3 (dk_at dksX6_inversionsOf_0 12 rfl rfl)
theorem dX6_inversionsOf_13 : decode cX6_inversionsOf 13 = .ok (.istore 4, 2) := dk_54 4 (dk_at dksX6_inversionsOf_0 13 rfl rfl)
theorem dX6_inversionsOf_15 : decode cX6_inversionsOf 15 = .ok (.iload 4, 2) := dk_21 4 (dk_at dksX6_inversionsOf_0 15 rfl rfl)
theorem dX6_inversionsOf_17 : decode cX6_inversionsOf 17 = .ok (.iload_n 3, 1) := dk_29 (dk_at dksX6_inversionsOf_0 17 rfl rfl)
theorem dX6_inversionsOf_18 : decode cX6_inversionsOf 18 = .ok (.if_icmp .ge 35, 3) := dk_162 0 35 (dk_at dksX6_inversionsOf_0 18 rfl rfl)
theorem dX6_inversionsOf_21 : decode cX6_inversionsOf 21 = .ok (.iload_n 2, 1) := dk_28 (dk_at dksX6_inversionsOf_0 21 rfl rfl)
theorem dX6_inversionsOf_22 : decode cX6_inversionsOf 22 = .ok (.aload_n 0, 1) := dk_42 (dk_at dksX6_inversionsOf_0 22 rfl rfl)
theorem dX6_inversionsOf_23 : decode cX6_inversionsOf 23 = .ok (.aload_n 1, 1) := dk_43 (dk_at dksX6_inversionsOf_0 23 rfl rfl)
theorem dX6_inversionsOf_24 : decode cX6_inversionsOf 24 = .ok (.iload 4, 2) := dk_21 4 (dk_at dksX6_inversionsOf_1 0 rfl rfl)
theorem dX6_inversionsOf_26 : decode cX6_inversionsOf 26 = .ok (.iaload, 1) := dk_46 (dk_at dksX6_inversionsOf_1 2 rfl rfl)
theorem dX6_inversionsOf_27 : decode cX6_inversionsOf 27 = .ok (.invokevirtual 218, 3) := dk_182 0 218 (dk_at dksX6_inversionsOf_1 3 rfl rfl)
theorem dX6_inversionsOf_30 : decode cX6_inversionsOf 30 = .ok (.aload_n 0, 1) := dk_42 (dk_at dksX6_inversionsOf_1 6 rfl rfl)
theorem dX6_inversionsOf_31 : decode cX6_inversionsOf 31 = .ok (.aload_n 1, 1) := dk_43 (dk_at dksX6_inversionsOf_1 7 rfl rfl)
theorem dX6_inversionsOf_32 : decode cX6_inversionsOf 32 = .ok (.iload_n 3, 1) := dk_29 (dk_at dksX6_inversionsOf_1 8 rfl rfl)
theorem dX6_inversionsOf_33 : decode cX6_inversionsOf 33 = .ok (.iaload, 1) := dk_46 (dk_at dksX6_inversionsOf_1 9 rfl rfl)
theorem dX6_inversionsOf_34 : decode cX6_inversionsOf 34 = .ok (.invokevirtual 218, 3) := dk_182 0 218 (dk_at dksX6_inversionsOf_1 10 rfl rfl)
theorem dX6_inversionsOf_37 : decode cX6_inversionsOf 37 = .ok (.if_icmp .le 7, 3) := dk_164 0 7 (dk_at dksX6_inversionsOf_1 13 rfl rfl)
theorem dX6_inversionsOf_40 : decode cX6_inversionsOf 40 = .ok (.iconst 1, 1) := dk_4 (dk_at dksX6_inversionsOf_1 16 rfl rfl)
theorem dX6_inversionsOf_41 : decode cX6_inversionsOf 41 = .ok (.goto 4, 3) := dk_167 0 4 (dk_at dksX6_inversionsOf_1 17 rfl rfl)
theorem dX6_inversionsOf_44 : decode cX6_inversionsOf 44 = .ok (.iconst 0, 1) := dk_3 (dk_at dksX6_inversionsOf_1 20 rfl rfl)
theorem dX6_inversionsOf_45 : decode cX6_inversionsOf 45 = .ok (.iadd, 1) := dk_96 (dk_at dksX6_inversionsOf_1 21 rfl rfl)
theorem dX6_inversionsOf_46 : decode cX6_inversionsOf 46 = .ok (.istore_n 2, 1) := dk_61 (dk_at dksX6_inversionsOf_1 22 rfl rfl)
theorem dX6_inversionsOf_47 : decode cX6_inversionsOf 47 = .ok (.iinc 4 1, 3) := dk_132 4 1 (dk_at dksX6_inversionsOf_2 0 rfl rfl)
theorem dX6_inversionsOf_50 : decode cX6_inversionsOf 50 = .ok (.goto (-35), 3) := dk_167 255 221 (dk_at dksX6_inversionsOf_2 3 rfl rfl)
theorem dX6_inversionsOf_53 : decode cX6_inversionsOf 53 = .ok (.iinc 3 1, 3) := dk_132 3 1 (dk_at dksX6_inversionsOf_2 6 rfl rfl)
theorem dX6_inversionsOf_56 : decode cX6_inversionsOf 56 = .ok (.goto (-52), 3) := dk_167 255 204 (dk_at dksX6_inversionsOf_2 9 rfl rfl)
theorem dX6_inversionsOf_59 : decode cX6_inversionsOf 59 = .ok (.iload_n 2, 1) := dk_28 (dk_at dksX6_inversionsOf_2 12 rfl rfl)
theorem dX6_inversionsOf_60 : decode cX6_inversionsOf 60 = .ok (.ireturn, 1) := dk_172 (dk_at dksX6_inversionsOf_2 13 rfl rfl)
abbrev cX6_reaches : ByteArray := prog_15_method_54_code
def yX6_reaches : MethodName := ⟨RX6, "reaches", "()Z"⟩
def dkwX6_reaches_5 : List UInt8 := [182, 1, 25, 172]
abbrev dktX6_reaches_5 : List UInt8 := dkwX6_reaches_5 ++ []
def dkwX6_reaches_4 : List UInt8 := [182, 1, 36, 42, 42, 180, 0, 99, 182, 1, 36, 96, 29, 96, 5, 112, 154, 0, 7, 4, 167, 0, 4, 3]
abbrev dktX6_reaches_4 : List UInt8 := dkwX6_reaches_4 ++ dktX6_reaches_5
def dkwX6_reaches_3 : List UInt8 := [108, 96, 27, 42, 180, 0, 30, 112, 96, 28, 42, 180, 0, 30, 112, 96, 62, 42, 42, 42, 180, 0, 33]
abbrev dktX6_reaches_3 : List UInt8 := dkwX6_reaches_3 ++ dktX6_reaches_4
def dkwX6_reaches_2 : List UInt8 := [180, 0, 7, 42, 42, 180, 0, 99, 182, 0, 242, 46, 61, 27, 42, 180, 0, 30, 108, 28, 42, 180, 0, 30]
abbrev dktX6_reaches_2 : List UInt8 := dkwX6_reaches_2 ++ dktX6_reaches_3
def dkwX6_reaches_1 : List UInt8 := [4, 182, 1, 22, 172, 42, 182, 1, 43, 42, 180, 0, 7, 42, 42, 180, 0, 33, 182, 0, 242, 46, 60, 42]
abbrev dktX6_reaches_1 : List UInt8 := dkwX6_reaches_1 ++ dktX6_reaches_2
def dkwX6_reaches_0 : List UInt8 := [42, 180, 0, 170, 42, 180, 0, 26, 42, 180, 0, 30, 104, 161, 0, 10, 42, 182, 1, 39, 153, 0, 9, 42]
abbrev dktX6_reaches_0 : List UInt8 := dkwX6_reaches_0 ++ dktX6_reaches_1
theorem dksX6_reaches_0 : cX6_reaches.data.toList.drop 0 = dktX6_reaches_0 := by decide +kernel
theorem dksX6_reaches_1 : cX6_reaches.data.toList.drop 24 = dktX6_reaches_1 := dk_seg dksX6_reaches_0 24 rfl rfl
theorem dksX6_reaches_2 : cX6_reaches.data.toList.drop 48 = dktX6_reaches_2 := dk_seg dksX6_reaches_1 24 rfl rfl
theorem dksX6_reaches_3 : cX6_reaches.data.toList.drop 72 = dktX6_reaches_3 := dk_seg dksX6_reaches_2 24 rfl rfl
theorem dksX6_reaches_4 : cX6_reaches.data.toList.drop 95 = dktX6_reaches_4 := dk_seg dksX6_reaches_3 23 rfl rfl
theorem dksX6_reaches_5 : cX6_reaches.data.toList.drop 119 = dktX6_reaches_5 := dk_seg dksX6_reaches_4 24 rfl rfl
theorem dX6_reaches_0 : decode cX6_reaches 0 = .ok (.aload_n 0, 1) := dk_42 (dk_at dksX6_reaches_0 0 rfl rfl)
theorem dX6_reaches_1 : decode cX6_reaches 1 = .ok (.getfield 170, 3) := dk_180 0 170 (dk_at dksX6_reaches_0 1 rfl rfl)
theorem dX6_reaches_4 : decode cX6_reaches 4 = .ok (.aload_n 0, 1) := dk_42 (dk_at dksX6_reaches_0 4 rfl rfl)
theorem dX6_reaches_5 : decode cX6_reaches 5 = .ok (.getfield 26, 3) := dk_180 0 26 (dk_at dksX6_reaches_0 5 rfl rfl)
theorem dX6_reaches_8 : decode cX6_reaches 8 = .ok (.aload_n 0, 1) := dk_42 (dk_at dksX6_reaches_0 8 rfl rfl)
theorem dX6_reaches_9 : decode cX6_reaches 9 = .ok (.getfield 30, 3) := dk_180 0 30 (dk_at dksX6_reaches_0 9 rfl rfl)
theorem dX6_reaches_12 : decode cX6_reaches 12 = .ok (.imul, 1) := dk_104 (dk_at dksX6_reaches_0 12 rfl rfl)
theorem dX6_reaches_13 : decode cX6_reaches 13 = .ok (.if_icmp .lt 10, 3) := dk_161 0 10 (dk_at dksX6_reaches_0 13 rfl rfl)
theorem dX6_reaches_16 : decode cX6_reaches 16 = .ok (.aload_n 0, 1) := dk_42 (dk_at dksX6_reaches_0 16 rfl rfl)
theorem dX6_reaches_17 : decode cX6_reaches 17 = .ok (.invokevirtual 295, 3) := dk_182 1 39 (dk_at dksX6_reaches_0 17 rfl rfl)
theorem dX6_reaches_20 : decode cX6_reaches 20 = .ok (.ifCond .eq 9, 3) := dk_153 0 9 (dk_at dksX6_reaches_0 20 rfl rfl)
theorem dX6_reaches_23 : decode cX6_reaches 23 = .ok (.aload_n 0, 1) := dk_42 (dk_at dksX6_reaches_0 23 rfl rfl)
theorem dX6_reaches_24 : decode cX6_reaches 24 = .ok (.iconst 1, 1) := dk_4 (dk_at dksX6_reaches_1 0 rfl rfl)
theorem dX6_reaches_25 : decode cX6_reaches 25 = .ok (.invokevirtual 278, 3) := dk_182 1 22 (dk_at dksX6_reaches_1 1 rfl rfl)
theorem dX6_reaches_28 : decode cX6_reaches 28 = .ok (.ireturn, 1) := dk_172 (dk_at dksX6_reaches_1 4 rfl rfl)
theorem dX6_reaches_29 : decode cX6_reaches 29 = .ok (.aload_n 0, 1) := dk_42 (dk_at dksX6_reaches_1 5 rfl rfl)
theorem dX6_reaches_30 : decode cX6_reaches 30 = .ok (.invokevirtual 299, 3) := dk_182 1 43 (dk_at dksX6_reaches_1 6 rfl rfl)
theorem dX6_reaches_33 : decode cX6_reaches 33 = .ok (.aload_n 0, 1) := dk_42 (dk_at dksX6_reaches_1 9 rfl rfl)
theorem dX6_reaches_34 : decode cX6_reaches 34 = .ok (.getfield 7, 3) := dk_180 0 7 (dk_at dksX6_reaches_1 10 rfl rfl)
theorem dX6_reaches_37 : decode cX6_reaches 37 = .ok (.aload_n 0, 1) := dk_42 (dk_at dksX6_reaches_1 13 rfl rfl)
theorem dX6_reaches_38 : decode cX6_reaches 38 = .ok (.aload_n 0, 1) := dk_42 (dk_at dksX6_reaches_1 14 rfl rfl)
theorem dX6_reaches_39 : decode cX6_reaches 39 = .ok (.getfield 33, 3) := dk_180 0 33 (dk_at dksX6_reaches_1 15 rfl rfl)
theorem dX6_reaches_42 : decode cX6_reaches 42 = .ok (.invokevirtual 242, 3) := dk_182 0 242 (dk_at dksX6_reaches_1 18 rfl rfl)
theorem dX6_reaches_45 : decode cX6_reaches 45 = .ok (.iaload, 1) := dk_46 (dk_at dksX6_reaches_1 21 rfl rfl)
theorem dX6_reaches_46 : decode cX6_reaches 46 = .ok (.istore_n 1, 1) := dk_60 (dk_at dksX6_reaches_1 22 rfl rfl)
theorem dX6_reaches_47 : decode cX6_reaches 47 = .ok (.aload_n 0, 1) := dk_42 (dk_at dksX6_reaches_1 23 rfl rfl)
theorem dX6_reaches_48 : decode cX6_reaches 48 = .ok (.getfield 7, 3) := dk_180 0 7 (dk_at dksX6_reaches_2 0 rfl rfl)
theorem dX6_reaches_51 : decode cX6_reaches 51 = .ok (.aload_n 0, 1) := dk_42 (dk_at dksX6_reaches_2 3 rfl rfl)
theorem dX6_reaches_52 : decode cX6_reaches 52 = .ok (.aload_n 0, 1) := dk_42 (dk_at dksX6_reaches_2 4 rfl rfl)
theorem dX6_reaches_53 : decode cX6_reaches 53 = .ok (.getfield 99, 3) := dk_180 0 99 (dk_at dksX6_reaches_2 5 rfl rfl)
theorem dX6_reaches_56 : decode cX6_reaches 56 = .ok (.invokevirtual 242, 3) := dk_182 0 242 (dk_at dksX6_reaches_2 8 rfl rfl)
theorem dX6_reaches_59 : decode cX6_reaches 59 = .ok (.iaload, 1) := dk_46 (dk_at dksX6_reaches_2 11 rfl rfl)
theorem dX6_reaches_60 : decode cX6_reaches 60 = .ok (.istore_n 2, 1) := dk_61 (dk_at dksX6_reaches_2 12 rfl rfl)
theorem dX6_reaches_61 : decode cX6_reaches 61 = .ok (.iload_n 1, 1) := dk_27 (dk_at dksX6_reaches_2 13 rfl rfl)
theorem dX6_reaches_62 : decode cX6_reaches 62 = .ok (.aload_n 0, 1) := dk_42 (dk_at dksX6_reaches_2 14 rfl rfl)
theorem dX6_reaches_63 : decode cX6_reaches 63 = .ok (.getfield 30, 3) := dk_180 0 30 (dk_at dksX6_reaches_2 15 rfl rfl)
theorem dX6_reaches_66 : decode cX6_reaches 66 = .ok (.idiv, 1) := dk_108 (dk_at dksX6_reaches_2 18 rfl rfl)
theorem dX6_reaches_67 : decode cX6_reaches 67 = .ok (.iload_n 2, 1) := dk_28 (dk_at dksX6_reaches_2 19 rfl rfl)
theorem dX6_reaches_68 : decode cX6_reaches 68 = .ok (.aload_n 0, 1) := dk_42 (dk_at dksX6_reaches_2 20 rfl rfl)
theorem dX6_reaches_69 : decode cX6_reaches 69 = .ok (.getfield 30, 3) := dk_180 0 30 (dk_at dksX6_reaches_2 21 rfl rfl)
theorem dX6_reaches_72 : decode cX6_reaches 72 = .ok (.idiv, 1) := dk_108 (dk_at dksX6_reaches_3 0 rfl rfl)
theorem dX6_reaches_73 : decode cX6_reaches 73 = .ok (.iadd, 1) := dk_96 (dk_at dksX6_reaches_3 1 rfl rfl)
theorem dX6_reaches_74 : decode cX6_reaches 74 = .ok (.iload_n 1, 1) := dk_27 (dk_at dksX6_reaches_3 2 rfl rfl)
theorem dX6_reaches_75 : decode cX6_reaches 75 = .ok (.aload_n 0, 1) := dk_42 (dk_at dksX6_reaches_3 3 rfl rfl)
theorem dX6_reaches_76 : decode cX6_reaches 76 = .ok (.getfield 30, 3) := dk_180 0 30 (dk_at dksX6_reaches_3 4 rfl rfl)
theorem dX6_reaches_79 : decode cX6_reaches 79 = .ok (.irem, 1) := dk_112 (dk_at dksX6_reaches_3 7 rfl rfl)
theorem dX6_reaches_80 : decode cX6_reaches 80 = .ok (.iadd, 1) := dk_96 (dk_at dksX6_reaches_3 8 rfl rfl)
theorem dX6_reaches_81 : decode cX6_reaches 81 = .ok (.iload_n 2, 1) := dk_28 (dk_at dksX6_reaches_3 9 rfl rfl)
theorem dX6_reaches_82 : decode cX6_reaches 82 = .ok (.aload_n 0, 1) := dk_42 (dk_at dksX6_reaches_3 10 rfl rfl)
theorem dX6_reaches_83 : decode cX6_reaches 83 = .ok (.getfield 30, 3) := dk_180 0 30 (dk_at dksX6_reaches_3 11 rfl rfl)
theorem dX6_reaches_86 : decode cX6_reaches 86 = .ok (.irem, 1) := dk_112 (dk_at dksX6_reaches_3 14 rfl rfl)
theorem dX6_reaches_87 : decode cX6_reaches 87 = .ok (.iadd, 1) := dk_96 (dk_at dksX6_reaches_3 15 rfl rfl)
theorem dX6_reaches_88 : decode cX6_reaches 88 = .ok (.istore_n 3, 1) := dk_62 (dk_at dksX6_reaches_3 16 rfl rfl)
theorem dX6_reaches_89 : decode cX6_reaches 89 = .ok (.aload_n 0, 1) := dk_42 (dk_at dksX6_reaches_3 17 rfl rfl)
theorem dX6_reaches_90 : decode cX6_reaches 90 = .ok (.aload_n 0, 1) := dk_42 (dk_at dksX6_reaches_3 18 rfl rfl)
theorem dX6_reaches_91 : decode cX6_reaches 91 = .ok (.aload_n 0, 1) := dk_42 (dk_at dksX6_reaches_3 19 rfl rfl)
theorem dX6_reaches_92 : decode cX6_reaches 92 = .ok (.getfield 33, 3) := dk_180 0 33 (dk_at dksX6_reaches_3 20 rfl rfl)
theorem dX6_reaches_95 : decode cX6_reaches 95 = .ok (.invokevirtual 292, 3) := dk_182 1 36 (dk_at dksX6_reaches_4 0 rfl rfl)
theorem dX6_reaches_98 : decode cX6_reaches 98 = .ok (.aload_n 0, 1) := dk_42 (dk_at dksX6_reaches_4 3 rfl rfl)
theorem dX6_reaches_99 : decode cX6_reaches 99 = .ok (.aload_n 0, 1) := dk_42 (dk_at dksX6_reaches_4 4 rfl rfl)
theorem dX6_reaches_100 : decode cX6_reaches 100 = .ok (.getfield 99, 3) := dk_180 0 99 (dk_at dksX6_reaches_4 5 rfl rfl)
theorem dX6_reaches_103 : decode cX6_reaches 103 = .ok (.invokevirtual 292, 3) := dk_182 1 36 (dk_at dksX6_reaches_4 8 rfl rfl)
theorem dX6_reaches_106 : decode cX6_reaches 106 = .ok (.iadd, 1) := dk_96 (dk_at dksX6_reaches_4 11 rfl rfl)
theorem dX6_reaches_107 : decode cX6_reaches 107 = .ok (.iload_n 3, 1) := dk_29 (dk_at dksX6_reaches_4 12 rfl rfl)
theorem dX6_reaches_108 : decode cX6_reaches 108 = .ok (.iadd, 1) := dk_96 (dk_at dksX6_reaches_4 13 rfl rfl)
theorem dX6_reaches_109 : decode cX6_reaches 109 = .ok (.iconst 2, 1) := dk_5 (dk_at dksX6_reaches_4 14 rfl rfl)
theorem dX6_reaches_110 : decode cX6_reaches 110 = .ok (.irem, 1) := dk_112 (dk_at dksX6_reaches_4 15 rfl rfl)
theorem dX6_reaches_111 : decode cX6_reaches 111 = .ok (.ifCond .ne 7, 3) := dk_154 0 7 (dk_at dksX6_reaches_4 16 rfl rfl)
theorem dX6_reaches_114 : decode cX6_reaches 114 = .ok (.iconst 1, 1) := dk_4 (dk_at dksX6_reaches_4 19 rfl rfl)
theorem dX6_reaches_115 : decode cX6_reaches 115 = .ok (.goto 4, 3) := dk_167 0 4 (dk_at dksX6_reaches_4 20 rfl rfl)
theorem dX6_reaches_118 : decode cX6_reaches 118 = .ok (.iconst 0, 1) := dk_3 (dk_at dksX6_reaches_4 23 rfl rfl)
theorem dX6_reaches_119 : decode cX6_reaches 119 = .ok (.invokevirtual 281, 3) := dk_182 1 25 (dk_at dksX6_reaches_5 0 rfl rfl)
theorem dX6_reaches_122 : decode cX6_reaches 122 = .ok (.ireturn, 1) := dk_172 (dk_at dksX6_reaches_5 3 rfl rfl)
abbrev cX6_isAnyFree : ByteArray := prog_15_method_52_code
def yX6_isAnyFree : MethodName := ⟨RX6, "isAnyFree", "()Z"⟩
def dkwX6_isAnyFree_1 : List UInt8 := [153, 0, 7, 4, 167, 0, 4, 3, 60, 132, 2, 1, 167, 255, 226, 27, 172]
abbrev dktX6_isAnyFree_1 : List UInt8 := dkwX6_isAnyFree_1 ++ []
def dkwX6_isAnyFree_0 : List UInt8 := [3, 60, 3, 61, 28, 42, 180, 0, 170, 162, 0, 28, 27, 154, 0, 12, 42, 180, 0, 42, 28, 51]
abbrev dktX6_isAnyFree_0 : List UInt8 := dkwX6_isAnyFree_0 ++ dktX6_isAnyFree_1
theorem dksX6_isAnyFree_0 : cX6_isAnyFree.data.toList.drop 0 = dktX6_isAnyFree_0 := by decide +kernel
theorem dksX6_isAnyFree_1 : cX6_isAnyFree.data.toList.drop 22 = dktX6_isAnyFree_1 := dk_seg dksX6_isAnyFree_0 22 rfl rfl
theorem dX6_isAnyFree_0 : decode cX6_isAnyFree 0 = .ok (.iconst 0, 1) := dk_3 (dk_at dksX6_isAnyFree_0 0 rfl rfl)
theorem dX6_isAnyFree_1 : decode cX6_isAnyFree 1 = .ok (.istore_n 1, 1) := dk_60 (dk_at dksX6_isAnyFree_0 1 rfl rfl)
theorem dX6_isAnyFree_2 : decode cX6_isAnyFree 2 = .ok (.iconst 0, 1) := dk_3 (dk_at dksX6_isAnyFree_0 2 rfl rfl)
theorem dX6_isAnyFree_3 : decode cX6_isAnyFree 3 = .ok (.istore_n 2, 1) := dk_61 (dk_at dksX6_isAnyFree_0 3 rfl rfl)
theorem dX6_isAnyFree_4 : decode cX6_isAnyFree 4 = .ok (.iload_n 2, 1) := dk_28 (dk_at dksX6_isAnyFree_0 4 rfl rfl)
theorem dX6_isAnyFree_5 : decode cX6_isAnyFree 5 = .ok (.aload_n 0, 1) := dk_42 (dk_at dksX6_isAnyFree_0 5 rfl rfl)
theorem dX6_isAnyFree_6 : decode cX6_isAnyFree 6 = .ok (.getfield 170, 3) := dk_180 0 170 (dk_at dksX6_isAnyFree_0 6 rfl rfl)
theorem dX6_isAnyFree_9 : decode cX6_isAnyFree 9 = .ok (.if_icmp .ge 28, 3) := dk_162 0 28 (dk_at dksX6_isAnyFree_0 9 rfl rfl)
theorem dX6_isAnyFree_12 : decode cX6_isAnyFree 12 = .ok (.iload_n 1, 1) := dk_27 (dk_at dksX6_isAnyFree_0 12 rfl rfl)
theorem dX6_isAnyFree_13 : decode cX6_isAnyFree 13 = .ok (.ifCond .ne 12, 3) := dk_154 0 12 (dk_at dksX6_isAnyFree_0 13 rfl rfl)
theorem dX6_isAnyFree_16 : decode cX6_isAnyFree 16 = .ok (.aload_n 0, 1) := dk_42 (dk_at dksX6_isAnyFree_0 16 rfl rfl)
theorem dX6_isAnyFree_17 : decode cX6_isAnyFree 17 = .ok (.getfield 42, 3) := dk_180 0 42 (dk_at dksX6_isAnyFree_0 17 rfl rfl)
theorem dX6_isAnyFree_20 : decode cX6_isAnyFree 20 = .ok (.iload_n 2, 1) := dk_28 (dk_at dksX6_isAnyFree_0 20 rfl rfl)
theorem dX6_isAnyFree_21 : decode cX6_isAnyFree 21 = .ok (.baload, 1) := dk_51 (dk_at dksX6_isAnyFree_0 21 rfl rfl)
theorem dX6_isAnyFree_22 : decode cX6_isAnyFree 22 = .ok (.ifCond .eq 7, 3) := dk_153 0 7 (dk_at dksX6_isAnyFree_1 0 rfl rfl)
theorem dX6_isAnyFree_25 : decode cX6_isAnyFree 25 = .ok (.iconst 1, 1) := dk_4 (dk_at dksX6_isAnyFree_1 3 rfl rfl)
theorem dX6_isAnyFree_26 : decode cX6_isAnyFree 26 = .ok (.goto 4, 3) := dk_167 0 4 (dk_at dksX6_isAnyFree_1 4 rfl rfl)
theorem dX6_isAnyFree_29 : decode cX6_isAnyFree 29 = .ok (.iconst 0, 1) := dk_3 (dk_at dksX6_isAnyFree_1 7 rfl rfl)
theorem dX6_isAnyFree_30 : decode cX6_isAnyFree 30 = .ok (.istore_n 1, 1) := dk_60 (dk_at dksX6_isAnyFree_1 8 rfl rfl)
theorem dX6_isAnyFree_31 : decode cX6_isAnyFree 31 = .ok (.iinc 2 1, 3) := dk_132 2 1 (dk_at dksX6_isAnyFree_1 9 rfl rfl)
theorem dX6_isAnyFree_34 : decode cX6_isAnyFree 34 = .ok (.goto (-30), 3) := dk_167 255 226 (dk_at dksX6_isAnyFree_1 12 rfl rfl)
theorem dX6_isAnyFree_37 : decode cX6_isAnyFree 37 = .ok (.iload_n 1, 1) := dk_27 (dk_at dksX6_isAnyFree_1 15 rfl rfl)
theorem dX6_isAnyFree_38 : decode cX6_isAnyFree 38 = .ok (.ireturn, 1) := dk_172 (dk_at dksX6_isAnyFree_1 16 rfl rfl)
abbrev cX6_laysGoal : ByteArray := prog_15_method_53_code
def yX6_laysGoal : MethodName := ⟨RX6, "laysGoal", "()V"⟩
def dkwX6_laysGoal_1 : List UInt8 := [132, 1, 1, 167, 255, 233, 177]
abbrev dktX6_laysGoal_1 : List UInt8 := dkwX6_laysGoal_1 ++ []
def dkwX6_laysGoal_0 : List UInt8 := [3, 60, 27, 42, 180, 0, 170, 162, 0, 21, 42, 180, 0, 99, 42, 180, 0, 36, 27, 46, 27, 79]
abbrev dktX6_laysGoal_0 : List UInt8 := dkwX6_laysGoal_0 ++ dktX6_laysGoal_1
theorem dksX6_laysGoal_0 : cX6_laysGoal.data.toList.drop 0 = dktX6_laysGoal_0 := by decide +kernel
theorem dksX6_laysGoal_1 : cX6_laysGoal.data.toList.drop 22 = dktX6_laysGoal_1 := dk_seg dksX6_laysGoal_0 22 rfl rfl
theorem dX6_laysGoal_0 : decode cX6_laysGoal 0 = .ok (.iconst 0, 1) := dk_3 (dk_at dksX6_laysGoal_0 0 rfl rfl)
theorem dX6_laysGoal_1 : decode cX6_laysGoal 1 = .ok (.istore_n 1, 1) := dk_60 (dk_at dksX6_laysGoal_0 1 rfl rfl)
theorem dX6_laysGoal_2 : decode cX6_laysGoal 2 = .ok (.iload_n 1, 1) := dk_27 (dk_at dksX6_laysGoal_0 2 rfl rfl)
theorem dX6_laysGoal_3 : decode cX6_laysGoal 3 = .ok (.aload_n 0, 1) := dk_42 (dk_at dksX6_laysGoal_0 3 rfl rfl)
theorem dX6_laysGoal_4 : decode cX6_laysGoal 4 = .ok (.getfield 170, 3) := dk_180 0 170 (dk_at dksX6_laysGoal_0 4 rfl rfl)
theorem dX6_laysGoal_7 : decode cX6_laysGoal 7 = .ok (.if_icmp .ge 21, 3) := dk_162 0 21 (dk_at dksX6_laysGoal_0 7 rfl rfl)
theorem dX6_laysGoal_10 : decode cX6_laysGoal 10 = .ok (.aload_n 0, 1) := dk_42 (dk_at dksX6_laysGoal_0 10 rfl rfl)
theorem dX6_laysGoal_11 : decode cX6_laysGoal 11 = .ok (.getfield 99, 3) := dk_180 0 99 (dk_at dksX6_laysGoal_0 11 rfl rfl)
theorem dX6_laysGoal_14 : decode cX6_laysGoal 14 = .ok (.aload_n 0, 1) := dk_42 (dk_at dksX6_laysGoal_0 14 rfl rfl)
theorem dX6_laysGoal_15 : decode cX6_laysGoal 15 = .ok (.getfield 36, 3) := dk_180 0 36 (dk_at dksX6_laysGoal_0 15 rfl rfl)
theorem dX6_laysGoal_18 : decode cX6_laysGoal 18 = .ok (.iload_n 1, 1) := dk_27 (dk_at dksX6_laysGoal_0 18 rfl rfl)
theorem dX6_laysGoal_19 : decode cX6_laysGoal 19 = .ok (.iaload, 1) := dk_46 (dk_at dksX6_laysGoal_0 19 rfl rfl)
theorem dX6_laysGoal_20 : decode cX6_laysGoal 20 = .ok (.iload_n 1, 1) := dk_27 (dk_at dksX6_laysGoal_0 20 rfl rfl)
theorem dX6_laysGoal_21 : decode cX6_laysGoal 21 = .ok (.iastore, 1) := dk_79 (dk_at dksX6_laysGoal_0 21 rfl rfl)
theorem dX6_laysGoal_22 : decode cX6_laysGoal 22 = .ok (.iinc 1 1, 3) := dk_132 1 1 (dk_at dksX6_laysGoal_1 0 rfl rfl)
theorem dX6_laysGoal_25 : decode cX6_laysGoal 25 = .ok (.goto (-23), 3) := dk_167 255 233 (dk_at dksX6_laysGoal_1 3 rfl rfl)
theorem dX6_laysGoal_28 : decode cX6_laysGoal 28 = .ok (.return_, 1) := dk_177 (dk_at dksX6_laysGoal_1 6 rfl rfl)
abbrev cX6_estimate : ByteArray := prog_15_method_55_code
def yX6_estimate : MethodName := ⟨RX6, "estimate", "(I)I"⟩
def dkwX6_estimate_1 : List UInt8 := [167, 0, 8, 42, 4, 182, 0, 204, 172]
abbrev dktX6_estimate_1 : List UInt8 := dkwX6_estimate_1 ++ []
def dkwX6_estimate_0 : List UInt8 := [27, 3, 7, 184, 0, 200, 153, 0, 19, 42, 42, 42, 180, 0, 33, 27, 182, 1, 46, 182, 0, 215]
abbrev dktX6_estimate_0 : List UInt8 := dkwX6_estimate_0 ++ dktX6_estimate_1
theorem dksX6_estimate_0 : cX6_estimate.data.toList.drop 0 = dktX6_estimate_0 := by decide +kernel
theorem dksX6_estimate_1 : cX6_estimate.data.toList.drop 22 = dktX6_estimate_1 := dk_seg dksX6_estimate_0 22 rfl rfl
theorem dX6_estimate_0 : decode cX6_estimate 0 = .ok (.iload_n 1, 1) := dk_27 (dk_at dksX6_estimate_0 0 rfl rfl)
theorem dX6_estimate_1 : decode cX6_estimate 1 = .ok (.iconst 0, 1) := dk_3 (dk_at dksX6_estimate_0 1 rfl rfl)
theorem dX6_estimate_2 : decode cX6_estimate 2 = .ok (.iconst 4, 1) := dk_7 (dk_at dksX6_estimate_0 2 rfl rfl)
theorem dX6_estimate_3 : decode cX6_estimate 3 = .ok (.invokestatic 200, 3) := dk_184 0 200 (dk_at dksX6_estimate_0 3 rfl rfl)
theorem dX6_estimate_6 : decode cX6_estimate 6 = .ok (.ifCond .eq 19, 3) := dk_153 0 19 (dk_at dksX6_estimate_0 6 rfl rfl)
theorem dX6_estimate_9 : decode cX6_estimate 9 = .ok (.aload_n 0, 1) := dk_42 (dk_at dksX6_estimate_0 9 rfl rfl)
theorem dX6_estimate_10 : decode cX6_estimate 10 = .ok (.aload_n 0, 1) := dk_42 (dk_at dksX6_estimate_0 10 rfl rfl)
theorem dX6_estimate_11 : decode cX6_estimate 11 = .ok (.aload_n 0, 1) := dk_42 (dk_at dksX6_estimate_0 11 rfl rfl)
theorem dX6_estimate_12 : decode cX6_estimate 12 = .ok (.getfield 33, 3) := dk_180 0 33 (dk_at dksX6_estimate_0 12 rfl rfl)
theorem dX6_estimate_15 : decode cX6_estimate 15 = .ok (.iload_n 1, 1) := dk_27 (dk_at dksX6_estimate_0 15 rfl rfl)
theorem dX6_estimate_16 : decode cX6_estimate 16 = .ok (.invokevirtual 302, 3) := dk_182 1 46 (dk_at dksX6_estimate_0 16 rfl rfl)
theorem dX6_estimate_19 : decode cX6_estimate 19 = .ok (.invokevirtual 215, 3) := dk_182 0 215 (dk_at dksX6_estimate_0 19 rfl rfl)
theorem dX6_estimate_22 : decode cX6_estimate 22 = .ok (.goto 8, 3) := dk_167 0 8 (dk_at dksX6_estimate_1 0 rfl rfl)
theorem dX6_estimate_25 : decode cX6_estimate 25 = .ok (.aload_n 0, 1) := dk_42 (dk_at dksX6_estimate_1 3 rfl rfl)
theorem dX6_estimate_26 : decode cX6_estimate 26 = .ok (.iconst 1, 1) := dk_4 (dk_at dksX6_estimate_1 4 rfl rfl)
theorem dX6_estimate_27 : decode cX6_estimate 27 = .ok (.invokevirtual 204, 3) := dk_182 0 204 (dk_at dksX6_estimate_1 5 rfl rfl)
theorem dX6_estimate_30 : decode cX6_estimate 30 = .ok (.ireturn, 1) := dk_172 (dk_at dksX6_estimate_1 8 rfl rfl)
abbrev cX6_estimates : ByteArray := prog_15_method_23_code
def yX6_estimates : MethodName := ⟨RX6, "estimates", "([II)I"⟩
def dkwX6_estimates_3 : List UInt8 := [182, 0, 239, 172]
abbrev dktX6_estimates_3 : List UInt8 := dkwX6_estimates_3 ++ []
def dkwX6_estimates_2 : List UInt8 := [3, 172, 42, 43, 182, 0, 233, 172, 42, 43, 182, 0, 229, 172, 42, 43, 182, 0, 236, 172, 42, 43]
abbrev dktX6_estimates_2 : List UInt8 := dkwX6_estimates_2 ++ dktX6_estimates_3
def dkwX6_estimates_1 : List UInt8 := [170, 0, 0, 0, 0, 0, 51, 0, 0, 0, 0, 0, 0, 0, 3, 0, 0, 0, 31, 0, 0, 0, 33, 0, 0, 0, 39, 0, 0, 0, 45]
abbrev dktX6_estimates_1 : List UInt8 := dkwX6_estimates_1 ++ dktX6_estimates_2
def dkwX6_estimates_0 : List UInt8 := [28]
abbrev dktX6_estimates_0 : List UInt8 := dkwX6_estimates_0 ++ dktX6_estimates_1
theorem dksX6_estimates_0 : cX6_estimates.data.toList.drop 0 = dktX6_estimates_0 := by decide +kernel
theorem dksX6_estimates_1 : cX6_estimates.data.toList.drop 1 = dktX6_estimates_1 := dk_seg dksX6_estimates_0 1 rfl rfl
theorem dksX6_estimates_2 : cX6_estimates.data.toList.drop 32 = dktX6_estimates_2 := dk_seg dksX6_estimates_1 31 rfl rfl
theorem dksX6_estimates_3 : cX6_estimates.data.toList.drop 54 = dktX6_estimates_3 := dk_seg dksX6_estimates_2 22 rfl rfl
theorem dX6_estimates_0 : decode cX6_estimates 0 = .ok (.iload_n 2, 1) := dk_28 (dk_at dksX6_estimates_0 0 rfl rfl)
theorem dX6_estimates_1 : decode cX6_estimates 1 = .ok (.tableswitch 51 0 3 #[31, 33, 39, 45], 31) := by decide +kernel
theorem dX6_estimates_32 : decode cX6_estimates 32 = .ok (.iconst 0, 1) := dk_3 (dk_at dksX6_estimates_2 0 rfl rfl)
theorem dX6_estimates_33 : decode cX6_estimates 33 = .ok (.ireturn, 1) := dk_172 (dk_at dksX6_estimates_2 1 rfl rfl)
theorem dX6_estimates_34 : decode cX6_estimates 34 = .ok (.aload_n 0, 1) := dk_42 (dk_at dksX6_estimates_2 2 rfl rfl)
theorem dX6_estimates_35 : decode cX6_estimates 35 = .ok (.aload_n 1, 1) := dk_43 (dk_at dksX6_estimates_2 3 rfl rfl)
theorem dX6_estimates_36 : decode cX6_estimates 36 = .ok (.invokevirtual 233, 3) := dk_182 0 233 (dk_at dksX6_estimates_2 4 rfl rfl)
theorem dX6_estimates_39 : decode cX6_estimates 39 = .ok (.ireturn, 1) := dk_172 (dk_at dksX6_estimates_2 7 rfl rfl)
theorem dX6_estimates_40 : decode cX6_estimates 40 = .ok (.aload_n 0, 1) := dk_42 (dk_at dksX6_estimates_2 8 rfl rfl)
theorem dX6_estimates_41 : decode cX6_estimates 41 = .ok (.aload_n 1, 1) := dk_43 (dk_at dksX6_estimates_2 9 rfl rfl)
theorem dX6_estimates_42 : decode cX6_estimates 42 = .ok (.invokevirtual 229, 3) := dk_182 0 229 (dk_at dksX6_estimates_2 10 rfl rfl)
theorem dX6_estimates_45 : decode cX6_estimates 45 = .ok (.ireturn, 1) := dk_172 (dk_at dksX6_estimates_2 13 rfl rfl)
theorem dX6_estimates_46 : decode cX6_estimates 46 = .ok (.aload_n 0, 1) := dk_42 (dk_at dksX6_estimates_2 14 rfl rfl)
theorem dX6_estimates_47 : decode cX6_estimates 47 = .ok (.aload_n 1, 1) := dk_43 (dk_at dksX6_estimates_2 15 rfl rfl)
theorem dX6_estimates_48 : decode cX6_estimates 48 = .ok (.invokevirtual 236, 3) := dk_182 0 236 (dk_at dksX6_estimates_2 16 rfl rfl)
theorem dX6_estimates_51 : decode cX6_estimates 51 = .ok (.ireturn, 1) := dk_172 (dk_at dksX6_estimates_2 19 rfl rfl)
theorem dX6_estimates_52 : decode cX6_estimates 52 = .ok (.aload_n 0, 1) := dk_42 (dk_at dksX6_estimates_2 20 rfl rfl)
theorem dX6_estimates_53 : decode cX6_estimates 53 = .ok (.aload_n 1, 1) := dk_43 (dk_at dksX6_estimates_2 21 rfl rfl)
theorem dX6_estimates_54 : decode cX6_estimates 54 = .ok (.invokevirtual 239, 3) := dk_182 0 239 (dk_at dksX6_estimates_3 0 rfl rfl)
theorem dX6_estimates_57 : decode cX6_estimates 57 = .ok (.ireturn, 1) := dk_172 (dk_at dksX6_estimates_3 3 rfl rfl)
abbrev cX6_displaced : ByteArray := prog_15_method_19_code
def yX6_displaced : MethodName := ⟨RX6, "displaced", "([I)I"⟩
def dkwX6_displaced_2 : List UInt8 := [21, 4, 46, 167, 0, 4, 3, 96, 61, 132, 3, 1, 167, 255, 200, 28, 172]
abbrev dktX6_displaced_2 : List UInt8 := dkwX6_displaced_2 ++ []
def dkwX6_displaced_1 : List UInt8 := [180, 0, 42, 21, 4, 51, 154, 0, 24, 42, 180, 0, 36, 21, 4, 46, 29, 159, 0, 13, 42, 180, 0, 39]
abbrev dktX6_displaced_1 : List UInt8 := dkwX6_displaced_1 ++ dktX6_displaced_2
def dkwX6_displaced_0 : List UInt8 := [3, 61, 3, 62, 29, 42, 180, 0, 170, 162, 0, 54, 43, 29, 46, 54, 4, 28, 21, 4, 158, 0, 34, 42]
abbrev dktX6_displaced_0 : List UInt8 := dkwX6_displaced_0 ++ dktX6_displaced_1
theorem dksX6_displaced_0 : cX6_displaced.data.toList.drop 0 = dktX6_displaced_0 := by decide +kernel
theorem dksX6_displaced_1 : cX6_displaced.data.toList.drop 24 = dktX6_displaced_1 := dk_seg dksX6_displaced_0 24 rfl rfl
theorem dksX6_displaced_2 : cX6_displaced.data.toList.drop 48 = dktX6_displaced_2 := dk_seg dksX6_displaced_1 24 rfl rfl
theorem dX6_displaced_0 : decode cX6_displaced 0 = .ok (.iconst 0, 1) := dk_3 (dk_at dksX6_displaced_0 0 rfl rfl)
theorem dX6_displaced_1 : decode cX6_displaced 1 = .ok (.istore_n 2, 1) := dk_61 (dk_at dksX6_displaced_0 1 rfl rfl)
theorem dX6_displaced_2 : decode cX6_displaced 2 = .ok (.iconst 0, 1) := dk_3 (dk_at dksX6_displaced_0 2 rfl rfl)
theorem dX6_displaced_3 : decode cX6_displaced 3 = .ok (.istore_n 3, 1) := dk_62 (dk_at dksX6_displaced_0 3 rfl rfl)
theorem dX6_displaced_4 : decode cX6_displaced 4 = .ok (.iload_n 3, 1) := dk_29 (dk_at dksX6_displaced_0 4 rfl rfl)
theorem dX6_displaced_5 : decode cX6_displaced 5 = .ok (.aload_n 0, 1) := dk_42 (dk_at dksX6_displaced_0 5 rfl rfl)
theorem dX6_displaced_6 : decode cX6_displaced 6 = .ok (.getfield 170, 3) := dk_180 0 170 (dk_at dksX6_displaced_0 6 rfl rfl)
theorem dX6_displaced_9 : decode cX6_displaced 9 = .ok (.if_icmp .ge 54, 3) := dk_162 0 54 (dk_at dksX6_displaced_0 9 rfl rfl)
theorem dX6_displaced_12 : decode cX6_displaced 12 = .ok (.aload_n 1, 1) := dk_43 (dk_at dksX6_displaced_0 12 rfl rfl)
theorem dX6_displaced_13 : decode cX6_displaced 13 = .ok (.iload_n 3, 1) := dk_29 (dk_at dksX6_displaced_0 13 rfl rfl)
theorem dX6_displaced_14 : decode cX6_displaced 14 = .ok (.iaload, 1) := dk_46 (dk_at dksX6_displaced_0 14 rfl rfl)
theorem dX6_displaced_15 : decode cX6_displaced 15 = .ok (.istore 4, 2) := dk_54 4 (dk_at dksX6_displaced_0 15 rfl rfl)
theorem dX6_displaced_17 : decode cX6_displaced 17 = .ok (.iload_n 2, 1) := dk_28 (dk_at dksX6_displaced_0 17 rfl rfl)
theorem dX6_displaced_18 : decode cX6_displaced 18 = .ok (.iload 4, 2) := dk_21 4 (dk_at dksX6_displaced_0 18 rfl rfl)
theorem dX6_displaced_20 : decode cX6_displaced 20 = .ok (.ifCond .le 34, 3) := dk_158 0 34 (dk_at dksX6_displaced_0 20 rfl rfl)
theorem dX6_displaced_23 : decode cX6_displaced 23 = .ok (.aload_n 0, 1) := dk_42 (dk_at dksX6_displaced_0 23 rfl rfl)
theorem dX6_displaced_24 : decode cX6_displaced 24 = .ok (.getfield 42, 3) := dk_180 0 42 (dk_at dksX6_displaced_1 0 rfl rfl)
theorem dX6_displaced_27 : decode cX6_displaced 27 = .ok (.iload 4, 2) := dk_21 4 (dk_at dksX6_displaced_1 3 rfl rfl)
theorem dX6_displaced_29 : decode cX6_displaced 29 = .ok (.baload, 1) := dk_51 (dk_at dksX6_displaced_1 5 rfl rfl)
theorem dX6_displaced_30 : decode cX6_displaced 30 = .ok (.ifCond .ne 24, 3) := dk_154 0 24 (dk_at dksX6_displaced_1 6 rfl rfl)
theorem dX6_displaced_33 : decode cX6_displaced 33 = .ok (.aload_n 0, 1) := dk_42 (dk_at dksX6_displaced_1 9 rfl rfl)
theorem dX6_displaced_34 : decode cX6_displaced 34 = .ok (.getfield 36, 3) := dk_180 0 36 (dk_at dksX6_displaced_1 10 rfl rfl)
theorem dX6_displaced_37 : decode cX6_displaced 37 = .ok (.iload 4, 2) := dk_21 4 (dk_at dksX6_displaced_1 13 rfl rfl)
theorem dX6_displaced_39 : decode cX6_displaced 39 = .ok (.iaload, 1) := dk_46 (dk_at dksX6_displaced_1 15 rfl rfl)
theorem dX6_displaced_40 : decode cX6_displaced 40 = .ok (.iload_n 3, 1) := dk_29 (dk_at dksX6_displaced_1 16 rfl rfl)
theorem dX6_displaced_41 : decode cX6_displaced 41 = .ok (.if_icmp .eq 13, 3) := dk_159 0 13 (dk_at dksX6_displaced_1 17 rfl rfl)
theorem dX6_displaced_44 : decode cX6_displaced 44 = .ok (.aload_n 0, 1) := dk_42 (dk_at dksX6_displaced_1 20 rfl rfl)
theorem dX6_displaced_45 : decode cX6_displaced 45 = .ok (.getfield 39, 3) := dk_180 0 39 (dk_at dksX6_displaced_1 21 rfl rfl)
theorem dX6_displaced_48 : decode cX6_displaced 48 = .ok (.iload 4, 2) := dk_21 4 (dk_at dksX6_displaced_2 0 rfl rfl)
theorem dX6_displaced_50 : decode cX6_displaced 50 = .ok (.iaload, 1) := dk_46 (dk_at dksX6_displaced_2 2 rfl rfl)
theorem dX6_displaced_51 : decode cX6_displaced 51 = .ok (.goto 4, 3) := dk_167 0 4 (dk_at dksX6_displaced_2 3 rfl rfl)
theorem dX6_displaced_54 : decode cX6_displaced 54 = .ok (.iconst 0, 1) := dk_3 (dk_at dksX6_displaced_2 6 rfl rfl)
theorem dX6_displaced_55 : decode cX6_displaced 55 = .ok (.iadd, 1) := dk_96 (dk_at dksX6_displaced_2 7 rfl rfl)
theorem dX6_displaced_56 : decode cX6_displaced 56 = .ok (.istore_n 2, 1) := dk_61 (dk_at dksX6_displaced_2 8 rfl rfl)
theorem dX6_displaced_57 : decode cX6_displaced 57 = .ok (.iinc 3 1, 3) := dk_132 3 1 (dk_at dksX6_displaced_2 9 rfl rfl)
theorem dX6_displaced_60 : decode cX6_displaced 60 = .ok (.goto (-56), 3) := dk_167 255 200 (dk_at dksX6_displaced_2 12 rfl rfl)
theorem dX6_displaced_63 : decode cX6_displaced 63 = .ok (.iload_n 2, 1) := dk_28 (dk_at dksX6_displaced_2 15 rfl rfl)
theorem dX6_displaced_64 : decode cX6_displaced 64 = .ok (.ireturn, 1) := dk_172 (dk_at dksX6_displaced_2 16 rfl rfl)
abbrev cX6_ways : ByteArray := prog_15_method_20_code
def yX6_ways : MethodName := ⟨RX6, "ways", "([I)I"⟩
def dkwX6_ways_2 : List UInt8 := [42, 180, 0, 36, 21, 4, 46, 96, 46, 104, 167, 0, 4, 3, 96, 61, 132, 3, 1, 167, 255, 193, 28, 172]
abbrev dktX6_ways_2 : List UInt8 := dkwX6_ways_2 ++ []
def dkwX6_ways_1 : List UInt8 := [180, 0, 42, 21, 4, 51, 154, 0, 31, 42, 180, 0, 39, 21, 4, 46, 42, 180, 0, 19, 16, 16, 29, 104]
abbrev dktX6_ways_1 : List UInt8 := dkwX6_ways_1 ++ dktX6_ways_2
def dkwX6_ways_0 : List UInt8 := [3, 61, 3, 62, 29, 42, 180, 0, 170, 162, 0, 61, 43, 29, 46, 54, 4, 28, 21, 4, 158, 0, 41, 42]
abbrev dktX6_ways_0 : List UInt8 := dkwX6_ways_0 ++ dktX6_ways_1
theorem dksX6_ways_0 : cX6_ways.data.toList.drop 0 = dktX6_ways_0 := by decide +kernel
theorem dksX6_ways_1 : cX6_ways.data.toList.drop 24 = dktX6_ways_1 := dk_seg dksX6_ways_0 24 rfl rfl
theorem dksX6_ways_2 : cX6_ways.data.toList.drop 48 = dktX6_ways_2 := dk_seg dksX6_ways_1 24 rfl rfl
theorem dX6_ways_0 : decode cX6_ways 0 = .ok (.iconst 0, 1) := dk_3 (dk_at dksX6_ways_0 0 rfl rfl)
theorem dX6_ways_1 : decode cX6_ways 1 = .ok (.istore_n 2, 1) := dk_61 (dk_at dksX6_ways_0 1 rfl rfl)
theorem dX6_ways_2 : decode cX6_ways 2 = .ok (.iconst 0, 1) := dk_3 (dk_at dksX6_ways_0 2 rfl rfl)
theorem dX6_ways_3 : decode cX6_ways 3 = .ok (.istore_n 3, 1) := dk_62 (dk_at dksX6_ways_0 3 rfl rfl)
theorem dX6_ways_4 : decode cX6_ways 4 = .ok (.iload_n 3, 1) := dk_29 (dk_at dksX6_ways_0 4 rfl rfl)
theorem dX6_ways_5 : decode cX6_ways 5 = .ok (.aload_n 0, 1) := dk_42 (dk_at dksX6_ways_0 5 rfl rfl)
theorem dX6_ways_6 : decode cX6_ways 6 = .ok (.getfield 170, 3) := dk_180 0 170 (dk_at dksX6_ways_0 6 rfl rfl)
theorem dX6_ways_9 : decode cX6_ways 9 = .ok (.if_icmp .ge 61, 3) := dk_162 0 61 (dk_at dksX6_ways_0 9 rfl rfl)
theorem dX6_ways_12 : decode cX6_ways 12 = .ok (.aload_n 1, 1) := dk_43 (dk_at dksX6_ways_0 12 rfl rfl)
theorem dX6_ways_13 : decode cX6_ways 13 = .ok (.iload_n 3, 1) := dk_29 (dk_at dksX6_ways_0 13 rfl rfl)
theorem dX6_ways_14 : decode cX6_ways 14 = .ok (.iaload, 1) := dk_46 (dk_at dksX6_ways_0 14 rfl rfl)
theorem dX6_ways_15 : decode cX6_ways 15 = .ok (.istore 4, 2) := dk_54 4 (dk_at dksX6_ways_0 15 rfl rfl)
theorem dX6_ways_17 : decode cX6_ways 17 = .ok (.iload_n 2, 1) := dk_28 (dk_at dksX6_ways_0 17 rfl rfl)
theorem dX6_ways_18 : decode cX6_ways 18 = .ok (.iload 4, 2) := dk_21 4 (dk_at dksX6_ways_0 18 rfl rfl)
theorem dX6_ways_20 : decode cX6_ways 20 = .ok (.ifCond .le 41, 3) := dk_158 0 41 (dk_at dksX6_ways_0 20 rfl rfl)
theorem dX6_ways_23 : decode cX6_ways 23 = .ok (.aload_n 0, 1) := dk_42 (dk_at dksX6_ways_0 23 rfl rfl)
theorem dX6_ways_24 : decode cX6_ways 24 = .ok (.getfield 42, 3) := dk_180 0 42 (dk_at dksX6_ways_1 0 rfl rfl)
theorem dX6_ways_27 : decode cX6_ways 27 = .ok (.iload 4, 2) := dk_21 4 (dk_at dksX6_ways_1 3 rfl rfl)
theorem dX6_ways_29 : decode cX6_ways 29 = .ok (.baload, 1) := dk_51 (dk_at dksX6_ways_1 5 rfl rfl)
theorem dX6_ways_30 : decode cX6_ways 30 = .ok (.ifCond .ne 31, 3) := dk_154 0 31 (dk_at dksX6_ways_1 6 rfl rfl)
theorem dX6_ways_33 : decode cX6_ways 33 = .ok (.aload_n 0, 1) := dk_42 (dk_at dksX6_ways_1 9 rfl rfl)
theorem dX6_ways_34 : decode cX6_ways 34 = .ok (.getfield 39, 3) := dk_180 0 39 (dk_at dksX6_ways_1 10 rfl rfl)
theorem dX6_ways_37 : decode cX6_ways 37 = .ok (.iload 4, 2) := dk_21 4 (dk_at dksX6_ways_1 13 rfl rfl)
theorem dX6_ways_39 : decode cX6_ways 39 = .ok (.iaload, 1) := dk_46 (dk_at dksX6_ways_1 15 rfl rfl)
theorem dX6_ways_40 : decode cX6_ways 40 = .ok (.aload_n 0, 1) := dk_42 (dk_at dksX6_ways_1 16 rfl rfl)
theorem dX6_ways_41 : decode cX6_ways 41 = .ok (.getfield 19, 3) := dk_180 0 19 (dk_at dksX6_ways_1 17 rfl rfl)
theorem dX6_ways_44 : decode cX6_ways 44 = .ok (.bipush 16, 2) := dk_16 16 (dk_at dksX6_ways_1 20 rfl rfl)
theorem dX6_ways_46 : decode cX6_ways 46 = .ok (.iload_n 3, 1) := dk_29 (dk_at dksX6_ways_1 22 rfl rfl)
theorem dX6_ways_47 : decode cX6_ways 47 = .ok (.imul, 1) := dk_104 (dk_at dksX6_ways_1 23 rfl rfl)
theorem dX6_ways_48 : decode cX6_ways 48 = .ok (.aload_n 0, 1) := dk_42 (dk_at dksX6_ways_2 0 rfl rfl)
theorem dX6_ways_49 : decode cX6_ways 49 = .ok (.getfield 36, 3) := dk_180 0 36 (dk_at dksX6_ways_2 1 rfl rfl)
theorem dX6_ways_52 : decode cX6_ways 52 = .ok (.iload 4, 2) := dk_21 4 (dk_at dksX6_ways_2 4 rfl rfl)
theorem dX6_ways_54 : decode cX6_ways 54 = .ok (.iaload, 1) := dk_46 (dk_at dksX6_ways_2 6 rfl rfl)
theorem dX6_ways_55 : decode cX6_ways 55 = .ok (.iadd, 1) := dk_96 (dk_at dksX6_ways_2 7 rfl rfl)
theorem dX6_ways_56 : decode cX6_ways 56 = .ok (.iaload, 1) := dk_46 (dk_at dksX6_ways_2 8 rfl rfl)
theorem dX6_ways_57 : decode cX6_ways 57 = .ok (.imul, 1) := dk_104 (dk_at dksX6_ways_2 9 rfl rfl)
theorem dX6_ways_58 : decode cX6_ways 58 = .ok (.goto 4, 3) := dk_167 0 4 (dk_at dksX6_ways_2 10 rfl rfl)
theorem dX6_ways_61 : decode cX6_ways 61 = .ok (.iconst 0, 1) := dk_3 (dk_at dksX6_ways_2 13 rfl rfl)
theorem dX6_ways_62 : decode cX6_ways 62 = .ok (.iadd, 1) := dk_96 (dk_at dksX6_ways_2 14 rfl rfl)
theorem dX6_ways_63 : decode cX6_ways 63 = .ok (.istore_n 2, 1) := dk_61 (dk_at dksX6_ways_2 15 rfl rfl)
theorem dX6_ways_64 : decode cX6_ways 64 = .ok (.iinc 3 1, 3) := dk_132 3 1 (dk_at dksX6_ways_2 16 rfl rfl)
theorem dX6_ways_67 : decode cX6_ways 67 = .ok (.goto (-63), 3) := dk_167 255 193 (dk_at dksX6_ways_2 19 rfl rfl)
theorem dX6_ways_70 : decode cX6_ways 70 = .ok (.iload_n 2, 1) := dk_28 (dk_at dksX6_ways_2 22 rfl rfl)
theorem dX6_ways_71 : decode cX6_ways 71 = .ok (.ireturn, 1) := dk_172 (dk_at dksX6_ways_2 23 rfl rfl)
abbrev cX6_pairs : ByteArray := prog_15_method_22_code
def yX6_pairs : MethodName := ⟨RX6, "pairs", "([I)I"⟩
def dkwX6_pairs_2 : List UInt8 := [96, 61, 132, 3, 1, 167, 255, 235, 42, 43, 182, 0, 229, 5, 28, 104, 96, 172]
abbrev dktX6_pairs_2 : List UInt8 := dkwX6_pairs_2 ++ []
def dkwX6_pairs_1 : List UInt8 := [132, 3, 1, 167, 255, 235, 3, 62, 29, 42, 180, 0, 30, 162, 0, 19, 28, 42, 43, 3, 29, 182, 0, 225]
abbrev dktX6_pairs_1 : List UInt8 := dkwX6_pairs_1 ++ dktX6_pairs_2
def dkwX6_pairs_0 : List UInt8 := [3, 61, 3, 62, 29, 42, 180, 0, 26, 162, 0, 19, 28, 42, 43, 4, 29, 182, 0, 225, 96, 61]
abbrev dktX6_pairs_0 : List UInt8 := dkwX6_pairs_0 ++ dktX6_pairs_1
theorem dksX6_pairs_0 : cX6_pairs.data.toList.drop 0 = dktX6_pairs_0 := by decide +kernel
theorem dksX6_pairs_1 : cX6_pairs.data.toList.drop 22 = dktX6_pairs_1 := dk_seg dksX6_pairs_0 22 rfl rfl
theorem dksX6_pairs_2 : cX6_pairs.data.toList.drop 46 = dktX6_pairs_2 := dk_seg dksX6_pairs_1 24 rfl rfl
theorem dX6_pairs_0 : decode cX6_pairs 0 = .ok (.iconst 0, 1) := dk_3 (dk_at dksX6_pairs_0 0 rfl rfl)
theorem dX6_pairs_1 : decode cX6_pairs 1 = .ok (.istore_n 2, 1) := dk_61 (dk_at dksX6_pairs_0 1 rfl rfl)
theorem dX6_pairs_2 : decode cX6_pairs 2 = .ok (.iconst 0, 1) := dk_3 (dk_at dksX6_pairs_0 2 rfl rfl)
theorem dX6_pairs_3 : decode cX6_pairs 3 = .ok (.istore_n 3, 1) := dk_62 (dk_at dksX6_pairs_0 3 rfl rfl)
theorem dX6_pairs_4 : decode cX6_pairs 4 = .ok (.iload_n 3, 1) := dk_29 (dk_at dksX6_pairs_0 4 rfl rfl)
theorem dX6_pairs_5 : decode cX6_pairs 5 = .ok (.aload_n 0, 1) := dk_42 (dk_at dksX6_pairs_0 5 rfl rfl)
theorem dX6_pairs_6 : decode cX6_pairs 6 = .ok (.getfield 26, 3) := dk_180 0 26 (dk_at dksX6_pairs_0 6 rfl rfl)
theorem dX6_pairs_9 : decode cX6_pairs 9 = .ok (.if_icmp .ge 19, 3) := dk_162 0 19 (dk_at dksX6_pairs_0 9 rfl rfl)
theorem dX6_pairs_12 : decode cX6_pairs 12 = .ok (.iload_n 2, 1) := dk_28 (dk_at dksX6_pairs_0 12 rfl rfl)
theorem dX6_pairs_13 : decode cX6_pairs 13 = .ok (.aload_n 0, 1) := dk_42 (dk_at dksX6_pairs_0 13 rfl rfl)
theorem dX6_pairs_14 : decode cX6_pairs 14 = .ok (.aload_n 1, 1) := dk_43 (dk_at dksX6_pairs_0 14 rfl rfl)
theorem dX6_pairs_15 : decode cX6_pairs 15 = .ok (.iconst 1, 1) := dk_4 (dk_at dksX6_pairs_0 15 rfl rfl)
theorem dX6_pairs_16 : decode cX6_pairs 16 = .ok (.iload_n 3, 1) := dk_29 (dk_at dksX6_pairs_0 16 rfl rfl)
theorem dX6_pairs_17 : decode cX6_pairs 17 = .ok (.invokevirtual 225, 3) := dk_182 0 225 (dk_at dksX6_pairs_0 17 rfl rfl)
theorem dX6_pairs_20 : decode cX6_pairs 20 = .ok (.iadd, 1) := dk_96 (dk_at dksX6_pairs_0 20 rfl rfl)
theorem dX6_pairs_21 : decode cX6_pairs 21 = .ok (.istore_n 2, 1) := dk_61 (dk_at dksX6_pairs_0 21 rfl rfl)
theorem dX6_pairs_22 : decode cX6_pairs 22 = .ok (.iinc 3 1, 3) := dk_132 3 1 (dk_at dksX6_pairs_1 0 rfl rfl)
theorem dX6_pairs_25 : decode cX6_pairs 25 = .ok (.goto (-21), 3) := dk_167 255 235 (dk_at dksX6_pairs_1 3 rfl rfl)
theorem dX6_pairs_28 : decode cX6_pairs 28 = .ok (.iconst 0, 1) := dk_3 (dk_at dksX6_pairs_1 6 rfl rfl)
theorem dX6_pairs_29 : decode cX6_pairs 29 = .ok (.istore_n 3, 1) := dk_62 (dk_at dksX6_pairs_1 7 rfl rfl)
theorem dX6_pairs_30 : decode cX6_pairs 30 = .ok (.iload_n 3, 1) := dk_29 (dk_at dksX6_pairs_1 8 rfl rfl)
theorem dX6_pairs_31 : decode cX6_pairs 31 = .ok (.aload_n 0, 1) := dk_42 (dk_at dksX6_pairs_1 9 rfl rfl)
theorem dX6_pairs_32 : decode cX6_pairs 32 = .ok (.getfield 30, 3) := dk_180 0 30 (dk_at dksX6_pairs_1 10 rfl rfl)
theorem dX6_pairs_35 : decode cX6_pairs 35 = .ok (.if_icmp .ge 19, 3) := dk_162 0 19 (dk_at dksX6_pairs_1 13 rfl rfl)
theorem dX6_pairs_38 : decode cX6_pairs 38 = .ok (.iload_n 2, 1) := dk_28 (dk_at dksX6_pairs_1 16 rfl rfl)
theorem dX6_pairs_39 : decode cX6_pairs 39 = .ok (.aload_n 0, 1) := dk_42 (dk_at dksX6_pairs_1 17 rfl rfl)
theorem dX6_pairs_40 : decode cX6_pairs 40 = .ok (.aload_n 1, 1) := dk_43 (dk_at dksX6_pairs_1 18 rfl rfl)
theorem dX6_pairs_41 : decode cX6_pairs 41 = .ok (.iconst 0, 1) := dk_3 (dk_at dksX6_pairs_1 19 rfl rfl)
theorem dX6_pairs_42 : decode cX6_pairs 42 = .ok (.iload_n 3, 1) := dk_29 (dk_at dksX6_pairs_1 20 rfl rfl)
theorem dX6_pairs_43 : decode cX6_pairs 43 = .ok (.invokevirtual 225, 3) := dk_182 0 225 (dk_at dksX6_pairs_1 21 rfl rfl)
theorem dX6_pairs_46 : decode cX6_pairs 46 = .ok (.iadd, 1) := dk_96 (dk_at dksX6_pairs_2 0 rfl rfl)
theorem dX6_pairs_47 : decode cX6_pairs 47 = .ok (.istore_n 2, 1) := dk_61 (dk_at dksX6_pairs_2 1 rfl rfl)
theorem dX6_pairs_48 : decode cX6_pairs 48 = .ok (.iinc 3 1, 3) := dk_132 3 1 (dk_at dksX6_pairs_2 2 rfl rfl)
theorem dX6_pairs_51 : decode cX6_pairs 51 = .ok (.goto (-21), 3) := dk_167 255 235 (dk_at dksX6_pairs_2 5 rfl rfl)
theorem dX6_pairs_54 : decode cX6_pairs 54 = .ok (.aload_n 0, 1) := dk_42 (dk_at dksX6_pairs_2 8 rfl rfl)
theorem dX6_pairs_55 : decode cX6_pairs 55 = .ok (.aload_n 1, 1) := dk_43 (dk_at dksX6_pairs_2 9 rfl rfl)
theorem dX6_pairs_56 : decode cX6_pairs 56 = .ok (.invokevirtual 229, 3) := dk_182 0 229 (dk_at dksX6_pairs_2 10 rfl rfl)
theorem dX6_pairs_59 : decode cX6_pairs 59 = .ok (.iconst 2, 1) := dk_5 (dk_at dksX6_pairs_2 13 rfl rfl)
theorem dX6_pairs_60 : decode cX6_pairs 60 = .ok (.iload_n 2, 1) := dk_28 (dk_at dksX6_pairs_2 14 rfl rfl)
theorem dX6_pairs_61 : decode cX6_pairs 61 = .ok (.imul, 1) := dk_104 (dk_at dksX6_pairs_2 15 rfl rfl)
theorem dX6_pairs_62 : decode cX6_pairs 62 = .ok (.iadd, 1) := dk_96 (dk_at dksX6_pairs_2 16 rfl rfl)
theorem dX6_pairs_63 : decode cX6_pairs 63 = .ok (.ireturn, 1) := dk_172 (dk_at dksX6_pairs_2 17 rfl rfl)
abbrev cX6_adds : ByteArray := prog_15_method_21_code
def yX6_adds : MethodName := ⟨RX6, "adds", "([IZI)I"⟩
def dkwX6_adds_15 : List UInt8 := [172]
abbrev dktX6_adds_15 : List UInt8 := dkwX6_adds_15 ++ []
def dkwX6_adds_14 : List UInt8 := [21, 8, 21, 6, 162, 0, 8, 21, 8, 167, 0, 5, 21, 6, 54, 6, 132, 7, 1, 167, 255, 101, 21, 6]
abbrev dktX6_adds_14 : List UInt8 := dkwX6_adds_14 ++ dktX6_adds_15
def dkwX6_adds_13 : List UInt8 := [167, 0, 4, 3, 54, 9, 132, 12, 1, 167, 255, 201, 132, 10, 1, 167, 255, 146, 21, 9, 153, 0, 15]
abbrev dktX6_adds_13 : List UInt8 := dkwX6_adds_13 ++ dktX6_adds_14
def dkwX6_adds_12 : List UInt8 := [4, 126, 4, 159, 0, 20, 42, 180, 0, 84, 21, 12, 46, 42, 180, 0, 84, 21, 10, 46, 162, 0, 7, 4]
abbrev dktX6_adds_12 : List UInt8 := dkwX6_adds_12 ++ dktX6_adds_13
def dkwX6_adds_11 : List UInt8 := [54, 12, 21, 12, 21, 10, 162, 0, 54, 21, 9, 153, 0, 40, 21, 11, 154, 0, 31, 21, 7, 21, 12, 122]
abbrev dktX6_adds_11 : List UInt8 := dkwX6_adds_11 ++ dktX6_adds_12
def dkwX6_adds_10 : List UInt8 := [54, 11, 21, 8, 21, 11, 153, 0, 13, 42, 180, 0, 81, 21, 10, 46, 167, 0, 4, 3, 96, 54, 8, 3]
abbrev dktX6_adds_10 : List UInt8 := dkwX6_adds_10 ++ dktX6_adds_11
def dkwX6_adds_9 : List UInt8 := [21, 10, 21, 4, 162, 0, 109, 21, 7, 21, 10, 122, 4, 126, 4, 160, 0, 7, 4, 167, 0, 4, 3]
abbrev dktX6_adds_9 : List UInt8 := dkwX6_adds_9 ++ dktX6_adds_10
def dkwX6_adds_8 : List UInt8 := [54, 6, 3, 54, 7, 21, 7, 4, 21, 4, 120, 162, 0, 152, 3, 54, 8, 4, 54, 9, 3, 54, 10]
abbrev dktX6_adds_8 : List UInt8 := dkwX6_adds_8 ++ dktX6_adds_9
def dkwX6_adds_7 : List UInt8 := [112, 167, 0, 10, 21, 9, 42, 180, 0, 30, 108, 79, 132, 4, 1, 132, 6, 1, 167, 255, 97, 18, 199]
abbrev dktX6_adds_7 : List UInt8 := dkwX6_adds_7 ++ dktX6_adds_8
def dkwX6_adds_6 : List UInt8 := [42, 180, 0, 39, 21, 8, 46, 79, 42, 180, 0, 84, 21, 4, 28, 153, 0, 13, 21, 9, 42, 180, 0, 30]
abbrev dktX6_adds_6 : List UInt8 := dkwX6_adds_6 ++ dktX6_adds_7
def dkwX6_adds_5 : List UInt8 := [180, 0, 30, 108, 167, 0, 10, 21, 9, 42, 180, 0, 30, 112, 29, 160, 0, 48, 42, 180, 0, 81, 21, 4]
abbrev dktX6_adds_5 : List UInt8 := dkwX6_adds_5 ++ dktX6_adds_6
def dkwX6_adds_4 : List UInt8 := [21, 8, 158, 0, 83, 42, 180, 0, 42, 21, 8, 51, 154, 0, 73, 28, 153, 0, 13, 21, 9, 42]
abbrev dktX6_adds_4 : List UInt8 := dkwX6_adds_4 ++ dktX6_adds_5
def dkwX6_adds_3 : List UInt8 := [42, 180, 0, 13, 21, 7, 46, 46, 54, 8, 42, 180, 0, 7, 42, 180, 0, 36, 21, 8, 46, 46, 54, 9]
abbrev dktX6_adds_3 : List UInt8 := dkwX6_adds_3 ++ dktX6_adds_4
def dkwX6_adds_2 : List UInt8 := [21, 6, 42, 180, 0, 30, 104, 29, 96, 54, 7, 42, 180, 0, 22, 21, 7, 51, 153, 0, 5, 3, 172, 43]
abbrev dktX6_adds_2 : List UInt8 := dkwX6_adds_2 ++ dktX6_adds_3
def dkwX6_adds_1 : List UInt8 := [21, 6, 21, 5, 162, 0, 158, 28, 153, 0, 15, 29, 42, 180, 0, 30, 104, 21, 6, 96, 167, 0, 12]
abbrev dktX6_adds_1 : List UInt8 := dkwX6_adds_1 ++ dktX6_adds_2
def dkwX6_adds_0 : List UInt8 := [3, 54, 4, 28, 153, 0, 10, 42, 180, 0, 30, 167, 0, 7, 42, 180, 0, 26, 54, 5, 3, 54, 6]
abbrev dktX6_adds_0 : List UInt8 := dkwX6_adds_0 ++ dktX6_adds_1
theorem dksX6_adds_0 : cX6_adds.data.toList.drop 0 = dktX6_adds_0 := by decide +kernel
theorem dksX6_adds_1 : cX6_adds.data.toList.drop 23 = dktX6_adds_1 := dk_seg dksX6_adds_0 23 rfl rfl
theorem dksX6_adds_2 : cX6_adds.data.toList.drop 46 = dktX6_adds_2 := dk_seg dksX6_adds_1 23 rfl rfl
theorem dksX6_adds_3 : cX6_adds.data.toList.drop 70 = dktX6_adds_3 := dk_seg dksX6_adds_2 24 rfl rfl
theorem dksX6_adds_4 : cX6_adds.data.toList.drop 94 = dktX6_adds_4 := dk_seg dksX6_adds_3 24 rfl rfl
theorem dksX6_adds_5 : cX6_adds.data.toList.drop 116 = dktX6_adds_5 := dk_seg dksX6_adds_4 22 rfl rfl
theorem dksX6_adds_6 : cX6_adds.data.toList.drop 140 = dktX6_adds_6 := dk_seg dksX6_adds_5 24 rfl rfl
theorem dksX6_adds_7 : cX6_adds.data.toList.drop 164 = dktX6_adds_7 := dk_seg dksX6_adds_6 24 rfl rfl
theorem dksX6_adds_8 : cX6_adds.data.toList.drop 187 = dktX6_adds_8 := dk_seg dksX6_adds_7 23 rfl rfl
theorem dksX6_adds_9 : cX6_adds.data.toList.drop 210 = dktX6_adds_9 := dk_seg dksX6_adds_8 23 rfl rfl
theorem dksX6_adds_10 : cX6_adds.data.toList.drop 233 = dktX6_adds_10 := dk_seg dksX6_adds_9 23 rfl rfl
theorem dksX6_adds_11 : cX6_adds.data.toList.drop 257 = dktX6_adds_11 := dk_seg dksX6_adds_10 24 rfl rfl
theorem dksX6_adds_12 : cX6_adds.data.toList.drop 281 = dktX6_adds_12 := dk_seg dksX6_adds_11 24 rfl rfl
theorem dksX6_adds_13 : cX6_adds.data.toList.drop 305 = dktX6_adds_13 := dk_seg dksX6_adds_12 24 rfl rfl
theorem dksX6_adds_14 : cX6_adds.data.toList.drop 328 = dktX6_adds_14 := dk_seg dksX6_adds_13 23 rfl rfl
theorem dksX6_adds_15 : cX6_adds.data.toList.drop 352 = dktX6_adds_15 := dk_seg dksX6_adds_14 24 rfl rfl
theorem dX6_adds_0 : decode cX6_adds 0 = .ok (.iconst 0, 1) := dk_3 (dk_at dksX6_adds_0 0 rfl rfl)
theorem dX6_adds_1 : decode cX6_adds 1 = .ok (.istore 4, 2) := dk_54 4 (dk_at dksX6_adds_0 1 rfl rfl)
theorem dX6_adds_3 : decode cX6_adds 3 = .ok (.iload_n 2, 1) := dk_28 (dk_at dksX6_adds_0 3 rfl rfl)
theorem dX6_adds_4 : decode cX6_adds 4 = .ok (.ifCond .eq 10, 3) := dk_153 0 10 (dk_at dksX6_adds_0 4 rfl rfl)
theorem dX6_adds_7 : decode cX6_adds 7 = .ok (.aload_n 0, 1) := dk_42 (dk_at dksX6_adds_0 7 rfl rfl)
theorem dX6_adds_8 : decode cX6_adds 8 = .ok (.getfield 30, 3) := dk_180 0 30 (dk_at dksX6_adds_0 8 rfl rfl)
theorem dX6_adds_11 : decode cX6_adds 11 = .ok (.goto 7, 3) := dk_167 0 7 (dk_at dksX6_adds_0 11 rfl rfl)
theorem dX6_adds_14 : decode cX6_adds 14 = .ok (.aload_n 0, 1) := dk_42 (dk_at dksX6_adds_0 14 rfl rfl)
theorem dX6_adds_15 : decode cX6_adds 15 = .ok (.getfield 26, 3) := dk_180 0 26 (dk_at dksX6_adds_0 15 rfl rfl)
theorem dX6_adds_18 : decode cX6_adds 18 = .ok (.istore 5, 2) := dk_54 5 (dk_at dksX6_adds_0 18 rfl rfl)
theorem dX6_adds_20 : decode cX6_adds 20 = .ok (.iconst 0, 1) := dk_3 (dk_at dksX6_adds_0 20 rfl rfl)
theorem dX6_adds_21 : decode cX6_adds 21 = .ok (.istore 6, 2) := dk_54 6 (dk_at dksX6_adds_0 21 rfl rfl)
theorem dX6_adds_23 : decode cX6_adds 23 = .ok (.iload 6, 2) := dk_21 6 (dk_at dksX6_adds_1 0 rfl rfl)
theorem dX6_adds_25 : decode cX6_adds 25 = .ok (.iload 5, 2) := dk_21 5 (dk_at dksX6_adds_1 2 rfl rfl)
theorem dX6_adds_27 : decode cX6_adds 27 = .ok (.if_icmp .ge 158, 3) := dk_162 0 158 (dk_at dksX6_adds_1 4 rfl rfl)
theorem dX6_adds_30 : decode cX6_adds 30 = .ok (.iload_n 2, 1) := dk_28 (dk_at dksX6_adds_1 7 rfl rfl)
theorem dX6_adds_31 : decode cX6_adds 31 = .ok (.ifCond .eq 15, 3) := dk_153 0 15 (dk_at dksX6_adds_1 8 rfl rfl)
theorem dX6_adds_34 : decode cX6_adds 34 = .ok (.iload_n 3, 1) := dk_29 (dk_at dksX6_adds_1 11 rfl rfl)
theorem dX6_adds_35 : decode cX6_adds 35 = .ok (.aload_n 0, 1) := dk_42 (dk_at dksX6_adds_1 12 rfl rfl)
theorem dX6_adds_36 : decode cX6_adds 36 = .ok (.getfield 30, 3) := dk_180 0 30 (dk_at dksX6_adds_1 13 rfl rfl)
theorem dX6_adds_39 : decode cX6_adds 39 = .ok (.imul, 1) := dk_104 (dk_at dksX6_adds_1 16 rfl rfl)
theorem dX6_adds_40 : decode cX6_adds 40 = .ok (.iload 6, 2) := dk_21 6 (dk_at dksX6_adds_1 17 rfl rfl)
theorem dX6_adds_42 : decode cX6_adds 42 = .ok (.iadd, 1) := dk_96 (dk_at dksX6_adds_1 19 rfl rfl)
theorem dX6_adds_43 : decode cX6_adds 43 = .ok (.goto 12, 3) := dk_167 0 12 (dk_at dksX6_adds_1 20 rfl rfl)
theorem dX6_adds_46 : decode cX6_adds 46 = .ok (.iload 6, 2) := dk_21 6 (dk_at dksX6_adds_2 0 rfl rfl)
theorem dX6_adds_48 : decode cX6_adds 48 = .ok (.aload_n 0, 1) := dk_42 (dk_at dksX6_adds_2 2 rfl rfl)
theorem dX6_adds_49 : decode cX6_adds 49 = .ok (.getfield 30, 3) := dk_180 0 30 (dk_at dksX6_adds_2 3 rfl rfl)
theorem dX6_adds_52 : decode cX6_adds 52 = .ok (.imul, 1) := dk_104 (dk_at dksX6_adds_2 6 rfl rfl)
theorem dX6_adds_53 : decode cX6_adds 53 = .ok (.iload_n 3, 1) := dk_29 (dk_at dksX6_adds_2 7 rfl rfl)
theorem dX6_adds_54 : decode cX6_adds 54 = .ok (.iadd, 1) := dk_96 (dk_at dksX6_adds_2 8 rfl rfl)
theorem dX6_adds_55 : decode cX6_adds 55 = .ok (.istore 7, 2) := dk_54 7 (dk_at dksX6_adds_2 9 rfl rfl)
theorem dX6_adds_57 : decode cX6_adds 57 = .ok (.aload_n 0, 1) := dk_42 (dk_at dksX6_adds_2 11 rfl rfl)
theorem dX6_adds_58 : decode cX6_adds 58 = .ok (.getfield 22, 3) := dk_180 0 22 (dk_at dksX6_adds_2 12 rfl rfl)
theorem dX6_adds_61 : decode cX6_adds 61 = .ok (.iload 7, 2) := dk_21 7 (dk_at dksX6_adds_2 15 rfl rfl)
theorem dX6_adds_63 : decode cX6_adds 63 = .ok (.baload, 1) := dk_51 (dk_at dksX6_adds_2 17 rfl rfl)
theorem dX6_adds_64 : decode cX6_adds 64 = .ok (.ifCond .eq 5, 3) := dk_153 0 5 (dk_at dksX6_adds_2 18 rfl rfl)
theorem dX6_adds_67 : decode cX6_adds 67 = .ok (.iconst 0, 1) := dk_3 (dk_at dksX6_adds_2 21 rfl rfl)
theorem dX6_adds_68 : decode cX6_adds 68 = .ok (.ireturn, 1) := dk_172 (dk_at dksX6_adds_2 22 rfl rfl)
theorem dX6_adds_69 : decode cX6_adds 69 = .ok (.aload_n 1, 1) := dk_43 (dk_at dksX6_adds_2 23 rfl rfl)
theorem dX6_adds_70 : decode cX6_adds 70 = .ok (.aload_n 0, 1) := dk_42 (dk_at dksX6_adds_3 0 rfl rfl)
theorem dX6_adds_71 : decode cX6_adds 71 = .ok (.getfield 13, 3) := dk_180 0 13 (dk_at dksX6_adds_3 1 rfl rfl)
theorem dX6_adds_74 : decode cX6_adds 74 = .ok (.iload 7, 2) := dk_21 7 (dk_at dksX6_adds_3 4 rfl rfl)
theorem dX6_adds_76 : decode cX6_adds 76 = .ok (.iaload, 1) := dk_46 (dk_at dksX6_adds_3 6 rfl rfl)
theorem dX6_adds_77 : decode cX6_adds 77 = .ok (.iaload, 1) := dk_46 (dk_at dksX6_adds_3 7 rfl rfl)
theorem dX6_adds_78 : decode cX6_adds 78 = .ok (.istore 8, 2) := dk_54 8 (dk_at dksX6_adds_3 8 rfl rfl)
theorem dX6_adds_80 : decode cX6_adds 80 = .ok (.aload_n 0, 1) := dk_42 (dk_at dksX6_adds_3 10 rfl rfl)
theorem dX6_adds_81 : decode cX6_adds 81 = .ok (.getfield 7, 3) := dk_180 0 7 (dk_at dksX6_adds_3 11 rfl rfl)
theorem dX6_adds_84 : decode cX6_adds 84 = .ok (.aload_n 0, 1) := dk_42 (dk_at dksX6_adds_3 14 rfl rfl)
theorem dX6_adds_85 : decode cX6_adds 85 = .ok (.getfield 36, 3) := dk_180 0 36 (dk_at dksX6_adds_3 15 rfl rfl)
theorem dX6_adds_88 : decode cX6_adds 88 = .ok (.iload 8, 2) := dk_21 8 (dk_at dksX6_adds_3 18 rfl rfl)
theorem dX6_adds_90 : decode cX6_adds 90 = .ok (.iaload, 1) := dk_46 (dk_at dksX6_adds_3 20 rfl rfl)
theorem dX6_adds_91 : decode cX6_adds 91 = .ok (.iaload, 1) := dk_46 (dk_at dksX6_adds_3 21 rfl rfl)
theorem dX6_adds_92 : decode cX6_adds 92 = .ok (.istore 9, 2) := dk_54 9 (dk_at dksX6_adds_3 22 rfl rfl)
theorem dX6_adds_94 : decode cX6_adds 94 = .ok (.iload 8, 2) := dk_21 8 (dk_at dksX6_adds_4 0 rfl rfl)
theorem dX6_adds_96 : decode cX6_adds 96 = .ok (.ifCond .le 83, 3) := dk_158 0 83 (dk_at dksX6_adds_4 2 rfl rfl)
theorem dX6_adds_99 : decode cX6_adds 99 = .ok (.aload_n 0, 1) := dk_42 (dk_at dksX6_adds_4 5 rfl rfl)
theorem dX6_adds_100 : decode cX6_adds 100 = .ok (.getfield 42, 3) := dk_180 0 42 (dk_at dksX6_adds_4 6 rfl rfl)
theorem dX6_adds_103 : decode cX6_adds 103 = .ok (.iload 8, 2) := dk_21 8 (dk_at dksX6_adds_4 9 rfl rfl)
theorem dX6_adds_105 : decode cX6_adds 105 = .ok (.baload, 1) := dk_51 (dk_at dksX6_adds_4 11 rfl rfl)
theorem dX6_adds_106 : decode cX6_adds 106 = .ok (.ifCond .ne 73, 3) := dk_154 0 73 (dk_at dksX6_adds_4 12 rfl rfl)
theorem dX6_adds_109 : decode cX6_adds 109 = .ok (.iload_n 2, 1) := dk_28 (dk_at dksX6_adds_4 15 rfl rfl)
theorem dX6_adds_110 : decode cX6_adds 110 = .ok (.ifCond .eq 13, 3) := dk_153 0 13 (dk_at dksX6_adds_4 16 rfl rfl)
theorem dX6_adds_113 : decode cX6_adds 113 = .ok (.iload 9, 2) := dk_21 9 (dk_at dksX6_adds_4 19 rfl rfl)
theorem dX6_adds_115 : decode cX6_adds 115 = .ok (.aload_n 0, 1) := dk_42 (dk_at dksX6_adds_4 21 rfl rfl)
theorem dX6_adds_116 : decode cX6_adds 116 = .ok (.getfield 30, 3) := dk_180 0 30 (dk_at dksX6_adds_5 0 rfl rfl)
theorem dX6_adds_119 : decode cX6_adds 119 = .ok (.idiv, 1) := dk_108 (dk_at dksX6_adds_5 3 rfl rfl)
theorem dX6_adds_120 : decode cX6_adds 120 = .ok (.goto 10, 3) := dk_167 0 10 (dk_at dksX6_adds_5 4 rfl rfl)
theorem dX6_adds_123 : decode cX6_adds 123 = .ok (.iload 9, 2) := dk_21 9 (dk_at dksX6_adds_5 7 rfl rfl)
theorem dX6_adds_125 : decode cX6_adds 125 = .ok (.aload_n 0, 1) := dk_42 (dk_at dksX6_adds_5 9 rfl rfl)
theorem dX6_adds_126 : decode cX6_adds 126 = .ok (.getfield 30, 3) := dk_180 0 30 (dk_at dksX6_adds_5 10 rfl rfl)
theorem dX6_adds_129 : decode cX6_adds 129 = .ok (.irem, 1) := dk_112 (dk_at dksX6_adds_5 13 rfl rfl)
theorem dX6_adds_130 : decode cX6_adds 130 = .ok (.iload_n 3, 1) := dk_29 (dk_at dksX6_adds_5 14 rfl rfl)
theorem dX6_adds_131 : decode cX6_adds 131 = .ok (.if_icmp .ne 48, 3) := dk_160 0 48 (dk_at dksX6_adds_5 15 rfl rfl)
theorem dX6_adds_134 : decode cX6_adds 134 = .ok (.aload_n 0, 1) := dk_42 (dk_at dksX6_adds_5 18 rfl rfl)
theorem dX6_adds_135 : decode cX6_adds 135 = .ok (.getfield 81, 3) := dk_180 0 81 (dk_at dksX6_adds_5 19 rfl rfl)
theorem dX6_adds_138 : decode cX6_adds 138 = .ok (.iload 4, 2) := dk_21 4 (dk_at dksX6_adds_5 22 rfl rfl)
theorem dX6_adds_140 : decode cX6_adds 140 = .ok (.aload_n 0, 1) := dk_42 (dk_at dksX6_adds_6 0 rfl rfl)
theorem dX6_adds_141 : decode cX6_adds 141 = .ok (.getfield 39, 3) := dk_180 0 39 (dk_at dksX6_adds_6 1 rfl rfl)
theorem dX6_adds_144 : decode cX6_adds 144 = .ok (.iload 8, 2) := dk_21 8 (dk_at dksX6_adds_6 4 rfl rfl)
theorem dX6_adds_146 : decode cX6_adds 146 = .ok (.iaload, 1) := dk_46 (dk_at dksX6_adds_6 6 rfl rfl)
theorem dX6_adds_147 : decode cX6_adds 147 = .ok (.iastore, 1) := dk_79 (dk_at dksX6_adds_6 7 rfl rfl)
theorem dX6_adds_148 : decode cX6_adds 148 = .ok (.aload_n 0, 1) := dk_42 (dk_at dksX6_adds_6 8 rfl rfl)
theorem dX6_adds_149 : decode cX6_adds 149 = .ok (.getfield 84, 3) := dk_180 0 84 (dk_at dksX6_adds_6 9 rfl rfl)
theorem dX6_adds_152 : decode cX6_adds 152 = .ok (.iload 4, 2) := dk_21 4 (dk_at dksX6_adds_6 12 rfl rfl)
theorem dX6_adds_154 : decode cX6_adds 154 = .ok (.iload_n 2, 1) := dk_28 (dk_at dksX6_adds_6 14 rfl rfl)
theorem dX6_adds_155 : decode cX6_adds 155 = .ok (.ifCond .eq 13, 3) := dk_153 0 13 (dk_at dksX6_adds_6 15 rfl rfl)
theorem dX6_adds_158 : decode cX6_adds 158 = .ok (.iload 9, 2) := dk_21 9 (dk_at dksX6_adds_6 18 rfl rfl)
theorem dX6_adds_160 : decode cX6_adds 160 = .ok (.aload_n 0, 1) := dk_42 (dk_at dksX6_adds_6 20 rfl rfl)
theorem dX6_adds_161 : decode cX6_adds 161 = .ok (.getfield 30, 3) := dk_180 0 30 (dk_at dksX6_adds_6 21 rfl rfl)
theorem dX6_adds_164 : decode cX6_adds 164 = .ok (.irem, 1) := dk_112 (dk_at dksX6_adds_7 0 rfl rfl)
theorem dX6_adds_165 : decode cX6_adds 165 = .ok (.goto 10, 3) := dk_167 0 10 (dk_at dksX6_adds_7 1 rfl rfl)
theorem dX6_adds_168 : decode cX6_adds 168 = .ok (.iload 9, 2) := dk_21 9 (dk_at dksX6_adds_7 4 rfl rfl)
theorem dX6_adds_170 : decode cX6_adds 170 = .ok (.aload_n 0, 1) := dk_42 (dk_at dksX6_adds_7 6 rfl rfl)
theorem dX6_adds_171 : decode cX6_adds 171 = .ok (.getfield 30, 3) := dk_180 0 30 (dk_at dksX6_adds_7 7 rfl rfl)
theorem dX6_adds_174 : decode cX6_adds 174 = .ok (.idiv, 1) := dk_108 (dk_at dksX6_adds_7 10 rfl rfl)
theorem dX6_adds_175 : decode cX6_adds 175 = .ok (.iastore, 1) := dk_79 (dk_at dksX6_adds_7 11 rfl rfl)
theorem dX6_adds_176 : decode cX6_adds 176 = .ok (.iinc 4 1, 3) := dk_132 4 1 (dk_at dksX6_adds_7 12 rfl rfl)
theorem dX6_adds_179 : decode cX6_adds 179 = .ok (.iinc 6 1, 3) := dk_132 6 1 (dk_at dksX6_adds_7 15 rfl rfl)
theorem dX6_adds_182 : decode cX6_adds 182 = .ok (.goto (-159), 3) := dk_167 255 97 (dk_at dksX6_adds_7 18 rfl rfl)
theorem dX6_adds_185 : decode cX6_adds 185 = .ok (.ldc 199, 2) := dk_18 199 (dk_at dksX6_adds_7 21 rfl rfl)
theorem dX6_adds_187 : decode cX6_adds 187 = .ok (.istore 6, 2) := dk_54 6 (dk_at dksX6_adds_8 0 rfl rfl)
theorem dX6_adds_189 : decode cX6_adds 189 = .ok (.iconst 0, 1) := dk_3 (dk_at dksX6_adds_8 2 rfl rfl)
theorem dX6_adds_190 : decode cX6_adds 190 = .ok (.istore 7, 2) := dk_54 7 (dk_at dksX6_adds_8 3 rfl rfl)
theorem dX6_adds_192 : decode cX6_adds 192 = .ok (.iload 7, 2) := dk_21 7 (dk_at dksX6_adds_8 5 rfl rfl)
theorem dX6_adds_194 : decode cX6_adds 194 = .ok (.iconst 1, 1) := dk_4 (dk_at dksX6_adds_8 7 rfl rfl)
theorem dX6_adds_195 : decode cX6_adds 195 = .ok (.iload 4, 2) := dk_21 4 (dk_at dksX6_adds_8 8 rfl rfl)
theorem dX6_adds_197 : decode cX6_adds 197 = .ok (.ishl, 1) := dk_120 (dk_at dksX6_adds_8 10 rfl rfl)
theorem dX6_adds_198 : decode cX6_adds 198 = .ok (.if_icmp .ge 152, 3) := dk_162 0 152 (dk_at dksX6_adds_8 11 rfl rfl)
theorem dX6_adds_201 : decode cX6_adds 201 = .ok (.iconst 0, 1) := dk_3 (dk_at dksX6_adds_8 14 rfl rfl)
theorem dX6_adds_202 : decode cX6_adds 202 = .ok (.istore 8, 2) := dk_54 8 (dk_at dksX6_adds_8 15 rfl rfl)
theorem dX6_adds_204 : decode cX6_adds 204 = .ok (.iconst 1, 1) := dk_4 (dk_at dksX6_adds_8 17 rfl rfl)
theorem dX6_adds_205 : decode cX6_adds 205 = .ok (.istore 9, 2) := dk_54 9 (dk_at dksX6_adds_8 18 rfl rfl)
theorem dX6_adds_207 : decode cX6_adds 207 = .ok (.iconst 0, 1) := dk_3 (dk_at dksX6_adds_8 20 rfl rfl)
theorem dX6_adds_208 : decode cX6_adds 208 = .ok (.istore 10, 2) := dk_54 10 (dk_at dksX6_adds_8 21 rfl rfl)
theorem dX6_adds_210 : decode cX6_adds 210 = .ok (.iload 10, 2) := dk_21 10 (dk_at dksX6_adds_9 0 rfl rfl)
theorem dX6_adds_212 : decode cX6_adds 212 = .ok (.iload 4, 2) := dk_21 4 (dk_at dksX6_adds_9 2 rfl rfl)
theorem dX6_adds_214 : decode cX6_adds 214 = .ok (.if_icmp .ge 109, 3) := dk_162 0 109 (dk_at dksX6_adds_9 4 rfl rfl)
theorem dX6_adds_217 : decode cX6_adds 217 = .ok (.iload 7, 2) := dk_21 7 (dk_at dksX6_adds_9 7 rfl rfl)
theorem dX6_adds_219 : decode cX6_adds 219 = .ok (.iload 10, 2) := dk_21 10 (dk_at dksX6_adds_9 9 rfl rfl)
theorem dX6_adds_221 : decode cX6_adds 221 = .ok (.ishr, 1) := dk_122 (dk_at dksX6_adds_9 11 rfl rfl)
theorem dX6_adds_222 : decode cX6_adds 222 = .ok (.iconst 1, 1) := dk_4 (dk_at dksX6_adds_9 12 rfl rfl)
theorem dX6_adds_223 : decode cX6_adds 223 = .ok (.iand, 1) := dk_126 (dk_at dksX6_adds_9 13 rfl rfl)
theorem dX6_adds_224 : decode cX6_adds 224 = .ok (.iconst 1, 1) := dk_4 (dk_at dksX6_adds_9 14 rfl rfl)
theorem dX6_adds_225 : decode cX6_adds 225 = .ok (.if_icmp .ne 7, 3) := dk_160 0 7 (dk_at dksX6_adds_9 15 rfl rfl)
theorem dX6_adds_228 : decode cX6_adds 228 = .ok (.iconst 1, 1) := dk_4 (dk_at dksX6_adds_9 18 rfl rfl)
theorem dX6_adds_229 : decode cX6_adds 229 = .ok (.goto 4, 3) := dk_167 0 4 (dk_at dksX6_adds_9 19 rfl rfl)
theorem dX6_adds_232 : decode cX6_adds 232 = .ok (.iconst 0, 1) := dk_3 (dk_at dksX6_adds_9 22 rfl rfl)
theorem dX6_adds_233 : decode cX6_adds 233 = .ok (.istore 11, 2) := dk_54 11 (dk_at dksX6_adds_10 0 rfl rfl)
theorem dX6_adds_235 : decode cX6_adds 235 = .ok (.iload 8, 2) := dk_21 8 (dk_at dksX6_adds_10 2 rfl rfl)
theorem dX6_adds_237 : decode cX6_adds 237 = .ok (.iload 11, 2) := dk_21 11 (dk_at dksX6_adds_10 4 rfl rfl)
theorem dX6_adds_239 : decode cX6_adds 239 = .ok (.ifCond .eq 13, 3) := dk_153 0 13 (dk_at dksX6_adds_10 6 rfl rfl)
theorem dX6_adds_242 : decode cX6_adds 242 = .ok (.aload_n 0, 1) := dk_42 (dk_at dksX6_adds_10 9 rfl rfl)
theorem dX6_adds_243 : decode cX6_adds 243 = .ok (.getfield 81, 3) := dk_180 0 81 (dk_at dksX6_adds_10 10 rfl rfl)
theorem dX6_adds_246 : decode cX6_adds 246 = .ok (.iload 10, 2) := dk_21 10 (dk_at dksX6_adds_10 13 rfl rfl)
theorem dX6_adds_248 : decode cX6_adds 248 = .ok (.iaload, 1) := dk_46 (dk_at dksX6_adds_10 15 rfl rfl)
theorem dX6_adds_249 : decode cX6_adds 249 = .ok (.goto 4, 3) := dk_167 0 4 (dk_at dksX6_adds_10 16 rfl rfl)
theorem dX6_adds_252 : decode cX6_adds 252 = .ok (.iconst 0, 1) := dk_3 (dk_at dksX6_adds_10 19 rfl rfl)
theorem dX6_adds_253 : decode cX6_adds 253 = .ok (.iadd, 1) := dk_96 (dk_at dksX6_adds_10 20 rfl rfl)
theorem dX6_adds_254 : decode cX6_adds 254 = .ok (.istore 8, 2) := dk_54 8 (dk_at dksX6_adds_10 21 rfl rfl)
theorem dX6_adds_256 : decode cX6_adds 256 = .ok (.iconst 0, 1) := dk_3 (dk_at dksX6_adds_10 23 rfl rfl)
theorem dX6_adds_257 : decode cX6_adds 257 = .ok (.istore 12, 2) := dk_54 12 (dk_at dksX6_adds_11 0 rfl rfl)
theorem dX6_adds_259 : decode cX6_adds 259 = .ok (.iload 12, 2) := dk_21 12 (dk_at dksX6_adds_11 2 rfl rfl)
theorem dX6_adds_261 : decode cX6_adds 261 = .ok (.iload 10, 2) := dk_21 10 (dk_at dksX6_adds_11 4 rfl rfl)
theorem dX6_adds_263 : decode cX6_adds 263 = .ok (.if_icmp .ge 54, 3) := dk_162 0 54 (dk_at dksX6_adds_11 6 rfl rfl)
theorem dX6_adds_266 : decode cX6_adds 266 = .ok (.iload 9, 2) := dk_21 9 (dk_at dksX6_adds_11 9 rfl rfl)
theorem dX6_adds_268 : decode cX6_adds 268 = .ok (.ifCond .eq 40, 3) := dk_153 0 40 (dk_at dksX6_adds_11 11 rfl rfl)
theorem dX6_adds_271 : decode cX6_adds 271 = .ok (.iload 11, 2) := dk_21 11 (dk_at dksX6_adds_11 14 rfl rfl)
theorem dX6_adds_273 : decode cX6_adds 273 = .ok (.ifCond .ne 31, 3) := dk_154 0 31 (dk_at dksX6_adds_11 16 rfl rfl)
theorem dX6_adds_276 : decode cX6_adds 276 = .ok (.iload 7, 2) := dk_21 7 (dk_at dksX6_adds_11 19 rfl rfl)
theorem dX6_adds_278 : decode cX6_adds 278 = .ok (.iload 12, 2) := dk_21 12 (dk_at dksX6_adds_11 21 rfl rfl)
theorem dX6_adds_280 : decode cX6_adds 280 = .ok (.ishr, 1) := dk_122 (dk_at dksX6_adds_11 23 rfl rfl)
theorem dX6_adds_281 : decode cX6_adds 281 = .ok (.iconst 1, 1) := dk_4 (dk_at dksX6_adds_12 0 rfl rfl)
theorem dX6_adds_282 : decode cX6_adds 282 = .ok (.iand, 1) := dk_126 (dk_at dksX6_adds_12 1 rfl rfl)
theorem dX6_adds_283 : decode cX6_adds 283 = .ok (.iconst 1, 1) := dk_4 (dk_at dksX6_adds_12 2 rfl rfl)
theorem dX6_adds_284 : decode cX6_adds 284 = .ok (.if_icmp .eq 20, 3) := dk_159 0 20 (dk_at dksX6_adds_12 3 rfl rfl)
theorem dX6_adds_287 : decode cX6_adds 287 = .ok (.aload_n 0, 1) := dk_42 (dk_at dksX6_adds_12 6 rfl rfl)
theorem dX6_adds_288 : decode cX6_adds 288 = .ok (.getfield 84, 3) := dk_180 0 84 (dk_at dksX6_adds_12 7 rfl rfl)
theorem dX6_adds_291 : decode cX6_adds 291 = .ok (.iload 12, 2) := dk_21 12 (dk_at dksX6_adds_12 10 rfl rfl)
theorem dX6_adds_293 : decode cX6_adds 293 = .ok (.iaload, 1) := dk_46 (dk_at dksX6_adds_12 12 rfl rfl)
theorem dX6_adds_294 : decode cX6_adds 294 = .ok (.aload_n 0, 1) := dk_42 (dk_at dksX6_adds_12 13 rfl rfl)
theorem dX6_adds_295 : decode cX6_adds 295 = .ok (.getfield 84, 3) := dk_180 0 84 (dk_at dksX6_adds_12 14 rfl rfl)
theorem dX6_adds_298 : decode cX6_adds 298 = .ok (.iload 10, 2) := dk_21 10 (dk_at dksX6_adds_12 17 rfl rfl)
theorem dX6_adds_300 : decode cX6_adds 300 = .ok (.iaload, 1) := dk_46 (dk_at dksX6_adds_12 19 rfl rfl)
theorem dX6_adds_301 : decode cX6_adds 301 = .ok (.if_icmp .ge 7, 3) := dk_162 0 7 (dk_at dksX6_adds_12 20 rfl rfl)
theorem dX6_adds_304 : decode cX6_adds 304 = .ok (.iconst 1, 1) := dk_4 (dk_at dksX6_adds_12 23 rfl rfl)
theorem dX6_adds_305 : decode cX6_adds 305 = .ok (.goto 4, 3) := dk_167 0 4 (dk_at dksX6_adds_13 0 rfl rfl)
theorem dX6_adds_308 : decode cX6_adds 308 = .ok (.iconst 0, 1) := dk_3 (dk_at dksX6_adds_13 3 rfl rfl)
theorem dX6_adds_309 : decode cX6_adds 309 = .ok (.istore 9, 2) := dk_54 9 (dk_at dksX6_adds_13 4 rfl rfl)
theorem dX6_adds_311 : decode cX6_adds 311 = .ok (.iinc 12 1, 3) := dk_132 12 1 (dk_at dksX6_adds_13 6 rfl rfl)
theorem dX6_adds_314 : decode cX6_adds 314 = .ok (.goto (-55), 3) := dk_167 255 201 (dk_at dksX6_adds_13 9 rfl rfl)
theorem dX6_adds_317 : decode cX6_adds 317 = .ok (.iinc 10 1, 3) := dk_132 10 1 (dk_at dksX6_adds_13 12 rfl rfl)
theorem dX6_adds_320 : decode cX6_adds 320 = .ok (.goto (-110), 3) := dk_167 255 146 (dk_at dksX6_adds_13 15 rfl rfl)
theorem dX6_adds_323 : decode cX6_adds 323 = .ok (.iload 9, 2) := dk_21 9 (dk_at dksX6_adds_13 18 rfl rfl)
theorem dX6_adds_325 : decode cX6_adds 325 = .ok (.ifCond .eq 15, 3) := dk_153 0 15 (dk_at dksX6_adds_13 20 rfl rfl)
theorem dX6_adds_328 : decode cX6_adds 328 = .ok (.iload 8, 2) := dk_21 8 (dk_at dksX6_adds_14 0 rfl rfl)
theorem dX6_adds_330 : decode cX6_adds 330 = .ok (.iload 6, 2) := dk_21 6 (dk_at dksX6_adds_14 2 rfl rfl)
theorem dX6_adds_332 : decode cX6_adds 332 = .ok (.if_icmp .ge 8, 3) := dk_162 0 8 (dk_at dksX6_adds_14 4 rfl rfl)
theorem dX6_adds_335 : decode cX6_adds 335 = .ok (.iload 8, 2) := dk_21 8 (dk_at dksX6_adds_14 7 rfl rfl)
theorem dX6_adds_337 : decode cX6_adds 337 = .ok (.goto 5, 3) := dk_167 0 5 (dk_at dksX6_adds_14 9 rfl rfl)
theorem dX6_adds_340 : decode cX6_adds 340 = .ok (.iload 6, 2) := dk_21 6 (dk_at dksX6_adds_14 12 rfl rfl)
theorem dX6_adds_342 : decode cX6_adds 342 = .ok (.istore 6, 2) := dk_54 6 (dk_at dksX6_adds_14 14 rfl rfl)
theorem dX6_adds_344 : decode cX6_adds 344 = .ok (.iinc 7 1, 3) := dk_132 7 1 (dk_at dksX6_adds_14 16 rfl rfl)
theorem dX6_adds_347 : decode cX6_adds 347 = .ok (.goto (-155), 3) := dk_167 255 101 (dk_at dksX6_adds_14 19 rfl rfl)
theorem dX6_adds_350 : decode cX6_adds 350 = .ok (.iload 6, 2) := dk_21 6 (dk_at dksX6_adds_14 22 rfl rfl)
theorem dX6_adds_352 : decode cX6_adds 352 = .ok (.ireturn, 1) := dk_172 (dk_at dksX6_adds_15 0 rfl rfl)
abbrev cX6_fromParts : ByteArray := prog_15_method_24_code
def yX6_fromParts : MethodName := ⟨RX6, "fromParts", "([I)I"⟩
def dkwX6_fromParts_5 : List UInt8 := [167, 255, 145, 28, 172]
abbrev dktX6_fromParts_5 : List UInt8 := dkwX6_fromParts_5 ++ []
def dkwX6_fromParts_4 : List UInt8 := [46, 54, 5, 28, 21, 5, 18, 199, 160, 0, 7, 3, 167, 0, 5, 21, 5, 96, 61, 132, 3, 1]
abbrev dktX6_fromParts_4 : List UInt8 := dkwX6_fromParts_4 ++ dktX6_fromParts_5
def dkwX6_fromParts_3 : List UInt8 := [167, 255, 205, 42, 180, 0, 93, 17, 25, 161, 29, 104, 16, 9, 21, 4, 104, 96, 42, 43, 182, 0, 242, 96]
abbrev dktX6_fromParts_3 : List UInt8 := dkwX6_fromParts_3 ++ dktX6_fromParts_4
def dkwX6_fromParts_2 : List UInt8 := [159, 0, 9, 132, 6, 1, 167, 255, 235, 16, 9, 21, 4, 104, 21, 6, 96, 54, 4, 132, 5, 1]
abbrev dktX6_fromParts_2 : List UInt8 := dkwX6_fromParts_2 ++ dktX6_fromParts_3
def dkwX6_fromParts_1 : List UInt8 := [29, 46, 162, 0, 46, 3, 54, 6, 43, 21, 6, 46, 42, 180, 0, 87, 6, 29, 104, 21, 5, 96, 46]
abbrev dktX6_fromParts_1 : List UInt8 := dkwX6_fromParts_1 ++ dktX6_fromParts_2
def dkwX6_fromParts_0 : List UInt8 := [3, 61, 3, 62, 29, 42, 180, 0, 181, 162, 0, 109, 3, 54, 4, 3, 54, 5, 21, 5, 42, 180, 0, 90]
abbrev dktX6_fromParts_0 : List UInt8 := dkwX6_fromParts_0 ++ dktX6_fromParts_1
theorem dksX6_fromParts_0 : cX6_fromParts.data.toList.drop 0 = dktX6_fromParts_0 := by decide +kernel
theorem dksX6_fromParts_1 : cX6_fromParts.data.toList.drop 24 = dktX6_fromParts_1 := dk_seg dksX6_fromParts_0 24 rfl rfl
theorem dksX6_fromParts_2 : cX6_fromParts.data.toList.drop 47 = dktX6_fromParts_2 := dk_seg dksX6_fromParts_1 23 rfl rfl
theorem dksX6_fromParts_3 : cX6_fromParts.data.toList.drop 69 = dktX6_fromParts_3 := dk_seg dksX6_fromParts_2 22 rfl rfl
theorem dksX6_fromParts_4 : cX6_fromParts.data.toList.drop 93 = dktX6_fromParts_4 := dk_seg dksX6_fromParts_3 24 rfl rfl
theorem dksX6_fromParts_5 : cX6_fromParts.data.toList.drop 115 = dktX6_fromParts_5 := dk_seg dksX6_fromParts_4 22 rfl rfl
theorem dX6_fromParts_0 : decode cX6_fromParts 0 = .ok (.iconst 0, 1) := dk_3 (dk_at dksX6_fromParts_0 0 rfl rfl)
theorem dX6_fromParts_1 : decode cX6_fromParts 1 = .ok (.istore_n 2, 1) := dk_61 (dk_at dksX6_fromParts_0 1 rfl rfl)
theorem dX6_fromParts_2 : decode cX6_fromParts 2 = .ok (.iconst 0, 1) := dk_3 (dk_at dksX6_fromParts_0 2 rfl rfl)
theorem dX6_fromParts_3 : decode cX6_fromParts 3 = .ok (.istore_n 3, 1) := dk_62 (dk_at dksX6_fromParts_0 3 rfl rfl)
theorem dX6_fromParts_4 : decode cX6_fromParts 4 = .ok (.iload_n 3, 1) := dk_29 (dk_at dksX6_fromParts_0 4 rfl rfl)
theorem dX6_fromParts_5 : decode cX6_fromParts 5 = .ok (.aload_n 0, 1) := dk_42 (dk_at dksX6_fromParts_0 5 rfl rfl)
theorem dX6_fromParts_6 : decode cX6_fromParts 6 = .ok (.getfield 181, 3) := dk_180 0 181 (dk_at dksX6_fromParts_0 6 rfl rfl)
theorem dX6_fromParts_9 : decode cX6_fromParts 9 = .ok (.if_icmp .ge 109, 3) := dk_162 0 109 (dk_at dksX6_fromParts_0 9 rfl rfl)
theorem dX6_fromParts_12 : decode cX6_fromParts 12 = .ok (.iconst 0, 1) := dk_3 (dk_at dksX6_fromParts_0 12 rfl rfl)
theorem dX6_fromParts_13 : decode cX6_fromParts 13 = .ok (.istore 4, 2) := dk_54 4 (dk_at dksX6_fromParts_0 13 rfl rfl)
theorem dX6_fromParts_15 : decode cX6_fromParts 15 = .ok (.iconst 0, 1) := dk_3 (dk_at dksX6_fromParts_0 15 rfl rfl)
theorem dX6_fromParts_16 : decode cX6_fromParts 16 = .ok (.istore 5, 2) := dk_54 5 (dk_at dksX6_fromParts_0 16 rfl rfl)
theorem dX6_fromParts_18 : decode cX6_fromParts 18 = .ok (.iload 5, 2) := dk_21 5 (dk_at dksX6_fromParts_0 18 rfl rfl)
theorem dX6_fromParts_20 : decode cX6_fromParts 20 = .ok (.aload_n 0, 1) := dk_42 (dk_at dksX6_fromParts_0 20 rfl rfl)
theorem dX6_fromParts_21 : decode cX6_fromParts 21 = .ok (.getfield 90, 3) := dk_180 0 90 (dk_at dksX6_fromParts_0 21 rfl rfl)
theorem dX6_fromParts_24 : decode cX6_fromParts 24 = .ok (.iload_n 3, 1) := dk_29 (dk_at dksX6_fromParts_1 0 rfl rfl)
theorem dX6_fromParts_25 : decode cX6_fromParts 25 = .ok (.iaload, 1) := dk_46 (dk_at dksX6_fromParts_1 1 rfl rfl)
theorem dX6_fromParts_26 : decode cX6_fromParts 26 = .ok (.if_icmp .ge 46, 3) := dk_162 0 46 (dk_at dksX6_fromParts_1 2 rfl rfl)
theorem dX6_fromParts_29 : decode cX6_fromParts 29 = .ok (.iconst 0, 1) := dk_3 (dk_at dksX6_fromParts_1 5 rfl rfl)
theorem dX6_fromParts_30 : decode cX6_fromParts 30 = .ok (.istore 6, 2) := dk_54 6 (dk_at dksX6_fromParts_1 6 rfl rfl)
theorem dX6_fromParts_32 : decode cX6_fromParts 32 = .ok (.aload_n 1, 1) := dk_43 (dk_at dksX6_fromParts_1 8 rfl rfl)
theorem dX6_fromParts_33 : decode cX6_fromParts 33 = .ok (.iload 6, 2) := dk_21 6 (dk_at dksX6_fromParts_1 9 rfl rfl)
theorem dX6_fromParts_35 : decode cX6_fromParts 35 = .ok (.iaload, 1) := dk_46 (dk_at dksX6_fromParts_1 11 rfl rfl)
theorem dX6_fromParts_36 : decode cX6_fromParts 36 = .ok (.aload_n 0, 1) := dk_42 (dk_at dksX6_fromParts_1 12 rfl rfl)
theorem dX6_fromParts_37 : decode cX6_fromParts 37 = .ok (.getfield 87, 3) := dk_180 0 87 (dk_at dksX6_fromParts_1 13 rfl rfl)
theorem dX6_fromParts_40 : decode cX6_fromParts 40 = .ok (.iconst 3, 1) := dk_6 (dk_at dksX6_fromParts_1 16 rfl rfl)
theorem dX6_fromParts_41 : decode cX6_fromParts 41 = .ok (.iload_n 3, 1) := dk_29 (dk_at dksX6_fromParts_1 17 rfl rfl)
theorem dX6_fromParts_42 : decode cX6_fromParts 42 = .ok (.imul, 1) := dk_104 (dk_at dksX6_fromParts_1 18 rfl rfl)
theorem dX6_fromParts_43 : decode cX6_fromParts 43 = .ok (.iload 5, 2) := dk_21 5 (dk_at dksX6_fromParts_1 19 rfl rfl)
theorem dX6_fromParts_45 : decode cX6_fromParts 45 = .ok (.iadd, 1) := dk_96 (dk_at dksX6_fromParts_1 21 rfl rfl)
theorem dX6_fromParts_46 : decode cX6_fromParts 46 = .ok (.iaload, 1) := dk_46 (dk_at dksX6_fromParts_1 22 rfl rfl)
theorem dX6_fromParts_47 : decode cX6_fromParts 47 = .ok (.if_icmp .eq 9, 3) := dk_159 0 9 (dk_at dksX6_fromParts_2 0 rfl rfl)
theorem dX6_fromParts_50 : decode cX6_fromParts 50 = .ok (.iinc 6 1, 3) := dk_132 6 1 (dk_at dksX6_fromParts_2 3 rfl rfl)
theorem dX6_fromParts_53 : decode cX6_fromParts 53 = .ok (.goto (-21), 3) := dk_167 255 235 (dk_at dksX6_fromParts_2 6 rfl rfl)
theorem dX6_fromParts_56 : decode cX6_fromParts 56 = .ok (.bipush 9, 2) := dk_16 9 (dk_at dksX6_fromParts_2 9 rfl rfl)
theorem dX6_fromParts_58 : decode cX6_fromParts 58 = .ok (.iload 4, 2) := dk_21 4 (dk_at dksX6_fromParts_2 11 rfl rfl)
theorem dX6_fromParts_60 : decode cX6_fromParts 60 = .ok (.imul, 1) := dk_104 (dk_at dksX6_fromParts_2 13 rfl rfl)
theorem dX6_fromParts_61 : decode cX6_fromParts 61 = .ok (.iload 6, 2) := dk_21 6 (dk_at dksX6_fromParts_2 14 rfl rfl)
theorem dX6_fromParts_63 : decode cX6_fromParts 63 = .ok (.iadd, 1) := dk_96 (dk_at dksX6_fromParts_2 16 rfl rfl)
theorem dX6_fromParts_64 : decode cX6_fromParts 64 = .ok (.istore 4, 2) := dk_54 4 (dk_at dksX6_fromParts_2 17 rfl rfl)
theorem dX6_fromParts_66 : decode cX6_fromParts 66 = .ok (.iinc 5 1, 3) := dk_132 5 1 (dk_at dksX6_fromParts_2 19 rfl rfl)
theorem dX6_fromParts_69 : decode cX6_fromParts 69 = .ok (.goto (-51), 3) := dk_167 255 205 (dk_at dksX6_fromParts_3 0 rfl rfl)
theorem dX6_fromParts_72 : decode cX6_fromParts 72 = .ok (.aload_n 0, 1) := dk_42 (dk_at dksX6_fromParts_3 3 rfl rfl)
theorem dX6_fromParts_73 : decode cX6_fromParts 73 = .ok (.getfield 93, 3) := dk_180 0 93 (dk_at dksX6_fromParts_3 4 rfl rfl)
theorem dX6_fromParts_76 : decode cX6_fromParts 76 = .ok (.sipush 6561, 3) := dk_17 25 161 (dk_at dksX6_fromParts_3 7 rfl rfl)
theorem dX6_fromParts_79 : decode cX6_fromParts 79 = .ok (.iload_n 3, 1) := dk_29 (dk_at dksX6_fromParts_3 10 rfl rfl)
theorem dX6_fromParts_80 : decode cX6_fromParts 80 = .ok (.imul, 1) := dk_104 (dk_at dksX6_fromParts_3 11 rfl rfl)
theorem dX6_fromParts_81 : decode cX6_fromParts 81 = .ok (.bipush 9, 2) := dk_16 9 (dk_at dksX6_fromParts_3 12 rfl rfl)
theorem dX6_fromParts_83 : decode cX6_fromParts 83 = .ok (.iload 4, 2) := dk_21 4 (dk_at dksX6_fromParts_3 14 rfl rfl)
theorem dX6_fromParts_85 : decode cX6_fromParts 85 = .ok (.imul, 1) := dk_104 (dk_at dksX6_fromParts_3 16 rfl rfl)
theorem dX6_fromParts_86 : decode cX6_fromParts 86 = .ok (.iadd, 1) := dk_96 (dk_at dksX6_fromParts_3 17 rfl rfl)
theorem dX6_fromParts_87 : decode cX6_fromParts 87 = .ok (.aload_n 0, 1) := dk_42 (dk_at dksX6_fromParts_3 18 rfl rfl)
theorem dX6_fromParts_88 : decode cX6_fromParts 88 = .ok (.aload_n 1, 1) := dk_43 (dk_at dksX6_fromParts_3 19 rfl rfl)
theorem dX6_fromParts_89 : decode cX6_fromParts 89 = .ok (.invokevirtual 242, 3) := dk_182 0 242 (dk_at dksX6_fromParts_3 20 rfl rfl)
theorem dX6_fromParts_92 : decode cX6_fromParts 92 = .ok (.iadd, 1) := dk_96 (dk_at dksX6_fromParts_3 23 rfl rfl)
theorem dX6_fromParts_93 : decode cX6_fromParts 93 = .ok (.iaload, 1) := dk_46 (dk_at dksX6_fromParts_4 0 rfl rfl)
theorem dX6_fromParts_94 : decode cX6_fromParts 94 = .ok (.istore 5, 2) := dk_54 5 (dk_at dksX6_fromParts_4 1 rfl rfl)
theorem dX6_fromParts_96 : decode cX6_fromParts 96 = .ok (.iload_n 2, 1) := dk_28 (dk_at dksX6_fromParts_4 3 rfl rfl)
theorem dX6_fromParts_97 : decode cX6_fromParts 97 = .ok (.iload 5, 2) := dk_21 5 (dk_at dksX6_fromParts_4 4 rfl rfl)
theorem dX6_fromParts_99 : decode cX6_fromParts 99 = .ok (.ldc 199, 2) := dk_18 199 (dk_at dksX6_fromParts_4 6 rfl rfl)
theorem dX6_fromParts_101 : decode cX6_fromParts 101 = .ok (.if_icmp .ne 7, 3) := dk_160 0 7 (dk_at dksX6_fromParts_4 8 rfl rfl)
theorem dX6_fromParts_104 : decode cX6_fromParts 104 = .ok (.iconst 0, 1) := dk_3 (dk_at dksX6_fromParts_4 11 rfl rfl)
theorem dX6_fromParts_105 : decode cX6_fromParts 105 = .ok (.goto 5, 3) := dk_167 0 5 (dk_at dksX6_fromParts_4 12 rfl rfl)
theorem dX6_fromParts_108 : decode cX6_fromParts 108 = .ok (.iload 5, 2) := dk_21 5 (dk_at dksX6_fromParts_4 15 rfl rfl)
theorem dX6_fromParts_110 : decode cX6_fromParts 110 = .ok (.iadd, 1) := dk_96 (dk_at dksX6_fromParts_4 17 rfl rfl)
theorem dX6_fromParts_111 : decode cX6_fromParts 111 = .ok (.istore_n 2, 1) := dk_61 (dk_at dksX6_fromParts_4 18 rfl rfl)
theorem dX6_fromParts_112 : decode cX6_fromParts 112 = .ok (.iinc 3 1, 3) := dk_132 3 1 (dk_at dksX6_fromParts_4 19 rfl rfl)
theorem dX6_fromParts_115 : decode cX6_fromParts 115 = .ok (.goto (-111), 3) := dk_167 255 145 (dk_at dksX6_fromParts_5 0 rfl rfl)
theorem dX6_fromParts_118 : decode cX6_fromParts 118 = .ok (.iload_n 2, 1) := dk_28 (dk_at dksX6_fromParts_5 3 rfl rfl)
theorem dX6_fromParts_119 : decode cX6_fromParts 119 = .ok (.ireturn, 1) := dk_172 (dk_at dksX6_fromParts_5 4 rfl rfl)
abbrev cX6_solve : ByteArray := prog_15_method_65_code
def yX6_solve : MethodName := ⟨RX6, "solve", "(I)I"⟩
def dkwX6_solve_2 : List UInt8 := [28, 182, 0, 215, 172]
abbrev dktX6_solve_2 : List UInt8 := dkwX6_solve_2 ++ []
def dkwX6_solve_1 : List UInt8 := [180, 0, 45, 182, 1, 90, 61, 28, 16, 254, 160, 0, 9, 42, 5, 182, 0, 204, 172, 42, 182, 1, 93, 42]
abbrev dktX6_solve_1 : List UInt8 := dkwX6_solve_1 ++ dktX6_solve_2
def dkwX6_solve_0 : List UInt8 := [27, 3, 7, 184, 0, 200, 154, 0, 9, 42, 4, 182, 0, 204, 172, 42, 182, 1, 87, 42, 27, 42]
abbrev dktX6_solve_0 : List UInt8 := dkwX6_solve_0 ++ dktX6_solve_1
theorem dksX6_solve_0 : cX6_solve.data.toList.drop 0 = dktX6_solve_0 := by decide +kernel
theorem dksX6_solve_1 : cX6_solve.data.toList.drop 22 = dktX6_solve_1 := dk_seg dksX6_solve_0 22 rfl rfl
theorem dksX6_solve_2 : cX6_solve.data.toList.drop 46 = dktX6_solve_2 := dk_seg dksX6_solve_1 24 rfl rfl
theorem dX6_solve_0 : decode cX6_solve 0 = .ok (.iload_n 1, 1) := dk_27 (dk_at dksX6_solve_0 0 rfl rfl)
theorem dX6_solve_1 : decode cX6_solve 1 = .ok (.iconst 0, 1) := dk_3 (dk_at dksX6_solve_0 1 rfl rfl)
theorem dX6_solve_2 : decode cX6_solve 2 = .ok (.iconst 4, 1) := dk_7 (dk_at dksX6_solve_0 2 rfl rfl)
theorem dX6_solve_3 : decode cX6_solve 3 = .ok (.invokestatic 200, 3) := dk_184 0 200 (dk_at dksX6_solve_0 3 rfl rfl)
theorem dX6_solve_6 : decode cX6_solve 6 = .ok (.ifCond .ne 9, 3) := dk_154 0 9 (dk_at dksX6_solve_0 6 rfl rfl)
theorem dX6_solve_9 : decode cX6_solve 9 = .ok (.aload_n 0, 1) := dk_42 (dk_at dksX6_solve_0 9 rfl rfl)
theorem dX6_solve_10 : decode cX6_solve 10 = .ok (.iconst 1, 1) := dk_4 (dk_at dksX6_solve_0 10 rfl rfl)
theorem dX6_solve_11 : decode cX6_solve 11 = .ok (.invokevirtual 204, 3) := dk_182 0 204 (dk_at dksX6_solve_0 11 rfl rfl)
theorem dX6_solve_14 : decode cX6_solve 14 = .ok (.ireturn, 1) := dk_172 (dk_at dksX6_solve_0 14 rfl rfl)
theorem dX6_solve_15 : decode cX6_solve 15 = .ok (.aload_n 0, 1) := dk_42 (dk_at dksX6_solve_0 15 rfl rfl)
theorem dX6_solve_16 : decode cX6_solve 16 = .ok (.invokevirtual 343, 3) := dk_182 1 87 (dk_at dksX6_solve_0 16 rfl rfl)
theorem dX6_solve_19 : decode cX6_solve 19 = .ok (.aload_n 0, 1) := dk_42 (dk_at dksX6_solve_0 19 rfl rfl)
theorem dX6_solve_20 : decode cX6_solve 20 = .ok (.iload_n 1, 1) := dk_27 (dk_at dksX6_solve_0 20 rfl rfl)
theorem dX6_solve_21 : decode cX6_solve 21 = .ok (.aload_n 0, 1) := dk_42 (dk_at dksX6_solve_0 21 rfl rfl)
theorem dX6_solve_22 : decode cX6_solve 22 = .ok (.getfield 45, 3) := dk_180 0 45 (dk_at dksX6_solve_1 0 rfl rfl)
theorem dX6_solve_25 : decode cX6_solve 25 = .ok (.invokevirtual 346, 3) := dk_182 1 90 (dk_at dksX6_solve_1 3 rfl rfl)
theorem dX6_solve_28 : decode cX6_solve 28 = .ok (.istore_n 2, 1) := dk_61 (dk_at dksX6_solve_1 6 rfl rfl)
theorem dX6_solve_29 : decode cX6_solve 29 = .ok (.iload_n 2, 1) := dk_28 (dk_at dksX6_solve_1 7 rfl rfl)
theorem dX6_solve_30 : decode cX6_solve 30 = .ok (.bipush (-2), 2) := dk_16 254 (dk_at dksX6_solve_1 8 rfl rfl)
theorem dX6_solve_32 : decode cX6_solve 32 = .ok (.if_icmp .ne 9, 3) := dk_160 0 9 (dk_at dksX6_solve_1 10 rfl rfl)
theorem dX6_solve_35 : decode cX6_solve 35 = .ok (.aload_n 0, 1) := dk_42 (dk_at dksX6_solve_1 13 rfl rfl)
theorem dX6_solve_36 : decode cX6_solve 36 = .ok (.iconst 2, 1) := dk_5 (dk_at dksX6_solve_1 14 rfl rfl)
theorem dX6_solve_37 : decode cX6_solve 37 = .ok (.invokevirtual 204, 3) := dk_182 0 204 (dk_at dksX6_solve_1 15 rfl rfl)
theorem dX6_solve_40 : decode cX6_solve 40 = .ok (.ireturn, 1) := dk_172 (dk_at dksX6_solve_1 18 rfl rfl)
theorem dX6_solve_41 : decode cX6_solve 41 = .ok (.aload_n 0, 1) := dk_42 (dk_at dksX6_solve_1 19 rfl rfl)
theorem dX6_solve_42 : decode cX6_solve 42 = .ok (.invokevirtual 349, 3) := dk_182 1 93 (dk_at dksX6_solve_1 20 rfl rfl)
theorem dX6_solve_45 : decode cX6_solve 45 = .ok (.aload_n 0, 1) := dk_42 (dk_at dksX6_solve_1 23 rfl rfl)
theorem dX6_solve_46 : decode cX6_solve 46 = .ok (.iload_n 2, 1) := dk_28 (dk_at dksX6_solve_2 0 rfl rfl)
theorem dX6_solve_47 : decode cX6_solve 47 = .ok (.invokevirtual 215, 3) := dk_182 0 215 (dk_at dksX6_solve_2 1 rfl rfl)
theorem dX6_solve_50 : decode cX6_solve 50 = .ok (.ireturn, 1) := dk_172 (dk_at dksX6_solve_2 4 rfl rfl)
abbrev cX6_laysRow : ByteArray := prog_15_method_64_code
def yX6_laysRow : MethodName := ⟨RX6, "laysRow", "()V"⟩
def dkwX6_laysRow_1 : List UInt8 := [132, 1, 1, 167, 255, 233, 177]
abbrev dktX6_laysRow_1 : List UInt8 := dkwX6_laysRow_1 ++ []
def dkwX6_laysRow_0 : List UInt8 := [3, 60, 27, 42, 180, 0, 170, 162, 0, 21, 42, 180, 0, 128, 27, 42, 180, 0, 33, 27, 46, 79]
abbrev dktX6_laysRow_0 : List UInt8 := dkwX6_laysRow_0 ++ dktX6_laysRow_1
theorem dksX6_laysRow_0 : cX6_laysRow.data.toList.drop 0 = dktX6_laysRow_0 := by decide +kernel
theorem dksX6_laysRow_1 : cX6_laysRow.data.toList.drop 22 = dktX6_laysRow_1 := dk_seg dksX6_laysRow_0 22 rfl rfl
theorem dX6_laysRow_0 : decode cX6_laysRow 0 = .ok (.iconst 0, 1) := dk_3 (dk_at dksX6_laysRow_0 0 rfl rfl)
theorem dX6_laysRow_1 : decode cX6_laysRow 1 = .ok (.istore_n 1, 1) := dk_60 (dk_at dksX6_laysRow_0 1 rfl rfl)
theorem dX6_laysRow_2 : decode cX6_laysRow 2 = .ok (.iload_n 1, 1) := dk_27 (dk_at dksX6_laysRow_0 2 rfl rfl)
theorem dX6_laysRow_3 : decode cX6_laysRow 3 = .ok (.aload_n 0, 1) := dk_42 (dk_at dksX6_laysRow_0 3 rfl rfl)
theorem dX6_laysRow_4 : decode cX6_laysRow 4 = .ok (.getfield 170, 3) := dk_180 0 170 (dk_at dksX6_laysRow_0 4 rfl rfl)
theorem dX6_laysRow_7 : decode cX6_laysRow 7 = .ok (.if_icmp .ge 21, 3) := dk_162 0 21 (dk_at dksX6_laysRow_0 7 rfl rfl)
theorem dX6_laysRow_10 : decode cX6_laysRow 10 = .ok (.aload_n 0, 1) := dk_42 (dk_at dksX6_laysRow_0 10 rfl rfl)
theorem dX6_laysRow_11 : decode cX6_laysRow 11 = .ok (.getfield 128, 3) := dk_180 0 128 (dk_at dksX6_laysRow_0 11 rfl rfl)
theorem dX6_laysRow_14 : decode cX6_laysRow 14 = .ok (.iload_n 1, 1) := dk_27 (dk_at dksX6_laysRow_0 14 rfl rfl)
theorem dX6_laysRow_15 : decode cX6_laysRow 15 = .ok (.aload_n 0, 1) := dk_42 (dk_at dksX6_laysRow_0 15 rfl rfl)
theorem dX6_laysRow_16 : decode cX6_laysRow 16 = .ok (.getfield 33, 3) := dk_180 0 33 (dk_at dksX6_laysRow_0 16 rfl rfl)
theorem dX6_laysRow_19 : decode cX6_laysRow 19 = .ok (.iload_n 1, 1) := dk_27 (dk_at dksX6_laysRow_0 19 rfl rfl)
theorem dX6_laysRow_20 : decode cX6_laysRow 20 = .ok (.iaload, 1) := dk_46 (dk_at dksX6_laysRow_0 20 rfl rfl)
theorem dX6_laysRow_21 : decode cX6_laysRow 21 = .ok (.iastore, 1) := dk_79 (dk_at dksX6_laysRow_0 21 rfl rfl)
theorem dX6_laysRow_22 : decode cX6_laysRow 22 = .ok (.iinc 1 1, 3) := dk_132 1 1 (dk_at dksX6_laysRow_1 0 rfl rfl)
theorem dX6_laysRow_25 : decode cX6_laysRow 25 = .ok (.goto (-23), 3) := dk_167 255 233 (dk_at dksX6_laysRow_1 3 rfl rfl)
theorem dX6_laysRow_28 : decode cX6_laysRow 28 = .ok (.return_, 1) := dk_177 (dk_at dksX6_laysRow_1 6 rfl rfl)
abbrev cX6_searches : ByteArray := prog_15_method_61_code
def yX6_searches : MethodName := ⟨RX6, "searches", "(II)I"⟩
def dkwX6_searches_8 : List UInt8 := [21, 6, 96, 21, 4, 21, 5, 27, 182, 1, 70, 54, 7, 132, 5, 1, 167, 255, 202, 167, 255, 76]
abbrev dktX6_searches_8 : List UInt8 := dkwX6_searches_8 ++ []
def dkwX6_searches_7 : List UInt8 := [180, 0, 128, 21, 5, 182, 1, 14, 54, 6, 21, 6, 2, 159, 0, 24, 42, 42, 180, 0, 106, 21, 4, 46]
abbrev dktX6_searches_7 : List UInt8 := dkwX6_searches_7 ++ dktX6_searches_8
def dkwX6_searches_6 : List UInt8 := [180, 0, 106, 21, 4, 46, 172, 3, 54, 5, 21, 5, 7, 162, 0, 54, 42, 21, 4, 182, 1, 77, 42, 42]
abbrev dktX6_searches_6 : List UInt8 := dkwX6_searches_6 ++ dktX6_searches_7
def dkwX6_searches_5 : List UInt8 := [42, 21, 4, 182, 1, 77, 42, 42, 180, 0, 128, 182, 1, 80, 153, 0, 17, 42, 21, 4, 182, 1, 84, 42]
abbrev dktX6_searches_5 : List UInt8 := dkwX6_searches_5 ++ dktX6_searches_6
def dkwX6_searches_4 : List UInt8 := [160, 0, 6, 16, 254, 172, 42, 180, 0, 125, 21, 4, 4, 84, 42, 89, 180, 1, 64, 4, 96, 181, 1, 64]
abbrev dktX6_searches_4 : List UInt8 := dkwX6_searches_4 ++ dktX6_searches_5
def dkwX6_searches_3 : List UInt8 := [21, 5, 54, 4, 132, 5, 1, 167, 255, 213, 21, 4, 2, 160, 0, 5, 2, 172, 42, 180, 1, 64, 28]
abbrev dktX6_searches_3 : List UInt8 := dkwX6_searches_3 ++ dktX6_searches_4
def dkwX6_searches_2 : List UInt8 := [21, 5, 51, 154, 0, 24, 21, 4, 2, 159, 0, 14, 42, 21, 5, 21, 4, 182, 1, 74, 153, 0, 7]
abbrev dktX6_searches_2 : List UInt8 := dkwX6_searches_2 ++ dktX6_searches_3
def dkwX6_searches_1 : List UInt8 := [182, 1, 70, 62, 2, 54, 4, 29, 54, 5, 21, 5, 42, 180, 1, 51, 162, 0, 40, 42, 180, 0, 125]
abbrev dktX6_searches_1 : List UInt8 := dkwX6_searches_1 ++ dktX6_searches_2
def dkwX6_searches_0 : List UInt8 := [42, 182, 1, 58, 42, 3, 181, 1, 61, 42, 3, 181, 1, 64, 42, 3, 181, 1, 67, 42, 3, 2, 2, 27]
abbrev dktX6_searches_0 : List UInt8 := dkwX6_searches_0 ++ dktX6_searches_1
theorem dksX6_searches_0 : cX6_searches.data.toList.drop 0 = dktX6_searches_0 := by decide +kernel
theorem dksX6_searches_1 : cX6_searches.data.toList.drop 24 = dktX6_searches_1 := dk_seg dksX6_searches_0 24 rfl rfl
theorem dksX6_searches_2 : cX6_searches.data.toList.drop 47 = dktX6_searches_2 := dk_seg dksX6_searches_1 23 rfl rfl
theorem dksX6_searches_3 : cX6_searches.data.toList.drop 70 = dktX6_searches_3 := dk_seg dksX6_searches_2 23 rfl rfl
theorem dksX6_searches_4 : cX6_searches.data.toList.drop 93 = dktX6_searches_4 := dk_seg dksX6_searches_3 23 rfl rfl
theorem dksX6_searches_5 : cX6_searches.data.toList.drop 117 = dktX6_searches_5 := dk_seg dksX6_searches_4 24 rfl rfl
theorem dksX6_searches_6 : cX6_searches.data.toList.drop 141 = dktX6_searches_6 := dk_seg dksX6_searches_5 24 rfl rfl
theorem dksX6_searches_7 : cX6_searches.data.toList.drop 165 = dktX6_searches_7 := dk_seg dksX6_searches_6 24 rfl rfl
theorem dksX6_searches_8 : cX6_searches.data.toList.drop 189 = dktX6_searches_8 := dk_seg dksX6_searches_7 24 rfl rfl
theorem dX6_searches_0 : decode cX6_searches 0 = .ok (.aload_n 0, 1) := dk_42 (dk_at dksX6_searches_0 0 rfl rfl)
theorem dX6_searches_1 : decode cX6_searches 1 = .ok (.invokevirtual 314, 3) := dk_182 1 58 (dk_at dksX6_searches_0 1 rfl rfl)
theorem dX6_searches_4 : decode cX6_searches 4 = .ok (.aload_n 0, 1) := dk_42 (dk_at dksX6_searches_0 4 rfl rfl)
theorem dX6_searches_5 : decode cX6_searches 5 = .ok (.iconst 0, 1) := dk_3 (dk_at dksX6_searches_0 5 rfl rfl)
theorem dX6_searches_6 : decode cX6_searches 6 = .ok (.putfield 317, 3) := dk_181 1 61 (dk_at dksX6_searches_0 6 rfl rfl)
theorem dX6_searches_9 : decode cX6_searches 9 = .ok (.aload_n 0, 1) := dk_42 (dk_at dksX6_searches_0 9 rfl rfl)
theorem dX6_searches_10 : decode cX6_searches 10 = .ok (.iconst 0, 1) := dk_3 (dk_at dksX6_searches_0 10 rfl rfl)
theorem dX6_searches_11 : decode cX6_searches 11 = .ok (.putfield 320, 3) := dk_181 1 64 (dk_at dksX6_searches_0 11 rfl rfl)
theorem dX6_searches_14 : decode cX6_searches 14 = .ok (.aload_n 0, 1) := dk_42 (dk_at dksX6_searches_0 14 rfl rfl)
theorem dX6_searches_15 : decode cX6_searches 15 = .ok (.iconst 0, 1) := dk_3 (dk_at dksX6_searches_0 15 rfl rfl)
theorem dX6_searches_16 : decode cX6_searches 16 = .ok (.putfield 323, 3) := dk_181 1 67 (dk_at dksX6_searches_0 16 rfl rfl)
theorem dX6_searches_19 : decode cX6_searches 19 = .ok (.aload_n 0, 1) := dk_42 (dk_at dksX6_searches_0 19 rfl rfl)
theorem dX6_searches_20 : decode cX6_searches 20 = .ok (.iconst 0, 1) := dk_3 (dk_at dksX6_searches_0 20 rfl rfl)
theorem dX6_searches_21 : decode cX6_searches 21 = .ok (.iconst (-1), 1) := dk_2 (dk_at dksX6_searches_0 21 rfl rfl)
theorem dX6_searches_22 : decode cX6_searches 22 = .ok (.iconst (-1), 1) := dk_2 (dk_at dksX6_searches_0 22 rfl rfl)
theorem dX6_searches_23 : decode cX6_searches 23 = .ok (.iload_n 1, 1) := dk_27 (dk_at dksX6_searches_0 23 rfl rfl)
theorem dX6_searches_24 : decode cX6_searches 24 = .ok (.invokevirtual 326, 3) := dk_182 1 70 (dk_at dksX6_searches_1 0 rfl rfl)
theorem dX6_searches_27 : decode cX6_searches 27 = .ok (.istore_n 3, 1) := dk_62 (dk_at dksX6_searches_1 3 rfl rfl)
theorem dX6_searches_28 : decode cX6_searches 28 = .ok (.iconst (-1), 1) := dk_2 (dk_at dksX6_searches_1 4 rfl rfl)
theorem dX6_searches_29 : decode cX6_searches 29 = .ok (.istore 4, 2) := dk_54 4 (dk_at dksX6_searches_1 5 rfl rfl)
theorem dX6_searches_31 : decode cX6_searches 31 = .ok (.iload_n 3, 1) := dk_29 (dk_at dksX6_searches_1 7 rfl rfl)
theorem dX6_searches_32 : decode cX6_searches 32 = .ok (.istore 5, 2) := dk_54 5 (dk_at dksX6_searches_1 8 rfl rfl)
theorem dX6_searches_34 : decode cX6_searches 34 = .ok (.iload 5, 2) := dk_21 5 (dk_at dksX6_searches_1 10 rfl rfl)
theorem dX6_searches_36 : decode cX6_searches 36 = .ok (.aload_n 0, 1) := dk_42 (dk_at dksX6_searches_1 12 rfl rfl)
theorem dX6_searches_37 : decode cX6_searches 37 = .ok (.getfield 307, 3) := dk_180 1 51 (dk_at dksX6_searches_1 13 rfl rfl)
theorem dX6_searches_40 : decode cX6_searches 40 = .ok (.if_icmp .ge 40, 3) := dk_162 0 40 (dk_at dksX6_searches_1 16 rfl rfl)
theorem dX6_searches_43 : decode cX6_searches 43 = .ok (.aload_n 0, 1) := dk_42 (dk_at dksX6_searches_1 19 rfl rfl)
theorem dX6_searches_44 : decode cX6_searches 44 = .ok (.getfield 125, 3) := dk_180 0 125 (dk_at dksX6_searches_1 20 rfl rfl)
theorem dX6_searches_47 : decode cX6_searches 47 = .ok (.iload 5, 2) := dk_21 5 (dk_at dksX6_searches_2 0 rfl rfl)
theorem dX6_searches_49 : decode cX6_searches 49 = .ok (.baload, 1) := dk_51 (dk_at dksX6_searches_2 2 rfl rfl)
theorem dX6_searches_50 : decode cX6_searches 50 = .ok (.ifCond .ne 24, 3) := dk_154 0 24 (dk_at dksX6_searches_2 3 rfl rfl)
theorem dX6_searches_53 : decode cX6_searches 53 = .ok (.iload 4, 2) := dk_21 4 (dk_at dksX6_searches_2 6 rfl rfl)
theorem dX6_searches_55 : decode cX6_searches 55 = .ok (.iconst (-1), 1) := dk_2 (dk_at dksX6_searches_2 8 rfl rfl)
theorem dX6_searches_56 : decode cX6_searches 56 = .ok (.if_icmp .eq 14, 3) := dk_159 0 14 (dk_at dksX6_searches_2 9 rfl rfl)
theorem dX6_searches_59 : decode cX6_searches 59 = .ok (.aload_n 0, 1) := dk_42 (dk_at dksX6_searches_2 12 rfl rfl)
theorem dX6_searches_60 : decode cX6_searches 60 = .ok (.iload 5, 2) := dk_21 5 (dk_at dksX6_searches_2 13 rfl rfl)
theorem dX6_searches_62 : decode cX6_searches 62 = .ok (.iload 4, 2) := dk_21 4 (dk_at dksX6_searches_2 15 rfl rfl)
theorem dX6_searches_64 : decode cX6_searches 64 = .ok (.invokevirtual 330, 3) := dk_182 1 74 (dk_at dksX6_searches_2 17 rfl rfl)
theorem dX6_searches_67 : decode cX6_searches 67 = .ok (.ifCond .eq 7, 3) := dk_153 0 7 (dk_at dksX6_searches_2 20 rfl rfl)
theorem dX6_searches_70 : decode cX6_searches 70 = .ok (.iload 5, 2) := dk_21 5 (dk_at dksX6_searches_3 0 rfl rfl)
theorem dX6_searches_72 : decode cX6_searches 72 = .ok (.istore 4, 2) := dk_54 4 (dk_at dksX6_searches_3 2 rfl rfl)
theorem dX6_searches_74 : decode cX6_searches 74 = .ok (.iinc 5 1, 3) := dk_132 5 1 (dk_at dksX6_searches_3 4 rfl rfl)
theorem dX6_searches_77 : decode cX6_searches 77 = .ok (.goto (-43), 3) := dk_167 255 213 (dk_at dksX6_searches_3 7 rfl rfl)
theorem dX6_searches_80 : decode cX6_searches 80 = .ok (.iload 4, 2) := dk_21 4 (dk_at dksX6_searches_3 10 rfl rfl)
theorem dX6_searches_82 : decode cX6_searches 82 = .ok (.iconst (-1), 1) := dk_2 (dk_at dksX6_searches_3 12 rfl rfl)
theorem dX6_searches_83 : decode cX6_searches 83 = .ok (.if_icmp .ne 5, 3) := dk_160 0 5 (dk_at dksX6_searches_3 13 rfl rfl)
theorem dX6_searches_86 : decode cX6_searches 86 = .ok (.iconst (-1), 1) := dk_2 (dk_at dksX6_searches_3 16 rfl rfl)
theorem dX6_searches_87 : decode cX6_searches 87 = .ok (.ireturn, 1) := dk_172 (dk_at dksX6_searches_3 17 rfl rfl)
theorem dX6_searches_88 : decode cX6_searches 88 = .ok (.aload_n 0, 1) := dk_42 (dk_at dksX6_searches_3 18 rfl rfl)
theorem dX6_searches_89 : decode cX6_searches 89 = .ok (.getfield 320, 3) := dk_180 1 64 (dk_at dksX6_searches_3 19 rfl rfl)
theorem dX6_searches_92 : decode cX6_searches 92 = .ok (.iload_n 2, 1) := dk_28 (dk_at dksX6_searches_3 22 rfl rfl)
theorem dX6_searches_93 : decode cX6_searches 93 = .ok (.if_icmp .ne 6, 3) := dk_160 0 6 (dk_at dksX6_searches_4 0 rfl rfl)
theorem dX6_searches_96 : decode cX6_searches 96 = .ok (.bipush (-2), 2) := dk_16 254 (dk_at dksX6_searches_4 3 rfl rfl)
theorem dX6_searches_98 : decode cX6_searches 98 = .ok (.ireturn, 1) := dk_172 (dk_at dksX6_searches_4 5 rfl rfl)
theorem dX6_searches_99 : decode cX6_searches 99 = .ok (.aload_n 0, 1) := dk_42 (dk_at dksX6_searches_4 6 rfl rfl)
theorem dX6_searches_100 : decode cX6_searches 100 = .ok (.getfield 125, 3) := dk_180 0 125 (dk_at dksX6_searches_4 7 rfl rfl)
theorem dX6_searches_103 : decode cX6_searches 103 = .ok (.iload 4, 2) := dk_21 4 (dk_at dksX6_searches_4 10 rfl rfl)
theorem dX6_searches_105 : decode cX6_searches 105 = .ok (.iconst 1, 1) := dk_4 (dk_at dksX6_searches_4 12 rfl rfl)
theorem dX6_searches_106 : decode cX6_searches 106 = .ok (.bastore, 1) := dk_84 (dk_at dksX6_searches_4 13 rfl rfl)
theorem dX6_searches_107 : decode cX6_searches 107 = .ok (.aload_n 0, 1) := dk_42 (dk_at dksX6_searches_4 14 rfl rfl)
theorem dX6_searches_108 : decode cX6_searches 108 = .ok (.dup, 1) := dk_89 (dk_at dksX6_searches_4 15 rfl rfl)
theorem dX6_searches_109 : decode cX6_searches 109 = .ok (.getfield 320, 3) := dk_180 1 64 (dk_at dksX6_searches_4 16 rfl rfl)
theorem dX6_searches_112 : decode cX6_searches 112 = .ok (.iconst 1, 1) := dk_4 (dk_at dksX6_searches_4 19 rfl rfl)
theorem dX6_searches_113 : decode cX6_searches 113 = .ok (.iadd, 1) := dk_96 (dk_at dksX6_searches_4 20 rfl rfl)
theorem dX6_searches_114 : decode cX6_searches 114 = .ok (.putfield 320, 3) := dk_181 1 64 (dk_at dksX6_searches_4 21 rfl rfl)
theorem dX6_searches_117 : decode cX6_searches 117 = .ok (.aload_n 0, 1) := dk_42 (dk_at dksX6_searches_5 0 rfl rfl)
theorem dX6_searches_118 : decode cX6_searches 118 = .ok (.iload 4, 2) := dk_21 4 (dk_at dksX6_searches_5 1 rfl rfl)
theorem dX6_searches_120 : decode cX6_searches 120 = .ok (.invokevirtual 333, 3) := dk_182 1 77 (dk_at dksX6_searches_5 3 rfl rfl)
theorem dX6_searches_123 : decode cX6_searches 123 = .ok (.aload_n 0, 1) := dk_42 (dk_at dksX6_searches_5 6 rfl rfl)
theorem dX6_searches_124 : decode cX6_searches 124 = .ok (.aload_n 0, 1) := dk_42 (dk_at dksX6_searches_5 7 rfl rfl)
theorem dX6_searches_125 : decode cX6_searches 125 = .ok (.getfield 128, 3) := dk_180 0 128 (dk_at dksX6_searches_5 8 rfl rfl)
theorem dX6_searches_128 : decode cX6_searches 128 = .ok (.invokevirtual 336, 3) := dk_182 1 80 (dk_at dksX6_searches_5 11 rfl rfl)
theorem dX6_searches_131 : decode cX6_searches 131 = .ok (.ifCond .eq 17, 3) := dk_153 0 17 (dk_at dksX6_searches_5 14 rfl rfl)
theorem dX6_searches_134 : decode cX6_searches 134 = .ok (.aload_n 0, 1) := dk_42 (dk_at dksX6_searches_5 17 rfl rfl)
theorem dX6_searches_135 : decode cX6_searches 135 = .ok (.iload 4, 2) := dk_21 4 (dk_at dksX6_searches_5 18 rfl rfl)
theorem dX6_searches_137 : decode cX6_searches 137 = .ok (.invokevirtual 340, 3) := dk_182 1 84 (dk_at dksX6_searches_5 20 rfl rfl)
theorem dX6_searches_140 : decode cX6_searches 140 = .ok (.aload_n 0, 1) := dk_42 (dk_at dksX6_searches_5 23 rfl rfl)
theorem dX6_searches_141 : decode cX6_searches 141 = .ok (.getfield 106, 3) := dk_180 0 106 (dk_at dksX6_searches_6 0 rfl rfl)
theorem dX6_searches_144 : decode cX6_searches 144 = .ok (.iload 4, 2) := dk_21 4 (dk_at dksX6_searches_6 3 rfl rfl)
theorem dX6_searches_146 : decode cX6_searches 146 = .ok (.iaload, 1) := dk_46 (dk_at dksX6_searches_6 5 rfl rfl)
theorem dX6_searches_147 : decode cX6_searches 147 = .ok (.ireturn, 1) := dk_172 (dk_at dksX6_searches_6 6 rfl rfl)
theorem dX6_searches_148 : decode cX6_searches 148 = .ok (.iconst 0, 1) := dk_3 (dk_at dksX6_searches_6 7 rfl rfl)
theorem dX6_searches_149 : decode cX6_searches 149 = .ok (.istore 5, 2) := dk_54 5 (dk_at dksX6_searches_6 8 rfl rfl)
theorem dX6_searches_151 : decode cX6_searches 151 = .ok (.iload 5, 2) := dk_21 5 (dk_at dksX6_searches_6 10 rfl rfl)
theorem dX6_searches_153 : decode cX6_searches 153 = .ok (.iconst 4, 1) := dk_7 (dk_at dksX6_searches_6 12 rfl rfl)
theorem dX6_searches_154 : decode cX6_searches 154 = .ok (.if_icmp .ge 54, 3) := dk_162 0 54 (dk_at dksX6_searches_6 13 rfl rfl)
theorem dX6_searches_157 : decode cX6_searches 157 = .ok (.aload_n 0, 1) := dk_42 (dk_at dksX6_searches_6 16 rfl rfl)
theorem dX6_searches_158 : decode cX6_searches 158 = .ok (.iload 4, 2) := dk_21 4 (dk_at dksX6_searches_6 17 rfl rfl)
theorem dX6_searches_160 : decode cX6_searches 160 = .ok (.invokevirtual 333, 3) := dk_182 1 77 (dk_at dksX6_searches_6 19 rfl rfl)
theorem dX6_searches_163 : decode cX6_searches 163 = .ok (.aload_n 0, 1) := dk_42 (dk_at dksX6_searches_6 22 rfl rfl)
theorem dX6_searches_164 : decode cX6_searches 164 = .ok (.aload_n 0, 1) := dk_42 (dk_at dksX6_searches_6 23 rfl rfl)
theorem dX6_searches_165 : decode cX6_searches 165 = .ok (.getfield 128, 3) := dk_180 0 128 (dk_at dksX6_searches_7 0 rfl rfl)
theorem dX6_searches_168 : decode cX6_searches 168 = .ok (.iload 5, 2) := dk_21 5 (dk_at dksX6_searches_7 3 rfl rfl)
theorem dX6_searches_170 : decode cX6_searches 170 = .ok (.invokevirtual 270, 3) := dk_182 1 14 (dk_at dksX6_searches_7 5 rfl rfl)
theorem dX6_searches_173 : decode cX6_searches 173 = .ok (.istore 6, 2) := dk_54 6 (dk_at dksX6_searches_7 8 rfl rfl)
theorem dX6_searches_175 : decode cX6_searches 175 = .ok (.iload 6, 2) := dk_21 6 (dk_at dksX6_searches_7 10 rfl rfl)
theorem dX6_searches_177 : decode cX6_searches 177 = .ok (.iconst (-1), 1) := dk_2 (dk_at dksX6_searches_7 12 rfl rfl)
theorem dX6_searches_178 : decode cX6_searches 178 = .ok (.if_icmp .eq 24, 3) := dk_159 0 24 (dk_at dksX6_searches_7 13 rfl rfl)
theorem dX6_searches_181 : decode cX6_searches 181 = .ok (.aload_n 0, 1) := dk_42 (dk_at dksX6_searches_7 16 rfl rfl)
theorem dX6_searches_182 : decode cX6_searches 182 = .ok (.aload_n 0, 1) := dk_42 (dk_at dksX6_searches_7 17 rfl rfl)
theorem dX6_searches_183 : decode cX6_searches 183 = .ok (.getfield 106, 3) := dk_180 0 106 (dk_at dksX6_searches_7 18 rfl rfl)
theorem dX6_searches_186 : decode cX6_searches 186 = .ok (.iload 4, 2) := dk_21 4 (dk_at dksX6_searches_7 21 rfl rfl)
theorem dX6_searches_188 : decode cX6_searches 188 = .ok (.iaload, 1) := dk_46 (dk_at dksX6_searches_7 23 rfl rfl)
theorem dX6_searches_189 : decode cX6_searches 189 = .ok (.iload 6, 2) := dk_21 6 (dk_at dksX6_searches_8 0 rfl rfl)
theorem dX6_searches_191 : decode cX6_searches 191 = .ok (.iadd, 1) := dk_96 (dk_at dksX6_searches_8 2 rfl rfl)
theorem dX6_searches_192 : decode cX6_searches 192 = .ok (.iload 4, 2) := dk_21 4 (dk_at dksX6_searches_8 3 rfl rfl)
theorem dX6_searches_194 : decode cX6_searches 194 = .ok (.iload 5, 2) := dk_21 5 (dk_at dksX6_searches_8 5 rfl rfl)
theorem dX6_searches_196 : decode cX6_searches 196 = .ok (.iload_n 1, 1) := dk_27 (dk_at dksX6_searches_8 7 rfl rfl)
theorem dX6_searches_197 : decode cX6_searches 197 = .ok (.invokevirtual 326, 3) := dk_182 1 70 (dk_at dksX6_searches_8 8 rfl rfl)
theorem dX6_searches_200 : decode cX6_searches 200 = .ok (.istore 7, 2) := dk_54 7 (dk_at dksX6_searches_8 11 rfl rfl)
theorem dX6_searches_202 : decode cX6_searches 202 = .ok (.iinc 5 1, 3) := dk_132 5 1 (dk_at dksX6_searches_8 13 rfl rfl)
theorem dX6_searches_205 : decode cX6_searches 205 = .ok (.goto (-54), 3) := dk_167 255 202 (dk_at dksX6_searches_8 16 rfl rfl)
theorem dX6_searches_208 : decode cX6_searches 208 = .ok (.goto (-180), 3) := dk_167 255 76 (dk_at dksX6_searches_8 19 rfl rfl)
abbrev cX6_clearsStates : ByteArray := prog_15_method_57_code
def yX6_clearsStates : MethodName := ⟨RX6, "clearsStates", "()V"⟩
def dkwX6_clearsStates_1 : List UInt8 := [167, 255, 239, 177]
abbrev dktX6_clearsStates_1 : List UInt8 := dkwX6_clearsStates_1 ++ []
def dkwX6_clearsStates_0 : List UInt8 := [42, 3, 181, 1, 51, 3, 60, 27, 17, 64, 0, 162, 0, 16, 42, 180, 0, 118, 27, 3, 79, 132, 1, 1]
abbrev dktX6_clearsStates_0 : List UInt8 := dkwX6_clearsStates_0 ++ dktX6_clearsStates_1
theorem dksX6_clearsStates_0 : cX6_clearsStates.data.toList.drop 0 = dktX6_clearsStates_0 := by decide +kernel
theorem dksX6_clearsStates_1 : cX6_clearsStates.data.toList.drop 24 = dktX6_clearsStates_1 := dk_seg dksX6_clearsStates_0 24 rfl rfl
theorem dX6_clearsStates_0 : decode cX6_clearsStates 0 = .ok (.aload_n 0, 1) := dk_42 (dk_at dksX6_clearsStates_0 0 rfl rfl)
theorem dX6_clearsStates_1 : decode cX6_clearsStates 1 = .ok (.iconst 0, 1) := dk_3 (dk_at dksX6_clearsStates_0 1 rfl rfl)
theorem dX6_clearsStates_2 : decode cX6_clearsStates 2 = .ok (.putfield 307, 3) := dk_181 1 51 (dk_at dksX6_clearsStates_0 2 rfl rfl)
theorem dX6_clearsStates_5 : decode cX6_clearsStates 5 = .ok (.iconst 0, 1) := dk_3 (dk_at dksX6_clearsStates_0 5 rfl rfl)
theorem dX6_clearsStates_6 : decode cX6_clearsStates 6 = .ok (.istore_n 1, 1) := dk_60 (dk_at dksX6_clearsStates_0 6 rfl rfl)
theorem dX6_clearsStates_7 : decode cX6_clearsStates 7 = .ok (.iload_n 1, 1) := dk_27 (dk_at dksX6_clearsStates_0 7 rfl rfl)
theorem dX6_clearsStates_8 : decode cX6_clearsStates 8 = .ok (.sipush 16384, 3) := dk_17 64 0 (dk_at dksX6_clearsStates_0 8 rfl rfl)
theorem dX6_clearsStates_11 : decode cX6_clearsStates 11 = .ok (.if_icmp .ge 16, 3) := dk_162 0 16 (dk_at dksX6_clearsStates_0 11 rfl rfl)
theorem dX6_clearsStates_14 : decode cX6_clearsStates 14 = .ok (.aload_n 0, 1) := dk_42 (dk_at dksX6_clearsStates_0 14 rfl rfl)
theorem dX6_clearsStates_15 : decode cX6_clearsStates 15 = .ok (.getfield 118, 3) := dk_180 0 118 (dk_at dksX6_clearsStates_0 15 rfl rfl)
theorem dX6_clearsStates_18 : decode cX6_clearsStates 18 = .ok (.iload_n 1, 1) := dk_27 (dk_at dksX6_clearsStates_0 18 rfl rfl)
theorem dX6_clearsStates_19 : decode cX6_clearsStates 19 = .ok (.iconst 0, 1) := dk_3 (dk_at dksX6_clearsStates_0 19 rfl rfl)
theorem dX6_clearsStates_20 : decode cX6_clearsStates 20 = .ok (.iastore, 1) := dk_79 (dk_at dksX6_clearsStates_0 20 rfl rfl)
theorem dX6_clearsStates_21 : decode cX6_clearsStates 21 = .ok (.iinc 1 1, 3) := dk_132 1 1 (dk_at dksX6_clearsStates_0 21 rfl rfl)
theorem dX6_clearsStates_24 : decode cX6_clearsStates 24 = .ok (.goto (-17), 3) := dk_167 255 239 (dk_at dksX6_clearsStates_1 0 rfl rfl)
theorem dX6_clearsStates_27 : decode cX6_clearsStates 27 = .ok (.return_, 1) := dk_177 (dk_at dksX6_clearsStates_1 3 rfl rfl)
abbrev cX6_finds : ByteArray := prog_15_method_58_code
def yX6_finds : MethodName := ⟨RX6, "finds", "(IIII)I"⟩
def dkwX6_finds_8 : List UInt8 := [21, 8, 172]
abbrev dktX6_finds_8 : List UInt8 := dkwX6_finds_8 ++ []
def dkwX6_finds_7 : List UInt8 := [180, 0, 106, 21, 8, 27, 79, 42, 180, 0, 112, 21, 8, 28, 79, 42, 180, 0, 115, 21, 8, 29, 79]
abbrev dktX6_finds_7 : List UInt8 := dkwX6_finds_7 ++ dktX6_finds_8
def dkwX6_finds_6 : List UInt8 := [180, 0, 118, 21, 7, 46, 4, 100, 54, 8, 27, 42, 180, 0, 106, 21, 8, 46, 162, 0, 27, 42]
abbrev dktX6_finds_6 : List UInt8 := dkwX6_finds_6 ++ dktX6_finds_7
def dkwX6_finds_5 : List UInt8 := [42, 89, 180, 1, 51, 4, 96, 181, 1, 51, 42, 180, 0, 118, 21, 7, 42, 180, 1, 51, 79, 42]
abbrev dktX6_finds_5 : List UInt8 := dkwX6_finds_5 ++ dktX6_finds_6
def dkwX6_finds_4 : List UInt8 := [180, 1, 51, 42, 42, 180, 0, 128, 21, 4, 182, 1, 46, 79, 42, 180, 0, 125, 42, 180, 1, 51, 3, 84]
abbrev dktX6_finds_4 : List UInt8 := dkwX6_finds_4 ++ dktX6_finds_5
def dkwX6_finds_3 : List UInt8 := [79, 132, 8, 1, 167, 255, 222, 42, 180, 0, 106, 42, 180, 1, 51, 18, 199, 79, 42, 180, 0, 109, 42]
abbrev dktX6_finds_3 : List UInt8 := dkwX6_finds_3 ++ dktX6_finds_4
def dkwX6_finds_2 : List UInt8 := [162, 0, 31, 42, 180, 0, 103, 16, 16, 42, 180, 1, 51, 104, 21, 8, 96, 42, 180, 0, 128, 21, 8, 46]
abbrev dktX6_finds_2 : List UInt8 := dkwX6_finds_2 ++ dktX6_finds_3
def dkwX6_finds_1 : List UInt8 := [46, 154, 0, 115, 42, 180, 0, 121, 42, 180, 1, 51, 22, 5, 80, 3, 54, 8, 21, 8, 42, 180, 0, 170]
abbrev dktX6_finds_1 : List UInt8 := dkwX6_finds_1 ++ dktX6_finds_2
def dkwX6_finds_0 : List UInt8 := [42, 42, 180, 0, 128, 182, 1, 18, 55, 5, 42, 22, 5, 182, 1, 54, 54, 7, 42, 180, 0, 118, 21, 7]
abbrev dktX6_finds_0 : List UInt8 := dkwX6_finds_0 ++ dktX6_finds_1
theorem dksX6_finds_0 : cX6_finds.data.toList.drop 0 = dktX6_finds_0 := by decide +kernel
theorem dksX6_finds_1 : cX6_finds.data.toList.drop 24 = dktX6_finds_1 := dk_seg dksX6_finds_0 24 rfl rfl
theorem dksX6_finds_2 : cX6_finds.data.toList.drop 48 = dktX6_finds_2 := dk_seg dksX6_finds_1 24 rfl rfl
theorem dksX6_finds_3 : cX6_finds.data.toList.drop 72 = dktX6_finds_3 := dk_seg dksX6_finds_2 24 rfl rfl
theorem dksX6_finds_4 : cX6_finds.data.toList.drop 95 = dktX6_finds_4 := dk_seg dksX6_finds_3 23 rfl rfl
theorem dksX6_finds_5 : cX6_finds.data.toList.drop 119 = dktX6_finds_5 := dk_seg dksX6_finds_4 24 rfl rfl
theorem dksX6_finds_6 : cX6_finds.data.toList.drop 141 = dktX6_finds_6 := dk_seg dksX6_finds_5 22 rfl rfl
theorem dksX6_finds_7 : cX6_finds.data.toList.drop 163 = dktX6_finds_7 := dk_seg dksX6_finds_6 22 rfl rfl
theorem dksX6_finds_8 : cX6_finds.data.toList.drop 186 = dktX6_finds_8 := dk_seg dksX6_finds_7 23 rfl rfl
theorem dX6_finds_0 : decode cX6_finds 0 = .ok (.aload_n 0, 1) := dk_42 (dk_at dksX6_finds_0 0 rfl rfl)
theorem dX6_finds_1 : decode cX6_finds 1 = .ok (.aload_n 0, 1) := dk_42 (dk_at dksX6_finds_0 1 rfl rfl)
theorem dX6_finds_2 : decode cX6_finds 2 = .ok (.getfield 128, 3) := dk_180 0 128 (dk_at dksX6_finds_0 2 rfl rfl)
theorem dX6_finds_5 : decode cX6_finds 5 = .ok (.invokevirtual 274, 3) := dk_182 1 18 (dk_at dksX6_finds_0 5 rfl rfl)
theorem dX6_finds_8 : decode cX6_finds 8 = .ok (.lstore 5, 2) := dk_55 5 (dk_at dksX6_finds_0 8 rfl rfl)
theorem dX6_finds_10 : decode cX6_finds 10 = .ok (.aload_n 0, 1) := dk_42 (dk_at dksX6_finds_0 10 rfl rfl)
theorem dX6_finds_11 : decode cX6_finds 11 = .ok (.lload 5, 2) := dk_22 5 (dk_at dksX6_finds_0 11 rfl rfl)
theorem dX6_finds_13 : decode cX6_finds 13 = .ok (.invokevirtual 310, 3) := dk_182 1 54 (dk_at dksX6_finds_0 13 rfl rfl)
theorem dX6_finds_16 : decode cX6_finds 16 = .ok (.istore 7, 2) := dk_54 7 (dk_at dksX6_finds_0 16 rfl rfl)
theorem dX6_finds_18 : decode cX6_finds 18 = .ok (.aload_n 0, 1) := dk_42 (dk_at dksX6_finds_0 18 rfl rfl)
theorem dX6_finds_19 : decode cX6_finds 19 = .ok (.getfield 118, 3) := dk_180 0 118 (dk_at dksX6_finds_0 19 rfl rfl)
theorem dX6_finds_22 : decode cX6_finds 22 = .ok (.iload 7, 2) := dk_21 7 (dk_at dksX6_finds_0 22 rfl rfl)
theorem dX6_finds_24 : decode cX6_finds 24 = .ok (.iaload, 1) := dk_46 (dk_at dksX6_finds_1 0 rfl rfl)
theorem dX6_finds_25 : decode cX6_finds 25 = .ok (.ifCond .ne 115, 3) := dk_154 0 115 (dk_at dksX6_finds_1 1 rfl rfl)
theorem dX6_finds_28 : decode cX6_finds 28 = .ok (.aload_n 0, 1) := dk_42 (dk_at dksX6_finds_1 4 rfl rfl)
theorem dX6_finds_29 : decode cX6_finds 29 = .ok (.getfield 121, 3) := dk_180 0 121 (dk_at dksX6_finds_1 5 rfl rfl)
theorem dX6_finds_32 : decode cX6_finds 32 = .ok (.aload_n 0, 1) := dk_42 (dk_at dksX6_finds_1 8 rfl rfl)
theorem dX6_finds_33 : decode cX6_finds 33 = .ok (.getfield 307, 3) := dk_180 1 51 (dk_at dksX6_finds_1 9 rfl rfl)
theorem dX6_finds_36 : decode cX6_finds 36 = .ok (.lload 5, 2) := dk_22 5 (dk_at dksX6_finds_1 12 rfl rfl)
theorem dX6_finds_38 : decode cX6_finds 38 = .ok (.lastore, 1) := dk_80 (dk_at dksX6_finds_1 14 rfl rfl)
theorem dX6_finds_39 : decode cX6_finds 39 = .ok (.iconst 0, 1) := dk_3 (dk_at dksX6_finds_1 15 rfl rfl)
theorem dX6_finds_40 : decode cX6_finds 40 = .ok (.istore 8, 2) := dk_54 8 (dk_at dksX6_finds_1 16 rfl rfl)
theorem dX6_finds_42 : decode cX6_finds 42 = .ok (.iload 8, 2) := dk_21 8 (dk_at dksX6_finds_1 18 rfl rfl)
theorem dX6_finds_44 : decode cX6_finds 44 = .ok (.aload_n 0, 1) := dk_42 (dk_at dksX6_finds_1 20 rfl rfl)
theorem dX6_finds_45 : decode cX6_finds 45 = .ok (.getfield 170, 3) := dk_180 0 170 (dk_at dksX6_finds_1 21 rfl rfl)
theorem dX6_finds_48 : decode cX6_finds 48 = .ok (.if_icmp .ge 31, 3) := dk_162 0 31 (dk_at dksX6_finds_2 0 rfl rfl)
theorem dX6_finds_51 : decode cX6_finds 51 = .ok (.aload_n 0, 1) := dk_42 (dk_at dksX6_finds_2 3 rfl rfl)
theorem dX6_finds_52 : decode cX6_finds 52 = .ok (.getfield 103, 3) := dk_180 0 103 (dk_at dksX6_finds_2 4 rfl rfl)
theorem dX6_finds_55 : decode cX6_finds 55 = .ok (.bipush 16, 2) := dk_16 16 (dk_at dksX6_finds_2 7 rfl rfl)
theorem dX6_finds_57 : decode cX6_finds 57 = .ok (.aload_n 0, 1) := dk_42 (dk_at dksX6_finds_2 9 rfl rfl)
theorem dX6_finds_58 : decode cX6_finds 58 = .ok (.getfield 307, 3) := dk_180 1 51 (dk_at dksX6_finds_2 10 rfl rfl)
theorem dX6_finds_61 : decode cX6_finds 61 = .ok (.imul, 1) := dk_104 (dk_at dksX6_finds_2 13 rfl rfl)
theorem dX6_finds_62 : decode cX6_finds 62 = .ok (.iload 8, 2) := dk_21 8 (dk_at dksX6_finds_2 14 rfl rfl)
theorem dX6_finds_64 : decode cX6_finds 64 = .ok (.iadd, 1) := dk_96 (dk_at dksX6_finds_2 16 rfl rfl)
theorem dX6_finds_65 : decode cX6_finds 65 = .ok (.aload_n 0, 1) := dk_42 (dk_at dksX6_finds_2 17 rfl rfl)
theorem dX6_finds_66 : decode cX6_finds 66 = .ok (.getfield 128, 3) := dk_180 0 128 (dk_at dksX6_finds_2 18 rfl rfl)
theorem dX6_finds_69 : decode cX6_finds 69 = .ok (.iload 8, 2) := dk_21 8 (dk_at dksX6_finds_2 21 rfl rfl)
theorem dX6_finds_71 : decode cX6_finds 71 = .ok (.iaload, 1) := dk_46 (dk_at dksX6_finds_2 23 rfl rfl)
theorem dX6_finds_72 : decode cX6_finds 72 = .ok (.iastore, 1) := dk_79 (dk_at dksX6_finds_3 0 rfl rfl)
theorem dX6_finds_73 : decode cX6_finds 73 = .ok (.iinc 8 1, 3) := dk_132 8 1 (dk_at dksX6_finds_3 1 rfl rfl)
theorem dX6_finds_76 : decode cX6_finds 76 = .ok (.goto (-34), 3) := dk_167 255 222 (dk_at dksX6_finds_3 4 rfl rfl)
theorem dX6_finds_79 : decode cX6_finds 79 = .ok (.aload_n 0, 1) := dk_42 (dk_at dksX6_finds_3 7 rfl rfl)
theorem dX6_finds_80 : decode cX6_finds 80 = .ok (.getfield 106, 3) := dk_180 0 106 (dk_at dksX6_finds_3 8 rfl rfl)
theorem dX6_finds_83 : decode cX6_finds 83 = .ok (.aload_n 0, 1) := dk_42 (dk_at dksX6_finds_3 11 rfl rfl)
theorem dX6_finds_84 : decode cX6_finds 84 = .ok (.getfield 307, 3) := dk_180 1 51 (dk_at dksX6_finds_3 12 rfl rfl)
theorem dX6_finds_87 : decode cX6_finds 87 = .ok (.ldc 199, 2) := dk_18 199 (dk_at dksX6_finds_3 15 rfl rfl)
theorem dX6_finds_89 : decode cX6_finds 89 = .ok (.iastore, 1) := dk_79 (dk_at dksX6_finds_3 17 rfl rfl)
theorem dX6_finds_90 : decode cX6_finds 90 = .ok (.aload_n 0, 1) := dk_42 (dk_at dksX6_finds_3 18 rfl rfl)
theorem dX6_finds_91 : decode cX6_finds 91 = .ok (.getfield 109, 3) := dk_180 0 109 (dk_at dksX6_finds_3 19 rfl rfl)
theorem dX6_finds_94 : decode cX6_finds 94 = .ok (.aload_n 0, 1) := dk_42 (dk_at dksX6_finds_3 22 rfl rfl)
theorem dX6_finds_95 : decode cX6_finds 95 = .ok (.getfield 307, 3) := dk_180 1 51 (dk_at dksX6_finds_4 0 rfl rfl)
theorem dX6_finds_98 : decode cX6_finds 98 = .ok (.aload_n 0, 1) := dk_42 (dk_at dksX6_finds_4 3 rfl rfl)
theorem dX6_finds_99 : decode cX6_finds 99 = .ok (.aload_n 0, 1) := dk_42 (dk_at dksX6_finds_4 4 rfl rfl)
theorem dX6_finds_100 : decode cX6_finds 100 = .ok (.getfield 128, 3) := dk_180 0 128 (dk_at dksX6_finds_4 5 rfl rfl)
theorem dX6_finds_103 : decode cX6_finds 103 = .ok (.iload 4, 2) := dk_21 4 (dk_at dksX6_finds_4 8 rfl rfl)
theorem dX6_finds_105 : decode cX6_finds 105 = .ok (.invokevirtual 302, 3) := dk_182 1 46 (dk_at dksX6_finds_4 10 rfl rfl)
theorem dX6_finds_108 : decode cX6_finds 108 = .ok (.iastore, 1) := dk_79 (dk_at dksX6_finds_4 13 rfl rfl)
theorem dX6_finds_109 : decode cX6_finds 109 = .ok (.aload_n 0, 1) := dk_42 (dk_at dksX6_finds_4 14 rfl rfl)
theorem dX6_finds_110 : decode cX6_finds 110 = .ok (.getfield 125, 3) := dk_180 0 125 (dk_at dksX6_finds_4 15 rfl rfl)
theorem dX6_finds_113 : decode cX6_finds 113 = .ok (.aload_n 0, 1) := dk_42 (dk_at dksX6_finds_4 18 rfl rfl)
theorem dX6_finds_114 : decode cX6_finds 114 = .ok (.getfield 307, 3) := dk_180 1 51 (dk_at dksX6_finds_4 19 rfl rfl)
theorem dX6_finds_117 : decode cX6_finds 117 = .ok (.iconst 0, 1) := dk_3 (dk_at dksX6_finds_4 22 rfl rfl)
theorem dX6_finds_118 : decode cX6_finds 118 = .ok (.bastore, 1) := dk_84 (dk_at dksX6_finds_4 23 rfl rfl)
theorem dX6_finds_119 : decode cX6_finds 119 = .ok (.aload_n 0, 1) := dk_42 (dk_at dksX6_finds_5 0 rfl rfl)
theorem dX6_finds_120 : decode cX6_finds 120 = .ok (.dup, 1) := dk_89 (dk_at dksX6_finds_5 1 rfl rfl)
theorem dX6_finds_121 : decode cX6_finds 121 = .ok (.getfield 307, 3) := dk_180 1 51 (dk_at dksX6_finds_5 2 rfl rfl)
theorem dX6_finds_124 : decode cX6_finds 124 = .ok (.iconst 1, 1) := dk_4 (dk_at dksX6_finds_5 5 rfl rfl)
theorem dX6_finds_125 : decode cX6_finds 125 = .ok (.iadd, 1) := dk_96 (dk_at dksX6_finds_5 6 rfl rfl)
theorem dX6_finds_126 : decode cX6_finds 126 = .ok (.putfield 307, 3) := dk_181 1 51 (dk_at dksX6_finds_5 7 rfl rfl)
theorem dX6_finds_129 : decode cX6_finds 129 = .ok (.aload_n 0, 1) := dk_42 (dk_at dksX6_finds_5 10 rfl rfl)
theorem dX6_finds_130 : decode cX6_finds 130 = .ok (.getfield 118, 3) := dk_180 0 118 (dk_at dksX6_finds_5 11 rfl rfl)
theorem dX6_finds_133 : decode cX6_finds 133 = .ok (.iload 7, 2) := dk_21 7 (dk_at dksX6_finds_5 14 rfl rfl)
theorem dX6_finds_135 : decode cX6_finds 135 = .ok (.aload_n 0, 1) := dk_42 (dk_at dksX6_finds_5 16 rfl rfl)
theorem dX6_finds_136 : decode cX6_finds 136 = .ok (.getfield 307, 3) := dk_180 1 51 (dk_at dksX6_finds_5 17 rfl rfl)
theorem dX6_finds_139 : decode cX6_finds 139 = .ok (.iastore, 1) := dk_79 (dk_at dksX6_finds_5 20 rfl rfl)
theorem dX6_finds_140 : decode cX6_finds 140 = .ok (.aload_n 0, 1) := dk_42 (dk_at dksX6_finds_5 21 rfl rfl)
theorem dX6_finds_141 : decode cX6_finds 141 = .ok (.getfield 118, 3) := dk_180 0 118 (dk_at dksX6_finds_6 0 rfl rfl)
theorem dX6_finds_144 : decode cX6_finds 144 = .ok (.iload 7, 2) := dk_21 7 (dk_at dksX6_finds_6 3 rfl rfl)
theorem dX6_finds_146 : decode cX6_finds 146 = .ok (.iaload, 1) := dk_46 (dk_at dksX6_finds_6 5 rfl rfl)
theorem dX6_finds_147 : decode cX6_finds 147 = .ok (.iconst 1, 1) := dk_4 (dk_at dksX6_finds_6 6 rfl rfl)
theorem dX6_finds_148 : decode cX6_finds 148 = .ok (.isub, 1) := dk_100 (dk_at dksX6_finds_6 7 rfl rfl)
theorem dX6_finds_149 : decode cX6_finds 149 = .ok (.istore 8, 2) := dk_54 8 (dk_at dksX6_finds_6 8 rfl rfl)
theorem dX6_finds_151 : decode cX6_finds 151 = .ok (.iload_n 1, 1) := dk_27 (dk_at dksX6_finds_6 10 rfl rfl)
theorem dX6_finds_152 : decode cX6_finds 152 = .ok (.aload_n 0, 1) := dk_42 (dk_at dksX6_finds_6 11 rfl rfl)
theorem dX6_finds_153 : decode cX6_finds 153 = .ok (.getfield 106, 3) := dk_180 0 106 (dk_at dksX6_finds_6 12 rfl rfl)
theorem dX6_finds_156 : decode cX6_finds 156 = .ok (.iload 8, 2) := dk_21 8 (dk_at dksX6_finds_6 15 rfl rfl)
theorem dX6_finds_158 : decode cX6_finds 158 = .ok (.iaload, 1) := dk_46 (dk_at dksX6_finds_6 17 rfl rfl)
theorem dX6_finds_159 : decode cX6_finds 159 = .ok (.if_icmp .ge 27, 3) := dk_162 0 27 (dk_at dksX6_finds_6 18 rfl rfl)
theorem dX6_finds_162 : decode cX6_finds 162 = .ok (.aload_n 0, 1) := dk_42 (dk_at dksX6_finds_6 21 rfl rfl)
theorem dX6_finds_163 : decode cX6_finds 163 = .ok (.getfield 106, 3) := dk_180 0 106 (dk_at dksX6_finds_7 0 rfl rfl)
theorem dX6_finds_166 : decode cX6_finds 166 = .ok (.iload 8, 2) := dk_21 8 (dk_at dksX6_finds_7 3 rfl rfl)
theorem dX6_finds_168 : decode cX6_finds 168 = .ok (.iload_n 1, 1) := dk_27 (dk_at dksX6_finds_7 5 rfl rfl)
theorem dX6_finds_169 : decode cX6_finds 169 = .ok (.iastore, 1) := dk_79 (dk_at dksX6_finds_7 6 rfl rfl)
theorem dX6_finds_170 : decode cX6_finds 170 = .ok (.aload_n 0, 1) := dk_42 (dk_at dksX6_finds_7 7 rfl rfl)
theorem dX6_finds_171 : decode cX6_finds 171 = .ok (.getfield 112, 3) := dk_180 0 112 (dk_at dksX6_finds_7 8 rfl rfl)
theorem dX6_finds_174 : decode cX6_finds 174 = .ok (.iload 8, 2) := dk_21 8 (dk_at dksX6_finds_7 11 rfl rfl)
theorem dX6_finds_176 : decode cX6_finds 176 = .ok (.iload_n 2, 1) := dk_28 (dk_at dksX6_finds_7 13 rfl rfl)
theorem dX6_finds_177 : decode cX6_finds 177 = .ok (.iastore, 1) := dk_79 (dk_at dksX6_finds_7 14 rfl rfl)
theorem dX6_finds_178 : decode cX6_finds 178 = .ok (.aload_n 0, 1) := dk_42 (dk_at dksX6_finds_7 15 rfl rfl)
theorem dX6_finds_179 : decode cX6_finds 179 = .ok (.getfield 115, 3) := dk_180 0 115 (dk_at dksX6_finds_7 16 rfl rfl)
theorem dX6_finds_182 : decode cX6_finds 182 = .ok (.iload 8, 2) := dk_21 8 (dk_at dksX6_finds_7 19 rfl rfl)
theorem dX6_finds_184 : decode cX6_finds 184 = .ok (.iload_n 3, 1) := dk_29 (dk_at dksX6_finds_7 21 rfl rfl)
theorem dX6_finds_185 : decode cX6_finds 185 = .ok (.iastore, 1) := dk_79 (dk_at dksX6_finds_7 22 rfl rfl)
theorem dX6_finds_186 : decode cX6_finds 186 = .ok (.iload 8, 2) := dk_21 8 (dk_at dksX6_finds_8 0 rfl rfl)
theorem dX6_finds_188 : decode cX6_finds 188 = .ok (.ireturn, 1) := dk_172 (dk_at dksX6_finds_8 2 rfl rfl)
abbrev cX6_seek : ByteArray := prog_15_method_56_code
def yX6_seek : MethodName := ⟨RX6, "seek", "(J)I"⟩
def dkwX6_seek_2 : List UInt8 := [62, 167, 255, 214, 29, 172]
abbrev dktX6_seek_2 : List UInt8 := dkwX6_seek_2 ++ []
def dkwX6_seek_1 : List UInt8 := [29, 46, 4, 100, 47, 31, 148, 153, 0, 21, 29, 17, 63, 255, 160, 0, 7, 3, 167, 0, 6, 29, 4, 96]
abbrev dktX6_seek_1 : List UInt8 := dkwX6_seek_1 ++ dktX6_seek_2
def dkwX6_seek_0 : List UInt8 := [31, 20, 1, 49, 113, 136, 62, 42, 180, 0, 118, 29, 46, 153, 0, 39, 42, 180, 0, 121, 42, 180, 0, 118]
abbrev dktX6_seek_0 : List UInt8 := dkwX6_seek_0 ++ dktX6_seek_1
theorem dksX6_seek_0 : cX6_seek.data.toList.drop 0 = dktX6_seek_0 := by decide +kernel
theorem dksX6_seek_1 : cX6_seek.data.toList.drop 24 = dktX6_seek_1 := dk_seg dksX6_seek_0 24 rfl rfl
theorem dksX6_seek_2 : cX6_seek.data.toList.drop 48 = dktX6_seek_2 := dk_seg dksX6_seek_1 24 rfl rfl
theorem dX6_seek_0 : decode cX6_seek 0 = .ok (.lload_n 1, 1) := dk_31 (dk_at dksX6_seek_0 0 rfl rfl)
theorem dX6_seek_1 : decode cX6_seek 1 = .ok (.ldc2_w 305, 3) := dk_20 1 49 (dk_at dksX6_seek_0 1 rfl rfl)
theorem dX6_seek_4 : decode cX6_seek 4 = .ok (.lrem, 1) := dk_113 (dk_at dksX6_seek_0 4 rfl rfl)
theorem dX6_seek_5 : decode cX6_seek 5 = .ok (.l2i, 1) := dk_136 (dk_at dksX6_seek_0 5 rfl rfl)
theorem dX6_seek_6 : decode cX6_seek 6 = .ok (.istore_n 3, 1) := dk_62 (dk_at dksX6_seek_0 6 rfl rfl)
theorem dX6_seek_7 : decode cX6_seek 7 = .ok (.aload_n 0, 1) := dk_42 (dk_at dksX6_seek_0 7 rfl rfl)
theorem dX6_seek_8 : decode cX6_seek 8 = .ok (.getfield 118, 3) := dk_180 0 118 (dk_at dksX6_seek_0 8 rfl rfl)
theorem dX6_seek_11 : decode cX6_seek 11 = .ok (.iload_n 3, 1) := dk_29 (dk_at dksX6_seek_0 11 rfl rfl)
theorem dX6_seek_12 : decode cX6_seek 12 = .ok (.iaload, 1) := dk_46 (dk_at dksX6_seek_0 12 rfl rfl)
theorem dX6_seek_13 : decode cX6_seek 13 = .ok (.ifCond .eq 39, 3) := dk_153 0 39 (dk_at dksX6_seek_0 13 rfl rfl)
theorem dX6_seek_16 : decode cX6_seek 16 = .ok (.aload_n 0, 1) := dk_42 (dk_at dksX6_seek_0 16 rfl rfl)
theorem dX6_seek_17 : decode cX6_seek 17 = .ok (.getfield 121, 3) := dk_180 0 121 (dk_at dksX6_seek_0 17 rfl rfl)
theorem dX6_seek_20 : decode cX6_seek 20 = .ok (.aload_n 0, 1) := dk_42 (dk_at dksX6_seek_0 20 rfl rfl)
theorem dX6_seek_21 : decode cX6_seek 21 = .ok (.getfield 118, 3) := dk_180 0 118 (dk_at dksX6_seek_0 21 rfl rfl)
theorem dX6_seek_24 : decode cX6_seek 24 = .ok (.iload_n 3, 1) := dk_29 (dk_at dksX6_seek_1 0 rfl rfl)
theorem dX6_seek_25 : decode cX6_seek 25 = .ok (.iaload, 1) := dk_46 (dk_at dksX6_seek_1 1 rfl rfl)
theorem dX6_seek_26 : decode cX6_seek 26 = .ok (.iconst 1, 1) := dk_4 (dk_at dksX6_seek_1 2 rfl rfl)
theorem dX6_seek_27 : decode cX6_seek 27 = .ok (.isub, 1) := dk_100 (dk_at dksX6_seek_1 3 rfl rfl)
theorem dX6_seek_28 : decode cX6_seek 28 = .ok (.laload, 1) := dk_47 (dk_at dksX6_seek_1 4 rfl rfl)
theorem dX6_seek_29 : decode cX6_seek 29 = .ok (.lload_n 1, 1) := dk_31 (dk_at dksX6_seek_1 5 rfl rfl)
theorem dX6_seek_30 : decode cX6_seek 30 = .ok (.lcmp, 1) := dk_148 (dk_at dksX6_seek_1 6 rfl rfl)
theorem dX6_seek_31 : decode cX6_seek 31 = .ok (.ifCond .eq 21, 3) := dk_153 0 21 (dk_at dksX6_seek_1 7 rfl rfl)
theorem dX6_seek_34 : decode cX6_seek 34 = .ok (.iload_n 3, 1) := dk_29 (dk_at dksX6_seek_1 10 rfl rfl)
theorem dX6_seek_35 : decode cX6_seek 35 = .ok (.sipush 16383, 3) := dk_17 63 255 (dk_at dksX6_seek_1 11 rfl rfl)
theorem dX6_seek_38 : decode cX6_seek 38 = .ok (.if_icmp .ne 7, 3) := dk_160 0 7 (dk_at dksX6_seek_1 14 rfl rfl)
theorem dX6_seek_41 : decode cX6_seek 41 = .ok (.iconst 0, 1) := dk_3 (dk_at dksX6_seek_1 17 rfl rfl)
theorem dX6_seek_42 : decode cX6_seek 42 = .ok (.goto 6, 3) := dk_167 0 6 (dk_at dksX6_seek_1 18 rfl rfl)
theorem dX6_seek_45 : decode cX6_seek 45 = .ok (.iload_n 3, 1) := dk_29 (dk_at dksX6_seek_1 21 rfl rfl)
theorem dX6_seek_46 : decode cX6_seek 46 = .ok (.iconst 1, 1) := dk_4 (dk_at dksX6_seek_1 22 rfl rfl)
theorem dX6_seek_47 : decode cX6_seek 47 = .ok (.iadd, 1) := dk_96 (dk_at dksX6_seek_1 23 rfl rfl)
theorem dX6_seek_48 : decode cX6_seek 48 = .ok (.istore_n 3, 1) := dk_62 (dk_at dksX6_seek_2 0 rfl rfl)
theorem dX6_seek_49 : decode cX6_seek 49 = .ok (.goto (-42), 3) := dk_167 255 214 (dk_at dksX6_seek_2 1 rfl rfl)
theorem dX6_seek_52 : decode cX6_seek 52 = .ok (.iload_n 3, 1) := dk_29 (dk_at dksX6_seek_2 4 rfl rfl)
theorem dX6_seek_53 : decode cX6_seek 53 = .ok (.ireturn, 1) := dk_172 (dk_at dksX6_seek_2 5 rfl rfl)
abbrev cX6_goesAhead : ByteArray := prog_15_method_59_code
def yX6_goesAhead : MethodName := ⟨RX6, "goesAhead", "(II)Z"⟩
def dkwX6_goesAhead_4 : List UInt8 := [167, 0, 4, 3, 172]
abbrev dktX6_goesAhead_4 : List UInt8 := dkwX6_goesAhead_4 ++ []
def dkwX6_goesAhead_3 : List UInt8 := [28, 46, 160, 0, 23, 42, 180, 0, 121, 27, 47, 42, 180, 0, 121, 28, 47, 148, 156, 0, 7, 4]
abbrev dktX6_goesAhead_3 : List UInt8 := dkwX6_goesAhead_3 ++ dktX6_goesAhead_4
def dkwX6_goesAhead_2 : List UInt8 := [180, 0, 109, 27, 46, 42, 180, 0, 109, 28, 46, 161, 0, 34, 42, 180, 0, 109, 27, 46, 42, 180, 0, 109]
abbrev dktX6_goesAhead_2 : List UInt8 := dkwX6_goesAhead_2 ++ dktX6_goesAhead_3
def dkwX6_goesAhead_1 : List UInt8 := [28, 46, 96, 54, 4, 29, 21, 4, 159, 0, 15, 29, 21, 4, 162, 0, 7, 4, 167, 0, 4, 3, 172, 42]
abbrev dktX6_goesAhead_1 : List UInt8 := dkwX6_goesAhead_1 ++ dktX6_goesAhead_2
def dkwX6_goesAhead_0 : List UInt8 := [42, 180, 0, 106, 27, 46, 42, 180, 0, 109, 27, 46, 96, 62, 42, 180, 0, 106, 28, 46, 42, 180, 0, 109]
abbrev dktX6_goesAhead_0 : List UInt8 := dkwX6_goesAhead_0 ++ dktX6_goesAhead_1
theorem dksX6_goesAhead_0 : cX6_goesAhead.data.toList.drop 0 = dktX6_goesAhead_0 := by decide +kernel
theorem dksX6_goesAhead_1 : cX6_goesAhead.data.toList.drop 24 = dktX6_goesAhead_1 := dk_seg dksX6_goesAhead_0 24 rfl rfl
theorem dksX6_goesAhead_2 : cX6_goesAhead.data.toList.drop 48 = dktX6_goesAhead_2 := dk_seg dksX6_goesAhead_1 24 rfl rfl
theorem dksX6_goesAhead_3 : cX6_goesAhead.data.toList.drop 72 = dktX6_goesAhead_3 := dk_seg dksX6_goesAhead_2 24 rfl rfl
theorem dksX6_goesAhead_4 : cX6_goesAhead.data.toList.drop 94 = dktX6_goesAhead_4 := dk_seg dksX6_goesAhead_3 22 rfl rfl
theorem dX6_goesAhead_0 : decode cX6_goesAhead 0 = .ok (.aload_n 0, 1) := dk_42 (dk_at dksX6_goesAhead_0 0 rfl rfl)
theorem dX6_goesAhead_1 : decode cX6_goesAhead 1 = .ok (.getfield 106, 3) := dk_180 0 106 (dk_at dksX6_goesAhead_0 1 rfl rfl)
theorem dX6_goesAhead_4 : decode cX6_goesAhead 4 = .ok (.iload_n 1, 1) := dk_27 (dk_at dksX6_goesAhead_0 4 rfl rfl)
theorem dX6_goesAhead_5 : decode cX6_goesAhead 5 = .ok (.iaload, 1) := dk_46 (dk_at dksX6_goesAhead_0 5 rfl rfl)
theorem dX6_goesAhead_6 : decode cX6_goesAhead 6 = .ok (.aload_n 0, 1) := dk_42 (dk_at dksX6_goesAhead_0 6 rfl rfl)
theorem dX6_goesAhead_7 : decode cX6_goesAhead 7 = .ok (.getfield 109, 3) := dk_180 0 109 (dk_at dksX6_goesAhead_0 7 rfl rfl)
theorem dX6_goesAhead_10 : decode cX6_goesAhead 10 = .ok (.iload_n 1, 1) := dk_27 (dk_at dksX6_goesAhead_0 10 rfl rfl)
theorem dX6_goesAhead_11 : decode cX6_goesAhead 11 = .ok (.iaload, 1) := dk_46 (dk_at dksX6_goesAhead_0 11 rfl rfl)
theorem dX6_goesAhead_12 : decode cX6_goesAhead 12 = .ok (.iadd, 1) := dk_96 (dk_at dksX6_goesAhead_0 12 rfl rfl)
theorem dX6_goesAhead_13 : decode cX6_goesAhead 13 = .ok (.istore_n 3, 1) := dk_62 (dk_at dksX6_goesAhead_0 13 rfl rfl)
theorem dX6_goesAhead_14 : decode cX6_goesAhead 14 = .ok (.aload_n 0, 1) := dk_42 (dk_at dksX6_goesAhead_0 14 rfl rfl)
theorem dX6_goesAhead_15 : decode cX6_goesAhead 15 = .ok (.getfield 106, 3) := dk_180 0 106 (dk_at dksX6_goesAhead_0 15 rfl rfl)
theorem dX6_goesAhead_18 : decode cX6_goesAhead 18 = .ok (.iload_n 2, 1) := dk_28 (dk_at dksX6_goesAhead_0 18 rfl rfl)
theorem dX6_goesAhead_19 : decode cX6_goesAhead 19 = .ok (.iaload, 1) := dk_46 (dk_at dksX6_goesAhead_0 19 rfl rfl)
theorem dX6_goesAhead_20 : decode cX6_goesAhead 20 = .ok (.aload_n 0, 1) := dk_42 (dk_at dksX6_goesAhead_0 20 rfl rfl)
theorem dX6_goesAhead_21 : decode cX6_goesAhead 21 = .ok (.getfield 109, 3) := dk_180 0 109 (dk_at dksX6_goesAhead_0 21 rfl rfl)
theorem dX6_goesAhead_24 : decode cX6_goesAhead 24 = .ok (.iload_n 2, 1) := dk_28 (dk_at dksX6_goesAhead_1 0 rfl rfl)
theorem dX6_goesAhead_25 : decode cX6_goesAhead 25 = .ok (.iaload, 1) := dk_46 (dk_at dksX6_goesAhead_1 1 rfl rfl)
theorem dX6_goesAhead_26 : decode cX6_goesAhead 26 = .ok (.iadd, 1) := dk_96 (dk_at dksX6_goesAhead_1 2 rfl rfl)
theorem dX6_goesAhead_27 : decode cX6_goesAhead 27 = .ok (.istore 4, 2) := dk_54 4 (dk_at dksX6_goesAhead_1 3 rfl rfl)
theorem dX6_goesAhead_29 : decode cX6_goesAhead 29 = .ok (.iload_n 3, 1) := dk_29 (dk_at dksX6_goesAhead_1 5 rfl rfl)
theorem dX6_goesAhead_30 : decode cX6_goesAhead 30 = .ok (.iload 4, 2) := dk_21 4 (dk_at dksX6_goesAhead_1 6 rfl rfl)
theorem dX6_goesAhead_32 : decode cX6_goesAhead 32 = .ok (.if_icmp .eq 15, 3) := dk_159 0 15 (dk_at dksX6_goesAhead_1 8 rfl rfl)
theorem dX6_goesAhead_35 : decode cX6_goesAhead 35 = .ok (.iload_n 3, 1) := dk_29 (dk_at dksX6_goesAhead_1 11 rfl rfl)
theorem dX6_goesAhead_36 : decode cX6_goesAhead 36 = .ok (.iload 4, 2) := dk_21 4 (dk_at dksX6_goesAhead_1 12 rfl rfl)
theorem dX6_goesAhead_38 : decode cX6_goesAhead 38 = .ok (.if_icmp .ge 7, 3) := dk_162 0 7 (dk_at dksX6_goesAhead_1 14 rfl rfl)
theorem dX6_goesAhead_41 : decode cX6_goesAhead 41 = .ok (.iconst 1, 1) := dk_4 (dk_at dksX6_goesAhead_1 17 rfl rfl)
theorem dX6_goesAhead_42 : decode cX6_goesAhead 42 = .ok (.goto 4, 3) := dk_167 0 4 (dk_at dksX6_goesAhead_1 18 rfl rfl)
theorem dX6_goesAhead_45 : decode cX6_goesAhead 45 = .ok (.iconst 0, 1) := dk_3 (dk_at dksX6_goesAhead_1 21 rfl rfl)
theorem dX6_goesAhead_46 : decode cX6_goesAhead 46 = .ok (.ireturn, 1) := dk_172 (dk_at dksX6_goesAhead_1 22 rfl rfl)
theorem dX6_goesAhead_47 : decode cX6_goesAhead 47 = .ok (.aload_n 0, 1) := dk_42 (dk_at dksX6_goesAhead_1 23 rfl rfl)
theorem dX6_goesAhead_48 : decode cX6_goesAhead 48 = .ok (.getfield 109, 3) := dk_180 0 109 (dk_at dksX6_goesAhead_2 0 rfl rfl)
theorem dX6_goesAhead_51 : decode cX6_goesAhead 51 = .ok (.iload_n 1, 1) := dk_27 (dk_at dksX6_goesAhead_2 3 rfl rfl)
theorem dX6_goesAhead_52 : decode cX6_goesAhead 52 = .ok (.iaload, 1) := dk_46 (dk_at dksX6_goesAhead_2 4 rfl rfl)
theorem dX6_goesAhead_53 : decode cX6_goesAhead 53 = .ok (.aload_n 0, 1) := dk_42 (dk_at dksX6_goesAhead_2 5 rfl rfl)
theorem dX6_goesAhead_54 : decode cX6_goesAhead 54 = .ok (.getfield 109, 3) := dk_180 0 109 (dk_at dksX6_goesAhead_2 6 rfl rfl)
theorem dX6_goesAhead_57 : decode cX6_goesAhead 57 = .ok (.iload_n 2, 1) := dk_28 (dk_at dksX6_goesAhead_2 9 rfl rfl)
theorem dX6_goesAhead_58 : decode cX6_goesAhead 58 = .ok (.iaload, 1) := dk_46 (dk_at dksX6_goesAhead_2 10 rfl rfl)
theorem dX6_goesAhead_59 : decode cX6_goesAhead 59 = .ok (.if_icmp .lt 34, 3) := dk_161 0 34 (dk_at dksX6_goesAhead_2 11 rfl rfl)
theorem dX6_goesAhead_62 : decode cX6_goesAhead 62 = .ok (.aload_n 0, 1) := dk_42 (dk_at dksX6_goesAhead_2 14 rfl rfl)
theorem dX6_goesAhead_63 : decode cX6_goesAhead 63 = .ok (.getfield 109, 3) := dk_180 0 109 (dk_at dksX6_goesAhead_2 15 rfl rfl)
theorem dX6_goesAhead_66 : decode cX6_goesAhead 66 = .ok (.iload_n 1, 1) := dk_27 (dk_at dksX6_goesAhead_2 18 rfl rfl)
theorem dX6_goesAhead_67 : decode cX6_goesAhead 67 = .ok (.iaload, 1) := dk_46 (dk_at dksX6_goesAhead_2 19 rfl rfl)
theorem dX6_goesAhead_68 : decode cX6_goesAhead 68 = .ok (.aload_n 0, 1) := dk_42 (dk_at dksX6_goesAhead_2 20 rfl rfl)
theorem dX6_goesAhead_69 : decode cX6_goesAhead 69 = .ok (.getfield 109, 3) := dk_180 0 109 (dk_at dksX6_goesAhead_2 21 rfl rfl)
theorem dX6_goesAhead_72 : decode cX6_goesAhead 72 = .ok (.iload_n 2, 1) := dk_28 (dk_at dksX6_goesAhead_3 0 rfl rfl)
theorem dX6_goesAhead_73 : decode cX6_goesAhead 73 = .ok (.iaload, 1) := dk_46 (dk_at dksX6_goesAhead_3 1 rfl rfl)
theorem dX6_goesAhead_74 : decode cX6_goesAhead 74 = .ok (.if_icmp .ne 23, 3) := dk_160 0 23 (dk_at dksX6_goesAhead_3 2 rfl rfl)
theorem dX6_goesAhead_77 : decode cX6_goesAhead 77 = .ok (.aload_n 0, 1) := dk_42 (dk_at dksX6_goesAhead_3 5 rfl rfl)
theorem dX6_goesAhead_78 : decode cX6_goesAhead 78 = .ok (.getfield 121, 3) := dk_180 0 121 (dk_at dksX6_goesAhead_3 6 rfl rfl)
theorem dX6_goesAhead_81 : decode cX6_goesAhead 81 = .ok (.iload_n 1, 1) := dk_27 (dk_at dksX6_goesAhead_3 9 rfl rfl)
theorem dX6_goesAhead_82 : decode cX6_goesAhead 82 = .ok (.laload, 1) := dk_47 (dk_at dksX6_goesAhead_3 10 rfl rfl)
theorem dX6_goesAhead_83 : decode cX6_goesAhead 83 = .ok (.aload_n 0, 1) := dk_42 (dk_at dksX6_goesAhead_3 11 rfl rfl)
theorem dX6_goesAhead_84 : decode cX6_goesAhead 84 = .ok (.getfield 121, 3) := dk_180 0 121 (dk_at dksX6_goesAhead_3 12 rfl rfl)
theorem dX6_goesAhead_87 : decode cX6_goesAhead 87 = .ok (.iload_n 2, 1) := dk_28 (dk_at dksX6_goesAhead_3 15 rfl rfl)
theorem dX6_goesAhead_88 : decode cX6_goesAhead 88 = .ok (.laload, 1) := dk_47 (dk_at dksX6_goesAhead_3 16 rfl rfl)
theorem dX6_goesAhead_89 : decode cX6_goesAhead 89 = .ok (.lcmp, 1) := dk_148 (dk_at dksX6_goesAhead_3 17 rfl rfl)
theorem dX6_goesAhead_90 : decode cX6_goesAhead 90 = .ok (.ifCond .ge 7, 3) := dk_156 0 7 (dk_at dksX6_goesAhead_3 18 rfl rfl)
theorem dX6_goesAhead_93 : decode cX6_goesAhead 93 = .ok (.iconst 1, 1) := dk_4 (dk_at dksX6_goesAhead_3 21 rfl rfl)
theorem dX6_goesAhead_94 : decode cX6_goesAhead 94 = .ok (.goto 4, 3) := dk_167 0 4 (dk_at dksX6_goesAhead_4 0 rfl rfl)
theorem dX6_goesAhead_97 : decode cX6_goesAhead 97 = .ok (.iconst 0, 1) := dk_3 (dk_at dksX6_goesAhead_4 3 rfl rfl)
theorem dX6_goesAhead_98 : decode cX6_goesAhead 98 = .ok (.ireturn, 1) := dk_172 (dk_at dksX6_goesAhead_4 4 rfl rfl)
abbrev cX6_loads : ByteArray := prog_15_method_60_code
def yX6_loads : MethodName := ⟨RX6, "loads", "(I)V"⟩
def dkwX6_loads_1 : List UInt8 := [96, 46, 79, 132, 2, 1, 167, 255, 228, 177]
abbrev dktX6_loads_1 : List UInt8 := dkwX6_loads_1 ++ []
def dkwX6_loads_0 : List UInt8 := [3, 61, 28, 42, 180, 0, 170, 162, 0, 26, 42, 180, 0, 128, 28, 42, 180, 0, 103, 16, 16, 27, 104, 28]
abbrev dktX6_loads_0 : List UInt8 := dkwX6_loads_0 ++ dktX6_loads_1
theorem dksX6_loads_0 : cX6_loads.data.toList.drop 0 = dktX6_loads_0 := by decide +kernel
theorem dksX6_loads_1 : cX6_loads.data.toList.drop 24 = dktX6_loads_1 := dk_seg dksX6_loads_0 24 rfl rfl
theorem dX6_loads_0 : decode cX6_loads 0 = .ok (.iconst 0, 1) := dk_3 (dk_at dksX6_loads_0 0 rfl rfl)
theorem dX6_loads_1 : decode cX6_loads 1 = .ok (.istore_n 2, 1) := dk_61 (dk_at dksX6_loads_0 1 rfl rfl)
theorem dX6_loads_2 : decode cX6_loads 2 = .ok (.iload_n 2, 1) := dk_28 (dk_at dksX6_loads_0 2 rfl rfl)
theorem dX6_loads_3 : decode cX6_loads 3 = .ok (.aload_n 0, 1) := dk_42 (dk_at dksX6_loads_0 3 rfl rfl)
theorem dX6_loads_4 : decode cX6_loads 4 = .ok (.getfield 170, 3) := dk_180 0 170 (dk_at dksX6_loads_0 4 rfl rfl)
theorem dX6_loads_7 : decode cX6_loads 7 = .ok (.if_icmp .ge 26, 3) := dk_162 0 26 (dk_at dksX6_loads_0 7 rfl rfl)
theorem dX6_loads_10 : decode cX6_loads 10 = .ok (.aload_n 0, 1) := dk_42 (dk_at dksX6_loads_0 10 rfl rfl)
theorem dX6_loads_11 : decode cX6_loads 11 = .ok (.getfield 128, 3) := dk_180 0 128 (dk_at dksX6_loads_0 11 rfl rfl)
theorem dX6_loads_14 : decode cX6_loads 14 = .ok (.iload_n 2, 1) := dk_28 (dk_at dksX6_loads_0 14 rfl rfl)
theorem dX6_loads_15 : decode cX6_loads 15 = .ok (.aload_n 0, 1) := dk_42 (dk_at dksX6_loads_0 15 rfl rfl)
theorem dX6_loads_16 : decode cX6_loads 16 = .ok (.getfield 103, 3) := dk_180 0 103 (dk_at dksX6_loads_0 16 rfl rfl)
theorem dX6_loads_19 : decode cX6_loads 19 = .ok (.bipush 16, 2) := dk_16 16 (dk_at dksX6_loads_0 19 rfl rfl)
theorem dX6_loads_21 : decode cX6_loads 21 = .ok (.iload_n 1, 1) := dk_27 (dk_at dksX6_loads_0 21 rfl rfl)
theorem dX6_loads_22 : decode cX6_loads 22 = .ok (.imul, 1) := dk_104 (dk_at dksX6_loads_0 22 rfl rfl)
theorem dX6_loads_23 : decode cX6_loads 23 = .ok (.iload_n 2, 1) := dk_28 (dk_at dksX6_loads_0 23 rfl rfl)
theorem dX6_loads_24 : decode cX6_loads 24 = .ok (.iadd, 1) := dk_96 (dk_at dksX6_loads_1 0 rfl rfl)
theorem dX6_loads_25 : decode cX6_loads 25 = .ok (.iaload, 1) := dk_46 (dk_at dksX6_loads_1 1 rfl rfl)
theorem dX6_loads_26 : decode cX6_loads 26 = .ok (.iastore, 1) := dk_79 (dk_at dksX6_loads_1 2 rfl rfl)
theorem dX6_loads_27 : decode cX6_loads 27 = .ok (.iinc 2 1, 3) := dk_132 2 1 (dk_at dksX6_loads_1 3 rfl rfl)
theorem dX6_loads_30 : decode cX6_loads 30 = .ok (.goto (-28), 3) := dk_167 255 228 (dk_at dksX6_loads_1 6 rfl rfl)
theorem dX6_loads_33 : decode cX6_loads 33 = .ok (.return_, 1) := dk_177 (dk_at dksX6_loads_1 9 rfl rfl)
abbrev cX6_isGoal : ByteArray := prog_15_method_32_code
def yX6_isGoal : MethodName := ⟨RX6, "isGoal", "([I)Z"⟩
def dkwX6_isGoal_2 : List UInt8 := [167, 255, 212, 28, 172]
abbrev dktX6_isGoal_2 : List UInt8 := dkwX6_isGoal_2 ++ []
def dkwX6_isGoal_1 : List UInt8 := [154, 0, 15, 42, 180, 0, 36, 43, 29, 46, 46, 29, 160, 0, 7, 4, 167, 0, 4, 3, 61, 132, 3, 1]
abbrev dktX6_isGoal_1 : List UInt8 := dkwX6_isGoal_1 ++ dktX6_isGoal_2
def dkwX6_isGoal_0 : List UInt8 := [4, 61, 3, 62, 29, 42, 180, 0, 170, 162, 0, 42, 28, 153, 0, 30, 42, 180, 0, 42, 43, 29, 46, 51]
abbrev dktX6_isGoal_0 : List UInt8 := dkwX6_isGoal_0 ++ dktX6_isGoal_1
theorem dksX6_isGoal_0 : cX6_isGoal.data.toList.drop 0 = dktX6_isGoal_0 := by decide +kernel
theorem dksX6_isGoal_1 : cX6_isGoal.data.toList.drop 24 = dktX6_isGoal_1 := dk_seg dksX6_isGoal_0 24 rfl rfl
theorem dksX6_isGoal_2 : cX6_isGoal.data.toList.drop 48 = dktX6_isGoal_2 := dk_seg dksX6_isGoal_1 24 rfl rfl
theorem dX6_isGoal_0 : decode cX6_isGoal 0 = .ok (.iconst 1, 1) := dk_4 (dk_at dksX6_isGoal_0 0 rfl rfl)
theorem dX6_isGoal_1 : decode cX6_isGoal 1 = .ok (.istore_n 2, 1) := dk_61 (dk_at dksX6_isGoal_0 1 rfl rfl)
theorem dX6_isGoal_2 : decode cX6_isGoal 2 = .ok (.iconst 0, 1) := dk_3 (dk_at dksX6_isGoal_0 2 rfl rfl)
theorem dX6_isGoal_3 : decode cX6_isGoal 3 = .ok (.istore_n 3, 1) := dk_62 (dk_at dksX6_isGoal_0 3 rfl rfl)
theorem dX6_isGoal_4 : decode cX6_isGoal 4 = .ok (.iload_n 3, 1) := dk_29 (dk_at dksX6_isGoal_0 4 rfl rfl)
theorem dX6_isGoal_5 : decode cX6_isGoal 5 = .ok (.aload_n 0, 1) := dk_42 (dk_at dksX6_isGoal_0 5 rfl rfl)
theorem dX6_isGoal_6 : decode cX6_isGoal 6 = .ok (.getfield 170, 3) := dk_180 0 170 (dk_at dksX6_isGoal_0 6 rfl rfl)
theorem dX6_isGoal_9 : decode cX6_isGoal 9 = .ok (.if_icmp .ge 42, 3) := dk_162 0 42 (dk_at dksX6_isGoal_0 9 rfl rfl)
theorem dX6_isGoal_12 : decode cX6_isGoal 12 = .ok (.iload_n 2, 1) := dk_28 (dk_at dksX6_isGoal_0 12 rfl rfl)
theorem dX6_isGoal_13 : decode cX6_isGoal 13 = .ok (.ifCond .eq 30, 3) := dk_153 0 30 (dk_at dksX6_isGoal_0 13 rfl rfl)
theorem dX6_isGoal_16 : decode cX6_isGoal 16 = .ok (.aload_n 0, 1) := dk_42 (dk_at dksX6_isGoal_0 16 rfl rfl)
theorem dX6_isGoal_17 : decode cX6_isGoal 17 = .ok (.getfield 42, 3) := dk_180 0 42 (dk_at dksX6_isGoal_0 17 rfl rfl)
theorem dX6_isGoal_20 : decode cX6_isGoal 20 = .ok (.aload_n 1, 1) := dk_43 (dk_at dksX6_isGoal_0 20 rfl rfl)
theorem dX6_isGoal_21 : decode cX6_isGoal 21 = .ok (.iload_n 3, 1) := dk_29 (dk_at dksX6_isGoal_0 21 rfl rfl)
theorem dX6_isGoal_22 : decode cX6_isGoal 22 = .ok (.iaload, 1) := dk_46 (dk_at dksX6_isGoal_0 22 rfl rfl)
theorem dX6_isGoal_23 : decode cX6_isGoal 23 = .ok (.baload, 1) := dk_51 (dk_at dksX6_isGoal_0 23 rfl rfl)
theorem dX6_isGoal_24 : decode cX6_isGoal 24 = .ok (.ifCond .ne 15, 3) := dk_154 0 15 (dk_at dksX6_isGoal_1 0 rfl rfl)
theorem dX6_isGoal_27 : decode cX6_isGoal 27 = .ok (.aload_n 0, 1) := dk_42 (dk_at dksX6_isGoal_1 3 rfl rfl)
theorem dX6_isGoal_28 : decode cX6_isGoal 28 = .ok (.getfield 36, 3) := dk_180 0 36 (dk_at dksX6_isGoal_1 4 rfl rfl)
theorem dX6_isGoal_31 : decode cX6_isGoal 31 = .ok (.aload_n 1, 1) := dk_43 (dk_at dksX6_isGoal_1 7 rfl rfl)
theorem dX6_isGoal_32 : decode cX6_isGoal 32 = .ok (.iload_n 3, 1) := dk_29 (dk_at dksX6_isGoal_1 8 rfl rfl)
theorem dX6_isGoal_33 : decode cX6_isGoal 33 = .ok (.iaload, 1) := dk_46 (dk_at dksX6_isGoal_1 9 rfl rfl)
theorem dX6_isGoal_34 : decode cX6_isGoal 34 = .ok (.iaload, 1) := dk_46 (dk_at dksX6_isGoal_1 10 rfl rfl)
theorem dX6_isGoal_35 : decode cX6_isGoal 35 = .ok (.iload_n 3, 1) := dk_29 (dk_at dksX6_isGoal_1 11 rfl rfl)
theorem dX6_isGoal_36 : decode cX6_isGoal 36 = .ok (.if_icmp .ne 7, 3) := dk_160 0 7 (dk_at dksX6_isGoal_1 12 rfl rfl)
theorem dX6_isGoal_39 : decode cX6_isGoal 39 = .ok (.iconst 1, 1) := dk_4 (dk_at dksX6_isGoal_1 15 rfl rfl)
theorem dX6_isGoal_40 : decode cX6_isGoal 40 = .ok (.goto 4, 3) := dk_167 0 4 (dk_at dksX6_isGoal_1 16 rfl rfl)
theorem dX6_isGoal_43 : decode cX6_isGoal 43 = .ok (.iconst 0, 1) := dk_3 (dk_at dksX6_isGoal_1 19 rfl rfl)
theorem dX6_isGoal_44 : decode cX6_isGoal 44 = .ok (.istore_n 2, 1) := dk_61 (dk_at dksX6_isGoal_1 20 rfl rfl)
theorem dX6_isGoal_45 : decode cX6_isGoal 45 = .ok (.iinc 3 1, 3) := dk_132 3 1 (dk_at dksX6_isGoal_1 21 rfl rfl)
theorem dX6_isGoal_48 : decode cX6_isGoal 48 = .ok (.goto (-44), 3) := dk_167 255 212 (dk_at dksX6_isGoal_2 0 rfl rfl)
theorem dX6_isGoal_51 : decode cX6_isGoal 51 = .ok (.iload_n 2, 1) := dk_28 (dk_at dksX6_isGoal_2 3 rfl rfl)
theorem dX6_isGoal_52 : decode cX6_isGoal 52 = .ok (.ireturn, 1) := dk_172 (dk_at dksX6_isGoal_2 4 rfl rfl)
abbrev cX6_tracks : ByteArray := prog_15_method_62_code
def yX6_tracks : MethodName := ⟨RX6, "tracks", "(I)V"⟩
def dkwX6_tracks_3 : List UInt8 := [62, 167, 255, 224, 177]
abbrev dktX6_tracks_3 : List UInt8 := dkwX6_tracks_3 ++ []
def dkwX6_tracks_2 : List UInt8 := [159, 0, 28, 132, 2, 255, 42, 180, 0, 134, 28, 42, 180, 0, 115, 29, 46, 79, 42, 180, 0, 112, 29, 46]
abbrev dktX6_tracks_2 : List UInt8 := dkwX6_tracks_2 ++ dktX6_tracks_3
def dkwX6_tracks_1 : List UInt8 := [180, 0, 112, 28, 46, 61, 167, 255, 229, 42, 180, 1, 61, 61, 27, 62, 42, 180, 0, 112, 29, 46, 2]
abbrev dktX6_tracks_1 : List UInt8 := dkwX6_tracks_1 ++ dktX6_tracks_2
def dkwX6_tracks_0 : List UInt8 := [27, 61, 42, 180, 0, 112, 28, 46, 2, 159, 0, 23, 42, 89, 180, 1, 61, 4, 96, 181, 1, 61, 42]
abbrev dktX6_tracks_0 : List UInt8 := dkwX6_tracks_0 ++ dktX6_tracks_1
theorem dksX6_tracks_0 : cX6_tracks.data.toList.drop 0 = dktX6_tracks_0 := by decide +kernel
theorem dksX6_tracks_1 : cX6_tracks.data.toList.drop 23 = dktX6_tracks_1 := dk_seg dksX6_tracks_0 23 rfl rfl
theorem dksX6_tracks_2 : cX6_tracks.data.toList.drop 46 = dktX6_tracks_2 := dk_seg dksX6_tracks_1 23 rfl rfl
theorem dksX6_tracks_3 : cX6_tracks.data.toList.drop 70 = dktX6_tracks_3 := dk_seg dksX6_tracks_2 24 rfl rfl
theorem dX6_tracks_0 : decode cX6_tracks 0 = .ok (.iload_n 1, 1) := dk_27 (dk_at dksX6_tracks_0 0 rfl rfl)
theorem dX6_tracks_1 : decode cX6_tracks 1 = .ok (.istore_n 2, 1) := dk_61 (dk_at dksX6_tracks_0 1 rfl rfl)
theorem dX6_tracks_2 : decode cX6_tracks 2 = .ok (.aload_n 0, 1) := dk_42 (dk_at dksX6_tracks_0 2 rfl rfl)
theorem dX6_tracks_3 : decode cX6_tracks 3 = .ok (.getfield 112, 3) := dk_180 0 112 (dk_at dksX6_tracks_0 3 rfl rfl)
theorem dX6_tracks_6 : decode cX6_tracks 6 = .ok (.iload_n 2, 1) := dk_28 (dk_at dksX6_tracks_0 6 rfl rfl)
theorem dX6_tracks_7 : decode cX6_tracks 7 = .ok (.iaload, 1) := dk_46 (dk_at dksX6_tracks_0 7 rfl rfl)
theorem dX6_tracks_8 : decode cX6_tracks 8 = .ok (.iconst (-1), 1) := dk_2 (dk_at dksX6_tracks_0 8 rfl rfl)
theorem dX6_tracks_9 : decode cX6_tracks 9 = .ok (.if_icmp .eq 23, 3) := dk_159 0 23 (dk_at dksX6_tracks_0 9 rfl rfl)
theorem dX6_tracks_12 : decode cX6_tracks 12 = .ok (.aload_n 0, 1) := dk_42 (dk_at dksX6_tracks_0 12 rfl rfl)
theorem dX6_tracks_13 : decode cX6_tracks 13 = .ok (.dup, 1) := dk_89 (dk_at dksX6_tracks_0 13 rfl rfl)
theorem dX6_tracks_14 : decode cX6_tracks 14 = .ok (.getfield 317, 3) := dk_180 1 61 (dk_at dksX6_tracks_0 14 rfl rfl)
theorem dX6_tracks_17 : decode cX6_tracks 17 = .ok (.iconst 1, 1) := dk_4 (dk_at dksX6_tracks_0 17 rfl rfl)
theorem dX6_tracks_18 : decode cX6_tracks 18 = .ok (.iadd, 1) := dk_96 (dk_at dksX6_tracks_0 18 rfl rfl)
theorem dX6_tracks_19 : decode cX6_tracks 19 = .ok (.putfield 317, 3) := dk_181 1 61 (dk_at dksX6_tracks_0 19 rfl rfl)
theorem dX6_tracks_22 : decode cX6_tracks 22 = .ok (.aload_n 0, 1) := dk_42 (dk_at dksX6_tracks_0 22 rfl rfl)
theorem dX6_tracks_23 : decode cX6_tracks 23 = .ok (.getfield 112, 3) := dk_180 0 112 (dk_at dksX6_tracks_1 0 rfl rfl)
theorem dX6_tracks_26 : decode cX6_tracks 26 = .ok (.iload_n 2, 1) := dk_28 (dk_at dksX6_tracks_1 3 rfl rfl)
theorem dX6_tracks_27 : decode cX6_tracks 27 = .ok (.iaload, 1) := dk_46 (dk_at dksX6_tracks_1 4 rfl rfl)
theorem dX6_tracks_28 : decode cX6_tracks 28 = .ok (.istore_n 2, 1) := dk_61 (dk_at dksX6_tracks_1 5 rfl rfl)
theorem dX6_tracks_29 : decode cX6_tracks 29 = .ok (.goto (-27), 3) := dk_167 255 229 (dk_at dksX6_tracks_1 6 rfl rfl)
theorem dX6_tracks_32 : decode cX6_tracks 32 = .ok (.aload_n 0, 1) := dk_42 (dk_at dksX6_tracks_1 9 rfl rfl)
theorem dX6_tracks_33 : decode cX6_tracks 33 = .ok (.getfield 317, 3) := dk_180 1 61 (dk_at dksX6_tracks_1 10 rfl rfl)
theorem dX6_tracks_36 : decode cX6_tracks 36 = .ok (.istore_n 2, 1) := dk_61 (dk_at dksX6_tracks_1 13 rfl rfl)
theorem dX6_tracks_37 : decode cX6_tracks 37 = .ok (.iload_n 1, 1) := dk_27 (dk_at dksX6_tracks_1 14 rfl rfl)
theorem dX6_tracks_38 : decode cX6_tracks 38 = .ok (.istore_n 3, 1) := dk_62 (dk_at dksX6_tracks_1 15 rfl rfl)
theorem dX6_tracks_39 : decode cX6_tracks 39 = .ok (.aload_n 0, 1) := dk_42 (dk_at dksX6_tracks_1 16 rfl rfl)
theorem dX6_tracks_40 : decode cX6_tracks 40 = .ok (.getfield 112, 3) := dk_180 0 112 (dk_at dksX6_tracks_1 17 rfl rfl)
theorem dX6_tracks_43 : decode cX6_tracks 43 = .ok (.iload_n 3, 1) := dk_29 (dk_at dksX6_tracks_1 20 rfl rfl)
theorem dX6_tracks_44 : decode cX6_tracks 44 = .ok (.iaload, 1) := dk_46 (dk_at dksX6_tracks_1 21 rfl rfl)
theorem dX6_tracks_45 : decode cX6_tracks 45 = .ok (.iconst (-1), 1) := dk_2 (dk_at dksX6_tracks_1 22 rfl rfl)
theorem dX6_tracks_46 : decode cX6_tracks 46 = .ok (.if_icmp .eq 28, 3) := dk_159 0 28 (dk_at dksX6_tracks_2 0 rfl rfl)
theorem dX6_tracks_49 : decode cX6_tracks 49 = .ok (.iinc 2 (-1), 3) := dk_132 2 255 (dk_at dksX6_tracks_2 3 rfl rfl)
theorem dX6_tracks_52 : decode cX6_tracks 52 = .ok (.aload_n 0, 1) := dk_42 (dk_at dksX6_tracks_2 6 rfl rfl)
theorem dX6_tracks_53 : decode cX6_tracks 53 = .ok (.getfield 134, 3) := dk_180 0 134 (dk_at dksX6_tracks_2 7 rfl rfl)
theorem dX6_tracks_56 : decode cX6_tracks 56 = .ok (.iload_n 2, 1) := dk_28 (dk_at dksX6_tracks_2 10 rfl rfl)
theorem dX6_tracks_57 : decode cX6_tracks 57 = .ok (.aload_n 0, 1) := dk_42 (dk_at dksX6_tracks_2 11 rfl rfl)
theorem dX6_tracks_58 : decode cX6_tracks 58 = .ok (.getfield 115, 3) := dk_180 0 115 (dk_at dksX6_tracks_2 12 rfl rfl)
theorem dX6_tracks_61 : decode cX6_tracks 61 = .ok (.iload_n 3, 1) := dk_29 (dk_at dksX6_tracks_2 15 rfl rfl)
theorem dX6_tracks_62 : decode cX6_tracks 62 = .ok (.iaload, 1) := dk_46 (dk_at dksX6_tracks_2 16 rfl rfl)
theorem dX6_tracks_63 : decode cX6_tracks 63 = .ok (.iastore, 1) := dk_79 (dk_at dksX6_tracks_2 17 rfl rfl)
theorem dX6_tracks_64 : decode cX6_tracks 64 = .ok (.aload_n 0, 1) := dk_42 (dk_at dksX6_tracks_2 18 rfl rfl)
theorem dX6_tracks_65 : decode cX6_tracks 65 = .ok (.getfield 112, 3) := dk_180 0 112 (dk_at dksX6_tracks_2 19 rfl rfl)
theorem dX6_tracks_68 : decode cX6_tracks 68 = .ok (.iload_n 3, 1) := dk_29 (dk_at dksX6_tracks_2 22 rfl rfl)
theorem dX6_tracks_69 : decode cX6_tracks 69 = .ok (.iaload, 1) := dk_46 (dk_at dksX6_tracks_2 23 rfl rfl)
theorem dX6_tracks_70 : decode cX6_tracks 70 = .ok (.istore_n 3, 1) := dk_62 (dk_at dksX6_tracks_3 0 rfl rfl)
theorem dX6_tracks_71 : decode cX6_tracks 71 = .ok (.goto (-32), 3) := dk_167 255 224 (dk_at dksX6_tracks_3 1 rfl rfl)
theorem dX6_tracks_74 : decode cX6_tracks 74 = .ok (.return_, 1) := dk_177 (dk_at dksX6_tracks_3 4 rfl rfl)
abbrev cX6_tells : ByteArray := prog_15_method_63_code
def yX6_tells : MethodName := ⟨RX6, "tells", "()V"⟩
def dkwX6_tells_2 : List UInt8 := [180, 0, 134, 27, 46, 79, 132, 1, 1, 167, 255, 233, 177]
abbrev dktX6_tells_2 : List UInt8 := dkwX6_tells_2 ++ []
def dkwX6_tells_1 : List UInt8 := [42, 42, 180, 1, 67, 181, 0, 190, 3, 60, 27, 42, 180, 0, 196, 162, 0, 21, 42, 180, 0, 131, 27, 42]
abbrev dktX6_tells_1 : List UInt8 := dkwX6_tells_1 ++ dktX6_tells_2
def dkwX6_tells_0 : List UInt8 := [42, 42, 180, 1, 61, 181, 0, 196, 42, 42, 180, 1, 61, 181, 0, 193, 42, 42, 180, 1, 64, 181, 0, 187]
abbrev dktX6_tells_0 : List UInt8 := dkwX6_tells_0 ++ dktX6_tells_1
theorem dksX6_tells_0 : cX6_tells.data.toList.drop 0 = dktX6_tells_0 := by decide +kernel
theorem dksX6_tells_1 : cX6_tells.data.toList.drop 24 = dktX6_tells_1 := dk_seg dksX6_tells_0 24 rfl rfl
theorem dksX6_tells_2 : cX6_tells.data.toList.drop 48 = dktX6_tells_2 := dk_seg dksX6_tells_1 24 rfl rfl
theorem dX6_tells_0 : decode cX6_tells 0 = .ok (.aload_n 0, 1) := dk_42 (dk_at dksX6_tells_0 0 rfl rfl)
theorem dX6_tells_1 : decode cX6_tells 1 = .ok (.aload_n 0, 1) := dk_42 (dk_at dksX6_tells_0 1 rfl rfl)
theorem dX6_tells_2 : decode cX6_tells 2 = .ok (.getfield 317, 3) := dk_180 1 61 (dk_at dksX6_tells_0 2 rfl rfl)
theorem dX6_tells_5 : decode cX6_tells 5 = .ok (.putfield 196, 3) := dk_181 0 196 (dk_at dksX6_tells_0 5 rfl rfl)
theorem dX6_tells_8 : decode cX6_tells 8 = .ok (.aload_n 0, 1) := dk_42 (dk_at dksX6_tells_0 8 rfl rfl)
theorem dX6_tells_9 : decode cX6_tells 9 = .ok (.aload_n 0, 1) := dk_42 (dk_at dksX6_tells_0 9 rfl rfl)
theorem dX6_tells_10 : decode cX6_tells 10 = .ok (.getfield 317, 3) := dk_180 1 61 (dk_at dksX6_tells_0 10 rfl rfl)
theorem dX6_tells_13 : decode cX6_tells 13 = .ok (.putfield 193, 3) := dk_181 0 193 (dk_at dksX6_tells_0 13 rfl rfl)
theorem dX6_tells_16 : decode cX6_tells 16 = .ok (.aload_n 0, 1) := dk_42 (dk_at dksX6_tells_0 16 rfl rfl)
theorem dX6_tells_17 : decode cX6_tells 17 = .ok (.aload_n 0, 1) := dk_42 (dk_at dksX6_tells_0 17 rfl rfl)
theorem dX6_tells_18 : decode cX6_tells 18 = .ok (.getfield 320, 3) := dk_180 1 64 (dk_at dksX6_tells_0 18 rfl rfl)
theorem dX6_tells_21 : decode cX6_tells 21 = .ok (.putfield 187, 3) := dk_181 0 187 (dk_at dksX6_tells_0 21 rfl rfl)
theorem dX6_tells_24 : decode cX6_tells 24 = .ok (.aload_n 0, 1) := dk_42 (dk_at dksX6_tells_1 0 rfl rfl)
theorem dX6_tells_25 : decode cX6_tells 25 = .ok (.aload_n 0, 1) := dk_42 (dk_at dksX6_tells_1 1 rfl rfl)
theorem dX6_tells_26 : decode cX6_tells 26 = .ok (.getfield 323, 3) := dk_180 1 67 (dk_at dksX6_tells_1 2 rfl rfl)
theorem dX6_tells_29 : decode cX6_tells 29 = .ok (.putfield 190, 3) := dk_181 0 190 (dk_at dksX6_tells_1 5 rfl rfl)
theorem dX6_tells_32 : decode cX6_tells 32 = .ok (.iconst 0, 1) := dk_3 (dk_at dksX6_tells_1 8 rfl rfl)
theorem dX6_tells_33 : decode cX6_tells 33 = .ok (.istore_n 1, 1) := dk_60 (dk_at dksX6_tells_1 9 rfl rfl)
theorem dX6_tells_34 : decode cX6_tells 34 = .ok (.iload_n 1, 1) := dk_27 (dk_at dksX6_tells_1 10 rfl rfl)
theorem dX6_tells_35 : decode cX6_tells 35 = .ok (.aload_n 0, 1) := dk_42 (dk_at dksX6_tells_1 11 rfl rfl)
theorem dX6_tells_36 : decode cX6_tells 36 = .ok (.getfield 196, 3) := dk_180 0 196 (dk_at dksX6_tells_1 12 rfl rfl)
theorem dX6_tells_39 : decode cX6_tells 39 = .ok (.if_icmp .ge 21, 3) := dk_162 0 21 (dk_at dksX6_tells_1 15 rfl rfl)
theorem dX6_tells_42 : decode cX6_tells 42 = .ok (.aload_n 0, 1) := dk_42 (dk_at dksX6_tells_1 18 rfl rfl)
theorem dX6_tells_43 : decode cX6_tells 43 = .ok (.getfield 131, 3) := dk_180 0 131 (dk_at dksX6_tells_1 19 rfl rfl)
theorem dX6_tells_46 : decode cX6_tells 46 = .ok (.iload_n 1, 1) := dk_27 (dk_at dksX6_tells_1 22 rfl rfl)
theorem dX6_tells_47 : decode cX6_tells 47 = .ok (.aload_n 0, 1) := dk_42 (dk_at dksX6_tells_1 23 rfl rfl)
theorem dX6_tells_48 : decode cX6_tells 48 = .ok (.getfield 134, 3) := dk_180 0 134 (dk_at dksX6_tells_2 0 rfl rfl)
theorem dX6_tells_51 : decode cX6_tells 51 = .ok (.iload_n 1, 1) := dk_27 (dk_at dksX6_tells_2 3 rfl rfl)
theorem dX6_tells_52 : decode cX6_tells 52 = .ok (.iaload, 1) := dk_46 (dk_at dksX6_tells_2 4 rfl rfl)
theorem dX6_tells_53 : decode cX6_tells 53 = .ok (.iastore, 1) := dk_79 (dk_at dksX6_tells_2 5 rfl rfl)
theorem dX6_tells_54 : decode cX6_tells 54 = .ok (.iinc 1 1, 3) := dk_132 1 1 (dk_at dksX6_tells_2 6 rfl rfl)
theorem dX6_tells_57 : decode cX6_tells 57 = .ok (.goto (-23), 3) := dk_167 255 233 (dk_at dksX6_tells_2 9 rfl rfl)
theorem dX6_tells_60 : decode cX6_tells 60 = .ok (.return_, 1) := dk_177 (dk_at dksX6_tells_2 12 rfl rfl)
abbrev cX6_deepen : ByteArray := prog_15_method_69_code
def yX6_deepen : MethodName := ⟨RX6, "deepen", "(I)I"⟩
def dkwX6_deepen_1 : List UInt8 := [61, 28, 16, 254, 160, 0, 9, 42, 5, 182, 0, 204, 172, 42, 182, 1, 93, 42, 28, 182, 0, 215, 172]
abbrev dktX6_deepen_1 : List UInt8 := dkwX6_deepen_1 ++ []
def dkwX6_deepen_0 : List UInt8 := [27, 3, 7, 184, 0, 200, 154, 0, 9, 42, 4, 182, 0, 204, 172, 42, 182, 1, 87, 42, 27, 182, 1, 115]
abbrev dktX6_deepen_0 : List UInt8 := dkwX6_deepen_0 ++ dktX6_deepen_1
theorem dksX6_deepen_0 : cX6_deepen.data.toList.drop 0 = dktX6_deepen_0 := by decide +kernel
theorem dksX6_deepen_1 : cX6_deepen.data.toList.drop 24 = dktX6_deepen_1 := dk_seg dksX6_deepen_0 24 rfl rfl
theorem dX6_deepen_0 : decode cX6_deepen 0 = .ok (.iload_n 1, 1) := dk_27 (dk_at dksX6_deepen_0 0 rfl rfl)
theorem dX6_deepen_1 : decode cX6_deepen 1 = .ok (.iconst 0, 1) := dk_3 (dk_at dksX6_deepen_0 1 rfl rfl)
theorem dX6_deepen_2 : decode cX6_deepen 2 = .ok (.iconst 4, 1) := dk_7 (dk_at dksX6_deepen_0 2 rfl rfl)
theorem dX6_deepen_3 : decode cX6_deepen 3 = .ok (.invokestatic 200, 3) := dk_184 0 200 (dk_at dksX6_deepen_0 3 rfl rfl)
theorem dX6_deepen_6 : decode cX6_deepen 6 = .ok (.ifCond .ne 9, 3) := dk_154 0 9 (dk_at dksX6_deepen_0 6 rfl rfl)
theorem dX6_deepen_9 : decode cX6_deepen 9 = .ok (.aload_n 0, 1) := dk_42 (dk_at dksX6_deepen_0 9 rfl rfl)
theorem dX6_deepen_10 : decode cX6_deepen 10 = .ok (.iconst 1, 1) := dk_4 (dk_at dksX6_deepen_0 10 rfl rfl)
theorem dX6_deepen_11 : decode cX6_deepen 11 = .ok (.invokevirtual 204, 3) := dk_182 0 204 (dk_at dksX6_deepen_0 11 rfl rfl)
theorem dX6_deepen_14 : decode cX6_deepen 14 = .ok (.ireturn, 1) := dk_172 (dk_at dksX6_deepen_0 14 rfl rfl)
theorem dX6_deepen_15 : decode cX6_deepen 15 = .ok (.aload_n 0, 1) := dk_42 (dk_at dksX6_deepen_0 15 rfl rfl)
theorem dX6_deepen_16 : decode cX6_deepen 16 = .ok (.invokevirtual 343, 3) := dk_182 1 87 (dk_at dksX6_deepen_0 16 rfl rfl)
theorem dX6_deepen_19 : decode cX6_deepen 19 = .ok (.aload_n 0, 1) := dk_42 (dk_at dksX6_deepen_0 19 rfl rfl)
theorem dX6_deepen_20 : decode cX6_deepen 20 = .ok (.iload_n 1, 1) := dk_27 (dk_at dksX6_deepen_0 20 rfl rfl)
theorem dX6_deepen_21 : decode cX6_deepen 21 = .ok (.invokevirtual 371, 3) := dk_182 1 115 (dk_at dksX6_deepen_0 21 rfl rfl)
theorem dX6_deepen_24 : decode cX6_deepen 24 = .ok (.istore_n 2, 1) := dk_61 (dk_at dksX6_deepen_1 0 rfl rfl)
theorem dX6_deepen_25 : decode cX6_deepen 25 = .ok (.iload_n 2, 1) := dk_28 (dk_at dksX6_deepen_1 1 rfl rfl)
theorem dX6_deepen_26 : decode cX6_deepen 26 = .ok (.bipush (-2), 2) := dk_16 254 (dk_at dksX6_deepen_1 2 rfl rfl)
theorem dX6_deepen_28 : decode cX6_deepen 28 = .ok (.if_icmp .ne 9, 3) := dk_160 0 9 (dk_at dksX6_deepen_1 4 rfl rfl)
theorem dX6_deepen_31 : decode cX6_deepen 31 = .ok (.aload_n 0, 1) := dk_42 (dk_at dksX6_deepen_1 7 rfl rfl)
theorem dX6_deepen_32 : decode cX6_deepen 32 = .ok (.iconst 2, 1) := dk_5 (dk_at dksX6_deepen_1 8 rfl rfl)
theorem dX6_deepen_33 : decode cX6_deepen 33 = .ok (.invokevirtual 204, 3) := dk_182 0 204 (dk_at dksX6_deepen_1 9 rfl rfl)
theorem dX6_deepen_36 : decode cX6_deepen 36 = .ok (.ireturn, 1) := dk_172 (dk_at dksX6_deepen_1 12 rfl rfl)
theorem dX6_deepen_37 : decode cX6_deepen 37 = .ok (.aload_n 0, 1) := dk_42 (dk_at dksX6_deepen_1 13 rfl rfl)
theorem dX6_deepen_38 : decode cX6_deepen 38 = .ok (.invokevirtual 349, 3) := dk_182 1 93 (dk_at dksX6_deepen_1 14 rfl rfl)
theorem dX6_deepen_41 : decode cX6_deepen 41 = .ok (.aload_n 0, 1) := dk_42 (dk_at dksX6_deepen_1 17 rfl rfl)
theorem dX6_deepen_42 : decode cX6_deepen 42 = .ok (.iload_n 2, 1) := dk_28 (dk_at dksX6_deepen_1 18 rfl rfl)
theorem dX6_deepen_43 : decode cX6_deepen 43 = .ok (.invokevirtual 215, 3) := dk_182 0 215 (dk_at dksX6_deepen_1 19 rfl rfl)
theorem dX6_deepen_46 : decode cX6_deepen 46 = .ok (.ireturn, 1) := dk_172 (dk_at dksX6_deepen_1 22 rfl rfl)
abbrev cX6_searchesDeeper : ByteArray := prog_15_method_68_code
def yX6_searchesDeeper : MethodName := ⟨RX6, "searchesDeeper", "(I)I"⟩
def dkwX6_searchesDeeper_4 : List UInt8 := [167, 0, 4, 3, 62, 42, 42, 180, 1, 106, 181, 1, 103, 167, 255, 193, 28, 172]
abbrev dktX6_searchesDeeper_4 : List UInt8 := dkwX6_searchesDeeper_4 ++ []
def dkwX6_searchesDeeper_3 : List UInt8 := [180, 1, 96, 153, 0, 6, 16, 254, 172, 28, 2, 160, 0, 16, 42, 180, 1, 106, 18, 199, 162, 0, 7, 4]
abbrev dktX6_searchesDeeper_3 : List UInt8 := dkwX6_searchesDeeper_3 ++ dktX6_searchesDeeper_4
def dkwX6_searchesDeeper_2 : List UInt8 := [42, 18, 199, 181, 1, 106, 42, 89, 180, 1, 67, 4, 96, 181, 1, 67, 42, 182, 1, 112, 61, 42]
abbrev dktX6_searchesDeeper_2 : List UInt8 := dkwX6_searchesDeeper_2 ++ dktX6_searchesDeeper_3
def dkwX6_searchesDeeper_1 : List UInt8 := [181, 1, 96, 42, 42, 42, 180, 0, 128, 27, 182, 1, 46, 181, 1, 103, 2, 61, 4, 62, 29, 153, 0, 65]
abbrev dktX6_searchesDeeper_1 : List UInt8 := dkwX6_searchesDeeper_1 ++ dktX6_searchesDeeper_2
def dkwX6_searchesDeeper_0 : List UInt8 := [42, 3, 181, 1, 61, 42, 3, 181, 1, 64, 42, 3, 181, 1, 67, 42, 27, 181, 1, 100, 42, 3]
abbrev dktX6_searchesDeeper_0 : List UInt8 := dkwX6_searchesDeeper_0 ++ dktX6_searchesDeeper_1
theorem dksX6_searchesDeeper_0 : cX6_searchesDeeper.data.toList.drop 0 = dktX6_searchesDeeper_0 := by decide +kernel
theorem dksX6_searchesDeeper_1 : cX6_searchesDeeper.data.toList.drop 22 = dktX6_searchesDeeper_1 := dk_seg dksX6_searchesDeeper_0 22 rfl rfl
theorem dksX6_searchesDeeper_2 : cX6_searchesDeeper.data.toList.drop 46 = dktX6_searchesDeeper_2 := dk_seg dksX6_searchesDeeper_1 24 rfl rfl
theorem dksX6_searchesDeeper_3 : cX6_searchesDeeper.data.toList.drop 68 = dktX6_searchesDeeper_3 := dk_seg dksX6_searchesDeeper_2 22 rfl rfl
theorem dksX6_searchesDeeper_4 : cX6_searchesDeeper.data.toList.drop 92 = dktX6_searchesDeeper_4 := dk_seg dksX6_searchesDeeper_3 24 rfl rfl
theorem dX6_searchesDeeper_0 : decode cX6_searchesDeeper 0 = .ok (.aload_n 0, 1) := dk_42 (dk_at dksX6_searchesDeeper_0 0 rfl rfl)
theorem dX6_searchesDeeper_1 : decode cX6_searchesDeeper 1 = .ok (.iconst 0, 1) := dk_3 (dk_at dksX6_searchesDeeper_0 1 rfl rfl)
theorem dX6_searchesDeeper_2 : decode cX6_searchesDeeper 2 = .ok (.putfield 317, 3) := dk_181 1 61 (dk_at dksX6_searchesDeeper_0 2 rfl rfl)
theorem dX6_searchesDeeper_5 : decode cX6_searchesDeeper 5 = .ok (.aload_n 0, 1) := dk_42 (dk_at dksX6_searchesDeeper_0 5 rfl rfl)
theorem dX6_searchesDeeper_6 : decode cX6_searchesDeeper 6 = .ok (.iconst 0, 1) := dk_3 (dk_at dksX6_searchesDeeper_0 6 rfl rfl)
theorem dX6_searchesDeeper_7 : decode cX6_searchesDeeper 7 = .ok (.putfield 320, 3) := dk_181 1 64 (dk_at dksX6_searchesDeeper_0 7 rfl rfl)
theorem dX6_searchesDeeper_10 : decode cX6_searchesDeeper 10 = .ok (.aload_n 0, 1) := dk_42 (dk_at dksX6_searchesDeeper_0 10 rfl rfl)
theorem dX6_searchesDeeper_11 : decode cX6_searchesDeeper 11 = .ok (.iconst 0, 1) := dk_3 (dk_at dksX6_searchesDeeper_0 11 rfl rfl)
theorem dX6_searchesDeeper_12 : decode cX6_searchesDeeper 12 = .ok (.putfield 323, 3) := dk_181 1 67 (dk_at dksX6_searchesDeeper_0 12 rfl rfl)
theorem dX6_searchesDeeper_15 : decode cX6_searchesDeeper 15 = .ok (.aload_n 0, 1) := dk_42 (dk_at dksX6_searchesDeeper_0 15 rfl rfl)
theorem dX6_searchesDeeper_16 : decode cX6_searchesDeeper 16 = .ok (.iload_n 1, 1) := dk_27 (dk_at dksX6_searchesDeeper_0 16 rfl rfl)
theorem dX6_searchesDeeper_17 : decode cX6_searchesDeeper 17 = .ok (.putfield 356, 3) := dk_181 1 100 (dk_at dksX6_searchesDeeper_0 17 rfl rfl)
theorem dX6_searchesDeeper_20 : decode cX6_searchesDeeper 20 = .ok (.aload_n 0, 1) := dk_42 (dk_at dksX6_searchesDeeper_0 20 rfl rfl)
theorem dX6_searchesDeeper_21 : decode cX6_searchesDeeper 21 = .ok (.iconst 0, 1) := dk_3 (dk_at dksX6_searchesDeeper_0 21 rfl rfl)
theorem dX6_searchesDeeper_22 : decode cX6_searchesDeeper 22 = .ok (.putfield 352, 3) := dk_181 1 96 (dk_at dksX6_searchesDeeper_1 0 rfl rfl)
theorem dX6_searchesDeeper_25 : decode cX6_searchesDeeper 25 = .ok (.aload_n 0, 1) := dk_42 (dk_at dksX6_searchesDeeper_1 3 rfl rfl)
theorem dX6_searchesDeeper_26 : decode cX6_searchesDeeper 26 = .ok (.aload_n 0, 1) := dk_42 (dk_at dksX6_searchesDeeper_1 4 rfl rfl)
theorem dX6_searchesDeeper_27 : decode cX6_searchesDeeper 27 = .ok (.aload_n 0, 1) := dk_42 (dk_at dksX6_searchesDeeper_1 5 rfl rfl)
theorem dX6_searchesDeeper_28 : decode cX6_searchesDeeper 28 = .ok (.getfield 128, 3) := dk_180 0 128 (dk_at dksX6_searchesDeeper_1 6 rfl rfl)
theorem dX6_searchesDeeper_31 : decode cX6_searchesDeeper 31 = .ok (.iload_n 1, 1) := dk_27 (dk_at dksX6_searchesDeeper_1 9 rfl rfl)
theorem dX6_searchesDeeper_32 : decode cX6_searchesDeeper 32 = .ok (.invokevirtual 302, 3) := dk_182 1 46 (dk_at dksX6_searchesDeeper_1 10 rfl rfl)
theorem dX6_searchesDeeper_35 : decode cX6_searchesDeeper 35 = .ok (.putfield 359, 3) := dk_181 1 103 (dk_at dksX6_searchesDeeper_1 13 rfl rfl)
theorem dX6_searchesDeeper_38 : decode cX6_searchesDeeper 38 = .ok (.iconst (-1), 1) := dk_2 (dk_at dksX6_searchesDeeper_1 16 rfl rfl)
theorem dX6_searchesDeeper_39 : decode cX6_searchesDeeper 39 = .ok (.istore_n 2, 1) := dk_61 (dk_at dksX6_searchesDeeper_1 17 rfl rfl)
theorem dX6_searchesDeeper_40 : decode cX6_searchesDeeper 40 = .ok (.iconst 1, 1) := dk_4 (dk_at dksX6_searchesDeeper_1 18 rfl rfl)
theorem dX6_searchesDeeper_41 : decode cX6_searchesDeeper 41 = .ok (.istore_n 3, 1) := dk_62 (dk_at dksX6_searchesDeeper_1 19 rfl rfl)
theorem dX6_searchesDeeper_42 : decode cX6_searchesDeeper 42 = .ok (.iload_n 3, 1) := dk_29 (dk_at dksX6_searchesDeeper_1 20 rfl rfl)
theorem dX6_searchesDeeper_43 : decode cX6_searchesDeeper 43 = .ok (.ifCond .eq 65, 3) := dk_153 0 65 (dk_at dksX6_searchesDeeper_1 21 rfl rfl)
theorem dX6_searchesDeeper_46 : decode cX6_searchesDeeper 46 = .ok (.aload_n 0, 1) := dk_42 (dk_at dksX6_searchesDeeper_2 0 rfl rfl)
theorem dX6_searchesDeeper_47 : decode cX6_searchesDeeper 47 = .ok (.ldc 199, 2) := dk_18 199 (dk_at dksX6_searchesDeeper_2 1 rfl rfl)
theorem dX6_searchesDeeper_49 : decode cX6_searchesDeeper 49 = .ok (.putfield 362, 3) := dk_181 1 106 (dk_at dksX6_searchesDeeper_2 3 rfl rfl)
theorem dX6_searchesDeeper_52 : decode cX6_searchesDeeper 52 = .ok (.aload_n 0, 1) := dk_42 (dk_at dksX6_searchesDeeper_2 6 rfl rfl)
theorem dX6_searchesDeeper_53 : decode cX6_searchesDeeper 53 = .ok (.dup, 1) := dk_89 (dk_at dksX6_searchesDeeper_2 7 rfl rfl)
theorem dX6_searchesDeeper_54 : decode cX6_searchesDeeper 54 = .ok (.getfield 323, 3) := dk_180 1 67 (dk_at dksX6_searchesDeeper_2 8 rfl rfl)
theorem dX6_searchesDeeper_57 : decode cX6_searchesDeeper 57 = .ok (.iconst 1, 1) := dk_4 (dk_at dksX6_searchesDeeper_2 11 rfl rfl)
theorem dX6_searchesDeeper_58 : decode cX6_searchesDeeper 58 = .ok (.iadd, 1) := dk_96 (dk_at dksX6_searchesDeeper_2 12 rfl rfl)
theorem dX6_searchesDeeper_59 : decode cX6_searchesDeeper 59 = .ok (.putfield 323, 3) := dk_181 1 67 (dk_at dksX6_searchesDeeper_2 13 rfl rfl)
theorem dX6_searchesDeeper_62 : decode cX6_searchesDeeper 62 = .ok (.aload_n 0, 1) := dk_42 (dk_at dksX6_searchesDeeper_2 16 rfl rfl)
theorem dX6_searchesDeeper_63 : decode cX6_searchesDeeper 63 = .ok (.invokevirtual 368, 3) := dk_182 1 112 (dk_at dksX6_searchesDeeper_2 17 rfl rfl)
theorem dX6_searchesDeeper_66 : decode cX6_searchesDeeper 66 = .ok (.istore_n 2, 1) := dk_61 (dk_at dksX6_searchesDeeper_2 20 rfl rfl)
theorem dX6_searchesDeeper_67 : decode cX6_searchesDeeper 67 = .ok (.aload_n 0, 1) := dk_42 (dk_at dksX6_searchesDeeper_2 21 rfl rfl)
theorem dX6_searchesDeeper_68 : decode cX6_searchesDeeper 68 = .ok (.getfield 352, 3) := dk_180 1 96 (dk_at dksX6_searchesDeeper_3 0 rfl rfl)
theorem dX6_searchesDeeper_71 : decode cX6_searchesDeeper 71 = .ok (.ifCond .eq 6, 3) := dk_153 0 6 (dk_at dksX6_searchesDeeper_3 3 rfl rfl)
theorem dX6_searchesDeeper_74 : decode cX6_searchesDeeper 74 = .ok (.bipush (-2), 2) := dk_16 254 (dk_at dksX6_searchesDeeper_3 6 rfl rfl)
theorem dX6_searchesDeeper_76 : decode cX6_searchesDeeper 76 = .ok (.ireturn, 1) := dk_172 (dk_at dksX6_searchesDeeper_3 8 rfl rfl)
theorem dX6_searchesDeeper_77 : decode cX6_searchesDeeper 77 = .ok (.iload_n 2, 1) := dk_28 (dk_at dksX6_searchesDeeper_3 9 rfl rfl)
theorem dX6_searchesDeeper_78 : decode cX6_searchesDeeper 78 = .ok (.iconst (-1), 1) := dk_2 (dk_at dksX6_searchesDeeper_3 10 rfl rfl)
theorem dX6_searchesDeeper_79 : decode cX6_searchesDeeper 79 = .ok (.if_icmp .ne 16, 3) := dk_160 0 16 (dk_at dksX6_searchesDeeper_3 11 rfl rfl)
theorem dX6_searchesDeeper_82 : decode cX6_searchesDeeper 82 = .ok (.aload_n 0, 1) := dk_42 (dk_at dksX6_searchesDeeper_3 14 rfl rfl)
theorem dX6_searchesDeeper_83 : decode cX6_searchesDeeper 83 = .ok (.getfield 362, 3) := dk_180 1 106 (dk_at dksX6_searchesDeeper_3 15 rfl rfl)
theorem dX6_searchesDeeper_86 : decode cX6_searchesDeeper 86 = .ok (.ldc 199, 2) := dk_18 199 (dk_at dksX6_searchesDeeper_3 18 rfl rfl)
theorem dX6_searchesDeeper_88 : decode cX6_searchesDeeper 88 = .ok (.if_icmp .ge 7, 3) := dk_162 0 7 (dk_at dksX6_searchesDeeper_3 20 rfl rfl)
theorem dX6_searchesDeeper_91 : decode cX6_searchesDeeper 91 = .ok (.iconst 1, 1) := dk_4 (dk_at dksX6_searchesDeeper_3 23 rfl rfl)
theorem dX6_searchesDeeper_92 : decode cX6_searchesDeeper 92 = .ok (.goto 4, 3) := dk_167 0 4 (dk_at dksX6_searchesDeeper_4 0 rfl rfl)
theorem dX6_searchesDeeper_95 : decode cX6_searchesDeeper 95 = .ok (.iconst 0, 1) := dk_3 (dk_at dksX6_searchesDeeper_4 3 rfl rfl)
theorem dX6_searchesDeeper_96 : decode cX6_searchesDeeper 96 = .ok (.istore_n 3, 1) := dk_62 (dk_at dksX6_searchesDeeper_4 4 rfl rfl)
theorem dX6_searchesDeeper_97 : decode cX6_searchesDeeper 97 = .ok (.aload_n 0, 1) := dk_42 (dk_at dksX6_searchesDeeper_4 5 rfl rfl)
theorem dX6_searchesDeeper_98 : decode cX6_searchesDeeper 98 = .ok (.aload_n 0, 1) := dk_42 (dk_at dksX6_searchesDeeper_4 6 rfl rfl)
theorem dX6_searchesDeeper_99 : decode cX6_searchesDeeper 99 = .ok (.getfield 362, 3) := dk_180 1 106 (dk_at dksX6_searchesDeeper_4 7 rfl rfl)
theorem dX6_searchesDeeper_102 : decode cX6_searchesDeeper 102 = .ok (.putfield 359, 3) := dk_181 1 103 (dk_at dksX6_searchesDeeper_4 10 rfl rfl)
theorem dX6_searchesDeeper_105 : decode cX6_searchesDeeper 105 = .ok (.goto (-63), 3) := dk_167 255 193 (dk_at dksX6_searchesDeeper_4 13 rfl rfl)
theorem dX6_searchesDeeper_108 : decode cX6_searchesDeeper 108 = .ok (.iload_n 2, 1) := dk_28 (dk_at dksX6_searchesDeeper_4 16 rfl rfl)
theorem dX6_searchesDeeper_109 : decode cX6_searchesDeeper 109 = .ok (.ireturn, 1) := dk_172 (dk_at dksX6_searchesDeeper_4 17 rfl rfl)
abbrev cX6_deepens : ByteArray := prog_15_method_67_code
def yX6_deepens : MethodName := ⟨RX6, "deepens", "()I"⟩
def dkwX6_deepens_10 : List UInt8 := [180, 0, 143, 28, 21, 4, 79, 167, 255, 52, 2, 172]
abbrev dktX6_deepens_10 : List UInt8 := dkwX6_deepens_10 ++ []
def dkwX6_deepens_9 : List UInt8 := [181, 1, 61, 27, 172, 132, 2, 1, 42, 180, 0, 137, 28, 3, 79, 42, 180, 0, 140, 28, 21, 6, 79, 42]
abbrev dktX6_deepens_9 : List UInt8 := dkwX6_deepens_9 ++ dktX6_deepens_10
def dkwX6_deepens_8 : List UInt8 := [180, 0, 128, 6, 29, 100, 182, 1, 14, 54, 7, 167, 0, 44, 27, 18, 199, 162, 0, 12, 42, 28, 4, 96]
abbrev dktX6_deepens_8 : List UInt8 := dkwX6_deepens_8 ++ dktX6_deepens_9
def dkwX6_deepens_7 : List UInt8 := [79, 42, 21, 6, 182, 1, 109, 60, 42, 180, 1, 96, 153, 0, 5, 2, 172, 27, 2, 160, 0, 19, 42, 42]
abbrev dktX6_deepens_7 : List UInt8 := dkwX6_deepens_7 ++ dktX6_deepens_8
def dkwX6_deepens_6 : List UInt8 := [42, 180, 0, 140, 28, 46, 42, 42, 180, 0, 128, 29, 182, 1, 14, 96, 54, 6, 42, 180, 0, 134, 28, 29]
abbrev dktX6_deepens_6 : List UInt8 := dkwX6_deepens_6 ++ dktX6_deepens_7
def dkwX6_deepens_5 : List UInt8 := [96, 46, 54, 5, 21, 5, 2, 159, 255, 172, 21, 5, 42, 180, 0, 143, 28, 46, 160, 0, 6, 167, 255, 158]
abbrev dktX6_deepens_5 : List UInt8 := dkwX6_deepens_5 ++ dktX6_deepens_6
def dkwX6_deepens_4 : List UInt8 := [92, 46, 4, 96, 79, 42, 42, 180, 0, 128, 182, 0, 242, 54, 4, 42, 180, 0, 16, 7, 21, 4, 104, 29]
abbrev dktX6_deepens_4 : List UInt8 := dkwX6_deepens_4 ++ dktX6_deepens_5
def dkwX6_deepens_3 : List UInt8 := [180, 0, 128, 6, 42, 180, 0, 134, 28, 46, 100, 182, 1, 14, 54, 4, 167, 255, 211, 42, 180, 0, 137, 28]
abbrev dktX6_deepens_3 : List UInt8 := dkwX6_deepens_3 ++ dktX6_deepens_4
def dkwX6_deepens_2 : List UInt8 := [180, 0, 137, 28, 46, 62, 29, 7, 160, 0, 35, 132, 2, 255, 28, 156, 0, 7, 2, 167, 0, 19, 42, 42]
abbrev dktX6_deepens_2 : List UInt8 := dkwX6_deepens_2 ++ dktX6_deepens_3
def dkwX6_deepens_1 : List UInt8 := [3, 79, 42, 180, 0, 140, 3, 3, 79, 42, 180, 0, 143, 3, 2, 79, 3, 61, 28, 155, 0, 206, 42]
abbrev dktX6_deepens_1 : List UInt8 := dkwX6_deepens_1 ++ dktX6_deepens_2
def dkwX6_deepens_0 : List UInt8 := [42, 3, 181, 1, 61, 42, 3, 182, 1, 109, 60, 27, 18, 199, 159, 0, 5, 27, 172, 42, 180, 0, 137, 3]
abbrev dktX6_deepens_0 : List UInt8 := dkwX6_deepens_0 ++ dktX6_deepens_1
theorem dksX6_deepens_0 : cX6_deepens.data.toList.drop 0 = dktX6_deepens_0 := by decide +kernel
theorem dksX6_deepens_1 : cX6_deepens.data.toList.drop 24 = dktX6_deepens_1 := dk_seg dksX6_deepens_0 24 rfl rfl
theorem dksX6_deepens_2 : cX6_deepens.data.toList.drop 47 = dktX6_deepens_2 := dk_seg dksX6_deepens_1 23 rfl rfl
theorem dksX6_deepens_3 : cX6_deepens.data.toList.drop 71 = dktX6_deepens_3 := dk_seg dksX6_deepens_2 24 rfl rfl
theorem dksX6_deepens_4 : cX6_deepens.data.toList.drop 95 = dktX6_deepens_4 := dk_seg dksX6_deepens_3 24 rfl rfl
theorem dksX6_deepens_5 : cX6_deepens.data.toList.drop 119 = dktX6_deepens_5 := dk_seg dksX6_deepens_4 24 rfl rfl
theorem dksX6_deepens_6 : cX6_deepens.data.toList.drop 143 = dktX6_deepens_6 := dk_seg dksX6_deepens_5 24 rfl rfl
theorem dksX6_deepens_7 : cX6_deepens.data.toList.drop 167 = dktX6_deepens_7 := dk_seg dksX6_deepens_6 24 rfl rfl
theorem dksX6_deepens_8 : cX6_deepens.data.toList.drop 191 = dktX6_deepens_8 := dk_seg dksX6_deepens_7 24 rfl rfl
theorem dksX6_deepens_9 : cX6_deepens.data.toList.drop 215 = dktX6_deepens_9 := dk_seg dksX6_deepens_8 24 rfl rfl
theorem dksX6_deepens_10 : cX6_deepens.data.toList.drop 239 = dktX6_deepens_10 := dk_seg dksX6_deepens_9 24 rfl rfl
theorem dX6_deepens_0 : decode cX6_deepens 0 = .ok (.aload_n 0, 1) := dk_42 (dk_at dksX6_deepens_0 0 rfl rfl)
theorem dX6_deepens_1 : decode cX6_deepens 1 = .ok (.iconst 0, 1) := dk_3 (dk_at dksX6_deepens_0 1 rfl rfl)
theorem dX6_deepens_2 : decode cX6_deepens 2 = .ok (.putfield 317, 3) := dk_181 1 61 (dk_at dksX6_deepens_0 2 rfl rfl)
theorem dX6_deepens_5 : decode cX6_deepens 5 = .ok (.aload_n 0, 1) := dk_42 (dk_at dksX6_deepens_0 5 rfl rfl)
theorem dX6_deepens_6 : decode cX6_deepens 6 = .ok (.iconst 0, 1) := dk_3 (dk_at dksX6_deepens_0 6 rfl rfl)
theorem dX6_deepens_7 : decode cX6_deepens 7 = .ok (.invokevirtual 365, 3) := dk_182 1 109 (dk_at dksX6_deepens_0 7 rfl rfl)
theorem dX6_deepens_10 : decode cX6_deepens 10 = .ok (.istore_n 1, 1) := dk_60 (dk_at dksX6_deepens_0 10 rfl rfl)
theorem dX6_deepens_11 : decode cX6_deepens 11 = .ok (.iload_n 1, 1) := dk_27 (dk_at dksX6_deepens_0 11 rfl rfl)
theorem dX6_deepens_12 : decode cX6_deepens 12 = .ok (.ldc 199, 2) := dk_18 199 (dk_at dksX6_deepens_0 12 rfl rfl)
theorem dX6_deepens_14 : decode cX6_deepens 14 = .ok (.if_icmp .eq 5, 3) := dk_159 0 5 (dk_at dksX6_deepens_0 14 rfl rfl)
theorem dX6_deepens_17 : decode cX6_deepens 17 = .ok (.iload_n 1, 1) := dk_27 (dk_at dksX6_deepens_0 17 rfl rfl)
theorem dX6_deepens_18 : decode cX6_deepens 18 = .ok (.ireturn, 1) := dk_172 (dk_at dksX6_deepens_0 18 rfl rfl)
theorem dX6_deepens_19 : decode cX6_deepens 19 = .ok (.aload_n 0, 1) := dk_42 (dk_at dksX6_deepens_0 19 rfl rfl)
theorem dX6_deepens_20 : decode cX6_deepens 20 = .ok (.getfield 137, 3) := dk_180 0 137 (dk_at dksX6_deepens_0 20 rfl rfl)
theorem dX6_deepens_23 : decode cX6_deepens 23 = .ok (.iconst 0, 1) := dk_3 (dk_at dksX6_deepens_0 23 rfl rfl)
theorem dX6_deepens_24 : decode cX6_deepens 24 = .ok (.iconst 0, 1) := dk_3 (dk_at dksX6_deepens_1 0 rfl rfl)
theorem dX6_deepens_25 : decode cX6_deepens 25 = .ok (.iastore, 1) := dk_79 (dk_at dksX6_deepens_1 1 rfl rfl)
theorem dX6_deepens_26 : decode cX6_deepens 26 = .ok (.aload_n 0, 1) := dk_42 (dk_at dksX6_deepens_1 2 rfl rfl)
theorem dX6_deepens_27 : decode cX6_deepens 27 = .ok (.getfield 140, 3) := dk_180 0 140 (dk_at dksX6_deepens_1 3 rfl rfl)
theorem dX6_deepens_30 : decode cX6_deepens 30 = .ok (.iconst 0, 1) := dk_3 (dk_at dksX6_deepens_1 6 rfl rfl)
theorem dX6_deepens_31 : decode cX6_deepens 31 = .ok (.iconst 0, 1) := dk_3 (dk_at dksX6_deepens_1 7 rfl rfl)
theorem dX6_deepens_32 : decode cX6_deepens 32 = .ok (.iastore, 1) := dk_79 (dk_at dksX6_deepens_1 8 rfl rfl)
theorem dX6_deepens_33 : decode cX6_deepens 33 = .ok (.aload_n 0, 1) := dk_42 (dk_at dksX6_deepens_1 9 rfl rfl)
theorem dX6_deepens_34 : decode cX6_deepens 34 = .ok (.getfield 143, 3) := dk_180 0 143 (dk_at dksX6_deepens_1 10 rfl rfl)
theorem dX6_deepens_37 : decode cX6_deepens 37 = .ok (.iconst 0, 1) := dk_3 (dk_at dksX6_deepens_1 13 rfl rfl)
theorem dX6_deepens_38 : decode cX6_deepens 38 = .ok (.iconst (-1), 1) := dk_2 (dk_at dksX6_deepens_1 14 rfl rfl)
theorem dX6_deepens_39 : decode cX6_deepens 39 = .ok (.iastore, 1) := dk_79 (dk_at dksX6_deepens_1 15 rfl rfl)
theorem dX6_deepens_40 : decode cX6_deepens 40 = .ok (.iconst 0, 1) := dk_3 (dk_at dksX6_deepens_1 16 rfl rfl)
theorem dX6_deepens_41 : decode cX6_deepens 41 = .ok (.istore_n 2, 1) := dk_61 (dk_at dksX6_deepens_1 17 rfl rfl)
theorem dX6_deepens_42 : decode cX6_deepens 42 = .ok (.iload_n 2, 1) := dk_28 (dk_at dksX6_deepens_1 18 rfl rfl)
theorem dX6_deepens_43 : decode cX6_deepens 43 = .ok (.ifCond .lt 206, 3) := dk_155 0 206 (dk_at dksX6_deepens_1 19 rfl rfl)
theorem dX6_deepens_46 : decode cX6_deepens 46 = .ok (.aload_n 0, 1) := dk_42 (dk_at dksX6_deepens_1 22 rfl rfl)
theorem dX6_deepens_47 : decode cX6_deepens 47 = .ok (.getfield 137, 3) := dk_180 0 137 (dk_at dksX6_deepens_2 0 rfl rfl)
theorem dX6_deepens_50 : decode cX6_deepens 50 = .ok (.iload_n 2, 1) := dk_28 (dk_at dksX6_deepens_2 3 rfl rfl)
theorem dX6_deepens_51 : decode cX6_deepens 51 = .ok (.iaload, 1) := dk_46 (dk_at dksX6_deepens_2 4 rfl rfl)
theorem dX6_deepens_52 : decode cX6_deepens 52 = .ok (.istore_n 3, 1) := dk_62 (dk_at dksX6_deepens_2 5 rfl rfl)
theorem dX6_deepens_53 : decode cX6_deepens 53 = .ok (.iload_n 3, 1) := dk_29 (dk_at dksX6_deepens_2 6 rfl rfl)
theorem dX6_deepens_54 : decode cX6_deepens 54 = .ok (.iconst 4, 1) := dk_7 (dk_at dksX6_deepens_2 7 rfl rfl)
theorem dX6_deepens_55 : decode cX6_deepens 55 = .ok (.if_icmp .ne 35, 3) := dk_160 0 35 (dk_at dksX6_deepens_2 8 rfl rfl)
theorem dX6_deepens_58 : decode cX6_deepens 58 = .ok (.iinc 2 (-1), 3) := dk_132 2 255 (dk_at dksX6_deepens_2 11 rfl rfl)
theorem dX6_deepens_61 : decode cX6_deepens 61 = .ok (.iload_n 2, 1) := dk_28 (dk_at dksX6_deepens_2 14 rfl rfl)
theorem dX6_deepens_62 : decode cX6_deepens 62 = .ok (.ifCond .ge 7, 3) := dk_156 0 7 (dk_at dksX6_deepens_2 15 rfl rfl)
theorem dX6_deepens_65 : decode cX6_deepens 65 = .ok (.iconst (-1), 1) := dk_2 (dk_at dksX6_deepens_2 18 rfl rfl)
theorem dX6_deepens_66 : decode cX6_deepens 66 = .ok (.goto 19, 3) := dk_167 0 19 (dk_at dksX6_deepens_2 19 rfl rfl)
theorem dX6_deepens_69 : decode cX6_deepens 69 = .ok (.aload_n 0, 1) := dk_42 (dk_at dksX6_deepens_2 22 rfl rfl)
theorem dX6_deepens_70 : decode cX6_deepens 70 = .ok (.aload_n 0, 1) := dk_42 (dk_at dksX6_deepens_2 23 rfl rfl)
theorem dX6_deepens_71 : decode cX6_deepens 71 = .ok (.getfield 128, 3) := dk_180 0 128 (dk_at dksX6_deepens_3 0 rfl rfl)
theorem dX6_deepens_74 : decode cX6_deepens 74 = .ok (.iconst 3, 1) := dk_6 (dk_at dksX6_deepens_3 3 rfl rfl)
theorem dX6_deepens_75 : decode cX6_deepens 75 = .ok (.aload_n 0, 1) := dk_42 (dk_at dksX6_deepens_3 4 rfl rfl)
theorem dX6_deepens_76 : decode cX6_deepens 76 = .ok (.getfield 134, 3) := dk_180 0 134 (dk_at dksX6_deepens_3 5 rfl rfl)
theorem dX6_deepens_79 : decode cX6_deepens 79 = .ok (.iload_n 2, 1) := dk_28 (dk_at dksX6_deepens_3 8 rfl rfl)
theorem dX6_deepens_80 : decode cX6_deepens 80 = .ok (.iaload, 1) := dk_46 (dk_at dksX6_deepens_3 9 rfl rfl)
theorem dX6_deepens_81 : decode cX6_deepens 81 = .ok (.isub, 1) := dk_100 (dk_at dksX6_deepens_3 10 rfl rfl)
theorem dX6_deepens_82 : decode cX6_deepens 82 = .ok (.invokevirtual 270, 3) := dk_182 1 14 (dk_at dksX6_deepens_3 11 rfl rfl)
theorem dX6_deepens_85 : decode cX6_deepens 85 = .ok (.istore 4, 2) := dk_54 4 (dk_at dksX6_deepens_3 14 rfl rfl)
theorem dX6_deepens_87 : decode cX6_deepens 87 = .ok (.goto (-45), 3) := dk_167 255 211 (dk_at dksX6_deepens_3 16 rfl rfl)
theorem dX6_deepens_90 : decode cX6_deepens 90 = .ok (.aload_n 0, 1) := dk_42 (dk_at dksX6_deepens_3 19 rfl rfl)
theorem dX6_deepens_91 : decode cX6_deepens 91 = .ok (.getfield 137, 3) := dk_180 0 137 (dk_at dksX6_deepens_3 20 rfl rfl)
theorem dX6_deepens_94 : decode cX6_deepens 94 = .ok (.iload_n 2, 1) := dk_28 (dk_at dksX6_deepens_3 23 rfl rfl)
theorem dX6_deepens_95 : decode cX6_deepens 95 = .ok (.dup2, 1) := dk_92 (dk_at dksX6_deepens_4 0 rfl rfl)
theorem dX6_deepens_96 : decode cX6_deepens 96 = .ok (.iaload, 1) := dk_46 (dk_at dksX6_deepens_4 1 rfl rfl)
theorem dX6_deepens_97 : decode cX6_deepens 97 = .ok (.iconst 1, 1) := dk_4 (dk_at dksX6_deepens_4 2 rfl rfl)
theorem dX6_deepens_98 : decode cX6_deepens 98 = .ok (.iadd, 1) := dk_96 (dk_at dksX6_deepens_4 3 rfl rfl)
theorem dX6_deepens_99 : decode cX6_deepens 99 = .ok (.iastore, 1) := dk_79 (dk_at dksX6_deepens_4 4 rfl rfl)
theorem dX6_deepens_100 : decode cX6_deepens 100 = .ok (.aload_n 0, 1) := dk_42 (dk_at dksX6_deepens_4 5 rfl rfl)
theorem dX6_deepens_101 : decode cX6_deepens 101 = .ok (.aload_n 0, 1) := dk_42 (dk_at dksX6_deepens_4 6 rfl rfl)
theorem dX6_deepens_102 : decode cX6_deepens 102 = .ok (.getfield 128, 3) := dk_180 0 128 (dk_at dksX6_deepens_4 7 rfl rfl)
theorem dX6_deepens_105 : decode cX6_deepens 105 = .ok (.invokevirtual 242, 3) := dk_182 0 242 (dk_at dksX6_deepens_4 10 rfl rfl)
theorem dX6_deepens_108 : decode cX6_deepens 108 = .ok (.istore 4, 2) := dk_54 4 (dk_at dksX6_deepens_4 13 rfl rfl)
theorem dX6_deepens_110 : decode cX6_deepens 110 = .ok (.aload_n 0, 1) := dk_42 (dk_at dksX6_deepens_4 15 rfl rfl)
theorem dX6_deepens_111 : decode cX6_deepens 111 = .ok (.getfield 16, 3) := dk_180 0 16 (dk_at dksX6_deepens_4 16 rfl rfl)
theorem dX6_deepens_114 : decode cX6_deepens 114 = .ok (.iconst 4, 1) := dk_7 (dk_at dksX6_deepens_4 19 rfl rfl)
theorem dX6_deepens_115 : decode cX6_deepens 115 = .ok (.iload 4, 2) := dk_21 4 (dk_at dksX6_deepens_4 20 rfl rfl)
theorem dX6_deepens_117 : decode cX6_deepens 117 = .ok (.imul, 1) := dk_104 (dk_at dksX6_deepens_4 22 rfl rfl)
theorem dX6_deepens_118 : decode cX6_deepens 118 = .ok (.iload_n 3, 1) := dk_29 (dk_at dksX6_deepens_4 23 rfl rfl)
theorem dX6_deepens_119 : decode cX6_deepens 119 = .ok (.iadd, 1) := dk_96 (dk_at dksX6_deepens_5 0 rfl rfl)
theorem dX6_deepens_120 : decode cX6_deepens 120 = .ok (.iaload, 1) := dk_46 (dk_at dksX6_deepens_5 1 rfl rfl)
theorem dX6_deepens_121 : decode cX6_deepens 121 = .ok (.istore 5, 2) := dk_54 5 (dk_at dksX6_deepens_5 2 rfl rfl)
theorem dX6_deepens_123 : decode cX6_deepens 123 = .ok (.iload 5, 2) := dk_21 5 (dk_at dksX6_deepens_5 4 rfl rfl)
theorem dX6_deepens_125 : decode cX6_deepens 125 = .ok (.iconst (-1), 1) := dk_2 (dk_at dksX6_deepens_5 6 rfl rfl)
theorem dX6_deepens_126 : decode cX6_deepens 126 = .ok (.if_icmp .eq (-84), 3) := dk_159 255 172 (dk_at dksX6_deepens_5 7 rfl rfl)
theorem dX6_deepens_129 : decode cX6_deepens 129 = .ok (.iload 5, 2) := dk_21 5 (dk_at dksX6_deepens_5 10 rfl rfl)
theorem dX6_deepens_131 : decode cX6_deepens 131 = .ok (.aload_n 0, 1) := dk_42 (dk_at dksX6_deepens_5 12 rfl rfl)
theorem dX6_deepens_132 : decode cX6_deepens 132 = .ok (.getfield 143, 3) := dk_180 0 143 (dk_at dksX6_deepens_5 13 rfl rfl)
theorem dX6_deepens_135 : decode cX6_deepens 135 = .ok (.iload_n 2, 1) := dk_28 (dk_at dksX6_deepens_5 16 rfl rfl)
theorem dX6_deepens_136 : decode cX6_deepens 136 = .ok (.iaload, 1) := dk_46 (dk_at dksX6_deepens_5 17 rfl rfl)
theorem dX6_deepens_137 : decode cX6_deepens 137 = .ok (.if_icmp .ne 6, 3) := dk_160 0 6 (dk_at dksX6_deepens_5 18 rfl rfl)
theorem dX6_deepens_140 : decode cX6_deepens 140 = .ok (.goto (-98), 3) := dk_167 255 158 (dk_at dksX6_deepens_5 21 rfl rfl)
theorem dX6_deepens_143 : decode cX6_deepens 143 = .ok (.aload_n 0, 1) := dk_42 (dk_at dksX6_deepens_6 0 rfl rfl)
theorem dX6_deepens_144 : decode cX6_deepens 144 = .ok (.getfield 140, 3) := dk_180 0 140 (dk_at dksX6_deepens_6 1 rfl rfl)
theorem dX6_deepens_147 : decode cX6_deepens 147 = .ok (.iload_n 2, 1) := dk_28 (dk_at dksX6_deepens_6 4 rfl rfl)
theorem dX6_deepens_148 : decode cX6_deepens 148 = .ok (.iaload, 1) := dk_46 (dk_at dksX6_deepens_6 5 rfl rfl)
theorem dX6_deepens_149 : decode cX6_deepens 149 = .ok (.aload_n 0, 1) := dk_42 (dk_at dksX6_deepens_6 6 rfl rfl)
theorem dX6_deepens_150 : decode cX6_deepens 150 = .ok (.aload_n 0, 1) := dk_42 (dk_at dksX6_deepens_6 7 rfl rfl)
theorem dX6_deepens_151 : decode cX6_deepens 151 = .ok (.getfield 128, 3) := dk_180 0 128 (dk_at dksX6_deepens_6 8 rfl rfl)
theorem dX6_deepens_154 : decode cX6_deepens 154 = .ok (.iload_n 3, 1) := dk_29 (dk_at dksX6_deepens_6 11 rfl rfl)
theorem dX6_deepens_155 : decode cX6_deepens 155 = .ok (.invokevirtual 270, 3) := dk_182 1 14 (dk_at dksX6_deepens_6 12 rfl rfl)
theorem dX6_deepens_158 : decode cX6_deepens 158 = .ok (.iadd, 1) := dk_96 (dk_at dksX6_deepens_6 15 rfl rfl)
theorem dX6_deepens_159 : decode cX6_deepens 159 = .ok (.istore 6, 2) := dk_54 6 (dk_at dksX6_deepens_6 16 rfl rfl)
theorem dX6_deepens_161 : decode cX6_deepens 161 = .ok (.aload_n 0, 1) := dk_42 (dk_at dksX6_deepens_6 18 rfl rfl)
theorem dX6_deepens_162 : decode cX6_deepens 162 = .ok (.getfield 134, 3) := dk_180 0 134 (dk_at dksX6_deepens_6 19 rfl rfl)
theorem dX6_deepens_165 : decode cX6_deepens 165 = .ok (.iload_n 2, 1) := dk_28 (dk_at dksX6_deepens_6 22 rfl rfl)
theorem dX6_deepens_166 : decode cX6_deepens 166 = .ok (.iload_n 3, 1) := dk_29 (dk_at dksX6_deepens_6 23 rfl rfl)
theorem dX6_deepens_167 : decode cX6_deepens 167 = .ok (.iastore, 1) := dk_79 (dk_at dksX6_deepens_7 0 rfl rfl)
theorem dX6_deepens_168 : decode cX6_deepens 168 = .ok (.aload_n 0, 1) := dk_42 (dk_at dksX6_deepens_7 1 rfl rfl)
theorem dX6_deepens_169 : decode cX6_deepens 169 = .ok (.iload 6, 2) := dk_21 6 (dk_at dksX6_deepens_7 2 rfl rfl)
theorem dX6_deepens_171 : decode cX6_deepens 171 = .ok (.invokevirtual 365, 3) := dk_182 1 109 (dk_at dksX6_deepens_7 4 rfl rfl)
theorem dX6_deepens_174 : decode cX6_deepens 174 = .ok (.istore_n 1, 1) := dk_60 (dk_at dksX6_deepens_7 7 rfl rfl)
theorem dX6_deepens_175 : decode cX6_deepens 175 = .ok (.aload_n 0, 1) := dk_42 (dk_at dksX6_deepens_7 8 rfl rfl)
theorem dX6_deepens_176 : decode cX6_deepens 176 = .ok (.getfield 352, 3) := dk_180 1 96 (dk_at dksX6_deepens_7 9 rfl rfl)
theorem dX6_deepens_179 : decode cX6_deepens 179 = .ok (.ifCond .eq 5, 3) := dk_153 0 5 (dk_at dksX6_deepens_7 12 rfl rfl)
theorem dX6_deepens_182 : decode cX6_deepens 182 = .ok (.iconst (-1), 1) := dk_2 (dk_at dksX6_deepens_7 15 rfl rfl)
theorem dX6_deepens_183 : decode cX6_deepens 183 = .ok (.ireturn, 1) := dk_172 (dk_at dksX6_deepens_7 16 rfl rfl)
theorem dX6_deepens_184 : decode cX6_deepens 184 = .ok (.iload_n 1, 1) := dk_27 (dk_at dksX6_deepens_7 17 rfl rfl)
theorem dX6_deepens_185 : decode cX6_deepens 185 = .ok (.iconst (-1), 1) := dk_2 (dk_at dksX6_deepens_7 18 rfl rfl)
theorem dX6_deepens_186 : decode cX6_deepens 186 = .ok (.if_icmp .ne 19, 3) := dk_160 0 19 (dk_at dksX6_deepens_7 19 rfl rfl)
theorem dX6_deepens_189 : decode cX6_deepens 189 = .ok (.aload_n 0, 1) := dk_42 (dk_at dksX6_deepens_7 22 rfl rfl)
theorem dX6_deepens_190 : decode cX6_deepens 190 = .ok (.aload_n 0, 1) := dk_42 (dk_at dksX6_deepens_7 23 rfl rfl)
theorem dX6_deepens_191 : decode cX6_deepens 191 = .ok (.getfield 128, 3) := dk_180 0 128 (dk_at dksX6_deepens_8 0 rfl rfl)
theorem dX6_deepens_194 : decode cX6_deepens 194 = .ok (.iconst 3, 1) := dk_6 (dk_at dksX6_deepens_8 3 rfl rfl)
theorem dX6_deepens_195 : decode cX6_deepens 195 = .ok (.iload_n 3, 1) := dk_29 (dk_at dksX6_deepens_8 4 rfl rfl)
theorem dX6_deepens_196 : decode cX6_deepens 196 = .ok (.isub, 1) := dk_100 (dk_at dksX6_deepens_8 5 rfl rfl)
theorem dX6_deepens_197 : decode cX6_deepens 197 = .ok (.invokevirtual 270, 3) := dk_182 1 14 (dk_at dksX6_deepens_8 6 rfl rfl)
theorem dX6_deepens_200 : decode cX6_deepens 200 = .ok (.istore 7, 2) := dk_54 7 (dk_at dksX6_deepens_8 9 rfl rfl)
theorem dX6_deepens_202 : decode cX6_deepens 202 = .ok (.goto 44, 3) := dk_167 0 44 (dk_at dksX6_deepens_8 11 rfl rfl)
theorem dX6_deepens_205 : decode cX6_deepens 205 = .ok (.iload_n 1, 1) := dk_27 (dk_at dksX6_deepens_8 14 rfl rfl)
theorem dX6_deepens_206 : decode cX6_deepens 206 = .ok (.ldc 199, 2) := dk_18 199 (dk_at dksX6_deepens_8 15 rfl rfl)
theorem dX6_deepens_208 : decode cX6_deepens 208 = .ok (.if_icmp .ge 12, 3) := dk_162 0 12 (dk_at dksX6_deepens_8 17 rfl rfl)
theorem dX6_deepens_211 : decode cX6_deepens 211 = .ok (.aload_n 0, 1) := dk_42 (dk_at dksX6_deepens_8 20 rfl rfl)
theorem dX6_deepens_212 : decode cX6_deepens 212 = .ok (.iload_n 2, 1) := dk_28 (dk_at dksX6_deepens_8 21 rfl rfl)
theorem dX6_deepens_213 : decode cX6_deepens 213 = .ok (.iconst 1, 1) := dk_4 (dk_at dksX6_deepens_8 22 rfl rfl)
theorem dX6_deepens_214 : decode cX6_deepens 214 = .ok (.iadd, 1) := dk_96 (dk_at dksX6_deepens_8 23 rfl rfl)
theorem dX6_deepens_215 : decode cX6_deepens 215 = .ok (.putfield 317, 3) := dk_181 1 61 (dk_at dksX6_deepens_9 0 rfl rfl)
theorem dX6_deepens_218 : decode cX6_deepens 218 = .ok (.iload_n 1, 1) := dk_27 (dk_at dksX6_deepens_9 3 rfl rfl)
theorem dX6_deepens_219 : decode cX6_deepens 219 = .ok (.ireturn, 1) := dk_172 (dk_at dksX6_deepens_9 4 rfl rfl)
theorem dX6_deepens_220 : decode cX6_deepens 220 = .ok (.iinc 2 1, 3) := dk_132 2 1 (dk_at dksX6_deepens_9 5 rfl rfl)
theorem dX6_deepens_223 : decode cX6_deepens 223 = .ok (.aload_n 0, 1) := dk_42 (dk_at dksX6_deepens_9 8 rfl rfl)
theorem dX6_deepens_224 : decode cX6_deepens 224 = .ok (.getfield 137, 3) := dk_180 0 137 (dk_at dksX6_deepens_9 9 rfl rfl)
theorem dX6_deepens_227 : decode cX6_deepens 227 = .ok (.iload_n 2, 1) := dk_28 (dk_at dksX6_deepens_9 12 rfl rfl)
theorem dX6_deepens_228 : decode cX6_deepens 228 = .ok (.iconst 0, 1) := dk_3 (dk_at dksX6_deepens_9 13 rfl rfl)
theorem dX6_deepens_229 : decode cX6_deepens 229 = .ok (.iastore, 1) := dk_79 (dk_at dksX6_deepens_9 14 rfl rfl)
theorem dX6_deepens_230 : decode cX6_deepens 230 = .ok (.aload_n 0, 1) := dk_42 (dk_at dksX6_deepens_9 15 rfl rfl)
theorem dX6_deepens_231 : decode cX6_deepens 231 = .ok (.getfield 140, 3) := dk_180 0 140 (dk_at dksX6_deepens_9 16 rfl rfl)
theorem dX6_deepens_234 : decode cX6_deepens 234 = .ok (.iload_n 2, 1) := dk_28 (dk_at dksX6_deepens_9 19 rfl rfl)
theorem dX6_deepens_235 : decode cX6_deepens 235 = .ok (.iload 6, 2) := dk_21 6 (dk_at dksX6_deepens_9 20 rfl rfl)
theorem dX6_deepens_237 : decode cX6_deepens 237 = .ok (.iastore, 1) := dk_79 (dk_at dksX6_deepens_9 22 rfl rfl)
theorem dX6_deepens_238 : decode cX6_deepens 238 = .ok (.aload_n 0, 1) := dk_42 (dk_at dksX6_deepens_9 23 rfl rfl)
theorem dX6_deepens_239 : decode cX6_deepens 239 = .ok (.getfield 143, 3) := dk_180 0 143 (dk_at dksX6_deepens_10 0 rfl rfl)
theorem dX6_deepens_242 : decode cX6_deepens 242 = .ok (.iload_n 2, 1) := dk_28 (dk_at dksX6_deepens_10 3 rfl rfl)
theorem dX6_deepens_243 : decode cX6_deepens 243 = .ok (.iload 4, 2) := dk_21 4 (dk_at dksX6_deepens_10 4 rfl rfl)
theorem dX6_deepens_245 : decode cX6_deepens 245 = .ok (.iastore, 1) := dk_79 (dk_at dksX6_deepens_10 6 rfl rfl)
theorem dX6_deepens_246 : decode cX6_deepens 246 = .ok (.goto (-204), 3) := dk_167 255 52 (dk_at dksX6_deepens_10 7 rfl rfl)
theorem dX6_deepens_249 : decode cX6_deepens 249 = .ok (.iconst (-1), 1) := dk_2 (dk_at dksX6_deepens_10 10 rfl rfl)
theorem dX6_deepens_250 : decode cX6_deepens 250 = .ok (.ireturn, 1) := dk_172 (dk_at dksX6_deepens_10 11 rfl rfl)
abbrev cX6_comesTo : ByteArray := prog_15_method_66_code
def yX6_comesTo : MethodName := ⟨RX6, "comesTo", "(I)I"⟩
def dkwX6_comesTo_3 : List UInt8 := [172, 42, 42, 180, 0, 128, 182, 1, 80, 153, 0, 7, 27, 167, 0, 5, 18, 199, 172]
abbrev dktX6_comesTo_3 : List UInt8 := dkwX6_comesTo_3 ++ []
def dkwX6_comesTo_2 : List UInt8 := [164, 0, 25, 42, 28, 42, 180, 1, 106, 162, 0, 7, 28, 167, 0, 7, 42, 180, 1, 106, 181, 1, 106, 2]
abbrev dktX6_comesTo_2 : List UInt8 := dkwX6_comesTo_2 ++ dktX6_comesTo_3
def dkwX6_comesTo_1 : List UInt8 := [96, 181, 1, 64, 27, 42, 42, 180, 0, 128, 42, 180, 1, 100, 182, 1, 46, 96, 61, 28, 42, 180, 1, 103]
abbrev dktX6_comesTo_1 : List UInt8 := dkwX6_comesTo_1 ++ dktX6_comesTo_2
def dkwX6_comesTo_0 : List UInt8 := [42, 180, 1, 64, 42, 180, 0, 45, 160, 0, 10, 42, 4, 181, 1, 96, 2, 172, 42, 89, 180, 1, 64, 4]
abbrev dktX6_comesTo_0 : List UInt8 := dkwX6_comesTo_0 ++ dktX6_comesTo_1
theorem dksX6_comesTo_0 : cX6_comesTo.data.toList.drop 0 = dktX6_comesTo_0 := by decide +kernel
theorem dksX6_comesTo_1 : cX6_comesTo.data.toList.drop 24 = dktX6_comesTo_1 := dk_seg dksX6_comesTo_0 24 rfl rfl
theorem dksX6_comesTo_2 : cX6_comesTo.data.toList.drop 48 = dktX6_comesTo_2 := dk_seg dksX6_comesTo_1 24 rfl rfl
theorem dksX6_comesTo_3 : cX6_comesTo.data.toList.drop 72 = dktX6_comesTo_3 := dk_seg dksX6_comesTo_2 24 rfl rfl
theorem dX6_comesTo_0 : decode cX6_comesTo 0 = .ok (.aload_n 0, 1) := dk_42 (dk_at dksX6_comesTo_0 0 rfl rfl)
theorem dX6_comesTo_1 : decode cX6_comesTo 1 = .ok (.getfield 320, 3) := dk_180 1 64 (dk_at dksX6_comesTo_0 1 rfl rfl)
theorem dX6_comesTo_4 : decode cX6_comesTo 4 = .ok (.aload_n 0, 1) := dk_42 (dk_at dksX6_comesTo_0 4 rfl rfl)
theorem dX6_comesTo_5 : decode cX6_comesTo 5 = .ok (.getfield 45, 3) := dk_180 0 45 (dk_at dksX6_comesTo_0 5 rfl rfl)
theorem dX6_comesTo_8 : decode cX6_comesTo 8 = .ok (.if_icmp .ne 10, 3) := dk_160 0 10 (dk_at dksX6_comesTo_0 8 rfl rfl)
theorem dX6_comesTo_11 : decode cX6_comesTo 11 = .ok (.aload_n 0, 1) := dk_42 (dk_at dksX6_comesTo_0 11 rfl rfl)
theorem dX6_comesTo_12 : decode cX6_comesTo 12 = .ok (.iconst 1, 1) := dk_4 (dk_at dksX6_comesTo_0 12 rfl rfl)
theorem dX6_comesTo_13 : decode cX6_comesTo 13 = .ok (.putfield 352, 3) := dk_181 1 96 (dk_at dksX6_comesTo_0 13 rfl rfl)
theorem dX6_comesTo_16 : decode cX6_comesTo 16 = .ok (.iconst (-1), 1) := dk_2 (dk_at dksX6_comesTo_0 16 rfl rfl)
theorem dX6_comesTo_17 : decode cX6_comesTo 17 = .ok (.ireturn, 1) := dk_172 (dk_at dksX6_comesTo_0 17 rfl rfl)
theorem dX6_comesTo_18 : decode cX6_comesTo 18 = .ok (.aload_n 0, 1) := dk_42 (dk_at dksX6_comesTo_0 18 rfl rfl)
theorem dX6_comesTo_19 : decode cX6_comesTo 19 = .ok (.dup, 1) := dk_89 (dk_at dksX6_comesTo_0 19 rfl rfl)
theorem dX6_comesTo_20 : decode cX6_comesTo 20 = .ok (.getfield 320, 3) := dk_180 1 64 (dk_at dksX6_comesTo_0 20 rfl rfl)
theorem dX6_comesTo_23 : decode cX6_comesTo 23 = .ok (.iconst 1, 1) := dk_4 (dk_at dksX6_comesTo_0 23 rfl rfl)
theorem dX6_comesTo_24 : decode cX6_comesTo 24 = .ok (.iadd, 1) := dk_96 (dk_at dksX6_comesTo_1 0 rfl rfl)
theorem dX6_comesTo_25 : decode cX6_comesTo 25 = .ok (.putfield 320, 3) := dk_181 1 64 (dk_at dksX6_comesTo_1 1 rfl rfl)
theorem dX6_comesTo_28 : decode cX6_comesTo 28 = .ok (.iload_n 1, 1) := dk_27 (dk_at dksX6_comesTo_1 4 rfl rfl)
theorem dX6_comesTo_29 : decode cX6_comesTo 29 = .ok (.aload_n 0, 1) := dk_42 (dk_at dksX6_comesTo_1 5 rfl rfl)
theorem dX6_comesTo_30 : decode cX6_comesTo 30 = .ok (.aload_n 0, 1) := dk_42 (dk_at dksX6_comesTo_1 6 rfl rfl)
theorem dX6_comesTo_31 : decode cX6_comesTo 31 = .ok (.getfield 128, 3) := dk_180 0 128 (dk_at dksX6_comesTo_1 7 rfl rfl)
theorem dX6_comesTo_34 : decode cX6_comesTo 34 = .ok (.aload_n 0, 1) := dk_42 (dk_at dksX6_comesTo_1 10 rfl rfl)
theorem dX6_comesTo_35 : decode cX6_comesTo 35 = .ok (.getfield 356, 3) := dk_180 1 100 (dk_at dksX6_comesTo_1 11 rfl rfl)
theorem dX6_comesTo_38 : decode cX6_comesTo 38 = .ok (.invokevirtual 302, 3) := dk_182 1 46 (dk_at dksX6_comesTo_1 14 rfl rfl)
theorem dX6_comesTo_41 : decode cX6_comesTo 41 = .ok (.iadd, 1) := dk_96 (dk_at dksX6_comesTo_1 17 rfl rfl)
theorem dX6_comesTo_42 : decode cX6_comesTo 42 = .ok (.istore_n 2, 1) := dk_61 (dk_at dksX6_comesTo_1 18 rfl rfl)
theorem dX6_comesTo_43 : decode cX6_comesTo 43 = .ok (.iload_n 2, 1) := dk_28 (dk_at dksX6_comesTo_1 19 rfl rfl)
theorem dX6_comesTo_44 : decode cX6_comesTo 44 = .ok (.aload_n 0, 1) := dk_42 (dk_at dksX6_comesTo_1 20 rfl rfl)
theorem dX6_comesTo_45 : decode cX6_comesTo 45 = .ok (.getfield 359, 3) := dk_180 1 103 (dk_at dksX6_comesTo_1 21 rfl rfl)
theorem dX6_comesTo_48 : decode cX6_comesTo 48 = .ok (.if_icmp .le 25, 3) := dk_164 0 25 (dk_at dksX6_comesTo_2 0 rfl rfl)
theorem dX6_comesTo_51 : decode cX6_comesTo 51 = .ok (.aload_n 0, 1) := dk_42 (dk_at dksX6_comesTo_2 3 rfl rfl)
theorem dX6_comesTo_52 : decode cX6_comesTo 52 = .ok (.iload_n 2, 1) := dk_28 (dk_at dksX6_comesTo_2 4 rfl rfl)
theorem dX6_comesTo_53 : decode cX6_comesTo 53 = .ok (.aload_n 0, 1) := dk_42 (dk_at dksX6_comesTo_2 5 rfl rfl)
theorem dX6_comesTo_54 : decode cX6_comesTo 54 = .ok (.getfield 362, 3) := dk_180 1 106 (dk_at dksX6_comesTo_2 6 rfl rfl)
theorem dX6_comesTo_57 : decode cX6_comesTo 57 = .ok (.if_icmp .ge 7, 3) := dk_162 0 7 (dk_at dksX6_comesTo_2 9 rfl rfl)
theorem dX6_comesTo_60 : decode cX6_comesTo 60 = .ok (.iload_n 2, 1) := dk_28 (dk_at dksX6_comesTo_2 12 rfl rfl)
theorem dX6_comesTo_61 : decode cX6_comesTo 61 = .ok (.goto 7, 3) := dk_167 0 7 (dk_at dksX6_comesTo_2 13 rfl rfl)
theorem dX6_comesTo_64 : decode cX6_comesTo 64 = .ok (.aload_n 0, 1) := dk_42 (dk_at dksX6_comesTo_2 16 rfl rfl)
theorem dX6_comesTo_65 : decode cX6_comesTo 65 = .ok (.getfield 362, 3) := dk_180 1 106 (dk_at dksX6_comesTo_2 17 rfl rfl)
theorem dX6_comesTo_68 : decode cX6_comesTo 68 = .ok (.putfield 362, 3) := dk_181 1 106 (dk_at dksX6_comesTo_2 20 rfl rfl)
theorem dX6_comesTo_71 : decode cX6_comesTo 71 = .ok (.iconst (-1), 1) := dk_2 (dk_at dksX6_comesTo_2 23 rfl rfl)
theorem dX6_comesTo_72 : decode cX6_comesTo 72 = .ok (.ireturn, 1) := dk_172 (dk_at dksX6_comesTo_3 0 rfl rfl)
theorem dX6_comesTo_73 : decode cX6_comesTo 73 = .ok (.aload_n 0, 1) := dk_42 (dk_at dksX6_comesTo_3 1 rfl rfl)
theorem dX6_comesTo_74 : decode cX6_comesTo 74 = .ok (.aload_n 0, 1) := dk_42 (dk_at dksX6_comesTo_3 2 rfl rfl)
theorem dX6_comesTo_75 : decode cX6_comesTo 75 = .ok (.getfield 128, 3) := dk_180 0 128 (dk_at dksX6_comesTo_3 3 rfl rfl)
theorem dX6_comesTo_78 : decode cX6_comesTo 78 = .ok (.invokevirtual 336, 3) := dk_182 1 80 (dk_at dksX6_comesTo_3 6 rfl rfl)
theorem dX6_comesTo_81 : decode cX6_comesTo 81 = .ok (.ifCond .eq 7, 3) := dk_153 0 7 (dk_at dksX6_comesTo_3 9 rfl rfl)
theorem dX6_comesTo_84 : decode cX6_comesTo 84 = .ok (.iload_n 1, 1) := dk_27 (dk_at dksX6_comesTo_3 12 rfl rfl)
theorem dX6_comesTo_85 : decode cX6_comesTo 85 = .ok (.goto 5, 3) := dk_167 0 5 (dk_at dksX6_comesTo_3 13 rfl rfl)
theorem dX6_comesTo_88 : decode cX6_comesTo 88 = .ok (.ldc 199, 2) := dk_18 199 (dk_at dksX6_comesTo_3 16 rfl rfl)
theorem dX6_comesTo_90 : decode cX6_comesTo 90 = .ok (.ireturn, 1) := dk_172 (dk_at dksX6_comesTo_3 18 rfl rfl)
abbrev cX6_both : ByteArray := prog_15_method_73_code
def yX6_both : MethodName := ⟨RX6, "both", "()I"⟩
def dkwX6_both_12 : List UInt8 := [182, 0, 215, 172]
abbrev dktX6_both_12 : List UInt8 := dkwX6_both_12 ++ []
def dkwX6_both_11 : List UInt8 := [181, 0, 187, 42, 28, 181, 0, 190, 42, 3, 181, 0, 193, 42, 29, 153, 0, 7, 28, 167, 0, 4, 2]
abbrev dktX6_both_11 : List UInt8 := dkwX6_both_11 ++ dktX6_both_12
def dkwX6_both_10 : List UInt8 := [4, 167, 0, 4, 3, 62, 28, 29, 153, 0, 7, 4, 167, 0, 4, 3, 96, 61, 167, 255, 104, 42, 27]
abbrev dktX6_both_10 : List UInt8 := dkwX6_both_10 ++ dktX6_both_11
def dkwX6_both_9 : List UInt8 := [42, 4, 182, 0, 204, 172, 132, 9, 1, 167, 255, 197, 132, 8, 1, 167, 255, 165, 27, 21, 6, 164, 0, 7]
abbrev dktX6_both_9 : List UInt8 := dkwX6_both_9 ++ dktX6_both_10
def dkwX6_both_8 : List UInt8 := [42, 21, 4, 21, 5, 4, 96, 182, 1, 121, 153, 0, 6, 132, 1, 1, 27, 42, 180, 0, 45, 164, 0, 9]
abbrev dktX6_both_8 : List UInt8 := dkwX6_both_8 ++ dktX6_both_9
def dkwX6_both_7 : List UInt8 := [7, 162, 0, 59, 42, 21, 8, 182, 1, 77, 42, 42, 180, 0, 128, 21, 9, 182, 1, 14, 2, 159, 0, 19]
abbrev dktX6_both_7 : List UInt8 := dkwX6_both_7 ++ dktX6_both_8
def dkwX6_both_6 : List UInt8 := [162, 0, 90, 42, 21, 4, 21, 8, 182, 1, 118, 21, 5, 159, 0, 6, 167, 0, 68, 3, 54, 9, 21, 9]
abbrev dktX6_both_6 : List UInt8 := dkwX6_both_6 ++ dktX6_both_7
def dkwX6_both_5 : List UInt8 := [54, 4, 28, 5, 108, 54, 5, 27, 54, 6, 42, 180, 1, 51, 54, 7, 3, 54, 8, 21, 8, 21, 7]
abbrev dktX6_both_5 : List UInt8 := dkwX6_both_5 ++ dktX6_both_6
def dkwX6_both_4 : List UInt8 := [182, 0, 204, 172, 3, 61, 4, 62, 29, 153, 0, 154, 42, 3, 182, 1, 124, 154, 0, 146, 28, 5, 112]
abbrev dktX6_both_4 : List UInt8 := dkwX6_both_4 ++ dktX6_both_5
def dkwX6_both_3 : List UInt8 := [3, 182, 1, 121, 153, 0, 7, 4, 167, 0, 4, 3, 96, 60, 27, 42, 180, 0, 45, 164, 0, 9, 42, 4]
abbrev dktX6_both_3 : List UInt8 := dkwX6_both_3 ++ dktX6_both_4
def dkwX6_both_2 : List UInt8 := [162, 0, 21, 42, 180, 0, 128, 28, 42, 180, 0, 99, 28, 46, 79, 132, 2, 1, 167, 255, 233, 27, 42, 4]
abbrev dktX6_both_2 : List UInt8 := dkwX6_both_2 ++ dktX6_both_3
def dkwX6_both_1 : List UInt8 := [182, 1, 121, 153, 0, 7, 4, 167, 0, 4, 3, 60, 42, 182, 1, 43, 3, 61, 28, 42, 180, 0, 170]
abbrev dktX6_both_1 : List UInt8 := dkwX6_both_1 ++ dktX6_both_2
def dkwX6_both_0 : List UInt8 := [42, 182, 1, 39, 153, 0, 9, 42, 4, 182, 0, 204, 172, 42, 182, 1, 58, 42, 182, 1, 87, 42, 3, 3]
abbrev dktX6_both_0 : List UInt8 := dkwX6_both_0 ++ dktX6_both_1
theorem dksX6_both_0 : cX6_both.data.toList.drop 0 = dktX6_both_0 := by decide +kernel
theorem dksX6_both_1 : cX6_both.data.toList.drop 24 = dktX6_both_1 := dk_seg dksX6_both_0 24 rfl rfl
theorem dksX6_both_2 : cX6_both.data.toList.drop 47 = dktX6_both_2 := dk_seg dksX6_both_1 23 rfl rfl
theorem dksX6_both_3 : cX6_both.data.toList.drop 71 = dktX6_both_3 := dk_seg dksX6_both_2 24 rfl rfl
theorem dksX6_both_4 : cX6_both.data.toList.drop 95 = dktX6_both_4 := dk_seg dksX6_both_3 24 rfl rfl
theorem dksX6_both_5 : cX6_both.data.toList.drop 118 = dktX6_both_5 := dk_seg dksX6_both_4 23 rfl rfl
theorem dksX6_both_6 : cX6_both.data.toList.drop 141 = dktX6_both_6 := dk_seg dksX6_both_5 23 rfl rfl
theorem dksX6_both_7 : cX6_both.data.toList.drop 165 = dktX6_both_7 := dk_seg dksX6_both_6 24 rfl rfl
theorem dksX6_both_8 : cX6_both.data.toList.drop 189 = dktX6_both_8 := dk_seg dksX6_both_7 24 rfl rfl
theorem dksX6_both_9 : cX6_both.data.toList.drop 213 = dktX6_both_9 := dk_seg dksX6_both_8 24 rfl rfl
theorem dksX6_both_10 : cX6_both.data.toList.drop 237 = dktX6_both_10 := dk_seg dksX6_both_9 24 rfl rfl
theorem dksX6_both_11 : cX6_both.data.toList.drop 260 = dktX6_both_11 := dk_seg dksX6_both_10 23 rfl rfl
theorem dksX6_both_12 : cX6_both.data.toList.drop 283 = dktX6_both_12 := dk_seg dksX6_both_11 23 rfl rfl
theorem dX6_both_0 : decode cX6_both 0 = .ok (.aload_n 0, 1) := dk_42 (dk_at dksX6_both_0 0 rfl rfl)
theorem dX6_both_1 : decode cX6_both 1 = .ok (.invokevirtual 295, 3) := dk_182 1 39 (dk_at dksX6_both_0 1 rfl rfl)
theorem dX6_both_4 : decode cX6_both 4 = .ok (.ifCond .eq 9, 3) := dk_153 0 9 (dk_at dksX6_both_0 4 rfl rfl)
theorem dX6_both_7 : decode cX6_both 7 = .ok (.aload_n 0, 1) := dk_42 (dk_at dksX6_both_0 7 rfl rfl)
theorem dX6_both_8 : decode cX6_both 8 = .ok (.iconst 1, 1) := dk_4 (dk_at dksX6_both_0 8 rfl rfl)
theorem dX6_both_9 : decode cX6_both 9 = .ok (.invokevirtual 204, 3) := dk_182 0 204 (dk_at dksX6_both_0 9 rfl rfl)
theorem dX6_both_12 : decode cX6_both 12 = .ok (.ireturn, 1) := dk_172 (dk_at dksX6_both_0 12 rfl rfl)
theorem dX6_both_13 : decode cX6_both 13 = .ok (.aload_n 0, 1) := dk_42 (dk_at dksX6_both_0 13 rfl rfl)
theorem dX6_both_14 : decode cX6_both 14 = .ok (.invokevirtual 314, 3) := dk_182 1 58 (dk_at dksX6_both_0 14 rfl rfl)
theorem dX6_both_17 : decode cX6_both 17 = .ok (.aload_n 0, 1) := dk_42 (dk_at dksX6_both_0 17 rfl rfl)
theorem dX6_both_18 : decode cX6_both 18 = .ok (.invokevirtual 343, 3) := dk_182 1 87 (dk_at dksX6_both_0 18 rfl rfl)
theorem dX6_both_21 : decode cX6_both 21 = .ok (.aload_n 0, 1) := dk_42 (dk_at dksX6_both_0 21 rfl rfl)
theorem dX6_both_22 : decode cX6_both 22 = .ok (.iconst 0, 1) := dk_3 (dk_at dksX6_both_0 22 rfl rfl)
theorem dX6_both_23 : decode cX6_both 23 = .ok (.iconst 0, 1) := dk_3 (dk_at dksX6_both_0 23 rfl rfl)
theorem dX6_both_24 : decode cX6_both 24 = .ok (.invokevirtual 377, 3) := dk_182 1 121 (dk_at dksX6_both_1 0 rfl rfl)
theorem dX6_both_27 : decode cX6_both 27 = .ok (.ifCond .eq 7, 3) := dk_153 0 7 (dk_at dksX6_both_1 3 rfl rfl)
theorem dX6_both_30 : decode cX6_both 30 = .ok (.iconst 1, 1) := dk_4 (dk_at dksX6_both_1 6 rfl rfl)
theorem dX6_both_31 : decode cX6_both 31 = .ok (.goto 4, 3) := dk_167 0 4 (dk_at dksX6_both_1 7 rfl rfl)
theorem dX6_both_34 : decode cX6_both 34 = .ok (.iconst 0, 1) := dk_3 (dk_at dksX6_both_1 10 rfl rfl)
theorem dX6_both_35 : decode cX6_both 35 = .ok (.istore_n 1, 1) := dk_60 (dk_at dksX6_both_1 11 rfl rfl)
theorem dX6_both_36 : decode cX6_both 36 = .ok (.aload_n 0, 1) := dk_42 (dk_at dksX6_both_1 12 rfl rfl)
theorem dX6_both_37 : decode cX6_both 37 = .ok (.invokevirtual 299, 3) := dk_182 1 43 (dk_at dksX6_both_1 13 rfl rfl)
theorem dX6_both_40 : decode cX6_both 40 = .ok (.iconst 0, 1) := dk_3 (dk_at dksX6_both_1 16 rfl rfl)
theorem dX6_both_41 : decode cX6_both 41 = .ok (.istore_n 2, 1) := dk_61 (dk_at dksX6_both_1 17 rfl rfl)
theorem dX6_both_42 : decode cX6_both 42 = .ok (.iload_n 2, 1) := dk_28 (dk_at dksX6_both_1 18 rfl rfl)
theorem dX6_both_43 : decode cX6_both 43 = .ok (.aload_n 0, 1) := dk_42 (dk_at dksX6_both_1 19 rfl rfl)
theorem dX6_both_44 : decode cX6_both 44 = .ok (.getfield 170, 3) := dk_180 0 170 (dk_at dksX6_both_1 20 rfl rfl)
theorem dX6_both_47 : decode cX6_both 47 = .ok (.if_icmp .ge 21, 3) := dk_162 0 21 (dk_at dksX6_both_2 0 rfl rfl)
theorem dX6_both_50 : decode cX6_both 50 = .ok (.aload_n 0, 1) := dk_42 (dk_at dksX6_both_2 3 rfl rfl)
theorem dX6_both_51 : decode cX6_both 51 = .ok (.getfield 128, 3) := dk_180 0 128 (dk_at dksX6_both_2 4 rfl rfl)
theorem dX6_both_54 : decode cX6_both 54 = .ok (.iload_n 2, 1) := dk_28 (dk_at dksX6_both_2 7 rfl rfl)
theorem dX6_both_55 : decode cX6_both 55 = .ok (.aload_n 0, 1) := dk_42 (dk_at dksX6_both_2 8 rfl rfl)
theorem dX6_both_56 : decode cX6_both 56 = .ok (.getfield 99, 3) := dk_180 0 99 (dk_at dksX6_both_2 9 rfl rfl)
theorem dX6_both_59 : decode cX6_both 59 = .ok (.iload_n 2, 1) := dk_28 (dk_at dksX6_both_2 12 rfl rfl)
theorem dX6_both_60 : decode cX6_both 60 = .ok (.iaload, 1) := dk_46 (dk_at dksX6_both_2 13 rfl rfl)
theorem dX6_both_61 : decode cX6_both 61 = .ok (.iastore, 1) := dk_79 (dk_at dksX6_both_2 14 rfl rfl)
theorem dX6_both_62 : decode cX6_both 62 = .ok (.iinc 2 1, 3) := dk_132 2 1 (dk_at dksX6_both_2 15 rfl rfl)
theorem dX6_both_65 : decode cX6_both 65 = .ok (.goto (-23), 3) := dk_167 255 233 (dk_at dksX6_both_2 18 rfl rfl)
theorem dX6_both_68 : decode cX6_both 68 = .ok (.iload_n 1, 1) := dk_27 (dk_at dksX6_both_2 21 rfl rfl)
theorem dX6_both_69 : decode cX6_both 69 = .ok (.aload_n 0, 1) := dk_42 (dk_at dksX6_both_2 22 rfl rfl)
theorem dX6_both_70 : decode cX6_both 70 = .ok (.iconst 1, 1) := dk_4 (dk_at dksX6_both_2 23 rfl rfl)
theorem dX6_both_71 : decode cX6_both 71 = .ok (.iconst 0, 1) := dk_3 (dk_at dksX6_both_3 0 rfl rfl)
theorem dX6_both_72 : decode cX6_both 72 = .ok (.invokevirtual 377, 3) := dk_182 1 121 (dk_at dksX6_both_3 1 rfl rfl)
theorem dX6_both_75 : decode cX6_both 75 = .ok (.ifCond .eq 7, 3) := dk_153 0 7 (dk_at dksX6_both_3 4 rfl rfl)
theorem dX6_both_78 : decode cX6_both 78 = .ok (.iconst 1, 1) := dk_4 (dk_at dksX6_both_3 7 rfl rfl)
theorem dX6_both_79 : decode cX6_both 79 = .ok (.goto 4, 3) := dk_167 0 4 (dk_at dksX6_both_3 8 rfl rfl)
theorem dX6_both_82 : decode cX6_both 82 = .ok (.iconst 0, 1) := dk_3 (dk_at dksX6_both_3 11 rfl rfl)
theorem dX6_both_83 : decode cX6_both 83 = .ok (.iadd, 1) := dk_96 (dk_at dksX6_both_3 12 rfl rfl)
theorem dX6_both_84 : decode cX6_both 84 = .ok (.istore_n 1, 1) := dk_60 (dk_at dksX6_both_3 13 rfl rfl)
theorem dX6_both_85 : decode cX6_both 85 = .ok (.iload_n 1, 1) := dk_27 (dk_at dksX6_both_3 14 rfl rfl)
theorem dX6_both_86 : decode cX6_both 86 = .ok (.aload_n 0, 1) := dk_42 (dk_at dksX6_both_3 15 rfl rfl)
theorem dX6_both_87 : decode cX6_both 87 = .ok (.getfield 45, 3) := dk_180 0 45 (dk_at dksX6_both_3 16 rfl rfl)
theorem dX6_both_90 : decode cX6_both 90 = .ok (.if_icmp .le 9, 3) := dk_164 0 9 (dk_at dksX6_both_3 19 rfl rfl)
theorem dX6_both_93 : decode cX6_both 93 = .ok (.aload_n 0, 1) := dk_42 (dk_at dksX6_both_3 22 rfl rfl)
theorem dX6_both_94 : decode cX6_both 94 = .ok (.iconst 1, 1) := dk_4 (dk_at dksX6_both_3 23 rfl rfl)
theorem dX6_both_95 : decode cX6_both 95 = .ok (.invokevirtual 204, 3) := dk_182 0 204 (dk_at dksX6_both_4 0 rfl rfl)
theorem dX6_both_98 : decode cX6_both 98 = .ok (.ireturn, 1) := dk_172 (dk_at dksX6_both_4 3 rfl rfl)
theorem dX6_both_99 : decode cX6_both 99 = .ok (.iconst 0, 1) := dk_3 (dk_at dksX6_both_4 4 rfl rfl)
theorem dX6_both_100 : decode cX6_both 100 = .ok (.istore_n 2, 1) := dk_61 (dk_at dksX6_both_4 5 rfl rfl)
theorem dX6_both_101 : decode cX6_both 101 = .ok (.iconst 1, 1) := dk_4 (dk_at dksX6_both_4 6 rfl rfl)
theorem dX6_both_102 : decode cX6_both 102 = .ok (.istore_n 3, 1) := dk_62 (dk_at dksX6_both_4 7 rfl rfl)
theorem dX6_both_103 : decode cX6_both 103 = .ok (.iload_n 3, 1) := dk_29 (dk_at dksX6_both_4 8 rfl rfl)
theorem dX6_both_104 : decode cX6_both 104 = .ok (.ifCond .eq 154, 3) := dk_153 0 154 (dk_at dksX6_both_4 9 rfl rfl)
theorem dX6_both_107 : decode cX6_both 107 = .ok (.aload_n 0, 1) := dk_42 (dk_at dksX6_both_4 12 rfl rfl)
theorem dX6_both_108 : decode cX6_both 108 = .ok (.iconst 0, 1) := dk_3 (dk_at dksX6_both_4 13 rfl rfl)
theorem dX6_both_109 : decode cX6_both 109 = .ok (.invokevirtual 380, 3) := dk_182 1 124 (dk_at dksX6_both_4 14 rfl rfl)
theorem dX6_both_112 : decode cX6_both 112 = .ok (.ifCond .ne 146, 3) := dk_154 0 146 (dk_at dksX6_both_4 17 rfl rfl)
theorem dX6_both_115 : decode cX6_both 115 = .ok (.iload_n 2, 1) := dk_28 (dk_at dksX6_both_4 20 rfl rfl)
theorem dX6_both_116 : decode cX6_both 116 = .ok (.iconst 2, 1) := dk_5 (dk_at dksX6_both_4 21 rfl rfl)
theorem dX6_both_117 : decode cX6_both 117 = .ok (.irem, 1) := dk_112 (dk_at dksX6_both_4 22 rfl rfl)
theorem dX6_both_118 : decode cX6_both 118 = .ok (.istore 4, 2) := dk_54 4 (dk_at dksX6_both_5 0 rfl rfl)
theorem dX6_both_120 : decode cX6_both 120 = .ok (.iload_n 2, 1) := dk_28 (dk_at dksX6_both_5 2 rfl rfl)
theorem dX6_both_121 : decode cX6_both 121 = .ok (.iconst 2, 1) := dk_5 (dk_at dksX6_both_5 3 rfl rfl)
theorem dX6_both_122 : decode cX6_both 122 = .ok (.idiv, 1) := dk_108 (dk_at dksX6_both_5 4 rfl rfl)
theorem dX6_both_123 : decode cX6_both 123 = .ok (.istore 5, 2) := dk_54 5 (dk_at dksX6_both_5 5 rfl rfl)
theorem dX6_both_125 : decode cX6_both 125 = .ok (.iload_n 1, 1) := dk_27 (dk_at dksX6_both_5 7 rfl rfl)
theorem dX6_both_126 : decode cX6_both 126 = .ok (.istore 6, 2) := dk_54 6 (dk_at dksX6_both_5 8 rfl rfl)
theorem dX6_both_128 : decode cX6_both 128 = .ok (.aload_n 0, 1) := dk_42 (dk_at dksX6_both_5 10 rfl rfl)
theorem dX6_both_129 : decode cX6_both 129 = .ok (.getfield 307, 3) := dk_180 1 51 (dk_at dksX6_both_5 11 rfl rfl)
theorem dX6_both_132 : decode cX6_both 132 = .ok (.istore 7, 2) := dk_54 7 (dk_at dksX6_both_5 14 rfl rfl)
theorem dX6_both_134 : decode cX6_both 134 = .ok (.iconst 0, 1) := dk_3 (dk_at dksX6_both_5 16 rfl rfl)
theorem dX6_both_135 : decode cX6_both 135 = .ok (.istore 8, 2) := dk_54 8 (dk_at dksX6_both_5 17 rfl rfl)
theorem dX6_both_137 : decode cX6_both 137 = .ok (.iload 8, 2) := dk_21 8 (dk_at dksX6_both_5 19 rfl rfl)
theorem dX6_both_139 : decode cX6_both 139 = .ok (.iload 7, 2) := dk_21 7 (dk_at dksX6_both_5 21 rfl rfl)
theorem dX6_both_141 : decode cX6_both 141 = .ok (.if_icmp .ge 90, 3) := dk_162 0 90 (dk_at dksX6_both_6 0 rfl rfl)
theorem dX6_both_144 : decode cX6_both 144 = .ok (.aload_n 0, 1) := dk_42 (dk_at dksX6_both_6 3 rfl rfl)
theorem dX6_both_145 : decode cX6_both 145 = .ok (.iload 4, 2) := dk_21 4 (dk_at dksX6_both_6 4 rfl rfl)
theorem dX6_both_147 : decode cX6_both 147 = .ok (.iload 8, 2) := dk_21 8 (dk_at dksX6_both_6 6 rfl rfl)
theorem dX6_both_149 : decode cX6_both 149 = .ok (.invokevirtual 374, 3) := dk_182 1 118 (dk_at dksX6_both_6 8 rfl rfl)
theorem dX6_both_152 : decode cX6_both 152 = .ok (.iload 5, 2) := dk_21 5 (dk_at dksX6_both_6 11 rfl rfl)
theorem dX6_both_154 : decode cX6_both 154 = .ok (.if_icmp .eq 6, 3) := dk_159 0 6 (dk_at dksX6_both_6 13 rfl rfl)
theorem dX6_both_157 : decode cX6_both 157 = .ok (.goto 68, 3) := dk_167 0 68 (dk_at dksX6_both_6 16 rfl rfl)
theorem dX6_both_160 : decode cX6_both 160 = .ok (.iconst 0, 1) := dk_3 (dk_at dksX6_both_6 19 rfl rfl)
theorem dX6_both_161 : decode cX6_both 161 = .ok (.istore 9, 2) := dk_54 9 (dk_at dksX6_both_6 20 rfl rfl)
theorem dX6_both_163 : decode cX6_both 163 = .ok (.iload 9, 2) := dk_21 9 (dk_at dksX6_both_6 22 rfl rfl)
theorem dX6_both_165 : decode cX6_both 165 = .ok (.iconst 4, 1) := dk_7 (dk_at dksX6_both_7 0 rfl rfl)
theorem dX6_both_166 : decode cX6_both 166 = .ok (.if_icmp .ge 59, 3) := dk_162 0 59 (dk_at dksX6_both_7 1 rfl rfl)
theorem dX6_both_169 : decode cX6_both 169 = .ok (.aload_n 0, 1) := dk_42 (dk_at dksX6_both_7 4 rfl rfl)
theorem dX6_both_170 : decode cX6_both 170 = .ok (.iload 8, 2) := dk_21 8 (dk_at dksX6_both_7 5 rfl rfl)
theorem dX6_both_172 : decode cX6_both 172 = .ok (.invokevirtual 333, 3) := dk_182 1 77 (dk_at dksX6_both_7 7 rfl rfl)
theorem dX6_both_175 : decode cX6_both 175 = .ok (.aload_n 0, 1) := dk_42 (dk_at dksX6_both_7 10 rfl rfl)
theorem dX6_both_176 : decode cX6_both 176 = .ok (.aload_n 0, 1) := dk_42 (dk_at dksX6_both_7 11 rfl rfl)
theorem dX6_both_177 : decode cX6_both 177 = .ok (.getfield 128, 3) := dk_180 0 128 (dk_at dksX6_both_7 12 rfl rfl)
theorem dX6_both_180 : decode cX6_both 180 = .ok (.iload 9, 2) := dk_21 9 (dk_at dksX6_both_7 15 rfl rfl)
theorem dX6_both_182 : decode cX6_both 182 = .ok (.invokevirtual 270, 3) := dk_182 1 14 (dk_at dksX6_both_7 17 rfl rfl)
theorem dX6_both_185 : decode cX6_both 185 = .ok (.iconst (-1), 1) := dk_2 (dk_at dksX6_both_7 20 rfl rfl)
theorem dX6_both_186 : decode cX6_both 186 = .ok (.if_icmp .eq 19, 3) := dk_159 0 19 (dk_at dksX6_both_7 21 rfl rfl)
theorem dX6_both_189 : decode cX6_both 189 = .ok (.aload_n 0, 1) := dk_42 (dk_at dksX6_both_8 0 rfl rfl)
theorem dX6_both_190 : decode cX6_both 190 = .ok (.iload 4, 2) := dk_21 4 (dk_at dksX6_both_8 1 rfl rfl)
theorem dX6_both_192 : decode cX6_both 192 = .ok (.iload 5, 2) := dk_21 5 (dk_at dksX6_both_8 3 rfl rfl)
theorem dX6_both_194 : decode cX6_both 194 = .ok (.iconst 1, 1) := dk_4 (dk_at dksX6_both_8 5 rfl rfl)
theorem dX6_both_195 : decode cX6_both 195 = .ok (.iadd, 1) := dk_96 (dk_at dksX6_both_8 6 rfl rfl)
theorem dX6_both_196 : decode cX6_both 196 = .ok (.invokevirtual 377, 3) := dk_182 1 121 (dk_at dksX6_both_8 7 rfl rfl)
theorem dX6_both_199 : decode cX6_both 199 = .ok (.ifCond .eq 6, 3) := dk_153 0 6 (dk_at dksX6_both_8 10 rfl rfl)
theorem dX6_both_202 : decode cX6_both 202 = .ok (.iinc 1 1, 3) := dk_132 1 1 (dk_at dksX6_both_8 13 rfl rfl)
theorem dX6_both_205 : decode cX6_both 205 = .ok (.iload_n 1, 1) := dk_27 (dk_at dksX6_both_8 16 rfl rfl)
theorem dX6_both_206 : decode cX6_both 206 = .ok (.aload_n 0, 1) := dk_42 (dk_at dksX6_both_8 17 rfl rfl)
theorem dX6_both_207 : decode cX6_both 207 = .ok (.getfield 45, 3) := dk_180 0 45 (dk_at dksX6_both_8 18 rfl rfl)
theorem dX6_both_210 : decode cX6_both 210 = .ok (.if_icmp .le 9, 3) := dk_164 0 9 (dk_at dksX6_both_8 21 rfl rfl)
theorem dX6_both_213 : decode cX6_both 213 = .ok (.aload_n 0, 1) := dk_42 (dk_at dksX6_both_9 0 rfl rfl)
theorem dX6_both_214 : decode cX6_both 214 = .ok (.iconst 1, 1) := dk_4 (dk_at dksX6_both_9 1 rfl rfl)
theorem dX6_both_215 : decode cX6_both 215 = .ok (.invokevirtual 204, 3) := dk_182 0 204 (dk_at dksX6_both_9 2 rfl rfl)
theorem dX6_both_218 : decode cX6_both 218 = .ok (.ireturn, 1) := dk_172 (dk_at dksX6_both_9 5 rfl rfl)
theorem dX6_both_219 : decode cX6_both 219 = .ok (.iinc 9 1, 3) := dk_132 9 1 (dk_at dksX6_both_9 6 rfl rfl)
theorem dX6_both_222 : decode cX6_both 222 = .ok (.goto (-59), 3) := dk_167 255 197 (dk_at dksX6_both_9 9 rfl rfl)
theorem dX6_both_225 : decode cX6_both 225 = .ok (.iinc 8 1, 3) := dk_132 8 1 (dk_at dksX6_both_9 12 rfl rfl)
theorem dX6_both_228 : decode cX6_both 228 = .ok (.goto (-91), 3) := dk_167 255 165 (dk_at dksX6_both_9 15 rfl rfl)
theorem dX6_both_231 : decode cX6_both 231 = .ok (.iload_n 1, 1) := dk_27 (dk_at dksX6_both_9 18 rfl rfl)
theorem dX6_both_232 : decode cX6_both 232 = .ok (.iload 6, 2) := dk_21 6 (dk_at dksX6_both_9 19 rfl rfl)
theorem dX6_both_234 : decode cX6_both 234 = .ok (.if_icmp .le 7, 3) := dk_164 0 7 (dk_at dksX6_both_9 21 rfl rfl)
theorem dX6_both_237 : decode cX6_both 237 = .ok (.iconst 1, 1) := dk_4 (dk_at dksX6_both_10 0 rfl rfl)
theorem dX6_both_238 : decode cX6_both 238 = .ok (.goto 4, 3) := dk_167 0 4 (dk_at dksX6_both_10 1 rfl rfl)
theorem dX6_both_241 : decode cX6_both 241 = .ok (.iconst 0, 1) := dk_3 (dk_at dksX6_both_10 4 rfl rfl)
theorem dX6_both_242 : decode cX6_both 242 = .ok (.istore_n 3, 1) := dk_62 (dk_at dksX6_both_10 5 rfl rfl)
theorem dX6_both_243 : decode cX6_both 243 = .ok (.iload_n 2, 1) := dk_28 (dk_at dksX6_both_10 6 rfl rfl)
theorem dX6_both_244 : decode cX6_both 244 = .ok (.iload_n 3, 1) := dk_29 (dk_at dksX6_both_10 7 rfl rfl)
theorem dX6_both_245 : decode cX6_both 245 = .ok (.ifCond .eq 7, 3) := dk_153 0 7 (dk_at dksX6_both_10 8 rfl rfl)
theorem dX6_both_248 : decode cX6_both 248 = .ok (.iconst 1, 1) := dk_4 (dk_at dksX6_both_10 11 rfl rfl)
theorem dX6_both_249 : decode cX6_both 249 = .ok (.goto 4, 3) := dk_167 0 4 (dk_at dksX6_both_10 12 rfl rfl)
theorem dX6_both_252 : decode cX6_both 252 = .ok (.iconst 0, 1) := dk_3 (dk_at dksX6_both_10 15 rfl rfl)
theorem dX6_both_253 : decode cX6_both 253 = .ok (.iadd, 1) := dk_96 (dk_at dksX6_both_10 16 rfl rfl)
theorem dX6_both_254 : decode cX6_both 254 = .ok (.istore_n 2, 1) := dk_61 (dk_at dksX6_both_10 17 rfl rfl)
theorem dX6_both_255 : decode cX6_both 255 = .ok (.goto (-152), 3) := dk_167 255 104 (dk_at dksX6_both_10 18 rfl rfl)
theorem dX6_both_258 : decode cX6_both 258 = .ok (.aload_n 0, 1) := dk_42 (dk_at dksX6_both_10 21 rfl rfl)
theorem dX6_both_259 : decode cX6_both 259 = .ok (.iload_n 1, 1) := dk_27 (dk_at dksX6_both_10 22 rfl rfl)
theorem dX6_both_260 : decode cX6_both 260 = .ok (.putfield 187, 3) := dk_181 0 187 (dk_at dksX6_both_11 0 rfl rfl)
theorem dX6_both_263 : decode cX6_both 263 = .ok (.aload_n 0, 1) := dk_42 (dk_at dksX6_both_11 3 rfl rfl)
theorem dX6_both_264 : decode cX6_both 264 = .ok (.iload_n 2, 1) := dk_28 (dk_at dksX6_both_11 4 rfl rfl)
theorem dX6_both_265 : decode cX6_both 265 = .ok (.putfield 190, 3) := dk_181 0 190 (dk_at dksX6_both_11 5 rfl rfl)
theorem dX6_both_268 : decode cX6_both 268 = .ok (.aload_n 0, 1) := dk_42 (dk_at dksX6_both_11 8 rfl rfl)
theorem dX6_both_269 : decode cX6_both 269 = .ok (.iconst 0, 1) := dk_3 (dk_at dksX6_both_11 9 rfl rfl)
theorem dX6_both_270 : decode cX6_both 270 = .ok (.putfield 193, 3) := dk_181 0 193 (dk_at dksX6_both_11 10 rfl rfl)
theorem dX6_both_273 : decode cX6_both 273 = .ok (.aload_n 0, 1) := dk_42 (dk_at dksX6_both_11 13 rfl rfl)
theorem dX6_both_274 : decode cX6_both 274 = .ok (.iload_n 3, 1) := dk_29 (dk_at dksX6_both_11 14 rfl rfl)
theorem dX6_both_275 : decode cX6_both 275 = .ok (.ifCond .eq 7, 3) := dk_153 0 7 (dk_at dksX6_both_11 15 rfl rfl)
theorem dX6_both_278 : decode cX6_both 278 = .ok (.iload_n 2, 1) := dk_28 (dk_at dksX6_both_11 18 rfl rfl)
theorem dX6_both_279 : decode cX6_both 279 = .ok (.goto 4, 3) := dk_167 0 4 (dk_at dksX6_both_11 19 rfl rfl)
theorem dX6_both_282 : decode cX6_both 282 = .ok (.iconst (-1), 1) := dk_2 (dk_at dksX6_both_11 22 rfl rfl)
theorem dX6_both_283 : decode cX6_both 283 = .ok (.invokevirtual 215, 3) := dk_182 0 215 (dk_at dksX6_both_12 0 rfl rfl)
theorem dX6_both_286 : decode cX6_both 286 = .ok (.ireturn, 1) := dk_172 (dk_at dksX6_both_12 3 rfl rfl)
abbrev cX6_findsFrom : ByteArray := prog_15_method_71_code
def yX6_findsFrom : MethodName := ⟨RX6, "findsFrom", "(II)Z"⟩
def dkwX6_findsFrom_3 : List UInt8 := [172]
abbrev dktX6_findsFrom_3 : List UInt8 := dkwX6_findsFrom_3 ++ []
def dkwX6_findsFrom_2 : List UInt8 := [182, 1, 118, 2, 159, 0, 5, 3, 172, 42, 180, 0, 146, 17, 16, 5, 27, 104, 21, 4, 96, 28, 79, 4]
abbrev dktX6_findsFrom_2 : List UInt8 := dkwX6_findsFrom_2 ++ dktX6_findsFrom_3
def dkwX6_findsFrom_1 : List UInt8 := [180, 0, 146, 21, 4, 2, 79, 42, 180, 0, 146, 17, 16, 5, 21, 4, 96, 2, 79, 42, 27, 21, 4]
abbrev dktX6_findsFrom_1 : List UInt8 := dkwX6_findsFrom_1 ++ dktX6_findsFrom_2
def dkwX6_findsFrom_0 : List UInt8 := [42, 180, 1, 51, 62, 42, 3, 2, 2, 3, 182, 1, 70, 54, 4, 42, 180, 1, 51, 29, 164, 0, 23, 42]
abbrev dktX6_findsFrom_0 : List UInt8 := dkwX6_findsFrom_0 ++ dktX6_findsFrom_1
theorem dksX6_findsFrom_0 : cX6_findsFrom.data.toList.drop 0 = dktX6_findsFrom_0 := by decide +kernel
theorem dksX6_findsFrom_1 : cX6_findsFrom.data.toList.drop 24 = dktX6_findsFrom_1 := dk_seg dksX6_findsFrom_0 24 rfl rfl
theorem dksX6_findsFrom_2 : cX6_findsFrom.data.toList.drop 47 = dktX6_findsFrom_2 := dk_seg dksX6_findsFrom_1 23 rfl rfl
theorem dksX6_findsFrom_3 : cX6_findsFrom.data.toList.drop 71 = dktX6_findsFrom_3 := dk_seg dksX6_findsFrom_2 24 rfl rfl
theorem dX6_findsFrom_0 : decode cX6_findsFrom 0 = .ok (.aload_n 0, 1) := dk_42 (dk_at dksX6_findsFrom_0 0 rfl rfl)
theorem dX6_findsFrom_1 : decode cX6_findsFrom 1 = .ok (.getfield 307, 3) := dk_180 1 51 (dk_at dksX6_findsFrom_0 1 rfl rfl)
theorem dX6_findsFrom_4 : decode cX6_findsFrom 4 = .ok (.istore_n 3, 1) := dk_62 (dk_at dksX6_findsFrom_0 4 rfl rfl)
theorem dX6_findsFrom_5 : decode cX6_findsFrom 5 = .ok (.aload_n 0, 1) := dk_42 (dk_at dksX6_findsFrom_0 5 rfl rfl)
theorem dX6_findsFrom_6 : decode cX6_findsFrom 6 = .ok (.iconst 0, 1) := dk_3 (dk_at dksX6_findsFrom_0 6 rfl rfl)
theorem dX6_findsFrom_7 : decode cX6_findsFrom 7 = .ok (.iconst (-1), 1) := dk_2 (dk_at dksX6_findsFrom_0 7 rfl rfl)
theorem dX6_findsFrom_8 : decode cX6_findsFrom 8 = .ok (.iconst (-1), 1) := dk_2 (dk_at dksX6_findsFrom_0 8 rfl rfl)
theorem dX6_findsFrom_9 : decode cX6_findsFrom 9 = .ok (.iconst 0, 1) := dk_3 (dk_at dksX6_findsFrom_0 9 rfl rfl)
theorem dX6_findsFrom_10 : decode cX6_findsFrom 10 = .ok (.invokevirtual 326, 3) := dk_182 1 70 (dk_at dksX6_findsFrom_0 10 rfl rfl)
theorem dX6_findsFrom_13 : decode cX6_findsFrom 13 = .ok (.istore 4, 2) := dk_54 4 (dk_at dksX6_findsFrom_0 13 rfl rfl)
theorem dX6_findsFrom_15 : decode cX6_findsFrom 15 = .ok (.aload_n 0, 1) := dk_42 (dk_at dksX6_findsFrom_0 15 rfl rfl)
theorem dX6_findsFrom_16 : decode cX6_findsFrom 16 = .ok (.getfield 307, 3) := dk_180 1 51 (dk_at dksX6_findsFrom_0 16 rfl rfl)
theorem dX6_findsFrom_19 : decode cX6_findsFrom 19 = .ok (.iload_n 3, 1) := dk_29 (dk_at dksX6_findsFrom_0 19 rfl rfl)
theorem dX6_findsFrom_20 : decode cX6_findsFrom 20 = .ok (.if_icmp .le 23, 3) := dk_164 0 23 (dk_at dksX6_findsFrom_0 20 rfl rfl)
theorem dX6_findsFrom_23 : decode cX6_findsFrom 23 = .ok (.aload_n 0, 1) := dk_42 (dk_at dksX6_findsFrom_0 23 rfl rfl)
theorem dX6_findsFrom_24 : decode cX6_findsFrom 24 = .ok (.getfield 146, 3) := dk_180 0 146 (dk_at dksX6_findsFrom_1 0 rfl rfl)
theorem dX6_findsFrom_27 : decode cX6_findsFrom 27 = .ok (.iload 4, 2) := dk_21 4 (dk_at dksX6_findsFrom_1 3 rfl rfl)
theorem dX6_findsFrom_29 : decode cX6_findsFrom 29 = .ok (.iconst (-1), 1) := dk_2 (dk_at dksX6_findsFrom_1 5 rfl rfl)
theorem dX6_findsFrom_30 : decode cX6_findsFrom 30 = .ok (.iastore, 1) := dk_79 (dk_at dksX6_findsFrom_1 6 rfl rfl)
theorem dX6_findsFrom_31 : decode cX6_findsFrom 31 = .ok (.aload_n 0, 1) := dk_42 (dk_at dksX6_findsFrom_1 7 rfl rfl)
theorem dX6_findsFrom_32 : decode cX6_findsFrom 32 = .ok (.getfield 146, 3) := dk_180 0 146 (dk_at dksX6_findsFrom_1 8 rfl rfl)
theorem dX6_findsFrom_35 : decode cX6_findsFrom 35 = .ok (.sipush 4101, 3) := dk_17 16 5 (dk_at dksX6_findsFrom_1 11 rfl rfl)
theorem dX6_findsFrom_38 : decode cX6_findsFrom 38 = .ok (.iload 4, 2) := dk_21 4 (dk_at dksX6_findsFrom_1 14 rfl rfl)
theorem dX6_findsFrom_40 : decode cX6_findsFrom 40 = .ok (.iadd, 1) := dk_96 (dk_at dksX6_findsFrom_1 16 rfl rfl)
theorem dX6_findsFrom_41 : decode cX6_findsFrom 41 = .ok (.iconst (-1), 1) := dk_2 (dk_at dksX6_findsFrom_1 17 rfl rfl)
theorem dX6_findsFrom_42 : decode cX6_findsFrom 42 = .ok (.iastore, 1) := dk_79 (dk_at dksX6_findsFrom_1 18 rfl rfl)
theorem dX6_findsFrom_43 : decode cX6_findsFrom 43 = .ok (.aload_n 0, 1) := dk_42 (dk_at dksX6_findsFrom_1 19 rfl rfl)
theorem dX6_findsFrom_44 : decode cX6_findsFrom 44 = .ok (.iload_n 1, 1) := dk_27 (dk_at dksX6_findsFrom_1 20 rfl rfl)
theorem dX6_findsFrom_45 : decode cX6_findsFrom 45 = .ok (.iload 4, 2) := dk_21 4 (dk_at dksX6_findsFrom_1 21 rfl rfl)
theorem dX6_findsFrom_47 : decode cX6_findsFrom 47 = .ok (.invokevirtual 374, 3) := dk_182 1 118 (dk_at dksX6_findsFrom_2 0 rfl rfl)
theorem dX6_findsFrom_50 : decode cX6_findsFrom 50 = .ok (.iconst (-1), 1) := dk_2 (dk_at dksX6_findsFrom_2 3 rfl rfl)
theorem dX6_findsFrom_51 : decode cX6_findsFrom 51 = .ok (.if_icmp .eq 5, 3) := dk_159 0 5 (dk_at dksX6_findsFrom_2 4 rfl rfl)
theorem dX6_findsFrom_54 : decode cX6_findsFrom 54 = .ok (.iconst 0, 1) := dk_3 (dk_at dksX6_findsFrom_2 7 rfl rfl)
theorem dX6_findsFrom_55 : decode cX6_findsFrom 55 = .ok (.ireturn, 1) := dk_172 (dk_at dksX6_findsFrom_2 8 rfl rfl)
theorem dX6_findsFrom_56 : decode cX6_findsFrom 56 = .ok (.aload_n 0, 1) := dk_42 (dk_at dksX6_findsFrom_2 9 rfl rfl)
theorem dX6_findsFrom_57 : decode cX6_findsFrom 57 = .ok (.getfield 146, 3) := dk_180 0 146 (dk_at dksX6_findsFrom_2 10 rfl rfl)
theorem dX6_findsFrom_60 : decode cX6_findsFrom 60 = .ok (.sipush 4101, 3) := dk_17 16 5 (dk_at dksX6_findsFrom_2 13 rfl rfl)
theorem dX6_findsFrom_63 : decode cX6_findsFrom 63 = .ok (.iload_n 1, 1) := dk_27 (dk_at dksX6_findsFrom_2 16 rfl rfl)
theorem dX6_findsFrom_64 : decode cX6_findsFrom 64 = .ok (.imul, 1) := dk_104 (dk_at dksX6_findsFrom_2 17 rfl rfl)
theorem dX6_findsFrom_65 : decode cX6_findsFrom 65 = .ok (.iload 4, 2) := dk_21 4 (dk_at dksX6_findsFrom_2 18 rfl rfl)
theorem dX6_findsFrom_67 : decode cX6_findsFrom 67 = .ok (.iadd, 1) := dk_96 (dk_at dksX6_findsFrom_2 20 rfl rfl)
theorem dX6_findsFrom_68 : decode cX6_findsFrom 68 = .ok (.iload_n 2, 1) := dk_28 (dk_at dksX6_findsFrom_2 21 rfl rfl)
theorem dX6_findsFrom_69 : decode cX6_findsFrom 69 = .ok (.iastore, 1) := dk_79 (dk_at dksX6_findsFrom_2 22 rfl rfl)
theorem dX6_findsFrom_70 : decode cX6_findsFrom 70 = .ok (.iconst 1, 1) := dk_4 (dk_at dksX6_findsFrom_2 23 rfl rfl)
theorem dX6_findsFrom_71 : decode cX6_findsFrom 71 = .ok (.ireturn, 1) := dk_172 (dk_at dksX6_findsFrom_3 0 rfl rfl)
abbrev cX6_asked : ByteArray := prog_15_method_70_code
def yX6_asked : MethodName := ⟨RX6, "asked", "(II)I"⟩
def dkwX6_asked_0 : List UInt8 := [42, 180, 0, 146, 17, 16, 5, 27, 104, 28, 96, 46, 172]
abbrev dktX6_asked_0 : List UInt8 := dkwX6_asked_0 ++ []
theorem dksX6_asked_0 : cX6_asked.data.toList.drop 0 = dktX6_asked_0 := by decide +kernel
theorem dX6_asked_0 : decode cX6_asked 0 = .ok (.aload_n 0, 1) := dk_42 (dk_at dksX6_asked_0 0 rfl rfl)
theorem dX6_asked_1 : decode cX6_asked 1 = .ok (.getfield 146, 3) := dk_180 0 146 (dk_at dksX6_asked_0 1 rfl rfl)
theorem dX6_asked_4 : decode cX6_asked 4 = .ok (.sipush 4101, 3) := dk_17 16 5 (dk_at dksX6_asked_0 4 rfl rfl)
theorem dX6_asked_7 : decode cX6_asked 7 = .ok (.iload_n 1, 1) := dk_27 (dk_at dksX6_asked_0 7 rfl rfl)
theorem dX6_asked_8 : decode cX6_asked 8 = .ok (.imul, 1) := dk_104 (dk_at dksX6_asked_0 8 rfl rfl)
theorem dX6_asked_9 : decode cX6_asked 9 = .ok (.iload_n 2, 1) := dk_28 (dk_at dksX6_asked_0 9 rfl rfl)
theorem dX6_asked_10 : decode cX6_asked 10 = .ok (.iadd, 1) := dk_96 (dk_at dksX6_asked_0 10 rfl rfl)
theorem dX6_asked_11 : decode cX6_asked 11 = .ok (.iaload, 1) := dk_46 (dk_at dksX6_asked_0 11 rfl rfl)
theorem dX6_asked_12 : decode cX6_asked 12 = .ok (.ireturn, 1) := dk_172 (dk_at dksX6_asked_0 12 rfl rfl)
abbrev cX6_isMet : ByteArray := prog_15_method_72_code
def yX6_isMet : MethodName := ⟨RX6, "isMet", "(I)Z"⟩
def dkwX6_isMet_2 : List UInt8 := [167, 255, 215, 28, 172]
abbrev dktX6_isMet_2 : List UInt8 := dkwX6_isMet_2 ++ []
def dkwX6_isMet_1 : List UInt8 := [159, 0, 17, 42, 4, 29, 182, 1, 118, 2, 159, 0, 7, 4, 167, 0, 4, 3, 61, 132, 3, 1]
abbrev dktX6_isMet_1 : List UInt8 := dkwX6_isMet_1 ++ dktX6_isMet_2
def dkwX6_isMet_0 : List UInt8 := [3, 61, 27, 62, 29, 42, 180, 1, 51, 162, 0, 39, 28, 154, 0, 23, 42, 3, 29, 182, 1, 118, 2]
abbrev dktX6_isMet_0 : List UInt8 := dkwX6_isMet_0 ++ dktX6_isMet_1
theorem dksX6_isMet_0 : cX6_isMet.data.toList.drop 0 = dktX6_isMet_0 := by decide +kernel
theorem dksX6_isMet_1 : cX6_isMet.data.toList.drop 23 = dktX6_isMet_1 := dk_seg dksX6_isMet_0 23 rfl rfl
theorem dksX6_isMet_2 : cX6_isMet.data.toList.drop 45 = dktX6_isMet_2 := dk_seg dksX6_isMet_1 22 rfl rfl
theorem dX6_isMet_0 : decode cX6_isMet 0 = .ok (.iconst 0, 1) := dk_3 (dk_at dksX6_isMet_0 0 rfl rfl)
theorem dX6_isMet_1 : decode cX6_isMet 1 = .ok (.istore_n 2, 1) := dk_61 (dk_at dksX6_isMet_0 1 rfl rfl)
theorem dX6_isMet_2 : decode cX6_isMet 2 = .ok (.iload_n 1, 1) := dk_27 (dk_at dksX6_isMet_0 2 rfl rfl)
theorem dX6_isMet_3 : decode cX6_isMet 3 = .ok (.istore_n 3, 1) := dk_62 (dk_at dksX6_isMet_0 3 rfl rfl)
theorem dX6_isMet_4 : decode cX6_isMet 4 = .ok (.iload_n 3, 1) := dk_29 (dk_at dksX6_isMet_0 4 rfl rfl)
theorem dX6_isMet_5 : decode cX6_isMet 5 = .ok (.aload_n 0, 1) := dk_42 (dk_at dksX6_isMet_0 5 rfl rfl)
theorem dX6_isMet_6 : decode cX6_isMet 6 = .ok (.getfield 307, 3) := dk_180 1 51 (dk_at dksX6_isMet_0 6 rfl rfl)
theorem dX6_isMet_9 : decode cX6_isMet 9 = .ok (.if_icmp .ge 39, 3) := dk_162 0 39 (dk_at dksX6_isMet_0 9 rfl rfl)
theorem dX6_isMet_12 : decode cX6_isMet 12 = .ok (.iload_n 2, 1) := dk_28 (dk_at dksX6_isMet_0 12 rfl rfl)
theorem dX6_isMet_13 : decode cX6_isMet 13 = .ok (.ifCond .ne 23, 3) := dk_154 0 23 (dk_at dksX6_isMet_0 13 rfl rfl)
theorem dX6_isMet_16 : decode cX6_isMet 16 = .ok (.aload_n 0, 1) := dk_42 (dk_at dksX6_isMet_0 16 rfl rfl)
theorem dX6_isMet_17 : decode cX6_isMet 17 = .ok (.iconst 0, 1) := dk_3 (dk_at dksX6_isMet_0 17 rfl rfl)
theorem dX6_isMet_18 : decode cX6_isMet 18 = .ok (.iload_n 3, 1) := dk_29 (dk_at dksX6_isMet_0 18 rfl rfl)
theorem dX6_isMet_19 : decode cX6_isMet 19 = .ok (.invokevirtual 374, 3) := dk_182 1 118 (dk_at dksX6_isMet_0 19 rfl rfl)
theorem dX6_isMet_22 : decode cX6_isMet 22 = .ok (.iconst (-1), 1) := dk_2 (dk_at dksX6_isMet_0 22 rfl rfl)
theorem dX6_isMet_23 : decode cX6_isMet 23 = .ok (.if_icmp .eq 17, 3) := dk_159 0 17 (dk_at dksX6_isMet_1 0 rfl rfl)
theorem dX6_isMet_26 : decode cX6_isMet 26 = .ok (.aload_n 0, 1) := dk_42 (dk_at dksX6_isMet_1 3 rfl rfl)
theorem dX6_isMet_27 : decode cX6_isMet 27 = .ok (.iconst 1, 1) := dk_4 (dk_at dksX6_isMet_1 4 rfl rfl)
theorem dX6_isMet_28 : decode cX6_isMet 28 = .ok (.iload_n 3, 1) := dk_29 (dk_at dksX6_isMet_1 5 rfl rfl)
theorem dX6_isMet_29 : decode cX6_isMet 29 = .ok (.invokevirtual 374, 3) := dk_182 1 118 (dk_at dksX6_isMet_1 6 rfl rfl)
theorem dX6_isMet_32 : decode cX6_isMet 32 = .ok (.iconst (-1), 1) := dk_2 (dk_at dksX6_isMet_1 9 rfl rfl)
theorem dX6_isMet_33 : decode cX6_isMet 33 = .ok (.if_icmp .eq 7, 3) := dk_159 0 7 (dk_at dksX6_isMet_1 10 rfl rfl)
theorem dX6_isMet_36 : decode cX6_isMet 36 = .ok (.iconst 1, 1) := dk_4 (dk_at dksX6_isMet_1 13 rfl rfl)
theorem dX6_isMet_37 : decode cX6_isMet 37 = .ok (.goto 4, 3) := dk_167 0 4 (dk_at dksX6_isMet_1 14 rfl rfl)
theorem dX6_isMet_40 : decode cX6_isMet 40 = .ok (.iconst 0, 1) := dk_3 (dk_at dksX6_isMet_1 17 rfl rfl)
theorem dX6_isMet_41 : decode cX6_isMet 41 = .ok (.istore_n 2, 1) := dk_61 (dk_at dksX6_isMet_1 18 rfl rfl)
theorem dX6_isMet_42 : decode cX6_isMet 42 = .ok (.iinc 3 1, 3) := dk_132 3 1 (dk_at dksX6_isMet_1 19 rfl rfl)
theorem dX6_isMet_45 : decode cX6_isMet 45 = .ok (.goto (-41), 3) := dk_167 255 215 (dk_at dksX6_isMet_2 0 rfl rfl)
theorem dX6_isMet_48 : decode cX6_isMet 48 = .ok (.iload_n 2, 1) := dk_28 (dk_at dksX6_isMet_2 3 rfl rfl)
theorem dX6_isMet_49 : decode cX6_isMet 49 = .ok (.ireturn, 1) := dk_172 (dk_at dksX6_isMet_2 4 rfl rfl)
abbrev cX6_searched : ByteArray := prog_15_method_74_code
def yX6_searched : MethodName := ⟨RX6, "searched", "(I)I"⟩
def dkwX6_searched_3 : List UInt8 := [182, 0, 215, 172, 42, 4, 182, 0, 204, 172]
abbrev dktX6_searched_3 : List UInt8 := dkwX6_searched_3 ++ []
def dkwX6_searched_2 : List UInt8 := [42, 42, 180, 0, 187, 182, 0, 215, 172, 42, 42, 180, 0, 190, 182, 0, 215, 172, 42, 42, 180, 0, 193]
abbrev dktX6_searched_2 : List UInt8 := dkwX6_searched_2 ++ dktX6_searched_3
def dkwX6_searched_1 : List UInt8 := [170, 0, 0, 0, 0, 0, 54, 0, 0, 0, 0, 0, 0, 0, 2, 0, 0, 0, 27, 0, 0, 0, 36, 0, 0, 0, 45]
abbrev dktX6_searched_1 : List UInt8 := dkwX6_searched_1 ++ dktX6_searched_2
def dkwX6_searched_0 : List UInt8 := [27]
abbrev dktX6_searched_0 : List UInt8 := dkwX6_searched_0 ++ dktX6_searched_1
theorem dksX6_searched_0 : cX6_searched.data.toList.drop 0 = dktX6_searched_0 := by decide +kernel
theorem dksX6_searched_1 : cX6_searched.data.toList.drop 1 = dktX6_searched_1 := dk_seg dksX6_searched_0 1 rfl rfl
theorem dksX6_searched_2 : cX6_searched.data.toList.drop 28 = dktX6_searched_2 := dk_seg dksX6_searched_1 27 rfl rfl
theorem dksX6_searched_3 : cX6_searched.data.toList.drop 51 = dktX6_searched_3 := dk_seg dksX6_searched_2 23 rfl rfl
theorem dX6_searched_0 : decode cX6_searched 0 = .ok (.iload_n 1, 1) := dk_27 (dk_at dksX6_searched_0 0 rfl rfl)
theorem dX6_searched_1 : decode cX6_searched 1 = .ok (.tableswitch 54 0 2 #[27, 36, 45], 27) := by decide +kernel
theorem dX6_searched_28 : decode cX6_searched 28 = .ok (.aload_n 0, 1) := dk_42 (dk_at dksX6_searched_2 0 rfl rfl)
theorem dX6_searched_29 : decode cX6_searched 29 = .ok (.aload_n 0, 1) := dk_42 (dk_at dksX6_searched_2 1 rfl rfl)
theorem dX6_searched_30 : decode cX6_searched 30 = .ok (.getfield 187, 3) := dk_180 0 187 (dk_at dksX6_searched_2 2 rfl rfl)
theorem dX6_searched_33 : decode cX6_searched 33 = .ok (.invokevirtual 215, 3) := dk_182 0 215 (dk_at dksX6_searched_2 5 rfl rfl)
theorem dX6_searched_36 : decode cX6_searched 36 = .ok (.ireturn, 1) := dk_172 (dk_at dksX6_searched_2 8 rfl rfl)
theorem dX6_searched_37 : decode cX6_searched 37 = .ok (.aload_n 0, 1) := dk_42 (dk_at dksX6_searched_2 9 rfl rfl)
theorem dX6_searched_38 : decode cX6_searched 38 = .ok (.aload_n 0, 1) := dk_42 (dk_at dksX6_searched_2 10 rfl rfl)
theorem dX6_searched_39 : decode cX6_searched 39 = .ok (.getfield 190, 3) := dk_180 0 190 (dk_at dksX6_searched_2 11 rfl rfl)
theorem dX6_searched_42 : decode cX6_searched 42 = .ok (.invokevirtual 215, 3) := dk_182 0 215 (dk_at dksX6_searched_2 14 rfl rfl)
theorem dX6_searched_45 : decode cX6_searched 45 = .ok (.ireturn, 1) := dk_172 (dk_at dksX6_searched_2 17 rfl rfl)
theorem dX6_searched_46 : decode cX6_searched 46 = .ok (.aload_n 0, 1) := dk_42 (dk_at dksX6_searched_2 18 rfl rfl)
theorem dX6_searched_47 : decode cX6_searched 47 = .ok (.aload_n 0, 1) := dk_42 (dk_at dksX6_searched_2 19 rfl rfl)
theorem dX6_searched_48 : decode cX6_searched 48 = .ok (.getfield 193, 3) := dk_180 0 193 (dk_at dksX6_searched_2 20 rfl rfl)
theorem dX6_searched_51 : decode cX6_searched 51 = .ok (.invokevirtual 215, 3) := dk_182 0 215 (dk_at dksX6_searched_3 0 rfl rfl)
theorem dX6_searched_54 : decode cX6_searched 54 = .ok (.ireturn, 1) := dk_172 (dk_at dksX6_searched_3 3 rfl rfl)
theorem dX6_searched_55 : decode cX6_searched 55 = .ok (.aload_n 0, 1) := dk_42 (dk_at dksX6_searched_3 4 rfl rfl)
theorem dX6_searched_56 : decode cX6_searched 56 = .ok (.iconst 1, 1) := dk_4 (dk_at dksX6_searched_3 5 rfl rfl)
theorem dX6_searched_57 : decode cX6_searched 57 = .ok (.invokevirtual 204, 3) := dk_182 0 204 (dk_at dksX6_searched_3 6 rfl rfl)
theorem dX6_searched_60 : decode cX6_searched 60 = .ok (.ireturn, 1) := dk_172 (dk_at dksX6_searched_3 9 rfl rfl)
abbrev cX6_wayAt : ByteArray := prog_15_method_75_code
def yX6_wayAt : MethodName := ⟨RX6, "wayAt", "(I)I"⟩
def dkwX6_wayAt_1 : List UInt8 := [167, 0, 8, 42, 4, 182, 0, 204, 172]
abbrev dktX6_wayAt_1 : List UInt8 := dkwX6_wayAt_1 ++ []
def dkwX6_wayAt_0 : List UInt8 := [27, 3, 42, 180, 0, 196, 4, 100, 184, 0, 200, 153, 0, 16, 42, 42, 180, 0, 131, 27, 46, 182, 0, 215]
abbrev dktX6_wayAt_0 : List UInt8 := dkwX6_wayAt_0 ++ dktX6_wayAt_1
theorem dksX6_wayAt_0 : cX6_wayAt.data.toList.drop 0 = dktX6_wayAt_0 := by decide +kernel
theorem dksX6_wayAt_1 : cX6_wayAt.data.toList.drop 24 = dktX6_wayAt_1 := dk_seg dksX6_wayAt_0 24 rfl rfl
theorem dX6_wayAt_0 : decode cX6_wayAt 0 = .ok (.iload_n 1, 1) := dk_27 (dk_at dksX6_wayAt_0 0 rfl rfl)
theorem dX6_wayAt_1 : decode cX6_wayAt 1 = .ok (.iconst 0, 1) := dk_3 (dk_at dksX6_wayAt_0 1 rfl rfl)
theorem dX6_wayAt_2 : decode cX6_wayAt 2 = .ok (.aload_n 0, 1) := dk_42 (dk_at dksX6_wayAt_0 2 rfl rfl)
theorem dX6_wayAt_3 : decode cX6_wayAt 3 = .ok (.getfield 196, 3) := dk_180 0 196 (dk_at dksX6_wayAt_0 3 rfl rfl)
theorem dX6_wayAt_6 : decode cX6_wayAt 6 = .ok (.iconst 1, 1) := dk_4 (dk_at dksX6_wayAt_0 6 rfl rfl)
theorem dX6_wayAt_7 : decode cX6_wayAt 7 = .ok (.isub, 1) := dk_100 (dk_at dksX6_wayAt_0 7 rfl rfl)
theorem dX6_wayAt_8 : decode cX6_wayAt 8 = .ok (.invokestatic 200, 3) := dk_184 0 200 (dk_at dksX6_wayAt_0 8 rfl rfl)
theorem dX6_wayAt_11 : decode cX6_wayAt 11 = .ok (.ifCond .eq 16, 3) := dk_153 0 16 (dk_at dksX6_wayAt_0 11 rfl rfl)
theorem dX6_wayAt_14 : decode cX6_wayAt 14 = .ok (.aload_n 0, 1) := dk_42 (dk_at dksX6_wayAt_0 14 rfl rfl)
theorem dX6_wayAt_15 : decode cX6_wayAt 15 = .ok (.aload_n 0, 1) := dk_42 (dk_at dksX6_wayAt_0 15 rfl rfl)
theorem dX6_wayAt_16 : decode cX6_wayAt 16 = .ok (.getfield 131, 3) := dk_180 0 131 (dk_at dksX6_wayAt_0 16 rfl rfl)
theorem dX6_wayAt_19 : decode cX6_wayAt 19 = .ok (.iload_n 1, 1) := dk_27 (dk_at dksX6_wayAt_0 19 rfl rfl)
theorem dX6_wayAt_20 : decode cX6_wayAt 20 = .ok (.iaload, 1) := dk_46 (dk_at dksX6_wayAt_0 20 rfl rfl)
theorem dX6_wayAt_21 : decode cX6_wayAt 21 = .ok (.invokevirtual 215, 3) := dk_182 0 215 (dk_at dksX6_wayAt_0 21 rfl rfl)
theorem dX6_wayAt_24 : decode cX6_wayAt 24 = .ok (.goto 8, 3) := dk_167 0 8 (dk_at dksX6_wayAt_1 0 rfl rfl)
theorem dX6_wayAt_27 : decode cX6_wayAt 27 = .ok (.aload_n 0, 1) := dk_42 (dk_at dksX6_wayAt_1 3 rfl rfl)
theorem dX6_wayAt_28 : decode cX6_wayAt 28 = .ok (.iconst 1, 1) := dk_4 (dk_at dksX6_wayAt_1 4 rfl rfl)
theorem dX6_wayAt_29 : decode cX6_wayAt 29 = .ok (.invokevirtual 204, 3) := dk_182 0 204 (dk_at dksX6_wayAt_1 5 rfl rfl)
theorem dX6_wayAt_32 : decode cX6_wayAt 32 = .ok (.ireturn, 1) := dk_172 (dk_at dksX6_wayAt_1 8 rfl rfl)
abbrev cX6_hint : ByteArray := prog_15_method_76_code
def yX6_hint : MethodName := ⟨RX6, "hint", "()I"⟩
def dkwX6_hint_5 : List UInt8 := [42, 28, 182, 0, 215, 172, 132, 2, 1, 167, 255, 184, 42, 2, 182, 0, 215, 172]
abbrev dktX6_hint_5 : List UInt8 := dkwX6_hint_5 ++ []
def dkwX6_hint_4 : List UInt8 := [16, 254, 160, 0, 9, 42, 4, 182, 0, 204, 172, 29, 2, 159, 0, 17, 21, 4, 29, 96, 27, 160, 0, 9]
abbrev dktX6_hint_4 : List UInt8 := dkwX6_hint_4 ++ dktX6_hint_5
def dkwX6_hint_3 : List UInt8 := [182, 1, 14, 62, 29, 2, 160, 0, 7, 2, 167, 0, 10, 42, 6, 16, 100, 182, 1, 90, 54, 4, 21, 4]
abbrev dktX6_hint_3 : List UInt8 := dkwX6_hint_3 ++ dktX6_hint_4
def dkwX6_hint_2 : List UInt8 := [2, 182, 0, 215, 172, 3, 61, 28, 7, 162, 0, 73, 42, 182, 1, 87, 42, 42, 180, 0, 128, 28]
abbrev dktX6_hint_2 : List UInt8 := dkwX6_hint_2 ++ dktX6_hint_3
def dkwX6_hint_1 : List UInt8 := [16, 100, 182, 1, 90, 60, 27, 16, 254, 160, 0, 9, 42, 4, 182, 0, 204, 172, 27, 2, 160, 0, 9, 42]
abbrev dktX6_hint_1 : List UInt8 := dkwX6_hint_1 ++ dktX6_hint_2
def dkwX6_hint_0 : List UInt8 := [42, 182, 1, 87, 42, 42, 180, 0, 128, 182, 1, 80, 153, 0, 9, 42, 2, 182, 0, 215, 172, 42, 6]
abbrev dktX6_hint_0 : List UInt8 := dkwX6_hint_0 ++ dktX6_hint_1
theorem dksX6_hint_0 : cX6_hint.data.toList.drop 0 = dktX6_hint_0 := by decide +kernel
theorem dksX6_hint_1 : cX6_hint.data.toList.drop 23 = dktX6_hint_1 := dk_seg dksX6_hint_0 23 rfl rfl
theorem dksX6_hint_2 : cX6_hint.data.toList.drop 47 = dktX6_hint_2 := dk_seg dksX6_hint_1 24 rfl rfl
theorem dksX6_hint_3 : cX6_hint.data.toList.drop 69 = dktX6_hint_3 := dk_seg dksX6_hint_2 22 rfl rfl
theorem dksX6_hint_4 : cX6_hint.data.toList.drop 93 = dktX6_hint_4 := dk_seg dksX6_hint_3 24 rfl rfl
theorem dksX6_hint_5 : cX6_hint.data.toList.drop 117 = dktX6_hint_5 := dk_seg dksX6_hint_4 24 rfl rfl
theorem dX6_hint_0 : decode cX6_hint 0 = .ok (.aload_n 0, 1) := dk_42 (dk_at dksX6_hint_0 0 rfl rfl)
theorem dX6_hint_1 : decode cX6_hint 1 = .ok (.invokevirtual 343, 3) := dk_182 1 87 (dk_at dksX6_hint_0 1 rfl rfl)
theorem dX6_hint_4 : decode cX6_hint 4 = .ok (.aload_n 0, 1) := dk_42 (dk_at dksX6_hint_0 4 rfl rfl)
theorem dX6_hint_5 : decode cX6_hint 5 = .ok (.aload_n 0, 1) := dk_42 (dk_at dksX6_hint_0 5 rfl rfl)
theorem dX6_hint_6 : decode cX6_hint 6 = .ok (.getfield 128, 3) := dk_180 0 128 (dk_at dksX6_hint_0 6 rfl rfl)
theorem dX6_hint_9 : decode cX6_hint 9 = .ok (.invokevirtual 336, 3) := dk_182 1 80 (dk_at dksX6_hint_0 9 rfl rfl)
theorem dX6_hint_12 : decode cX6_hint 12 = .ok (.ifCond .eq 9, 3) := dk_153 0 9 (dk_at dksX6_hint_0 12 rfl rfl)
theorem dX6_hint_15 : decode cX6_hint 15 = .ok (.aload_n 0, 1) := dk_42 (dk_at dksX6_hint_0 15 rfl rfl)
theorem dX6_hint_16 : decode cX6_hint 16 = .ok (.iconst (-1), 1) := dk_2 (dk_at dksX6_hint_0 16 rfl rfl)
theorem dX6_hint_17 : decode cX6_hint 17 = .ok (.invokevirtual 215, 3) := dk_182 0 215 (dk_at dksX6_hint_0 17 rfl rfl)
theorem dX6_hint_20 : decode cX6_hint 20 = .ok (.ireturn, 1) := dk_172 (dk_at dksX6_hint_0 20 rfl rfl)
theorem dX6_hint_21 : decode cX6_hint 21 = .ok (.aload_n 0, 1) := dk_42 (dk_at dksX6_hint_0 21 rfl rfl)
theorem dX6_hint_22 : decode cX6_hint 22 = .ok (.iconst 3, 1) := dk_6 (dk_at dksX6_hint_0 22 rfl rfl)
theorem dX6_hint_23 : decode cX6_hint 23 = .ok (.bipush 100, 2) := dk_16 100 (dk_at dksX6_hint_1 0 rfl rfl)
theorem dX6_hint_25 : decode cX6_hint 25 = .ok (.invokevirtual 346, 3) := dk_182 1 90 (dk_at dksX6_hint_1 2 rfl rfl)
theorem dX6_hint_28 : decode cX6_hint 28 = .ok (.istore_n 1, 1) := dk_60 (dk_at dksX6_hint_1 5 rfl rfl)
theorem dX6_hint_29 : decode cX6_hint 29 = .ok (.iload_n 1, 1) := dk_27 (dk_at dksX6_hint_1 6 rfl rfl)
theorem dX6_hint_30 : decode cX6_hint 30 = .ok (.bipush (-2), 2) := dk_16 254 (dk_at dksX6_hint_1 7 rfl rfl)
theorem dX6_hint_32 : decode cX6_hint 32 = .ok (.if_icmp .ne 9, 3) := dk_160 0 9 (dk_at dksX6_hint_1 9 rfl rfl)
theorem dX6_hint_35 : decode cX6_hint 35 = .ok (.aload_n 0, 1) := dk_42 (dk_at dksX6_hint_1 12 rfl rfl)
theorem dX6_hint_36 : decode cX6_hint 36 = .ok (.iconst 1, 1) := dk_4 (dk_at dksX6_hint_1 13 rfl rfl)
theorem dX6_hint_37 : decode cX6_hint 37 = .ok (.invokevirtual 204, 3) := dk_182 0 204 (dk_at dksX6_hint_1 14 rfl rfl)
theorem dX6_hint_40 : decode cX6_hint 40 = .ok (.ireturn, 1) := dk_172 (dk_at dksX6_hint_1 17 rfl rfl)
theorem dX6_hint_41 : decode cX6_hint 41 = .ok (.iload_n 1, 1) := dk_27 (dk_at dksX6_hint_1 18 rfl rfl)
theorem dX6_hint_42 : decode cX6_hint 42 = .ok (.iconst (-1), 1) := dk_2 (dk_at dksX6_hint_1 19 rfl rfl)
theorem dX6_hint_43 : decode cX6_hint 43 = .ok (.if_icmp .ne 9, 3) := dk_160 0 9 (dk_at dksX6_hint_1 20 rfl rfl)
theorem dX6_hint_46 : decode cX6_hint 46 = .ok (.aload_n 0, 1) := dk_42 (dk_at dksX6_hint_1 23 rfl rfl)
theorem dX6_hint_47 : decode cX6_hint 47 = .ok (.iconst (-1), 1) := dk_2 (dk_at dksX6_hint_2 0 rfl rfl)
theorem dX6_hint_48 : decode cX6_hint 48 = .ok (.invokevirtual 215, 3) := dk_182 0 215 (dk_at dksX6_hint_2 1 rfl rfl)
theorem dX6_hint_51 : decode cX6_hint 51 = .ok (.ireturn, 1) := dk_172 (dk_at dksX6_hint_2 4 rfl rfl)
theorem dX6_hint_52 : decode cX6_hint 52 = .ok (.iconst 0, 1) := dk_3 (dk_at dksX6_hint_2 5 rfl rfl)
theorem dX6_hint_53 : decode cX6_hint 53 = .ok (.istore_n 2, 1) := dk_61 (dk_at dksX6_hint_2 6 rfl rfl)
theorem dX6_hint_54 : decode cX6_hint 54 = .ok (.iload_n 2, 1) := dk_28 (dk_at dksX6_hint_2 7 rfl rfl)
theorem dX6_hint_55 : decode cX6_hint 55 = .ok (.iconst 4, 1) := dk_7 (dk_at dksX6_hint_2 8 rfl rfl)
theorem dX6_hint_56 : decode cX6_hint 56 = .ok (.if_icmp .ge 73, 3) := dk_162 0 73 (dk_at dksX6_hint_2 9 rfl rfl)
theorem dX6_hint_59 : decode cX6_hint 59 = .ok (.aload_n 0, 1) := dk_42 (dk_at dksX6_hint_2 12 rfl rfl)
theorem dX6_hint_60 : decode cX6_hint 60 = .ok (.invokevirtual 343, 3) := dk_182 1 87 (dk_at dksX6_hint_2 13 rfl rfl)
theorem dX6_hint_63 : decode cX6_hint 63 = .ok (.aload_n 0, 1) := dk_42 (dk_at dksX6_hint_2 16 rfl rfl)
theorem dX6_hint_64 : decode cX6_hint 64 = .ok (.aload_n 0, 1) := dk_42 (dk_at dksX6_hint_2 17 rfl rfl)
theorem dX6_hint_65 : decode cX6_hint 65 = .ok (.getfield 128, 3) := dk_180 0 128 (dk_at dksX6_hint_2 18 rfl rfl)
theorem dX6_hint_68 : decode cX6_hint 68 = .ok (.iload_n 2, 1) := dk_28 (dk_at dksX6_hint_2 21 rfl rfl)
theorem dX6_hint_69 : decode cX6_hint 69 = .ok (.invokevirtual 270, 3) := dk_182 1 14 (dk_at dksX6_hint_3 0 rfl rfl)
theorem dX6_hint_72 : decode cX6_hint 72 = .ok (.istore_n 3, 1) := dk_62 (dk_at dksX6_hint_3 3 rfl rfl)
theorem dX6_hint_73 : decode cX6_hint 73 = .ok (.iload_n 3, 1) := dk_29 (dk_at dksX6_hint_3 4 rfl rfl)
theorem dX6_hint_74 : decode cX6_hint 74 = .ok (.iconst (-1), 1) := dk_2 (dk_at dksX6_hint_3 5 rfl rfl)
theorem dX6_hint_75 : decode cX6_hint 75 = .ok (.if_icmp .ne 7, 3) := dk_160 0 7 (dk_at dksX6_hint_3 6 rfl rfl)
theorem dX6_hint_78 : decode cX6_hint 78 = .ok (.iconst (-1), 1) := dk_2 (dk_at dksX6_hint_3 9 rfl rfl)
theorem dX6_hint_79 : decode cX6_hint 79 = .ok (.goto 10, 3) := dk_167 0 10 (dk_at dksX6_hint_3 10 rfl rfl)
theorem dX6_hint_82 : decode cX6_hint 82 = .ok (.aload_n 0, 1) := dk_42 (dk_at dksX6_hint_3 13 rfl rfl)
theorem dX6_hint_83 : decode cX6_hint 83 = .ok (.iconst 3, 1) := dk_6 (dk_at dksX6_hint_3 14 rfl rfl)
theorem dX6_hint_84 : decode cX6_hint 84 = .ok (.bipush 100, 2) := dk_16 100 (dk_at dksX6_hint_3 15 rfl rfl)
theorem dX6_hint_86 : decode cX6_hint 86 = .ok (.invokevirtual 346, 3) := dk_182 1 90 (dk_at dksX6_hint_3 17 rfl rfl)
theorem dX6_hint_89 : decode cX6_hint 89 = .ok (.istore 4, 2) := dk_54 4 (dk_at dksX6_hint_3 20 rfl rfl)
theorem dX6_hint_91 : decode cX6_hint 91 = .ok (.iload 4, 2) := dk_21 4 (dk_at dksX6_hint_3 22 rfl rfl)
theorem dX6_hint_93 : decode cX6_hint 93 = .ok (.bipush (-2), 2) := dk_16 254 (dk_at dksX6_hint_4 0 rfl rfl)
theorem dX6_hint_95 : decode cX6_hint 95 = .ok (.if_icmp .ne 9, 3) := dk_160 0 9 (dk_at dksX6_hint_4 2 rfl rfl)
theorem dX6_hint_98 : decode cX6_hint 98 = .ok (.aload_n 0, 1) := dk_42 (dk_at dksX6_hint_4 5 rfl rfl)
theorem dX6_hint_99 : decode cX6_hint 99 = .ok (.iconst 1, 1) := dk_4 (dk_at dksX6_hint_4 6 rfl rfl)
theorem dX6_hint_100 : decode cX6_hint 100 = .ok (.invokevirtual 204, 3) := dk_182 0 204 (dk_at dksX6_hint_4 7 rfl rfl)
theorem dX6_hint_103 : decode cX6_hint 103 = .ok (.ireturn, 1) := dk_172 (dk_at dksX6_hint_4 10 rfl rfl)
theorem dX6_hint_104 : decode cX6_hint 104 = .ok (.iload_n 3, 1) := dk_29 (dk_at dksX6_hint_4 11 rfl rfl)
theorem dX6_hint_105 : decode cX6_hint 105 = .ok (.iconst (-1), 1) := dk_2 (dk_at dksX6_hint_4 12 rfl rfl)
theorem dX6_hint_106 : decode cX6_hint 106 = .ok (.if_icmp .eq 17, 3) := dk_159 0 17 (dk_at dksX6_hint_4 13 rfl rfl)
theorem dX6_hint_109 : decode cX6_hint 109 = .ok (.iload 4, 2) := dk_21 4 (dk_at dksX6_hint_4 16 rfl rfl)
theorem dX6_hint_111 : decode cX6_hint 111 = .ok (.iload_n 3, 1) := dk_29 (dk_at dksX6_hint_4 18 rfl rfl)
theorem dX6_hint_112 : decode cX6_hint 112 = .ok (.iadd, 1) := dk_96 (dk_at dksX6_hint_4 19 rfl rfl)
theorem dX6_hint_113 : decode cX6_hint 113 = .ok (.iload_n 1, 1) := dk_27 (dk_at dksX6_hint_4 20 rfl rfl)
theorem dX6_hint_114 : decode cX6_hint 114 = .ok (.if_icmp .ne 9, 3) := dk_160 0 9 (dk_at dksX6_hint_4 21 rfl rfl)
theorem dX6_hint_117 : decode cX6_hint 117 = .ok (.aload_n 0, 1) := dk_42 (dk_at dksX6_hint_5 0 rfl rfl)
theorem dX6_hint_118 : decode cX6_hint 118 = .ok (.iload_n 2, 1) := dk_28 (dk_at dksX6_hint_5 1 rfl rfl)
theorem dX6_hint_119 : decode cX6_hint 119 = .ok (.invokevirtual 215, 3) := dk_182 0 215 (dk_at dksX6_hint_5 2 rfl rfl)
theorem dX6_hint_122 : decode cX6_hint 122 = .ok (.ireturn, 1) := dk_172 (dk_at dksX6_hint_5 5 rfl rfl)
theorem dX6_hint_123 : decode cX6_hint 123 = .ok (.iinc 2 1, 3) := dk_132 2 1 (dk_at dksX6_hint_5 6 rfl rfl)
theorem dX6_hint_126 : decode cX6_hint 126 = .ok (.goto (-72), 3) := dk_167 255 184 (dk_at dksX6_hint_5 9 rfl rfl)
theorem dX6_hint_129 : decode cX6_hint 129 = .ok (.aload_n 0, 1) := dk_42 (dk_at dksX6_hint_5 12 rfl rfl)
theorem dX6_hint_130 : decode cX6_hint 130 = .ok (.iconst (-1), 1) := dk_2 (dk_at dksX6_hint_5 13 rfl rfl)
theorem dX6_hint_131 : decode cX6_hint 131 = .ok (.invokevirtual 215, 3) := dk_182 0 215 (dk_at dksX6_hint_5 14 rfl rfl)
theorem dX6_hint_134 : decode cX6_hint 134 = .ok (.ireturn, 1) := dk_172 (dk_at dksX6_hint_5 17 rfl rfl)
abbrev cX6_far : ByteArray := prog_15_method_80_code
def yX6_far : MethodName := ⟨RX6, "far", "(I)I"⟩
def dkwX6_far_9 : List UInt8 := [167, 0, 15, 27, 5, 160, 0, 8, 21, 5, 167, 0, 5, 21, 6, 182, 0, 215, 172]
abbrev dktX6_far_9 : List UInt8 := dkwX6_far_9 ++ []
def dkwX6_far_8 : List UInt8 := [54, 6, 132, 7, 1, 167, 255, 193, 42, 27, 154, 0, 8, 21, 4, 167, 0, 24, 27, 4, 160, 0, 7, 29]
abbrev dktX6_far_8 : List UInt8 := dkwX6_far_8 ++ dktX6_far_9
def dkwX6_far_7 : List UInt8 := [21, 7, 46, 29, 160, 0, 21, 132, 5, 1, 21, 6, 2, 160, 0, 8, 21, 7, 167, 0, 5, 21, 6]
abbrev dktX6_far_7 : List UInt8 := dkwX6_far_7 ++ dktX6_far_8
def dkwX6_far_6 : List UInt8 := [180, 0, 149, 21, 7, 46, 18, 199, 162, 0, 7, 4, 167, 0, 4, 3, 96, 54, 4, 42, 180, 0, 149]
abbrev dktX6_far_6 : List UInt8 := dkwX6_far_6 ++ dktX6_far_7
def dkwX6_far_5 : List UInt8 := [54, 4, 3, 54, 5, 2, 54, 6, 3, 54, 7, 21, 7, 42, 180, 1, 126, 162, 0, 60, 21, 4, 42]
abbrev dktX6_far_5 : List UInt8 := dkwX6_far_5 ++ dktX6_far_6
def dkwX6_far_4 : List UInt8 := [160, 0, 7, 3, 167, 0, 9, 42, 180, 0, 158, 28, 46, 182, 0, 215, 172, 42, 182, 1, 129, 62, 3]
abbrev dktX6_far_4 : List UInt8 := dkwX6_far_4 ++ dktX6_far_5
def dkwX6_far_3 : List UInt8 := [46, 182, 0, 215, 172, 27, 8, 160, 0, 33, 42, 182, 1, 136, 42, 42, 180, 0, 149, 28, 46, 18, 199]
abbrev dktX6_far_3 : List UInt8 := dkwX6_far_3 ++ dktX6_far_4
def dkwX6_far_2 : List UInt8 := [160, 0, 29, 42, 42, 180, 0, 149, 28, 46, 18, 199, 160, 0, 7, 2, 167, 0, 9, 42, 180, 0, 149, 28]
abbrev dktX6_far_2 : List UInt8 := dkwX6_far_2 ++ dktX6_far_3
def dkwX6_far_1 : List UInt8 := [42, 5, 182, 0, 204, 172, 42, 182, 1, 133, 42, 42, 180, 0, 33, 182, 1, 18, 136, 61, 27, 7]
abbrev dktX6_far_1 : List UInt8 := dkwX6_far_1 ++ dktX6_far_2
def dkwX6_far_0 : List UInt8 := [27, 3, 8, 184, 0, 200, 154, 0, 9, 42, 4, 182, 0, 204, 172, 42, 180, 0, 170, 16, 6, 164, 0, 9]
abbrev dktX6_far_0 : List UInt8 := dkwX6_far_0 ++ dktX6_far_1
theorem dksX6_far_0 : cX6_far.data.toList.drop 0 = dktX6_far_0 := by decide +kernel
theorem dksX6_far_1 : cX6_far.data.toList.drop 24 = dktX6_far_1 := dk_seg dksX6_far_0 24 rfl rfl
theorem dksX6_far_2 : cX6_far.data.toList.drop 46 = dktX6_far_2 := dk_seg dksX6_far_1 22 rfl rfl
theorem dksX6_far_3 : cX6_far.data.toList.drop 70 = dktX6_far_3 := dk_seg dksX6_far_2 24 rfl rfl
theorem dksX6_far_4 : cX6_far.data.toList.drop 93 = dktX6_far_4 := dk_seg dksX6_far_3 23 rfl rfl
theorem dksX6_far_5 : cX6_far.data.toList.drop 116 = dktX6_far_5 := dk_seg dksX6_far_4 23 rfl rfl
theorem dksX6_far_6 : cX6_far.data.toList.drop 139 = dktX6_far_6 := dk_seg dksX6_far_5 23 rfl rfl
theorem dksX6_far_7 : cX6_far.data.toList.drop 162 = dktX6_far_7 := dk_seg dksX6_far_6 23 rfl rfl
theorem dksX6_far_8 : cX6_far.data.toList.drop 185 = dktX6_far_8 := dk_seg dksX6_far_7 23 rfl rfl
theorem dksX6_far_9 : cX6_far.data.toList.drop 209 = dktX6_far_9 := dk_seg dksX6_far_8 24 rfl rfl
theorem dX6_far_0 : decode cX6_far 0 = .ok (.iload_n 1, 1) := dk_27 (dk_at dksX6_far_0 0 rfl rfl)
theorem dX6_far_1 : decode cX6_far 1 = .ok (.iconst 0, 1) := dk_3 (dk_at dksX6_far_0 1 rfl rfl)
theorem dX6_far_2 : decode cX6_far 2 = .ok (.iconst 5, 1) := dk_8 (dk_at dksX6_far_0 2 rfl rfl)
theorem dX6_far_3 : decode cX6_far 3 = .ok (.invokestatic 200, 3) := dk_184 0 200 (dk_at dksX6_far_0 3 rfl rfl)
theorem dX6_far_6 : decode cX6_far 6 = .ok (.ifCond .ne 9, 3) := dk_154 0 9 (dk_at dksX6_far_0 6 rfl rfl)
theorem dX6_far_9 : decode cX6_far 9 = .ok (.aload_n 0, 1) := dk_42 (dk_at dksX6_far_0 9 rfl rfl)
theorem dX6_far_10 : decode cX6_far 10 = .ok (.iconst 1, 1) := dk_4 (dk_at dksX6_far_0 10 rfl rfl)
theorem dX6_far_11 : decode cX6_far 11 = .ok (.invokevirtual 204, 3) := dk_182 0 204 (dk_at dksX6_far_0 11 rfl rfl)
theorem dX6_far_14 : decode cX6_far 14 = .ok (.ireturn, 1) := dk_172 (dk_at dksX6_far_0 14 rfl rfl)
theorem dX6_far_15 : decode cX6_far 15 = .ok (.aload_n 0, 1) := dk_42 (dk_at dksX6_far_0 15 rfl rfl)
theorem dX6_far_16 : decode cX6_far 16 = .ok (.getfield 170, 3) := dk_180 0 170 (dk_at dksX6_far_0 16 rfl rfl)
theorem dX6_far_19 : decode cX6_far 19 = .ok (.bipush 6, 2) := dk_16 6 (dk_at dksX6_far_0 19 rfl rfl)
theorem dX6_far_21 : decode cX6_far 21 = .ok (.if_icmp .le 9, 3) := dk_164 0 9 (dk_at dksX6_far_0 21 rfl rfl)
theorem dX6_far_24 : decode cX6_far 24 = .ok (.aload_n 0, 1) := dk_42 (dk_at dksX6_far_1 0 rfl rfl)
theorem dX6_far_25 : decode cX6_far 25 = .ok (.iconst 2, 1) := dk_5 (dk_at dksX6_far_1 1 rfl rfl)
theorem dX6_far_26 : decode cX6_far 26 = .ok (.invokevirtual 204, 3) := dk_182 0 204 (dk_at dksX6_far_1 2 rfl rfl)
theorem dX6_far_29 : decode cX6_far 29 = .ok (.ireturn, 1) := dk_172 (dk_at dksX6_far_1 5 rfl rfl)
theorem dX6_far_30 : decode cX6_far 30 = .ok (.aload_n 0, 1) := dk_42 (dk_at dksX6_far_1 6 rfl rfl)
theorem dX6_far_31 : decode cX6_far 31 = .ok (.invokevirtual 389, 3) := dk_182 1 133 (dk_at dksX6_far_1 7 rfl rfl)
theorem dX6_far_34 : decode cX6_far 34 = .ok (.aload_n 0, 1) := dk_42 (dk_at dksX6_far_1 10 rfl rfl)
theorem dX6_far_35 : decode cX6_far 35 = .ok (.aload_n 0, 1) := dk_42 (dk_at dksX6_far_1 11 rfl rfl)
theorem dX6_far_36 : decode cX6_far 36 = .ok (.getfield 33, 3) := dk_180 0 33 (dk_at dksX6_far_1 12 rfl rfl)
theorem dX6_far_39 : decode cX6_far 39 = .ok (.invokevirtual 274, 3) := dk_182 1 18 (dk_at dksX6_far_1 15 rfl rfl)
theorem dX6_far_42 : decode cX6_far 42 = .ok (.l2i, 1) := dk_136 (dk_at dksX6_far_1 18 rfl rfl)
theorem dX6_far_43 : decode cX6_far 43 = .ok (.istore_n 2, 1) := dk_61 (dk_at dksX6_far_1 19 rfl rfl)
theorem dX6_far_44 : decode cX6_far 44 = .ok (.iload_n 1, 1) := dk_27 (dk_at dksX6_far_1 20 rfl rfl)
theorem dX6_far_45 : decode cX6_far 45 = .ok (.iconst 4, 1) := dk_7 (dk_at dksX6_far_1 21 rfl rfl)
theorem dX6_far_46 : decode cX6_far 46 = .ok (.if_icmp .ne 29, 3) := dk_160 0 29 (dk_at dksX6_far_2 0 rfl rfl)
theorem dX6_far_49 : decode cX6_far 49 = .ok (.aload_n 0, 1) := dk_42 (dk_at dksX6_far_2 3 rfl rfl)
theorem dX6_far_50 : decode cX6_far 50 = .ok (.aload_n 0, 1) := dk_42 (dk_at dksX6_far_2 4 rfl rfl)
theorem dX6_far_51 : decode cX6_far 51 = .ok (.getfield 149, 3) := dk_180 0 149 (dk_at dksX6_far_2 5 rfl rfl)
theorem dX6_far_54 : decode cX6_far 54 = .ok (.iload_n 2, 1) := dk_28 (dk_at dksX6_far_2 8 rfl rfl)
theorem dX6_far_55 : decode cX6_far 55 = .ok (.iaload, 1) := dk_46 (dk_at dksX6_far_2 9 rfl rfl)
theorem dX6_far_56 : decode cX6_far 56 = .ok (.ldc 199, 2) := dk_18 199 (dk_at dksX6_far_2 10 rfl rfl)
theorem dX6_far_58 : decode cX6_far 58 = .ok (.if_icmp .ne 7, 3) := dk_160 0 7 (dk_at dksX6_far_2 12 rfl rfl)
theorem dX6_far_61 : decode cX6_far 61 = .ok (.iconst (-1), 1) := dk_2 (dk_at dksX6_far_2 15 rfl rfl)
theorem dX6_far_62 : decode cX6_far 62 = .ok (.goto 9, 3) := dk_167 0 9 (dk_at dksX6_far_2 16 rfl rfl)
theorem dX6_far_65 : decode cX6_far 65 = .ok (.aload_n 0, 1) := dk_42 (dk_at dksX6_far_2 19 rfl rfl)
theorem dX6_far_66 : decode cX6_far 66 = .ok (.getfield 149, 3) := dk_180 0 149 (dk_at dksX6_far_2 20 rfl rfl)
theorem dX6_far_69 : decode cX6_far 69 = .ok (.iload_n 2, 1) := dk_28 (dk_at dksX6_far_2 23 rfl rfl)
theorem dX6_far_70 : decode cX6_far 70 = .ok (.iaload, 1) := dk_46 (dk_at dksX6_far_3 0 rfl rfl)
theorem dX6_far_71 : decode cX6_far 71 = .ok (.invokevirtual 215, 3) := dk_182 0 215 (dk_at dksX6_far_3 1 rfl rfl)
theorem dX6_far_74 : decode cX6_far 74 = .ok (.ireturn, 1) := dk_172 (dk_at dksX6_far_3 4 rfl rfl)
theorem dX6_far_75 : decode cX6_far 75 = .ok (.iload_n 1, 1) := dk_27 (dk_at dksX6_far_3 5 rfl rfl)
theorem dX6_far_76 : decode cX6_far 76 = .ok (.iconst 5, 1) := dk_8 (dk_at dksX6_far_3 6 rfl rfl)
theorem dX6_far_77 : decode cX6_far 77 = .ok (.if_icmp .ne 33, 3) := dk_160 0 33 (dk_at dksX6_far_3 7 rfl rfl)
theorem dX6_far_80 : decode cX6_far 80 = .ok (.aload_n 0, 1) := dk_42 (dk_at dksX6_far_3 10 rfl rfl)
theorem dX6_far_81 : decode cX6_far 81 = .ok (.invokevirtual 392, 3) := dk_182 1 136 (dk_at dksX6_far_3 11 rfl rfl)
theorem dX6_far_84 : decode cX6_far 84 = .ok (.aload_n 0, 1) := dk_42 (dk_at dksX6_far_3 14 rfl rfl)
theorem dX6_far_85 : decode cX6_far 85 = .ok (.aload_n 0, 1) := dk_42 (dk_at dksX6_far_3 15 rfl rfl)
theorem dX6_far_86 : decode cX6_far 86 = .ok (.getfield 149, 3) := dk_180 0 149 (dk_at dksX6_far_3 16 rfl rfl)
theorem dX6_far_89 : decode cX6_far 89 = .ok (.iload_n 2, 1) := dk_28 (dk_at dksX6_far_3 19 rfl rfl)
theorem dX6_far_90 : decode cX6_far 90 = .ok (.iaload, 1) := dk_46 (dk_at dksX6_far_3 20 rfl rfl)
theorem dX6_far_91 : decode cX6_far 91 = .ok (.ldc 199, 2) := dk_18 199 (dk_at dksX6_far_3 21 rfl rfl)
theorem dX6_far_93 : decode cX6_far 93 = .ok (.if_icmp .ne 7, 3) := dk_160 0 7 (dk_at dksX6_far_4 0 rfl rfl)
theorem dX6_far_96 : decode cX6_far 96 = .ok (.iconst 0, 1) := dk_3 (dk_at dksX6_far_4 3 rfl rfl)
theorem dX6_far_97 : decode cX6_far 97 = .ok (.goto 9, 3) := dk_167 0 9 (dk_at dksX6_far_4 4 rfl rfl)
theorem dX6_far_100 : decode cX6_far 100 = .ok (.aload_n 0, 1) := dk_42 (dk_at dksX6_far_4 7 rfl rfl)
theorem dX6_far_101 : decode cX6_far 101 = .ok (.getfield 158, 3) := dk_180 0 158 (dk_at dksX6_far_4 8 rfl rfl)
theorem dX6_far_104 : decode cX6_far 104 = .ok (.iload_n 2, 1) := dk_28 (dk_at dksX6_far_4 11 rfl rfl)
theorem dX6_far_105 : decode cX6_far 105 = .ok (.iaload, 1) := dk_46 (dk_at dksX6_far_4 12 rfl rfl)
theorem dX6_far_106 : decode cX6_far 106 = .ok (.invokevirtual 215, 3) := dk_182 0 215 (dk_at dksX6_far_4 13 rfl rfl)
theorem dX6_far_109 : decode cX6_far 109 = .ok (.ireturn, 1) := dk_172 (dk_at dksX6_far_4 16 rfl rfl)
theorem dX6_far_110 : decode cX6_far 110 = .ok (.aload_n 0, 1) := dk_42 (dk_at dksX6_far_4 17 rfl rfl)
theorem dX6_far_111 : decode cX6_far 111 = .ok (.invokevirtual 385, 3) := dk_182 1 129 (dk_at dksX6_far_4 18 rfl rfl)
theorem dX6_far_114 : decode cX6_far 114 = .ok (.istore_n 3, 1) := dk_62 (dk_at dksX6_far_4 21 rfl rfl)
theorem dX6_far_115 : decode cX6_far 115 = .ok (.iconst 0, 1) := dk_3 (dk_at dksX6_far_4 22 rfl rfl)
theorem dX6_far_116 : decode cX6_far 116 = .ok (.istore 4, 2) := dk_54 4 (dk_at dksX6_far_5 0 rfl rfl)
theorem dX6_far_118 : decode cX6_far 118 = .ok (.iconst 0, 1) := dk_3 (dk_at dksX6_far_5 2 rfl rfl)
theorem dX6_far_119 : decode cX6_far 119 = .ok (.istore 5, 2) := dk_54 5 (dk_at dksX6_far_5 3 rfl rfl)
theorem dX6_far_121 : decode cX6_far 121 = .ok (.iconst (-1), 1) := dk_2 (dk_at dksX6_far_5 5 rfl rfl)
theorem dX6_far_122 : decode cX6_far 122 = .ok (.istore 6, 2) := dk_54 6 (dk_at dksX6_far_5 6 rfl rfl)
theorem dX6_far_124 : decode cX6_far 124 = .ok (.iconst 0, 1) := dk_3 (dk_at dksX6_far_5 8 rfl rfl)
theorem dX6_far_125 : decode cX6_far 125 = .ok (.istore 7, 2) := dk_54 7 (dk_at dksX6_far_5 9 rfl rfl)
theorem dX6_far_127 : decode cX6_far 127 = .ok (.iload 7, 2) := dk_21 7 (dk_at dksX6_far_5 11 rfl rfl)
theorem dX6_far_129 : decode cX6_far 129 = .ok (.aload_n 0, 1) := dk_42 (dk_at dksX6_far_5 13 rfl rfl)
theorem dX6_far_130 : decode cX6_far 130 = .ok (.getfield 382, 3) := dk_180 1 126 (dk_at dksX6_far_5 14 rfl rfl)
theorem dX6_far_133 : decode cX6_far 133 = .ok (.if_icmp .ge 60, 3) := dk_162 0 60 (dk_at dksX6_far_5 17 rfl rfl)
theorem dX6_far_136 : decode cX6_far 136 = .ok (.iload 4, 2) := dk_21 4 (dk_at dksX6_far_5 20 rfl rfl)
theorem dX6_far_138 : decode cX6_far 138 = .ok (.aload_n 0, 1) := dk_42 (dk_at dksX6_far_5 22 rfl rfl)
theorem dX6_far_139 : decode cX6_far 139 = .ok (.getfield 149, 3) := dk_180 0 149 (dk_at dksX6_far_6 0 rfl rfl)
theorem dX6_far_142 : decode cX6_far 142 = .ok (.iload 7, 2) := dk_21 7 (dk_at dksX6_far_6 3 rfl rfl)
theorem dX6_far_144 : decode cX6_far 144 = .ok (.iaload, 1) := dk_46 (dk_at dksX6_far_6 5 rfl rfl)
theorem dX6_far_145 : decode cX6_far 145 = .ok (.ldc 199, 2) := dk_18 199 (dk_at dksX6_far_6 6 rfl rfl)
theorem dX6_far_147 : decode cX6_far 147 = .ok (.if_icmp .ge 7, 3) := dk_162 0 7 (dk_at dksX6_far_6 8 rfl rfl)
theorem dX6_far_150 : decode cX6_far 150 = .ok (.iconst 1, 1) := dk_4 (dk_at dksX6_far_6 11 rfl rfl)
theorem dX6_far_151 : decode cX6_far 151 = .ok (.goto 4, 3) := dk_167 0 4 (dk_at dksX6_far_6 12 rfl rfl)
theorem dX6_far_154 : decode cX6_far 154 = .ok (.iconst 0, 1) := dk_3 (dk_at dksX6_far_6 15 rfl rfl)
theorem dX6_far_155 : decode cX6_far 155 = .ok (.iadd, 1) := dk_96 (dk_at dksX6_far_6 16 rfl rfl)
theorem dX6_far_156 : decode cX6_far 156 = .ok (.istore 4, 2) := dk_54 4 (dk_at dksX6_far_6 17 rfl rfl)
theorem dX6_far_158 : decode cX6_far 158 = .ok (.aload_n 0, 1) := dk_42 (dk_at dksX6_far_6 19 rfl rfl)
theorem dX6_far_159 : decode cX6_far 159 = .ok (.getfield 149, 3) := dk_180 0 149 (dk_at dksX6_far_6 20 rfl rfl)
theorem dX6_far_162 : decode cX6_far 162 = .ok (.iload 7, 2) := dk_21 7 (dk_at dksX6_far_7 0 rfl rfl)
theorem dX6_far_164 : decode cX6_far 164 = .ok (.iaload, 1) := dk_46 (dk_at dksX6_far_7 2 rfl rfl)
theorem dX6_far_165 : decode cX6_far 165 = .ok (.iload_n 3, 1) := dk_29 (dk_at dksX6_far_7 3 rfl rfl)
theorem dX6_far_166 : decode cX6_far 166 = .ok (.if_icmp .ne 21, 3) := dk_160 0 21 (dk_at dksX6_far_7 4 rfl rfl)
theorem dX6_far_169 : decode cX6_far 169 = .ok (.iinc 5 1, 3) := dk_132 5 1 (dk_at dksX6_far_7 7 rfl rfl)
theorem dX6_far_172 : decode cX6_far 172 = .ok (.iload 6, 2) := dk_21 6 (dk_at dksX6_far_7 10 rfl rfl)
theorem dX6_far_174 : decode cX6_far 174 = .ok (.iconst (-1), 1) := dk_2 (dk_at dksX6_far_7 12 rfl rfl)
theorem dX6_far_175 : decode cX6_far 175 = .ok (.if_icmp .ne 8, 3) := dk_160 0 8 (dk_at dksX6_far_7 13 rfl rfl)
theorem dX6_far_178 : decode cX6_far 178 = .ok (.iload 7, 2) := dk_21 7 (dk_at dksX6_far_7 16 rfl rfl)
theorem dX6_far_180 : decode cX6_far 180 = .ok (.goto 5, 3) := dk_167 0 5 (dk_at dksX6_far_7 18 rfl rfl)
theorem dX6_far_183 : decode cX6_far 183 = .ok (.iload 6, 2) := dk_21 6 (dk_at dksX6_far_7 21 rfl rfl)
theorem dX6_far_185 : decode cX6_far 185 = .ok (.istore 6, 2) := dk_54 6 (dk_at dksX6_far_8 0 rfl rfl)
theorem dX6_far_187 : decode cX6_far 187 = .ok (.iinc 7 1, 3) := dk_132 7 1 (dk_at dksX6_far_8 2 rfl rfl)
theorem dX6_far_190 : decode cX6_far 190 = .ok (.goto (-63), 3) := dk_167 255 193 (dk_at dksX6_far_8 5 rfl rfl)
theorem dX6_far_193 : decode cX6_far 193 = .ok (.aload_n 0, 1) := dk_42 (dk_at dksX6_far_8 8 rfl rfl)
theorem dX6_far_194 : decode cX6_far 194 = .ok (.iload_n 1, 1) := dk_27 (dk_at dksX6_far_8 9 rfl rfl)
theorem dX6_far_195 : decode cX6_far 195 = .ok (.ifCond .ne 8, 3) := dk_154 0 8 (dk_at dksX6_far_8 10 rfl rfl)
theorem dX6_far_198 : decode cX6_far 198 = .ok (.iload 4, 2) := dk_21 4 (dk_at dksX6_far_8 13 rfl rfl)
theorem dX6_far_200 : decode cX6_far 200 = .ok (.goto 24, 3) := dk_167 0 24 (dk_at dksX6_far_8 15 rfl rfl)
theorem dX6_far_203 : decode cX6_far 203 = .ok (.iload_n 1, 1) := dk_27 (dk_at dksX6_far_8 18 rfl rfl)
theorem dX6_far_204 : decode cX6_far 204 = .ok (.iconst 1, 1) := dk_4 (dk_at dksX6_far_8 19 rfl rfl)
theorem dX6_far_205 : decode cX6_far 205 = .ok (.if_icmp .ne 7, 3) := dk_160 0 7 (dk_at dksX6_far_8 20 rfl rfl)
theorem dX6_far_208 : decode cX6_far 208 = .ok (.iload_n 3, 1) := dk_29 (dk_at dksX6_far_8 23 rfl rfl)
theorem dX6_far_209 : decode cX6_far 209 = .ok (.goto 15, 3) := dk_167 0 15 (dk_at dksX6_far_9 0 rfl rfl)
theorem dX6_far_212 : decode cX6_far 212 = .ok (.iload_n 1, 1) := dk_27 (dk_at dksX6_far_9 3 rfl rfl)
theorem dX6_far_213 : decode cX6_far 213 = .ok (.iconst 2, 1) := dk_5 (dk_at dksX6_far_9 4 rfl rfl)
theorem dX6_far_214 : decode cX6_far 214 = .ok (.if_icmp .ne 8, 3) := dk_160 0 8 (dk_at dksX6_far_9 5 rfl rfl)
theorem dX6_far_217 : decode cX6_far 217 = .ok (.iload 5, 2) := dk_21 5 (dk_at dksX6_far_9 8 rfl rfl)
theorem dX6_far_219 : decode cX6_far 219 = .ok (.goto 5, 3) := dk_167 0 5 (dk_at dksX6_far_9 10 rfl rfl)
theorem dX6_far_222 : decode cX6_far 222 = .ok (.iload 6, 2) := dk_21 6 (dk_at dksX6_far_9 13 rfl rfl)
theorem dX6_far_224 : decode cX6_far 224 = .ok (.invokevirtual 215, 3) := dk_182 0 215 (dk_at dksX6_far_9 15 rfl rfl)
theorem dX6_far_227 : decode cX6_far 227 = .ok (.ireturn, 1) := dk_172 (dk_at dksX6_far_9 18 rfl rfl)
abbrev cX6_reckons : ByteArray := prog_15_method_77_code
def yX6_reckons : MethodName := ⟨RX6, "reckons", "()V"⟩
def dkwX6_reckons_9 : List UInt8 := [96, 79, 4, 60, 132, 2, 1, 167, 255, 176, 167, 255, 165, 177]
abbrev dktX6_reckons_9 : List UInt8 := dkwX6_reckons_9 ++ []
def dkwX6_reckons_8 : List UInt8 := [42, 180, 0, 149, 28, 7, 108, 42, 180, 0, 149, 42, 180, 0, 152, 28, 46, 46, 42, 180, 0, 155, 28, 46]
abbrev dktX6_reckons_8 : List UInt8 := dkwX6_reckons_8 ++ dktX6_reckons_9
def dkwX6_reckons_7 : List UInt8 := [180, 0, 152, 28, 46, 46, 42, 180, 0, 155, 28, 46, 96, 42, 180, 0, 149, 28, 7, 108, 46, 162, 0, 31]
abbrev dktX6_reckons_7 : List UInt8 := dkwX6_reckons_7 ++ dktX6_reckons_8
def dkwX6_reckons_6 : List UInt8 := [42, 180, 1, 126, 104, 162, 0, 76, 42, 180, 0, 152, 28, 46, 2, 159, 0, 60, 42, 180, 0, 149, 42]
abbrev dktX6_reckons_6 : List UInt8 := dkwX6_reckons_6 ++ dktX6_reckons_7
def dkwX6_reckons_5 : List UInt8 := [132, 2, 1, 167, 255, 189, 132, 1, 1, 167, 255, 140, 4, 60, 27, 153, 0, 93, 3, 60, 3, 61, 28, 7]
abbrev dktX6_reckons_5 : List UInt8 := dkwX6_reckons_5 ++ dktX6_reckons_6
def dkwX6_reckons_4 : List UInt8 := [7, 27, 104, 28, 96, 29, 2, 160, 0, 7, 2, 167, 0, 12, 42, 42, 180, 0, 128, 182, 1, 18, 136, 79]
abbrev dktX6_reckons_4 : List UInt8 := dkwX6_reckons_4 ++ dktX6_reckons_5
def dkwX6_reckons_3 : List UInt8 := [42, 180, 0, 128, 28, 182, 1, 14, 62, 42, 180, 0, 155, 7, 27, 104, 28, 96, 29, 79, 42, 180, 0, 152]
abbrev dktX6_reckons_3 : List UInt8 := dkwX6_reckons_3 ++ dktX6_reckons_4
def dkwX6_reckons_2 : List UInt8 := [167, 0, 5, 18, 199, 79, 3, 61, 28, 7, 162, 0, 68, 42, 27, 133, 42, 180, 0, 128, 182, 1, 9, 42]
abbrev dktX6_reckons_2 : List UInt8 := dkwX6_reckons_2 ++ dktX6_reckons_3
def dkwX6_reckons_1 : List UInt8 := [180, 0, 128, 182, 1, 9, 42, 180, 0, 149, 27, 42, 42, 180, 0, 128, 182, 1, 80, 153, 0, 7, 3]
abbrev dktX6_reckons_1 : List UInt8 := dkwX6_reckons_1 ++ dktX6_reckons_2
def dkwX6_reckons_0 : List UInt8 := [42, 42, 182, 0, 221, 136, 181, 1, 126, 3, 60, 27, 42, 180, 1, 126, 162, 0, 114, 42, 27, 133, 42]
abbrev dktX6_reckons_0 : List UInt8 := dkwX6_reckons_0 ++ dktX6_reckons_1
theorem dksX6_reckons_0 : cX6_reckons.data.toList.drop 0 = dktX6_reckons_0 := by decide +kernel
theorem dksX6_reckons_1 : cX6_reckons.data.toList.drop 23 = dktX6_reckons_1 := dk_seg dksX6_reckons_0 23 rfl rfl
theorem dksX6_reckons_2 : cX6_reckons.data.toList.drop 46 = dktX6_reckons_2 := dk_seg dksX6_reckons_1 23 rfl rfl
theorem dksX6_reckons_3 : cX6_reckons.data.toList.drop 70 = dktX6_reckons_3 := dk_seg dksX6_reckons_2 24 rfl rfl
theorem dksX6_reckons_4 : cX6_reckons.data.toList.drop 94 = dktX6_reckons_4 := dk_seg dksX6_reckons_3 24 rfl rfl
theorem dksX6_reckons_5 : cX6_reckons.data.toList.drop 118 = dktX6_reckons_5 := dk_seg dksX6_reckons_4 24 rfl rfl
theorem dksX6_reckons_6 : cX6_reckons.data.toList.drop 142 = dktX6_reckons_6 := dk_seg dksX6_reckons_5 24 rfl rfl
theorem dksX6_reckons_7 : cX6_reckons.data.toList.drop 165 = dktX6_reckons_7 := dk_seg dksX6_reckons_6 23 rfl rfl
theorem dksX6_reckons_8 : cX6_reckons.data.toList.drop 189 = dktX6_reckons_8 := dk_seg dksX6_reckons_7 24 rfl rfl
theorem dksX6_reckons_9 : cX6_reckons.data.toList.drop 213 = dktX6_reckons_9 := dk_seg dksX6_reckons_8 24 rfl rfl
theorem dX6_reckons_0 : decode cX6_reckons 0 = .ok (.aload_n 0, 1) := dk_42 (dk_at dksX6_reckons_0 0 rfl rfl)
theorem dX6_reckons_1 : decode cX6_reckons 1 = .ok (.aload_n 0, 1) := dk_42 (dk_at dksX6_reckons_0 1 rfl rfl)
theorem dX6_reckons_2 : decode cX6_reckons 2 = .ok (.invokevirtual 221, 3) := dk_182 0 221 (dk_at dksX6_reckons_0 2 rfl rfl)
theorem dX6_reckons_5 : decode cX6_reckons 5 = .ok (.l2i, 1) := dk_136 (dk_at dksX6_reckons_0 5 rfl rfl)
theorem dX6_reckons_6 : decode cX6_reckons 6 = .ok (.putfield 382, 3) := dk_181 1 126 (dk_at dksX6_reckons_0 6 rfl rfl)
theorem dX6_reckons_9 : decode cX6_reckons 9 = .ok (.iconst 0, 1) := dk_3 (dk_at dksX6_reckons_0 9 rfl rfl)
theorem dX6_reckons_10 : decode cX6_reckons 10 = .ok (.istore_n 1, 1) := dk_60 (dk_at dksX6_reckons_0 10 rfl rfl)
theorem dX6_reckons_11 : decode cX6_reckons 11 = .ok (.iload_n 1, 1) := dk_27 (dk_at dksX6_reckons_0 11 rfl rfl)
theorem dX6_reckons_12 : decode cX6_reckons 12 = .ok (.aload_n 0, 1) := dk_42 (dk_at dksX6_reckons_0 12 rfl rfl)
theorem dX6_reckons_13 : decode cX6_reckons 13 = .ok (.getfield 382, 3) := dk_180 1 126 (dk_at dksX6_reckons_0 13 rfl rfl)
theorem dX6_reckons_16 : decode cX6_reckons 16 = .ok (.if_icmp .ge 114, 3) := dk_162 0 114 (dk_at dksX6_reckons_0 16 rfl rfl)
theorem dX6_reckons_19 : decode cX6_reckons 19 = .ok (.aload_n 0, 1) := dk_42 (dk_at dksX6_reckons_0 19 rfl rfl)
theorem dX6_reckons_20 : decode cX6_reckons 20 = .ok (.iload_n 1, 1) := dk_27 (dk_at dksX6_reckons_0 20 rfl rfl)
theorem dX6_reckons_21 : decode cX6_reckons 21 = .ok (.i2l, 1) := dk_133 (dk_at dksX6_reckons_0 21 rfl rfl)
theorem dX6_reckons_22 : decode cX6_reckons 22 = .ok (.aload_n 0, 1) := dk_42 (dk_at dksX6_reckons_0 22 rfl rfl)
theorem dX6_reckons_23 : decode cX6_reckons 23 = .ok (.getfield 128, 3) := dk_180 0 128 (dk_at dksX6_reckons_1 0 rfl rfl)
theorem dX6_reckons_26 : decode cX6_reckons 26 = .ok (.invokevirtual 265, 3) := dk_182 1 9 (dk_at dksX6_reckons_1 3 rfl rfl)
theorem dX6_reckons_29 : decode cX6_reckons 29 = .ok (.aload_n 0, 1) := dk_42 (dk_at dksX6_reckons_1 6 rfl rfl)
theorem dX6_reckons_30 : decode cX6_reckons 30 = .ok (.getfield 149, 3) := dk_180 0 149 (dk_at dksX6_reckons_1 7 rfl rfl)
theorem dX6_reckons_33 : decode cX6_reckons 33 = .ok (.iload_n 1, 1) := dk_27 (dk_at dksX6_reckons_1 10 rfl rfl)
theorem dX6_reckons_34 : decode cX6_reckons 34 = .ok (.aload_n 0, 1) := dk_42 (dk_at dksX6_reckons_1 11 rfl rfl)
theorem dX6_reckons_35 : decode cX6_reckons 35 = .ok (.aload_n 0, 1) := dk_42 (dk_at dksX6_reckons_1 12 rfl rfl)
theorem dX6_reckons_36 : decode cX6_reckons 36 = .ok (.getfield 128, 3) := dk_180 0 128 (dk_at dksX6_reckons_1 13 rfl rfl)
theorem dX6_reckons_39 : decode cX6_reckons 39 = .ok (.invokevirtual 336, 3) := dk_182 1 80 (dk_at dksX6_reckons_1 16 rfl rfl)
theorem dX6_reckons_42 : decode cX6_reckons 42 = .ok (.ifCond .eq 7, 3) := dk_153 0 7 (dk_at dksX6_reckons_1 19 rfl rfl)
theorem dX6_reckons_45 : decode cX6_reckons 45 = .ok (.iconst 0, 1) := dk_3 (dk_at dksX6_reckons_1 22 rfl rfl)
theorem dX6_reckons_46 : decode cX6_reckons 46 = .ok (.goto 5, 3) := dk_167 0 5 (dk_at dksX6_reckons_2 0 rfl rfl)
theorem dX6_reckons_49 : decode cX6_reckons 49 = .ok (.ldc 199, 2) := dk_18 199 (dk_at dksX6_reckons_2 3 rfl rfl)
theorem dX6_reckons_51 : decode cX6_reckons 51 = .ok (.iastore, 1) := dk_79 (dk_at dksX6_reckons_2 5 rfl rfl)
theorem dX6_reckons_52 : decode cX6_reckons 52 = .ok (.iconst 0, 1) := dk_3 (dk_at dksX6_reckons_2 6 rfl rfl)
theorem dX6_reckons_53 : decode cX6_reckons 53 = .ok (.istore_n 2, 1) := dk_61 (dk_at dksX6_reckons_2 7 rfl rfl)
theorem dX6_reckons_54 : decode cX6_reckons 54 = .ok (.iload_n 2, 1) := dk_28 (dk_at dksX6_reckons_2 8 rfl rfl)
theorem dX6_reckons_55 : decode cX6_reckons 55 = .ok (.iconst 4, 1) := dk_7 (dk_at dksX6_reckons_2 9 rfl rfl)
theorem dX6_reckons_56 : decode cX6_reckons 56 = .ok (.if_icmp .ge 68, 3) := dk_162 0 68 (dk_at dksX6_reckons_2 10 rfl rfl)
theorem dX6_reckons_59 : decode cX6_reckons 59 = .ok (.aload_n 0, 1) := dk_42 (dk_at dksX6_reckons_2 13 rfl rfl)
theorem dX6_reckons_60 : decode cX6_reckons 60 = .ok (.iload_n 1, 1) := dk_27 (dk_at dksX6_reckons_2 14 rfl rfl)
theorem dX6_reckons_61 : decode cX6_reckons 61 = .ok (.i2l, 1) := dk_133 (dk_at dksX6_reckons_2 15 rfl rfl)
theorem dX6_reckons_62 : decode cX6_reckons 62 = .ok (.aload_n 0, 1) := dk_42 (dk_at dksX6_reckons_2 16 rfl rfl)
theorem dX6_reckons_63 : decode cX6_reckons 63 = .ok (.getfield 128, 3) := dk_180 0 128 (dk_at dksX6_reckons_2 17 rfl rfl)
theorem dX6_reckons_66 : decode cX6_reckons 66 = .ok (.invokevirtual 265, 3) := dk_182 1 9 (dk_at dksX6_reckons_2 20 rfl rfl)
theorem dX6_reckons_69 : decode cX6_reckons 69 = .ok (.aload_n 0, 1) := dk_42 (dk_at dksX6_reckons_2 23 rfl rfl)
theorem dX6_reckons_70 : decode cX6_reckons 70 = .ok (.aload_n 0, 1) := dk_42 (dk_at dksX6_reckons_3 0 rfl rfl)
theorem dX6_reckons_71 : decode cX6_reckons 71 = .ok (.getfield 128, 3) := dk_180 0 128 (dk_at dksX6_reckons_3 1 rfl rfl)
theorem dX6_reckons_74 : decode cX6_reckons 74 = .ok (.iload_n 2, 1) := dk_28 (dk_at dksX6_reckons_3 4 rfl rfl)
theorem dX6_reckons_75 : decode cX6_reckons 75 = .ok (.invokevirtual 270, 3) := dk_182 1 14 (dk_at dksX6_reckons_3 5 rfl rfl)
theorem dX6_reckons_78 : decode cX6_reckons 78 = .ok (.istore_n 3, 1) := dk_62 (dk_at dksX6_reckons_3 8 rfl rfl)
theorem dX6_reckons_79 : decode cX6_reckons 79 = .ok (.aload_n 0, 1) := dk_42 (dk_at dksX6_reckons_3 9 rfl rfl)
theorem dX6_reckons_80 : decode cX6_reckons 80 = .ok (.getfield 155, 3) := dk_180 0 155 (dk_at dksX6_reckons_3 10 rfl rfl)
theorem dX6_reckons_83 : decode cX6_reckons 83 = .ok (.iconst 4, 1) := dk_7 (dk_at dksX6_reckons_3 13 rfl rfl)
theorem dX6_reckons_84 : decode cX6_reckons 84 = .ok (.iload_n 1, 1) := dk_27 (dk_at dksX6_reckons_3 14 rfl rfl)
theorem dX6_reckons_85 : decode cX6_reckons 85 = .ok (.imul, 1) := dk_104 (dk_at dksX6_reckons_3 15 rfl rfl)
theorem dX6_reckons_86 : decode cX6_reckons 86 = .ok (.iload_n 2, 1) := dk_28 (dk_at dksX6_reckons_3 16 rfl rfl)
theorem dX6_reckons_87 : decode cX6_reckons 87 = .ok (.iadd, 1) := dk_96 (dk_at dksX6_reckons_3 17 rfl rfl)
theorem dX6_reckons_88 : decode cX6_reckons 88 = .ok (.iload_n 3, 1) := dk_29 (dk_at dksX6_reckons_3 18 rfl rfl)
theorem dX6_reckons_89 : decode cX6_reckons 89 = .ok (.iastore, 1) := dk_79 (dk_at dksX6_reckons_3 19 rfl rfl)
theorem dX6_reckons_90 : decode cX6_reckons 90 = .ok (.aload_n 0, 1) := dk_42 (dk_at dksX6_reckons_3 20 rfl rfl)
theorem dX6_reckons_91 : decode cX6_reckons 91 = .ok (.getfield 152, 3) := dk_180 0 152 (dk_at dksX6_reckons_3 21 rfl rfl)
theorem dX6_reckons_94 : decode cX6_reckons 94 = .ok (.iconst 4, 1) := dk_7 (dk_at dksX6_reckons_4 0 rfl rfl)
theorem dX6_reckons_95 : decode cX6_reckons 95 = .ok (.iload_n 1, 1) := dk_27 (dk_at dksX6_reckons_4 1 rfl rfl)
theorem dX6_reckons_96 : decode cX6_reckons 96 = .ok (.imul, 1) := dk_104 (dk_at dksX6_reckons_4 2 rfl rfl)
theorem dX6_reckons_97 : decode cX6_reckons 97 = .ok (.iload_n 2, 1) := dk_28 (dk_at dksX6_reckons_4 3 rfl rfl)
theorem dX6_reckons_98 : decode cX6_reckons 98 = .ok (.iadd, 1) := dk_96 (dk_at dksX6_reckons_4 4 rfl rfl)
theorem dX6_reckons_99 : decode cX6_reckons 99 = .ok (.iload_n 3, 1) := dk_29 (dk_at dksX6_reckons_4 5 rfl rfl)
theorem dX6_reckons_100 : decode cX6_reckons 100 = .ok (.iconst (-1), 1) := dk_2 (dk_at dksX6_reckons_4 6 rfl rfl)
theorem dX6_reckons_101 : decode cX6_reckons 101 = .ok (.if_icmp .ne 7, 3) := dk_160 0 7 (dk_at dksX6_reckons_4 7 rfl rfl)
theorem dX6_reckons_104 : decode cX6_reckons 104 = .ok (.iconst (-1), 1) := dk_2 (dk_at dksX6_reckons_4 10 rfl rfl)
theorem dX6_reckons_105 : decode cX6_reckons 105 = .ok (.goto 12, 3) := dk_167 0 12 (dk_at dksX6_reckons_4 11 rfl rfl)
theorem dX6_reckons_108 : decode cX6_reckons 108 = .ok (.aload_n 0, 1) := dk_42 (dk_at dksX6_reckons_4 14 rfl rfl)
theorem dX6_reckons_109 : decode cX6_reckons 109 = .ok (.aload_n 0, 1) := dk_42 (dk_at dksX6_reckons_4 15 rfl rfl)
theorem dX6_reckons_110 : decode cX6_reckons 110 = .ok (.getfield 128, 3) := dk_180 0 128 (dk_at dksX6_reckons_4 16 rfl rfl)
theorem dX6_reckons_113 : decode cX6_reckons 113 = .ok (.invokevirtual 274, 3) := dk_182 1 18 (dk_at dksX6_reckons_4 19 rfl rfl)
theorem dX6_reckons_116 : decode cX6_reckons 116 = .ok (.l2i, 1) := dk_136 (dk_at dksX6_reckons_4 22 rfl rfl)
theorem dX6_reckons_117 : decode cX6_reckons 117 = .ok (.iastore, 1) := dk_79 (dk_at dksX6_reckons_4 23 rfl rfl)
theorem dX6_reckons_118 : decode cX6_reckons 118 = .ok (.iinc 2 1, 3) := dk_132 2 1 (dk_at dksX6_reckons_5 0 rfl rfl)
theorem dX6_reckons_121 : decode cX6_reckons 121 = .ok (.goto (-67), 3) := dk_167 255 189 (dk_at dksX6_reckons_5 3 rfl rfl)
theorem dX6_reckons_124 : decode cX6_reckons 124 = .ok (.iinc 1 1, 3) := dk_132 1 1 (dk_at dksX6_reckons_5 6 rfl rfl)
theorem dX6_reckons_127 : decode cX6_reckons 127 = .ok (.goto (-116), 3) := dk_167 255 140 (dk_at dksX6_reckons_5 9 rfl rfl)
theorem dX6_reckons_130 : decode cX6_reckons 130 = .ok (.iconst 1, 1) := dk_4 (dk_at dksX6_reckons_5 12 rfl rfl)
theorem dX6_reckons_131 : decode cX6_reckons 131 = .ok (.istore_n 1, 1) := dk_60 (dk_at dksX6_reckons_5 13 rfl rfl)
theorem dX6_reckons_132 : decode cX6_reckons 132 = .ok (.iload_n 1, 1) := dk_27 (dk_at dksX6_reckons_5 14 rfl rfl)
theorem dX6_reckons_133 : decode cX6_reckons 133 = .ok (.ifCond .eq 93, 3) := dk_153 0 93 (dk_at dksX6_reckons_5 15 rfl rfl)
theorem dX6_reckons_136 : decode cX6_reckons 136 = .ok (.iconst 0, 1) := dk_3 (dk_at dksX6_reckons_5 18 rfl rfl)
theorem dX6_reckons_137 : decode cX6_reckons 137 = .ok (.istore_n 1, 1) := dk_60 (dk_at dksX6_reckons_5 19 rfl rfl)
theorem dX6_reckons_138 : decode cX6_reckons 138 = .ok (.iconst 0, 1) := dk_3 (dk_at dksX6_reckons_5 20 rfl rfl)
theorem dX6_reckons_139 : decode cX6_reckons 139 = .ok (.istore_n 2, 1) := dk_61 (dk_at dksX6_reckons_5 21 rfl rfl)
theorem dX6_reckons_140 : decode cX6_reckons 140 = .ok (.iload_n 2, 1) := dk_28 (dk_at dksX6_reckons_5 22 rfl rfl)
theorem dX6_reckons_141 : decode cX6_reckons 141 = .ok (.iconst 4, 1) := dk_7 (dk_at dksX6_reckons_5 23 rfl rfl)
theorem dX6_reckons_142 : decode cX6_reckons 142 = .ok (.aload_n 0, 1) := dk_42 (dk_at dksX6_reckons_6 0 rfl rfl)
theorem dX6_reckons_143 : decode cX6_reckons 143 = .ok (.getfield 382, 3) := dk_180 1 126 (dk_at dksX6_reckons_6 1 rfl rfl)
theorem dX6_reckons_146 : decode cX6_reckons 146 = .ok (.imul, 1) := dk_104 (dk_at dksX6_reckons_6 4 rfl rfl)
theorem dX6_reckons_147 : decode cX6_reckons 147 = .ok (.if_icmp .ge 76, 3) := dk_162 0 76 (dk_at dksX6_reckons_6 5 rfl rfl)
theorem dX6_reckons_150 : decode cX6_reckons 150 = .ok (.aload_n 0, 1) := dk_42 (dk_at dksX6_reckons_6 8 rfl rfl)
theorem dX6_reckons_151 : decode cX6_reckons 151 = .ok (.getfield 152, 3) := dk_180 0 152 (dk_at dksX6_reckons_6 9 rfl rfl)
theorem dX6_reckons_154 : decode cX6_reckons 154 = .ok (.iload_n 2, 1) := dk_28 (dk_at dksX6_reckons_6 12 rfl rfl)
theorem dX6_reckons_155 : decode cX6_reckons 155 = .ok (.iaload, 1) := dk_46 (dk_at dksX6_reckons_6 13 rfl rfl)
theorem dX6_reckons_156 : decode cX6_reckons 156 = .ok (.iconst (-1), 1) := dk_2 (dk_at dksX6_reckons_6 14 rfl rfl)
theorem dX6_reckons_157 : decode cX6_reckons 157 = .ok (.if_icmp .eq 60, 3) := dk_159 0 60 (dk_at dksX6_reckons_6 15 rfl rfl)
theorem dX6_reckons_160 : decode cX6_reckons 160 = .ok (.aload_n 0, 1) := dk_42 (dk_at dksX6_reckons_6 18 rfl rfl)
theorem dX6_reckons_161 : decode cX6_reckons 161 = .ok (.getfield 149, 3) := dk_180 0 149 (dk_at dksX6_reckons_6 19 rfl rfl)
theorem dX6_reckons_164 : decode cX6_reckons 164 = .ok (.aload_n 0, 1) := dk_42 (dk_at dksX6_reckons_6 22 rfl rfl)
theorem dX6_reckons_165 : decode cX6_reckons 165 = .ok (.getfield 152, 3) := dk_180 0 152 (dk_at dksX6_reckons_7 0 rfl rfl)
theorem dX6_reckons_168 : decode cX6_reckons 168 = .ok (.iload_n 2, 1) := dk_28 (dk_at dksX6_reckons_7 3 rfl rfl)
theorem dX6_reckons_169 : decode cX6_reckons 169 = .ok (.iaload, 1) := dk_46 (dk_at dksX6_reckons_7 4 rfl rfl)
theorem dX6_reckons_170 : decode cX6_reckons 170 = .ok (.iaload, 1) := dk_46 (dk_at dksX6_reckons_7 5 rfl rfl)
theorem dX6_reckons_171 : decode cX6_reckons 171 = .ok (.aload_n 0, 1) := dk_42 (dk_at dksX6_reckons_7 6 rfl rfl)
theorem dX6_reckons_172 : decode cX6_reckons 172 = .ok (.getfield 155, 3) := dk_180 0 155 (dk_at dksX6_reckons_7 7 rfl rfl)
theorem dX6_reckons_175 : decode cX6_reckons 175 = .ok (.iload_n 2, 1) := dk_28 (dk_at dksX6_reckons_7 10 rfl rfl)
theorem dX6_reckons_176 : decode cX6_reckons 176 = .ok (.iaload, 1) := dk_46 (dk_at dksX6_reckons_7 11 rfl rfl)
theorem dX6_reckons_177 : decode cX6_reckons 177 = .ok (.iadd, 1) := dk_96 (dk_at dksX6_reckons_7 12 rfl rfl)
theorem dX6_reckons_178 : decode cX6_reckons 178 = .ok (.aload_n 0, 1) := dk_42 (dk_at dksX6_reckons_7 13 rfl rfl)
theorem dX6_reckons_179 : decode cX6_reckons 179 = .ok (.getfield 149, 3) := dk_180 0 149 (dk_at dksX6_reckons_7 14 rfl rfl)
theorem dX6_reckons_182 : decode cX6_reckons 182 = .ok (.iload_n 2, 1) := dk_28 (dk_at dksX6_reckons_7 17 rfl rfl)
theorem dX6_reckons_183 : decode cX6_reckons 183 = .ok (.iconst 4, 1) := dk_7 (dk_at dksX6_reckons_7 18 rfl rfl)
theorem dX6_reckons_184 : decode cX6_reckons 184 = .ok (.idiv, 1) := dk_108 (dk_at dksX6_reckons_7 19 rfl rfl)
theorem dX6_reckons_185 : decode cX6_reckons 185 = .ok (.iaload, 1) := dk_46 (dk_at dksX6_reckons_7 20 rfl rfl)
theorem dX6_reckons_186 : decode cX6_reckons 186 = .ok (.if_icmp .ge 31, 3) := dk_162 0 31 (dk_at dksX6_reckons_7 21 rfl rfl)
theorem dX6_reckons_189 : decode cX6_reckons 189 = .ok (.aload_n 0, 1) := dk_42 (dk_at dksX6_reckons_8 0 rfl rfl)
theorem dX6_reckons_190 : decode cX6_reckons 190 = .ok (.getfield 149, 3) := dk_180 0 149 (dk_at dksX6_reckons_8 1 rfl rfl)
theorem dX6_reckons_193 : decode cX6_reckons 193 = .ok (.iload_n 2, 1) := dk_28 (dk_at dksX6_reckons_8 4 rfl rfl)
theorem dX6_reckons_194 : decode cX6_reckons 194 = .ok (.iconst 4, 1) := dk_7 (dk_at dksX6_reckons_8 5 rfl rfl)
theorem dX6_reckons_195 : decode cX6_reckons 195 = .ok (.idiv, 1) := dk_108 (dk_at dksX6_reckons_8 6 rfl rfl)
theorem dX6_reckons_196 : decode cX6_reckons 196 = .ok (.aload_n 0, 1) := dk_42 (dk_at dksX6_reckons_8 7 rfl rfl)
theorem dX6_reckons_197 : decode cX6_reckons 197 = .ok (.getfield 149, 3) := dk_180 0 149 (dk_at dksX6_reckons_8 8 rfl rfl)
theorem dX6_reckons_200 : decode cX6_reckons 200 = .ok (.aload_n 0, 1) := dk_42 (dk_at dksX6_reckons_8 11 rfl rfl)
theorem dX6_reckons_201 : decode cX6_reckons 201 = .ok (.getfield 152, 3) := dk_180 0 152 (dk_at dksX6_reckons_8 12 rfl rfl)
theorem dX6_reckons_204 : decode cX6_reckons 204 = .ok (.iload_n 2, 1) := dk_28 (dk_at dksX6_reckons_8 15 rfl rfl)
theorem dX6_reckons_205 : decode cX6_reckons 205 = .ok (.iaload, 1) := dk_46 (dk_at dksX6_reckons_8 16 rfl rfl)
theorem dX6_reckons_206 : decode cX6_reckons 206 = .ok (.iaload, 1) := dk_46 (dk_at dksX6_reckons_8 17 rfl rfl)
theorem dX6_reckons_207 : decode cX6_reckons 207 = .ok (.aload_n 0, 1) := dk_42 (dk_at dksX6_reckons_8 18 rfl rfl)
theorem dX6_reckons_208 : decode cX6_reckons 208 = .ok (.getfield 155, 3) := dk_180 0 155 (dk_at dksX6_reckons_8 19 rfl rfl)
theorem dX6_reckons_211 : decode cX6_reckons 211 = .ok (.iload_n 2, 1) := dk_28 (dk_at dksX6_reckons_8 22 rfl rfl)
theorem dX6_reckons_212 : decode cX6_reckons 212 = .ok (.iaload, 1) := dk_46 (dk_at dksX6_reckons_8 23 rfl rfl)
theorem dX6_reckons_213 : decode cX6_reckons 213 = .ok (.iadd, 1) := dk_96 (dk_at dksX6_reckons_9 0 rfl rfl)
theorem dX6_reckons_214 : decode cX6_reckons 214 = .ok (.iastore, 1) := dk_79 (dk_at dksX6_reckons_9 1 rfl rfl)
theorem dX6_reckons_215 : decode cX6_reckons 215 = .ok (.iconst 1, 1) := dk_4 (dk_at dksX6_reckons_9 2 rfl rfl)
theorem dX6_reckons_216 : decode cX6_reckons 216 = .ok (.istore_n 1, 1) := dk_60 (dk_at dksX6_reckons_9 3 rfl rfl)
theorem dX6_reckons_217 : decode cX6_reckons 217 = .ok (.iinc 2 1, 3) := dk_132 2 1 (dk_at dksX6_reckons_9 4 rfl rfl)
theorem dX6_reckons_220 : decode cX6_reckons 220 = .ok (.goto (-80), 3) := dk_167 255 176 (dk_at dksX6_reckons_9 7 rfl rfl)
theorem dX6_reckons_223 : decode cX6_reckons 223 = .ok (.goto (-91), 3) := dk_167 255 165 (dk_at dksX6_reckons_9 10 rfl rfl)
theorem dX6_reckons_226 : decode cX6_reckons 226 = .ok (.return_, 1) := dk_177 (dk_at dksX6_reckons_9 13 rfl rfl)
abbrev cX6_countsWays : ByteArray := prog_15_method_79_code
def yX6_countsWays : MethodName := ⟨RX6, "countsWays", "()V"⟩
def dkwX6_countsWays_6 : List UInt8 := [132, 3, 1, 167, 255, 126, 132, 2, 1, 167, 255, 113, 177]
abbrev dktX6_countsWays_6 : List UInt8 := dkwX6_countsWays_6 ++ []
def dkwX6_countsWays_5 : List UInt8 := [42, 180, 0, 158, 29, 21, 4, 19, 1, 132, 162, 0, 8, 21, 4, 167, 0, 6, 19, 1, 132, 79]
abbrev dktX6_countsWays_5 : List UInt8 := dkwX6_countsWays_5 ++ dktX6_countsWays_6
def dkwX6_countsWays_4 : List UInt8 := [46, 96, 28, 160, 0, 15, 21, 4, 42, 180, 0, 158, 21, 6, 46, 96, 54, 4, 132, 5, 1, 167, 255, 189]
abbrev dktX6_countsWays_4 : List UInt8 := dkwX6_countsWays_4 ++ dktX6_countsWays_5
def dkwX6_countsWays_3 : List UInt8 := [159, 0, 42, 28, 158, 0, 38, 42, 180, 0, 149, 21, 6, 46, 42, 180, 0, 155, 7, 29, 104, 21, 5, 96]
abbrev dktX6_countsWays_3 : List UInt8 := dkwX6_countsWays_3 ++ dktX6_countsWays_4
def dkwX6_countsWays_2 : List UInt8 := [54, 5, 21, 5, 7, 162, 0, 67, 42, 180, 0, 152, 7, 29, 104, 21, 5, 96, 46, 54, 6, 21, 6, 2]
abbrev dktX6_countsWays_2 : List UInt8 := dkwX6_countsWays_2 ++ dktX6_countsWays_3
def dkwX6_countsWays_1 : List UInt8 := [180, 0, 149, 29, 46, 28, 159, 0, 6, 167, 0, 109, 28, 154, 0, 7, 4, 167, 0, 4, 3, 54, 4, 3]
abbrev dktX6_countsWays_1 : List UInt8 := dkwX6_countsWays_1 ++ dktX6_countsWays_2
def dkwX6_countsWays_0 : List UInt8 := [42, 182, 1, 129, 60, 3, 61, 28, 27, 163, 0, 144, 3, 62, 29, 42, 180, 1, 126, 162, 0, 128, 42]
abbrev dktX6_countsWays_0 : List UInt8 := dkwX6_countsWays_0 ++ dktX6_countsWays_1
theorem dksX6_countsWays_0 : cX6_countsWays.data.toList.drop 0 = dktX6_countsWays_0 := by decide +kernel
theorem dksX6_countsWays_1 : cX6_countsWays.data.toList.drop 23 = dktX6_countsWays_1 := dk_seg dksX6_countsWays_0 23 rfl rfl
theorem dksX6_countsWays_2 : cX6_countsWays.data.toList.drop 47 = dktX6_countsWays_2 := dk_seg dksX6_countsWays_1 24 rfl rfl
theorem dksX6_countsWays_3 : cX6_countsWays.data.toList.drop 71 = dktX6_countsWays_3 := dk_seg dksX6_countsWays_2 24 rfl rfl
theorem dksX6_countsWays_4 : cX6_countsWays.data.toList.drop 95 = dktX6_countsWays_4 := dk_seg dksX6_countsWays_3 24 rfl rfl
theorem dksX6_countsWays_5 : cX6_countsWays.data.toList.drop 119 = dktX6_countsWays_5 := dk_seg dksX6_countsWays_4 24 rfl rfl
theorem dksX6_countsWays_6 : cX6_countsWays.data.toList.drop 141 = dktX6_countsWays_6 := dk_seg dksX6_countsWays_5 22 rfl rfl
theorem dX6_countsWays_0 : decode cX6_countsWays 0 = .ok (.aload_n 0, 1) := dk_42 (dk_at dksX6_countsWays_0 0 rfl rfl)
theorem dX6_countsWays_1 : decode cX6_countsWays 1 = .ok (.invokevirtual 385, 3) := dk_182 1 129 (dk_at dksX6_countsWays_0 1 rfl rfl)
theorem dX6_countsWays_4 : decode cX6_countsWays 4 = .ok (.istore_n 1, 1) := dk_60 (dk_at dksX6_countsWays_0 4 rfl rfl)
theorem dX6_countsWays_5 : decode cX6_countsWays 5 = .ok (.iconst 0, 1) := dk_3 (dk_at dksX6_countsWays_0 5 rfl rfl)
theorem dX6_countsWays_6 : decode cX6_countsWays 6 = .ok (.istore_n 2, 1) := dk_61 (dk_at dksX6_countsWays_0 6 rfl rfl)
theorem dX6_countsWays_7 : decode cX6_countsWays 7 = .ok (.iload_n 2, 1) := dk_28 (dk_at dksX6_countsWays_0 7 rfl rfl)
theorem dX6_countsWays_8 : decode cX6_countsWays 8 = .ok (.iload_n 1, 1) := dk_27 (dk_at dksX6_countsWays_0 8 rfl rfl)
theorem dX6_countsWays_9 : decode cX6_countsWays 9 = .ok (.if_icmp .gt 144, 3) := dk_163 0 144 (dk_at dksX6_countsWays_0 9 rfl rfl)
theorem dX6_countsWays_12 : decode cX6_countsWays 12 = .ok (.iconst 0, 1) := dk_3 (dk_at dksX6_countsWays_0 12 rfl rfl)
theorem dX6_countsWays_13 : decode cX6_countsWays 13 = .ok (.istore_n 3, 1) := dk_62 (dk_at dksX6_countsWays_0 13 rfl rfl)
theorem dX6_countsWays_14 : decode cX6_countsWays 14 = .ok (.iload_n 3, 1) := dk_29 (dk_at dksX6_countsWays_0 14 rfl rfl)
theorem dX6_countsWays_15 : decode cX6_countsWays 15 = .ok (.aload_n 0, 1) := dk_42 (dk_at dksX6_countsWays_0 15 rfl rfl)
theorem dX6_countsWays_16 : decode cX6_countsWays 16 = .ok (.getfield 382, 3) := dk_180 1 126 (dk_at dksX6_countsWays_0 16 rfl rfl)
theorem dX6_countsWays_19 : decode cX6_countsWays 19 = .ok (.if_icmp .ge 128, 3) := dk_162 0 128 (dk_at dksX6_countsWays_0 19 rfl rfl)
theorem dX6_countsWays_22 : decode cX6_countsWays 22 = .ok (.aload_n 0, 1) := dk_42 (dk_at dksX6_countsWays_0 22 rfl rfl)
theorem dX6_countsWays_23 : decode cX6_countsWays 23 = .ok (.getfield 149, 3) := dk_180 0 149 (dk_at dksX6_countsWays_1 0 rfl rfl)
theorem dX6_countsWays_26 : decode cX6_countsWays 26 = .ok (.iload_n 3, 1) := dk_29 (dk_at dksX6_countsWays_1 3 rfl rfl)
theorem dX6_countsWays_27 : decode cX6_countsWays 27 = .ok (.iaload, 1) := dk_46 (dk_at dksX6_countsWays_1 4 rfl rfl)
theorem dX6_countsWays_28 : decode cX6_countsWays 28 = .ok (.iload_n 2, 1) := dk_28 (dk_at dksX6_countsWays_1 5 rfl rfl)
theorem dX6_countsWays_29 : decode cX6_countsWays 29 = .ok (.if_icmp .eq 6, 3) := dk_159 0 6 (dk_at dksX6_countsWays_1 6 rfl rfl)
theorem dX6_countsWays_32 : decode cX6_countsWays 32 = .ok (.goto 109, 3) := dk_167 0 109 (dk_at dksX6_countsWays_1 9 rfl rfl)
theorem dX6_countsWays_35 : decode cX6_countsWays 35 = .ok (.iload_n 2, 1) := dk_28 (dk_at dksX6_countsWays_1 12 rfl rfl)
theorem dX6_countsWays_36 : decode cX6_countsWays 36 = .ok (.ifCond .ne 7, 3) := dk_154 0 7 (dk_at dksX6_countsWays_1 13 rfl rfl)
theorem dX6_countsWays_39 : decode cX6_countsWays 39 = .ok (.iconst 1, 1) := dk_4 (dk_at dksX6_countsWays_1 16 rfl rfl)
theorem dX6_countsWays_40 : decode cX6_countsWays 40 = .ok (.goto 4, 3) := dk_167 0 4 (dk_at dksX6_countsWays_1 17 rfl rfl)
theorem dX6_countsWays_43 : decode cX6_countsWays 43 = .ok (.iconst 0, 1) := dk_3 (dk_at dksX6_countsWays_1 20 rfl rfl)
theorem dX6_countsWays_44 : decode cX6_countsWays 44 = .ok (.istore 4, 2) := dk_54 4 (dk_at dksX6_countsWays_1 21 rfl rfl)
theorem dX6_countsWays_46 : decode cX6_countsWays 46 = .ok (.iconst 0, 1) := dk_3 (dk_at dksX6_countsWays_1 23 rfl rfl)
theorem dX6_countsWays_47 : decode cX6_countsWays 47 = .ok (.istore 5, 2) := dk_54 5 (dk_at dksX6_countsWays_2 0 rfl rfl)
theorem dX6_countsWays_49 : decode cX6_countsWays 49 = .ok (.iload 5, 2) := dk_21 5 (dk_at dksX6_countsWays_2 2 rfl rfl)
theorem dX6_countsWays_51 : decode cX6_countsWays 51 = .ok (.iconst 4, 1) := dk_7 (dk_at dksX6_countsWays_2 4 rfl rfl)
theorem dX6_countsWays_52 : decode cX6_countsWays 52 = .ok (.if_icmp .ge 67, 3) := dk_162 0 67 (dk_at dksX6_countsWays_2 5 rfl rfl)
theorem dX6_countsWays_55 : decode cX6_countsWays 55 = .ok (.aload_n 0, 1) := dk_42 (dk_at dksX6_countsWays_2 8 rfl rfl)
theorem dX6_countsWays_56 : decode cX6_countsWays 56 = .ok (.getfield 152, 3) := dk_180 0 152 (dk_at dksX6_countsWays_2 9 rfl rfl)
theorem dX6_countsWays_59 : decode cX6_countsWays 59 = .ok (.iconst 4, 1) := dk_7 (dk_at dksX6_countsWays_2 12 rfl rfl)
theorem dX6_countsWays_60 : decode cX6_countsWays 60 = .ok (.iload_n 3, 1) := dk_29 (dk_at dksX6_countsWays_2 13 rfl rfl)
theorem dX6_countsWays_61 : decode cX6_countsWays 61 = .ok (.imul, 1) := dk_104 (dk_at dksX6_countsWays_2 14 rfl rfl)
theorem dX6_countsWays_62 : decode cX6_countsWays 62 = .ok (.iload 5, 2) := dk_21 5 (dk_at dksX6_countsWays_2 15 rfl rfl)
theorem dX6_countsWays_64 : decode cX6_countsWays 64 = .ok (.iadd, 1) := dk_96 (dk_at dksX6_countsWays_2 17 rfl rfl)
theorem dX6_countsWays_65 : decode cX6_countsWays 65 = .ok (.iaload, 1) := dk_46 (dk_at dksX6_countsWays_2 18 rfl rfl)
theorem dX6_countsWays_66 : decode cX6_countsWays 66 = .ok (.istore 6, 2) := dk_54 6 (dk_at dksX6_countsWays_2 19 rfl rfl)
theorem dX6_countsWays_68 : decode cX6_countsWays 68 = .ok (.iload 6, 2) := dk_21 6 (dk_at dksX6_countsWays_2 21 rfl rfl)
theorem dX6_countsWays_70 : decode cX6_countsWays 70 = .ok (.iconst (-1), 1) := dk_2 (dk_at dksX6_countsWays_2 23 rfl rfl)
theorem dX6_countsWays_71 : decode cX6_countsWays 71 = .ok (.if_icmp .eq 42, 3) := dk_159 0 42 (dk_at dksX6_countsWays_3 0 rfl rfl)
theorem dX6_countsWays_74 : decode cX6_countsWays 74 = .ok (.iload_n 2, 1) := dk_28 (dk_at dksX6_countsWays_3 3 rfl rfl)
theorem dX6_countsWays_75 : decode cX6_countsWays 75 = .ok (.ifCond .le 38, 3) := dk_158 0 38 (dk_at dksX6_countsWays_3 4 rfl rfl)
theorem dX6_countsWays_78 : decode cX6_countsWays 78 = .ok (.aload_n 0, 1) := dk_42 (dk_at dksX6_countsWays_3 7 rfl rfl)
theorem dX6_countsWays_79 : decode cX6_countsWays 79 = .ok (.getfield 149, 3) := dk_180 0 149 (dk_at dksX6_countsWays_3 8 rfl rfl)
theorem dX6_countsWays_82 : decode cX6_countsWays 82 = .ok (.iload 6, 2) := dk_21 6 (dk_at dksX6_countsWays_3 11 rfl rfl)
theorem dX6_countsWays_84 : decode cX6_countsWays 84 = .ok (.iaload, 1) := dk_46 (dk_at dksX6_countsWays_3 13 rfl rfl)
theorem dX6_countsWays_85 : decode cX6_countsWays 85 = .ok (.aload_n 0, 1) := dk_42 (dk_at dksX6_countsWays_3 14 rfl rfl)
theorem dX6_countsWays_86 : decode cX6_countsWays 86 = .ok (.getfield 155, 3) := dk_180 0 155 (dk_at dksX6_countsWays_3 15 rfl rfl)
theorem dX6_countsWays_89 : decode cX6_countsWays 89 = .ok (.iconst 4, 1) := dk_7 (dk_at dksX6_countsWays_3 18 rfl rfl)
theorem dX6_countsWays_90 : decode cX6_countsWays 90 = .ok (.iload_n 3, 1) := dk_29 (dk_at dksX6_countsWays_3 19 rfl rfl)
theorem dX6_countsWays_91 : decode cX6_countsWays 91 = .ok (.imul, 1) := dk_104 (dk_at dksX6_countsWays_3 20 rfl rfl)
theorem dX6_countsWays_92 : decode cX6_countsWays 92 = .ok (.iload 5, 2) := dk_21 5 (dk_at dksX6_countsWays_3 21 rfl rfl)
theorem dX6_countsWays_94 : decode cX6_countsWays 94 = .ok (.iadd, 1) := dk_96 (dk_at dksX6_countsWays_3 23 rfl rfl)
theorem dX6_countsWays_95 : decode cX6_countsWays 95 = .ok (.iaload, 1) := dk_46 (dk_at dksX6_countsWays_4 0 rfl rfl)
theorem dX6_countsWays_96 : decode cX6_countsWays 96 = .ok (.iadd, 1) := dk_96 (dk_at dksX6_countsWays_4 1 rfl rfl)
theorem dX6_countsWays_97 : decode cX6_countsWays 97 = .ok (.iload_n 2, 1) := dk_28 (dk_at dksX6_countsWays_4 2 rfl rfl)
theorem dX6_countsWays_98 : decode cX6_countsWays 98 = .ok (.if_icmp .ne 15, 3) := dk_160 0 15 (dk_at dksX6_countsWays_4 3 rfl rfl)
theorem dX6_countsWays_101 : decode cX6_countsWays 101 = .ok (.iload 4, 2) := dk_21 4 (dk_at dksX6_countsWays_4 6 rfl rfl)
theorem dX6_countsWays_103 : decode cX6_countsWays 103 = .ok (.aload_n 0, 1) := dk_42 (dk_at dksX6_countsWays_4 8 rfl rfl)
theorem dX6_countsWays_104 : decode cX6_countsWays 104 = .ok (.getfield 158, 3) := dk_180 0 158 (dk_at dksX6_countsWays_4 9 rfl rfl)
theorem dX6_countsWays_107 : decode cX6_countsWays 107 = .ok (.iload 6, 2) := dk_21 6 (dk_at dksX6_countsWays_4 12 rfl rfl)
theorem dX6_countsWays_109 : decode cX6_countsWays 109 = .ok (.iaload, 1) := dk_46 (dk_at dksX6_countsWays_4 14 rfl rfl)
theorem dX6_countsWays_110 : decode cX6_countsWays 110 = .ok (.iadd, 1) := dk_96 (dk_at dksX6_countsWays_4 15 rfl rfl)
theorem dX6_countsWays_111 : decode cX6_countsWays 111 = .ok (.istore 4, 2) := dk_54 4 (dk_at dksX6_countsWays_4 16 rfl rfl)
theorem dX6_countsWays_113 : decode cX6_countsWays 113 = .ok (.iinc 5 1, 3) := dk_132 5 1 (dk_at dksX6_countsWays_4 18 rfl rfl)
theorem dX6_countsWays_116 : decode cX6_countsWays 116 = .ok (.goto (-67), 3) := dk_167 255 189 (dk_at dksX6_countsWays_4 21 rfl rfl)
theorem dX6_countsWays_119 : decode cX6_countsWays 119 = .ok (.aload_n 0, 1) := dk_42 (dk_at dksX6_countsWays_5 0 rfl rfl)
theorem dX6_countsWays_120 : decode cX6_countsWays 120 = .ok (.getfield 158, 3) := dk_180 0 158 (dk_at dksX6_countsWays_5 1 rfl rfl)
theorem dX6_countsWays_123 : decode cX6_countsWays 123 = .ok (.iload_n 3, 1) := dk_29 (dk_at dksX6_countsWays_5 4 rfl rfl)
theorem dX6_countsWays_124 : decode cX6_countsWays 124 = .ok (.iload 4, 2) := dk_21 4 (dk_at dksX6_countsWays_5 5 rfl rfl)
theorem dX6_countsWays_126 : decode cX6_countsWays 126 = .ok (.ldc_w 388, 3) := dk_19 1 132 (dk_at dksX6_countsWays_5 7 rfl rfl)
theorem dX6_countsWays_129 : decode cX6_countsWays 129 = .ok (.if_icmp .ge 8, 3) := dk_162 0 8 (dk_at dksX6_countsWays_5 10 rfl rfl)
theorem dX6_countsWays_132 : decode cX6_countsWays 132 = .ok (.iload 4, 2) := dk_21 4 (dk_at dksX6_countsWays_5 13 rfl rfl)
theorem dX6_countsWays_134 : decode cX6_countsWays 134 = .ok (.goto 6, 3) := dk_167 0 6 (dk_at dksX6_countsWays_5 15 rfl rfl)
theorem dX6_countsWays_137 : decode cX6_countsWays 137 = .ok (.ldc_w 388, 3) := dk_19 1 132 (dk_at dksX6_countsWays_5 18 rfl rfl)
theorem dX6_countsWays_140 : decode cX6_countsWays 140 = .ok (.iastore, 1) := dk_79 (dk_at dksX6_countsWays_5 21 rfl rfl)
theorem dX6_countsWays_141 : decode cX6_countsWays 141 = .ok (.iinc 3 1, 3) := dk_132 3 1 (dk_at dksX6_countsWays_6 0 rfl rfl)
theorem dX6_countsWays_144 : decode cX6_countsWays 144 = .ok (.goto (-130), 3) := dk_167 255 126 (dk_at dksX6_countsWays_6 3 rfl rfl)
theorem dX6_countsWays_147 : decode cX6_countsWays 147 = .ok (.iinc 2 1, 3) := dk_132 2 1 (dk_at dksX6_countsWays_6 6 rfl rfl)
theorem dX6_countsWays_150 : decode cX6_countsWays 150 = .ok (.goto (-143), 3) := dk_167 255 113 (dk_at dksX6_countsWays_6 9 rfl rfl)
theorem dX6_countsWays_153 : decode cX6_countsWays 153 = .ok (.return_, 1) := dk_177 (dk_at dksX6_countsWays_6 12 rfl rfl)
abbrev cX6_farthest : ByteArray := prog_15_method_78_code
def yX6_farthest : MethodName := ⟨RX6, "farthest", "()I"⟩
def dkwX6_farthest_2 : List UInt8 := [167, 255, 213, 27, 172]
abbrev dktX6_farthest_2 : List UInt8 := dkwX6_farthest_2 ++ []
def dkwX6_farthest_1 : List UInt8 := [180, 0, 149, 28, 46, 27, 164, 0, 12, 42, 180, 0, 149, 28, 46, 167, 0, 4, 27, 60, 132, 2, 1]
abbrev dktX6_farthest_1 : List UInt8 := dkwX6_farthest_1 ++ dktX6_farthest_2
def dkwX6_farthest_0 : List UInt8 := [3, 60, 3, 61, 28, 42, 180, 1, 126, 162, 0, 41, 42, 180, 0, 149, 28, 46, 18, 199, 162, 0, 22, 42]
abbrev dktX6_farthest_0 : List UInt8 := dkwX6_farthest_0 ++ dktX6_farthest_1
theorem dksX6_farthest_0 : cX6_farthest.data.toList.drop 0 = dktX6_farthest_0 := by decide +kernel
theorem dksX6_farthest_1 : cX6_farthest.data.toList.drop 24 = dktX6_farthest_1 := dk_seg dksX6_farthest_0 24 rfl rfl
theorem dksX6_farthest_2 : cX6_farthest.data.toList.drop 47 = dktX6_farthest_2 := dk_seg dksX6_farthest_1 23 rfl rfl
theorem dX6_farthest_0 : decode cX6_farthest 0 = .ok (.iconst 0, 1) := dk_3 (dk_at dksX6_farthest_0 0 rfl rfl)
theorem dX6_farthest_1 : decode cX6_farthest 1 = .ok (.istore_n 1, 1) := dk_60 (dk_at dksX6_farthest_0 1 rfl rfl)
theorem dX6_farthest_2 : decode cX6_farthest 2 = .ok (.iconst 0, 1) := dk_3 (dk_at dksX6_farthest_0 2 rfl rfl)
theorem dX6_farthest_3 : decode cX6_farthest 3 = .ok (.istore_n 2, 1) := dk_61 (dk_at dksX6_farthest_0 3 rfl rfl)
theorem dX6_farthest_4 : decode cX6_farthest 4 = .ok (.iload_n 2, 1) := dk_28 (dk_at dksX6_farthest_0 4 rfl rfl)
theorem dX6_farthest_5 : decode cX6_farthest 5 = .ok (.aload_n 0, 1) := dk_42 (dk_at dksX6_farthest_0 5 rfl rfl)
theorem dX6_farthest_6 : decode cX6_farthest 6 = .ok (.getfield 382, 3) := dk_180 1 126 (dk_at dksX6_farthest_0 6 rfl rfl)
theorem dX6_farthest_9 : decode cX6_farthest 9 = .ok (.if_icmp .ge 41, 3) := dk_162 0 41 (dk_at dksX6_farthest_0 9 rfl rfl)
theorem dX6_farthest_12 : decode cX6_farthest 12 = .ok (.aload_n 0, 1) := dk_42 (dk_at dksX6_farthest_0 12 rfl rfl)
theorem dX6_farthest_13 : decode cX6_farthest 13 = .ok (.getfield 149, 3) := dk_180 0 149 (dk_at dksX6_farthest_0 13 rfl rfl)
theorem dX6_farthest_16 : decode cX6_farthest 16 = .ok (.iload_n 2, 1) := dk_28 (dk_at dksX6_farthest_0 16 rfl rfl)
theorem dX6_farthest_17 : decode cX6_farthest 17 = .ok (.iaload, 1) := dk_46 (dk_at dksX6_farthest_0 17 rfl rfl)
theorem dX6_farthest_18 : decode cX6_farthest 18 = .ok (.ldc 199, 2) := dk_18 199 (dk_at dksX6_farthest_0 18 rfl rfl)
theorem dX6_farthest_20 : decode cX6_farthest 20 = .ok (.if_icmp .ge 22, 3) := dk_162 0 22 (dk_at dksX6_farthest_0 20 rfl rfl)
theorem dX6_farthest_23 : decode cX6_farthest 23 = .ok (.aload_n 0, 1) := dk_42 (dk_at dksX6_farthest_0 23 rfl rfl)
theorem dX6_farthest_24 : decode cX6_farthest 24 = .ok (.getfield 149, 3) := dk_180 0 149 (dk_at dksX6_farthest_1 0 rfl rfl)
theorem dX6_farthest_27 : decode cX6_farthest 27 = .ok (.iload_n 2, 1) := dk_28 (dk_at dksX6_farthest_1 3 rfl rfl)
theorem dX6_farthest_28 : decode cX6_farthest 28 = .ok (.iaload, 1) := dk_46 (dk_at dksX6_farthest_1 4 rfl rfl)
theorem dX6_farthest_29 : decode cX6_farthest 29 = .ok (.iload_n 1, 1) := dk_27 (dk_at dksX6_farthest_1 5 rfl rfl)
theorem dX6_farthest_30 : decode cX6_farthest 30 = .ok (.if_icmp .le 12, 3) := dk_164 0 12 (dk_at dksX6_farthest_1 6 rfl rfl)
theorem dX6_farthest_33 : decode cX6_farthest 33 = .ok (.aload_n 0, 1) := dk_42 (dk_at dksX6_farthest_1 9 rfl rfl)
theorem dX6_farthest_34 : decode cX6_farthest 34 = .ok (.getfield 149, 3) := dk_180 0 149 (dk_at dksX6_farthest_1 10 rfl rfl)
theorem dX6_farthest_37 : decode cX6_farthest 37 = .ok (.iload_n 2, 1) := dk_28 (dk_at dksX6_farthest_1 13 rfl rfl)
theorem dX6_farthest_38 : decode cX6_farthest 38 = .ok (.iaload, 1) := dk_46 (dk_at dksX6_farthest_1 14 rfl rfl)
theorem dX6_farthest_39 : decode cX6_farthest 39 = .ok (.goto 4, 3) := dk_167 0 4 (dk_at dksX6_farthest_1 15 rfl rfl)
theorem dX6_farthest_42 : decode cX6_farthest 42 = .ok (.iload_n 1, 1) := dk_27 (dk_at dksX6_farthest_1 18 rfl rfl)
theorem dX6_farthest_43 : decode cX6_farthest 43 = .ok (.istore_n 1, 1) := dk_60 (dk_at dksX6_farthest_1 19 rfl rfl)
theorem dX6_farthest_44 : decode cX6_farthest 44 = .ok (.iinc 2 1, 3) := dk_132 2 1 (dk_at dksX6_farthest_1 20 rfl rfl)
theorem dX6_farthest_47 : decode cX6_farthest 47 = .ok (.goto (-43), 3) := dk_167 255 213 (dk_at dksX6_farthest_2 0 rfl rfl)
theorem dX6_farthest_50 : decode cX6_farthest 50 = .ok (.iload_n 1, 1) := dk_27 (dk_at dksX6_farthest_2 3 rfl rfl)
theorem dX6_farthest_51 : decode cX6_farthest 51 = .ok (.ireturn, 1) := dk_172 (dk_at dksX6_farthest_2 4 rfl rfl)
abbrev cX6_onlyWay : ByteArray := prog_15_method_81_code
def yX6_onlyWay : MethodName := ⟨RX6, "onlyWay", "(I)I"⟩
def dkwX6_onlyWay_3 : List UInt8 := [160, 0, 9, 42, 28, 182, 0, 215, 172, 132, 2, 1, 167, 255, 208, 42, 2, 182, 0, 215, 172]
abbrev dktX6_onlyWay_3 : List UInt8 := dkwX6_onlyWay_3 ++ []
def dkwX6_onlyWay_2 : List UInt8 := [46, 18, 199, 162, 0, 29, 42, 180, 0, 149, 28, 46, 27, 160, 0, 19, 42, 180, 0, 158, 28, 46, 4]
abbrev dktX6_onlyWay_2 : List UInt8 := dkwX6_onlyWay_2 ++ dktX6_onlyWay_3
def dkwX6_onlyWay_1 : List UInt8 := [172, 42, 182, 1, 133, 42, 182, 1, 136, 3, 61, 28, 42, 180, 1, 126, 162, 0, 46, 42, 180, 0, 149, 28]
abbrev dktX6_onlyWay_1 : List UInt8 := dkwX6_onlyWay_1 ++ dktX6_onlyWay_2
def dkwX6_onlyWay_0 : List UInt8 := [27, 156, 0, 9, 42, 4, 182, 0, 204, 172, 42, 180, 0, 170, 16, 6, 164, 0, 9, 42, 5, 182, 0, 204]
abbrev dktX6_onlyWay_0 : List UInt8 := dkwX6_onlyWay_0 ++ dktX6_onlyWay_1
theorem dksX6_onlyWay_0 : cX6_onlyWay.data.toList.drop 0 = dktX6_onlyWay_0 := by decide +kernel
theorem dksX6_onlyWay_1 : cX6_onlyWay.data.toList.drop 24 = dktX6_onlyWay_1 := dk_seg dksX6_onlyWay_0 24 rfl rfl
theorem dksX6_onlyWay_2 : cX6_onlyWay.data.toList.drop 48 = dktX6_onlyWay_2 := dk_seg dksX6_onlyWay_1 24 rfl rfl
theorem dksX6_onlyWay_3 : cX6_onlyWay.data.toList.drop 71 = dktX6_onlyWay_3 := dk_seg dksX6_onlyWay_2 23 rfl rfl
theorem dX6_onlyWay_0 : decode cX6_onlyWay 0 = .ok (.iload_n 1, 1) := dk_27 (dk_at dksX6_onlyWay_0 0 rfl rfl)
theorem dX6_onlyWay_1 : decode cX6_onlyWay 1 = .ok (.ifCond .ge 9, 3) := dk_156 0 9 (dk_at dksX6_onlyWay_0 1 rfl rfl)
theorem dX6_onlyWay_4 : decode cX6_onlyWay 4 = .ok (.aload_n 0, 1) := dk_42 (dk_at dksX6_onlyWay_0 4 rfl rfl)
theorem dX6_onlyWay_5 : decode cX6_onlyWay 5 = .ok (.iconst 1, 1) := dk_4 (dk_at dksX6_onlyWay_0 5 rfl rfl)
theorem dX6_onlyWay_6 : decode cX6_onlyWay 6 = .ok (.invokevirtual 204, 3) := dk_182 0 204 (dk_at dksX6_onlyWay_0 6 rfl rfl)
theorem dX6_onlyWay_9 : decode cX6_onlyWay 9 = .ok (.ireturn, 1) := dk_172 (dk_at dksX6_onlyWay_0 9 rfl rfl)
theorem dX6_onlyWay_10 : decode cX6_onlyWay 10 = .ok (.aload_n 0, 1) := dk_42 (dk_at dksX6_onlyWay_0 10 rfl rfl)
theorem dX6_onlyWay_11 : decode cX6_onlyWay 11 = .ok (.getfield 170, 3) := dk_180 0 170 (dk_at dksX6_onlyWay_0 11 rfl rfl)
theorem dX6_onlyWay_14 : decode cX6_onlyWay 14 = .ok (.bipush 6, 2) := dk_16 6 (dk_at dksX6_onlyWay_0 14 rfl rfl)
theorem dX6_onlyWay_16 : decode cX6_onlyWay 16 = .ok (.if_icmp .le 9, 3) := dk_164 0 9 (dk_at dksX6_onlyWay_0 16 rfl rfl)
theorem dX6_onlyWay_19 : decode cX6_onlyWay 19 = .ok (.aload_n 0, 1) := dk_42 (dk_at dksX6_onlyWay_0 19 rfl rfl)
theorem dX6_onlyWay_20 : decode cX6_onlyWay 20 = .ok (.iconst 2, 1) := dk_5 (dk_at dksX6_onlyWay_0 20 rfl rfl)
theorem dX6_onlyWay_21 : decode cX6_onlyWay 21 = .ok (.invokevirtual 204, 3) := dk_182 0 204 (dk_at dksX6_onlyWay_0 21 rfl rfl)
theorem dX6_onlyWay_24 : decode cX6_onlyWay 24 = .ok (.ireturn, 1) := dk_172 (dk_at dksX6_onlyWay_1 0 rfl rfl)
theorem dX6_onlyWay_25 : decode cX6_onlyWay 25 = .ok (.aload_n 0, 1) := dk_42 (dk_at dksX6_onlyWay_1 1 rfl rfl)
theorem dX6_onlyWay_26 : decode cX6_onlyWay 26 = .ok (.invokevirtual 389, 3) := dk_182 1 133 (dk_at dksX6_onlyWay_1 2 rfl rfl)
theorem dX6_onlyWay_29 : decode cX6_onlyWay 29 = .ok (.aload_n 0, 1) := dk_42 (dk_at dksX6_onlyWay_1 5 rfl rfl)
theorem dX6_onlyWay_30 : decode cX6_onlyWay 30 = .ok (.invokevirtual 392, 3) := dk_182 1 136 (dk_at dksX6_onlyWay_1 6 rfl rfl)
theorem dX6_onlyWay_33 : decode cX6_onlyWay 33 = .ok (.iconst 0, 1) := dk_3 (dk_at dksX6_onlyWay_1 9 rfl rfl)
theorem dX6_onlyWay_34 : decode cX6_onlyWay 34 = .ok (.istore_n 2, 1) := dk_61 (dk_at dksX6_onlyWay_1 10 rfl rfl)
theorem dX6_onlyWay_35 : decode cX6_onlyWay 35 = .ok (.iload_n 2, 1) := dk_28 (dk_at dksX6_onlyWay_1 11 rfl rfl)
theorem dX6_onlyWay_36 : decode cX6_onlyWay 36 = .ok (.aload_n 0, 1) := dk_42 (dk_at dksX6_onlyWay_1 12 rfl rfl)
theorem dX6_onlyWay_37 : decode cX6_onlyWay 37 = .ok (.getfield 382, 3) := dk_180 1 126 (dk_at dksX6_onlyWay_1 13 rfl rfl)
theorem dX6_onlyWay_40 : decode cX6_onlyWay 40 = .ok (.if_icmp .ge 46, 3) := dk_162 0 46 (dk_at dksX6_onlyWay_1 16 rfl rfl)
theorem dX6_onlyWay_43 : decode cX6_onlyWay 43 = .ok (.aload_n 0, 1) := dk_42 (dk_at dksX6_onlyWay_1 19 rfl rfl)
theorem dX6_onlyWay_44 : decode cX6_onlyWay 44 = .ok (.getfield 149, 3) := dk_180 0 149 (dk_at dksX6_onlyWay_1 20 rfl rfl)
theorem dX6_onlyWay_47 : decode cX6_onlyWay 47 = .ok (.iload_n 2, 1) := dk_28 (dk_at dksX6_onlyWay_1 23 rfl rfl)
theorem dX6_onlyWay_48 : decode cX6_onlyWay 48 = .ok (.iaload, 1) := dk_46 (dk_at dksX6_onlyWay_2 0 rfl rfl)
theorem dX6_onlyWay_49 : decode cX6_onlyWay 49 = .ok (.ldc 199, 2) := dk_18 199 (dk_at dksX6_onlyWay_2 1 rfl rfl)
theorem dX6_onlyWay_51 : decode cX6_onlyWay 51 = .ok (.if_icmp .ge 29, 3) := dk_162 0 29 (dk_at dksX6_onlyWay_2 3 rfl rfl)
theorem dX6_onlyWay_54 : decode cX6_onlyWay 54 = .ok (.aload_n 0, 1) := dk_42 (dk_at dksX6_onlyWay_2 6 rfl rfl)
theorem dX6_onlyWay_55 : decode cX6_onlyWay 55 = .ok (.getfield 149, 3) := dk_180 0 149 (dk_at dksX6_onlyWay_2 7 rfl rfl)
theorem dX6_onlyWay_58 : decode cX6_onlyWay 58 = .ok (.iload_n 2, 1) := dk_28 (dk_at dksX6_onlyWay_2 10 rfl rfl)
theorem dX6_onlyWay_59 : decode cX6_onlyWay 59 = .ok (.iaload, 1) := dk_46 (dk_at dksX6_onlyWay_2 11 rfl rfl)
theorem dX6_onlyWay_60 : decode cX6_onlyWay 60 = .ok (.iload_n 1, 1) := dk_27 (dk_at dksX6_onlyWay_2 12 rfl rfl)
theorem dX6_onlyWay_61 : decode cX6_onlyWay 61 = .ok (.if_icmp .ne 19, 3) := dk_160 0 19 (dk_at dksX6_onlyWay_2 13 rfl rfl)
theorem dX6_onlyWay_64 : decode cX6_onlyWay 64 = .ok (.aload_n 0, 1) := dk_42 (dk_at dksX6_onlyWay_2 16 rfl rfl)
theorem dX6_onlyWay_65 : decode cX6_onlyWay 65 = .ok (.getfield 158, 3) := dk_180 0 158 (dk_at dksX6_onlyWay_2 17 rfl rfl)
theorem dX6_onlyWay_68 : decode cX6_onlyWay 68 = .ok (.iload_n 2, 1) := dk_28 (dk_at dksX6_onlyWay_2 20 rfl rfl)
theorem dX6_onlyWay_69 : decode cX6_onlyWay 69 = .ok (.iaload, 1) := dk_46 (dk_at dksX6_onlyWay_2 21 rfl rfl)
theorem dX6_onlyWay_70 : decode cX6_onlyWay 70 = .ok (.iconst 1, 1) := dk_4 (dk_at dksX6_onlyWay_2 22 rfl rfl)
theorem dX6_onlyWay_71 : decode cX6_onlyWay 71 = .ok (.if_icmp .ne 9, 3) := dk_160 0 9 (dk_at dksX6_onlyWay_3 0 rfl rfl)
theorem dX6_onlyWay_74 : decode cX6_onlyWay 74 = .ok (.aload_n 0, 1) := dk_42 (dk_at dksX6_onlyWay_3 3 rfl rfl)
theorem dX6_onlyWay_75 : decode cX6_onlyWay 75 = .ok (.iload_n 2, 1) := dk_28 (dk_at dksX6_onlyWay_3 4 rfl rfl)
theorem dX6_onlyWay_76 : decode cX6_onlyWay 76 = .ok (.invokevirtual 215, 3) := dk_182 0 215 (dk_at dksX6_onlyWay_3 5 rfl rfl)
theorem dX6_onlyWay_79 : decode cX6_onlyWay 79 = .ok (.ireturn, 1) := dk_172 (dk_at dksX6_onlyWay_3 8 rfl rfl)
theorem dX6_onlyWay_80 : decode cX6_onlyWay 80 = .ok (.iinc 2 1, 3) := dk_132 2 1 (dk_at dksX6_onlyWay_3 9 rfl rfl)
theorem dX6_onlyWay_83 : decode cX6_onlyWay 83 = .ok (.goto (-48), 3) := dk_167 255 208 (dk_at dksX6_onlyWay_3 12 rfl rfl)
theorem dX6_onlyWay_86 : decode cX6_onlyWay 86 = .ok (.aload_n 0, 1) := dk_42 (dk_at dksX6_onlyWay_3 15 rfl rfl)
theorem dX6_onlyWay_87 : decode cX6_onlyWay 87 = .ok (.iconst (-1), 1) := dk_2 (dk_at dksX6_onlyWay_3 16 rfl rfl)
theorem dX6_onlyWay_88 : decode cX6_onlyWay 88 = .ok (.invokevirtual 215, 3) := dk_182 0 215 (dk_at dksX6_onlyWay_3 17 rfl rfl)
theorem dX6_onlyWay_91 : decode cX6_onlyWay 91 = .ok (.ireturn, 1) := dk_172 (dk_at dksX6_onlyWay_3 20 rfl rfl)
abbrev cX6_isFair : ByteArray := prog_15_method_83_code
def yX6_isFair : MethodName := ⟨RX6, "isFair", "(I)Z"⟩
def dkwX6_isFair_1 : List UInt8 := [42, 5, 182, 1, 22, 172, 42, 182, 1, 133, 42, 42, 27, 182, 1, 139, 182, 1, 25, 172]
abbrev dktX6_isFair_1 : List UInt8 := dkwX6_isFair_1 ++ []
def dkwX6_isFair_0 : List UInt8 := [27, 3, 7, 184, 0, 200, 154, 0, 9, 42, 4, 182, 1, 22, 172, 42, 180, 0, 170, 16, 6, 164, 0, 9]
abbrev dktX6_isFair_0 : List UInt8 := dkwX6_isFair_0 ++ dktX6_isFair_1
theorem dksX6_isFair_0 : cX6_isFair.data.toList.drop 0 = dktX6_isFair_0 := by decide +kernel
theorem dksX6_isFair_1 : cX6_isFair.data.toList.drop 24 = dktX6_isFair_1 := dk_seg dksX6_isFair_0 24 rfl rfl
theorem dX6_isFair_0 : decode cX6_isFair 0 = .ok (.iload_n 1, 1) := dk_27 (dk_at dksX6_isFair_0 0 rfl rfl)
theorem dX6_isFair_1 : decode cX6_isFair 1 = .ok (.iconst 0, 1) := dk_3 (dk_at dksX6_isFair_0 1 rfl rfl)
theorem dX6_isFair_2 : decode cX6_isFair 2 = .ok (.iconst 4, 1) := dk_7 (dk_at dksX6_isFair_0 2 rfl rfl)
theorem dX6_isFair_3 : decode cX6_isFair 3 = .ok (.invokestatic 200, 3) := dk_184 0 200 (dk_at dksX6_isFair_0 3 rfl rfl)
theorem dX6_isFair_6 : decode cX6_isFair 6 = .ok (.ifCond .ne 9, 3) := dk_154 0 9 (dk_at dksX6_isFair_0 6 rfl rfl)
theorem dX6_isFair_9 : decode cX6_isFair 9 = .ok (.aload_n 0, 1) := dk_42 (dk_at dksX6_isFair_0 9 rfl rfl)
theorem dX6_isFair_10 : decode cX6_isFair 10 = .ok (.iconst 1, 1) := dk_4 (dk_at dksX6_isFair_0 10 rfl rfl)
theorem dX6_isFair_11 : decode cX6_isFair 11 = .ok (.invokevirtual 278, 3) := dk_182 1 22 (dk_at dksX6_isFair_0 11 rfl rfl)
theorem dX6_isFair_14 : decode cX6_isFair 14 = .ok (.ireturn, 1) := dk_172 (dk_at dksX6_isFair_0 14 rfl rfl)
theorem dX6_isFair_15 : decode cX6_isFair 15 = .ok (.aload_n 0, 1) := dk_42 (dk_at dksX6_isFair_0 15 rfl rfl)
theorem dX6_isFair_16 : decode cX6_isFair 16 = .ok (.getfield 170, 3) := dk_180 0 170 (dk_at dksX6_isFair_0 16 rfl rfl)
theorem dX6_isFair_19 : decode cX6_isFair 19 = .ok (.bipush 6, 2) := dk_16 6 (dk_at dksX6_isFair_0 19 rfl rfl)
theorem dX6_isFair_21 : decode cX6_isFair 21 = .ok (.if_icmp .le 9, 3) := dk_164 0 9 (dk_at dksX6_isFair_0 21 rfl rfl)
theorem dX6_isFair_24 : decode cX6_isFair 24 = .ok (.aload_n 0, 1) := dk_42 (dk_at dksX6_isFair_1 0 rfl rfl)
theorem dX6_isFair_25 : decode cX6_isFair 25 = .ok (.iconst 2, 1) := dk_5 (dk_at dksX6_isFair_1 1 rfl rfl)
theorem dX6_isFair_26 : decode cX6_isFair 26 = .ok (.invokevirtual 278, 3) := dk_182 1 22 (dk_at dksX6_isFair_1 2 rfl rfl)
theorem dX6_isFair_29 : decode cX6_isFair 29 = .ok (.ireturn, 1) := dk_172 (dk_at dksX6_isFair_1 5 rfl rfl)
theorem dX6_isFair_30 : decode cX6_isFair 30 = .ok (.aload_n 0, 1) := dk_42 (dk_at dksX6_isFair_1 6 rfl rfl)
theorem dX6_isFair_31 : decode cX6_isFair 31 = .ok (.invokevirtual 389, 3) := dk_182 1 133 (dk_at dksX6_isFair_1 7 rfl rfl)
theorem dX6_isFair_34 : decode cX6_isFair 34 = .ok (.aload_n 0, 1) := dk_42 (dk_at dksX6_isFair_1 10 rfl rfl)
theorem dX6_isFair_35 : decode cX6_isFair 35 = .ok (.aload_n 0, 1) := dk_42 (dk_at dksX6_isFair_1 11 rfl rfl)
theorem dX6_isFair_36 : decode cX6_isFair 36 = .ok (.iload_n 1, 1) := dk_27 (dk_at dksX6_isFair_1 12 rfl rfl)
theorem dX6_isFair_37 : decode cX6_isFair 37 = .ok (.invokevirtual 395, 3) := dk_182 1 139 (dk_at dksX6_isFair_1 13 rfl rfl)
theorem dX6_isFair_40 : decode cX6_isFair 40 = .ok (.invokevirtual 281, 3) := dk_182 1 25 (dk_at dksX6_isFair_1 16 rfl rfl)
theorem dX6_isFair_43 : decode cX6_isFair 43 = .ok (.ireturn, 1) := dk_172 (dk_at dksX6_isFair_1 19 rfl rfl)
abbrev cX6_isFairBy : ByteArray := prog_15_method_82_code
def yX6_isFairBy : MethodName := ⟨RX6, "isFairBy", "(I)Z"⟩
def dkwX6_isFairBy_7 : List UInt8 := [132, 3, 1, 167, 255, 134, 28, 172]
abbrev dktX6_isFairBy_7 : List UInt8 := dkwX6_isFairBy_7 ++ []
def dkwX6_isFairBy_6 : List UInt8 := [180, 0, 152, 29, 46, 46, 100, 42, 180, 0, 155, 29, 46, 163, 0, 7, 4, 167, 0, 4, 3, 61]
abbrev dktX6_isFairBy_6 : List UInt8 := dkwX6_isFairBy_6 ++ dktX6_isFairBy_7
def dkwX6_isFairBy_5 : List UInt8 := [42, 180, 0, 152, 29, 46, 2, 159, 0, 31, 42, 180, 0, 161, 21, 4, 46, 42, 180, 0, 161, 42]
abbrev dktX6_isFairBy_5 : List UInt8 := dkwX6_isFairBy_5 ++ dktX6_isFairBy_6
def dkwX6_isFairBy_4 : List UInt8 := [180, 0, 149, 21, 4, 46, 163, 0, 7, 4, 167, 0, 4, 3, 61, 28, 153, 0, 50, 21, 5, 153, 0, 41]
abbrev dktX6_isFairBy_4 : List UInt8 := dkwX6_isFairBy_4 ++ dktX6_isFairBy_5
def dkwX6_isFairBy_3 : List UInt8 := [4, 167, 0, 4, 3, 54, 5, 28, 153, 0, 29, 21, 5, 153, 0, 20, 42, 180, 0, 161, 21, 4, 46, 42]
abbrev dktX6_isFairBy_3 : List UInt8 := dkwX6_isFairBy_3 ++ dktX6_isFairBy_4
def dkwX6_isFairBy_2 : List UInt8 := [180, 1, 126, 104, 162, 0, 118, 29, 7, 108, 54, 4, 42, 180, 0, 149, 21, 4, 46, 18, 199, 162, 0, 7]
abbrev dktX6_isFairBy_2 : List UInt8 := dkwX6_isFairBy_2 ++ dktX6_isFairBy_3
def dkwX6_isFairBy_1 : List UInt8 := [28, 42, 42, 180, 0, 128, 27, 182, 1, 46, 79, 132, 2, 1, 167, 255, 220, 4, 61, 3, 62, 29, 7, 42]
abbrev dktX6_isFairBy_1 : List UInt8 := dkwX6_isFairBy_1 ++ dktX6_isFairBy_2
def dkwX6_isFairBy_0 : List UInt8 := [3, 61, 28, 42, 180, 1, 126, 162, 0, 34, 42, 28, 133, 42, 180, 0, 128, 182, 1, 9, 42, 180, 0, 161]
abbrev dktX6_isFairBy_0 : List UInt8 := dkwX6_isFairBy_0 ++ dktX6_isFairBy_1
theorem dksX6_isFairBy_0 : cX6_isFairBy.data.toList.drop 0 = dktX6_isFairBy_0 := by decide +kernel
theorem dksX6_isFairBy_1 : cX6_isFairBy.data.toList.drop 24 = dktX6_isFairBy_1 := dk_seg dksX6_isFairBy_0 24 rfl rfl
theorem dksX6_isFairBy_2 : cX6_isFairBy.data.toList.drop 48 = dktX6_isFairBy_2 := dk_seg dksX6_isFairBy_1 24 rfl rfl
theorem dksX6_isFairBy_3 : cX6_isFairBy.data.toList.drop 72 = dktX6_isFairBy_3 := dk_seg dksX6_isFairBy_2 24 rfl rfl
theorem dksX6_isFairBy_4 : cX6_isFairBy.data.toList.drop 96 = dktX6_isFairBy_4 := dk_seg dksX6_isFairBy_3 24 rfl rfl
theorem dksX6_isFairBy_5 : cX6_isFairBy.data.toList.drop 120 = dktX6_isFairBy_5 := dk_seg dksX6_isFairBy_4 24 rfl rfl
theorem dksX6_isFairBy_6 : cX6_isFairBy.data.toList.drop 142 = dktX6_isFairBy_6 := dk_seg dksX6_isFairBy_5 22 rfl rfl
theorem dksX6_isFairBy_7 : cX6_isFairBy.data.toList.drop 164 = dktX6_isFairBy_7 := dk_seg dksX6_isFairBy_6 22 rfl rfl
theorem dX6_isFairBy_0 : decode cX6_isFairBy 0 = .ok (.iconst 0, 1) := dk_3 (dk_at dksX6_isFairBy_0 0 rfl rfl)
theorem dX6_isFairBy_1 : decode cX6_isFairBy 1 = .ok (.istore_n 2, 1) := dk_61 (dk_at dksX6_isFairBy_0 1 rfl rfl)
theorem dX6_isFairBy_2 : decode cX6_isFairBy 2 = .ok (.iload_n 2, 1) := dk_28 (dk_at dksX6_isFairBy_0 2 rfl rfl)
theorem dX6_isFairBy_3 : decode cX6_isFairBy 3 = .ok (.aload_n 0, 1) := dk_42 (dk_at dksX6_isFairBy_0 3 rfl rfl)
theorem dX6_isFairBy_4 : decode cX6_isFairBy 4 = .ok (.getfield 382, 3) := dk_180 1 126 (dk_at dksX6_isFairBy_0 4 rfl rfl)
theorem dX6_isFairBy_7 : decode cX6_isFairBy 7 = .ok (.if_icmp .ge 34, 3) := dk_162 0 34 (dk_at dksX6_isFairBy_0 7 rfl rfl)
theorem dX6_isFairBy_10 : decode cX6_isFairBy 10 = .ok (.aload_n 0, 1) := dk_42 (dk_at dksX6_isFairBy_0 10 rfl rfl)
theorem dX6_isFairBy_11 : decode cX6_isFairBy 11 = .ok (.iload_n 2, 1) := dk_28 (dk_at dksX6_isFairBy_0 11 rfl rfl)
theorem dX6_isFairBy_12 : decode cX6_isFairBy 12 = .ok (.i2l, 1) := dk_133 (dk_at dksX6_isFairBy_0 12 rfl rfl)
theorem dX6_isFairBy_13 : decode cX6_isFairBy 13 = .ok (.aload_n 0, 1) := dk_42 (dk_at dksX6_isFairBy_0 13 rfl rfl)
theorem dX6_isFairBy_14 : decode cX6_isFairBy 14 = .ok (.getfield 128, 3) := dk_180 0 128 (dk_at dksX6_isFairBy_0 14 rfl rfl)
theorem dX6_isFairBy_17 : decode cX6_isFairBy 17 = .ok (.invokevirtual 265, 3) := dk_182 1 9 (dk_at dksX6_isFairBy_0 17 rfl rfl)
theorem dX6_isFairBy_20 : decode cX6_isFairBy 20 = .ok (.aload_n 0, 1) := dk_42 (dk_at dksX6_isFairBy_0 20 rfl rfl)
theorem dX6_isFairBy_21 : decode cX6_isFairBy 21 = .ok (.getfield 161, 3) := dk_180 0 161 (dk_at dksX6_isFairBy_0 21 rfl rfl)
theorem dX6_isFairBy_24 : decode cX6_isFairBy 24 = .ok (.iload_n 2, 1) := dk_28 (dk_at dksX6_isFairBy_1 0 rfl rfl)
theorem dX6_isFairBy_25 : decode cX6_isFairBy 25 = .ok (.aload_n 0, 1) := dk_42 (dk_at dksX6_isFairBy_1 1 rfl rfl)
theorem dX6_isFairBy_26 : decode cX6_isFairBy 26 = .ok (.aload_n 0, 1) := dk_42 (dk_at dksX6_isFairBy_1 2 rfl rfl)
theorem dX6_isFairBy_27 : decode cX6_isFairBy 27 = .ok (.getfield 128, 3) := dk_180 0 128 (dk_at dksX6_isFairBy_1 3 rfl rfl)
theorem dX6_isFairBy_30 : decode cX6_isFairBy 30 = .ok (.iload_n 1, 1) := dk_27 (dk_at dksX6_isFairBy_1 6 rfl rfl)
theorem dX6_isFairBy_31 : decode cX6_isFairBy 31 = .ok (.invokevirtual 302, 3) := dk_182 1 46 (dk_at dksX6_isFairBy_1 7 rfl rfl)
theorem dX6_isFairBy_34 : decode cX6_isFairBy 34 = .ok (.iastore, 1) := dk_79 (dk_at dksX6_isFairBy_1 10 rfl rfl)
theorem dX6_isFairBy_35 : decode cX6_isFairBy 35 = .ok (.iinc 2 1, 3) := dk_132 2 1 (dk_at dksX6_isFairBy_1 11 rfl rfl)
theorem dX6_isFairBy_38 : decode cX6_isFairBy 38 = .ok (.goto (-36), 3) := dk_167 255 220 (dk_at dksX6_isFairBy_1 14 rfl rfl)
theorem dX6_isFairBy_41 : decode cX6_isFairBy 41 = .ok (.iconst 1, 1) := dk_4 (dk_at dksX6_isFairBy_1 17 rfl rfl)
theorem dX6_isFairBy_42 : decode cX6_isFairBy 42 = .ok (.istore_n 2, 1) := dk_61 (dk_at dksX6_isFairBy_1 18 rfl rfl)
theorem dX6_isFairBy_43 : decode cX6_isFairBy 43 = .ok (.iconst 0, 1) := dk_3 (dk_at dksX6_isFairBy_1 19 rfl rfl)
theorem dX6_isFairBy_44 : decode cX6_isFairBy 44 = .ok (.istore_n 3, 1) := dk_62 (dk_at dksX6_isFairBy_1 20 rfl rfl)
theorem dX6_isFairBy_45 : decode cX6_isFairBy 45 = .ok (.iload_n 3, 1) := dk_29 (dk_at dksX6_isFairBy_1 21 rfl rfl)
theorem dX6_isFairBy_46 : decode cX6_isFairBy 46 = .ok (.iconst 4, 1) := dk_7 (dk_at dksX6_isFairBy_1 22 rfl rfl)
theorem dX6_isFairBy_47 : decode cX6_isFairBy 47 = .ok (.aload_n 0, 1) := dk_42 (dk_at dksX6_isFairBy_1 23 rfl rfl)
theorem dX6_isFairBy_48 : decode cX6_isFairBy 48 = .ok (.getfield 382, 3) := dk_180 1 126 (dk_at dksX6_isFairBy_2 0 rfl rfl)
theorem dX6_isFairBy_51 : decode cX6_isFairBy 51 = .ok (.imul, 1) := dk_104 (dk_at dksX6_isFairBy_2 3 rfl rfl)
theorem dX6_isFairBy_52 : decode cX6_isFairBy 52 = .ok (.if_icmp .ge 118, 3) := dk_162 0 118 (dk_at dksX6_isFairBy_2 4 rfl rfl)
theorem dX6_isFairBy_55 : decode cX6_isFairBy 55 = .ok (.iload_n 3, 1) := dk_29 (dk_at dksX6_isFairBy_2 7 rfl rfl)
theorem dX6_isFairBy_56 : decode cX6_isFairBy 56 = .ok (.iconst 4, 1) := dk_7 (dk_at dksX6_isFairBy_2 8 rfl rfl)
theorem dX6_isFairBy_57 : decode cX6_isFairBy 57 = .ok (.idiv, 1) := dk_108 (dk_at dksX6_isFairBy_2 9 rfl rfl)
theorem dX6_isFairBy_58 : decode cX6_isFairBy 58 = .ok (.istore 4, 2) := dk_54 4 (dk_at dksX6_isFairBy_2 10 rfl rfl)
theorem dX6_isFairBy_60 : decode cX6_isFairBy 60 = .ok (.aload_n 0, 1) := dk_42 (dk_at dksX6_isFairBy_2 12 rfl rfl)
theorem dX6_isFairBy_61 : decode cX6_isFairBy 61 = .ok (.getfield 149, 3) := dk_180 0 149 (dk_at dksX6_isFairBy_2 13 rfl rfl)
theorem dX6_isFairBy_64 : decode cX6_isFairBy 64 = .ok (.iload 4, 2) := dk_21 4 (dk_at dksX6_isFairBy_2 16 rfl rfl)
theorem dX6_isFairBy_66 : decode cX6_isFairBy 66 = .ok (.iaload, 1) := dk_46 (dk_at dksX6_isFairBy_2 18 rfl rfl)
theorem dX6_isFairBy_67 : decode cX6_isFairBy 67 = .ok (.ldc 199, 2) := dk_18 199 (dk_at dksX6_isFairBy_2 19 rfl rfl)
theorem dX6_isFairBy_69 : decode cX6_isFairBy 69 = .ok (.if_icmp .ge 7, 3) := dk_162 0 7 (dk_at dksX6_isFairBy_2 21 rfl rfl)
theorem dX6_isFairBy_72 : decode cX6_isFairBy 72 = .ok (.iconst 1, 1) := dk_4 (dk_at dksX6_isFairBy_3 0 rfl rfl)
theorem dX6_isFairBy_73 : decode cX6_isFairBy 73 = .ok (.goto 4, 3) := dk_167 0 4 (dk_at dksX6_isFairBy_3 1 rfl rfl)
theorem dX6_isFairBy_76 : decode cX6_isFairBy 76 = .ok (.iconst 0, 1) := dk_3 (dk_at dksX6_isFairBy_3 4 rfl rfl)
theorem dX6_isFairBy_77 : decode cX6_isFairBy 77 = .ok (.istore 5, 2) := dk_54 5 (dk_at dksX6_isFairBy_3 5 rfl rfl)
theorem dX6_isFairBy_79 : decode cX6_isFairBy 79 = .ok (.iload_n 2, 1) := dk_28 (dk_at dksX6_isFairBy_3 7 rfl rfl)
theorem dX6_isFairBy_80 : decode cX6_isFairBy 80 = .ok (.ifCond .eq 29, 3) := dk_153 0 29 (dk_at dksX6_isFairBy_3 8 rfl rfl)
theorem dX6_isFairBy_83 : decode cX6_isFairBy 83 = .ok (.iload 5, 2) := dk_21 5 (dk_at dksX6_isFairBy_3 11 rfl rfl)
theorem dX6_isFairBy_85 : decode cX6_isFairBy 85 = .ok (.ifCond .eq 20, 3) := dk_153 0 20 (dk_at dksX6_isFairBy_3 13 rfl rfl)
theorem dX6_isFairBy_88 : decode cX6_isFairBy 88 = .ok (.aload_n 0, 1) := dk_42 (dk_at dksX6_isFairBy_3 16 rfl rfl)
theorem dX6_isFairBy_89 : decode cX6_isFairBy 89 = .ok (.getfield 161, 3) := dk_180 0 161 (dk_at dksX6_isFairBy_3 17 rfl rfl)
theorem dX6_isFairBy_92 : decode cX6_isFairBy 92 = .ok (.iload 4, 2) := dk_21 4 (dk_at dksX6_isFairBy_3 20 rfl rfl)
theorem dX6_isFairBy_94 : decode cX6_isFairBy 94 = .ok (.iaload, 1) := dk_46 (dk_at dksX6_isFairBy_3 22 rfl rfl)
theorem dX6_isFairBy_95 : decode cX6_isFairBy 95 = .ok (.aload_n 0, 1) := dk_42 (dk_at dksX6_isFairBy_3 23 rfl rfl)
theorem dX6_isFairBy_96 : decode cX6_isFairBy 96 = .ok (.getfield 149, 3) := dk_180 0 149 (dk_at dksX6_isFairBy_4 0 rfl rfl)
theorem dX6_isFairBy_99 : decode cX6_isFairBy 99 = .ok (.iload 4, 2) := dk_21 4 (dk_at dksX6_isFairBy_4 3 rfl rfl)
theorem dX6_isFairBy_101 : decode cX6_isFairBy 101 = .ok (.iaload, 1) := dk_46 (dk_at dksX6_isFairBy_4 5 rfl rfl)
theorem dX6_isFairBy_102 : decode cX6_isFairBy 102 = .ok (.if_icmp .gt 7, 3) := dk_163 0 7 (dk_at dksX6_isFairBy_4 6 rfl rfl)
theorem dX6_isFairBy_105 : decode cX6_isFairBy 105 = .ok (.iconst 1, 1) := dk_4 (dk_at dksX6_isFairBy_4 9 rfl rfl)
theorem dX6_isFairBy_106 : decode cX6_isFairBy 106 = .ok (.goto 4, 3) := dk_167 0 4 (dk_at dksX6_isFairBy_4 10 rfl rfl)
theorem dX6_isFairBy_109 : decode cX6_isFairBy 109 = .ok (.iconst 0, 1) := dk_3 (dk_at dksX6_isFairBy_4 13 rfl rfl)
theorem dX6_isFairBy_110 : decode cX6_isFairBy 110 = .ok (.istore_n 2, 1) := dk_61 (dk_at dksX6_isFairBy_4 14 rfl rfl)
theorem dX6_isFairBy_111 : decode cX6_isFairBy 111 = .ok (.iload_n 2, 1) := dk_28 (dk_at dksX6_isFairBy_4 15 rfl rfl)
theorem dX6_isFairBy_112 : decode cX6_isFairBy 112 = .ok (.ifCond .eq 50, 3) := dk_153 0 50 (dk_at dksX6_isFairBy_4 16 rfl rfl)
theorem dX6_isFairBy_115 : decode cX6_isFairBy 115 = .ok (.iload 5, 2) := dk_21 5 (dk_at dksX6_isFairBy_4 19 rfl rfl)
theorem dX6_isFairBy_117 : decode cX6_isFairBy 117 = .ok (.ifCond .eq 41, 3) := dk_153 0 41 (dk_at dksX6_isFairBy_4 21 rfl rfl)
theorem dX6_isFairBy_120 : decode cX6_isFairBy 120 = .ok (.aload_n 0, 1) := dk_42 (dk_at dksX6_isFairBy_5 0 rfl rfl)
theorem dX6_isFairBy_121 : decode cX6_isFairBy 121 = .ok (.getfield 152, 3) := dk_180 0 152 (dk_at dksX6_isFairBy_5 1 rfl rfl)
theorem dX6_isFairBy_124 : decode cX6_isFairBy 124 = .ok (.iload_n 3, 1) := dk_29 (dk_at dksX6_isFairBy_5 4 rfl rfl)
theorem dX6_isFairBy_125 : decode cX6_isFairBy 125 = .ok (.iaload, 1) := dk_46 (dk_at dksX6_isFairBy_5 5 rfl rfl)
theorem dX6_isFairBy_126 : decode cX6_isFairBy 126 = .ok (.iconst (-1), 1) := dk_2 (dk_at dksX6_isFairBy_5 6 rfl rfl)
theorem dX6_isFairBy_127 : decode cX6_isFairBy 127 = .ok (.if_icmp .eq 31, 3) := dk_159 0 31 (dk_at dksX6_isFairBy_5 7 rfl rfl)
theorem dX6_isFairBy_130 : decode cX6_isFairBy 130 = .ok (.aload_n 0, 1) := dk_42 (dk_at dksX6_isFairBy_5 10 rfl rfl)
theorem dX6_isFairBy_131 : decode cX6_isFairBy 131 = .ok (.getfield 161, 3) := dk_180 0 161 (dk_at dksX6_isFairBy_5 11 rfl rfl)
theorem dX6_isFairBy_134 : decode cX6_isFairBy 134 = .ok (.iload 4, 2) := dk_21 4 (dk_at dksX6_isFairBy_5 14 rfl rfl)
theorem dX6_isFairBy_136 : decode cX6_isFairBy 136 = .ok (.iaload, 1) := dk_46 (dk_at dksX6_isFairBy_5 16 rfl rfl)
theorem dX6_isFairBy_137 : decode cX6_isFairBy 137 = .ok (.aload_n 0, 1) := dk_42 (dk_at dksX6_isFairBy_5 17 rfl rfl)
theorem dX6_isFairBy_138 : decode cX6_isFairBy 138 = .ok (.getfield 161, 3) := dk_180 0 161 (dk_at dksX6_isFairBy_5 18 rfl rfl)
theorem dX6_isFairBy_141 : decode cX6_isFairBy 141 = .ok (.aload_n 0, 1) := dk_42 (dk_at dksX6_isFairBy_5 21 rfl rfl)
theorem dX6_isFairBy_142 : decode cX6_isFairBy 142 = .ok (.getfield 152, 3) := dk_180 0 152 (dk_at dksX6_isFairBy_6 0 rfl rfl)
theorem dX6_isFairBy_145 : decode cX6_isFairBy 145 = .ok (.iload_n 3, 1) := dk_29 (dk_at dksX6_isFairBy_6 3 rfl rfl)
theorem dX6_isFairBy_146 : decode cX6_isFairBy 146 = .ok (.iaload, 1) := dk_46 (dk_at dksX6_isFairBy_6 4 rfl rfl)
theorem dX6_isFairBy_147 : decode cX6_isFairBy 147 = .ok (.iaload, 1) := dk_46 (dk_at dksX6_isFairBy_6 5 rfl rfl)
theorem dX6_isFairBy_148 : decode cX6_isFairBy 148 = .ok (.isub, 1) := dk_100 (dk_at dksX6_isFairBy_6 6 rfl rfl)
theorem dX6_isFairBy_149 : decode cX6_isFairBy 149 = .ok (.aload_n 0, 1) := dk_42 (dk_at dksX6_isFairBy_6 7 rfl rfl)
theorem dX6_isFairBy_150 : decode cX6_isFairBy 150 = .ok (.getfield 155, 3) := dk_180 0 155 (dk_at dksX6_isFairBy_6 8 rfl rfl)
theorem dX6_isFairBy_153 : decode cX6_isFairBy 153 = .ok (.iload_n 3, 1) := dk_29 (dk_at dksX6_isFairBy_6 11 rfl rfl)
theorem dX6_isFairBy_154 : decode cX6_isFairBy 154 = .ok (.iaload, 1) := dk_46 (dk_at dksX6_isFairBy_6 12 rfl rfl)
theorem dX6_isFairBy_155 : decode cX6_isFairBy 155 = .ok (.if_icmp .gt 7, 3) := dk_163 0 7 (dk_at dksX6_isFairBy_6 13 rfl rfl)
theorem dX6_isFairBy_158 : decode cX6_isFairBy 158 = .ok (.iconst 1, 1) := dk_4 (dk_at dksX6_isFairBy_6 16 rfl rfl)
theorem dX6_isFairBy_159 : decode cX6_isFairBy 159 = .ok (.goto 4, 3) := dk_167 0 4 (dk_at dksX6_isFairBy_6 17 rfl rfl)
theorem dX6_isFairBy_162 : decode cX6_isFairBy 162 = .ok (.iconst 0, 1) := dk_3 (dk_at dksX6_isFairBy_6 20 rfl rfl)
theorem dX6_isFairBy_163 : decode cX6_isFairBy 163 = .ok (.istore_n 2, 1) := dk_61 (dk_at dksX6_isFairBy_6 21 rfl rfl)
theorem dX6_isFairBy_164 : decode cX6_isFairBy 164 = .ok (.iinc 3 1, 3) := dk_132 3 1 (dk_at dksX6_isFairBy_7 0 rfl rfl)
theorem dX6_isFairBy_167 : decode cX6_isFairBy 167 = .ok (.goto (-122), 3) := dk_167 255 134 (dk_at dksX6_isFairBy_7 3 rfl rfl)
theorem dX6_isFairBy_170 : decode cX6_isFairBy 170 = .ok (.iload_n 2, 1) := dk_28 (dk_at dksX6_isFairBy_7 6 rfl rfl)
theorem dX6_isFairBy_171 : decode cX6_isFairBy 171 = .ok (.ireturn, 1) := dk_172 (dk_at dksX6_isFairBy_7 7 rfl rfl)
abbrev cX6_meanWeight : ByteArray := prog_15_method_84_code
def yX6_meanWeight : MethodName := ⟨RX6, "meanWeight", "()D"⟩
def dkwX6_meanWeight_1 : List UInt8 := [96, 60, 132, 2, 1, 167, 255, 236, 27, 135, 42, 182, 0, 211, 135, 111, 175]
abbrev dktX6_meanWeight_1 : List UInt8 := dkwX6_meanWeight_1 ++ []
def dkwX6_meanWeight_0 : List UInt8 := [42, 3, 181, 0, 167, 3, 60, 4, 61, 28, 42, 180, 0, 170, 162, 0, 18, 27, 42, 180, 0, 39, 28, 46]
abbrev dktX6_meanWeight_0 : List UInt8 := dkwX6_meanWeight_0 ++ dktX6_meanWeight_1
theorem dksX6_meanWeight_0 : cX6_meanWeight.data.toList.drop 0 = dktX6_meanWeight_0 := by decide +kernel
theorem dksX6_meanWeight_1 : cX6_meanWeight.data.toList.drop 24 = dktX6_meanWeight_1 := dk_seg dksX6_meanWeight_0 24 rfl rfl
theorem dX6_meanWeight_0 : decode cX6_meanWeight 0 = .ok (.aload_n 0, 1) := dk_42 (dk_at dksX6_meanWeight_0 0 rfl rfl)
theorem dX6_meanWeight_1 : decode cX6_meanWeight 1 = .ok (.iconst 0, 1) := dk_3 (dk_at dksX6_meanWeight_0 1 rfl rfl)
theorem dX6_meanWeight_2 : decode cX6_meanWeight 2 = .ok (.putfield 167, 3) := dk_181 0 167 (dk_at dksX6_meanWeight_0 2 rfl rfl)
theorem dX6_meanWeight_5 : decode cX6_meanWeight 5 = .ok (.iconst 0, 1) := dk_3 (dk_at dksX6_meanWeight_0 5 rfl rfl)
theorem dX6_meanWeight_6 : decode cX6_meanWeight 6 = .ok (.istore_n 1, 1) := dk_60 (dk_at dksX6_meanWeight_0 6 rfl rfl)
theorem dX6_meanWeight_7 : decode cX6_meanWeight 7 = .ok (.iconst 1, 1) := dk_4 (dk_at dksX6_meanWeight_0 7 rfl rfl)
theorem dX6_meanWeight_8 : decode cX6_meanWeight 8 = .ok (.istore_n 2, 1) := dk_61 (dk_at dksX6_meanWeight_0 8 rfl rfl)
theorem dX6_meanWeight_9 : decode cX6_meanWeight 9 = .ok (.iload_n 2, 1) := dk_28 (dk_at dksX6_meanWeight_0 9 rfl rfl)
theorem dX6_meanWeight_10 : decode cX6_meanWeight 10 = .ok (.aload_n 0, 1) := dk_42 (dk_at dksX6_meanWeight_0 10 rfl rfl)
theorem dX6_meanWeight_11 : decode cX6_meanWeight 11 = .ok (.getfield 170, 3) := dk_180 0 170 (dk_at dksX6_meanWeight_0 11 rfl rfl)
theorem dX6_meanWeight_14 : decode cX6_meanWeight 14 = .ok (.if_icmp .ge 18, 3) := dk_162 0 18 (dk_at dksX6_meanWeight_0 14 rfl rfl)
theorem dX6_meanWeight_17 : decode cX6_meanWeight 17 = .ok (.iload_n 1, 1) := dk_27 (dk_at dksX6_meanWeight_0 17 rfl rfl)
theorem dX6_meanWeight_18 : decode cX6_meanWeight 18 = .ok (.aload_n 0, 1) := dk_42 (dk_at dksX6_meanWeight_0 18 rfl rfl)
theorem dX6_meanWeight_19 : decode cX6_meanWeight 19 = .ok (.getfield 39, 3) := dk_180 0 39 (dk_at dksX6_meanWeight_0 19 rfl rfl)
theorem dX6_meanWeight_22 : decode cX6_meanWeight 22 = .ok (.iload_n 2, 1) := dk_28 (dk_at dksX6_meanWeight_0 22 rfl rfl)
theorem dX6_meanWeight_23 : decode cX6_meanWeight 23 = .ok (.iaload, 1) := dk_46 (dk_at dksX6_meanWeight_0 23 rfl rfl)
theorem dX6_meanWeight_24 : decode cX6_meanWeight 24 = .ok (.iadd, 1) := dk_96 (dk_at dksX6_meanWeight_1 0 rfl rfl)
theorem dX6_meanWeight_25 : decode cX6_meanWeight 25 = .ok (.istore_n 1, 1) := dk_60 (dk_at dksX6_meanWeight_1 1 rfl rfl)
theorem dX6_meanWeight_26 : decode cX6_meanWeight 26 = .ok (.iinc 2 1, 3) := dk_132 2 1 (dk_at dksX6_meanWeight_1 2 rfl rfl)
theorem dX6_meanWeight_29 : decode cX6_meanWeight 29 = .ok (.goto (-20), 3) := dk_167 255 236 (dk_at dksX6_meanWeight_1 5 rfl rfl)
theorem dX6_meanWeight_32 : decode cX6_meanWeight 32 = .ok (.iload_n 1, 1) := dk_27 (dk_at dksX6_meanWeight_1 8 rfl rfl)
theorem dX6_meanWeight_33 : decode cX6_meanWeight 33 = .ok (.i2d, 1) := dk_135 (dk_at dksX6_meanWeight_1 9 rfl rfl)
theorem dX6_meanWeight_34 : decode cX6_meanWeight 34 = .ok (.aload_n 0, 1) := dk_42 (dk_at dksX6_meanWeight_1 10 rfl rfl)
theorem dX6_meanWeight_35 : decode cX6_meanWeight 35 = .ok (.invokevirtual 211, 3) := dk_182 0 211 (dk_at dksX6_meanWeight_1 11 rfl rfl)
theorem dX6_meanWeight_38 : decode cX6_meanWeight 38 = .ok (.i2d, 1) := dk_135 (dk_at dksX6_meanWeight_1 14 rfl rfl)
theorem dX6_meanWeight_39 : decode cX6_meanWeight 39 = .ok (.ddiv, 1) := dk_111 (dk_at dksX6_meanWeight_1 15 rfl rfl)
theorem dX6_meanWeight_40 : decode cX6_meanWeight 40 = .ok (.dreturn, 1) := dk_175 (dk_at dksX6_meanWeight_1 16 rfl rfl)
abbrev cX6_settled : ByteArray := prog_15_method_85_code
def yX6_settled : MethodName := ⟨RX6, "settled", "()F"⟩
def dkwX6_settled_4 : List UInt8 := [154, 0, 7, 11, 167, 0, 8, 27, 134, 28, 134, 110, 174]
abbrev dktX6_settled_4 : List UInt8 := dkwX6_settled_4 ++ []
def dkwX6_settled_3 : List UInt8 := [180, 0, 36, 21, 4, 46, 29, 160, 0, 7, 4, 167, 0, 4, 3, 96, 60, 132, 3, 1, 167, 255, 178, 28]
abbrev dktX6_settled_3 : List UInt8 := dkwX6_settled_3 ++ dktX6_settled_4
def dkwX6_settled_2 : List UInt8 := [54, 5, 28, 21, 5, 153, 0, 7, 4, 167, 0, 4, 3, 96, 61, 27, 21, 5, 153, 0, 18, 42]
abbrev dktX6_settled_2 : List UInt8 := dkwX6_settled_2 ++ dktX6_settled_3
def dkwX6_settled_1 : List UInt8 := [46, 54, 4, 21, 4, 158, 0, 17, 42, 180, 0, 42, 21, 4, 51, 154, 0, 7, 4, 167, 0, 4, 3]
abbrev dktX6_settled_1 : List UInt8 := dkwX6_settled_1 ++ dktX6_settled_2
def dkwX6_settled_0 : List UInt8 := [42, 3, 181, 0, 167, 3, 60, 3, 61, 3, 62, 29, 42, 180, 0, 170, 162, 0, 76, 42, 180, 0, 33, 29]
abbrev dktX6_settled_0 : List UInt8 := dkwX6_settled_0 ++ dktX6_settled_1
theorem dksX6_settled_0 : cX6_settled.data.toList.drop 0 = dktX6_settled_0 := by decide +kernel
theorem dksX6_settled_1 : cX6_settled.data.toList.drop 24 = dktX6_settled_1 := dk_seg dksX6_settled_0 24 rfl rfl
theorem dksX6_settled_2 : cX6_settled.data.toList.drop 47 = dktX6_settled_2 := dk_seg dksX6_settled_1 23 rfl rfl
theorem dksX6_settled_3 : cX6_settled.data.toList.drop 69 = dktX6_settled_3 := dk_seg dksX6_settled_2 22 rfl rfl
theorem dksX6_settled_4 : cX6_settled.data.toList.drop 93 = dktX6_settled_4 := dk_seg dksX6_settled_3 24 rfl rfl
theorem dX6_settled_0 : decode cX6_settled 0 = .ok (.aload_n 0, 1) := dk_42 (dk_at dksX6_settled_0 0 rfl rfl)
theorem dX6_settled_1 : decode cX6_settled 1 = .ok (.iconst 0, 1) := dk_3 (dk_at dksX6_settled_0 1 rfl rfl)
theorem dX6_settled_2 : decode cX6_settled 2 = .ok (.putfield 167, 3) := dk_181 0 167 (dk_at dksX6_settled_0 2 rfl rfl)
theorem dX6_settled_5 : decode cX6_settled 5 = .ok (.iconst 0, 1) := dk_3 (dk_at dksX6_settled_0 5 rfl rfl)
theorem dX6_settled_6 : decode cX6_settled 6 = .ok (.istore_n 1, 1) := dk_60 (dk_at dksX6_settled_0 6 rfl rfl)
theorem dX6_settled_7 : decode cX6_settled 7 = .ok (.iconst 0, 1) := dk_3 (dk_at dksX6_settled_0 7 rfl rfl)
theorem dX6_settled_8 : decode cX6_settled 8 = .ok (.istore_n 2, 1) := dk_61 (dk_at dksX6_settled_0 8 rfl rfl)
theorem dX6_settled_9 : decode cX6_settled 9 = .ok (.iconst 0, 1) := dk_3 (dk_at dksX6_settled_0 9 rfl rfl)
theorem dX6_settled_10 : decode cX6_settled 10 = .ok (.istore_n 3, 1) := dk_62 (dk_at dksX6_settled_0 10 rfl rfl)
theorem dX6_settled_11 : decode cX6_settled 11 = .ok (.iload_n 3, 1) := dk_29 (dk_at dksX6_settled_0 11 rfl rfl)
theorem dX6_settled_12 : decode cX6_settled 12 = .ok (.aload_n 0, 1) := dk_42 (dk_at dksX6_settled_0 12 rfl rfl)
theorem dX6_settled_13 : decode cX6_settled 13 = .ok (.getfield 170, 3) := dk_180 0 170 (dk_at dksX6_settled_0 13 rfl rfl)
theorem dX6_settled_16 : decode cX6_settled 16 = .ok (.if_icmp .ge 76, 3) := dk_162 0 76 (dk_at dksX6_settled_0 16 rfl rfl)
theorem dX6_settled_19 : decode cX6_settled 19 = .ok (.aload_n 0, 1) := dk_42 (dk_at dksX6_settled_0 19 rfl rfl)
theorem dX6_settled_20 : decode cX6_settled 20 = .ok (.getfield 33, 3) := dk_180 0 33 (dk_at dksX6_settled_0 20 rfl rfl)
theorem dX6_settled_23 : decode cX6_settled 23 = .ok (.iload_n 3, 1) := dk_29 (dk_at dksX6_settled_0 23 rfl rfl)
theorem dX6_settled_24 : decode cX6_settled 24 = .ok (.iaload, 1) := dk_46 (dk_at dksX6_settled_1 0 rfl rfl)
theorem dX6_settled_25 : decode cX6_settled 25 = .ok (.istore 4, 2) := dk_54 4 (dk_at dksX6_settled_1 1 rfl rfl)
theorem dX6_settled_27 : decode cX6_settled 27 = .ok (.iload 4, 2) := dk_21 4 (dk_at dksX6_settled_1 3 rfl rfl)
theorem dX6_settled_29 : decode cX6_settled 29 = .ok (.ifCond .le 17, 3) := dk_158 0 17 (dk_at dksX6_settled_1 5 rfl rfl)
theorem dX6_settled_32 : decode cX6_settled 32 = .ok (.aload_n 0, 1) := dk_42 (dk_at dksX6_settled_1 8 rfl rfl)
theorem dX6_settled_33 : decode cX6_settled 33 = .ok (.getfield 42, 3) := dk_180 0 42 (dk_at dksX6_settled_1 9 rfl rfl)
theorem dX6_settled_36 : decode cX6_settled 36 = .ok (.iload 4, 2) := dk_21 4 (dk_at dksX6_settled_1 12 rfl rfl)
theorem dX6_settled_38 : decode cX6_settled 38 = .ok (.baload, 1) := dk_51 (dk_at dksX6_settled_1 14 rfl rfl)
theorem dX6_settled_39 : decode cX6_settled 39 = .ok (.ifCond .ne 7, 3) := dk_154 0 7 (dk_at dksX6_settled_1 15 rfl rfl)
theorem dX6_settled_42 : decode cX6_settled 42 = .ok (.iconst 1, 1) := dk_4 (dk_at dksX6_settled_1 18 rfl rfl)
theorem dX6_settled_43 : decode cX6_settled 43 = .ok (.goto 4, 3) := dk_167 0 4 (dk_at dksX6_settled_1 19 rfl rfl)
theorem dX6_settled_46 : decode cX6_settled 46 = .ok (.iconst 0, 1) := dk_3 (dk_at dksX6_settled_1 22 rfl rfl)
theorem dX6_settled_47 : decode cX6_settled 47 = .ok (.istore 5, 2) := dk_54 5 (dk_at dksX6_settled_2 0 rfl rfl)
theorem dX6_settled_49 : decode cX6_settled 49 = .ok (.iload_n 2, 1) := dk_28 (dk_at dksX6_settled_2 2 rfl rfl)
theorem dX6_settled_50 : decode cX6_settled 50 = .ok (.iload 5, 2) := dk_21 5 (dk_at dksX6_settled_2 3 rfl rfl)
theorem dX6_settled_52 : decode cX6_settled 52 = .ok (.ifCond .eq 7, 3) := dk_153 0 7 (dk_at dksX6_settled_2 5 rfl rfl)
theorem dX6_settled_55 : decode cX6_settled 55 = .ok (.iconst 1, 1) := dk_4 (dk_at dksX6_settled_2 8 rfl rfl)
theorem dX6_settled_56 : decode cX6_settled 56 = .ok (.goto 4, 3) := dk_167 0 4 (dk_at dksX6_settled_2 9 rfl rfl)
theorem dX6_settled_59 : decode cX6_settled 59 = .ok (.iconst 0, 1) := dk_3 (dk_at dksX6_settled_2 12 rfl rfl)
theorem dX6_settled_60 : decode cX6_settled 60 = .ok (.iadd, 1) := dk_96 (dk_at dksX6_settled_2 13 rfl rfl)
theorem dX6_settled_61 : decode cX6_settled 61 = .ok (.istore_n 2, 1) := dk_61 (dk_at dksX6_settled_2 14 rfl rfl)
theorem dX6_settled_62 : decode cX6_settled 62 = .ok (.iload_n 1, 1) := dk_27 (dk_at dksX6_settled_2 15 rfl rfl)
theorem dX6_settled_63 : decode cX6_settled 63 = .ok (.iload 5, 2) := dk_21 5 (dk_at dksX6_settled_2 16 rfl rfl)
theorem dX6_settled_65 : decode cX6_settled 65 = .ok (.ifCond .eq 18, 3) := dk_153 0 18 (dk_at dksX6_settled_2 18 rfl rfl)
theorem dX6_settled_68 : decode cX6_settled 68 = .ok (.aload_n 0, 1) := dk_42 (dk_at dksX6_settled_2 21 rfl rfl)
theorem dX6_settled_69 : decode cX6_settled 69 = .ok (.getfield 36, 3) := dk_180 0 36 (dk_at dksX6_settled_3 0 rfl rfl)
theorem dX6_settled_72 : decode cX6_settled 72 = .ok (.iload 4, 2) := dk_21 4 (dk_at dksX6_settled_3 3 rfl rfl)
theorem dX6_settled_74 : decode cX6_settled 74 = .ok (.iaload, 1) := dk_46 (dk_at dksX6_settled_3 5 rfl rfl)
theorem dX6_settled_75 : decode cX6_settled 75 = .ok (.iload_n 3, 1) := dk_29 (dk_at dksX6_settled_3 6 rfl rfl)
theorem dX6_settled_76 : decode cX6_settled 76 = .ok (.if_icmp .ne 7, 3) := dk_160 0 7 (dk_at dksX6_settled_3 7 rfl rfl)
theorem dX6_settled_79 : decode cX6_settled 79 = .ok (.iconst 1, 1) := dk_4 (dk_at dksX6_settled_3 10 rfl rfl)
theorem dX6_settled_80 : decode cX6_settled 80 = .ok (.goto 4, 3) := dk_167 0 4 (dk_at dksX6_settled_3 11 rfl rfl)
theorem dX6_settled_83 : decode cX6_settled 83 = .ok (.iconst 0, 1) := dk_3 (dk_at dksX6_settled_3 14 rfl rfl)
theorem dX6_settled_84 : decode cX6_settled 84 = .ok (.iadd, 1) := dk_96 (dk_at dksX6_settled_3 15 rfl rfl)
theorem dX6_settled_85 : decode cX6_settled 85 = .ok (.istore_n 1, 1) := dk_60 (dk_at dksX6_settled_3 16 rfl rfl)
theorem dX6_settled_86 : decode cX6_settled 86 = .ok (.iinc 3 1, 3) := dk_132 3 1 (dk_at dksX6_settled_3 17 rfl rfl)
theorem dX6_settled_89 : decode cX6_settled 89 = .ok (.goto (-78), 3) := dk_167 255 178 (dk_at dksX6_settled_3 20 rfl rfl)
theorem dX6_settled_92 : decode cX6_settled 92 = .ok (.iload_n 2, 1) := dk_28 (dk_at dksX6_settled_3 23 rfl rfl)
theorem dX6_settled_93 : decode cX6_settled 93 = .ok (.ifCond .ne 7, 3) := dk_154 0 7 (dk_at dksX6_settled_4 0 rfl rfl)
theorem dX6_settled_96 : decode cX6_settled 96 = .ok (.fconst 0, 1) := dk_11 (dk_at dksX6_settled_4 3 rfl rfl)
theorem dX6_settled_97 : decode cX6_settled 97 = .ok (.goto 8, 3) := dk_167 0 8 (dk_at dksX6_settled_4 4 rfl rfl)
theorem dX6_settled_100 : decode cX6_settled 100 = .ok (.iload_n 1, 1) := dk_27 (dk_at dksX6_settled_4 7 rfl rfl)
theorem dX6_settled_101 : decode cX6_settled 101 = .ok (.i2f, 1) := dk_134 (dk_at dksX6_settled_4 8 rfl rfl)
theorem dX6_settled_102 : decode cX6_settled 102 = .ok (.iload_n 2, 1) := dk_28 (dk_at dksX6_settled_4 9 rfl rfl)
theorem dX6_settled_103 : decode cX6_settled 103 = .ok (.i2f, 1) := dk_134 (dk_at dksX6_settled_4 10 rfl rfl)
theorem dX6_settled_104 : decode cX6_settled 104 = .ok (.fdiv, 1) := dk_110 (dk_at dksX6_settled_4 11 rfl rfl)
theorem dX6_settled_105 : decode cX6_settled 105 = .ok (.freturn, 1) := dk_174 (dk_at dksX6_settled_4 12 rfl rfl)
abbrev cX6_errors : ByteArray := prog_15_method_87_code
def yX6_errors : MethodName := ⟨RX6, "errors", "()I"⟩
def dkwX6_errors_11 : List UInt8 := [21, 5, 29, 160, 0, 7, 3, 167, 0, 4, 4, 96, 60, 42, 27, 182, 0, 215, 172]
abbrev dktX6_errors_11 : List UInt8 := dkwX6_errors_11 ++ []
def dkwX6_errors_10 : List UInt8 := [159, 0, 9, 21, 4, 29, 160, 0, 7, 3, 167, 0, 4, 4, 96, 60, 27, 21, 5, 16, 254, 159, 0, 9]
abbrev dktX6_errors_10 : List UInt8 := dkwX6_errors_10 ++ dktX6_errors_11
def dkwX6_errors_9 : List UInt8 := [180, 0, 45, 182, 1, 90, 54, 4, 42, 182, 1, 87, 42, 6, 182, 1, 115, 54, 5, 27, 21, 4, 16, 254]
abbrev dktX6_errors_9 : List UInt8 := dkwX6_errors_9 ++ dktX6_errors_10
def dkwX6_errors_8 : List UInt8 := [136, 46, 61, 28, 18, 199, 160, 0, 7, 2, 167, 0, 4, 28, 62, 42, 182, 1, 87, 42, 6, 42]
abbrev dktX6_errors_8 : List UInt8 := dkwX6_errors_8 ++ dktX6_errors_9
def dkwX6_errors_7 : List UInt8 := [180, 0, 170, 16, 6, 163, 0, 102, 42, 182, 1, 133, 42, 180, 0, 149, 42, 42, 180, 0, 33, 182, 1, 18]
abbrev dktX6_errors_7 : List UInt8 := dkwX6_errors_7 ++ dktX6_errors_8
def dkwX6_errors_6 : List UInt8 := [153, 0, 7, 3, 167, 0, 4, 4, 96, 60, 132, 3, 1, 167, 255, 146, 132, 2, 1, 167, 255, 133, 42]
abbrev dktX6_errors_6 : List UInt8 := dkwX6_errors_6 ++ dktX6_errors_7
def dkwX6_errors_5 : List UInt8 := [180, 0, 128, 6, 28, 100, 182, 1, 14, 54, 6, 27, 21, 6, 21, 5, 160, 0, 14, 42, 182, 1, 142]
abbrev dktX6_errors_5 : List UInt8 := dkwX6_errors_5 ++ dktX6_errors_6
def dkwX6_errors_4 : List UInt8 := [164, 0, 7, 4, 167, 0, 4, 3, 96, 60, 21, 5, 2, 160, 0, 7, 2, 167, 0, 14, 42, 42]
abbrev dktX6_errors_4 : List UInt8 := dkwX6_errors_4 ++ dktX6_errors_5
def dkwX6_errors_3 : List UInt8 := [54, 5, 27, 21, 5, 2, 159, 0, 24, 21, 4, 42, 42, 180, 0, 128, 29, 182, 1, 46, 100, 21, 5]
abbrev dktX6_errors_3 : List UInt8 := dkwX6_errors_3 ++ dktX6_errors_4
def dkwX6_errors_2 : List UInt8 := [42, 182, 1, 87, 42, 42, 180, 0, 128, 29, 182, 1, 46, 54, 4, 42, 42, 180, 0, 128, 28, 182, 1, 14]
abbrev dktX6_errors_2 : List UInt8 := dkwX6_errors_2 ++ dktX6_errors_3
def dkwX6_errors_1 : List UInt8 := [153, 0, 7, 3, 167, 0, 4, 4, 96, 60, 3, 61, 28, 7, 162, 0, 124, 3, 62, 29, 7, 163, 0, 111]
abbrev dktX6_errors_1 : List UInt8 := dkwX6_errors_1 ++ dktX6_errors_2
def dkwX6_errors_0 : List UInt8 := [3, 60, 42, 42, 42, 180, 0, 33, 182, 1, 18, 42, 180, 0, 128, 182, 1, 9, 27, 42, 182, 1, 142]
abbrev dktX6_errors_0 : List UInt8 := dkwX6_errors_0 ++ dktX6_errors_1
theorem dksX6_errors_0 : cX6_errors.data.toList.drop 0 = dktX6_errors_0 := by decide +kernel
theorem dksX6_errors_1 : cX6_errors.data.toList.drop 23 = dktX6_errors_1 := dk_seg dksX6_errors_0 23 rfl rfl
theorem dksX6_errors_2 : cX6_errors.data.toList.drop 47 = dktX6_errors_2 := dk_seg dksX6_errors_1 24 rfl rfl
theorem dksX6_errors_3 : cX6_errors.data.toList.drop 71 = dktX6_errors_3 := dk_seg dksX6_errors_2 24 rfl rfl
theorem dksX6_errors_4 : cX6_errors.data.toList.drop 94 = dktX6_errors_4 := dk_seg dksX6_errors_3 23 rfl rfl
theorem dksX6_errors_5 : cX6_errors.data.toList.drop 116 = dktX6_errors_5 := dk_seg dksX6_errors_4 22 rfl rfl
theorem dksX6_errors_6 : cX6_errors.data.toList.drop 139 = dktX6_errors_6 := dk_seg dksX6_errors_5 23 rfl rfl
theorem dksX6_errors_7 : cX6_errors.data.toList.drop 162 = dktX6_errors_7 := dk_seg dksX6_errors_6 23 rfl rfl
theorem dksX6_errors_8 : cX6_errors.data.toList.drop 186 = dktX6_errors_8 := dk_seg dksX6_errors_7 24 rfl rfl
theorem dksX6_errors_9 : cX6_errors.data.toList.drop 208 = dktX6_errors_9 := dk_seg dksX6_errors_8 22 rfl rfl
theorem dksX6_errors_10 : cX6_errors.data.toList.drop 232 = dktX6_errors_10 := dk_seg dksX6_errors_9 24 rfl rfl
theorem dksX6_errors_11 : cX6_errors.data.toList.drop 256 = dktX6_errors_11 := dk_seg dksX6_errors_10 24 rfl rfl
theorem dX6_errors_0 : decode cX6_errors 0 = .ok (.iconst 0, 1) := dk_3 (dk_at dksX6_errors_0 0 rfl rfl)
theorem dX6_errors_1 : decode cX6_errors 1 = .ok (.istore_n 1, 1) := dk_60 (dk_at dksX6_errors_0 1 rfl rfl)
theorem dX6_errors_2 : decode cX6_errors 2 = .ok (.aload_n 0, 1) := dk_42 (dk_at dksX6_errors_0 2 rfl rfl)
theorem dX6_errors_3 : decode cX6_errors 3 = .ok (.aload_n 0, 1) := dk_42 (dk_at dksX6_errors_0 3 rfl rfl)
theorem dX6_errors_4 : decode cX6_errors 4 = .ok (.aload_n 0, 1) := dk_42 (dk_at dksX6_errors_0 4 rfl rfl)
theorem dX6_errors_5 : decode cX6_errors 5 = .ok (.getfield 33, 3) := dk_180 0 33 (dk_at dksX6_errors_0 5 rfl rfl)
theorem dX6_errors_8 : decode cX6_errors 8 = .ok (.invokevirtual 274, 3) := dk_182 1 18 (dk_at dksX6_errors_0 8 rfl rfl)
theorem dX6_errors_11 : decode cX6_errors 11 = .ok (.aload_n 0, 1) := dk_42 (dk_at dksX6_errors_0 11 rfl rfl)
theorem dX6_errors_12 : decode cX6_errors 12 = .ok (.getfield 128, 3) := dk_180 0 128 (dk_at dksX6_errors_0 12 rfl rfl)
theorem dX6_errors_15 : decode cX6_errors 15 = .ok (.invokevirtual 265, 3) := dk_182 1 9 (dk_at dksX6_errors_0 15 rfl rfl)
theorem dX6_errors_18 : decode cX6_errors 18 = .ok (.iload_n 1, 1) := dk_27 (dk_at dksX6_errors_0 18 rfl rfl)
theorem dX6_errors_19 : decode cX6_errors 19 = .ok (.aload_n 0, 1) := dk_42 (dk_at dksX6_errors_0 19 rfl rfl)
theorem dX6_errors_20 : decode cX6_errors 20 = .ok (.invokevirtual 398, 3) := dk_182 1 142 (dk_at dksX6_errors_0 20 rfl rfl)
theorem dX6_errors_23 : decode cX6_errors 23 = .ok (.ifCond .eq 7, 3) := dk_153 0 7 (dk_at dksX6_errors_1 0 rfl rfl)
theorem dX6_errors_26 : decode cX6_errors 26 = .ok (.iconst 0, 1) := dk_3 (dk_at dksX6_errors_1 3 rfl rfl)
theorem dX6_errors_27 : decode cX6_errors 27 = .ok (.goto 4, 3) := dk_167 0 4 (dk_at dksX6_errors_1 4 rfl rfl)
theorem dX6_errors_30 : decode cX6_errors 30 = .ok (.iconst 1, 1) := dk_4 (dk_at dksX6_errors_1 7 rfl rfl)
theorem dX6_errors_31 : decode cX6_errors 31 = .ok (.iadd, 1) := dk_96 (dk_at dksX6_errors_1 8 rfl rfl)
theorem dX6_errors_32 : decode cX6_errors 32 = .ok (.istore_n 1, 1) := dk_60 (dk_at dksX6_errors_1 9 rfl rfl)
theorem dX6_errors_33 : decode cX6_errors 33 = .ok (.iconst 0, 1) := dk_3 (dk_at dksX6_errors_1 10 rfl rfl)
theorem dX6_errors_34 : decode cX6_errors 34 = .ok (.istore_n 2, 1) := dk_61 (dk_at dksX6_errors_1 11 rfl rfl)
theorem dX6_errors_35 : decode cX6_errors 35 = .ok (.iload_n 2, 1) := dk_28 (dk_at dksX6_errors_1 12 rfl rfl)
theorem dX6_errors_36 : decode cX6_errors 36 = .ok (.iconst 4, 1) := dk_7 (dk_at dksX6_errors_1 13 rfl rfl)
theorem dX6_errors_37 : decode cX6_errors 37 = .ok (.if_icmp .ge 124, 3) := dk_162 0 124 (dk_at dksX6_errors_1 14 rfl rfl)
theorem dX6_errors_40 : decode cX6_errors 40 = .ok (.iconst 0, 1) := dk_3 (dk_at dksX6_errors_1 17 rfl rfl)
theorem dX6_errors_41 : decode cX6_errors 41 = .ok (.istore_n 3, 1) := dk_62 (dk_at dksX6_errors_1 18 rfl rfl)
theorem dX6_errors_42 : decode cX6_errors 42 = .ok (.iload_n 3, 1) := dk_29 (dk_at dksX6_errors_1 19 rfl rfl)
theorem dX6_errors_43 : decode cX6_errors 43 = .ok (.iconst 4, 1) := dk_7 (dk_at dksX6_errors_1 20 rfl rfl)
theorem dX6_errors_44 : decode cX6_errors 44 = .ok (.if_icmp .gt 111, 3) := dk_163 0 111 (dk_at dksX6_errors_1 21 rfl rfl)
theorem dX6_errors_47 : decode cX6_errors 47 = .ok (.aload_n 0, 1) := dk_42 (dk_at dksX6_errors_2 0 rfl rfl)
theorem dX6_errors_48 : decode cX6_errors 48 = .ok (.invokevirtual 343, 3) := dk_182 1 87 (dk_at dksX6_errors_2 1 rfl rfl)
theorem dX6_errors_51 : decode cX6_errors 51 = .ok (.aload_n 0, 1) := dk_42 (dk_at dksX6_errors_2 4 rfl rfl)
theorem dX6_errors_52 : decode cX6_errors 52 = .ok (.aload_n 0, 1) := dk_42 (dk_at dksX6_errors_2 5 rfl rfl)
theorem dX6_errors_53 : decode cX6_errors 53 = .ok (.getfield 128, 3) := dk_180 0 128 (dk_at dksX6_errors_2 6 rfl rfl)
theorem dX6_errors_56 : decode cX6_errors 56 = .ok (.iload_n 3, 1) := dk_29 (dk_at dksX6_errors_2 9 rfl rfl)
theorem dX6_errors_57 : decode cX6_errors 57 = .ok (.invokevirtual 302, 3) := dk_182 1 46 (dk_at dksX6_errors_2 10 rfl rfl)
theorem dX6_errors_60 : decode cX6_errors 60 = .ok (.istore 4, 2) := dk_54 4 (dk_at dksX6_errors_2 13 rfl rfl)
theorem dX6_errors_62 : decode cX6_errors 62 = .ok (.aload_n 0, 1) := dk_42 (dk_at dksX6_errors_2 15 rfl rfl)
theorem dX6_errors_63 : decode cX6_errors 63 = .ok (.aload_n 0, 1) := dk_42 (dk_at dksX6_errors_2 16 rfl rfl)
theorem dX6_errors_64 : decode cX6_errors 64 = .ok (.getfield 128, 3) := dk_180 0 128 (dk_at dksX6_errors_2 17 rfl rfl)
theorem dX6_errors_67 : decode cX6_errors 67 = .ok (.iload_n 2, 1) := dk_28 (dk_at dksX6_errors_2 20 rfl rfl)
theorem dX6_errors_68 : decode cX6_errors 68 = .ok (.invokevirtual 270, 3) := dk_182 1 14 (dk_at dksX6_errors_2 21 rfl rfl)
theorem dX6_errors_71 : decode cX6_errors 71 = .ok (.istore 5, 2) := dk_54 5 (dk_at dksX6_errors_3 0 rfl rfl)
theorem dX6_errors_73 : decode cX6_errors 73 = .ok (.iload_n 1, 1) := dk_27 (dk_at dksX6_errors_3 2 rfl rfl)
theorem dX6_errors_74 : decode cX6_errors 74 = .ok (.iload 5, 2) := dk_21 5 (dk_at dksX6_errors_3 3 rfl rfl)
theorem dX6_errors_76 : decode cX6_errors 76 = .ok (.iconst (-1), 1) := dk_2 (dk_at dksX6_errors_3 5 rfl rfl)
theorem dX6_errors_77 : decode cX6_errors 77 = .ok (.if_icmp .eq 24, 3) := dk_159 0 24 (dk_at dksX6_errors_3 6 rfl rfl)
theorem dX6_errors_80 : decode cX6_errors 80 = .ok (.iload 4, 2) := dk_21 4 (dk_at dksX6_errors_3 9 rfl rfl)
theorem dX6_errors_82 : decode cX6_errors 82 = .ok (.aload_n 0, 1) := dk_42 (dk_at dksX6_errors_3 11 rfl rfl)
theorem dX6_errors_83 : decode cX6_errors 83 = .ok (.aload_n 0, 1) := dk_42 (dk_at dksX6_errors_3 12 rfl rfl)
theorem dX6_errors_84 : decode cX6_errors 84 = .ok (.getfield 128, 3) := dk_180 0 128 (dk_at dksX6_errors_3 13 rfl rfl)
theorem dX6_errors_87 : decode cX6_errors 87 = .ok (.iload_n 3, 1) := dk_29 (dk_at dksX6_errors_3 16 rfl rfl)
theorem dX6_errors_88 : decode cX6_errors 88 = .ok (.invokevirtual 302, 3) := dk_182 1 46 (dk_at dksX6_errors_3 17 rfl rfl)
theorem dX6_errors_91 : decode cX6_errors 91 = .ok (.isub, 1) := dk_100 (dk_at dksX6_errors_3 20 rfl rfl)
theorem dX6_errors_92 : decode cX6_errors 92 = .ok (.iload 5, 2) := dk_21 5 (dk_at dksX6_errors_3 21 rfl rfl)
theorem dX6_errors_94 : decode cX6_errors 94 = .ok (.if_icmp .le 7, 3) := dk_164 0 7 (dk_at dksX6_errors_4 0 rfl rfl)
theorem dX6_errors_97 : decode cX6_errors 97 = .ok (.iconst 1, 1) := dk_4 (dk_at dksX6_errors_4 3 rfl rfl)
theorem dX6_errors_98 : decode cX6_errors 98 = .ok (.goto 4, 3) := dk_167 0 4 (dk_at dksX6_errors_4 4 rfl rfl)
theorem dX6_errors_101 : decode cX6_errors 101 = .ok (.iconst 0, 1) := dk_3 (dk_at dksX6_errors_4 7 rfl rfl)
theorem dX6_errors_102 : decode cX6_errors 102 = .ok (.iadd, 1) := dk_96 (dk_at dksX6_errors_4 8 rfl rfl)
theorem dX6_errors_103 : decode cX6_errors 103 = .ok (.istore_n 1, 1) := dk_60 (dk_at dksX6_errors_4 9 rfl rfl)
theorem dX6_errors_104 : decode cX6_errors 104 = .ok (.iload 5, 2) := dk_21 5 (dk_at dksX6_errors_4 10 rfl rfl)
theorem dX6_errors_106 : decode cX6_errors 106 = .ok (.iconst (-1), 1) := dk_2 (dk_at dksX6_errors_4 12 rfl rfl)
theorem dX6_errors_107 : decode cX6_errors 107 = .ok (.if_icmp .ne 7, 3) := dk_160 0 7 (dk_at dksX6_errors_4 13 rfl rfl)
theorem dX6_errors_110 : decode cX6_errors 110 = .ok (.iconst (-1), 1) := dk_2 (dk_at dksX6_errors_4 16 rfl rfl)
theorem dX6_errors_111 : decode cX6_errors 111 = .ok (.goto 14, 3) := dk_167 0 14 (dk_at dksX6_errors_4 17 rfl rfl)
theorem dX6_errors_114 : decode cX6_errors 114 = .ok (.aload_n 0, 1) := dk_42 (dk_at dksX6_errors_4 20 rfl rfl)
theorem dX6_errors_115 : decode cX6_errors 115 = .ok (.aload_n 0, 1) := dk_42 (dk_at dksX6_errors_4 21 rfl rfl)
theorem dX6_errors_116 : decode cX6_errors 116 = .ok (.getfield 128, 3) := dk_180 0 128 (dk_at dksX6_errors_5 0 rfl rfl)
theorem dX6_errors_119 : decode cX6_errors 119 = .ok (.iconst 3, 1) := dk_6 (dk_at dksX6_errors_5 3 rfl rfl)
theorem dX6_errors_120 : decode cX6_errors 120 = .ok (.iload_n 2, 1) := dk_28 (dk_at dksX6_errors_5 4 rfl rfl)
theorem dX6_errors_121 : decode cX6_errors 121 = .ok (.isub, 1) := dk_100 (dk_at dksX6_errors_5 5 rfl rfl)
theorem dX6_errors_122 : decode cX6_errors 122 = .ok (.invokevirtual 270, 3) := dk_182 1 14 (dk_at dksX6_errors_5 6 rfl rfl)
theorem dX6_errors_125 : decode cX6_errors 125 = .ok (.istore 6, 2) := dk_54 6 (dk_at dksX6_errors_5 9 rfl rfl)
theorem dX6_errors_127 : decode cX6_errors 127 = .ok (.iload_n 1, 1) := dk_27 (dk_at dksX6_errors_5 11 rfl rfl)
theorem dX6_errors_128 : decode cX6_errors 128 = .ok (.iload 6, 2) := dk_21 6 (dk_at dksX6_errors_5 12 rfl rfl)
theorem dX6_errors_130 : decode cX6_errors 130 = .ok (.iload 5, 2) := dk_21 5 (dk_at dksX6_errors_5 14 rfl rfl)
theorem dX6_errors_132 : decode cX6_errors 132 = .ok (.if_icmp .ne 14, 3) := dk_160 0 14 (dk_at dksX6_errors_5 16 rfl rfl)
theorem dX6_errors_135 : decode cX6_errors 135 = .ok (.aload_n 0, 1) := dk_42 (dk_at dksX6_errors_5 19 rfl rfl)
theorem dX6_errors_136 : decode cX6_errors 136 = .ok (.invokevirtual 398, 3) := dk_182 1 142 (dk_at dksX6_errors_5 20 rfl rfl)
theorem dX6_errors_139 : decode cX6_errors 139 = .ok (.ifCond .eq 7, 3) := dk_153 0 7 (dk_at dksX6_errors_6 0 rfl rfl)
theorem dX6_errors_142 : decode cX6_errors 142 = .ok (.iconst 0, 1) := dk_3 (dk_at dksX6_errors_6 3 rfl rfl)
theorem dX6_errors_143 : decode cX6_errors 143 = .ok (.goto 4, 3) := dk_167 0 4 (dk_at dksX6_errors_6 4 rfl rfl)
theorem dX6_errors_146 : decode cX6_errors 146 = .ok (.iconst 1, 1) := dk_4 (dk_at dksX6_errors_6 7 rfl rfl)
theorem dX6_errors_147 : decode cX6_errors 147 = .ok (.iadd, 1) := dk_96 (dk_at dksX6_errors_6 8 rfl rfl)
theorem dX6_errors_148 : decode cX6_errors 148 = .ok (.istore_n 1, 1) := dk_60 (dk_at dksX6_errors_6 9 rfl rfl)
theorem dX6_errors_149 : decode cX6_errors 149 = .ok (.iinc 3 1, 3) := dk_132 3 1 (dk_at dksX6_errors_6 10 rfl rfl)
theorem dX6_errors_152 : decode cX6_errors 152 = .ok (.goto (-110), 3) := dk_167 255 146 (dk_at dksX6_errors_6 13 rfl rfl)
theorem dX6_errors_155 : decode cX6_errors 155 = .ok (.iinc 2 1, 3) := dk_132 2 1 (dk_at dksX6_errors_6 16 rfl rfl)
theorem dX6_errors_158 : decode cX6_errors 158 = .ok (.goto (-123), 3) := dk_167 255 133 (dk_at dksX6_errors_6 19 rfl rfl)
theorem dX6_errors_161 : decode cX6_errors 161 = .ok (.aload_n 0, 1) := dk_42 (dk_at dksX6_errors_6 22 rfl rfl)
theorem dX6_errors_162 : decode cX6_errors 162 = .ok (.getfield 170, 3) := dk_180 0 170 (dk_at dksX6_errors_7 0 rfl rfl)
theorem dX6_errors_165 : decode cX6_errors 165 = .ok (.bipush 6, 2) := dk_16 6 (dk_at dksX6_errors_7 3 rfl rfl)
theorem dX6_errors_167 : decode cX6_errors 167 = .ok (.if_icmp .gt 102, 3) := dk_163 0 102 (dk_at dksX6_errors_7 5 rfl rfl)
theorem dX6_errors_170 : decode cX6_errors 170 = .ok (.aload_n 0, 1) := dk_42 (dk_at dksX6_errors_7 8 rfl rfl)
theorem dX6_errors_171 : decode cX6_errors 171 = .ok (.invokevirtual 389, 3) := dk_182 1 133 (dk_at dksX6_errors_7 9 rfl rfl)
theorem dX6_errors_174 : decode cX6_errors 174 = .ok (.aload_n 0, 1) := dk_42 (dk_at dksX6_errors_7 12 rfl rfl)
theorem dX6_errors_175 : decode cX6_errors 175 = .ok (.getfield 149, 3) := dk_180 0 149 (dk_at dksX6_errors_7 13 rfl rfl)
theorem dX6_errors_178 : decode cX6_errors 178 = .ok (.aload_n 0, 1) := dk_42 (dk_at dksX6_errors_7 16 rfl rfl)
theorem dX6_errors_179 : decode cX6_errors 179 = .ok (.aload_n 0, 1) := dk_42 (dk_at dksX6_errors_7 17 rfl rfl)
theorem dX6_errors_180 : decode cX6_errors 180 = .ok (.getfield 33, 3) := dk_180 0 33 (dk_at dksX6_errors_7 18 rfl rfl)
theorem dX6_errors_183 : decode cX6_errors 183 = .ok (.invokevirtual 274, 3) := dk_182 1 18 (dk_at dksX6_errors_7 21 rfl rfl)
theorem dX6_errors_186 : decode cX6_errors 186 = .ok (.l2i, 1) := dk_136 (dk_at dksX6_errors_8 0 rfl rfl)
theorem dX6_errors_187 : decode cX6_errors 187 = .ok (.iaload, 1) := dk_46 (dk_at dksX6_errors_8 1 rfl rfl)
theorem dX6_errors_188 : decode cX6_errors 188 = .ok (.istore_n 2, 1) := dk_61 (dk_at dksX6_errors_8 2 rfl rfl)
theorem dX6_errors_189 : decode cX6_errors 189 = .ok (.iload_n 2, 1) := dk_28 (dk_at dksX6_errors_8 3 rfl rfl)
theorem dX6_errors_190 : decode cX6_errors 190 = .ok (.ldc 199, 2) := dk_18 199 (dk_at dksX6_errors_8 4 rfl rfl)
theorem dX6_errors_192 : decode cX6_errors 192 = .ok (.if_icmp .ne 7, 3) := dk_160 0 7 (dk_at dksX6_errors_8 6 rfl rfl)
theorem dX6_errors_195 : decode cX6_errors 195 = .ok (.iconst (-1), 1) := dk_2 (dk_at dksX6_errors_8 9 rfl rfl)
theorem dX6_errors_196 : decode cX6_errors 196 = .ok (.goto 4, 3) := dk_167 0 4 (dk_at dksX6_errors_8 10 rfl rfl)
theorem dX6_errors_199 : decode cX6_errors 199 = .ok (.iload_n 2, 1) := dk_28 (dk_at dksX6_errors_8 13 rfl rfl)
theorem dX6_errors_200 : decode cX6_errors 200 = .ok (.istore_n 3, 1) := dk_62 (dk_at dksX6_errors_8 14 rfl rfl)
theorem dX6_errors_201 : decode cX6_errors 201 = .ok (.aload_n 0, 1) := dk_42 (dk_at dksX6_errors_8 15 rfl rfl)
theorem dX6_errors_202 : decode cX6_errors 202 = .ok (.invokevirtual 343, 3) := dk_182 1 87 (dk_at dksX6_errors_8 16 rfl rfl)
theorem dX6_errors_205 : decode cX6_errors 205 = .ok (.aload_n 0, 1) := dk_42 (dk_at dksX6_errors_8 19 rfl rfl)
theorem dX6_errors_206 : decode cX6_errors 206 = .ok (.iconst 3, 1) := dk_6 (dk_at dksX6_errors_8 20 rfl rfl)
theorem dX6_errors_207 : decode cX6_errors 207 = .ok (.aload_n 0, 1) := dk_42 (dk_at dksX6_errors_8 21 rfl rfl)
theorem dX6_errors_208 : decode cX6_errors 208 = .ok (.getfield 45, 3) := dk_180 0 45 (dk_at dksX6_errors_9 0 rfl rfl)
theorem dX6_errors_211 : decode cX6_errors 211 = .ok (.invokevirtual 346, 3) := dk_182 1 90 (dk_at dksX6_errors_9 3 rfl rfl)
theorem dX6_errors_214 : decode cX6_errors 214 = .ok (.istore 4, 2) := dk_54 4 (dk_at dksX6_errors_9 6 rfl rfl)
theorem dX6_errors_216 : decode cX6_errors 216 = .ok (.aload_n 0, 1) := dk_42 (dk_at dksX6_errors_9 8 rfl rfl)
theorem dX6_errors_217 : decode cX6_errors 217 = .ok (.invokevirtual 343, 3) := dk_182 1 87 (dk_at dksX6_errors_9 9 rfl rfl)
theorem dX6_errors_220 : decode cX6_errors 220 = .ok (.aload_n 0, 1) := dk_42 (dk_at dksX6_errors_9 12 rfl rfl)
theorem dX6_errors_221 : decode cX6_errors 221 = .ok (.iconst 3, 1) := dk_6 (dk_at dksX6_errors_9 13 rfl rfl)
theorem dX6_errors_222 : decode cX6_errors 222 = .ok (.invokevirtual 371, 3) := dk_182 1 115 (dk_at dksX6_errors_9 14 rfl rfl)
theorem dX6_errors_225 : decode cX6_errors 225 = .ok (.istore 5, 2) := dk_54 5 (dk_at dksX6_errors_9 17 rfl rfl)
theorem dX6_errors_227 : decode cX6_errors 227 = .ok (.iload_n 1, 1) := dk_27 (dk_at dksX6_errors_9 19 rfl rfl)
theorem dX6_errors_228 : decode cX6_errors 228 = .ok (.iload 4, 2) := dk_21 4 (dk_at dksX6_errors_9 20 rfl rfl)
theorem dX6_errors_230 : decode cX6_errors 230 = .ok (.bipush (-2), 2) := dk_16 254 (dk_at dksX6_errors_9 22 rfl rfl)
theorem dX6_errors_232 : decode cX6_errors 232 = .ok (.if_icmp .eq 9, 3) := dk_159 0 9 (dk_at dksX6_errors_10 0 rfl rfl)
theorem dX6_errors_235 : decode cX6_errors 235 = .ok (.iload 4, 2) := dk_21 4 (dk_at dksX6_errors_10 3 rfl rfl)
theorem dX6_errors_237 : decode cX6_errors 237 = .ok (.iload_n 3, 1) := dk_29 (dk_at dksX6_errors_10 5 rfl rfl)
theorem dX6_errors_238 : decode cX6_errors 238 = .ok (.if_icmp .ne 7, 3) := dk_160 0 7 (dk_at dksX6_errors_10 6 rfl rfl)
theorem dX6_errors_241 : decode cX6_errors 241 = .ok (.iconst 0, 1) := dk_3 (dk_at dksX6_errors_10 9 rfl rfl)
theorem dX6_errors_242 : decode cX6_errors 242 = .ok (.goto 4, 3) := dk_167 0 4 (dk_at dksX6_errors_10 10 rfl rfl)
theorem dX6_errors_245 : decode cX6_errors 245 = .ok (.iconst 1, 1) := dk_4 (dk_at dksX6_errors_10 13 rfl rfl)
theorem dX6_errors_246 : decode cX6_errors 246 = .ok (.iadd, 1) := dk_96 (dk_at dksX6_errors_10 14 rfl rfl)
theorem dX6_errors_247 : decode cX6_errors 247 = .ok (.istore_n 1, 1) := dk_60 (dk_at dksX6_errors_10 15 rfl rfl)
theorem dX6_errors_248 : decode cX6_errors 248 = .ok (.iload_n 1, 1) := dk_27 (dk_at dksX6_errors_10 16 rfl rfl)
theorem dX6_errors_249 : decode cX6_errors 249 = .ok (.iload 5, 2) := dk_21 5 (dk_at dksX6_errors_10 17 rfl rfl)
theorem dX6_errors_251 : decode cX6_errors 251 = .ok (.bipush (-2), 2) := dk_16 254 (dk_at dksX6_errors_10 19 rfl rfl)
theorem dX6_errors_253 : decode cX6_errors 253 = .ok (.if_icmp .eq 9, 3) := dk_159 0 9 (dk_at dksX6_errors_10 21 rfl rfl)
theorem dX6_errors_256 : decode cX6_errors 256 = .ok (.iload 5, 2) := dk_21 5 (dk_at dksX6_errors_11 0 rfl rfl)
theorem dX6_errors_258 : decode cX6_errors 258 = .ok (.iload_n 3, 1) := dk_29 (dk_at dksX6_errors_11 2 rfl rfl)
theorem dX6_errors_259 : decode cX6_errors 259 = .ok (.if_icmp .ne 7, 3) := dk_160 0 7 (dk_at dksX6_errors_11 3 rfl rfl)
theorem dX6_errors_262 : decode cX6_errors 262 = .ok (.iconst 0, 1) := dk_3 (dk_at dksX6_errors_11 6 rfl rfl)
theorem dX6_errors_263 : decode cX6_errors 263 = .ok (.goto 4, 3) := dk_167 0 4 (dk_at dksX6_errors_11 7 rfl rfl)
theorem dX6_errors_266 : decode cX6_errors 266 = .ok (.iconst 1, 1) := dk_4 (dk_at dksX6_errors_11 10 rfl rfl)
theorem dX6_errors_267 : decode cX6_errors 267 = .ok (.iadd, 1) := dk_96 (dk_at dksX6_errors_11 11 rfl rfl)
theorem dX6_errors_268 : decode cX6_errors 268 = .ok (.istore_n 1, 1) := dk_60 (dk_at dksX6_errors_11 12 rfl rfl)
theorem dX6_errors_269 : decode cX6_errors 269 = .ok (.aload_n 0, 1) := dk_42 (dk_at dksX6_errors_11 13 rfl rfl)
theorem dX6_errors_270 : decode cX6_errors 270 = .ok (.iload_n 1, 1) := dk_27 (dk_at dksX6_errors_11 14 rfl rfl)
theorem dX6_errors_271 : decode cX6_errors 271 = .ok (.invokevirtual 215, 3) := dk_182 0 215 (dk_at dksX6_errors_11 15 rfl rfl)
theorem dX6_errors_274 : decode cX6_errors 274 = .ok (.ireturn, 1) := dk_172 (dk_at dksX6_errors_11 18 rfl rfl)
abbrev cX6_isRowAsLies : ByteArray := prog_15_method_86_code
def yX6_isRowAsLies : MethodName := ⟨RX6, "isRowAsLies", "()Z"⟩
def dkwX6_isRowAsLies_1 : List UInt8 := [180, 0, 33, 28, 46, 160, 0, 7, 4, 167, 0, 4, 3, 60, 132, 2, 1, 167, 255, 220, 27, 172]
abbrev dktX6_isRowAsLies_1 : List UInt8 := dkwX6_isRowAsLies_1 ++ []
def dkwX6_isRowAsLies_0 : List UInt8 := [4, 60, 3, 61, 28, 42, 180, 0, 170, 162, 0, 34, 27, 153, 0, 22, 42, 180, 0, 128, 28, 46, 42]
abbrev dktX6_isRowAsLies_0 : List UInt8 := dkwX6_isRowAsLies_0 ++ dktX6_isRowAsLies_1
theorem dksX6_isRowAsLies_0 : cX6_isRowAsLies.data.toList.drop 0 = dktX6_isRowAsLies_0 := by decide +kernel
theorem dksX6_isRowAsLies_1 : cX6_isRowAsLies.data.toList.drop 23 = dktX6_isRowAsLies_1 := dk_seg dksX6_isRowAsLies_0 23 rfl rfl
theorem dX6_isRowAsLies_0 : decode cX6_isRowAsLies 0 = .ok (.iconst 1, 1) := dk_4 (dk_at dksX6_isRowAsLies_0 0 rfl rfl)
theorem dX6_isRowAsLies_1 : decode cX6_isRowAsLies 1 = .ok (.istore_n 1, 1) := dk_60 (dk_at dksX6_isRowAsLies_0 1 rfl rfl)
theorem dX6_isRowAsLies_2 : decode cX6_isRowAsLies 2 = .ok (.iconst 0, 1) := dk_3 (dk_at dksX6_isRowAsLies_0 2 rfl rfl)
theorem dX6_isRowAsLies_3 : decode cX6_isRowAsLies 3 = .ok (.istore_n 2, 1) := dk_61 (dk_at dksX6_isRowAsLies_0 3 rfl rfl)
theorem dX6_isRowAsLies_4 : decode cX6_isRowAsLies 4 = .ok (.iload_n 2, 1) := dk_28 (dk_at dksX6_isRowAsLies_0 4 rfl rfl)
theorem dX6_isRowAsLies_5 : decode cX6_isRowAsLies 5 = .ok (.aload_n 0, 1) := dk_42 (dk_at dksX6_isRowAsLies_0 5 rfl rfl)
theorem dX6_isRowAsLies_6 : decode cX6_isRowAsLies 6 = .ok (.getfield 170, 3) := dk_180 0 170 (dk_at dksX6_isRowAsLies_0 6 rfl rfl)
theorem dX6_isRowAsLies_9 : decode cX6_isRowAsLies 9 = .ok (.if_icmp .ge 34, 3) := dk_162 0 34 (dk_at dksX6_isRowAsLies_0 9 rfl rfl)
theorem dX6_isRowAsLies_12 : decode cX6_isRowAsLies 12 = .ok (.iload_n 1, 1) := dk_27 (dk_at dksX6_isRowAsLies_0 12 rfl rfl)
theorem dX6_isRowAsLies_13 : decode cX6_isRowAsLies 13 = .ok (.ifCond .eq 22, 3) := dk_153 0 22 (dk_at dksX6_isRowAsLies_0 13 rfl rfl)
theorem dX6_isRowAsLies_16 : decode cX6_isRowAsLies 16 = .ok (.aload_n 0, 1) := dk_42 (dk_at dksX6_isRowAsLies_0 16 rfl rfl)
theorem dX6_isRowAsLies_17 : decode cX6_isRowAsLies 17 = .ok (.getfield 128, 3) := dk_180 0 128 (dk_at dksX6_isRowAsLies_0 17 rfl rfl)
theorem dX6_isRowAsLies_20 : decode cX6_isRowAsLies 20 = .ok (.iload_n 2, 1) := dk_28 (dk_at dksX6_isRowAsLies_0 20 rfl rfl)
theorem dX6_isRowAsLies_21 : decode cX6_isRowAsLies 21 = .ok (.iaload, 1) := dk_46 (dk_at dksX6_isRowAsLies_0 21 rfl rfl)
theorem dX6_isRowAsLies_22 : decode cX6_isRowAsLies 22 = .ok (.aload_n 0, 1) := dk_42 (dk_at dksX6_isRowAsLies_0 22 rfl rfl)
theorem dX6_isRowAsLies_23 : decode cX6_isRowAsLies 23 = .ok (.getfield 33, 3) := dk_180 0 33 (dk_at dksX6_isRowAsLies_1 0 rfl rfl)
theorem dX6_isRowAsLies_26 : decode cX6_isRowAsLies 26 = .ok (.iload_n 2, 1) := dk_28 (dk_at dksX6_isRowAsLies_1 3 rfl rfl)
theorem dX6_isRowAsLies_27 : decode cX6_isRowAsLies 27 = .ok (.iaload, 1) := dk_46 (dk_at dksX6_isRowAsLies_1 4 rfl rfl)
theorem dX6_isRowAsLies_28 : decode cX6_isRowAsLies 28 = .ok (.if_icmp .ne 7, 3) := dk_160 0 7 (dk_at dksX6_isRowAsLies_1 5 rfl rfl)
theorem dX6_isRowAsLies_31 : decode cX6_isRowAsLies 31 = .ok (.iconst 1, 1) := dk_4 (dk_at dksX6_isRowAsLies_1 8 rfl rfl)
theorem dX6_isRowAsLies_32 : decode cX6_isRowAsLies 32 = .ok (.goto 4, 3) := dk_167 0 4 (dk_at dksX6_isRowAsLies_1 9 rfl rfl)
theorem dX6_isRowAsLies_35 : decode cX6_isRowAsLies 35 = .ok (.iconst 0, 1) := dk_3 (dk_at dksX6_isRowAsLies_1 12 rfl rfl)
theorem dX6_isRowAsLies_36 : decode cX6_isRowAsLies 36 = .ok (.istore_n 1, 1) := dk_60 (dk_at dksX6_isRowAsLies_1 13 rfl rfl)
theorem dX6_isRowAsLies_37 : decode cX6_isRowAsLies 37 = .ok (.iinc 2 1, 3) := dk_132 2 1 (dk_at dksX6_isRowAsLies_1 14 rfl rfl)
theorem dX6_isRowAsLies_40 : decode cX6_isRowAsLies 40 = .ok (.goto (-36), 3) := dk_167 255 220 (dk_at dksX6_isRowAsLies_1 17 rfl rfl)
theorem dX6_isRowAsLies_43 : decode cX6_isRowAsLies 43 = .ok (.iload_n 1, 1) := dk_27 (dk_at dksX6_isRowAsLies_1 20 rfl rfl)
theorem dX6_isRowAsLies_44 : decode cX6_isRowAsLies 44 = .ok (.ireturn, 1) := dk_172 (dk_at dksX6_isRowAsLies_1 21 rfl rfl)
theorem q136 : (Jvm.Cond.initialized "SlidingtrayModel") ∈ lw_all := lw_g (lw_at lw_m1 35 rfl) rfl
theorem q299 : (Jvm.Cond.selects "SlidingtrayModel" ({ cls := "java/lang/Object", name := "getClass", desc := "()Ljava/lang/Class;" } : Jvm.MethodName) ({ cls := "java/lang/Object", name := "getClass", desc := "()Ljava/lang/Class;" } : Jvm.MethodName)) ∈ lw_all := lw_g (lw_at lw_m1 198 rfl) rfl
theorem q862 : (Jvm.Cond.selects "SlidingtrayModel" ({ cls := "java/lang/Object", name := "equals", desc := "(Ljava/lang/Object;)Z" } : Jvm.MethodName) ({ cls := "java/lang/Object", name := "equals", desc := "(Ljava/lang/Object;)Z" } : Jvm.MethodName)) ∈ lw_all := lw_g (lw_at lw_m4 41 rfl) rfl
theorem q2724 : (Jvm.Cond.instantiable "SlidingtrayModel" (67 : Nat)) ∈ lw_all := lw_g (lw_at lw_m11 223 rfl) rfl
theorem q2726 : (Jvm.Cond.instanceMethod ({ cls := "SlidingtrayModel", name := "<init>", desc := "()V" } : Jvm.MethodName)) ∈ lw_all := lw_g (lw_at lw_m11 225 rfl) rfl
theorem q2727 : (Jvm.Cond.code ({ cls := "SlidingtrayModel", name := "<init>", desc := "()V" } : Jvm.MethodName) prog_15_method_1_code (1 : Nat) (Option.none : Option Jvm.ClassFile.FieldType)) ∈ lw_all := lw_g (lw_at lw_m11 226 rfl) rfl
theorem q2728 : (Jvm.Cond.methodLink "SlidingtrayModel" (1 : Nat) ({ cls := "java/lang/Object", name := "<init>", desc := "()V" } : Jvm.MethodName)) ∈ lw_all := lw_g (lw_at lw_m11 227 rfl) rfl
theorem q2729 : (Jvm.Cond.constant "SlidingtrayModel" (102 : Nat) (65616 : Int32)) ∈ lw_all := lw_g (lw_at lw_m11 228 rfl) rfl
theorem q2730 : (Jvm.Cond.methodLink "SlidingtrayModel" (164 : Nat) ({ cls := "SlidingtrayModel", name := "makes", desc := "()V" } : Jvm.MethodName)) ∈ lw_all := lw_g (lw_at lw_m11 229 rfl) rfl
theorem q2731 : (Jvm.Cond.privateMethod ({ cls := "SlidingtrayModel", name := "makes", desc := "()V" } : Jvm.MethodName)) ∈ lw_tbl := lw_at lw_m11 230 rfl
theorem q2732 : (Jvm.Cond.instanceMethod ({ cls := "SlidingtrayModel", name := "makes", desc := "()V" } : Jvm.MethodName)) ∈ lw_all := lw_g (lw_at lw_m11 231 rfl) rfl
theorem q2733 : (Jvm.Cond.code ({ cls := "SlidingtrayModel", name := "makes", desc := "()V" } : Jvm.MethodName) prog_15_method_9_code (4 : Nat) (Option.none : Option Jvm.ClassFile.FieldType)) ∈ lw_all := lw_g (lw_at lw_m11 232 rfl) rfl
theorem q2734 : (Jvm.Cond.methodLink "SlidingtrayModel" (173 : Nat) ({ cls := "SlidingtrayModel", name := "cellBeside", desc := "(II)I" } : Jvm.MethodName)) ∈ lw_all := lw_g (lw_at lw_m11 233 rfl) rfl
theorem q2735 : (Jvm.Cond.privateMethod ({ cls := "SlidingtrayModel", name := "cellBeside", desc := "(II)I" } : Jvm.MethodName)) ∈ lw_tbl := lw_at lw_m11 234 rfl
theorem q2736 : (Jvm.Cond.instanceMethod ({ cls := "SlidingtrayModel", name := "cellBeside", desc := "(II)I" } : Jvm.MethodName)) ∈ lw_all := lw_g (lw_at lw_m11 235 rfl) rfl
theorem q2737 : (Jvm.Cond.code ({ cls := "SlidingtrayModel", name := "cellBeside", desc := "(II)I" } : Jvm.MethodName) prog_15_method_8_code (5 : Nat) (Option.some Jvm.ClassFile.FieldType.int)) ∈ lw_all := lw_g (lw_at lw_m11 236 rfl) rfl
theorem q2738 : (Jvm.Cond.methodLink "SlidingtrayModel" (177 : Nat) ({ cls := "SlidingtrayModel", name := "walksFrom", desc := "(I)V" } : Jvm.MethodName)) ∈ lw_all := lw_g (lw_at lw_m11 237 rfl) rfl
theorem q2739 : (Jvm.Cond.privateMethod ({ cls := "SlidingtrayModel", name := "walksFrom", desc := "(I)V" } : Jvm.MethodName)) ∈ lw_tbl := lw_at lw_m11 238 rfl
theorem q2740 : (Jvm.Cond.instanceMethod ({ cls := "SlidingtrayModel", name := "walksFrom", desc := "(I)V" } : Jvm.MethodName)) ∈ lw_all := lw_g (lw_at lw_m11 239 rfl) rfl
theorem q2741 : (Jvm.Cond.code ({ cls := "SlidingtrayModel", name := "walksFrom", desc := "(I)V" } : Jvm.MethodName) prog_15_method_10_code (6 : Nat) (Option.none : Option Jvm.ClassFile.FieldType)) ∈ lw_all := lw_g (lw_at lw_m12 0 rfl) rfl
theorem q2742 : (Jvm.Cond.constant "SlidingtrayModel" (199 : Nat) (1000000000 : Int32)) ∈ lw_all := lw_g (lw_at lw_m12 1 rfl) rfl
theorem q2743 : (Jvm.Cond.fieldLink "SlidingtrayModel" (7 : Nat) "SlidingtrayModel" "cellOf" "[I") ∈ lw_all := lw_g (lw_at lw_m12 2 rfl) rfl
theorem q2744 : (Jvm.Cond.fieldLink "SlidingtrayModel" (13 : Nat) "SlidingtrayModel" "openOf" "[I") ∈ lw_all := lw_g (lw_at lw_m12 3 rfl) rfl
theorem q2745 : (Jvm.Cond.fieldLink "SlidingtrayModel" (16 : Nat) "SlidingtrayModel" "near" "[I") ∈ lw_all := lw_g (lw_at lw_m12 4 rfl) rfl
theorem q2746 : (Jvm.Cond.fieldLink "SlidingtrayModel" (19 : Nat) "SlidingtrayModel" "steps" "[I") ∈ lw_all := lw_g (lw_at lw_m12 5 rfl) rfl
theorem q2747 : (Jvm.Cond.fieldLink "SlidingtrayModel" (22 : Nat) "SlidingtrayModel" "isWall" "[Z") ∈ lw_all := lw_g (lw_at lw_m12 6 rfl) rfl
theorem q2748 : (Jvm.Cond.fieldLink "SlidingtrayModel" (26 : Nat) "SlidingtrayModel" "rows" "I") ∈ lw_all := lw_g (lw_at lw_m12 7 rfl) rfl
theorem q2749 : (Jvm.Cond.fieldLink "SlidingtrayModel" (30 : Nat) "SlidingtrayModel" "columns" "I") ∈ lw_all := lw_g (lw_at lw_m12 8 rfl) rfl
theorem q2750 : (Jvm.Cond.fieldLink "SlidingtrayModel" (170 : Nat) "SlidingtrayModel" "open" "I") ∈ lw_all := lw_g (lw_at lw_m12 9 rfl) rfl
theorem q2751 : (Jvm.Cond.fieldLink "SlidingtrayModel" (167 : Nat) "SlidingtrayModel" "thrown" "I") ∈ lw_all := lw_g (lw_at lw_m12 10 rfl) rfl
theorem q2752 : (Jvm.Cond.fieldLink "SlidingtrayModel" (33 : Nat) "SlidingtrayModel" "lies" "[I") ∈ lw_all := lw_g (lw_at lw_m12 11 rfl) rfl
theorem q2753 : (Jvm.Cond.fieldLink "SlidingtrayModel" (36 : Nat) "SlidingtrayModel" "goalOf" "[I") ∈ lw_all := lw_g (lw_at lw_m12 12 rfl) rfl
theorem q2754 : (Jvm.Cond.fieldLink "SlidingtrayModel" (39 : Nat) "SlidingtrayModel" "weight" "[I") ∈ lw_all := lw_g (lw_at lw_m12 13 rfl) rfl
theorem q2755 : (Jvm.Cond.fieldLink "SlidingtrayModel" (42 : Nat) "SlidingtrayModel" "isFree" "[Z") ∈ lw_all := lw_g (lw_at lw_m12 14 rfl) rfl
theorem q2756 : (Jvm.Cond.fieldLink "SlidingtrayModel" (45 : Nat) "SlidingtrayModel" "limit" "I") ∈ lw_all := lw_g (lw_at lw_m12 15 rfl) rfl
theorem q2757 : (Jvm.Cond.fieldLink "SlidingtrayModel" (48 : Nat) "SlidingtrayModel" "back" "[I") ∈ lw_all := lw_g (lw_at lw_m12 16 rfl) rfl
theorem q2758 : (Jvm.Cond.fieldLink "SlidingtrayModel" (51 : Nat) "SlidingtrayModel" "macroMany" "[I") ∈ lw_all := lw_g (lw_at lw_m12 17 rfl) rfl
theorem q2759 : (Jvm.Cond.fieldLink "SlidingtrayModel" (54 : Nat) "SlidingtrayModel" "macro" "[I") ∈ lw_all := lw_g (lw_at lw_m12 18 rfl) rfl
theorem q2760 : (Jvm.Cond.fieldLink "SlidingtrayModel" (184 : Nat) "SlidingtrayModel" "backs" "I") ∈ lw_all := lw_g (lw_at lw_m12 19 rfl) rfl
theorem q2761 : (Jvm.Cond.fieldLink "SlidingtrayModel" (57 : Nat) "SlidingtrayModel" "imageLies" "[I") ∈ lw_all := lw_g (lw_at lw_m12 20 rfl) rfl
theorem q2762 : (Jvm.Cond.fieldLink "SlidingtrayModel" (60 : Nat) "SlidingtrayModel" "imageGoal" "[I") ∈ lw_all := lw_g (lw_at lw_m12 21 rfl) rfl
theorem q2763 : (Jvm.Cond.fieldLink "SlidingtrayModel" (63 : Nat) "SlidingtrayModel" "imageWeight" "[I") ∈ lw_all := lw_g (lw_at lw_m12 22 rfl) rfl
theorem q2764 : (Jvm.Cond.fieldLink "SlidingtrayModel" (66 : Nat) "SlidingtrayModel" "imageFree" "[Z") ∈ lw_all := lw_g (lw_at lw_m12 23 rfl) rfl
theorem q2765 : (Jvm.Cond.fieldLink "SlidingtrayModel" (69 : Nat) "SlidingtrayModel" "isKept" "[Z") ∈ lw_all := lw_g (lw_at lw_m12 24 rfl) rfl
theorem q2766 : (Jvm.Cond.fieldLink "SlidingtrayModel" (72 : Nat) "SlidingtrayModel" "wasWall" "[Z") ∈ lw_all := lw_g (lw_at lw_m12 25 rfl) rfl
theorem q2767 : (Jvm.Cond.fieldLink "SlidingtrayModel" (75 : Nat) "SlidingtrayModel" "isMet" "[Z") ∈ lw_all := lw_g (lw_at lw_m12 26 rfl) rfl
theorem q2768 : (Jvm.Cond.fieldLink "SlidingtrayModel" (78 : Nat) "SlidingtrayModel" "isUsed" "[Z") ∈ lw_all := lw_g (lw_at lw_m12 27 rfl) rfl
theorem q2769 : (Jvm.Cond.fieldLink "SlidingtrayModel" (81 : Nat) "SlidingtrayModel" "lineWeight" "[I") ∈ lw_all := lw_g (lw_at lw_m12 28 rfl) rfl
theorem q2770 : (Jvm.Cond.fieldLink "SlidingtrayModel" (84 : Nat) "SlidingtrayModel" "lineGoal" "[I") ∈ lw_all := lw_g (lw_at lw_m12 29 rfl) rfl
theorem q2771 : (Jvm.Cond.fieldLink "SlidingtrayModel" (87 : Nat) "SlidingtrayModel" "partTile" "[I") ∈ lw_all := lw_g (lw_at lw_m12 30 rfl) rfl
theorem q2772 : (Jvm.Cond.fieldLink "SlidingtrayModel" (90 : Nat) "SlidingtrayModel" "partMany" "[I") ∈ lw_all := lw_g (lw_at lw_m12 31 rfl) rfl
theorem q2773 : (Jvm.Cond.fieldLink "SlidingtrayModel" (93 : Nat) "SlidingtrayModel" "table" "[I") ∈ lw_all := lw_g (lw_at lw_m12 32 rfl) rfl
theorem q2774 : (Jvm.Cond.fieldLink "SlidingtrayModel" (96 : Nat) "SlidingtrayModel" "partAt" "[I") ∈ lw_all := lw_g (lw_at lw_m12 33 rfl) rfl
theorem q2775 : (Jvm.Cond.fieldLink "SlidingtrayModel" (181 : Nat) "SlidingtrayModel" "parts" "I") ∈ lw_all := lw_g (lw_at lw_m12 34 rfl) rfl
theorem q2776 : (Jvm.Cond.fieldLink "SlidingtrayModel" (99 : Nat) "SlidingtrayModel" "goal" "[I") ∈ lw_all := lw_g (lw_at lw_m12 35 rfl) rfl
theorem q2777 : (Jvm.Cond.fieldLink "SlidingtrayModel" (103 : Nat) "SlidingtrayModel" "stateTile" "[I") ∈ lw_all := lw_g (lw_at lw_m12 36 rfl) rfl
theorem q2778 : (Jvm.Cond.fieldLink "SlidingtrayModel" (106 : Nat) "SlidingtrayModel" "stateCost" "[I") ∈ lw_all := lw_g (lw_at lw_m12 37 rfl) rfl
theorem q2779 : (Jvm.Cond.fieldLink "SlidingtrayModel" (109 : Nat) "SlidingtrayModel" "stateEstimate" "[I") ∈ lw_all := lw_g (lw_at lw_m12 38 rfl) rfl
theorem q2780 : (Jvm.Cond.fieldLink "SlidingtrayModel" (112 : Nat) "SlidingtrayModel" "stateFrom" "[I") ∈ lw_all := lw_g (lw_at lw_m12 39 rfl) rfl
theorem q2781 : (Jvm.Cond.fieldLink "SlidingtrayModel" (115 : Nat) "SlidingtrayModel" "stateMove" "[I") ∈ lw_all := lw_g (lw_at lw_m12 40 rfl) rfl
theorem q2782 : (Jvm.Cond.fieldLink "SlidingtrayModel" (118 : Nat) "SlidingtrayModel" "bucket" "[I") ∈ lw_all := lw_g (lw_at lw_m12 41 rfl) rfl
theorem q2783 : (Jvm.Cond.fieldLink "SlidingtrayModel" (121 : Nat) "SlidingtrayModel" "stateRank" "[J") ∈ lw_all := lw_g (lw_at lw_m12 42 rfl) rfl
theorem q2784 : (Jvm.Cond.fieldLink "SlidingtrayModel" (125 : Nat) "SlidingtrayModel" "isTaken" "[Z") ∈ lw_all := lw_g (lw_at lw_m12 43 rfl) rfl
theorem q2785 : (Jvm.Cond.fieldLink "SlidingtrayModel" (307 : Nat) "SlidingtrayModel" "states" "I") ∈ lw_all := lw_g (lw_at lw_m12 44 rfl) rfl
theorem q2786 : (Jvm.Cond.fieldLink "SlidingtrayModel" (128 : Nat) "SlidingtrayModel" "row" "[I") ∈ lw_all := lw_g (lw_at lw_m12 45 rfl) rfl
theorem q2787 : (Jvm.Cond.fieldLink "SlidingtrayModel" (131 : Nat) "SlidingtrayModel" "way" "[I") ∈ lw_all := lw_g (lw_at lw_m12 46 rfl) rfl
theorem q2788 : (Jvm.Cond.fieldLink "SlidingtrayModel" (134 : Nat) "SlidingtrayModel" "aside" "[I") ∈ lw_all := lw_g (lw_at lw_m12 47 rfl) rfl
theorem q2789 : (Jvm.Cond.fieldLink "SlidingtrayModel" (196 : Nat) "SlidingtrayModel" "wayMany" "I") ∈ lw_all := lw_g (lw_at lw_m12 48 rfl) rfl
theorem q2790 : (Jvm.Cond.fieldLink "SlidingtrayModel" (187 : Nat) "SlidingtrayModel" "taken" "I") ∈ lw_all := lw_g (lw_at lw_m12 49 rfl) rfl
theorem q2791 : (Jvm.Cond.fieldLink "SlidingtrayModel" (190 : Nat) "SlidingtrayModel" "rounds" "I") ∈ lw_all := lw_g (lw_at lw_m12 50 rfl) rfl
theorem q2792 : (Jvm.Cond.fieldLink "SlidingtrayModel" (193 : Nat) "SlidingtrayModel" "toldWay" "I") ∈ lw_all := lw_g (lw_at lw_m12 51 rfl) rfl
theorem q2793 : (Jvm.Cond.fieldLink "SlidingtrayModel" (317 : Nat) "SlidingtrayModel" "asideMany" "I") ∈ lw_all := lw_g (lw_at lw_m12 52 rfl) rfl
theorem q2794 : (Jvm.Cond.fieldLink "SlidingtrayModel" (320 : Nat) "SlidingtrayModel" "asideTaken" "I") ∈ lw_all := lw_g (lw_at lw_m12 53 rfl) rfl
theorem q2795 : (Jvm.Cond.fieldLink "SlidingtrayModel" (323 : Nat) "SlidingtrayModel" "asideRounds" "I") ∈ lw_all := lw_g (lw_at lw_m12 54 rfl) rfl
theorem q2796 : (Jvm.Cond.fieldLink "SlidingtrayModel" (359 : Nat) "SlidingtrayModel" "bound" "I") ∈ lw_all := lw_g (lw_at lw_m12 55 rfl) rfl
theorem q2797 : (Jvm.Cond.fieldLink "SlidingtrayModel" (362 : Nat) "SlidingtrayModel" "beyond" "I") ∈ lw_all := lw_g (lw_at lw_m12 56 rfl) rfl
theorem q2798 : (Jvm.Cond.fieldLink "SlidingtrayModel" (356 : Nat) "SlidingtrayModel" "byEstimate" "I") ∈ lw_all := lw_g (lw_at lw_m12 57 rfl) rfl
theorem q2799 : (Jvm.Cond.fieldLink "SlidingtrayModel" (352 : Nat) "SlidingtrayModel" "isRefused" "Z") ∈ lw_all := lw_g (lw_at lw_m12 58 rfl) rfl
theorem q2800 : (Jvm.Cond.fieldLink "SlidingtrayModel" (137 : Nat) "SlidingtrayModel" "nextAt" "[I") ∈ lw_all := lw_g (lw_at lw_m12 59 rfl) rfl
theorem q2801 : (Jvm.Cond.fieldLink "SlidingtrayModel" (140 : Nat) "SlidingtrayModel" "costAt" "[I") ∈ lw_all := lw_g (lw_at lw_m12 60 rfl) rfl
theorem q2802 : (Jvm.Cond.fieldLink "SlidingtrayModel" (143 : Nat) "SlidingtrayModel" "fromAt" "[I") ∈ lw_all := lw_g (lw_at lw_m12 61 rfl) rfl
theorem q2803 : (Jvm.Cond.fieldLink "SlidingtrayModel" (146 : Nat) "SlidingtrayModel" "ringOf" "[I") ∈ lw_all := lw_g (lw_at lw_m12 62 rfl) rfl
theorem q2804 : (Jvm.Cond.fieldLink "SlidingtrayModel" (149 : Nat) "SlidingtrayModel" "costOf" "[I") ∈ lw_all := lw_g (lw_at lw_m12 63 rfl) rfl
theorem q2805 : (Jvm.Cond.fieldLink "SlidingtrayModel" (152 : Nat) "SlidingtrayModel" "nextOf" "[I") ∈ lw_all := lw_g (lw_at lw_m12 64 rfl) rfl
theorem q2806 : (Jvm.Cond.fieldLink "SlidingtrayModel" (155 : Nat) "SlidingtrayModel" "nextCost" "[I") ∈ lw_all := lw_g (lw_at lw_m12 65 rfl) rfl
theorem q2807 : (Jvm.Cond.fieldLink "SlidingtrayModel" (158 : Nat) "SlidingtrayModel" "manyWays" "[I") ∈ lw_all := lw_g (lw_at lw_m12 66 rfl) rfl
theorem q2808 : (Jvm.Cond.fieldLink "SlidingtrayModel" (382 : Nat) "SlidingtrayModel" "all" "I") ∈ lw_all := lw_g (lw_at lw_m12 67 rfl) rfl
theorem q2809 : (Jvm.Cond.fieldLink "SlidingtrayModel" (161 : Nat) "SlidingtrayModel" "estimateOf" "[I") ∈ lw_all := lw_g (lw_at lw_m12 68 rfl) rfl
theorem q2810 : (Jvm.Cond.laysFinal "SlidingtrayModel" "SlidingtrayModel" "cellOf" "[I") ∈ lw_all := lw_g (lw_at lw_m12 69 rfl) rfl
theorem q2811 : (Jvm.Cond.soleField "SlidingtrayModel" "cellOf") ∈ lw_all := lw_g (lw_at lw_m12 70 rfl) rfl
theorem q2812 : (Jvm.Cond.laysFinal "SlidingtrayModel" "SlidingtrayModel" "openOf" "[I") ∈ lw_all := lw_g (lw_at lw_m12 71 rfl) rfl
theorem q2813 : (Jvm.Cond.soleField "SlidingtrayModel" "openOf") ∈ lw_all := lw_g (lw_at lw_m12 72 rfl) rfl
theorem q2814 : (Jvm.Cond.laysFinal "SlidingtrayModel" "SlidingtrayModel" "near" "[I") ∈ lw_all := lw_g (lw_at lw_m12 73 rfl) rfl
theorem q2815 : (Jvm.Cond.soleField "SlidingtrayModel" "near") ∈ lw_all := lw_g (lw_at lw_m12 74 rfl) rfl
theorem q2816 : (Jvm.Cond.laysFinal "SlidingtrayModel" "SlidingtrayModel" "steps" "[I") ∈ lw_all := lw_g (lw_at lw_m12 75 rfl) rfl
theorem q2817 : (Jvm.Cond.soleField "SlidingtrayModel" "steps") ∈ lw_all := lw_g (lw_at lw_m12 76 rfl) rfl
theorem q2818 : (Jvm.Cond.laysFinal "SlidingtrayModel" "SlidingtrayModel" "isWall" "[Z") ∈ lw_all := lw_g (lw_at lw_m12 77 rfl) rfl
theorem q2819 : (Jvm.Cond.soleField "SlidingtrayModel" "isWall") ∈ lw_all := lw_g (lw_at lw_m12 78 rfl) rfl
theorem q2820 : (Jvm.Cond.lays "SlidingtrayModel" "SlidingtrayModel" "rows" "I") ∈ lw_all := lw_g (lw_at lw_m12 79 rfl) rfl
theorem q2821 : (Jvm.Cond.soleField "SlidingtrayModel" "rows") ∈ lw_all := lw_g (lw_at lw_m12 80 rfl) rfl
theorem q2822 : (Jvm.Cond.lays "SlidingtrayModel" "SlidingtrayModel" "columns" "I") ∈ lw_all := lw_g (lw_at lw_m12 81 rfl) rfl
theorem q2823 : (Jvm.Cond.soleField "SlidingtrayModel" "columns") ∈ lw_all := lw_g (lw_at lw_m12 82 rfl) rfl
theorem q2824 : (Jvm.Cond.lays "SlidingtrayModel" "SlidingtrayModel" "open" "I") ∈ lw_all := lw_g (lw_at lw_m12 83 rfl) rfl
theorem q2825 : (Jvm.Cond.soleField "SlidingtrayModel" "open") ∈ lw_all := lw_g (lw_at lw_m12 84 rfl) rfl
theorem q2826 : (Jvm.Cond.lays "SlidingtrayModel" "SlidingtrayModel" "thrown" "I") ∈ lw_all := lw_g (lw_at lw_m12 85 rfl) rfl
theorem q2827 : (Jvm.Cond.soleField "SlidingtrayModel" "thrown") ∈ lw_all := lw_g (lw_at lw_m12 86 rfl) rfl
theorem q2828 : (Jvm.Cond.laysFinal "SlidingtrayModel" "SlidingtrayModel" "lies" "[I") ∈ lw_all := lw_g (lw_at lw_m12 87 rfl) rfl
theorem q2829 : (Jvm.Cond.soleField "SlidingtrayModel" "lies") ∈ lw_all := lw_g (lw_at lw_m12 88 rfl) rfl
theorem q2830 : (Jvm.Cond.laysFinal "SlidingtrayModel" "SlidingtrayModel" "goalOf" "[I") ∈ lw_all := lw_g (lw_at lw_m12 89 rfl) rfl
theorem q2831 : (Jvm.Cond.soleField "SlidingtrayModel" "goalOf") ∈ lw_all := lw_g (lw_at lw_m12 90 rfl) rfl
theorem q2832 : (Jvm.Cond.laysFinal "SlidingtrayModel" "SlidingtrayModel" "weight" "[I") ∈ lw_all := lw_g (lw_at lw_m12 91 rfl) rfl
theorem q2833 : (Jvm.Cond.soleField "SlidingtrayModel" "weight") ∈ lw_all := lw_g (lw_at lw_m12 92 rfl) rfl
theorem q2834 : (Jvm.Cond.laysFinal "SlidingtrayModel" "SlidingtrayModel" "isFree" "[Z") ∈ lw_all := lw_g (lw_at lw_m12 93 rfl) rfl
theorem q2835 : (Jvm.Cond.soleField "SlidingtrayModel" "isFree") ∈ lw_all := lw_g (lw_at lw_m12 94 rfl) rfl
theorem q2836 : (Jvm.Cond.lays "SlidingtrayModel" "SlidingtrayModel" "limit" "I") ∈ lw_all := lw_g (lw_at lw_m12 95 rfl) rfl
theorem q2837 : (Jvm.Cond.soleField "SlidingtrayModel" "limit") ∈ lw_all := lw_g (lw_at lw_m12 96 rfl) rfl
theorem q2838 : (Jvm.Cond.laysFinal "SlidingtrayModel" "SlidingtrayModel" "back" "[I") ∈ lw_all := lw_g (lw_at lw_m12 97 rfl) rfl
theorem q2839 : (Jvm.Cond.soleField "SlidingtrayModel" "back") ∈ lw_all := lw_g (lw_at lw_m12 98 rfl) rfl
theorem q2840 : (Jvm.Cond.laysFinal "SlidingtrayModel" "SlidingtrayModel" "macroMany" "[I") ∈ lw_all := lw_g (lw_at lw_m12 99 rfl) rfl
theorem q2841 : (Jvm.Cond.soleField "SlidingtrayModel" "macroMany") ∈ lw_all := lw_g (lw_at lw_m12 100 rfl) rfl
theorem q2842 : (Jvm.Cond.laysFinal "SlidingtrayModel" "SlidingtrayModel" "macro" "[I") ∈ lw_all := lw_g (lw_at lw_m12 101 rfl) rfl
theorem q2843 : (Jvm.Cond.soleField "SlidingtrayModel" "macro") ∈ lw_all := lw_g (lw_at lw_m12 102 rfl) rfl
theorem q2844 : (Jvm.Cond.lays "SlidingtrayModel" "SlidingtrayModel" "backs" "I") ∈ lw_all := lw_g (lw_at lw_m12 103 rfl) rfl
theorem q2845 : (Jvm.Cond.soleField "SlidingtrayModel" "backs") ∈ lw_all := lw_g (lw_at lw_m12 104 rfl) rfl
theorem q2846 : (Jvm.Cond.laysFinal "SlidingtrayModel" "SlidingtrayModel" "imageLies" "[I") ∈ lw_all := lw_g (lw_at lw_m12 105 rfl) rfl
theorem q2847 : (Jvm.Cond.soleField "SlidingtrayModel" "imageLies") ∈ lw_all := lw_g (lw_at lw_m12 106 rfl) rfl
theorem q2848 : (Jvm.Cond.laysFinal "SlidingtrayModel" "SlidingtrayModel" "imageGoal" "[I") ∈ lw_all := lw_g (lw_at lw_m12 107 rfl) rfl
theorem q2849 : (Jvm.Cond.soleField "SlidingtrayModel" "imageGoal") ∈ lw_all := lw_g (lw_at lw_m12 108 rfl) rfl
theorem q2850 : (Jvm.Cond.laysFinal "SlidingtrayModel" "SlidingtrayModel" "imageWeight" "[I") ∈ lw_all := lw_g (lw_at lw_m12 109 rfl) rfl
theorem q2851 : (Jvm.Cond.soleField "SlidingtrayModel" "imageWeight") ∈ lw_all := lw_g (lw_at lw_m12 110 rfl) rfl
theorem q2852 : (Jvm.Cond.laysFinal "SlidingtrayModel" "SlidingtrayModel" "imageFree" "[Z") ∈ lw_all := lw_g (lw_at lw_m12 111 rfl) rfl
theorem q2853 : (Jvm.Cond.soleField "SlidingtrayModel" "imageFree") ∈ lw_all := lw_g (lw_at lw_m12 112 rfl) rfl
theorem q2854 : (Jvm.Cond.laysFinal "SlidingtrayModel" "SlidingtrayModel" "isKept" "[Z") ∈ lw_all := lw_g (lw_at lw_m12 113 rfl) rfl
theorem q2855 : (Jvm.Cond.soleField "SlidingtrayModel" "isKept") ∈ lw_all := lw_g (lw_at lw_m12 114 rfl) rfl
theorem q2856 : (Jvm.Cond.laysFinal "SlidingtrayModel" "SlidingtrayModel" "wasWall" "[Z") ∈ lw_all := lw_g (lw_at lw_m12 115 rfl) rfl
theorem q2857 : (Jvm.Cond.soleField "SlidingtrayModel" "wasWall") ∈ lw_all := lw_g (lw_at lw_m12 116 rfl) rfl
theorem q2858 : (Jvm.Cond.laysFinal "SlidingtrayModel" "SlidingtrayModel" "isMet" "[Z") ∈ lw_all := lw_g (lw_at lw_m12 117 rfl) rfl
theorem q2859 : (Jvm.Cond.soleField "SlidingtrayModel" "isMet") ∈ lw_all := lw_g (lw_at lw_m12 118 rfl) rfl
theorem q2860 : (Jvm.Cond.laysFinal "SlidingtrayModel" "SlidingtrayModel" "isUsed" "[Z") ∈ lw_all := lw_g (lw_at lw_m12 119 rfl) rfl
theorem q2861 : (Jvm.Cond.soleField "SlidingtrayModel" "isUsed") ∈ lw_all := lw_g (lw_at lw_m12 120 rfl) rfl
theorem q2862 : (Jvm.Cond.laysFinal "SlidingtrayModel" "SlidingtrayModel" "lineWeight" "[I") ∈ lw_all := lw_g (lw_at lw_m12 121 rfl) rfl
theorem q2863 : (Jvm.Cond.soleField "SlidingtrayModel" "lineWeight") ∈ lw_all := lw_g (lw_at lw_m12 122 rfl) rfl
theorem q2864 : (Jvm.Cond.laysFinal "SlidingtrayModel" "SlidingtrayModel" "lineGoal" "[I") ∈ lw_all := lw_g (lw_at lw_m12 123 rfl) rfl
theorem q2865 : (Jvm.Cond.soleField "SlidingtrayModel" "lineGoal") ∈ lw_all := lw_g (lw_at lw_m12 124 rfl) rfl
theorem q2866 : (Jvm.Cond.laysFinal "SlidingtrayModel" "SlidingtrayModel" "partTile" "[I") ∈ lw_all := lw_g (lw_at lw_m12 125 rfl) rfl
theorem q2867 : (Jvm.Cond.soleField "SlidingtrayModel" "partTile") ∈ lw_all := lw_g (lw_at lw_m12 126 rfl) rfl
theorem q2868 : (Jvm.Cond.laysFinal "SlidingtrayModel" "SlidingtrayModel" "partMany" "[I") ∈ lw_all := lw_g (lw_at lw_m12 127 rfl) rfl
theorem q2869 : (Jvm.Cond.soleField "SlidingtrayModel" "partMany") ∈ lw_all := lw_g (lw_at lw_m12 128 rfl) rfl
theorem q2870 : (Jvm.Cond.laysFinal "SlidingtrayModel" "SlidingtrayModel" "table" "[I") ∈ lw_all := lw_g (lw_at lw_m12 129 rfl) rfl
theorem q2871 : (Jvm.Cond.soleField "SlidingtrayModel" "table") ∈ lw_all := lw_g (lw_at lw_m12 130 rfl) rfl
theorem q2872 : (Jvm.Cond.laysFinal "SlidingtrayModel" "SlidingtrayModel" "partAt" "[I") ∈ lw_all := lw_g (lw_at lw_m12 131 rfl) rfl
theorem q2873 : (Jvm.Cond.soleField "SlidingtrayModel" "partAt") ∈ lw_all := lw_g (lw_at lw_m12 132 rfl) rfl
theorem q2874 : (Jvm.Cond.lays "SlidingtrayModel" "SlidingtrayModel" "parts" "I") ∈ lw_all := lw_g (lw_at lw_m12 133 rfl) rfl
theorem q2875 : (Jvm.Cond.soleField "SlidingtrayModel" "parts") ∈ lw_all := lw_g (lw_at lw_m12 134 rfl) rfl
theorem q2876 : (Jvm.Cond.laysFinal "SlidingtrayModel" "SlidingtrayModel" "goal" "[I") ∈ lw_all := lw_g (lw_at lw_m12 135 rfl) rfl
theorem q2877 : (Jvm.Cond.soleField "SlidingtrayModel" "goal") ∈ lw_all := lw_g (lw_at lw_m12 136 rfl) rfl
theorem q2878 : (Jvm.Cond.laysFinal "SlidingtrayModel" "SlidingtrayModel" "stateTile" "[I") ∈ lw_all := lw_g (lw_at lw_m12 137 rfl) rfl
theorem q2879 : (Jvm.Cond.soleField "SlidingtrayModel" "stateTile") ∈ lw_all := lw_g (lw_at lw_m12 138 rfl) rfl
theorem q2880 : (Jvm.Cond.laysFinal "SlidingtrayModel" "SlidingtrayModel" "stateCost" "[I") ∈ lw_all := lw_g (lw_at lw_m12 139 rfl) rfl
theorem q2881 : (Jvm.Cond.soleField "SlidingtrayModel" "stateCost") ∈ lw_all := lw_g (lw_at lw_m12 140 rfl) rfl
theorem q2882 : (Jvm.Cond.laysFinal "SlidingtrayModel" "SlidingtrayModel" "stateEstimate" "[I") ∈ lw_all := lw_g (lw_at lw_m12 141 rfl) rfl
theorem q2883 : (Jvm.Cond.soleField "SlidingtrayModel" "stateEstimate") ∈ lw_all := lw_g (lw_at lw_m12 142 rfl) rfl
theorem q2884 : (Jvm.Cond.laysFinal "SlidingtrayModel" "SlidingtrayModel" "stateFrom" "[I") ∈ lw_all := lw_g (lw_at lw_m12 143 rfl) rfl
theorem q2885 : (Jvm.Cond.soleField "SlidingtrayModel" "stateFrom") ∈ lw_all := lw_g (lw_at lw_m12 144 rfl) rfl
theorem q2886 : (Jvm.Cond.laysFinal "SlidingtrayModel" "SlidingtrayModel" "stateMove" "[I") ∈ lw_all := lw_g (lw_at lw_m12 145 rfl) rfl
theorem q2887 : (Jvm.Cond.soleField "SlidingtrayModel" "stateMove") ∈ lw_all := lw_g (lw_at lw_m12 146 rfl) rfl
theorem q2888 : (Jvm.Cond.laysFinal "SlidingtrayModel" "SlidingtrayModel" "bucket" "[I") ∈ lw_all := lw_g (lw_at lw_m12 147 rfl) rfl
theorem q2889 : (Jvm.Cond.soleField "SlidingtrayModel" "bucket") ∈ lw_all := lw_g (lw_at lw_m12 148 rfl) rfl
theorem q2890 : (Jvm.Cond.laysFinal "SlidingtrayModel" "SlidingtrayModel" "stateRank" "[J") ∈ lw_all := lw_g (lw_at lw_m12 149 rfl) rfl
theorem q2891 : (Jvm.Cond.soleField "SlidingtrayModel" "stateRank") ∈ lw_all := lw_g (lw_at lw_m12 150 rfl) rfl
theorem q2892 : (Jvm.Cond.laysFinal "SlidingtrayModel" "SlidingtrayModel" "isTaken" "[Z") ∈ lw_all := lw_g (lw_at lw_m12 151 rfl) rfl
theorem q2893 : (Jvm.Cond.soleField "SlidingtrayModel" "isTaken") ∈ lw_all := lw_g (lw_at lw_m12 152 rfl) rfl
theorem q2894 : (Jvm.Cond.lays "SlidingtrayModel" "SlidingtrayModel" "states" "I") ∈ lw_all := lw_g (lw_at lw_m12 153 rfl) rfl
theorem q2895 : (Jvm.Cond.soleField "SlidingtrayModel" "states") ∈ lw_all := lw_g (lw_at lw_m12 154 rfl) rfl
theorem q2896 : (Jvm.Cond.laysFinal "SlidingtrayModel" "SlidingtrayModel" "row" "[I") ∈ lw_all := lw_g (lw_at lw_m12 155 rfl) rfl
theorem q2897 : (Jvm.Cond.soleField "SlidingtrayModel" "row") ∈ lw_all := lw_g (lw_at lw_m12 156 rfl) rfl
theorem q2898 : (Jvm.Cond.laysFinal "SlidingtrayModel" "SlidingtrayModel" "way" "[I") ∈ lw_all := lw_g (lw_at lw_m12 157 rfl) rfl
theorem q2899 : (Jvm.Cond.soleField "SlidingtrayModel" "way") ∈ lw_all := lw_g (lw_at lw_m12 158 rfl) rfl
theorem q2900 : (Jvm.Cond.laysFinal "SlidingtrayModel" "SlidingtrayModel" "aside" "[I") ∈ lw_all := lw_g (lw_at lw_m12 159 rfl) rfl
theorem q2901 : (Jvm.Cond.soleField "SlidingtrayModel" "aside") ∈ lw_all := lw_g (lw_at lw_m12 160 rfl) rfl
theorem q2902 : (Jvm.Cond.lays "SlidingtrayModel" "SlidingtrayModel" "wayMany" "I") ∈ lw_all := lw_g (lw_at lw_m12 161 rfl) rfl
theorem q2903 : (Jvm.Cond.soleField "SlidingtrayModel" "wayMany") ∈ lw_all := lw_g (lw_at lw_m12 162 rfl) rfl
theorem q2904 : (Jvm.Cond.lays "SlidingtrayModel" "SlidingtrayModel" "taken" "I") ∈ lw_all := lw_g (lw_at lw_m12 163 rfl) rfl
theorem q2905 : (Jvm.Cond.soleField "SlidingtrayModel" "taken") ∈ lw_all := lw_g (lw_at lw_m12 164 rfl) rfl
theorem q2906 : (Jvm.Cond.lays "SlidingtrayModel" "SlidingtrayModel" "rounds" "I") ∈ lw_all := lw_g (lw_at lw_m12 165 rfl) rfl
theorem q2907 : (Jvm.Cond.soleField "SlidingtrayModel" "rounds") ∈ lw_all := lw_g (lw_at lw_m12 166 rfl) rfl
theorem q2908 : (Jvm.Cond.lays "SlidingtrayModel" "SlidingtrayModel" "toldWay" "I") ∈ lw_all := lw_g (lw_at lw_m12 167 rfl) rfl
theorem q2909 : (Jvm.Cond.soleField "SlidingtrayModel" "toldWay") ∈ lw_all := lw_g (lw_at lw_m12 168 rfl) rfl
theorem q2910 : (Jvm.Cond.lays "SlidingtrayModel" "SlidingtrayModel" "asideMany" "I") ∈ lw_all := lw_g (lw_at lw_m12 169 rfl) rfl
theorem q2911 : (Jvm.Cond.soleField "SlidingtrayModel" "asideMany") ∈ lw_all := lw_g (lw_at lw_m12 170 rfl) rfl
theorem q2912 : (Jvm.Cond.lays "SlidingtrayModel" "SlidingtrayModel" "asideTaken" "I") ∈ lw_all := lw_g (lw_at lw_m12 171 rfl) rfl
theorem q2913 : (Jvm.Cond.soleField "SlidingtrayModel" "asideTaken") ∈ lw_all := lw_g (lw_at lw_m12 172 rfl) rfl
theorem q2914 : (Jvm.Cond.lays "SlidingtrayModel" "SlidingtrayModel" "asideRounds" "I") ∈ lw_all := lw_g (lw_at lw_m12 173 rfl) rfl
theorem q2915 : (Jvm.Cond.soleField "SlidingtrayModel" "asideRounds") ∈ lw_all := lw_g (lw_at lw_m12 174 rfl) rfl
theorem q2916 : (Jvm.Cond.lays "SlidingtrayModel" "SlidingtrayModel" "bound" "I") ∈ lw_all := lw_g (lw_at lw_m12 175 rfl) rfl
theorem q2917 : (Jvm.Cond.soleField "SlidingtrayModel" "bound") ∈ lw_all := lw_g (lw_at lw_m12 176 rfl) rfl
theorem q2918 : (Jvm.Cond.lays "SlidingtrayModel" "SlidingtrayModel" "beyond" "I") ∈ lw_all := lw_g (lw_at lw_m12 177 rfl) rfl
theorem q2919 : (Jvm.Cond.soleField "SlidingtrayModel" "beyond") ∈ lw_all := lw_g (lw_at lw_m12 178 rfl) rfl
theorem q2920 : (Jvm.Cond.lays "SlidingtrayModel" "SlidingtrayModel" "byEstimate" "I") ∈ lw_all := lw_g (lw_at lw_m12 179 rfl) rfl
theorem q2921 : (Jvm.Cond.soleField "SlidingtrayModel" "byEstimate") ∈ lw_all := lw_g (lw_at lw_m12 180 rfl) rfl
theorem q2922 : (Jvm.Cond.lays "SlidingtrayModel" "SlidingtrayModel" "isRefused" "Z") ∈ lw_all := lw_g (lw_at lw_m12 181 rfl) rfl
theorem q2923 : (Jvm.Cond.soleField "SlidingtrayModel" "isRefused") ∈ lw_all := lw_g (lw_at lw_m12 182 rfl) rfl
theorem q2924 : (Jvm.Cond.laysFinal "SlidingtrayModel" "SlidingtrayModel" "nextAt" "[I") ∈ lw_all := lw_g (lw_at lw_m12 183 rfl) rfl
theorem q2925 : (Jvm.Cond.soleField "SlidingtrayModel" "nextAt") ∈ lw_all := lw_g (lw_at lw_m12 184 rfl) rfl
theorem q2926 : (Jvm.Cond.laysFinal "SlidingtrayModel" "SlidingtrayModel" "costAt" "[I") ∈ lw_all := lw_g (lw_at lw_m12 185 rfl) rfl
theorem q2927 : (Jvm.Cond.soleField "SlidingtrayModel" "costAt") ∈ lw_all := lw_g (lw_at lw_m12 186 rfl) rfl
theorem q2928 : (Jvm.Cond.laysFinal "SlidingtrayModel" "SlidingtrayModel" "fromAt" "[I") ∈ lw_all := lw_g (lw_at lw_m12 187 rfl) rfl
theorem q2929 : (Jvm.Cond.soleField "SlidingtrayModel" "fromAt") ∈ lw_all := lw_g (lw_at lw_m12 188 rfl) rfl
theorem q2930 : (Jvm.Cond.laysFinal "SlidingtrayModel" "SlidingtrayModel" "ringOf" "[I") ∈ lw_all := lw_g (lw_at lw_m12 189 rfl) rfl
theorem q2931 : (Jvm.Cond.soleField "SlidingtrayModel" "ringOf") ∈ lw_all := lw_g (lw_at lw_m12 190 rfl) rfl
theorem q2932 : (Jvm.Cond.laysFinal "SlidingtrayModel" "SlidingtrayModel" "costOf" "[I") ∈ lw_all := lw_g (lw_at lw_m12 191 rfl) rfl
theorem q2933 : (Jvm.Cond.soleField "SlidingtrayModel" "costOf") ∈ lw_all := lw_g (lw_at lw_m12 192 rfl) rfl
theorem q2934 : (Jvm.Cond.laysFinal "SlidingtrayModel" "SlidingtrayModel" "nextOf" "[I") ∈ lw_all := lw_g (lw_at lw_m12 193 rfl) rfl
theorem q2935 : (Jvm.Cond.soleField "SlidingtrayModel" "nextOf") ∈ lw_all := lw_g (lw_at lw_m12 194 rfl) rfl
theorem q2936 : (Jvm.Cond.laysFinal "SlidingtrayModel" "SlidingtrayModel" "nextCost" "[I") ∈ lw_all := lw_g (lw_at lw_m12 195 rfl) rfl
theorem q2937 : (Jvm.Cond.soleField "SlidingtrayModel" "nextCost") ∈ lw_all := lw_g (lw_at lw_m12 196 rfl) rfl
theorem q2938 : (Jvm.Cond.laysFinal "SlidingtrayModel" "SlidingtrayModel" "manyWays" "[I") ∈ lw_all := lw_g (lw_at lw_m12 197 rfl) rfl
theorem q2939 : (Jvm.Cond.soleField "SlidingtrayModel" "manyWays") ∈ lw_all := lw_g (lw_at lw_m12 198 rfl) rfl
theorem q2940 : (Jvm.Cond.lays "SlidingtrayModel" "SlidingtrayModel" "all" "I") ∈ lw_all := lw_g (lw_at lw_m12 199 rfl) rfl
theorem q2941 : (Jvm.Cond.soleField "SlidingtrayModel" "all") ∈ lw_all := lw_g (lw_at lw_m12 200 rfl) rfl
theorem q2942 : (Jvm.Cond.laysFinal "SlidingtrayModel" "SlidingtrayModel" "estimateOf" "[I") ∈ lw_all := lw_g (lw_at lw_m12 201 rfl) rfl
theorem q2943 : (Jvm.Cond.soleField "SlidingtrayModel" "estimateOf") ∈ lw_all := lw_g (lw_at lw_m12 202 rfl) rfl
theorem q2944 : (Jvm.Cond.superclass "SlidingtrayModel" "java/lang/Object") ∈ lw_all := lw_g (lw_at lw_m12 203 rfl) rfl
theorem q2947 : (Jvm.Cond.instanceMethod ({ cls := "SlidingtrayModel", name := "thrown", desc := "()I" } : Jvm.MethodName)) ∈ lw_all := lw_g (lw_at lw_m12 206 rfl) rfl
theorem q2948 : (Jvm.Cond.selects "SlidingtrayModel" ({ cls := "SlidingtrayModel", name := "thrown", desc := "()I" } : Jvm.MethodName) ({ cls := "SlidingtrayModel", name := "thrown", desc := "()I" } : Jvm.MethodName)) ∈ lw_all := lw_g (lw_at lw_m12 207 rfl) rfl
theorem q2949 : (Jvm.Cond.code ({ cls := "SlidingtrayModel", name := "thrown", desc := "()I" } : Jvm.MethodName) prog_15_method_2_code (1 : Nat) (Option.some Jvm.ClassFile.FieldType.int)) ∈ lw_all := lw_g (lw_at lw_m12 208 rfl) rfl
theorem q2951 : (Jvm.Cond.instanceMethod ({ cls := "SlidingtrayModel", name := "tray", desc := "(III)I" } : Jvm.MethodName)) ∈ lw_all := lw_g (lw_at lw_m12 210 rfl) rfl
theorem q2952 : (Jvm.Cond.selects "SlidingtrayModel" ({ cls := "SlidingtrayModel", name := "tray", desc := "(III)I" } : Jvm.MethodName) ({ cls := "SlidingtrayModel", name := "tray", desc := "(III)I" } : Jvm.MethodName)) ∈ lw_all := lw_g (lw_at lw_m12 211 rfl) rfl
theorem q2953 : (Jvm.Cond.code ({ cls := "SlidingtrayModel", name := "tray", desc := "(III)I" } : Jvm.MethodName) prog_15_method_13_code (6 : Nat) (Option.some Jvm.ClassFile.FieldType.int)) ∈ lw_all := lw_g (lw_at lw_m12 212 rfl) rfl
theorem q2954 : (Jvm.Cond.methodLink "SlidingtrayModel" (200 : Nat) ({ cls := "SlidingtrayModel", name := "in", desc := "(III)Z" } : Jvm.MethodName)) ∈ lw_all := lw_g (lw_at lw_m12 213 rfl) rfl
theorem q2955 : (Jvm.Cond.static ({ cls := "SlidingtrayModel", name := "in", desc := "(III)Z" } : Jvm.MethodName)) ∈ lw_all := lw_g (lw_at lw_m12 214 rfl) rfl
theorem q2956 : (Jvm.Cond.code ({ cls := "SlidingtrayModel", name := "in", desc := "(III)Z" } : Jvm.MethodName) prog_15_method_3_code (3 : Nat) (Option.some Jvm.ClassFile.FieldType.boolean)) ∈ lw_all := lw_g (lw_at lw_m12 215 rfl) rfl
theorem q2957 : (Jvm.Cond.methodLink "SlidingtrayModel" (204 : Nat) ({ cls := "SlidingtrayModel", name := "refuse", desc := "(I)I" } : Jvm.MethodName)) ∈ lw_all := lw_g (lw_at lw_m12 216 rfl) rfl
theorem q2958 : (Jvm.Cond.privateMethod ({ cls := "SlidingtrayModel", name := "refuse", desc := "(I)I" } : Jvm.MethodName)) ∈ lw_tbl := lw_at lw_m12 217 rfl
theorem q2959 : (Jvm.Cond.instanceMethod ({ cls := "SlidingtrayModel", name := "refuse", desc := "(I)I" } : Jvm.MethodName)) ∈ lw_all := lw_g (lw_at lw_m12 218 rfl) rfl
theorem q2960 : (Jvm.Cond.code ({ cls := "SlidingtrayModel", name := "refuse", desc := "(I)I" } : Jvm.MethodName) prog_15_method_4_code (2 : Nat) (Option.some Jvm.ClassFile.FieldType.int)) ∈ lw_all := lw_g (lw_at lw_m12 219 rfl) rfl
theorem q2961 : (Jvm.Cond.methodLink "SlidingtrayModel" (208 : Nat) ({ cls := "SlidingtrayModel", name := "isWhole", desc := "(III)Z" } : Jvm.MethodName)) ∈ lw_all := lw_g (lw_at lw_m12 220 rfl) rfl
theorem q2962 : (Jvm.Cond.privateMethod ({ cls := "SlidingtrayModel", name := "isWhole", desc := "(III)Z" } : Jvm.MethodName)) ∈ lw_tbl := lw_at lw_m12 221 rfl
theorem q2963 : (Jvm.Cond.instanceMethod ({ cls := "SlidingtrayModel", name := "isWhole", desc := "(III)Z" } : Jvm.MethodName)) ∈ lw_all := lw_g (lw_at lw_m12 222 rfl) rfl
theorem q2964 : (Jvm.Cond.code ({ cls := "SlidingtrayModel", name := "isWhole", desc := "(III)Z" } : Jvm.MethodName) prog_15_method_14_code (8 : Nat) (Option.some Jvm.ClassFile.FieldType.boolean)) ∈ lw_all := lw_g (lw_at lw_m12 223 rfl) rfl
theorem q2965 : (Jvm.Cond.methodLink "SlidingtrayModel" (211 : Nat) ({ cls := "SlidingtrayModel", name := "tiles", desc := "()I" } : Jvm.MethodName)) ∈ lw_all := lw_g (lw_at lw_m12 224 rfl) rfl
theorem q2966 : (Jvm.Cond.privateMethod ({ cls := "SlidingtrayModel", name := "tiles", desc := "()I" } : Jvm.MethodName)) ∈ lw_tbl := lw_at lw_m12 225 rfl
theorem q2967 : (Jvm.Cond.instanceMethod ({ cls := "SlidingtrayModel", name := "tiles", desc := "()I" } : Jvm.MethodName)) ∈ lw_all := lw_g (lw_at lw_m12 226 rfl) rfl
theorem q2968 : (Jvm.Cond.code ({ cls := "SlidingtrayModel", name := "tiles", desc := "()I" } : Jvm.MethodName) prog_15_method_11_code (1 : Nat) (Option.some Jvm.ClassFile.FieldType.int)) ∈ lw_all := lw_g (lw_at lw_m12 227 rfl) rfl
theorem q2969 : (Jvm.Cond.methodLink "SlidingtrayModel" (215 : Nat) ({ cls := "SlidingtrayModel", name := "told", desc := "(I)I" } : Jvm.MethodName)) ∈ lw_all := lw_g (lw_at lw_m12 228 rfl) rfl
theorem q2970 : (Jvm.Cond.privateMethod ({ cls := "SlidingtrayModel", name := "told", desc := "(I)I" } : Jvm.MethodName)) ∈ lw_tbl := lw_at lw_m12 229 rfl
theorem q2971 : (Jvm.Cond.instanceMethod ({ cls := "SlidingtrayModel", name := "told", desc := "(I)I" } : Jvm.MethodName)) ∈ lw_all := lw_g (lw_at lw_m12 230 rfl) rfl
theorem q2972 : (Jvm.Cond.code ({ cls := "SlidingtrayModel", name := "told", desc := "(I)I" } : Jvm.MethodName) prog_15_method_5_code (2 : Nat) (Option.some Jvm.ClassFile.FieldType.int)) ∈ lw_all := lw_g (lw_at lw_m12 231 rfl) rfl
theorem q2974 : (Jvm.Cond.instanceMethod ({ cls := "SlidingtrayModel", name := "part", desc := "(I)I" } : Jvm.MethodName)) ∈ lw_all := lw_g (lw_at lw_m12 233 rfl) rfl
theorem q2975 : (Jvm.Cond.selects "SlidingtrayModel" ({ cls := "SlidingtrayModel", name := "part", desc := "(I)I" } : Jvm.MethodName) ({ cls := "SlidingtrayModel", name := "part", desc := "(I)I" } : Jvm.MethodName)) ∈ lw_all := lw_g (lw_at lw_m12 234 rfl) rfl
theorem q2976 : (Jvm.Cond.code ({ cls := "SlidingtrayModel", name := "part", desc := "(I)I" } : Jvm.MethodName) prog_15_method_31_code (6 : Nat) (Option.some Jvm.ClassFile.FieldType.int)) ∈ lw_all := lw_g (lw_at lw_m12 235 rfl) rfl
theorem q2977 : (Jvm.Cond.methodLink "SlidingtrayModel" (259 : Nat) ({ cls := "SlidingtrayModel", name := "bits", desc := "(I)I" } : Jvm.MethodName)) ∈ lw_all := lw_g (lw_at lw_m12 236 rfl) rfl
theorem q2978 : (Jvm.Cond.static ({ cls := "SlidingtrayModel", name := "bits", desc := "(I)I" } : Jvm.MethodName)) ∈ lw_all := lw_g (lw_at lw_m12 237 rfl) rfl
theorem q2979 : (Jvm.Cond.code ({ cls := "SlidingtrayModel", name := "bits", desc := "(I)I" } : Jvm.MethodName) prog_15_method_30_code (3 : Nat) (Option.some Jvm.ClassFile.FieldType.int)) ∈ lw_all := lw_g (lw_at lw_m12 238 rfl) rfl
theorem q2980 : (Jvm.Cond.methodLink "SlidingtrayModel" (262 : Nat) ({ cls := "SlidingtrayModel", name := "fills", desc := "(I)I" } : Jvm.MethodName)) ∈ lw_all := lw_g (lw_at lw_m12 239 rfl) rfl
theorem q2981 : (Jvm.Cond.privateMethod ({ cls := "SlidingtrayModel", name := "fills", desc := "(I)I" } : Jvm.MethodName)) ∈ lw_tbl := lw_at lw_m13 0 rfl
theorem q2982 : (Jvm.Cond.instanceMethod ({ cls := "SlidingtrayModel", name := "fills", desc := "(I)I" } : Jvm.MethodName)) ∈ lw_all := lw_g (lw_at lw_m13 1 rfl) rfl
theorem q2983 : (Jvm.Cond.code ({ cls := "SlidingtrayModel", name := "fills", desc := "(I)I" } : Jvm.MethodName) prog_15_method_29_code (9 : Nat) (Option.some Jvm.ClassFile.FieldType.int)) ∈ lw_all := lw_g (lw_at lw_m13 2 rfl) rfl
theorem q2984 : (Jvm.Cond.methodLink "SlidingtrayModel" (245 : Nat) ({ cls := "SlidingtrayModel", name := "isPlace", desc := "(II)Z" } : Jvm.MethodName)) ∈ lw_all := lw_g (lw_at lw_m13 3 rfl) rfl
theorem q2985 : (Jvm.Cond.privateMethod ({ cls := "SlidingtrayModel", name := "isPlace", desc := "(II)Z" } : Jvm.MethodName)) ∈ lw_tbl := lw_at lw_m13 4 rfl
theorem q2986 : (Jvm.Cond.instanceMethod ({ cls := "SlidingtrayModel", name := "isPlace", desc := "(II)Z" } : Jvm.MethodName)) ∈ lw_all := lw_g (lw_at lw_m13 5 rfl) rfl
theorem q2987 : (Jvm.Cond.code ({ cls := "SlidingtrayModel", name := "isPlace", desc := "(II)Z" } : Jvm.MethodName) prog_15_method_25_code (7 : Nat) (Option.some Jvm.ClassFile.FieldType.boolean)) ∈ lw_all := lw_g (lw_at lw_m13 6 rfl) rfl
theorem q2988 : (Jvm.Cond.methodLink "SlidingtrayModel" (249 : Nat) ({ cls := "SlidingtrayModel", name := "isPartGoal", desc := "(I)Z" } : Jvm.MethodName)) ∈ lw_all := lw_g (lw_at lw_m13 7 rfl) rfl
theorem q2989 : (Jvm.Cond.privateMethod ({ cls := "SlidingtrayModel", name := "isPartGoal", desc := "(I)Z" } : Jvm.MethodName)) ∈ lw_tbl := lw_at lw_m13 8 rfl
theorem q2990 : (Jvm.Cond.instanceMethod ({ cls := "SlidingtrayModel", name := "isPartGoal", desc := "(I)Z" } : Jvm.MethodName)) ∈ lw_all := lw_g (lw_at lw_m13 9 rfl) rfl
theorem q2991 : (Jvm.Cond.code ({ cls := "SlidingtrayModel", name := "isPartGoal", desc := "(I)Z" } : Jvm.MethodName) prog_15_method_28_code (4 : Nat) (Option.some Jvm.ClassFile.FieldType.boolean)) ∈ lw_all := lw_g (lw_at lw_m13 10 rfl) rfl
theorem q2992 : (Jvm.Cond.methodLink "SlidingtrayModel" (253 : Nat) ({ cls := "SlidingtrayModel", name := "moves", desc := "(II)I" } : Jvm.MethodName)) ∈ lw_all := lw_g (lw_at lw_m13 11 rfl) rfl
theorem q2993 : (Jvm.Cond.privateMethod ({ cls := "SlidingtrayModel", name := "moves", desc := "(II)I" } : Jvm.MethodName)) ∈ lw_tbl := lw_at lw_m13 12 rfl
theorem q2994 : (Jvm.Cond.instanceMethod ({ cls := "SlidingtrayModel", name := "moves", desc := "(II)I" } : Jvm.MethodName)) ∈ lw_all := lw_g (lw_at lw_m13 13 rfl) rfl
theorem q2995 : (Jvm.Cond.code ({ cls := "SlidingtrayModel", name := "moves", desc := "(II)I" } : Jvm.MethodName) prog_15_method_27_code (7 : Nat) (Option.some Jvm.ClassFile.FieldType.int)) ∈ lw_all := lw_g (lw_at lw_m13 14 rfl) rfl
theorem q2996 : (Jvm.Cond.methodLink "SlidingtrayModel" (256 : Nat) ({ cls := "SlidingtrayModel", name := "placeAt", desc := "(I)I" } : Jvm.MethodName)) ∈ lw_all := lw_g (lw_at lw_m13 15 rfl) rfl
theorem q2997 : (Jvm.Cond.privateMethod ({ cls := "SlidingtrayModel", name := "placeAt", desc := "(I)I" } : Jvm.MethodName)) ∈ lw_tbl := lw_at lw_m13 16 rfl
theorem q2998 : (Jvm.Cond.instanceMethod ({ cls := "SlidingtrayModel", name := "placeAt", desc := "(I)I" } : Jvm.MethodName)) ∈ lw_all := lw_g (lw_at lw_m13 17 rfl) rfl
theorem q2999 : (Jvm.Cond.code ({ cls := "SlidingtrayModel", name := "placeAt", desc := "(I)I" } : Jvm.MethodName) prog_15_method_26_code (4 : Nat) (Option.some Jvm.ClassFile.FieldType.int)) ∈ lw_all := lw_g (lw_at lw_m13 18 rfl) rfl
theorem q3001 : (Jvm.Cond.instanceMethod ({ cls := "SlidingtrayModel", name := "lay", desc := "(J)I" } : Jvm.MethodName)) ∈ lw_all := lw_g (lw_at lw_m13 20 rfl) rfl
theorem q3002 : (Jvm.Cond.selects "SlidingtrayModel" ({ cls := "SlidingtrayModel", name := "lay", desc := "(J)I" } : Jvm.MethodName) ({ cls := "SlidingtrayModel", name := "lay", desc := "(J)I" } : Jvm.MethodName)) ∈ lw_all := lw_g (lw_at lw_m13 21 rfl) rfl
theorem q3003 : (Jvm.Cond.code ({ cls := "SlidingtrayModel", name := "lay", desc := "(J)I" } : Jvm.MethodName) prog_15_method_34_code (3 : Nat) (Option.some Jvm.ClassFile.FieldType.int)) ∈ lw_all := lw_g (lw_at lw_m13 22 rfl) rfl
theorem q3004 : (Jvm.Cond.methodLink "SlidingtrayModel" (221 : Nat) ({ cls := "SlidingtrayModel", name := "arrangements", desc := "()J" } : Jvm.MethodName)) ∈ lw_all := lw_g (lw_at lw_m13 23 rfl) rfl
theorem q3005 : (Jvm.Cond.privateMethod ({ cls := "SlidingtrayModel", name := "arrangements", desc := "()J" } : Jvm.MethodName)) ∈ lw_tbl := lw_at lw_m13 24 rfl
theorem q3006 : (Jvm.Cond.instanceMethod ({ cls := "SlidingtrayModel", name := "arrangements", desc := "()J" } : Jvm.MethodName)) ∈ lw_all := lw_g (lw_at lw_m13 25 rfl) rfl
theorem q3007 : (Jvm.Cond.code ({ cls := "SlidingtrayModel", name := "arrangements", desc := "()J" } : Jvm.MethodName) prog_15_method_17_code (4 : Nat) (Option.some Jvm.ClassFile.FieldType.long)) ∈ lw_all := lw_g (lw_at lw_m13 26 rfl) rfl
theorem q3008 : (Jvm.Cond.methodLink "SlidingtrayModel" (265 : Nat) ({ cls := "SlidingtrayModel", name := "lays", desc := "(J[I)V" } : Jvm.MethodName)) ∈ lw_all := lw_g (lw_at lw_m13 27 rfl) rfl
theorem q3009 : (Jvm.Cond.privateMethod ({ cls := "SlidingtrayModel", name := "lays", desc := "(J[I)V" } : Jvm.MethodName)) ∈ lw_tbl := lw_at lw_m13 28 rfl
theorem q3010 : (Jvm.Cond.instanceMethod ({ cls := "SlidingtrayModel", name := "lays", desc := "(J[I)V" } : Jvm.MethodName)) ∈ lw_all := lw_g (lw_at lw_m13 29 rfl) rfl
theorem q3011 : (Jvm.Cond.code ({ cls := "SlidingtrayModel", name := "lays", desc := "(J[I)V" } : Jvm.MethodName) prog_15_method_18_code (11 : Nat) (Option.none : Option Jvm.ClassFile.FieldType)) ∈ lw_all := lw_g (lw_at lw_m13 30 rfl) rfl
theorem q3012 : (Jvm.Cond.methodLink "SlidingtrayModel" (242 : Nat) ({ cls := "SlidingtrayModel", name := "gapIn", desc := "([I)I" } : Jvm.MethodName)) ∈ lw_all := lw_g (lw_at lw_m13 31 rfl) rfl
theorem q3013 : (Jvm.Cond.privateMethod ({ cls := "SlidingtrayModel", name := "gapIn", desc := "([I)I" } : Jvm.MethodName)) ∈ lw_tbl := lw_at lw_m13 32 rfl
theorem q3014 : (Jvm.Cond.instanceMethod ({ cls := "SlidingtrayModel", name := "gapIn", desc := "([I)I" } : Jvm.MethodName)) ∈ lw_all := lw_g (lw_at lw_m13 33 rfl) rfl
theorem q3015 : (Jvm.Cond.code ({ cls := "SlidingtrayModel", name := "gapIn", desc := "([I)I" } : Jvm.MethodName) prog_15_method_12_code (3 : Nat) (Option.some Jvm.ClassFile.FieldType.int)) ∈ lw_all := lw_g (lw_at lw_m13 34 rfl) rfl
theorem q3017 : (Jvm.Cond.instanceMethod ({ cls := "SlidingtrayModel", name := "mix", desc := "(II)I" } : Jvm.MethodName)) ∈ lw_all := lw_g (lw_at lw_m13 36 rfl) rfl
theorem q3018 : (Jvm.Cond.selects "SlidingtrayModel" ({ cls := "SlidingtrayModel", name := "mix", desc := "(II)I" } : Jvm.MethodName) ({ cls := "SlidingtrayModel", name := "mix", desc := "(II)I" } : Jvm.MethodName)) ∈ lw_all := lw_g (lw_at lw_m13 37 rfl) rfl
theorem q3019 : (Jvm.Cond.code ({ cls := "SlidingtrayModel", name := "mix", desc := "(II)I" } : Jvm.MethodName) prog_15_method_35_code (10 : Nat) (Option.some Jvm.ClassFile.FieldType.int)) ∈ lw_all := lw_g (lw_at lw_m13 38 rfl) rfl
theorem q3020 : (Jvm.Cond.constant "SlidingtrayModel" (269 : Nat) (1103515245 : Int32)) ∈ lw_all := lw_g (lw_at lw_m13 39 rfl) rfl
theorem q3021 : (Jvm.Cond.methodLink "SlidingtrayModel" (270 : Nat) ({ cls := "SlidingtrayModel", name := "goes", desc := "([II)I" } : Jvm.MethodName)) ∈ lw_all := lw_g (lw_at lw_m13 40 rfl) rfl
theorem q3022 : (Jvm.Cond.privateMethod ({ cls := "SlidingtrayModel", name := "goes", desc := "([II)I" } : Jvm.MethodName)) ∈ lw_tbl := lw_at lw_m13 41 rfl
theorem q3023 : (Jvm.Cond.instanceMethod ({ cls := "SlidingtrayModel", name := "goes", desc := "([II)I" } : Jvm.MethodName)) ∈ lw_all := lw_g (lw_at lw_m13 42 rfl) rfl
theorem q3024 : (Jvm.Cond.code ({ cls := "SlidingtrayModel", name := "goes", desc := "([II)I" } : Jvm.MethodName) prog_15_method_33_code (6 : Nat) (Option.some Jvm.ClassFile.FieldType.int)) ∈ lw_all := lw_g (lw_at lw_m13 43 rfl) rfl
theorem q3026 : (Jvm.Cond.instanceMethod ({ cls := "SlidingtrayModel", name := "setGoal", desc := "()J" } : Jvm.MethodName)) ∈ lw_all := lw_g (lw_at lw_m13 45 rfl) rfl
theorem q3027 : (Jvm.Cond.selects "SlidingtrayModel" ({ cls := "SlidingtrayModel", name := "setGoal", desc := "()J" } : Jvm.MethodName) ({ cls := "SlidingtrayModel", name := "setGoal", desc := "()J" } : Jvm.MethodName)) ∈ lw_all := lw_g (lw_at lw_m13 46 rfl) rfl
theorem q3028 : (Jvm.Cond.code ({ cls := "SlidingtrayModel", name := "setGoal", desc := "()J" } : Jvm.MethodName) prog_15_method_36_code (2 : Nat) (Option.some Jvm.ClassFile.FieldType.long)) ∈ lw_all := lw_g (lw_at lw_m13 47 rfl) rfl
theorem q3029 : (Jvm.Cond.methodLink "SlidingtrayModel" (274 : Nat) ({ cls := "SlidingtrayModel", name := "rankOf", desc := "([I)J" } : Jvm.MethodName)) ∈ lw_all := lw_g (lw_at lw_m13 48 rfl) rfl
theorem q3030 : (Jvm.Cond.privateMethod ({ cls := "SlidingtrayModel", name := "rankOf", desc := "([I)J" } : Jvm.MethodName)) ∈ lw_tbl := lw_at lw_m13 49 rfl
theorem q3031 : (Jvm.Cond.instanceMethod ({ cls := "SlidingtrayModel", name := "rankOf", desc := "([I)J" } : Jvm.MethodName)) ∈ lw_all := lw_g (lw_at lw_m13 50 rfl) rfl
theorem q3032 : (Jvm.Cond.code ({ cls := "SlidingtrayModel", name := "rankOf", desc := "([I)J" } : Jvm.MethodName) prog_15_method_16_code (7 : Nat) (Option.some Jvm.ClassFile.FieldType.long)) ∈ lw_all := lw_g (lw_at lw_m13 51 rfl) rfl
theorem q3033 : (Jvm.Cond.methodLink "SlidingtrayModel" (218 : Nat) ({ cls := "SlidingtrayModel", name := "valueOf", desc := "(I)I" } : Jvm.MethodName)) ∈ lw_all := lw_g (lw_at lw_m13 52 rfl) rfl
theorem q3034 : (Jvm.Cond.privateMethod ({ cls := "SlidingtrayModel", name := "valueOf", desc := "(I)I" } : Jvm.MethodName)) ∈ lw_tbl := lw_at lw_m13 53 rfl
theorem q3035 : (Jvm.Cond.instanceMethod ({ cls := "SlidingtrayModel", name := "valueOf", desc := "(I)I" } : Jvm.MethodName)) ∈ lw_all := lw_g (lw_at lw_m13 54 rfl) rfl
theorem q3036 : (Jvm.Cond.code ({ cls := "SlidingtrayModel", name := "valueOf", desc := "(I)I" } : Jvm.MethodName) prog_15_method_15_code (2 : Nat) (Option.some Jvm.ClassFile.FieldType.int)) ∈ lw_all := lw_g (lw_at lw_m13 55 rfl) rfl
theorem q3038 : (Jvm.Cond.instanceMethod ({ cls := "SlidingtrayModel", name := "setFree", desc := "(IZ)Z" } : Jvm.MethodName)) ∈ lw_all := lw_g (lw_at lw_m13 57 rfl) rfl
theorem q3039 : (Jvm.Cond.selects "SlidingtrayModel" ({ cls := "SlidingtrayModel", name := "setFree", desc := "(IZ)Z" } : Jvm.MethodName) ({ cls := "SlidingtrayModel", name := "setFree", desc := "(IZ)Z" } : Jvm.MethodName)) ∈ lw_all := lw_g (lw_at lw_m13 58 rfl) rfl
theorem q3040 : (Jvm.Cond.code ({ cls := "SlidingtrayModel", name := "setFree", desc := "(IZ)Z" } : Jvm.MethodName) prog_15_method_37_code (4 : Nat) (Option.some Jvm.ClassFile.FieldType.boolean)) ∈ lw_all := lw_g (lw_at lw_m13 59 rfl) rfl
theorem q3041 : (Jvm.Cond.methodLink "SlidingtrayModel" (278 : Nat) ({ cls := "SlidingtrayModel", name := "denies", desc := "(I)Z" } : Jvm.MethodName)) ∈ lw_all := lw_g (lw_at lw_m13 60 rfl) rfl
theorem q3042 : (Jvm.Cond.privateMethod ({ cls := "SlidingtrayModel", name := "denies", desc := "(I)Z" } : Jvm.MethodName)) ∈ lw_tbl := lw_at lw_m13 61 rfl
theorem q3043 : (Jvm.Cond.instanceMethod ({ cls := "SlidingtrayModel", name := "denies", desc := "(I)Z" } : Jvm.MethodName)) ∈ lw_all := lw_g (lw_at lw_m13 62 rfl) rfl
theorem q3044 : (Jvm.Cond.code ({ cls := "SlidingtrayModel", name := "denies", desc := "(I)Z" } : Jvm.MethodName) prog_15_method_7_code (2 : Nat) (Option.some Jvm.ClassFile.FieldType.boolean)) ∈ lw_all := lw_g (lw_at lw_m13 63 rfl) rfl
theorem q3045 : (Jvm.Cond.methodLink "SlidingtrayModel" (281 : Nat) ({ cls := "SlidingtrayModel", name := "says", desc := "(Z)Z" } : Jvm.MethodName)) ∈ lw_all := lw_g (lw_at lw_m13 64 rfl) rfl
theorem q3046 : (Jvm.Cond.privateMethod ({ cls := "SlidingtrayModel", name := "says", desc := "(Z)Z" } : Jvm.MethodName)) ∈ lw_tbl := lw_at lw_m13 65 rfl
theorem q3047 : (Jvm.Cond.instanceMethod ({ cls := "SlidingtrayModel", name := "says", desc := "(Z)Z" } : Jvm.MethodName)) ∈ lw_all := lw_g (lw_at lw_m13 66 rfl) rfl
theorem q3048 : (Jvm.Cond.code ({ cls := "SlidingtrayModel", name := "says", desc := "(Z)Z" } : Jvm.MethodName) prog_15_method_6_code (2 : Nat) (Option.some Jvm.ClassFile.FieldType.boolean)) ∈ lw_all := lw_g (lw_at lw_m13 67 rfl) rfl
theorem q3050 : (Jvm.Cond.instanceMethod ({ cls := "SlidingtrayModel", name := "setWeight", desc := "(II)I" } : Jvm.MethodName)) ∈ lw_all := lw_g (lw_at lw_m13 69 rfl) rfl
theorem q3051 : (Jvm.Cond.selects "SlidingtrayModel" ({ cls := "SlidingtrayModel", name := "setWeight", desc := "(II)I" } : Jvm.MethodName) ({ cls := "SlidingtrayModel", name := "setWeight", desc := "(II)I" } : Jvm.MethodName)) ∈ lw_all := lw_g (lw_at lw_m13 70 rfl) rfl
theorem q3052 : (Jvm.Cond.code ({ cls := "SlidingtrayModel", name := "setWeight", desc := "(II)I" } : Jvm.MethodName) prog_15_method_38_code (4 : Nat) (Option.some Jvm.ClassFile.FieldType.int)) ∈ lw_all := lw_g (lw_at lw_m13 71 rfl) rfl
theorem q3054 : (Jvm.Cond.instanceMethod ({ cls := "SlidingtrayModel", name := "setLimit", desc := "(I)I" } : Jvm.MethodName)) ∈ lw_all := lw_g (lw_at lw_m13 73 rfl) rfl
theorem q3055 : (Jvm.Cond.selects "SlidingtrayModel" ({ cls := "SlidingtrayModel", name := "setLimit", desc := "(I)I" } : Jvm.MethodName) ({ cls := "SlidingtrayModel", name := "setLimit", desc := "(I)I" } : Jvm.MethodName)) ∈ lw_all := lw_g (lw_at lw_m13 74 rfl) rfl
theorem q3056 : (Jvm.Cond.code ({ cls := "SlidingtrayModel", name := "setLimit", desc := "(I)I" } : Jvm.MethodName) prog_15_method_39_code (3 : Nat) (Option.some Jvm.ClassFile.FieldType.int)) ∈ lw_all := lw_g (lw_at lw_m13 75 rfl) rfl
theorem q3058 : (Jvm.Cond.instanceMethod ({ cls := "SlidingtrayModel", name := "move", desc := "(II)I" } : Jvm.MethodName)) ∈ lw_all := lw_g (lw_at lw_m13 77 rfl) rfl
theorem q3059 : (Jvm.Cond.selects "SlidingtrayModel" ({ cls := "SlidingtrayModel", name := "move", desc := "(II)I" } : Jvm.MethodName) ({ cls := "SlidingtrayModel", name := "move", desc := "(II)I" } : Jvm.MethodName)) ∈ lw_all := lw_g (lw_at lw_m13 78 rfl) rfl
theorem q3060 : (Jvm.Cond.code ({ cls := "SlidingtrayModel", name := "move", desc := "(II)I" } : Jvm.MethodName) prog_15_method_41_code (6 : Nat) (Option.some Jvm.ClassFile.FieldType.int)) ∈ lw_all := lw_g (lw_at lw_m13 79 rfl) rfl
theorem q3061 : (Jvm.Cond.methodLink "SlidingtrayModel" (285 : Nat) ({ cls := "SlidingtrayModel", name := "makes", desc := "(I)I" } : Jvm.MethodName)) ∈ lw_all := lw_g (lw_at lw_m13 80 rfl) rfl
theorem q3062 : (Jvm.Cond.privateMethod ({ cls := "SlidingtrayModel", name := "makes", desc := "(I)I" } : Jvm.MethodName)) ∈ lw_tbl := lw_at lw_m13 81 rfl
theorem q3063 : (Jvm.Cond.instanceMethod ({ cls := "SlidingtrayModel", name := "makes", desc := "(I)I" } : Jvm.MethodName)) ∈ lw_all := lw_g (lw_at lw_m13 82 rfl) rfl
theorem q3064 : (Jvm.Cond.code ({ cls := "SlidingtrayModel", name := "makes", desc := "(I)I" } : Jvm.MethodName) prog_15_method_40_code (4 : Nat) (Option.some Jvm.ClassFile.FieldType.int)) ∈ lw_all := lw_g (lw_at lw_m13 83 rfl) rfl
theorem q3066 : (Jvm.Cond.instanceMethod ({ cls := "SlidingtrayModel", name := "undo", desc := "(I)I" } : Jvm.MethodName)) ∈ lw_all := lw_g (lw_at lw_m13 85 rfl) rfl
theorem q3067 : (Jvm.Cond.selects "SlidingtrayModel" ({ cls := "SlidingtrayModel", name := "undo", desc := "(I)I" } : Jvm.MethodName) ({ cls := "SlidingtrayModel", name := "undo", desc := "(I)I" } : Jvm.MethodName)) ∈ lw_all := lw_g (lw_at lw_m13 86 rfl) rfl
theorem q3068 : (Jvm.Cond.code ({ cls := "SlidingtrayModel", name := "undo", desc := "(I)I" } : Jvm.MethodName) prog_15_method_42_code (4 : Nat) (Option.some Jvm.ClassFile.FieldType.int)) ∈ lw_all := lw_g (lw_at lw_m13 87 rfl) rfl
theorem q3070 : (Jvm.Cond.instanceMethod ({ cls := "SlidingtrayModel", name := "setMacro", desc := "(IJ)I" } : Jvm.MethodName)) ∈ lw_all := lw_g (lw_at lw_m13 89 rfl) rfl
theorem q3071 : (Jvm.Cond.selects "SlidingtrayModel" ({ cls := "SlidingtrayModel", name := "setMacro", desc := "(IJ)I" } : Jvm.MethodName) ({ cls := "SlidingtrayModel", name := "setMacro", desc := "(IJ)I" } : Jvm.MethodName)) ∈ lw_all := lw_g (lw_at lw_m13 90 rfl) rfl
theorem q3072 : (Jvm.Cond.code ({ cls := "SlidingtrayModel", name := "setMacro", desc := "(IJ)I" } : Jvm.MethodName) prog_15_method_44_code (8 : Nat) (Option.some Jvm.ClassFile.FieldType.int)) ∈ lw_all := lw_g (lw_at lw_m13 91 rfl) rfl
theorem q3073 : (Jvm.Cond.constantLong "SlidingtrayModel" (287 : Nat) (255 : Int64)) ∈ lw_all := lw_g (lw_at lw_m13 92 rfl) rfl
theorem q3074 : (Jvm.Cond.methodLink "SlidingtrayModel" (289 : Nat) ({ cls := "SlidingtrayModel", name := "directionOf", desc := "(I)I" } : Jvm.MethodName)) ∈ lw_all := lw_g (lw_at lw_m13 93 rfl) rfl
theorem q3075 : (Jvm.Cond.static ({ cls := "SlidingtrayModel", name := "directionOf", desc := "(I)I" } : Jvm.MethodName)) ∈ lw_all := lw_g (lw_at lw_m13 94 rfl) rfl
theorem q3076 : (Jvm.Cond.code ({ cls := "SlidingtrayModel", name := "directionOf", desc := "(I)I" } : Jvm.MethodName) prog_15_method_43_code (1 : Nat) (Option.some Jvm.ClassFile.FieldType.int)) ∈ lw_all := lw_g (lw_at lw_m13 95 rfl) rfl
theorem q3078 : (Jvm.Cond.instanceMethod ({ cls := "SlidingtrayModel", name := "play", desc := "(II)I" } : Jvm.MethodName)) ∈ lw_all := lw_g (lw_at lw_m13 97 rfl) rfl
theorem q3079 : (Jvm.Cond.selects "SlidingtrayModel" ({ cls := "SlidingtrayModel", name := "play", desc := "(II)I" } : Jvm.MethodName) ({ cls := "SlidingtrayModel", name := "play", desc := "(II)I" } : Jvm.MethodName)) ∈ lw_all := lw_g (lw_at lw_m13 98 rfl) rfl
theorem q3080 : (Jvm.Cond.code ({ cls := "SlidingtrayModel", name := "play", desc := "(II)I" } : Jvm.MethodName) prog_15_method_45_code (4 : Nat) (Option.some Jvm.ClassFile.FieldType.int)) ∈ lw_all := lw_g (lw_at lw_m13 99 rfl) rfl
theorem q3082 : (Jvm.Cond.instanceMethod ({ cls := "SlidingtrayModel", name := "keep", desc := "(I)J" } : Jvm.MethodName)) ∈ lw_all := lw_g (lw_at lw_m13 101 rfl) rfl
theorem q3083 : (Jvm.Cond.selects "SlidingtrayModel" ({ cls := "SlidingtrayModel", name := "keep", desc := "(I)J" } : Jvm.MethodName) ({ cls := "SlidingtrayModel", name := "keep", desc := "(I)J" } : Jvm.MethodName)) ∈ lw_all := lw_g (lw_at lw_m13 102 rfl) rfl
theorem q3084 : (Jvm.Cond.code ({ cls := "SlidingtrayModel", name := "keep", desc := "(I)J" } : Jvm.MethodName) prog_15_method_46_code (3 : Nat) (Option.some Jvm.ClassFile.FieldType.long)) ∈ lw_all := lw_g (lw_at lw_m13 103 rfl) rfl
theorem q3086 : (Jvm.Cond.instanceMethod ({ cls := "SlidingtrayModel", name := "restore", desc := "(I)I" } : Jvm.MethodName)) ∈ lw_all := lw_g (lw_at lw_m13 105 rfl) rfl
theorem q3087 : (Jvm.Cond.selects "SlidingtrayModel" ({ cls := "SlidingtrayModel", name := "restore", desc := "(I)I" } : Jvm.MethodName) ({ cls := "SlidingtrayModel", name := "restore", desc := "(I)I" } : Jvm.MethodName)) ∈ lw_all := lw_g (lw_at lw_m13 106 rfl) rfl
theorem q3088 : (Jvm.Cond.code ({ cls := "SlidingtrayModel", name := "restore", desc := "(I)I" } : Jvm.MethodName) prog_15_method_47_code (3 : Nat) (Option.some Jvm.ClassFile.FieldType.int)) ∈ lw_all := lw_g (lw_at lw_m13 107 rfl) rfl
theorem q3090 : (Jvm.Cond.instanceMethod ({ cls := "SlidingtrayModel", name := "tileAt", desc := "(I)I" } : Jvm.MethodName)) ∈ lw_all := lw_g (lw_at lw_m13 109 rfl) rfl
theorem q3091 : (Jvm.Cond.selects "SlidingtrayModel" ({ cls := "SlidingtrayModel", name := "tileAt", desc := "(I)I" } : Jvm.MethodName) ({ cls := "SlidingtrayModel", name := "tileAt", desc := "(I)I" } : Jvm.MethodName)) ∈ lw_all := lw_g (lw_at lw_m13 110 rfl) rfl
theorem q3092 : (Jvm.Cond.code ({ cls := "SlidingtrayModel", name := "tileAt", desc := "(I)I" } : Jvm.MethodName) prog_15_method_48_code (2 : Nat) (Option.some Jvm.ClassFile.FieldType.int)) ∈ lw_all := lw_g (lw_at lw_m13 111 rfl) rfl
theorem q3094 : (Jvm.Cond.instanceMethod ({ cls := "SlidingtrayModel", name := "rank", desc := "()J" } : Jvm.MethodName)) ∈ lw_all := lw_g (lw_at lw_m13 113 rfl) rfl
theorem q3095 : (Jvm.Cond.selects "SlidingtrayModel" ({ cls := "SlidingtrayModel", name := "rank", desc := "()J" } : Jvm.MethodName) ({ cls := "SlidingtrayModel", name := "rank", desc := "()J" } : Jvm.MethodName)) ∈ lw_all := lw_g (lw_at lw_m13 114 rfl) rfl
theorem q3096 : (Jvm.Cond.code ({ cls := "SlidingtrayModel", name := "rank", desc := "()J" } : Jvm.MethodName) prog_15_method_49_code (1 : Nat) (Option.some Jvm.ClassFile.FieldType.long)) ∈ lw_all := lw_g (lw_at lw_m13 115 rfl) rfl
theorem q3098 : (Jvm.Cond.instanceMethod ({ cls := "SlidingtrayModel", name := "inversions", desc := "()I" } : Jvm.MethodName)) ∈ lw_all := lw_g (lw_at lw_m13 117 rfl) rfl
theorem q3099 : (Jvm.Cond.selects "SlidingtrayModel" ({ cls := "SlidingtrayModel", name := "inversions", desc := "()I" } : Jvm.MethodName) ({ cls := "SlidingtrayModel", name := "inversions", desc := "()I" } : Jvm.MethodName)) ∈ lw_all := lw_g (lw_at lw_m13 118 rfl) rfl
theorem q3100 : (Jvm.Cond.code ({ cls := "SlidingtrayModel", name := "inversions", desc := "()I" } : Jvm.MethodName) prog_15_method_51_code (1 : Nat) (Option.some Jvm.ClassFile.FieldType.int)) ∈ lw_all := lw_g (lw_at lw_m13 119 rfl) rfl
theorem q3101 : (Jvm.Cond.methodLink "SlidingtrayModel" (292 : Nat) ({ cls := "SlidingtrayModel", name := "inversionsOf", desc := "([I)I" } : Jvm.MethodName)) ∈ lw_all := lw_g (lw_at lw_m13 120 rfl) rfl
theorem q3102 : (Jvm.Cond.privateMethod ({ cls := "SlidingtrayModel", name := "inversionsOf", desc := "([I)I" } : Jvm.MethodName)) ∈ lw_tbl := lw_at lw_m13 121 rfl
theorem q3103 : (Jvm.Cond.instanceMethod ({ cls := "SlidingtrayModel", name := "inversionsOf", desc := "([I)I" } : Jvm.MethodName)) ∈ lw_all := lw_g (lw_at lw_m13 122 rfl) rfl
theorem q3104 : (Jvm.Cond.code ({ cls := "SlidingtrayModel", name := "inversionsOf", desc := "([I)I" } : Jvm.MethodName) prog_15_method_50_code (5 : Nat) (Option.some Jvm.ClassFile.FieldType.int)) ∈ lw_all := lw_g (lw_at lw_m13 123 rfl) rfl
theorem q3106 : (Jvm.Cond.instanceMethod ({ cls := "SlidingtrayModel", name := "reaches", desc := "()Z" } : Jvm.MethodName)) ∈ lw_all := lw_g (lw_at lw_m13 125 rfl) rfl
theorem q3107 : (Jvm.Cond.selects "SlidingtrayModel" ({ cls := "SlidingtrayModel", name := "reaches", desc := "()Z" } : Jvm.MethodName) ({ cls := "SlidingtrayModel", name := "reaches", desc := "()Z" } : Jvm.MethodName)) ∈ lw_all := lw_g (lw_at lw_m13 126 rfl) rfl
theorem q3108 : (Jvm.Cond.code ({ cls := "SlidingtrayModel", name := "reaches", desc := "()Z" } : Jvm.MethodName) prog_15_method_54_code (4 : Nat) (Option.some Jvm.ClassFile.FieldType.boolean)) ∈ lw_all := lw_g (lw_at lw_m13 127 rfl) rfl
theorem q3109 : (Jvm.Cond.methodLink "SlidingtrayModel" (295 : Nat) ({ cls := "SlidingtrayModel", name := "isAnyFree", desc := "()Z" } : Jvm.MethodName)) ∈ lw_all := lw_g (lw_at lw_m13 128 rfl) rfl
theorem q3110 : (Jvm.Cond.privateMethod ({ cls := "SlidingtrayModel", name := "isAnyFree", desc := "()Z" } : Jvm.MethodName)) ∈ lw_tbl := lw_at lw_m13 129 rfl
theorem q3111 : (Jvm.Cond.instanceMethod ({ cls := "SlidingtrayModel", name := "isAnyFree", desc := "()Z" } : Jvm.MethodName)) ∈ lw_all := lw_g (lw_at lw_m13 130 rfl) rfl
theorem q3112 : (Jvm.Cond.code ({ cls := "SlidingtrayModel", name := "isAnyFree", desc := "()Z" } : Jvm.MethodName) prog_15_method_52_code (3 : Nat) (Option.some Jvm.ClassFile.FieldType.boolean)) ∈ lw_all := lw_g (lw_at lw_m13 131 rfl) rfl
theorem q3113 : (Jvm.Cond.methodLink "SlidingtrayModel" (299 : Nat) ({ cls := "SlidingtrayModel", name := "laysGoal", desc := "()V" } : Jvm.MethodName)) ∈ lw_all := lw_g (lw_at lw_m13 132 rfl) rfl
theorem q3114 : (Jvm.Cond.privateMethod ({ cls := "SlidingtrayModel", name := "laysGoal", desc := "()V" } : Jvm.MethodName)) ∈ lw_tbl := lw_at lw_m13 133 rfl
theorem q3115 : (Jvm.Cond.instanceMethod ({ cls := "SlidingtrayModel", name := "laysGoal", desc := "()V" } : Jvm.MethodName)) ∈ lw_all := lw_g (lw_at lw_m13 134 rfl) rfl
theorem q3116 : (Jvm.Cond.code ({ cls := "SlidingtrayModel", name := "laysGoal", desc := "()V" } : Jvm.MethodName) prog_15_method_53_code (2 : Nat) (Option.none : Option Jvm.ClassFile.FieldType)) ∈ lw_all := lw_g (lw_at lw_m13 135 rfl) rfl
theorem q3118 : (Jvm.Cond.instanceMethod ({ cls := "SlidingtrayModel", name := "estimate", desc := "(I)I" } : Jvm.MethodName)) ∈ lw_all := lw_g (lw_at lw_m13 137 rfl) rfl
theorem q3119 : (Jvm.Cond.selects "SlidingtrayModel" ({ cls := "SlidingtrayModel", name := "estimate", desc := "(I)I" } : Jvm.MethodName) ({ cls := "SlidingtrayModel", name := "estimate", desc := "(I)I" } : Jvm.MethodName)) ∈ lw_all := lw_g (lw_at lw_m13 138 rfl) rfl
theorem q3120 : (Jvm.Cond.code ({ cls := "SlidingtrayModel", name := "estimate", desc := "(I)I" } : Jvm.MethodName) prog_15_method_55_code (2 : Nat) (Option.some Jvm.ClassFile.FieldType.int)) ∈ lw_all := lw_g (lw_at lw_m13 139 rfl) rfl
theorem q3121 : (Jvm.Cond.methodLink "SlidingtrayModel" (302 : Nat) ({ cls := "SlidingtrayModel", name := "estimates", desc := "([II)I" } : Jvm.MethodName)) ∈ lw_all := lw_g (lw_at lw_m13 140 rfl) rfl
theorem q3122 : (Jvm.Cond.privateMethod ({ cls := "SlidingtrayModel", name := "estimates", desc := "([II)I" } : Jvm.MethodName)) ∈ lw_tbl := lw_at lw_m13 141 rfl
theorem q3123 : (Jvm.Cond.instanceMethod ({ cls := "SlidingtrayModel", name := "estimates", desc := "([II)I" } : Jvm.MethodName)) ∈ lw_all := lw_g (lw_at lw_m13 142 rfl) rfl
theorem q3124 : (Jvm.Cond.code ({ cls := "SlidingtrayModel", name := "estimates", desc := "([II)I" } : Jvm.MethodName) prog_15_method_23_code (3 : Nat) (Option.some Jvm.ClassFile.FieldType.int)) ∈ lw_all := lw_g (lw_at lw_m13 143 rfl) rfl
theorem q3125 : (Jvm.Cond.methodLink "SlidingtrayModel" (233 : Nat) ({ cls := "SlidingtrayModel", name := "displaced", desc := "([I)I" } : Jvm.MethodName)) ∈ lw_all := lw_g (lw_at lw_m13 144 rfl) rfl
theorem q3126 : (Jvm.Cond.privateMethod ({ cls := "SlidingtrayModel", name := "displaced", desc := "([I)I" } : Jvm.MethodName)) ∈ lw_tbl := lw_at lw_m13 145 rfl
theorem q3127 : (Jvm.Cond.instanceMethod ({ cls := "SlidingtrayModel", name := "displaced", desc := "([I)I" } : Jvm.MethodName)) ∈ lw_all := lw_g (lw_at lw_m13 146 rfl) rfl
theorem q3128 : (Jvm.Cond.code ({ cls := "SlidingtrayModel", name := "displaced", desc := "([I)I" } : Jvm.MethodName) prog_15_method_19_code (5 : Nat) (Option.some Jvm.ClassFile.FieldType.int)) ∈ lw_all := lw_g (lw_at lw_m13 147 rfl) rfl
theorem q3129 : (Jvm.Cond.methodLink "SlidingtrayModel" (229 : Nat) ({ cls := "SlidingtrayModel", name := "ways", desc := "([I)I" } : Jvm.MethodName)) ∈ lw_all := lw_g (lw_at lw_m13 148 rfl) rfl
theorem q3130 : (Jvm.Cond.privateMethod ({ cls := "SlidingtrayModel", name := "ways", desc := "([I)I" } : Jvm.MethodName)) ∈ lw_tbl := lw_at lw_m13 149 rfl
theorem q3131 : (Jvm.Cond.instanceMethod ({ cls := "SlidingtrayModel", name := "ways", desc := "([I)I" } : Jvm.MethodName)) ∈ lw_all := lw_g (lw_at lw_m13 150 rfl) rfl
theorem q3132 : (Jvm.Cond.code ({ cls := "SlidingtrayModel", name := "ways", desc := "([I)I" } : Jvm.MethodName) prog_15_method_20_code (5 : Nat) (Option.some Jvm.ClassFile.FieldType.int)) ∈ lw_all := lw_g (lw_at lw_m13 151 rfl) rfl
theorem q3133 : (Jvm.Cond.methodLink "SlidingtrayModel" (236 : Nat) ({ cls := "SlidingtrayModel", name := "pairs", desc := "([I)I" } : Jvm.MethodName)) ∈ lw_all := lw_g (lw_at lw_m13 152 rfl) rfl
theorem q3134 : (Jvm.Cond.privateMethod ({ cls := "SlidingtrayModel", name := "pairs", desc := "([I)I" } : Jvm.MethodName)) ∈ lw_tbl := lw_at lw_m13 153 rfl
theorem q3135 : (Jvm.Cond.instanceMethod ({ cls := "SlidingtrayModel", name := "pairs", desc := "([I)I" } : Jvm.MethodName)) ∈ lw_all := lw_g (lw_at lw_m13 154 rfl) rfl
theorem q3136 : (Jvm.Cond.code ({ cls := "SlidingtrayModel", name := "pairs", desc := "([I)I" } : Jvm.MethodName) prog_15_method_22_code (4 : Nat) (Option.some Jvm.ClassFile.FieldType.int)) ∈ lw_all := lw_g (lw_at lw_m13 155 rfl) rfl
theorem q3137 : (Jvm.Cond.methodLink "SlidingtrayModel" (225 : Nat) ({ cls := "SlidingtrayModel", name := "adds", desc := "([IZI)I" } : Jvm.MethodName)) ∈ lw_all := lw_g (lw_at lw_m13 156 rfl) rfl
theorem q3138 : (Jvm.Cond.privateMethod ({ cls := "SlidingtrayModel", name := "adds", desc := "([IZI)I" } : Jvm.MethodName)) ∈ lw_tbl := lw_at lw_m13 157 rfl
theorem q3139 : (Jvm.Cond.instanceMethod ({ cls := "SlidingtrayModel", name := "adds", desc := "([IZI)I" } : Jvm.MethodName)) ∈ lw_all := lw_g (lw_at lw_m13 158 rfl) rfl
theorem q3140 : (Jvm.Cond.code ({ cls := "SlidingtrayModel", name := "adds", desc := "([IZI)I" } : Jvm.MethodName) prog_15_method_21_code (13 : Nat) (Option.some Jvm.ClassFile.FieldType.int)) ∈ lw_all := lw_g (lw_at lw_m13 159 rfl) rfl
theorem q3141 : (Jvm.Cond.methodLink "SlidingtrayModel" (239 : Nat) ({ cls := "SlidingtrayModel", name := "fromParts", desc := "([I)I" } : Jvm.MethodName)) ∈ lw_all := lw_g (lw_at lw_m13 160 rfl) rfl
theorem q3142 : (Jvm.Cond.privateMethod ({ cls := "SlidingtrayModel", name := "fromParts", desc := "([I)I" } : Jvm.MethodName)) ∈ lw_tbl := lw_at lw_m13 161 rfl
theorem q3143 : (Jvm.Cond.instanceMethod ({ cls := "SlidingtrayModel", name := "fromParts", desc := "([I)I" } : Jvm.MethodName)) ∈ lw_all := lw_g (lw_at lw_m13 162 rfl) rfl
theorem q3144 : (Jvm.Cond.code ({ cls := "SlidingtrayModel", name := "fromParts", desc := "([I)I" } : Jvm.MethodName) prog_15_method_24_code (7 : Nat) (Option.some Jvm.ClassFile.FieldType.int)) ∈ lw_all := lw_g (lw_at lw_m13 163 rfl) rfl
theorem q3146 : (Jvm.Cond.instanceMethod ({ cls := "SlidingtrayModel", name := "solve", desc := "(I)I" } : Jvm.MethodName)) ∈ lw_all := lw_g (lw_at lw_m13 165 rfl) rfl
theorem q3147 : (Jvm.Cond.selects "SlidingtrayModel" ({ cls := "SlidingtrayModel", name := "solve", desc := "(I)I" } : Jvm.MethodName) ({ cls := "SlidingtrayModel", name := "solve", desc := "(I)I" } : Jvm.MethodName)) ∈ lw_all := lw_g (lw_at lw_m13 166 rfl) rfl
theorem q3148 : (Jvm.Cond.code ({ cls := "SlidingtrayModel", name := "solve", desc := "(I)I" } : Jvm.MethodName) prog_15_method_65_code (3 : Nat) (Option.some Jvm.ClassFile.FieldType.int)) ∈ lw_all := lw_g (lw_at lw_m13 167 rfl) rfl
theorem q3149 : (Jvm.Cond.methodLink "SlidingtrayModel" (343 : Nat) ({ cls := "SlidingtrayModel", name := "laysRow", desc := "()V" } : Jvm.MethodName)) ∈ lw_all := lw_g (lw_at lw_m13 168 rfl) rfl
theorem q3150 : (Jvm.Cond.privateMethod ({ cls := "SlidingtrayModel", name := "laysRow", desc := "()V" } : Jvm.MethodName)) ∈ lw_tbl := lw_at lw_m13 169 rfl
theorem q3151 : (Jvm.Cond.instanceMethod ({ cls := "SlidingtrayModel", name := "laysRow", desc := "()V" } : Jvm.MethodName)) ∈ lw_all := lw_g (lw_at lw_m13 170 rfl) rfl
theorem q3152 : (Jvm.Cond.code ({ cls := "SlidingtrayModel", name := "laysRow", desc := "()V" } : Jvm.MethodName) prog_15_method_64_code (2 : Nat) (Option.none : Option Jvm.ClassFile.FieldType)) ∈ lw_all := lw_g (lw_at lw_m13 171 rfl) rfl
theorem q3153 : (Jvm.Cond.methodLink "SlidingtrayModel" (346 : Nat) ({ cls := "SlidingtrayModel", name := "searches", desc := "(II)I" } : Jvm.MethodName)) ∈ lw_all := lw_g (lw_at lw_m13 172 rfl) rfl
theorem q3154 : (Jvm.Cond.privateMethod ({ cls := "SlidingtrayModel", name := "searches", desc := "(II)I" } : Jvm.MethodName)) ∈ lw_tbl := lw_at lw_m13 173 rfl
theorem q3155 : (Jvm.Cond.instanceMethod ({ cls := "SlidingtrayModel", name := "searches", desc := "(II)I" } : Jvm.MethodName)) ∈ lw_all := lw_g (lw_at lw_m13 174 rfl) rfl
theorem q3156 : (Jvm.Cond.code ({ cls := "SlidingtrayModel", name := "searches", desc := "(II)I" } : Jvm.MethodName) prog_15_method_61_code (8 : Nat) (Option.some Jvm.ClassFile.FieldType.int)) ∈ lw_all := lw_g (lw_at lw_m13 175 rfl) rfl
theorem q3157 : (Jvm.Cond.methodLink "SlidingtrayModel" (314 : Nat) ({ cls := "SlidingtrayModel", name := "clearsStates", desc := "()V" } : Jvm.MethodName)) ∈ lw_all := lw_g (lw_at lw_m13 176 rfl) rfl
theorem q3158 : (Jvm.Cond.privateMethod ({ cls := "SlidingtrayModel", name := "clearsStates", desc := "()V" } : Jvm.MethodName)) ∈ lw_tbl := lw_at lw_m13 177 rfl
theorem q3159 : (Jvm.Cond.instanceMethod ({ cls := "SlidingtrayModel", name := "clearsStates", desc := "()V" } : Jvm.MethodName)) ∈ lw_all := lw_g (lw_at lw_m13 178 rfl) rfl
theorem q3160 : (Jvm.Cond.code ({ cls := "SlidingtrayModel", name := "clearsStates", desc := "()V" } : Jvm.MethodName) prog_15_method_57_code (2 : Nat) (Option.none : Option Jvm.ClassFile.FieldType)) ∈ lw_all := lw_g (lw_at lw_m13 179 rfl) rfl
theorem q3161 : (Jvm.Cond.methodLink "SlidingtrayModel" (326 : Nat) ({ cls := "SlidingtrayModel", name := "finds", desc := "(IIII)I" } : Jvm.MethodName)) ∈ lw_all := lw_g (lw_at lw_m13 180 rfl) rfl
theorem q3162 : (Jvm.Cond.privateMethod ({ cls := "SlidingtrayModel", name := "finds", desc := "(IIII)I" } : Jvm.MethodName)) ∈ lw_tbl := lw_at lw_m13 181 rfl
theorem q3163 : (Jvm.Cond.instanceMethod ({ cls := "SlidingtrayModel", name := "finds", desc := "(IIII)I" } : Jvm.MethodName)) ∈ lw_all := lw_g (lw_at lw_m13 182 rfl) rfl
theorem q3164 : (Jvm.Cond.code ({ cls := "SlidingtrayModel", name := "finds", desc := "(IIII)I" } : Jvm.MethodName) prog_15_method_58_code (9 : Nat) (Option.some Jvm.ClassFile.FieldType.int)) ∈ lw_all := lw_g (lw_at lw_m13 183 rfl) rfl
theorem q3165 : (Jvm.Cond.methodLink "SlidingtrayModel" (310 : Nat) ({ cls := "SlidingtrayModel", name := "seek", desc := "(J)I" } : Jvm.MethodName)) ∈ lw_all := lw_g (lw_at lw_m13 184 rfl) rfl
theorem q3166 : (Jvm.Cond.privateMethod ({ cls := "SlidingtrayModel", name := "seek", desc := "(J)I" } : Jvm.MethodName)) ∈ lw_tbl := lw_at lw_m13 185 rfl
theorem q3167 : (Jvm.Cond.instanceMethod ({ cls := "SlidingtrayModel", name := "seek", desc := "(J)I" } : Jvm.MethodName)) ∈ lw_all := lw_g (lw_at lw_m13 186 rfl) rfl
theorem q3168 : (Jvm.Cond.code ({ cls := "SlidingtrayModel", name := "seek", desc := "(J)I" } : Jvm.MethodName) prog_15_method_56_code (4 : Nat) (Option.some Jvm.ClassFile.FieldType.int)) ∈ lw_all := lw_g (lw_at lw_m13 187 rfl) rfl
theorem q3169 : (Jvm.Cond.constantLong "SlidingtrayModel" (305 : Nat) (16381 : Int64)) ∈ lw_all := lw_g (lw_at lw_m13 188 rfl) rfl
theorem q3170 : (Jvm.Cond.methodLink "SlidingtrayModel" (330 : Nat) ({ cls := "SlidingtrayModel", name := "goesAhead", desc := "(II)Z" } : Jvm.MethodName)) ∈ lw_all := lw_g (lw_at lw_m13 189 rfl) rfl
theorem q3171 : (Jvm.Cond.privateMethod ({ cls := "SlidingtrayModel", name := "goesAhead", desc := "(II)Z" } : Jvm.MethodName)) ∈ lw_tbl := lw_at lw_m13 190 rfl
theorem q3172 : (Jvm.Cond.instanceMethod ({ cls := "SlidingtrayModel", name := "goesAhead", desc := "(II)Z" } : Jvm.MethodName)) ∈ lw_all := lw_g (lw_at lw_m13 191 rfl) rfl
theorem q3173 : (Jvm.Cond.code ({ cls := "SlidingtrayModel", name := "goesAhead", desc := "(II)Z" } : Jvm.MethodName) prog_15_method_59_code (5 : Nat) (Option.some Jvm.ClassFile.FieldType.boolean)) ∈ lw_all := lw_g (lw_at lw_m13 192 rfl) rfl
theorem q3174 : (Jvm.Cond.methodLink "SlidingtrayModel" (333 : Nat) ({ cls := "SlidingtrayModel", name := "loads", desc := "(I)V" } : Jvm.MethodName)) ∈ lw_all := lw_g (lw_at lw_m13 193 rfl) rfl
theorem q3175 : (Jvm.Cond.privateMethod ({ cls := "SlidingtrayModel", name := "loads", desc := "(I)V" } : Jvm.MethodName)) ∈ lw_tbl := lw_at lw_m13 194 rfl
theorem q3176 : (Jvm.Cond.instanceMethod ({ cls := "SlidingtrayModel", name := "loads", desc := "(I)V" } : Jvm.MethodName)) ∈ lw_all := lw_g (lw_at lw_m13 195 rfl) rfl
theorem q3177 : (Jvm.Cond.code ({ cls := "SlidingtrayModel", name := "loads", desc := "(I)V" } : Jvm.MethodName) prog_15_method_60_code (3 : Nat) (Option.none : Option Jvm.ClassFile.FieldType)) ∈ lw_all := lw_g (lw_at lw_m13 196 rfl) rfl
theorem q3178 : (Jvm.Cond.methodLink "SlidingtrayModel" (336 : Nat) ({ cls := "SlidingtrayModel", name := "isGoal", desc := "([I)Z" } : Jvm.MethodName)) ∈ lw_all := lw_g (lw_at lw_m13 197 rfl) rfl
theorem q3179 : (Jvm.Cond.privateMethod ({ cls := "SlidingtrayModel", name := "isGoal", desc := "([I)Z" } : Jvm.MethodName)) ∈ lw_tbl := lw_at lw_m13 198 rfl
theorem q3180 : (Jvm.Cond.instanceMethod ({ cls := "SlidingtrayModel", name := "isGoal", desc := "([I)Z" } : Jvm.MethodName)) ∈ lw_all := lw_g (lw_at lw_m13 199 rfl) rfl
theorem q3181 : (Jvm.Cond.code ({ cls := "SlidingtrayModel", name := "isGoal", desc := "([I)Z" } : Jvm.MethodName) prog_15_method_32_code (4 : Nat) (Option.some Jvm.ClassFile.FieldType.boolean)) ∈ lw_all := lw_g (lw_at lw_m13 200 rfl) rfl
theorem q3182 : (Jvm.Cond.methodLink "SlidingtrayModel" (340 : Nat) ({ cls := "SlidingtrayModel", name := "tracks", desc := "(I)V" } : Jvm.MethodName)) ∈ lw_all := lw_g (lw_at lw_m13 201 rfl) rfl
theorem q3183 : (Jvm.Cond.privateMethod ({ cls := "SlidingtrayModel", name := "tracks", desc := "(I)V" } : Jvm.MethodName)) ∈ lw_tbl := lw_at lw_m13 202 rfl
theorem q3184 : (Jvm.Cond.instanceMethod ({ cls := "SlidingtrayModel", name := "tracks", desc := "(I)V" } : Jvm.MethodName)) ∈ lw_all := lw_g (lw_at lw_m13 203 rfl) rfl
theorem q3185 : (Jvm.Cond.code ({ cls := "SlidingtrayModel", name := "tracks", desc := "(I)V" } : Jvm.MethodName) prog_15_method_62_code (4 : Nat) (Option.none : Option Jvm.ClassFile.FieldType)) ∈ lw_all := lw_g (lw_at lw_m13 204 rfl) rfl
theorem q3186 : (Jvm.Cond.methodLink "SlidingtrayModel" (349 : Nat) ({ cls := "SlidingtrayModel", name := "tells", desc := "()V" } : Jvm.MethodName)) ∈ lw_all := lw_g (lw_at lw_m13 205 rfl) rfl
theorem q3187 : (Jvm.Cond.privateMethod ({ cls := "SlidingtrayModel", name := "tells", desc := "()V" } : Jvm.MethodName)) ∈ lw_tbl := lw_at lw_m13 206 rfl
theorem q3188 : (Jvm.Cond.instanceMethod ({ cls := "SlidingtrayModel", name := "tells", desc := "()V" } : Jvm.MethodName)) ∈ lw_all := lw_g (lw_at lw_m13 207 rfl) rfl
theorem q3189 : (Jvm.Cond.code ({ cls := "SlidingtrayModel", name := "tells", desc := "()V" } : Jvm.MethodName) prog_15_method_63_code (2 : Nat) (Option.none : Option Jvm.ClassFile.FieldType)) ∈ lw_all := lw_g (lw_at lw_m13 208 rfl) rfl
theorem q3191 : (Jvm.Cond.instanceMethod ({ cls := "SlidingtrayModel", name := "deepen", desc := "(I)I" } : Jvm.MethodName)) ∈ lw_all := lw_g (lw_at lw_m13 210 rfl) rfl
theorem q3192 : (Jvm.Cond.selects "SlidingtrayModel" ({ cls := "SlidingtrayModel", name := "deepen", desc := "(I)I" } : Jvm.MethodName) ({ cls := "SlidingtrayModel", name := "deepen", desc := "(I)I" } : Jvm.MethodName)) ∈ lw_all := lw_g (lw_at lw_m13 211 rfl) rfl
theorem q3193 : (Jvm.Cond.code ({ cls := "SlidingtrayModel", name := "deepen", desc := "(I)I" } : Jvm.MethodName) prog_15_method_69_code (3 : Nat) (Option.some Jvm.ClassFile.FieldType.int)) ∈ lw_all := lw_g (lw_at lw_m13 212 rfl) rfl
theorem q3194 : (Jvm.Cond.methodLink "SlidingtrayModel" (371 : Nat) ({ cls := "SlidingtrayModel", name := "searchesDeeper", desc := "(I)I" } : Jvm.MethodName)) ∈ lw_all := lw_g (lw_at lw_m13 213 rfl) rfl
theorem q3195 : (Jvm.Cond.privateMethod ({ cls := "SlidingtrayModel", name := "searchesDeeper", desc := "(I)I" } : Jvm.MethodName)) ∈ lw_tbl := lw_at lw_m13 214 rfl
theorem q3196 : (Jvm.Cond.instanceMethod ({ cls := "SlidingtrayModel", name := "searchesDeeper", desc := "(I)I" } : Jvm.MethodName)) ∈ lw_all := lw_g (lw_at lw_m13 215 rfl) rfl
theorem q3197 : (Jvm.Cond.code ({ cls := "SlidingtrayModel", name := "searchesDeeper", desc := "(I)I" } : Jvm.MethodName) prog_15_method_68_code (4 : Nat) (Option.some Jvm.ClassFile.FieldType.int)) ∈ lw_all := lw_g (lw_at lw_m13 216 rfl) rfl
theorem q3198 : (Jvm.Cond.methodLink "SlidingtrayModel" (368 : Nat) ({ cls := "SlidingtrayModel", name := "deepens", desc := "()I" } : Jvm.MethodName)) ∈ lw_all := lw_g (lw_at lw_m13 217 rfl) rfl
theorem q3199 : (Jvm.Cond.privateMethod ({ cls := "SlidingtrayModel", name := "deepens", desc := "()I" } : Jvm.MethodName)) ∈ lw_tbl := lw_at lw_m13 218 rfl
theorem q3200 : (Jvm.Cond.instanceMethod ({ cls := "SlidingtrayModel", name := "deepens", desc := "()I" } : Jvm.MethodName)) ∈ lw_all := lw_g (lw_at lw_m13 219 rfl) rfl
theorem q3201 : (Jvm.Cond.code ({ cls := "SlidingtrayModel", name := "deepens", desc := "()I" } : Jvm.MethodName) prog_15_method_67_code (8 : Nat) (Option.some Jvm.ClassFile.FieldType.int)) ∈ lw_all := lw_g (lw_at lw_m13 220 rfl) rfl
theorem q3202 : (Jvm.Cond.methodLink "SlidingtrayModel" (365 : Nat) ({ cls := "SlidingtrayModel", name := "comesTo", desc := "(I)I" } : Jvm.MethodName)) ∈ lw_all := lw_g (lw_at lw_m13 221 rfl) rfl
theorem q3203 : (Jvm.Cond.privateMethod ({ cls := "SlidingtrayModel", name := "comesTo", desc := "(I)I" } : Jvm.MethodName)) ∈ lw_tbl := lw_at lw_m13 222 rfl
theorem q3204 : (Jvm.Cond.instanceMethod ({ cls := "SlidingtrayModel", name := "comesTo", desc := "(I)I" } : Jvm.MethodName)) ∈ lw_all := lw_g (lw_at lw_m13 223 rfl) rfl
theorem q3205 : (Jvm.Cond.code ({ cls := "SlidingtrayModel", name := "comesTo", desc := "(I)I" } : Jvm.MethodName) prog_15_method_66_code (3 : Nat) (Option.some Jvm.ClassFile.FieldType.int)) ∈ lw_all := lw_g (lw_at lw_m13 224 rfl) rfl
theorem q3207 : (Jvm.Cond.instanceMethod ({ cls := "SlidingtrayModel", name := "both", desc := "()I" } : Jvm.MethodName)) ∈ lw_all := lw_g (lw_at lw_m13 226 rfl) rfl
theorem q3208 : (Jvm.Cond.selects "SlidingtrayModel" ({ cls := "SlidingtrayModel", name := "both", desc := "()I" } : Jvm.MethodName) ({ cls := "SlidingtrayModel", name := "both", desc := "()I" } : Jvm.MethodName)) ∈ lw_all := lw_g (lw_at lw_m13 227 rfl) rfl
theorem q3209 : (Jvm.Cond.code ({ cls := "SlidingtrayModel", name := "both", desc := "()I" } : Jvm.MethodName) prog_15_method_73_code (10 : Nat) (Option.some Jvm.ClassFile.FieldType.int)) ∈ lw_all := lw_g (lw_at lw_m13 228 rfl) rfl
theorem q3210 : (Jvm.Cond.methodLink "SlidingtrayModel" (377 : Nat) ({ cls := "SlidingtrayModel", name := "findsFrom", desc := "(II)Z" } : Jvm.MethodName)) ∈ lw_all := lw_g (lw_at lw_m13 229 rfl) rfl
theorem q3211 : (Jvm.Cond.privateMethod ({ cls := "SlidingtrayModel", name := "findsFrom", desc := "(II)Z" } : Jvm.MethodName)) ∈ lw_tbl := lw_at lw_m13 230 rfl
theorem q3212 : (Jvm.Cond.instanceMethod ({ cls := "SlidingtrayModel", name := "findsFrom", desc := "(II)Z" } : Jvm.MethodName)) ∈ lw_all := lw_g (lw_at lw_m13 231 rfl) rfl
theorem q3213 : (Jvm.Cond.code ({ cls := "SlidingtrayModel", name := "findsFrom", desc := "(II)Z" } : Jvm.MethodName) prog_15_method_71_code (5 : Nat) (Option.some Jvm.ClassFile.FieldType.boolean)) ∈ lw_all := lw_g (lw_at lw_m13 232 rfl) rfl
theorem q3214 : (Jvm.Cond.methodLink "SlidingtrayModel" (374 : Nat) ({ cls := "SlidingtrayModel", name := "asked", desc := "(II)I" } : Jvm.MethodName)) ∈ lw_all := lw_g (lw_at lw_m13 233 rfl) rfl
theorem q3215 : (Jvm.Cond.privateMethod ({ cls := "SlidingtrayModel", name := "asked", desc := "(II)I" } : Jvm.MethodName)) ∈ lw_tbl := lw_at lw_m13 234 rfl
theorem q3216 : (Jvm.Cond.instanceMethod ({ cls := "SlidingtrayModel", name := "asked", desc := "(II)I" } : Jvm.MethodName)) ∈ lw_all := lw_g (lw_at lw_m13 235 rfl) rfl
theorem q3217 : (Jvm.Cond.code ({ cls := "SlidingtrayModel", name := "asked", desc := "(II)I" } : Jvm.MethodName) prog_15_method_70_code (3 : Nat) (Option.some Jvm.ClassFile.FieldType.int)) ∈ lw_all := lw_g (lw_at lw_m13 236 rfl) rfl
theorem q3218 : (Jvm.Cond.methodLink "SlidingtrayModel" (380 : Nat) ({ cls := "SlidingtrayModel", name := "isMet", desc := "(I)Z" } : Jvm.MethodName)) ∈ lw_all := lw_g (lw_at lw_m13 237 rfl) rfl
theorem q3219 : (Jvm.Cond.privateMethod ({ cls := "SlidingtrayModel", name := "isMet", desc := "(I)Z" } : Jvm.MethodName)) ∈ lw_tbl := lw_at lw_m13 238 rfl
theorem q3220 : (Jvm.Cond.instanceMethod ({ cls := "SlidingtrayModel", name := "isMet", desc := "(I)Z" } : Jvm.MethodName)) ∈ lw_all := lw_g (lw_at lw_m13 239 rfl) rfl
theorem q3221 : (Jvm.Cond.code ({ cls := "SlidingtrayModel", name := "isMet", desc := "(I)Z" } : Jvm.MethodName) prog_15_method_72_code (4 : Nat) (Option.some Jvm.ClassFile.FieldType.boolean)) ∈ lw_all := lw_g (lw_at lw_m14 0 rfl) rfl
theorem q3223 : (Jvm.Cond.instanceMethod ({ cls := "SlidingtrayModel", name := "searched", desc := "(I)I" } : Jvm.MethodName)) ∈ lw_all := lw_g (lw_at lw_m14 2 rfl) rfl
theorem q3224 : (Jvm.Cond.selects "SlidingtrayModel" ({ cls := "SlidingtrayModel", name := "searched", desc := "(I)I" } : Jvm.MethodName) ({ cls := "SlidingtrayModel", name := "searched", desc := "(I)I" } : Jvm.MethodName)) ∈ lw_all := lw_g (lw_at lw_m14 3 rfl) rfl
theorem q3225 : (Jvm.Cond.code ({ cls := "SlidingtrayModel", name := "searched", desc := "(I)I" } : Jvm.MethodName) prog_15_method_74_code (2 : Nat) (Option.some Jvm.ClassFile.FieldType.int)) ∈ lw_all := lw_g (lw_at lw_m14 4 rfl) rfl
theorem q3227 : (Jvm.Cond.instanceMethod ({ cls := "SlidingtrayModel", name := "wayAt", desc := "(I)I" } : Jvm.MethodName)) ∈ lw_all := lw_g (lw_at lw_m14 6 rfl) rfl
theorem q3228 : (Jvm.Cond.selects "SlidingtrayModel" ({ cls := "SlidingtrayModel", name := "wayAt", desc := "(I)I" } : Jvm.MethodName) ({ cls := "SlidingtrayModel", name := "wayAt", desc := "(I)I" } : Jvm.MethodName)) ∈ lw_all := lw_g (lw_at lw_m14 7 rfl) rfl
theorem q3229 : (Jvm.Cond.code ({ cls := "SlidingtrayModel", name := "wayAt", desc := "(I)I" } : Jvm.MethodName) prog_15_method_75_code (2 : Nat) (Option.some Jvm.ClassFile.FieldType.int)) ∈ lw_all := lw_g (lw_at lw_m14 8 rfl) rfl
theorem q3231 : (Jvm.Cond.instanceMethod ({ cls := "SlidingtrayModel", name := "hint", desc := "()I" } : Jvm.MethodName)) ∈ lw_all := lw_g (lw_at lw_m14 10 rfl) rfl
theorem q3232 : (Jvm.Cond.selects "SlidingtrayModel" ({ cls := "SlidingtrayModel", name := "hint", desc := "()I" } : Jvm.MethodName) ({ cls := "SlidingtrayModel", name := "hint", desc := "()I" } : Jvm.MethodName)) ∈ lw_all := lw_g (lw_at lw_m14 11 rfl) rfl
theorem q3233 : (Jvm.Cond.code ({ cls := "SlidingtrayModel", name := "hint", desc := "()I" } : Jvm.MethodName) prog_15_method_76_code (5 : Nat) (Option.some Jvm.ClassFile.FieldType.int)) ∈ lw_all := lw_g (lw_at lw_m14 12 rfl) rfl
theorem q3235 : (Jvm.Cond.instanceMethod ({ cls := "SlidingtrayModel", name := "far", desc := "(I)I" } : Jvm.MethodName)) ∈ lw_all := lw_g (lw_at lw_m14 14 rfl) rfl
theorem q3236 : (Jvm.Cond.selects "SlidingtrayModel" ({ cls := "SlidingtrayModel", name := "far", desc := "(I)I" } : Jvm.MethodName) ({ cls := "SlidingtrayModel", name := "far", desc := "(I)I" } : Jvm.MethodName)) ∈ lw_all := lw_g (lw_at lw_m14 15 rfl) rfl
theorem q3237 : (Jvm.Cond.code ({ cls := "SlidingtrayModel", name := "far", desc := "(I)I" } : Jvm.MethodName) prog_15_method_80_code (8 : Nat) (Option.some Jvm.ClassFile.FieldType.int)) ∈ lw_all := lw_g (lw_at lw_m14 16 rfl) rfl
theorem q3238 : (Jvm.Cond.methodLink "SlidingtrayModel" (389 : Nat) ({ cls := "SlidingtrayModel", name := "reckons", desc := "()V" } : Jvm.MethodName)) ∈ lw_all := lw_g (lw_at lw_m14 17 rfl) rfl
theorem q3239 : (Jvm.Cond.privateMethod ({ cls := "SlidingtrayModel", name := "reckons", desc := "()V" } : Jvm.MethodName)) ∈ lw_tbl := lw_at lw_m14 18 rfl
theorem q3240 : (Jvm.Cond.instanceMethod ({ cls := "SlidingtrayModel", name := "reckons", desc := "()V" } : Jvm.MethodName)) ∈ lw_all := lw_g (lw_at lw_m14 19 rfl) rfl
theorem q3241 : (Jvm.Cond.code ({ cls := "SlidingtrayModel", name := "reckons", desc := "()V" } : Jvm.MethodName) prog_15_method_77_code (4 : Nat) (Option.none : Option Jvm.ClassFile.FieldType)) ∈ lw_all := lw_g (lw_at lw_m14 20 rfl) rfl
theorem q3242 : (Jvm.Cond.methodLink "SlidingtrayModel" (392 : Nat) ({ cls := "SlidingtrayModel", name := "countsWays", desc := "()V" } : Jvm.MethodName)) ∈ lw_all := lw_g (lw_at lw_m14 21 rfl) rfl
theorem q3243 : (Jvm.Cond.privateMethod ({ cls := "SlidingtrayModel", name := "countsWays", desc := "()V" } : Jvm.MethodName)) ∈ lw_tbl := lw_at lw_m14 22 rfl
theorem q3244 : (Jvm.Cond.instanceMethod ({ cls := "SlidingtrayModel", name := "countsWays", desc := "()V" } : Jvm.MethodName)) ∈ lw_all := lw_g (lw_at lw_m14 23 rfl) rfl
theorem q3245 : (Jvm.Cond.code ({ cls := "SlidingtrayModel", name := "countsWays", desc := "()V" } : Jvm.MethodName) prog_15_method_79_code (7 : Nat) (Option.none : Option Jvm.ClassFile.FieldType)) ∈ lw_all := lw_g (lw_at lw_m14 24 rfl) rfl
theorem q3246 : (Jvm.Cond.methodLink "SlidingtrayModel" (385 : Nat) ({ cls := "SlidingtrayModel", name := "farthest", desc := "()I" } : Jvm.MethodName)) ∈ lw_all := lw_g (lw_at lw_m14 25 rfl) rfl
theorem q3247 : (Jvm.Cond.privateMethod ({ cls := "SlidingtrayModel", name := "farthest", desc := "()I" } : Jvm.MethodName)) ∈ lw_tbl := lw_at lw_m14 26 rfl
theorem q3248 : (Jvm.Cond.instanceMethod ({ cls := "SlidingtrayModel", name := "farthest", desc := "()I" } : Jvm.MethodName)) ∈ lw_all := lw_g (lw_at lw_m14 27 rfl) rfl
theorem q3249 : (Jvm.Cond.code ({ cls := "SlidingtrayModel", name := "farthest", desc := "()I" } : Jvm.MethodName) prog_15_method_78_code (3 : Nat) (Option.some Jvm.ClassFile.FieldType.int)) ∈ lw_all := lw_g (lw_at lw_m14 28 rfl) rfl
theorem q3250 : (Jvm.Cond.constant "SlidingtrayModel" (388 : Nat) (1000000 : Int32)) ∈ lw_all := lw_g (lw_at lw_m14 29 rfl) rfl
theorem q3252 : (Jvm.Cond.instanceMethod ({ cls := "SlidingtrayModel", name := "onlyWay", desc := "(I)I" } : Jvm.MethodName)) ∈ lw_all := lw_g (lw_at lw_m14 31 rfl) rfl
theorem q3253 : (Jvm.Cond.selects "SlidingtrayModel" ({ cls := "SlidingtrayModel", name := "onlyWay", desc := "(I)I" } : Jvm.MethodName) ({ cls := "SlidingtrayModel", name := "onlyWay", desc := "(I)I" } : Jvm.MethodName)) ∈ lw_all := lw_g (lw_at lw_m14 32 rfl) rfl
theorem q3254 : (Jvm.Cond.code ({ cls := "SlidingtrayModel", name := "onlyWay", desc := "(I)I" } : Jvm.MethodName) prog_15_method_81_code (3 : Nat) (Option.some Jvm.ClassFile.FieldType.int)) ∈ lw_all := lw_g (lw_at lw_m14 33 rfl) rfl
theorem q3256 : (Jvm.Cond.instanceMethod ({ cls := "SlidingtrayModel", name := "isFair", desc := "(I)Z" } : Jvm.MethodName)) ∈ lw_all := lw_g (lw_at lw_m14 35 rfl) rfl
theorem q3257 : (Jvm.Cond.selects "SlidingtrayModel" ({ cls := "SlidingtrayModel", name := "isFair", desc := "(I)Z" } : Jvm.MethodName) ({ cls := "SlidingtrayModel", name := "isFair", desc := "(I)Z" } : Jvm.MethodName)) ∈ lw_all := lw_g (lw_at lw_m14 36 rfl) rfl
theorem q3258 : (Jvm.Cond.code ({ cls := "SlidingtrayModel", name := "isFair", desc := "(I)Z" } : Jvm.MethodName) prog_15_method_83_code (2 : Nat) (Option.some Jvm.ClassFile.FieldType.boolean)) ∈ lw_all := lw_g (lw_at lw_m14 37 rfl) rfl
theorem q3259 : (Jvm.Cond.methodLink "SlidingtrayModel" (395 : Nat) ({ cls := "SlidingtrayModel", name := "isFairBy", desc := "(I)Z" } : Jvm.MethodName)) ∈ lw_all := lw_g (lw_at lw_m14 38 rfl) rfl
theorem q3260 : (Jvm.Cond.privateMethod ({ cls := "SlidingtrayModel", name := "isFairBy", desc := "(I)Z" } : Jvm.MethodName)) ∈ lw_tbl := lw_at lw_m14 39 rfl
theorem q3261 : (Jvm.Cond.instanceMethod ({ cls := "SlidingtrayModel", name := "isFairBy", desc := "(I)Z" } : Jvm.MethodName)) ∈ lw_all := lw_g (lw_at lw_m14 40 rfl) rfl
theorem q3262 : (Jvm.Cond.code ({ cls := "SlidingtrayModel", name := "isFairBy", desc := "(I)Z" } : Jvm.MethodName) prog_15_method_82_code (6 : Nat) (Option.some Jvm.ClassFile.FieldType.boolean)) ∈ lw_all := lw_g (lw_at lw_m14 41 rfl) rfl
theorem q3264 : (Jvm.Cond.instanceMethod ({ cls := "SlidingtrayModel", name := "meanWeight", desc := "()D" } : Jvm.MethodName)) ∈ lw_all := lw_g (lw_at lw_m14 43 rfl) rfl
theorem q3265 : (Jvm.Cond.selects "SlidingtrayModel" ({ cls := "SlidingtrayModel", name := "meanWeight", desc := "()D" } : Jvm.MethodName) ({ cls := "SlidingtrayModel", name := "meanWeight", desc := "()D" } : Jvm.MethodName)) ∈ lw_all := lw_g (lw_at lw_m14 44 rfl) rfl
theorem q3266 : (Jvm.Cond.code ({ cls := "SlidingtrayModel", name := "meanWeight", desc := "()D" } : Jvm.MethodName) prog_15_method_84_code (3 : Nat) (Option.some Jvm.ClassFile.FieldType.double)) ∈ lw_all := lw_g (lw_at lw_m14 45 rfl) rfl
theorem q3268 : (Jvm.Cond.instanceMethod ({ cls := "SlidingtrayModel", name := "settled", desc := "()F" } : Jvm.MethodName)) ∈ lw_all := lw_g (lw_at lw_m14 47 rfl) rfl
theorem q3269 : (Jvm.Cond.selects "SlidingtrayModel" ({ cls := "SlidingtrayModel", name := "settled", desc := "()F" } : Jvm.MethodName) ({ cls := "SlidingtrayModel", name := "settled", desc := "()F" } : Jvm.MethodName)) ∈ lw_all := lw_g (lw_at lw_m14 48 rfl) rfl
theorem q3270 : (Jvm.Cond.code ({ cls := "SlidingtrayModel", name := "settled", desc := "()F" } : Jvm.MethodName) prog_15_method_85_code (6 : Nat) (Option.some Jvm.ClassFile.FieldType.float)) ∈ lw_all := lw_g (lw_at lw_m14 49 rfl) rfl
theorem q3272 : (Jvm.Cond.instanceMethod ({ cls := "SlidingtrayModel", name := "errors", desc := "()I" } : Jvm.MethodName)) ∈ lw_all := lw_g (lw_at lw_m14 51 rfl) rfl
theorem q3273 : (Jvm.Cond.selects "SlidingtrayModel" ({ cls := "SlidingtrayModel", name := "errors", desc := "()I" } : Jvm.MethodName) ({ cls := "SlidingtrayModel", name := "errors", desc := "()I" } : Jvm.MethodName)) ∈ lw_all := lw_g (lw_at lw_m14 52 rfl) rfl
theorem q3274 : (Jvm.Cond.code ({ cls := "SlidingtrayModel", name := "errors", desc := "()I" } : Jvm.MethodName) prog_15_method_87_code (7 : Nat) (Option.some Jvm.ClassFile.FieldType.int)) ∈ lw_all := lw_g (lw_at lw_m14 53 rfl) rfl
theorem q3275 : (Jvm.Cond.methodLink "SlidingtrayModel" (398 : Nat) ({ cls := "SlidingtrayModel", name := "isRowAsLies", desc := "()Z" } : Jvm.MethodName)) ∈ lw_all := lw_g (lw_at lw_m14 54 rfl) rfl
theorem q3276 : (Jvm.Cond.privateMethod ({ cls := "SlidingtrayModel", name := "isRowAsLies", desc := "()Z" } : Jvm.MethodName)) ∈ lw_tbl := lw_at lw_m14 55 rfl
theorem q3277 : (Jvm.Cond.instanceMethod ({ cls := "SlidingtrayModel", name := "isRowAsLies", desc := "()Z" } : Jvm.MethodName)) ∈ lw_all := lw_g (lw_at lw_m14 56 rfl) rfl
theorem q3278 : (Jvm.Cond.code ({ cls := "SlidingtrayModel", name := "isRowAsLies", desc := "()Z" } : Jvm.MethodName) prog_15_method_86_code (3 : Nat) (Option.some Jvm.ClassFile.FieldType.boolean)) ∈ lw_all := lw_g (lw_at lw_m14 57 rfl) rfl
theorem q3310 : (Jvm.Cond.castable "SlidingtrayModel" "java/lang/Object") ∈ lw_tbl := lw_at lw_m14 89 rfl
theorem in_X6 : ∀ w ∈ wsX60, w ∈ lw_all := lw_in wsX60 [2810, 2812, 2814, 2816, 2818, 2820, 2822, 2824, 2826, 2828, 2830, 2832, 2834, 2836, 2838, 2840, 2842, 2844, 2846, 2848, 2850, 2852, 2854, 2856, 2858, 2860, 2862, 2864, 2866, 2868, 2870, 2872, 2874, 2876, 2878, 2880, 2882, 2884, 2886, 2888, 2890, 2892, 2894, 2896, 2898, 2900, 2902, 2904, 2906, 2908, 2910, 2912, 2914, 2916, 2918, 2920, 2922, 2924, 2926, 2928, 2930, 2932, 2934, 2936, 2938, 2940, 2942] (by decide +kernel) (by decide +kernel)

