set_option maxRecDepth 100000
/-! java/lang/Throwable -/
def RJ0 : String := "java/lang/Throwable"
def TJ0 : u_T := fun k => match k with
  | 0 => ("java/lang/Throwable", "cause", "Ljava/lang/Throwable;", false)
  | 1 => ("java/lang/Throwable", "stackTrace", "[Ljava/lang/StackTraceElement;", false)
  | 2 => ("java/lang/Throwable", "suppressedExceptions", "Ljava/util/List;", false)
  | 3 => ("java/lang/Throwable", "detailMessage", "Ljava/lang/String;", false)
  | _ => ("java/lang/Throwable", "backtrace", "Ljava/lang/Object;", false)
def tyJ0 : Nat → FieldType := fun k => match k with
  | 0 => .object "java/lang/Throwable"
  | 1 => .array (.object "java/lang/StackTraceElement")
  | 2 => .object "java/util/List"
  | 3 => .object "java/lang/String"
  | _ => .object "java/lang/Object"
abbrev wsJ00 : List Cond := u_ws RJ0 TJ0 5
theorem nmJ0 : ∀ a, a < 5 → ∀ b, b < 5 → a ≠ b → (TJ0 a).2.1 ≠ (TJ0 b).2.1 := by decide +kernel
theorem tyJ0_ok : ∀ k, k < 5 → parseFieldDescriptor (TJ0 k).2.2.1 = some (tyJ0 k) := by decide +kernel
/-! java/lang/Exception -/
def RJ1 : String := "java/lang/Exception"
/-! java/lang/RuntimeException -/
def RJ2 : String := "java/lang/RuntimeException"
/-! java/lang/Math -/
def RJ3 : String := "java/lang/Math"
/-! java/lang/Long -/
def RJ4 : String := "java/lang/Long"
/-! java/lang/IllegalArgumentException -/
def RJ5 : String := "java/lang/IllegalArgumentException"
def TJ5 : u_T := fun k => match k with
  | 0 => ("java/lang/Throwable", "cause", "Ljava/lang/Throwable;", false)
  | 1 => ("java/lang/Throwable", "stackTrace", "[Ljava/lang/StackTraceElement;", false)
  | 2 => ("java/lang/Throwable", "suppressedExceptions", "Ljava/util/List;", false)
  | 3 => ("java/lang/Throwable", "detailMessage", "Ljava/lang/String;", false)
  | 4 => ("java/lang/Throwable", "backtrace", "Ljava/lang/Object;", false)
  | _ => ("java/lang/Throwable", "depth", "I", false)
def tyJ5 : Nat → FieldType := fun k => match k with
  | 0 => .object "java/lang/Throwable"
  | 1 => .array (.object "java/lang/StackTraceElement")
  | 2 => .object "java/util/List"
  | 3 => .object "java/lang/String"
  | 4 => .object "java/lang/Object"
  | _ => .int
abbrev wsJ50 : List Cond := u_ws RJ5 TJ5 6
theorem nmJ5 : ∀ a, a < 6 → ∀ b, b < 6 → a ≠ b → (TJ5 a).2.1 ≠ (TJ5 b).2.1 := by decide +kernel
theorem tyJ5_ok : ∀ k, k < 6 → parseFieldDescriptor (TJ5 k).2.2.1 = some (tyJ5 k) := by decide +kernel
/-! java/lang/IllegalStateException -/
def RJ6 : String := "java/lang/IllegalStateException"
def TJ6 : u_T := fun k => match k with
  | 0 => ("java/lang/Throwable", "cause", "Ljava/lang/Throwable;", false)
  | 1 => ("java/lang/Throwable", "stackTrace", "[Ljava/lang/StackTraceElement;", false)
  | 2 => ("java/lang/Throwable", "suppressedExceptions", "Ljava/util/List;", false)
  | 3 => ("java/lang/Throwable", "detailMessage", "Ljava/lang/String;", false)
  | 4 => ("java/lang/Throwable", "backtrace", "Ljava/lang/Object;", false)
  | _ => ("java/lang/Throwable", "depth", "I", false)
def tyJ6 : Nat → FieldType := fun k => match k with
  | 0 => .object "java/lang/Throwable"
  | 1 => .array (.object "java/lang/StackTraceElement")
  | 2 => .object "java/util/List"
  | 3 => .object "java/lang/String"
  | 4 => .object "java/lang/Object"
  | _ => .int
abbrev wsJ60 : List Cond := u_ws RJ6 TJ6 6
theorem nmJ6 : ∀ a, a < 6 → ∀ b, b < 6 → a ≠ b → (TJ6 a).2.1 ≠ (TJ6 b).2.1 := by decide +kernel
theorem tyJ6_ok : ∀ k, k < 6 → parseFieldDescriptor (TJ6 k).2.2.1 = some (tyJ6 k) := by decide +kernel
/-! java/util/Arrays -/
def RJ7 : String := "java/util/Arrays"
/-! java/lang/IndexOutOfBoundsException -/
def RJ8 : String := "java/lang/IndexOutOfBoundsException"
def TJ8 : u_T := fun k => match k with
  | 0 => ("java/lang/Throwable", "cause", "Ljava/lang/Throwable;", false)
  | 1 => ("java/lang/Throwable", "stackTrace", "[Ljava/lang/StackTraceElement;", false)
  | 2 => ("java/lang/Throwable", "suppressedExceptions", "Ljava/util/List;", false)
  | 3 => ("java/lang/Throwable", "detailMessage", "Ljava/lang/String;", false)
  | 4 => ("java/lang/Throwable", "backtrace", "Ljava/lang/Object;", false)
  | _ => ("java/lang/Throwable", "depth", "I", false)
def tyJ8 : Nat → FieldType := fun k => match k with
  | 0 => .object "java/lang/Throwable"
  | 1 => .array (.object "java/lang/StackTraceElement")
  | 2 => .object "java/util/List"
  | 3 => .object "java/lang/String"
  | 4 => .object "java/lang/Object"
  | _ => .int
abbrev wsJ80 : List Cond := u_ws RJ8 TJ8 6
theorem nmJ8 : ∀ a, a < 6 → ∀ b, b < 6 → a ≠ b → (TJ8 a).2.1 ≠ (TJ8 b).2.1 := by decide +kernel
theorem tyJ8_ok : ∀ k, k < 6 → parseFieldDescriptor (TJ8 k).2.2.1 = some (tyJ8 k) := by decide +kernel
/-! java/lang/ArrayIndexOutOfBoundsException -/
def RJ9 : String := "java/lang/ArrayIndexOutOfBoundsException"
def TJ9 : u_T := fun k => match k with
  | 0 => ("java/lang/Throwable", "backtrace", "Ljava/lang/Object;", false)
  | 1 => ("java/lang/Throwable", "detailMessage", "Ljava/lang/String;", false)
  | 2 => ("java/lang/Throwable", "cause", "Ljava/lang/Throwable;", false)
  | 3 => ("java/lang/Throwable", "stackTrace", "[Ljava/lang/StackTraceElement;", false)
  | 4 => ("java/lang/Throwable", "depth", "I", false)
  | _ => ("java/lang/Throwable", "suppressedExceptions", "Ljava/util/List;", false)
def tyJ9 : Nat → FieldType := fun k => match k with
  | 0 => .object "java/lang/Object"
  | 1 => .object "java/lang/String"
  | 2 => .object "java/lang/Throwable"
  | 3 => .array (.object "java/lang/StackTraceElement")
  | 4 => .int
  | _ => .object "java/util/List"
abbrev wsJ90 : List Cond := u_ws RJ9 TJ9 6
theorem nmJ9 : ∀ a, a < 6 → ∀ b, b < 6 → a ≠ b → (TJ9 a).2.1 ≠ (TJ9 b).2.1 := by decide +kernel
theorem tyJ9_ok : ∀ k, k < 6 → parseFieldDescriptor (TJ9 k).2.2.1 = some (tyJ9 k) := by decide +kernel
/-! java/lang/String -/
def RJ10 : String := "java/lang/String"
def TJ10 : u_T := fun k => match k with
  | 0 => ("java/lang/String", "value", "[B", true)
  | _ => ("java/lang/String", "coder", "B", true)
def tyJ10 : Nat → FieldType := fun k => match k with
  | 0 => .array .byte
  | _ => .byte
abbrev wsJ100 : List Cond := u_ws RJ10 TJ10 2
theorem nmJ10 : ∀ a, a < 2 → ∀ b, b < 2 → a ≠ b → (TJ10 a).2.1 ≠ (TJ10 b).2.1 := by decide +kernel
theorem tyJ10_ok : ∀ k, k < 2 → parseFieldDescriptor (TJ10 k).2.2.1 = some (tyJ10 k) := by decide +kernel
/-! java/lang/Object -/
def RJ11 : String := "java/lang/Object"
/-! DeedKernelLaw -/
def RX0 : String := "DeedKernelLaw"
/-! DeedKernel -/
def RX1 : String := "DeedKernel"
def TX1 : u_T := fun k => match k with
  | 0 => ("DeedKernel", "disk", "LDeedKernel$Disk;", true)
  | 1 => ("DeedKernel", "head", "LDeedKernel$Head;", true)
  | 2 => ("DeedKernel", "image", "[B", true)
  | 3 => ("DeedKernel", "changed", "[I", true)
  | 4 => ("DeedKernel", "taken", "[Z", true)
  | 5 => ("DeedKernel", "inodes", "[LDeedKernel$Inode;", true)
  | 6 => ("DeedKernel", "openings", "[LDeedKernel$Opening;", true)
  | 7 => ("DeedKernel", "pipes", "[LDeedKernel$Pipe;", true)
  | 8 => ("DeedKernel", "processes", "[LDeedKernel$Process;", true)
  | 9 => ("DeedKernel", "things", "LDeedKernel$Things;", true)
  | 10 => ("DeedKernel", "refused", "LDeedKernel$Refused;", true)
  | 11 => ("DeedKernel", "tape", "[B", true)
  | 12 => ("DeedKernel", "size", "I", false)
  | 13 => ("DeedKernel", "out", "[B", true)
  | 14 => ("DeedKernel", "outSize", "I", false)
  | 15 => ("DeedKernel", "begun", "I", false)
  | 16 => ("DeedKernel", "finished", "I", false)
  | 17 => ("DeedKernel", "aborted", "I", false)
  | 18 => ("DeedKernel", "busy", "I", false)
  | 19 => ("DeedKernel", "me", "LDeedKernel$Process;", false)
  | 20 => ("DeedKernel", "guestRow", "[LDeedKernel$Opening;", true)
  | 21 => ("DeedKernel", "who", "I", false)
  | 22 => ("DeedKernel", "passed", "I", false)
  | 23 => ("DeedKernel", "path", "LDeedKernel$Path;", true)
  | _ => ("DeedKernel", "second", "LDeedKernel$Path;", true)
def tyX1 : Nat → FieldType := fun k => match k with
  | 0 => .object "DeedKernel$Disk"
  | 1 => .object "DeedKernel$Head"
  | 2 => .array .byte
  | 3 => .array .int
  | 4 => .array .boolean
  | 5 => .array (.object "DeedKernel$Inode")
  | 6 => .array (.object "DeedKernel$Opening")
  | 7 => .array (.object "DeedKernel$Pipe")
  | 8 => .array (.object "DeedKernel$Process")
  | 9 => .object "DeedKernel$Things"
  | 10 => .object "DeedKernel$Refused"
  | 11 => .array .byte
  | 12 => .int
  | 13 => .array .byte
  | 14 => .int
  | 15 => .int
  | 16 => .int
  | 17 => .int
  | 18 => .int
  | 19 => .object "DeedKernel$Process"
  | 20 => .array (.object "DeedKernel$Opening")
  | 21 => .int
  | 22 => .int
  | 23 => .object "DeedKernel$Path"
  | _ => .object "DeedKernel$Path"
abbrev wsX10 : List Cond := u_ws RX1 TX1 25
set_option maxRecDepth 100000 in
theorem nmX1 : ∀ a, a < 25 → ∀ b, b < 25 → a ≠ b → (TX1 a).2.1 ≠ (TX1 b).2.1 := by decide +kernel
set_option maxRecDepth 100000 in
theorem tyX1_ok : ∀ k, k < 25 → parseFieldDescriptor (TX1 k).2.2.1 = some (tyX1 k) := by decide +kernel
/-! DeedKernel$Head -/
def RX2 : String := "DeedKernel$Head"
def TX2 : u_T := fun k => match k with
  | 0 => ("DeedKernel$Head", "bytes", "[B", true)
  | _ => ("DeedKernel$Head", "n", "I", false)
def tyX2 : Nat → FieldType := fun k => match k with
  | 0 => .array .byte
  | _ => .int
abbrev wsX20 : List Cond := u_ws RX2 TX2 2
theorem nmX2 : ∀ a, a < 2 → ∀ b, b < 2 → a ≠ b → (TX2 a).2.1 ≠ (TX2 b).2.1 := by decide +kernel
theorem tyX2_ok : ∀ k, k < 2 → parseFieldDescriptor (TX2 k).2.2.1 = some (tyX2 k) := by decide +kernel
/-! DeedKernel$Things -/
def RX3 : String := "DeedKernel$Things"
def TX3 : u_T := fun k => match k with
  | 0 => ("DeedKernel$Things", "many", "I", false)
  | 1 => ("DeedKernel$Things", "kind", "[I", false)
  | 2 => ("DeedKernel$Things", "of", "[I", false)
  | 3 => ("DeedKernel$Things", "first", "[J", false)
  | 4 => ("DeedKernel$Things", "second", "[J", false)
  | 5 => ("DeedKernel$Things", "read", "[I", false)
  | _ => ("DeedKernel$Things", "writer", "[I", false)
def tyX3 : Nat → FieldType := fun k => match k with
  | 0 => .int
  | 1 => .array .int
  | 2 => .array .int
  | 3 => .array .long
  | 4 => .array .long
  | 5 => .array .int
  | _ => .array .int
abbrev wsX30 : List Cond := u_ws RX3 TX3 7
theorem nmX3 : ∀ a, a < 7 → ∀ b, b < 7 → a ≠ b → (TX3 a).2.1 ≠ (TX3 b).2.1 := by decide +kernel
theorem tyX3_ok : ∀ k, k < 7 → parseFieldDescriptor (TX3 k).2.2.1 = some (tyX3 k) := by decide +kernel
/-! DeedKernel$Refused -/
def RX4 : String := "DeedKernel$Refused"
def TX4 : u_T := fun k => match k with
  | 0 => ("java/lang/Throwable", "cause", "Ljava/lang/Throwable;", false)
  | 1 => ("java/lang/Throwable", "stackTrace", "[Ljava/lang/StackTraceElement;", false)
  | 2 => ("java/lang/Throwable", "suppressedExceptions", "Ljava/util/List;", false)
  | 3 => ("java/lang/Throwable", "detailMessage", "Ljava/lang/String;", false)
  | 4 => ("java/lang/Throwable", "backtrace", "Ljava/lang/Object;", false)
  | 5 => ("java/lang/Throwable", "depth", "I", false)
  | _ => ("DeedKernel$Refused", "why", "I", false)
def tyX4 : Nat → FieldType := fun k => match k with
  | 0 => .object "java/lang/Throwable"
  | 1 => .array (.object "java/lang/StackTraceElement")
  | 2 => .object "java/util/List"
  | 3 => .object "java/lang/String"
  | 4 => .object "java/lang/Object"
  | 5 => .int
  | _ => .int
abbrev wsX40 : List Cond := u_ws RX4 TX4 7
theorem nmX4 : ∀ a, a < 7 → ∀ b, b < 7 → a ≠ b → (TX4 a).2.1 ≠ (TX4 b).2.1 := by decide +kernel
theorem tyX4_ok : ∀ k, k < 7 → parseFieldDescriptor (TX4 k).2.2.1 = some (tyX4 k) := by decide +kernel
/-! DeedKernel$Path -/
def RX5 : String := "DeedKernel$Path"
def TX5 : u_T := fun k => match k with
  | 0 => ("DeedKernel$Path", "from", "[I", true)
  | 1 => ("DeedKernel$Path", "long_", "[I", true)
  | 2 => ("DeedKernel$Path", "steps", "I", false)
  | 3 => ("DeedKernel$Path", "fromRoot", "Z", false)
  | _ => ("DeedKernel$Path", "this$0", "LDeedKernel;", true)
def tyX5 : Nat → FieldType := fun k => match k with
  | 0 => .array .int
  | 1 => .array .int
  | 2 => .int
  | 3 => .boolean
  | _ => .object "DeedKernel"
abbrev wsX50 : List Cond := u_ws RX5 TX5 5
theorem nmX5 : ∀ a, a < 5 → ∀ b, b < 5 → a ≠ b → (TX5 a).2.1 ≠ (TX5 b).2.1 := by decide +kernel
theorem tyX5_ok : ∀ k, k < 5 → parseFieldDescriptor (TX5 k).2.2.1 = some (tyX5 k) := by decide +kernel
/-! DeedKernel$Disk -/
def RX6 : String := "DeedKernel$Disk"
def TX6 : u_T := fun k => match k with
  | 0 => ("DeedKernel$Disk", "blocks", "I", true)
  | 1 => ("DeedKernel$Disk", "inodes", "I", true)
  | 2 => ("DeedKernel$Disk", "log", "I", true)
  | 3 => ("DeedKernel$Disk", "bytes", "[B", true)
  | 4 => ("DeedKernel$Disk", "writes", "I", false)
  | 5 => ("DeedKernel$Disk", "goesAt", "I", false)
  | 6 => ("DeedKernel$Disk", "torn", "I", false)
  | 7 => ("DeedKernel$Disk", "isDown", "Z", false)
  | _ => ("DeedKernel$Disk", "sequence", "I", false)
def tyX6 : Nat → FieldType := fun k => match k with
  | 0 => .int
  | 1 => .int
  | 2 => .int
  | 3 => .array .byte
  | 4 => .int
  | 5 => .int
  | 6 => .int
  | 7 => .boolean
  | _ => .int
abbrev wsX60 : List Cond := u_ws RX6 TX6 9
theorem nmX6 : ∀ a, a < 9 → ∀ b, b < 9 → a ≠ b → (TX6 a).2.1 ≠ (TX6 b).2.1 := by decide +kernel
theorem tyX6_ok : ∀ k, k < 9 → parseFieldDescriptor (TX6 k).2.2.1 = some (tyX6 k) := by decide +kernel
/-! DeedKernel$Inode -/
def RX7 : String := "DeedKernel$Inode"
def TX7 : u_T := fun k => match k with
  | 0 => ("DeedKernel$Inode", "number", "I", true)
  | 1 => ("DeedKernel$Inode", "kind", "I", false)
  | 2 => ("DeedKernel$Inode", "names", "I", false)
  | 3 => ("DeedKernel$Inode", "length", "I", false)
  | 4 => ("DeedKernel$Inode", "up", "I", false)
  | 5 => ("DeedKernel$Inode", "data", "[B", true)
  | 6 => ("DeedKernel$Inode", "hadNames", "I", false)
  | 7 => ("DeedKernel$Inode", "hadLength", "I", false)
  | 8 => ("DeedKernel$Inode", "hadUp", "I", false)
  | 9 => ("DeedKernel$Inode", "had", "[B", true)
  | 10 => ("DeedKernel$Inode", "madeBy", "I", false)
  | 11 => ("DeedKernel$Inode", "namesBy", "I", false)
  | 12 => ("DeedKernel$Inode", "dataBy", "I", false)
  | 13 => ("DeedKernel$Inode", "keptKind", "I", false)
  | 14 => ("DeedKernel$Inode", "keptNames", "I", false)
  | 15 => ("DeedKernel$Inode", "keptLength", "I", false)
  | 16 => ("DeedKernel$Inode", "blocks", "[I", true)
  | 17 => ("DeedKernel$Inode", "many", "I", false)
  | 18 => ("DeedKernel$Inode", "indirect", "I", false)
  | 19 => ("DeedKernel$Inode", "isTouched", "Z", false)
  | 20 => ("DeedKernel$Inode", "nextKind", "I", false)
  | 21 => ("DeedKernel$Inode", "nextNames", "I", false)
  | 22 => ("DeedKernel$Inode", "nextLength", "I", false)
  | 23 => ("DeedKernel$Inode", "nextBlocks", "[I", true)
  | 24 => ("DeedKernel$Inode", "nextMany", "I", false)
  | 25 => ("DeedKernel$Inode", "nextIndirect", "I", false)
  | 26 => ("DeedKernel$Inode", "kept", "[I", true)
  | 27 => ("DeedKernel$Inode", "now", "[I", true)
  | 28 => ("DeedKernel$Inode", "by", "[I", true)
  | _ => ("DeedKernel$Inode", "letters", "[B", true)
def tyX7 : Nat → FieldType := fun k => match k with
  | 0 => .int
  | 1 => .int
  | 2 => .int
  | 3 => .int
  | 4 => .int
  | 5 => .array .byte
  | 6 => .int
  | 7 => .int
  | 8 => .int
  | 9 => .array .byte
  | 10 => .int
  | 11 => .int
  | 12 => .int
  | 13 => .int
  | 14 => .int
  | 15 => .int
  | 16 => .array .int
  | 17 => .int
  | 18 => .int
  | 19 => .boolean
  | 20 => .int
  | 21 => .int
  | 22 => .int
  | 23 => .array .int
  | 24 => .int
  | 25 => .int
  | 26 => .array .int
  | 27 => .array .int
  | 28 => .array .int
  | _ => .array .byte
abbrev wsX70 : List Cond := u_ws RX7 TX7 30
set_option maxRecDepth 100000 in
theorem nmX7 : ∀ a, a < 30 → ∀ b, b < 30 → a ≠ b → (TX7 a).2.1 ≠ (TX7 b).2.1 := by decide +kernel
set_option maxRecDepth 100000 in
theorem tyX7_ok : ∀ k, k < 30 → parseFieldDescriptor (TX7 k).2.2.1 = some (tyX7 k) := by decide +kernel
/-! DeedKernel$Opening -/
def RX8 : String := "DeedKernel$Opening"
def TX8 : u_T := fun k => match k with
  | 0 => ("DeedKernel$Opening", "of", "LDeedKernel$Inode;", false)
  | 1 => ("DeedKernel$Opening", "pipe", "I", false)
  | 2 => ("DeedKernel$Opening", "side", "I", false)
  | 3 => ("DeedKernel$Opening", "reads", "Z", false)
  | 4 => ("DeedKernel$Opening", "writes", "Z", false)
  | 5 => ("DeedKernel$Opening", "appends", "Z", false)
  | 6 => ("DeedKernel$Opening", "place", "I", false)
  | _ => ("DeedKernel$Opening", "hadPlace", "I", false)
def tyX8 : Nat → FieldType := fun k => match k with
  | 0 => .object "DeedKernel$Inode"
  | 1 => .int
  | 2 => .int
  | 3 => .boolean
  | 4 => .boolean
  | 5 => .boolean
  | 6 => .int
  | _ => .int
abbrev wsX80 : List Cond := u_ws RX8 TX8 8
theorem nmX8 : ∀ a, a < 8 → ∀ b, b < 8 → a ≠ b → (TX8 a).2.1 ≠ (TX8 b).2.1 := by decide +kernel
theorem tyX8_ok : ∀ k, k < 8 → parseFieldDescriptor (TX8 k).2.2.1 = some (tyX8 k) := by decide +kernel
/-! DeedKernel$Pipe -/
def RX9 : String := "DeedKernel$Pipe"
def TX9 : u_T := fun k => match k with
  | 0 => ("DeedKernel$Pipe", "bytes", "[B", true)
  | 1 => ("DeedKernel$Pipe", "size", "I", false)
  | 2 => ("DeedKernel$Pipe", "had", "[B", true)
  | _ => ("DeedKernel$Pipe", "hadSize", "I", false)
def tyX9 : Nat → FieldType := fun k => match k with
  | 0 => .array .byte
  | 1 => .int
  | 2 => .array .byte
  | _ => .int
abbrev wsX90 : List Cond := u_ws RX9 TX9 4
theorem nmX9 : ∀ a, a < 4 → ∀ b, b < 4 → a ≠ b → (TX9 a).2.1 ≠ (TX9 b).2.1 := by decide +kernel
theorem tyX9_ok : ∀ k, k < 4 → parseFieldDescriptor (TX9 k).2.2.1 = some (tyX9 k) := by decide +kernel
/-! DeedKernel$Process -/
def RX10 : String := "DeedKernel$Process"
def TX10 : u_T := fun k => match k with
  | 0 => ("DeedKernel$Process", "number", "I", true)
  | 1 => ("DeedKernel$Process", "state", "I", false)
  | 2 => ("DeedKernel$Process", "parent", "I", false)
  | 3 => ("DeedKernel$Process", "code", "I", false)
  | 4 => ("DeedKernel$Process", "row", "[LDeedKernel$Opening;", true)
  | 5 => ("DeedKernel$Process", "works", "LDeedKernel$Inode;", false)
  | 6 => ("DeedKernel$Process", "signals", "I", false)
  | 7 => ("DeedKernel$Process", "hadSignals", "I", false)
  | 8 => ("DeedKernel$Process", "depth", "I", false)
  | 9 => ("DeedKernel$Process", "age", "I", false)
  | 10 => ("DeedKernel$Process", "wasAborted", "Z", false)
  | 11 => ("DeedKernel$Process", "isLeaving", "Z", false)
  | 12 => ("DeedKernel$Process", "leavingCode", "I", false)
  | 13 => ("DeedKernel$Process", "hadRow", "[LDeedKernel$Opening;", true)
  | 14 => ("DeedKernel$Process", "hadWorks", "LDeedKernel$Inode;", false)
  | 15 => ("DeedKernel$Process", "killed", "[I", true)
  | 16 => ("DeedKernel$Process", "kills", "I", false)
  | 17 => ("DeedKernel$Process", "awaited", "I", false)
  | _ => ("DeedKernel$Process", "bornBy", "I", false)
def tyX10 : Nat → FieldType := fun k => match k with
  | 0 => .int
  | 1 => .int
  | 2 => .int
  | 3 => .int
  | 4 => .array (.object "DeedKernel$Opening")
  | 5 => .object "DeedKernel$Inode"
  | 6 => .int
  | 7 => .int
  | 8 => .int
  | 9 => .int
  | 10 => .boolean
  | 11 => .boolean
  | 12 => .int
  | 13 => .array (.object "DeedKernel$Opening")
  | 14 => .object "DeedKernel$Inode"
  | 15 => .array .int
  | 16 => .int
  | 17 => .int
  | _ => .int
abbrev wsX100 : List Cond := u_ws RX10 TX10 19
set_option maxRecDepth 100000 in
theorem nmX10 : ∀ a, a < 19 → ∀ b, b < 19 → a ≠ b → (TX10 a).2.1 ≠ (TX10 b).2.1 := by decide +kernel
set_option maxRecDepth 100000 in
theorem tyX10_ok : ∀ k, k < 19 → parseFieldDescriptor (TX10 k).2.2.1 = some (tyX10 k) := by decide +kernel
/-! DeedKernelModel -/
def RX11 : String := "DeedKernelModel"
def TX11 : u_T := fun k => match k with
  | 0 => ("DeedKernelModel", "blocks", "I", true)
  | 1 => ("DeedKernelModel", "inodeBlocks", "I", true)
  | 2 => ("DeedKernelModel", "logBlocks", "I", true)
  | 3 => ("DeedKernelModel", "inodes", "I", true)
  | 4 => ("DeedKernelModel", "head", "I", true)
  | 5 => ("DeedKernelModel", "dataFrom", "I", true)
  | 6 => ("DeedKernelModel", "disk", "[B", true)
  | 7 => ("DeedKernelModel", "image", "[B", true)
  | 8 => ("DeedKernelModel", "seq", "I", false)
  | 9 => ("DeedKernelModel", "down", "Z", false)
  | 10 => ("DeedKernelModel", "powerIn", "I", false)
  | 11 => ("DeedKernelModel", "powerAt", "I", false)
  | 12 => ("DeedKernelModel", "writes", "I", false)
  | 13 => ("DeedKernelModel", "begun", "I", false)
  | 14 => ("DeedKernelModel", "finished", "I", false)
  | 15 => ("DeedKernelModel", "aborted", "I", false)
  | 16 => ("DeedKernelModel", "busies", "I", false)
  | 17 => ("DeedKernelModel", "ages", "J", false)
  | 18 => ("DeedKernelModel", "kind", "[I", true)
  | 19 => ("DeedKernelModel", "names", "[I", true)
  | 20 => ("DeedKernelModel", "len", "[I", true)
  | 21 => ("DeedKernelModel", "up", "[I", true)
  | 22 => ("DeedKernelModel", "count", "[I", true)
  | 23 => ("DeedKernelModel", "block", "[[I", true)
  | 24 => ("DeedKernelModel", "indirect", "[I", true)
  | 25 => ("DeedKernelModel", "data", "[[B", true)
  | 26 => ("DeedKernelModel", "sIno", "[[I", true)
  | 27 => ("DeedKernelModel", "sA", "[[J", true)
  | 28 => ("DeedKernelModel", "sB", "[[J", true)
  | 29 => ("DeedKernelModel", "pState", "[I", true)
  | 30 => ("DeedKernelModel", "pParent", "[I", true)
  | 31 => ("DeedKernelModel", "pCode", "[I", true)
  | 32 => ("DeedKernelModel", "pDesc", "[[I", true)
  | 33 => ("DeedKernelModel", "pWork", "[I", true)
  | 34 => ("DeedKernelModel", "pSig", "[I", true)
  | 35 => ("DeedKernelModel", "unaware", "[Z", true)
  | 36 => ("DeedKernelModel", "oFile", "[I", true)
  | 37 => ("DeedKernelModel", "oPipe", "[I", true)
  | 38 => ("DeedKernelModel", "oSide", "[I", true)
  | 39 => ("DeedKernelModel", "oHow", "[I", true)
  | 40 => ("DeedKernelModel", "oPlace", "[I", true)
  | 41 => ("DeedKernelModel", "pipe", "[[B", true)
  | 42 => ("DeedKernelModel", "pipeLen", "[I", true)
  | 43 => ("DeedKernelModel", "groups", "[LDeedKernelModel$Group;", true)
  | 44 => ("DeedKernelModel", "solo", "LDeedKernelModel$Group;", true)
  | 45 => ("DeedKernelModel", "thrown", "I", false)
  | 46 => ("DeedKernelModel", "tape", "[I", true)
  | 47 => ("DeedKernelModel", "tapeSize", "I", false)
  | 48 => ("DeedKernelModel", "in", "[I", true)
  | 49 => ("DeedKernelModel", "inSize", "I", false)
  | 50 => ("DeedKernelModel", "out", "[B", true)
  | 51 => ("DeedKernelModel", "outSize", "I", false)
  | 52 => ("DeedKernelModel", "list", "[I", true)
  | 53 => ("DeedKernelModel", "headRow", "[B", true)
  | 54 => ("DeedKernelModel", "foundSlot", "I", false)
  | 55 => ("DeedKernelModel", "tA", "J", false)
  | 56 => ("DeedKernelModel", "tB", "J", false)
  | 57 => ("DeedKernelModel", "sparing", "I", false)
  | 58 => ("DeedKernelModel", "kKind", "[I", true)
  | 59 => ("DeedKernelModel", "kNames", "[I", true)
  | 60 => ("DeedKernelModel", "kLen", "[I", true)
  | 61 => ("DeedKernelModel", "kUp", "[I", true)
  | 62 => ("DeedKernelModel", "kCount", "[I", true)
  | 63 => ("DeedKernelModel", "kBlock", "[[I", true)
  | 64 => ("DeedKernelModel", "kIndirect", "[I", true)
  | 65 => ("DeedKernelModel", "kData", "[[B", true)
  | 66 => ("DeedKernelModel", "busy", "[Z", true)
  | 67 => ("DeedKernelModel", "dirty", "[Z", true)
  | 68 => ("DeedKernelModel", "uIno", "[I", false)
  | 69 => ("DeedKernelModel", "uA", "[J", false)
  | 70 => ("DeedKernelModel", "uB", "[J", false)
  | 71 => ("DeedKernelModel", "stA", "[J", true)
  | 72 => ("DeedKernelModel", "stB", "[J", true)
  | 73 => ("DeedKernelModel", "stKind", "[I", true)
  | 74 => ("DeedKernelModel", "steps", "I", false)
  | 75 => ("DeedKernelModel", "beginAt", "I", false)
  | 76 => ("DeedKernelModel", "came", "I", false)
  | 77 => ("DeedKernelModel", "dir", "I", false)
  | 78 => ("DeedKernelModel", "nameA", "J", false)
  | 79 => ("DeedKernelModel", "nameB", "J", false)
  | 80 => ("DeedKernelModel", "entry", "I", false)
  | 81 => ("DeedKernelModel", "spare", "[[B", true)
  | 82 => ("DeedKernelModel", "sortA", "[J", true)
  | 83 => ("DeedKernelModel", "sortB", "[J", true)
  | _ => ("DeedKernelModel", "told", "[I", true)
def tyX11 : Nat → FieldType := fun k => match k with
  | 0 => .int
  | 1 => .int
  | 2 => .int
  | 3 => .int
  | 4 => .int
  | 5 => .int
  | 6 => .array .byte
  | 7 => .array .byte
  | 8 => .int
  | 9 => .boolean
  | 10 => .int
  | 11 => .int
  | 12 => .int
  | 13 => .int
  | 14 => .int
  | 15 => .int
  | 16 => .int
  | 17 => .long
  | 18 => .array .int
  | 19 => .array .int
  | 20 => .array .int
  | 21 => .array .int
  | 22 => .array .int
  | 23 => .array (.array .int)
  | 24 => .array .int
  | 25 => .array (.array .byte)
  | 26 => .array (.array .int)
  | 27 => .array (.array .long)
  | 28 => .array (.array .long)
  | 29 => .array .int
  | 30 => .array .int
  | 31 => .array .int
  | 32 => .array (.array .int)
  | 33 => .array .int
  | 34 => .array .int
  | 35 => .array .boolean
  | 36 => .array .int
  | 37 => .array .int
  | 38 => .array .int
  | 39 => .array .int
  | 40 => .array .int
  | 41 => .array (.array .byte)
  | 42 => .array .int
  | 43 => .array (.object "DeedKernelModel$Group")
  | 44 => .object "DeedKernelModel$Group"
  | 45 => .int
  | 46 => .array .int
  | 47 => .int
  | 48 => .array .int
  | 49 => .int
  | 50 => .array .byte
  | 51 => .int
  | 52 => .array .int
  | 53 => .array .byte
  | 54 => .int
  | 55 => .long
  | 56 => .long
  | 57 => .int
  | 58 => .array .int
  | 59 => .array .int
  | 60 => .array .int
  | 61 => .array .int
  | 62 => .array .int
  | 63 => .array (.array .int)
  | 64 => .array .int
  | 65 => .array (.array .byte)
  | 66 => .array .boolean
  | 67 => .array .boolean
  | 68 => .array .int
  | 69 => .array .long
  | 70 => .array .long
  | 71 => .array .long
  | 72 => .array .long
  | 73 => .array .int
  | 74 => .int
  | 75 => .int
  | 76 => .int
  | 77 => .int
  | 78 => .long
  | 79 => .long
  | 80 => .int
  | 81 => .array (.array .byte)
  | 82 => .array .long
  | 83 => .array .long
  | _ => .array .int
abbrev wsX110 : List Cond := u_ws RX11 TX11 85
set_option maxRecDepth 100000 in
theorem nmX11 : ∀ a, a < 85 → ∀ b, b < 85 → a ≠ b → (TX11 a).2.1 ≠ (TX11 b).2.1 := by decide +kernel
set_option maxRecDepth 100000 in
theorem tyX11_ok : ∀ k, k < 85 → parseFieldDescriptor (TX11 k).2.2.1 = some (tyX11 k) := by decide +kernel
/-! DeedKernelModel$Group -/
def RX12 : String := "DeedKernelModel$Group"
def TX12 : u_T := fun k => match k with
  | 0 => ("DeedKernelModel$Group", "on", "Z", false)
  | 1 => ("DeedKernelModel$Group", "depth", "I", false)
  | 2 => ("DeedKernelModel$Group", "age", "J", false)
  | 3 => ("DeedKernelModel$Group", "leaving", "I", false)
  | 4 => ("DeedKernelModel$Group", "data", "[[B", true)
  | 5 => ("DeedKernelModel$Group", "len", "[I", true)
  | 6 => ("DeedKernelModel$Group", "dW", "[Z", true)
  | 7 => ("DeedKernelModel$Group", "kind", "[I", true)
  | 8 => ("DeedKernelModel$Group", "names", "[I", true)
  | 9 => ("DeedKernelModel$Group", "nW", "[Z", true)
  | 10 => ("DeedKernelModel$Group", "up", "[I", true)
  | 11 => ("DeedKernelModel$Group", "uW", "[Z", true)
  | 12 => ("DeedKernelModel$Group", "oc", "I", false)
  | 13 => ("DeedKernelModel$Group", "oDir", "[I", false)
  | 14 => ("DeedKernelModel$Group", "oSlot", "[I", false)
  | 15 => ("DeedKernelModel$Group", "oIno", "[I", false)
  | 16 => ("DeedKernelModel$Group", "oA", "[J", false)
  | 17 => ("DeedKernelModel$Group", "oB", "[J", false)
  | 18 => ("DeedKernelModel$Group", "place", "[I", true)
  | 19 => ("DeedKernelModel$Group", "plW", "[Z", true)
  | 20 => ("DeedKernelModel$Group", "pipe", "[[B", true)
  | 21 => ("DeedKernelModel$Group", "pipeLen", "[I", true)
  | 22 => ("DeedKernelModel$Group", "piW", "[Z", true)
  | 23 => ("DeedKernelModel$Group", "unborn", "[Z", true)
  | 24 => ("DeedKernelModel$Group", "uDesc", "[[I", true)
  | 25 => ("DeedKernelModel$Group", "uWork", "[I", true)
  | 26 => ("DeedKernelModel$Group", "reaped", "[Z", true)
  | 27 => ("DeedKernelModel$Group", "kills", "I", false)
  | 28 => ("DeedKernelModel$Group", "killed", "[I", true)
  | 29 => ("DeedKernelModel$Group", "sig", "[I", true)
  | 30 => ("DeedKernelModel$Group", "sW", "[Z", true)
  | 31 => ("DeedKernelModel$Group", "desc", "[I", true)
  | 32 => ("DeedKernelModel$Group", "work", "I", false)
  | 33 => ("DeedKernelModel$Group", "tData", "[I", true)
  | 34 => ("DeedKernelModel$Group", "tNames", "[I", true)
  | 35 => ("DeedKernelModel$Group", "tUp", "[I", true)
  | 36 => ("DeedKernelModel$Group", "tAll", "[I", true)
  | 37 => ("DeedKernelModel$Group", "tPlace", "[I", true)
  | 38 => ("DeedKernelModel$Group", "tPipe", "[I", true)
  | 39 => ("DeedKernelModel$Group", "tLife", "[I", true)
  | 40 => ("DeedKernelModel$Group", "tSig", "[I", true)
  | 41 => ("DeedKernelModel$Group", "mc", "I", false)
  | 42 => ("DeedKernelModel$Group", "mDir", "[I", false)
  | 43 => ("DeedKernelModel$Group", "mA", "[J", false)
  | 44 => ("DeedKernelModel$Group", "mB", "[J", false)
  | _ => ("DeedKernelModel$Group", "mHow", "[I", false)
def tyX12 : Nat → FieldType := fun k => match k with
  | 0 => .boolean
  | 1 => .int
  | 2 => .long
  | 3 => .int
  | 4 => .array (.array .byte)
  | 5 => .array .int
  | 6 => .array .boolean
  | 7 => .array .int
  | 8 => .array .int
  | 9 => .array .boolean
  | 10 => .array .int
  | 11 => .array .boolean
  | 12 => .int
  | 13 => .array .int
  | 14 => .array .int
  | 15 => .array .int
  | 16 => .array .long
  | 17 => .array .long
  | 18 => .array .int
  | 19 => .array .boolean
  | 20 => .array (.array .byte)
  | 21 => .array .int
  | 22 => .array .boolean
  | 23 => .array .boolean
  | 24 => .array (.array .int)
  | 25 => .array .int
  | 26 => .array .boolean
  | 27 => .int
  | 28 => .array .int
  | 29 => .array .int
  | 30 => .array .boolean
  | 31 => .array .int
  | 32 => .int
  | 33 => .array .int
  | 34 => .array .int
  | 35 => .array .int
  | 36 => .array .int
  | 37 => .array .int
  | 38 => .array .int
  | 39 => .array .int
  | 40 => .array .int
  | 41 => .int
  | 42 => .array .int
  | 43 => .array .long
  | 44 => .array .long
  | _ => .array .int
abbrev wsX120 : List Cond := u_ws RX12 TX12 46
set_option maxRecDepth 100000 in
theorem nmX12 : ∀ a, a < 46 → ∀ b, b < 46 → a ≠ b → (TX12 a).2.1 ≠ (TX12 b).2.1 := by decide +kernel
set_option maxRecDepth 100000 in
theorem tyX12_ok : ∀ k, k < 46 → parseFieldDescriptor (TX12 k).2.2.1 = some (tyX12 k) := by decide +kernel

theorem q199 : (Jvm.Cond.initialized "java/lang/Throwable") ∈ lw_all := lw_g (lw_at lw_m1 4 rfl) rfl
theorem q292 : (Jvm.Cond.declares ({ cls := "java/lang/Throwable", name := "<init>", desc := "()V" } : Jvm.MethodName)) ∈ lw_tbl := lw_at lw_m1 97 rfl
theorem q293 : (Jvm.Cond.declares ({ cls := "java/lang/Throwable", name := "<init>", desc := "(Ljava/lang/String;)V" } : Jvm.MethodName)) ∈ lw_tbl := lw_at lw_m1 98 rfl
theorem q297 : (Jvm.Cond.lays "java/lang/Throwable" "java/lang/Throwable" "cause" "Ljava/lang/Throwable;") ∈ lw_all := lw_g (lw_at lw_m1 102 rfl) rfl
theorem q299 : (Jvm.Cond.lays "java/lang/Throwable" "java/lang/Throwable" "stackTrace" "[Ljava/lang/StackTraceElement;") ∈ lw_all := lw_g (lw_at lw_m1 104 rfl) rfl
theorem q301 : (Jvm.Cond.lays "java/lang/Throwable" "java/lang/Throwable" "suppressedExceptions" "Ljava/util/List;") ∈ lw_all := lw_g (lw_at lw_m1 106 rfl) rfl
theorem q303 : (Jvm.Cond.lays "java/lang/Throwable" "java/lang/Throwable" "detailMessage" "Ljava/lang/String;") ∈ lw_all := lw_g (lw_at lw_m1 108 rfl) rfl
theorem q305 : (Jvm.Cond.lays "java/lang/Throwable" "java/lang/Throwable" "backtrace" "Ljava/lang/Object;") ∈ lw_all := lw_g (lw_at lw_m1 110 rfl) rfl
theorem q306 : (Jvm.Cond.fieldLink "java/lang/Throwable" (198 : Nat) "java/lang/Throwable" "backtrace" "Ljava/lang/Object;") ∈ lw_all := lw_g (lw_at lw_m1 111 rfl) rfl
theorem q307 : (Jvm.Cond.superclass "java/lang/Throwable" "java/lang/Object") ∈ lw_all := lw_g (lw_at lw_m1 112 rfl) rfl
theorem q308 : (Jvm.Cond.instanceMethod ({ cls := "java/lang/Throwable", name := "<init>", desc := "()V" } : Jvm.MethodName)) ∈ lw_all := lw_g (lw_at lw_m1 113 rfl) rfl
theorem q309 : (Jvm.Cond.code ({ cls := "java/lang/Throwable", name := "<init>", desc := "()V" } : Jvm.MethodName) prog_24_method_1_code (1 : Nat) (Option.none : Option Jvm.ClassFile.FieldType)) ∈ lw_all := lw_g (lw_at lw_m1 114 rfl) rfl
theorem q310 : (Jvm.Cond.methodLink "java/lang/Throwable" (1 : Nat) ({ cls := "java/lang/Object", name := "<init>", desc := "()V" } : Jvm.MethodName)) ∈ lw_all := lw_g (lw_at lw_m1 115 rfl) rfl
theorem q311 : (Jvm.Cond.fieldLink "java/lang/Throwable" (13 : Nat) "java/lang/Throwable" "UNASSIGNED_STACK" "[Ljava/lang/StackTraceElement;") ∈ lw_all := lw_g (lw_at lw_m1 116 rfl) rfl
theorem q312 : (Jvm.Cond.laysStatic "java/lang/Throwable" "UNASSIGNED_STACK" "[Ljava/lang/StackTraceElement;") ∈ lw_tbl := lw_at lw_m1 117 rfl
theorem q313 : (Jvm.Cond.fieldLink "java/lang/Throwable" (20 : Nat) "java/lang/Throwable" "SUPPRESSED_SENTINEL" "Ljava/util/List;") ∈ lw_all := lw_g (lw_at lw_m1 118 rfl) rfl
theorem q314 : (Jvm.Cond.laysStatic "java/lang/Throwable" "SUPPRESSED_SENTINEL" "Ljava/util/List;") ∈ lw_tbl := lw_at lw_m1 119 rfl
theorem q315 : (Jvm.Cond.methodLink "java/lang/Throwable" (27 : Nat) ({ cls := "java/lang/Throwable", name := "fillInStackTrace", desc := "()Ljava/lang/Throwable;" } : Jvm.MethodName)) ∈ lw_all := lw_g (lw_at lw_m1 120 rfl) rfl
theorem q316 : (Jvm.Cond.instanceMethod ({ cls := "java/lang/Throwable", name := "fillInStackTrace", desc := "()Ljava/lang/Throwable;" } : Jvm.MethodName)) ∈ lw_all := lw_g (lw_at lw_m1 121 rfl) rfl
theorem q317 : (Jvm.Cond.sameMethod "java/lang/Throwable" "java/lang/Throwable" "fillInStackTrace" "()Ljava/lang/Throwable;") ∈ lw_all := lw_g (lw_at lw_m1 122 rfl) rfl
theorem q322 : (Jvm.Cond.codeSync ({ cls := "java/lang/Throwable", name := "fillInStackTrace", desc := "()Ljava/lang/Throwable;" } : Jvm.MethodName) prog_24_method_18_code (1 : Nat) (Option.some (Jvm.ClassFile.FieldType.object "java/lang/Throwable"))) ∈ lw_all := lw_g (lw_at lw_m1 127 rfl) rfl
theorem q323 : (Jvm.Cond.methodLink "java/lang/Throwable" (202 : Nat) ({ cls := "java/lang/Throwable", name := "fillInStackTrace", desc := "(I)Ljava/lang/Throwable;" } : Jvm.MethodName)) ∈ lw_all := lw_g (lw_at lw_m1 128 rfl) rfl
theorem q324 : (Jvm.Cond.privateMethod ({ cls := "java/lang/Throwable", name := "fillInStackTrace", desc := "(I)Ljava/lang/Throwable;" } : Jvm.MethodName)) ∈ lw_tbl := lw_at lw_m1 129 rfl
theorem q325 : (Jvm.Cond.instanceMethod ({ cls := "java/lang/Throwable", name := "fillInStackTrace", desc := "(I)Ljava/lang/Throwable;" } : Jvm.MethodName)) ∈ lw_all := lw_g (lw_at lw_m1 130 rfl) rfl
theorem q326 : (Jvm.Cond.instantiable "java/lang/Throwable" (6 : Nat)) ∈ lw_all := lw_g (lw_at lw_m1 131 rfl) rfl
theorem q327 : (Jvm.Cond.native ({ cls := "java/lang/Throwable", name := "fillInStackTrace", desc := "(I)Ljava/lang/Throwable;" } : Jvm.MethodName)) ∈ lw_all := lw_g (lw_at lw_m1 132 rfl) rfl
theorem q340 : (Jvm.Cond.fieldLink "java/lang/Throwable" (198 : Nat) "java/lang/Throwable" "backtrace" "Ljava/lang/Object;") ∈ lw_all := lw_g (lw_at lw_m1 145 rfl) rfl
theorem q341 : (Jvm.Cond.fieldLink "java/lang/Throwable" (31 : Nat) "java/lang/Throwable" "detailMessage" "Ljava/lang/String;") ∈ lw_all := lw_g (lw_at lw_m1 146 rfl) rfl
theorem q342 : (Jvm.Cond.fieldLink "java/lang/Throwable" (7 : Nat) "java/lang/Throwable" "cause" "Ljava/lang/Throwable;") ∈ lw_all := lw_g (lw_at lw_m1 147 rfl) rfl
theorem q343 : (Jvm.Cond.fieldLink "java/lang/Throwable" (17 : Nat) "java/lang/Throwable" "stackTrace" "[Ljava/lang/StackTraceElement;") ∈ lw_all := lw_g (lw_at lw_m1 148 rfl) rfl
theorem q344 : (Jvm.Cond.fieldLink "java/lang/Throwable" (24 : Nat) "java/lang/Throwable" "suppressedExceptions" "Ljava/util/List;") ∈ lw_all := lw_g (lw_at lw_m1 149 rfl) rfl
theorem q347 : (Jvm.Cond.soleField "java/lang/Throwable" "backtrace") ∈ lw_all := lw_g (lw_at lw_m1 152 rfl) rfl
theorem q348 : (Jvm.Cond.soleField "java/lang/Throwable" "detailMessage") ∈ lw_all := lw_g (lw_at lw_m1 153 rfl) rfl
theorem q349 : (Jvm.Cond.soleField "java/lang/Throwable" "cause") ∈ lw_all := lw_g (lw_at lw_m1 154 rfl) rfl
theorem q350 : (Jvm.Cond.soleField "java/lang/Throwable" "stackTrace") ∈ lw_all := lw_g (lw_at lw_m1 155 rfl) rfl
theorem q352 : (Jvm.Cond.soleField "java/lang/Throwable" "depth") ∈ lw_all := lw_g (lw_at lw_m1 157 rfl) rfl
theorem q353 : (Jvm.Cond.soleField "java/lang/Throwable" "suppressedExceptions") ∈ lw_all := lw_g (lw_at lw_m1 158 rfl) rfl
theorem q1596 : (Jvm.Cond.instanceMethod ({ cls := "java/lang/Throwable", name := "<init>", desc := "(Ljava/lang/String;)V" } : Jvm.MethodName)) ∈ lw_all := lw_g (lw_at lw_m6 201 rfl) rfl
theorem q1597 : (Jvm.Cond.code ({ cls := "java/lang/Throwable", name := "<init>", desc := "(Ljava/lang/String;)V" } : Jvm.MethodName) prog_24_method_2_code (2 : Nat) (Option.none : Option Jvm.ClassFile.FieldType)) ∈ lw_all := lw_g (lw_at lw_m6 202 rfl) rfl
theorem q2732 : (Jvm.Cond.sameMethod "java/lang/Throwable" "java/lang/Throwable" "fillInStackTrace" "(I)Ljava/lang/Throwable;") ∈ lw_all := lw_g (lw_at lw_m11 137 rfl) rfl
theorem in_J0 : ∀ w ∈ wsJ00, w ∈ lw_all := lw_in wsJ00 [297, 299, 301, 303, 305] (by decide +kernel) (by decide +kernel)
theorem q200 : (Jvm.Cond.initialized "java/lang/Exception") ∈ lw_all := lw_g (lw_at lw_m1 5 rfl) rfl
theorem q290 : (Jvm.Cond.declares ({ cls := "java/lang/Exception", name := "<init>", desc := "()V" } : Jvm.MethodName)) ∈ lw_tbl := lw_at lw_m1 95 rfl
theorem q291 : (Jvm.Cond.declares ({ cls := "java/lang/Exception", name := "<init>", desc := "(Ljava/lang/String;)V" } : Jvm.MethodName)) ∈ lw_tbl := lw_at lw_m1 96 rfl
theorem q335 : (Jvm.Cond.instanceMethod ({ cls := "java/lang/Exception", name := "<init>", desc := "()V" } : Jvm.MethodName)) ∈ lw_all := lw_g (lw_at lw_m1 140 rfl) rfl
theorem q336 : (Jvm.Cond.code ({ cls := "java/lang/Exception", name := "<init>", desc := "()V" } : Jvm.MethodName) prog_15_method_1_code (1 : Nat) (Option.none : Option Jvm.ClassFile.FieldType)) ∈ lw_all := lw_g (lw_at lw_m1 141 rfl) rfl
theorem q337 : (Jvm.Cond.methodLink "java/lang/Exception" (1 : Nat) ({ cls := "java/lang/Throwable", name := "<init>", desc := "()V" } : Jvm.MethodName)) ∈ lw_all := lw_g (lw_at lw_m1 142 rfl) rfl
theorem q1593 : (Jvm.Cond.instanceMethod ({ cls := "java/lang/Exception", name := "<init>", desc := "(Ljava/lang/String;)V" } : Jvm.MethodName)) ∈ lw_all := lw_g (lw_at lw_m6 198 rfl) rfl
theorem q1594 : (Jvm.Cond.code ({ cls := "java/lang/Exception", name := "<init>", desc := "(Ljava/lang/String;)V" } : Jvm.MethodName) prog_15_method_2_code (2 : Nat) (Option.none : Option Jvm.ClassFile.FieldType)) ∈ lw_all := lw_g (lw_at lw_m6 199 rfl) rfl
theorem q1595 : (Jvm.Cond.methodLink "java/lang/Exception" (7 : Nat) ({ cls := "java/lang/Throwable", name := "<init>", desc := "(Ljava/lang/String;)V" } : Jvm.MethodName)) ∈ lw_all := lw_g (lw_at lw_m6 200 rfl) rfl
theorem q201 : (Jvm.Cond.initialized "java/lang/RuntimeException") ∈ lw_all := lw_g (lw_at lw_m1 6 rfl) rfl
theorem q288 : (Jvm.Cond.declares ({ cls := "java/lang/RuntimeException", name := "<init>", desc := "()V" } : Jvm.MethodName)) ∈ lw_tbl := lw_at lw_m1 93 rfl
theorem q289 : (Jvm.Cond.declares ({ cls := "java/lang/RuntimeException", name := "<init>", desc := "(Ljava/lang/String;)V" } : Jvm.MethodName)) ∈ lw_tbl := lw_at lw_m1 94 rfl
theorem q332 : (Jvm.Cond.instanceMethod ({ cls := "java/lang/RuntimeException", name := "<init>", desc := "()V" } : Jvm.MethodName)) ∈ lw_all := lw_g (lw_at lw_m1 137 rfl) rfl
theorem q333 : (Jvm.Cond.code ({ cls := "java/lang/RuntimeException", name := "<init>", desc := "()V" } : Jvm.MethodName) prog_21_method_1_code (1 : Nat) (Option.none : Option Jvm.ClassFile.FieldType)) ∈ lw_all := lw_g (lw_at lw_m1 138 rfl) rfl
theorem q334 : (Jvm.Cond.methodLink "java/lang/RuntimeException" (1 : Nat) ({ cls := "java/lang/Exception", name := "<init>", desc := "()V" } : Jvm.MethodName)) ∈ lw_all := lw_g (lw_at lw_m1 139 rfl) rfl
theorem q1590 : (Jvm.Cond.instanceMethod ({ cls := "java/lang/RuntimeException", name := "<init>", desc := "(Ljava/lang/String;)V" } : Jvm.MethodName)) ∈ lw_all := lw_g (lw_at lw_m6 195 rfl) rfl
theorem q1591 : (Jvm.Cond.code ({ cls := "java/lang/RuntimeException", name := "<init>", desc := "(Ljava/lang/String;)V" } : Jvm.MethodName) prog_21_method_2_code (2 : Nat) (Option.none : Option Jvm.ClassFile.FieldType)) ∈ lw_all := lw_g (lw_at lw_m6 196 rfl) rfl
theorem q1592 : (Jvm.Cond.methodLink "java/lang/RuntimeException" (7 : Nat) ({ cls := "java/lang/Exception", name := "<init>", desc := "(Ljava/lang/String;)V" } : Jvm.MethodName)) ∈ lw_all := lw_g (lw_at lw_m6 197 rfl) rfl
theorem q205 : (Jvm.Cond.initialized "java/lang/Math") ∈ lw_all := lw_g (lw_at lw_m1 10 rfl) rfl
theorem q388 : (Jvm.Cond.static ({ cls := "java/lang/Math", name := "min", desc := "(II)I" } : Jvm.MethodName)) ∈ lw_all := lw_g (lw_at lw_m1 193 rfl) rfl
theorem q389 : (Jvm.Cond.code ({ cls := "java/lang/Math", name := "min", desc := "(II)I" } : Jvm.MethodName) prog_20_method_69_code (2 : Nat) (Option.some Jvm.ClassFile.FieldType.int)) ∈ lw_all := lw_g (lw_at lw_m1 194 rfl) rfl
theorem q1141 : (Jvm.Cond.static ({ cls := "java/lang/Math", name := "max", desc := "(II)I" } : Jvm.MethodName)) ∈ lw_all := lw_g (lw_at lw_m4 226 rfl) rfl
theorem q1142 : (Jvm.Cond.code ({ cls := "java/lang/Math", name := "max", desc := "(II)I" } : Jvm.MethodName) prog_20_method_65_code (2 : Nat) (Option.some Jvm.ClassFile.FieldType.int)) ∈ lw_all := lw_g (lw_at lw_m4 227 rfl) rfl
theorem q210 : (Jvm.Cond.initialized "java/lang/Long") ∈ lw_all := lw_g (lw_at lw_m1 15 rfl) rfl
theorem q706 : (Jvm.Cond.static ({ cls := "java/lang/Long", name := "rotateLeft", desc := "(JI)J" } : Jvm.MethodName)) ∈ lw_all := lw_g (lw_at lw_m3 31 rfl) rfl
theorem q707 : (Jvm.Cond.code ({ cls := "java/lang/Long", name := "rotateLeft", desc := "(JI)J" } : Jvm.MethodName) prog_19_method_51_code (3 : Nat) (Option.some Jvm.ClassFile.FieldType.long)) ∈ lw_all := lw_g (lw_at lw_m3 32 rfl) rfl
theorem q2605 : (Jvm.Cond.static ({ cls := "java/lang/Long", name := "compareUnsigned", desc := "(JJ)I" } : Jvm.MethodName)) ∈ lw_all := lw_g (lw_at lw_m11 10 rfl) rfl
theorem q2606 : (Jvm.Cond.code ({ cls := "java/lang/Long", name := "compareUnsigned", desc := "(JJ)I" } : Jvm.MethodName) prog_19_method_43_code (4 : Nat) (Option.some Jvm.ClassFile.FieldType.int)) ∈ lw_all := lw_g (lw_at lw_m11 11 rfl) rfl
theorem q2607 : (Jvm.Cond.constantLong "java/lang/Long" (168 : Nat) (-9223372036854775808 : Int64)) ∈ lw_all := lw_g (lw_at lw_m11 12 rfl) rfl
theorem q2608 : (Jvm.Cond.methodLink "java/lang/Long" (302 : Nat) ({ cls := "java/lang/Long", name := "compare", desc := "(JJ)I" } : Jvm.MethodName)) ∈ lw_all := lw_g (lw_at lw_m11 13 rfl) rfl
theorem q2609 : (Jvm.Cond.static ({ cls := "java/lang/Long", name := "compare", desc := "(JJ)I" } : Jvm.MethodName)) ∈ lw_all := lw_g (lw_at lw_m11 14 rfl) rfl
theorem q2610 : (Jvm.Cond.code ({ cls := "java/lang/Long", name := "compare", desc := "(JJ)I" } : Jvm.MethodName) prog_19_method_42_code (4 : Nat) (Option.some Jvm.ClassFile.FieldType.int)) ∈ lw_all := lw_g (lw_at lw_m11 15 rfl) rfl
theorem q214 : (Jvm.Cond.initialized "java/lang/IllegalArgumentException") ∈ lw_all := lw_g (lw_at lw_m1 19 rfl) rfl
theorem q319 : (Jvm.Cond.selects "java/lang/IllegalArgumentException" ({ cls := "java/lang/Throwable", name := "fillInStackTrace", desc := "()Ljava/lang/Throwable;" } : Jvm.MethodName) ({ cls := "java/lang/Throwable", name := "fillInStackTrace", desc := "()Ljava/lang/Throwable;" } : Jvm.MethodName)) ∈ lw_all := lw_g (lw_at lw_m1 124 rfl) rfl
theorem q1555 : (Jvm.Cond.instantiable "java/lang/IllegalArgumentException" (6 : Nat)) ∈ lw_all := lw_g (lw_at lw_m6 160 rfl) rfl
theorem q1556 : (Jvm.Cond.castable "java/lang/IllegalArgumentException" "java/lang/IllegalArgumentException") ∈ lw_tbl := lw_at lw_m6 161 rfl
theorem q1557 : (Jvm.Cond.selects "java/lang/IllegalArgumentException" ({ cls := "java/lang/Throwable", name := "fillInStackTrace", desc := "(I)Ljava/lang/Throwable;" } : Jvm.MethodName) ({ cls := "java/lang/Throwable", name := "fillInStackTrace", desc := "(I)Ljava/lang/Throwable;" } : Jvm.MethodName)) ∈ lw_all := lw_g (lw_at lw_m6 162 rfl) rfl
theorem q1558 : (Jvm.Cond.lays "java/lang/IllegalArgumentException" "java/lang/Throwable" "cause" "Ljava/lang/Throwable;") ∈ lw_all := lw_g (lw_at lw_m6 163 rfl) rfl
theorem q1559 : (Jvm.Cond.lays "java/lang/IllegalArgumentException" "java/lang/Throwable" "stackTrace" "[Ljava/lang/StackTraceElement;") ∈ lw_all := lw_g (lw_at lw_m6 164 rfl) rfl
theorem q1560 : (Jvm.Cond.lays "java/lang/IllegalArgumentException" "java/lang/Throwable" "suppressedExceptions" "Ljava/util/List;") ∈ lw_all := lw_g (lw_at lw_m6 165 rfl) rfl
theorem q1561 : (Jvm.Cond.lays "java/lang/IllegalArgumentException" "java/lang/Throwable" "detailMessage" "Ljava/lang/String;") ∈ lw_all := lw_g (lw_at lw_m6 166 rfl) rfl
theorem q1562 : (Jvm.Cond.lays "java/lang/IllegalArgumentException" "java/lang/Throwable" "backtrace" "Ljava/lang/Object;") ∈ lw_all := lw_g (lw_at lw_m6 167 rfl) rfl
theorem q1564 : (Jvm.Cond.instanceMethod ({ cls := "java/lang/IllegalArgumentException", name := "<init>", desc := "()V" } : Jvm.MethodName)) ∈ lw_all := lw_g (lw_at lw_m6 169 rfl) rfl
theorem q1565 : (Jvm.Cond.code ({ cls := "java/lang/IllegalArgumentException", name := "<init>", desc := "()V" } : Jvm.MethodName) prog_16_method_1_code (1 : Nat) (Option.none : Option Jvm.ClassFile.FieldType)) ∈ lw_all := lw_g (lw_at lw_m6 170 rfl) rfl
theorem q1566 : (Jvm.Cond.methodLink "java/lang/IllegalArgumentException" (1 : Nat) ({ cls := "java/lang/RuntimeException", name := "<init>", desc := "()V" } : Jvm.MethodName)) ∈ lw_all := lw_g (lw_at lw_m6 171 rfl) rfl
theorem q1567 : (Jvm.Cond.lays "java/lang/IllegalArgumentException" "java/lang/Throwable" "depth" "I") ∈ lw_all := lw_g (lw_at lw_m6 172 rfl) rfl
theorem q1568 : (Jvm.Cond.superclass "java/lang/IllegalArgumentException" "java/lang/RuntimeException") ∈ lw_all := lw_g (lw_at lw_m6 173 rfl) rfl
theorem in_J5 : ∀ w ∈ wsJ50, w ∈ lw_all := lw_in wsJ50 [1558, 1559, 1560, 1561, 1562, 1567] (by decide +kernel) (by decide +kernel)
theorem q215 : (Jvm.Cond.initialized "java/lang/IllegalStateException") ∈ lw_all := lw_g (lw_at lw_m1 20 rfl) rfl
theorem q320 : (Jvm.Cond.selects "java/lang/IllegalStateException" ({ cls := "java/lang/Throwable", name := "fillInStackTrace", desc := "()Ljava/lang/Throwable;" } : Jvm.MethodName) ({ cls := "java/lang/Throwable", name := "fillInStackTrace", desc := "()Ljava/lang/Throwable;" } : Jvm.MethodName)) ∈ lw_all := lw_g (lw_at lw_m1 125 rfl) rfl
theorem q1100 : (Jvm.Cond.instantiable "java/lang/IllegalStateException" (6 : Nat)) ∈ lw_all := lw_g (lw_at lw_m4 185 rfl) rfl
theorem q1101 : (Jvm.Cond.castable "java/lang/IllegalStateException" "java/lang/IllegalStateException") ∈ lw_tbl := lw_at lw_m4 186 rfl
theorem q1102 : (Jvm.Cond.selects "java/lang/IllegalStateException" ({ cls := "java/lang/Throwable", name := "fillInStackTrace", desc := "(I)Ljava/lang/Throwable;" } : Jvm.MethodName) ({ cls := "java/lang/Throwable", name := "fillInStackTrace", desc := "(I)Ljava/lang/Throwable;" } : Jvm.MethodName)) ∈ lw_all := lw_g (lw_at lw_m4 187 rfl) rfl
theorem q1103 : (Jvm.Cond.lays "java/lang/IllegalStateException" "java/lang/Throwable" "cause" "Ljava/lang/Throwable;") ∈ lw_all := lw_g (lw_at lw_m4 188 rfl) rfl
theorem q1104 : (Jvm.Cond.lays "java/lang/IllegalStateException" "java/lang/Throwable" "stackTrace" "[Ljava/lang/StackTraceElement;") ∈ lw_all := lw_g (lw_at lw_m4 189 rfl) rfl
theorem q1105 : (Jvm.Cond.lays "java/lang/IllegalStateException" "java/lang/Throwable" "suppressedExceptions" "Ljava/util/List;") ∈ lw_all := lw_g (lw_at lw_m4 190 rfl) rfl
theorem q1106 : (Jvm.Cond.lays "java/lang/IllegalStateException" "java/lang/Throwable" "detailMessage" "Ljava/lang/String;") ∈ lw_all := lw_g (lw_at lw_m4 191 rfl) rfl
theorem q1107 : (Jvm.Cond.lays "java/lang/IllegalStateException" "java/lang/Throwable" "backtrace" "Ljava/lang/Object;") ∈ lw_all := lw_g (lw_at lw_m4 192 rfl) rfl
theorem q1109 : (Jvm.Cond.instanceMethod ({ cls := "java/lang/IllegalStateException", name := "<init>", desc := "()V" } : Jvm.MethodName)) ∈ lw_all := lw_g (lw_at lw_m4 194 rfl) rfl
theorem q1110 : (Jvm.Cond.code ({ cls := "java/lang/IllegalStateException", name := "<init>", desc := "()V" } : Jvm.MethodName) prog_17_method_1_code (1 : Nat) (Option.none : Option Jvm.ClassFile.FieldType)) ∈ lw_all := lw_g (lw_at lw_m4 195 rfl) rfl
theorem q1111 : (Jvm.Cond.methodLink "java/lang/IllegalStateException" (1 : Nat) ({ cls := "java/lang/RuntimeException", name := "<init>", desc := "()V" } : Jvm.MethodName)) ∈ lw_all := lw_g (lw_at lw_m4 196 rfl) rfl
theorem q1112 : (Jvm.Cond.lays "java/lang/IllegalStateException" "java/lang/Throwable" "depth" "I") ∈ lw_all := lw_g (lw_at lw_m4 197 rfl) rfl
theorem q1113 : (Jvm.Cond.superclass "java/lang/IllegalStateException" "java/lang/RuntimeException") ∈ lw_all := lw_g (lw_at lw_m4 198 rfl) rfl
theorem in_J6 : ∀ w ∈ wsJ60, w ∈ lw_all := lw_in wsJ60 [1103, 1104, 1105, 1106, 1107, 1112] (by decide +kernel) (by decide +kernel)
theorem q216 : (Jvm.Cond.initialized "java/util/Arrays") ∈ lw_all := lw_g (lw_at lw_m1 21 rfl) rfl
theorem q2302 : (Jvm.Cond.static ({ cls := "java/util/Arrays", name := "fill", desc := "([BB)V" } : Jvm.MethodName)) ∈ lw_all := lw_g (lw_at lw_m9 187 rfl) rfl
theorem q2303 : (Jvm.Cond.code ({ cls := "java/util/Arrays", name := "fill", desc := "([BB)V" } : Jvm.MethodName) prog_25_method_109_code (4 : Nat) (Option.none : Option Jvm.ClassFile.FieldType)) ∈ lw_all := lw_g (lw_at lw_m9 188 rfl) rfl
theorem q217 : (Jvm.Cond.initialized "java/lang/IndexOutOfBoundsException") ∈ lw_all := lw_g (lw_at lw_m1 22 rfl) rfl
theorem q321 : (Jvm.Cond.selects "java/lang/IndexOutOfBoundsException" ({ cls := "java/lang/Throwable", name := "fillInStackTrace", desc := "()Ljava/lang/Throwable;" } : Jvm.MethodName) ({ cls := "java/lang/Throwable", name := "fillInStackTrace", desc := "()Ljava/lang/Throwable;" } : Jvm.MethodName)) ∈ lw_all := lw_g (lw_at lw_m1 126 rfl) rfl
theorem q1587 : (Jvm.Cond.instanceMethod ({ cls := "java/lang/IndexOutOfBoundsException", name := "<init>", desc := "(Ljava/lang/String;)V" } : Jvm.MethodName)) ∈ lw_all := lw_g (lw_at lw_m6 192 rfl) rfl
theorem q1588 : (Jvm.Cond.code ({ cls := "java/lang/IndexOutOfBoundsException", name := "<init>", desc := "(Ljava/lang/String;)V" } : Jvm.MethodName) prog_18_method_2_code (2 : Nat) (Option.none : Option Jvm.ClassFile.FieldType)) ∈ lw_all := lw_g (lw_at lw_m6 193 rfl) rfl
theorem q1589 : (Jvm.Cond.methodLink "java/lang/IndexOutOfBoundsException" (7 : Nat) ({ cls := "java/lang/RuntimeException", name := "<init>", desc := "(Ljava/lang/String;)V" } : Jvm.MethodName)) ∈ lw_all := lw_g (lw_at lw_m6 194 rfl) rfl
theorem q1606 : (Jvm.Cond.declares ({ cls := "java/lang/IndexOutOfBoundsException", name := "<init>", desc := "()V" } : Jvm.MethodName)) ∈ lw_tbl := lw_at lw_m6 211 rfl
theorem q1607 : (Jvm.Cond.declares ({ cls := "java/lang/IndexOutOfBoundsException", name := "<init>", desc := "(Ljava/lang/String;)V" } : Jvm.MethodName)) ∈ lw_tbl := lw_at lw_m6 212 rfl
theorem q1622 : (Jvm.Cond.instantiable "java/lang/IndexOutOfBoundsException" (6 : Nat)) ∈ lw_all := lw_g (lw_at lw_m6 227 rfl) rfl
theorem q1623 : (Jvm.Cond.castable "java/lang/IndexOutOfBoundsException" "java/lang/IndexOutOfBoundsException") ∈ lw_tbl := lw_at lw_m6 228 rfl
theorem q1624 : (Jvm.Cond.selects "java/lang/IndexOutOfBoundsException" ({ cls := "java/lang/Throwable", name := "fillInStackTrace", desc := "(I)Ljava/lang/Throwable;" } : Jvm.MethodName) ({ cls := "java/lang/Throwable", name := "fillInStackTrace", desc := "(I)Ljava/lang/Throwable;" } : Jvm.MethodName)) ∈ lw_all := lw_g (lw_at lw_m6 229 rfl) rfl
theorem q1625 : (Jvm.Cond.lays "java/lang/IndexOutOfBoundsException" "java/lang/Throwable" "cause" "Ljava/lang/Throwable;") ∈ lw_all := lw_g (lw_at lw_m6 230 rfl) rfl
theorem q1626 : (Jvm.Cond.lays "java/lang/IndexOutOfBoundsException" "java/lang/Throwable" "stackTrace" "[Ljava/lang/StackTraceElement;") ∈ lw_all := lw_g (lw_at lw_m6 231 rfl) rfl
theorem q1627 : (Jvm.Cond.lays "java/lang/IndexOutOfBoundsException" "java/lang/Throwable" "suppressedExceptions" "Ljava/util/List;") ∈ lw_all := lw_g (lw_at lw_m6 232 rfl) rfl
theorem q1628 : (Jvm.Cond.lays "java/lang/IndexOutOfBoundsException" "java/lang/Throwable" "detailMessage" "Ljava/lang/String;") ∈ lw_all := lw_g (lw_at lw_m6 233 rfl) rfl
theorem q1629 : (Jvm.Cond.lays "java/lang/IndexOutOfBoundsException" "java/lang/Throwable" "backtrace" "Ljava/lang/Object;") ∈ lw_all := lw_g (lw_at lw_m6 234 rfl) rfl
theorem q1631 : (Jvm.Cond.instanceMethod ({ cls := "java/lang/IndexOutOfBoundsException", name := "<init>", desc := "()V" } : Jvm.MethodName)) ∈ lw_all := lw_g (lw_at lw_m6 236 rfl) rfl
theorem q1632 : (Jvm.Cond.code ({ cls := "java/lang/IndexOutOfBoundsException", name := "<init>", desc := "()V" } : Jvm.MethodName) prog_18_method_1_code (1 : Nat) (Option.none : Option Jvm.ClassFile.FieldType)) ∈ lw_all := lw_g (lw_at lw_m6 237 rfl) rfl
theorem q1633 : (Jvm.Cond.methodLink "java/lang/IndexOutOfBoundsException" (1 : Nat) ({ cls := "java/lang/RuntimeException", name := "<init>", desc := "()V" } : Jvm.MethodName)) ∈ lw_all := lw_g (lw_at lw_m6 238 rfl) rfl
theorem q1634 : (Jvm.Cond.lays "java/lang/IndexOutOfBoundsException" "java/lang/Throwable" "depth" "I") ∈ lw_all := lw_g (lw_at lw_m6 239 rfl) rfl
theorem q1635 : (Jvm.Cond.superclass "java/lang/IndexOutOfBoundsException" "java/lang/RuntimeException") ∈ lw_all := lw_g (lw_at lw_m7 0 rfl) rfl
theorem in_J8 : ∀ w ∈ wsJ80, w ∈ lw_all := lw_in wsJ80 [1625, 1626, 1627, 1628, 1629, 1634] (by decide +kernel) (by decide +kernel)
theorem q218 : (Jvm.Cond.initialized "java/lang/ArrayIndexOutOfBoundsException") ∈ lw_all := lw_g (lw_at lw_m1 23 rfl) rfl
theorem q318 : (Jvm.Cond.selects "java/lang/ArrayIndexOutOfBoundsException" ({ cls := "java/lang/Throwable", name := "fillInStackTrace", desc := "()Ljava/lang/Throwable;" } : Jvm.MethodName) ({ cls := "java/lang/Throwable", name := "fillInStackTrace", desc := "()Ljava/lang/Throwable;" } : Jvm.MethodName)) ∈ lw_all := lw_g (lw_at lw_m1 123 rfl) rfl
theorem q1583 : (Jvm.Cond.instantiable "java/lang/ArrayIndexOutOfBoundsException" (6 : Nat)) ∈ lw_all := lw_g (lw_at lw_m6 188 rfl) rfl
theorem q1584 : (Jvm.Cond.instanceMethod ({ cls := "java/lang/ArrayIndexOutOfBoundsException", name := "<init>", desc := "(Ljava/lang/String;)V" } : Jvm.MethodName)) ∈ lw_all := lw_g (lw_at lw_m6 189 rfl) rfl
theorem q1585 : (Jvm.Cond.code ({ cls := "java/lang/ArrayIndexOutOfBoundsException", name := "<init>", desc := "(Ljava/lang/String;)V" } : Jvm.MethodName) prog_14_method_2_code (2 : Nat) (Option.none : Option Jvm.ClassFile.FieldType)) ∈ lw_all := lw_g (lw_at lw_m6 190 rfl) rfl
theorem q1586 : (Jvm.Cond.methodLink "java/lang/ArrayIndexOutOfBoundsException" (7 : Nat) ({ cls := "java/lang/IndexOutOfBoundsException", name := "<init>", desc := "(Ljava/lang/String;)V" } : Jvm.MethodName)) ∈ lw_all := lw_g (lw_at lw_m6 191 rfl) rfl
theorem q1598 : (Jvm.Cond.lays "java/lang/ArrayIndexOutOfBoundsException" "java/lang/Throwable" "backtrace" "Ljava/lang/Object;") ∈ lw_all := lw_g (lw_at lw_m6 203 rfl) rfl
theorem q1599 : (Jvm.Cond.lays "java/lang/ArrayIndexOutOfBoundsException" "java/lang/Throwable" "detailMessage" "Ljava/lang/String;") ∈ lw_all := lw_g (lw_at lw_m6 204 rfl) rfl
theorem q1600 : (Jvm.Cond.lays "java/lang/ArrayIndexOutOfBoundsException" "java/lang/Throwable" "cause" "Ljava/lang/Throwable;") ∈ lw_all := lw_g (lw_at lw_m6 205 rfl) rfl
theorem q1601 : (Jvm.Cond.lays "java/lang/ArrayIndexOutOfBoundsException" "java/lang/Throwable" "stackTrace" "[Ljava/lang/StackTraceElement;") ∈ lw_all := lw_g (lw_at lw_m6 206 rfl) rfl
theorem q1602 : (Jvm.Cond.lays "java/lang/ArrayIndexOutOfBoundsException" "java/lang/Throwable" "depth" "I") ∈ lw_all := lw_g (lw_at lw_m6 207 rfl) rfl
theorem q1603 : (Jvm.Cond.lays "java/lang/ArrayIndexOutOfBoundsException" "java/lang/Throwable" "suppressedExceptions" "Ljava/util/List;") ∈ lw_all := lw_g (lw_at lw_m6 208 rfl) rfl
theorem q1604 : (Jvm.Cond.superclass "java/lang/ArrayIndexOutOfBoundsException" "java/lang/IndexOutOfBoundsException") ∈ lw_all := lw_g (lw_at lw_m6 209 rfl) rfl
theorem q1605 : (Jvm.Cond.castable "java/lang/ArrayIndexOutOfBoundsException" "java/lang/ArrayIndexOutOfBoundsException") ∈ lw_tbl := lw_at lw_m6 210 rfl
theorem q1608 : (Jvm.Cond.selects "java/lang/ArrayIndexOutOfBoundsException" ({ cls := "java/lang/Throwable", name := "fillInStackTrace", desc := "(I)Ljava/lang/Throwable;" } : Jvm.MethodName) ({ cls := "java/lang/Throwable", name := "fillInStackTrace", desc := "(I)Ljava/lang/Throwable;" } : Jvm.MethodName)) ∈ lw_all := lw_g (lw_at lw_m6 213 rfl) rfl
theorem q2733 : (Jvm.Cond.castable "java/lang/ArrayIndexOutOfBoundsException" "java/lang/IndexOutOfBoundsException") ∈ lw_tbl := lw_at lw_m11 138 rfl
theorem in_J9 : ∀ w ∈ wsJ90, w ∈ lw_all := lw_in wsJ90 [1598, 1599, 1600, 1601, 1602, 1603] (by decide +kernel) (by decide +kernel)
theorem q219 : (Jvm.Cond.initialized "java/lang/String") ∈ lw_all := lw_g (lw_at lw_m1 24 rfl) rfl
theorem q1609 : (Jvm.Cond.instantiable "java/lang/String" (4 : Nat)) ∈ lw_all := lw_g (lw_at lw_m6 214 rfl) rfl
theorem q1610 : (Jvm.Cond.laysFinal "java/lang/String" "java/lang/String" "value" "[B") ∈ lw_all := lw_g (lw_at lw_m6 215 rfl) rfl
theorem q1611 : (Jvm.Cond.soleField "java/lang/String" "value") ∈ lw_all := lw_g (lw_at lw_m6 216 rfl) rfl
theorem q1612 : (Jvm.Cond.laysFinal "java/lang/String" "java/lang/String" "coder" "B") ∈ lw_all := lw_g (lw_at lw_m6 217 rfl) rfl
theorem q1613 : (Jvm.Cond.soleField "java/lang/String" "coder") ∈ lw_all := lw_g (lw_at lw_m6 218 rfl) rfl
theorem in_J10 : ∀ w ∈ wsJ100, w ∈ lw_all := lw_in wsJ100 [1610, 1612] (by decide +kernel) (by decide +kernel)
theorem q226 : (Jvm.Cond.instanceMethod ({ cls := "java/lang/Object", name := "<init>", desc := "()V" } : Jvm.MethodName)) ∈ lw_all := lw_g (lw_at lw_m1 31 rfl) rfl
theorem q227 : (Jvm.Cond.code ({ cls := "java/lang/Object", name := "<init>", desc := "()V" } : Jvm.MethodName) object_method_1_code (1 : Nat) (Option.none : Option Jvm.ClassFile.FieldType)) ∈ lw_all := lw_g (lw_at lw_m1 32 rfl) rfl
theorem q195 : (Jvm.Cond.initialized "DeedKernelLaw") ∈ lw_all := lw_g (lw_at lw_m1 0 rfl) rfl
theorem q220 : (Jvm.Cond.classLink "DeedKernelLaw" (8 : Nat) "DeedKernel") ∈ lw_all := lw_g (lw_at lw_m1 25 rfl) rfl
theorem q222 : (Jvm.Cond.methodLink "DeedKernelLaw" (46 : Nat) ({ cls := "DeedKernel", name := "<init>", desc := "(III)V" } : Jvm.MethodName)) ∈ lw_all := lw_g (lw_at lw_m1 27 rfl) rfl
theorem q816 : (Jvm.Cond.methodLink "DeedKernelLaw" (52 : Nat) ({ cls := "DeedKernel", name := "format", desc := "()V" } : Jvm.MethodName)) ∈ lw_all := lw_g (lw_at lw_m3 141 rfl) rfl
theorem q817 : (Jvm.Cond.methodLink "DeedKernelLaw" (66 : Nat) ({ cls := "DeedKernel", name := "open", desc := "(II)I" } : Jvm.MethodName)) ∈ lw_all := lw_g (lw_at lw_m3 142 rfl) rfl
theorem q1365 : (Jvm.Cond.methodLink "DeedKernelLaw" (70 : Nat) ({ cls := "DeedKernel", name := "close", desc := "(II)I" } : Jvm.MethodName)) ∈ lw_all := lw_g (lw_at lw_m5 210 rfl) rfl
theorem q1369 : (Jvm.Cond.methodLink "DeedKernelLaw" (74 : Nat) ({ cls := "DeedKernel", name := "read", desc := "(III)I" } : Jvm.MethodName)) ∈ lw_all := lw_g (lw_at lw_m5 214 rfl) rfl
theorem q1373 : (Jvm.Cond.methodLink "DeedKernelLaw" (78 : Nat) ({ cls := "DeedKernel", name := "write", desc := "(II)I" } : Jvm.MethodName)) ∈ lw_all := lw_g (lw_at lw_m5 218 rfl) rfl
theorem q1377 : (Jvm.Cond.methodLink "DeedKernelLaw" (82 : Nat) ({ cls := "DeedKernel", name := "seek", desc := "(III)I" } : Jvm.MethodName)) ∈ lw_all := lw_g (lw_at lw_m5 222 rfl) rfl
theorem q1381 : (Jvm.Cond.methodLink "DeedKernelLaw" (86 : Nat) ({ cls := "DeedKernel", name := "cut", desc := "(III)I" } : Jvm.MethodName)) ∈ lw_all := lw_g (lw_at lw_m5 226 rfl) rfl
theorem q1385 : (Jvm.Cond.methodLink "DeedKernelLaw" (90 : Nat) ({ cls := "DeedKernel", name := "twin", desc := "(II)I" } : Jvm.MethodName)) ∈ lw_all := lw_g (lw_at lw_m5 230 rfl) rfl
theorem q1389 : (Jvm.Cond.methodLink "DeedKernelLaw" (94 : Nat) ({ cls := "DeedKernel", name := "pipe", desc := "(I)I" } : Jvm.MethodName)) ∈ lw_all := lw_g (lw_at lw_m5 234 rfl) rfl
theorem q1393 : (Jvm.Cond.methodLink "DeedKernelLaw" (98 : Nat) ({ cls := "DeedKernel", name := "make", desc := "(I)I" } : Jvm.MethodName)) ∈ lw_all := lw_g (lw_at lw_m5 238 rfl) rfl
theorem q1397 : (Jvm.Cond.methodLink "DeedKernelLaw" (102 : Nat) ({ cls := "DeedKernel", name := "unlink", desc := "(I)I" } : Jvm.MethodName)) ∈ lw_all := lw_g (lw_at lw_m6 2 rfl) rfl
theorem q1401 : (Jvm.Cond.methodLink "DeedKernelLaw" (106 : Nat) ({ cls := "DeedKernel", name := "remove", desc := "(I)I" } : Jvm.MethodName)) ∈ lw_all := lw_g (lw_at lw_m6 6 rfl) rfl
theorem q1405 : (Jvm.Cond.methodLink "DeedKernelLaw" (110 : Nat) ({ cls := "DeedKernel", name := "link", desc := "(I)I" } : Jvm.MethodName)) ∈ lw_all := lw_g (lw_at lw_m6 10 rfl) rfl
theorem q1409 : (Jvm.Cond.methodLink "DeedKernelLaw" (114 : Nat) ({ cls := "DeedKernel", name := "rename", desc := "(I)I" } : Jvm.MethodName)) ∈ lw_all := lw_g (lw_at lw_m6 14 rfl) rfl
theorem q1413 : (Jvm.Cond.methodLink "DeedKernelLaw" (118 : Nat) ({ cls := "DeedKernel", name := "look", desc := "(II)I" } : Jvm.MethodName)) ∈ lw_all := lw_g (lw_at lw_m6 18 rfl) rfl
theorem q1417 : (Jvm.Cond.methodLink "DeedKernelLaw" (122 : Nat) ({ cls := "DeedKernel", name := "list", desc := "(I)I" } : Jvm.MethodName)) ∈ lw_all := lw_g (lw_at lw_m6 22 rfl) rfl
theorem q1421 : (Jvm.Cond.methodLink "DeedKernelLaw" (126 : Nat) ({ cls := "DeedKernel", name := "go", desc := "(I)I" } : Jvm.MethodName)) ∈ lw_all := lw_g (lw_at lw_m6 26 rfl) rfl
theorem q1425 : (Jvm.Cond.methodLink "DeedKernelLaw" (130 : Nat) ({ cls := "DeedKernel", name := "fork", desc := "(I)I" } : Jvm.MethodName)) ∈ lw_all := lw_g (lw_at lw_m6 30 rfl) rfl
theorem q1429 : (Jvm.Cond.methodLink "DeedKernelLaw" (134 : Nat) ({ cls := "DeedKernel", name := "exit", desc := "(II)I" } : Jvm.MethodName)) ∈ lw_all := lw_g (lw_at lw_m6 34 rfl) rfl
theorem q1433 : (Jvm.Cond.methodLink "DeedKernelLaw" (138 : Nat) ({ cls := "DeedKernel", name := "await", desc := "(I)I" } : Jvm.MethodName)) ∈ lw_all := lw_g (lw_at lw_m6 38 rfl) rfl
theorem q1437 : (Jvm.Cond.methodLink "DeedKernelLaw" (142 : Nat) ({ cls := "DeedKernel", name := "kill", desc := "(III)I" } : Jvm.MethodName)) ∈ lw_all := lw_g (lw_at lw_m6 42 rfl) rfl
theorem q1441 : (Jvm.Cond.methodLink "DeedKernelLaw" (146 : Nat) ({ cls := "DeedKernel", name := "signals", desc := "(I)I" } : Jvm.MethodName)) ∈ lw_all := lw_g (lw_at lw_m6 46 rfl) rfl
theorem q1445 : (Jvm.Cond.methodLink "DeedKernelLaw" (150 : Nat) ({ cls := "DeedKernel", name := "xbegin", desc := "(I)I" } : Jvm.MethodName)) ∈ lw_all := lw_g (lw_at lw_m6 50 rfl) rfl
theorem q1449 : (Jvm.Cond.methodLink "DeedKernelLaw" (154 : Nat) ({ cls := "DeedKernel", name := "xend", desc := "(I)I" } : Jvm.MethodName)) ∈ lw_all := lw_g (lw_at lw_m6 54 rfl) rfl
theorem q1453 : (Jvm.Cond.methodLink "DeedKernelLaw" (158 : Nat) ({ cls := "DeedKernel", name := "xabort", desc := "(I)I" } : Jvm.MethodName)) ∈ lw_all := lw_g (lw_at lw_m6 58 rfl) rfl
theorem q1457 : (Jvm.Cond.methodLink "DeedKernelLaw" (166 : Nat) ({ cls := "DeedKernel", name := "stop", desc := "()Z" } : Jvm.MethodName)) ∈ lw_all := lw_g (lw_at lw_m6 62 rfl) rfl
theorem q1461 : (Jvm.Cond.methodLink "DeedKernelLaw" (171 : Nat) ({ cls := "DeedKernel", name := "start", desc := "()I" } : Jvm.MethodName)) ∈ lw_all := lw_g (lw_at lw_m6 66 rfl) rfl
theorem q1539 : (Jvm.Cond.methodLink "DeedKernelLaw" (40 : Nat) ({ cls := "DeedKernelLaw", name := "cell", desc := "([II)I" } : Jvm.MethodName)) ∈ lw_all := lw_g (lw_at lw_m6 144 rfl) rfl
theorem q1540 : (Jvm.Cond.static ({ cls := "DeedKernelLaw", name := "cell", desc := "([II)I" } : Jvm.MethodName)) ∈ lw_all := lw_g (lw_at lw_m6 145 rfl) rfl
theorem q1541 : (Jvm.Cond.code ({ cls := "DeedKernelLaw", name := "cell", desc := "([II)I" } : Jvm.MethodName) method_2_code (2 : Nat) (Option.some Jvm.ClassFile.FieldType.int)) ∈ lw_all := lw_g (lw_at lw_m6 146 rfl) rfl
theorem q1542 : (Jvm.Cond.methodLink "DeedKernelLaw" (58 : Nat) ({ cls := "DeedKernelLaw", name := "type", desc := "(LDeedKernel;JI[J)I" } : Jvm.MethodName)) ∈ lw_all := lw_g (lw_at lw_m6 147 rfl) rfl
theorem q1543 : (Jvm.Cond.static ({ cls := "DeedKernelLaw", name := "type", desc := "(LDeedKernel;JI[J)I" } : Jvm.MethodName)) ∈ lw_all := lw_g (lw_at lw_m6 148 rfl) rfl
theorem q1544 : (Jvm.Cond.codeWith ({ cls := "DeedKernelLaw", name := "type", desc := "(LDeedKernel;JI[J)I" } : Jvm.MethodName) method_3_code (6 : Nat) (Option.some Jvm.ClassFile.FieldType.int) [((0 : Nat), (11 : Nat), (14 : Nat), (13 : Nat)), ((0 : Nat), (11 : Nat), (18 : Nat), (15 : Nat))]) ∈ lw_all := lw_g (lw_at lw_m6 149 rfl) rfl
theorem q1545 : (Jvm.Cond.classLink "DeedKernelLaw" (13 : Nat) "java/lang/IllegalArgumentException") ∈ lw_all := lw_g (lw_at lw_m6 150 rfl) rfl
theorem q1546 : (Jvm.Cond.classLink "DeedKernelLaw" (15 : Nat) "java/lang/IllegalStateException") ∈ lw_all := lw_g (lw_at lw_m6 151 rfl) rfl
theorem q1547 : (Jvm.Cond.methodLink "DeedKernelLaw" (7 : Nat) ({ cls := "DeedKernel", name := "type", desc := "(JI)I" } : Jvm.MethodName)) ∈ lw_all := lw_g (lw_at lw_m6 152 rfl) rfl
theorem q1572 : (Jvm.Cond.methodLink "DeedKernelLaw" (162 : Nat) ({ cls := "DeedKernelLaw", name := "power", desc := "(LDeedKernel;II[J)I" } : Jvm.MethodName)) ∈ lw_all := lw_g (lw_at lw_m6 177 rfl) rfl
theorem q1573 : (Jvm.Cond.static ({ cls := "DeedKernelLaw", name := "power", desc := "(LDeedKernel;II[J)I" } : Jvm.MethodName)) ∈ lw_all := lw_g (lw_at lw_m6 178 rfl) rfl
theorem q1574 : (Jvm.Cond.codeWith ({ cls := "DeedKernelLaw", name := "power", desc := "(LDeedKernel;II[J)I" } : Jvm.MethodName) method_4_code (5 : Nat) (Option.some Jvm.ClassFile.FieldType.int) [((0 : Nat), (10 : Nat), (13 : Nat), (13 : Nat))]) ∈ lw_all := lw_g (lw_at lw_m6 179 rfl) rfl
theorem q1575 : (Jvm.Cond.methodLink "DeedKernelLaw" (17 : Nat) ({ cls := "DeedKernel", name := "power", desc := "(II)I" } : Jvm.MethodName)) ∈ lw_all := lw_g (lw_at lw_m6 180 rfl) rfl
theorem q1579 : (Jvm.Cond.methodLink "DeedKernelLaw" (175 : Nat) ({ cls := "DeedKernelLaw", name := "poke", desc := "(LDeedKernel;III[J)I" } : Jvm.MethodName)) ∈ lw_all := lw_g (lw_at lw_m6 184 rfl) rfl
theorem q1580 : (Jvm.Cond.static ({ cls := "DeedKernelLaw", name := "poke", desc := "(LDeedKernel;III[J)I" } : Jvm.MethodName)) ∈ lw_all := lw_g (lw_at lw_m6 185 rfl) rfl
theorem q1581 : (Jvm.Cond.codeWith ({ cls := "DeedKernelLaw", name := "poke", desc := "(LDeedKernel;III[J)I" } : Jvm.MethodName) method_5_code (6 : Nat) (Option.some Jvm.ClassFile.FieldType.int) [((0 : Nat), (12 : Nat), (15 : Nat), (25 : Nat)), ((0 : Nat), (12 : Nat), (19 : Nat), (15 : Nat))]) ∈ lw_all := lw_g (lw_at lw_m6 186 rfl) rfl
theorem q1582 : (Jvm.Cond.classLink "DeedKernelLaw" (25 : Nat) "java/lang/IndexOutOfBoundsException") ∈ lw_all := lw_g (lw_at lw_m6 187 rfl) rfl
theorem q1614 : (Jvm.Cond.methodLink "DeedKernelLaw" (21 : Nat) ({ cls := "DeedKernel", name := "poke", desc := "(III)I" } : Jvm.MethodName)) ∈ lw_all := lw_g (lw_at lw_m6 219 rfl) rfl
theorem q1636 : (Jvm.Cond.methodLink "DeedKernelLaw" (179 : Nat) ({ cls := "DeedKernelLaw", name := "byteAt", desc := "(LDeedKernel;II[J)I" } : Jvm.MethodName)) ∈ lw_all := lw_g (lw_at lw_m7 1 rfl) rfl
theorem q1637 : (Jvm.Cond.static ({ cls := "DeedKernelLaw", name := "byteAt", desc := "(LDeedKernel;II[J)I" } : Jvm.MethodName)) ∈ lw_all := lw_g (lw_at lw_m7 2 rfl) rfl
theorem q1638 : (Jvm.Cond.codeWith ({ cls := "DeedKernelLaw", name := "byteAt", desc := "(LDeedKernel;II[J)I" } : Jvm.MethodName) method_6_code (5 : Nat) (Option.some Jvm.ClassFile.FieldType.int) [((0 : Nat), (10 : Nat), (13 : Nat), (25 : Nat))]) ∈ lw_all := lw_g (lw_at lw_m7 3 rfl) rfl
theorem q1639 : (Jvm.Cond.methodLink "DeedKernelLaw" (27 : Nat) ({ cls := "DeedKernel", name := "byteAt", desc := "(II)I" } : Jvm.MethodName)) ∈ lw_all := lw_g (lw_at lw_m7 4 rfl) rfl
theorem q1643 : (Jvm.Cond.methodLink "DeedKernelLaw" (182 : Nat) ({ cls := "DeedKernelLaw", name := "out", desc := "(LDeedKernel;I[J)I" } : Jvm.MethodName)) ∈ lw_all := lw_g (lw_at lw_m7 8 rfl) rfl
theorem q1644 : (Jvm.Cond.static ({ cls := "DeedKernelLaw", name := "out", desc := "(LDeedKernel;I[J)I" } : Jvm.MethodName)) ∈ lw_all := lw_g (lw_at lw_m7 9 rfl) rfl
theorem q1645 : (Jvm.Cond.codeWith ({ cls := "DeedKernelLaw", name := "out", desc := "(LDeedKernel;I[J)I" } : Jvm.MethodName) method_7_code (4 : Nat) (Option.some Jvm.ClassFile.FieldType.int) [((0 : Nat), (9 : Nat), (12 : Nat), (25 : Nat))]) ∈ lw_all := lw_g (lw_at lw_m7 10 rfl) rfl
theorem q1646 : (Jvm.Cond.methodLink "DeedKernelLaw" (30 : Nat) ({ cls := "DeedKernel", name := "out", desc := "(I)I" } : Jvm.MethodName)) ∈ lw_all := lw_g (lw_at lw_m7 11 rfl) rfl
theorem q1650 : (Jvm.Cond.methodLink "DeedKernelLaw" (186 : Nat) ({ cls := "DeedKernelLaw", name := "process", desc := "(LDeedKernel;II[J)I" } : Jvm.MethodName)) ∈ lw_all := lw_g (lw_at lw_m7 15 rfl) rfl
theorem q1651 : (Jvm.Cond.static ({ cls := "DeedKernelLaw", name := "process", desc := "(LDeedKernel;II[J)I" } : Jvm.MethodName)) ∈ lw_all := lw_g (lw_at lw_m7 16 rfl) rfl
theorem q1652 : (Jvm.Cond.codeWith ({ cls := "DeedKernelLaw", name := "process", desc := "(LDeedKernel;II[J)I" } : Jvm.MethodName) method_8_code (5 : Nat) (Option.some Jvm.ClassFile.FieldType.int) [((0 : Nat), (10 : Nat), (13 : Nat), (25 : Nat))]) ∈ lw_all := lw_g (lw_at lw_m7 17 rfl) rfl
theorem q1653 : (Jvm.Cond.methodLink "DeedKernelLaw" (34 : Nat) ({ cls := "DeedKernel", name := "process", desc := "(II)I" } : Jvm.MethodName)) ∈ lw_all := lw_g (lw_at lw_m7 18 rfl) rfl
theorem q1657 : (Jvm.Cond.methodLink "DeedKernelLaw" (189 : Nat) ({ cls := "DeedKernelLaw", name := "told", desc := "(LDeedKernel;I[J)I" } : Jvm.MethodName)) ∈ lw_all := lw_g (lw_at lw_m7 22 rfl) rfl
theorem q1658 : (Jvm.Cond.static ({ cls := "DeedKernelLaw", name := "told", desc := "(LDeedKernel;I[J)I" } : Jvm.MethodName)) ∈ lw_all := lw_g (lw_at lw_m7 23 rfl) rfl
theorem q1659 : (Jvm.Cond.codeWith ({ cls := "DeedKernelLaw", name := "told", desc := "(LDeedKernel;I[J)I" } : Jvm.MethodName) method_9_code (4 : Nat) (Option.some Jvm.ClassFile.FieldType.int) [((0 : Nat), (9 : Nat), (12 : Nat), (25 : Nat))]) ∈ lw_all := lw_g (lw_at lw_m7 24 rfl) rfl
theorem q1660 : (Jvm.Cond.methodLink "DeedKernelLaw" (37 : Nat) ({ cls := "DeedKernel", name := "told", desc := "(I)I" } : Jvm.MethodName)) ∈ lw_all := lw_g (lw_at lw_m7 25 rfl) rfl
theorem q1668 : (Jvm.Cond.methodLink "DeedKernelLaw" (62 : Nat) ({ cls := "DeedKernelModel", name := "thrown", desc := "()I" } : Jvm.MethodName)) ∈ lw_all := lw_g (lw_at lw_m7 33 rfl) rfl
theorem q1672 : (Jvm.Cond.classLink "DeedKernelLaw" (49 : Nat) "DeedKernelModel") ∈ lw_all := lw_g (lw_at lw_m7 37 rfl) rfl
theorem q1674 : (Jvm.Cond.methodLink "DeedKernelLaw" (51 : Nat) ({ cls := "DeedKernelModel", name := "<init>", desc := "(III)V" } : Jvm.MethodName)) ∈ lw_all := lw_g (lw_at lw_m7 39 rfl) rfl
theorem q2160 : (Jvm.Cond.methodLink "DeedKernelLaw" (55 : Nat) ({ cls := "DeedKernelModel", name := "format", desc := "()V" } : Jvm.MethodName)) ∈ lw_all := lw_g (lw_at lw_m9 45 rfl) rfl
theorem q2161 : (Jvm.Cond.methodLink "DeedKernelLaw" (61 : Nat) ({ cls := "DeedKernelModel", name := "type", desc := "(JI)I" } : Jvm.MethodName)) ∈ lw_all := lw_g (lw_at lw_m9 46 rfl) rfl
theorem q2165 : (Jvm.Cond.methodLink "DeedKernelLaw" (69 : Nat) ({ cls := "DeedKernelModel", name := "open", desc := "(II)I" } : Jvm.MethodName)) ∈ lw_all := lw_g (lw_at lw_m9 50 rfl) rfl
theorem q2431 : (Jvm.Cond.methodLink "DeedKernelLaw" (73 : Nat) ({ cls := "DeedKernelModel", name := "close", desc := "(II)I" } : Jvm.MethodName)) ∈ lw_all := lw_g (lw_at lw_m10 76 rfl) rfl
theorem q2443 : (Jvm.Cond.methodLink "DeedKernelLaw" (77 : Nat) ({ cls := "DeedKernelModel", name := "read", desc := "(III)I" } : Jvm.MethodName)) ∈ lw_all := lw_g (lw_at lw_m10 88 rfl) rfl
theorem q2483 : (Jvm.Cond.methodLink "DeedKernelLaw" (81 : Nat) ({ cls := "DeedKernelModel", name := "write", desc := "(II)I" } : Jvm.MethodName)) ∈ lw_all := lw_g (lw_at lw_m10 128 rfl) rfl
theorem q2495 : (Jvm.Cond.methodLink "DeedKernelLaw" (85 : Nat) ({ cls := "DeedKernelModel", name := "seek", desc := "(III)I" } : Jvm.MethodName)) ∈ lw_all := lw_g (lw_at lw_m10 140 rfl) rfl
theorem q2503 : (Jvm.Cond.methodLink "DeedKernelLaw" (89 : Nat) ({ cls := "DeedKernelModel", name := "cut", desc := "(III)I" } : Jvm.MethodName)) ∈ lw_all := lw_g (lw_at lw_m10 148 rfl) rfl
theorem q2511 : (Jvm.Cond.methodLink "DeedKernelLaw" (93 : Nat) ({ cls := "DeedKernelModel", name := "twin", desc := "(II)I" } : Jvm.MethodName)) ∈ lw_all := lw_g (lw_at lw_m10 156 rfl) rfl
theorem q2515 : (Jvm.Cond.methodLink "DeedKernelLaw" (97 : Nat) ({ cls := "DeedKernelModel", name := "pipe", desc := "(I)I" } : Jvm.MethodName)) ∈ lw_all := lw_g (lw_at lw_m10 160 rfl) rfl
theorem q2527 : (Jvm.Cond.methodLink "DeedKernelLaw" (101 : Nat) ({ cls := "DeedKernelModel", name := "make", desc := "(I)I" } : Jvm.MethodName)) ∈ lw_all := lw_g (lw_at lw_m10 172 rfl) rfl
theorem q2535 : (Jvm.Cond.methodLink "DeedKernelLaw" (105 : Nat) ({ cls := "DeedKernelModel", name := "unlink", desc := "(I)I" } : Jvm.MethodName)) ∈ lw_all := lw_g (lw_at lw_m10 180 rfl) rfl
theorem q2556 : (Jvm.Cond.methodLink "DeedKernelLaw" (109 : Nat) ({ cls := "DeedKernelModel", name := "remove", desc := "(I)I" } : Jvm.MethodName)) ∈ lw_all := lw_g (lw_at lw_m10 201 rfl) rfl
theorem q2568 : (Jvm.Cond.methodLink "DeedKernelLaw" (113 : Nat) ({ cls := "DeedKernelModel", name := "link", desc := "(I)I" } : Jvm.MethodName)) ∈ lw_all := lw_g (lw_at lw_m10 213 rfl) rfl
theorem q2580 : (Jvm.Cond.methodLink "DeedKernelLaw" (117 : Nat) ({ cls := "DeedKernelModel", name := "rename", desc := "(I)I" } : Jvm.MethodName)) ∈ lw_all := lw_g (lw_at lw_m10 225 rfl) rfl
theorem q2588 : (Jvm.Cond.methodLink "DeedKernelLaw" (121 : Nat) ({ cls := "DeedKernelModel", name := "look", desc := "(II)I" } : Jvm.MethodName)) ∈ lw_all := lw_g (lw_at lw_m10 233 rfl) rfl
theorem q2596 : (Jvm.Cond.methodLink "DeedKernelLaw" (125 : Nat) ({ cls := "DeedKernelModel", name := "list", desc := "(I)I" } : Jvm.MethodName)) ∈ lw_all := lw_g (lw_at lw_m11 1 rfl) rfl
theorem q2611 : (Jvm.Cond.methodLink "DeedKernelLaw" (129 : Nat) ({ cls := "DeedKernelModel", name := "go", desc := "(I)I" } : Jvm.MethodName)) ∈ lw_all := lw_g (lw_at lw_m11 16 rfl) rfl
theorem q2615 : (Jvm.Cond.methodLink "DeedKernelLaw" (133 : Nat) ({ cls := "DeedKernelModel", name := "fork", desc := "(I)I" } : Jvm.MethodName)) ∈ lw_all := lw_g (lw_at lw_m11 20 rfl) rfl
theorem q2623 : (Jvm.Cond.methodLink "DeedKernelLaw" (137 : Nat) ({ cls := "DeedKernelModel", name := "exit", desc := "(II)I" } : Jvm.MethodName)) ∈ lw_all := lw_g (lw_at lw_m11 28 rfl) rfl
theorem q2631 : (Jvm.Cond.methodLink "DeedKernelLaw" (141 : Nat) ({ cls := "DeedKernelModel", name := "await", desc := "(I)I" } : Jvm.MethodName)) ∈ lw_all := lw_g (lw_at lw_m11 36 rfl) rfl
theorem q2639 : (Jvm.Cond.methodLink "DeedKernelLaw" (145 : Nat) ({ cls := "DeedKernelModel", name := "kill", desc := "(III)I" } : Jvm.MethodName)) ∈ lw_all := lw_g (lw_at lw_m11 44 rfl) rfl
theorem q2647 : (Jvm.Cond.methodLink "DeedKernelLaw" (149 : Nat) ({ cls := "DeedKernelModel", name := "signals", desc := "(I)I" } : Jvm.MethodName)) ∈ lw_all := lw_g (lw_at lw_m11 52 rfl) rfl
theorem q2651 : (Jvm.Cond.methodLink "DeedKernelLaw" (153 : Nat) ({ cls := "DeedKernelModel", name := "xbegin", desc := "(I)I" } : Jvm.MethodName)) ∈ lw_all := lw_g (lw_at lw_m11 56 rfl) rfl
theorem q2655 : (Jvm.Cond.methodLink "DeedKernelLaw" (157 : Nat) ({ cls := "DeedKernelModel", name := "xend", desc := "(I)I" } : Jvm.MethodName)) ∈ lw_all := lw_g (lw_at lw_m11 60 rfl) rfl
theorem q2659 : (Jvm.Cond.methodLink "DeedKernelLaw" (161 : Nat) ({ cls := "DeedKernelModel", name := "xabort", desc := "(I)I" } : Jvm.MethodName)) ∈ lw_all := lw_g (lw_at lw_m11 64 rfl) rfl
theorem q2663 : (Jvm.Cond.methodLink "DeedKernelLaw" (165 : Nat) ({ cls := "DeedKernelModel", name := "power", desc := "(II)I" } : Jvm.MethodName)) ∈ lw_all := lw_g (lw_at lw_m11 68 rfl) rfl
theorem q2667 : (Jvm.Cond.methodLink "DeedKernelLaw" (170 : Nat) ({ cls := "DeedKernelModel", name := "stop", desc := "()Z" } : Jvm.MethodName)) ∈ lw_all := lw_g (lw_at lw_m11 72 rfl) rfl
theorem q2671 : (Jvm.Cond.methodLink "DeedKernelLaw" (174 : Nat) ({ cls := "DeedKernelModel", name := "start", desc := "()I" } : Jvm.MethodName)) ∈ lw_all := lw_g (lw_at lw_m11 76 rfl) rfl
theorem q2703 : (Jvm.Cond.methodLink "DeedKernelLaw" (178 : Nat) ({ cls := "DeedKernelModel", name := "poke", desc := "(III)I" } : Jvm.MethodName)) ∈ lw_all := lw_g (lw_at lw_m11 108 rfl) rfl
theorem q2707 : (Jvm.Cond.methodLink "DeedKernelLaw" (181 : Nat) ({ cls := "DeedKernelModel", name := "byteAt", desc := "(II)I" } : Jvm.MethodName)) ∈ lw_all := lw_g (lw_at lw_m11 112 rfl) rfl
theorem q2711 : (Jvm.Cond.methodLink "DeedKernelLaw" (185 : Nat) ({ cls := "DeedKernelModel", name := "out", desc := "(I)I" } : Jvm.MethodName)) ∈ lw_all := lw_g (lw_at lw_m11 116 rfl) rfl
theorem q2715 : (Jvm.Cond.methodLink "DeedKernelLaw" (188 : Nat) ({ cls := "DeedKernelModel", name := "process", desc := "(II)I" } : Jvm.MethodName)) ∈ lw_all := lw_g (lw_at lw_m11 120 rfl) rfl
theorem q2723 : (Jvm.Cond.methodLink "DeedKernelLaw" (191 : Nat) ({ cls := "DeedKernelModel", name := "told", desc := "(I)I" } : Jvm.MethodName)) ∈ lw_all := lw_g (lw_at lw_m11 128 rfl) rfl
theorem q2731 : (Jvm.Cond.constantLong "DeedKernelLaw" (56 : Nat) (4294967295 : Int64)) ∈ lw_all := lw_g (lw_at lw_m11 136 rfl) rfl
theorem q196 : (Jvm.Cond.initialized "DeedKernel") ∈ lw_all := lw_g (lw_at lw_m1 1 rfl) rfl
theorem q221 : (Jvm.Cond.instantiable "DeedKernel" (25 : Nat)) ∈ lw_all := lw_g (lw_at lw_m1 26 rfl) rfl
theorem q223 : (Jvm.Cond.instanceMethod ({ cls := "DeedKernel", name := "<init>", desc := "(III)V" } : Jvm.MethodName)) ∈ lw_all := lw_g (lw_at lw_m1 28 rfl) rfl
theorem q224 : (Jvm.Cond.code ({ cls := "DeedKernel", name := "<init>", desc := "(III)V" } : Jvm.MethodName) prog_1_method_6_code (5 : Nat) (Option.none : Option Jvm.ClassFile.FieldType)) ∈ lw_all := lw_g (lw_at lw_m1 29 rfl) rfl
theorem q225 : (Jvm.Cond.methodLink "DeedKernel" (13 : Nat) ({ cls := "java/lang/Object", name := "<init>", desc := "()V" } : Jvm.MethodName)) ∈ lw_all := lw_g (lw_at lw_m1 30 rfl) rfl
theorem q228 : (Jvm.Cond.classLink "DeedKernel" (16 : Nat) "DeedKernel$Head") ∈ lw_all := lw_g (lw_at lw_m1 33 rfl) rfl
theorem q230 : (Jvm.Cond.methodLinkNest "DeedKernel" (18 : Nat) ({ cls := "DeedKernel$Head", name := "<init>", desc := "()V" } : Jvm.MethodName) "DeedKernel") ∈ lw_tbl := lw_at lw_m1 35 rfl
theorem q235 : (Jvm.Cond.fieldLink "DeedKernel" (136 : Nat) "DeedKernel$Head" "bytes" "[B") ∈ lw_all := lw_g (lw_at lw_m1 40 rfl) rfl
theorem q237 : (Jvm.Cond.fieldLink "DeedKernel" (768 : Nat) "DeedKernel$Head" "n" "I") ∈ lw_all := lw_g (lw_at lw_m1 42 rfl) rfl
theorem q244 : (Jvm.Cond.classLink "DeedKernel" (25 : Nat) "DeedKernel$Opening") ∈ lw_all := lw_g (lw_at lw_m1 49 rfl) rfl
theorem q246 : (Jvm.Cond.classLink "DeedKernel" (31 : Nat) "DeedKernel$Pipe") ∈ lw_all := lw_g (lw_at lw_m1 51 rfl) rfl
theorem q248 : (Jvm.Cond.classLink "DeedKernel" (37 : Nat) "DeedKernel$Process") ∈ lw_all := lw_g (lw_at lw_m1 53 rfl) rfl
theorem q250 : (Jvm.Cond.classLink "DeedKernel" (43 : Nat) "DeedKernel$Things") ∈ lw_all := lw_g (lw_at lw_m1 55 rfl) rfl
theorem q252 : (Jvm.Cond.methodLinkNest "DeedKernel" (45 : Nat) ({ cls := "DeedKernel$Things", name := "<init>", desc := "()V" } : Jvm.MethodName) "DeedKernel") ∈ lw_tbl := lw_at lw_m1 57 rfl
theorem q257 : (Jvm.Cond.fieldLink "DeedKernel" (205 : Nat) "DeedKernel$Things" "many" "I") ∈ lw_all := lw_g (lw_at lw_m1 62 rfl) rfl
theorem q259 : (Jvm.Cond.fieldLink "DeedKernel" (331 : Nat) "DeedKernel$Things" "kind" "[I") ∈ lw_all := lw_g (lw_at lw_m1 64 rfl) rfl
theorem q261 : (Jvm.Cond.fieldLink "DeedKernel" (333 : Nat) "DeedKernel$Things" "of" "[I") ∈ lw_all := lw_g (lw_at lw_m1 66 rfl) rfl
theorem q265 : (Jvm.Cond.fieldLink "DeedKernel" (382 : Nat) "DeedKernel$Things" "read" "[I") ∈ lw_all := lw_g (lw_at lw_m1 70 rfl) rfl
theorem q267 : (Jvm.Cond.fieldLink "DeedKernel" (328 : Nat) "DeedKernel$Things" "writer" "[I") ∈ lw_all := lw_g (lw_at lw_m1 72 rfl) rfl
theorem q285 : (Jvm.Cond.classLink "DeedKernel" (50 : Nat) "DeedKernel$Refused") ∈ lw_all := lw_g (lw_at lw_m1 90 rfl) rfl
theorem q328 : (Jvm.Cond.methodLinkNest "DeedKernel" (52 : Nat) ({ cls := "DeedKernel$Refused", name := "<init>", desc := "()V" } : Jvm.MethodName) "DeedKernel") ∈ lw_tbl := lw_at lw_m1 133 rfl
theorem q339 : (Jvm.Cond.fieldLink "DeedKernel" (514 : Nat) "DeedKernel$Refused" "why" "I") ∈ lw_all := lw_g (lw_at lw_m1 144 rfl) rfl
theorem q355 : (Jvm.Cond.classLink "DeedKernel" (71 : Nat) "DeedKernel$Path") ∈ lw_all := lw_g (lw_at lw_m1 160 rfl) rfl
theorem q357 : (Jvm.Cond.methodLinkNest "DeedKernel" (73 : Nat) ({ cls := "DeedKernel$Path", name := "<init>", desc := "(LDeedKernel;)V" } : Jvm.MethodName) "DeedKernel") ∈ lw_tbl := lw_at lw_m1 162 rfl
theorem q364 : (Jvm.Cond.fieldLinkNest "DeedKernel" (658 : Nat) "DeedKernel$Path" "steps" "I" "DeedKernel") ∈ lw_tbl := lw_at lw_m1 169 rfl
theorem q378 : (Jvm.Cond.classLink "DeedKernel" (83 : Nat) "DeedKernel$Disk") ∈ lw_all := lw_g (lw_at lw_m1 183 rfl) rfl
theorem q380 : (Jvm.Cond.methodLink "DeedKernel" (85 : Nat) ({ cls := "DeedKernel", name := "nearest", desc := "(III)I" } : Jvm.MethodName)) ∈ lw_all := lw_g (lw_at lw_m1 185 rfl) rfl
theorem q381 : (Jvm.Cond.static ({ cls := "DeedKernel", name := "nearest", desc := "(III)I" } : Jvm.MethodName)) ∈ lw_all := lw_g (lw_at lw_m1 186 rfl) rfl
theorem q382 : (Jvm.Cond.code ({ cls := "DeedKernel", name := "nearest", desc := "(III)I" } : Jvm.MethodName) prog_1_method_2_code (3 : Nat) (Option.some Jvm.ClassFile.FieldType.int)) ∈ lw_all := lw_g (lw_at lw_m1 187 rfl) rfl
theorem q383 : (Jvm.Cond.methodLink "DeedKernel" (89 : Nat) ({ cls := "DeedKernel$Disk", name := "<init>", desc := "(III)V" } : Jvm.MethodName)) ∈ lw_all := lw_g (lw_at lw_m1 188 rfl) rfl
theorem q391 : (Jvm.Cond.fieldLink "DeedKernel" (96 : Nat) "DeedKernel$Disk" "blocks" "I") ∈ lw_all := lw_g (lw_at lw_m1 196 rfl) rfl
theorem q393 : (Jvm.Cond.fieldLink "DeedKernel" (110 : Nat) "DeedKernel$Disk" "inodes" "I") ∈ lw_all := lw_g (lw_at lw_m1 198 rfl) rfl
theorem q395 : (Jvm.Cond.fieldLink "DeedKernel" (477 : Nat) "DeedKernel$Disk" "log" "I") ∈ lw_all := lw_g (lw_at lw_m1 200 rfl) rfl
theorem q397 : (Jvm.Cond.fieldLink "DeedKernel" (127 : Nat) "DeedKernel$Disk" "bytes" "[B") ∈ lw_all := lw_g (lw_at lw_m1 202 rfl) rfl
theorem q399 : (Jvm.Cond.fieldLink "DeedKernel" (154 : Nat) "DeedKernel$Disk" "writes" "I") ∈ lw_all := lw_g (lw_at lw_m1 204 rfl) rfl
theorem q401 : (Jvm.Cond.fieldLink "DeedKernel" (157 : Nat) "DeedKernel$Disk" "goesAt" "I") ∈ lw_all := lw_g (lw_at lw_m1 206 rfl) rfl
theorem q403 : (Jvm.Cond.fieldLink "DeedKernel" (757 : Nat) "DeedKernel$Disk" "torn" "I") ∈ lw_all := lw_g (lw_at lw_m1 208 rfl) rfl
theorem q405 : (Jvm.Cond.fieldLink "DeedKernel" (160 : Nat) "DeedKernel$Disk" "isDown" "Z") ∈ lw_all := lw_g (lw_at lw_m1 210 rfl) rfl
theorem q406 : (Jvm.Cond.fieldLink "DeedKernel" (164 : Nat) "DeedKernel$Disk" "sequence" "I") ∈ lw_all := lw_g (lw_at lw_m1 211 rfl) rfl
theorem q426 : (Jvm.Cond.classLink "DeedKernel" (113 : Nat) "DeedKernel$Inode") ∈ lw_all := lw_g (lw_at lw_m1 231 rfl) rfl
theorem q429 : (Jvm.Cond.methodLink "DeedKernel" (118 : Nat) ({ cls := "DeedKernel$Inode", name := "<init>", desc := "(I)V" } : Jvm.MethodName)) ∈ lw_all := lw_g (lw_at lw_m1 234 rfl) rfl
theorem q435 : (Jvm.Cond.fieldLink "DeedKernel" (448 : Nat) "DeedKernel$Inode" "number" "I") ∈ lw_all := lw_g (lw_at lw_m2 0 rfl) rfl
theorem q437 : (Jvm.Cond.fieldLink "DeedKernel" (182 : Nat) "DeedKernel$Inode" "kind" "I") ∈ lw_all := lw_g (lw_at lw_m2 2 rfl) rfl
theorem q440 : (Jvm.Cond.fieldLink "DeedKernel" (185 : Nat) "DeedKernel$Inode" "names" "I") ∈ lw_all := lw_g (lw_at lw_m2 5 rfl) rfl
theorem q443 : (Jvm.Cond.fieldLink "DeedKernel" (285 : Nat) "DeedKernel$Inode" "length" "I") ∈ lw_all := lw_g (lw_at lw_m2 8 rfl) rfl
theorem q446 : (Jvm.Cond.fieldLink "DeedKernel" (300 : Nat) "DeedKernel$Inode" "up" "I") ∈ lw_all := lw_g (lw_at lw_m2 11 rfl) rfl
theorem q448 : (Jvm.Cond.fieldLink "DeedKernel" (279 : Nat) "DeedKernel$Inode" "data" "[B") ∈ lw_all := lw_g (lw_at lw_m2 13 rfl) rfl
theorem q450 : (Jvm.Cond.fieldLink "DeedKernel" (297 : Nat) "DeedKernel$Inode" "hadNames" "I") ∈ lw_all := lw_g (lw_at lw_m2 15 rfl) rfl
theorem q451 : (Jvm.Cond.fieldLink "DeedKernel" (288 : Nat) "DeedKernel$Inode" "hadLength" "I") ∈ lw_all := lw_g (lw_at lw_m2 16 rfl) rfl
theorem q452 : (Jvm.Cond.fieldLink "DeedKernel" (303 : Nat) "DeedKernel$Inode" "hadUp" "I") ∈ lw_all := lw_g (lw_at lw_m2 17 rfl) rfl
theorem q454 : (Jvm.Cond.fieldLink "DeedKernel" (282 : Nat) "DeedKernel$Inode" "had" "[B") ∈ lw_all := lw_g (lw_at lw_m2 19 rfl) rfl
theorem q456 : (Jvm.Cond.fieldLink "DeedKernel" (258 : Nat) "DeedKernel$Inode" "madeBy" "I") ∈ lw_all := lw_g (lw_at lw_m2 21 rfl) rfl
theorem q459 : (Jvm.Cond.fieldLink "DeedKernel" (261 : Nat) "DeedKernel$Inode" "namesBy" "I") ∈ lw_all := lw_g (lw_at lw_m2 24 rfl) rfl
theorem q461 : (Jvm.Cond.fieldLink "DeedKernel" (294 : Nat) "DeedKernel$Inode" "dataBy" "I") ∈ lw_all := lw_g (lw_at lw_m2 26 rfl) rfl
theorem q463 : (Jvm.Cond.fieldLink "DeedKernel" (188 : Nat) "DeedKernel$Inode" "keptKind" "I") ∈ lw_all := lw_g (lw_at lw_m2 28 rfl) rfl
theorem q465 : (Jvm.Cond.fieldLink "DeedKernel" (191 : Nat) "DeedKernel$Inode" "keptNames" "I") ∈ lw_all := lw_g (lw_at lw_m2 30 rfl) rfl
theorem q467 : (Jvm.Cond.fieldLink "DeedKernel" (415 : Nat) "DeedKernel$Inode" "keptLength" "I") ∈ lw_all := lw_g (lw_at lw_m2 32 rfl) rfl
theorem q469 : (Jvm.Cond.fieldLink "DeedKernel" (395 : Nat) "DeedKernel$Inode" "blocks" "[I") ∈ lw_all := lw_g (lw_at lw_m2 34 rfl) rfl
theorem q471 : (Jvm.Cond.fieldLink "DeedKernel" (394 : Nat) "DeedKernel$Inode" "many" "I") ∈ lw_all := lw_g (lw_at lw_m2 36 rfl) rfl
theorem q473 : (Jvm.Cond.fieldLink "DeedKernel" (397 : Nat) "DeedKernel$Inode" "indirect" "I") ∈ lw_all := lw_g (lw_at lw_m2 38 rfl) rfl
theorem q474 : (Jvm.Cond.fieldLink "DeedKernel" (439 : Nat) "DeedKernel$Inode" "isTouched" "Z") ∈ lw_all := lw_g (lw_at lw_m2 39 rfl) rfl
theorem q475 : (Jvm.Cond.fieldLink "DeedKernel" (409 : Nat) "DeedKernel$Inode" "nextKind" "I") ∈ lw_all := lw_g (lw_at lw_m2 40 rfl) rfl
theorem q476 : (Jvm.Cond.fieldLink "DeedKernel" (412 : Nat) "DeedKernel$Inode" "nextNames" "I") ∈ lw_all := lw_g (lw_at lw_m2 41 rfl) rfl
theorem q477 : (Jvm.Cond.fieldLink "DeedKernel" (418 : Nat) "DeedKernel$Inode" "nextLength" "I") ∈ lw_all := lw_g (lw_at lw_m2 42 rfl) rfl
theorem q479 : (Jvm.Cond.fieldLink "DeedKernel" (436 : Nat) "DeedKernel$Inode" "nextBlocks" "[I") ∈ lw_all := lw_g (lw_at lw_m2 44 rfl) rfl
theorem q480 : (Jvm.Cond.fieldLink "DeedKernel" (430 : Nat) "DeedKernel$Inode" "nextMany" "I") ∈ lw_all := lw_g (lw_at lw_m2 45 rfl) rfl
theorem q481 : (Jvm.Cond.fieldLink "DeedKernel" (433 : Nat) "DeedKernel$Inode" "nextIndirect" "I") ∈ lw_all := lw_g (lw_at lw_m2 46 rfl) rfl
theorem q483 : (Jvm.Cond.fieldLink "DeedKernel" (820 : Nat) "DeedKernel$Inode" "kept" "[I") ∈ lw_all := lw_g (lw_at lw_m2 48 rfl) rfl
theorem q486 : (Jvm.Cond.fieldLink "DeedKernel" (696 : Nat) "DeedKernel$Inode" "now" "[I") ∈ lw_all := lw_g (lw_at lw_m2 51 rfl) rfl
theorem q489 : (Jvm.Cond.fieldLink "DeedKernel" (457 : Nat) "DeedKernel$Inode" "letters" "[B") ∈ lw_all := lw_g (lw_at lw_m2 54 rfl) rfl
theorem q553 : (Jvm.Cond.methodLinkNest "DeedKernel" (121 : Nat) ({ cls := "DeedKernel$Opening", name := "<init>", desc := "()V" } : Jvm.MethodName) "DeedKernel") ∈ lw_tbl := lw_at lw_m2 118 rfl
theorem q558 : (Jvm.Cond.fieldLink "DeedKernel" (255 : Nat) "DeedKernel$Opening" "of" "LDeedKernel$Inode;") ∈ lw_all := lw_g (lw_at lw_m2 123 rfl) rfl
theorem q559 : (Jvm.Cond.fieldLink "DeedKernel" (240 : Nat) "DeedKernel$Opening" "pipe" "I") ∈ lw_all := lw_g (lw_at lw_m2 124 rfl) rfl
theorem q560 : (Jvm.Cond.fieldLink "DeedKernel" (249 : Nat) "DeedKernel$Opening" "side" "I") ∈ lw_all := lw_g (lw_at lw_m2 125 rfl) rfl
theorem q561 : (Jvm.Cond.fieldLink "DeedKernel" (608 : Nat) "DeedKernel$Opening" "reads" "Z") ∈ lw_all := lw_g (lw_at lw_m2 126 rfl) rfl
theorem q562 : (Jvm.Cond.fieldLink "DeedKernel" (611 : Nat) "DeedKernel$Opening" "writes" "Z") ∈ lw_all := lw_g (lw_at lw_m2 127 rfl) rfl
theorem q563 : (Jvm.Cond.fieldLink "DeedKernel" (613 : Nat) "DeedKernel$Opening" "appends" "Z") ∈ lw_all := lw_g (lw_at lw_m2 128 rfl) rfl
theorem q564 : (Jvm.Cond.fieldLink "DeedKernel" (310 : Nat) "DeedKernel$Opening" "place" "I") ∈ lw_all := lw_g (lw_at lw_m2 129 rfl) rfl
theorem q565 : (Jvm.Cond.fieldLink "DeedKernel" (313 : Nat) "DeedKernel$Opening" "hadPlace" "I") ∈ lw_all := lw_g (lw_at lw_m2 130 rfl) rfl
theorem q584 : (Jvm.Cond.methodLinkNest "DeedKernel" (122 : Nat) ({ cls := "DeedKernel$Pipe", name := "<init>", desc := "()V" } : Jvm.MethodName) "DeedKernel") ∈ lw_tbl := lw_at lw_m2 149 rfl
theorem q589 : (Jvm.Cond.fieldLink "DeedKernel" (642 : Nat) "DeedKernel$Pipe" "bytes" "[B") ∈ lw_all := lw_g (lw_at lw_m2 154 rfl) rfl
theorem q591 : (Jvm.Cond.fieldLink "DeedKernel" (202 : Nat) "DeedKernel$Pipe" "size" "I") ∈ lw_all := lw_g (lw_at lw_m2 156 rfl) rfl
theorem q604 : (Jvm.Cond.methodLink "DeedKernel" (123 : Nat) ({ cls := "DeedKernel$Process", name := "<init>", desc := "(I)V" } : Jvm.MethodName)) ∈ lw_all := lw_g (lw_at lw_m2 169 rfl) rfl
theorem q610 : (Jvm.Cond.fieldLink "DeedKernel" (346 : Nat) "DeedKernel$Process" "number" "I") ∈ lw_all := lw_g (lw_at lw_m2 175 rfl) rfl
theorem q612 : (Jvm.Cond.fieldLink "DeedKernel" (208 : Nat) "DeedKernel$Process" "state" "I") ∈ lw_all := lw_g (lw_at lw_m2 177 rfl) rfl
theorem q614 : (Jvm.Cond.fieldLink "DeedKernel" (703 : Nat) "DeedKernel$Process" "parent" "I") ∈ lw_all := lw_g (lw_at lw_m2 179 rfl) rfl
theorem q616 : (Jvm.Cond.fieldLink "DeedKernel" (718 : Nat) "DeedKernel$Process" "code" "I") ∈ lw_all := lw_g (lw_at lw_m2 181 rfl) rfl
theorem q618 : (Jvm.Cond.fieldLink "DeedKernel" (246 : Nat) "DeedKernel$Process" "row" "[LDeedKernel$Opening;") ∈ lw_all := lw_g (lw_at lw_m2 183 rfl) rfl
theorem q620 : (Jvm.Cond.fieldLink "DeedKernel" (194 : Nat) "DeedKernel$Process" "works" "LDeedKernel$Inode;") ∈ lw_all := lw_g (lw_at lw_m2 185 rfl) rfl
theorem q623 : (Jvm.Cond.fieldLink "DeedKernel" (319 : Nat) "DeedKernel$Process" "signals" "I") ∈ lw_all := lw_g (lw_at lw_m2 188 rfl) rfl
theorem q624 : (Jvm.Cond.fieldLink "DeedKernel" (322 : Nat) "DeedKernel$Process" "hadSignals" "I") ∈ lw_all := lw_g (lw_at lw_m2 189 rfl) rfl
theorem q626 : (Jvm.Cond.fieldLink "DeedKernel" (596 : Nat) "DeedKernel$Process" "depth" "I") ∈ lw_all := lw_g (lw_at lw_m2 191 rfl) rfl
theorem q628 : (Jvm.Cond.fieldLink "DeedKernel" (368 : Nat) "DeedKernel$Process" "age" "I") ∈ lw_all := lw_g (lw_at lw_m2 193 rfl) rfl
theorem q630 : (Jvm.Cond.fieldLink "DeedKernel" (357 : Nat) "DeedKernel$Process" "wasAborted" "Z") ∈ lw_all := lw_g (lw_at lw_m2 195 rfl) rfl
theorem q632 : (Jvm.Cond.fieldLink "DeedKernel" (503 : Nat) "DeedKernel$Process" "isLeaving" "Z") ∈ lw_all := lw_g (lw_at lw_m2 197 rfl) rfl
theorem q633 : (Jvm.Cond.fieldLink "DeedKernel" (706 : Nat) "DeedKernel$Process" "leavingCode" "I") ∈ lw_all := lw_g (lw_at lw_m2 198 rfl) rfl
theorem q635 : (Jvm.Cond.fieldLink "DeedKernel" (715 : Nat) "DeedKernel$Process" "hadRow" "[LDeedKernel$Opening;") ∈ lw_all := lw_g (lw_at lw_m2 200 rfl) rfl
theorem q637 : (Jvm.Cond.fieldLink "DeedKernel" (252 : Nat) "DeedKernel$Process" "hadWorks" "LDeedKernel$Inode;") ∈ lw_all := lw_g (lw_at lw_m2 202 rfl) rfl
theorem q639 : (Jvm.Cond.fieldLink "DeedKernel" (742 : Nat) "DeedKernel$Process" "killed" "[I") ∈ lw_all := lw_g (lw_at lw_m2 204 rfl) rfl
theorem q641 : (Jvm.Cond.fieldLink "DeedKernel" (739 : Nat) "DeedKernel$Process" "kills" "I") ∈ lw_all := lw_g (lw_at lw_m2 206 rfl) rfl
theorem q643 : (Jvm.Cond.fieldLink "DeedKernel" (721 : Nat) "DeedKernel$Process" "awaited" "I") ∈ lw_all := lw_g (lw_at lw_m2 208 rfl) rfl
theorem q644 : (Jvm.Cond.fieldLink "DeedKernel" (341 : Nat) "DeedKernel$Process" "bornBy" "I") ∈ lw_all := lw_g (lw_at lw_m2 209 rfl) rfl
theorem q684 : (Jvm.Cond.methodLink "DeedKernel" (124 : Nat) ({ cls := "DeedKernel", name := "format", desc := "()V" } : Jvm.MethodName)) ∈ lw_all := lw_g (lw_at lw_m3 9 rfl) rfl
theorem q685 : (Jvm.Cond.instanceMethod ({ cls := "DeedKernel", name := "format", desc := "()V" } : Jvm.MethodName)) ∈ lw_all := lw_g (lw_at lw_m3 10 rfl) rfl
theorem q686 : (Jvm.Cond.selects "DeedKernel" ({ cls := "DeedKernel", name := "format", desc := "()V" } : Jvm.MethodName) ({ cls := "DeedKernel", name := "format", desc := "()V" } : Jvm.MethodName)) ∈ lw_all := lw_g (lw_at lw_m3 11 rfl) rfl
theorem q687 : (Jvm.Cond.code ({ cls := "DeedKernel", name := "format", desc := "()V" } : Jvm.MethodName) prog_1_method_7_code (2 : Nat) (Option.none : Option Jvm.ClassFile.FieldType)) ∈ lw_all := lw_g (lw_at lw_m3 12 rfl) rfl
theorem q688 : (Jvm.Cond.methodLink "DeedKernel" (130 : Nat) ({ cls := "DeedKernel$Disk", name := "begin", desc := "([B)V" } : Jvm.MethodName)) ∈ lw_all := lw_g (lw_at lw_m3 13 rfl) rfl
theorem q696 : (Jvm.Cond.methodLink "DeedKernel" (134 : Nat) ({ cls := "DeedKernel$Head", name := "begin", desc := "(I)V" } : Jvm.MethodName)) ∈ lw_all := lw_g (lw_at lw_m3 21 rfl) rfl
theorem q700 : (Jvm.Cond.methodLink "DeedKernel" (137 : Nat) ({ cls := "DeedKernel$Disk", name := "sum", desc := "(J[BII)J" } : Jvm.MethodName)) ∈ lw_all := lw_g (lw_at lw_m3 25 rfl) rfl
theorem q708 : (Jvm.Cond.methodLink "DeedKernel" (141 : Nat) ({ cls := "DeedKernel$Head", name := "end", desc := "(J)V" } : Jvm.MethodName)) ∈ lw_all := lw_g (lw_at lw_m3 33 rfl) rfl
theorem q712 : (Jvm.Cond.methodLink "DeedKernel" (145 : Nat) ({ cls := "DeedKernel$Disk", name := "head", desc := "()I" } : Jvm.MethodName)) ∈ lw_all := lw_g (lw_at lw_m3 37 rfl) rfl
theorem q716 : (Jvm.Cond.methodLink "DeedKernel" (148 : Nat) ({ cls := "java/lang/System", name := "arraycopy", desc := "(Ljava/lang/Object;ILjava/lang/Object;II)V" } : Jvm.MethodName)) ∈ lw_all := lw_g (lw_at lw_m3 41 rfl) rfl
theorem q719 : (Jvm.Cond.methodLink "DeedKernel" (179 : Nat) ({ cls := "DeedKernel", name := "forget", desc := "()V" } : Jvm.MethodName)) ∈ lw_all := lw_g (lw_at lw_m3 44 rfl) rfl
theorem q720 : (Jvm.Cond.privateMethod ({ cls := "DeedKernel", name := "forget", desc := "()V" } : Jvm.MethodName)) ∈ lw_tbl := lw_at lw_m3 45 rfl
theorem q721 : (Jvm.Cond.instanceMethod ({ cls := "DeedKernel", name := "forget", desc := "()V" } : Jvm.MethodName)) ∈ lw_all := lw_g (lw_at lw_m3 46 rfl) rfl
theorem q722 : (Jvm.Cond.code ({ cls := "DeedKernel", name := "forget", desc := "()V" } : Jvm.MethodName) prog_1_method_8_code (5 : Nat) (Option.none : Option Jvm.ClassFile.FieldType)) ∈ lw_all := lw_g (lw_at lw_m3 47 rfl) rfl
theorem q723 : (Jvm.Cond.methodLink "DeedKernel" (198 : Nat) ({ cls := "DeedKernel$Inode", name := "clear", desc := "()V" } : Jvm.MethodName)) ∈ lw_all := lw_g (lw_at lw_m3 48 rfl) rfl
theorem q727 : (Jvm.Cond.methodLink "DeedKernel" (201 : Nat) ({ cls := "DeedKernel$Process", name := "clear", desc := "()V" } : Jvm.MethodName)) ∈ lw_all := lw_g (lw_at lw_m3 52 rfl) rfl
theorem q735 : (Jvm.Cond.fieldLink "DeedKernel" (92 : Nat) "DeedKernel" "disk" "LDeedKernel$Disk;") ∈ lw_all := lw_g (lw_at lw_m3 60 rfl) rfl
theorem q736 : (Jvm.Cond.fieldLink "DeedKernel" (19 : Nat) "DeedKernel" "head" "LDeedKernel$Head;") ∈ lw_all := lw_g (lw_at lw_m3 61 rfl) rfl
theorem q737 : (Jvm.Cond.fieldLink "DeedKernel" (99 : Nat) "DeedKernel" "image" "[B") ∈ lw_all := lw_g (lw_at lw_m3 62 rfl) rfl
theorem q738 : (Jvm.Cond.fieldLink "DeedKernel" (102 : Nat) "DeedKernel" "changed" "[I") ∈ lw_all := lw_g (lw_at lw_m3 63 rfl) rfl
theorem q739 : (Jvm.Cond.fieldLink "DeedKernel" (106 : Nat) "DeedKernel" "taken" "[Z") ∈ lw_all := lw_g (lw_at lw_m3 64 rfl) rfl
theorem q740 : (Jvm.Cond.fieldLink "DeedKernel" (115 : Nat) "DeedKernel" "inodes" "[LDeedKernel$Inode;") ∈ lw_all := lw_g (lw_at lw_m3 65 rfl) rfl
theorem q742 : (Jvm.Cond.fieldLink "DeedKernel" (27 : Nat) "DeedKernel" "openings" "[LDeedKernel$Opening;") ∈ lw_all := lw_g (lw_at lw_m3 67 rfl) rfl
theorem q743 : (Jvm.Cond.fieldLink "DeedKernel" (33 : Nat) "DeedKernel" "pipes" "[LDeedKernel$Pipe;") ∈ lw_all := lw_g (lw_at lw_m3 68 rfl) rfl
theorem q744 : (Jvm.Cond.fieldLink "DeedKernel" (39 : Nat) "DeedKernel" "processes" "[LDeedKernel$Process;") ∈ lw_all := lw_g (lw_at lw_m3 69 rfl) rfl
theorem q745 : (Jvm.Cond.fieldLink "DeedKernel" (46 : Nat) "DeedKernel" "things" "LDeedKernel$Things;") ∈ lw_all := lw_g (lw_at lw_m3 70 rfl) rfl
theorem q746 : (Jvm.Cond.fieldLink "DeedKernel" (53 : Nat) "DeedKernel" "refused" "LDeedKernel$Refused;") ∈ lw_all := lw_g (lw_at lw_m3 71 rfl) rfl
theorem q749 : (Jvm.Cond.fieldLink "DeedKernel" (57 : Nat) "DeedKernel" "tape" "[B") ∈ lw_all := lw_g (lw_at lw_m3 74 rfl) rfl
theorem q750 : (Jvm.Cond.fieldLink "DeedKernel" (219 : Nat) "DeedKernel" "size" "I") ∈ lw_all := lw_g (lw_at lw_m3 75 rfl) rfl
theorem q751 : (Jvm.Cond.fieldLink "DeedKernel" (61 : Nat) "DeedKernel" "out" "[B") ∈ lw_all := lw_g (lw_at lw_m3 76 rfl) rfl
theorem q752 : (Jvm.Cond.fieldLink "DeedKernel" (639 : Nat) "DeedKernel" "outSize" "I") ∈ lw_all := lw_g (lw_at lw_m3 77 rfl) rfl
theorem q753 : (Jvm.Cond.fieldLink "DeedKernel" (167 : Nat) "DeedKernel" "begun" "I") ∈ lw_all := lw_g (lw_at lw_m3 78 rfl) rfl
theorem q754 : (Jvm.Cond.fieldLink "DeedKernel" (170 : Nat) "DeedKernel" "finished" "I") ∈ lw_all := lw_g (lw_at lw_m3 79 rfl) rfl
theorem q755 : (Jvm.Cond.fieldLink "DeedKernel" (173 : Nat) "DeedKernel" "aborted" "I") ∈ lw_all := lw_g (lw_at lw_m3 80 rfl) rfl
theorem q756 : (Jvm.Cond.fieldLink "DeedKernel" (176 : Nat) "DeedKernel" "busy" "I") ∈ lw_all := lw_g (lw_at lw_m3 81 rfl) rfl
theorem q758 : (Jvm.Cond.fieldLink "DeedKernel" (371 : Nat) "DeedKernel" "me" "LDeedKernel$Process;") ∈ lw_all := lw_g (lw_at lw_m3 83 rfl) rfl
theorem q759 : (Jvm.Cond.fieldLink "DeedKernel" (64 : Nat) "DeedKernel" "guestRow" "[LDeedKernel$Opening;") ∈ lw_all := lw_g (lw_at lw_m3 84 rfl) rfl
theorem q761 : (Jvm.Cond.fieldLink "DeedKernel" (291 : Nat) "DeedKernel" "who" "I") ∈ lw_all := lw_g (lw_at lw_m3 86 rfl) rfl
theorem q762 : (Jvm.Cond.fieldLink "DeedKernel" (67 : Nat) "DeedKernel" "passed" "I") ∈ lw_all := lw_g (lw_at lw_m3 87 rfl) rfl
theorem q763 : (Jvm.Cond.fieldLink "DeedKernel" (76 : Nat) "DeedKernel" "path" "LDeedKernel$Path;") ∈ lw_all := lw_g (lw_at lw_m3 88 rfl) rfl
theorem q764 : (Jvm.Cond.fieldLink "DeedKernel" (80 : Nat) "DeedKernel" "second" "LDeedKernel$Path;") ∈ lw_all := lw_g (lw_at lw_m3 89 rfl) rfl
theorem q765 : (Jvm.Cond.laysFinal "DeedKernel" "DeedKernel" "disk" "LDeedKernel$Disk;") ∈ lw_all := lw_g (lw_at lw_m3 90 rfl) rfl
theorem q766 : (Jvm.Cond.soleField "DeedKernel" "disk") ∈ lw_all := lw_g (lw_at lw_m3 91 rfl) rfl
theorem q767 : (Jvm.Cond.laysFinal "DeedKernel" "DeedKernel" "head" "LDeedKernel$Head;") ∈ lw_all := lw_g (lw_at lw_m3 92 rfl) rfl
theorem q768 : (Jvm.Cond.soleField "DeedKernel" "head") ∈ lw_all := lw_g (lw_at lw_m3 93 rfl) rfl
theorem q769 : (Jvm.Cond.laysFinal "DeedKernel" "DeedKernel" "image" "[B") ∈ lw_all := lw_g (lw_at lw_m3 94 rfl) rfl
theorem q770 : (Jvm.Cond.soleField "DeedKernel" "image") ∈ lw_all := lw_g (lw_at lw_m3 95 rfl) rfl
theorem q771 : (Jvm.Cond.laysFinal "DeedKernel" "DeedKernel" "changed" "[I") ∈ lw_all := lw_g (lw_at lw_m3 96 rfl) rfl
theorem q772 : (Jvm.Cond.soleField "DeedKernel" "changed") ∈ lw_all := lw_g (lw_at lw_m3 97 rfl) rfl
theorem q773 : (Jvm.Cond.laysFinal "DeedKernel" "DeedKernel" "taken" "[Z") ∈ lw_all := lw_g (lw_at lw_m3 98 rfl) rfl
theorem q774 : (Jvm.Cond.soleField "DeedKernel" "taken") ∈ lw_all := lw_g (lw_at lw_m3 99 rfl) rfl
theorem q775 : (Jvm.Cond.laysFinal "DeedKernel" "DeedKernel" "inodes" "[LDeedKernel$Inode;") ∈ lw_all := lw_g (lw_at lw_m3 100 rfl) rfl
theorem q776 : (Jvm.Cond.soleField "DeedKernel" "inodes") ∈ lw_all := lw_g (lw_at lw_m3 101 rfl) rfl
theorem q777 : (Jvm.Cond.laysFinal "DeedKernel" "DeedKernel" "openings" "[LDeedKernel$Opening;") ∈ lw_all := lw_g (lw_at lw_m3 102 rfl) rfl
theorem q778 : (Jvm.Cond.soleField "DeedKernel" "openings") ∈ lw_all := lw_g (lw_at lw_m3 103 rfl) rfl
theorem q779 : (Jvm.Cond.laysFinal "DeedKernel" "DeedKernel" "pipes" "[LDeedKernel$Pipe;") ∈ lw_all := lw_g (lw_at lw_m3 104 rfl) rfl
theorem q780 : (Jvm.Cond.soleField "DeedKernel" "pipes") ∈ lw_all := lw_g (lw_at lw_m3 105 rfl) rfl
theorem q781 : (Jvm.Cond.laysFinal "DeedKernel" "DeedKernel" "processes" "[LDeedKernel$Process;") ∈ lw_all := lw_g (lw_at lw_m3 106 rfl) rfl
theorem q782 : (Jvm.Cond.soleField "DeedKernel" "processes") ∈ lw_all := lw_g (lw_at lw_m3 107 rfl) rfl
theorem q783 : (Jvm.Cond.laysFinal "DeedKernel" "DeedKernel" "things" "LDeedKernel$Things;") ∈ lw_all := lw_g (lw_at lw_m3 108 rfl) rfl
theorem q784 : (Jvm.Cond.soleField "DeedKernel" "things") ∈ lw_all := lw_g (lw_at lw_m3 109 rfl) rfl
theorem q785 : (Jvm.Cond.laysFinal "DeedKernel" "DeedKernel" "refused" "LDeedKernel$Refused;") ∈ lw_all := lw_g (lw_at lw_m3 110 rfl) rfl
theorem q786 : (Jvm.Cond.soleField "DeedKernel" "refused") ∈ lw_all := lw_g (lw_at lw_m3 111 rfl) rfl
theorem q787 : (Jvm.Cond.laysFinal "DeedKernel" "DeedKernel" "tape" "[B") ∈ lw_all := lw_g (lw_at lw_m3 112 rfl) rfl
theorem q788 : (Jvm.Cond.soleField "DeedKernel" "tape") ∈ lw_all := lw_g (lw_at lw_m3 113 rfl) rfl
theorem q789 : (Jvm.Cond.lays "DeedKernel" "DeedKernel" "size" "I") ∈ lw_all := lw_g (lw_at lw_m3 114 rfl) rfl
theorem q790 : (Jvm.Cond.soleField "DeedKernel" "size") ∈ lw_all := lw_g (lw_at lw_m3 115 rfl) rfl
theorem q791 : (Jvm.Cond.laysFinal "DeedKernel" "DeedKernel" "out" "[B") ∈ lw_all := lw_g (lw_at lw_m3 116 rfl) rfl
theorem q792 : (Jvm.Cond.soleField "DeedKernel" "out") ∈ lw_all := lw_g (lw_at lw_m3 117 rfl) rfl
theorem q793 : (Jvm.Cond.lays "DeedKernel" "DeedKernel" "outSize" "I") ∈ lw_all := lw_g (lw_at lw_m3 118 rfl) rfl
theorem q794 : (Jvm.Cond.soleField "DeedKernel" "outSize") ∈ lw_all := lw_g (lw_at lw_m3 119 rfl) rfl
theorem q795 : (Jvm.Cond.lays "DeedKernel" "DeedKernel" "begun" "I") ∈ lw_all := lw_g (lw_at lw_m3 120 rfl) rfl
theorem q796 : (Jvm.Cond.soleField "DeedKernel" "begun") ∈ lw_all := lw_g (lw_at lw_m3 121 rfl) rfl
theorem q797 : (Jvm.Cond.lays "DeedKernel" "DeedKernel" "finished" "I") ∈ lw_all := lw_g (lw_at lw_m3 122 rfl) rfl
theorem q798 : (Jvm.Cond.soleField "DeedKernel" "finished") ∈ lw_all := lw_g (lw_at lw_m3 123 rfl) rfl
theorem q799 : (Jvm.Cond.lays "DeedKernel" "DeedKernel" "aborted" "I") ∈ lw_all := lw_g (lw_at lw_m3 124 rfl) rfl
theorem q800 : (Jvm.Cond.soleField "DeedKernel" "aborted") ∈ lw_all := lw_g (lw_at lw_m3 125 rfl) rfl
theorem q801 : (Jvm.Cond.lays "DeedKernel" "DeedKernel" "busy" "I") ∈ lw_all := lw_g (lw_at lw_m3 126 rfl) rfl
theorem q802 : (Jvm.Cond.soleField "DeedKernel" "busy") ∈ lw_all := lw_g (lw_at lw_m3 127 rfl) rfl
theorem q803 : (Jvm.Cond.lays "DeedKernel" "DeedKernel" "me" "LDeedKernel$Process;") ∈ lw_all := lw_g (lw_at lw_m3 128 rfl) rfl
theorem q804 : (Jvm.Cond.soleField "DeedKernel" "me") ∈ lw_all := lw_g (lw_at lw_m3 129 rfl) rfl
theorem q805 : (Jvm.Cond.laysFinal "DeedKernel" "DeedKernel" "guestRow" "[LDeedKernel$Opening;") ∈ lw_all := lw_g (lw_at lw_m3 130 rfl) rfl
theorem q806 : (Jvm.Cond.soleField "DeedKernel" "guestRow") ∈ lw_all := lw_g (lw_at lw_m3 131 rfl) rfl
theorem q807 : (Jvm.Cond.lays "DeedKernel" "DeedKernel" "who" "I") ∈ lw_all := lw_g (lw_at lw_m3 132 rfl) rfl
theorem q808 : (Jvm.Cond.soleField "DeedKernel" "who") ∈ lw_all := lw_g (lw_at lw_m3 133 rfl) rfl
theorem q809 : (Jvm.Cond.lays "DeedKernel" "DeedKernel" "passed" "I") ∈ lw_all := lw_g (lw_at lw_m3 134 rfl) rfl
theorem q810 : (Jvm.Cond.soleField "DeedKernel" "passed") ∈ lw_all := lw_g (lw_at lw_m3 135 rfl) rfl
theorem q811 : (Jvm.Cond.laysFinal "DeedKernel" "DeedKernel" "path" "LDeedKernel$Path;") ∈ lw_all := lw_g (lw_at lw_m3 136 rfl) rfl
theorem q812 : (Jvm.Cond.soleField "DeedKernel" "path") ∈ lw_all := lw_g (lw_at lw_m3 137 rfl) rfl
theorem q813 : (Jvm.Cond.laysFinal "DeedKernel" "DeedKernel" "second" "LDeedKernel$Path;") ∈ lw_all := lw_g (lw_at lw_m3 138 rfl) rfl
theorem q814 : (Jvm.Cond.soleField "DeedKernel" "second") ∈ lw_all := lw_g (lw_at lw_m3 139 rfl) rfl
theorem q815 : (Jvm.Cond.superclass "DeedKernel" "java/lang/Object") ∈ lw_all := lw_g (lw_at lw_m3 140 rfl) rfl
theorem q818 : (Jvm.Cond.instanceMethod ({ cls := "DeedKernel", name := "open", desc := "(II)I" } : Jvm.MethodName)) ∈ lw_all := lw_g (lw_at lw_m3 143 rfl) rfl
theorem q819 : (Jvm.Cond.selects "DeedKernel" ({ cls := "DeedKernel", name := "open", desc := "(II)I" } : Jvm.MethodName) ({ cls := "DeedKernel", name := "open", desc := "(II)I" } : Jvm.MethodName)) ∈ lw_all := lw_g (lw_at lw_m3 144 rfl) rfl
theorem q820 : (Jvm.Cond.code ({ cls := "DeedKernel", name := "open", desc := "(II)I" } : Jvm.MethodName) prog_1_method_78_code (3 : Nat) (Option.some Jvm.ClassFile.FieldType.int)) ∈ lw_all := lw_g (lw_at lw_m3 145 rfl) rfl
theorem q821 : (Jvm.Cond.methodLink "DeedKernel" (754 : Nat) ({ cls := "DeedKernel", name := "perform", desc := "(IIII)I" } : Jvm.MethodName)) ∈ lw_all := lw_g (lw_at lw_m3 146 rfl) rfl
theorem q822 : (Jvm.Cond.privateMethod ({ cls := "DeedKernel", name := "perform", desc := "(IIII)I" } : Jvm.MethodName)) ∈ lw_tbl := lw_at lw_m3 147 rfl
theorem q823 : (Jvm.Cond.instanceMethod ({ cls := "DeedKernel", name := "perform", desc := "(IIII)I" } : Jvm.MethodName)) ∈ lw_all := lw_g (lw_at lw_m3 148 rfl) rfl
theorem q824 : (Jvm.Cond.codeWith ({ cls := "DeedKernel", name := "perform", desc := "(IIII)I" } : Jvm.MethodName) prog_1_method_38_code (9 : Nat) (Option.some Jvm.ClassFile.FieldType.int) [((199 : Nat), (228 : Nat), (231 : Nat), (50 : Nat))]) ∈ lw_all := lw_g (lw_at lw_m3 149 rfl) rfl
theorem q825 : (Jvm.Cond.methodLink "DeedKernel" (211 : Nat) ({ cls := "DeedKernel", name := "isIn", desc := "(III)Z" } : Jvm.MethodName)) ∈ lw_all := lw_g (lw_at lw_m3 150 rfl) rfl
theorem q826 : (Jvm.Cond.static ({ cls := "DeedKernel", name := "isIn", desc := "(III)Z" } : Jvm.MethodName)) ∈ lw_all := lw_g (lw_at lw_m3 151 rfl) rfl
theorem q827 : (Jvm.Cond.code ({ cls := "DeedKernel", name := "isIn", desc := "(III)Z" } : Jvm.MethodName) prog_1_method_1_code (3 : Nat) (Option.some Jvm.ClassFile.FieldType.boolean)) ∈ lw_all := lw_g (lw_at lw_m3 152 rfl) rfl
theorem q828 : (Jvm.Cond.methodLink "DeedKernel" (499 : Nat) ({ cls := "DeedKernel", name := "isGood", desc := "(IIII)Z" } : Jvm.MethodName)) ∈ lw_all := lw_g (lw_at lw_m3 153 rfl) rfl
theorem q829 : (Jvm.Cond.privateMethod ({ cls := "DeedKernel", name := "isGood", desc := "(IIII)Z" } : Jvm.MethodName)) ∈ lw_tbl := lw_at lw_m3 154 rfl
theorem q830 : (Jvm.Cond.instanceMethod ({ cls := "DeedKernel", name := "isGood", desc := "(IIII)Z" } : Jvm.MethodName)) ∈ lw_all := lw_g (lw_at lw_m3 155 rfl) rfl
theorem q831 : (Jvm.Cond.code ({ cls := "DeedKernel", name := "isGood", desc := "(IIII)Z" } : Jvm.MethodName) prog_1_method_39_code (5 : Nat) (Option.some Jvm.ClassFile.FieldType.boolean)) ∈ lw_all := lw_g (lw_at lw_m3 156 rfl) rfl
theorem q832 : (Jvm.Cond.methodLink "DeedKernel" (517 : Nat) ({ cls := "DeedKernel$Path", name := "read", desc := "(II)Z" } : Jvm.MethodName)) ∈ lw_all := lw_g (lw_at lw_m3 157 rfl) rfl
theorem q840 : (Jvm.Cond.methodLink "DeedKernel" (520 : Nat) ({ cls := "DeedKernel$Path", name := "hasLast", desc := "()Z" } : Jvm.MethodName)) ∈ lw_all := lw_g (lw_at lw_m3 165 rfl) rfl
theorem q852 : (Jvm.Cond.methodLink "DeedKernel" (523 : Nat) ({ cls := "DeedKernel", name := "areTwo", desc := "(I)Z" } : Jvm.MethodName)) ∈ lw_all := lw_g (lw_at lw_m3 177 rfl) rfl
theorem q853 : (Jvm.Cond.privateMethod ({ cls := "DeedKernel", name := "areTwo", desc := "(I)Z" } : Jvm.MethodName)) ∈ lw_tbl := lw_at lw_m3 178 rfl
theorem q854 : (Jvm.Cond.instanceMethod ({ cls := "DeedKernel", name := "areTwo", desc := "(I)Z" } : Jvm.MethodName)) ∈ lw_all := lw_g (lw_at lw_m3 179 rfl) rfl
theorem q855 : (Jvm.Cond.code ({ cls := "DeedKernel", name := "areTwo", desc := "(I)Z" } : Jvm.MethodName) prog_1_method_40_code (3 : Nat) (Option.some Jvm.ClassFile.FieldType.boolean)) ∈ lw_all := lw_g (lw_at lw_m3 180 rfl) rfl
theorem q856 : (Jvm.Cond.methodLink "DeedKernel" (231 : Nat) ({ cls := "DeedKernel$Process", name := "hasGroup", desc := "()Z" } : Jvm.MethodName)) ∈ lw_all := lw_g (lw_at lw_m3 181 rfl) rfl
theorem q860 : (Jvm.Cond.methodLink "DeedKernel" (506 : Nat) ({ cls := "DeedKernel", name := "run", desc := "(IIII)I" } : Jvm.MethodName)) ∈ lw_all := lw_g (lw_at lw_m3 185 rfl) rfl
theorem q861 : (Jvm.Cond.privateMethod ({ cls := "DeedKernel", name := "run", desc := "(IIII)I" } : Jvm.MethodName)) ∈ lw_tbl := lw_at lw_m3 186 rfl
theorem q862 : (Jvm.Cond.instanceMethod ({ cls := "DeedKernel", name := "run", desc := "(IIII)I" } : Jvm.MethodName)) ∈ lw_all := lw_g (lw_at lw_m3 187 rfl) rfl
theorem q863 : (Jvm.Cond.code ({ cls := "DeedKernel", name := "run", desc := "(IIII)I" } : Jvm.MethodName) prog_1_method_41_code (10 : Nat) (Option.some Jvm.ClassFile.FieldType.int)) ∈ lw_all := lw_g (lw_at lw_m3 188 rfl) rfl
theorem q864 : (Jvm.Cond.methodLink "DeedKernel" (526 : Nat) ({ cls := "DeedKernel", name := "doOpen", desc := "(I)I" } : Jvm.MethodName)) ∈ lw_all := lw_g (lw_at lw_m3 189 rfl) rfl
theorem q865 : (Jvm.Cond.privateMethod ({ cls := "DeedKernel", name := "doOpen", desc := "(I)I" } : Jvm.MethodName)) ∈ lw_tbl := lw_at lw_m3 190 rfl
theorem q866 : (Jvm.Cond.instanceMethod ({ cls := "DeedKernel", name := "doOpen", desc := "(I)I" } : Jvm.MethodName)) ∈ lw_all := lw_g (lw_at lw_m3 191 rfl) rfl
theorem q867 : (Jvm.Cond.code ({ cls := "DeedKernel", name := "doOpen", desc := "(I)I" } : Jvm.MethodName) prog_1_method_45_code (6 : Nat) (Option.some Jvm.ClassFile.FieldType.int)) ∈ lw_all := lw_g (lw_at lw_m3 192 rfl) rfl
theorem q868 : (Jvm.Cond.methodLink "DeedKernel" (546 : Nat) ({ cls := "DeedKernel", name := "freeDescriptor", desc := "(I)I" } : Jvm.MethodName)) ∈ lw_all := lw_g (lw_at lw_m3 193 rfl) rfl
theorem q869 : (Jvm.Cond.privateMethod ({ cls := "DeedKernel", name := "freeDescriptor", desc := "(I)I" } : Jvm.MethodName)) ∈ lw_tbl := lw_at lw_m3 194 rfl
theorem q870 : (Jvm.Cond.instanceMethod ({ cls := "DeedKernel", name := "freeDescriptor", desc := "(I)I" } : Jvm.MethodName)) ∈ lw_all := lw_g (lw_at lw_m3 195 rfl) rfl
theorem q871 : (Jvm.Cond.code ({ cls := "DeedKernel", name := "freeDescriptor", desc := "(I)I" } : Jvm.MethodName) prog_1_method_43_code (2 : Nat) (Option.some Jvm.ClassFile.FieldType.int)) ∈ lw_all := lw_g (lw_at lw_m3 196 rfl) rfl
theorem q872 : (Jvm.Cond.methodLink "DeedKernel" (599 : Nat) ({ cls := "DeedKernel$Process", name := "many", desc := "()I" } : Jvm.MethodName)) ∈ lw_all := lw_g (lw_at lw_m3 197 rfl) rfl
theorem q876 : (Jvm.Cond.methodLink "DeedKernel" (364 : Nat) ({ cls := "DeedKernel$Refused", name := "by", desc := "(I)LDeedKernel$Refused;" } : Jvm.MethodName)) ∈ lw_all := lw_g (lw_at lw_m3 201 rfl) rfl
theorem q880 : (Jvm.Cond.methodLink "DeedKernel" (601 : Nat) ({ cls := "DeedKernel$Process", name := "free", desc := "()I" } : Jvm.MethodName)) ∈ lw_all := lw_g (lw_at lw_m3 205 rfl) rfl
theorem q884 : (Jvm.Cond.methodLink "DeedKernel" (573 : Nat) ({ cls := "DeedKernel$Path", name := "find", desc := "()LDeedKernel$Inode;" } : Jvm.MethodName)) ∈ lw_all := lw_g (lw_at lw_m3 209 rfl) rfl
theorem q906 : (Jvm.Cond.privateMethod ({ cls := "DeedKernel", name := "reads", desc := "(II)V" } : Jvm.MethodName)) ∈ lw_tbl := lw_at lw_m3 231 rfl
theorem q907 : (Jvm.Cond.instanceMethod ({ cls := "DeedKernel", name := "reads", desc := "(II)V" } : Jvm.MethodName)) ∈ lw_all := lw_g (lw_at lw_m3 232 rfl) rfl
theorem q908 : (Jvm.Cond.code ({ cls := "DeedKernel", name := "reads", desc := "(II)V" } : Jvm.MethodName) prog_1_method_24_code (3 : Nat) (Option.none : Option Jvm.ClassFile.FieldType)) ∈ lw_all := lw_g (lw_at lw_m3 233 rfl) rfl
theorem q909 : (Jvm.Cond.methodLink "DeedKernel" (387 : Nat) ({ cls := "DeedKernel", name := "access", desc := "(IIJJZ)V" } : Jvm.MethodName)) ∈ lw_all := lw_g (lw_at lw_m3 234 rfl) rfl
theorem q910 : (Jvm.Cond.privateMethod ({ cls := "DeedKernel", name := "access", desc := "(IIJJZ)V" } : Jvm.MethodName)) ∈ lw_tbl := lw_at lw_m3 235 rfl
theorem q911 : (Jvm.Cond.instanceMethod ({ cls := "DeedKernel", name := "access", desc := "(IIJJZ)V" } : Jvm.MethodName)) ∈ lw_all := lw_g (lw_at lw_m3 236 rfl) rfl
theorem q912 : (Jvm.Cond.code ({ cls := "DeedKernel", name := "access", desc := "(IIJJZ)V" } : Jvm.MethodName) prog_1_method_23_code (13 : Nat) (Option.none : Option Jvm.ClassFile.FieldType)) ∈ lw_all := lw_g (lw_at lw_m3 237 rfl) rfl
theorem q913 : (Jvm.Cond.methodLink "DeedKernel" (360 : Nat) ({ cls := "DeedKernel$Things", name := "met", desc := "(IIJJZI)I" } : Jvm.MethodName)) ∈ lw_all := lw_g (lw_at lw_m3 238 rfl) rfl
theorem q921 : (Jvm.Cond.methodLink "DeedKernel" (375 : Nat) ({ cls := "DeedKernel", name := "abortAll", desc := "(I)V" } : Jvm.MethodName)) ∈ lw_all := lw_g (lw_at lw_m4 6 rfl) rfl
theorem q922 : (Jvm.Cond.privateMethod ({ cls := "DeedKernel", name := "abortAll", desc := "(I)V" } : Jvm.MethodName)) ∈ lw_tbl := lw_at lw_m4 7 rfl
theorem q923 : (Jvm.Cond.instanceMethod ({ cls := "DeedKernel", name := "abortAll", desc := "(I)V" } : Jvm.MethodName)) ∈ lw_all := lw_g (lw_at lw_m4 8 rfl) rfl
theorem q924 : (Jvm.Cond.code ({ cls := "DeedKernel", name := "abortAll", desc := "(I)V" } : Jvm.MethodName) prog_1_method_22_code (6 : Nat) (Option.none : Option Jvm.ClassFile.FieldType)) ∈ lw_all := lw_g (lw_at lw_m4 9 rfl) rfl
theorem q925 : (Jvm.Cond.methodLink "DeedKernel" (353 : Nat) ({ cls := "DeedKernel", name := "abort", desc := "(LDeedKernel$Process;)V" } : Jvm.MethodName)) ∈ lw_all := lw_g (lw_at lw_m4 10 rfl) rfl
theorem q926 : (Jvm.Cond.privateMethod ({ cls := "DeedKernel", name := "abort", desc := "(LDeedKernel$Process;)V" } : Jvm.MethodName)) ∈ lw_tbl := lw_at lw_m4 11 rfl
theorem q927 : (Jvm.Cond.instanceMethod ({ cls := "DeedKernel", name := "abort", desc := "(LDeedKernel$Process;)V" } : Jvm.MethodName)) ∈ lw_all := lw_g (lw_at lw_m4 12 rfl) rfl
theorem q928 : (Jvm.Cond.code ({ cls := "DeedKernel", name := "abort", desc := "(LDeedKernel$Process;)V" } : Jvm.MethodName) prog_1_method_21_code (2 : Nat) (Option.none : Option Jvm.ClassFile.FieldType)) ∈ lw_all := lw_g (lw_at lw_m4 13 rfl) rfl
theorem q929 : (Jvm.Cond.methodLink "DeedKernel" (349 : Nat) ({ cls := "DeedKernel", name := "undo", desc := "(I)V" } : Jvm.MethodName)) ∈ lw_all := lw_g (lw_at lw_m4 14 rfl) rfl
theorem q930 : (Jvm.Cond.privateMethod ({ cls := "DeedKernel", name := "undo", desc := "(I)V" } : Jvm.MethodName)) ∈ lw_tbl := lw_at lw_m4 15 rfl
theorem q931 : (Jvm.Cond.instanceMethod ({ cls := "DeedKernel", name := "undo", desc := "(I)V" } : Jvm.MethodName)) ∈ lw_all := lw_g (lw_at lw_m4 16 rfl) rfl
theorem q932 : (Jvm.Cond.code ({ cls := "DeedKernel", name := "undo", desc := "(I)V" } : Jvm.MethodName) prog_1_method_20_code (6 : Nat) (Option.none : Option Jvm.ClassFile.FieldType)) ∈ lw_all := lw_g (lw_at lw_m4 17 rfl) rfl
theorem q933 : (Jvm.Cond.methodLink "DeedKernel" (335 : Nat) ({ cls := "DeedKernel", name := "restore", desc := "(II)V" } : Jvm.MethodName)) ∈ lw_all := lw_g (lw_at lw_m4 18 rfl) rfl
theorem q934 : (Jvm.Cond.privateMethod ({ cls := "DeedKernel", name := "restore", desc := "(II)V" } : Jvm.MethodName)) ∈ lw_tbl := lw_at lw_m4 19 rfl
theorem q935 : (Jvm.Cond.instanceMethod ({ cls := "DeedKernel", name := "restore", desc := "(II)V" } : Jvm.MethodName)) ∈ lw_all := lw_g (lw_at lw_m4 20 rfl) rfl
theorem q936 : (Jvm.Cond.code ({ cls := "DeedKernel", name := "restore", desc := "(II)V" } : Jvm.MethodName) prog_1_method_19_code (5 : Nat) (Option.none : Option Jvm.ClassFile.FieldType)) ∈ lw_all := lw_g (lw_at lw_m4 21 rfl) rfl
theorem q937 : (Jvm.Cond.methodLink "DeedKernel" (306 : Nat) ({ cls := "DeedKernel", name := "opening", desc := "(I)LDeedKernel$Opening;" } : Jvm.MethodName)) ∈ lw_all := lw_g (lw_at lw_m4 22 rfl) rfl
theorem q938 : (Jvm.Cond.privateMethod ({ cls := "DeedKernel", name := "opening", desc := "(I)LDeedKernel$Opening;" } : Jvm.MethodName)) ∈ lw_tbl := lw_at lw_m4 23 rfl
theorem q939 : (Jvm.Cond.instanceMethod ({ cls := "DeedKernel", name := "opening", desc := "(I)LDeedKernel$Opening;" } : Jvm.MethodName)) ∈ lw_all := lw_g (lw_at lw_m4 24 rfl) rfl
theorem q940 : (Jvm.Cond.code ({ cls := "DeedKernel", name := "opening", desc := "(I)LDeedKernel$Opening;" } : Jvm.MethodName) prog_1_method_16_code (2 : Nat) (Option.some (Jvm.ClassFile.FieldType.object "DeedKernel$Opening"))) ∈ lw_all := lw_g (lw_at lw_m4 25 rfl) rfl
theorem q941 : (Jvm.Cond.methodLink "DeedKernel" (325 : Nat) ({ cls := "DeedKernel$Pipe", name := "undo", desc := "()V" } : Jvm.MethodName)) ∈ lw_all := lw_g (lw_at lw_m4 26 rfl) rfl
theorem q946 : (Jvm.Cond.methodLink "DeedKernel" (338 : Nat) ({ cls := "DeedKernel$Inode", name := "undoSlots", desc := "(I)V" } : Jvm.MethodName)) ∈ lw_all := lw_g (lw_at lw_m4 31 rfl) rfl
theorem q950 : (Jvm.Cond.methodLink "DeedKernel" (344 : Nat) ({ cls := "DeedKernel$Things", name := "end", desc := "(I)V" } : Jvm.MethodName)) ∈ lw_all := lw_g (lw_at lw_m4 35 rfl) rfl
theorem q958 : (Jvm.Cond.methodLink "DeedKernel" (351 : Nat) ({ cls := "DeedKernel$Process", name := "undo", desc := "()V" } : Jvm.MethodName)) ∈ lw_all := lw_g (lw_at lw_m4 43 rfl) rfl
theorem q963 : (Jvm.Cond.methodLink "DeedKernel" (352 : Nat) ({ cls := "DeedKernel", name := "sweep", desc := "()V" } : Jvm.MethodName)) ∈ lw_all := lw_g (lw_at lw_m4 48 rfl) rfl
theorem q964 : (Jvm.Cond.privateMethod ({ cls := "DeedKernel", name := "sweep", desc := "()V" } : Jvm.MethodName)) ∈ lw_tbl := lw_at lw_m4 49 rfl
theorem q965 : (Jvm.Cond.instanceMethod ({ cls := "DeedKernel", name := "sweep", desc := "()V" } : Jvm.MethodName)) ∈ lw_all := lw_g (lw_at lw_m4 50 rfl) rfl
theorem q966 : (Jvm.Cond.code ({ cls := "DeedKernel", name := "sweep", desc := "()V" } : Jvm.MethodName) prog_1_method_14_code (6 : Nat) (Option.none : Option Jvm.ClassFile.FieldType)) ∈ lw_all := lw_g (lw_at lw_m4 51 rfl) rfl
theorem q967 : (Jvm.Cond.methodLink "DeedKernel" (264 : Nat) ({ cls := "DeedKernel", name := "isUsed", desc := "(LDeedKernel$Inode;)Z" } : Jvm.MethodName)) ∈ lw_all := lw_g (lw_at lw_m4 52 rfl) rfl
theorem q968 : (Jvm.Cond.privateMethod ({ cls := "DeedKernel", name := "isUsed", desc := "(LDeedKernel$Inode;)Z" } : Jvm.MethodName)) ∈ lw_tbl := lw_at lw_m4 53 rfl
theorem q969 : (Jvm.Cond.instanceMethod ({ cls := "DeedKernel", name := "isUsed", desc := "(LDeedKernel$Inode;)Z" } : Jvm.MethodName)) ∈ lw_all := lw_g (lw_at lw_m4 54 rfl) rfl
theorem q970 : (Jvm.Cond.code ({ cls := "DeedKernel", name := "isUsed", desc := "(LDeedKernel$Inode;)Z" } : Jvm.MethodName) prog_1_method_13_code (6 : Nat) (Option.some Jvm.ClassFile.FieldType.boolean)) ∈ lw_all := lw_g (lw_at lw_m4 55 rfl) rfl
theorem q971 : (Jvm.Cond.methodLink "DeedKernel" (223 : Nat) ({ cls := "DeedKernel$Process", name := "acts", desc := "()Z" } : Jvm.MethodName)) ∈ lw_all := lw_g (lw_at lw_m4 56 rfl) rfl
theorem q975 : (Jvm.Cond.methodLink "DeedKernel" (243 : Nat) ({ cls := "DeedKernel", name := "isThere", desc := "(LDeedKernel$Opening;)Z" } : Jvm.MethodName)) ∈ lw_all := lw_g (lw_at lw_m4 60 rfl) rfl
theorem q976 : (Jvm.Cond.privateMethod ({ cls := "DeedKernel", name := "isThere", desc := "(LDeedKernel$Opening;)Z" } : Jvm.MethodName)) ∈ lw_tbl := lw_at lw_m4 61 rfl
theorem q977 : (Jvm.Cond.instanceMethod ({ cls := "DeedKernel", name := "isThere", desc := "(LDeedKernel$Opening;)Z" } : Jvm.MethodName)) ∈ lw_all := lw_g (lw_at lw_m4 62 rfl) rfl
theorem q978 : (Jvm.Cond.code ({ cls := "DeedKernel", name := "isThere", desc := "(LDeedKernel$Opening;)Z" } : Jvm.MethodName) prog_1_method_10_code (6 : Nat) (Option.some Jvm.ClassFile.FieldType.boolean)) ∈ lw_all := lw_g (lw_at lw_m4 63 rfl) rfl
theorem q979 : (Jvm.Cond.methodLink "DeedKernel" (227 : Nat) ({ cls := "DeedKernel$Process", name := "has", desc := "(LDeedKernel$Opening;)Z" } : Jvm.MethodName)) ∈ lw_all := lw_g (lw_at lw_m4 64 rfl) rfl
theorem q983 : (Jvm.Cond.methodLink "DeedKernel" (234 : Nat) ({ cls := "DeedKernel$Process", name := "hadIt", desc := "(LDeedKernel$Opening;)Z" } : Jvm.MethodName)) ∈ lw_all := lw_g (lw_at lw_m4 68 rfl) rfl
theorem q987 : (Jvm.Cond.methodLink "DeedKernel" (268 : Nat) ({ cls := "DeedKernel$Things", name := "drop", desc := "(II)V" } : Jvm.MethodName)) ∈ lw_all := lw_g (lw_at lw_m4 72 rfl) rfl
theorem q991 : (Jvm.Cond.methodLink "DeedKernel" (272 : Nat) ({ cls := "DeedKernel", name := "hasPipe", desc := "(I)Z" } : Jvm.MethodName)) ∈ lw_all := lw_g (lw_at lw_m4 76 rfl) rfl
theorem q992 : (Jvm.Cond.privateMethod ({ cls := "DeedKernel", name := "hasPipe", desc := "(I)Z" } : Jvm.MethodName)) ∈ lw_tbl := lw_at lw_m4 77 rfl
theorem q993 : (Jvm.Cond.instanceMethod ({ cls := "DeedKernel", name := "hasPipe", desc := "(I)Z" } : Jvm.MethodName)) ∈ lw_all := lw_g (lw_at lw_m4 78 rfl) rfl
theorem q994 : (Jvm.Cond.code ({ cls := "DeedKernel", name := "hasPipe", desc := "(I)Z" } : Jvm.MethodName) prog_1_method_11_code (6 : Nat) (Option.some Jvm.ClassFile.FieldType.boolean)) ∈ lw_all := lw_g (lw_at lw_m4 79 rfl) rfl
theorem q995 : (Jvm.Cond.methodLink "DeedKernel" (237 : Nat) ({ cls := "DeedKernel$Opening", name := "isPipe", desc := "()Z" } : Jvm.MethodName)) ∈ lw_all := lw_g (lw_at lw_m4 80 rfl) rfl
theorem q999 : (Jvm.Cond.methodLink "DeedKernel" (276 : Nat) ({ cls := "DeedKernel$Things", name := "sweep", desc := "()V" } : Jvm.MethodName)) ∈ lw_all := lw_g (lw_at lw_m4 84 rfl) rfl
theorem q1000 : (Jvm.Cond.methodLink "DeedKernel" (378 : Nat) ({ cls := "DeedKernel$Things", name := "find", desc := "(IIJJ)I" } : Jvm.MethodName)) ∈ lw_all := lw_g (lw_at lw_m4 85 rfl) rfl
theorem q1013 : (Jvm.Cond.methodLink "DeedKernel" (385 : Nat) ({ cls := "DeedKernel", name := "save", desc := "(II)V" } : Jvm.MethodName)) ∈ lw_all := lw_g (lw_at lw_m4 98 rfl) rfl
theorem q1014 : (Jvm.Cond.privateMethod ({ cls := "DeedKernel", name := "save", desc := "(II)V" } : Jvm.MethodName)) ∈ lw_tbl := lw_at lw_m4 99 rfl
theorem q1015 : (Jvm.Cond.instanceMethod ({ cls := "DeedKernel", name := "save", desc := "(II)V" } : Jvm.MethodName)) ∈ lw_all := lw_g (lw_at lw_m4 100 rfl) rfl
theorem q1016 : (Jvm.Cond.code ({ cls := "DeedKernel", name := "save", desc := "(II)V" } : Jvm.MethodName) prog_1_method_18_code (4 : Nat) (Option.none : Option Jvm.ClassFile.FieldType)) ∈ lw_all := lw_g (lw_at lw_m4 101 rfl) rfl
theorem q1017 : (Jvm.Cond.methodLink "DeedKernel" (316 : Nat) ({ cls := "DeedKernel$Pipe", name := "save", desc := "()V" } : Jvm.MethodName)) ∈ lw_all := lw_g (lw_at lw_m4 102 rfl) rfl
theorem q1042 : (Jvm.Cond.methodLink "DeedKernel" (616 : Nat) ({ cls := "DeedKernel$Path", name := "last", desc := "()LDeedKernel$Inode;" } : Jvm.MethodName)) ∈ lw_all := lw_g (lw_at lw_m4 127 rfl) rfl
theorem q1046 : (Jvm.Cond.methodLink "DeedKernel" (619 : Nat) ({ cls := "DeedKernel$Path", name := "lastEntry", desc := "(LDeedKernel$Inode;)LDeedKernel$Inode;" } : Jvm.MethodName)) ∈ lw_all := lw_g (lw_at lw_m4 131 rfl) rfl
theorem q1050 : (Jvm.Cond.methodLink "DeedKernel" (623 : Nat) ({ cls := "DeedKernel$Path", name := "make", desc := "(LDeedKernel$Inode;I)LDeedKernel$Inode;" } : Jvm.MethodName)) ∈ lw_all := lw_g (lw_at lw_m4 135 rfl) rfl
theorem q1082 : (Jvm.Cond.methodLink "DeedKernel" (403 : Nat) ({ cls := "DeedKernel$Inode", name := "isDirectory", desc := "()Z" } : Jvm.MethodName)) ∈ lw_all := lw_g (lw_at lw_m4 167 rfl) rfl
theorem q1083 : (Jvm.Cond.methodLink "DeedKernel" (588 : Nat) ({ cls := "DeedKernel", name := "writes", desc := "(II)V" } : Jvm.MethodName)) ∈ lw_all := lw_g (lw_at lw_m4 168 rfl) rfl
theorem q1084 : (Jvm.Cond.privateMethod ({ cls := "DeedKernel", name := "writes", desc := "(II)V" } : Jvm.MethodName)) ∈ lw_tbl := lw_at lw_m4 169 rfl
theorem q1085 : (Jvm.Cond.instanceMethod ({ cls := "DeedKernel", name := "writes", desc := "(II)V" } : Jvm.MethodName)) ∈ lw_all := lw_g (lw_at lw_m4 170 rfl) rfl
theorem q1086 : (Jvm.Cond.code ({ cls := "DeedKernel", name := "writes", desc := "(II)V" } : Jvm.MethodName) prog_1_method_25_code (3 : Nat) (Option.none : Option Jvm.ClassFile.FieldType)) ∈ lw_all := lw_g (lw_at lw_m4 171 rfl) rfl
theorem q1087 : (Jvm.Cond.methodLink "DeedKernel" (627 : Nat) ({ cls := "DeedKernel", name := "setLength", desc := "(LDeedKernel$Inode;I)V" } : Jvm.MethodName)) ∈ lw_all := lw_g (lw_at lw_m4 172 rfl) rfl
theorem q1088 : (Jvm.Cond.privateMethod ({ cls := "DeedKernel", name := "setLength", desc := "(LDeedKernel$Inode;I)V" } : Jvm.MethodName)) ∈ lw_tbl := lw_at lw_m4 173 rfl
theorem q1089 : (Jvm.Cond.instanceMethod ({ cls := "DeedKernel", name := "setLength", desc := "(LDeedKernel$Inode;I)V" } : Jvm.MethodName)) ∈ lw_all := lw_g (lw_at lw_m4 174 rfl) rfl
theorem q1090 : (Jvm.Cond.code ({ cls := "DeedKernel", name := "setLength", desc := "(LDeedKernel$Inode;I)V" } : Jvm.MethodName) prog_1_method_46_code (4 : Nat) (Option.none : Option Jvm.ClassFile.FieldType)) ∈ lw_all := lw_g (lw_at lw_m4 175 rfl) rfl
theorem q1091 : (Jvm.Cond.methodLink "DeedKernel" (630 : Nat) ({ cls := "DeedKernel", name := "newOpening", desc := "(I)LDeedKernel$Opening;" } : Jvm.MethodName)) ∈ lw_all := lw_g (lw_at lw_m4 176 rfl) rfl
theorem q1092 : (Jvm.Cond.privateMethod ({ cls := "DeedKernel", name := "newOpening", desc := "(I)LDeedKernel$Opening;" } : Jvm.MethodName)) ∈ lw_tbl := lw_at lw_m4 177 rfl
theorem q1093 : (Jvm.Cond.instanceMethod ({ cls := "DeedKernel", name := "newOpening", desc := "(I)LDeedKernel$Opening;" } : Jvm.MethodName)) ∈ lw_all := lw_g (lw_at lw_m4 178 rfl) rfl
theorem q1094 : (Jvm.Cond.code ({ cls := "DeedKernel", name := "newOpening", desc := "(I)LDeedKernel$Opening;" } : Jvm.MethodName) prog_1_method_44_code (3 : Nat) (Option.some (Jvm.ClassFile.FieldType.object "DeedKernel$Opening"))) ∈ lw_all := lw_g (lw_at lw_m4 179 rfl) rfl
theorem q1095 : (Jvm.Cond.methodLink "DeedKernel" (604 : Nat) ({ cls := "DeedKernel", name := "freeOpening", desc := "()LDeedKernel$Opening;" } : Jvm.MethodName)) ∈ lw_all := lw_g (lw_at lw_m4 180 rfl) rfl
theorem q1096 : (Jvm.Cond.privateMethod ({ cls := "DeedKernel", name := "freeOpening", desc := "()LDeedKernel$Opening;" } : Jvm.MethodName)) ∈ lw_tbl := lw_at lw_m4 181 rfl
theorem q1097 : (Jvm.Cond.instanceMethod ({ cls := "DeedKernel", name := "freeOpening", desc := "()LDeedKernel$Opening;" } : Jvm.MethodName)) ∈ lw_all := lw_g (lw_at lw_m4 182 rfl) rfl
theorem q1098 : (Jvm.Cond.code ({ cls := "DeedKernel", name := "freeOpening", desc := "()LDeedKernel$Opening;" } : Jvm.MethodName) prog_1_method_15_code (5 : Nat) (Option.some (Jvm.ClassFile.FieldType.object "DeedKernel$Opening"))) ∈ lw_all := lw_g (lw_at lw_m4 183 rfl) rfl
theorem q1099 : (Jvm.Cond.classLink "DeedKernel" (7 : Nat) "java/lang/IllegalStateException") ∈ lw_all := lw_g (lw_at lw_m4 184 rfl) rfl
theorem q1108 : (Jvm.Cond.methodLink "DeedKernel" (9 : Nat) ({ cls := "java/lang/IllegalStateException", name := "<init>", desc := "()V" } : Jvm.MethodName)) ∈ lw_all := lw_g (lw_at lw_m4 193 rfl) rfl
theorem q1114 : (Jvm.Cond.methodLink "DeedKernel" (529 : Nat) ({ cls := "DeedKernel", name := "doClose", desc := "(I)I" } : Jvm.MethodName)) ∈ lw_all := lw_g (lw_at lw_m4 199 rfl) rfl
theorem q1115 : (Jvm.Cond.privateMethod ({ cls := "DeedKernel", name := "doClose", desc := "(I)I" } : Jvm.MethodName)) ∈ lw_tbl := lw_at lw_m4 200 rfl
theorem q1116 : (Jvm.Cond.instanceMethod ({ cls := "DeedKernel", name := "doClose", desc := "(I)I" } : Jvm.MethodName)) ∈ lw_all := lw_g (lw_at lw_m4 201 rfl) rfl
theorem q1117 : (Jvm.Cond.code ({ cls := "DeedKernel", name := "doClose", desc := "(I)I" } : Jvm.MethodName) prog_1_method_47_code (3 : Nat) (Option.some Jvm.ClassFile.FieldType.int)) ∈ lw_all := lw_g (lw_at lw_m4 202 rfl) rfl
theorem q1118 : (Jvm.Cond.methodLink "DeedKernel" (544 : Nat) ({ cls := "DeedKernel", name := "has", desc := "(I)LDeedKernel$Opening;" } : Jvm.MethodName)) ∈ lw_all := lw_g (lw_at lw_m4 203 rfl) rfl
theorem q1119 : (Jvm.Cond.privateMethod ({ cls := "DeedKernel", name := "has", desc := "(I)LDeedKernel$Opening;" } : Jvm.MethodName)) ∈ lw_tbl := lw_at lw_m4 204 rfl
theorem q1120 : (Jvm.Cond.instanceMethod ({ cls := "DeedKernel", name := "has", desc := "(I)LDeedKernel$Opening;" } : Jvm.MethodName)) ∈ lw_all := lw_g (lw_at lw_m4 205 rfl) rfl
theorem q1121 : (Jvm.Cond.code ({ cls := "DeedKernel", name := "has", desc := "(I)LDeedKernel$Opening;" } : Jvm.MethodName) prog_1_method_42_code (2 : Nat) (Option.some (Jvm.ClassFile.FieldType.object "DeedKernel$Opening"))) ∈ lw_all := lw_g (lw_at lw_m4 206 rfl) rfl
theorem q1122 : (Jvm.Cond.methodLink "DeedKernel" (532 : Nat) ({ cls := "DeedKernel", name := "doRead", desc := "(II)I" } : Jvm.MethodName)) ∈ lw_all := lw_g (lw_at lw_m4 207 rfl) rfl
theorem q1123 : (Jvm.Cond.privateMethod ({ cls := "DeedKernel", name := "doRead", desc := "(II)I" } : Jvm.MethodName)) ∈ lw_tbl := lw_at lw_m4 208 rfl
theorem q1124 : (Jvm.Cond.instanceMethod ({ cls := "DeedKernel", name := "doRead", desc := "(II)I" } : Jvm.MethodName)) ∈ lw_all := lw_g (lw_at lw_m4 209 rfl) rfl
theorem q1125 : (Jvm.Cond.code ({ cls := "DeedKernel", name := "doRead", desc := "(II)I" } : Jvm.MethodName) prog_1_method_48_code (5 : Nat) (Option.some Jvm.ClassFile.FieldType.int)) ∈ lw_all := lw_g (lw_at lw_m4 210 rfl) rfl
theorem q1126 : (Jvm.Cond.methodLink "DeedKernel" (633 : Nat) ({ cls := "DeedKernel", name := "hasSide", desc := "(II)Z" } : Jvm.MethodName)) ∈ lw_all := lw_g (lw_at lw_m4 211 rfl) rfl
theorem q1127 : (Jvm.Cond.privateMethod ({ cls := "DeedKernel", name := "hasSide", desc := "(II)Z" } : Jvm.MethodName)) ∈ lw_tbl := lw_at lw_m4 212 rfl
theorem q1128 : (Jvm.Cond.instanceMethod ({ cls := "DeedKernel", name := "hasSide", desc := "(II)Z" } : Jvm.MethodName)) ∈ lw_all := lw_g (lw_at lw_m4 213 rfl) rfl
theorem q1129 : (Jvm.Cond.code ({ cls := "DeedKernel", name := "hasSide", desc := "(II)Z" } : Jvm.MethodName) prog_1_method_12_code (11 : Nat) (Option.some Jvm.ClassFile.FieldType.boolean)) ∈ lw_all := lw_g (lw_at lw_m4 214 rfl) rfl
theorem q1130 : (Jvm.Cond.methodLink "DeedKernel" (636 : Nat) ({ cls := "java/lang/Math", name := "min", desc := "(II)I" } : Jvm.MethodName)) ∈ lw_all := lw_g (lw_at lw_m4 215 rfl) rfl
theorem q1131 : (Jvm.Cond.methodLink "DeedKernel" (643 : Nat) ({ cls := "DeedKernel$Pipe", name := "take", desc := "(I)V" } : Jvm.MethodName)) ∈ lw_all := lw_g (lw_at lw_m4 216 rfl) rfl
theorem q1135 : (Jvm.Cond.methodLink "DeedKernel" (646 : Nat) ({ cls := "DeedKernel", name := "numberOf", desc := "(LDeedKernel$Opening;)I" } : Jvm.MethodName)) ∈ lw_all := lw_g (lw_at lw_m4 220 rfl) rfl
theorem q1136 : (Jvm.Cond.privateMethod ({ cls := "DeedKernel", name := "numberOf", desc := "(LDeedKernel$Opening;)I" } : Jvm.MethodName)) ∈ lw_tbl := lw_at lw_m4 221 rfl
theorem q1137 : (Jvm.Cond.instanceMethod ({ cls := "DeedKernel", name := "numberOf", desc := "(LDeedKernel$Opening;)I" } : Jvm.MethodName)) ∈ lw_all := lw_g (lw_at lw_m4 222 rfl) rfl
theorem q1138 : (Jvm.Cond.code ({ cls := "DeedKernel", name := "numberOf", desc := "(LDeedKernel$Opening;)I" } : Jvm.MethodName) prog_1_method_17_code (3 : Nat) (Option.some Jvm.ClassFile.FieldType.int)) ∈ lw_all := lw_g (lw_at lw_m4 223 rfl) rfl
theorem q1139 : (Jvm.Cond.methodLink "DeedKernel" (650 : Nat) ({ cls := "DeedKernel", name := "reads", desc := "(II)V" } : Jvm.MethodName)) ∈ lw_all := lw_g (lw_at lw_m4 224 rfl) rfl
theorem q1140 : (Jvm.Cond.methodLink "DeedKernel" (425 : Nat) ({ cls := "java/lang/Math", name := "max", desc := "(II)I" } : Jvm.MethodName)) ∈ lw_all := lw_g (lw_at lw_m4 225 rfl) rfl
theorem q1143 : (Jvm.Cond.methodLink "DeedKernel" (535 : Nat) ({ cls := "DeedKernel", name := "doWrite", desc := "(II)I" } : Jvm.MethodName)) ∈ lw_all := lw_g (lw_at lw_m4 228 rfl) rfl
theorem q1144 : (Jvm.Cond.privateMethod ({ cls := "DeedKernel", name := "doWrite", desc := "(II)I" } : Jvm.MethodName)) ∈ lw_tbl := lw_at lw_m4 229 rfl
theorem q1145 : (Jvm.Cond.instanceMethod ({ cls := "DeedKernel", name := "doWrite", desc := "(II)I" } : Jvm.MethodName)) ∈ lw_all := lw_g (lw_at lw_m4 230 rfl) rfl
theorem q1146 : (Jvm.Cond.code ({ cls := "DeedKernel", name := "doWrite", desc := "(II)I" } : Jvm.MethodName) prog_1_method_49_code (5 : Nat) (Option.some Jvm.ClassFile.FieldType.int)) ∈ lw_all := lw_g (lw_at lw_m4 231 rfl) rfl
theorem q1147 : (Jvm.Cond.methodLink "DeedKernel" (538 : Nat) ({ cls := "DeedKernel", name := "doSeek", desc := "(II)I" } : Jvm.MethodName)) ∈ lw_all := lw_g (lw_at lw_m4 232 rfl) rfl
theorem q1148 : (Jvm.Cond.privateMethod ({ cls := "DeedKernel", name := "doSeek", desc := "(II)I" } : Jvm.MethodName)) ∈ lw_tbl := lw_at lw_m4 233 rfl
theorem q1149 : (Jvm.Cond.instanceMethod ({ cls := "DeedKernel", name := "doSeek", desc := "(II)I" } : Jvm.MethodName)) ∈ lw_all := lw_g (lw_at lw_m4 234 rfl) rfl
theorem q1150 : (Jvm.Cond.code ({ cls := "DeedKernel", name := "doSeek", desc := "(II)I" } : Jvm.MethodName) prog_1_method_50_code (5 : Nat) (Option.some Jvm.ClassFile.FieldType.int)) ∈ lw_all := lw_g (lw_at lw_m4 235 rfl) rfl
theorem q1151 : (Jvm.Cond.methodLink "DeedKernel" (541 : Nat) ({ cls := "DeedKernel", name := "doCut", desc := "(II)I" } : Jvm.MethodName)) ∈ lw_all := lw_g (lw_at lw_m4 236 rfl) rfl
theorem q1152 : (Jvm.Cond.privateMethod ({ cls := "DeedKernel", name := "doCut", desc := "(II)I" } : Jvm.MethodName)) ∈ lw_tbl := lw_at lw_m4 237 rfl
theorem q1153 : (Jvm.Cond.instanceMethod ({ cls := "DeedKernel", name := "doCut", desc := "(II)I" } : Jvm.MethodName)) ∈ lw_all := lw_g (lw_at lw_m4 238 rfl) rfl
theorem q1154 : (Jvm.Cond.code ({ cls := "DeedKernel", name := "doCut", desc := "(II)I" } : Jvm.MethodName) prog_1_method_51_code (5 : Nat) (Option.some Jvm.ClassFile.FieldType.int)) ∈ lw_all := lw_g (lw_at lw_m4 239 rfl) rfl
theorem q1155 : (Jvm.Cond.methodLink "DeedKernel" (549 : Nat) ({ cls := "DeedKernel", name := "doPipe", desc := "()I" } : Jvm.MethodName)) ∈ lw_all := lw_g (lw_at lw_m5 0 rfl) rfl
theorem q1156 : (Jvm.Cond.privateMethod ({ cls := "DeedKernel", name := "doPipe", desc := "()I" } : Jvm.MethodName)) ∈ lw_tbl := lw_at lw_m5 1 rfl
theorem q1157 : (Jvm.Cond.instanceMethod ({ cls := "DeedKernel", name := "doPipe", desc := "()I" } : Jvm.MethodName)) ∈ lw_all := lw_g (lw_at lw_m5 2 rfl) rfl
theorem q1158 : (Jvm.Cond.code ({ cls := "DeedKernel", name := "doPipe", desc := "()I" } : Jvm.MethodName) prog_1_method_52_code (6 : Nat) (Option.some Jvm.ClassFile.FieldType.int)) ∈ lw_all := lw_g (lw_at lw_m5 3 rfl) rfl
theorem q1159 : (Jvm.Cond.methodLink "DeedKernel" (552 : Nat) ({ cls := "DeedKernel", name := "doMake", desc := "()I" } : Jvm.MethodName)) ∈ lw_all := lw_g (lw_at lw_m5 4 rfl) rfl
theorem q1160 : (Jvm.Cond.privateMethod ({ cls := "DeedKernel", name := "doMake", desc := "()I" } : Jvm.MethodName)) ∈ lw_tbl := lw_at lw_m5 5 rfl
theorem q1161 : (Jvm.Cond.instanceMethod ({ cls := "DeedKernel", name := "doMake", desc := "()I" } : Jvm.MethodName)) ∈ lw_all := lw_g (lw_at lw_m5 6 rfl) rfl
theorem q1162 : (Jvm.Cond.code ({ cls := "DeedKernel", name := "doMake", desc := "()I" } : Jvm.MethodName) prog_1_method_53_code (2 : Nat) (Option.some Jvm.ClassFile.FieldType.int)) ∈ lw_all := lw_g (lw_at lw_m5 7 rfl) rfl
theorem q1163 : (Jvm.Cond.methodLink "DeedKernel" (555 : Nat) ({ cls := "DeedKernel", name := "doUnlink", desc := "()I" } : Jvm.MethodName)) ∈ lw_all := lw_g (lw_at lw_m5 8 rfl) rfl
theorem q1164 : (Jvm.Cond.privateMethod ({ cls := "DeedKernel", name := "doUnlink", desc := "()I" } : Jvm.MethodName)) ∈ lw_tbl := lw_at lw_m5 9 rfl
theorem q1165 : (Jvm.Cond.instanceMethod ({ cls := "DeedKernel", name := "doUnlink", desc := "()I" } : Jvm.MethodName)) ∈ lw_all := lw_g (lw_at lw_m5 10 rfl) rfl
theorem q1166 : (Jvm.Cond.code ({ cls := "DeedKernel", name := "doUnlink", desc := "()I" } : Jvm.MethodName) prog_1_method_57_code (3 : Nat) (Option.some Jvm.ClassFile.FieldType.int)) ∈ lw_all := lw_g (lw_at lw_m5 11 rfl) rfl
theorem q1167 : (Jvm.Cond.methodLink "DeedKernel" (661 : Nat) ({ cls := "DeedKernel$Path", name := "access", desc := "(ILDeedKernel$Inode;Z)V" } : Jvm.MethodName)) ∈ lw_all := lw_g (lw_at lw_m5 12 rfl) rfl
theorem q1168 : (Jvm.Cond.methodLink "DeedKernel" (664 : Nat) ({ cls := "DeedKernel", name := "drop", desc := "(LDeedKernel$Path;LDeedKernel$Inode;)V" } : Jvm.MethodName)) ∈ lw_all := lw_g (lw_at lw_m5 13 rfl) rfl
theorem q1169 : (Jvm.Cond.privateMethod ({ cls := "DeedKernel", name := "drop", desc := "(LDeedKernel$Path;LDeedKernel$Inode;)V" } : Jvm.MethodName)) ∈ lw_tbl := lw_at lw_m5 14 rfl
theorem q1170 : (Jvm.Cond.instanceMethod ({ cls := "DeedKernel", name := "drop", desc := "(LDeedKernel$Path;LDeedKernel$Inode;)V" } : Jvm.MethodName)) ∈ lw_all := lw_g (lw_at lw_m5 15 rfl) rfl
theorem q1171 : (Jvm.Cond.code ({ cls := "DeedKernel", name := "drop", desc := "(LDeedKernel$Path;LDeedKernel$Inode;)V" } : Jvm.MethodName) prog_1_method_54_code (3 : Nat) (Option.none : Option Jvm.ClassFile.FieldType)) ∈ lw_all := lw_g (lw_at lw_m5 16 rfl) rfl
theorem q1172 : (Jvm.Cond.methodLink "DeedKernel" (652 : Nat) ({ cls := "DeedKernel$Path", name := "lastSlot", desc := "(LDeedKernel$Inode;)I" } : Jvm.MethodName)) ∈ lw_all := lw_g (lw_at lw_m5 17 rfl) rfl
theorem q1176 : (Jvm.Cond.methodLink "DeedKernel" (656 : Nat) ({ cls := "DeedKernel$Inode", name := "put", desc := "(III)V" } : Jvm.MethodName)) ∈ lw_all := lw_g (lw_at lw_m5 21 rfl) rfl
theorem q1177 : (Jvm.Cond.methodLink "DeedKernel" (667 : Nat) ({ cls := "DeedKernel", name := "dropName", desc := "(LDeedKernel$Inode;)V" } : Jvm.MethodName)) ∈ lw_all := lw_g (lw_at lw_m5 22 rfl) rfl
theorem q1178 : (Jvm.Cond.privateMethod ({ cls := "DeedKernel", name := "dropName", desc := "(LDeedKernel$Inode;)V" } : Jvm.MethodName)) ∈ lw_tbl := lw_at lw_m5 23 rfl
theorem q1179 : (Jvm.Cond.instanceMethod ({ cls := "DeedKernel", name := "dropName", desc := "(LDeedKernel$Inode;)V" } : Jvm.MethodName)) ∈ lw_all := lw_g (lw_at lw_m5 24 rfl) rfl
theorem q1180 : (Jvm.Cond.code ({ cls := "DeedKernel", name := "dropName", desc := "(LDeedKernel$Inode;)V" } : Jvm.MethodName) prog_1_method_55_code (2 : Nat) (Option.none : Option Jvm.ClassFile.FieldType)) ∈ lw_all := lw_g (lw_at lw_m5 25 rfl) rfl
theorem q1181 : (Jvm.Cond.methodLink "DeedKernel" (558 : Nat) ({ cls := "DeedKernel", name := "doRemove", desc := "()I" } : Jvm.MethodName)) ∈ lw_all := lw_g (lw_at lw_m5 26 rfl) rfl
theorem q1182 : (Jvm.Cond.privateMethod ({ cls := "DeedKernel", name := "doRemove", desc := "()I" } : Jvm.MethodName)) ∈ lw_tbl := lw_at lw_m5 27 rfl
theorem q1183 : (Jvm.Cond.instanceMethod ({ cls := "DeedKernel", name := "doRemove", desc := "()I" } : Jvm.MethodName)) ∈ lw_all := lw_g (lw_at lw_m5 28 rfl) rfl
theorem q1184 : (Jvm.Cond.code ({ cls := "DeedKernel", name := "doRemove", desc := "()I" } : Jvm.MethodName) prog_1_method_58_code (3 : Nat) (Option.some Jvm.ClassFile.FieldType.int)) ∈ lw_all := lw_g (lw_at lw_m5 29 rfl) rfl
theorem q1185 : (Jvm.Cond.methodLink "DeedKernel" (671 : Nat) ({ cls := "DeedKernel$Inode", name := "entries", desc := "()I" } : Jvm.MethodName)) ∈ lw_all := lw_g (lw_at lw_m5 30 rfl) rfl
theorem q1189 : (Jvm.Cond.methodLink "DeedKernel" (674 : Nat) ({ cls := "DeedKernel", name := "dropDirectory", desc := "(LDeedKernel$Inode;)V" } : Jvm.MethodName)) ∈ lw_all := lw_g (lw_at lw_m5 34 rfl) rfl
theorem q1190 : (Jvm.Cond.privateMethod ({ cls := "DeedKernel", name := "dropDirectory", desc := "(LDeedKernel$Inode;)V" } : Jvm.MethodName)) ∈ lw_tbl := lw_at lw_m5 35 rfl
theorem q1191 : (Jvm.Cond.instanceMethod ({ cls := "DeedKernel", name := "dropDirectory", desc := "(LDeedKernel$Inode;)V" } : Jvm.MethodName)) ∈ lw_all := lw_g (lw_at lw_m5 36 rfl) rfl
theorem q1192 : (Jvm.Cond.code ({ cls := "DeedKernel", name := "dropDirectory", desc := "(LDeedKernel$Inode;)V" } : Jvm.MethodName) prog_1_method_56_code (2 : Nat) (Option.none : Option Jvm.ClassFile.FieldType)) ∈ lw_all := lw_g (lw_at lw_m5 37 rfl) rfl
theorem q1193 : (Jvm.Cond.methodLink "DeedKernel" (561 : Nat) ({ cls := "DeedKernel", name := "doLink", desc := "()I" } : Jvm.MethodName)) ∈ lw_all := lw_g (lw_at lw_m5 38 rfl) rfl
theorem q1194 : (Jvm.Cond.privateMethod ({ cls := "DeedKernel", name := "doLink", desc := "()I" } : Jvm.MethodName)) ∈ lw_tbl := lw_at lw_m5 39 rfl
theorem q1195 : (Jvm.Cond.instanceMethod ({ cls := "DeedKernel", name := "doLink", desc := "()I" } : Jvm.MethodName)) ∈ lw_all := lw_g (lw_at lw_m5 40 rfl) rfl
theorem q1196 : (Jvm.Cond.code ({ cls := "DeedKernel", name := "doLink", desc := "()I" } : Jvm.MethodName) prog_1_method_59_code (4 : Nat) (Option.some Jvm.ClassFile.FieldType.int)) ∈ lw_all := lw_g (lw_at lw_m5 41 rfl) rfl
theorem q1197 : (Jvm.Cond.methodLink "DeedKernel" (677 : Nat) ({ cls := "DeedKernel$Inode", name := "namesFor", desc := "(I)I" } : Jvm.MethodName)) ∈ lw_all := lw_g (lw_at lw_m5 42 rfl) rfl
theorem q1198 : (Jvm.Cond.methodLink "DeedKernel" (680 : Nat) ({ cls := "DeedKernel$Path", name := "take", desc := "(LDeedKernel$Inode;)I" } : Jvm.MethodName)) ∈ lw_all := lw_g (lw_at lw_m5 43 rfl) rfl
theorem q1199 : (Jvm.Cond.methodLink "DeedKernel" (682 : Nat) ({ cls := "DeedKernel$Path", name := "put", desc := "(LDeedKernel$Inode;ILDeedKernel$Inode;)V" } : Jvm.MethodName)) ∈ lw_all := lw_g (lw_at lw_m5 44 rfl) rfl
theorem q1200 : (Jvm.Cond.methodLink "DeedKernel" (564 : Nat) ({ cls := "DeedKernel", name := "doRename", desc := "()I" } : Jvm.MethodName)) ∈ lw_all := lw_g (lw_at lw_m5 45 rfl) rfl
theorem q1201 : (Jvm.Cond.privateMethod ({ cls := "DeedKernel", name := "doRename", desc := "()I" } : Jvm.MethodName)) ∈ lw_tbl := lw_at lw_m5 46 rfl
theorem q1202 : (Jvm.Cond.instanceMethod ({ cls := "DeedKernel", name := "doRename", desc := "()I" } : Jvm.MethodName)) ∈ lw_all := lw_g (lw_at lw_m5 47 rfl) rfl
theorem q1203 : (Jvm.Cond.code ({ cls := "DeedKernel", name := "doRename", desc := "()I" } : Jvm.MethodName) prog_1_method_60_code (6 : Nat) (Option.some Jvm.ClassFile.FieldType.int)) ∈ lw_all := lw_g (lw_at lw_m5 48 rfl) rfl
theorem q1204 : (Jvm.Cond.methodLink "DeedKernel" (685 : Nat) ({ cls := "DeedKernel", name := "lookUp", desc := "(LDeedKernel$Inode;LDeedKernel$Inode;)V" } : Jvm.MethodName)) ∈ lw_all := lw_g (lw_at lw_m5 49 rfl) rfl
theorem q1205 : (Jvm.Cond.privateMethod ({ cls := "DeedKernel", name := "lookUp", desc := "(LDeedKernel$Inode;LDeedKernel$Inode;)V" } : Jvm.MethodName)) ∈ lw_tbl := lw_at lw_m5 50 rfl
theorem q1206 : (Jvm.Cond.instanceMethod ({ cls := "DeedKernel", name := "lookUp", desc := "(LDeedKernel$Inode;LDeedKernel$Inode;)V" } : Jvm.MethodName)) ∈ lw_all := lw_g (lw_at lw_m5 51 rfl) rfl
theorem q1207 : (Jvm.Cond.code ({ cls := "DeedKernel", name := "lookUp", desc := "(LDeedKernel$Inode;LDeedKernel$Inode;)V" } : Jvm.MethodName) prog_1_method_61_code (4 : Nat) (Option.none : Option Jvm.ClassFile.FieldType)) ∈ lw_all := lw_g (lw_at lw_m5 52 rfl) rfl
theorem q1208 : (Jvm.Cond.methodLink "DeedKernel" (689 : Nat) ({ cls := "DeedKernel$Inode", name := "freeSlot", desc := "()I" } : Jvm.MethodName)) ∈ lw_all := lw_g (lw_at lw_m5 53 rfl) rfl
theorem q1209 : (Jvm.Cond.methodLink "DeedKernel" (567 : Nat) ({ cls := "DeedKernel", name := "doLook", desc := "(I)I" } : Jvm.MethodName)) ∈ lw_all := lw_g (lw_at lw_m5 54 rfl) rfl
theorem q1210 : (Jvm.Cond.privateMethod ({ cls := "DeedKernel", name := "doLook", desc := "(I)I" } : Jvm.MethodName)) ∈ lw_tbl := lw_at lw_m5 55 rfl
theorem q1211 : (Jvm.Cond.instanceMethod ({ cls := "DeedKernel", name := "doLook", desc := "(I)I" } : Jvm.MethodName)) ∈ lw_all := lw_g (lw_at lw_m5 56 rfl) rfl
theorem q1212 : (Jvm.Cond.code ({ cls := "DeedKernel", name := "doLook", desc := "(I)I" } : Jvm.MethodName) prog_1_method_62_code (3 : Nat) (Option.some Jvm.ClassFile.FieldType.int)) ∈ lw_all := lw_g (lw_at lw_m5 57 rfl) rfl
theorem q1213 : (Jvm.Cond.methodLink "DeedKernel" (570 : Nat) ({ cls := "DeedKernel", name := "doList", desc := "()I" } : Jvm.MethodName)) ∈ lw_all := lw_g (lw_at lw_m5 58 rfl) rfl
theorem q1214 : (Jvm.Cond.privateMethod ({ cls := "DeedKernel", name := "doList", desc := "()I" } : Jvm.MethodName)) ∈ lw_tbl := lw_at lw_m5 59 rfl
theorem q1215 : (Jvm.Cond.instanceMethod ({ cls := "DeedKernel", name := "doList", desc := "()I" } : Jvm.MethodName)) ∈ lw_all := lw_g (lw_at lw_m5 60 rfl) rfl
theorem q1216 : (Jvm.Cond.code ({ cls := "DeedKernel", name := "doList", desc := "()I" } : Jvm.MethodName) prog_1_method_64_code (6 : Nat) (Option.some Jvm.ClassFile.FieldType.int)) ∈ lw_all := lw_g (lw_at lw_m5 61 rfl) rfl
theorem q1217 : (Jvm.Cond.methodLink "DeedKernel" (692 : Nat) ({ cls := "DeedKernel", name := "behind", desc := "(LDeedKernel$Inode;I)I" } : Jvm.MethodName)) ∈ lw_all := lw_g (lw_at lw_m5 62 rfl) rfl
theorem q1218 : (Jvm.Cond.privateMethod ({ cls := "DeedKernel", name := "behind", desc := "(LDeedKernel$Inode;I)I" } : Jvm.MethodName)) ∈ lw_tbl := lw_at lw_m5 63 rfl
theorem q1219 : (Jvm.Cond.instanceMethod ({ cls := "DeedKernel", name := "behind", desc := "(LDeedKernel$Inode;I)I" } : Jvm.MethodName)) ∈ lw_all := lw_g (lw_at lw_m5 64 rfl) rfl
theorem q1220 : (Jvm.Cond.code ({ cls := "DeedKernel", name := "behind", desc := "(LDeedKernel$Inode;I)I" } : Jvm.MethodName) prog_1_method_65_code (5 : Nat) (Option.some Jvm.ClassFile.FieldType.int)) ∈ lw_all := lw_g (lw_at lw_m5 65 rfl) rfl
theorem q1221 : (Jvm.Cond.methodLink "DeedKernel" (699 : Nat) ({ cls := "DeedKernel", name := "isBefore", desc := "(LDeedKernel$Inode;II)Z" } : Jvm.MethodName)) ∈ lw_all := lw_g (lw_at lw_m5 66 rfl) rfl
theorem q1222 : (Jvm.Cond.privateMethod ({ cls := "DeedKernel", name := "isBefore", desc := "(LDeedKernel$Inode;II)Z" } : Jvm.MethodName)) ∈ lw_tbl := lw_at lw_m5 67 rfl
theorem q1223 : (Jvm.Cond.instanceMethod ({ cls := "DeedKernel", name := "isBefore", desc := "(LDeedKernel$Inode;II)Z" } : Jvm.MethodName)) ∈ lw_all := lw_g (lw_at lw_m5 68 rfl) rfl
theorem q1224 : (Jvm.Cond.code ({ cls := "DeedKernel", name := "isBefore", desc := "(LDeedKernel$Inode;II)Z" } : Jvm.MethodName) prog_1_method_63_code (5 : Nat) (Option.some Jvm.ClassFile.FieldType.boolean)) ∈ lw_all := lw_g (lw_at lw_m5 69 rfl) rfl
theorem q1225 : (Jvm.Cond.methodLink "DeedKernel" (576 : Nat) ({ cls := "DeedKernel", name := "doFork", desc := "()I" } : Jvm.MethodName)) ∈ lw_all := lw_g (lw_at lw_m5 70 rfl) rfl
theorem q1226 : (Jvm.Cond.privateMethod ({ cls := "DeedKernel", name := "doFork", desc := "()I" } : Jvm.MethodName)) ∈ lw_tbl := lw_at lw_m5 71 rfl
theorem q1227 : (Jvm.Cond.instanceMethod ({ cls := "DeedKernel", name := "doFork", desc := "()I" } : Jvm.MethodName)) ∈ lw_all := lw_g (lw_at lw_m5 72 rfl) rfl
theorem q1228 : (Jvm.Cond.code ({ cls := "DeedKernel", name := "doFork", desc := "()I" } : Jvm.MethodName) prog_1_method_66_code (3 : Nat) (Option.some Jvm.ClassFile.FieldType.int)) ∈ lw_all := lw_g (lw_at lw_m5 73 rfl) rfl
theorem q1229 : (Jvm.Cond.methodLink "DeedKernel" (579 : Nat) ({ cls := "DeedKernel", name := "doExit", desc := "(I)I" } : Jvm.MethodName)) ∈ lw_all := lw_g (lw_at lw_m5 74 rfl) rfl
theorem q1230 : (Jvm.Cond.privateMethod ({ cls := "DeedKernel", name := "doExit", desc := "(I)I" } : Jvm.MethodName)) ∈ lw_tbl := lw_at lw_m5 75 rfl
theorem q1231 : (Jvm.Cond.instanceMethod ({ cls := "DeedKernel", name := "doExit", desc := "(I)I" } : Jvm.MethodName)) ∈ lw_all := lw_g (lw_at lw_m5 76 rfl) rfl
theorem q1232 : (Jvm.Cond.code ({ cls := "DeedKernel", name := "doExit", desc := "(I)I" } : Jvm.MethodName) prog_1_method_67_code (2 : Nat) (Option.some Jvm.ClassFile.FieldType.int)) ∈ lw_all := lw_g (lw_at lw_m5 77 rfl) rfl
theorem q1233 : (Jvm.Cond.methodLink "DeedKernel" (709 : Nat) ({ cls := "DeedKernel", name := "meetEnd", desc := "(LDeedKernel$Process;)V" } : Jvm.MethodName)) ∈ lw_all := lw_g (lw_at lw_m5 78 rfl) rfl
theorem q1234 : (Jvm.Cond.privateMethod ({ cls := "DeedKernel", name := "meetEnd", desc := "(LDeedKernel$Process;)V" } : Jvm.MethodName)) ∈ lw_tbl := lw_at lw_m5 79 rfl
theorem q1235 : (Jvm.Cond.instanceMethod ({ cls := "DeedKernel", name := "meetEnd", desc := "(LDeedKernel$Process;)V" } : Jvm.MethodName)) ∈ lw_all := lw_g (lw_at lw_m5 80 rfl) rfl
theorem q1236 : (Jvm.Cond.code ({ cls := "DeedKernel", name := "meetEnd", desc := "(LDeedKernel$Process;)V" } : Jvm.MethodName) prog_1_method_68_code (8 : Nat) (Option.none : Option Jvm.ClassFile.FieldType)) ∈ lw_all := lw_g (lw_at lw_m5 81 rfl) rfl
theorem q1237 : (Jvm.Cond.methodLink "DeedKernel" (712 : Nat) ({ cls := "DeedKernel", name := "end", desc := "(LDeedKernel$Process;I)V" } : Jvm.MethodName)) ∈ lw_all := lw_g (lw_at lw_m5 82 rfl) rfl
theorem q1238 : (Jvm.Cond.privateMethod ({ cls := "DeedKernel", name := "end", desc := "(LDeedKernel$Process;I)V" } : Jvm.MethodName)) ∈ lw_tbl := lw_at lw_m5 83 rfl
theorem q1239 : (Jvm.Cond.instanceMethod ({ cls := "DeedKernel", name := "end", desc := "(LDeedKernel$Process;I)V" } : Jvm.MethodName)) ∈ lw_all := lw_g (lw_at lw_m5 84 rfl) rfl
theorem q1240 : (Jvm.Cond.code ({ cls := "DeedKernel", name := "end", desc := "(LDeedKernel$Process;I)V" } : Jvm.MethodName) prog_1_method_69_code (7 : Nat) (Option.none : Option Jvm.ClassFile.FieldType)) ∈ lw_all := lw_g (lw_at lw_m5 85 rfl) rfl
theorem q1241 : (Jvm.Cond.methodLink "DeedKernel" (582 : Nat) ({ cls := "DeedKernel", name := "doAwait", desc := "()I" } : Jvm.MethodName)) ∈ lw_all := lw_g (lw_at lw_m5 86 rfl) rfl
theorem q1242 : (Jvm.Cond.privateMethod ({ cls := "DeedKernel", name := "doAwait", desc := "()I" } : Jvm.MethodName)) ∈ lw_tbl := lw_at lw_m5 87 rfl
theorem q1243 : (Jvm.Cond.instanceMethod ({ cls := "DeedKernel", name := "doAwait", desc := "()I" } : Jvm.MethodName)) ∈ lw_all := lw_g (lw_at lw_m5 88 rfl) rfl
theorem q1244 : (Jvm.Cond.code ({ cls := "DeedKernel", name := "doAwait", desc := "()I" } : Jvm.MethodName) prog_1_method_70_code (7 : Nat) (Option.some Jvm.ClassFile.FieldType.int)) ∈ lw_all := lw_g (lw_at lw_m5 89 rfl) rfl
theorem q1245 : (Jvm.Cond.methodLink "DeedKernel" (585 : Nat) ({ cls := "DeedKernel", name := "doKill", desc := "(II)I" } : Jvm.MethodName)) ∈ lw_all := lw_g (lw_at lw_m5 90 rfl) rfl
theorem q1246 : (Jvm.Cond.privateMethod ({ cls := "DeedKernel", name := "doKill", desc := "(II)I" } : Jvm.MethodName)) ∈ lw_tbl := lw_at lw_m5 91 rfl
theorem q1247 : (Jvm.Cond.instanceMethod ({ cls := "DeedKernel", name := "doKill", desc := "(II)I" } : Jvm.MethodName)) ∈ lw_all := lw_g (lw_at lw_m5 92 rfl) rfl
theorem q1248 : (Jvm.Cond.code ({ cls := "DeedKernel", name := "doKill", desc := "(II)I" } : Jvm.MethodName) prog_1_method_71_code (4 : Nat) (Option.some Jvm.ClassFile.FieldType.int)) ∈ lw_all := lw_g (lw_at lw_m5 93 rfl) rfl
theorem q1249 : (Jvm.Cond.methodLink "DeedKernel" (724 : Nat) ({ cls := "DeedKernel$Process", name := "kill", desc := "(I)V" } : Jvm.MethodName)) ∈ lw_all := lw_g (lw_at lw_m5 94 rfl) rfl
theorem q1253 : (Jvm.Cond.methodLink "DeedKernel" (590 : Nat) ({ cls := "DeedKernel", name := "doBegin", desc := "()I" } : Jvm.MethodName)) ∈ lw_all := lw_g (lw_at lw_m5 98 rfl) rfl
theorem q1254 : (Jvm.Cond.privateMethod ({ cls := "DeedKernel", name := "doBegin", desc := "()I" } : Jvm.MethodName)) ∈ lw_tbl := lw_at lw_m5 99 rfl
theorem q1255 : (Jvm.Cond.instanceMethod ({ cls := "DeedKernel", name := "doBegin", desc := "()I" } : Jvm.MethodName)) ∈ lw_all := lw_g (lw_at lw_m5 100 rfl) rfl
theorem q1256 : (Jvm.Cond.code ({ cls := "DeedKernel", name := "doBegin", desc := "()I" } : Jvm.MethodName) prog_1_method_72_code (1 : Nat) (Option.some Jvm.ClassFile.FieldType.int)) ∈ lw_all := lw_g (lw_at lw_m5 101 rfl) rfl
theorem q1257 : (Jvm.Cond.methodLink "DeedKernel" (727 : Nat) ({ cls := "DeedKernel$Process", name := "beginGroup", desc := "(I)V" } : Jvm.MethodName)) ∈ lw_all := lw_g (lw_at lw_m5 102 rfl) rfl
theorem q1261 : (Jvm.Cond.methodLink "DeedKernel" (593 : Nat) ({ cls := "DeedKernel", name := "doEnd", desc := "()I" } : Jvm.MethodName)) ∈ lw_all := lw_g (lw_at lw_m5 106 rfl) rfl
theorem q1262 : (Jvm.Cond.privateMethod ({ cls := "DeedKernel", name := "doEnd", desc := "()I" } : Jvm.MethodName)) ∈ lw_tbl := lw_at lw_m5 107 rfl
theorem q1263 : (Jvm.Cond.instanceMethod ({ cls := "DeedKernel", name := "doEnd", desc := "()I" } : Jvm.MethodName)) ∈ lw_all := lw_g (lw_at lw_m5 108 rfl) rfl
theorem q1264 : (Jvm.Cond.code ({ cls := "DeedKernel", name := "doEnd", desc := "()I" } : Jvm.MethodName) prog_1_method_73_code (2 : Nat) (Option.some Jvm.ClassFile.FieldType.int)) ∈ lw_all := lw_g (lw_at lw_m5 109 rfl) rfl
theorem q1265 : (Jvm.Cond.methodLink "DeedKernel" (730 : Nat) ({ cls := "DeedKernel", name := "finishDisk", desc := "(I)I" } : Jvm.MethodName)) ∈ lw_all := lw_g (lw_at lw_m5 110 rfl) rfl
theorem q1266 : (Jvm.Cond.privateMethod ({ cls := "DeedKernel", name := "finishDisk", desc := "(I)I" } : Jvm.MethodName)) ∈ lw_tbl := lw_at lw_m5 111 rfl
theorem q1267 : (Jvm.Cond.instanceMethod ({ cls := "DeedKernel", name := "finishDisk", desc := "(I)I" } : Jvm.MethodName)) ∈ lw_all := lw_g (lw_at lw_m5 112 rfl) rfl
theorem q1268 : (Jvm.Cond.code ({ cls := "DeedKernel", name := "finishDisk", desc := "(I)I" } : Jvm.MethodName) prog_1_method_33_code (7 : Nat) (Option.some Jvm.ClassFile.FieldType.int)) ∈ lw_all := lw_g (lw_at lw_m5 113 rfl) rfl
theorem q1269 : (Jvm.Cond.methodLink "DeedKernel" (460 : Nat) ({ cls := "DeedKernel$Things", name := "hasTree", desc := "(I)Z" } : Jvm.MethodName)) ∈ lw_all := lw_g (lw_at lw_m5 114 rfl) rfl
theorem q1273 : (Jvm.Cond.methodLink "DeedKernel" (463 : Nat) ({ cls := "DeedKernel", name := "markTaken", desc := "()V" } : Jvm.MethodName)) ∈ lw_all := lw_g (lw_at lw_m5 118 rfl) rfl
theorem q1274 : (Jvm.Cond.privateMethod ({ cls := "DeedKernel", name := "markTaken", desc := "()V" } : Jvm.MethodName)) ∈ lw_tbl := lw_at lw_m5 119 rfl
theorem q1275 : (Jvm.Cond.instanceMethod ({ cls := "DeedKernel", name := "markTaken", desc := "()V" } : Jvm.MethodName)) ∈ lw_all := lw_g (lw_at lw_m5 120 rfl) rfl
theorem q1276 : (Jvm.Cond.code ({ cls := "DeedKernel", name := "markTaken", desc := "()V" } : Jvm.MethodName) prog_1_method_27_code (6 : Nat) (Option.none : Option Jvm.ClassFile.FieldType)) ∈ lw_all := lw_g (lw_at lw_m5 121 rfl) rfl
theorem q1277 : (Jvm.Cond.methodLink "DeedKernel" (391 : Nat) ({ cls := "DeedKernel$Disk", name := "isData", desc := "(I)Z" } : Jvm.MethodName)) ∈ lw_all := lw_g (lw_at lw_m5 122 rfl) rfl
theorem q1285 : (Jvm.Cond.methodLink "DeedKernel" (466 : Nat) ({ cls := "DeedKernel", name := "plan", desc := "(LDeedKernel$Inode;I)Z" } : Jvm.MethodName)) ∈ lw_all := lw_g (lw_at lw_m5 130 rfl) rfl
theorem q1286 : (Jvm.Cond.privateMethod ({ cls := "DeedKernel", name := "plan", desc := "(LDeedKernel$Inode;I)Z" } : Jvm.MethodName)) ∈ lw_tbl := lw_at lw_m5 131 rfl
theorem q1287 : (Jvm.Cond.instanceMethod ({ cls := "DeedKernel", name := "plan", desc := "(LDeedKernel$Inode;I)Z" } : Jvm.MethodName)) ∈ lw_all := lw_g (lw_at lw_m5 132 rfl) rfl
theorem q1288 : (Jvm.Cond.code ({ cls := "DeedKernel", name := "plan", desc := "(LDeedKernel$Inode;I)Z" } : Jvm.MethodName) prog_1_method_29_code (6 : Nat) (Option.some Jvm.ClassFile.FieldType.boolean)) ∈ lw_all := lw_g (lw_at lw_m5 133 rfl) rfl
theorem q1289 : (Jvm.Cond.methodLink "DeedKernel" (406 : Nat) ({ cls := "DeedKernel$Inode", name := "hasSlotsOf", desc := "(I)Z" } : Jvm.MethodName)) ∈ lw_all := lw_g (lw_at lw_m5 134 rfl) rfl
theorem q1293 : (Jvm.Cond.methodLink "DeedKernel" (421 : Nat) ({ cls := "DeedKernel$Inode", name := "keptBy", desc := "(II)I" } : Jvm.MethodName)) ∈ lw_all := lw_g (lw_at lw_m5 138 rfl) rfl
theorem q1297 : (Jvm.Cond.methodLink "DeedKernel" (442 : Nat) ({ cls := "DeedKernel", name := "lay", desc := "(LDeedKernel$Inode;)Z" } : Jvm.MethodName)) ∈ lw_all := lw_g (lw_at lw_m5 142 rfl) rfl
theorem q1298 : (Jvm.Cond.privateMethod ({ cls := "DeedKernel", name := "lay", desc := "(LDeedKernel$Inode;)Z" } : Jvm.MethodName)) ∈ lw_tbl := lw_at lw_m5 143 rfl
theorem q1299 : (Jvm.Cond.instanceMethod ({ cls := "DeedKernel", name := "lay", desc := "(LDeedKernel$Inode;)Z" } : Jvm.MethodName)) ∈ lw_all := lw_g (lw_at lw_m5 144 rfl) rfl
theorem q1300 : (Jvm.Cond.code ({ cls := "DeedKernel", name := "lay", desc := "(LDeedKernel$Inode;)Z" } : Jvm.MethodName) prog_1_method_30_code (4 : Nat) (Option.some Jvm.ClassFile.FieldType.boolean)) ∈ lw_all := lw_g (lw_at lw_m5 145 rfl) rfl
theorem q1301 : (Jvm.Cond.methodLink "DeedKernel" (445 : Nat) ({ cls := "DeedKernel", name := "takeBlock", desc := "()I" } : Jvm.MethodName)) ∈ lw_all := lw_g (lw_at lw_m5 146 rfl) rfl
theorem q1302 : (Jvm.Cond.privateMethod ({ cls := "DeedKernel", name := "takeBlock", desc := "()I" } : Jvm.MethodName)) ∈ lw_tbl := lw_at lw_m5 147 rfl
theorem q1303 : (Jvm.Cond.instanceMethod ({ cls := "DeedKernel", name := "takeBlock", desc := "()I" } : Jvm.MethodName)) ∈ lw_all := lw_g (lw_at lw_m5 148 rfl) rfl
theorem q1304 : (Jvm.Cond.code ({ cls := "DeedKernel", name := "takeBlock", desc := "()I" } : Jvm.MethodName) prog_1_method_28_code (2 : Nat) (Option.some Jvm.ClassFile.FieldType.int)) ∈ lw_all := lw_g (lw_at lw_m5 149 rfl) rfl
theorem q1305 : (Jvm.Cond.methodLink "DeedKernel" (400 : Nat) ({ cls := "DeedKernel$Disk", name := "firstData", desc := "()I" } : Jvm.MethodName)) ∈ lw_all := lw_g (lw_at lw_m5 150 rfl) rfl
theorem q1306 : (Jvm.Cond.methodLink "DeedKernel" (470 : Nat) ({ cls := "DeedKernel", name := "draw", desc := "(LDeedKernel$Inode;I)V" } : Jvm.MethodName)) ∈ lw_all := lw_g (lw_at lw_m5 151 rfl) rfl
theorem q1307 : (Jvm.Cond.privateMethod ({ cls := "DeedKernel", name := "draw", desc := "(LDeedKernel$Inode;I)V" } : Jvm.MethodName)) ∈ lw_tbl := lw_at lw_m5 152 rfl
theorem q1308 : (Jvm.Cond.instanceMethod ({ cls := "DeedKernel", name := "draw", desc := "(LDeedKernel$Inode;I)V" } : Jvm.MethodName)) ∈ lw_all := lw_g (lw_at lw_m5 153 rfl) rfl
theorem q1309 : (Jvm.Cond.code ({ cls := "DeedKernel", name := "draw", desc := "(LDeedKernel$Inode;I)V" } : Jvm.MethodName) prog_1_method_31_code (5 : Nat) (Option.none : Option Jvm.ClassFile.FieldType)) ∈ lw_all := lw_g (lw_at lw_m5 154 rfl) rfl
theorem q1310 : (Jvm.Cond.methodLink "DeedKernel" (449 : Nat) ({ cls := "DeedKernel$Disk", name := "put", desc := "([BII)V" } : Jvm.MethodName)) ∈ lw_all := lw_g (lw_at lw_m5 155 rfl) rfl
theorem q1311 : (Jvm.Cond.methodLink "DeedKernel" (453 : Nat) ({ cls := "DeedKernel", name := "drawSlots", desc := "(LDeedKernel$Inode;II)V" } : Jvm.MethodName)) ∈ lw_all := lw_g (lw_at lw_m5 156 rfl) rfl
theorem q1312 : (Jvm.Cond.privateMethod ({ cls := "DeedKernel", name := "drawSlots", desc := "(LDeedKernel$Inode;II)V" } : Jvm.MethodName)) ∈ lw_tbl := lw_at lw_m5 157 rfl
theorem q1313 : (Jvm.Cond.instanceMethod ({ cls := "DeedKernel", name := "drawSlots", desc := "(LDeedKernel$Inode;II)V" } : Jvm.MethodName)) ∈ lw_all := lw_g (lw_at lw_m5 158 rfl) rfl
theorem q1314 : (Jvm.Cond.code ({ cls := "DeedKernel", name := "drawSlots", desc := "(LDeedKernel$Inode;II)V" } : Jvm.MethodName) prog_1_method_32_code (8 : Nat) (Option.none : Option Jvm.ClassFile.FieldType)) ∈ lw_all := lw_g (lw_at lw_m5 159 rfl) rfl
theorem q1315 : (Jvm.Cond.methodLink "DeedKernel" (474 : Nat) ({ cls := "DeedKernel", name := "isOther", desc := "(I)Z" } : Jvm.MethodName)) ∈ lw_all := lw_g (lw_at lw_m5 160 rfl) rfl
theorem q1316 : (Jvm.Cond.privateMethod ({ cls := "DeedKernel", name := "isOther", desc := "(I)Z" } : Jvm.MethodName)) ∈ lw_tbl := lw_at lw_m5 161 rfl
theorem q1317 : (Jvm.Cond.instanceMethod ({ cls := "DeedKernel", name := "isOther", desc := "(I)Z" } : Jvm.MethodName)) ∈ lw_all := lw_g (lw_at lw_m5 162 rfl) rfl
theorem q1318 : (Jvm.Cond.code ({ cls := "DeedKernel", name := "isOther", desc := "(I)Z" } : Jvm.MethodName) prog_1_method_34_code (3 : Nat) (Option.some Jvm.ClassFile.FieldType.boolean)) ∈ lw_all := lw_g (lw_at lw_m5 163 rfl) rfl
theorem q1319 : (Jvm.Cond.methodLink "DeedKernel" (480 : Nat) ({ cls := "DeedKernel", name := "writeAll", desc := "(I)Z" } : Jvm.MethodName)) ∈ lw_all := lw_g (lw_at lw_m5 164 rfl) rfl
theorem q1320 : (Jvm.Cond.privateMethod ({ cls := "DeedKernel", name := "writeAll", desc := "(I)Z" } : Jvm.MethodName)) ∈ lw_tbl := lw_at lw_m5 165 rfl
theorem q1321 : (Jvm.Cond.instanceMethod ({ cls := "DeedKernel", name := "writeAll", desc := "(I)Z" } : Jvm.MethodName)) ∈ lw_all := lw_g (lw_at lw_m5 166 rfl) rfl
theorem q1322 : (Jvm.Cond.code ({ cls := "DeedKernel", name := "writeAll", desc := "(I)Z" } : Jvm.MethodName) prog_1_method_35_code (5 : Nat) (Option.some Jvm.ClassFile.FieldType.boolean)) ∈ lw_all := lw_g (lw_at lw_m5 167 rfl) rfl
theorem q1323 : (Jvm.Cond.methodLink "DeedKernel" (486 : Nat) ({ cls := "DeedKernel$Head", name := "add", desc := "(I)V" } : Jvm.MethodName)) ∈ lw_all := lw_g (lw_at lw_m5 168 rfl) rfl
theorem q1327 : (Jvm.Cond.methodLink "DeedKernel" (489 : Nat) ({ cls := "DeedKernel$Disk", name := "write", desc := "(I[BI)Z" } : Jvm.MethodName)) ∈ lw_all := lw_g (lw_at lw_m5 172 rfl) rfl
theorem q1332 : (Jvm.Cond.methodLink "DeedKernel" (493 : Nat) ({ cls := "DeedKernel", name := "clearHead", desc := "()Z" } : Jvm.MethodName)) ∈ lw_all := lw_g (lw_at lw_m5 177 rfl) rfl
theorem q1333 : (Jvm.Cond.privateMethod ({ cls := "DeedKernel", name := "clearHead", desc := "()Z" } : Jvm.MethodName)) ∈ lw_tbl := lw_at lw_m5 178 rfl
theorem q1334 : (Jvm.Cond.instanceMethod ({ cls := "DeedKernel", name := "clearHead", desc := "()Z" } : Jvm.MethodName)) ∈ lw_all := lw_g (lw_at lw_m5 179 rfl) rfl
theorem q1335 : (Jvm.Cond.code ({ cls := "DeedKernel", name := "clearHead", desc := "()Z" } : Jvm.MethodName) prog_1_method_36_code (1 : Nat) (Option.some Jvm.ClassFile.FieldType.boolean)) ∈ lw_all := lw_g (lw_at lw_m5 180 rfl) rfl
theorem q1336 : (Jvm.Cond.methodLink "DeedKernel" (483 : Nat) ({ cls := "DeedKernel", name := "keep", desc := "(LDeedKernel$Inode;I)V" } : Jvm.MethodName)) ∈ lw_all := lw_g (lw_at lw_m5 181 rfl) rfl
theorem q1337 : (Jvm.Cond.privateMethod ({ cls := "DeedKernel", name := "keep", desc := "(LDeedKernel$Inode;I)V" } : Jvm.MethodName)) ∈ lw_tbl := lw_at lw_m5 182 rfl
theorem q1338 : (Jvm.Cond.instanceMethod ({ cls := "DeedKernel", name := "keep", desc := "(LDeedKernel$Inode;I)V" } : Jvm.MethodName)) ∈ lw_all := lw_g (lw_at lw_m5 183 rfl) rfl
theorem q1339 : (Jvm.Cond.code ({ cls := "DeedKernel", name := "keep", desc := "(LDeedKernel$Inode;I)V" } : Jvm.MethodName) prog_1_method_37_code (4 : Nat) (Option.none : Option Jvm.ClassFile.FieldType)) ∈ lw_all := lw_g (lw_at lw_m5 184 rfl) rfl
theorem q1340 : (Jvm.Cond.methodLink "DeedKernel" (496 : Nat) ({ cls := "DeedKernel$Inode", name := "keepSlots", desc := "(I)V" } : Jvm.MethodName)) ∈ lw_all := lw_g (lw_at lw_m5 185 rfl) rfl
theorem q1344 : (Jvm.Cond.methodLink "DeedKernel" (733 : Nat) ({ cls := "DeedKernel", name := "finishRest", desc := "()V" } : Jvm.MethodName)) ∈ lw_all := lw_g (lw_at lw_m5 189 rfl) rfl
theorem q1345 : (Jvm.Cond.privateMethod ({ cls := "DeedKernel", name := "finishRest", desc := "()V" } : Jvm.MethodName)) ∈ lw_tbl := lw_at lw_m5 190 rfl
theorem q1346 : (Jvm.Cond.instanceMethod ({ cls := "DeedKernel", name := "finishRest", desc := "()V" } : Jvm.MethodName)) ∈ lw_all := lw_g (lw_at lw_m5 191 rfl) rfl
theorem q1347 : (Jvm.Cond.code ({ cls := "DeedKernel", name := "finishRest", desc := "()V" } : Jvm.MethodName) prog_1_method_76_code (5 : Nat) (Option.none : Option Jvm.ClassFile.FieldType)) ∈ lw_all := lw_g (lw_at lw_m5 192 rfl) rfl
theorem q1348 : (Jvm.Cond.methodLink "DeedKernel" (736 : Nat) ({ cls := "DeedKernel", name := "clearMarks", desc := "(I)V" } : Jvm.MethodName)) ∈ lw_all := lw_g (lw_at lw_m5 193 rfl) rfl
theorem q1349 : (Jvm.Cond.privateMethod ({ cls := "DeedKernel", name := "clearMarks", desc := "(I)V" } : Jvm.MethodName)) ∈ lw_tbl := lw_at lw_m5 194 rfl
theorem q1350 : (Jvm.Cond.instanceMethod ({ cls := "DeedKernel", name := "clearMarks", desc := "(I)V" } : Jvm.MethodName)) ∈ lw_all := lw_g (lw_at lw_m5 195 rfl) rfl
theorem q1351 : (Jvm.Cond.code ({ cls := "DeedKernel", name := "clearMarks", desc := "(I)V" } : Jvm.MethodName) prog_1_method_75_code (6 : Nat) (Option.none : Option Jvm.ClassFile.FieldType)) ∈ lw_all := lw_g (lw_at lw_m5 196 rfl) rfl
theorem q1352 : (Jvm.Cond.methodLink "DeedKernel" (745 : Nat) ({ cls := "DeedKernel$Process", name := "endGroup", desc := "()V" } : Jvm.MethodName)) ∈ lw_all := lw_g (lw_at lw_m5 197 rfl) rfl
theorem q1353 : (Jvm.Cond.methodLink "DeedKernel" (748 : Nat) ({ cls := "DeedKernel", name := "push", desc := "(LDeedKernel$Process;I)V" } : Jvm.MethodName)) ∈ lw_all := lw_g (lw_at lw_m5 198 rfl) rfl
theorem q1354 : (Jvm.Cond.privateMethod ({ cls := "DeedKernel", name := "push", desc := "(LDeedKernel$Process;I)V" } : Jvm.MethodName)) ∈ lw_tbl := lw_at lw_m5 199 rfl
theorem q1355 : (Jvm.Cond.instanceMethod ({ cls := "DeedKernel", name := "push", desc := "(LDeedKernel$Process;I)V" } : Jvm.MethodName)) ∈ lw_all := lw_g (lw_at lw_m5 200 rfl) rfl
theorem q1356 : (Jvm.Cond.code ({ cls := "DeedKernel", name := "push", desc := "(LDeedKernel$Process;I)V" } : Jvm.MethodName) prog_1_method_77_code (8 : Nat) (Option.none : Option Jvm.ClassFile.FieldType)) ∈ lw_all := lw_g (lw_at lw_m5 201 rfl) rfl
theorem q1357 : (Jvm.Cond.methodLink "DeedKernel" (751 : Nat) ({ cls := "DeedKernel", name := "pushes", desc := "(II)V" } : Jvm.MethodName)) ∈ lw_all := lw_g (lw_at lw_m5 202 rfl) rfl
theorem q1358 : (Jvm.Cond.privateMethod ({ cls := "DeedKernel", name := "pushes", desc := "(II)V" } : Jvm.MethodName)) ∈ lw_tbl := lw_at lw_m5 203 rfl
theorem q1359 : (Jvm.Cond.instanceMethod ({ cls := "DeedKernel", name := "pushes", desc := "(II)V" } : Jvm.MethodName)) ∈ lw_all := lw_g (lw_at lw_m5 204 rfl) rfl
theorem q1360 : (Jvm.Cond.code ({ cls := "DeedKernel", name := "pushes", desc := "(II)V" } : Jvm.MethodName) prog_1_method_26_code (3 : Nat) (Option.none : Option Jvm.ClassFile.FieldType)) ∈ lw_all := lw_g (lw_at lw_m5 205 rfl) rfl
theorem q1361 : (Jvm.Cond.methodLink "DeedKernel" (510 : Nat) ({ cls := "DeedKernel", name := "finishCall", desc := "(I)I" } : Jvm.MethodName)) ∈ lw_all := lw_g (lw_at lw_m5 206 rfl) rfl
theorem q1362 : (Jvm.Cond.privateMethod ({ cls := "DeedKernel", name := "finishCall", desc := "(I)I" } : Jvm.MethodName)) ∈ lw_tbl := lw_at lw_m5 207 rfl
theorem q1363 : (Jvm.Cond.instanceMethod ({ cls := "DeedKernel", name := "finishCall", desc := "(I)I" } : Jvm.MethodName)) ∈ lw_all := lw_g (lw_at lw_m5 208 rfl) rfl
theorem q1364 : (Jvm.Cond.code ({ cls := "DeedKernel", name := "finishCall", desc := "(I)I" } : Jvm.MethodName) prog_1_method_74_code (3 : Nat) (Option.some Jvm.ClassFile.FieldType.int)) ∈ lw_all := lw_g (lw_at lw_m5 209 rfl) rfl
theorem q1366 : (Jvm.Cond.instanceMethod ({ cls := "DeedKernel", name := "close", desc := "(II)I" } : Jvm.MethodName)) ∈ lw_all := lw_g (lw_at lw_m5 211 rfl) rfl
theorem q1367 : (Jvm.Cond.selects "DeedKernel" ({ cls := "DeedKernel", name := "close", desc := "(II)I" } : Jvm.MethodName) ({ cls := "DeedKernel", name := "close", desc := "(II)I" } : Jvm.MethodName)) ∈ lw_all := lw_g (lw_at lw_m5 212 rfl) rfl
theorem q1368 : (Jvm.Cond.code ({ cls := "DeedKernel", name := "close", desc := "(II)I" } : Jvm.MethodName) prog_1_method_79_code (3 : Nat) (Option.some Jvm.ClassFile.FieldType.int)) ∈ lw_all := lw_g (lw_at lw_m5 213 rfl) rfl
theorem q1370 : (Jvm.Cond.instanceMethod ({ cls := "DeedKernel", name := "read", desc := "(III)I" } : Jvm.MethodName)) ∈ lw_all := lw_g (lw_at lw_m5 215 rfl) rfl
theorem q1371 : (Jvm.Cond.selects "DeedKernel" ({ cls := "DeedKernel", name := "read", desc := "(III)I" } : Jvm.MethodName) ({ cls := "DeedKernel", name := "read", desc := "(III)I" } : Jvm.MethodName)) ∈ lw_all := lw_g (lw_at lw_m5 216 rfl) rfl
theorem q1372 : (Jvm.Cond.code ({ cls := "DeedKernel", name := "read", desc := "(III)I" } : Jvm.MethodName) prog_1_method_80_code (4 : Nat) (Option.some Jvm.ClassFile.FieldType.int)) ∈ lw_all := lw_g (lw_at lw_m5 217 rfl) rfl
theorem q1374 : (Jvm.Cond.instanceMethod ({ cls := "DeedKernel", name := "write", desc := "(II)I" } : Jvm.MethodName)) ∈ lw_all := lw_g (lw_at lw_m5 219 rfl) rfl
theorem q1375 : (Jvm.Cond.selects "DeedKernel" ({ cls := "DeedKernel", name := "write", desc := "(II)I" } : Jvm.MethodName) ({ cls := "DeedKernel", name := "write", desc := "(II)I" } : Jvm.MethodName)) ∈ lw_all := lw_g (lw_at lw_m5 220 rfl) rfl
theorem q1376 : (Jvm.Cond.code ({ cls := "DeedKernel", name := "write", desc := "(II)I" } : Jvm.MethodName) prog_1_method_81_code (3 : Nat) (Option.some Jvm.ClassFile.FieldType.int)) ∈ lw_all := lw_g (lw_at lw_m5 221 rfl) rfl
theorem q1378 : (Jvm.Cond.instanceMethod ({ cls := "DeedKernel", name := "seek", desc := "(III)I" } : Jvm.MethodName)) ∈ lw_all := lw_g (lw_at lw_m5 223 rfl) rfl
theorem q1379 : (Jvm.Cond.selects "DeedKernel" ({ cls := "DeedKernel", name := "seek", desc := "(III)I" } : Jvm.MethodName) ({ cls := "DeedKernel", name := "seek", desc := "(III)I" } : Jvm.MethodName)) ∈ lw_all := lw_g (lw_at lw_m5 224 rfl) rfl
theorem q1380 : (Jvm.Cond.code ({ cls := "DeedKernel", name := "seek", desc := "(III)I" } : Jvm.MethodName) prog_1_method_82_code (4 : Nat) (Option.some Jvm.ClassFile.FieldType.int)) ∈ lw_all := lw_g (lw_at lw_m5 225 rfl) rfl
theorem q1382 : (Jvm.Cond.instanceMethod ({ cls := "DeedKernel", name := "cut", desc := "(III)I" } : Jvm.MethodName)) ∈ lw_all := lw_g (lw_at lw_m5 227 rfl) rfl
theorem q1383 : (Jvm.Cond.selects "DeedKernel" ({ cls := "DeedKernel", name := "cut", desc := "(III)I" } : Jvm.MethodName) ({ cls := "DeedKernel", name := "cut", desc := "(III)I" } : Jvm.MethodName)) ∈ lw_all := lw_g (lw_at lw_m5 228 rfl) rfl
theorem q1384 : (Jvm.Cond.code ({ cls := "DeedKernel", name := "cut", desc := "(III)I" } : Jvm.MethodName) prog_1_method_83_code (4 : Nat) (Option.some Jvm.ClassFile.FieldType.int)) ∈ lw_all := lw_g (lw_at lw_m5 229 rfl) rfl
theorem q1386 : (Jvm.Cond.instanceMethod ({ cls := "DeedKernel", name := "twin", desc := "(II)I" } : Jvm.MethodName)) ∈ lw_all := lw_g (lw_at lw_m5 231 rfl) rfl
theorem q1387 : (Jvm.Cond.selects "DeedKernel" ({ cls := "DeedKernel", name := "twin", desc := "(II)I" } : Jvm.MethodName) ({ cls := "DeedKernel", name := "twin", desc := "(II)I" } : Jvm.MethodName)) ∈ lw_all := lw_g (lw_at lw_m5 232 rfl) rfl
theorem q1388 : (Jvm.Cond.code ({ cls := "DeedKernel", name := "twin", desc := "(II)I" } : Jvm.MethodName) prog_1_method_84_code (3 : Nat) (Option.some Jvm.ClassFile.FieldType.int)) ∈ lw_all := lw_g (lw_at lw_m5 233 rfl) rfl
theorem q1390 : (Jvm.Cond.instanceMethod ({ cls := "DeedKernel", name := "pipe", desc := "(I)I" } : Jvm.MethodName)) ∈ lw_all := lw_g (lw_at lw_m5 235 rfl) rfl
theorem q1391 : (Jvm.Cond.selects "DeedKernel" ({ cls := "DeedKernel", name := "pipe", desc := "(I)I" } : Jvm.MethodName) ({ cls := "DeedKernel", name := "pipe", desc := "(I)I" } : Jvm.MethodName)) ∈ lw_all := lw_g (lw_at lw_m5 236 rfl) rfl
theorem q1392 : (Jvm.Cond.code ({ cls := "DeedKernel", name := "pipe", desc := "(I)I" } : Jvm.MethodName) prog_1_method_85_code (2 : Nat) (Option.some Jvm.ClassFile.FieldType.int)) ∈ lw_all := lw_g (lw_at lw_m5 237 rfl) rfl
theorem q1394 : (Jvm.Cond.instanceMethod ({ cls := "DeedKernel", name := "make", desc := "(I)I" } : Jvm.MethodName)) ∈ lw_all := lw_g (lw_at lw_m5 239 rfl) rfl
theorem q1395 : (Jvm.Cond.selects "DeedKernel" ({ cls := "DeedKernel", name := "make", desc := "(I)I" } : Jvm.MethodName) ({ cls := "DeedKernel", name := "make", desc := "(I)I" } : Jvm.MethodName)) ∈ lw_all := lw_g (lw_at lw_m6 0 rfl) rfl
theorem q1396 : (Jvm.Cond.code ({ cls := "DeedKernel", name := "make", desc := "(I)I" } : Jvm.MethodName) prog_1_method_86_code (2 : Nat) (Option.some Jvm.ClassFile.FieldType.int)) ∈ lw_all := lw_g (lw_at lw_m6 1 rfl) rfl
theorem q1398 : (Jvm.Cond.instanceMethod ({ cls := "DeedKernel", name := "unlink", desc := "(I)I" } : Jvm.MethodName)) ∈ lw_all := lw_g (lw_at lw_m6 3 rfl) rfl
theorem q1399 : (Jvm.Cond.selects "DeedKernel" ({ cls := "DeedKernel", name := "unlink", desc := "(I)I" } : Jvm.MethodName) ({ cls := "DeedKernel", name := "unlink", desc := "(I)I" } : Jvm.MethodName)) ∈ lw_all := lw_g (lw_at lw_m6 4 rfl) rfl
theorem q1400 : (Jvm.Cond.code ({ cls := "DeedKernel", name := "unlink", desc := "(I)I" } : Jvm.MethodName) prog_1_method_87_code (2 : Nat) (Option.some Jvm.ClassFile.FieldType.int)) ∈ lw_all := lw_g (lw_at lw_m6 5 rfl) rfl
theorem q1402 : (Jvm.Cond.instanceMethod ({ cls := "DeedKernel", name := "remove", desc := "(I)I" } : Jvm.MethodName)) ∈ lw_all := lw_g (lw_at lw_m6 7 rfl) rfl
theorem q1403 : (Jvm.Cond.selects "DeedKernel" ({ cls := "DeedKernel", name := "remove", desc := "(I)I" } : Jvm.MethodName) ({ cls := "DeedKernel", name := "remove", desc := "(I)I" } : Jvm.MethodName)) ∈ lw_all := lw_g (lw_at lw_m6 8 rfl) rfl
theorem q1404 : (Jvm.Cond.code ({ cls := "DeedKernel", name := "remove", desc := "(I)I" } : Jvm.MethodName) prog_1_method_88_code (2 : Nat) (Option.some Jvm.ClassFile.FieldType.int)) ∈ lw_all := lw_g (lw_at lw_m6 9 rfl) rfl
theorem q1406 : (Jvm.Cond.instanceMethod ({ cls := "DeedKernel", name := "link", desc := "(I)I" } : Jvm.MethodName)) ∈ lw_all := lw_g (lw_at lw_m6 11 rfl) rfl
theorem q1407 : (Jvm.Cond.selects "DeedKernel" ({ cls := "DeedKernel", name := "link", desc := "(I)I" } : Jvm.MethodName) ({ cls := "DeedKernel", name := "link", desc := "(I)I" } : Jvm.MethodName)) ∈ lw_all := lw_g (lw_at lw_m6 12 rfl) rfl
theorem q1408 : (Jvm.Cond.code ({ cls := "DeedKernel", name := "link", desc := "(I)I" } : Jvm.MethodName) prog_1_method_89_code (2 : Nat) (Option.some Jvm.ClassFile.FieldType.int)) ∈ lw_all := lw_g (lw_at lw_m6 13 rfl) rfl
theorem q1410 : (Jvm.Cond.instanceMethod ({ cls := "DeedKernel", name := "rename", desc := "(I)I" } : Jvm.MethodName)) ∈ lw_all := lw_g (lw_at lw_m6 15 rfl) rfl
theorem q1411 : (Jvm.Cond.selects "DeedKernel" ({ cls := "DeedKernel", name := "rename", desc := "(I)I" } : Jvm.MethodName) ({ cls := "DeedKernel", name := "rename", desc := "(I)I" } : Jvm.MethodName)) ∈ lw_all := lw_g (lw_at lw_m6 16 rfl) rfl
theorem q1412 : (Jvm.Cond.code ({ cls := "DeedKernel", name := "rename", desc := "(I)I" } : Jvm.MethodName) prog_1_method_90_code (2 : Nat) (Option.some Jvm.ClassFile.FieldType.int)) ∈ lw_all := lw_g (lw_at lw_m6 17 rfl) rfl
theorem q1414 : (Jvm.Cond.instanceMethod ({ cls := "DeedKernel", name := "look", desc := "(II)I" } : Jvm.MethodName)) ∈ lw_all := lw_g (lw_at lw_m6 19 rfl) rfl
theorem q1415 : (Jvm.Cond.selects "DeedKernel" ({ cls := "DeedKernel", name := "look", desc := "(II)I" } : Jvm.MethodName) ({ cls := "DeedKernel", name := "look", desc := "(II)I" } : Jvm.MethodName)) ∈ lw_all := lw_g (lw_at lw_m6 20 rfl) rfl
theorem q1416 : (Jvm.Cond.code ({ cls := "DeedKernel", name := "look", desc := "(II)I" } : Jvm.MethodName) prog_1_method_91_code (3 : Nat) (Option.some Jvm.ClassFile.FieldType.int)) ∈ lw_all := lw_g (lw_at lw_m6 21 rfl) rfl
theorem q1418 : (Jvm.Cond.instanceMethod ({ cls := "DeedKernel", name := "list", desc := "(I)I" } : Jvm.MethodName)) ∈ lw_all := lw_g (lw_at lw_m6 23 rfl) rfl
theorem q1419 : (Jvm.Cond.selects "DeedKernel" ({ cls := "DeedKernel", name := "list", desc := "(I)I" } : Jvm.MethodName) ({ cls := "DeedKernel", name := "list", desc := "(I)I" } : Jvm.MethodName)) ∈ lw_all := lw_g (lw_at lw_m6 24 rfl) rfl
theorem q1420 : (Jvm.Cond.code ({ cls := "DeedKernel", name := "list", desc := "(I)I" } : Jvm.MethodName) prog_1_method_92_code (2 : Nat) (Option.some Jvm.ClassFile.FieldType.int)) ∈ lw_all := lw_g (lw_at lw_m6 25 rfl) rfl
theorem q1422 : (Jvm.Cond.instanceMethod ({ cls := "DeedKernel", name := "go", desc := "(I)I" } : Jvm.MethodName)) ∈ lw_all := lw_g (lw_at lw_m6 27 rfl) rfl
theorem q1423 : (Jvm.Cond.selects "DeedKernel" ({ cls := "DeedKernel", name := "go", desc := "(I)I" } : Jvm.MethodName) ({ cls := "DeedKernel", name := "go", desc := "(I)I" } : Jvm.MethodName)) ∈ lw_all := lw_g (lw_at lw_m6 28 rfl) rfl
theorem q1424 : (Jvm.Cond.code ({ cls := "DeedKernel", name := "go", desc := "(I)I" } : Jvm.MethodName) prog_1_method_93_code (2 : Nat) (Option.some Jvm.ClassFile.FieldType.int)) ∈ lw_all := lw_g (lw_at lw_m6 29 rfl) rfl
theorem q1426 : (Jvm.Cond.instanceMethod ({ cls := "DeedKernel", name := "fork", desc := "(I)I" } : Jvm.MethodName)) ∈ lw_all := lw_g (lw_at lw_m6 31 rfl) rfl
theorem q1427 : (Jvm.Cond.selects "DeedKernel" ({ cls := "DeedKernel", name := "fork", desc := "(I)I" } : Jvm.MethodName) ({ cls := "DeedKernel", name := "fork", desc := "(I)I" } : Jvm.MethodName)) ∈ lw_all := lw_g (lw_at lw_m6 32 rfl) rfl
theorem q1428 : (Jvm.Cond.code ({ cls := "DeedKernel", name := "fork", desc := "(I)I" } : Jvm.MethodName) prog_1_method_94_code (2 : Nat) (Option.some Jvm.ClassFile.FieldType.int)) ∈ lw_all := lw_g (lw_at lw_m6 33 rfl) rfl
theorem q1430 : (Jvm.Cond.instanceMethod ({ cls := "DeedKernel", name := "exit", desc := "(II)I" } : Jvm.MethodName)) ∈ lw_all := lw_g (lw_at lw_m6 35 rfl) rfl
theorem q1431 : (Jvm.Cond.selects "DeedKernel" ({ cls := "DeedKernel", name := "exit", desc := "(II)I" } : Jvm.MethodName) ({ cls := "DeedKernel", name := "exit", desc := "(II)I" } : Jvm.MethodName)) ∈ lw_all := lw_g (lw_at lw_m6 36 rfl) rfl
theorem q1432 : (Jvm.Cond.code ({ cls := "DeedKernel", name := "exit", desc := "(II)I" } : Jvm.MethodName) prog_1_method_95_code (3 : Nat) (Option.some Jvm.ClassFile.FieldType.int)) ∈ lw_all := lw_g (lw_at lw_m6 37 rfl) rfl
theorem q1434 : (Jvm.Cond.instanceMethod ({ cls := "DeedKernel", name := "await", desc := "(I)I" } : Jvm.MethodName)) ∈ lw_all := lw_g (lw_at lw_m6 39 rfl) rfl
theorem q1435 : (Jvm.Cond.selects "DeedKernel" ({ cls := "DeedKernel", name := "await", desc := "(I)I" } : Jvm.MethodName) ({ cls := "DeedKernel", name := "await", desc := "(I)I" } : Jvm.MethodName)) ∈ lw_all := lw_g (lw_at lw_m6 40 rfl) rfl
theorem q1436 : (Jvm.Cond.code ({ cls := "DeedKernel", name := "await", desc := "(I)I" } : Jvm.MethodName) prog_1_method_96_code (2 : Nat) (Option.some Jvm.ClassFile.FieldType.int)) ∈ lw_all := lw_g (lw_at lw_m6 41 rfl) rfl
theorem q1438 : (Jvm.Cond.instanceMethod ({ cls := "DeedKernel", name := "kill", desc := "(III)I" } : Jvm.MethodName)) ∈ lw_all := lw_g (lw_at lw_m6 43 rfl) rfl
theorem q1439 : (Jvm.Cond.selects "DeedKernel" ({ cls := "DeedKernel", name := "kill", desc := "(III)I" } : Jvm.MethodName) ({ cls := "DeedKernel", name := "kill", desc := "(III)I" } : Jvm.MethodName)) ∈ lw_all := lw_g (lw_at lw_m6 44 rfl) rfl
theorem q1440 : (Jvm.Cond.code ({ cls := "DeedKernel", name := "kill", desc := "(III)I" } : Jvm.MethodName) prog_1_method_97_code (4 : Nat) (Option.some Jvm.ClassFile.FieldType.int)) ∈ lw_all := lw_g (lw_at lw_m6 45 rfl) rfl
theorem q1442 : (Jvm.Cond.instanceMethod ({ cls := "DeedKernel", name := "signals", desc := "(I)I" } : Jvm.MethodName)) ∈ lw_all := lw_g (lw_at lw_m6 47 rfl) rfl
theorem q1443 : (Jvm.Cond.selects "DeedKernel" ({ cls := "DeedKernel", name := "signals", desc := "(I)I" } : Jvm.MethodName) ({ cls := "DeedKernel", name := "signals", desc := "(I)I" } : Jvm.MethodName)) ∈ lw_all := lw_g (lw_at lw_m6 48 rfl) rfl
theorem q1444 : (Jvm.Cond.code ({ cls := "DeedKernel", name := "signals", desc := "(I)I" } : Jvm.MethodName) prog_1_method_98_code (2 : Nat) (Option.some Jvm.ClassFile.FieldType.int)) ∈ lw_all := lw_g (lw_at lw_m6 49 rfl) rfl
theorem q1446 : (Jvm.Cond.instanceMethod ({ cls := "DeedKernel", name := "xbegin", desc := "(I)I" } : Jvm.MethodName)) ∈ lw_all := lw_g (lw_at lw_m6 51 rfl) rfl
theorem q1447 : (Jvm.Cond.selects "DeedKernel" ({ cls := "DeedKernel", name := "xbegin", desc := "(I)I" } : Jvm.MethodName) ({ cls := "DeedKernel", name := "xbegin", desc := "(I)I" } : Jvm.MethodName)) ∈ lw_all := lw_g (lw_at lw_m6 52 rfl) rfl
theorem q1448 : (Jvm.Cond.code ({ cls := "DeedKernel", name := "xbegin", desc := "(I)I" } : Jvm.MethodName) prog_1_method_99_code (2 : Nat) (Option.some Jvm.ClassFile.FieldType.int)) ∈ lw_all := lw_g (lw_at lw_m6 53 rfl) rfl
theorem q1450 : (Jvm.Cond.instanceMethod ({ cls := "DeedKernel", name := "xend", desc := "(I)I" } : Jvm.MethodName)) ∈ lw_all := lw_g (lw_at lw_m6 55 rfl) rfl
theorem q1451 : (Jvm.Cond.selects "DeedKernel" ({ cls := "DeedKernel", name := "xend", desc := "(I)I" } : Jvm.MethodName) ({ cls := "DeedKernel", name := "xend", desc := "(I)I" } : Jvm.MethodName)) ∈ lw_all := lw_g (lw_at lw_m6 56 rfl) rfl
theorem q1452 : (Jvm.Cond.code ({ cls := "DeedKernel", name := "xend", desc := "(I)I" } : Jvm.MethodName) prog_1_method_100_code (2 : Nat) (Option.some Jvm.ClassFile.FieldType.int)) ∈ lw_all := lw_g (lw_at lw_m6 57 rfl) rfl
theorem q1454 : (Jvm.Cond.instanceMethod ({ cls := "DeedKernel", name := "xabort", desc := "(I)I" } : Jvm.MethodName)) ∈ lw_all := lw_g (lw_at lw_m6 59 rfl) rfl
theorem q1455 : (Jvm.Cond.selects "DeedKernel" ({ cls := "DeedKernel", name := "xabort", desc := "(I)I" } : Jvm.MethodName) ({ cls := "DeedKernel", name := "xabort", desc := "(I)I" } : Jvm.MethodName)) ∈ lw_all := lw_g (lw_at lw_m6 60 rfl) rfl
theorem q1456 : (Jvm.Cond.code ({ cls := "DeedKernel", name := "xabort", desc := "(I)I" } : Jvm.MethodName) prog_1_method_101_code (2 : Nat) (Option.some Jvm.ClassFile.FieldType.int)) ∈ lw_all := lw_g (lw_at lw_m6 61 rfl) rfl
theorem q1458 : (Jvm.Cond.instanceMethod ({ cls := "DeedKernel", name := "stop", desc := "()Z" } : Jvm.MethodName)) ∈ lw_all := lw_g (lw_at lw_m6 63 rfl) rfl
theorem q1459 : (Jvm.Cond.selects "DeedKernel" ({ cls := "DeedKernel", name := "stop", desc := "()Z" } : Jvm.MethodName) ({ cls := "DeedKernel", name := "stop", desc := "()Z" } : Jvm.MethodName)) ∈ lw_all := lw_g (lw_at lw_m6 64 rfl) rfl
theorem q1460 : (Jvm.Cond.code ({ cls := "DeedKernel", name := "stop", desc := "()Z" } : Jvm.MethodName) prog_1_method_103_code (1 : Nat) (Option.some Jvm.ClassFile.FieldType.boolean)) ∈ lw_all := lw_g (lw_at lw_m6 65 rfl) rfl
theorem q1462 : (Jvm.Cond.instanceMethod ({ cls := "DeedKernel", name := "start", desc := "()I" } : Jvm.MethodName)) ∈ lw_all := lw_g (lw_at lw_m6 67 rfl) rfl
theorem q1463 : (Jvm.Cond.selects "DeedKernel" ({ cls := "DeedKernel", name := "start", desc := "()I" } : Jvm.MethodName) ({ cls := "DeedKernel", name := "start", desc := "()I" } : Jvm.MethodName)) ∈ lw_all := lw_g (lw_at lw_m6 68 rfl) rfl
theorem q1464 : (Jvm.Cond.code ({ cls := "DeedKernel", name := "start", desc := "()I" } : Jvm.MethodName) prog_1_method_104_code (7 : Nat) (Option.some Jvm.ClassFile.FieldType.int)) ∈ lw_all := lw_g (lw_at lw_m6 69 rfl) rfl
theorem q1465 : (Jvm.Cond.methodLink "DeedKernel" (760 : Nat) ({ cls := "DeedKernel", name := "hasSuper", desc := "()Z" } : Jvm.MethodName)) ∈ lw_all := lw_g (lw_at lw_m6 70 rfl) rfl
theorem q1466 : (Jvm.Cond.privateMethod ({ cls := "DeedKernel", name := "hasSuper", desc := "()Z" } : Jvm.MethodName)) ∈ lw_tbl := lw_at lw_m6 71 rfl
theorem q1467 : (Jvm.Cond.instanceMethod ({ cls := "DeedKernel", name := "hasSuper", desc := "()Z" } : Jvm.MethodName)) ∈ lw_all := lw_g (lw_at lw_m6 72 rfl) rfl
theorem q1468 : (Jvm.Cond.code ({ cls := "DeedKernel", name := "hasSuper", desc := "()Z" } : Jvm.MethodName) prog_1_method_105_code (2 : Nat) (Option.some Jvm.ClassFile.FieldType.boolean)) ∈ lw_all := lw_g (lw_at lw_m6 73 rfl) rfl
theorem q1469 : (Jvm.Cond.methodLink "DeedKernel" (763 : Nat) ({ cls := "DeedKernel", name := "isHeadRight", desc := "()Z" } : Jvm.MethodName)) ∈ lw_all := lw_g (lw_at lw_m6 74 rfl) rfl
theorem q1470 : (Jvm.Cond.privateMethod ({ cls := "DeedKernel", name := "isHeadRight", desc := "()Z" } : Jvm.MethodName)) ∈ lw_tbl := lw_at lw_m6 75 rfl
theorem q1471 : (Jvm.Cond.instanceMethod ({ cls := "DeedKernel", name := "isHeadRight", desc := "()Z" } : Jvm.MethodName)) ∈ lw_all := lw_g (lw_at lw_m6 76 rfl) rfl
theorem q1472 : (Jvm.Cond.code ({ cls := "DeedKernel", name := "isHeadRight", desc := "()Z" } : Jvm.MethodName) prog_1_method_106_code (4 : Nat) (Option.some Jvm.ClassFile.FieldType.boolean)) ∈ lw_all := lw_g (lw_at lw_m6 77 rfl) rfl
theorem q1473 : (Jvm.Cond.methodLink "DeedKernel" (777 : Nat) ({ cls := "DeedKernel$Head", name := "block", desc := "(I)I" } : Jvm.MethodName)) ∈ lw_all := lw_g (lw_at lw_m6 78 rfl) rfl
theorem q1477 : (Jvm.Cond.methodLink "DeedKernel" (780 : Nat) ({ cls := "DeedKernel$Head", name := "hasSum", desc := "(J)Z" } : Jvm.MethodName)) ∈ lw_all := lw_g (lw_at lw_m6 82 rfl) rfl
theorem q1481 : (Jvm.Cond.methodLink "DeedKernel" (766 : Nat) ({ cls := "DeedKernel$Head", name := "sequence", desc := "()I" } : Jvm.MethodName)) ∈ lw_all := lw_g (lw_at lw_m6 86 rfl) rfl
theorem q1485 : (Jvm.Cond.methodLink "DeedKernel" (771 : Nat) ({ cls := "DeedKernel", name := "install", desc := "()Z" } : Jvm.MethodName)) ∈ lw_all := lw_g (lw_at lw_m6 90 rfl) rfl
theorem q1486 : (Jvm.Cond.privateMethod ({ cls := "DeedKernel", name := "install", desc := "()Z" } : Jvm.MethodName)) ∈ lw_tbl := lw_at lw_m6 91 rfl
theorem q1487 : (Jvm.Cond.instanceMethod ({ cls := "DeedKernel", name := "install", desc := "()Z" } : Jvm.MethodName)) ∈ lw_all := lw_g (lw_at lw_m6 92 rfl) rfl
theorem q1488 : (Jvm.Cond.code ({ cls := "DeedKernel", name := "install", desc := "()Z" } : Jvm.MethodName) prog_1_method_107_code (3 : Nat) (Option.some Jvm.ClassFile.FieldType.boolean)) ∈ lw_all := lw_g (lw_at lw_m6 93 rfl) rfl
theorem q1489 : (Jvm.Cond.methodLink "DeedKernel" (774 : Nat) ({ cls := "DeedKernel", name := "readTree", desc := "()I" } : Jvm.MethodName)) ∈ lw_all := lw_g (lw_at lw_m6 94 rfl) rfl
theorem q1490 : (Jvm.Cond.privateMethod ({ cls := "DeedKernel", name := "readTree", desc := "()I" } : Jvm.MethodName)) ∈ lw_tbl := lw_at lw_m6 95 rfl
theorem q1491 : (Jvm.Cond.instanceMethod ({ cls := "DeedKernel", name := "readTree", desc := "()I" } : Jvm.MethodName)) ∈ lw_all := lw_g (lw_at lw_m6 96 rfl) rfl
theorem q1492 : (Jvm.Cond.code ({ cls := "DeedKernel", name := "readTree", desc := "()I" } : Jvm.MethodName) prog_1_method_109_code (6 : Nat) (Option.some Jvm.ClassFile.FieldType.int)) ∈ lw_all := lw_g (lw_at lw_m6 97 rfl) rfl
theorem q1493 : (Jvm.Cond.methodLink "DeedKernel" (784 : Nat) ({ cls := "DeedKernel", name := "readInode", desc := "(LDeedKernel$Inode;I)Z" } : Jvm.MethodName)) ∈ lw_all := lw_g (lw_at lw_m6 98 rfl) rfl
theorem q1494 : (Jvm.Cond.privateMethod ({ cls := "DeedKernel", name := "readInode", desc := "(LDeedKernel$Inode;I)Z" } : Jvm.MethodName)) ∈ lw_tbl := lw_at lw_m6 99 rfl
theorem q1495 : (Jvm.Cond.instanceMethod ({ cls := "DeedKernel", name := "readInode", desc := "(LDeedKernel$Inode;I)Z" } : Jvm.MethodName)) ∈ lw_all := lw_g (lw_at lw_m6 100 rfl) rfl
theorem q1496 : (Jvm.Cond.code ({ cls := "DeedKernel", name := "readInode", desc := "(LDeedKernel$Inode;I)Z" } : Jvm.MethodName) prog_1_method_110_code (4 : Nat) (Option.some Jvm.ClassFile.FieldType.boolean)) ∈ lw_all := lw_g (lw_at lw_m6 101 rfl) rfl
theorem q1497 : (Jvm.Cond.methodLink "DeedKernel" (790 : Nat) ({ cls := "DeedKernel", name := "at", desc := "(I)I" } : Jvm.MethodName)) ∈ lw_all := lw_g (lw_at lw_m6 102 rfl) rfl
theorem q1498 : (Jvm.Cond.privateMethod ({ cls := "DeedKernel", name := "at", desc := "(I)I" } : Jvm.MethodName)) ∈ lw_tbl := lw_at lw_m6 103 rfl
theorem q1499 : (Jvm.Cond.instanceMethod ({ cls := "DeedKernel", name := "at", desc := "(I)I" } : Jvm.MethodName)) ∈ lw_all := lw_g (lw_at lw_m6 104 rfl) rfl
theorem q1500 : (Jvm.Cond.code ({ cls := "DeedKernel", name := "at", desc := "(I)I" } : Jvm.MethodName) prog_1_method_108_code (2 : Nat) (Option.some Jvm.ClassFile.FieldType.int)) ∈ lw_all := lw_g (lw_at lw_m6 105 rfl) rfl
theorem q1501 : (Jvm.Cond.methodLink "DeedKernel" (793 : Nat) ({ cls := "DeedKernel$Disk", name := "number", desc := "([BI)I" } : Jvm.MethodName)) ∈ lw_all := lw_g (lw_at lw_m6 106 rfl) rfl
theorem q1505 : (Jvm.Cond.methodLink "DeedKernel" (796 : Nat) ({ cls := "DeedKernel", name := "isEmpty", desc := "(II)Z" } : Jvm.MethodName)) ∈ lw_all := lw_g (lw_at lw_m6 110 rfl) rfl
theorem q1506 : (Jvm.Cond.privateMethod ({ cls := "DeedKernel", name := "isEmpty", desc := "(II)Z" } : Jvm.MethodName)) ∈ lw_tbl := lw_at lw_m6 111 rfl
theorem q1507 : (Jvm.Cond.instanceMethod ({ cls := "DeedKernel", name := "isEmpty", desc := "(II)Z" } : Jvm.MethodName)) ∈ lw_all := lw_g (lw_at lw_m6 112 rfl) rfl
theorem q1508 : (Jvm.Cond.code ({ cls := "DeedKernel", name := "isEmpty", desc := "(II)Z" } : Jvm.MethodName) prog_1_method_111_code (4 : Nat) (Option.some Jvm.ClassFile.FieldType.boolean)) ∈ lw_all := lw_g (lw_at lw_m6 113 rfl) rfl
theorem q1509 : (Jvm.Cond.methodLink "DeedKernel" (799 : Nat) ({ cls := "DeedKernel", name := "readBlocks", desc := "(LDeedKernel$Inode;I)Z" } : Jvm.MethodName)) ∈ lw_all := lw_g (lw_at lw_m6 114 rfl) rfl
theorem q1510 : (Jvm.Cond.privateMethod ({ cls := "DeedKernel", name := "readBlocks", desc := "(LDeedKernel$Inode;I)Z" } : Jvm.MethodName)) ∈ lw_tbl := lw_at lw_m6 115 rfl
theorem q1511 : (Jvm.Cond.instanceMethod ({ cls := "DeedKernel", name := "readBlocks", desc := "(LDeedKernel$Inode;I)Z" } : Jvm.MethodName)) ∈ lw_all := lw_g (lw_at lw_m6 116 rfl) rfl
theorem q1512 : (Jvm.Cond.code ({ cls := "DeedKernel", name := "readBlocks", desc := "(LDeedKernel$Inode;I)Z" } : Jvm.MethodName) prog_1_method_113_code (4 : Nat) (Option.some Jvm.ClassFile.FieldType.boolean)) ∈ lw_all := lw_g (lw_at lw_m6 117 rfl) rfl
theorem q1513 : (Jvm.Cond.methodLink "DeedKernel" (805 : Nat) ({ cls := "DeedKernel", name := "takes", desc := "(I)Z" } : Jvm.MethodName)) ∈ lw_all := lw_g (lw_at lw_m6 118 rfl) rfl
theorem q1514 : (Jvm.Cond.privateMethod ({ cls := "DeedKernel", name := "takes", desc := "(I)Z" } : Jvm.MethodName)) ∈ lw_tbl := lw_at lw_m6 119 rfl
theorem q1515 : (Jvm.Cond.instanceMethod ({ cls := "DeedKernel", name := "takes", desc := "(I)Z" } : Jvm.MethodName)) ∈ lw_all := lw_g (lw_at lw_m6 120 rfl) rfl
theorem q1516 : (Jvm.Cond.code ({ cls := "DeedKernel", name := "takes", desc := "(I)Z" } : Jvm.MethodName) prog_1_method_112_code (2 : Nat) (Option.some Jvm.ClassFile.FieldType.boolean)) ∈ lw_all := lw_g (lw_at lw_m6 121 rfl) rfl
theorem q1517 : (Jvm.Cond.methodLink "DeedKernel" (802 : Nat) ({ cls := "DeedKernel", name := "readSlots", desc := "(LDeedKernel$Inode;)Z" } : Jvm.MethodName)) ∈ lw_all := lw_g (lw_at lw_m6 122 rfl) rfl
theorem q1518 : (Jvm.Cond.privateMethod ({ cls := "DeedKernel", name := "readSlots", desc := "(LDeedKernel$Inode;)Z" } : Jvm.MethodName)) ∈ lw_tbl := lw_at lw_m6 123 rfl
theorem q1519 : (Jvm.Cond.instanceMethod ({ cls := "DeedKernel", name := "readSlots", desc := "(LDeedKernel$Inode;)Z" } : Jvm.MethodName)) ∈ lw_all := lw_g (lw_at lw_m6 124 rfl) rfl
theorem q1520 : (Jvm.Cond.code ({ cls := "DeedKernel", name := "readSlots", desc := "(LDeedKernel$Inode;)Z" } : Jvm.MethodName) prog_1_method_114_code (6 : Nat) (Option.some Jvm.ClassFile.FieldType.boolean)) ∈ lw_all := lw_g (lw_at lw_m6 125 rfl) rfl
theorem q1521 : (Jvm.Cond.methodLink "DeedKernel" (808 : Nat) ({ cls := "DeedKernel", name := "isName", desc := "([BII)Z" } : Jvm.MethodName)) ∈ lw_all := lw_g (lw_at lw_m6 126 rfl) rfl
theorem q1522 : (Jvm.Cond.privateMethod ({ cls := "DeedKernel", name := "isName", desc := "([BII)Z" } : Jvm.MethodName)) ∈ lw_tbl := lw_at lw_m6 127 rfl
theorem q1523 : (Jvm.Cond.instanceMethod ({ cls := "DeedKernel", name := "isName", desc := "([BII)Z" } : Jvm.MethodName)) ∈ lw_all := lw_g (lw_at lw_m6 128 rfl) rfl
theorem q1524 : (Jvm.Cond.code ({ cls := "DeedKernel", name := "isName", desc := "([BII)Z" } : Jvm.MethodName) prog_1_method_115_code (5 : Nat) (Option.some Jvm.ClassFile.FieldType.boolean)) ∈ lw_all := lw_g (lw_at lw_m6 129 rfl) rfl
theorem q1525 : (Jvm.Cond.methodLink "DeedKernel" (812 : Nat) ({ cls := "DeedKernel$Inode", name := "slotOf", desc := "([BII)I" } : Jvm.MethodName)) ∈ lw_all := lw_g (lw_at lw_m6 130 rfl) rfl
theorem q1526 : (Jvm.Cond.methodLink "DeedKernel" (816 : Nat) ({ cls := "DeedKernel$Inode", name := "name", desc := "(I[BII)V" } : Jvm.MethodName)) ∈ lw_all := lw_g (lw_at lw_m6 131 rfl) rfl
theorem q1527 : (Jvm.Cond.methodLink "DeedKernel" (787 : Nat) ({ cls := "DeedKernel", name := "isTold", desc := "(LDeedKernel$Inode;)Z" } : Jvm.MethodName)) ∈ lw_all := lw_g (lw_at lw_m6 132 rfl) rfl
theorem q1528 : (Jvm.Cond.privateMethod ({ cls := "DeedKernel", name := "isTold", desc := "(LDeedKernel$Inode;)Z" } : Jvm.MethodName)) ∈ lw_tbl := lw_at lw_m6 133 rfl
theorem q1529 : (Jvm.Cond.instanceMethod ({ cls := "DeedKernel", name := "isTold", desc := "(LDeedKernel$Inode;)Z" } : Jvm.MethodName)) ∈ lw_all := lw_g (lw_at lw_m6 134 rfl) rfl
theorem q1530 : (Jvm.Cond.code ({ cls := "DeedKernel", name := "isTold", desc := "(LDeedKernel$Inode;)Z" } : Jvm.MethodName) prog_1_method_116_code (8 : Nat) (Option.some Jvm.ClassFile.FieldType.boolean)) ∈ lw_all := lw_g (lw_at lw_m6 135 rfl) rfl
theorem q1531 : (Jvm.Cond.methodLink "DeedKernel" (823 : Nat) ({ cls := "DeedKernel", name := "comesUp", desc := "(LDeedKernel$Inode;)Z" } : Jvm.MethodName)) ∈ lw_all := lw_g (lw_at lw_m6 136 rfl) rfl
theorem q1532 : (Jvm.Cond.privateMethod ({ cls := "DeedKernel", name := "comesUp", desc := "(LDeedKernel$Inode;)Z" } : Jvm.MethodName)) ∈ lw_tbl := lw_at lw_m6 137 rfl
theorem q1533 : (Jvm.Cond.instanceMethod ({ cls := "DeedKernel", name := "comesUp", desc := "(LDeedKernel$Inode;)Z" } : Jvm.MethodName)) ∈ lw_all := lw_g (lw_at lw_m6 138 rfl) rfl
theorem q1534 : (Jvm.Cond.code ({ cls := "DeedKernel", name := "comesUp", desc := "(LDeedKernel$Inode;)Z" } : Jvm.MethodName) prog_1_method_117_code (4 : Nat) (Option.some Jvm.ClassFile.FieldType.boolean)) ∈ lw_all := lw_g (lw_at lw_m6 139 rfl) rfl
theorem q1535 : (Jvm.Cond.methodLink "DeedKernel" (826 : Nat) ({ cls := "DeedKernel", name := "aboveOf", desc := "(I)I" } : Jvm.MethodName)) ∈ lw_all := lw_g (lw_at lw_m6 140 rfl) rfl
theorem q1536 : (Jvm.Cond.privateMethod ({ cls := "DeedKernel", name := "aboveOf", desc := "(I)I" } : Jvm.MethodName)) ∈ lw_tbl := lw_at lw_m6 141 rfl
theorem q1537 : (Jvm.Cond.instanceMethod ({ cls := "DeedKernel", name := "aboveOf", desc := "(I)I" } : Jvm.MethodName)) ∈ lw_all := lw_g (lw_at lw_m6 142 rfl) rfl
theorem q1538 : (Jvm.Cond.code ({ cls := "DeedKernel", name := "aboveOf", desc := "(I)I" } : Jvm.MethodName) prog_1_method_118_code (7 : Nat) (Option.some Jvm.ClassFile.FieldType.int)) ∈ lw_all := lw_g (lw_at lw_m6 143 rfl) rfl
theorem q1548 : (Jvm.Cond.instanceMethod ({ cls := "DeedKernel", name := "type", desc := "(JI)I" } : Jvm.MethodName)) ∈ lw_all := lw_g (lw_at lw_m6 153 rfl) rfl
theorem q1549 : (Jvm.Cond.selects "DeedKernel" ({ cls := "DeedKernel", name := "type", desc := "(JI)I" } : Jvm.MethodName) ({ cls := "DeedKernel", name := "type", desc := "(JI)I" } : Jvm.MethodName)) ∈ lw_all := lw_g (lw_at lw_m6 154 rfl) rfl
theorem q1550 : (Jvm.Cond.code ({ cls := "DeedKernel", name := "type", desc := "(JI)I" } : Jvm.MethodName) prog_1_method_9_code (5 : Nat) (Option.some Jvm.ClassFile.FieldType.int)) ∈ lw_all := lw_g (lw_at lw_m6 155 rfl) rfl
theorem q1551 : (Jvm.Cond.methodLink "DeedKernel" (215 : Nat) ({ cls := "DeedKernel", name := "want", desc := "(Z)V" } : Jvm.MethodName)) ∈ lw_all := lw_g (lw_at lw_m6 156 rfl) rfl
theorem q1552 : (Jvm.Cond.static ({ cls := "DeedKernel", name := "want", desc := "(Z)V" } : Jvm.MethodName)) ∈ lw_all := lw_g (lw_at lw_m6 157 rfl) rfl
theorem q1553 : (Jvm.Cond.code ({ cls := "DeedKernel", name := "want", desc := "(Z)V" } : Jvm.MethodName) prog_1_method_3_code (1 : Nat) (Option.none : Option Jvm.ClassFile.FieldType)) ∈ lw_all := lw_g (lw_at lw_m6 158 rfl) rfl
theorem q1554 : (Jvm.Cond.classLink "DeedKernel" (1 : Nat) "java/lang/IllegalArgumentException") ∈ lw_all := lw_g (lw_at lw_m6 159 rfl) rfl
theorem q1563 : (Jvm.Cond.methodLink "DeedKernel" (3 : Nat) ({ cls := "java/lang/IllegalArgumentException", name := "<init>", desc := "()V" } : Jvm.MethodName)) ∈ lw_all := lw_g (lw_at lw_m6 168 rfl) rfl
theorem q1569 : (Jvm.Cond.methodLink "DeedKernel" (220 : Nat) ({ cls := "DeedKernel", name := "must", desc := "(Z)V" } : Jvm.MethodName)) ∈ lw_all := lw_g (lw_at lw_m6 174 rfl) rfl
theorem q1570 : (Jvm.Cond.static ({ cls := "DeedKernel", name := "must", desc := "(Z)V" } : Jvm.MethodName)) ∈ lw_all := lw_g (lw_at lw_m6 175 rfl) rfl
theorem q1571 : (Jvm.Cond.code ({ cls := "DeedKernel", name := "must", desc := "(Z)V" } : Jvm.MethodName) prog_1_method_4_code (1 : Nat) (Option.none : Option Jvm.ClassFile.FieldType)) ∈ lw_all := lw_g (lw_at lw_m6 176 rfl) rfl
theorem q1576 : (Jvm.Cond.instanceMethod ({ cls := "DeedKernel", name := "power", desc := "(II)I" } : Jvm.MethodName)) ∈ lw_all := lw_g (lw_at lw_m6 181 rfl) rfl
theorem q1577 : (Jvm.Cond.selects "DeedKernel" ({ cls := "DeedKernel", name := "power", desc := "(II)I" } : Jvm.MethodName) ({ cls := "DeedKernel", name := "power", desc := "(II)I" } : Jvm.MethodName)) ∈ lw_all := lw_g (lw_at lw_m6 182 rfl) rfl
theorem q1578 : (Jvm.Cond.code ({ cls := "DeedKernel", name := "power", desc := "(II)I" } : Jvm.MethodName) prog_1_method_102_code (3 : Nat) (Option.some Jvm.ClassFile.FieldType.int)) ∈ lw_all := lw_g (lw_at lw_m6 183 rfl) rfl
theorem q1615 : (Jvm.Cond.instanceMethod ({ cls := "DeedKernel", name := "poke", desc := "(III)I" } : Jvm.MethodName)) ∈ lw_all := lw_g (lw_at lw_m6 220 rfl) rfl
theorem q1616 : (Jvm.Cond.selects "DeedKernel" ({ cls := "DeedKernel", name := "poke", desc := "(III)I" } : Jvm.MethodName) ({ cls := "DeedKernel", name := "poke", desc := "(III)I" } : Jvm.MethodName)) ∈ lw_all := lw_g (lw_at lw_m6 221 rfl) rfl
theorem q1617 : (Jvm.Cond.code ({ cls := "DeedKernel", name := "poke", desc := "(III)I" } : Jvm.MethodName) prog_1_method_119_code (5 : Nat) (Option.some Jvm.ClassFile.FieldType.int)) ∈ lw_all := lw_g (lw_at lw_m6 222 rfl) rfl
theorem q1618 : (Jvm.Cond.methodLink "DeedKernel" (829 : Nat) ({ cls := "DeedKernel", name := "index", desc := "(Z)V" } : Jvm.MethodName)) ∈ lw_all := lw_g (lw_at lw_m6 223 rfl) rfl
theorem q1619 : (Jvm.Cond.static ({ cls := "DeedKernel", name := "index", desc := "(Z)V" } : Jvm.MethodName)) ∈ lw_all := lw_g (lw_at lw_m6 224 rfl) rfl
theorem q1620 : (Jvm.Cond.code ({ cls := "DeedKernel", name := "index", desc := "(Z)V" } : Jvm.MethodName) prog_1_method_5_code (1 : Nat) (Option.none : Option Jvm.ClassFile.FieldType)) ∈ lw_all := lw_g (lw_at lw_m6 225 rfl) rfl
theorem q1621 : (Jvm.Cond.classLink "DeedKernel" (10 : Nat) "java/lang/IndexOutOfBoundsException") ∈ lw_all := lw_g (lw_at lw_m6 226 rfl) rfl
theorem q1630 : (Jvm.Cond.methodLink "DeedKernel" (12 : Nat) ({ cls := "java/lang/IndexOutOfBoundsException", name := "<init>", desc := "()V" } : Jvm.MethodName)) ∈ lw_all := lw_g (lw_at lw_m6 235 rfl) rfl
theorem q1640 : (Jvm.Cond.instanceMethod ({ cls := "DeedKernel", name := "byteAt", desc := "(II)I" } : Jvm.MethodName)) ∈ lw_all := lw_g (lw_at lw_m7 5 rfl) rfl
theorem q1641 : (Jvm.Cond.selects "DeedKernel" ({ cls := "DeedKernel", name := "byteAt", desc := "(II)I" } : Jvm.MethodName) ({ cls := "DeedKernel", name := "byteAt", desc := "(II)I" } : Jvm.MethodName)) ∈ lw_all := lw_g (lw_at lw_m7 6 rfl) rfl
theorem q1642 : (Jvm.Cond.code ({ cls := "DeedKernel", name := "byteAt", desc := "(II)I" } : Jvm.MethodName) prog_1_method_120_code (3 : Nat) (Option.some Jvm.ClassFile.FieldType.int)) ∈ lw_all := lw_g (lw_at lw_m7 7 rfl) rfl
theorem q1647 : (Jvm.Cond.instanceMethod ({ cls := "DeedKernel", name := "out", desc := "(I)I" } : Jvm.MethodName)) ∈ lw_all := lw_g (lw_at lw_m7 12 rfl) rfl
theorem q1648 : (Jvm.Cond.selects "DeedKernel" ({ cls := "DeedKernel", name := "out", desc := "(I)I" } : Jvm.MethodName) ({ cls := "DeedKernel", name := "out", desc := "(I)I" } : Jvm.MethodName)) ∈ lw_all := lw_g (lw_at lw_m7 13 rfl) rfl
theorem q1649 : (Jvm.Cond.code ({ cls := "DeedKernel", name := "out", desc := "(I)I" } : Jvm.MethodName) prog_1_method_121_code (2 : Nat) (Option.some Jvm.ClassFile.FieldType.int)) ∈ lw_all := lw_g (lw_at lw_m7 14 rfl) rfl
theorem q1654 : (Jvm.Cond.instanceMethod ({ cls := "DeedKernel", name := "process", desc := "(II)I" } : Jvm.MethodName)) ∈ lw_all := lw_g (lw_at lw_m7 19 rfl) rfl
theorem q1655 : (Jvm.Cond.selects "DeedKernel" ({ cls := "DeedKernel", name := "process", desc := "(II)I" } : Jvm.MethodName) ({ cls := "DeedKernel", name := "process", desc := "(II)I" } : Jvm.MethodName)) ∈ lw_all := lw_g (lw_at lw_m7 20 rfl) rfl
theorem q1656 : (Jvm.Cond.code ({ cls := "DeedKernel", name := "process", desc := "(II)I" } : Jvm.MethodName) prog_1_method_122_code (4 : Nat) (Option.some Jvm.ClassFile.FieldType.int)) ∈ lw_all := lw_g (lw_at lw_m7 21 rfl) rfl
theorem q1661 : (Jvm.Cond.instanceMethod ({ cls := "DeedKernel", name := "told", desc := "(I)I" } : Jvm.MethodName)) ∈ lw_all := lw_g (lw_at lw_m7 26 rfl) rfl
theorem q1662 : (Jvm.Cond.selects "DeedKernel" ({ cls := "DeedKernel", name := "told", desc := "(I)I" } : Jvm.MethodName) ({ cls := "DeedKernel", name := "told", desc := "(I)I" } : Jvm.MethodName)) ∈ lw_all := lw_g (lw_at lw_m7 27 rfl) rfl
theorem q1663 : (Jvm.Cond.code ({ cls := "DeedKernel", name := "told", desc := "(I)I" } : Jvm.MethodName) prog_1_method_123_code (2 : Nat) (Option.some Jvm.ClassFile.FieldType.int)) ∈ lw_all := lw_g (lw_at lw_m7 28 rfl) rfl
theorem q1664 : (Jvm.Cond.methodLink "DeedKernel" (832 : Nat) ({ cls := "DeedKernel", name := "freeBlocks", desc := "()I" } : Jvm.MethodName)) ∈ lw_all := lw_g (lw_at lw_m7 29 rfl) rfl
theorem q1665 : (Jvm.Cond.privateMethod ({ cls := "DeedKernel", name := "freeBlocks", desc := "()I" } : Jvm.MethodName)) ∈ lw_tbl := lw_at lw_m7 30 rfl
theorem q1666 : (Jvm.Cond.instanceMethod ({ cls := "DeedKernel", name := "freeBlocks", desc := "()I" } : Jvm.MethodName)) ∈ lw_all := lw_g (lw_at lw_m7 31 rfl) rfl
theorem q1667 : (Jvm.Cond.code ({ cls := "DeedKernel", name := "freeBlocks", desc := "()I" } : Jvm.MethodName) prog_1_method_124_code (3 : Nat) (Option.some Jvm.ClassFile.FieldType.int)) ∈ lw_all := lw_g (lw_at lw_m7 32 rfl) rfl
theorem in_X1 : ∀ w ∈ wsX10, w ∈ lw_all := lw_in wsX10 [765, 767, 769, 771, 773, 775, 777, 779, 781, 783, 785, 787, 789, 791, 793, 795, 797, 799, 801, 803, 805, 807, 809, 811, 813] (by decide +kernel) (by decide +kernel)
theorem q197 : (Jvm.Cond.initialized "DeedKernel$Head") ∈ lw_all := lw_g (lw_at lw_m1 2 rfl) rfl
theorem q229 : (Jvm.Cond.instantiable "DeedKernel$Head" (2 : Nat)) ∈ lw_all := lw_g (lw_at lw_m1 34 rfl) rfl
theorem q231 : (Jvm.Cond.instanceMethod ({ cls := "DeedKernel$Head", name := "<init>", desc := "()V" } : Jvm.MethodName)) ∈ lw_all := lw_g (lw_at lw_m1 36 rfl) rfl
theorem q232 : (Jvm.Cond.code ({ cls := "DeedKernel$Head", name := "<init>", desc := "()V" } : Jvm.MethodName) prog_3_method_1_code (1 : Nat) (Option.none : Option Jvm.ClassFile.FieldType)) ∈ lw_all := lw_g (lw_at lw_m1 37 rfl) rfl
theorem q233 : (Jvm.Cond.methodLink "DeedKernel$Head" (3 : Nat) ({ cls := "java/lang/Object", name := "<init>", desc := "()V" } : Jvm.MethodName)) ∈ lw_all := lw_g (lw_at lw_m1 38 rfl) rfl
theorem q234 : (Jvm.Cond.fieldLink "DeedKernel$Head" (9 : Nat) "DeedKernel$Head" "bytes" "[B") ∈ lw_all := lw_g (lw_at lw_m1 39 rfl) rfl
theorem q236 : (Jvm.Cond.fieldLink "DeedKernel$Head" (15 : Nat) "DeedKernel$Head" "n" "I") ∈ lw_all := lw_g (lw_at lw_m1 41 rfl) rfl
theorem q238 : (Jvm.Cond.laysFinal "DeedKernel$Head" "DeedKernel$Head" "bytes" "[B") ∈ lw_all := lw_g (lw_at lw_m1 43 rfl) rfl
theorem q239 : (Jvm.Cond.soleField "DeedKernel$Head" "bytes") ∈ lw_all := lw_g (lw_at lw_m1 44 rfl) rfl
theorem q240 : (Jvm.Cond.lays "DeedKernel$Head" "DeedKernel$Head" "n" "I") ∈ lw_all := lw_g (lw_at lw_m1 45 rfl) rfl
theorem q241 : (Jvm.Cond.soleField "DeedKernel$Head" "n") ∈ lw_all := lw_g (lw_at lw_m1 46 rfl) rfl
theorem q242 : (Jvm.Cond.superclass "DeedKernel$Head" "java/lang/Object") ∈ lw_all := lw_g (lw_at lw_m1 47 rfl) rfl
theorem q697 : (Jvm.Cond.instanceMethod ({ cls := "DeedKernel$Head", name := "begin", desc := "(I)V" } : Jvm.MethodName)) ∈ lw_all := lw_g (lw_at lw_m3 22 rfl) rfl
theorem q698 : (Jvm.Cond.selects "DeedKernel$Head" ({ cls := "DeedKernel$Head", name := "begin", desc := "(I)V" } : Jvm.MethodName) ({ cls := "DeedKernel$Head", name := "begin", desc := "(I)V" } : Jvm.MethodName)) ∈ lw_all := lw_g (lw_at lw_m3 23 rfl) rfl
theorem q699 : (Jvm.Cond.code ({ cls := "DeedKernel$Head", name := "begin", desc := "(I)V" } : Jvm.MethodName) prog_3_method_2_code (3 : Nat) (Option.none : Option Jvm.ClassFile.FieldType)) ∈ lw_all := lw_g (lw_at lw_m3 24 rfl) rfl
theorem q709 : (Jvm.Cond.instanceMethod ({ cls := "DeedKernel$Head", name := "end", desc := "(J)V" } : Jvm.MethodName)) ∈ lw_all := lw_g (lw_at lw_m3 34 rfl) rfl
theorem q710 : (Jvm.Cond.selects "DeedKernel$Head" ({ cls := "DeedKernel$Head", name := "end", desc := "(J)V" } : Jvm.MethodName) ({ cls := "DeedKernel$Head", name := "end", desc := "(J)V" } : Jvm.MethodName)) ∈ lw_all := lw_g (lw_at lw_m3 35 rfl) rfl
theorem q711 : (Jvm.Cond.code ({ cls := "DeedKernel$Head", name := "end", desc := "(J)V" } : Jvm.MethodName) prog_3_method_6_code (4 : Nat) (Option.none : Option Jvm.ClassFile.FieldType)) ∈ lw_all := lw_g (lw_at lw_m3 36 rfl) rfl
theorem q1324 : (Jvm.Cond.instanceMethod ({ cls := "DeedKernel$Head", name := "add", desc := "(I)V" } : Jvm.MethodName)) ∈ lw_all := lw_g (lw_at lw_m5 169 rfl) rfl
theorem q1325 : (Jvm.Cond.selects "DeedKernel$Head" ({ cls := "DeedKernel$Head", name := "add", desc := "(I)V" } : Jvm.MethodName) ({ cls := "DeedKernel$Head", name := "add", desc := "(I)V" } : Jvm.MethodName)) ∈ lw_all := lw_g (lw_at lw_m5 170 rfl) rfl
theorem q1326 : (Jvm.Cond.code ({ cls := "DeedKernel$Head", name := "add", desc := "(I)V" } : Jvm.MethodName) prog_3_method_3_code (2 : Nat) (Option.none : Option Jvm.ClassFile.FieldType)) ∈ lw_all := lw_g (lw_at lw_m5 171 rfl) rfl
theorem q1474 : (Jvm.Cond.instanceMethod ({ cls := "DeedKernel$Head", name := "block", desc := "(I)I" } : Jvm.MethodName)) ∈ lw_all := lw_g (lw_at lw_m6 79 rfl) rfl
theorem q1475 : (Jvm.Cond.selects "DeedKernel$Head" ({ cls := "DeedKernel$Head", name := "block", desc := "(I)I" } : Jvm.MethodName) ({ cls := "DeedKernel$Head", name := "block", desc := "(I)I" } : Jvm.MethodName)) ∈ lw_all := lw_g (lw_at lw_m6 80 rfl) rfl
theorem q1476 : (Jvm.Cond.code ({ cls := "DeedKernel$Head", name := "block", desc := "(I)I" } : Jvm.MethodName) prog_3_method_4_code (2 : Nat) (Option.some Jvm.ClassFile.FieldType.int)) ∈ lw_all := lw_g (lw_at lw_m6 81 rfl) rfl
theorem q1478 : (Jvm.Cond.instanceMethod ({ cls := "DeedKernel$Head", name := "hasSum", desc := "(J)Z" } : Jvm.MethodName)) ∈ lw_all := lw_g (lw_at lw_m6 83 rfl) rfl
theorem q1479 : (Jvm.Cond.selects "DeedKernel$Head" ({ cls := "DeedKernel$Head", name := "hasSum", desc := "(J)Z" } : Jvm.MethodName) ({ cls := "DeedKernel$Head", name := "hasSum", desc := "(J)Z" } : Jvm.MethodName)) ∈ lw_all := lw_g (lw_at lw_m6 84 rfl) rfl
theorem q1480 : (Jvm.Cond.code ({ cls := "DeedKernel$Head", name := "hasSum", desc := "(J)Z" } : Jvm.MethodName) prog_3_method_7_code (4 : Nat) (Option.some Jvm.ClassFile.FieldType.boolean)) ∈ lw_all := lw_g (lw_at lw_m6 85 rfl) rfl
theorem q1482 : (Jvm.Cond.instanceMethod ({ cls := "DeedKernel$Head", name := "sequence", desc := "()I" } : Jvm.MethodName)) ∈ lw_all := lw_g (lw_at lw_m6 87 rfl) rfl
theorem q1483 : (Jvm.Cond.selects "DeedKernel$Head" ({ cls := "DeedKernel$Head", name := "sequence", desc := "()I" } : Jvm.MethodName) ({ cls := "DeedKernel$Head", name := "sequence", desc := "()I" } : Jvm.MethodName)) ∈ lw_all := lw_g (lw_at lw_m6 88 rfl) rfl
theorem q1484 : (Jvm.Cond.code ({ cls := "DeedKernel$Head", name := "sequence", desc := "()I" } : Jvm.MethodName) prog_3_method_5_code (3 : Nat) (Option.some Jvm.ClassFile.FieldType.int)) ∈ lw_all := lw_g (lw_at lw_m6 89 rfl) rfl
theorem in_X2 : ∀ w ∈ wsX20, w ∈ lw_all := lw_in wsX20 [238, 240] (by decide +kernel) (by decide +kernel)
theorem q198 : (Jvm.Cond.initialized "DeedKernel$Things") ∈ lw_all := lw_g (lw_at lw_m1 3 rfl) rfl
theorem q251 : (Jvm.Cond.instantiable "DeedKernel$Things" (7 : Nat)) ∈ lw_all := lw_g (lw_at lw_m1 56 rfl) rfl
theorem q253 : (Jvm.Cond.instanceMethod ({ cls := "DeedKernel$Things", name := "<init>", desc := "()V" } : Jvm.MethodName)) ∈ lw_all := lw_g (lw_at lw_m1 58 rfl) rfl
theorem q254 : (Jvm.Cond.code ({ cls := "DeedKernel$Things", name := "<init>", desc := "()V" } : Jvm.MethodName) prog_10_method_1_code (1 : Nat) (Option.none : Option Jvm.ClassFile.FieldType)) ∈ lw_all := lw_g (lw_at lw_m1 59 rfl) rfl
theorem q255 : (Jvm.Cond.methodLink "DeedKernel$Things" (3 : Nat) ({ cls := "java/lang/Object", name := "<init>", desc := "()V" } : Jvm.MethodName)) ∈ lw_all := lw_g (lw_at lw_m1 60 rfl) rfl
theorem q256 : (Jvm.Cond.fieldLink "DeedKernel$Things" (37 : Nat) "DeedKernel$Things" "many" "I") ∈ lw_all := lw_g (lw_at lw_m1 61 rfl) rfl
theorem q258 : (Jvm.Cond.fieldLink "DeedKernel$Things" (9 : Nat) "DeedKernel$Things" "kind" "[I") ∈ lw_all := lw_g (lw_at lw_m1 63 rfl) rfl
theorem q260 : (Jvm.Cond.fieldLink "DeedKernel$Things" (15 : Nat) "DeedKernel$Things" "of" "[I") ∈ lw_all := lw_g (lw_at lw_m1 65 rfl) rfl
theorem q262 : (Jvm.Cond.fieldLink "DeedKernel$Things" (18 : Nat) "DeedKernel$Things" "first" "[J") ∈ lw_all := lw_g (lw_at lw_m1 67 rfl) rfl
theorem q263 : (Jvm.Cond.fieldLink "DeedKernel$Things" (22 : Nat) "DeedKernel$Things" "second" "[J") ∈ lw_all := lw_g (lw_at lw_m1 68 rfl) rfl
theorem q264 : (Jvm.Cond.fieldLink "DeedKernel$Things" (25 : Nat) "DeedKernel$Things" "read" "[I") ∈ lw_all := lw_g (lw_at lw_m1 69 rfl) rfl
theorem q266 : (Jvm.Cond.fieldLink "DeedKernel$Things" (28 : Nat) "DeedKernel$Things" "writer" "[I") ∈ lw_all := lw_g (lw_at lw_m1 71 rfl) rfl
theorem q268 : (Jvm.Cond.lays "DeedKernel$Things" "DeedKernel$Things" "many" "I") ∈ lw_all := lw_g (lw_at lw_m1 73 rfl) rfl
theorem q269 : (Jvm.Cond.soleField "DeedKernel$Things" "many") ∈ lw_all := lw_g (lw_at lw_m1 74 rfl) rfl
theorem q270 : (Jvm.Cond.lays "DeedKernel$Things" "DeedKernel$Things" "kind" "[I") ∈ lw_all := lw_g (lw_at lw_m1 75 rfl) rfl
theorem q271 : (Jvm.Cond.soleField "DeedKernel$Things" "kind") ∈ lw_all := lw_g (lw_at lw_m1 76 rfl) rfl
theorem q272 : (Jvm.Cond.lays "DeedKernel$Things" "DeedKernel$Things" "of" "[I") ∈ lw_all := lw_g (lw_at lw_m1 77 rfl) rfl
theorem q273 : (Jvm.Cond.soleField "DeedKernel$Things" "of") ∈ lw_all := lw_g (lw_at lw_m1 78 rfl) rfl
theorem q274 : (Jvm.Cond.lays "DeedKernel$Things" "DeedKernel$Things" "first" "[J") ∈ lw_all := lw_g (lw_at lw_m1 79 rfl) rfl
theorem q275 : (Jvm.Cond.soleField "DeedKernel$Things" "first") ∈ lw_all := lw_g (lw_at lw_m1 80 rfl) rfl
theorem q276 : (Jvm.Cond.lays "DeedKernel$Things" "DeedKernel$Things" "second" "[J") ∈ lw_all := lw_g (lw_at lw_m1 81 rfl) rfl
theorem q277 : (Jvm.Cond.soleField "DeedKernel$Things" "second") ∈ lw_all := lw_g (lw_at lw_m1 82 rfl) rfl
theorem q278 : (Jvm.Cond.lays "DeedKernel$Things" "DeedKernel$Things" "read" "[I") ∈ lw_all := lw_g (lw_at lw_m1 83 rfl) rfl
theorem q279 : (Jvm.Cond.soleField "DeedKernel$Things" "read") ∈ lw_all := lw_g (lw_at lw_m1 84 rfl) rfl
theorem q280 : (Jvm.Cond.lays "DeedKernel$Things" "DeedKernel$Things" "writer" "[I") ∈ lw_all := lw_g (lw_at lw_m1 85 rfl) rfl
theorem q281 : (Jvm.Cond.soleField "DeedKernel$Things" "writer") ∈ lw_all := lw_g (lw_at lw_m1 86 rfl) rfl
theorem q282 : (Jvm.Cond.superclass "DeedKernel$Things" "java/lang/Object") ∈ lw_all := lw_g (lw_at lw_m1 87 rfl) rfl
theorem q914 : (Jvm.Cond.instanceMethod ({ cls := "DeedKernel$Things", name := "met", desc := "(IIJJZI)I" } : Jvm.MethodName)) ∈ lw_all := lw_g (lw_at lw_m3 239 rfl) rfl
theorem q915 : (Jvm.Cond.selects "DeedKernel$Things" ({ cls := "DeedKernel$Things", name := "met", desc := "(IIJJZI)I" } : Jvm.MethodName) ({ cls := "DeedKernel$Things", name := "met", desc := "(IIJJZI)I" } : Jvm.MethodName)) ∈ lw_all := lw_g (lw_at lw_m4 0 rfl) rfl
theorem q916 : (Jvm.Cond.code ({ cls := "DeedKernel$Things", name := "met", desc := "(IIJJZI)I" } : Jvm.MethodName) prog_10_method_6_code (14 : Nat) (Option.some Jvm.ClassFile.FieldType.int)) ∈ lw_all := lw_g (lw_at lw_m4 1 rfl) rfl
theorem q917 : (Jvm.Cond.methodLink "DeedKernel$Things" (41 : Nat) ({ cls := "DeedKernel$Things", name := "is", desc := "(IIIJJ)Z" } : Jvm.MethodName)) ∈ lw_all := lw_g (lw_at lw_m4 2 rfl) rfl
theorem q918 : (Jvm.Cond.privateMethod ({ cls := "DeedKernel$Things", name := "is", desc := "(IIIJJ)Z" } : Jvm.MethodName)) ∈ lw_tbl := lw_at lw_m4 3 rfl
theorem q919 : (Jvm.Cond.instanceMethod ({ cls := "DeedKernel$Things", name := "is", desc := "(IIIJJ)Z" } : Jvm.MethodName)) ∈ lw_all := lw_g (lw_at lw_m4 4 rfl) rfl
theorem q920 : (Jvm.Cond.code ({ cls := "DeedKernel$Things", name := "is", desc := "(IIIJJ)Z" } : Jvm.MethodName) prog_10_method_4_code (8 : Nat) (Option.some Jvm.ClassFile.FieldType.boolean)) ∈ lw_all := lw_g (lw_at lw_m4 5 rfl) rfl
theorem q951 : (Jvm.Cond.instanceMethod ({ cls := "DeedKernel$Things", name := "end", desc := "(I)V" } : Jvm.MethodName)) ∈ lw_all := lw_g (lw_at lw_m4 36 rfl) rfl
theorem q952 : (Jvm.Cond.selects "DeedKernel$Things" ({ cls := "DeedKernel$Things", name := "end", desc := "(I)V" } : Jvm.MethodName) ({ cls := "DeedKernel$Things", name := "end", desc := "(I)V" } : Jvm.MethodName)) ∈ lw_all := lw_g (lw_at lw_m4 37 rfl) rfl
theorem q953 : (Jvm.Cond.code ({ cls := "DeedKernel$Things", name := "end", desc := "(I)V" } : Jvm.MethodName) prog_10_method_10_code (3 : Nat) (Option.none : Option Jvm.ClassFile.FieldType)) ∈ lw_all := lw_g (lw_at lw_m4 38 rfl) rfl
theorem q954 : (Jvm.Cond.methodLink "DeedKernel$Things" (52 : Nat) ({ cls := "DeedKernel$Things", name := "sweep", desc := "()V" } : Jvm.MethodName)) ∈ lw_all := lw_g (lw_at lw_m4 39 rfl) rfl
theorem q955 : (Jvm.Cond.instanceMethod ({ cls := "DeedKernel$Things", name := "sweep", desc := "()V" } : Jvm.MethodName)) ∈ lw_all := lw_g (lw_at lw_m4 40 rfl) rfl
theorem q956 : (Jvm.Cond.selects "DeedKernel$Things" ({ cls := "DeedKernel$Things", name := "sweep", desc := "()V" } : Jvm.MethodName) ({ cls := "DeedKernel$Things", name := "sweep", desc := "()V" } : Jvm.MethodName)) ∈ lw_all := lw_g (lw_at lw_m4 41 rfl) rfl
theorem q957 : (Jvm.Cond.code ({ cls := "DeedKernel$Things", name := "sweep", desc := "()V" } : Jvm.MethodName) prog_10_method_7_code (3 : Nat) (Option.none : Option Jvm.ClassFile.FieldType)) ∈ lw_all := lw_g (lw_at lw_m4 42 rfl) rfl
theorem q988 : (Jvm.Cond.instanceMethod ({ cls := "DeedKernel$Things", name := "drop", desc := "(II)V" } : Jvm.MethodName)) ∈ lw_all := lw_g (lw_at lw_m4 73 rfl) rfl
theorem q989 : (Jvm.Cond.selects "DeedKernel$Things" ({ cls := "DeedKernel$Things", name := "drop", desc := "(II)V" } : Jvm.MethodName) ({ cls := "DeedKernel$Things", name := "drop", desc := "(II)V" } : Jvm.MethodName)) ∈ lw_all := lw_g (lw_at lw_m4 74 rfl) rfl
theorem q990 : (Jvm.Cond.code ({ cls := "DeedKernel$Things", name := "drop", desc := "(II)V" } : Jvm.MethodName) prog_10_method_8_code (4 : Nat) (Option.none : Option Jvm.ClassFile.FieldType)) ∈ lw_all := lw_g (lw_at lw_m4 75 rfl) rfl
theorem q1001 : (Jvm.Cond.instanceMethod ({ cls := "DeedKernel$Things", name := "find", desc := "(IIJJ)I" } : Jvm.MethodName)) ∈ lw_all := lw_g (lw_at lw_m4 86 rfl) rfl
theorem q1002 : (Jvm.Cond.selects "DeedKernel$Things" ({ cls := "DeedKernel$Things", name := "find", desc := "(IIJJ)I" } : Jvm.MethodName) ({ cls := "DeedKernel$Things", name := "find", desc := "(IIJJ)I" } : Jvm.MethodName)) ∈ lw_all := lw_g (lw_at lw_m4 87 rfl) rfl
theorem q1003 : (Jvm.Cond.code ({ cls := "DeedKernel$Things", name := "find", desc := "(IIJJ)I" } : Jvm.MethodName) prog_10_method_5_code (8 : Nat) (Option.some Jvm.ClassFile.FieldType.int)) ∈ lw_all := lw_g (lw_at lw_m4 88 rfl) rfl
theorem q1004 : (Jvm.Cond.methodLink "DeedKernel$Things" (45 : Nat) ({ cls := "DeedKernel$Things", name := "twice", desc := "([I)[I" } : Jvm.MethodName)) ∈ lw_all := lw_g (lw_at lw_m4 89 rfl) rfl
theorem q1005 : (Jvm.Cond.privateMethod ({ cls := "DeedKernel$Things", name := "twice", desc := "([I)[I" } : Jvm.MethodName)) ∈ lw_tbl := lw_at lw_m4 90 rfl
theorem q1006 : (Jvm.Cond.instanceMethod ({ cls := "DeedKernel$Things", name := "twice", desc := "([I)[I" } : Jvm.MethodName)) ∈ lw_all := lw_g (lw_at lw_m4 91 rfl) rfl
theorem q1007 : (Jvm.Cond.code ({ cls := "DeedKernel$Things", name := "twice", desc := "([I)[I" } : Jvm.MethodName) prog_10_method_2_code (3 : Nat) (Option.some (Jvm.ClassFile.FieldType.array Jvm.ClassFile.FieldType.int))) ∈ lw_all := lw_g (lw_at lw_m4 92 rfl) rfl
theorem q1008 : (Jvm.Cond.methodLink "DeedKernel$Things" (31 : Nat) ({ cls := "java/lang/System", name := "arraycopy", desc := "(Ljava/lang/Object;ILjava/lang/Object;II)V" } : Jvm.MethodName)) ∈ lw_all := lw_g (lw_at lw_m4 93 rfl) rfl
theorem q1009 : (Jvm.Cond.methodLink "DeedKernel$Things" (49 : Nat) ({ cls := "DeedKernel$Things", name := "twice", desc := "([J)[J" } : Jvm.MethodName)) ∈ lw_all := lw_g (lw_at lw_m4 94 rfl) rfl
theorem q1010 : (Jvm.Cond.privateMethod ({ cls := "DeedKernel$Things", name := "twice", desc := "([J)[J" } : Jvm.MethodName)) ∈ lw_tbl := lw_at lw_m4 95 rfl
theorem q1011 : (Jvm.Cond.instanceMethod ({ cls := "DeedKernel$Things", name := "twice", desc := "([J)[J" } : Jvm.MethodName)) ∈ lw_all := lw_g (lw_at lw_m4 96 rfl) rfl
theorem q1012 : (Jvm.Cond.code ({ cls := "DeedKernel$Things", name := "twice", desc := "([J)[J" } : Jvm.MethodName) prog_10_method_3_code (3 : Nat) (Option.some (Jvm.ClassFile.FieldType.array Jvm.ClassFile.FieldType.long))) ∈ lw_all := lw_g (lw_at lw_m4 97 rfl) rfl
theorem q1270 : (Jvm.Cond.instanceMethod ({ cls := "DeedKernel$Things", name := "hasTree", desc := "(I)Z" } : Jvm.MethodName)) ∈ lw_all := lw_g (lw_at lw_m5 115 rfl) rfl
theorem q1271 : (Jvm.Cond.selects "DeedKernel$Things" ({ cls := "DeedKernel$Things", name := "hasTree", desc := "(I)Z" } : Jvm.MethodName) ({ cls := "DeedKernel$Things", name := "hasTree", desc := "(I)Z" } : Jvm.MethodName)) ∈ lw_all := lw_g (lw_at lw_m5 116 rfl) rfl
theorem q1272 : (Jvm.Cond.code ({ cls := "DeedKernel$Things", name := "hasTree", desc := "(I)Z" } : Jvm.MethodName) prog_10_method_9_code (3 : Nat) (Option.some Jvm.ClassFile.FieldType.boolean)) ∈ lw_all := lw_g (lw_at lw_m5 117 rfl) rfl
theorem in_X3 : ∀ w ∈ wsX30, w ∈ lw_all := lw_in wsX30 [268, 270, 272, 274, 276, 278, 280] (by decide +kernel) (by decide +kernel)
theorem q202 : (Jvm.Cond.initialized "DeedKernel$Refused") ∈ lw_all := lw_g (lw_at lw_m1 7 rfl) rfl
theorem q286 : (Jvm.Cond.instantiable "DeedKernel$Refused" (7 : Nat)) ∈ lw_all := lw_g (lw_at lw_m1 91 rfl) rfl
theorem q287 : (Jvm.Cond.castable "DeedKernel$Refused" "DeedKernel$Refused") ∈ lw_tbl := lw_at lw_m1 92 rfl
theorem q294 : (Jvm.Cond.selects "DeedKernel$Refused" ({ cls := "java/lang/Throwable", name := "fillInStackTrace", desc := "(I)Ljava/lang/Throwable;" } : Jvm.MethodName) ({ cls := "java/lang/Throwable", name := "fillInStackTrace", desc := "(I)Ljava/lang/Throwable;" } : Jvm.MethodName)) ∈ lw_all := lw_g (lw_at lw_m1 99 rfl) rfl
theorem q295 : (Jvm.Cond.selects "DeedKernel$Refused" ({ cls := "java/lang/Throwable", name := "fillInStackTrace", desc := "()Ljava/lang/Throwable;" } : Jvm.MethodName) ({ cls := "java/lang/Throwable", name := "fillInStackTrace", desc := "()Ljava/lang/Throwable;" } : Jvm.MethodName)) ∈ lw_all := lw_g (lw_at lw_m1 100 rfl) rfl
theorem q296 : (Jvm.Cond.lays "DeedKernel$Refused" "java/lang/Throwable" "cause" "Ljava/lang/Throwable;") ∈ lw_all := lw_g (lw_at lw_m1 101 rfl) rfl
theorem q298 : (Jvm.Cond.lays "DeedKernel$Refused" "java/lang/Throwable" "stackTrace" "[Ljava/lang/StackTraceElement;") ∈ lw_all := lw_g (lw_at lw_m1 103 rfl) rfl
theorem q300 : (Jvm.Cond.lays "DeedKernel$Refused" "java/lang/Throwable" "suppressedExceptions" "Ljava/util/List;") ∈ lw_all := lw_g (lw_at lw_m1 105 rfl) rfl
theorem q302 : (Jvm.Cond.lays "DeedKernel$Refused" "java/lang/Throwable" "detailMessage" "Ljava/lang/String;") ∈ lw_all := lw_g (lw_at lw_m1 107 rfl) rfl
theorem q304 : (Jvm.Cond.lays "DeedKernel$Refused" "java/lang/Throwable" "backtrace" "Ljava/lang/Object;") ∈ lw_all := lw_g (lw_at lw_m1 109 rfl) rfl
theorem q329 : (Jvm.Cond.instanceMethod ({ cls := "DeedKernel$Refused", name := "<init>", desc := "()V" } : Jvm.MethodName)) ∈ lw_all := lw_g (lw_at lw_m1 134 rfl) rfl
theorem q330 : (Jvm.Cond.code ({ cls := "DeedKernel$Refused", name := "<init>", desc := "()V" } : Jvm.MethodName) prog_9_method_1_code (1 : Nat) (Option.none : Option Jvm.ClassFile.FieldType)) ∈ lw_all := lw_g (lw_at lw_m1 135 rfl) rfl
theorem q331 : (Jvm.Cond.methodLink "DeedKernel$Refused" (1 : Nat) ({ cls := "java/lang/RuntimeException", name := "<init>", desc := "()V" } : Jvm.MethodName)) ∈ lw_all := lw_g (lw_at lw_m1 136 rfl) rfl
theorem q338 : (Jvm.Cond.fieldLink "DeedKernel$Refused" (7 : Nat) "DeedKernel$Refused" "why" "I") ∈ lw_all := lw_g (lw_at lw_m1 143 rfl) rfl
theorem q345 : (Jvm.Cond.lays "DeedKernel$Refused" "DeedKernel$Refused" "why" "I") ∈ lw_all := lw_g (lw_at lw_m1 150 rfl) rfl
theorem q346 : (Jvm.Cond.soleField "DeedKernel$Refused" "why") ∈ lw_all := lw_g (lw_at lw_m1 151 rfl) rfl
theorem q351 : (Jvm.Cond.lays "DeedKernel$Refused" "java/lang/Throwable" "depth" "I") ∈ lw_all := lw_g (lw_at lw_m1 156 rfl) rfl
theorem q354 : (Jvm.Cond.superclass "DeedKernel$Refused" "java/lang/RuntimeException") ∈ lw_all := lw_g (lw_at lw_m1 159 rfl) rfl
theorem q877 : (Jvm.Cond.instanceMethod ({ cls := "DeedKernel$Refused", name := "by", desc := "(I)LDeedKernel$Refused;" } : Jvm.MethodName)) ∈ lw_all := lw_g (lw_at lw_m3 202 rfl) rfl
theorem q878 : (Jvm.Cond.selects "DeedKernel$Refused" ({ cls := "DeedKernel$Refused", name := "by", desc := "(I)LDeedKernel$Refused;" } : Jvm.MethodName) ({ cls := "DeedKernel$Refused", name := "by", desc := "(I)LDeedKernel$Refused;" } : Jvm.MethodName)) ∈ lw_all := lw_g (lw_at lw_m3 203 rfl) rfl
theorem q879 : (Jvm.Cond.code ({ cls := "DeedKernel$Refused", name := "by", desc := "(I)LDeedKernel$Refused;" } : Jvm.MethodName) prog_9_method_2_code (2 : Nat) (Option.some (Jvm.ClassFile.FieldType.object "DeedKernel$Refused"))) ∈ lw_all := lw_g (lw_at lw_m3 204 rfl) rfl
theorem in_X4 : ∀ w ∈ wsX40, w ∈ lw_all := lw_in wsX40 [296, 298, 300, 302, 304, 351, 345] (by decide +kernel) (by decide +kernel)
theorem q203 : (Jvm.Cond.initialized "DeedKernel$Path") ∈ lw_all := lw_g (lw_at lw_m1 8 rfl) rfl
theorem q356 : (Jvm.Cond.instantiable "DeedKernel$Path" (5 : Nat)) ∈ lw_all := lw_g (lw_at lw_m1 161 rfl) rfl
theorem q358 : (Jvm.Cond.instanceMethod ({ cls := "DeedKernel$Path", name := "<init>", desc := "(LDeedKernel;)V" } : Jvm.MethodName)) ∈ lw_all := lw_g (lw_at lw_m1 163 rfl) rfl
theorem q359 : (Jvm.Cond.code ({ cls := "DeedKernel$Path", name := "<init>", desc := "(LDeedKernel;)V" } : Jvm.MethodName) prog_6_method_1_code (2 : Nat) (Option.none : Option Jvm.ClassFile.FieldType)) ∈ lw_all := lw_g (lw_at lw_m1 164 rfl) rfl
theorem q360 : (Jvm.Cond.methodLink "DeedKernel$Path" (9 : Nat) ({ cls := "java/lang/Object", name := "<init>", desc := "()V" } : Jvm.MethodName)) ∈ lw_all := lw_g (lw_at lw_m1 165 rfl) rfl
theorem q361 : (Jvm.Cond.fieldLink "DeedKernel$Path" (15 : Nat) "DeedKernel$Path" "from" "[I") ∈ lw_all := lw_g (lw_at lw_m1 166 rfl) rfl
theorem q362 : (Jvm.Cond.fieldLink "DeedKernel$Path" (19 : Nat) "DeedKernel$Path" "long_" "[I") ∈ lw_all := lw_g (lw_at lw_m1 167 rfl) rfl
theorem q363 : (Jvm.Cond.fieldLink "DeedKernel$Path" (22 : Nat) "DeedKernel$Path" "steps" "I") ∈ lw_all := lw_g (lw_at lw_m1 168 rfl) rfl
theorem q365 : (Jvm.Cond.fieldLink "DeedKernel$Path" (30 : Nat) "DeedKernel$Path" "fromRoot" "Z") ∈ lw_all := lw_g (lw_at lw_m1 170 rfl) rfl
theorem q366 : (Jvm.Cond.fieldLink "DeedKernel$Path" (3 : Nat) "DeedKernel$Path" "this$0" "LDeedKernel;") ∈ lw_all := lw_g (lw_at lw_m1 171 rfl) rfl
theorem q367 : (Jvm.Cond.laysFinal "DeedKernel$Path" "DeedKernel$Path" "from" "[I") ∈ lw_all := lw_g (lw_at lw_m1 172 rfl) rfl
theorem q368 : (Jvm.Cond.soleField "DeedKernel$Path" "from") ∈ lw_all := lw_g (lw_at lw_m1 173 rfl) rfl
theorem q369 : (Jvm.Cond.laysFinal "DeedKernel$Path" "DeedKernel$Path" "long_" "[I") ∈ lw_all := lw_g (lw_at lw_m1 174 rfl) rfl
theorem q370 : (Jvm.Cond.soleField "DeedKernel$Path" "long_") ∈ lw_all := lw_g (lw_at lw_m1 175 rfl) rfl
theorem q371 : (Jvm.Cond.lays "DeedKernel$Path" "DeedKernel$Path" "steps" "I") ∈ lw_all := lw_g (lw_at lw_m1 176 rfl) rfl
theorem q372 : (Jvm.Cond.soleField "DeedKernel$Path" "steps") ∈ lw_all := lw_g (lw_at lw_m1 177 rfl) rfl
theorem q373 : (Jvm.Cond.lays "DeedKernel$Path" "DeedKernel$Path" "fromRoot" "Z") ∈ lw_all := lw_g (lw_at lw_m1 178 rfl) rfl
theorem q374 : (Jvm.Cond.soleField "DeedKernel$Path" "fromRoot") ∈ lw_all := lw_g (lw_at lw_m1 179 rfl) rfl
theorem q375 : (Jvm.Cond.laysFinal "DeedKernel$Path" "DeedKernel$Path" "this$0" "LDeedKernel;") ∈ lw_all := lw_g (lw_at lw_m1 180 rfl) rfl
theorem q376 : (Jvm.Cond.soleField "DeedKernel$Path" "this$0") ∈ lw_all := lw_g (lw_at lw_m1 181 rfl) rfl
theorem q377 : (Jvm.Cond.superclass "DeedKernel$Path" "java/lang/Object") ∈ lw_all := lw_g (lw_at lw_m1 182 rfl) rfl
theorem q434 : (Jvm.Cond.fieldLink "DeedKernel$Path" (47 : Nat) "DeedKernel$Inode" "number" "I") ∈ lw_all := lw_g (lw_at lw_m1 239 rfl) rfl
theorem q438 : (Jvm.Cond.fieldLink "DeedKernel$Path" (146 : Nat) "DeedKernel$Inode" "kind" "I") ∈ lw_all := lw_g (lw_at lw_m2 3 rfl) rfl
theorem q441 : (Jvm.Cond.fieldLink "DeedKernel$Path" (93 : Nat) "DeedKernel$Inode" "names" "I") ∈ lw_all := lw_g (lw_at lw_m2 6 rfl) rfl
theorem q445 : (Jvm.Cond.fieldLink "DeedKernel$Path" (96 : Nat) "DeedKernel$Inode" "up" "I") ∈ lw_all := lw_g (lw_at lw_m2 10 rfl) rfl
theorem q457 : (Jvm.Cond.fieldLink "DeedKernel$Path" (149 : Nat) "DeedKernel$Inode" "madeBy" "I") ∈ lw_all := lw_g (lw_at lw_m2 22 rfl) rfl
theorem q485 : (Jvm.Cond.fieldLink "DeedKernel$Path" (68 : Nat) "DeedKernel$Inode" "now" "[I") ∈ lw_all := lw_g (lw_at lw_m2 50 rfl) rfl
theorem q621 : (Jvm.Cond.fieldLink "DeedKernel$Path" (75 : Nat) "DeedKernel$Process" "works" "LDeedKernel$Inode;") ∈ lw_all := lw_g (lw_at lw_m2 186 rfl) rfl
theorem q741 : (Jvm.Cond.fieldLinkNest "DeedKernel$Path" (64 : Nat) "DeedKernel" "inodes" "[LDeedKernel$Inode;" "DeedKernel") ∈ lw_tbl := lw_at lw_m3 66 rfl
theorem q747 : (Jvm.Cond.fieldLinkNest "DeedKernel$Path" (105 : Nat) "DeedKernel" "refused" "LDeedKernel$Refused;" "DeedKernel") ∈ lw_tbl := lw_at lw_m3 72 rfl
theorem q748 : (Jvm.Cond.fieldLinkNest "DeedKernel$Path" (26 : Nat) "DeedKernel" "tape" "[B" "DeedKernel") ∈ lw_tbl := lw_at lw_m3 73 rfl
theorem q757 : (Jvm.Cond.fieldLinkNest "DeedKernel$Path" (71 : Nat) "DeedKernel" "me" "LDeedKernel$Process;" "DeedKernel") ∈ lw_tbl := lw_at lw_m3 82 rfl
theorem q760 : (Jvm.Cond.fieldLinkNest "DeedKernel$Path" (119 : Nat) "DeedKernel" "who" "I" "DeedKernel") ∈ lw_tbl := lw_at lw_m3 85 rfl
theorem q833 : (Jvm.Cond.instanceMethod ({ cls := "DeedKernel$Path", name := "read", desc := "(II)Z" } : Jvm.MethodName)) ∈ lw_all := lw_g (lw_at lw_m3 158 rfl) rfl
theorem q834 : (Jvm.Cond.selects "DeedKernel$Path" ({ cls := "DeedKernel$Path", name := "read", desc := "(II)Z" } : Jvm.MethodName) ({ cls := "DeedKernel$Path", name := "read", desc := "(II)Z" } : Jvm.MethodName)) ∈ lw_all := lw_g (lw_at lw_m3 159 rfl) rfl
theorem q835 : (Jvm.Cond.code ({ cls := "DeedKernel$Path", name := "read", desc := "(II)Z" } : Jvm.MethodName) prog_6_method_2_code (5 : Nat) (Option.some Jvm.ClassFile.FieldType.boolean)) ∈ lw_all := lw_g (lw_at lw_m3 160 rfl) rfl
theorem q836 : (Jvm.Cond.methodLink "DeedKernel$Path" (34 : Nat) ({ cls := "DeedKernel$Path", name := "add", desc := "(II)Z" } : Jvm.MethodName)) ∈ lw_all := lw_g (lw_at lw_m3 161 rfl) rfl
theorem q837 : (Jvm.Cond.privateMethod ({ cls := "DeedKernel$Path", name := "add", desc := "(II)Z" } : Jvm.MethodName)) ∈ lw_tbl := lw_at lw_m3 162 rfl
theorem q838 : (Jvm.Cond.instanceMethod ({ cls := "DeedKernel$Path", name := "add", desc := "(II)Z" } : Jvm.MethodName)) ∈ lw_all := lw_g (lw_at lw_m3 163 rfl) rfl
theorem q839 : (Jvm.Cond.code ({ cls := "DeedKernel$Path", name := "add", desc := "(II)Z" } : Jvm.MethodName) prog_6_method_3_code (3 : Nat) (Option.some Jvm.ClassFile.FieldType.boolean)) ∈ lw_all := lw_g (lw_at lw_m3 164 rfl) rfl
theorem q841 : (Jvm.Cond.instanceMethod ({ cls := "DeedKernel$Path", name := "hasLast", desc := "()Z" } : Jvm.MethodName)) ∈ lw_all := lw_g (lw_at lw_m3 166 rfl) rfl
theorem q842 : (Jvm.Cond.selects "DeedKernel$Path" ({ cls := "DeedKernel$Path", name := "hasLast", desc := "()Z" } : Jvm.MethodName) ({ cls := "DeedKernel$Path", name := "hasLast", desc := "()Z" } : Jvm.MethodName)) ∈ lw_all := lw_g (lw_at lw_m3 167 rfl) rfl
theorem q843 : (Jvm.Cond.code ({ cls := "DeedKernel$Path", name := "hasLast", desc := "()Z" } : Jvm.MethodName) prog_6_method_6_code (1 : Nat) (Option.some Jvm.ClassFile.FieldType.boolean)) ∈ lw_all := lw_g (lw_at lw_m3 168 rfl) rfl
theorem q844 : (Jvm.Cond.methodLink "DeedKernel$Path" (41 : Nat) ({ cls := "DeedKernel$Path", name := "isName", desc := "(I)Z" } : Jvm.MethodName)) ∈ lw_all := lw_g (lw_at lw_m3 169 rfl) rfl
theorem q845 : (Jvm.Cond.instanceMethod ({ cls := "DeedKernel$Path", name := "isName", desc := "(I)Z" } : Jvm.MethodName)) ∈ lw_all := lw_g (lw_at lw_m3 170 rfl) rfl
theorem q846 : (Jvm.Cond.selects "DeedKernel$Path" ({ cls := "DeedKernel$Path", name := "isName", desc := "(I)Z" } : Jvm.MethodName) ({ cls := "DeedKernel$Path", name := "isName", desc := "(I)Z" } : Jvm.MethodName)) ∈ lw_all := lw_g (lw_at lw_m3 171 rfl) rfl
theorem q847 : (Jvm.Cond.code ({ cls := "DeedKernel$Path", name := "isName", desc := "(I)Z" } : Jvm.MethodName) prog_6_method_5_code (2 : Nat) (Option.some Jvm.ClassFile.FieldType.boolean)) ∈ lw_all := lw_g (lw_at lw_m3 172 rfl) rfl
theorem q848 : (Jvm.Cond.methodLink "DeedKernel$Path" (38 : Nat) ({ cls := "DeedKernel$Path", name := "isDots", desc := "(II)Z" } : Jvm.MethodName)) ∈ lw_all := lw_g (lw_at lw_m3 173 rfl) rfl
theorem q849 : (Jvm.Cond.instanceMethod ({ cls := "DeedKernel$Path", name := "isDots", desc := "(II)Z" } : Jvm.MethodName)) ∈ lw_all := lw_g (lw_at lw_m3 174 rfl) rfl
theorem q850 : (Jvm.Cond.selects "DeedKernel$Path" ({ cls := "DeedKernel$Path", name := "isDots", desc := "(II)Z" } : Jvm.MethodName) ({ cls := "DeedKernel$Path", name := "isDots", desc := "(II)Z" } : Jvm.MethodName)) ∈ lw_all := lw_g (lw_at lw_m3 175 rfl) rfl
theorem q851 : (Jvm.Cond.code ({ cls := "DeedKernel$Path", name := "isDots", desc := "(II)Z" } : Jvm.MethodName) prog_6_method_4_code (4 : Nat) (Option.some Jvm.ClassFile.FieldType.boolean)) ∈ lw_all := lw_g (lw_at lw_m3 176 rfl) rfl
theorem q885 : (Jvm.Cond.instanceMethod ({ cls := "DeedKernel$Path", name := "find", desc := "()LDeedKernel$Inode;" } : Jvm.MethodName)) ∈ lw_all := lw_g (lw_at lw_m3 210 rfl) rfl
theorem q886 : (Jvm.Cond.selects "DeedKernel$Path" ({ cls := "DeedKernel$Path", name := "find", desc := "()LDeedKernel$Inode;" } : Jvm.MethodName) ({ cls := "DeedKernel$Path", name := "find", desc := "()LDeedKernel$Inode;" } : Jvm.MethodName)) ∈ lw_all := lw_g (lw_at lw_m3 211 rfl) rfl
theorem q887 : (Jvm.Cond.code ({ cls := "DeedKernel$Path", name := "find", desc := "()LDeedKernel$Inode;" } : Jvm.MethodName) prog_6_method_12_code (1 : Nat) (Option.some (Jvm.ClassFile.FieldType.object "DeedKernel$Inode"))) ∈ lw_all := lw_g (lw_at lw_m3 212 rfl) rfl
theorem q888 : (Jvm.Cond.methodLink "DeedKernel$Path" (115 : Nat) ({ cls := "DeedKernel$Path", name := "walk", desc := "(I)LDeedKernel$Inode;" } : Jvm.MethodName)) ∈ lw_all := lw_g (lw_at lw_m3 213 rfl) rfl
theorem q889 : (Jvm.Cond.instanceMethod ({ cls := "DeedKernel$Path", name := "walk", desc := "(I)LDeedKernel$Inode;" } : Jvm.MethodName)) ∈ lw_all := lw_g (lw_at lw_m3 214 rfl) rfl
theorem q890 : (Jvm.Cond.selects "DeedKernel$Path" ({ cls := "DeedKernel$Path", name := "walk", desc := "(I)LDeedKernel$Inode;" } : Jvm.MethodName) ({ cls := "DeedKernel$Path", name := "walk", desc := "(I)LDeedKernel$Inode;" } : Jvm.MethodName)) ∈ lw_all := lw_g (lw_at lw_m3 215 rfl) rfl
theorem q891 : (Jvm.Cond.code ({ cls := "DeedKernel$Path", name := "walk", desc := "(I)LDeedKernel$Inode;" } : Jvm.MethodName) prog_6_method_10_code (4 : Nat) (Option.some (Jvm.ClassFile.FieldType.object "DeedKernel$Inode"))) ∈ lw_all := lw_g (lw_at lw_m3 216 rfl) rfl
theorem q892 : (Jvm.Cond.methodLink "DeedKernel$Path" (81 : Nat) ({ cls := "DeedKernel$Path", name := "step", desc := "(ILDeedKernel$Inode;)LDeedKernel$Inode;" } : Jvm.MethodName)) ∈ lw_all := lw_g (lw_at lw_m3 217 rfl) rfl
theorem q893 : (Jvm.Cond.privateMethod ({ cls := "DeedKernel$Path", name := "step", desc := "(ILDeedKernel$Inode;)LDeedKernel$Inode;" } : Jvm.MethodName)) ∈ lw_tbl := lw_at lw_m3 218 rfl
theorem q894 : (Jvm.Cond.instanceMethod ({ cls := "DeedKernel$Path", name := "step", desc := "(ILDeedKernel$Inode;)LDeedKernel$Inode;" } : Jvm.MethodName)) ∈ lw_all := lw_g (lw_at lw_m3 219 rfl) rfl
theorem q895 : (Jvm.Cond.code ({ cls := "DeedKernel$Path", name := "step", desc := "(ILDeedKernel$Inode;)LDeedKernel$Inode;" } : Jvm.MethodName) prog_6_method_11_code (4 : Nat) (Option.some (Jvm.ClassFile.FieldType.object "DeedKernel$Inode"))) ∈ lw_all := lw_g (lw_at lw_m3 220 rfl) rfl
theorem q896 : (Jvm.Cond.methodLink "DeedKernel$Path" (85 : Nat) ({ cls := "DeedKernel$Path", name := "directory", desc := "(LDeedKernel$Inode;)V" } : Jvm.MethodName)) ∈ lw_all := lw_g (lw_at lw_m3 221 rfl) rfl
theorem q897 : (Jvm.Cond.privateMethod ({ cls := "DeedKernel$Path", name := "directory", desc := "(LDeedKernel$Inode;)V" } : Jvm.MethodName)) ∈ lw_tbl := lw_at lw_m3 222 rfl
theorem q898 : (Jvm.Cond.instanceMethod ({ cls := "DeedKernel$Path", name := "directory", desc := "(LDeedKernel$Inode;)V" } : Jvm.MethodName)) ∈ lw_all := lw_g (lw_at lw_m3 223 rfl) rfl
theorem q899 : (Jvm.Cond.code ({ cls := "DeedKernel$Path", name := "directory", desc := "(LDeedKernel$Inode;)V" } : Jvm.MethodName) prog_6_method_19_code (2 : Nat) (Option.none : Option Jvm.ClassFile.FieldType)) ∈ lw_all := lw_g (lw_at lw_m3 224 rfl) rfl
theorem q900 : (Jvm.Cond.methodLink "DeedKernel$Path" (155 : Nat) ({ cls := "DeedKernel$Inode", name := "isDirectory", desc := "()Z" } : Jvm.MethodName)) ∈ lw_all := lw_g (lw_at lw_m3 225 rfl) rfl
theorem q904 : (Jvm.Cond.methodLink "DeedKernel$Path" (109 : Nat) ({ cls := "DeedKernel$Refused", name := "by", desc := "(I)LDeedKernel$Refused;" } : Jvm.MethodName)) ∈ lw_all := lw_g (lw_at lw_m3 229 rfl) rfl
theorem q905 : (Jvm.Cond.methodLinkNest "DeedKernel$Path" (89 : Nat) ({ cls := "DeedKernel", name := "reads", desc := "(II)V" } : Jvm.MethodName) "DeedKernel") ∈ lw_tbl := lw_at lw_m3 230 rfl
theorem q1021 : (Jvm.Cond.methodLink "DeedKernel$Path" (99 : Nat) ({ cls := "DeedKernel$Path", name := "access", desc := "(ILDeedKernel$Inode;Z)V" } : Jvm.MethodName)) ∈ lw_all := lw_g (lw_at lw_m4 106 rfl) rfl
theorem q1022 : (Jvm.Cond.instanceMethod ({ cls := "DeedKernel$Path", name := "access", desc := "(ILDeedKernel$Inode;Z)V" } : Jvm.MethodName)) ∈ lw_all := lw_g (lw_at lw_m4 107 rfl) rfl
theorem q1023 : (Jvm.Cond.selects "DeedKernel$Path" ({ cls := "DeedKernel$Path", name := "access", desc := "(ILDeedKernel$Inode;Z)V" } : Jvm.MethodName) ({ cls := "DeedKernel$Path", name := "access", desc := "(ILDeedKernel$Inode;Z)V" } : Jvm.MethodName)) ∈ lw_all := lw_g (lw_at lw_m4 108 rfl) rfl
theorem q1024 : (Jvm.Cond.code ({ cls := "DeedKernel$Path", name := "access", desc := "(ILDeedKernel$Inode;Z)V" } : Jvm.MethodName) prog_6_method_8_code (4 : Nat) (Option.none : Option Jvm.ClassFile.FieldType)) ∈ lw_all := lw_g (lw_at lw_m4 109 rfl) rfl
theorem q1025 : (Jvm.Cond.methodLink "DeedKernel$Path" (52 : Nat) ({ cls := "DeedKernel$Path", name := "part", desc := "(III)J" } : Jvm.MethodName)) ∈ lw_all := lw_g (lw_at lw_m4 110 rfl) rfl
theorem q1026 : (Jvm.Cond.privateMethod ({ cls := "DeedKernel$Path", name := "part", desc := "(III)J" } : Jvm.MethodName)) ∈ lw_tbl := lw_at lw_m4 111 rfl
theorem q1027 : (Jvm.Cond.instanceMethod ({ cls := "DeedKernel$Path", name := "part", desc := "(III)J" } : Jvm.MethodName)) ∈ lw_all := lw_g (lw_at lw_m4 112 rfl) rfl
theorem q1028 : (Jvm.Cond.code ({ cls := "DeedKernel$Path", name := "part", desc := "(III)J" } : Jvm.MethodName) prog_6_method_7_code (7 : Nat) (Option.some Jvm.ClassFile.FieldType.long)) ∈ lw_all := lw_g (lw_at lw_m4 113 rfl) rfl
theorem q1029 : (Jvm.Cond.methodLinkNest "DeedKernel$Path" (56 : Nat) ({ cls := "DeedKernel", name := "access", desc := "(IIJJZ)V" } : Jvm.MethodName) "DeedKernel") ∈ lw_tbl := lw_at lw_m4 114 rfl
theorem q1030 : (Jvm.Cond.methodLink "DeedKernel$Path" (102 : Nat) ({ cls := "DeedKernel$Path", name := "entry", desc := "(ILDeedKernel$Inode;)LDeedKernel$Inode;" } : Jvm.MethodName)) ∈ lw_all := lw_g (lw_at lw_m4 115 rfl) rfl
theorem q1031 : (Jvm.Cond.instanceMethod ({ cls := "DeedKernel$Path", name := "entry", desc := "(ILDeedKernel$Inode;)LDeedKernel$Inode;" } : Jvm.MethodName)) ∈ lw_all := lw_g (lw_at lw_m4 116 rfl) rfl
theorem q1032 : (Jvm.Cond.selects "DeedKernel$Path" ({ cls := "DeedKernel$Path", name := "entry", desc := "(ILDeedKernel$Inode;)LDeedKernel$Inode;" } : Jvm.MethodName) ({ cls := "DeedKernel$Path", name := "entry", desc := "(ILDeedKernel$Inode;)LDeedKernel$Inode;" } : Jvm.MethodName)) ∈ lw_all := lw_g (lw_at lw_m4 117 rfl) rfl
theorem q1033 : (Jvm.Cond.code ({ cls := "DeedKernel$Path", name := "entry", desc := "(ILDeedKernel$Inode;)LDeedKernel$Inode;" } : Jvm.MethodName) prog_6_method_9_code (4 : Nat) (Option.some (Jvm.ClassFile.FieldType.object "DeedKernel$Inode"))) ∈ lw_all := lw_g (lw_at lw_m4 118 rfl) rfl
theorem q1034 : (Jvm.Cond.methodLink "DeedKernel$Path" (60 : Nat) ({ cls := "DeedKernel$Inode", name := "slotOf", desc := "([BII)I" } : Jvm.MethodName)) ∈ lw_all := lw_g (lw_at lw_m4 119 rfl) rfl
theorem q1043 : (Jvm.Cond.instanceMethod ({ cls := "DeedKernel$Path", name := "last", desc := "()LDeedKernel$Inode;" } : Jvm.MethodName)) ∈ lw_all := lw_g (lw_at lw_m4 128 rfl) rfl
theorem q1044 : (Jvm.Cond.selects "DeedKernel$Path" ({ cls := "DeedKernel$Path", name := "last", desc := "()LDeedKernel$Inode;" } : Jvm.MethodName) ({ cls := "DeedKernel$Path", name := "last", desc := "()LDeedKernel$Inode;" } : Jvm.MethodName)) ∈ lw_all := lw_g (lw_at lw_m4 129 rfl) rfl
theorem q1045 : (Jvm.Cond.code ({ cls := "DeedKernel$Path", name := "last", desc := "()LDeedKernel$Inode;" } : Jvm.MethodName) prog_6_method_13_code (2 : Nat) (Option.some (Jvm.ClassFile.FieldType.object "DeedKernel$Inode"))) ∈ lw_all := lw_g (lw_at lw_m4 130 rfl) rfl
theorem q1047 : (Jvm.Cond.instanceMethod ({ cls := "DeedKernel$Path", name := "lastEntry", desc := "(LDeedKernel$Inode;)LDeedKernel$Inode;" } : Jvm.MethodName)) ∈ lw_all := lw_g (lw_at lw_m4 132 rfl) rfl
theorem q1048 : (Jvm.Cond.selects "DeedKernel$Path" ({ cls := "DeedKernel$Path", name := "lastEntry", desc := "(LDeedKernel$Inode;)LDeedKernel$Inode;" } : Jvm.MethodName) ({ cls := "DeedKernel$Path", name := "lastEntry", desc := "(LDeedKernel$Inode;)LDeedKernel$Inode;" } : Jvm.MethodName)) ∈ lw_all := lw_g (lw_at lw_m4 133 rfl) rfl
theorem q1049 : (Jvm.Cond.code ({ cls := "DeedKernel$Path", name := "lastEntry", desc := "(LDeedKernel$Inode;)LDeedKernel$Inode;" } : Jvm.MethodName) prog_6_method_14_code (2 : Nat) (Option.some (Jvm.ClassFile.FieldType.object "DeedKernel$Inode"))) ∈ lw_all := lw_g (lw_at lw_m4 134 rfl) rfl
theorem q1051 : (Jvm.Cond.instanceMethod ({ cls := "DeedKernel$Path", name := "make", desc := "(LDeedKernel$Inode;I)LDeedKernel$Inode;" } : Jvm.MethodName)) ∈ lw_all := lw_g (lw_at lw_m4 136 rfl) rfl
theorem q1052 : (Jvm.Cond.selects "DeedKernel$Path" ({ cls := "DeedKernel$Path", name := "make", desc := "(LDeedKernel$Inode;I)LDeedKernel$Inode;" } : Jvm.MethodName) ({ cls := "DeedKernel$Path", name := "make", desc := "(LDeedKernel$Inode;I)LDeedKernel$Inode;" } : Jvm.MethodName)) ∈ lw_all := lw_g (lw_at lw_m4 137 rfl) rfl
theorem q1053 : (Jvm.Cond.code ({ cls := "DeedKernel$Path", name := "make", desc := "(LDeedKernel$Inode;I)LDeedKernel$Inode;" } : Jvm.MethodName) prog_6_method_18_code (6 : Nat) (Option.some (Jvm.ClassFile.FieldType.object "DeedKernel$Inode"))) ∈ lw_all := lw_g (lw_at lw_m4 138 rfl) rfl
theorem q1054 : (Jvm.Cond.methodLink "DeedKernel$Path" (138 : Nat) ({ cls := "DeedKernel$Path", name := "take", desc := "(LDeedKernel$Inode;)I" } : Jvm.MethodName)) ∈ lw_all := lw_g (lw_at lw_m4 139 rfl) rfl
theorem q1055 : (Jvm.Cond.instanceMethod ({ cls := "DeedKernel$Path", name := "take", desc := "(LDeedKernel$Inode;)I" } : Jvm.MethodName)) ∈ lw_all := lw_g (lw_at lw_m4 140 rfl) rfl
theorem q1056 : (Jvm.Cond.selects "DeedKernel$Path" ({ cls := "DeedKernel$Path", name := "take", desc := "(LDeedKernel$Inode;)I" } : Jvm.MethodName) ({ cls := "DeedKernel$Path", name := "take", desc := "(LDeedKernel$Inode;)I" } : Jvm.MethodName)) ∈ lw_all := lw_g (lw_at lw_m4 141 rfl) rfl
theorem q1057 : (Jvm.Cond.code ({ cls := "DeedKernel$Path", name := "take", desc := "(LDeedKernel$Inode;)I" } : Jvm.MethodName) prog_6_method_16_code (2 : Nat) (Option.some Jvm.ClassFile.FieldType.int)) ∈ lw_all := lw_g (lw_at lw_m4 142 rfl) rfl
theorem q1058 : (Jvm.Cond.methodLink "DeedKernel$Path" (122 : Nat) ({ cls := "DeedKernel$Inode", name := "namesFor", desc := "(I)I" } : Jvm.MethodName)) ∈ lw_all := lw_g (lw_at lw_m4 143 rfl) rfl
theorem q1062 : (Jvm.Cond.methodLink "DeedKernel$Path" (126 : Nat) ({ cls := "DeedKernel$Inode", name := "freeSlot", desc := "()I" } : Jvm.MethodName)) ∈ lw_all := lw_g (lw_at lw_m4 147 rfl) rfl
theorem q1066 : (Jvm.Cond.methodLink "DeedKernel$Path" (142 : Nat) ({ cls := "DeedKernel$Inode", name := "isFree", desc := "()Z" } : Jvm.MethodName)) ∈ lw_all := lw_g (lw_at lw_m4 151 rfl) rfl
theorem q1070 : (Jvm.Cond.methodLink "DeedKernel$Path" (152 : Nat) ({ cls := "DeedKernel$Path", name := "put", desc := "(LDeedKernel$Inode;ILDeedKernel$Inode;)V" } : Jvm.MethodName)) ∈ lw_all := lw_g (lw_at lw_m4 155 rfl) rfl
theorem q1071 : (Jvm.Cond.instanceMethod ({ cls := "DeedKernel$Path", name := "put", desc := "(LDeedKernel$Inode;ILDeedKernel$Inode;)V" } : Jvm.MethodName)) ∈ lw_all := lw_g (lw_at lw_m4 156 rfl) rfl
theorem q1072 : (Jvm.Cond.selects "DeedKernel$Path" ({ cls := "DeedKernel$Path", name := "put", desc := "(LDeedKernel$Inode;ILDeedKernel$Inode;)V" } : Jvm.MethodName) ({ cls := "DeedKernel$Path", name := "put", desc := "(LDeedKernel$Inode;ILDeedKernel$Inode;)V" } : Jvm.MethodName)) ∈ lw_all := lw_g (lw_at lw_m4 157 rfl) rfl
theorem q1073 : (Jvm.Cond.code ({ cls := "DeedKernel$Path", name := "put", desc := "(LDeedKernel$Inode;ILDeedKernel$Inode;)V" } : Jvm.MethodName) prog_6_method_17_code (4 : Nat) (Option.none : Option Jvm.ClassFile.FieldType)) ∈ lw_all := lw_g (lw_at lw_m4 158 rfl) rfl
theorem q1074 : (Jvm.Cond.methodLink "DeedKernel$Path" (130 : Nat) ({ cls := "DeedKernel$Inode", name := "name", desc := "(I[BII)V" } : Jvm.MethodName)) ∈ lw_all := lw_g (lw_at lw_m4 159 rfl) rfl
theorem q1078 : (Jvm.Cond.methodLink "DeedKernel$Path" (134 : Nat) ({ cls := "DeedKernel$Inode", name := "put", desc := "(III)V" } : Jvm.MethodName)) ∈ lw_all := lw_g (lw_at lw_m4 163 rfl) rfl
theorem q1173 : (Jvm.Cond.instanceMethod ({ cls := "DeedKernel$Path", name := "lastSlot", desc := "(LDeedKernel$Inode;)I" } : Jvm.MethodName)) ∈ lw_all := lw_g (lw_at lw_m5 18 rfl) rfl
theorem q1174 : (Jvm.Cond.selects "DeedKernel$Path" ({ cls := "DeedKernel$Path", name := "lastSlot", desc := "(LDeedKernel$Inode;)I" } : Jvm.MethodName) ({ cls := "DeedKernel$Path", name := "lastSlot", desc := "(LDeedKernel$Inode;)I" } : Jvm.MethodName)) ∈ lw_all := lw_g (lw_at lw_m5 19 rfl) rfl
theorem q1175 : (Jvm.Cond.code ({ cls := "DeedKernel$Path", name := "lastSlot", desc := "(LDeedKernel$Inode;)I" } : Jvm.MethodName) prog_6_method_15_code (2 : Nat) (Option.some Jvm.ClassFile.FieldType.int)) ∈ lw_all := lw_g (lw_at lw_m5 20 rfl) rfl
theorem in_X5 : ∀ w ∈ wsX50, w ∈ lw_all := lw_in wsX50 [367, 369, 371, 373, 375] (by decide +kernel) (by decide +kernel)
theorem q204 : (Jvm.Cond.initialized "DeedKernel$Disk") ∈ lw_all := lw_g (lw_at lw_m1 9 rfl) rfl
theorem q379 : (Jvm.Cond.instantiable "DeedKernel$Disk" (9 : Nat)) ∈ lw_all := lw_g (lw_at lw_m1 184 rfl) rfl
theorem q384 : (Jvm.Cond.instanceMethod ({ cls := "DeedKernel$Disk", name := "<init>", desc := "(III)V" } : Jvm.MethodName)) ∈ lw_all := lw_g (lw_at lw_m1 189 rfl) rfl
theorem q385 : (Jvm.Cond.code ({ cls := "DeedKernel$Disk", name := "<init>", desc := "(III)V" } : Jvm.MethodName) prog_2_method_1_code (4 : Nat) (Option.none : Option Jvm.ClassFile.FieldType)) ∈ lw_all := lw_g (lw_at lw_m1 190 rfl) rfl
theorem q386 : (Jvm.Cond.methodLink "DeedKernel$Disk" (3 : Nat) ({ cls := "java/lang/Object", name := "<init>", desc := "()V" } : Jvm.MethodName)) ∈ lw_all := lw_g (lw_at lw_m1 191 rfl) rfl
theorem q387 : (Jvm.Cond.methodLink "DeedKernel$Disk" (18 : Nat) ({ cls := "java/lang/Math", name := "min", desc := "(II)I" } : Jvm.MethodName)) ∈ lw_all := lw_g (lw_at lw_m1 192 rfl) rfl
theorem q390 : (Jvm.Cond.fieldLink "DeedKernel$Disk" (9 : Nat) "DeedKernel$Disk" "blocks" "I") ∈ lw_all := lw_g (lw_at lw_m1 195 rfl) rfl
theorem q392 : (Jvm.Cond.fieldLink "DeedKernel$Disk" (15 : Nat) "DeedKernel$Disk" "inodes" "I") ∈ lw_all := lw_g (lw_at lw_m1 197 rfl) rfl
theorem q394 : (Jvm.Cond.fieldLink "DeedKernel$Disk" (24 : Nat) "DeedKernel$Disk" "log" "I") ∈ lw_all := lw_g (lw_at lw_m1 199 rfl) rfl
theorem q396 : (Jvm.Cond.fieldLink "DeedKernel$Disk" (27 : Nat) "DeedKernel$Disk" "bytes" "[B") ∈ lw_all := lw_g (lw_at lw_m1 201 rfl) rfl
theorem q398 : (Jvm.Cond.fieldLink "DeedKernel$Disk" (35 : Nat) "DeedKernel$Disk" "writes" "I") ∈ lw_all := lw_g (lw_at lw_m1 203 rfl) rfl
theorem q400 : (Jvm.Cond.fieldLink "DeedKernel$Disk" (38 : Nat) "DeedKernel$Disk" "goesAt" "I") ∈ lw_all := lw_g (lw_at lw_m1 205 rfl) rfl
theorem q402 : (Jvm.Cond.fieldLink "DeedKernel$Disk" (41 : Nat) "DeedKernel$Disk" "torn" "I") ∈ lw_all := lw_g (lw_at lw_m1 207 rfl) rfl
theorem q404 : (Jvm.Cond.fieldLink "DeedKernel$Disk" (50 : Nat) "DeedKernel$Disk" "isDown" "Z") ∈ lw_all := lw_g (lw_at lw_m1 209 rfl) rfl
theorem q407 : (Jvm.Cond.laysFinal "DeedKernel$Disk" "DeedKernel$Disk" "blocks" "I") ∈ lw_all := lw_g (lw_at lw_m1 212 rfl) rfl
theorem q408 : (Jvm.Cond.soleField "DeedKernel$Disk" "blocks") ∈ lw_all := lw_g (lw_at lw_m1 213 rfl) rfl
theorem q409 : (Jvm.Cond.laysFinal "DeedKernel$Disk" "DeedKernel$Disk" "inodes" "I") ∈ lw_all := lw_g (lw_at lw_m1 214 rfl) rfl
theorem q410 : (Jvm.Cond.soleField "DeedKernel$Disk" "inodes") ∈ lw_all := lw_g (lw_at lw_m1 215 rfl) rfl
theorem q411 : (Jvm.Cond.laysFinal "DeedKernel$Disk" "DeedKernel$Disk" "log" "I") ∈ lw_all := lw_g (lw_at lw_m1 216 rfl) rfl
theorem q412 : (Jvm.Cond.soleField "DeedKernel$Disk" "log") ∈ lw_all := lw_g (lw_at lw_m1 217 rfl) rfl
theorem q413 : (Jvm.Cond.laysFinal "DeedKernel$Disk" "DeedKernel$Disk" "bytes" "[B") ∈ lw_all := lw_g (lw_at lw_m1 218 rfl) rfl
theorem q414 : (Jvm.Cond.soleField "DeedKernel$Disk" "bytes") ∈ lw_all := lw_g (lw_at lw_m1 219 rfl) rfl
theorem q415 : (Jvm.Cond.lays "DeedKernel$Disk" "DeedKernel$Disk" "writes" "I") ∈ lw_all := lw_g (lw_at lw_m1 220 rfl) rfl
theorem q416 : (Jvm.Cond.soleField "DeedKernel$Disk" "writes") ∈ lw_all := lw_g (lw_at lw_m1 221 rfl) rfl
theorem q417 : (Jvm.Cond.lays "DeedKernel$Disk" "DeedKernel$Disk" "goesAt" "I") ∈ lw_all := lw_g (lw_at lw_m1 222 rfl) rfl
theorem q418 : (Jvm.Cond.soleField "DeedKernel$Disk" "goesAt") ∈ lw_all := lw_g (lw_at lw_m1 223 rfl) rfl
theorem q419 : (Jvm.Cond.lays "DeedKernel$Disk" "DeedKernel$Disk" "torn" "I") ∈ lw_all := lw_g (lw_at lw_m1 224 rfl) rfl
theorem q420 : (Jvm.Cond.soleField "DeedKernel$Disk" "torn") ∈ lw_all := lw_g (lw_at lw_m1 225 rfl) rfl
theorem q421 : (Jvm.Cond.lays "DeedKernel$Disk" "DeedKernel$Disk" "isDown" "Z") ∈ lw_all := lw_g (lw_at lw_m1 226 rfl) rfl
theorem q422 : (Jvm.Cond.soleField "DeedKernel$Disk" "isDown") ∈ lw_all := lw_g (lw_at lw_m1 227 rfl) rfl
theorem q423 : (Jvm.Cond.lays "DeedKernel$Disk" "DeedKernel$Disk" "sequence" "I") ∈ lw_all := lw_g (lw_at lw_m1 228 rfl) rfl
theorem q424 : (Jvm.Cond.soleField "DeedKernel$Disk" "sequence") ∈ lw_all := lw_g (lw_at lw_m1 229 rfl) rfl
theorem q425 : (Jvm.Cond.superclass "DeedKernel$Disk" "java/lang/Object") ∈ lw_all := lw_g (lw_at lw_m1 230 rfl) rfl
theorem q689 : (Jvm.Cond.instanceMethod ({ cls := "DeedKernel$Disk", name := "begin", desc := "([B)V" } : Jvm.MethodName)) ∈ lw_all := lw_g (lw_at lw_m3 14 rfl) rfl
theorem q690 : (Jvm.Cond.selects "DeedKernel$Disk" ({ cls := "DeedKernel$Disk", name := "begin", desc := "([B)V" } : Jvm.MethodName) ({ cls := "DeedKernel$Disk", name := "begin", desc := "([B)V" } : Jvm.MethodName)) ∈ lw_all := lw_g (lw_at lw_m3 15 rfl) rfl
theorem q691 : (Jvm.Cond.code ({ cls := "DeedKernel$Disk", name := "begin", desc := "([B)V" } : Jvm.MethodName) prog_2_method_9_code (2 : Nat) (Option.none : Option Jvm.ClassFile.FieldType)) ∈ lw_all := lw_g (lw_at lw_m3 16 rfl) rfl
theorem q692 : (Jvm.Cond.methodLink "DeedKernel$Disk" (62 : Nat) ({ cls := "DeedKernel$Disk", name := "put", desc := "([BII)V" } : Jvm.MethodName)) ∈ lw_all := lw_g (lw_at lw_m3 17 rfl) rfl
theorem q693 : (Jvm.Cond.instanceMethod ({ cls := "DeedKernel$Disk", name := "put", desc := "([BII)V" } : Jvm.MethodName)) ∈ lw_all := lw_g (lw_at lw_m3 18 rfl) rfl
theorem q694 : (Jvm.Cond.selects "DeedKernel$Disk" ({ cls := "DeedKernel$Disk", name := "put", desc := "([BII)V" } : Jvm.MethodName) ({ cls := "DeedKernel$Disk", name := "put", desc := "([BII)V" } : Jvm.MethodName)) ∈ lw_all := lw_g (lw_at lw_m3 19 rfl) rfl
theorem q695 : (Jvm.Cond.code ({ cls := "DeedKernel$Disk", name := "put", desc := "([BII)V" } : Jvm.MethodName) prog_2_method_7_code (4 : Nat) (Option.none : Option Jvm.ClassFile.FieldType)) ∈ lw_all := lw_g (lw_at lw_m3 20 rfl) rfl
theorem q701 : (Jvm.Cond.instanceMethod ({ cls := "DeedKernel$Disk", name := "sum", desc := "(J[BII)J" } : Jvm.MethodName)) ∈ lw_all := lw_g (lw_at lw_m3 26 rfl) rfl
theorem q702 : (Jvm.Cond.selects "DeedKernel$Disk" ({ cls := "DeedKernel$Disk", name := "sum", desc := "(J[BII)J" } : Jvm.MethodName) ({ cls := "DeedKernel$Disk", name := "sum", desc := "(J[BII)J" } : Jvm.MethodName)) ∈ lw_all := lw_g (lw_at lw_m3 27 rfl) rfl
theorem q703 : (Jvm.Cond.code ({ cls := "DeedKernel$Disk", name := "sum", desc := "(J[BII)J" } : Jvm.MethodName) prog_2_method_8_code (9 : Nat) (Option.some Jvm.ClassFile.FieldType.long)) ∈ lw_all := lw_g (lw_at lw_m3 28 rfl) rfl
theorem q704 : (Jvm.Cond.constantLong "DeedKernel$Disk" (54 : Nat) (1099511628211 : Int64)) ∈ lw_all := lw_g (lw_at lw_m3 29 rfl) rfl
theorem q705 : (Jvm.Cond.methodLink "DeedKernel$Disk" (56 : Nat) ({ cls := "java/lang/Long", name := "rotateLeft", desc := "(JI)J" } : Jvm.MethodName)) ∈ lw_all := lw_g (lw_at lw_m3 30 rfl) rfl
theorem q713 : (Jvm.Cond.instanceMethod ({ cls := "DeedKernel$Disk", name := "head", desc := "()I" } : Jvm.MethodName)) ∈ lw_all := lw_g (lw_at lw_m3 38 rfl) rfl
theorem q714 : (Jvm.Cond.selects "DeedKernel$Disk" ({ cls := "DeedKernel$Disk", name := "head", desc := "()I" } : Jvm.MethodName) ({ cls := "DeedKernel$Disk", name := "head", desc := "()I" } : Jvm.MethodName)) ∈ lw_all := lw_g (lw_at lw_m3 39 rfl) rfl
theorem q715 : (Jvm.Cond.code ({ cls := "DeedKernel$Disk", name := "head", desc := "()I" } : Jvm.MethodName) prog_2_method_2_code (1 : Nat) (Option.some Jvm.ClassFile.FieldType.int)) ∈ lw_all := lw_g (lw_at lw_m3 40 rfl) rfl
theorem q1278 : (Jvm.Cond.instanceMethod ({ cls := "DeedKernel$Disk", name := "isData", desc := "(I)Z" } : Jvm.MethodName)) ∈ lw_all := lw_g (lw_at lw_m5 123 rfl) rfl
theorem q1279 : (Jvm.Cond.selects "DeedKernel$Disk" ({ cls := "DeedKernel$Disk", name := "isData", desc := "(I)Z" } : Jvm.MethodName) ({ cls := "DeedKernel$Disk", name := "isData", desc := "(I)Z" } : Jvm.MethodName)) ∈ lw_all := lw_g (lw_at lw_m5 124 rfl) rfl
theorem q1280 : (Jvm.Cond.code ({ cls := "DeedKernel$Disk", name := "isData", desc := "(I)Z" } : Jvm.MethodName) prog_2_method_4_code (2 : Nat) (Option.some Jvm.ClassFile.FieldType.boolean)) ∈ lw_all := lw_g (lw_at lw_m5 125 rfl) rfl
theorem q1281 : (Jvm.Cond.methodLink "DeedKernel$Disk" (31 : Nat) ({ cls := "DeedKernel$Disk", name := "firstData", desc := "()I" } : Jvm.MethodName)) ∈ lw_all := lw_g (lw_at lw_m5 126 rfl) rfl
theorem q1282 : (Jvm.Cond.instanceMethod ({ cls := "DeedKernel$Disk", name := "firstData", desc := "()I" } : Jvm.MethodName)) ∈ lw_all := lw_g (lw_at lw_m5 127 rfl) rfl
theorem q1283 : (Jvm.Cond.selects "DeedKernel$Disk" ({ cls := "DeedKernel$Disk", name := "firstData", desc := "()I" } : Jvm.MethodName) ({ cls := "DeedKernel$Disk", name := "firstData", desc := "()I" } : Jvm.MethodName)) ∈ lw_all := lw_g (lw_at lw_m5 128 rfl) rfl
theorem q1284 : (Jvm.Cond.code ({ cls := "DeedKernel$Disk", name := "firstData", desc := "()I" } : Jvm.MethodName) prog_2_method_3_code (1 : Nat) (Option.some Jvm.ClassFile.FieldType.int)) ∈ lw_all := lw_g (lw_at lw_m5 129 rfl) rfl
theorem q1328 : (Jvm.Cond.instanceMethod ({ cls := "DeedKernel$Disk", name := "write", desc := "(I[BI)Z" } : Jvm.MethodName)) ∈ lw_all := lw_g (lw_at lw_m5 173 rfl) rfl
theorem q1329 : (Jvm.Cond.selects "DeedKernel$Disk" ({ cls := "DeedKernel$Disk", name := "write", desc := "(I[BI)Z" } : Jvm.MethodName) ({ cls := "DeedKernel$Disk", name := "write", desc := "(I[BI)Z" } : Jvm.MethodName)) ∈ lw_all := lw_g (lw_at lw_m5 174 rfl) rfl
theorem q1330 : (Jvm.Cond.code ({ cls := "DeedKernel$Disk", name := "write", desc := "(I[BI)Z" } : Jvm.MethodName) prog_2_method_5_code (5 : Nat) (Option.some Jvm.ClassFile.FieldType.boolean)) ∈ lw_all := lw_g (lw_at lw_m5 175 rfl) rfl
theorem q1331 : (Jvm.Cond.methodLink "DeedKernel$Disk" (44 : Nat) ({ cls := "java/lang/System", name := "arraycopy", desc := "(Ljava/lang/Object;ILjava/lang/Object;II)V" } : Jvm.MethodName)) ∈ lw_all := lw_g (lw_at lw_m5 176 rfl) rfl
theorem q1502 : (Jvm.Cond.instanceMethod ({ cls := "DeedKernel$Disk", name := "number", desc := "([BI)I" } : Jvm.MethodName)) ∈ lw_all := lw_g (lw_at lw_m6 107 rfl) rfl
theorem q1503 : (Jvm.Cond.selects "DeedKernel$Disk" ({ cls := "DeedKernel$Disk", name := "number", desc := "([BI)I" } : Jvm.MethodName) ({ cls := "DeedKernel$Disk", name := "number", desc := "([BI)I" } : Jvm.MethodName)) ∈ lw_all := lw_g (lw_at lw_m6 108 rfl) rfl
theorem q1504 : (Jvm.Cond.code ({ cls := "DeedKernel$Disk", name := "number", desc := "([BI)I" } : Jvm.MethodName) prog_2_method_6_code (3 : Nat) (Option.some Jvm.ClassFile.FieldType.int)) ∈ lw_all := lw_g (lw_at lw_m6 109 rfl) rfl
theorem in_X6 : ∀ w ∈ wsX60, w ∈ lw_all := lw_in wsX60 [407, 409, 411, 413, 415, 417, 419, 421, 423] (by decide +kernel) (by decide +kernel)
theorem q206 : (Jvm.Cond.initialized "DeedKernel$Inode") ∈ lw_all := lw_g (lw_at lw_m1 11 rfl) rfl
theorem q428 : (Jvm.Cond.instantiable "DeedKernel$Inode" (30 : Nat)) ∈ lw_all := lw_g (lw_at lw_m1 233 rfl) rfl
theorem q430 : (Jvm.Cond.instanceMethod ({ cls := "DeedKernel$Inode", name := "<init>", desc := "(I)V" } : Jvm.MethodName)) ∈ lw_all := lw_g (lw_at lw_m1 235 rfl) rfl
theorem q431 : (Jvm.Cond.code ({ cls := "DeedKernel$Inode", name := "<init>", desc := "(I)V" } : Jvm.MethodName) prog_4_method_1_code (3 : Nat) (Option.none : Option Jvm.ClassFile.FieldType)) ∈ lw_all := lw_g (lw_at lw_m1 236 rfl) rfl
theorem q432 : (Jvm.Cond.methodLink "DeedKernel$Inode" (3 : Nat) ({ cls := "java/lang/Object", name := "<init>", desc := "()V" } : Jvm.MethodName)) ∈ lw_all := lw_g (lw_at lw_m1 237 rfl) rfl
theorem q433 : (Jvm.Cond.fieldLink "DeedKernel$Inode" (47 : Nat) "DeedKernel$Inode" "number" "I") ∈ lw_all := lw_g (lw_at lw_m1 238 rfl) rfl
theorem q436 : (Jvm.Cond.fieldLink "DeedKernel$Inode" (50 : Nat) "DeedKernel$Inode" "kind" "I") ∈ lw_all := lw_g (lw_at lw_m2 1 rfl) rfl
theorem q439 : (Jvm.Cond.fieldLink "DeedKernel$Inode" (56 : Nat) "DeedKernel$Inode" "names" "I") ∈ lw_all := lw_g (lw_at lw_m2 4 rfl) rfl
theorem q442 : (Jvm.Cond.fieldLink "DeedKernel$Inode" (62 : Nat) "DeedKernel$Inode" "length" "I") ∈ lw_all := lw_g (lw_at lw_m2 7 rfl) rfl
theorem q444 : (Jvm.Cond.fieldLink "DeedKernel$Inode" (65 : Nat) "DeedKernel$Inode" "up" "I") ∈ lw_all := lw_g (lw_at lw_m2 9 rfl) rfl
theorem q447 : (Jvm.Cond.fieldLink "DeedKernel$Inode" (9 : Nat) "DeedKernel$Inode" "data" "[B") ∈ lw_all := lw_g (lw_at lw_m2 12 rfl) rfl
theorem q449 : (Jvm.Cond.fieldLink "DeedKernel$Inode" (59 : Nat) "DeedKernel$Inode" "hadNames" "I") ∈ lw_all := lw_g (lw_at lw_m2 14 rfl) rfl
theorem q453 : (Jvm.Cond.fieldLink "DeedKernel$Inode" (15 : Nat) "DeedKernel$Inode" "had" "[B") ∈ lw_all := lw_g (lw_at lw_m2 18 rfl) rfl
theorem q455 : (Jvm.Cond.fieldLink "DeedKernel$Inode" (18 : Nat) "DeedKernel$Inode" "madeBy" "I") ∈ lw_all := lw_g (lw_at lw_m2 20 rfl) rfl
theorem q458 : (Jvm.Cond.fieldLink "DeedKernel$Inode" (22 : Nat) "DeedKernel$Inode" "namesBy" "I") ∈ lw_all := lw_g (lw_at lw_m2 23 rfl) rfl
theorem q460 : (Jvm.Cond.fieldLink "DeedKernel$Inode" (25 : Nat) "DeedKernel$Inode" "dataBy" "I") ∈ lw_all := lw_g (lw_at lw_m2 25 rfl) rfl
theorem q462 : (Jvm.Cond.fieldLink "DeedKernel$Inode" (53 : Nat) "DeedKernel$Inode" "keptKind" "I") ∈ lw_all := lw_g (lw_at lw_m2 27 rfl) rfl
theorem q464 : (Jvm.Cond.fieldLink "DeedKernel$Inode" (68 : Nat) "DeedKernel$Inode" "keptNames" "I") ∈ lw_all := lw_g (lw_at lw_m2 29 rfl) rfl
theorem q466 : (Jvm.Cond.fieldLink "DeedKernel$Inode" (71 : Nat) "DeedKernel$Inode" "keptLength" "I") ∈ lw_all := lw_g (lw_at lw_m2 31 rfl) rfl
theorem q468 : (Jvm.Cond.fieldLink "DeedKernel$Inode" (28 : Nat) "DeedKernel$Inode" "blocks" "[I") ∈ lw_all := lw_g (lw_at lw_m2 33 rfl) rfl
theorem q470 : (Jvm.Cond.fieldLink "DeedKernel$Inode" (74 : Nat) "DeedKernel$Inode" "many" "I") ∈ lw_all := lw_g (lw_at lw_m2 35 rfl) rfl
theorem q472 : (Jvm.Cond.fieldLink "DeedKernel$Inode" (77 : Nat) "DeedKernel$Inode" "indirect" "I") ∈ lw_all := lw_g (lw_at lw_m2 37 rfl) rfl
theorem q478 : (Jvm.Cond.fieldLink "DeedKernel$Inode" (32 : Nat) "DeedKernel$Inode" "nextBlocks" "[I") ∈ lw_all := lw_g (lw_at lw_m2 43 rfl) rfl
theorem q482 : (Jvm.Cond.fieldLink "DeedKernel$Inode" (35 : Nat) "DeedKernel$Inode" "kept" "[I") ∈ lw_all := lw_g (lw_at lw_m2 47 rfl) rfl
theorem q484 : (Jvm.Cond.fieldLink "DeedKernel$Inode" (38 : Nat) "DeedKernel$Inode" "now" "[I") ∈ lw_all := lw_g (lw_at lw_m2 49 rfl) rfl
theorem q487 : (Jvm.Cond.fieldLink "DeedKernel$Inode" (41 : Nat) "DeedKernel$Inode" "by" "[I") ∈ lw_all := lw_g (lw_at lw_m2 52 rfl) rfl
theorem q488 : (Jvm.Cond.fieldLink "DeedKernel$Inode" (44 : Nat) "DeedKernel$Inode" "letters" "[B") ∈ lw_all := lw_g (lw_at lw_m2 53 rfl) rfl
theorem q490 : (Jvm.Cond.laysFinal "DeedKernel$Inode" "DeedKernel$Inode" "number" "I") ∈ lw_all := lw_g (lw_at lw_m2 55 rfl) rfl
theorem q491 : (Jvm.Cond.soleField "DeedKernel$Inode" "number") ∈ lw_all := lw_g (lw_at lw_m2 56 rfl) rfl
theorem q492 : (Jvm.Cond.lays "DeedKernel$Inode" "DeedKernel$Inode" "kind" "I") ∈ lw_all := lw_g (lw_at lw_m2 57 rfl) rfl
theorem q493 : (Jvm.Cond.soleField "DeedKernel$Inode" "kind") ∈ lw_all := lw_g (lw_at lw_m2 58 rfl) rfl
theorem q494 : (Jvm.Cond.lays "DeedKernel$Inode" "DeedKernel$Inode" "names" "I") ∈ lw_all := lw_g (lw_at lw_m2 59 rfl) rfl
theorem q495 : (Jvm.Cond.soleField "DeedKernel$Inode" "names") ∈ lw_all := lw_g (lw_at lw_m2 60 rfl) rfl
theorem q496 : (Jvm.Cond.lays "DeedKernel$Inode" "DeedKernel$Inode" "length" "I") ∈ lw_all := lw_g (lw_at lw_m2 61 rfl) rfl
theorem q497 : (Jvm.Cond.soleField "DeedKernel$Inode" "length") ∈ lw_all := lw_g (lw_at lw_m2 62 rfl) rfl
theorem q498 : (Jvm.Cond.lays "DeedKernel$Inode" "DeedKernel$Inode" "up" "I") ∈ lw_all := lw_g (lw_at lw_m2 63 rfl) rfl
theorem q499 : (Jvm.Cond.soleField "DeedKernel$Inode" "up") ∈ lw_all := lw_g (lw_at lw_m2 64 rfl) rfl
theorem q500 : (Jvm.Cond.laysFinal "DeedKernel$Inode" "DeedKernel$Inode" "data" "[B") ∈ lw_all := lw_g (lw_at lw_m2 65 rfl) rfl
theorem q501 : (Jvm.Cond.soleField "DeedKernel$Inode" "data") ∈ lw_all := lw_g (lw_at lw_m2 66 rfl) rfl
theorem q502 : (Jvm.Cond.lays "DeedKernel$Inode" "DeedKernel$Inode" "hadNames" "I") ∈ lw_all := lw_g (lw_at lw_m2 67 rfl) rfl
theorem q503 : (Jvm.Cond.soleField "DeedKernel$Inode" "hadNames") ∈ lw_all := lw_g (lw_at lw_m2 68 rfl) rfl
theorem q504 : (Jvm.Cond.lays "DeedKernel$Inode" "DeedKernel$Inode" "hadLength" "I") ∈ lw_all := lw_g (lw_at lw_m2 69 rfl) rfl
theorem q505 : (Jvm.Cond.soleField "DeedKernel$Inode" "hadLength") ∈ lw_all := lw_g (lw_at lw_m2 70 rfl) rfl
theorem q506 : (Jvm.Cond.lays "DeedKernel$Inode" "DeedKernel$Inode" "hadUp" "I") ∈ lw_all := lw_g (lw_at lw_m2 71 rfl) rfl
theorem q507 : (Jvm.Cond.soleField "DeedKernel$Inode" "hadUp") ∈ lw_all := lw_g (lw_at lw_m2 72 rfl) rfl
theorem q508 : (Jvm.Cond.laysFinal "DeedKernel$Inode" "DeedKernel$Inode" "had" "[B") ∈ lw_all := lw_g (lw_at lw_m2 73 rfl) rfl
theorem q509 : (Jvm.Cond.soleField "DeedKernel$Inode" "had") ∈ lw_all := lw_g (lw_at lw_m2 74 rfl) rfl
theorem q510 : (Jvm.Cond.lays "DeedKernel$Inode" "DeedKernel$Inode" "madeBy" "I") ∈ lw_all := lw_g (lw_at lw_m2 75 rfl) rfl
theorem q511 : (Jvm.Cond.soleField "DeedKernel$Inode" "madeBy") ∈ lw_all := lw_g (lw_at lw_m2 76 rfl) rfl
theorem q512 : (Jvm.Cond.lays "DeedKernel$Inode" "DeedKernel$Inode" "namesBy" "I") ∈ lw_all := lw_g (lw_at lw_m2 77 rfl) rfl
theorem q513 : (Jvm.Cond.soleField "DeedKernel$Inode" "namesBy") ∈ lw_all := lw_g (lw_at lw_m2 78 rfl) rfl
theorem q514 : (Jvm.Cond.lays "DeedKernel$Inode" "DeedKernel$Inode" "dataBy" "I") ∈ lw_all := lw_g (lw_at lw_m2 79 rfl) rfl
theorem q515 : (Jvm.Cond.soleField "DeedKernel$Inode" "dataBy") ∈ lw_all := lw_g (lw_at lw_m2 80 rfl) rfl
theorem q516 : (Jvm.Cond.lays "DeedKernel$Inode" "DeedKernel$Inode" "keptKind" "I") ∈ lw_all := lw_g (lw_at lw_m2 81 rfl) rfl
theorem q517 : (Jvm.Cond.soleField "DeedKernel$Inode" "keptKind") ∈ lw_all := lw_g (lw_at lw_m2 82 rfl) rfl
theorem q518 : (Jvm.Cond.lays "DeedKernel$Inode" "DeedKernel$Inode" "keptNames" "I") ∈ lw_all := lw_g (lw_at lw_m2 83 rfl) rfl
theorem q519 : (Jvm.Cond.soleField "DeedKernel$Inode" "keptNames") ∈ lw_all := lw_g (lw_at lw_m2 84 rfl) rfl
theorem q520 : (Jvm.Cond.lays "DeedKernel$Inode" "DeedKernel$Inode" "keptLength" "I") ∈ lw_all := lw_g (lw_at lw_m2 85 rfl) rfl
theorem q521 : (Jvm.Cond.soleField "DeedKernel$Inode" "keptLength") ∈ lw_all := lw_g (lw_at lw_m2 86 rfl) rfl
theorem q522 : (Jvm.Cond.laysFinal "DeedKernel$Inode" "DeedKernel$Inode" "blocks" "[I") ∈ lw_all := lw_g (lw_at lw_m2 87 rfl) rfl
theorem q523 : (Jvm.Cond.soleField "DeedKernel$Inode" "blocks") ∈ lw_all := lw_g (lw_at lw_m2 88 rfl) rfl
theorem q524 : (Jvm.Cond.lays "DeedKernel$Inode" "DeedKernel$Inode" "many" "I") ∈ lw_all := lw_g (lw_at lw_m2 89 rfl) rfl
theorem q525 : (Jvm.Cond.soleField "DeedKernel$Inode" "many") ∈ lw_all := lw_g (lw_at lw_m2 90 rfl) rfl
theorem q526 : (Jvm.Cond.lays "DeedKernel$Inode" "DeedKernel$Inode" "indirect" "I") ∈ lw_all := lw_g (lw_at lw_m2 91 rfl) rfl
theorem q527 : (Jvm.Cond.soleField "DeedKernel$Inode" "indirect") ∈ lw_all := lw_g (lw_at lw_m2 92 rfl) rfl
theorem q528 : (Jvm.Cond.lays "DeedKernel$Inode" "DeedKernel$Inode" "isTouched" "Z") ∈ lw_all := lw_g (lw_at lw_m2 93 rfl) rfl
theorem q529 : (Jvm.Cond.soleField "DeedKernel$Inode" "isTouched") ∈ lw_all := lw_g (lw_at lw_m2 94 rfl) rfl
theorem q530 : (Jvm.Cond.lays "DeedKernel$Inode" "DeedKernel$Inode" "nextKind" "I") ∈ lw_all := lw_g (lw_at lw_m2 95 rfl) rfl
theorem q531 : (Jvm.Cond.soleField "DeedKernel$Inode" "nextKind") ∈ lw_all := lw_g (lw_at lw_m2 96 rfl) rfl
theorem q532 : (Jvm.Cond.lays "DeedKernel$Inode" "DeedKernel$Inode" "nextNames" "I") ∈ lw_all := lw_g (lw_at lw_m2 97 rfl) rfl
theorem q533 : (Jvm.Cond.soleField "DeedKernel$Inode" "nextNames") ∈ lw_all := lw_g (lw_at lw_m2 98 rfl) rfl
theorem q534 : (Jvm.Cond.lays "DeedKernel$Inode" "DeedKernel$Inode" "nextLength" "I") ∈ lw_all := lw_g (lw_at lw_m2 99 rfl) rfl
theorem q535 : (Jvm.Cond.soleField "DeedKernel$Inode" "nextLength") ∈ lw_all := lw_g (lw_at lw_m2 100 rfl) rfl
theorem q536 : (Jvm.Cond.laysFinal "DeedKernel$Inode" "DeedKernel$Inode" "nextBlocks" "[I") ∈ lw_all := lw_g (lw_at lw_m2 101 rfl) rfl
theorem q537 : (Jvm.Cond.soleField "DeedKernel$Inode" "nextBlocks") ∈ lw_all := lw_g (lw_at lw_m2 102 rfl) rfl
theorem q538 : (Jvm.Cond.lays "DeedKernel$Inode" "DeedKernel$Inode" "nextMany" "I") ∈ lw_all := lw_g (lw_at lw_m2 103 rfl) rfl
theorem q539 : (Jvm.Cond.soleField "DeedKernel$Inode" "nextMany") ∈ lw_all := lw_g (lw_at lw_m2 104 rfl) rfl
theorem q540 : (Jvm.Cond.lays "DeedKernel$Inode" "DeedKernel$Inode" "nextIndirect" "I") ∈ lw_all := lw_g (lw_at lw_m2 105 rfl) rfl
theorem q541 : (Jvm.Cond.soleField "DeedKernel$Inode" "nextIndirect") ∈ lw_all := lw_g (lw_at lw_m2 106 rfl) rfl
theorem q542 : (Jvm.Cond.laysFinal "DeedKernel$Inode" "DeedKernel$Inode" "kept" "[I") ∈ lw_all := lw_g (lw_at lw_m2 107 rfl) rfl
theorem q543 : (Jvm.Cond.soleField "DeedKernel$Inode" "kept") ∈ lw_all := lw_g (lw_at lw_m2 108 rfl) rfl
theorem q544 : (Jvm.Cond.laysFinal "DeedKernel$Inode" "DeedKernel$Inode" "now" "[I") ∈ lw_all := lw_g (lw_at lw_m2 109 rfl) rfl
theorem q545 : (Jvm.Cond.soleField "DeedKernel$Inode" "now") ∈ lw_all := lw_g (lw_at lw_m2 110 rfl) rfl
theorem q546 : (Jvm.Cond.laysFinal "DeedKernel$Inode" "DeedKernel$Inode" "by" "[I") ∈ lw_all := lw_g (lw_at lw_m2 111 rfl) rfl
theorem q547 : (Jvm.Cond.soleField "DeedKernel$Inode" "by") ∈ lw_all := lw_g (lw_at lw_m2 112 rfl) rfl
theorem q548 : (Jvm.Cond.laysFinal "DeedKernel$Inode" "DeedKernel$Inode" "letters" "[B") ∈ lw_all := lw_g (lw_at lw_m2 113 rfl) rfl
theorem q549 : (Jvm.Cond.soleField "DeedKernel$Inode" "letters") ∈ lw_all := lw_g (lw_at lw_m2 114 rfl) rfl
theorem q550 : (Jvm.Cond.superclass "DeedKernel$Inode" "java/lang/Object") ∈ lw_all := lw_g (lw_at lw_m2 115 rfl) rfl
theorem q724 : (Jvm.Cond.instanceMethod ({ cls := "DeedKernel$Inode", name := "clear", desc := "()V" } : Jvm.MethodName)) ∈ lw_all := lw_g (lw_at lw_m3 49 rfl) rfl
theorem q725 : (Jvm.Cond.selects "DeedKernel$Inode" ({ cls := "DeedKernel$Inode", name := "clear", desc := "()V" } : Jvm.MethodName) ({ cls := "DeedKernel$Inode", name := "clear", desc := "()V" } : Jvm.MethodName)) ∈ lw_all := lw_g (lw_at lw_m3 50 rfl) rfl
theorem q726 : (Jvm.Cond.code ({ cls := "DeedKernel$Inode", name := "clear", desc := "()V" } : Jvm.MethodName) prog_4_method_5_code (2 : Nat) (Option.none : Option Jvm.ClassFile.FieldType)) ∈ lw_all := lw_g (lw_at lw_m3 51 rfl) rfl
theorem q901 : (Jvm.Cond.instanceMethod ({ cls := "DeedKernel$Inode", name := "isDirectory", desc := "()Z" } : Jvm.MethodName)) ∈ lw_all := lw_g (lw_at lw_m3 226 rfl) rfl
theorem q902 : (Jvm.Cond.selects "DeedKernel$Inode" ({ cls := "DeedKernel$Inode", name := "isDirectory", desc := "()Z" } : Jvm.MethodName) ({ cls := "DeedKernel$Inode", name := "isDirectory", desc := "()Z" } : Jvm.MethodName)) ∈ lw_all := lw_g (lw_at lw_m3 227 rfl) rfl
theorem q903 : (Jvm.Cond.code ({ cls := "DeedKernel$Inode", name := "isDirectory", desc := "()Z" } : Jvm.MethodName) prog_4_method_3_code (1 : Nat) (Option.some Jvm.ClassFile.FieldType.boolean)) ∈ lw_all := lw_g (lw_at lw_m3 228 rfl) rfl
theorem q947 : (Jvm.Cond.instanceMethod ({ cls := "DeedKernel$Inode", name := "undoSlots", desc := "(I)V" } : Jvm.MethodName)) ∈ lw_all := lw_g (lw_at lw_m4 32 rfl) rfl
theorem q948 : (Jvm.Cond.selects "DeedKernel$Inode" ({ cls := "DeedKernel$Inode", name := "undoSlots", desc := "(I)V" } : Jvm.MethodName) ({ cls := "DeedKernel$Inode", name := "undoSlots", desc := "(I)V" } : Jvm.MethodName)) ∈ lw_all := lw_g (lw_at lw_m4 33 rfl) rfl
theorem q949 : (Jvm.Cond.code ({ cls := "DeedKernel$Inode", name := "undoSlots", desc := "(I)V" } : Jvm.MethodName) prog_4_method_14_code (3 : Nat) (Option.none : Option Jvm.ClassFile.FieldType)) ∈ lw_all := lw_g (lw_at lw_m4 34 rfl) rfl
theorem q1035 : (Jvm.Cond.instanceMethod ({ cls := "DeedKernel$Inode", name := "slotOf", desc := "([BII)I" } : Jvm.MethodName)) ∈ lw_all := lw_g (lw_at lw_m4 120 rfl) rfl
theorem q1036 : (Jvm.Cond.selects "DeedKernel$Inode" ({ cls := "DeedKernel$Inode", name := "slotOf", desc := "([BII)I" } : Jvm.MethodName) ({ cls := "DeedKernel$Inode", name := "slotOf", desc := "([BII)I" } : Jvm.MethodName)) ∈ lw_all := lw_g (lw_at lw_m4 121 rfl) rfl
theorem q1037 : (Jvm.Cond.code ({ cls := "DeedKernel$Inode", name := "slotOf", desc := "([BII)I" } : Jvm.MethodName) prog_4_method_7_code (5 : Nat) (Option.some Jvm.ClassFile.FieldType.int)) ∈ lw_all := lw_g (lw_at lw_m4 122 rfl) rfl
theorem q1038 : (Jvm.Cond.methodLink "DeedKernel$Inode" (80 : Nat) ({ cls := "DeedKernel$Inode", name := "hasName", desc := "(I[BII)Z" } : Jvm.MethodName)) ∈ lw_all := lw_g (lw_at lw_m4 123 rfl) rfl
theorem q1039 : (Jvm.Cond.instanceMethod ({ cls := "DeedKernel$Inode", name := "hasName", desc := "(I[BII)Z" } : Jvm.MethodName)) ∈ lw_all := lw_g (lw_at lw_m4 124 rfl) rfl
theorem q1040 : (Jvm.Cond.selects "DeedKernel$Inode" ({ cls := "DeedKernel$Inode", name := "hasName", desc := "(I[BII)Z" } : Jvm.MethodName) ({ cls := "DeedKernel$Inode", name := "hasName", desc := "(I[BII)Z" } : Jvm.MethodName)) ∈ lw_all := lw_g (lw_at lw_m4 125 rfl) rfl
theorem q1041 : (Jvm.Cond.code ({ cls := "DeedKernel$Inode", name := "hasName", desc := "(I[BII)Z" } : Jvm.MethodName) prog_4_method_6_code (6 : Nat) (Option.some Jvm.ClassFile.FieldType.boolean)) ∈ lw_all := lw_g (lw_at lw_m4 126 rfl) rfl
theorem q1059 : (Jvm.Cond.instanceMethod ({ cls := "DeedKernel$Inode", name := "namesFor", desc := "(I)I" } : Jvm.MethodName)) ∈ lw_all := lw_g (lw_at lw_m4 144 rfl) rfl
theorem q1060 : (Jvm.Cond.selects "DeedKernel$Inode" ({ cls := "DeedKernel$Inode", name := "namesFor", desc := "(I)I" } : Jvm.MethodName) ({ cls := "DeedKernel$Inode", name := "namesFor", desc := "(I)I" } : Jvm.MethodName)) ∈ lw_all := lw_g (lw_at lw_m4 145 rfl) rfl
theorem q1061 : (Jvm.Cond.code ({ cls := "DeedKernel$Inode", name := "namesFor", desc := "(I)I" } : Jvm.MethodName) prog_4_method_4_code (2 : Nat) (Option.some Jvm.ClassFile.FieldType.int)) ∈ lw_all := lw_g (lw_at lw_m4 146 rfl) rfl
theorem q1063 : (Jvm.Cond.instanceMethod ({ cls := "DeedKernel$Inode", name := "freeSlot", desc := "()I" } : Jvm.MethodName)) ∈ lw_all := lw_g (lw_at lw_m4 148 rfl) rfl
theorem q1064 : (Jvm.Cond.selects "DeedKernel$Inode" ({ cls := "DeedKernel$Inode", name := "freeSlot", desc := "()I" } : Jvm.MethodName) ({ cls := "DeedKernel$Inode", name := "freeSlot", desc := "()I" } : Jvm.MethodName)) ∈ lw_all := lw_g (lw_at lw_m4 149 rfl) rfl
theorem q1065 : (Jvm.Cond.code ({ cls := "DeedKernel$Inode", name := "freeSlot", desc := "()I" } : Jvm.MethodName) prog_4_method_8_code (2 : Nat) (Option.some Jvm.ClassFile.FieldType.int)) ∈ lw_all := lw_g (lw_at lw_m4 150 rfl) rfl
theorem q1067 : (Jvm.Cond.instanceMethod ({ cls := "DeedKernel$Inode", name := "isFree", desc := "()Z" } : Jvm.MethodName)) ∈ lw_all := lw_g (lw_at lw_m4 152 rfl) rfl
theorem q1068 : (Jvm.Cond.selects "DeedKernel$Inode" ({ cls := "DeedKernel$Inode", name := "isFree", desc := "()Z" } : Jvm.MethodName) ({ cls := "DeedKernel$Inode", name := "isFree", desc := "()Z" } : Jvm.MethodName)) ∈ lw_all := lw_g (lw_at lw_m4 153 rfl) rfl
theorem q1069 : (Jvm.Cond.code ({ cls := "DeedKernel$Inode", name := "isFree", desc := "()Z" } : Jvm.MethodName) prog_4_method_2_code (1 : Nat) (Option.some Jvm.ClassFile.FieldType.boolean)) ∈ lw_all := lw_g (lw_at lw_m4 154 rfl) rfl
theorem q1075 : (Jvm.Cond.instanceMethod ({ cls := "DeedKernel$Inode", name := "name", desc := "(I[BII)V" } : Jvm.MethodName)) ∈ lw_all := lw_g (lw_at lw_m4 160 rfl) rfl
theorem q1076 : (Jvm.Cond.selects "DeedKernel$Inode" ({ cls := "DeedKernel$Inode", name := "name", desc := "(I[BII)V" } : Jvm.MethodName) ({ cls := "DeedKernel$Inode", name := "name", desc := "(I[BII)V" } : Jvm.MethodName)) ∈ lw_all := lw_g (lw_at lw_m4 161 rfl) rfl
theorem q1077 : (Jvm.Cond.code ({ cls := "DeedKernel$Inode", name := "name", desc := "(I[BII)V" } : Jvm.MethodName) prog_4_method_10_code (6 : Nat) (Option.none : Option Jvm.ClassFile.FieldType)) ∈ lw_all := lw_g (lw_at lw_m4 162 rfl) rfl
theorem q1079 : (Jvm.Cond.instanceMethod ({ cls := "DeedKernel$Inode", name := "put", desc := "(III)V" } : Jvm.MethodName)) ∈ lw_all := lw_g (lw_at lw_m4 164 rfl) rfl
theorem q1080 : (Jvm.Cond.selects "DeedKernel$Inode" ({ cls := "DeedKernel$Inode", name := "put", desc := "(III)V" } : Jvm.MethodName) ({ cls := "DeedKernel$Inode", name := "put", desc := "(III)V" } : Jvm.MethodName)) ∈ lw_all := lw_g (lw_at lw_m4 165 rfl) rfl
theorem q1081 : (Jvm.Cond.code ({ cls := "DeedKernel$Inode", name := "put", desc := "(III)V" } : Jvm.MethodName) prog_4_method_9_code (4 : Nat) (Option.none : Option Jvm.ClassFile.FieldType)) ∈ lw_all := lw_g (lw_at lw_m4 166 rfl) rfl
theorem q1186 : (Jvm.Cond.instanceMethod ({ cls := "DeedKernel$Inode", name := "entries", desc := "()I" } : Jvm.MethodName)) ∈ lw_all := lw_g (lw_at lw_m5 31 rfl) rfl
theorem q1187 : (Jvm.Cond.selects "DeedKernel$Inode" ({ cls := "DeedKernel$Inode", name := "entries", desc := "()I" } : Jvm.MethodName) ({ cls := "DeedKernel$Inode", name := "entries", desc := "()I" } : Jvm.MethodName)) ∈ lw_all := lw_g (lw_at lw_m5 32 rfl) rfl
theorem q1188 : (Jvm.Cond.code ({ cls := "DeedKernel$Inode", name := "entries", desc := "()I" } : Jvm.MethodName) prog_4_method_11_code (3 : Nat) (Option.some Jvm.ClassFile.FieldType.int)) ∈ lw_all := lw_g (lw_at lw_m5 33 rfl) rfl
theorem q1290 : (Jvm.Cond.instanceMethod ({ cls := "DeedKernel$Inode", name := "hasSlotsOf", desc := "(I)Z" } : Jvm.MethodName)) ∈ lw_all := lw_g (lw_at lw_m5 135 rfl) rfl
theorem q1291 : (Jvm.Cond.selects "DeedKernel$Inode" ({ cls := "DeedKernel$Inode", name := "hasSlotsOf", desc := "(I)Z" } : Jvm.MethodName) ({ cls := "DeedKernel$Inode", name := "hasSlotsOf", desc := "(I)Z" } : Jvm.MethodName)) ∈ lw_all := lw_g (lw_at lw_m5 136 rfl) rfl
theorem q1292 : (Jvm.Cond.code ({ cls := "DeedKernel$Inode", name := "hasSlotsOf", desc := "(I)Z" } : Jvm.MethodName) prog_4_method_13_code (3 : Nat) (Option.some Jvm.ClassFile.FieldType.boolean)) ∈ lw_all := lw_g (lw_at lw_m5 137 rfl) rfl
theorem q1294 : (Jvm.Cond.instanceMethod ({ cls := "DeedKernel$Inode", name := "keptBy", desc := "(II)I" } : Jvm.MethodName)) ∈ lw_all := lw_g (lw_at lw_m5 139 rfl) rfl
theorem q1295 : (Jvm.Cond.selects "DeedKernel$Inode" ({ cls := "DeedKernel$Inode", name := "keptBy", desc := "(II)I" } : Jvm.MethodName) ({ cls := "DeedKernel$Inode", name := "keptBy", desc := "(II)I" } : Jvm.MethodName)) ∈ lw_all := lw_g (lw_at lw_m5 140 rfl) rfl
theorem q1296 : (Jvm.Cond.code ({ cls := "DeedKernel$Inode", name := "keptBy", desc := "(II)I" } : Jvm.MethodName) prog_4_method_12_code (3 : Nat) (Option.some Jvm.ClassFile.FieldType.int)) ∈ lw_all := lw_g (lw_at lw_m5 141 rfl) rfl
theorem q1341 : (Jvm.Cond.instanceMethod ({ cls := "DeedKernel$Inode", name := "keepSlots", desc := "(I)V" } : Jvm.MethodName)) ∈ lw_all := lw_g (lw_at lw_m5 186 rfl) rfl
theorem q1342 : (Jvm.Cond.selects "DeedKernel$Inode" ({ cls := "DeedKernel$Inode", name := "keepSlots", desc := "(I)V" } : Jvm.MethodName) ({ cls := "DeedKernel$Inode", name := "keepSlots", desc := "(I)V" } : Jvm.MethodName)) ∈ lw_all := lw_g (lw_at lw_m5 187 rfl) rfl
theorem q1343 : (Jvm.Cond.code ({ cls := "DeedKernel$Inode", name := "keepSlots", desc := "(I)V" } : Jvm.MethodName) prog_4_method_15_code (3 : Nat) (Option.none : Option Jvm.ClassFile.FieldType)) ∈ lw_all := lw_g (lw_at lw_m5 188 rfl) rfl
theorem in_X7 : ∀ w ∈ wsX70, w ∈ lw_all := lw_in wsX70 [490, 492, 494, 496, 498, 500, 502, 504, 506, 508, 510, 512, 514, 516, 518, 520, 522, 524, 526, 528, 530, 532, 534, 536, 538, 540, 542, 544, 546, 548] (by decide +kernel) (by decide +kernel)
theorem q207 : (Jvm.Cond.initialized "DeedKernel$Opening") ∈ lw_all := lw_g (lw_at lw_m1 12 rfl) rfl
theorem q552 : (Jvm.Cond.instantiable "DeedKernel$Opening" (8 : Nat)) ∈ lw_all := lw_g (lw_at lw_m2 117 rfl) rfl
theorem q554 : (Jvm.Cond.instanceMethod ({ cls := "DeedKernel$Opening", name := "<init>", desc := "()V" } : Jvm.MethodName)) ∈ lw_all := lw_g (lw_at lw_m2 119 rfl) rfl
theorem q555 : (Jvm.Cond.code ({ cls := "DeedKernel$Opening", name := "<init>", desc := "()V" } : Jvm.MethodName) prog_5_method_1_code (1 : Nat) (Option.none : Option Jvm.ClassFile.FieldType)) ∈ lw_all := lw_g (lw_at lw_m2 120 rfl) rfl
theorem q556 : (Jvm.Cond.methodLink "DeedKernel$Opening" (1 : Nat) ({ cls := "java/lang/Object", name := "<init>", desc := "()V" } : Jvm.MethodName)) ∈ lw_all := lw_g (lw_at lw_m2 121 rfl) rfl
theorem q557 : (Jvm.Cond.fieldLink "DeedKernel$Opening" (7 : Nat) "DeedKernel$Opening" "of" "LDeedKernel$Inode;") ∈ lw_all := lw_g (lw_at lw_m2 122 rfl) rfl
theorem q566 : (Jvm.Cond.lays "DeedKernel$Opening" "DeedKernel$Opening" "of" "LDeedKernel$Inode;") ∈ lw_all := lw_g (lw_at lw_m2 131 rfl) rfl
theorem q567 : (Jvm.Cond.soleField "DeedKernel$Opening" "of") ∈ lw_all := lw_g (lw_at lw_m2 132 rfl) rfl
theorem q568 : (Jvm.Cond.lays "DeedKernel$Opening" "DeedKernel$Opening" "pipe" "I") ∈ lw_all := lw_g (lw_at lw_m2 133 rfl) rfl
theorem q569 : (Jvm.Cond.soleField "DeedKernel$Opening" "pipe") ∈ lw_all := lw_g (lw_at lw_m2 134 rfl) rfl
theorem q570 : (Jvm.Cond.lays "DeedKernel$Opening" "DeedKernel$Opening" "side" "I") ∈ lw_all := lw_g (lw_at lw_m2 135 rfl) rfl
theorem q571 : (Jvm.Cond.soleField "DeedKernel$Opening" "side") ∈ lw_all := lw_g (lw_at lw_m2 136 rfl) rfl
theorem q572 : (Jvm.Cond.lays "DeedKernel$Opening" "DeedKernel$Opening" "reads" "Z") ∈ lw_all := lw_g (lw_at lw_m2 137 rfl) rfl
theorem q573 : (Jvm.Cond.soleField "DeedKernel$Opening" "reads") ∈ lw_all := lw_g (lw_at lw_m2 138 rfl) rfl
theorem q574 : (Jvm.Cond.lays "DeedKernel$Opening" "DeedKernel$Opening" "writes" "Z") ∈ lw_all := lw_g (lw_at lw_m2 139 rfl) rfl
theorem q575 : (Jvm.Cond.soleField "DeedKernel$Opening" "writes") ∈ lw_all := lw_g (lw_at lw_m2 140 rfl) rfl
theorem q576 : (Jvm.Cond.lays "DeedKernel$Opening" "DeedKernel$Opening" "appends" "Z") ∈ lw_all := lw_g (lw_at lw_m2 141 rfl) rfl
theorem q577 : (Jvm.Cond.soleField "DeedKernel$Opening" "appends") ∈ lw_all := lw_g (lw_at lw_m2 142 rfl) rfl
theorem q578 : (Jvm.Cond.lays "DeedKernel$Opening" "DeedKernel$Opening" "place" "I") ∈ lw_all := lw_g (lw_at lw_m2 143 rfl) rfl
theorem q579 : (Jvm.Cond.soleField "DeedKernel$Opening" "place") ∈ lw_all := lw_g (lw_at lw_m2 144 rfl) rfl
theorem q580 : (Jvm.Cond.lays "DeedKernel$Opening" "DeedKernel$Opening" "hadPlace" "I") ∈ lw_all := lw_g (lw_at lw_m2 145 rfl) rfl
theorem q581 : (Jvm.Cond.soleField "DeedKernel$Opening" "hadPlace") ∈ lw_all := lw_g (lw_at lw_m2 146 rfl) rfl
theorem q582 : (Jvm.Cond.superclass "DeedKernel$Opening" "java/lang/Object") ∈ lw_all := lw_g (lw_at lw_m2 147 rfl) rfl
theorem q996 : (Jvm.Cond.instanceMethod ({ cls := "DeedKernel$Opening", name := "isPipe", desc := "()Z" } : Jvm.MethodName)) ∈ lw_all := lw_g (lw_at lw_m4 81 rfl) rfl
theorem q997 : (Jvm.Cond.selects "DeedKernel$Opening" ({ cls := "DeedKernel$Opening", name := "isPipe", desc := "()Z" } : Jvm.MethodName) ({ cls := "DeedKernel$Opening", name := "isPipe", desc := "()Z" } : Jvm.MethodName)) ∈ lw_all := lw_g (lw_at lw_m4 82 rfl) rfl
theorem q998 : (Jvm.Cond.code ({ cls := "DeedKernel$Opening", name := "isPipe", desc := "()Z" } : Jvm.MethodName) prog_5_method_2_code (1 : Nat) (Option.some Jvm.ClassFile.FieldType.boolean)) ∈ lw_all := lw_g (lw_at lw_m4 83 rfl) rfl
theorem in_X8 : ∀ w ∈ wsX80, w ∈ lw_all := lw_in wsX80 [566, 568, 570, 572, 574, 576, 578, 580] (by decide +kernel) (by decide +kernel)
theorem q208 : (Jvm.Cond.initialized "DeedKernel$Pipe") ∈ lw_all := lw_g (lw_at lw_m1 13 rfl) rfl
theorem q583 : (Jvm.Cond.instantiable "DeedKernel$Pipe" (4 : Nat)) ∈ lw_all := lw_g (lw_at lw_m2 148 rfl) rfl
theorem q585 : (Jvm.Cond.instanceMethod ({ cls := "DeedKernel$Pipe", name := "<init>", desc := "()V" } : Jvm.MethodName)) ∈ lw_all := lw_g (lw_at lw_m2 150 rfl) rfl
theorem q586 : (Jvm.Cond.code ({ cls := "DeedKernel$Pipe", name := "<init>", desc := "()V" } : Jvm.MethodName) prog_7_method_1_code (1 : Nat) (Option.none : Option Jvm.ClassFile.FieldType)) ∈ lw_all := lw_g (lw_at lw_m2 151 rfl) rfl
theorem q587 : (Jvm.Cond.methodLink "DeedKernel$Pipe" (3 : Nat) ({ cls := "java/lang/Object", name := "<init>", desc := "()V" } : Jvm.MethodName)) ∈ lw_all := lw_g (lw_at lw_m2 152 rfl) rfl
theorem q588 : (Jvm.Cond.fieldLink "DeedKernel$Pipe" (9 : Nat) "DeedKernel$Pipe" "bytes" "[B") ∈ lw_all := lw_g (lw_at lw_m2 153 rfl) rfl
theorem q590 : (Jvm.Cond.fieldLink "DeedKernel$Pipe" (18 : Nat) "DeedKernel$Pipe" "size" "I") ∈ lw_all := lw_g (lw_at lw_m2 155 rfl) rfl
theorem q592 : (Jvm.Cond.fieldLink "DeedKernel$Pipe" (15 : Nat) "DeedKernel$Pipe" "had" "[B") ∈ lw_all := lw_g (lw_at lw_m2 157 rfl) rfl
theorem q593 : (Jvm.Cond.fieldLink "DeedKernel$Pipe" (28 : Nat) "DeedKernel$Pipe" "hadSize" "I") ∈ lw_all := lw_g (lw_at lw_m2 158 rfl) rfl
theorem q594 : (Jvm.Cond.laysFinal "DeedKernel$Pipe" "DeedKernel$Pipe" "bytes" "[B") ∈ lw_all := lw_g (lw_at lw_m2 159 rfl) rfl
theorem q595 : (Jvm.Cond.soleField "DeedKernel$Pipe" "bytes") ∈ lw_all := lw_g (lw_at lw_m2 160 rfl) rfl
theorem q596 : (Jvm.Cond.lays "DeedKernel$Pipe" "DeedKernel$Pipe" "size" "I") ∈ lw_all := lw_g (lw_at lw_m2 161 rfl) rfl
theorem q597 : (Jvm.Cond.soleField "DeedKernel$Pipe" "size") ∈ lw_all := lw_g (lw_at lw_m2 162 rfl) rfl
theorem q598 : (Jvm.Cond.laysFinal "DeedKernel$Pipe" "DeedKernel$Pipe" "had" "[B") ∈ lw_all := lw_g (lw_at lw_m2 163 rfl) rfl
theorem q599 : (Jvm.Cond.soleField "DeedKernel$Pipe" "had") ∈ lw_all := lw_g (lw_at lw_m2 164 rfl) rfl
theorem q600 : (Jvm.Cond.lays "DeedKernel$Pipe" "DeedKernel$Pipe" "hadSize" "I") ∈ lw_all := lw_g (lw_at lw_m2 165 rfl) rfl
theorem q601 : (Jvm.Cond.soleField "DeedKernel$Pipe" "hadSize") ∈ lw_all := lw_g (lw_at lw_m2 166 rfl) rfl
theorem q602 : (Jvm.Cond.superclass "DeedKernel$Pipe" "java/lang/Object") ∈ lw_all := lw_g (lw_at lw_m2 167 rfl) rfl
theorem q942 : (Jvm.Cond.instanceMethod ({ cls := "DeedKernel$Pipe", name := "undo", desc := "()V" } : Jvm.MethodName)) ∈ lw_all := lw_g (lw_at lw_m4 27 rfl) rfl
theorem q943 : (Jvm.Cond.selects "DeedKernel$Pipe" ({ cls := "DeedKernel$Pipe", name := "undo", desc := "()V" } : Jvm.MethodName) ({ cls := "DeedKernel$Pipe", name := "undo", desc := "()V" } : Jvm.MethodName)) ∈ lw_all := lw_g (lw_at lw_m4 28 rfl) rfl
theorem q944 : (Jvm.Cond.code ({ cls := "DeedKernel$Pipe", name := "undo", desc := "()V" } : Jvm.MethodName) prog_7_method_3_code (1 : Nat) (Option.none : Option Jvm.ClassFile.FieldType)) ∈ lw_all := lw_g (lw_at lw_m4 29 rfl) rfl
theorem q945 : (Jvm.Cond.methodLink "DeedKernel$Pipe" (22 : Nat) ({ cls := "java/lang/System", name := "arraycopy", desc := "(Ljava/lang/Object;ILjava/lang/Object;II)V" } : Jvm.MethodName)) ∈ lw_all := lw_g (lw_at lw_m4 30 rfl) rfl
theorem q1018 : (Jvm.Cond.instanceMethod ({ cls := "DeedKernel$Pipe", name := "save", desc := "()V" } : Jvm.MethodName)) ∈ lw_all := lw_g (lw_at lw_m4 103 rfl) rfl
theorem q1019 : (Jvm.Cond.selects "DeedKernel$Pipe" ({ cls := "DeedKernel$Pipe", name := "save", desc := "()V" } : Jvm.MethodName) ({ cls := "DeedKernel$Pipe", name := "save", desc := "()V" } : Jvm.MethodName)) ∈ lw_all := lw_g (lw_at lw_m4 104 rfl) rfl
theorem q1020 : (Jvm.Cond.code ({ cls := "DeedKernel$Pipe", name := "save", desc := "()V" } : Jvm.MethodName) prog_7_method_2_code (1 : Nat) (Option.none : Option Jvm.ClassFile.FieldType)) ∈ lw_all := lw_g (lw_at lw_m4 105 rfl) rfl
theorem q1132 : (Jvm.Cond.instanceMethod ({ cls := "DeedKernel$Pipe", name := "take", desc := "(I)V" } : Jvm.MethodName)) ∈ lw_all := lw_g (lw_at lw_m4 217 rfl) rfl
theorem q1133 : (Jvm.Cond.selects "DeedKernel$Pipe" ({ cls := "DeedKernel$Pipe", name := "take", desc := "(I)V" } : Jvm.MethodName) ({ cls := "DeedKernel$Pipe", name := "take", desc := "(I)V" } : Jvm.MethodName)) ∈ lw_all := lw_g (lw_at lw_m4 218 rfl) rfl
theorem q1134 : (Jvm.Cond.code ({ cls := "DeedKernel$Pipe", name := "take", desc := "(I)V" } : Jvm.MethodName) prog_7_method_4_code (3 : Nat) (Option.none : Option Jvm.ClassFile.FieldType)) ∈ lw_all := lw_g (lw_at lw_m4 219 rfl) rfl
theorem in_X9 : ∀ w ∈ wsX90, w ∈ lw_all := lw_in wsX90 [594, 596, 598, 600] (by decide +kernel) (by decide +kernel)
theorem q209 : (Jvm.Cond.initialized "DeedKernel$Process") ∈ lw_all := lw_g (lw_at lw_m1 14 rfl) rfl
theorem q603 : (Jvm.Cond.instantiable "DeedKernel$Process" (19 : Nat)) ∈ lw_all := lw_g (lw_at lw_m2 168 rfl) rfl
theorem q605 : (Jvm.Cond.instanceMethod ({ cls := "DeedKernel$Process", name := "<init>", desc := "(I)V" } : Jvm.MethodName)) ∈ lw_all := lw_g (lw_at lw_m2 170 rfl) rfl
theorem q606 : (Jvm.Cond.code ({ cls := "DeedKernel$Process", name := "<init>", desc := "(I)V" } : Jvm.MethodName) prog_8_method_1_code (2 : Nat) (Option.none : Option Jvm.ClassFile.FieldType)) ∈ lw_all := lw_g (lw_at lw_m2 171 rfl) rfl
theorem q607 : (Jvm.Cond.methodLink "DeedKernel$Process" (3 : Nat) ({ cls := "java/lang/Object", name := "<init>", desc := "()V" } : Jvm.MethodName)) ∈ lw_all := lw_g (lw_at lw_m2 172 rfl) rfl
theorem q608 : (Jvm.Cond.classLink "DeedKernel$Process" (9 : Nat) "DeedKernel$Opening") ∈ lw_all := lw_g (lw_at lw_m2 173 rfl) rfl
theorem q609 : (Jvm.Cond.fieldLink "DeedKernel$Process" (24 : Nat) "DeedKernel$Process" "number" "I") ∈ lw_all := lw_g (lw_at lw_m2 174 rfl) rfl
theorem q611 : (Jvm.Cond.fieldLink "DeedKernel$Process" (28 : Nat) "DeedKernel$Process" "state" "I") ∈ lw_all := lw_g (lw_at lw_m2 176 rfl) rfl
theorem q613 : (Jvm.Cond.fieldLink "DeedKernel$Process" (31 : Nat) "DeedKernel$Process" "parent" "I") ∈ lw_all := lw_g (lw_at lw_m2 178 rfl) rfl
theorem q615 : (Jvm.Cond.fieldLink "DeedKernel$Process" (34 : Nat) "DeedKernel$Process" "code" "I") ∈ lw_all := lw_g (lw_at lw_m2 180 rfl) rfl
theorem q617 : (Jvm.Cond.fieldLink "DeedKernel$Process" (11 : Nat) "DeedKernel$Process" "row" "[LDeedKernel$Opening;") ∈ lw_all := lw_g (lw_at lw_m2 182 rfl) rfl
theorem q619 : (Jvm.Cond.fieldLink "DeedKernel$Process" (37 : Nat) "DeedKernel$Process" "works" "LDeedKernel$Inode;") ∈ lw_all := lw_g (lw_at lw_m2 184 rfl) rfl
theorem q622 : (Jvm.Cond.fieldLink "DeedKernel$Process" (41 : Nat) "DeedKernel$Process" "signals" "I") ∈ lw_all := lw_g (lw_at lw_m2 187 rfl) rfl
theorem q625 : (Jvm.Cond.fieldLink "DeedKernel$Process" (51 : Nat) "DeedKernel$Process" "depth" "I") ∈ lw_all := lw_g (lw_at lw_m2 190 rfl) rfl
theorem q627 : (Jvm.Cond.fieldLink "DeedKernel$Process" (54 : Nat) "DeedKernel$Process" "age" "I") ∈ lw_all := lw_g (lw_at lw_m2 192 rfl) rfl
theorem q629 : (Jvm.Cond.fieldLink "DeedKernel$Process" (44 : Nat) "DeedKernel$Process" "wasAborted" "Z") ∈ lw_all := lw_g (lw_at lw_m2 194 rfl) rfl
theorem q631 : (Jvm.Cond.fieldLink "DeedKernel$Process" (57 : Nat) "DeedKernel$Process" "isLeaving" "Z") ∈ lw_all := lw_g (lw_at lw_m2 196 rfl) rfl
theorem q634 : (Jvm.Cond.fieldLink "DeedKernel$Process" (17 : Nat) "DeedKernel$Process" "hadRow" "[LDeedKernel$Opening;") ∈ lw_all := lw_g (lw_at lw_m2 199 rfl) rfl
theorem q636 : (Jvm.Cond.fieldLink "DeedKernel$Process" (66 : Nat) "DeedKernel$Process" "hadWorks" "LDeedKernel$Inode;") ∈ lw_all := lw_g (lw_at lw_m2 201 rfl) rfl
theorem q638 : (Jvm.Cond.fieldLink "DeedKernel$Process" (20 : Nat) "DeedKernel$Process" "killed" "[I") ∈ lw_all := lw_g (lw_at lw_m2 203 rfl) rfl
theorem q640 : (Jvm.Cond.fieldLink "DeedKernel$Process" (60 : Nat) "DeedKernel$Process" "kills" "I") ∈ lw_all := lw_g (lw_at lw_m2 205 rfl) rfl
theorem q642 : (Jvm.Cond.fieldLink "DeedKernel$Process" (63 : Nat) "DeedKernel$Process" "awaited" "I") ∈ lw_all := lw_g (lw_at lw_m2 207 rfl) rfl
theorem q645 : (Jvm.Cond.laysFinal "DeedKernel$Process" "DeedKernel$Process" "number" "I") ∈ lw_all := lw_g (lw_at lw_m2 210 rfl) rfl
theorem q646 : (Jvm.Cond.soleField "DeedKernel$Process" "number") ∈ lw_all := lw_g (lw_at lw_m2 211 rfl) rfl
theorem q647 : (Jvm.Cond.lays "DeedKernel$Process" "DeedKernel$Process" "state" "I") ∈ lw_all := lw_g (lw_at lw_m2 212 rfl) rfl
theorem q648 : (Jvm.Cond.soleField "DeedKernel$Process" "state") ∈ lw_all := lw_g (lw_at lw_m2 213 rfl) rfl
theorem q649 : (Jvm.Cond.lays "DeedKernel$Process" "DeedKernel$Process" "parent" "I") ∈ lw_all := lw_g (lw_at lw_m2 214 rfl) rfl
theorem q650 : (Jvm.Cond.soleField "DeedKernel$Process" "parent") ∈ lw_all := lw_g (lw_at lw_m2 215 rfl) rfl
theorem q651 : (Jvm.Cond.lays "DeedKernel$Process" "DeedKernel$Process" "code" "I") ∈ lw_all := lw_g (lw_at lw_m2 216 rfl) rfl
theorem q652 : (Jvm.Cond.soleField "DeedKernel$Process" "code") ∈ lw_all := lw_g (lw_at lw_m2 217 rfl) rfl
theorem q653 : (Jvm.Cond.laysFinal "DeedKernel$Process" "DeedKernel$Process" "row" "[LDeedKernel$Opening;") ∈ lw_all := lw_g (lw_at lw_m2 218 rfl) rfl
theorem q654 : (Jvm.Cond.soleField "DeedKernel$Process" "row") ∈ lw_all := lw_g (lw_at lw_m2 219 rfl) rfl
theorem q655 : (Jvm.Cond.lays "DeedKernel$Process" "DeedKernel$Process" "works" "LDeedKernel$Inode;") ∈ lw_all := lw_g (lw_at lw_m2 220 rfl) rfl
theorem q656 : (Jvm.Cond.soleField "DeedKernel$Process" "works") ∈ lw_all := lw_g (lw_at lw_m2 221 rfl) rfl
theorem q657 : (Jvm.Cond.lays "DeedKernel$Process" "DeedKernel$Process" "signals" "I") ∈ lw_all := lw_g (lw_at lw_m2 222 rfl) rfl
theorem q658 : (Jvm.Cond.soleField "DeedKernel$Process" "signals") ∈ lw_all := lw_g (lw_at lw_m2 223 rfl) rfl
theorem q659 : (Jvm.Cond.lays "DeedKernel$Process" "DeedKernel$Process" "hadSignals" "I") ∈ lw_all := lw_g (lw_at lw_m2 224 rfl) rfl
theorem q660 : (Jvm.Cond.soleField "DeedKernel$Process" "hadSignals") ∈ lw_all := lw_g (lw_at lw_m2 225 rfl) rfl
theorem q661 : (Jvm.Cond.lays "DeedKernel$Process" "DeedKernel$Process" "depth" "I") ∈ lw_all := lw_g (lw_at lw_m2 226 rfl) rfl
theorem q662 : (Jvm.Cond.soleField "DeedKernel$Process" "depth") ∈ lw_all := lw_g (lw_at lw_m2 227 rfl) rfl
theorem q663 : (Jvm.Cond.lays "DeedKernel$Process" "DeedKernel$Process" "age" "I") ∈ lw_all := lw_g (lw_at lw_m2 228 rfl) rfl
theorem q664 : (Jvm.Cond.soleField "DeedKernel$Process" "age") ∈ lw_all := lw_g (lw_at lw_m2 229 rfl) rfl
theorem q665 : (Jvm.Cond.lays "DeedKernel$Process" "DeedKernel$Process" "wasAborted" "Z") ∈ lw_all := lw_g (lw_at lw_m2 230 rfl) rfl
theorem q666 : (Jvm.Cond.soleField "DeedKernel$Process" "wasAborted") ∈ lw_all := lw_g (lw_at lw_m2 231 rfl) rfl
theorem q667 : (Jvm.Cond.lays "DeedKernel$Process" "DeedKernel$Process" "isLeaving" "Z") ∈ lw_all := lw_g (lw_at lw_m2 232 rfl) rfl
theorem q668 : (Jvm.Cond.soleField "DeedKernel$Process" "isLeaving") ∈ lw_all := lw_g (lw_at lw_m2 233 rfl) rfl
theorem q669 : (Jvm.Cond.lays "DeedKernel$Process" "DeedKernel$Process" "leavingCode" "I") ∈ lw_all := lw_g (lw_at lw_m2 234 rfl) rfl
theorem q670 : (Jvm.Cond.soleField "DeedKernel$Process" "leavingCode") ∈ lw_all := lw_g (lw_at lw_m2 235 rfl) rfl
theorem q671 : (Jvm.Cond.laysFinal "DeedKernel$Process" "DeedKernel$Process" "hadRow" "[LDeedKernel$Opening;") ∈ lw_all := lw_g (lw_at lw_m2 236 rfl) rfl
theorem q672 : (Jvm.Cond.soleField "DeedKernel$Process" "hadRow") ∈ lw_all := lw_g (lw_at lw_m2 237 rfl) rfl
theorem q673 : (Jvm.Cond.lays "DeedKernel$Process" "DeedKernel$Process" "hadWorks" "LDeedKernel$Inode;") ∈ lw_all := lw_g (lw_at lw_m2 238 rfl) rfl
theorem q674 : (Jvm.Cond.soleField "DeedKernel$Process" "hadWorks") ∈ lw_all := lw_g (lw_at lw_m2 239 rfl) rfl
theorem q675 : (Jvm.Cond.laysFinal "DeedKernel$Process" "DeedKernel$Process" "killed" "[I") ∈ lw_all := lw_g (lw_at lw_m3 0 rfl) rfl
theorem q676 : (Jvm.Cond.soleField "DeedKernel$Process" "killed") ∈ lw_all := lw_g (lw_at lw_m3 1 rfl) rfl
theorem q677 : (Jvm.Cond.lays "DeedKernel$Process" "DeedKernel$Process" "kills" "I") ∈ lw_all := lw_g (lw_at lw_m3 2 rfl) rfl
theorem q678 : (Jvm.Cond.soleField "DeedKernel$Process" "kills") ∈ lw_all := lw_g (lw_at lw_m3 3 rfl) rfl
theorem q679 : (Jvm.Cond.lays "DeedKernel$Process" "DeedKernel$Process" "awaited" "I") ∈ lw_all := lw_g (lw_at lw_m3 4 rfl) rfl
theorem q680 : (Jvm.Cond.soleField "DeedKernel$Process" "awaited") ∈ lw_all := lw_g (lw_at lw_m3 5 rfl) rfl
theorem q681 : (Jvm.Cond.lays "DeedKernel$Process" "DeedKernel$Process" "bornBy" "I") ∈ lw_all := lw_g (lw_at lw_m3 6 rfl) rfl
theorem q682 : (Jvm.Cond.soleField "DeedKernel$Process" "bornBy") ∈ lw_all := lw_g (lw_at lw_m3 7 rfl) rfl
theorem q683 : (Jvm.Cond.superclass "DeedKernel$Process" "java/lang/Object") ∈ lw_all := lw_g (lw_at lw_m3 8 rfl) rfl
theorem q728 : (Jvm.Cond.instanceMethod ({ cls := "DeedKernel$Process", name := "clear", desc := "()V" } : Jvm.MethodName)) ∈ lw_all := lw_g (lw_at lw_m3 53 rfl) rfl
theorem q729 : (Jvm.Cond.selects "DeedKernel$Process" ({ cls := "DeedKernel$Process", name := "clear", desc := "()V" } : Jvm.MethodName) ({ cls := "DeedKernel$Process", name := "clear", desc := "()V" } : Jvm.MethodName)) ∈ lw_all := lw_g (lw_at lw_m3 54 rfl) rfl
theorem q730 : (Jvm.Cond.code ({ cls := "DeedKernel$Process", name := "clear", desc := "()V" } : Jvm.MethodName) prog_8_method_2_code (2 : Nat) (Option.none : Option Jvm.ClassFile.FieldType)) ∈ lw_all := lw_g (lw_at lw_m3 55 rfl) rfl
theorem q731 : (Jvm.Cond.methodLink "DeedKernel$Process" (48 : Nat) ({ cls := "DeedKernel$Process", name := "endGroup", desc := "()V" } : Jvm.MethodName)) ∈ lw_all := lw_g (lw_at lw_m3 56 rfl) rfl
theorem q732 : (Jvm.Cond.instanceMethod ({ cls := "DeedKernel$Process", name := "endGroup", desc := "()V" } : Jvm.MethodName)) ∈ lw_all := lw_g (lw_at lw_m3 57 rfl) rfl
theorem q733 : (Jvm.Cond.selects "DeedKernel$Process" ({ cls := "DeedKernel$Process", name := "endGroup", desc := "()V" } : Jvm.MethodName) ({ cls := "DeedKernel$Process", name := "endGroup", desc := "()V" } : Jvm.MethodName)) ∈ lw_all := lw_g (lw_at lw_m3 58 rfl) rfl
theorem q734 : (Jvm.Cond.code ({ cls := "DeedKernel$Process", name := "endGroup", desc := "()V" } : Jvm.MethodName) prog_8_method_3_code (2 : Nat) (Option.none : Option Jvm.ClassFile.FieldType)) ∈ lw_all := lw_g (lw_at lw_m3 59 rfl) rfl
theorem q857 : (Jvm.Cond.instanceMethod ({ cls := "DeedKernel$Process", name := "hasGroup", desc := "()Z" } : Jvm.MethodName)) ∈ lw_all := lw_g (lw_at lw_m3 182 rfl) rfl
theorem q858 : (Jvm.Cond.selects "DeedKernel$Process" ({ cls := "DeedKernel$Process", name := "hasGroup", desc := "()Z" } : Jvm.MethodName) ({ cls := "DeedKernel$Process", name := "hasGroup", desc := "()Z" } : Jvm.MethodName)) ∈ lw_all := lw_g (lw_at lw_m3 183 rfl) rfl
theorem q859 : (Jvm.Cond.code ({ cls := "DeedKernel$Process", name := "hasGroup", desc := "()Z" } : Jvm.MethodName) prog_8_method_5_code (1 : Nat) (Option.some Jvm.ClassFile.FieldType.boolean)) ∈ lw_all := lw_g (lw_at lw_m3 184 rfl) rfl
theorem q873 : (Jvm.Cond.instanceMethod ({ cls := "DeedKernel$Process", name := "many", desc := "()I" } : Jvm.MethodName)) ∈ lw_all := lw_g (lw_at lw_m3 198 rfl) rfl
theorem q874 : (Jvm.Cond.selects "DeedKernel$Process" ({ cls := "DeedKernel$Process", name := "many", desc := "()I" } : Jvm.MethodName) ({ cls := "DeedKernel$Process", name := "many", desc := "()I" } : Jvm.MethodName)) ∈ lw_all := lw_g (lw_at lw_m3 199 rfl) rfl
theorem q875 : (Jvm.Cond.code ({ cls := "DeedKernel$Process", name := "many", desc := "()I" } : Jvm.MethodName) prog_8_method_7_code (3 : Nat) (Option.some Jvm.ClassFile.FieldType.int)) ∈ lw_all := lw_g (lw_at lw_m3 200 rfl) rfl
theorem q881 : (Jvm.Cond.instanceMethod ({ cls := "DeedKernel$Process", name := "free", desc := "()I" } : Jvm.MethodName)) ∈ lw_all := lw_g (lw_at lw_m3 206 rfl) rfl
theorem q882 : (Jvm.Cond.selects "DeedKernel$Process" ({ cls := "DeedKernel$Process", name := "free", desc := "()I" } : Jvm.MethodName) ({ cls := "DeedKernel$Process", name := "free", desc := "()I" } : Jvm.MethodName)) ∈ lw_all := lw_g (lw_at lw_m3 207 rfl) rfl
theorem q883 : (Jvm.Cond.code ({ cls := "DeedKernel$Process", name := "free", desc := "()I" } : Jvm.MethodName) prog_8_method_6_code (2 : Nat) (Option.some Jvm.ClassFile.FieldType.int)) ∈ lw_all := lw_g (lw_at lw_m3 208 rfl) rfl
theorem q959 : (Jvm.Cond.instanceMethod ({ cls := "DeedKernel$Process", name := "undo", desc := "()V" } : Jvm.MethodName)) ∈ lw_all := lw_g (lw_at lw_m4 44 rfl) rfl
theorem q960 : (Jvm.Cond.selects "DeedKernel$Process" ({ cls := "DeedKernel$Process", name := "undo", desc := "()V" } : Jvm.MethodName) ({ cls := "DeedKernel$Process", name := "undo", desc := "()V" } : Jvm.MethodName)) ∈ lw_all := lw_g (lw_at lw_m4 45 rfl) rfl
theorem q961 : (Jvm.Cond.code ({ cls := "DeedKernel$Process", name := "undo", desc := "()V" } : Jvm.MethodName) prog_8_method_9_code (1 : Nat) (Option.none : Option Jvm.ClassFile.FieldType)) ∈ lw_all := lw_g (lw_at lw_m4 46 rfl) rfl
theorem q962 : (Jvm.Cond.methodLink "DeedKernel$Process" (69 : Nat) ({ cls := "java/lang/System", name := "arraycopy", desc := "(Ljava/lang/Object;ILjava/lang/Object;II)V" } : Jvm.MethodName)) ∈ lw_all := lw_g (lw_at lw_m4 47 rfl) rfl
theorem q972 : (Jvm.Cond.instanceMethod ({ cls := "DeedKernel$Process", name := "acts", desc := "()Z" } : Jvm.MethodName)) ∈ lw_all := lw_g (lw_at lw_m4 57 rfl) rfl
theorem q973 : (Jvm.Cond.selects "DeedKernel$Process" ({ cls := "DeedKernel$Process", name := "acts", desc := "()Z" } : Jvm.MethodName) ({ cls := "DeedKernel$Process", name := "acts", desc := "()Z" } : Jvm.MethodName)) ∈ lw_all := lw_g (lw_at lw_m4 58 rfl) rfl
theorem q974 : (Jvm.Cond.code ({ cls := "DeedKernel$Process", name := "acts", desc := "()Z" } : Jvm.MethodName) prog_8_method_4_code (1 : Nat) (Option.some Jvm.ClassFile.FieldType.boolean)) ∈ lw_all := lw_g (lw_at lw_m4 59 rfl) rfl
theorem q980 : (Jvm.Cond.instanceMethod ({ cls := "DeedKernel$Process", name := "has", desc := "(LDeedKernel$Opening;)Z" } : Jvm.MethodName)) ∈ lw_all := lw_g (lw_at lw_m4 65 rfl) rfl
theorem q981 : (Jvm.Cond.selects "DeedKernel$Process" ({ cls := "DeedKernel$Process", name := "has", desc := "(LDeedKernel$Opening;)Z" } : Jvm.MethodName) ({ cls := "DeedKernel$Process", name := "has", desc := "(LDeedKernel$Opening;)Z" } : Jvm.MethodName)) ∈ lw_all := lw_g (lw_at lw_m4 66 rfl) rfl
theorem q982 : (Jvm.Cond.code ({ cls := "DeedKernel$Process", name := "has", desc := "(LDeedKernel$Opening;)Z" } : Jvm.MethodName) prog_8_method_10_code (3 : Nat) (Option.some Jvm.ClassFile.FieldType.boolean)) ∈ lw_all := lw_g (lw_at lw_m4 67 rfl) rfl
theorem q984 : (Jvm.Cond.instanceMethod ({ cls := "DeedKernel$Process", name := "hadIt", desc := "(LDeedKernel$Opening;)Z" } : Jvm.MethodName)) ∈ lw_all := lw_g (lw_at lw_m4 69 rfl) rfl
theorem q985 : (Jvm.Cond.selects "DeedKernel$Process" ({ cls := "DeedKernel$Process", name := "hadIt", desc := "(LDeedKernel$Opening;)Z" } : Jvm.MethodName) ({ cls := "DeedKernel$Process", name := "hadIt", desc := "(LDeedKernel$Opening;)Z" } : Jvm.MethodName)) ∈ lw_all := lw_g (lw_at lw_m4 70 rfl) rfl
theorem q986 : (Jvm.Cond.code ({ cls := "DeedKernel$Process", name := "hadIt", desc := "(LDeedKernel$Opening;)Z" } : Jvm.MethodName) prog_8_method_11_code (3 : Nat) (Option.some Jvm.ClassFile.FieldType.boolean)) ∈ lw_all := lw_g (lw_at lw_m4 71 rfl) rfl
theorem q1250 : (Jvm.Cond.instanceMethod ({ cls := "DeedKernel$Process", name := "kill", desc := "(I)V" } : Jvm.MethodName)) ∈ lw_all := lw_g (lw_at lw_m5 95 rfl) rfl
theorem q1251 : (Jvm.Cond.selects "DeedKernel$Process" ({ cls := "DeedKernel$Process", name := "kill", desc := "(I)V" } : Jvm.MethodName) ({ cls := "DeedKernel$Process", name := "kill", desc := "(I)V" } : Jvm.MethodName)) ∈ lw_all := lw_g (lw_at lw_m5 96 rfl) rfl
theorem q1252 : (Jvm.Cond.code ({ cls := "DeedKernel$Process", name := "kill", desc := "(I)V" } : Jvm.MethodName) prog_8_method_12_code (3 : Nat) (Option.none : Option Jvm.ClassFile.FieldType)) ∈ lw_all := lw_g (lw_at lw_m5 97 rfl) rfl
theorem q1258 : (Jvm.Cond.instanceMethod ({ cls := "DeedKernel$Process", name := "beginGroup", desc := "(I)V" } : Jvm.MethodName)) ∈ lw_all := lw_g (lw_at lw_m5 103 rfl) rfl
theorem q1259 : (Jvm.Cond.selects "DeedKernel$Process" ({ cls := "DeedKernel$Process", name := "beginGroup", desc := "(I)V" } : Jvm.MethodName) ({ cls := "DeedKernel$Process", name := "beginGroup", desc := "(I)V" } : Jvm.MethodName)) ∈ lw_all := lw_g (lw_at lw_m5 104 rfl) rfl
theorem q1260 : (Jvm.Cond.code ({ cls := "DeedKernel$Process", name := "beginGroup", desc := "(I)V" } : Jvm.MethodName) prog_8_method_8_code (2 : Nat) (Option.none : Option Jvm.ClassFile.FieldType)) ∈ lw_all := lw_g (lw_at lw_m5 105 rfl) rfl
theorem in_X10 : ∀ w ∈ wsX100, w ∈ lw_all := lw_in wsX100 [645, 647, 649, 651, 653, 655, 657, 659, 661, 663, 665, 667, 669, 671, 673, 675, 677, 679, 681] (by decide +kernel) (by decide +kernel)
theorem q212 : (Jvm.Cond.initialized "DeedKernelModel") ∈ lw_all := lw_g (lw_at lw_m1 17 rfl) rfl
theorem q1669 : (Jvm.Cond.instanceMethod ({ cls := "DeedKernelModel", name := "thrown", desc := "()I" } : Jvm.MethodName)) ∈ lw_all := lw_g (lw_at lw_m7 34 rfl) rfl
theorem q1670 : (Jvm.Cond.selects "DeedKernelModel" ({ cls := "DeedKernelModel", name := "thrown", desc := "()I" } : Jvm.MethodName) ({ cls := "DeedKernelModel", name := "thrown", desc := "()I" } : Jvm.MethodName)) ∈ lw_all := lw_g (lw_at lw_m7 35 rfl) rfl
theorem q1671 : (Jvm.Cond.code ({ cls := "DeedKernelModel", name := "thrown", desc := "()I" } : Jvm.MethodName) prog_12_method_3_code (1 : Nat) (Option.some Jvm.ClassFile.FieldType.int)) ∈ lw_all := lw_g (lw_at lw_m7 36 rfl) rfl
theorem q1673 : (Jvm.Cond.instantiable "DeedKernelModel" (85 : Nat)) ∈ lw_all := lw_g (lw_at lw_m7 38 rfl) rfl
theorem q1675 : (Jvm.Cond.instanceMethod ({ cls := "DeedKernelModel", name := "<init>", desc := "(III)V" } : Jvm.MethodName)) ∈ lw_all := lw_g (lw_at lw_m7 40 rfl) rfl
theorem q1676 : (Jvm.Cond.code ({ cls := "DeedKernelModel", name := "<init>", desc := "(III)V" } : Jvm.MethodName) prog_12_method_4_code (6 : Nat) (Option.none : Option Jvm.ClassFile.FieldType)) ∈ lw_all := lw_g (lw_at lw_m7 41 rfl) rfl
theorem q1677 : (Jvm.Cond.methodLink "DeedKernelModel" (13 : Nat) ({ cls := "java/lang/Object", name := "<init>", desc := "()V" } : Jvm.MethodName)) ∈ lw_all := lw_g (lw_at lw_m7 42 rfl) rfl
theorem q1678 : (Jvm.Cond.classLink "DeedKernelModel" (35 : Nat) "[[I") ∈ lw_all := lw_g (lw_at lw_m7 43 rfl) rfl
theorem q1680 : (Jvm.Cond.classLink "DeedKernelModel" (43 : Nat) "[[B") ∈ lw_all := lw_g (lw_at lw_m7 45 rfl) rfl
theorem q1682 : (Jvm.Cond.classLink "DeedKernelModel" (51 : Nat) "[[J") ∈ lw_all := lw_g (lw_at lw_m7 47 rfl) rfl
theorem q1684 : (Jvm.Cond.classLink "DeedKernelModel" (102 : Nat) "DeedKernelModel$Group") ∈ lw_all := lw_g (lw_at lw_m7 49 rfl) rfl
theorem q1687 : (Jvm.Cond.methodLinkNest "DeedKernelModel" (108 : Nat) ({ cls := "DeedKernelModel$Group", name := "<init>", desc := "()V" } : Jvm.MethodName) "DeedKernelModel") ∈ lw_tbl := lw_at lw_m7 52 rfl
theorem q1695 : (Jvm.Cond.fieldLink "DeedKernelModel" (275 : Nat) "DeedKernelModel$Group" "on" "Z") ∈ lw_all := lw_g (lw_at lw_m7 60 rfl) rfl
theorem q1697 : (Jvm.Cond.fieldLink "DeedKernelModel" (769 : Nat) "DeedKernelModel$Group" "depth" "I") ∈ lw_all := lw_g (lw_at lw_m7 62 rfl) rfl
theorem q1698 : (Jvm.Cond.fieldLink "DeedKernelModel" (421 : Nat) "DeedKernelModel$Group" "age" "J") ∈ lw_all := lw_g (lw_at lw_m7 63 rfl) rfl
theorem q1700 : (Jvm.Cond.fieldLink "DeedKernelModel" (523 : Nat) "DeedKernelModel$Group" "leaving" "I") ∈ lw_all := lw_g (lw_at lw_m7 65 rfl) rfl
theorem q1702 : (Jvm.Cond.fieldLink "DeedKernelModel" (291 : Nat) "DeedKernelModel$Group" "data" "[[B") ∈ lw_all := lw_g (lw_at lw_m7 67 rfl) rfl
theorem q1704 : (Jvm.Cond.fieldLink "DeedKernelModel" (290 : Nat) "DeedKernelModel$Group" "len" "[I") ∈ lw_all := lw_g (lw_at lw_m7 69 rfl) rfl
theorem q1706 : (Jvm.Cond.fieldLink "DeedKernelModel" (287 : Nat) "DeedKernelModel$Group" "dW" "[Z") ∈ lw_all := lw_g (lw_at lw_m7 71 rfl) rfl
theorem q1708 : (Jvm.Cond.fieldLink "DeedKernelModel" (278 : Nat) "DeedKernelModel$Group" "kind" "[I") ∈ lw_all := lw_g (lw_at lw_m7 73 rfl) rfl
theorem q1710 : (Jvm.Cond.fieldLink "DeedKernelModel" (282 : Nat) "DeedKernelModel$Group" "names" "[I") ∈ lw_all := lw_g (lw_at lw_m7 75 rfl) rfl
theorem q1712 : (Jvm.Cond.fieldLink "DeedKernelModel" (279 : Nat) "DeedKernelModel$Group" "nW" "[Z") ∈ lw_all := lw_g (lw_at lw_m7 77 rfl) rfl
theorem q1714 : (Jvm.Cond.fieldLink "DeedKernelModel" (286 : Nat) "DeedKernelModel$Group" "up" "[I") ∈ lw_all := lw_g (lw_at lw_m7 79 rfl) rfl
theorem q1716 : (Jvm.Cond.fieldLink "DeedKernelModel" (283 : Nat) "DeedKernelModel$Group" "uW" "[Z") ∈ lw_all := lw_g (lw_at lw_m7 81 rfl) rfl
theorem q1718 : (Jvm.Cond.fieldLink "DeedKernelModel" (292 : Nat) "DeedKernelModel$Group" "oc" "I") ∈ lw_all := lw_g (lw_at lw_m7 83 rfl) rfl
theorem q1720 : (Jvm.Cond.fieldLink "DeedKernelModel" (295 : Nat) "DeedKernelModel$Group" "oDir" "[I") ∈ lw_all := lw_g (lw_at lw_m7 85 rfl) rfl
theorem q1722 : (Jvm.Cond.fieldLink "DeedKernelModel" (307 : Nat) "DeedKernelModel$Group" "oSlot" "[I") ∈ lw_all := lw_g (lw_at lw_m7 87 rfl) rfl
theorem q1724 : (Jvm.Cond.fieldLink "DeedKernelModel" (298 : Nat) "DeedKernelModel$Group" "oIno" "[I") ∈ lw_all := lw_g (lw_at lw_m7 89 rfl) rfl
theorem q1726 : (Jvm.Cond.fieldLink "DeedKernelModel" (301 : Nat) "DeedKernelModel$Group" "oA" "[J") ∈ lw_all := lw_g (lw_at lw_m7 91 rfl) rfl
theorem q1728 : (Jvm.Cond.fieldLink "DeedKernelModel" (304 : Nat) "DeedKernelModel$Group" "oB" "[J") ∈ lw_all := lw_g (lw_at lw_m7 93 rfl) rfl
theorem q1730 : (Jvm.Cond.fieldLink "DeedKernelModel" (506 : Nat) "DeedKernelModel$Group" "place" "[I") ∈ lw_all := lw_g (lw_at lw_m7 95 rfl) rfl
theorem q1732 : (Jvm.Cond.fieldLink "DeedKernelModel" (341 : Nat) "DeedKernelModel$Group" "plW" "[Z") ∈ lw_all := lw_g (lw_at lw_m7 97 rfl) rfl
theorem q1734 : (Jvm.Cond.fieldLink "DeedKernelModel" (512 : Nat) "DeedKernelModel$Group" "pipe" "[[B") ∈ lw_all := lw_g (lw_at lw_m7 99 rfl) rfl
theorem q1736 : (Jvm.Cond.fieldLink "DeedKernelModel" (513 : Nat) "DeedKernelModel$Group" "pipeLen" "[I") ∈ lw_all := lw_g (lw_at lw_m7 101 rfl) rfl
theorem q1738 : (Jvm.Cond.fieldLink "DeedKernelModel" (509 : Nat) "DeedKernelModel$Group" "piW" "[Z") ∈ lw_all := lw_g (lw_at lw_m7 103 rfl) rfl
theorem q1740 : (Jvm.Cond.fieldLink "DeedKernelModel" (327 : Nat) "DeedKernelModel$Group" "unborn" "[Z") ∈ lw_all := lw_g (lw_at lw_m7 105 rfl) rfl
theorem q1742 : (Jvm.Cond.fieldLink "DeedKernelModel" (330 : Nat) "DeedKernelModel$Group" "uDesc" "[[I") ∈ lw_all := lw_g (lw_at lw_m7 107 rfl) rfl
theorem q1744 : (Jvm.Cond.fieldLink "DeedKernelModel" (365 : Nat) "DeedKernelModel$Group" "uWork" "[I") ∈ lw_all := lw_g (lw_at lw_m7 109 rfl) rfl
theorem q1746 : (Jvm.Cond.fieldLink "DeedKernelModel" (520 : Nat) "DeedKernelModel$Group" "reaped" "[Z") ∈ lw_all := lw_g (lw_at lw_m7 111 rfl) rfl
theorem q1748 : (Jvm.Cond.fieldLink "DeedKernelModel" (526 : Nat) "DeedKernelModel$Group" "kills" "I") ∈ lw_all := lw_g (lw_at lw_m7 113 rfl) rfl
theorem q1750 : (Jvm.Cond.fieldLink "DeedKernelModel" (529 : Nat) "DeedKernelModel$Group" "killed" "[I") ∈ lw_all := lw_g (lw_at lw_m7 115 rfl) rfl
theorem q1752 : (Jvm.Cond.fieldLink "DeedKernelModel" (517 : Nat) "DeedKernelModel$Group" "sig" "[I") ∈ lw_all := lw_g (lw_at lw_m7 117 rfl) rfl
theorem q1754 : (Jvm.Cond.fieldLink "DeedKernelModel" (514 : Nat) "DeedKernelModel$Group" "sW" "[Z") ∈ lw_all := lw_g (lw_at lw_m7 119 rfl) rfl
theorem q1756 : (Jvm.Cond.fieldLink "DeedKernelModel" (320 : Nat) "DeedKernelModel$Group" "desc" "[I") ∈ lw_all := lw_g (lw_at lw_m7 121 rfl) rfl
theorem q1757 : (Jvm.Cond.fieldLink "DeedKernelModel" (359 : Nat) "DeedKernelModel$Group" "work" "I") ∈ lw_all := lw_g (lw_at lw_m7 122 rfl) rfl
theorem q1759 : (Jvm.Cond.fieldLink "DeedKernelModel" (375 : Nat) "DeedKernelModel$Group" "tData" "[I") ∈ lw_all := lw_g (lw_at lw_m7 124 rfl) rfl
theorem q1761 : (Jvm.Cond.fieldLink "DeedKernelModel" (378 : Nat) "DeedKernelModel$Group" "tNames" "[I") ∈ lw_all := lw_g (lw_at lw_m7 126 rfl) rfl
theorem q1763 : (Jvm.Cond.fieldLink "DeedKernelModel" (381 : Nat) "DeedKernelModel$Group" "tUp" "[I") ∈ lw_all := lw_g (lw_at lw_m7 128 rfl) rfl
theorem q1765 : (Jvm.Cond.fieldLink "DeedKernelModel" (384 : Nat) "DeedKernelModel$Group" "tAll" "[I") ∈ lw_all := lw_g (lw_at lw_m7 130 rfl) rfl
theorem q1767 : (Jvm.Cond.fieldLink "DeedKernelModel" (344 : Nat) "DeedKernelModel$Group" "tPlace" "[I") ∈ lw_all := lw_g (lw_at lw_m7 132 rfl) rfl
theorem q1769 : (Jvm.Cond.fieldLink "DeedKernelModel" (387 : Nat) "DeedKernelModel$Group" "tPipe" "[I") ∈ lw_all := lw_g (lw_at lw_m7 134 rfl) rfl
theorem q1771 : (Jvm.Cond.fieldLink "DeedKernelModel" (390 : Nat) "DeedKernelModel$Group" "tLife" "[I") ∈ lw_all := lw_g (lw_at lw_m7 136 rfl) rfl
theorem q1773 : (Jvm.Cond.fieldLink "DeedKernelModel" (393 : Nat) "DeedKernelModel$Group" "tSig" "[I") ∈ lw_all := lw_g (lw_at lw_m7 138 rfl) rfl
theorem q1779 : (Jvm.Cond.fieldLink "DeedKernelModel" (407 : Nat) "DeedKernelModel$Group" "mHow" "[I") ∈ lw_all := lw_g (lw_at lw_m7 144 rfl) rfl
theorem q1873 : (Jvm.Cond.classLink "DeedKernelModel" (153 : Nat) "[B") ∈ lw_all := lw_g (lw_at lw_m7 238 rfl) rfl
theorem q1874 : (Jvm.Cond.methodLink "DeedKernelModel" (200 : Nat) ({ cls := "java/lang/Math", name := "min", desc := "(II)I" } : Jvm.MethodName)) ∈ lw_all := lw_g (lw_at lw_m7 239 rfl) rfl
theorem q1875 : (Jvm.Cond.methodLink "DeedKernelModel" (224 : Nat) ({ cls := "DeedKernelModel", name := "format", desc := "()V" } : Jvm.MethodName)) ∈ lw_all := lw_g (lw_at lw_m8 0 rfl) rfl
theorem q1876 : (Jvm.Cond.instanceMethod ({ cls := "DeedKernelModel", name := "format", desc := "()V" } : Jvm.MethodName)) ∈ lw_all := lw_g (lw_at lw_m8 1 rfl) rfl
theorem q1877 : (Jvm.Cond.selects "DeedKernelModel" ({ cls := "DeedKernelModel", name := "format", desc := "()V" } : Jvm.MethodName) ({ cls := "DeedKernelModel", name := "format", desc := "()V" } : Jvm.MethodName)) ∈ lw_all := lw_g (lw_at lw_m8 2 rfl) rfl
theorem q1878 : (Jvm.Cond.code ({ cls := "DeedKernelModel", name := "format", desc := "()V" } : Jvm.MethodName) prog_12_method_5_code (2 : Nat) (Option.none : Option Jvm.ClassFile.FieldType)) ∈ lw_all := lw_g (lw_at lw_m8 3 rfl) rfl
theorem q1879 : (Jvm.Cond.methodLink "DeedKernelModel" (230 : Nat) ({ cls := "DeedKernelModel", name := "headOf", desc := "([BII[B)V" } : Jvm.MethodName)) ∈ lw_all := lw_g (lw_at lw_m8 4 rfl) rfl
theorem q1880 : (Jvm.Cond.privateMethod ({ cls := "DeedKernelModel", name := "headOf", desc := "([BII[B)V" } : Jvm.MethodName)) ∈ lw_tbl := lw_at lw_m8 5 rfl
theorem q1881 : (Jvm.Cond.instanceMethod ({ cls := "DeedKernelModel", name := "headOf", desc := "([BII[B)V" } : Jvm.MethodName)) ∈ lw_all := lw_g (lw_at lw_m8 6 rfl) rfl
theorem q1882 : (Jvm.Cond.code ({ cls := "DeedKernelModel", name := "headOf", desc := "([BII[B)V" } : Jvm.MethodName) prog_12_method_9_code (8 : Nat) (Option.none : Option Jvm.ClassFile.FieldType)) ∈ lw_all := lw_g (lw_at lw_m8 7 rfl) rfl
theorem q1883 : (Jvm.Cond.methodLink "DeedKernelModel" (268 : Nat) ({ cls := "DeedKernelModel", name := "sumOf", desc := "([BIIJ)J" } : Jvm.MethodName)) ∈ lw_all := lw_g (lw_at lw_m8 8 rfl) rfl
theorem q1884 : (Jvm.Cond.privateMethod ({ cls := "DeedKernelModel", name := "sumOf", desc := "([BIIJ)J" } : Jvm.MethodName)) ∈ lw_tbl := lw_at lw_m8 9 rfl
theorem q1885 : (Jvm.Cond.instanceMethod ({ cls := "DeedKernelModel", name := "sumOf", desc := "([BIIJ)J" } : Jvm.MethodName)) ∈ lw_all := lw_g (lw_at lw_m8 10 rfl) rfl
theorem q1886 : (Jvm.Cond.code ({ cls := "DeedKernelModel", name := "sumOf", desc := "([BIIJ)J" } : Jvm.MethodName) prog_12_method_8_code (9 : Nat) (Option.some Jvm.ClassFile.FieldType.long)) ∈ lw_all := lw_g (lw_at lw_m8 11 rfl) rfl
theorem q1887 : (Jvm.Cond.constantLong "DeedKernelModel" (266 : Nat) (1099511628211 : Int64)) ∈ lw_all := lw_g (lw_at lw_m8 12 rfl) rfl
theorem q1888 : (Jvm.Cond.methodLink "DeedKernelModel" (256 : Nat) ({ cls := "DeedKernelModel", name := "emptyTree", desc := "()V" } : Jvm.MethodName)) ∈ lw_all := lw_g (lw_at lw_m8 13 rfl) rfl
theorem q1889 : (Jvm.Cond.privateMethod ({ cls := "DeedKernelModel", name := "emptyTree", desc := "()V" } : Jvm.MethodName)) ∈ lw_tbl := lw_at lw_m8 14 rfl
theorem q1890 : (Jvm.Cond.instanceMethod ({ cls := "DeedKernelModel", name := "emptyTree", desc := "()V" } : Jvm.MethodName)) ∈ lw_all := lw_g (lw_at lw_m8 15 rfl) rfl
theorem q1891 : (Jvm.Cond.code ({ cls := "DeedKernelModel", name := "emptyTree", desc := "()V" } : Jvm.MethodName) prog_12_method_6_code (3 : Nat) (Option.none : Option Jvm.ClassFile.FieldType)) ∈ lw_all := lw_g (lw_at lw_m8 16 rfl) rfl
theorem q1892 : (Jvm.Cond.methodLink "DeedKernelModel" (259 : Nat) ({ cls := "DeedKernelModel", name := "first", desc := "()V" } : Jvm.MethodName)) ∈ lw_all := lw_g (lw_at lw_m8 17 rfl) rfl
theorem q1893 : (Jvm.Cond.privateMethod ({ cls := "DeedKernelModel", name := "first", desc := "()V" } : Jvm.MethodName)) ∈ lw_tbl := lw_at lw_m8 18 rfl
theorem q1894 : (Jvm.Cond.instanceMethod ({ cls := "DeedKernelModel", name := "first", desc := "()V" } : Jvm.MethodName)) ∈ lw_all := lw_g (lw_at lw_m8 19 rfl) rfl
theorem q1895 : (Jvm.Cond.code ({ cls := "DeedKernelModel", name := "first", desc := "()V" } : Jvm.MethodName) prog_12_method_7_code (3 : Nat) (Option.none : Option Jvm.ClassFile.FieldType)) ∈ lw_all := lw_g (lw_at lw_m8 20 rfl) rfl
theorem q1896 : (Jvm.Cond.methodLink "DeedKernelModel" (262 : Nat) ({ cls := "DeedKernelModel", name := "release", desc := "(LDeedKernelModel$Group;)V" } : Jvm.MethodName)) ∈ lw_all := lw_g (lw_at lw_m8 21 rfl) rfl
theorem q1897 : (Jvm.Cond.privateMethod ({ cls := "DeedKernelModel", name := "release", desc := "(LDeedKernelModel$Group;)V" } : Jvm.MethodName)) ∈ lw_tbl := lw_at lw_m8 22 rfl
theorem q1898 : (Jvm.Cond.instanceMethod ({ cls := "DeedKernelModel", name := "release", desc := "(LDeedKernelModel$Group;)V" } : Jvm.MethodName)) ∈ lw_all := lw_g (lw_at lw_m8 23 rfl) rfl
theorem q1899 : (Jvm.Cond.code ({ cls := "DeedKernelModel", name := "release", desc := "(LDeedKernelModel$Group;)V" } : Jvm.MethodName) prog_12_method_70_code (3 : Nat) (Option.none : Option Jvm.ClassFile.FieldType)) ∈ lw_all := lw_g (lw_at lw_m8 24 rfl) rfl
theorem q1900 : (Jvm.Cond.methodLink "DeedKernelModel" (614 : Nat) ({ cls := "DeedKernelModel$Group", name := "clear", desc := "()V" } : Jvm.MethodName)) ∈ lw_all := lw_g (lw_at lw_m8 25 rfl) rfl
theorem q1904 : (Jvm.Cond.fieldLink "DeedKernelModel" (194 : Nat) "DeedKernelModel" "blocks" "I") ∈ lw_all := lw_g (lw_at lw_m8 29 rfl) rfl
theorem q1905 : (Jvm.Cond.fieldLink "DeedKernelModel" (197 : Nat) "DeedKernelModel" "inodeBlocks" "I") ∈ lw_all := lw_g (lw_at lw_m8 30 rfl) rfl
theorem q1906 : (Jvm.Cond.fieldLink "DeedKernelModel" (206 : Nat) "DeedKernelModel" "logBlocks" "I") ∈ lw_all := lw_g (lw_at lw_m8 31 rfl) rfl
theorem q1907 : (Jvm.Cond.fieldLink "DeedKernelModel" (209 : Nat) "DeedKernelModel" "inodes" "I") ∈ lw_all := lw_g (lw_at lw_m8 32 rfl) rfl
theorem q1908 : (Jvm.Cond.fieldLink "DeedKernelModel" (212 : Nat) "DeedKernelModel" "head" "I") ∈ lw_all := lw_g (lw_at lw_m8 33 rfl) rfl
theorem q1909 : (Jvm.Cond.fieldLink "DeedKernelModel" (215 : Nat) "DeedKernelModel" "dataFrom" "I") ∈ lw_all := lw_g (lw_at lw_m8 34 rfl) rfl
theorem q1910 : (Jvm.Cond.fieldLink "DeedKernelModel" (218 : Nat) "DeedKernelModel" "disk" "[B") ∈ lw_all := lw_g (lw_at lw_m8 35 rfl) rfl
theorem q1911 : (Jvm.Cond.fieldLink "DeedKernelModel" (221 : Nat) "DeedKernelModel" "image" "[B") ∈ lw_all := lw_g (lw_at lw_m8 36 rfl) rfl
theorem q1912 : (Jvm.Cond.fieldLink "DeedKernelModel" (227 : Nat) "DeedKernelModel" "seq" "I") ∈ lw_all := lw_g (lw_at lw_m8 37 rfl) rfl
theorem q1913 : (Jvm.Cond.fieldLink "DeedKernelModel" (252 : Nat) "DeedKernelModel" "down" "Z") ∈ lw_all := lw_g (lw_at lw_m8 38 rfl) rfl
theorem q1914 : (Jvm.Cond.fieldLink "DeedKernelModel" (249 : Nat) "DeedKernelModel" "powerIn" "I") ∈ lw_all := lw_g (lw_at lw_m8 39 rfl) rfl
theorem q1915 : (Jvm.Cond.fieldLink "DeedKernelModel" (272 : Nat) "DeedKernelModel" "powerAt" "I") ∈ lw_all := lw_g (lw_at lw_m8 40 rfl) rfl
theorem q1916 : (Jvm.Cond.fieldLink "DeedKernelModel" (234 : Nat) "DeedKernelModel" "writes" "I") ∈ lw_all := lw_g (lw_at lw_m8 41 rfl) rfl
theorem q1917 : (Jvm.Cond.fieldLink "DeedKernelModel" (237 : Nat) "DeedKernelModel" "begun" "I") ∈ lw_all := lw_g (lw_at lw_m8 42 rfl) rfl
theorem q1918 : (Jvm.Cond.fieldLink "DeedKernelModel" (240 : Nat) "DeedKernelModel" "finished" "I") ∈ lw_all := lw_g (lw_at lw_m8 43 rfl) rfl
theorem q1919 : (Jvm.Cond.fieldLink "DeedKernelModel" (243 : Nat) "DeedKernelModel" "aborted" "I") ∈ lw_all := lw_g (lw_at lw_m8 44 rfl) rfl
theorem q1920 : (Jvm.Cond.fieldLink "DeedKernelModel" (246 : Nat) "DeedKernelModel" "busies" "I") ∈ lw_all := lw_g (lw_at lw_m8 45 rfl) rfl
theorem q1921 : (Jvm.Cond.fieldLink "DeedKernelModel" (772 : Nat) "DeedKernelModel" "ages" "J") ∈ lw_all := lw_g (lw_at lw_m8 46 rfl) rfl
theorem q1922 : (Jvm.Cond.fieldLink "DeedKernelModel" (19 : Nat) "DeedKernelModel" "kind" "[I") ∈ lw_all := lw_g (lw_at lw_m8 47 rfl) rfl
theorem q1923 : (Jvm.Cond.fieldLink "DeedKernelModel" (23 : Nat) "DeedKernelModel" "names" "[I") ∈ lw_all := lw_g (lw_at lw_m8 48 rfl) rfl
theorem q1924 : (Jvm.Cond.fieldLink "DeedKernelModel" (26 : Nat) "DeedKernelModel" "len" "[I") ∈ lw_all := lw_g (lw_at lw_m8 49 rfl) rfl
theorem q1925 : (Jvm.Cond.fieldLink "DeedKernelModel" (29 : Nat) "DeedKernelModel" "up" "[I") ∈ lw_all := lw_g (lw_at lw_m8 50 rfl) rfl
theorem q1926 : (Jvm.Cond.fieldLink "DeedKernelModel" (32 : Nat) "DeedKernelModel" "count" "[I") ∈ lw_all := lw_g (lw_at lw_m8 51 rfl) rfl
theorem q1927 : (Jvm.Cond.fieldLink "DeedKernelModel" (37 : Nat) "DeedKernelModel" "block" "[[I") ∈ lw_all := lw_g (lw_at lw_m8 52 rfl) rfl
theorem q1928 : (Jvm.Cond.fieldLink "DeedKernelModel" (40 : Nat) "DeedKernelModel" "indirect" "[I") ∈ lw_all := lw_g (lw_at lw_m8 53 rfl) rfl
theorem q1929 : (Jvm.Cond.fieldLink "DeedKernelModel" (45 : Nat) "DeedKernelModel" "data" "[[B") ∈ lw_all := lw_g (lw_at lw_m8 54 rfl) rfl
theorem q1930 : (Jvm.Cond.fieldLink "DeedKernelModel" (48 : Nat) "DeedKernelModel" "sIno" "[[I") ∈ lw_all := lw_g (lw_at lw_m8 55 rfl) rfl
theorem q1931 : (Jvm.Cond.fieldLink "DeedKernelModel" (53 : Nat) "DeedKernelModel" "sA" "[[J") ∈ lw_all := lw_g (lw_at lw_m8 56 rfl) rfl
theorem q1932 : (Jvm.Cond.fieldLink "DeedKernelModel" (56 : Nat) "DeedKernelModel" "sB" "[[J") ∈ lw_all := lw_g (lw_at lw_m8 57 rfl) rfl
theorem q1933 : (Jvm.Cond.fieldLink "DeedKernelModel" (59 : Nat) "DeedKernelModel" "pState" "[I") ∈ lw_all := lw_g (lw_at lw_m8 58 rfl) rfl
theorem q1934 : (Jvm.Cond.fieldLink "DeedKernelModel" (62 : Nat) "DeedKernelModel" "pParent" "[I") ∈ lw_all := lw_g (lw_at lw_m8 59 rfl) rfl
theorem q1935 : (Jvm.Cond.fieldLink "DeedKernelModel" (65 : Nat) "DeedKernelModel" "pCode" "[I") ∈ lw_all := lw_g (lw_at lw_m8 60 rfl) rfl
theorem q1936 : (Jvm.Cond.fieldLink "DeedKernelModel" (68 : Nat) "DeedKernelModel" "pDesc" "[[I") ∈ lw_all := lw_g (lw_at lw_m8 61 rfl) rfl
theorem q1937 : (Jvm.Cond.fieldLink "DeedKernelModel" (71 : Nat) "DeedKernelModel" "pWork" "[I") ∈ lw_all := lw_g (lw_at lw_m8 62 rfl) rfl
theorem q1938 : (Jvm.Cond.fieldLink "DeedKernelModel" (74 : Nat) "DeedKernelModel" "pSig" "[I") ∈ lw_all := lw_g (lw_at lw_m8 63 rfl) rfl
theorem q1939 : (Jvm.Cond.fieldLink "DeedKernelModel" (77 : Nat) "DeedKernelModel" "unaware" "[Z") ∈ lw_all := lw_g (lw_at lw_m8 64 rfl) rfl
theorem q1940 : (Jvm.Cond.fieldLink "DeedKernelModel" (81 : Nat) "DeedKernelModel" "oFile" "[I") ∈ lw_all := lw_g (lw_at lw_m8 65 rfl) rfl
theorem q1941 : (Jvm.Cond.fieldLink "DeedKernelModel" (84 : Nat) "DeedKernelModel" "oPipe" "[I") ∈ lw_all := lw_g (lw_at lw_m8 66 rfl) rfl
theorem q1942 : (Jvm.Cond.fieldLink "DeedKernelModel" (87 : Nat) "DeedKernelModel" "oSide" "[I") ∈ lw_all := lw_g (lw_at lw_m8 67 rfl) rfl
theorem q1943 : (Jvm.Cond.fieldLink "DeedKernelModel" (90 : Nat) "DeedKernelModel" "oHow" "[I") ∈ lw_all := lw_g (lw_at lw_m8 68 rfl) rfl
theorem q1944 : (Jvm.Cond.fieldLink "DeedKernelModel" (93 : Nat) "DeedKernelModel" "oPlace" "[I") ∈ lw_all := lw_g (lw_at lw_m8 69 rfl) rfl
theorem q1945 : (Jvm.Cond.fieldLink "DeedKernelModel" (96 : Nat) "DeedKernelModel" "pipe" "[[B") ∈ lw_all := lw_g (lw_at lw_m8 70 rfl) rfl
theorem q1946 : (Jvm.Cond.fieldLink "DeedKernelModel" (99 : Nat) "DeedKernelModel" "pipeLen" "[I") ∈ lw_all := lw_g (lw_at lw_m8 71 rfl) rfl
theorem q1947 : (Jvm.Cond.fieldLink "DeedKernelModel" (104 : Nat) "DeedKernelModel" "groups" "[LDeedKernelModel$Group;") ∈ lw_all := lw_g (lw_at lw_m8 72 rfl) rfl
theorem q1948 : (Jvm.Cond.fieldLink "DeedKernelModel" (109 : Nat) "DeedKernelModel" "solo" "LDeedKernelModel$Group;") ∈ lw_all := lw_g (lw_at lw_m8 73 rfl) rfl
theorem q1949 : (Jvm.Cond.fieldLink "DeedKernelModel" (7 : Nat) "DeedKernelModel" "thrown" "I") ∈ lw_all := lw_g (lw_at lw_m8 74 rfl) rfl
theorem q1950 : (Jvm.Cond.fieldLink "DeedKernelModel" (113 : Nat) "DeedKernelModel" "tape" "[I") ∈ lw_all := lw_g (lw_at lw_m8 75 rfl) rfl
theorem q1951 : (Jvm.Cond.fieldLink "DeedKernelModel" (602 : Nat) "DeedKernelModel" "tapeSize" "I") ∈ lw_all := lw_g (lw_at lw_m8 76 rfl) rfl
theorem q1952 : (Jvm.Cond.fieldLink "DeedKernelModel" (116 : Nat) "DeedKernelModel" "in" "[I") ∈ lw_all := lw_g (lw_at lw_m8 77 rfl) rfl
theorem q1953 : (Jvm.Cond.fieldLink "DeedKernelModel" (605 : Nat) "DeedKernelModel" "inSize" "I") ∈ lw_all := lw_g (lw_at lw_m8 78 rfl) rfl
theorem q1954 : (Jvm.Cond.fieldLink "DeedKernelModel" (119 : Nat) "DeedKernelModel" "out" "[B") ∈ lw_all := lw_g (lw_at lw_m8 79 rfl) rfl
theorem q1955 : (Jvm.Cond.fieldLink "DeedKernelModel" (680 : Nat) "DeedKernelModel" "outSize" "I") ∈ lw_all := lw_g (lw_at lw_m8 80 rfl) rfl
theorem q1956 : (Jvm.Cond.fieldLink "DeedKernelModel" (123 : Nat) "DeedKernelModel" "list" "[I") ∈ lw_all := lw_g (lw_at lw_m8 81 rfl) rfl
theorem q1957 : (Jvm.Cond.fieldLink "DeedKernelModel" (126 : Nat) "DeedKernelModel" "headRow" "[B") ∈ lw_all := lw_g (lw_at lw_m8 82 rfl) rfl
theorem q1958 : (Jvm.Cond.fieldLink "DeedKernelModel" (310 : Nat) "DeedKernelModel" "foundSlot" "I") ∈ lw_all := lw_g (lw_at lw_m8 83 rfl) rfl
theorem q1959 : (Jvm.Cond.fieldLink "DeedKernelModel" (396 : Nat) "DeedKernelModel" "tA" "J") ∈ lw_all := lw_g (lw_at lw_m8 84 rfl) rfl
theorem q1960 : (Jvm.Cond.fieldLink "DeedKernelModel" (400 : Nat) "DeedKernelModel" "tB" "J") ∈ lw_all := lw_g (lw_at lw_m8 85 rfl) rfl
theorem q1961 : (Jvm.Cond.fieldLink "DeedKernelModel" (129 : Nat) "DeedKernelModel" "sparing" "I") ∈ lw_all := lw_g (lw_at lw_m8 86 rfl) rfl
theorem q1962 : (Jvm.Cond.fieldLink "DeedKernelModel" (132 : Nat) "DeedKernelModel" "kKind" "[I") ∈ lw_all := lw_g (lw_at lw_m8 87 rfl) rfl
theorem q1963 : (Jvm.Cond.fieldLink "DeedKernelModel" (135 : Nat) "DeedKernelModel" "kNames" "[I") ∈ lw_all := lw_g (lw_at lw_m8 88 rfl) rfl
theorem q1964 : (Jvm.Cond.fieldLink "DeedKernelModel" (138 : Nat) "DeedKernelModel" "kLen" "[I") ∈ lw_all := lw_g (lw_at lw_m8 89 rfl) rfl
theorem q1965 : (Jvm.Cond.fieldLink "DeedKernelModel" (141 : Nat) "DeedKernelModel" "kUp" "[I") ∈ lw_all := lw_g (lw_at lw_m8 90 rfl) rfl
theorem q1966 : (Jvm.Cond.fieldLink "DeedKernelModel" (144 : Nat) "DeedKernelModel" "kCount" "[I") ∈ lw_all := lw_g (lw_at lw_m8 91 rfl) rfl
theorem q1967 : (Jvm.Cond.fieldLink "DeedKernelModel" (147 : Nat) "DeedKernelModel" "kBlock" "[[I") ∈ lw_all := lw_g (lw_at lw_m8 92 rfl) rfl
theorem q1968 : (Jvm.Cond.fieldLink "DeedKernelModel" (150 : Nat) "DeedKernelModel" "kIndirect" "[I") ∈ lw_all := lw_g (lw_at lw_m8 93 rfl) rfl
theorem q1969 : (Jvm.Cond.fieldLink "DeedKernelModel" (154 : Nat) "DeedKernelModel" "kData" "[[B") ∈ lw_all := lw_g (lw_at lw_m8 94 rfl) rfl
theorem q1970 : (Jvm.Cond.fieldLink "DeedKernelModel" (157 : Nat) "DeedKernelModel" "busy" "[Z") ∈ lw_all := lw_g (lw_at lw_m8 95 rfl) rfl
theorem q1971 : (Jvm.Cond.fieldLink "DeedKernelModel" (160 : Nat) "DeedKernelModel" "dirty" "[Z") ∈ lw_all := lw_g (lw_at lw_m8 96 rfl) rfl
theorem q1972 : (Jvm.Cond.fieldLink "DeedKernelModel" (163 : Nat) "DeedKernelModel" "uIno" "[I") ∈ lw_all := lw_g (lw_at lw_m8 97 rfl) rfl
theorem q1973 : (Jvm.Cond.fieldLink "DeedKernelModel" (166 : Nat) "DeedKernelModel" "uA" "[J") ∈ lw_all := lw_g (lw_at lw_m8 98 rfl) rfl
theorem q1974 : (Jvm.Cond.fieldLink "DeedKernelModel" (170 : Nat) "DeedKernelModel" "uB" "[J") ∈ lw_all := lw_g (lw_at lw_m8 99 rfl) rfl
theorem q1975 : (Jvm.Cond.fieldLink "DeedKernelModel" (173 : Nat) "DeedKernelModel" "stA" "[J") ∈ lw_all := lw_g (lw_at lw_m8 100 rfl) rfl
theorem q1976 : (Jvm.Cond.fieldLink "DeedKernelModel" (176 : Nat) "DeedKernelModel" "stB" "[J") ∈ lw_all := lw_g (lw_at lw_m8 101 rfl) rfl
theorem q1977 : (Jvm.Cond.fieldLink "DeedKernelModel" (179 : Nat) "DeedKernelModel" "stKind" "[I") ∈ lw_all := lw_g (lw_at lw_m8 102 rfl) rfl
theorem q1978 : (Jvm.Cond.fieldLink "DeedKernelModel" (539 : Nat) "DeedKernelModel" "steps" "I") ∈ lw_all := lw_g (lw_at lw_m8 103 rfl) rfl
theorem q1979 : (Jvm.Cond.fieldLink "DeedKernelModel" (542 : Nat) "DeedKernelModel" "beginAt" "I") ∈ lw_all := lw_g (lw_at lw_m8 104 rfl) rfl
theorem q1980 : (Jvm.Cond.fieldLink "DeedKernelModel" (562 : Nat) "DeedKernelModel" "came" "I") ∈ lw_all := lw_g (lw_at lw_m8 105 rfl) rfl
theorem q1981 : (Jvm.Cond.fieldLink "DeedKernelModel" (569 : Nat) "DeedKernelModel" "dir" "I") ∈ lw_all := lw_g (lw_at lw_m8 106 rfl) rfl
theorem q1982 : (Jvm.Cond.fieldLink "DeedKernelModel" (572 : Nat) "DeedKernelModel" "nameA" "J") ∈ lw_all := lw_g (lw_at lw_m8 107 rfl) rfl
theorem q1983 : (Jvm.Cond.fieldLink "DeedKernelModel" (575 : Nat) "DeedKernelModel" "nameB" "J") ∈ lw_all := lw_g (lw_at lw_m8 108 rfl) rfl
theorem q1984 : (Jvm.Cond.fieldLink "DeedKernelModel" (578 : Nat) "DeedKernelModel" "entry" "I") ∈ lw_all := lw_g (lw_at lw_m8 109 rfl) rfl
theorem q1985 : (Jvm.Cond.fieldLink "DeedKernelModel" (182 : Nat) "DeedKernelModel" "spare" "[[B") ∈ lw_all := lw_g (lw_at lw_m8 110 rfl) rfl
theorem q1986 : (Jvm.Cond.fieldLink "DeedKernelModel" (185 : Nat) "DeedKernelModel" "sortA" "[J") ∈ lw_all := lw_g (lw_at lw_m8 111 rfl) rfl
theorem q1987 : (Jvm.Cond.fieldLink "DeedKernelModel" (188 : Nat) "DeedKernelModel" "sortB" "[J") ∈ lw_all := lw_g (lw_at lw_m8 112 rfl) rfl
theorem q1988 : (Jvm.Cond.fieldLink "DeedKernelModel" (191 : Nat) "DeedKernelModel" "told" "[I") ∈ lw_all := lw_g (lw_at lw_m8 113 rfl) rfl
theorem q1989 : (Jvm.Cond.laysFinal "DeedKernelModel" "DeedKernelModel" "blocks" "I") ∈ lw_all := lw_g (lw_at lw_m8 114 rfl) rfl
theorem q1990 : (Jvm.Cond.soleField "DeedKernelModel" "blocks") ∈ lw_all := lw_g (lw_at lw_m8 115 rfl) rfl
theorem q1991 : (Jvm.Cond.laysFinal "DeedKernelModel" "DeedKernelModel" "inodeBlocks" "I") ∈ lw_all := lw_g (lw_at lw_m8 116 rfl) rfl
theorem q1992 : (Jvm.Cond.soleField "DeedKernelModel" "inodeBlocks") ∈ lw_all := lw_g (lw_at lw_m8 117 rfl) rfl
theorem q1993 : (Jvm.Cond.laysFinal "DeedKernelModel" "DeedKernelModel" "logBlocks" "I") ∈ lw_all := lw_g (lw_at lw_m8 118 rfl) rfl
theorem q1994 : (Jvm.Cond.soleField "DeedKernelModel" "logBlocks") ∈ lw_all := lw_g (lw_at lw_m8 119 rfl) rfl
theorem q1995 : (Jvm.Cond.laysFinal "DeedKernelModel" "DeedKernelModel" "inodes" "I") ∈ lw_all := lw_g (lw_at lw_m8 120 rfl) rfl
theorem q1996 : (Jvm.Cond.soleField "DeedKernelModel" "inodes") ∈ lw_all := lw_g (lw_at lw_m8 121 rfl) rfl
theorem q1997 : (Jvm.Cond.laysFinal "DeedKernelModel" "DeedKernelModel" "head" "I") ∈ lw_all := lw_g (lw_at lw_m8 122 rfl) rfl
theorem q1998 : (Jvm.Cond.soleField "DeedKernelModel" "head") ∈ lw_all := lw_g (lw_at lw_m8 123 rfl) rfl
theorem q1999 : (Jvm.Cond.laysFinal "DeedKernelModel" "DeedKernelModel" "dataFrom" "I") ∈ lw_all := lw_g (lw_at lw_m8 124 rfl) rfl
theorem q2000 : (Jvm.Cond.soleField "DeedKernelModel" "dataFrom") ∈ lw_all := lw_g (lw_at lw_m8 125 rfl) rfl
theorem q2001 : (Jvm.Cond.laysFinal "DeedKernelModel" "DeedKernelModel" "disk" "[B") ∈ lw_all := lw_g (lw_at lw_m8 126 rfl) rfl
theorem q2002 : (Jvm.Cond.soleField "DeedKernelModel" "disk") ∈ lw_all := lw_g (lw_at lw_m8 127 rfl) rfl
theorem q2003 : (Jvm.Cond.laysFinal "DeedKernelModel" "DeedKernelModel" "image" "[B") ∈ lw_all := lw_g (lw_at lw_m8 128 rfl) rfl
theorem q2004 : (Jvm.Cond.soleField "DeedKernelModel" "image") ∈ lw_all := lw_g (lw_at lw_m8 129 rfl) rfl
theorem q2005 : (Jvm.Cond.lays "DeedKernelModel" "DeedKernelModel" "seq" "I") ∈ lw_all := lw_g (lw_at lw_m8 130 rfl) rfl
theorem q2006 : (Jvm.Cond.soleField "DeedKernelModel" "seq") ∈ lw_all := lw_g (lw_at lw_m8 131 rfl) rfl
theorem q2007 : (Jvm.Cond.lays "DeedKernelModel" "DeedKernelModel" "down" "Z") ∈ lw_all := lw_g (lw_at lw_m8 132 rfl) rfl
theorem q2008 : (Jvm.Cond.soleField "DeedKernelModel" "down") ∈ lw_all := lw_g (lw_at lw_m8 133 rfl) rfl
theorem q2009 : (Jvm.Cond.lays "DeedKernelModel" "DeedKernelModel" "powerIn" "I") ∈ lw_all := lw_g (lw_at lw_m8 134 rfl) rfl
theorem q2010 : (Jvm.Cond.soleField "DeedKernelModel" "powerIn") ∈ lw_all := lw_g (lw_at lw_m8 135 rfl) rfl
theorem q2011 : (Jvm.Cond.lays "DeedKernelModel" "DeedKernelModel" "powerAt" "I") ∈ lw_all := lw_g (lw_at lw_m8 136 rfl) rfl
theorem q2012 : (Jvm.Cond.soleField "DeedKernelModel" "powerAt") ∈ lw_all := lw_g (lw_at lw_m8 137 rfl) rfl
theorem q2013 : (Jvm.Cond.lays "DeedKernelModel" "DeedKernelModel" "writes" "I") ∈ lw_all := lw_g (lw_at lw_m8 138 rfl) rfl
theorem q2014 : (Jvm.Cond.soleField "DeedKernelModel" "writes") ∈ lw_all := lw_g (lw_at lw_m8 139 rfl) rfl
theorem q2015 : (Jvm.Cond.lays "DeedKernelModel" "DeedKernelModel" "begun" "I") ∈ lw_all := lw_g (lw_at lw_m8 140 rfl) rfl
theorem q2016 : (Jvm.Cond.soleField "DeedKernelModel" "begun") ∈ lw_all := lw_g (lw_at lw_m8 141 rfl) rfl
theorem q2017 : (Jvm.Cond.lays "DeedKernelModel" "DeedKernelModel" "finished" "I") ∈ lw_all := lw_g (lw_at lw_m8 142 rfl) rfl
theorem q2018 : (Jvm.Cond.soleField "DeedKernelModel" "finished") ∈ lw_all := lw_g (lw_at lw_m8 143 rfl) rfl
theorem q2019 : (Jvm.Cond.lays "DeedKernelModel" "DeedKernelModel" "aborted" "I") ∈ lw_all := lw_g (lw_at lw_m8 144 rfl) rfl
theorem q2020 : (Jvm.Cond.soleField "DeedKernelModel" "aborted") ∈ lw_all := lw_g (lw_at lw_m8 145 rfl) rfl
theorem q2021 : (Jvm.Cond.lays "DeedKernelModel" "DeedKernelModel" "busies" "I") ∈ lw_all := lw_g (lw_at lw_m8 146 rfl) rfl
theorem q2022 : (Jvm.Cond.soleField "DeedKernelModel" "busies") ∈ lw_all := lw_g (lw_at lw_m8 147 rfl) rfl
theorem q2023 : (Jvm.Cond.lays "DeedKernelModel" "DeedKernelModel" "ages" "J") ∈ lw_all := lw_g (lw_at lw_m8 148 rfl) rfl
theorem q2024 : (Jvm.Cond.soleField "DeedKernelModel" "ages") ∈ lw_all := lw_g (lw_at lw_m8 149 rfl) rfl
theorem q2025 : (Jvm.Cond.laysFinal "DeedKernelModel" "DeedKernelModel" "kind" "[I") ∈ lw_all := lw_g (lw_at lw_m8 150 rfl) rfl
theorem q2026 : (Jvm.Cond.soleField "DeedKernelModel" "kind") ∈ lw_all := lw_g (lw_at lw_m8 151 rfl) rfl
theorem q2027 : (Jvm.Cond.laysFinal "DeedKernelModel" "DeedKernelModel" "names" "[I") ∈ lw_all := lw_g (lw_at lw_m8 152 rfl) rfl
theorem q2028 : (Jvm.Cond.soleField "DeedKernelModel" "names") ∈ lw_all := lw_g (lw_at lw_m8 153 rfl) rfl
theorem q2029 : (Jvm.Cond.laysFinal "DeedKernelModel" "DeedKernelModel" "len" "[I") ∈ lw_all := lw_g (lw_at lw_m8 154 rfl) rfl
theorem q2030 : (Jvm.Cond.soleField "DeedKernelModel" "len") ∈ lw_all := lw_g (lw_at lw_m8 155 rfl) rfl
theorem q2031 : (Jvm.Cond.laysFinal "DeedKernelModel" "DeedKernelModel" "up" "[I") ∈ lw_all := lw_g (lw_at lw_m8 156 rfl) rfl
theorem q2032 : (Jvm.Cond.soleField "DeedKernelModel" "up") ∈ lw_all := lw_g (lw_at lw_m8 157 rfl) rfl
theorem q2033 : (Jvm.Cond.laysFinal "DeedKernelModel" "DeedKernelModel" "count" "[I") ∈ lw_all := lw_g (lw_at lw_m8 158 rfl) rfl
theorem q2034 : (Jvm.Cond.soleField "DeedKernelModel" "count") ∈ lw_all := lw_g (lw_at lw_m8 159 rfl) rfl
theorem q2035 : (Jvm.Cond.laysFinal "DeedKernelModel" "DeedKernelModel" "block" "[[I") ∈ lw_all := lw_g (lw_at lw_m8 160 rfl) rfl
theorem q2036 : (Jvm.Cond.soleField "DeedKernelModel" "block") ∈ lw_all := lw_g (lw_at lw_m8 161 rfl) rfl
theorem q2037 : (Jvm.Cond.laysFinal "DeedKernelModel" "DeedKernelModel" "indirect" "[I") ∈ lw_all := lw_g (lw_at lw_m8 162 rfl) rfl
theorem q2038 : (Jvm.Cond.soleField "DeedKernelModel" "indirect") ∈ lw_all := lw_g (lw_at lw_m8 163 rfl) rfl
theorem q2039 : (Jvm.Cond.laysFinal "DeedKernelModel" "DeedKernelModel" "data" "[[B") ∈ lw_all := lw_g (lw_at lw_m8 164 rfl) rfl
theorem q2040 : (Jvm.Cond.soleField "DeedKernelModel" "data") ∈ lw_all := lw_g (lw_at lw_m8 165 rfl) rfl
theorem q2041 : (Jvm.Cond.laysFinal "DeedKernelModel" "DeedKernelModel" "sIno" "[[I") ∈ lw_all := lw_g (lw_at lw_m8 166 rfl) rfl
theorem q2042 : (Jvm.Cond.soleField "DeedKernelModel" "sIno") ∈ lw_all := lw_g (lw_at lw_m8 167 rfl) rfl
theorem q2043 : (Jvm.Cond.laysFinal "DeedKernelModel" "DeedKernelModel" "sA" "[[J") ∈ lw_all := lw_g (lw_at lw_m8 168 rfl) rfl
theorem q2044 : (Jvm.Cond.soleField "DeedKernelModel" "sA") ∈ lw_all := lw_g (lw_at lw_m8 169 rfl) rfl
theorem q2045 : (Jvm.Cond.laysFinal "DeedKernelModel" "DeedKernelModel" "sB" "[[J") ∈ lw_all := lw_g (lw_at lw_m8 170 rfl) rfl
theorem q2046 : (Jvm.Cond.soleField "DeedKernelModel" "sB") ∈ lw_all := lw_g (lw_at lw_m8 171 rfl) rfl
theorem q2047 : (Jvm.Cond.laysFinal "DeedKernelModel" "DeedKernelModel" "pState" "[I") ∈ lw_all := lw_g (lw_at lw_m8 172 rfl) rfl
theorem q2048 : (Jvm.Cond.soleField "DeedKernelModel" "pState") ∈ lw_all := lw_g (lw_at lw_m8 173 rfl) rfl
theorem q2049 : (Jvm.Cond.laysFinal "DeedKernelModel" "DeedKernelModel" "pParent" "[I") ∈ lw_all := lw_g (lw_at lw_m8 174 rfl) rfl
theorem q2050 : (Jvm.Cond.soleField "DeedKernelModel" "pParent") ∈ lw_all := lw_g (lw_at lw_m8 175 rfl) rfl
theorem q2051 : (Jvm.Cond.laysFinal "DeedKernelModel" "DeedKernelModel" "pCode" "[I") ∈ lw_all := lw_g (lw_at lw_m8 176 rfl) rfl
theorem q2052 : (Jvm.Cond.soleField "DeedKernelModel" "pCode") ∈ lw_all := lw_g (lw_at lw_m8 177 rfl) rfl
theorem q2053 : (Jvm.Cond.laysFinal "DeedKernelModel" "DeedKernelModel" "pDesc" "[[I") ∈ lw_all := lw_g (lw_at lw_m8 178 rfl) rfl
theorem q2054 : (Jvm.Cond.soleField "DeedKernelModel" "pDesc") ∈ lw_all := lw_g (lw_at lw_m8 179 rfl) rfl
theorem q2055 : (Jvm.Cond.laysFinal "DeedKernelModel" "DeedKernelModel" "pWork" "[I") ∈ lw_all := lw_g (lw_at lw_m8 180 rfl) rfl
theorem q2056 : (Jvm.Cond.soleField "DeedKernelModel" "pWork") ∈ lw_all := lw_g (lw_at lw_m8 181 rfl) rfl
theorem q2057 : (Jvm.Cond.laysFinal "DeedKernelModel" "DeedKernelModel" "pSig" "[I") ∈ lw_all := lw_g (lw_at lw_m8 182 rfl) rfl
theorem q2058 : (Jvm.Cond.soleField "DeedKernelModel" "pSig") ∈ lw_all := lw_g (lw_at lw_m8 183 rfl) rfl
theorem q2059 : (Jvm.Cond.laysFinal "DeedKernelModel" "DeedKernelModel" "unaware" "[Z") ∈ lw_all := lw_g (lw_at lw_m8 184 rfl) rfl
theorem q2060 : (Jvm.Cond.soleField "DeedKernelModel" "unaware") ∈ lw_all := lw_g (lw_at lw_m8 185 rfl) rfl
theorem q2061 : (Jvm.Cond.laysFinal "DeedKernelModel" "DeedKernelModel" "oFile" "[I") ∈ lw_all := lw_g (lw_at lw_m8 186 rfl) rfl
theorem q2062 : (Jvm.Cond.soleField "DeedKernelModel" "oFile") ∈ lw_all := lw_g (lw_at lw_m8 187 rfl) rfl
theorem q2063 : (Jvm.Cond.laysFinal "DeedKernelModel" "DeedKernelModel" "oPipe" "[I") ∈ lw_all := lw_g (lw_at lw_m8 188 rfl) rfl
theorem q2064 : (Jvm.Cond.soleField "DeedKernelModel" "oPipe") ∈ lw_all := lw_g (lw_at lw_m8 189 rfl) rfl
theorem q2065 : (Jvm.Cond.laysFinal "DeedKernelModel" "DeedKernelModel" "oSide" "[I") ∈ lw_all := lw_g (lw_at lw_m8 190 rfl) rfl
theorem q2066 : (Jvm.Cond.soleField "DeedKernelModel" "oSide") ∈ lw_all := lw_g (lw_at lw_m8 191 rfl) rfl
theorem q2067 : (Jvm.Cond.laysFinal "DeedKernelModel" "DeedKernelModel" "oHow" "[I") ∈ lw_all := lw_g (lw_at lw_m8 192 rfl) rfl
theorem q2068 : (Jvm.Cond.soleField "DeedKernelModel" "oHow") ∈ lw_all := lw_g (lw_at lw_m8 193 rfl) rfl
theorem q2069 : (Jvm.Cond.laysFinal "DeedKernelModel" "DeedKernelModel" "oPlace" "[I") ∈ lw_all := lw_g (lw_at lw_m8 194 rfl) rfl
theorem q2070 : (Jvm.Cond.soleField "DeedKernelModel" "oPlace") ∈ lw_all := lw_g (lw_at lw_m8 195 rfl) rfl
theorem q2071 : (Jvm.Cond.laysFinal "DeedKernelModel" "DeedKernelModel" "pipe" "[[B") ∈ lw_all := lw_g (lw_at lw_m8 196 rfl) rfl
theorem q2072 : (Jvm.Cond.soleField "DeedKernelModel" "pipe") ∈ lw_all := lw_g (lw_at lw_m8 197 rfl) rfl
theorem q2073 : (Jvm.Cond.laysFinal "DeedKernelModel" "DeedKernelModel" "pipeLen" "[I") ∈ lw_all := lw_g (lw_at lw_m8 198 rfl) rfl
theorem q2074 : (Jvm.Cond.soleField "DeedKernelModel" "pipeLen") ∈ lw_all := lw_g (lw_at lw_m8 199 rfl) rfl
theorem q2075 : (Jvm.Cond.laysFinal "DeedKernelModel" "DeedKernelModel" "groups" "[LDeedKernelModel$Group;") ∈ lw_all := lw_g (lw_at lw_m8 200 rfl) rfl
theorem q2076 : (Jvm.Cond.soleField "DeedKernelModel" "groups") ∈ lw_all := lw_g (lw_at lw_m8 201 rfl) rfl
theorem q2077 : (Jvm.Cond.laysFinal "DeedKernelModel" "DeedKernelModel" "solo" "LDeedKernelModel$Group;") ∈ lw_all := lw_g (lw_at lw_m8 202 rfl) rfl
theorem q2078 : (Jvm.Cond.soleField "DeedKernelModel" "solo") ∈ lw_all := lw_g (lw_at lw_m8 203 rfl) rfl
theorem q2079 : (Jvm.Cond.lays "DeedKernelModel" "DeedKernelModel" "thrown" "I") ∈ lw_all := lw_g (lw_at lw_m8 204 rfl) rfl
theorem q2080 : (Jvm.Cond.soleField "DeedKernelModel" "thrown") ∈ lw_all := lw_g (lw_at lw_m8 205 rfl) rfl
theorem q2081 : (Jvm.Cond.laysFinal "DeedKernelModel" "DeedKernelModel" "tape" "[I") ∈ lw_all := lw_g (lw_at lw_m8 206 rfl) rfl
theorem q2082 : (Jvm.Cond.soleField "DeedKernelModel" "tape") ∈ lw_all := lw_g (lw_at lw_m8 207 rfl) rfl
theorem q2083 : (Jvm.Cond.lays "DeedKernelModel" "DeedKernelModel" "tapeSize" "I") ∈ lw_all := lw_g (lw_at lw_m8 208 rfl) rfl
theorem q2084 : (Jvm.Cond.soleField "DeedKernelModel" "tapeSize") ∈ lw_all := lw_g (lw_at lw_m8 209 rfl) rfl
theorem q2085 : (Jvm.Cond.laysFinal "DeedKernelModel" "DeedKernelModel" "in" "[I") ∈ lw_all := lw_g (lw_at lw_m8 210 rfl) rfl
theorem q2086 : (Jvm.Cond.soleField "DeedKernelModel" "in") ∈ lw_all := lw_g (lw_at lw_m8 211 rfl) rfl
theorem q2087 : (Jvm.Cond.lays "DeedKernelModel" "DeedKernelModel" "inSize" "I") ∈ lw_all := lw_g (lw_at lw_m8 212 rfl) rfl
theorem q2088 : (Jvm.Cond.soleField "DeedKernelModel" "inSize") ∈ lw_all := lw_g (lw_at lw_m8 213 rfl) rfl
theorem q2089 : (Jvm.Cond.laysFinal "DeedKernelModel" "DeedKernelModel" "out" "[B") ∈ lw_all := lw_g (lw_at lw_m8 214 rfl) rfl
theorem q2090 : (Jvm.Cond.soleField "DeedKernelModel" "out") ∈ lw_all := lw_g (lw_at lw_m8 215 rfl) rfl
theorem q2091 : (Jvm.Cond.lays "DeedKernelModel" "DeedKernelModel" "outSize" "I") ∈ lw_all := lw_g (lw_at lw_m8 216 rfl) rfl
theorem q2092 : (Jvm.Cond.soleField "DeedKernelModel" "outSize") ∈ lw_all := lw_g (lw_at lw_m8 217 rfl) rfl
theorem q2093 : (Jvm.Cond.laysFinal "DeedKernelModel" "DeedKernelModel" "list" "[I") ∈ lw_all := lw_g (lw_at lw_m8 218 rfl) rfl
theorem q2094 : (Jvm.Cond.soleField "DeedKernelModel" "list") ∈ lw_all := lw_g (lw_at lw_m8 219 rfl) rfl
theorem q2095 : (Jvm.Cond.laysFinal "DeedKernelModel" "DeedKernelModel" "headRow" "[B") ∈ lw_all := lw_g (lw_at lw_m8 220 rfl) rfl
theorem q2096 : (Jvm.Cond.soleField "DeedKernelModel" "headRow") ∈ lw_all := lw_g (lw_at lw_m8 221 rfl) rfl
theorem q2097 : (Jvm.Cond.lays "DeedKernelModel" "DeedKernelModel" "foundSlot" "I") ∈ lw_all := lw_g (lw_at lw_m8 222 rfl) rfl
theorem q2098 : (Jvm.Cond.soleField "DeedKernelModel" "foundSlot") ∈ lw_all := lw_g (lw_at lw_m8 223 rfl) rfl
theorem q2099 : (Jvm.Cond.lays "DeedKernelModel" "DeedKernelModel" "tA" "J") ∈ lw_all := lw_g (lw_at lw_m8 224 rfl) rfl
theorem q2100 : (Jvm.Cond.soleField "DeedKernelModel" "tA") ∈ lw_all := lw_g (lw_at lw_m8 225 rfl) rfl
theorem q2101 : (Jvm.Cond.lays "DeedKernelModel" "DeedKernelModel" "tB" "J") ∈ lw_all := lw_g (lw_at lw_m8 226 rfl) rfl
theorem q2102 : (Jvm.Cond.soleField "DeedKernelModel" "tB") ∈ lw_all := lw_g (lw_at lw_m8 227 rfl) rfl
theorem q2103 : (Jvm.Cond.lays "DeedKernelModel" "DeedKernelModel" "sparing" "I") ∈ lw_all := lw_g (lw_at lw_m8 228 rfl) rfl
theorem q2104 : (Jvm.Cond.soleField "DeedKernelModel" "sparing") ∈ lw_all := lw_g (lw_at lw_m8 229 rfl) rfl
theorem q2105 : (Jvm.Cond.laysFinal "DeedKernelModel" "DeedKernelModel" "kKind" "[I") ∈ lw_all := lw_g (lw_at lw_m8 230 rfl) rfl
theorem q2106 : (Jvm.Cond.soleField "DeedKernelModel" "kKind") ∈ lw_all := lw_g (lw_at lw_m8 231 rfl) rfl
theorem q2107 : (Jvm.Cond.laysFinal "DeedKernelModel" "DeedKernelModel" "kNames" "[I") ∈ lw_all := lw_g (lw_at lw_m8 232 rfl) rfl
theorem q2108 : (Jvm.Cond.soleField "DeedKernelModel" "kNames") ∈ lw_all := lw_g (lw_at lw_m8 233 rfl) rfl
theorem q2109 : (Jvm.Cond.laysFinal "DeedKernelModel" "DeedKernelModel" "kLen" "[I") ∈ lw_all := lw_g (lw_at lw_m8 234 rfl) rfl
theorem q2110 : (Jvm.Cond.soleField "DeedKernelModel" "kLen") ∈ lw_all := lw_g (lw_at lw_m8 235 rfl) rfl
theorem q2111 : (Jvm.Cond.laysFinal "DeedKernelModel" "DeedKernelModel" "kUp" "[I") ∈ lw_all := lw_g (lw_at lw_m8 236 rfl) rfl
theorem q2112 : (Jvm.Cond.soleField "DeedKernelModel" "kUp") ∈ lw_all := lw_g (lw_at lw_m8 237 rfl) rfl
theorem q2113 : (Jvm.Cond.laysFinal "DeedKernelModel" "DeedKernelModel" "kCount" "[I") ∈ lw_all := lw_g (lw_at lw_m8 238 rfl) rfl
theorem q2114 : (Jvm.Cond.soleField "DeedKernelModel" "kCount") ∈ lw_all := lw_g (lw_at lw_m8 239 rfl) rfl
theorem q2115 : (Jvm.Cond.laysFinal "DeedKernelModel" "DeedKernelModel" "kBlock" "[[I") ∈ lw_all := lw_g (lw_at lw_m9 0 rfl) rfl
theorem q2116 : (Jvm.Cond.soleField "DeedKernelModel" "kBlock") ∈ lw_all := lw_g (lw_at lw_m9 1 rfl) rfl
theorem q2117 : (Jvm.Cond.laysFinal "DeedKernelModel" "DeedKernelModel" "kIndirect" "[I") ∈ lw_all := lw_g (lw_at lw_m9 2 rfl) rfl
theorem q2118 : (Jvm.Cond.soleField "DeedKernelModel" "kIndirect") ∈ lw_all := lw_g (lw_at lw_m9 3 rfl) rfl
theorem q2119 : (Jvm.Cond.laysFinal "DeedKernelModel" "DeedKernelModel" "kData" "[[B") ∈ lw_all := lw_g (lw_at lw_m9 4 rfl) rfl
theorem q2120 : (Jvm.Cond.soleField "DeedKernelModel" "kData") ∈ lw_all := lw_g (lw_at lw_m9 5 rfl) rfl
theorem q2121 : (Jvm.Cond.laysFinal "DeedKernelModel" "DeedKernelModel" "busy" "[Z") ∈ lw_all := lw_g (lw_at lw_m9 6 rfl) rfl
theorem q2122 : (Jvm.Cond.soleField "DeedKernelModel" "busy") ∈ lw_all := lw_g (lw_at lw_m9 7 rfl) rfl
theorem q2123 : (Jvm.Cond.laysFinal "DeedKernelModel" "DeedKernelModel" "dirty" "[Z") ∈ lw_all := lw_g (lw_at lw_m9 8 rfl) rfl
theorem q2124 : (Jvm.Cond.soleField "DeedKernelModel" "dirty") ∈ lw_all := lw_g (lw_at lw_m9 9 rfl) rfl
theorem q2125 : (Jvm.Cond.lays "DeedKernelModel" "DeedKernelModel" "uIno" "[I") ∈ lw_all := lw_g (lw_at lw_m9 10 rfl) rfl
theorem q2126 : (Jvm.Cond.soleField "DeedKernelModel" "uIno") ∈ lw_all := lw_g (lw_at lw_m9 11 rfl) rfl
theorem q2127 : (Jvm.Cond.lays "DeedKernelModel" "DeedKernelModel" "uA" "[J") ∈ lw_all := lw_g (lw_at lw_m9 12 rfl) rfl
theorem q2128 : (Jvm.Cond.soleField "DeedKernelModel" "uA") ∈ lw_all := lw_g (lw_at lw_m9 13 rfl) rfl
theorem q2129 : (Jvm.Cond.lays "DeedKernelModel" "DeedKernelModel" "uB" "[J") ∈ lw_all := lw_g (lw_at lw_m9 14 rfl) rfl
theorem q2130 : (Jvm.Cond.soleField "DeedKernelModel" "uB") ∈ lw_all := lw_g (lw_at lw_m9 15 rfl) rfl
theorem q2131 : (Jvm.Cond.laysFinal "DeedKernelModel" "DeedKernelModel" "stA" "[J") ∈ lw_all := lw_g (lw_at lw_m9 16 rfl) rfl
theorem q2132 : (Jvm.Cond.soleField "DeedKernelModel" "stA") ∈ lw_all := lw_g (lw_at lw_m9 17 rfl) rfl
theorem q2133 : (Jvm.Cond.laysFinal "DeedKernelModel" "DeedKernelModel" "stB" "[J") ∈ lw_all := lw_g (lw_at lw_m9 18 rfl) rfl
theorem q2134 : (Jvm.Cond.soleField "DeedKernelModel" "stB") ∈ lw_all := lw_g (lw_at lw_m9 19 rfl) rfl
theorem q2135 : (Jvm.Cond.laysFinal "DeedKernelModel" "DeedKernelModel" "stKind" "[I") ∈ lw_all := lw_g (lw_at lw_m9 20 rfl) rfl
theorem q2136 : (Jvm.Cond.soleField "DeedKernelModel" "stKind") ∈ lw_all := lw_g (lw_at lw_m9 21 rfl) rfl
theorem q2137 : (Jvm.Cond.lays "DeedKernelModel" "DeedKernelModel" "steps" "I") ∈ lw_all := lw_g (lw_at lw_m9 22 rfl) rfl
theorem q2138 : (Jvm.Cond.soleField "DeedKernelModel" "steps") ∈ lw_all := lw_g (lw_at lw_m9 23 rfl) rfl
theorem q2139 : (Jvm.Cond.lays "DeedKernelModel" "DeedKernelModel" "beginAt" "I") ∈ lw_all := lw_g (lw_at lw_m9 24 rfl) rfl
theorem q2140 : (Jvm.Cond.soleField "DeedKernelModel" "beginAt") ∈ lw_all := lw_g (lw_at lw_m9 25 rfl) rfl
theorem q2141 : (Jvm.Cond.lays "DeedKernelModel" "DeedKernelModel" "came" "I") ∈ lw_all := lw_g (lw_at lw_m9 26 rfl) rfl
theorem q2142 : (Jvm.Cond.soleField "DeedKernelModel" "came") ∈ lw_all := lw_g (lw_at lw_m9 27 rfl) rfl
theorem q2143 : (Jvm.Cond.lays "DeedKernelModel" "DeedKernelModel" "dir" "I") ∈ lw_all := lw_g (lw_at lw_m9 28 rfl) rfl
theorem q2144 : (Jvm.Cond.soleField "DeedKernelModel" "dir") ∈ lw_all := lw_g (lw_at lw_m9 29 rfl) rfl
theorem q2145 : (Jvm.Cond.lays "DeedKernelModel" "DeedKernelModel" "nameA" "J") ∈ lw_all := lw_g (lw_at lw_m9 30 rfl) rfl
theorem q2146 : (Jvm.Cond.soleField "DeedKernelModel" "nameA") ∈ lw_all := lw_g (lw_at lw_m9 31 rfl) rfl
theorem q2147 : (Jvm.Cond.lays "DeedKernelModel" "DeedKernelModel" "nameB" "J") ∈ lw_all := lw_g (lw_at lw_m9 32 rfl) rfl
theorem q2148 : (Jvm.Cond.soleField "DeedKernelModel" "nameB") ∈ lw_all := lw_g (lw_at lw_m9 33 rfl) rfl
theorem q2149 : (Jvm.Cond.lays "DeedKernelModel" "DeedKernelModel" "entry" "I") ∈ lw_all := lw_g (lw_at lw_m9 34 rfl) rfl
theorem q2150 : (Jvm.Cond.soleField "DeedKernelModel" "entry") ∈ lw_all := lw_g (lw_at lw_m9 35 rfl) rfl
theorem q2151 : (Jvm.Cond.laysFinal "DeedKernelModel" "DeedKernelModel" "spare" "[[B") ∈ lw_all := lw_g (lw_at lw_m9 36 rfl) rfl
theorem q2152 : (Jvm.Cond.soleField "DeedKernelModel" "spare") ∈ lw_all := lw_g (lw_at lw_m9 37 rfl) rfl
theorem q2153 : (Jvm.Cond.laysFinal "DeedKernelModel" "DeedKernelModel" "sortA" "[J") ∈ lw_all := lw_g (lw_at lw_m9 38 rfl) rfl
theorem q2154 : (Jvm.Cond.soleField "DeedKernelModel" "sortA") ∈ lw_all := lw_g (lw_at lw_m9 39 rfl) rfl
theorem q2155 : (Jvm.Cond.laysFinal "DeedKernelModel" "DeedKernelModel" "sortB" "[J") ∈ lw_all := lw_g (lw_at lw_m9 40 rfl) rfl
theorem q2156 : (Jvm.Cond.soleField "DeedKernelModel" "sortB") ∈ lw_all := lw_g (lw_at lw_m9 41 rfl) rfl
theorem q2157 : (Jvm.Cond.laysFinal "DeedKernelModel" "DeedKernelModel" "told" "[I") ∈ lw_all := lw_g (lw_at lw_m9 42 rfl) rfl
theorem q2158 : (Jvm.Cond.soleField "DeedKernelModel" "told") ∈ lw_all := lw_g (lw_at lw_m9 43 rfl) rfl
theorem q2159 : (Jvm.Cond.superclass "DeedKernelModel" "java/lang/Object") ∈ lw_all := lw_g (lw_at lw_m9 44 rfl) rfl
theorem q2162 : (Jvm.Cond.instanceMethod ({ cls := "DeedKernelModel", name := "type", desc := "(JI)I" } : Jvm.MethodName)) ∈ lw_all := lw_g (lw_at lw_m9 47 rfl) rfl
theorem q2163 : (Jvm.Cond.selects "DeedKernelModel" ({ cls := "DeedKernelModel", name := "type", desc := "(JI)I" } : Jvm.MethodName) ({ cls := "DeedKernelModel", name := "type", desc := "(JI)I" } : Jvm.MethodName)) ∈ lw_all := lw_g (lw_at lw_m9 48 rfl) rfl
theorem q2164 : (Jvm.Cond.code ({ cls := "DeedKernelModel", name := "type", desc := "(JI)I" } : Jvm.MethodName) prog_12_method_76_code (5 : Nat) (Option.some Jvm.ClassFile.FieldType.int)) ∈ lw_all := lw_g (lw_at lw_m9 49 rfl) rfl
theorem q2166 : (Jvm.Cond.instanceMethod ({ cls := "DeedKernelModel", name := "open", desc := "(II)I" } : Jvm.MethodName)) ∈ lw_all := lw_g (lw_at lw_m9 51 rfl) rfl
theorem q2167 : (Jvm.Cond.selects "DeedKernelModel" ({ cls := "DeedKernelModel", name := "open", desc := "(II)I" } : Jvm.MethodName) ({ cls := "DeedKernelModel", name := "open", desc := "(II)I" } : Jvm.MethodName)) ∈ lw_all := lw_g (lw_at lw_m9 52 rfl) rfl
theorem q2168 : (Jvm.Cond.code ({ cls := "DeedKernelModel", name := "open", desc := "(II)I" } : Jvm.MethodName) prog_12_method_77_code (5 : Nat) (Option.some Jvm.ClassFile.FieldType.int)) ∈ lw_all := lw_g (lw_at lw_m9 53 rfl) rfl
theorem q2169 : (Jvm.Cond.methodLink "DeedKernelModel" (620 : Nat) ({ cls := "DeedKernelModel", name := "takeTape", desc := "()V" } : Jvm.MethodName)) ∈ lw_all := lw_g (lw_at lw_m9 54 rfl) rfl
theorem q2170 : (Jvm.Cond.privateMethod ({ cls := "DeedKernelModel", name := "takeTape", desc := "()V" } : Jvm.MethodName)) ∈ lw_tbl := lw_at lw_m9 55 rfl
theorem q2171 : (Jvm.Cond.instanceMethod ({ cls := "DeedKernelModel", name := "takeTape", desc := "()V" } : Jvm.MethodName)) ∈ lw_all := lw_g (lw_at lw_m9 56 rfl) rfl
theorem q2172 : (Jvm.Cond.code ({ cls := "DeedKernelModel", name := "takeTape", desc := "()V" } : Jvm.MethodName) prog_12_method_66_code (2 : Nat) (Option.none : Option Jvm.ClassFile.FieldType)) ∈ lw_all := lw_g (lw_at lw_m9 57 rfl) rfl
theorem q2173 : (Jvm.Cond.methodLink "DeedKernelModel" (623 : Nat) ({ cls := "DeedKernelModel", name := "path", desc := "(II)Z" } : Jvm.MethodName)) ∈ lw_all := lw_g (lw_at lw_m9 58 rfl) rfl
theorem q2174 : (Jvm.Cond.privateMethod ({ cls := "DeedKernelModel", name := "path", desc := "(II)Z" } : Jvm.MethodName)) ∈ lw_tbl := lw_at lw_m9 59 rfl
theorem q2175 : (Jvm.Cond.instanceMethod ({ cls := "DeedKernelModel", name := "path", desc := "(II)Z" } : Jvm.MethodName)) ∈ lw_all := lw_g (lw_at lw_m9 60 rfl) rfl
theorem q2176 : (Jvm.Cond.code ({ cls := "DeedKernelModel", name := "path", desc := "(II)Z" } : Jvm.MethodName) prog_12_method_58_code (15 : Nat) (Option.some Jvm.ClassFile.FieldType.boolean)) ∈ lw_all := lw_g (lw_at lw_m9 61 rfl) rfl
theorem q2177 : (Jvm.Cond.methodLink "DeedKernelModel" (626 : Nat) ({ cls := "DeedKernelModel", name := "ready", desc := "(IZZ)I" } : Jvm.MethodName)) ∈ lw_all := lw_g (lw_at lw_m9 62 rfl) rfl
theorem q2178 : (Jvm.Cond.privateMethod ({ cls := "DeedKernelModel", name := "ready", desc := "(IZZ)I" } : Jvm.MethodName)) ∈ lw_tbl := lw_at lw_m9 63 rfl
theorem q2179 : (Jvm.Cond.instanceMethod ({ cls := "DeedKernelModel", name := "ready", desc := "(IZZ)I" } : Jvm.MethodName)) ∈ lw_all := lw_g (lw_at lw_m9 64 rfl) rfl
theorem q2180 : (Jvm.Cond.code ({ cls := "DeedKernelModel", name := "ready", desc := "(IZZ)I" } : Jvm.MethodName) prog_12_method_67_code (4 : Nat) (Option.some Jvm.ClassFile.FieldType.int)) ∈ lw_all := lw_g (lw_at lw_m9 65 rfl) rfl
theorem q2181 : (Jvm.Cond.methodLink "DeedKernelModel" (608 : Nat) ({ cls := "DeedKernelModel", name := "isLive", desc := "(I)Z" } : Jvm.MethodName)) ∈ lw_all := lw_g (lw_at lw_m9 66 rfl) rfl
theorem q2182 : (Jvm.Cond.privateMethod ({ cls := "DeedKernelModel", name := "isLive", desc := "(I)Z" } : Jvm.MethodName)) ∈ lw_tbl := lw_at lw_m9 67 rfl
theorem q2183 : (Jvm.Cond.instanceMethod ({ cls := "DeedKernelModel", name := "isLive", desc := "(I)Z" } : Jvm.MethodName)) ∈ lw_all := lw_g (lw_at lw_m9 68 rfl) rfl
theorem q2184 : (Jvm.Cond.code ({ cls := "DeedKernelModel", name := "isLive", desc := "(I)Z" } : Jvm.MethodName) prog_12_method_65_code (2 : Nat) (Option.some Jvm.ClassFile.FieldType.boolean)) ∈ lw_all := lw_g (lw_at lw_m9 69 rfl) rfl
theorem q2185 : (Jvm.Cond.methodLink "DeedKernelModel" (1 : Nat) ({ cls := "java/lang/System", name := "arraycopy", desc := "(Ljava/lang/Object;ILjava/lang/Object;II)V" } : Jvm.MethodName)) ∈ lw_all := lw_g (lw_at lw_m9 70 rfl) rfl
theorem q2186 : (Jvm.Cond.methodLink "DeedKernelModel" (630 : Nat) ({ cls := "DeedKernelModel", name := "mine", desc := "(I)LDeedKernelModel$Group;" } : Jvm.MethodName)) ∈ lw_all := lw_g (lw_at lw_m9 71 rfl) rfl
theorem q2187 : (Jvm.Cond.privateMethod ({ cls := "DeedKernelModel", name := "mine", desc := "(I)LDeedKernelModel$Group;" } : Jvm.MethodName)) ∈ lw_tbl := lw_at lw_m9 72 rfl
theorem q2188 : (Jvm.Cond.instanceMethod ({ cls := "DeedKernelModel", name := "mine", desc := "(I)LDeedKernelModel$Group;" } : Jvm.MethodName)) ∈ lw_all := lw_g (lw_at lw_m9 73 rfl) rfl
theorem q2189 : (Jvm.Cond.code ({ cls := "DeedKernelModel", name := "mine", desc := "(I)LDeedKernelModel$Group;" } : Jvm.MethodName) prog_12_method_12_code (2 : Nat) (Option.some (Jvm.ClassFile.FieldType.object "DeedKernelModel$Group"))) ∈ lw_all := lw_g (lw_at lw_m9 74 rfl) rfl
theorem q2190 : (Jvm.Cond.methodLink "DeedKernelModel" (634 : Nat) ({ cls := "DeedKernelModel", name := "opened", desc := "(ILDeedKernelModel$Group;I)I" } : Jvm.MethodName)) ∈ lw_all := lw_g (lw_at lw_m9 75 rfl) rfl
theorem q2191 : (Jvm.Cond.privateMethod ({ cls := "DeedKernelModel", name := "opened", desc := "(ILDeedKernelModel$Group;I)I" } : Jvm.MethodName)) ∈ lw_tbl := lw_at lw_m9 76 rfl
theorem q2192 : (Jvm.Cond.instanceMethod ({ cls := "DeedKernelModel", name := "opened", desc := "(ILDeedKernelModel$Group;I)I" } : Jvm.MethodName)) ∈ lw_all := lw_g (lw_at lw_m9 77 rfl) rfl
theorem q2193 : (Jvm.Cond.code ({ cls := "DeedKernelModel", name := "opened", desc := "(ILDeedKernelModel$Group;I)I" } : Jvm.MethodName) prog_12_method_78_code (7 : Nat) (Option.some Jvm.ClassFile.FieldType.int)) ∈ lw_all := lw_g (lw_at lw_m9 78 rfl) rfl
theorem q2194 : (Jvm.Cond.methodLink "DeedKernelModel" (640 : Nat) ({ cls := "DeedKernelModel", name := "freeDesc", desc := "(LDeedKernelModel$Group;I)I" } : Jvm.MethodName)) ∈ lw_all := lw_g (lw_at lw_m9 79 rfl) rfl
theorem q2195 : (Jvm.Cond.privateMethod ({ cls := "DeedKernelModel", name := "freeDesc", desc := "(LDeedKernelModel$Group;I)I" } : Jvm.MethodName)) ∈ lw_tbl := lw_at lw_m9 80 rfl
theorem q2196 : (Jvm.Cond.instanceMethod ({ cls := "DeedKernelModel", name := "freeDesc", desc := "(LDeedKernelModel$Group;I)I" } : Jvm.MethodName)) ∈ lw_all := lw_g (lw_at lw_m9 81 rfl) rfl
theorem q2197 : (Jvm.Cond.code ({ cls := "DeedKernelModel", name := "freeDesc", desc := "(LDeedKernelModel$Group;I)I" } : Jvm.MethodName) prog_12_method_27_code (4 : Nat) (Option.some Jvm.ClassFile.FieldType.int)) ∈ lw_all := lw_g (lw_at lw_m9 82 rfl) rfl
theorem q2198 : (Jvm.Cond.methodLink "DeedKernelModel" (643 : Nat) ({ cls := "DeedKernelModel", name := "endsInName", desc := "()Z" } : Jvm.MethodName)) ∈ lw_all := lw_g (lw_at lw_m9 83 rfl) rfl
theorem q2199 : (Jvm.Cond.privateMethod ({ cls := "DeedKernelModel", name := "endsInName", desc := "()Z" } : Jvm.MethodName)) ∈ lw_tbl := lw_at lw_m9 84 rfl
theorem q2200 : (Jvm.Cond.instanceMethod ({ cls := "DeedKernelModel", name := "endsInName", desc := "()Z" } : Jvm.MethodName)) ∈ lw_all := lw_g (lw_at lw_m9 85 rfl) rfl
theorem q2201 : (Jvm.Cond.code ({ cls := "DeedKernelModel", name := "endsInName", desc := "()Z" } : Jvm.MethodName) prog_12_method_59_code (1 : Nat) (Option.some Jvm.ClassFile.FieldType.boolean)) ∈ lw_all := lw_g (lw_at lw_m9 86 rfl) rfl
theorem q2202 : (Jvm.Cond.methodLink "DeedKernelModel" (565 : Nat) ({ cls := "DeedKernelModel", name := "walk", desc := "(ILDeedKernelModel$Group;I)I" } : Jvm.MethodName)) ∈ lw_all := lw_g (lw_at lw_m9 87 rfl) rfl
theorem q2203 : (Jvm.Cond.privateMethod ({ cls := "DeedKernelModel", name := "walk", desc := "(ILDeedKernelModel$Group;I)I" } : Jvm.MethodName)) ∈ lw_tbl := lw_at lw_m9 88 rfl
theorem q2204 : (Jvm.Cond.instanceMethod ({ cls := "DeedKernelModel", name := "walk", desc := "(ILDeedKernelModel$Group;I)I" } : Jvm.MethodName)) ∈ lw_all := lw_g (lw_at lw_m9 89 rfl) rfl
theorem q2205 : (Jvm.Cond.code ({ cls := "DeedKernelModel", name := "walk", desc := "(ILDeedKernelModel$Group;I)I" } : Jvm.MethodName) prog_12_method_60_code (8 : Nat) (Option.some Jvm.ClassFile.FieldType.int)) ∈ lw_all := lw_g (lw_at lw_m9 90 rfl) rfl
theorem q2206 : (Jvm.Cond.methodLink "DeedKernelModel" (545 : Nat) ({ cls := "DeedKernelModel", name := "kindOf", desc := "(LDeedKernelModel$Group;I)I" } : Jvm.MethodName)) ∈ lw_all := lw_g (lw_at lw_m9 91 rfl) rfl
theorem q2207 : (Jvm.Cond.privateMethod ({ cls := "DeedKernelModel", name := "kindOf", desc := "(LDeedKernelModel$Group;I)I" } : Jvm.MethodName)) ∈ lw_tbl := lw_at lw_m9 92 rfl
theorem q2208 : (Jvm.Cond.instanceMethod ({ cls := "DeedKernelModel", name := "kindOf", desc := "(LDeedKernelModel$Group;I)I" } : Jvm.MethodName)) ∈ lw_all := lw_g (lw_at lw_m9 93 rfl) rfl
theorem q2209 : (Jvm.Cond.code ({ cls := "DeedKernelModel", name := "kindOf", desc := "(LDeedKernelModel$Group;I)I" } : Jvm.MethodName) prog_12_method_13_code (3 : Nat) (Option.some Jvm.ClassFile.FieldType.int)) ∈ lw_all := lw_g (lw_at lw_m9 94 rfl) rfl
theorem q2210 : (Jvm.Cond.methodLink "DeedKernelModel" (432 : Nat) ({ cls := "DeedKernelModel", name := "touch", desc := "(IIIZ)I" } : Jvm.MethodName)) ∈ lw_all := lw_g (lw_at lw_m9 95 rfl) rfl
theorem q2211 : (Jvm.Cond.privateMethod ({ cls := "DeedKernelModel", name := "touch", desc := "(IIIZ)I" } : Jvm.MethodName)) ∈ lw_tbl := lw_at lw_m9 96 rfl
theorem q2212 : (Jvm.Cond.instanceMethod ({ cls := "DeedKernelModel", name := "touch", desc := "(IIIZ)I" } : Jvm.MethodName)) ∈ lw_all := lw_g (lw_at lw_m9 97 rfl) rfl
theorem q2213 : (Jvm.Cond.code ({ cls := "DeedKernelModel", name := "touch", desc := "(IIIZ)I" } : Jvm.MethodName) prog_12_method_39_code (8 : Nat) (Option.some Jvm.ClassFile.FieldType.int)) ∈ lw_all := lw_g (lw_at lw_m9 98 rfl) rfl
theorem q2214 : (Jvm.Cond.methodLink "DeedKernelModel" (417 : Nat) ({ cls := "DeedKernelModel", name := "isMet", desc := "(LDeedKernelModel$Group;IIZ)Z" } : Jvm.MethodName)) ∈ lw_all := lw_g (lw_at lw_m9 99 rfl) rfl
theorem q2215 : (Jvm.Cond.privateMethod ({ cls := "DeedKernelModel", name := "isMet", desc := "(LDeedKernelModel$Group;IIZ)Z" } : Jvm.MethodName)) ∈ lw_tbl := lw_at lw_m9 100 rfl
theorem q2216 : (Jvm.Cond.instanceMethod ({ cls := "DeedKernelModel", name := "isMet", desc := "(LDeedKernelModel$Group;IIZ)Z" } : Jvm.MethodName)) ∈ lw_all := lw_g (lw_at lw_m9 101 rfl) rfl
theorem q2217 : (Jvm.Cond.code ({ cls := "DeedKernelModel", name := "isMet", desc := "(LDeedKernelModel$Group;IIZ)Z" } : Jvm.MethodName) prog_12_method_38_code (7 : Nat) (Option.some Jvm.ClassFile.FieldType.boolean)) ∈ lw_all := lw_g (lw_at lw_m9 102 rfl) rfl
theorem q2218 : (Jvm.Cond.methodLink "DeedKernelModel" (403 : Nat) ({ cls := "DeedKernelModel$Group", name := "markAt", desc := "(IJJ)I" } : Jvm.MethodName)) ∈ lw_all := lw_g (lw_at lw_m9 103 rfl) rfl
theorem q2222 : (Jvm.Cond.methodLink "DeedKernelModel" (410 : Nat) ({ cls := "DeedKernelModel$Group", name := "wroteIn", desc := "(I)Z" } : Jvm.MethodName)) ∈ lw_all := lw_g (lw_at lw_m9 107 rfl) rfl
theorem q2226 : (Jvm.Cond.methodLink "DeedKernelModel" (413 : Nat) ({ cls := "DeedKernelModel", name := "row", desc := "(LDeedKernelModel$Group;I)[I" } : Jvm.MethodName)) ∈ lw_all := lw_g (lw_at lw_m9 111 rfl) rfl
theorem q2227 : (Jvm.Cond.privateMethod ({ cls := "DeedKernelModel", name := "row", desc := "(LDeedKernelModel$Group;I)[I" } : Jvm.MethodName)) ∈ lw_tbl := lw_at lw_m9 112 rfl
theorem q2228 : (Jvm.Cond.instanceMethod ({ cls := "DeedKernelModel", name := "row", desc := "(LDeedKernelModel$Group;I)[I" } : Jvm.MethodName)) ∈ lw_all := lw_g (lw_at lw_m9 113 rfl) rfl
theorem q2229 : (Jvm.Cond.code ({ cls := "DeedKernelModel", name := "row", desc := "(LDeedKernelModel$Group;I)[I" } : Jvm.MethodName) prog_12_method_37_code (3 : Nat) (Option.some (Jvm.ClassFile.FieldType.array Jvm.ClassFile.FieldType.int))) ∈ lw_all := lw_g (lw_at lw_m9 114 rfl) rfl
theorem q2230 : (Jvm.Cond.methodLink "DeedKernelModel" (424 : Nat) ({ cls := "DeedKernelModel", name := "abort", desc := "(I)V" } : Jvm.MethodName)) ∈ lw_all := lw_g (lw_at lw_m9 115 rfl) rfl
theorem q2231 : (Jvm.Cond.privateMethod ({ cls := "DeedKernelModel", name := "abort", desc := "(I)V" } : Jvm.MethodName)) ∈ lw_tbl := lw_at lw_m9 116 rfl
theorem q2232 : (Jvm.Cond.instanceMethod ({ cls := "DeedKernelModel", name := "abort", desc := "(I)V" } : Jvm.MethodName)) ∈ lw_all := lw_g (lw_at lw_m9 117 rfl) rfl
theorem q2233 : (Jvm.Cond.code ({ cls := "DeedKernelModel", name := "abort", desc := "(I)V" } : Jvm.MethodName) prog_12_method_41_code (2 : Nat) (Option.none : Option Jvm.ClassFile.FieldType)) ∈ lw_all := lw_g (lw_at lw_m9 118 rfl) rfl
theorem q2234 : (Jvm.Cond.methodLink "DeedKernelModel" (428 : Nat) ({ cls := "DeedKernelModel$Group", name := "mark", desc := "(IJJI)V" } : Jvm.MethodName)) ∈ lw_all := lw_g (lw_at lw_m9 119 rfl) rfl
theorem q2240 : (Jvm.Cond.static ({ cls := "DeedKernelModel", name := "wider", desc := "([I)[I" } : Jvm.MethodName)) ∈ lw_all := lw_g (lw_at lw_m9 125 rfl) rfl
theorem q2241 : (Jvm.Cond.code ({ cls := "DeedKernelModel", name := "wider", desc := "([I)[I" } : Jvm.MethodName) prog_12_method_1_code (2 : Nat) (Option.some (Jvm.ClassFile.FieldType.array Jvm.ClassFile.FieldType.int))) ∈ lw_all := lw_g (lw_at lw_m9 126 rfl) rfl
theorem q2243 : (Jvm.Cond.static ({ cls := "DeedKernelModel", name := "wider", desc := "([J)[J" } : Jvm.MethodName)) ∈ lw_all := lw_g (lw_at lw_m9 128 rfl) rfl
theorem q2244 : (Jvm.Cond.code ({ cls := "DeedKernelModel", name := "wider", desc := "([J)[J" } : Jvm.MethodName) prog_12_method_2_code (2 : Nat) (Option.some (Jvm.ClassFile.FieldType.array Jvm.ClassFile.FieldType.long))) ∈ lw_all := lw_g (lw_at lw_m9 129 rfl) rfl
theorem q2245 : (Jvm.Cond.methodLink "DeedKernelModel" (548 : Nat) ({ cls := "DeedKernelModel", name := "namesOf", desc := "(LDeedKernelModel$Group;I)I" } : Jvm.MethodName)) ∈ lw_all := lw_g (lw_at lw_m9 130 rfl) rfl
theorem q2246 : (Jvm.Cond.privateMethod ({ cls := "DeedKernelModel", name := "namesOf", desc := "(LDeedKernelModel$Group;I)I" } : Jvm.MethodName)) ∈ lw_tbl := lw_at lw_m9 131 rfl
theorem q2247 : (Jvm.Cond.instanceMethod ({ cls := "DeedKernelModel", name := "namesOf", desc := "(LDeedKernelModel$Group;I)I" } : Jvm.MethodName)) ∈ lw_all := lw_g (lw_at lw_m9 132 rfl) rfl
theorem q2248 : (Jvm.Cond.code ({ cls := "DeedKernelModel", name := "namesOf", desc := "(LDeedKernelModel$Group;I)I" } : Jvm.MethodName) prog_12_method_14_code (3 : Nat) (Option.some Jvm.ClassFile.FieldType.int)) ∈ lw_all := lw_g (lw_at lw_m9 133 rfl) rfl
theorem q2249 : (Jvm.Cond.methodLink "DeedKernelModel" (551 : Nat) ({ cls := "DeedKernelModel", name := "upOf", desc := "(LDeedKernelModel$Group;I)I" } : Jvm.MethodName)) ∈ lw_all := lw_g (lw_at lw_m9 134 rfl) rfl
theorem q2250 : (Jvm.Cond.privateMethod ({ cls := "DeedKernelModel", name := "upOf", desc := "(LDeedKernelModel$Group;I)I" } : Jvm.MethodName)) ∈ lw_tbl := lw_at lw_m9 135 rfl
theorem q2251 : (Jvm.Cond.instanceMethod ({ cls := "DeedKernelModel", name := "upOf", desc := "(LDeedKernelModel$Group;I)I" } : Jvm.MethodName)) ∈ lw_all := lw_g (lw_at lw_m9 136 rfl) rfl
theorem q2252 : (Jvm.Cond.code ({ cls := "DeedKernelModel", name := "upOf", desc := "(LDeedKernelModel$Group;I)I" } : Jvm.MethodName) prog_12_method_15_code (3 : Nat) (Option.some Jvm.ClassFile.FieldType.int)) ∈ lw_all := lw_g (lw_at lw_m9 137 rfl) rfl
theorem q2253 : (Jvm.Cond.methodLink "DeedKernelModel" (554 : Nat) ({ cls := "DeedKernelModel", name := "touchEntry", desc := "(IIJJZ)I" } : Jvm.MethodName)) ∈ lw_all := lw_g (lw_at lw_m9 138 rfl) rfl
theorem q2254 : (Jvm.Cond.privateMethod ({ cls := "DeedKernelModel", name := "touchEntry", desc := "(IIJJZ)I" } : Jvm.MethodName)) ∈ lw_tbl := lw_at lw_m9 139 rfl
theorem q2255 : (Jvm.Cond.instanceMethod ({ cls := "DeedKernelModel", name := "touchEntry", desc := "(IIJJZ)I" } : Jvm.MethodName)) ∈ lw_all := lw_g (lw_at lw_m9 140 rfl) rfl
theorem q2256 : (Jvm.Cond.code ({ cls := "DeedKernelModel", name := "touchEntry", desc := "(IIJJZ)I" } : Jvm.MethodName) prog_12_method_40_code (8 : Nat) (Option.some Jvm.ClassFile.FieldType.int)) ∈ lw_all := lw_g (lw_at lw_m9 141 rfl) rfl
theorem q2257 : (Jvm.Cond.methodLink "DeedKernelModel" (558 : Nat) ({ cls := "DeedKernelModel", name := "look", desc := "(LDeedKernelModel$Group;IJJ)I" } : Jvm.MethodName)) ∈ lw_all := lw_g (lw_at lw_m9 142 rfl) rfl
theorem q2258 : (Jvm.Cond.privateMethod ({ cls := "DeedKernelModel", name := "look", desc := "(LDeedKernelModel$Group;IJJ)I" } : Jvm.MethodName)) ∈ lw_tbl := lw_at lw_m9 143 rfl
theorem q2259 : (Jvm.Cond.instanceMethod ({ cls := "DeedKernelModel", name := "look", desc := "(LDeedKernelModel$Group;IJJ)I" } : Jvm.MethodName)) ∈ lw_all := lw_g (lw_at lw_m9 144 rfl) rfl
theorem q2260 : (Jvm.Cond.code ({ cls := "DeedKernelModel", name := "look", desc := "(LDeedKernelModel$Group;IJJ)I" } : Jvm.MethodName) prog_12_method_18_code (8 : Nat) (Option.some Jvm.ClassFile.FieldType.int)) ∈ lw_all := lw_g (lw_at lw_m9 145 rfl) rfl
theorem q2261 : (Jvm.Cond.methodLink "DeedKernelModel" (313 : Nat) ({ cls := "DeedKernelModel$Group", name := "overAt", desc := "(II)I" } : Jvm.MethodName)) ∈ lw_all := lw_g (lw_at lw_m9 146 rfl) rfl
theorem q2265 : (Jvm.Cond.methodLink "DeedKernelModel" (647 : Nat) ({ cls := "DeedKernelModel", name := "toTheLast", desc := "(ILDeedKernelModel$Group;)I" } : Jvm.MethodName)) ∈ lw_all := lw_g (lw_at lw_m9 150 rfl) rfl
theorem q2266 : (Jvm.Cond.privateMethod ({ cls := "DeedKernelModel", name := "toTheLast", desc := "(ILDeedKernelModel$Group;)I" } : Jvm.MethodName)) ∈ lw_tbl := lw_at lw_m9 151 rfl
theorem q2267 : (Jvm.Cond.instanceMethod ({ cls := "DeedKernelModel", name := "toTheLast", desc := "(ILDeedKernelModel$Group;)I" } : Jvm.MethodName)) ∈ lw_all := lw_g (lw_at lw_m9 152 rfl) rfl
theorem q2268 : (Jvm.Cond.code ({ cls := "DeedKernelModel", name := "toTheLast", desc := "(ILDeedKernelModel$Group;)I" } : Jvm.MethodName) prog_12_method_61_code (4 : Nat) (Option.some Jvm.ClassFile.FieldType.int)) ∈ lw_all := lw_g (lw_at lw_m9 153 rfl) rfl
theorem q2269 : (Jvm.Cond.methodLink "DeedKernelModel" (651 : Nat) ({ cls := "DeedKernelModel", name := "makeThere", desc := "(ILDeedKernelModel$Group;I)I" } : Jvm.MethodName)) ∈ lw_all := lw_g (lw_at lw_m9 154 rfl) rfl
theorem q2270 : (Jvm.Cond.privateMethod ({ cls := "DeedKernelModel", name := "makeThere", desc := "(ILDeedKernelModel$Group;I)I" } : Jvm.MethodName)) ∈ lw_tbl := lw_at lw_m9 155 rfl
theorem q2271 : (Jvm.Cond.instanceMethod ({ cls := "DeedKernelModel", name := "makeThere", desc := "(ILDeedKernelModel$Group;I)I" } : Jvm.MethodName)) ∈ lw_all := lw_g (lw_at lw_m9 156 rfl) rfl
theorem q2272 : (Jvm.Cond.code ({ cls := "DeedKernelModel", name := "makeThere", desc := "(ILDeedKernelModel$Group;I)I" } : Jvm.MethodName) prog_12_method_64_code (6 : Nat) (Option.some Jvm.ClassFile.FieldType.int)) ∈ lw_all := lw_g (lw_at lw_m9 157 rfl) rfl
theorem q2273 : (Jvm.Cond.methodLink "DeedKernelModel" (588 : Nat) ({ cls := "DeedKernelModel", name := "hasNoName", desc := "(LDeedKernelModel$Group;I)Z" } : Jvm.MethodName)) ∈ lw_all := lw_g (lw_at lw_m9 158 rfl) rfl
theorem q2274 : (Jvm.Cond.privateMethod ({ cls := "DeedKernelModel", name := "hasNoName", desc := "(LDeedKernelModel$Group;I)Z" } : Jvm.MethodName)) ∈ lw_tbl := lw_at lw_m9 159 rfl
theorem q2275 : (Jvm.Cond.instanceMethod ({ cls := "DeedKernelModel", name := "hasNoName", desc := "(LDeedKernelModel$Group;I)Z" } : Jvm.MethodName)) ∈ lw_all := lw_g (lw_at lw_m9 160 rfl) rfl
theorem q2276 : (Jvm.Cond.code ({ cls := "DeedKernelModel", name := "hasNoName", desc := "(LDeedKernelModel$Group;I)Z" } : Jvm.MethodName) prog_12_method_62_code (3 : Nat) (Option.some Jvm.ClassFile.FieldType.boolean)) ∈ lw_all := lw_g (lw_at lw_m9 161 rfl) rfl
theorem q2277 : (Jvm.Cond.methodLink "DeedKernelModel" (591 : Nat) ({ cls := "DeedKernelModel", name := "freeInode", desc := "(LDeedKernelModel$Group;)I" } : Jvm.MethodName)) ∈ lw_all := lw_g (lw_at lw_m9 162 rfl) rfl
theorem q2278 : (Jvm.Cond.privateMethod ({ cls := "DeedKernelModel", name := "freeInode", desc := "(LDeedKernelModel$Group;)I" } : Jvm.MethodName)) ∈ lw_tbl := lw_at lw_m9 163 rfl
theorem q2279 : (Jvm.Cond.instanceMethod ({ cls := "DeedKernelModel", name := "freeInode", desc := "(LDeedKernelModel$Group;)I" } : Jvm.MethodName)) ∈ lw_all := lw_g (lw_at lw_m9 164 rfl) rfl
theorem q2280 : (Jvm.Cond.code ({ cls := "DeedKernelModel", name := "freeInode", desc := "(LDeedKernelModel$Group;)I" } : Jvm.MethodName) prog_12_method_22_code (5 : Nat) (Option.some Jvm.ClassFile.FieldType.int)) ∈ lw_all := lw_g (lw_at lw_m9 165 rfl) rfl
theorem q2281 : (Jvm.Cond.methodLink "DeedKernelModel" (581 : Nat) ({ cls := "DeedKernelModel", name := "freeSlot", desc := "(LDeedKernelModel$Group;I)I" } : Jvm.MethodName)) ∈ lw_all := lw_g (lw_at lw_m9 166 rfl) rfl
theorem q2282 : (Jvm.Cond.privateMethod ({ cls := "DeedKernelModel", name := "freeSlot", desc := "(LDeedKernelModel$Group;I)I" } : Jvm.MethodName)) ∈ lw_tbl := lw_at lw_m9 167 rfl
theorem q2283 : (Jvm.Cond.instanceMethod ({ cls := "DeedKernelModel", name := "freeSlot", desc := "(LDeedKernelModel$Group;I)I" } : Jvm.MethodName)) ∈ lw_all := lw_g (lw_at lw_m9 168 rfl) rfl
theorem q2284 : (Jvm.Cond.code ({ cls := "DeedKernelModel", name := "freeSlot", desc := "(LDeedKernelModel$Group;I)I" } : Jvm.MethodName) prog_12_method_21_code (6 : Nat) (Option.some Jvm.ClassFile.FieldType.int)) ∈ lw_all := lw_g (lw_at lw_m9 169 rfl) rfl
theorem q2285 : (Jvm.Cond.methodLink "DeedKernelModel" (316 : Nat) ({ cls := "DeedKernelModel", name := "inoAt", desc := "(LDeedKernelModel$Group;II)I" } : Jvm.MethodName)) ∈ lw_all := lw_g (lw_at lw_m9 170 rfl) rfl
theorem q2286 : (Jvm.Cond.privateMethod ({ cls := "DeedKernelModel", name := "inoAt", desc := "(LDeedKernelModel$Group;II)I" } : Jvm.MethodName)) ∈ lw_tbl := lw_at lw_m9 171 rfl
theorem q2287 : (Jvm.Cond.instanceMethod ({ cls := "DeedKernelModel", name := "inoAt", desc := "(LDeedKernelModel$Group;II)I" } : Jvm.MethodName)) ∈ lw_all := lw_g (lw_at lw_m9 172 rfl) rfl
theorem q2288 : (Jvm.Cond.code ({ cls := "DeedKernelModel", name := "inoAt", desc := "(LDeedKernelModel$Group;II)I" } : Jvm.MethodName) prog_12_method_19_code (5 : Nat) (Option.some Jvm.ClassFile.FieldType.int)) ∈ lw_all := lw_g (lw_at lw_m9 173 rfl) rfl
theorem q2289 : (Jvm.Cond.methodLink "DeedKernelModel" (595 : Nat) ({ cls := "DeedKernelModel", name := "addEntry", desc := "(ILDeedKernelModel$Group;IJJI)I" } : Jvm.MethodName)) ∈ lw_all := lw_g (lw_at lw_m9 174 rfl) rfl
theorem q2290 : (Jvm.Cond.privateMethod ({ cls := "DeedKernelModel", name := "addEntry", desc := "(ILDeedKernelModel$Group;IJJI)I" } : Jvm.MethodName)) ∈ lw_tbl := lw_at lw_m9 175 rfl
theorem q2291 : (Jvm.Cond.instanceMethod ({ cls := "DeedKernelModel", name := "addEntry", desc := "(ILDeedKernelModel$Group;IJJI)I" } : Jvm.MethodName)) ∈ lw_all := lw_g (lw_at lw_m9 176 rfl) rfl
theorem q2292 : (Jvm.Cond.code ({ cls := "DeedKernelModel", name := "addEntry", desc := "(ILDeedKernelModel$Group;IJJI)I" } : Jvm.MethodName) prog_12_method_63_code (10 : Nat) (Option.some Jvm.ClassFile.FieldType.int)) ∈ lw_all := lw_g (lw_at lw_m9 177 rfl) rfl
theorem q2293 : (Jvm.Cond.methodLink "DeedKernelModel" (584 : Nat) ({ cls := "DeedKernelModel$Group", name := "over", desc := "(IIJJI)V" } : Jvm.MethodName)) ∈ lw_all := lw_g (lw_at lw_m9 178 rfl) rfl
theorem q2297 : (Jvm.Cond.methodLink "DeedKernelModel" (599 : Nat) ({ cls := "DeedKernelModel", name := "row", desc := "(I)[B" } : Jvm.MethodName)) ∈ lw_all := lw_g (lw_at lw_m9 182 rfl) rfl
theorem q2298 : (Jvm.Cond.privateMethod ({ cls := "DeedKernelModel", name := "row", desc := "(I)[B" } : Jvm.MethodName)) ∈ lw_tbl := lw_at lw_m9 183 rfl
theorem q2299 : (Jvm.Cond.instanceMethod ({ cls := "DeedKernelModel", name := "row", desc := "(I)[B" } : Jvm.MethodName)) ∈ lw_all := lw_g (lw_at lw_m9 184 rfl) rfl
theorem q2300 : (Jvm.Cond.code ({ cls := "DeedKernelModel", name := "row", desc := "(I)[B" } : Jvm.MethodName) prog_12_method_69_code (3 : Nat) (Option.some (Jvm.ClassFile.FieldType.array Jvm.ClassFile.FieldType.byte))) ∈ lw_all := lw_g (lw_at lw_m9 185 rfl) rfl
theorem q2301 : (Jvm.Cond.methodLink "DeedKernelModel" (443 : Nat) ({ cls := "java/util/Arrays", name := "fill", desc := "([BB)V" } : Jvm.MethodName)) ∈ lw_all := lw_g (lw_at lw_m9 186 rfl) rfl
theorem q2304 : (Jvm.Cond.methodLink "DeedKernelModel" (654 : Nat) ({ cls := "DeedKernelModel", name := "setLength", desc := "(LDeedKernelModel$Group;II)V" } : Jvm.MethodName)) ∈ lw_all := lw_g (lw_at lw_m9 189 rfl) rfl
theorem q2305 : (Jvm.Cond.privateMethod ({ cls := "DeedKernelModel", name := "setLength", desc := "(LDeedKernelModel$Group;II)V" } : Jvm.MethodName)) ∈ lw_tbl := lw_at lw_m9 190 rfl
theorem q2306 : (Jvm.Cond.instanceMethod ({ cls := "DeedKernelModel", name := "setLength", desc := "(LDeedKernelModel$Group;II)V" } : Jvm.MethodName)) ∈ lw_all := lw_g (lw_at lw_m9 191 rfl) rfl
theorem q2307 : (Jvm.Cond.code ({ cls := "DeedKernelModel", name := "setLength", desc := "(LDeedKernelModel$Group;II)V" } : Jvm.MethodName) prog_12_method_72_code (6 : Nat) (Option.none : Option Jvm.ClassFile.FieldType)) ∈ lw_all := lw_g (lw_at lw_m9 192 rfl) rfl
theorem q2308 : (Jvm.Cond.methodLink "DeedKernelModel" (617 : Nat) ({ cls := "DeedKernelModel", name := "own", desc := "(LDeedKernelModel$Group;I)[B" } : Jvm.MethodName)) ∈ lw_all := lw_g (lw_at lw_m9 193 rfl) rfl
theorem q2309 : (Jvm.Cond.privateMethod ({ cls := "DeedKernelModel", name := "own", desc := "(LDeedKernelModel$Group;I)[B" } : Jvm.MethodName)) ∈ lw_tbl := lw_at lw_m9 194 rfl
theorem q2310 : (Jvm.Cond.instanceMethod ({ cls := "DeedKernelModel", name := "own", desc := "(LDeedKernelModel$Group;I)[B" } : Jvm.MethodName)) ∈ lw_all := lw_g (lw_at lw_m9 195 rfl) rfl
theorem q2311 : (Jvm.Cond.code ({ cls := "DeedKernelModel", name := "own", desc := "(LDeedKernelModel$Group;I)[B" } : Jvm.MethodName) prog_12_method_71_code (3 : Nat) (Option.some (Jvm.ClassFile.FieldType.array Jvm.ClassFile.FieldType.byte))) ∈ lw_all := lw_g (lw_at lw_m9 196 rfl) rfl
theorem q2312 : (Jvm.Cond.methodLink "DeedKernelModel" (658 : Nat) ({ cls := "DeedKernelModel", name := "newOpening", desc := "()I" } : Jvm.MethodName)) ∈ lw_all := lw_g (lw_at lw_m9 197 rfl) rfl
theorem q2313 : (Jvm.Cond.privateMethod ({ cls := "DeedKernelModel", name := "newOpening", desc := "()I" } : Jvm.MethodName)) ∈ lw_tbl := lw_at lw_m9 198 rfl
theorem q2314 : (Jvm.Cond.instanceMethod ({ cls := "DeedKernelModel", name := "newOpening", desc := "()I" } : Jvm.MethodName)) ∈ lw_all := lw_g (lw_at lw_m9 199 rfl) rfl
theorem q2315 : (Jvm.Cond.code ({ cls := "DeedKernelModel", name := "newOpening", desc := "()I" } : Jvm.MethodName) prog_12_method_26_code (3 : Nat) (Option.some Jvm.ClassFile.FieldType.int)) ∈ lw_all := lw_g (lw_at lw_m9 200 rfl) rfl
theorem q2316 : (Jvm.Cond.methodLink "DeedKernelModel" (337 : Nat) ({ cls := "DeedKernelModel", name := "isUsed", desc := "(I)Z" } : Jvm.MethodName)) ∈ lw_all := lw_g (lw_at lw_m9 201 rfl) rfl
theorem q2317 : (Jvm.Cond.privateMethod ({ cls := "DeedKernelModel", name := "isUsed", desc := "(I)Z" } : Jvm.MethodName)) ∈ lw_tbl := lw_at lw_m9 202 rfl
theorem q2318 : (Jvm.Cond.instanceMethod ({ cls := "DeedKernelModel", name := "isUsed", desc := "(I)Z" } : Jvm.MethodName)) ∈ lw_all := lw_g (lw_at lw_m9 203 rfl) rfl
theorem q2319 : (Jvm.Cond.code ({ cls := "DeedKernelModel", name := "isUsed", desc := "(I)Z" } : Jvm.MethodName) prog_12_method_25_code (3 : Nat) (Option.some Jvm.ClassFile.FieldType.boolean)) ∈ lw_all := lw_g (lw_at lw_m9 204 rfl) rfl
theorem q2320 : (Jvm.Cond.methodLink "DeedKernelModel" (323 : Nat) ({ cls := "DeedKernelModel", name := "inRow", desc := "([II)Z" } : Jvm.MethodName)) ∈ lw_all := lw_g (lw_at lw_m9 205 rfl) rfl
theorem q2321 : (Jvm.Cond.privateMethod ({ cls := "DeedKernelModel", name := "inRow", desc := "([II)Z" } : Jvm.MethodName)) ∈ lw_tbl := lw_at lw_m9 206 rfl
theorem q2322 : (Jvm.Cond.instanceMethod ({ cls := "DeedKernelModel", name := "inRow", desc := "([II)Z" } : Jvm.MethodName)) ∈ lw_all := lw_g (lw_at lw_m9 207 rfl) rfl
theorem q2323 : (Jvm.Cond.code ({ cls := "DeedKernelModel", name := "inRow", desc := "([II)Z" } : Jvm.MethodName) prog_12_method_23_code (4 : Nat) (Option.some Jvm.ClassFile.FieldType.boolean)) ∈ lw_all := lw_g (lw_at lw_m9 208 rfl) rfl
theorem q2324 : (Jvm.Cond.methodLink "DeedKernelModel" (333 : Nat) ({ cls := "DeedKernelModel", name := "hasIt", desc := "(LDeedKernelModel$Group;I)Z" } : Jvm.MethodName)) ∈ lw_all := lw_g (lw_at lw_m9 209 rfl) rfl
theorem q2325 : (Jvm.Cond.privateMethod ({ cls := "DeedKernelModel", name := "hasIt", desc := "(LDeedKernelModel$Group;I)Z" } : Jvm.MethodName)) ∈ lw_tbl := lw_at lw_m9 210 rfl
theorem q2326 : (Jvm.Cond.instanceMethod ({ cls := "DeedKernelModel", name := "hasIt", desc := "(LDeedKernelModel$Group;I)Z" } : Jvm.MethodName)) ∈ lw_all := lw_g (lw_at lw_m9 211 rfl) rfl
theorem q2327 : (Jvm.Cond.code ({ cls := "DeedKernelModel", name := "hasIt", desc := "(LDeedKernelModel$Group;I)Z" } : Jvm.MethodName) prog_12_method_24_code (4 : Nat) (Option.some Jvm.ClassFile.FieldType.boolean)) ∈ lw_all := lw_g (lw_at lw_m9 212 rfl) rfl
theorem q2328 : (Jvm.Cond.methodLink "DeedKernelModel" (637 : Nat) ({ cls := "DeedKernelModel", name := "done", desc := "(II)I" } : Jvm.MethodName)) ∈ lw_all := lw_g (lw_at lw_m9 213 rfl) rfl
theorem q2329 : (Jvm.Cond.privateMethod ({ cls := "DeedKernelModel", name := "done", desc := "(II)I" } : Jvm.MethodName)) ∈ lw_tbl := lw_at lw_m9 214 rfl
theorem q2330 : (Jvm.Cond.instanceMethod ({ cls := "DeedKernelModel", name := "done", desc := "(II)I" } : Jvm.MethodName)) ∈ lw_all := lw_g (lw_at lw_m9 215 rfl) rfl
theorem q2331 : (Jvm.Cond.code ({ cls := "DeedKernelModel", name := "done", desc := "(II)I" } : Jvm.MethodName) prog_12_method_68_code (5 : Nat) (Option.some Jvm.ClassFile.FieldType.int)) ∈ lw_all := lw_g (lw_at lw_m9 216 rfl) rfl
theorem q2332 : (Jvm.Cond.methodLink "DeedKernelModel" (611 : Nat) ({ cls := "DeedKernelModel", name := "finish", desc := "(LDeedKernelModel$Group;I)I" } : Jvm.MethodName)) ∈ lw_all := lw_g (lw_at lw_m9 217 rfl) rfl
theorem q2333 : (Jvm.Cond.privateMethod ({ cls := "DeedKernelModel", name := "finish", desc := "(LDeedKernelModel$Group;I)I" } : Jvm.MethodName)) ∈ lw_tbl := lw_at lw_m9 218 rfl
theorem q2334 : (Jvm.Cond.instanceMethod ({ cls := "DeedKernelModel", name := "finish", desc := "(LDeedKernelModel$Group;I)I" } : Jvm.MethodName)) ∈ lw_all := lw_g (lw_at lw_m9 219 rfl) rfl
theorem q2335 : (Jvm.Cond.code ({ cls := "DeedKernelModel", name := "finish", desc := "(LDeedKernelModel$Group;I)I" } : Jvm.MethodName) prog_12_method_55_code (7 : Nat) (Option.some Jvm.ClassFile.FieldType.int)) ∈ lw_all := lw_g (lw_at lw_m9 220 rfl) rfl
theorem q2336 : (Jvm.Cond.methodLink "DeedKernelModel" (499 : Nat) ({ cls := "DeedKernelModel", name := "toDisk", desc := "(LDeedKernelModel$Group;I)I" } : Jvm.MethodName)) ∈ lw_all := lw_g (lw_at lw_m9 221 rfl) rfl
theorem q2337 : (Jvm.Cond.privateMethod ({ cls := "DeedKernelModel", name := "toDisk", desc := "(LDeedKernelModel$Group;I)I" } : Jvm.MethodName)) ∈ lw_tbl := lw_at lw_m9 222 rfl
theorem q2338 : (Jvm.Cond.instanceMethod ({ cls := "DeedKernelModel", name := "toDisk", desc := "(LDeedKernelModel$Group;I)I" } : Jvm.MethodName)) ∈ lw_all := lw_g (lw_at lw_m9 223 rfl) rfl
theorem q2339 : (Jvm.Cond.code ({ cls := "DeedKernelModel", name := "toDisk", desc := "(LDeedKernelModel$Group;I)I" } : Jvm.MethodName) prog_12_method_53_code (8 : Nat) (Option.some Jvm.ClassFile.FieldType.int)) ∈ lw_all := lw_g (lw_at lw_m9 224 rfl) rfl
theorem q2340 : (Jvm.Cond.methodLink "DeedKernelModel" (464 : Nat) ({ cls := "DeedKernelModel", name := "keepAll", desc := "()V" } : Jvm.MethodName)) ∈ lw_all := lw_g (lw_at lw_m9 225 rfl) rfl
theorem q2341 : (Jvm.Cond.privateMethod ({ cls := "DeedKernelModel", name := "keepAll", desc := "()V" } : Jvm.MethodName)) ∈ lw_tbl := lw_at lw_m9 226 rfl
theorem q2342 : (Jvm.Cond.instanceMethod ({ cls := "DeedKernelModel", name := "keepAll", desc := "()V" } : Jvm.MethodName)) ∈ lw_all := lw_g (lw_at lw_m9 227 rfl) rfl
theorem q2343 : (Jvm.Cond.code ({ cls := "DeedKernelModel", name := "keepAll", desc := "()V" } : Jvm.MethodName) prog_12_method_42_code (2 : Nat) (Option.none : Option Jvm.ClassFile.FieldType)) ∈ lw_all := lw_g (lw_at lw_m9 228 rfl) rfl
theorem q2344 : (Jvm.Cond.methodLink "DeedKernelModel" (467 : Nat) ({ cls := "DeedKernelModel", name := "own", desc := "()V" } : Jvm.MethodName)) ∈ lw_all := lw_g (lw_at lw_m9 229 rfl) rfl
theorem q2345 : (Jvm.Cond.privateMethod ({ cls := "DeedKernelModel", name := "own", desc := "()V" } : Jvm.MethodName)) ∈ lw_tbl := lw_at lw_m9 230 rfl
theorem q2346 : (Jvm.Cond.instanceMethod ({ cls := "DeedKernelModel", name := "own", desc := "()V" } : Jvm.MethodName)) ∈ lw_all := lw_g (lw_at lw_m9 231 rfl) rfl
theorem q2347 : (Jvm.Cond.code ({ cls := "DeedKernelModel", name := "own", desc := "()V" } : Jvm.MethodName) prog_12_method_47_code (3 : Nat) (Option.none : Option Jvm.ClassFile.FieldType)) ∈ lw_all := lw_g (lw_at lw_m9 232 rfl) rfl
theorem q2348 : (Jvm.Cond.methodLink "DeedKernelModel" (470 : Nat) ({ cls := "DeedKernelModel", name := "apply", desc := "(LDeedKernelModel$Group;)V" } : Jvm.MethodName)) ∈ lw_all := lw_g (lw_at lw_m9 233 rfl) rfl
theorem q2349 : (Jvm.Cond.privateMethod ({ cls := "DeedKernelModel", name := "apply", desc := "(LDeedKernelModel$Group;)V" } : Jvm.MethodName)) ∈ lw_tbl := lw_at lw_m9 234 rfl
theorem q2350 : (Jvm.Cond.instanceMethod ({ cls := "DeedKernelModel", name := "apply", desc := "(LDeedKernelModel$Group;)V" } : Jvm.MethodName)) ∈ lw_all := lw_g (lw_at lw_m9 235 rfl) rfl
theorem q2351 : (Jvm.Cond.code ({ cls := "DeedKernelModel", name := "apply", desc := "(LDeedKernelModel$Group;)V" } : Jvm.MethodName) prog_12_method_44_code (5 : Nat) (Option.none : Option Jvm.ClassFile.FieldType)) ∈ lw_all := lw_g (lw_at lw_m9 236 rfl) rfl
theorem q2352 : (Jvm.Cond.methodLink "DeedKernelModel" (436 : Nat) ({ cls := "DeedKernelModel", name := "wider", desc := "([I)[I" } : Jvm.MethodName)) ∈ lw_all := lw_g (lw_at lw_m9 237 rfl) rfl
theorem q2353 : (Jvm.Cond.methodLink "DeedKernelModel" (440 : Nat) ({ cls := "DeedKernelModel", name := "wider", desc := "([J)[J" } : Jvm.MethodName)) ∈ lw_all := lw_g (lw_at lw_m9 238 rfl) rfl
theorem q2354 : (Jvm.Cond.methodLink "DeedKernelModel" (473 : Nat) ({ cls := "DeedKernelModel", name := "hasOver", desc := "(LDeedKernelModel$Group;I)Z" } : Jvm.MethodName)) ∈ lw_all := lw_g (lw_at lw_m9 239 rfl) rfl
theorem q2355 : (Jvm.Cond.privateMethod ({ cls := "DeedKernelModel", name := "hasOver", desc := "(LDeedKernelModel$Group;I)Z" } : Jvm.MethodName)) ∈ lw_tbl := lw_at lw_m10 0 rfl
theorem q2356 : (Jvm.Cond.instanceMethod ({ cls := "DeedKernelModel", name := "hasOver", desc := "(LDeedKernelModel$Group;I)Z" } : Jvm.MethodName)) ∈ lw_all := lw_g (lw_at lw_m10 1 rfl) rfl
theorem q2357 : (Jvm.Cond.code ({ cls := "DeedKernelModel", name := "hasOver", desc := "(LDeedKernelModel$Group;I)Z" } : Jvm.MethodName) prog_12_method_45_code (4 : Nat) (Option.some Jvm.ClassFile.FieldType.boolean)) ∈ lw_all := lw_g (lw_at lw_m10 2 rfl) rfl
theorem q2358 : (Jvm.Cond.methodLink "DeedKernelModel" (476 : Nat) ({ cls := "java/lang/Math", name := "max", desc := "(II)I" } : Jvm.MethodName)) ∈ lw_all := lw_g (lw_at lw_m10 3 rfl) rfl
theorem q2359 : (Jvm.Cond.methodLink "DeedKernelModel" (479 : Nat) ({ cls := "DeedKernelModel", name := "fit", desc := "(II)Z" } : Jvm.MethodName)) ∈ lw_all := lw_g (lw_at lw_m10 4 rfl) rfl
theorem q2360 : (Jvm.Cond.privateMethod ({ cls := "DeedKernelModel", name := "fit", desc := "(II)Z" } : Jvm.MethodName)) ∈ lw_tbl := lw_at lw_m10 5 rfl
theorem q2361 : (Jvm.Cond.instanceMethod ({ cls := "DeedKernelModel", name := "fit", desc := "(II)Z" } : Jvm.MethodName)) ∈ lw_all := lw_g (lw_at lw_m10 6 rfl) rfl
theorem q2362 : (Jvm.Cond.code ({ cls := "DeedKernelModel", name := "fit", desc := "(II)Z" } : Jvm.MethodName) prog_12_method_48_code (4 : Nat) (Option.some Jvm.ClassFile.FieldType.boolean)) ∈ lw_all := lw_g (lw_at lw_m10 7 rfl) rfl
theorem q2363 : (Jvm.Cond.methodLink "DeedKernelModel" (449 : Nat) ({ cls := "DeedKernelModel", name := "freeBlock", desc := "()I" } : Jvm.MethodName)) ∈ lw_all := lw_g (lw_at lw_m10 8 rfl) rfl
theorem q2364 : (Jvm.Cond.privateMethod ({ cls := "DeedKernelModel", name := "freeBlock", desc := "()I" } : Jvm.MethodName)) ∈ lw_tbl := lw_at lw_m10 9 rfl
theorem q2365 : (Jvm.Cond.instanceMethod ({ cls := "DeedKernelModel", name := "freeBlock", desc := "()I" } : Jvm.MethodName)) ∈ lw_all := lw_g (lw_at lw_m10 10 rfl) rfl
theorem q2366 : (Jvm.Cond.code ({ cls := "DeedKernelModel", name := "freeBlock", desc := "()I" } : Jvm.MethodName) prog_12_method_46_code (2 : Nat) (Option.some Jvm.ClassFile.FieldType.int)) ∈ lw_all := lw_g (lw_at lw_m10 11 rfl) rfl
theorem q2367 : (Jvm.Cond.methodLink "DeedKernelModel" (482 : Nat) ({ cls := "DeedKernelModel", name := "draw", desc := "()V" } : Jvm.MethodName)) ∈ lw_all := lw_g (lw_at lw_m10 12 rfl) rfl
theorem q2368 : (Jvm.Cond.privateMethod ({ cls := "DeedKernelModel", name := "draw", desc := "()V" } : Jvm.MethodName)) ∈ lw_tbl := lw_at lw_m10 13 rfl
theorem q2369 : (Jvm.Cond.instanceMethod ({ cls := "DeedKernelModel", name := "draw", desc := "()V" } : Jvm.MethodName)) ∈ lw_all := lw_g (lw_at lw_m10 14 rfl) rfl
theorem q2370 : (Jvm.Cond.code ({ cls := "DeedKernelModel", name := "draw", desc := "()V" } : Jvm.MethodName) prog_12_method_51_code (4 : Nat) (Option.none : Option Jvm.ClassFile.FieldType)) ∈ lw_all := lw_g (lw_at lw_m10 15 rfl) rfl
theorem q2371 : (Jvm.Cond.methodLink "DeedKernelModel" (453 : Nat) ({ cls := "DeedKernelModel", name := "number", desc := "([BII)V" } : Jvm.MethodName)) ∈ lw_all := lw_g (lw_at lw_m10 16 rfl) rfl
theorem q2372 : (Jvm.Cond.privateMethod ({ cls := "DeedKernelModel", name := "number", desc := "([BII)V" } : Jvm.MethodName)) ∈ lw_tbl := lw_at lw_m10 17 rfl
theorem q2373 : (Jvm.Cond.instanceMethod ({ cls := "DeedKernelModel", name := "number", desc := "([BII)V" } : Jvm.MethodName)) ∈ lw_all := lw_g (lw_at lw_m10 18 rfl) rfl
theorem q2374 : (Jvm.Cond.code ({ cls := "DeedKernelModel", name := "number", desc := "([BII)V" } : Jvm.MethodName) prog_12_method_49_code (4 : Nat) (Option.none : Option Jvm.ClassFile.FieldType)) ∈ lw_all := lw_g (lw_at lw_m10 19 rfl) rfl
theorem q2375 : (Jvm.Cond.methodLink "DeedKernelModel" (457 : Nat) ({ cls := "DeedKernelModel", name := "drawData", desc := "(I)V" } : Jvm.MethodName)) ∈ lw_all := lw_g (lw_at lw_m10 20 rfl) rfl
theorem q2376 : (Jvm.Cond.privateMethod ({ cls := "DeedKernelModel", name := "drawData", desc := "(I)V" } : Jvm.MethodName)) ∈ lw_tbl := lw_at lw_m10 21 rfl
theorem q2377 : (Jvm.Cond.instanceMethod ({ cls := "DeedKernelModel", name := "drawData", desc := "(I)V" } : Jvm.MethodName)) ∈ lw_all := lw_g (lw_at lw_m10 22 rfl) rfl
theorem q2378 : (Jvm.Cond.code ({ cls := "DeedKernelModel", name := "drawData", desc := "(I)V" } : Jvm.MethodName) prog_12_method_52_code (6 : Nat) (Option.none : Option Jvm.ClassFile.FieldType)) ∈ lw_all := lw_g (lw_at lw_m10 23 rfl) rfl
theorem q2379 : (Jvm.Cond.methodLink "DeedKernelModel" (460 : Nat) ({ cls := "DeedKernelModel", name := "nameTo", desc := "([BIJJ)V" } : Jvm.MethodName)) ∈ lw_all := lw_g (lw_at lw_m10 24 rfl) rfl
theorem q2380 : (Jvm.Cond.privateMethod ({ cls := "DeedKernelModel", name := "nameTo", desc := "([BIJJ)V" } : Jvm.MethodName)) ∈ lw_tbl := lw_at lw_m10 25 rfl
theorem q2381 : (Jvm.Cond.instanceMethod ({ cls := "DeedKernelModel", name := "nameTo", desc := "([BIJJ)V" } : Jvm.MethodName)) ∈ lw_all := lw_g (lw_at lw_m10 26 rfl) rfl
theorem q2382 : (Jvm.Cond.code ({ cls := "DeedKernelModel", name := "nameTo", desc := "([BIJJ)V" } : Jvm.MethodName) prog_12_method_50_code (8 : Nat) (Option.none : Option Jvm.ClassFile.FieldType)) ∈ lw_all := lw_g (lw_at lw_m10 27 rfl) rfl
theorem q2383 : (Jvm.Cond.methodLink "DeedKernelModel" (485 : Nat) ({ cls := "DeedKernelModel", name := "undo", desc := "(LDeedKernelModel$Group;)V" } : Jvm.MethodName)) ∈ lw_all := lw_g (lw_at lw_m10 28 rfl) rfl
theorem q2384 : (Jvm.Cond.privateMethod ({ cls := "DeedKernelModel", name := "undo", desc := "(LDeedKernelModel$Group;)V" } : Jvm.MethodName)) ∈ lw_tbl := lw_at lw_m10 29 rfl
theorem q2385 : (Jvm.Cond.instanceMethod ({ cls := "DeedKernelModel", name := "undo", desc := "(LDeedKernelModel$Group;)V" } : Jvm.MethodName)) ∈ lw_all := lw_g (lw_at lw_m10 30 rfl) rfl
theorem q2386 : (Jvm.Cond.code ({ cls := "DeedKernelModel", name := "undo", desc := "(LDeedKernelModel$Group;)V" } : Jvm.MethodName) prog_12_method_43_code (4 : Nat) (Option.none : Option Jvm.ClassFile.FieldType)) ∈ lw_all := lw_g (lw_at lw_m10 31 rfl) rfl
theorem q2387 : (Jvm.Cond.methodLink "DeedKernelModel" (488 : Nat) ({ cls := "DeedKernelModel", name := "log", desc := "(I)I" } : Jvm.MethodName)) ∈ lw_all := lw_g (lw_at lw_m10 32 rfl) rfl
theorem q2388 : (Jvm.Cond.privateMethod ({ cls := "DeedKernelModel", name := "log", desc := "(I)I" } : Jvm.MethodName)) ∈ lw_tbl := lw_at lw_m10 33 rfl
theorem q2389 : (Jvm.Cond.instanceMethod ({ cls := "DeedKernelModel", name := "log", desc := "(I)I" } : Jvm.MethodName)) ∈ lw_all := lw_g (lw_at lw_m10 34 rfl) rfl
theorem q2390 : (Jvm.Cond.code ({ cls := "DeedKernelModel", name := "log", desc := "(I)I" } : Jvm.MethodName) prog_12_method_54_code (3 : Nat) (Option.some Jvm.ClassFile.FieldType.int)) ∈ lw_all := lw_g (lw_at lw_m10 35 rfl) rfl
theorem q2391 : (Jvm.Cond.methodLink "DeedKernelModel" (492 : Nat) ({ cls := "DeedKernelModel", name := "put", desc := "(I[BI)Z" } : Jvm.MethodName)) ∈ lw_all := lw_g (lw_at lw_m10 36 rfl) rfl
theorem q2392 : (Jvm.Cond.privateMethod ({ cls := "DeedKernelModel", name := "put", desc := "(I[BI)Z" } : Jvm.MethodName)) ∈ lw_tbl := lw_at lw_m10 37 rfl
theorem q2393 : (Jvm.Cond.instanceMethod ({ cls := "DeedKernelModel", name := "put", desc := "(I[BI)Z" } : Jvm.MethodName)) ∈ lw_all := lw_g (lw_at lw_m10 38 rfl) rfl
theorem q2394 : (Jvm.Cond.code ({ cls := "DeedKernelModel", name := "put", desc := "(I[BI)Z" } : Jvm.MethodName) prog_12_method_10_code (6 : Nat) (Option.some Jvm.ClassFile.FieldType.boolean)) ∈ lw_all := lw_g (lw_at lw_m10 39 rfl) rfl
theorem q2395 : (Jvm.Cond.methodLink "DeedKernelModel" (496 : Nat) ({ cls := "DeedKernelModel", name := "goDown", desc := "()V" } : Jvm.MethodName)) ∈ lw_all := lw_g (lw_at lw_m10 40 rfl) rfl
theorem q2396 : (Jvm.Cond.privateMethod ({ cls := "DeedKernelModel", name := "goDown", desc := "()V" } : Jvm.MethodName)) ∈ lw_tbl := lw_at lw_m10 41 rfl
theorem q2397 : (Jvm.Cond.instanceMethod ({ cls := "DeedKernelModel", name := "goDown", desc := "()V" } : Jvm.MethodName)) ∈ lw_all := lw_g (lw_at lw_m10 42 rfl) rfl
theorem q2398 : (Jvm.Cond.code ({ cls := "DeedKernelModel", name := "goDown", desc := "()V" } : Jvm.MethodName) prog_12_method_11_code (1 : Nat) (Option.none : Option Jvm.ClassFile.FieldType)) ∈ lw_all := lw_g (lw_at lw_m10 43 rfl) rfl
theorem q2399 : (Jvm.Cond.methodLink "DeedKernelModel" (503 : Nat) ({ cls := "DeedKernelModel", name := "sweep", desc := "()V" } : Jvm.MethodName)) ∈ lw_all := lw_g (lw_at lw_m10 44 rfl) rfl
theorem q2400 : (Jvm.Cond.privateMethod ({ cls := "DeedKernelModel", name := "sweep", desc := "()V" } : Jvm.MethodName)) ∈ lw_tbl := lw_at lw_m10 45 rfl
theorem q2401 : (Jvm.Cond.instanceMethod ({ cls := "DeedKernelModel", name := "sweep", desc := "()V" } : Jvm.MethodName)) ∈ lw_all := lw_g (lw_at lw_m10 46 rfl) rfl
theorem q2402 : (Jvm.Cond.code ({ cls := "DeedKernelModel", name := "sweep", desc := "()V" } : Jvm.MethodName) prog_12_method_36_code (3 : Nat) (Option.none : Option Jvm.ClassFile.FieldType)) ∈ lw_all := lw_g (lw_at lw_m10 47 rfl) rfl
theorem q2403 : (Jvm.Cond.methodLink "DeedKernelModel" (371 : Nat) ({ cls := "DeedKernelModel", name := "isHeld", desc := "(II)Z" } : Jvm.MethodName)) ∈ lw_all := lw_g (lw_at lw_m10 48 rfl) rfl
theorem q2404 : (Jvm.Cond.privateMethod ({ cls := "DeedKernelModel", name := "isHeld", desc := "(II)Z" } : Jvm.MethodName)) ∈ lw_tbl := lw_at lw_m10 49 rfl
theorem q2405 : (Jvm.Cond.instanceMethod ({ cls := "DeedKernelModel", name := "isHeld", desc := "(II)Z" } : Jvm.MethodName)) ∈ lw_all := lw_g (lw_at lw_m10 50 rfl) rfl
theorem q2406 : (Jvm.Cond.code ({ cls := "DeedKernelModel", name := "isHeld", desc := "(II)Z" } : Jvm.MethodName) prog_12_method_35_code (4 : Nat) (Option.some Jvm.ClassFile.FieldType.boolean)) ∈ lw_all := lw_g (lw_at lw_m10 51 rfl) rfl
theorem q2407 : (Jvm.Cond.methodLink "DeedKernelModel" (362 : Nat) ({ cls := "DeedKernelModel", name := "rowHolds", desc := "([II)Z" } : Jvm.MethodName)) ∈ lw_all := lw_g (lw_at lw_m10 52 rfl) rfl
theorem q2408 : (Jvm.Cond.privateMethod ({ cls := "DeedKernelModel", name := "rowHolds", desc := "([II)Z" } : Jvm.MethodName)) ∈ lw_tbl := lw_at lw_m10 53 rfl
theorem q2409 : (Jvm.Cond.instanceMethod ({ cls := "DeedKernelModel", name := "rowHolds", desc := "([II)Z" } : Jvm.MethodName)) ∈ lw_all := lw_g (lw_at lw_m10 54 rfl) rfl
theorem q2410 : (Jvm.Cond.code ({ cls := "DeedKernelModel", name := "rowHolds", desc := "([II)Z" } : Jvm.MethodName) prog_12_method_33_code (4 : Nat) (Option.some Jvm.ClassFile.FieldType.boolean)) ∈ lw_all := lw_g (lw_at lw_m10 55 rfl) rfl
theorem q2411 : (Jvm.Cond.methodLink "DeedKernelModel" (368 : Nat) ({ cls := "DeedKernelModel", name := "groupHolds", desc := "(LDeedKernelModel$Group;I)Z" } : Jvm.MethodName)) ∈ lw_all := lw_g (lw_at lw_m10 56 rfl) rfl
theorem q2412 : (Jvm.Cond.privateMethod ({ cls := "DeedKernelModel", name := "groupHolds", desc := "(LDeedKernelModel$Group;I)Z" } : Jvm.MethodName)) ∈ lw_tbl := lw_at lw_m10 57 rfl
theorem q2413 : (Jvm.Cond.instanceMethod ({ cls := "DeedKernelModel", name := "groupHolds", desc := "(LDeedKernelModel$Group;I)Z" } : Jvm.MethodName)) ∈ lw_all := lw_g (lw_at lw_m10 58 rfl) rfl
theorem q2414 : (Jvm.Cond.code ({ cls := "DeedKernelModel", name := "groupHolds", desc := "(LDeedKernelModel$Group;I)Z" } : Jvm.MethodName) prog_12_method_34_code (5 : Nat) (Option.some Jvm.ClassFile.FieldType.boolean)) ∈ lw_all := lw_g (lw_at lw_m10 59 rfl) rfl
theorem q2415 : (Jvm.Cond.methodLink "DeedKernelModel" (532 : Nat) ({ cls := "DeedKernelModel", name := "ends", desc := "(II)V" } : Jvm.MethodName)) ∈ lw_all := lw_g (lw_at lw_m10 60 rfl) rfl
theorem q2416 : (Jvm.Cond.privateMethod ({ cls := "DeedKernelModel", name := "ends", desc := "(II)V" } : Jvm.MethodName)) ∈ lw_tbl := lw_at lw_m10 61 rfl
theorem q2417 : (Jvm.Cond.instanceMethod ({ cls := "DeedKernelModel", name := "ends", desc := "(II)V" } : Jvm.MethodName)) ∈ lw_all := lw_g (lw_at lw_m10 62 rfl) rfl
theorem q2418 : (Jvm.Cond.code ({ cls := "DeedKernelModel", name := "ends", desc := "(II)V" } : Jvm.MethodName) prog_12_method_57_code (4 : Nat) (Option.none : Option Jvm.ClassFile.FieldType)) ∈ lw_all := lw_g (lw_at lw_m10 63 rfl) rfl
theorem q2419 : (Jvm.Cond.methodLink "DeedKernelModel" (536 : Nat) ({ cls := "DeedKernelModel", name := "isMetByEnd", desc := "(LDeedKernelModel$Group;I)Z" } : Jvm.MethodName)) ∈ lw_all := lw_g (lw_at lw_m10 64 rfl) rfl
theorem q2420 : (Jvm.Cond.privateMethod ({ cls := "DeedKernelModel", name := "isMetByEnd", desc := "(LDeedKernelModel$Group;I)Z" } : Jvm.MethodName)) ∈ lw_tbl := lw_at lw_m10 65 rfl
theorem q2421 : (Jvm.Cond.instanceMethod ({ cls := "DeedKernelModel", name := "isMetByEnd", desc := "(LDeedKernelModel$Group;I)Z" } : Jvm.MethodName)) ∈ lw_all := lw_g (lw_at lw_m10 66 rfl) rfl
theorem q2422 : (Jvm.Cond.code ({ cls := "DeedKernelModel", name := "isMetByEnd", desc := "(LDeedKernelModel$Group;I)Z" } : Jvm.MethodName) prog_12_method_56_code (5 : Nat) (Option.some Jvm.ClassFile.FieldType.boolean)) ∈ lw_all := lw_g (lw_at lw_m10 67 rfl) rfl
theorem q2423 : (Jvm.Cond.methodLink "DeedKernelModel" (351 : Nat) ({ cls := "DeedKernelModel", name := "rowHasSide", desc := "([III)Z" } : Jvm.MethodName)) ∈ lw_all := lw_g (lw_at lw_m10 68 rfl) rfl
theorem q2424 : (Jvm.Cond.privateMethod ({ cls := "DeedKernelModel", name := "rowHasSide", desc := "([III)Z" } : Jvm.MethodName)) ∈ lw_tbl := lw_at lw_m10 69 rfl
theorem q2425 : (Jvm.Cond.instanceMethod ({ cls := "DeedKernelModel", name := "rowHasSide", desc := "([III)Z" } : Jvm.MethodName)) ∈ lw_all := lw_g (lw_at lw_m10 70 rfl) rfl
theorem q2426 : (Jvm.Cond.code ({ cls := "DeedKernelModel", name := "rowHasSide", desc := "([III)Z" } : Jvm.MethodName) prog_12_method_29_code (5 : Nat) (Option.some Jvm.ClassFile.FieldType.boolean)) ∈ lw_all := lw_g (lw_at lw_m10 71 rfl) rfl
theorem q2427 : (Jvm.Cond.methodLink "DeedKernelModel" (347 : Nat) ({ cls := "DeedKernelModel", name := "isSide", desc := "(III)Z" } : Jvm.MethodName)) ∈ lw_all := lw_g (lw_at lw_m10 72 rfl) rfl
theorem q2428 : (Jvm.Cond.privateMethod ({ cls := "DeedKernelModel", name := "isSide", desc := "(III)Z" } : Jvm.MethodName)) ∈ lw_tbl := lw_at lw_m10 73 rfl
theorem q2429 : (Jvm.Cond.instanceMethod ({ cls := "DeedKernelModel", name := "isSide", desc := "(III)Z" } : Jvm.MethodName)) ∈ lw_all := lw_g (lw_at lw_m10 74 rfl) rfl
theorem q2430 : (Jvm.Cond.code ({ cls := "DeedKernelModel", name := "isSide", desc := "(III)Z" } : Jvm.MethodName) prog_12_method_28_code (4 : Nat) (Option.some Jvm.ClassFile.FieldType.boolean)) ∈ lw_all := lw_g (lw_at lw_m10 75 rfl) rfl
theorem q2432 : (Jvm.Cond.instanceMethod ({ cls := "DeedKernelModel", name := "close", desc := "(II)I" } : Jvm.MethodName)) ∈ lw_all := lw_g (lw_at lw_m10 77 rfl) rfl
theorem q2433 : (Jvm.Cond.selects "DeedKernelModel" ({ cls := "DeedKernelModel", name := "close", desc := "(II)I" } : Jvm.MethodName) ({ cls := "DeedKernelModel", name := "close", desc := "(II)I" } : Jvm.MethodName)) ∈ lw_all := lw_g (lw_at lw_m10 78 rfl) rfl
theorem q2434 : (Jvm.Cond.code ({ cls := "DeedKernelModel", name := "close", desc := "(II)I" } : Jvm.MethodName) prog_12_method_80_code (4 : Nat) (Option.some Jvm.ClassFile.FieldType.int)) ∈ lw_all := lw_g (lw_at lw_m10 79 rfl) rfl
theorem q2435 : (Jvm.Cond.methodLink "DeedKernelModel" (661 : Nat) ({ cls := "DeedKernelModel", name := "isD", desc := "(I)Z" } : Jvm.MethodName)) ∈ lw_all := lw_g (lw_at lw_m10 80 rfl) rfl
theorem q2436 : (Jvm.Cond.privateMethod ({ cls := "DeedKernelModel", name := "isD", desc := "(I)Z" } : Jvm.MethodName)) ∈ lw_tbl := lw_at lw_m10 81 rfl
theorem q2437 : (Jvm.Cond.instanceMethod ({ cls := "DeedKernelModel", name := "isD", desc := "(I)Z" } : Jvm.MethodName)) ∈ lw_all := lw_g (lw_at lw_m10 82 rfl) rfl
theorem q2438 : (Jvm.Cond.code ({ cls := "DeedKernelModel", name := "isD", desc := "(I)Z" } : Jvm.MethodName) prog_12_method_79_code (2 : Nat) (Option.some Jvm.ClassFile.FieldType.boolean)) ∈ lw_all := lw_g (lw_at lw_m10 83 rfl) rfl
theorem q2439 : (Jvm.Cond.methodLink "DeedKernelModel" (664 : Nat) ({ cls := "DeedKernelModel", name := "closed", desc := "(ILDeedKernelModel$Group;I)I" } : Jvm.MethodName)) ∈ lw_all := lw_g (lw_at lw_m10 84 rfl) rfl
theorem q2440 : (Jvm.Cond.privateMethod ({ cls := "DeedKernelModel", name := "closed", desc := "(ILDeedKernelModel$Group;I)I" } : Jvm.MethodName)) ∈ lw_tbl := lw_at lw_m10 85 rfl
theorem q2441 : (Jvm.Cond.instanceMethod ({ cls := "DeedKernelModel", name := "closed", desc := "(ILDeedKernelModel$Group;I)I" } : Jvm.MethodName)) ∈ lw_all := lw_g (lw_at lw_m10 86 rfl) rfl
theorem q2442 : (Jvm.Cond.code ({ cls := "DeedKernelModel", name := "closed", desc := "(ILDeedKernelModel$Group;I)I" } : Jvm.MethodName) prog_12_method_81_code (6 : Nat) (Option.some Jvm.ClassFile.FieldType.int)) ∈ lw_all := lw_g (lw_at lw_m10 87 rfl) rfl
theorem q2444 : (Jvm.Cond.instanceMethod ({ cls := "DeedKernelModel", name := "read", desc := "(III)I" } : Jvm.MethodName)) ∈ lw_all := lw_g (lw_at lw_m10 89 rfl) rfl
theorem q2445 : (Jvm.Cond.selects "DeedKernelModel" ({ cls := "DeedKernelModel", name := "read", desc := "(III)I" } : Jvm.MethodName) ({ cls := "DeedKernelModel", name := "read", desc := "(III)I" } : Jvm.MethodName)) ∈ lw_all := lw_g (lw_at lw_m10 90 rfl) rfl
theorem q2446 : (Jvm.Cond.code ({ cls := "DeedKernelModel", name := "read", desc := "(III)I" } : Jvm.MethodName) prog_12_method_83_code (5 : Nat) (Option.some Jvm.ClassFile.FieldType.int)) ∈ lw_all := lw_g (lw_at lw_m10 91 rfl) rfl
theorem q2447 : (Jvm.Cond.methodLink "DeedKernelModel" (667 : Nat) ({ cls := "DeedKernelModel", name := "got", desc := "(ILDeedKernelModel$Group;II)I" } : Jvm.MethodName)) ∈ lw_all := lw_g (lw_at lw_m10 92 rfl) rfl
theorem q2448 : (Jvm.Cond.privateMethod ({ cls := "DeedKernelModel", name := "got", desc := "(ILDeedKernelModel$Group;II)I" } : Jvm.MethodName)) ∈ lw_tbl := lw_at lw_m10 93 rfl
theorem q2449 : (Jvm.Cond.instanceMethod ({ cls := "DeedKernelModel", name := "got", desc := "(ILDeedKernelModel$Group;II)I" } : Jvm.MethodName)) ∈ lw_all := lw_g (lw_at lw_m10 94 rfl) rfl
theorem q2450 : (Jvm.Cond.code ({ cls := "DeedKernelModel", name := "got", desc := "(ILDeedKernelModel$Group;II)I" } : Jvm.MethodName) prog_12_method_84_code (9 : Nat) (Option.some Jvm.ClassFile.FieldType.int)) ∈ lw_all := lw_g (lw_at lw_m10 95 rfl) rfl
theorem q2451 : (Jvm.Cond.methodLink "DeedKernelModel" (671 : Nat) ({ cls := "DeedKernelModel", name := "fromPipe", desc := "(ILDeedKernelModel$Group;II)I" } : Jvm.MethodName)) ∈ lw_all := lw_g (lw_at lw_m10 96 rfl) rfl
theorem q2452 : (Jvm.Cond.privateMethod ({ cls := "DeedKernelModel", name := "fromPipe", desc := "(ILDeedKernelModel$Group;II)I" } : Jvm.MethodName)) ∈ lw_tbl := lw_at lw_m10 97 rfl
theorem q2453 : (Jvm.Cond.instanceMethod ({ cls := "DeedKernelModel", name := "fromPipe", desc := "(ILDeedKernelModel$Group;II)I" } : Jvm.MethodName)) ∈ lw_all := lw_g (lw_at lw_m10 98 rfl) rfl
theorem q2454 : (Jvm.Cond.code ({ cls := "DeedKernelModel", name := "fromPipe", desc := "(ILDeedKernelModel$Group;II)I" } : Jvm.MethodName) prog_12_method_85_code (8 : Nat) (Option.some Jvm.ClassFile.FieldType.int)) ∈ lw_all := lw_g (lw_at lw_m10 99 rfl) rfl
theorem q2455 : (Jvm.Cond.methodLink "DeedKernelModel" (689 : Nat) ({ cls := "DeedKernelModel", name := "hasSide", desc := "(ILDeedKernelModel$Group;II)Z" } : Jvm.MethodName)) ∈ lw_all := lw_g (lw_at lw_m10 100 rfl) rfl
theorem q2456 : (Jvm.Cond.privateMethod ({ cls := "DeedKernelModel", name := "hasSide", desc := "(ILDeedKernelModel$Group;II)Z" } : Jvm.MethodName)) ∈ lw_tbl := lw_at lw_m10 101 rfl
theorem q2457 : (Jvm.Cond.instanceMethod ({ cls := "DeedKernelModel", name := "hasSide", desc := "(ILDeedKernelModel$Group;II)Z" } : Jvm.MethodName)) ∈ lw_all := lw_g (lw_at lw_m10 102 rfl) rfl
theorem q2458 : (Jvm.Cond.code ({ cls := "DeedKernelModel", name := "hasSide", desc := "(ILDeedKernelModel$Group;II)Z" } : Jvm.MethodName) prog_12_method_31_code (6 : Nat) (Option.some Jvm.ClassFile.FieldType.boolean)) ∈ lw_all := lw_g (lw_at lw_m10 103 rfl) rfl
theorem q2459 : (Jvm.Cond.methodLink "DeedKernelModel" (355 : Nat) ({ cls := "DeedKernelModel", name := "groupHasSide", desc := "(LDeedKernelModel$Group;II)Z" } : Jvm.MethodName)) ∈ lw_all := lw_g (lw_at lw_m10 104 rfl) rfl
theorem q2460 : (Jvm.Cond.privateMethod ({ cls := "DeedKernelModel", name := "groupHasSide", desc := "(LDeedKernelModel$Group;II)Z" } : Jvm.MethodName)) ∈ lw_tbl := lw_at lw_m10 105 rfl
theorem q2461 : (Jvm.Cond.instanceMethod ({ cls := "DeedKernelModel", name := "groupHasSide", desc := "(LDeedKernelModel$Group;II)Z" } : Jvm.MethodName)) ∈ lw_all := lw_g (lw_at lw_m10 106 rfl) rfl
theorem q2462 : (Jvm.Cond.code ({ cls := "DeedKernelModel", name := "groupHasSide", desc := "(LDeedKernelModel$Group;II)Z" } : Jvm.MethodName) prog_12_method_30_code (5 : Nat) (Option.some Jvm.ClassFile.FieldType.boolean)) ∈ lw_all := lw_g (lw_at lw_m10 107 rfl) rfl
theorem q2463 : (Jvm.Cond.methodLink "DeedKernelModel" (693 : Nat) ({ cls := "DeedKernelModel", name := "ownPipe", desc := "(LDeedKernelModel$Group;I)V" } : Jvm.MethodName)) ∈ lw_all := lw_g (lw_at lw_m10 108 rfl) rfl
theorem q2464 : (Jvm.Cond.privateMethod ({ cls := "DeedKernelModel", name := "ownPipe", desc := "(LDeedKernelModel$Group;I)V" } : Jvm.MethodName)) ∈ lw_tbl := lw_at lw_m10 109 rfl
theorem q2465 : (Jvm.Cond.instanceMethod ({ cls := "DeedKernelModel", name := "ownPipe", desc := "(LDeedKernelModel$Group;I)V" } : Jvm.MethodName)) ∈ lw_all := lw_g (lw_at lw_m10 110 rfl) rfl
theorem q2466 : (Jvm.Cond.code ({ cls := "DeedKernelModel", name := "ownPipe", desc := "(LDeedKernelModel$Group;I)V" } : Jvm.MethodName) prog_12_method_82_code (3 : Nat) (Option.none : Option Jvm.ClassFile.FieldType)) ∈ lw_all := lw_g (lw_at lw_m10 111 rfl) rfl
theorem q2467 : (Jvm.Cond.methodLink "DeedKernelModel" (674 : Nat) ({ cls := "DeedKernelModel", name := "placeOf", desc := "(LDeedKernelModel$Group;I)I" } : Jvm.MethodName)) ∈ lw_all := lw_g (lw_at lw_m10 112 rfl) rfl
theorem q2468 : (Jvm.Cond.privateMethod ({ cls := "DeedKernelModel", name := "placeOf", desc := "(LDeedKernelModel$Group;I)I" } : Jvm.MethodName)) ∈ lw_tbl := lw_at lw_m10 113 rfl
theorem q2469 : (Jvm.Cond.instanceMethod ({ cls := "DeedKernelModel", name := "placeOf", desc := "(LDeedKernelModel$Group;I)I" } : Jvm.MethodName)) ∈ lw_all := lw_g (lw_at lw_m10 114 rfl) rfl
theorem q2470 : (Jvm.Cond.code ({ cls := "DeedKernelModel", name := "placeOf", desc := "(LDeedKernelModel$Group;I)I" } : Jvm.MethodName) prog_12_method_74_code (3 : Nat) (Option.some Jvm.ClassFile.FieldType.int)) ∈ lw_all := lw_g (lw_at lw_m10 115 rfl) rfl
theorem q2471 : (Jvm.Cond.methodLink "DeedKernelModel" (677 : Nat) ({ cls := "DeedKernelModel", name := "lenOf", desc := "(LDeedKernelModel$Group;I)I" } : Jvm.MethodName)) ∈ lw_all := lw_g (lw_at lw_m10 116 rfl) rfl
theorem q2472 : (Jvm.Cond.privateMethod ({ cls := "DeedKernelModel", name := "lenOf", desc := "(LDeedKernelModel$Group;I)I" } : Jvm.MethodName)) ∈ lw_tbl := lw_at lw_m10 117 rfl
theorem q2473 : (Jvm.Cond.instanceMethod ({ cls := "DeedKernelModel", name := "lenOf", desc := "(LDeedKernelModel$Group;I)I" } : Jvm.MethodName)) ∈ lw_all := lw_g (lw_at lw_m10 118 rfl) rfl
theorem q2474 : (Jvm.Cond.code ({ cls := "DeedKernelModel", name := "lenOf", desc := "(LDeedKernelModel$Group;I)I" } : Jvm.MethodName) prog_12_method_16_code (3 : Nat) (Option.some Jvm.ClassFile.FieldType.int)) ∈ lw_all := lw_g (lw_at lw_m10 119 rfl) rfl
theorem q2475 : (Jvm.Cond.methodLink "DeedKernelModel" (683 : Nat) ({ cls := "DeedKernelModel", name := "dataOf", desc := "(LDeedKernelModel$Group;I)[B" } : Jvm.MethodName)) ∈ lw_all := lw_g (lw_at lw_m10 120 rfl) rfl
theorem q2476 : (Jvm.Cond.privateMethod ({ cls := "DeedKernelModel", name := "dataOf", desc := "(LDeedKernelModel$Group;I)[B" } : Jvm.MethodName)) ∈ lw_tbl := lw_at lw_m10 121 rfl
theorem q2477 : (Jvm.Cond.instanceMethod ({ cls := "DeedKernelModel", name := "dataOf", desc := "(LDeedKernelModel$Group;I)[B" } : Jvm.MethodName)) ∈ lw_all := lw_g (lw_at lw_m10 122 rfl) rfl
theorem q2478 : (Jvm.Cond.code ({ cls := "DeedKernelModel", name := "dataOf", desc := "(LDeedKernelModel$Group;I)[B" } : Jvm.MethodName) prog_12_method_17_code (3 : Nat) (Option.some (Jvm.ClassFile.FieldType.array Jvm.ClassFile.FieldType.byte))) ∈ lw_all := lw_g (lw_at lw_m10 123 rfl) rfl
theorem q2479 : (Jvm.Cond.methodLink "DeedKernelModel" (686 : Nat) ({ cls := "DeedKernelModel", name := "setPlace", desc := "(LDeedKernelModel$Group;II)V" } : Jvm.MethodName)) ∈ lw_all := lw_g (lw_at lw_m10 124 rfl) rfl
theorem q2480 : (Jvm.Cond.privateMethod ({ cls := "DeedKernelModel", name := "setPlace", desc := "(LDeedKernelModel$Group;II)V" } : Jvm.MethodName)) ∈ lw_tbl := lw_at lw_m10 125 rfl
theorem q2481 : (Jvm.Cond.instanceMethod ({ cls := "DeedKernelModel", name := "setPlace", desc := "(LDeedKernelModel$Group;II)V" } : Jvm.MethodName)) ∈ lw_all := lw_g (lw_at lw_m10 126 rfl) rfl
theorem q2482 : (Jvm.Cond.code ({ cls := "DeedKernelModel", name := "setPlace", desc := "(LDeedKernelModel$Group;II)V" } : Jvm.MethodName) prog_12_method_75_code (4 : Nat) (Option.none : Option Jvm.ClassFile.FieldType)) ∈ lw_all := lw_g (lw_at lw_m10 127 rfl) rfl
theorem q2484 : (Jvm.Cond.instanceMethod ({ cls := "DeedKernelModel", name := "write", desc := "(II)I" } : Jvm.MethodName)) ∈ lw_all := lw_g (lw_at lw_m10 129 rfl) rfl
theorem q2485 : (Jvm.Cond.selects "DeedKernelModel" ({ cls := "DeedKernelModel", name := "write", desc := "(II)I" } : Jvm.MethodName) ({ cls := "DeedKernelModel", name := "write", desc := "(II)I" } : Jvm.MethodName)) ∈ lw_all := lw_g (lw_at lw_m10 130 rfl) rfl
theorem q2486 : (Jvm.Cond.code ({ cls := "DeedKernelModel", name := "write", desc := "(II)I" } : Jvm.MethodName) prog_12_method_86_code (4 : Nat) (Option.some Jvm.ClassFile.FieldType.int)) ∈ lw_all := lw_g (lw_at lw_m10 131 rfl) rfl
theorem q2487 : (Jvm.Cond.methodLink "DeedKernelModel" (697 : Nat) ({ cls := "DeedKernelModel", name := "wrote", desc := "(ILDeedKernelModel$Group;I)I" } : Jvm.MethodName)) ∈ lw_all := lw_g (lw_at lw_m10 132 rfl) rfl
theorem q2488 : (Jvm.Cond.privateMethod ({ cls := "DeedKernelModel", name := "wrote", desc := "(ILDeedKernelModel$Group;I)I" } : Jvm.MethodName)) ∈ lw_tbl := lw_at lw_m10 133 rfl
theorem q2489 : (Jvm.Cond.instanceMethod ({ cls := "DeedKernelModel", name := "wrote", desc := "(ILDeedKernelModel$Group;I)I" } : Jvm.MethodName)) ∈ lw_all := lw_g (lw_at lw_m10 134 rfl) rfl
theorem q2490 : (Jvm.Cond.code ({ cls := "DeedKernelModel", name := "wrote", desc := "(ILDeedKernelModel$Group;I)I" } : Jvm.MethodName) prog_12_method_87_code (10 : Nat) (Option.some Jvm.ClassFile.FieldType.int)) ∈ lw_all := lw_g (lw_at lw_m10 135 rfl) rfl
theorem q2491 : (Jvm.Cond.methodLink "DeedKernelModel" (700 : Nat) ({ cls := "DeedKernelModel", name := "toPipe", desc := "(ILDeedKernelModel$Group;I)I" } : Jvm.MethodName)) ∈ lw_all := lw_g (lw_at lw_m10 136 rfl) rfl
theorem q2492 : (Jvm.Cond.privateMethod ({ cls := "DeedKernelModel", name := "toPipe", desc := "(ILDeedKernelModel$Group;I)I" } : Jvm.MethodName)) ∈ lw_tbl := lw_at lw_m10 137 rfl
theorem q2493 : (Jvm.Cond.instanceMethod ({ cls := "DeedKernelModel", name := "toPipe", desc := "(ILDeedKernelModel$Group;I)I" } : Jvm.MethodName)) ∈ lw_all := lw_g (lw_at lw_m10 138 rfl) rfl
theorem q2494 : (Jvm.Cond.code ({ cls := "DeedKernelModel", name := "toPipe", desc := "(ILDeedKernelModel$Group;I)I" } : Jvm.MethodName) prog_12_method_88_code (7 : Nat) (Option.some Jvm.ClassFile.FieldType.int)) ∈ lw_all := lw_g (lw_at lw_m10 139 rfl) rfl
theorem q2496 : (Jvm.Cond.instanceMethod ({ cls := "DeedKernelModel", name := "seek", desc := "(III)I" } : Jvm.MethodName)) ∈ lw_all := lw_g (lw_at lw_m10 141 rfl) rfl
theorem q2497 : (Jvm.Cond.selects "DeedKernelModel" ({ cls := "DeedKernelModel", name := "seek", desc := "(III)I" } : Jvm.MethodName) ({ cls := "DeedKernelModel", name := "seek", desc := "(III)I" } : Jvm.MethodName)) ∈ lw_all := lw_g (lw_at lw_m10 142 rfl) rfl
theorem q2498 : (Jvm.Cond.code ({ cls := "DeedKernelModel", name := "seek", desc := "(III)I" } : Jvm.MethodName) prog_12_method_89_code (5 : Nat) (Option.some Jvm.ClassFile.FieldType.int)) ∈ lw_all := lw_g (lw_at lw_m10 143 rfl) rfl
theorem q2499 : (Jvm.Cond.methodLink "DeedKernelModel" (703 : Nat) ({ cls := "DeedKernelModel", name := "sought", desc := "(ILDeedKernelModel$Group;II)I" } : Jvm.MethodName)) ∈ lw_all := lw_g (lw_at lw_m10 144 rfl) rfl
theorem q2500 : (Jvm.Cond.privateMethod ({ cls := "DeedKernelModel", name := "sought", desc := "(ILDeedKernelModel$Group;II)I" } : Jvm.MethodName)) ∈ lw_tbl := lw_at lw_m10 145 rfl
theorem q2501 : (Jvm.Cond.instanceMethod ({ cls := "DeedKernelModel", name := "sought", desc := "(ILDeedKernelModel$Group;II)I" } : Jvm.MethodName)) ∈ lw_all := lw_g (lw_at lw_m10 146 rfl) rfl
theorem q2502 : (Jvm.Cond.code ({ cls := "DeedKernelModel", name := "sought", desc := "(ILDeedKernelModel$Group;II)I" } : Jvm.MethodName) prog_12_method_90_code (8 : Nat) (Option.some Jvm.ClassFile.FieldType.int)) ∈ lw_all := lw_g (lw_at lw_m10 147 rfl) rfl
theorem q2504 : (Jvm.Cond.instanceMethod ({ cls := "DeedKernelModel", name := "cut", desc := "(III)I" } : Jvm.MethodName)) ∈ lw_all := lw_g (lw_at lw_m10 149 rfl) rfl
theorem q2505 : (Jvm.Cond.selects "DeedKernelModel" ({ cls := "DeedKernelModel", name := "cut", desc := "(III)I" } : Jvm.MethodName) ({ cls := "DeedKernelModel", name := "cut", desc := "(III)I" } : Jvm.MethodName)) ∈ lw_all := lw_g (lw_at lw_m10 150 rfl) rfl
theorem q2506 : (Jvm.Cond.code ({ cls := "DeedKernelModel", name := "cut", desc := "(III)I" } : Jvm.MethodName) prog_12_method_91_code (5 : Nat) (Option.some Jvm.ClassFile.FieldType.int)) ∈ lw_all := lw_g (lw_at lw_m10 151 rfl) rfl
theorem q2507 : (Jvm.Cond.methodLink "DeedKernelModel" (706 : Nat) ({ cls := "DeedKernelModel", name := "cutTo", desc := "(ILDeedKernelModel$Group;II)I" } : Jvm.MethodName)) ∈ lw_all := lw_g (lw_at lw_m10 152 rfl) rfl
theorem q2508 : (Jvm.Cond.privateMethod ({ cls := "DeedKernelModel", name := "cutTo", desc := "(ILDeedKernelModel$Group;II)I" } : Jvm.MethodName)) ∈ lw_tbl := lw_at lw_m10 153 rfl
theorem q2509 : (Jvm.Cond.instanceMethod ({ cls := "DeedKernelModel", name := "cutTo", desc := "(ILDeedKernelModel$Group;II)I" } : Jvm.MethodName)) ∈ lw_all := lw_g (lw_at lw_m10 154 rfl) rfl
theorem q2510 : (Jvm.Cond.code ({ cls := "DeedKernelModel", name := "cutTo", desc := "(ILDeedKernelModel$Group;II)I" } : Jvm.MethodName) prog_12_method_92_code (8 : Nat) (Option.some Jvm.ClassFile.FieldType.int)) ∈ lw_all := lw_g (lw_at lw_m10 155 rfl) rfl
theorem q2512 : (Jvm.Cond.instanceMethod ({ cls := "DeedKernelModel", name := "twin", desc := "(II)I" } : Jvm.MethodName)) ∈ lw_all := lw_g (lw_at lw_m10 157 rfl) rfl
theorem q2513 : (Jvm.Cond.selects "DeedKernelModel" ({ cls := "DeedKernelModel", name := "twin", desc := "(II)I" } : Jvm.MethodName) ({ cls := "DeedKernelModel", name := "twin", desc := "(II)I" } : Jvm.MethodName)) ∈ lw_all := lw_g (lw_at lw_m10 158 rfl) rfl
theorem q2514 : (Jvm.Cond.code ({ cls := "DeedKernelModel", name := "twin", desc := "(II)I" } : Jvm.MethodName) prog_12_method_93_code (7 : Nat) (Option.some Jvm.ClassFile.FieldType.int)) ∈ lw_all := lw_g (lw_at lw_m10 159 rfl) rfl
theorem q2516 : (Jvm.Cond.instanceMethod ({ cls := "DeedKernelModel", name := "pipe", desc := "(I)I" } : Jvm.MethodName)) ∈ lw_all := lw_g (lw_at lw_m10 161 rfl) rfl
theorem q2517 : (Jvm.Cond.selects "DeedKernelModel" ({ cls := "DeedKernelModel", name := "pipe", desc := "(I)I" } : Jvm.MethodName) ({ cls := "DeedKernelModel", name := "pipe", desc := "(I)I" } : Jvm.MethodName)) ∈ lw_all := lw_g (lw_at lw_m10 162 rfl) rfl
theorem q2518 : (Jvm.Cond.code ({ cls := "DeedKernelModel", name := "pipe", desc := "(I)I" } : Jvm.MethodName) prog_12_method_94_code (3 : Nat) (Option.some Jvm.ClassFile.FieldType.int)) ∈ lw_all := lw_g (lw_at lw_m10 163 rfl) rfl
theorem q2519 : (Jvm.Cond.methodLink "DeedKernelModel" (709 : Nat) ({ cls := "DeedKernelModel", name := "piped", desc := "(ILDeedKernelModel$Group;)I" } : Jvm.MethodName)) ∈ lw_all := lw_g (lw_at lw_m10 164 rfl) rfl
theorem q2520 : (Jvm.Cond.privateMethod ({ cls := "DeedKernelModel", name := "piped", desc := "(ILDeedKernelModel$Group;)I" } : Jvm.MethodName)) ∈ lw_tbl := lw_at lw_m10 165 rfl
theorem q2521 : (Jvm.Cond.instanceMethod ({ cls := "DeedKernelModel", name := "piped", desc := "(ILDeedKernelModel$Group;)I" } : Jvm.MethodName)) ∈ lw_all := lw_g (lw_at lw_m10 166 rfl) rfl
theorem q2522 : (Jvm.Cond.code ({ cls := "DeedKernelModel", name := "piped", desc := "(ILDeedKernelModel$Group;)I" } : Jvm.MethodName) prog_12_method_95_code (7 : Nat) (Option.some Jvm.ClassFile.FieldType.int)) ∈ lw_all := lw_g (lw_at lw_m10 167 rfl) rfl
theorem q2523 : (Jvm.Cond.methodLink "DeedKernelModel" (712 : Nat) ({ cls := "DeedKernelModel", name := "isGone", desc := "(I)Z" } : Jvm.MethodName)) ∈ lw_all := lw_g (lw_at lw_m10 168 rfl) rfl
theorem q2524 : (Jvm.Cond.privateMethod ({ cls := "DeedKernelModel", name := "isGone", desc := "(I)Z" } : Jvm.MethodName)) ∈ lw_tbl := lw_at lw_m10 169 rfl
theorem q2525 : (Jvm.Cond.instanceMethod ({ cls := "DeedKernelModel", name := "isGone", desc := "(I)Z" } : Jvm.MethodName)) ∈ lw_all := lw_g (lw_at lw_m10 170 rfl) rfl
theorem q2526 : (Jvm.Cond.code ({ cls := "DeedKernelModel", name := "isGone", desc := "(I)Z" } : Jvm.MethodName) prog_12_method_32_code (3 : Nat) (Option.some Jvm.ClassFile.FieldType.boolean)) ∈ lw_all := lw_g (lw_at lw_m10 171 rfl) rfl
theorem q2528 : (Jvm.Cond.instanceMethod ({ cls := "DeedKernelModel", name := "make", desc := "(I)I" } : Jvm.MethodName)) ∈ lw_all := lw_g (lw_at lw_m10 173 rfl) rfl
theorem q2529 : (Jvm.Cond.selects "DeedKernelModel" ({ cls := "DeedKernelModel", name := "make", desc := "(I)I" } : Jvm.MethodName) ({ cls := "DeedKernelModel", name := "make", desc := "(I)I" } : Jvm.MethodName)) ∈ lw_all := lw_g (lw_at lw_m10 174 rfl) rfl
theorem q2530 : (Jvm.Cond.code ({ cls := "DeedKernelModel", name := "make", desc := "(I)I" } : Jvm.MethodName) prog_12_method_96_code (3 : Nat) (Option.some Jvm.ClassFile.FieldType.int)) ∈ lw_all := lw_g (lw_at lw_m10 175 rfl) rfl
theorem q2531 : (Jvm.Cond.methodLink "DeedKernelModel" (715 : Nat) ({ cls := "DeedKernelModel", name := "madeDir", desc := "(ILDeedKernelModel$Group;)I" } : Jvm.MethodName)) ∈ lw_all := lw_g (lw_at lw_m10 176 rfl) rfl
theorem q2532 : (Jvm.Cond.privateMethod ({ cls := "DeedKernelModel", name := "madeDir", desc := "(ILDeedKernelModel$Group;)I" } : Jvm.MethodName)) ∈ lw_tbl := lw_at lw_m10 177 rfl
theorem q2533 : (Jvm.Cond.instanceMethod ({ cls := "DeedKernelModel", name := "madeDir", desc := "(ILDeedKernelModel$Group;)I" } : Jvm.MethodName)) ∈ lw_all := lw_g (lw_at lw_m10 178 rfl) rfl
theorem q2534 : (Jvm.Cond.code ({ cls := "DeedKernelModel", name := "madeDir", desc := "(ILDeedKernelModel$Group;)I" } : Jvm.MethodName) prog_12_method_97_code (4 : Nat) (Option.some Jvm.ClassFile.FieldType.int)) ∈ lw_all := lw_g (lw_at lw_m10 179 rfl) rfl
theorem q2536 : (Jvm.Cond.instanceMethod ({ cls := "DeedKernelModel", name := "unlink", desc := "(I)I" } : Jvm.MethodName)) ∈ lw_all := lw_g (lw_at lw_m10 181 rfl) rfl
theorem q2537 : (Jvm.Cond.selects "DeedKernelModel" ({ cls := "DeedKernelModel", name := "unlink", desc := "(I)I" } : Jvm.MethodName) ({ cls := "DeedKernelModel", name := "unlink", desc := "(I)I" } : Jvm.MethodName)) ∈ lw_all := lw_g (lw_at lw_m10 182 rfl) rfl
theorem q2538 : (Jvm.Cond.code ({ cls := "DeedKernelModel", name := "unlink", desc := "(I)I" } : Jvm.MethodName) prog_12_method_99_code (3 : Nat) (Option.some Jvm.ClassFile.FieldType.int)) ∈ lw_all := lw_g (lw_at lw_m10 183 rfl) rfl
theorem q2539 : (Jvm.Cond.methodLink "DeedKernelModel" (721 : Nat) ({ cls := "DeedKernelModel", name := "unlinked", desc := "(ILDeedKernelModel$Group;)I" } : Jvm.MethodName)) ∈ lw_all := lw_g (lw_at lw_m10 184 rfl) rfl
theorem q2540 : (Jvm.Cond.privateMethod ({ cls := "DeedKernelModel", name := "unlinked", desc := "(ILDeedKernelModel$Group;)I" } : Jvm.MethodName)) ∈ lw_tbl := lw_at lw_m10 185 rfl
theorem q2541 : (Jvm.Cond.instanceMethod ({ cls := "DeedKernelModel", name := "unlinked", desc := "(ILDeedKernelModel$Group;)I" } : Jvm.MethodName)) ∈ lw_all := lw_g (lw_at lw_m10 186 rfl) rfl
theorem q2542 : (Jvm.Cond.code ({ cls := "DeedKernelModel", name := "unlinked", desc := "(ILDeedKernelModel$Group;)I" } : Jvm.MethodName) prog_12_method_100_code (4 : Nat) (Option.some Jvm.ClassFile.FieldType.int)) ∈ lw_all := lw_g (lw_at lw_m10 187 rfl) rfl
theorem q2543 : (Jvm.Cond.methodLink "DeedKernelModel" (724 : Nat) ({ cls := "DeedKernelModel", name := "dropEntry", desc := "(LDeedKernelModel$Group;IJJ)V" } : Jvm.MethodName)) ∈ lw_all := lw_g (lw_at lw_m10 188 rfl) rfl
theorem q2544 : (Jvm.Cond.privateMethod ({ cls := "DeedKernelModel", name := "dropEntry", desc := "(LDeedKernelModel$Group;IJJ)V" } : Jvm.MethodName)) ∈ lw_tbl := lw_at lw_m10 189 rfl
theorem q2545 : (Jvm.Cond.instanceMethod ({ cls := "DeedKernelModel", name := "dropEntry", desc := "(LDeedKernelModel$Group;IJJ)V" } : Jvm.MethodName)) ∈ lw_all := lw_g (lw_at lw_m10 190 rfl) rfl
theorem q2546 : (Jvm.Cond.code ({ cls := "DeedKernelModel", name := "dropEntry", desc := "(LDeedKernelModel$Group;IJJ)V" } : Jvm.MethodName) prog_12_method_98_code (8 : Nat) (Option.none : Option Jvm.ClassFile.FieldType)) ∈ lw_all := lw_g (lw_at lw_m10 191 rfl) rfl
theorem q2547 : (Jvm.Cond.methodLink "DeedKernelModel" (718 : Nat) ({ cls := "DeedKernelModel$Group", name := "forget", desc := "(II)V" } : Jvm.MethodName)) ∈ lw_all := lw_g (lw_at lw_m10 192 rfl) rfl
theorem q2552 : (Jvm.Cond.methodLink "DeedKernelModel" (728 : Nat) ({ cls := "DeedKernelModel", name := "setNames", desc := "(LDeedKernelModel$Group;II)V" } : Jvm.MethodName)) ∈ lw_all := lw_g (lw_at lw_m10 197 rfl) rfl
theorem q2553 : (Jvm.Cond.privateMethod ({ cls := "DeedKernelModel", name := "setNames", desc := "(LDeedKernelModel$Group;II)V" } : Jvm.MethodName)) ∈ lw_tbl := lw_at lw_m10 198 rfl
theorem q2554 : (Jvm.Cond.instanceMethod ({ cls := "DeedKernelModel", name := "setNames", desc := "(LDeedKernelModel$Group;II)V" } : Jvm.MethodName)) ∈ lw_all := lw_g (lw_at lw_m10 199 rfl) rfl
theorem q2555 : (Jvm.Cond.code ({ cls := "DeedKernelModel", name := "setNames", desc := "(LDeedKernelModel$Group;II)V" } : Jvm.MethodName) prog_12_method_73_code (4 : Nat) (Option.none : Option Jvm.ClassFile.FieldType)) ∈ lw_all := lw_g (lw_at lw_m10 200 rfl) rfl
theorem q2557 : (Jvm.Cond.instanceMethod ({ cls := "DeedKernelModel", name := "remove", desc := "(I)I" } : Jvm.MethodName)) ∈ lw_all := lw_g (lw_at lw_m10 202 rfl) rfl
theorem q2558 : (Jvm.Cond.selects "DeedKernelModel" ({ cls := "DeedKernelModel", name := "remove", desc := "(I)I" } : Jvm.MethodName) ({ cls := "DeedKernelModel", name := "remove", desc := "(I)I" } : Jvm.MethodName)) ∈ lw_all := lw_g (lw_at lw_m10 203 rfl) rfl
theorem q2559 : (Jvm.Cond.code ({ cls := "DeedKernelModel", name := "remove", desc := "(I)I" } : Jvm.MethodName) prog_12_method_101_code (3 : Nat) (Option.some Jvm.ClassFile.FieldType.int)) ∈ lw_all := lw_g (lw_at lw_m10 204 rfl) rfl
theorem q2560 : (Jvm.Cond.methodLink "DeedKernelModel" (731 : Nat) ({ cls := "DeedKernelModel", name := "removed", desc := "(ILDeedKernelModel$Group;)I" } : Jvm.MethodName)) ∈ lw_all := lw_g (lw_at lw_m10 205 rfl) rfl
theorem q2561 : (Jvm.Cond.privateMethod ({ cls := "DeedKernelModel", name := "removed", desc := "(ILDeedKernelModel$Group;)I" } : Jvm.MethodName)) ∈ lw_tbl := lw_at lw_m10 206 rfl
theorem q2562 : (Jvm.Cond.instanceMethod ({ cls := "DeedKernelModel", name := "removed", desc := "(ILDeedKernelModel$Group;)I" } : Jvm.MethodName)) ∈ lw_all := lw_g (lw_at lw_m10 207 rfl) rfl
theorem q2563 : (Jvm.Cond.code ({ cls := "DeedKernelModel", name := "removed", desc := "(ILDeedKernelModel$Group;)I" } : Jvm.MethodName) prog_12_method_102_code (4 : Nat) (Option.some Jvm.ClassFile.FieldType.int)) ∈ lw_all := lw_g (lw_at lw_m10 208 rfl) rfl
theorem q2564 : (Jvm.Cond.methodLink "DeedKernelModel" (734 : Nat) ({ cls := "DeedKernelModel", name := "entries", desc := "(LDeedKernelModel$Group;I)I" } : Jvm.MethodName)) ∈ lw_all := lw_g (lw_at lw_m10 209 rfl) rfl
theorem q2565 : (Jvm.Cond.privateMethod ({ cls := "DeedKernelModel", name := "entries", desc := "(LDeedKernelModel$Group;I)I" } : Jvm.MethodName)) ∈ lw_tbl := lw_at lw_m10 210 rfl
theorem q2566 : (Jvm.Cond.instanceMethod ({ cls := "DeedKernelModel", name := "entries", desc := "(LDeedKernelModel$Group;I)I" } : Jvm.MethodName)) ∈ lw_all := lw_g (lw_at lw_m10 211 rfl) rfl
theorem q2567 : (Jvm.Cond.code ({ cls := "DeedKernelModel", name := "entries", desc := "(LDeedKernelModel$Group;I)I" } : Jvm.MethodName) prog_12_method_20_code (5 : Nat) (Option.some Jvm.ClassFile.FieldType.int)) ∈ lw_all := lw_g (lw_at lw_m10 212 rfl) rfl
theorem q2569 : (Jvm.Cond.instanceMethod ({ cls := "DeedKernelModel", name := "link", desc := "(I)I" } : Jvm.MethodName)) ∈ lw_all := lw_g (lw_at lw_m10 214 rfl) rfl
theorem q2570 : (Jvm.Cond.selects "DeedKernelModel" ({ cls := "DeedKernelModel", name := "link", desc := "(I)I" } : Jvm.MethodName) ({ cls := "DeedKernelModel", name := "link", desc := "(I)I" } : Jvm.MethodName)) ∈ lw_all := lw_g (lw_at lw_m10 215 rfl) rfl
theorem q2571 : (Jvm.Cond.code ({ cls := "DeedKernelModel", name := "link", desc := "(I)I" } : Jvm.MethodName) prog_12_method_104_code (5 : Nat) (Option.some Jvm.ClassFile.FieldType.int)) ∈ lw_all := lw_g (lw_at lw_m10 216 rfl) rfl
theorem q2572 : (Jvm.Cond.methodLink "DeedKernelModel" (737 : Nat) ({ cls := "DeedKernelModel", name := "between", desc := "()I" } : Jvm.MethodName)) ∈ lw_all := lw_g (lw_at lw_m10 217 rfl) rfl
theorem q2573 : (Jvm.Cond.privateMethod ({ cls := "DeedKernelModel", name := "between", desc := "()I" } : Jvm.MethodName)) ∈ lw_tbl := lw_at lw_m10 218 rfl
theorem q2574 : (Jvm.Cond.instanceMethod ({ cls := "DeedKernelModel", name := "between", desc := "()I" } : Jvm.MethodName)) ∈ lw_all := lw_g (lw_at lw_m10 219 rfl) rfl
theorem q2575 : (Jvm.Cond.code ({ cls := "DeedKernelModel", name := "between", desc := "()I" } : Jvm.MethodName) prog_12_method_103_code (2 : Nat) (Option.some Jvm.ClassFile.FieldType.int)) ∈ lw_all := lw_g (lw_at lw_m10 220 rfl) rfl
theorem q2576 : (Jvm.Cond.methodLink "DeedKernelModel" (740 : Nat) ({ cls := "DeedKernelModel", name := "linked", desc := "(ILDeedKernelModel$Group;I)I" } : Jvm.MethodName)) ∈ lw_all := lw_g (lw_at lw_m10 221 rfl) rfl
theorem q2577 : (Jvm.Cond.privateMethod ({ cls := "DeedKernelModel", name := "linked", desc := "(ILDeedKernelModel$Group;I)I" } : Jvm.MethodName)) ∈ lw_tbl := lw_at lw_m10 222 rfl
theorem q2578 : (Jvm.Cond.instanceMethod ({ cls := "DeedKernelModel", name := "linked", desc := "(ILDeedKernelModel$Group;I)I" } : Jvm.MethodName)) ∈ lw_all := lw_g (lw_at lw_m10 223 rfl) rfl
theorem q2579 : (Jvm.Cond.code ({ cls := "DeedKernelModel", name := "linked", desc := "(ILDeedKernelModel$Group;I)I" } : Jvm.MethodName) prog_12_method_105_code (8 : Nat) (Option.some Jvm.ClassFile.FieldType.int)) ∈ lw_all := lw_g (lw_at lw_m10 224 rfl) rfl
theorem q2581 : (Jvm.Cond.instanceMethod ({ cls := "DeedKernelModel", name := "rename", desc := "(I)I" } : Jvm.MethodName)) ∈ lw_all := lw_g (lw_at lw_m10 226 rfl) rfl
theorem q2582 : (Jvm.Cond.selects "DeedKernelModel" ({ cls := "DeedKernelModel", name := "rename", desc := "(I)I" } : Jvm.MethodName) ({ cls := "DeedKernelModel", name := "rename", desc := "(I)I" } : Jvm.MethodName)) ∈ lw_all := lw_g (lw_at lw_m10 227 rfl) rfl
theorem q2583 : (Jvm.Cond.code ({ cls := "DeedKernelModel", name := "rename", desc := "(I)I" } : Jvm.MethodName) prog_12_method_106_code (5 : Nat) (Option.some Jvm.ClassFile.FieldType.int)) ∈ lw_all := lw_g (lw_at lw_m10 228 rfl) rfl
theorem q2584 : (Jvm.Cond.methodLink "DeedKernelModel" (743 : Nat) ({ cls := "DeedKernelModel", name := "renamed", desc := "(ILDeedKernelModel$Group;I)I" } : Jvm.MethodName)) ∈ lw_all := lw_g (lw_at lw_m10 229 rfl) rfl
theorem q2585 : (Jvm.Cond.privateMethod ({ cls := "DeedKernelModel", name := "renamed", desc := "(ILDeedKernelModel$Group;I)I" } : Jvm.MethodName)) ∈ lw_tbl := lw_at lw_m10 230 rfl
theorem q2586 : (Jvm.Cond.instanceMethod ({ cls := "DeedKernelModel", name := "renamed", desc := "(ILDeedKernelModel$Group;I)I" } : Jvm.MethodName)) ∈ lw_all := lw_g (lw_at lw_m10 231 rfl) rfl
theorem q2587 : (Jvm.Cond.code ({ cls := "DeedKernelModel", name := "renamed", desc := "(ILDeedKernelModel$Group;I)I" } : Jvm.MethodName) prog_12_method_107_code (16 : Nat) (Option.some Jvm.ClassFile.FieldType.int)) ∈ lw_all := lw_g (lw_at lw_m10 232 rfl) rfl
theorem q2589 : (Jvm.Cond.instanceMethod ({ cls := "DeedKernelModel", name := "look", desc := "(II)I" } : Jvm.MethodName)) ∈ lw_all := lw_g (lw_at lw_m10 234 rfl) rfl
theorem q2590 : (Jvm.Cond.selects "DeedKernelModel" ({ cls := "DeedKernelModel", name := "look", desc := "(II)I" } : Jvm.MethodName) ({ cls := "DeedKernelModel", name := "look", desc := "(II)I" } : Jvm.MethodName)) ∈ lw_all := lw_g (lw_at lw_m10 235 rfl) rfl
theorem q2591 : (Jvm.Cond.code ({ cls := "DeedKernelModel", name := "look", desc := "(II)I" } : Jvm.MethodName) prog_12_method_108_code (4 : Nat) (Option.some Jvm.ClassFile.FieldType.int)) ∈ lw_all := lw_g (lw_at lw_m10 236 rfl) rfl
theorem q2592 : (Jvm.Cond.methodLink "DeedKernelModel" (746 : Nat) ({ cls := "DeedKernelModel", name := "looked", desc := "(ILDeedKernelModel$Group;I)I" } : Jvm.MethodName)) ∈ lw_all := lw_g (lw_at lw_m10 237 rfl) rfl
theorem q2593 : (Jvm.Cond.privateMethod ({ cls := "DeedKernelModel", name := "looked", desc := "(ILDeedKernelModel$Group;I)I" } : Jvm.MethodName)) ∈ lw_tbl := lw_at lw_m10 238 rfl
theorem q2594 : (Jvm.Cond.instanceMethod ({ cls := "DeedKernelModel", name := "looked", desc := "(ILDeedKernelModel$Group;I)I" } : Jvm.MethodName)) ∈ lw_all := lw_g (lw_at lw_m10 239 rfl) rfl
theorem q2595 : (Jvm.Cond.code ({ cls := "DeedKernelModel", name := "looked", desc := "(ILDeedKernelModel$Group;I)I" } : Jvm.MethodName) prog_12_method_109_code (7 : Nat) (Option.some Jvm.ClassFile.FieldType.int)) ∈ lw_all := lw_g (lw_at lw_m11 0 rfl) rfl
theorem q2597 : (Jvm.Cond.instanceMethod ({ cls := "DeedKernelModel", name := "list", desc := "(I)I" } : Jvm.MethodName)) ∈ lw_all := lw_g (lw_at lw_m11 2 rfl) rfl
theorem q2598 : (Jvm.Cond.selects "DeedKernelModel" ({ cls := "DeedKernelModel", name := "list", desc := "(I)I" } : Jvm.MethodName) ({ cls := "DeedKernelModel", name := "list", desc := "(I)I" } : Jvm.MethodName)) ∈ lw_all := lw_g (lw_at lw_m11 3 rfl) rfl
theorem q2599 : (Jvm.Cond.code ({ cls := "DeedKernelModel", name := "list", desc := "(I)I" } : Jvm.MethodName) prog_12_method_110_code (3 : Nat) (Option.some Jvm.ClassFile.FieldType.int)) ∈ lw_all := lw_g (lw_at lw_m11 4 rfl) rfl
theorem q2600 : (Jvm.Cond.methodLink "DeedKernelModel" (749 : Nat) ({ cls := "DeedKernelModel", name := "listed", desc := "(ILDeedKernelModel$Group;)I" } : Jvm.MethodName)) ∈ lw_all := lw_g (lw_at lw_m11 5 rfl) rfl
theorem q2601 : (Jvm.Cond.privateMethod ({ cls := "DeedKernelModel", name := "listed", desc := "(ILDeedKernelModel$Group;)I" } : Jvm.MethodName)) ∈ lw_tbl := lw_at lw_m11 6 rfl
theorem q2602 : (Jvm.Cond.instanceMethod ({ cls := "DeedKernelModel", name := "listed", desc := "(ILDeedKernelModel$Group;)I" } : Jvm.MethodName)) ∈ lw_all := lw_g (lw_at lw_m11 7 rfl) rfl
theorem q2603 : (Jvm.Cond.code ({ cls := "DeedKernelModel", name := "listed", desc := "(ILDeedKernelModel$Group;)I" } : Jvm.MethodName) prog_12_method_111_code (13 : Nat) (Option.some Jvm.ClassFile.FieldType.int)) ∈ lw_all := lw_g (lw_at lw_m11 8 rfl) rfl
theorem q2604 : (Jvm.Cond.methodLink "DeedKernelModel" (752 : Nat) ({ cls := "java/lang/Long", name := "compareUnsigned", desc := "(JJ)I" } : Jvm.MethodName)) ∈ lw_all := lw_g (lw_at lw_m11 9 rfl) rfl
theorem q2612 : (Jvm.Cond.instanceMethod ({ cls := "DeedKernelModel", name := "go", desc := "(I)I" } : Jvm.MethodName)) ∈ lw_all := lw_g (lw_at lw_m11 17 rfl) rfl
theorem q2613 : (Jvm.Cond.selects "DeedKernelModel" ({ cls := "DeedKernelModel", name := "go", desc := "(I)I" } : Jvm.MethodName) ({ cls := "DeedKernelModel", name := "go", desc := "(I)I" } : Jvm.MethodName)) ∈ lw_all := lw_g (lw_at lw_m11 18 rfl) rfl
theorem q2614 : (Jvm.Cond.code ({ cls := "DeedKernelModel", name := "go", desc := "(I)I" } : Jvm.MethodName) prog_12_method_112_code (4 : Nat) (Option.some Jvm.ClassFile.FieldType.int)) ∈ lw_all := lw_g (lw_at lw_m11 19 rfl) rfl
theorem q2616 : (Jvm.Cond.instanceMethod ({ cls := "DeedKernelModel", name := "fork", desc := "(I)I" } : Jvm.MethodName)) ∈ lw_all := lw_g (lw_at lw_m11 21 rfl) rfl
theorem q2617 : (Jvm.Cond.selects "DeedKernelModel" ({ cls := "DeedKernelModel", name := "fork", desc := "(I)I" } : Jvm.MethodName) ({ cls := "DeedKernelModel", name := "fork", desc := "(I)I" } : Jvm.MethodName)) ∈ lw_all := lw_g (lw_at lw_m11 22 rfl) rfl
theorem q2618 : (Jvm.Cond.code ({ cls := "DeedKernelModel", name := "fork", desc := "(I)I" } : Jvm.MethodName) prog_12_method_113_code (3 : Nat) (Option.some Jvm.ClassFile.FieldType.int)) ∈ lw_all := lw_g (lw_at lw_m11 23 rfl) rfl
theorem q2619 : (Jvm.Cond.methodLink "DeedKernelModel" (758 : Nat) ({ cls := "DeedKernelModel", name := "forked", desc := "(ILDeedKernelModel$Group;)I" } : Jvm.MethodName)) ∈ lw_all := lw_g (lw_at lw_m11 24 rfl) rfl
theorem q2620 : (Jvm.Cond.privateMethod ({ cls := "DeedKernelModel", name := "forked", desc := "(ILDeedKernelModel$Group;)I" } : Jvm.MethodName)) ∈ lw_tbl := lw_at lw_m11 25 rfl
theorem q2621 : (Jvm.Cond.instanceMethod ({ cls := "DeedKernelModel", name := "forked", desc := "(ILDeedKernelModel$Group;)I" } : Jvm.MethodName)) ∈ lw_all := lw_g (lw_at lw_m11 26 rfl) rfl
theorem q2622 : (Jvm.Cond.code ({ cls := "DeedKernelModel", name := "forked", desc := "(ILDeedKernelModel$Group;)I" } : Jvm.MethodName) prog_12_method_114_code (6 : Nat) (Option.some Jvm.ClassFile.FieldType.int)) ∈ lw_all := lw_g (lw_at lw_m11 27 rfl) rfl
theorem q2624 : (Jvm.Cond.instanceMethod ({ cls := "DeedKernelModel", name := "exit", desc := "(II)I" } : Jvm.MethodName)) ∈ lw_all := lw_g (lw_at lw_m11 29 rfl) rfl
theorem q2625 : (Jvm.Cond.selects "DeedKernelModel" ({ cls := "DeedKernelModel", name := "exit", desc := "(II)I" } : Jvm.MethodName) ({ cls := "DeedKernelModel", name := "exit", desc := "(II)I" } : Jvm.MethodName)) ∈ lw_all := lw_g (lw_at lw_m11 30 rfl) rfl
theorem q2626 : (Jvm.Cond.code ({ cls := "DeedKernelModel", name := "exit", desc := "(II)I" } : Jvm.MethodName) prog_12_method_116_code (5 : Nat) (Option.some Jvm.ClassFile.FieldType.int)) ∈ lw_all := lw_g (lw_at lw_m11 31 rfl) rfl
theorem q2627 : (Jvm.Cond.methodLink "DeedKernelModel" (761 : Nat) ({ cls := "DeedKernelModel", name := "touchEnd", desc := "(II)I" } : Jvm.MethodName)) ∈ lw_all := lw_g (lw_at lw_m11 32 rfl) rfl
theorem q2628 : (Jvm.Cond.privateMethod ({ cls := "DeedKernelModel", name := "touchEnd", desc := "(II)I" } : Jvm.MethodName)) ∈ lw_tbl := lw_at lw_m11 33 rfl
theorem q2629 : (Jvm.Cond.instanceMethod ({ cls := "DeedKernelModel", name := "touchEnd", desc := "(II)I" } : Jvm.MethodName)) ∈ lw_all := lw_g (lw_at lw_m11 34 rfl) rfl
theorem q2630 : (Jvm.Cond.code ({ cls := "DeedKernelModel", name := "touchEnd", desc := "(II)I" } : Jvm.MethodName) prog_12_method_115_code (6 : Nat) (Option.some Jvm.ClassFile.FieldType.int)) ∈ lw_all := lw_g (lw_at lw_m11 35 rfl) rfl
theorem q2632 : (Jvm.Cond.instanceMethod ({ cls := "DeedKernelModel", name := "await", desc := "(I)I" } : Jvm.MethodName)) ∈ lw_all := lw_g (lw_at lw_m11 37 rfl) rfl
theorem q2633 : (Jvm.Cond.selects "DeedKernelModel" ({ cls := "DeedKernelModel", name := "await", desc := "(I)I" } : Jvm.MethodName) ({ cls := "DeedKernelModel", name := "await", desc := "(I)I" } : Jvm.MethodName)) ∈ lw_all := lw_g (lw_at lw_m11 38 rfl) rfl
theorem q2634 : (Jvm.Cond.code ({ cls := "DeedKernelModel", name := "await", desc := "(I)I" } : Jvm.MethodName) prog_12_method_117_code (3 : Nat) (Option.some Jvm.ClassFile.FieldType.int)) ∈ lw_all := lw_g (lw_at lw_m11 39 rfl) rfl
theorem q2635 : (Jvm.Cond.methodLink "DeedKernelModel" (764 : Nat) ({ cls := "DeedKernelModel", name := "awaited", desc := "(ILDeedKernelModel$Group;)I" } : Jvm.MethodName)) ∈ lw_all := lw_g (lw_at lw_m11 40 rfl) rfl
theorem q2636 : (Jvm.Cond.privateMethod ({ cls := "DeedKernelModel", name := "awaited", desc := "(ILDeedKernelModel$Group;)I" } : Jvm.MethodName)) ∈ lw_tbl := lw_at lw_m11 41 rfl
theorem q2637 : (Jvm.Cond.instanceMethod ({ cls := "DeedKernelModel", name := "awaited", desc := "(ILDeedKernelModel$Group;)I" } : Jvm.MethodName)) ∈ lw_all := lw_g (lw_at lw_m11 42 rfl) rfl
theorem q2638 : (Jvm.Cond.code ({ cls := "DeedKernelModel", name := "awaited", desc := "(ILDeedKernelModel$Group;)I" } : Jvm.MethodName) prog_12_method_118_code (6 : Nat) (Option.some Jvm.ClassFile.FieldType.int)) ∈ lw_all := lw_g (lw_at lw_m11 43 rfl) rfl
theorem q2640 : (Jvm.Cond.instanceMethod ({ cls := "DeedKernelModel", name := "kill", desc := "(III)I" } : Jvm.MethodName)) ∈ lw_all := lw_g (lw_at lw_m11 45 rfl) rfl
theorem q2641 : (Jvm.Cond.selects "DeedKernelModel" ({ cls := "DeedKernelModel", name := "kill", desc := "(III)I" } : Jvm.MethodName) ({ cls := "DeedKernelModel", name := "kill", desc := "(III)I" } : Jvm.MethodName)) ∈ lw_all := lw_g (lw_at lw_m11 46 rfl) rfl
theorem q2642 : (Jvm.Cond.code ({ cls := "DeedKernelModel", name := "kill", desc := "(III)I" } : Jvm.MethodName) prog_12_method_119_code (6 : Nat) (Option.some Jvm.ClassFile.FieldType.int)) ∈ lw_all := lw_g (lw_at lw_m11 47 rfl) rfl
theorem q2643 : (Jvm.Cond.methodLink "DeedKernelModel" (767 : Nat) ({ cls := "DeedKernelModel", name := "killed", desc := "(ILDeedKernelModel$Group;II)I" } : Jvm.MethodName)) ∈ lw_all := lw_g (lw_at lw_m11 48 rfl) rfl
theorem q2644 : (Jvm.Cond.privateMethod ({ cls := "DeedKernelModel", name := "killed", desc := "(ILDeedKernelModel$Group;II)I" } : Jvm.MethodName)) ∈ lw_tbl := lw_at lw_m11 49 rfl
theorem q2645 : (Jvm.Cond.instanceMethod ({ cls := "DeedKernelModel", name := "killed", desc := "(ILDeedKernelModel$Group;II)I" } : Jvm.MethodName)) ∈ lw_all := lw_g (lw_at lw_m11 50 rfl) rfl
theorem q2646 : (Jvm.Cond.code ({ cls := "DeedKernelModel", name := "killed", desc := "(ILDeedKernelModel$Group;II)I" } : Jvm.MethodName) prog_12_method_120_code (6 : Nat) (Option.some Jvm.ClassFile.FieldType.int)) ∈ lw_all := lw_g (lw_at lw_m11 51 rfl) rfl
theorem q2648 : (Jvm.Cond.instanceMethod ({ cls := "DeedKernelModel", name := "signals", desc := "(I)I" } : Jvm.MethodName)) ∈ lw_all := lw_g (lw_at lw_m11 53 rfl) rfl
theorem q2649 : (Jvm.Cond.selects "DeedKernelModel" ({ cls := "DeedKernelModel", name := "signals", desc := "(I)I" } : Jvm.MethodName) ({ cls := "DeedKernelModel", name := "signals", desc := "(I)I" } : Jvm.MethodName)) ∈ lw_all := lw_g (lw_at lw_m11 54 rfl) rfl
theorem q2650 : (Jvm.Cond.code ({ cls := "DeedKernelModel", name := "signals", desc := "(I)I" } : Jvm.MethodName) prog_12_method_121_code (4 : Nat) (Option.some Jvm.ClassFile.FieldType.int)) ∈ lw_all := lw_g (lw_at lw_m11 55 rfl) rfl
theorem q2652 : (Jvm.Cond.instanceMethod ({ cls := "DeedKernelModel", name := "xbegin", desc := "(I)I" } : Jvm.MethodName)) ∈ lw_all := lw_g (lw_at lw_m11 57 rfl) rfl
theorem q2653 : (Jvm.Cond.selects "DeedKernelModel" ({ cls := "DeedKernelModel", name := "xbegin", desc := "(I)I" } : Jvm.MethodName) ({ cls := "DeedKernelModel", name := "xbegin", desc := "(I)I" } : Jvm.MethodName)) ∈ lw_all := lw_g (lw_at lw_m11 58 rfl) rfl
theorem q2654 : (Jvm.Cond.code ({ cls := "DeedKernelModel", name := "xbegin", desc := "(I)I" } : Jvm.MethodName) prog_12_method_122_code (4 : Nat) (Option.some Jvm.ClassFile.FieldType.int)) ∈ lw_all := lw_g (lw_at lw_m11 59 rfl) rfl
theorem q2656 : (Jvm.Cond.instanceMethod ({ cls := "DeedKernelModel", name := "xend", desc := "(I)I" } : Jvm.MethodName)) ∈ lw_all := lw_g (lw_at lw_m11 61 rfl) rfl
theorem q2657 : (Jvm.Cond.selects "DeedKernelModel" ({ cls := "DeedKernelModel", name := "xend", desc := "(I)I" } : Jvm.MethodName) ({ cls := "DeedKernelModel", name := "xend", desc := "(I)I" } : Jvm.MethodName)) ∈ lw_all := lw_g (lw_at lw_m11 62 rfl) rfl
theorem q2658 : (Jvm.Cond.code ({ cls := "DeedKernelModel", name := "xend", desc := "(I)I" } : Jvm.MethodName) prog_12_method_123_code (5 : Nat) (Option.some Jvm.ClassFile.FieldType.int)) ∈ lw_all := lw_g (lw_at lw_m11 63 rfl) rfl
theorem q2660 : (Jvm.Cond.instanceMethod ({ cls := "DeedKernelModel", name := "xabort", desc := "(I)I" } : Jvm.MethodName)) ∈ lw_all := lw_g (lw_at lw_m11 65 rfl) rfl
theorem q2661 : (Jvm.Cond.selects "DeedKernelModel" ({ cls := "DeedKernelModel", name := "xabort", desc := "(I)I" } : Jvm.MethodName) ({ cls := "DeedKernelModel", name := "xabort", desc := "(I)I" } : Jvm.MethodName)) ∈ lw_all := lw_g (lw_at lw_m11 66 rfl) rfl
theorem q2662 : (Jvm.Cond.code ({ cls := "DeedKernelModel", name := "xabort", desc := "(I)I" } : Jvm.MethodName) prog_12_method_124_code (5 : Nat) (Option.some Jvm.ClassFile.FieldType.int)) ∈ lw_all := lw_g (lw_at lw_m11 67 rfl) rfl
theorem q2664 : (Jvm.Cond.instanceMethod ({ cls := "DeedKernelModel", name := "power", desc := "(II)I" } : Jvm.MethodName)) ∈ lw_all := lw_g (lw_at lw_m11 69 rfl) rfl
theorem q2665 : (Jvm.Cond.selects "DeedKernelModel" ({ cls := "DeedKernelModel", name := "power", desc := "(II)I" } : Jvm.MethodName) ({ cls := "DeedKernelModel", name := "power", desc := "(II)I" } : Jvm.MethodName)) ∈ lw_all := lw_g (lw_at lw_m11 70 rfl) rfl
theorem q2666 : (Jvm.Cond.code ({ cls := "DeedKernelModel", name := "power", desc := "(II)I" } : Jvm.MethodName) prog_12_method_125_code (3 : Nat) (Option.some Jvm.ClassFile.FieldType.int)) ∈ lw_all := lw_g (lw_at lw_m11 71 rfl) rfl
theorem q2668 : (Jvm.Cond.instanceMethod ({ cls := "DeedKernelModel", name := "stop", desc := "()Z" } : Jvm.MethodName)) ∈ lw_all := lw_g (lw_at lw_m11 73 rfl) rfl
theorem q2669 : (Jvm.Cond.selects "DeedKernelModel" ({ cls := "DeedKernelModel", name := "stop", desc := "()Z" } : Jvm.MethodName) ({ cls := "DeedKernelModel", name := "stop", desc := "()Z" } : Jvm.MethodName)) ∈ lw_all := lw_g (lw_at lw_m11 74 rfl) rfl
theorem q2670 : (Jvm.Cond.code ({ cls := "DeedKernelModel", name := "stop", desc := "()Z" } : Jvm.MethodName) prog_12_method_126_code (2 : Nat) (Option.some Jvm.ClassFile.FieldType.boolean)) ∈ lw_all := lw_g (lw_at lw_m11 75 rfl) rfl
theorem q2672 : (Jvm.Cond.instanceMethod ({ cls := "DeedKernelModel", name := "start", desc := "()I" } : Jvm.MethodName)) ∈ lw_all := lw_g (lw_at lw_m11 77 rfl) rfl
theorem q2673 : (Jvm.Cond.selects "DeedKernelModel" ({ cls := "DeedKernelModel", name := "start", desc := "()I" } : Jvm.MethodName) ({ cls := "DeedKernelModel", name := "start", desc := "()I" } : Jvm.MethodName)) ∈ lw_all := lw_g (lw_at lw_m11 78 rfl) rfl
theorem q2674 : (Jvm.Cond.code ({ cls := "DeedKernelModel", name := "start", desc := "()I" } : Jvm.MethodName) prog_12_method_129_code (5 : Nat) (Option.some Jvm.ClassFile.FieldType.int)) ∈ lw_all := lw_g (lw_at lw_m11 79 rfl) rfl
theorem q2675 : (Jvm.Cond.methodLink "DeedKernelModel" (775 : Nat) ({ cls := "DeedKernelModel", name := "num", desc := "(I)I" } : Jvm.MethodName)) ∈ lw_all := lw_g (lw_at lw_m11 80 rfl) rfl
theorem q2676 : (Jvm.Cond.privateMethod ({ cls := "DeedKernelModel", name := "num", desc := "(I)I" } : Jvm.MethodName)) ∈ lw_tbl := lw_at lw_m11 81 rfl
theorem q2677 : (Jvm.Cond.instanceMethod ({ cls := "DeedKernelModel", name := "num", desc := "(I)I" } : Jvm.MethodName)) ∈ lw_all := lw_g (lw_at lw_m11 82 rfl) rfl
theorem q2678 : (Jvm.Cond.code ({ cls := "DeedKernelModel", name := "num", desc := "(I)I" } : Jvm.MethodName) prog_12_method_127_code (2 : Nat) (Option.some Jvm.ClassFile.FieldType.int)) ∈ lw_all := lw_g (lw_at lw_m11 83 rfl) rfl
theorem q2679 : (Jvm.Cond.methodLink "DeedKernelModel" (778 : Nat) ({ cls := "DeedKernelModel", name := "headIsRight", desc := "()Z" } : Jvm.MethodName)) ∈ lw_all := lw_g (lw_at lw_m11 84 rfl) rfl
theorem q2680 : (Jvm.Cond.privateMethod ({ cls := "DeedKernelModel", name := "headIsRight", desc := "()Z" } : Jvm.MethodName)) ∈ lw_tbl := lw_at lw_m11 85 rfl
theorem q2681 : (Jvm.Cond.instanceMethod ({ cls := "DeedKernelModel", name := "headIsRight", desc := "()Z" } : Jvm.MethodName)) ∈ lw_all := lw_g (lw_at lw_m11 86 rfl) rfl
theorem q2682 : (Jvm.Cond.code ({ cls := "DeedKernelModel", name := "headIsRight", desc := "()Z" } : Jvm.MethodName) prog_12_method_128_code (7 : Nat) (Option.some Jvm.ClassFile.FieldType.boolean)) ∈ lw_all := lw_g (lw_at lw_m11 87 rfl) rfl
theorem q2683 : (Jvm.Cond.methodLink "DeedKernelModel" (781 : Nat) ({ cls := "DeedKernelModel", name := "readTree", desc := "()I" } : Jvm.MethodName)) ∈ lw_all := lw_g (lw_at lw_m11 88 rfl) rfl
theorem q2684 : (Jvm.Cond.privateMethod ({ cls := "DeedKernelModel", name := "readTree", desc := "()I" } : Jvm.MethodName)) ∈ lw_tbl := lw_at lw_m11 89 rfl
theorem q2685 : (Jvm.Cond.instanceMethod ({ cls := "DeedKernelModel", name := "readTree", desc := "()I" } : Jvm.MethodName)) ∈ lw_all := lw_g (lw_at lw_m11 90 rfl) rfl
theorem q2686 : (Jvm.Cond.code ({ cls := "DeedKernelModel", name := "readTree", desc := "()I" } : Jvm.MethodName) prog_12_method_130_code (2 : Nat) (Option.some Jvm.ClassFile.FieldType.int)) ∈ lw_all := lw_g (lw_at lw_m11 91 rfl) rfl
theorem q2687 : (Jvm.Cond.methodLink "DeedKernelModel" (784 : Nat) ({ cls := "DeedKernelModel", name := "readInode", desc := "(I)Z" } : Jvm.MethodName)) ∈ lw_all := lw_g (lw_at lw_m11 92 rfl) rfl
theorem q2688 : (Jvm.Cond.privateMethod ({ cls := "DeedKernelModel", name := "readInode", desc := "(I)Z" } : Jvm.MethodName)) ∈ lw_tbl := lw_at lw_m11 93 rfl
theorem q2689 : (Jvm.Cond.instanceMethod ({ cls := "DeedKernelModel", name := "readInode", desc := "(I)Z" } : Jvm.MethodName)) ∈ lw_all := lw_g (lw_at lw_m11 94 rfl) rfl
theorem q2690 : (Jvm.Cond.code ({ cls := "DeedKernelModel", name := "readInode", desc := "(I)Z" } : Jvm.MethodName) prog_12_method_132_code (6 : Nat) (Option.some Jvm.ClassFile.FieldType.boolean)) ∈ lw_all := lw_g (lw_at lw_m11 95 rfl) rfl
theorem q2691 : (Jvm.Cond.methodLink "DeedKernelModel" (790 : Nat) ({ cls := "DeedKernelModel", name := "takeBlock", desc := "(I)Z" } : Jvm.MethodName)) ∈ lw_all := lw_g (lw_at lw_m11 96 rfl) rfl
theorem q2692 : (Jvm.Cond.privateMethod ({ cls := "DeedKernelModel", name := "takeBlock", desc := "(I)Z" } : Jvm.MethodName)) ∈ lw_tbl := lw_at lw_m11 97 rfl
theorem q2693 : (Jvm.Cond.instanceMethod ({ cls := "DeedKernelModel", name := "takeBlock", desc := "(I)Z" } : Jvm.MethodName)) ∈ lw_all := lw_g (lw_at lw_m11 98 rfl) rfl
theorem q2694 : (Jvm.Cond.code ({ cls := "DeedKernelModel", name := "takeBlock", desc := "(I)Z" } : Jvm.MethodName) prog_12_method_131_code (2 : Nat) (Option.some Jvm.ClassFile.FieldType.boolean)) ∈ lw_all := lw_g (lw_at lw_m11 99 rfl) rfl
theorem q2695 : (Jvm.Cond.methodLink "DeedKernelModel" (793 : Nat) ({ cls := "DeedKernelModel", name := "readSlots", desc := "(I)Z" } : Jvm.MethodName)) ∈ lw_all := lw_g (lw_at lw_m11 100 rfl) rfl
theorem q2696 : (Jvm.Cond.privateMethod ({ cls := "DeedKernelModel", name := "readSlots", desc := "(I)Z" } : Jvm.MethodName)) ∈ lw_tbl := lw_at lw_m11 101 rfl
theorem q2697 : (Jvm.Cond.instanceMethod ({ cls := "DeedKernelModel", name := "readSlots", desc := "(I)Z" } : Jvm.MethodName)) ∈ lw_all := lw_g (lw_at lw_m11 102 rfl) rfl
theorem q2698 : (Jvm.Cond.code ({ cls := "DeedKernelModel", name := "readSlots", desc := "(I)Z" } : Jvm.MethodName) prog_12_method_133_code (14 : Nat) (Option.some Jvm.ClassFile.FieldType.boolean)) ∈ lw_all := lw_g (lw_at lw_m11 103 rfl) rfl
theorem q2699 : (Jvm.Cond.methodLink "DeedKernelModel" (787 : Nat) ({ cls := "DeedKernelModel", name := "judge", desc := "()I" } : Jvm.MethodName)) ∈ lw_all := lw_g (lw_at lw_m11 104 rfl) rfl
theorem q2700 : (Jvm.Cond.privateMethod ({ cls := "DeedKernelModel", name := "judge", desc := "()I" } : Jvm.MethodName)) ∈ lw_tbl := lw_at lw_m11 105 rfl
theorem q2701 : (Jvm.Cond.instanceMethod ({ cls := "DeedKernelModel", name := "judge", desc := "()I" } : Jvm.MethodName)) ∈ lw_all := lw_g (lw_at lw_m11 106 rfl) rfl
theorem q2702 : (Jvm.Cond.code ({ cls := "DeedKernelModel", name := "judge", desc := "()I" } : Jvm.MethodName) prog_12_method_134_code (5 : Nat) (Option.some Jvm.ClassFile.FieldType.int)) ∈ lw_all := lw_g (lw_at lw_m11 107 rfl) rfl
theorem q2704 : (Jvm.Cond.instanceMethod ({ cls := "DeedKernelModel", name := "poke", desc := "(III)I" } : Jvm.MethodName)) ∈ lw_all := lw_g (lw_at lw_m11 109 rfl) rfl
theorem q2705 : (Jvm.Cond.selects "DeedKernelModel" ({ cls := "DeedKernelModel", name := "poke", desc := "(III)I" } : Jvm.MethodName) ({ cls := "DeedKernelModel", name := "poke", desc := "(III)I" } : Jvm.MethodName)) ∈ lw_all := lw_g (lw_at lw_m11 110 rfl) rfl
theorem q2706 : (Jvm.Cond.code ({ cls := "DeedKernelModel", name := "poke", desc := "(III)I" } : Jvm.MethodName) prog_12_method_135_code (5 : Nat) (Option.some Jvm.ClassFile.FieldType.int)) ∈ lw_all := lw_g (lw_at lw_m11 111 rfl) rfl
theorem q2708 : (Jvm.Cond.instanceMethod ({ cls := "DeedKernelModel", name := "byteAt", desc := "(II)I" } : Jvm.MethodName)) ∈ lw_all := lw_g (lw_at lw_m11 113 rfl) rfl
theorem q2709 : (Jvm.Cond.selects "DeedKernelModel" ({ cls := "DeedKernelModel", name := "byteAt", desc := "(II)I" } : Jvm.MethodName) ({ cls := "DeedKernelModel", name := "byteAt", desc := "(II)I" } : Jvm.MethodName)) ∈ lw_all := lw_g (lw_at lw_m11 114 rfl) rfl
theorem q2710 : (Jvm.Cond.code ({ cls := "DeedKernelModel", name := "byteAt", desc := "(II)I" } : Jvm.MethodName) prog_12_method_136_code (3 : Nat) (Option.some Jvm.ClassFile.FieldType.int)) ∈ lw_all := lw_g (lw_at lw_m11 115 rfl) rfl
theorem q2712 : (Jvm.Cond.instanceMethod ({ cls := "DeedKernelModel", name := "out", desc := "(I)I" } : Jvm.MethodName)) ∈ lw_all := lw_g (lw_at lw_m11 117 rfl) rfl
theorem q2713 : (Jvm.Cond.selects "DeedKernelModel" ({ cls := "DeedKernelModel", name := "out", desc := "(I)I" } : Jvm.MethodName) ({ cls := "DeedKernelModel", name := "out", desc := "(I)I" } : Jvm.MethodName)) ∈ lw_all := lw_g (lw_at lw_m11 118 rfl) rfl
theorem q2714 : (Jvm.Cond.code ({ cls := "DeedKernelModel", name := "out", desc := "(I)I" } : Jvm.MethodName) prog_12_method_137_code (2 : Nat) (Option.some Jvm.ClassFile.FieldType.int)) ∈ lw_all := lw_g (lw_at lw_m11 119 rfl) rfl
theorem q2716 : (Jvm.Cond.instanceMethod ({ cls := "DeedKernelModel", name := "process", desc := "(II)I" } : Jvm.MethodName)) ∈ lw_all := lw_g (lw_at lw_m11 121 rfl) rfl
theorem q2717 : (Jvm.Cond.selects "DeedKernelModel" ({ cls := "DeedKernelModel", name := "process", desc := "(II)I" } : Jvm.MethodName) ({ cls := "DeedKernelModel", name := "process", desc := "(II)I" } : Jvm.MethodName)) ∈ lw_all := lw_g (lw_at lw_m11 122 rfl) rfl
theorem q2718 : (Jvm.Cond.code ({ cls := "DeedKernelModel", name := "process", desc := "(II)I" } : Jvm.MethodName) prog_12_method_139_code (5 : Nat) (Option.some Jvm.ClassFile.FieldType.int)) ∈ lw_all := lw_g (lw_at lw_m11 123 rfl) rfl
theorem q2719 : (Jvm.Cond.methodLink "DeedKernelModel" (796 : Nat) ({ cls := "DeedKernelModel", name := "many", desc := "([I)I" } : Jvm.MethodName)) ∈ lw_all := lw_g (lw_at lw_m11 124 rfl) rfl
theorem q2720 : (Jvm.Cond.privateMethod ({ cls := "DeedKernelModel", name := "many", desc := "([I)I" } : Jvm.MethodName)) ∈ lw_tbl := lw_at lw_m11 125 rfl
theorem q2721 : (Jvm.Cond.instanceMethod ({ cls := "DeedKernelModel", name := "many", desc := "([I)I" } : Jvm.MethodName)) ∈ lw_all := lw_g (lw_at lw_m11 126 rfl) rfl
theorem q2722 : (Jvm.Cond.code ({ cls := "DeedKernelModel", name := "many", desc := "([I)I" } : Jvm.MethodName) prog_12_method_138_code (4 : Nat) (Option.some Jvm.ClassFile.FieldType.int)) ∈ lw_all := lw_g (lw_at lw_m11 127 rfl) rfl
theorem q2724 : (Jvm.Cond.instanceMethod ({ cls := "DeedKernelModel", name := "told", desc := "(I)I" } : Jvm.MethodName)) ∈ lw_all := lw_g (lw_at lw_m11 129 rfl) rfl
theorem q2725 : (Jvm.Cond.selects "DeedKernelModel" ({ cls := "DeedKernelModel", name := "told", desc := "(I)I" } : Jvm.MethodName) ({ cls := "DeedKernelModel", name := "told", desc := "(I)I" } : Jvm.MethodName)) ∈ lw_all := lw_g (lw_at lw_m11 130 rfl) rfl
theorem q2726 : (Jvm.Cond.code ({ cls := "DeedKernelModel", name := "told", desc := "(I)I" } : Jvm.MethodName) prog_12_method_140_code (2 : Nat) (Option.some Jvm.ClassFile.FieldType.int)) ∈ lw_all := lw_g (lw_at lw_m11 131 rfl) rfl
theorem q2727 : (Jvm.Cond.methodLink "DeedKernelModel" (800 : Nat) ({ cls := "DeedKernelModel", name := "freeBlocks", desc := "()I" } : Jvm.MethodName)) ∈ lw_all := lw_g (lw_at lw_m11 132 rfl) rfl
theorem q2728 : (Jvm.Cond.privateMethod ({ cls := "DeedKernelModel", name := "freeBlocks", desc := "()I" } : Jvm.MethodName)) ∈ lw_tbl := lw_at lw_m11 133 rfl
theorem q2729 : (Jvm.Cond.instanceMethod ({ cls := "DeedKernelModel", name := "freeBlocks", desc := "()I" } : Jvm.MethodName)) ∈ lw_all := lw_g (lw_at lw_m11 134 rfl) rfl
theorem q2730 : (Jvm.Cond.code ({ cls := "DeedKernelModel", name := "freeBlocks", desc := "()I" } : Jvm.MethodName) prog_12_method_141_code (3 : Nat) (Option.some Jvm.ClassFile.FieldType.int)) ∈ lw_all := lw_g (lw_at lw_m11 135 rfl) rfl
theorem in_X11 : ∀ w ∈ wsX110, w ∈ lw_all := lw_in wsX110 [1989, 1991, 1993, 1995, 1997, 1999, 2001, 2003, 2005, 2007, 2009, 2011, 2013, 2015, 2017, 2019, 2021, 2023, 2025, 2027, 2029, 2031, 2033, 2035, 2037, 2039, 2041, 2043, 2045, 2047, 2049, 2051, 2053, 2055, 2057, 2059, 2061, 2063, 2065, 2067, 2069, 2071, 2073, 2075, 2077, 2079, 2081, 2083, 2085, 2087, 2089, 2091, 2093, 2095, 2097, 2099, 2101, 2103, 2105, 2107, 2109, 2111, 2113, 2115, 2117, 2119, 2121, 2123, 2125, 2127, 2129, 2131, 2133, 2135, 2137, 2139, 2141, 2143, 2145, 2147, 2149, 2151, 2153, 2155, 2157] (by decide +kernel) (by decide +kernel)
theorem q213 : (Jvm.Cond.initialized "DeedKernelModel$Group") ∈ lw_all := lw_g (lw_at lw_m1 18 rfl) rfl
theorem q1686 : (Jvm.Cond.instantiable "DeedKernelModel$Group" (46 : Nat)) ∈ lw_all := lw_g (lw_at lw_m7 51 rfl) rfl
theorem q1688 : (Jvm.Cond.instanceMethod ({ cls := "DeedKernelModel$Group", name := "<init>", desc := "()V" } : Jvm.MethodName)) ∈ lw_all := lw_g (lw_at lw_m7 53 rfl) rfl
theorem q1689 : (Jvm.Cond.code ({ cls := "DeedKernelModel$Group", name := "<init>", desc := "()V" } : Jvm.MethodName) prog_13_method_1_code (1 : Nat) (Option.none : Option Jvm.ClassFile.FieldType)) ∈ lw_all := lw_g (lw_at lw_m7 54 rfl) rfl
theorem q1690 : (Jvm.Cond.methodLink "DeedKernelModel$Group" (1 : Nat) ({ cls := "java/lang/Object", name := "<init>", desc := "()V" } : Jvm.MethodName)) ∈ lw_all := lw_g (lw_at lw_m7 55 rfl) rfl
theorem q1691 : (Jvm.Cond.classLink "DeedKernelModel$Group" (7 : Nat) "[B") ∈ lw_all := lw_g (lw_at lw_m7 56 rfl) rfl
theorem q1692 : (Jvm.Cond.classLink "DeedKernelModel$Group" (60 : Nat) "[[B") ∈ lw_all := lw_g (lw_at lw_m7 57 rfl) rfl
theorem q1693 : (Jvm.Cond.classLink "DeedKernelModel$Group" (73 : Nat) "[[I") ∈ lw_all := lw_g (lw_at lw_m7 58 rfl) rfl
theorem q1694 : (Jvm.Cond.fieldLink "DeedKernelModel$Group" (132 : Nat) "DeedKernelModel$Group" "on" "Z") ∈ lw_all := lw_g (lw_at lw_m7 59 rfl) rfl
theorem q1696 : (Jvm.Cond.fieldLink "DeedKernelModel$Group" (136 : Nat) "DeedKernelModel$Group" "depth" "I") ∈ lw_all := lw_g (lw_at lw_m7 61 rfl) rfl
theorem q1699 : (Jvm.Cond.fieldLink "DeedKernelModel$Group" (140 : Nat) "DeedKernelModel$Group" "leaving" "I") ∈ lw_all := lw_g (lw_at lw_m7 64 rfl) rfl
theorem q1701 : (Jvm.Cond.fieldLink "DeedKernelModel$Group" (9 : Nat) "DeedKernelModel$Group" "data" "[[B") ∈ lw_all := lw_g (lw_at lw_m7 66 rfl) rfl
theorem q1703 : (Jvm.Cond.fieldLink "DeedKernelModel$Group" (15 : Nat) "DeedKernelModel$Group" "len" "[I") ∈ lw_all := lw_g (lw_at lw_m7 68 rfl) rfl
theorem q1705 : (Jvm.Cond.fieldLink "DeedKernelModel$Group" (19 : Nat) "DeedKernelModel$Group" "dW" "[Z") ∈ lw_all := lw_g (lw_at lw_m7 70 rfl) rfl
theorem q1707 : (Jvm.Cond.fieldLink "DeedKernelModel$Group" (23 : Nat) "DeedKernelModel$Group" "kind" "[I") ∈ lw_all := lw_g (lw_at lw_m7 72 rfl) rfl
theorem q1709 : (Jvm.Cond.fieldLink "DeedKernelModel$Group" (26 : Nat) "DeedKernelModel$Group" "names" "[I") ∈ lw_all := lw_g (lw_at lw_m7 74 rfl) rfl
theorem q1711 : (Jvm.Cond.fieldLink "DeedKernelModel$Group" (29 : Nat) "DeedKernelModel$Group" "nW" "[Z") ∈ lw_all := lw_g (lw_at lw_m7 76 rfl) rfl
theorem q1713 : (Jvm.Cond.fieldLink "DeedKernelModel$Group" (32 : Nat) "DeedKernelModel$Group" "up" "[I") ∈ lw_all := lw_g (lw_at lw_m7 78 rfl) rfl
theorem q1715 : (Jvm.Cond.fieldLink "DeedKernelModel$Group" (35 : Nat) "DeedKernelModel$Group" "uW" "[Z") ∈ lw_all := lw_g (lw_at lw_m7 80 rfl) rfl
theorem q1717 : (Jvm.Cond.fieldLink "DeedKernelModel$Group" (143 : Nat) "DeedKernelModel$Group" "oc" "I") ∈ lw_all := lw_g (lw_at lw_m7 82 rfl) rfl
theorem q1719 : (Jvm.Cond.fieldLink "DeedKernelModel$Group" (38 : Nat) "DeedKernelModel$Group" "oDir" "[I") ∈ lw_all := lw_g (lw_at lw_m7 84 rfl) rfl
theorem q1721 : (Jvm.Cond.fieldLink "DeedKernelModel$Group" (41 : Nat) "DeedKernelModel$Group" "oSlot" "[I") ∈ lw_all := lw_g (lw_at lw_m7 86 rfl) rfl
theorem q1723 : (Jvm.Cond.fieldLink "DeedKernelModel$Group" (44 : Nat) "DeedKernelModel$Group" "oIno" "[I") ∈ lw_all := lw_g (lw_at lw_m7 88 rfl) rfl
theorem q1725 : (Jvm.Cond.fieldLink "DeedKernelModel$Group" (47 : Nat) "DeedKernelModel$Group" "oA" "[J") ∈ lw_all := lw_g (lw_at lw_m7 90 rfl) rfl
theorem q1727 : (Jvm.Cond.fieldLink "DeedKernelModel$Group" (51 : Nat) "DeedKernelModel$Group" "oB" "[J") ∈ lw_all := lw_g (lw_at lw_m7 92 rfl) rfl
theorem q1729 : (Jvm.Cond.fieldLink "DeedKernelModel$Group" (54 : Nat) "DeedKernelModel$Group" "place" "[I") ∈ lw_all := lw_g (lw_at lw_m7 94 rfl) rfl
theorem q1731 : (Jvm.Cond.fieldLink "DeedKernelModel$Group" (57 : Nat) "DeedKernelModel$Group" "plW" "[Z") ∈ lw_all := lw_g (lw_at lw_m7 96 rfl) rfl
theorem q1733 : (Jvm.Cond.fieldLink "DeedKernelModel$Group" (61 : Nat) "DeedKernelModel$Group" "pipe" "[[B") ∈ lw_all := lw_g (lw_at lw_m7 98 rfl) rfl
theorem q1735 : (Jvm.Cond.fieldLink "DeedKernelModel$Group" (64 : Nat) "DeedKernelModel$Group" "pipeLen" "[I") ∈ lw_all := lw_g (lw_at lw_m7 100 rfl) rfl
theorem q1737 : (Jvm.Cond.fieldLink "DeedKernelModel$Group" (67 : Nat) "DeedKernelModel$Group" "piW" "[Z") ∈ lw_all := lw_g (lw_at lw_m7 102 rfl) rfl
theorem q1739 : (Jvm.Cond.fieldLink "DeedKernelModel$Group" (70 : Nat) "DeedKernelModel$Group" "unborn" "[Z") ∈ lw_all := lw_g (lw_at lw_m7 104 rfl) rfl
theorem q1741 : (Jvm.Cond.fieldLink "DeedKernelModel$Group" (75 : Nat) "DeedKernelModel$Group" "uDesc" "[[I") ∈ lw_all := lw_g (lw_at lw_m7 106 rfl) rfl
theorem q1743 : (Jvm.Cond.fieldLink "DeedKernelModel$Group" (78 : Nat) "DeedKernelModel$Group" "uWork" "[I") ∈ lw_all := lw_g (lw_at lw_m7 108 rfl) rfl
theorem q1745 : (Jvm.Cond.fieldLink "DeedKernelModel$Group" (81 : Nat) "DeedKernelModel$Group" "reaped" "[Z") ∈ lw_all := lw_g (lw_at lw_m7 110 rfl) rfl
theorem q1747 : (Jvm.Cond.fieldLink "DeedKernelModel$Group" (146 : Nat) "DeedKernelModel$Group" "kills" "I") ∈ lw_all := lw_g (lw_at lw_m7 112 rfl) rfl
theorem q1749 : (Jvm.Cond.fieldLink "DeedKernelModel$Group" (84 : Nat) "DeedKernelModel$Group" "killed" "[I") ∈ lw_all := lw_g (lw_at lw_m7 114 rfl) rfl
theorem q1751 : (Jvm.Cond.fieldLink "DeedKernelModel$Group" (87 : Nat) "DeedKernelModel$Group" "sig" "[I") ∈ lw_all := lw_g (lw_at lw_m7 116 rfl) rfl
theorem q1753 : (Jvm.Cond.fieldLink "DeedKernelModel$Group" (90 : Nat) "DeedKernelModel$Group" "sW" "[Z") ∈ lw_all := lw_g (lw_at lw_m7 118 rfl) rfl
theorem q1755 : (Jvm.Cond.fieldLink "DeedKernelModel$Group" (93 : Nat) "DeedKernelModel$Group" "desc" "[I") ∈ lw_all := lw_g (lw_at lw_m7 120 rfl) rfl
theorem q1758 : (Jvm.Cond.fieldLink "DeedKernelModel$Group" (96 : Nat) "DeedKernelModel$Group" "tData" "[I") ∈ lw_all := lw_g (lw_at lw_m7 123 rfl) rfl
theorem q1760 : (Jvm.Cond.fieldLink "DeedKernelModel$Group" (99 : Nat) "DeedKernelModel$Group" "tNames" "[I") ∈ lw_all := lw_g (lw_at lw_m7 125 rfl) rfl
theorem q1762 : (Jvm.Cond.fieldLink "DeedKernelModel$Group" (102 : Nat) "DeedKernelModel$Group" "tUp" "[I") ∈ lw_all := lw_g (lw_at lw_m7 127 rfl) rfl
theorem q1764 : (Jvm.Cond.fieldLink "DeedKernelModel$Group" (105 : Nat) "DeedKernelModel$Group" "tAll" "[I") ∈ lw_all := lw_g (lw_at lw_m7 129 rfl) rfl
theorem q1766 : (Jvm.Cond.fieldLink "DeedKernelModel$Group" (108 : Nat) "DeedKernelModel$Group" "tPlace" "[I") ∈ lw_all := lw_g (lw_at lw_m7 131 rfl) rfl
theorem q1768 : (Jvm.Cond.fieldLink "DeedKernelModel$Group" (111 : Nat) "DeedKernelModel$Group" "tPipe" "[I") ∈ lw_all := lw_g (lw_at lw_m7 133 rfl) rfl
theorem q1770 : (Jvm.Cond.fieldLink "DeedKernelModel$Group" (114 : Nat) "DeedKernelModel$Group" "tLife" "[I") ∈ lw_all := lw_g (lw_at lw_m7 135 rfl) rfl
theorem q1772 : (Jvm.Cond.fieldLink "DeedKernelModel$Group" (117 : Nat) "DeedKernelModel$Group" "tSig" "[I") ∈ lw_all := lw_g (lw_at lw_m7 137 rfl) rfl
theorem q1774 : (Jvm.Cond.fieldLink "DeedKernelModel$Group" (149 : Nat) "DeedKernelModel$Group" "mc" "I") ∈ lw_all := lw_g (lw_at lw_m7 139 rfl) rfl
theorem q1775 : (Jvm.Cond.fieldLink "DeedKernelModel$Group" (120 : Nat) "DeedKernelModel$Group" "mDir" "[I") ∈ lw_all := lw_g (lw_at lw_m7 140 rfl) rfl
theorem q1776 : (Jvm.Cond.fieldLink "DeedKernelModel$Group" (123 : Nat) "DeedKernelModel$Group" "mA" "[J") ∈ lw_all := lw_g (lw_at lw_m7 141 rfl) rfl
theorem q1777 : (Jvm.Cond.fieldLink "DeedKernelModel$Group" (126 : Nat) "DeedKernelModel$Group" "mB" "[J") ∈ lw_all := lw_g (lw_at lw_m7 142 rfl) rfl
theorem q1778 : (Jvm.Cond.fieldLink "DeedKernelModel$Group" (129 : Nat) "DeedKernelModel$Group" "mHow" "[I") ∈ lw_all := lw_g (lw_at lw_m7 143 rfl) rfl
theorem q1780 : (Jvm.Cond.lays "DeedKernelModel$Group" "DeedKernelModel$Group" "on" "Z") ∈ lw_all := lw_g (lw_at lw_m7 145 rfl) rfl
theorem q1781 : (Jvm.Cond.soleField "DeedKernelModel$Group" "on") ∈ lw_all := lw_g (lw_at lw_m7 146 rfl) rfl
theorem q1782 : (Jvm.Cond.lays "DeedKernelModel$Group" "DeedKernelModel$Group" "depth" "I") ∈ lw_all := lw_g (lw_at lw_m7 147 rfl) rfl
theorem q1783 : (Jvm.Cond.soleField "DeedKernelModel$Group" "depth") ∈ lw_all := lw_g (lw_at lw_m7 148 rfl) rfl
theorem q1784 : (Jvm.Cond.lays "DeedKernelModel$Group" "DeedKernelModel$Group" "age" "J") ∈ lw_all := lw_g (lw_at lw_m7 149 rfl) rfl
theorem q1785 : (Jvm.Cond.soleField "DeedKernelModel$Group" "age") ∈ lw_all := lw_g (lw_at lw_m7 150 rfl) rfl
theorem q1786 : (Jvm.Cond.lays "DeedKernelModel$Group" "DeedKernelModel$Group" "leaving" "I") ∈ lw_all := lw_g (lw_at lw_m7 151 rfl) rfl
theorem q1787 : (Jvm.Cond.soleField "DeedKernelModel$Group" "leaving") ∈ lw_all := lw_g (lw_at lw_m7 152 rfl) rfl
theorem q1788 : (Jvm.Cond.laysFinal "DeedKernelModel$Group" "DeedKernelModel$Group" "data" "[[B") ∈ lw_all := lw_g (lw_at lw_m7 153 rfl) rfl
theorem q1789 : (Jvm.Cond.soleField "DeedKernelModel$Group" "data") ∈ lw_all := lw_g (lw_at lw_m7 154 rfl) rfl
theorem q1790 : (Jvm.Cond.laysFinal "DeedKernelModel$Group" "DeedKernelModel$Group" "len" "[I") ∈ lw_all := lw_g (lw_at lw_m7 155 rfl) rfl
theorem q1791 : (Jvm.Cond.soleField "DeedKernelModel$Group" "len") ∈ lw_all := lw_g (lw_at lw_m7 156 rfl) rfl
theorem q1792 : (Jvm.Cond.laysFinal "DeedKernelModel$Group" "DeedKernelModel$Group" "dW" "[Z") ∈ lw_all := lw_g (lw_at lw_m7 157 rfl) rfl
theorem q1793 : (Jvm.Cond.soleField "DeedKernelModel$Group" "dW") ∈ lw_all := lw_g (lw_at lw_m7 158 rfl) rfl
theorem q1794 : (Jvm.Cond.laysFinal "DeedKernelModel$Group" "DeedKernelModel$Group" "kind" "[I") ∈ lw_all := lw_g (lw_at lw_m7 159 rfl) rfl
theorem q1795 : (Jvm.Cond.soleField "DeedKernelModel$Group" "kind") ∈ lw_all := lw_g (lw_at lw_m7 160 rfl) rfl
theorem q1796 : (Jvm.Cond.laysFinal "DeedKernelModel$Group" "DeedKernelModel$Group" "names" "[I") ∈ lw_all := lw_g (lw_at lw_m7 161 rfl) rfl
theorem q1797 : (Jvm.Cond.soleField "DeedKernelModel$Group" "names") ∈ lw_all := lw_g (lw_at lw_m7 162 rfl) rfl
theorem q1798 : (Jvm.Cond.laysFinal "DeedKernelModel$Group" "DeedKernelModel$Group" "nW" "[Z") ∈ lw_all := lw_g (lw_at lw_m7 163 rfl) rfl
theorem q1799 : (Jvm.Cond.soleField "DeedKernelModel$Group" "nW") ∈ lw_all := lw_g (lw_at lw_m7 164 rfl) rfl
theorem q1800 : (Jvm.Cond.laysFinal "DeedKernelModel$Group" "DeedKernelModel$Group" "up" "[I") ∈ lw_all := lw_g (lw_at lw_m7 165 rfl) rfl
theorem q1801 : (Jvm.Cond.soleField "DeedKernelModel$Group" "up") ∈ lw_all := lw_g (lw_at lw_m7 166 rfl) rfl
theorem q1802 : (Jvm.Cond.laysFinal "DeedKernelModel$Group" "DeedKernelModel$Group" "uW" "[Z") ∈ lw_all := lw_g (lw_at lw_m7 167 rfl) rfl
theorem q1803 : (Jvm.Cond.soleField "DeedKernelModel$Group" "uW") ∈ lw_all := lw_g (lw_at lw_m7 168 rfl) rfl
theorem q1804 : (Jvm.Cond.lays "DeedKernelModel$Group" "DeedKernelModel$Group" "oc" "I") ∈ lw_all := lw_g (lw_at lw_m7 169 rfl) rfl
theorem q1805 : (Jvm.Cond.soleField "DeedKernelModel$Group" "oc") ∈ lw_all := lw_g (lw_at lw_m7 170 rfl) rfl
theorem q1806 : (Jvm.Cond.lays "DeedKernelModel$Group" "DeedKernelModel$Group" "oDir" "[I") ∈ lw_all := lw_g (lw_at lw_m7 171 rfl) rfl
theorem q1807 : (Jvm.Cond.soleField "DeedKernelModel$Group" "oDir") ∈ lw_all := lw_g (lw_at lw_m7 172 rfl) rfl
theorem q1808 : (Jvm.Cond.lays "DeedKernelModel$Group" "DeedKernelModel$Group" "oSlot" "[I") ∈ lw_all := lw_g (lw_at lw_m7 173 rfl) rfl
theorem q1809 : (Jvm.Cond.soleField "DeedKernelModel$Group" "oSlot") ∈ lw_all := lw_g (lw_at lw_m7 174 rfl) rfl
theorem q1810 : (Jvm.Cond.lays "DeedKernelModel$Group" "DeedKernelModel$Group" "oIno" "[I") ∈ lw_all := lw_g (lw_at lw_m7 175 rfl) rfl
theorem q1811 : (Jvm.Cond.soleField "DeedKernelModel$Group" "oIno") ∈ lw_all := lw_g (lw_at lw_m7 176 rfl) rfl
theorem q1812 : (Jvm.Cond.lays "DeedKernelModel$Group" "DeedKernelModel$Group" "oA" "[J") ∈ lw_all := lw_g (lw_at lw_m7 177 rfl) rfl
theorem q1813 : (Jvm.Cond.soleField "DeedKernelModel$Group" "oA") ∈ lw_all := lw_g (lw_at lw_m7 178 rfl) rfl
theorem q1814 : (Jvm.Cond.lays "DeedKernelModel$Group" "DeedKernelModel$Group" "oB" "[J") ∈ lw_all := lw_g (lw_at lw_m7 179 rfl) rfl
theorem q1815 : (Jvm.Cond.soleField "DeedKernelModel$Group" "oB") ∈ lw_all := lw_g (lw_at lw_m7 180 rfl) rfl
theorem q1816 : (Jvm.Cond.laysFinal "DeedKernelModel$Group" "DeedKernelModel$Group" "place" "[I") ∈ lw_all := lw_g (lw_at lw_m7 181 rfl) rfl
theorem q1817 : (Jvm.Cond.soleField "DeedKernelModel$Group" "place") ∈ lw_all := lw_g (lw_at lw_m7 182 rfl) rfl
theorem q1818 : (Jvm.Cond.laysFinal "DeedKernelModel$Group" "DeedKernelModel$Group" "plW" "[Z") ∈ lw_all := lw_g (lw_at lw_m7 183 rfl) rfl
theorem q1819 : (Jvm.Cond.soleField "DeedKernelModel$Group" "plW") ∈ lw_all := lw_g (lw_at lw_m7 184 rfl) rfl
theorem q1820 : (Jvm.Cond.laysFinal "DeedKernelModel$Group" "DeedKernelModel$Group" "pipe" "[[B") ∈ lw_all := lw_g (lw_at lw_m7 185 rfl) rfl
theorem q1821 : (Jvm.Cond.soleField "DeedKernelModel$Group" "pipe") ∈ lw_all := lw_g (lw_at lw_m7 186 rfl) rfl
theorem q1822 : (Jvm.Cond.laysFinal "DeedKernelModel$Group" "DeedKernelModel$Group" "pipeLen" "[I") ∈ lw_all := lw_g (lw_at lw_m7 187 rfl) rfl
theorem q1823 : (Jvm.Cond.soleField "DeedKernelModel$Group" "pipeLen") ∈ lw_all := lw_g (lw_at lw_m7 188 rfl) rfl
theorem q1824 : (Jvm.Cond.laysFinal "DeedKernelModel$Group" "DeedKernelModel$Group" "piW" "[Z") ∈ lw_all := lw_g (lw_at lw_m7 189 rfl) rfl
theorem q1825 : (Jvm.Cond.soleField "DeedKernelModel$Group" "piW") ∈ lw_all := lw_g (lw_at lw_m7 190 rfl) rfl
theorem q1826 : (Jvm.Cond.laysFinal "DeedKernelModel$Group" "DeedKernelModel$Group" "unborn" "[Z") ∈ lw_all := lw_g (lw_at lw_m7 191 rfl) rfl
theorem q1827 : (Jvm.Cond.soleField "DeedKernelModel$Group" "unborn") ∈ lw_all := lw_g (lw_at lw_m7 192 rfl) rfl
theorem q1828 : (Jvm.Cond.laysFinal "DeedKernelModel$Group" "DeedKernelModel$Group" "uDesc" "[[I") ∈ lw_all := lw_g (lw_at lw_m7 193 rfl) rfl
theorem q1829 : (Jvm.Cond.soleField "DeedKernelModel$Group" "uDesc") ∈ lw_all := lw_g (lw_at lw_m7 194 rfl) rfl
theorem q1830 : (Jvm.Cond.laysFinal "DeedKernelModel$Group" "DeedKernelModel$Group" "uWork" "[I") ∈ lw_all := lw_g (lw_at lw_m7 195 rfl) rfl
theorem q1831 : (Jvm.Cond.soleField "DeedKernelModel$Group" "uWork") ∈ lw_all := lw_g (lw_at lw_m7 196 rfl) rfl
theorem q1832 : (Jvm.Cond.laysFinal "DeedKernelModel$Group" "DeedKernelModel$Group" "reaped" "[Z") ∈ lw_all := lw_g (lw_at lw_m7 197 rfl) rfl
theorem q1833 : (Jvm.Cond.soleField "DeedKernelModel$Group" "reaped") ∈ lw_all := lw_g (lw_at lw_m7 198 rfl) rfl
theorem q1834 : (Jvm.Cond.lays "DeedKernelModel$Group" "DeedKernelModel$Group" "kills" "I") ∈ lw_all := lw_g (lw_at lw_m7 199 rfl) rfl
theorem q1835 : (Jvm.Cond.soleField "DeedKernelModel$Group" "kills") ∈ lw_all := lw_g (lw_at lw_m7 200 rfl) rfl
theorem q1836 : (Jvm.Cond.laysFinal "DeedKernelModel$Group" "DeedKernelModel$Group" "killed" "[I") ∈ lw_all := lw_g (lw_at lw_m7 201 rfl) rfl
theorem q1837 : (Jvm.Cond.soleField "DeedKernelModel$Group" "killed") ∈ lw_all := lw_g (lw_at lw_m7 202 rfl) rfl
theorem q1838 : (Jvm.Cond.laysFinal "DeedKernelModel$Group" "DeedKernelModel$Group" "sig" "[I") ∈ lw_all := lw_g (lw_at lw_m7 203 rfl) rfl
theorem q1839 : (Jvm.Cond.soleField "DeedKernelModel$Group" "sig") ∈ lw_all := lw_g (lw_at lw_m7 204 rfl) rfl
theorem q1840 : (Jvm.Cond.laysFinal "DeedKernelModel$Group" "DeedKernelModel$Group" "sW" "[Z") ∈ lw_all := lw_g (lw_at lw_m7 205 rfl) rfl
theorem q1841 : (Jvm.Cond.soleField "DeedKernelModel$Group" "sW") ∈ lw_all := lw_g (lw_at lw_m7 206 rfl) rfl
theorem q1842 : (Jvm.Cond.laysFinal "DeedKernelModel$Group" "DeedKernelModel$Group" "desc" "[I") ∈ lw_all := lw_g (lw_at lw_m7 207 rfl) rfl
theorem q1843 : (Jvm.Cond.soleField "DeedKernelModel$Group" "desc") ∈ lw_all := lw_g (lw_at lw_m7 208 rfl) rfl
theorem q1844 : (Jvm.Cond.lays "DeedKernelModel$Group" "DeedKernelModel$Group" "work" "I") ∈ lw_all := lw_g (lw_at lw_m7 209 rfl) rfl
theorem q1845 : (Jvm.Cond.soleField "DeedKernelModel$Group" "work") ∈ lw_all := lw_g (lw_at lw_m7 210 rfl) rfl
theorem q1846 : (Jvm.Cond.laysFinal "DeedKernelModel$Group" "DeedKernelModel$Group" "tData" "[I") ∈ lw_all := lw_g (lw_at lw_m7 211 rfl) rfl
theorem q1847 : (Jvm.Cond.soleField "DeedKernelModel$Group" "tData") ∈ lw_all := lw_g (lw_at lw_m7 212 rfl) rfl
theorem q1848 : (Jvm.Cond.laysFinal "DeedKernelModel$Group" "DeedKernelModel$Group" "tNames" "[I") ∈ lw_all := lw_g (lw_at lw_m7 213 rfl) rfl
theorem q1849 : (Jvm.Cond.soleField "DeedKernelModel$Group" "tNames") ∈ lw_all := lw_g (lw_at lw_m7 214 rfl) rfl
theorem q1850 : (Jvm.Cond.laysFinal "DeedKernelModel$Group" "DeedKernelModel$Group" "tUp" "[I") ∈ lw_all := lw_g (lw_at lw_m7 215 rfl) rfl
theorem q1851 : (Jvm.Cond.soleField "DeedKernelModel$Group" "tUp") ∈ lw_all := lw_g (lw_at lw_m7 216 rfl) rfl
theorem q1852 : (Jvm.Cond.laysFinal "DeedKernelModel$Group" "DeedKernelModel$Group" "tAll" "[I") ∈ lw_all := lw_g (lw_at lw_m7 217 rfl) rfl
theorem q1853 : (Jvm.Cond.soleField "DeedKernelModel$Group" "tAll") ∈ lw_all := lw_g (lw_at lw_m7 218 rfl) rfl
theorem q1854 : (Jvm.Cond.laysFinal "DeedKernelModel$Group" "DeedKernelModel$Group" "tPlace" "[I") ∈ lw_all := lw_g (lw_at lw_m7 219 rfl) rfl
theorem q1855 : (Jvm.Cond.soleField "DeedKernelModel$Group" "tPlace") ∈ lw_all := lw_g (lw_at lw_m7 220 rfl) rfl
theorem q1856 : (Jvm.Cond.laysFinal "DeedKernelModel$Group" "DeedKernelModel$Group" "tPipe" "[I") ∈ lw_all := lw_g (lw_at lw_m7 221 rfl) rfl
theorem q1857 : (Jvm.Cond.soleField "DeedKernelModel$Group" "tPipe") ∈ lw_all := lw_g (lw_at lw_m7 222 rfl) rfl
theorem q1858 : (Jvm.Cond.laysFinal "DeedKernelModel$Group" "DeedKernelModel$Group" "tLife" "[I") ∈ lw_all := lw_g (lw_at lw_m7 223 rfl) rfl
theorem q1859 : (Jvm.Cond.soleField "DeedKernelModel$Group" "tLife") ∈ lw_all := lw_g (lw_at lw_m7 224 rfl) rfl
theorem q1860 : (Jvm.Cond.laysFinal "DeedKernelModel$Group" "DeedKernelModel$Group" "tSig" "[I") ∈ lw_all := lw_g (lw_at lw_m7 225 rfl) rfl
theorem q1861 : (Jvm.Cond.soleField "DeedKernelModel$Group" "tSig") ∈ lw_all := lw_g (lw_at lw_m7 226 rfl) rfl
theorem q1862 : (Jvm.Cond.lays "DeedKernelModel$Group" "DeedKernelModel$Group" "mc" "I") ∈ lw_all := lw_g (lw_at lw_m7 227 rfl) rfl
theorem q1863 : (Jvm.Cond.soleField "DeedKernelModel$Group" "mc") ∈ lw_all := lw_g (lw_at lw_m7 228 rfl) rfl
theorem q1864 : (Jvm.Cond.lays "DeedKernelModel$Group" "DeedKernelModel$Group" "mDir" "[I") ∈ lw_all := lw_g (lw_at lw_m7 229 rfl) rfl
theorem q1865 : (Jvm.Cond.soleField "DeedKernelModel$Group" "mDir") ∈ lw_all := lw_g (lw_at lw_m7 230 rfl) rfl
theorem q1866 : (Jvm.Cond.lays "DeedKernelModel$Group" "DeedKernelModel$Group" "mA" "[J") ∈ lw_all := lw_g (lw_at lw_m7 231 rfl) rfl
theorem q1867 : (Jvm.Cond.soleField "DeedKernelModel$Group" "mA") ∈ lw_all := lw_g (lw_at lw_m7 232 rfl) rfl
theorem q1868 : (Jvm.Cond.lays "DeedKernelModel$Group" "DeedKernelModel$Group" "mB" "[J") ∈ lw_all := lw_g (lw_at lw_m7 233 rfl) rfl
theorem q1869 : (Jvm.Cond.soleField "DeedKernelModel$Group" "mB") ∈ lw_all := lw_g (lw_at lw_m7 234 rfl) rfl
theorem q1870 : (Jvm.Cond.lays "DeedKernelModel$Group" "DeedKernelModel$Group" "mHow" "[I") ∈ lw_all := lw_g (lw_at lw_m7 235 rfl) rfl
theorem q1871 : (Jvm.Cond.soleField "DeedKernelModel$Group" "mHow") ∈ lw_all := lw_g (lw_at lw_m7 236 rfl) rfl
theorem q1872 : (Jvm.Cond.superclass "DeedKernelModel$Group" "java/lang/Object") ∈ lw_all := lw_g (lw_at lw_m7 237 rfl) rfl
theorem q1901 : (Jvm.Cond.instanceMethod ({ cls := "DeedKernelModel$Group", name := "clear", desc := "()V" } : Jvm.MethodName)) ∈ lw_all := lw_g (lw_at lw_m8 26 rfl) rfl
theorem q1902 : (Jvm.Cond.selects "DeedKernelModel$Group" ({ cls := "DeedKernelModel$Group", name := "clear", desc := "()V" } : Jvm.MethodName) ({ cls := "DeedKernelModel$Group", name := "clear", desc := "()V" } : Jvm.MethodName)) ∈ lw_all := lw_g (lw_at lw_m8 27 rfl) rfl
theorem q1903 : (Jvm.Cond.code ({ cls := "DeedKernelModel$Group", name := "clear", desc := "()V" } : Jvm.MethodName) prog_13_method_2_code (2 : Nat) (Option.none : Option Jvm.ClassFile.FieldType)) ∈ lw_all := lw_g (lw_at lw_m8 28 rfl) rfl
theorem q2219 : (Jvm.Cond.instanceMethod ({ cls := "DeedKernelModel$Group", name := "markAt", desc := "(IJJ)I" } : Jvm.MethodName)) ∈ lw_all := lw_g (lw_at lw_m9 104 rfl) rfl
theorem q2220 : (Jvm.Cond.selects "DeedKernelModel$Group" ({ cls := "DeedKernelModel$Group", name := "markAt", desc := "(IJJ)I" } : Jvm.MethodName) ({ cls := "DeedKernelModel$Group", name := "markAt", desc := "(IJJ)I" } : Jvm.MethodName)) ∈ lw_all := lw_g (lw_at lw_m9 105 rfl) rfl
theorem q2221 : (Jvm.Cond.code ({ cls := "DeedKernelModel$Group", name := "markAt", desc := "(IJJ)I" } : Jvm.MethodName) prog_13_method_6_code (7 : Nat) (Option.some Jvm.ClassFile.FieldType.int)) ∈ lw_all := lw_g (lw_at lw_m9 106 rfl) rfl
theorem q2223 : (Jvm.Cond.instanceMethod ({ cls := "DeedKernelModel$Group", name := "wroteIn", desc := "(I)Z" } : Jvm.MethodName)) ∈ lw_all := lw_g (lw_at lw_m9 108 rfl) rfl
theorem q2224 : (Jvm.Cond.selects "DeedKernelModel$Group" ({ cls := "DeedKernelModel$Group", name := "wroteIn", desc := "(I)Z" } : Jvm.MethodName) ({ cls := "DeedKernelModel$Group", name := "wroteIn", desc := "(I)Z" } : Jvm.MethodName)) ∈ lw_all := lw_g (lw_at lw_m9 109 rfl) rfl
theorem q2225 : (Jvm.Cond.code ({ cls := "DeedKernelModel$Group", name := "wroteIn", desc := "(I)Z" } : Jvm.MethodName) prog_13_method_8_code (3 : Nat) (Option.some Jvm.ClassFile.FieldType.boolean)) ∈ lw_all := lw_g (lw_at lw_m9 110 rfl) rfl
theorem q2235 : (Jvm.Cond.instanceMethod ({ cls := "DeedKernelModel$Group", name := "mark", desc := "(IJJI)V" } : Jvm.MethodName)) ∈ lw_all := lw_g (lw_at lw_m9 120 rfl) rfl
theorem q2236 : (Jvm.Cond.selects "DeedKernelModel$Group" ({ cls := "DeedKernelModel$Group", name := "mark", desc := "(IJJI)V" } : Jvm.MethodName) ({ cls := "DeedKernelModel$Group", name := "mark", desc := "(IJJI)V" } : Jvm.MethodName)) ∈ lw_all := lw_g (lw_at lw_m9 121 rfl) rfl
theorem q2237 : (Jvm.Cond.code ({ cls := "DeedKernelModel$Group", name := "mark", desc := "(IJJI)V" } : Jvm.MethodName) prog_13_method_7_code (8 : Nat) (Option.none : Option Jvm.ClassFile.FieldType)) ∈ lw_all := lw_g (lw_at lw_m9 122 rfl) rfl
theorem q2238 : (Jvm.Cond.methodLink "DeedKernelModel$Group" (165 : Nat) ({ cls := "DeedKernelModel$Group", name := "markAt", desc := "(IJJ)I" } : Jvm.MethodName)) ∈ lw_all := lw_g (lw_at lw_m9 123 rfl) rfl
theorem q2239 : (Jvm.Cond.methodLinkNest "DeedKernelModel$Group" (152 : Nat) ({ cls := "DeedKernelModel", name := "wider", desc := "([I)[I" } : Jvm.MethodName) "DeedKernelModel") ∈ lw_tbl := lw_at lw_m9 124 rfl
theorem q2242 : (Jvm.Cond.methodLinkNest "DeedKernelModel$Group" (158 : Nat) ({ cls := "DeedKernelModel", name := "wider", desc := "([J)[J" } : Jvm.MethodName) "DeedKernelModel") ∈ lw_tbl := lw_at lw_m9 127 rfl
theorem q2262 : (Jvm.Cond.instanceMethod ({ cls := "DeedKernelModel$Group", name := "overAt", desc := "(II)I" } : Jvm.MethodName)) ∈ lw_all := lw_g (lw_at lw_m9 147 rfl) rfl
theorem q2263 : (Jvm.Cond.selects "DeedKernelModel$Group" ({ cls := "DeedKernelModel$Group", name := "overAt", desc := "(II)I" } : Jvm.MethodName) ({ cls := "DeedKernelModel$Group", name := "overAt", desc := "(II)I" } : Jvm.MethodName)) ∈ lw_all := lw_g (lw_at lw_m9 148 rfl) rfl
theorem q2264 : (Jvm.Cond.code ({ cls := "DeedKernelModel$Group", name := "overAt", desc := "(II)I" } : Jvm.MethodName) prog_13_method_5_code (4 : Nat) (Option.some Jvm.ClassFile.FieldType.int)) ∈ lw_all := lw_g (lw_at lw_m9 149 rfl) rfl
theorem q2294 : (Jvm.Cond.instanceMethod ({ cls := "DeedKernelModel$Group", name := "over", desc := "(IIJJI)V" } : Jvm.MethodName)) ∈ lw_all := lw_g (lw_at lw_m9 179 rfl) rfl
theorem q2295 : (Jvm.Cond.selects "DeedKernelModel$Group" ({ cls := "DeedKernelModel$Group", name := "over", desc := "(IIJJI)V" } : Jvm.MethodName) ({ cls := "DeedKernelModel$Group", name := "over", desc := "(IIJJI)V" } : Jvm.MethodName)) ∈ lw_all := lw_g (lw_at lw_m9 180 rfl) rfl
theorem q2296 : (Jvm.Cond.code ({ cls := "DeedKernelModel$Group", name := "over", desc := "(IIJJI)V" } : Jvm.MethodName) prog_13_method_3_code (9 : Nat) (Option.none : Option Jvm.ClassFile.FieldType)) ∈ lw_all := lw_g (lw_at lw_m9 181 rfl) rfl
theorem q2548 : (Jvm.Cond.instanceMethod ({ cls := "DeedKernelModel$Group", name := "forget", desc := "(II)V" } : Jvm.MethodName)) ∈ lw_all := lw_g (lw_at lw_m10 193 rfl) rfl
theorem q2549 : (Jvm.Cond.selects "DeedKernelModel$Group" ({ cls := "DeedKernelModel$Group", name := "forget", desc := "(II)V" } : Jvm.MethodName) ({ cls := "DeedKernelModel$Group", name := "forget", desc := "(II)V" } : Jvm.MethodName)) ∈ lw_all := lw_g (lw_at lw_m10 194 rfl) rfl
theorem q2550 : (Jvm.Cond.code ({ cls := "DeedKernelModel$Group", name := "forget", desc := "(II)V" } : Jvm.MethodName) prog_13_method_4_code (4 : Nat) (Option.none : Option Jvm.ClassFile.FieldType)) ∈ lw_all := lw_g (lw_at lw_m10 195 rfl) rfl
theorem q2551 : (Jvm.Cond.methodLink "DeedKernelModel$Group" (161 : Nat) ({ cls := "DeedKernelModel$Group", name := "overAt", desc := "(II)I" } : Jvm.MethodName)) ∈ lw_all := lw_g (lw_at lw_m10 196 rfl) rfl
theorem in_X12 : ∀ w ∈ wsX120, w ∈ lw_all := lw_in wsX120 [1780, 1782, 1784, 1786, 1788, 1790, 1792, 1794, 1796, 1798, 1800, 1802, 1804, 1806, 1808, 1810, 1812, 1814, 1816, 1818, 1820, 1822, 1824, 1826, 1828, 1830, 1832, 1834, 1836, 1838, 1840, 1842, 1844, 1846, 1848, 1850, 1852, 1854, 1856, 1858, 1860, 1862, 1864, 1866, 1868, 1870] (by decide +kernel) (by decide +kernel)
theorem q211 : (Jvm.Cond.initialized "java/lang/System") ∈ lw_all := lw_g (lw_at lw_m1 16 rfl) rfl
theorem q717 : (Jvm.Cond.static ({ cls := "java/lang/System", name := "arraycopy", desc := "(Ljava/lang/Object;ILjava/lang/Object;II)V" } : Jvm.MethodName)) ∈ lw_all := lw_g (lw_at lw_m3 42 rfl) rfl
theorem q718 : (Jvm.Cond.native ({ cls := "java/lang/System", name := "arraycopy", desc := "(Ljava/lang/Object;ILjava/lang/Object;II)V" } : Jvm.MethodName)) ∈ lw_all := lw_g (lw_at lw_m3 43 rfl) rfl
