/-! java/util/AbstractCollection -/
set_option maxRecDepth 100000
def RJ0 : String := "java/util/AbstractCollection"
abbrev cJ0_init : ByteArray := prog_33_method_1_code
def yJ0_init : MethodName := ⟨RJ0, "<init>", "()V"⟩
theorem dJ0_init_0 : decode cJ0_init 0 = .ok (.aload_n 0, 1) := by decide +kernel
theorem dJ0_init_1 : decode cJ0_init 1 = .ok (.invokespecial 1, 3) := by decide +kernel
theorem dJ0_init_4 : decode cJ0_init 4 = .ok (.return_, 1) := by decide +kernel
abbrev cJ0_isEmpty : ByteArray := prog_33_method_4_code
def yJ0_isEmpty : MethodName := ⟨RJ0, "isEmpty", "()Z"⟩
def dkwJ0_isEmpty_0 : List UInt8 := [42, 182, 0, 7, 154, 0, 7, 4, 167, 0, 4, 3, 172]
abbrev dktJ0_isEmpty_0 : List UInt8 := dkwJ0_isEmpty_0 ++ []
theorem dksJ0_isEmpty_0 : cJ0_isEmpty.data.toList.drop 0 = dktJ0_isEmpty_0 := by decide +kernel
theorem dJ0_isEmpty_0 : decode cJ0_isEmpty 0 = .ok (.aload_n 0, 1) := dk_42 (dk_at dksJ0_isEmpty_0 0 rfl rfl)
theorem dJ0_isEmpty_1 : decode cJ0_isEmpty 1 = .ok (.invokevirtual 7, 3) := dk_182 0 7 (dk_at dksJ0_isEmpty_0 1 rfl rfl)
theorem dJ0_isEmpty_4 : decode cJ0_isEmpty 4 = .ok (.ifCond .ne 7, 3) := dk_154 0 7 (dk_at dksJ0_isEmpty_0 4 rfl rfl)
theorem dJ0_isEmpty_7 : decode cJ0_isEmpty 7 = .ok (.iconst 1, 1) := dk_4 (dk_at dksJ0_isEmpty_0 7 rfl rfl)
theorem dJ0_isEmpty_8 : decode cJ0_isEmpty 8 = .ok (.goto 4, 3) := dk_167 0 4 (dk_at dksJ0_isEmpty_0 8 rfl rfl)
theorem dJ0_isEmpty_11 : decode cJ0_isEmpty 11 = .ok (.iconst 0, 1) := dk_3 (dk_at dksJ0_isEmpty_0 11 rfl rfl)
theorem dJ0_isEmpty_12 : decode cJ0_isEmpty 12 = .ok (.ireturn, 1) := dk_172 (dk_at dksJ0_isEmpty_0 12 rfl rfl)
theorem q76 : (Jvm.Cond.initialized "java/util/AbstractCollection") ∈ lw_all := lw_g (lw_at lw_m1 2 rfl) rfl
theorem q141 : (Jvm.Cond.instanceMethod ({ cls := "java/util/AbstractCollection", name := "<init>", desc := "()V" } : Jvm.MethodName)) ∈ lw_all := lw_g (lw_at lw_m1 67 rfl) rfl
theorem q142 : (Jvm.Cond.code ({ cls := "java/util/AbstractCollection", name := "<init>", desc := "()V" } : Jvm.MethodName) prog_33_method_1_code (1 : Nat) (Option.none : Option Jvm.ClassFile.FieldType)) ∈ lw_all := lw_g (lw_at lw_m1 68 rfl) rfl
theorem q143 : (Jvm.Cond.methodLink "java/util/AbstractCollection" (1 : Nat) ({ cls := "java/lang/Object", name := "<init>", desc := "()V" } : Jvm.MethodName)) ∈ lw_all := lw_g (lw_at lw_m1 69 rfl) rfl
theorem q722 : (Jvm.Cond.instanceMethod ({ cls := "java/util/AbstractCollection", name := "isEmpty", desc := "()Z" } : Jvm.MethodName)) ∈ lw_all := lw_g (lw_at lw_m3 168 rfl) rfl
theorem q723 : (Jvm.Cond.publicMethod ({ cls := "java/util/AbstractCollection", name := "isEmpty", desc := "()Z" } : Jvm.MethodName)) ∈ lw_tbl := lw_at lw_m3 169 rfl
theorem q724 : (Jvm.Cond.code ({ cls := "java/util/AbstractCollection", name := "isEmpty", desc := "()Z" } : Jvm.MethodName) prog_33_method_4_code (1 : Nat) (Option.some Jvm.ClassFile.FieldType.boolean)) ∈ lw_all := lw_g (lw_at lw_m3 170 rfl) rfl
theorem q725 : (Jvm.Cond.methodLink "java/util/AbstractCollection" (7 : Nat) ({ cls := "java/util/AbstractCollection", name := "size", desc := "()I" } : Jvm.MethodName)) ∈ lw_all := lw_g (lw_at lw_m3 171 rfl) rfl
theorem q726 : (Jvm.Cond.declares ({ cls := "java/util/AbstractCollection", name := "size", desc := "()I" } : Jvm.MethodName)) ∈ lw_tbl := lw_at lw_m3 172 rfl
theorem q727 : (Jvm.Cond.sameMethod "java/util/AbstractCollection" "java/util/AbstractCollection" "size" "()I") ∈ lw_all := lw_g (lw_at lw_m3 173 rfl) rfl
theorem q783 : (Jvm.Cond.declares ({ cls := "java/util/AbstractCollection", name := "isEmpty", desc := "()Z" } : Jvm.MethodName)) ∈ lw_tbl := lw_at lw_m3 229 rfl
/-! java/util/AbstractList -/
set_option maxRecDepth 100000
def RJ1 : String := "java/util/AbstractList"
abbrev cJ1_init : ByteArray := prog_34_method_1_code
def yJ1_init : MethodName := ⟨RJ1, "<init>", "()V"⟩
def dkwJ1_init_0 : List UInt8 := [42, 183, 0, 1, 42, 3, 181, 0, 7, 177]
abbrev dktJ1_init_0 : List UInt8 := dkwJ1_init_0 ++ []
theorem dksJ1_init_0 : cJ1_init.data.toList.drop 0 = dktJ1_init_0 := by decide +kernel
theorem dJ1_init_0 : decode cJ1_init 0 = .ok (.aload_n 0, 1) := dk_42 (dk_at dksJ1_init_0 0 rfl rfl)
theorem dJ1_init_1 : decode cJ1_init 1 = .ok (.invokespecial 1, 3) := dk_183 0 1 (dk_at dksJ1_init_0 1 rfl rfl)
theorem dJ1_init_4 : decode cJ1_init 4 = .ok (.aload_n 0, 1) := dk_42 (dk_at dksJ1_init_0 4 rfl rfl)
theorem dJ1_init_5 : decode cJ1_init 5 = .ok (.iconst 0, 1) := dk_3 (dk_at dksJ1_init_0 5 rfl rfl)
theorem dJ1_init_6 : decode cJ1_init 6 = .ok (.putfield 7, 3) := dk_181 0 7 (dk_at dksJ1_init_0 6 rfl rfl)
theorem dJ1_init_9 : decode cJ1_init 9 = .ok (.return_, 1) := dk_177 (dk_at dksJ1_init_0 9 rfl rfl)
abbrev cJ1_listIterator : ByteArray := prog_34_method_12_code
def yJ1_listIterator : MethodName := ⟨RJ1, "listIterator", "()Ljava/util/ListIterator;"⟩
def dkwJ1_listIterator_0 : List UInt8 := [42, 3, 182, 0, 47, 176]
abbrev dktJ1_listIterator_0 : List UInt8 := dkwJ1_listIterator_0 ++ []
theorem dksJ1_listIterator_0 : cJ1_listIterator.data.toList.drop 0 = dktJ1_listIterator_0 := by decide +kernel
theorem dJ1_listIterator_0 : decode cJ1_listIterator 0 = .ok (.aload_n 0, 1) := dk_42 (dk_at dksJ1_listIterator_0 0 rfl rfl)
theorem dJ1_listIterator_1 : decode cJ1_listIterator 1 = .ok (.iconst 0, 1) := dk_3 (dk_at dksJ1_listIterator_0 1 rfl rfl)
theorem dJ1_listIterator_2 : decode cJ1_listIterator 2 = .ok (.invokevirtual 47, 3) := dk_182 0 47 (dk_at dksJ1_listIterator_0 2 rfl rfl)
theorem dJ1_listIterator_5 : decode cJ1_listIterator 5 = .ok (.areturn, 1) := dk_176 (dk_at dksJ1_listIterator_0 5 rfl rfl)
theorem q77 : (Jvm.Cond.initialized "java/util/AbstractList") ∈ lw_all := lw_g (lw_at lw_m1 3 rfl) rfl
theorem q138 : (Jvm.Cond.instanceMethod ({ cls := "java/util/AbstractList", name := "<init>", desc := "()V" } : Jvm.MethodName)) ∈ lw_all := lw_g (lw_at lw_m1 64 rfl) rfl
theorem q139 : (Jvm.Cond.code ({ cls := "java/util/AbstractList", name := "<init>", desc := "()V" } : Jvm.MethodName) prog_34_method_1_code (1 : Nat) (Option.none : Option Jvm.ClassFile.FieldType)) ∈ lw_all := lw_g (lw_at lw_m1 65 rfl) rfl
theorem q140 : (Jvm.Cond.methodLink "java/util/AbstractList" (1 : Nat) ({ cls := "java/util/AbstractCollection", name := "<init>", desc := "()V" } : Jvm.MethodName)) ∈ lw_all := lw_g (lw_at lw_m1 66 rfl) rfl
theorem q148 : (Jvm.Cond.fieldLink "java/util/AbstractList" (7 : Nat) "java/util/AbstractList" "modCount" "I") ∈ lw_all := lw_g (lw_at lw_m1 74 rfl) rfl
theorem q163 : (Jvm.Cond.soleField "java/util/AbstractList" "modCount") ∈ lw_all := lw_g (lw_at lw_m1 89 rfl) rfl
theorem q797 : (Jvm.Cond.declares ({ cls := "java/util/AbstractList", name := "listIterator", desc := "()Ljava/util/ListIterator;" } : Jvm.MethodName)) ∈ lw_tbl := lw_at lw_m4 3 rfl
theorem q799 : (Jvm.Cond.instanceMethod ({ cls := "java/util/AbstractList", name := "listIterator", desc := "()Ljava/util/ListIterator;" } : Jvm.MethodName)) ∈ lw_all := lw_g (lw_at lw_m4 5 rfl) rfl
theorem q800 : (Jvm.Cond.code ({ cls := "java/util/AbstractList", name := "listIterator", desc := "()Ljava/util/ListIterator;" } : Jvm.MethodName) prog_34_method_12_code (1 : Nat) (Option.some (Jvm.ClassFile.FieldType.object "java/util/ListIterator"))) ∈ lw_all := lw_g (lw_at lw_m4 6 rfl) rfl
theorem q801 : (Jvm.Cond.methodLink "java/util/AbstractList" (47 : Nat) ({ cls := "java/util/AbstractList", name := "listIterator", desc := "(I)Ljava/util/ListIterator;" } : Jvm.MethodName)) ∈ lw_all := lw_g (lw_at lw_m4 7 rfl) rfl
theorem q802 : (Jvm.Cond.instanceMethod ({ cls := "java/util/AbstractList", name := "listIterator", desc := "(I)Ljava/util/ListIterator;" } : Jvm.MethodName)) ∈ lw_all := lw_g (lw_at lw_m4 8 rfl) rfl
theorem q803 : (Jvm.Cond.sameMethod "java/util/AbstractList" "java/util/AbstractList" "listIterator" "(I)Ljava/util/ListIterator;") ∈ lw_all := lw_g (lw_at lw_m4 9 rfl) rfl
theorem q872 : (Jvm.Cond.declares ({ cls := "java/util/AbstractList", name := "listIterator", desc := "(I)Ljava/util/ListIterator;" } : Jvm.MethodName)) ∈ lw_tbl := lw_at lw_m4 78 rfl
theorem q884 : (Jvm.Cond.sameMethod "java/util/AbstractList" "java/util/AbstractCollection" "size" "()I") ∈ lw_all := lw_g (lw_at lw_m4 90 rfl) rfl
theorem q920 : (Jvm.Cond.declares ({ cls := "java/util/AbstractList", name := "get", desc := "(I)Ljava/lang/Object;" } : Jvm.MethodName)) ∈ lw_tbl := lw_at lw_m4 126 rfl
theorem q921 : (Jvm.Cond.sameMethod "java/util/AbstractList" "java/util/AbstractList" "get" "(I)Ljava/lang/Object;") ∈ lw_all := lw_g (lw_at lw_m4 127 rfl) rfl
theorem q1275 : (Jvm.Cond.instanceMethod ({ cls := "java/util/AbstractList", name := "remove", desc := "(I)Ljava/lang/Object;" } : Jvm.MethodName)) ∈ lw_all := lw_g (lw_at lw_m6 1 rfl) rfl
theorem q1276 : (Jvm.Cond.sameMethod "java/util/AbstractList" "java/util/AbstractList" "remove" "(I)Ljava/lang/Object;") ∈ lw_all := lw_g (lw_at lw_m6 2 rfl) rfl
theorem q1292 : (Jvm.Cond.declares ({ cls := "java/util/AbstractList", name := "remove", desc := "(I)Ljava/lang/Object;" } : Jvm.MethodName)) ∈ lw_tbl := lw_at lw_m6 18 rfl
/-! java/util/AbstractSequentialList -/
set_option maxRecDepth 100000
def RJ2 : String := "java/util/AbstractSequentialList"
abbrev cJ2_init : ByteArray := prog_37_method_1_code
def yJ2_init : MethodName := ⟨RJ2, "<init>", "()V"⟩
theorem dJ2_init_0 : decode cJ2_init 0 = .ok (.aload_n 0, 1) := by decide +kernel
theorem dJ2_init_1 : decode cJ2_init 1 = .ok (.invokespecial 1, 3) := by decide +kernel
theorem dJ2_init_4 : decode cJ2_init 4 = .ok (.return_, 1) := by decide +kernel
abbrev cJ2_iterator : ByteArray := prog_37_method_7_code
def yJ2_iterator : MethodName := ⟨RJ2, "iterator", "()Ljava/util/Iterator;"⟩
theorem dJ2_iterator_0 : decode cJ2_iterator 0 = .ok (.aload_n 0, 1) := by decide +kernel
theorem dJ2_iterator_1 : decode cJ2_iterator 1 = .ok (.invokevirtual 65, 3) := by decide +kernel
theorem dJ2_iterator_4 : decode cJ2_iterator 4 = .ok (.areturn, 1) := by decide +kernel
theorem q78 : (Jvm.Cond.initialized "java/util/AbstractSequentialList") ∈ lw_all := lw_g (lw_at lw_m1 4 rfl) rfl
theorem q135 : (Jvm.Cond.instanceMethod ({ cls := "java/util/AbstractSequentialList", name := "<init>", desc := "()V" } : Jvm.MethodName)) ∈ lw_all := lw_g (lw_at lw_m1 61 rfl) rfl
theorem q136 : (Jvm.Cond.code ({ cls := "java/util/AbstractSequentialList", name := "<init>", desc := "()V" } : Jvm.MethodName) prog_37_method_1_code (1 : Nat) (Option.none : Option Jvm.ClassFile.FieldType)) ∈ lw_all := lw_g (lw_at lw_m1 62 rfl) rfl
theorem q137 : (Jvm.Cond.methodLink "java/util/AbstractSequentialList" (1 : Nat) ({ cls := "java/util/AbstractList", name := "<init>", desc := "()V" } : Jvm.MethodName)) ∈ lw_all := lw_g (lw_at lw_m1 63 rfl) rfl
theorem q791 : (Jvm.Cond.declares ({ cls := "java/util/AbstractSequentialList", name := "iterator", desc := "()Ljava/util/Iterator;" } : Jvm.MethodName)) ∈ lw_tbl := lw_at lw_m3 237 rfl
theorem q793 : (Jvm.Cond.instanceMethod ({ cls := "java/util/AbstractSequentialList", name := "iterator", desc := "()Ljava/util/Iterator;" } : Jvm.MethodName)) ∈ lw_all := lw_g (lw_at lw_m3 239 rfl) rfl
theorem q794 : (Jvm.Cond.code ({ cls := "java/util/AbstractSequentialList", name := "iterator", desc := "()Ljava/util/Iterator;" } : Jvm.MethodName) prog_37_method_7_code (1 : Nat) (Option.some (Jvm.ClassFile.FieldType.object "java/util/Iterator"))) ∈ lw_all := lw_g (lw_at lw_m4 0 rfl) rfl
theorem q795 : (Jvm.Cond.methodLink "java/util/AbstractSequentialList" (65 : Nat) ({ cls := "java/util/AbstractSequentialList", name := "listIterator", desc := "()Ljava/util/ListIterator;" } : Jvm.MethodName)) ∈ lw_all := lw_g (lw_at lw_m4 1 rfl) rfl
theorem q796 : (Jvm.Cond.sameMethod "java/util/AbstractSequentialList" "java/util/AbstractList" "listIterator" "()Ljava/util/ListIterator;") ∈ lw_all := lw_g (lw_at lw_m4 2 rfl) rfl
/-! java/util/LinkedList -/
set_option maxRecDepth 100000
def RJ3 : String := "java/util/LinkedList"
def TJ3 : u_T := fun k => match k with
  | 0 => ("java/util/AbstractList", "modCount", "I", false)
  | 1 => ("java/util/LinkedList", "size", "I", false)
  | 2 => ("java/util/LinkedList", "first", "Ljava/util/LinkedList$Node;", false)
  | _ => ("java/util/LinkedList", "last", "Ljava/util/LinkedList$Node;", false)
def tyJ3 : Nat → FieldType := fun k => match k with
  | 0 => .int
  | 1 => .int
  | 2 => .object "java/util/LinkedList$Node"
  | _ => .object "java/util/LinkedList$Node"
abbrev wsJ30 : List Cond := u_ws RJ3 TJ3 4
theorem nmJ3 : ∀ a, a < 4 → ∀ b, b < 4 → a ≠ b → (TJ3 a).2.1 ≠ (TJ3 b).2.1 := by decide +kernel
theorem tyJ3_ok : ∀ k, k < 4 → parseFieldDescriptor (TJ3 k).2.2.1 = some (tyJ3 k) := by decide +kernel
abbrev cJ3_init : ByteArray := prog_49_method_1_code
def yJ3_init : MethodName := ⟨RJ3, "<init>", "()V"⟩
def dkwJ3_init_0 : List UInt8 := [42, 183, 0, 1, 42, 3, 181, 0, 7, 177]
abbrev dktJ3_init_0 : List UInt8 := dkwJ3_init_0 ++ []
theorem dksJ3_init_0 : cJ3_init.data.toList.drop 0 = dktJ3_init_0 := by decide +kernel
theorem dJ3_init_0 : decode cJ3_init 0 = .ok (.aload_n 0, 1) := dk_42 (dk_at dksJ3_init_0 0 rfl rfl)
theorem dJ3_init_1 : decode cJ3_init 1 = .ok (.invokespecial 1, 3) := dk_183 0 1 (dk_at dksJ3_init_0 1 rfl rfl)
theorem dJ3_init_4 : decode cJ3_init 4 = .ok (.aload_n 0, 1) := dk_42 (dk_at dksJ3_init_0 4 rfl rfl)
theorem dJ3_init_5 : decode cJ3_init 5 = .ok (.iconst 0, 1) := dk_3 (dk_at dksJ3_init_0 5 rfl rfl)
theorem dJ3_init_6 : decode cJ3_init 6 = .ok (.putfield 7, 3) := dk_181 0 7 (dk_at dksJ3_init_0 6 rfl rfl)
theorem dJ3_init_9 : decode cJ3_init 9 = .ok (.return_, 1) := dk_177 (dk_at dksJ3_init_0 9 rfl rfl)
abbrev cJ3_add : ByteArray := prog_49_method_17_code
def yJ3_add : MethodName := ⟨RJ3, "add", "(Ljava/lang/Object;)Z"⟩
def dkwJ3_add_0 : List UInt8 := [42, 43, 182, 0, 57, 4, 172]
abbrev dktJ3_add_0 : List UInt8 := dkwJ3_add_0 ++ []
theorem dksJ3_add_0 : cJ3_add.data.toList.drop 0 = dktJ3_add_0 := by decide +kernel
theorem dJ3_add_0 : decode cJ3_add 0 = .ok (.aload_n 0, 1) := dk_42 (dk_at dksJ3_add_0 0 rfl rfl)
theorem dJ3_add_1 : decode cJ3_add 1 = .ok (.aload_n 1, 1) := dk_43 (dk_at dksJ3_add_0 1 rfl rfl)
theorem dJ3_add_2 : decode cJ3_add 2 = .ok (.invokevirtual 57, 3) := dk_182 0 57 (dk_at dksJ3_add_0 2 rfl rfl)
theorem dJ3_add_5 : decode cJ3_add 5 = .ok (.iconst 1, 1) := dk_4 (dk_at dksJ3_add_0 5 rfl rfl)
theorem dJ3_add_6 : decode cJ3_add 6 = .ok (.ireturn, 1) := dk_172 (dk_at dksJ3_add_0 6 rfl rfl)
abbrev cJ3_linkLast : ByteArray := prog_49_method_4_code
def yJ3_linkLast : MethodName := ⟨RJ3, "linkLast", "(Ljava/lang/Object;)V"⟩
def dkwJ3_linkLast_2 : List UInt8 := [181, 0, 7, 42, 89, 180, 0, 33, 4, 96, 181, 0, 33, 177]
abbrev dktJ3_linkLast_2 : List UInt8 := dkwJ3_linkLast_2 ++ []
def dkwJ3_linkLast_1 : List UInt8 := [199, 0, 11, 42, 45, 181, 0, 18, 167, 0, 8, 44, 45, 181, 0, 36, 42, 89, 180, 0, 7, 4, 96]
abbrev dktJ3_linkLast_1 : List UInt8 := dkwJ3_linkLast_1 ++ dktJ3_linkLast_2
def dkwJ3_linkLast_0 : List UInt8 := [42, 180, 0, 27, 77, 187, 0, 22, 89, 44, 43, 1, 183, 0, 24, 78, 42, 45, 181, 0, 27, 44]
abbrev dktJ3_linkLast_0 : List UInt8 := dkwJ3_linkLast_0 ++ dktJ3_linkLast_1
theorem dksJ3_linkLast_0 : cJ3_linkLast.data.toList.drop 0 = dktJ3_linkLast_0 := by decide +kernel
theorem dksJ3_linkLast_1 : cJ3_linkLast.data.toList.drop 22 = dktJ3_linkLast_1 := dk_seg dksJ3_linkLast_0 22 rfl rfl
theorem dksJ3_linkLast_2 : cJ3_linkLast.data.toList.drop 45 = dktJ3_linkLast_2 := dk_seg dksJ3_linkLast_1 23 rfl rfl
theorem dJ3_linkLast_0 : decode cJ3_linkLast 0 = .ok (.aload_n 0, 1) := dk_42 (dk_at dksJ3_linkLast_0 0 rfl rfl)
theorem dJ3_linkLast_1 : decode cJ3_linkLast 1 = .ok (.getfield 27, 3) := dk_180 0 27 (dk_at dksJ3_linkLast_0 1 rfl rfl)
theorem dJ3_linkLast_4 : decode cJ3_linkLast 4 = .ok (.astore_n 2, 1) := dk_77 (dk_at dksJ3_linkLast_0 4 rfl rfl)
theorem dJ3_linkLast_5 : decode cJ3_linkLast 5 = .ok (.new 22, 3) := dk_187 0 22 (dk_at dksJ3_linkLast_0 5 rfl rfl)
theorem dJ3_linkLast_8 : decode cJ3_linkLast 8 = .ok (.dup, 1) := dk_89 (dk_at dksJ3_linkLast_0 8 rfl rfl)
theorem dJ3_linkLast_9 : decode cJ3_linkLast 9 = .ok (.aload_n 2, 1) := dk_44 (dk_at dksJ3_linkLast_0 9 rfl rfl)
theorem dJ3_linkLast_10 : decode cJ3_linkLast 10 = .ok (.aload_n 1, 1) := dk_43 (dk_at dksJ3_linkLast_0 10 rfl rfl)
theorem dJ3_linkLast_11 : decode cJ3_linkLast 11 = .ok (.aconst_null, 1) := dk_1 (dk_at dksJ3_linkLast_0 11 rfl rfl)
theorem dJ3_linkLast_12 : decode cJ3_linkLast 12 = .ok (.invokespecial 24, 3) := dk_183 0 24 (dk_at dksJ3_linkLast_0 12 rfl rfl)
theorem dJ3_linkLast_15 : decode cJ3_linkLast 15 = .ok (.astore_n 3, 1) := dk_78 (dk_at dksJ3_linkLast_0 15 rfl rfl)
theorem dJ3_linkLast_16 : decode cJ3_linkLast 16 = .ok (.aload_n 0, 1) := dk_42 (dk_at dksJ3_linkLast_0 16 rfl rfl)
theorem dJ3_linkLast_17 : decode cJ3_linkLast 17 = .ok (.aload_n 3, 1) := dk_45 (dk_at dksJ3_linkLast_0 17 rfl rfl)
theorem dJ3_linkLast_18 : decode cJ3_linkLast 18 = .ok (.putfield 27, 3) := dk_181 0 27 (dk_at dksJ3_linkLast_0 18 rfl rfl)
theorem dJ3_linkLast_21 : decode cJ3_linkLast 21 = .ok (.aload_n 2, 1) := dk_44 (dk_at dksJ3_linkLast_0 21 rfl rfl)
theorem dJ3_linkLast_22 : decode cJ3_linkLast 22 = .ok (.ifnonnull 11, 3) := dk_199 0 11 (dk_at dksJ3_linkLast_1 0 rfl rfl)
theorem dJ3_linkLast_25 : decode cJ3_linkLast 25 = .ok (.aload_n 0, 1) := dk_42 (dk_at dksJ3_linkLast_1 3 rfl rfl)
theorem dJ3_linkLast_26 : decode cJ3_linkLast 26 = .ok (.aload_n 3, 1) := dk_45 (dk_at dksJ3_linkLast_1 4 rfl rfl)
theorem dJ3_linkLast_27 : decode cJ3_linkLast 27 = .ok (.putfield 18, 3) := dk_181 0 18 (dk_at dksJ3_linkLast_1 5 rfl rfl)
theorem dJ3_linkLast_30 : decode cJ3_linkLast 30 = .ok (.goto 8, 3) := dk_167 0 8 (dk_at dksJ3_linkLast_1 8 rfl rfl)
theorem dJ3_linkLast_33 : decode cJ3_linkLast 33 = .ok (.aload_n 2, 1) := dk_44 (dk_at dksJ3_linkLast_1 11 rfl rfl)
theorem dJ3_linkLast_34 : decode cJ3_linkLast 34 = .ok (.aload_n 3, 1) := dk_45 (dk_at dksJ3_linkLast_1 12 rfl rfl)
theorem dJ3_linkLast_35 : decode cJ3_linkLast 35 = .ok (.putfield 36, 3) := dk_181 0 36 (dk_at dksJ3_linkLast_1 13 rfl rfl)
theorem dJ3_linkLast_38 : decode cJ3_linkLast 38 = .ok (.aload_n 0, 1) := dk_42 (dk_at dksJ3_linkLast_1 16 rfl rfl)
theorem dJ3_linkLast_39 : decode cJ3_linkLast 39 = .ok (.dup, 1) := dk_89 (dk_at dksJ3_linkLast_1 17 rfl rfl)
theorem dJ3_linkLast_40 : decode cJ3_linkLast 40 = .ok (.getfield 7, 3) := dk_180 0 7 (dk_at dksJ3_linkLast_1 18 rfl rfl)
theorem dJ3_linkLast_43 : decode cJ3_linkLast 43 = .ok (.iconst 1, 1) := dk_4 (dk_at dksJ3_linkLast_1 21 rfl rfl)
theorem dJ3_linkLast_44 : decode cJ3_linkLast 44 = .ok (.iadd, 1) := dk_96 (dk_at dksJ3_linkLast_1 22 rfl rfl)
theorem dJ3_linkLast_45 : decode cJ3_linkLast 45 = .ok (.putfield 7, 3) := dk_181 0 7 (dk_at dksJ3_linkLast_2 0 rfl rfl)
theorem dJ3_linkLast_48 : decode cJ3_linkLast 48 = .ok (.aload_n 0, 1) := dk_42 (dk_at dksJ3_linkLast_2 3 rfl rfl)
theorem dJ3_linkLast_49 : decode cJ3_linkLast 49 = .ok (.dup, 1) := dk_89 (dk_at dksJ3_linkLast_2 4 rfl rfl)
theorem dJ3_linkLast_50 : decode cJ3_linkLast 50 = .ok (.getfield 33, 3) := dk_180 0 33 (dk_at dksJ3_linkLast_2 5 rfl rfl)
theorem dJ3_linkLast_53 : decode cJ3_linkLast 53 = .ok (.iconst 1, 1) := dk_4 (dk_at dksJ3_linkLast_2 8 rfl rfl)
theorem dJ3_linkLast_54 : decode cJ3_linkLast 54 = .ok (.iadd, 1) := dk_96 (dk_at dksJ3_linkLast_2 9 rfl rfl)
theorem dJ3_linkLast_55 : decode cJ3_linkLast 55 = .ok (.putfield 33, 3) := dk_181 0 33 (dk_at dksJ3_linkLast_2 10 rfl rfl)
theorem dJ3_linkLast_58 : decode cJ3_linkLast 58 = .ok (.return_, 1) := dk_177 (dk_at dksJ3_linkLast_2 13 rfl rfl)
abbrev cJ3_size : ByteArray := prog_49_method_16_code
def yJ3_size : MethodName := ⟨RJ3, "size", "()I"⟩
theorem dJ3_size_0 : decode cJ3_size 0 = .ok (.aload_n 0, 1) := by decide +kernel
theorem dJ3_size_1 : decode cJ3_size 1 = .ok (.getfield 7, 3) := by decide +kernel
theorem dJ3_size_4 : decode cJ3_size 4 = .ok (.ireturn, 1) := by decide +kernel
abbrev cJ3_get : ByteArray := prog_49_method_22_code
def yJ3_get : MethodName := ⟨RJ3, "get", "(I)Ljava/lang/Object;"⟩
def dkwJ3_get_0 : List UInt8 := [42, 27, 182, 0, 90, 42, 27, 182, 0, 86, 180, 0, 39, 176]
abbrev dktJ3_get_0 : List UInt8 := dkwJ3_get_0 ++ []
theorem dksJ3_get_0 : cJ3_get.data.toList.drop 0 = dktJ3_get_0 := by decide +kernel
theorem dJ3_get_0 : decode cJ3_get 0 = .ok (.aload_n 0, 1) := dk_42 (dk_at dksJ3_get_0 0 rfl rfl)
theorem dJ3_get_1 : decode cJ3_get 1 = .ok (.iload_n 1, 1) := dk_27 (dk_at dksJ3_get_0 1 rfl rfl)
theorem dJ3_get_2 : decode cJ3_get 2 = .ok (.invokevirtual 90, 3) := dk_182 0 90 (dk_at dksJ3_get_0 2 rfl rfl)
theorem dJ3_get_5 : decode cJ3_get 5 = .ok (.aload_n 0, 1) := dk_42 (dk_at dksJ3_get_0 5 rfl rfl)
theorem dJ3_get_6 : decode cJ3_get 6 = .ok (.iload_n 1, 1) := dk_27 (dk_at dksJ3_get_0 6 rfl rfl)
theorem dJ3_get_7 : decode cJ3_get 7 = .ok (.invokevirtual 86, 3) := dk_182 0 86 (dk_at dksJ3_get_0 7 rfl rfl)
theorem dJ3_get_10 : decode cJ3_get 10 = .ok (.getfield 39, 3) := dk_180 0 39 (dk_at dksJ3_get_0 10 rfl rfl)
theorem dJ3_get_13 : decode cJ3_get 13 = .ok (.areturn, 1) := dk_176 (dk_at dksJ3_get_0 13 rfl rfl)
abbrev cJ3_checkElementIndex : ByteArray := prog_49_method_29_code
def yJ3_checkElementIndex : MethodName := ⟨RJ3, "checkElementIndex", "(I)V"⟩
def dkwJ3_checkElementIndex_0 : List UInt8 := [42, 27, 182, 0, 115, 154, 0, 16, 187, 0, 119, 89, 42, 27, 182, 0, 121, 183, 0, 125, 191, 177]
abbrev dktJ3_checkElementIndex_0 : List UInt8 := dkwJ3_checkElementIndex_0 ++ []
theorem dksJ3_checkElementIndex_0 : cJ3_checkElementIndex.data.toList.drop 0 = dktJ3_checkElementIndex_0 := by decide +kernel
theorem dJ3_checkElementIndex_0 : decode cJ3_checkElementIndex 0 = .ok (.aload_n 0, 1) := dk_42 (dk_at dksJ3_checkElementIndex_0 0 rfl rfl)
theorem dJ3_checkElementIndex_1 : decode cJ3_checkElementIndex 1 = .ok (.iload_n 1, 1) := dk_27 (dk_at dksJ3_checkElementIndex_0 1 rfl rfl)
theorem dJ3_checkElementIndex_2 : decode cJ3_checkElementIndex 2 = .ok (.invokevirtual 115, 3) := dk_182 0 115 (dk_at dksJ3_checkElementIndex_0 2 rfl rfl)
theorem dJ3_checkElementIndex_5 : decode cJ3_checkElementIndex 5 = .ok (.ifCond .ne 16, 3) := dk_154 0 16 (dk_at dksJ3_checkElementIndex_0 5 rfl rfl)
theorem dJ3_checkElementIndex_8 : decode cJ3_checkElementIndex 8 = .ok (.new 119, 3) := dk_187 0 119 (dk_at dksJ3_checkElementIndex_0 8 rfl rfl)
theorem dJ3_checkElementIndex_11 : decode cJ3_checkElementIndex 11 = .ok (.dup, 1) := dk_89 (dk_at dksJ3_checkElementIndex_0 11 rfl rfl)
theorem dJ3_checkElementIndex_12 : decode cJ3_checkElementIndex 12 = .ok (.aload_n 0, 1) := dk_42 (dk_at dksJ3_checkElementIndex_0 12 rfl rfl)
theorem dJ3_checkElementIndex_13 : decode cJ3_checkElementIndex 13 = .ok (.iload_n 1, 1) := dk_27 (dk_at dksJ3_checkElementIndex_0 13 rfl rfl)
theorem dJ3_checkElementIndex_14 : decode cJ3_checkElementIndex 14 = .ok (.invokevirtual 121, 3) := dk_182 0 121 (dk_at dksJ3_checkElementIndex_0 14 rfl rfl)
theorem dJ3_checkElementIndex_17 : decode cJ3_checkElementIndex 17 = .ok (.invokespecial 125, 3) := dk_183 0 125 (dk_at dksJ3_checkElementIndex_0 17 rfl rfl)
theorem dJ3_checkElementIndex_20 : decode cJ3_checkElementIndex 20 = .ok (.athrow, 1) := dk_191 (dk_at dksJ3_checkElementIndex_0 20 rfl rfl)
theorem dJ3_checkElementIndex_21 : decode cJ3_checkElementIndex 21 = .ok (.return_, 1) := dk_177 (dk_at dksJ3_checkElementIndex_0 21 rfl rfl)
abbrev cJ3_isElementIndex : ByteArray := prog_49_method_26_code
def yJ3_isElementIndex : MethodName := ⟨RJ3, "isElementIndex", "(I)Z"⟩
def dkwJ3_isElementIndex_0 : List UInt8 := [27, 155, 0, 15, 27, 42, 180, 0, 7, 162, 0, 7, 4, 167, 0, 4, 3, 172]
abbrev dktJ3_isElementIndex_0 : List UInt8 := dkwJ3_isElementIndex_0 ++ []
theorem dksJ3_isElementIndex_0 : cJ3_isElementIndex.data.toList.drop 0 = dktJ3_isElementIndex_0 := by decide +kernel
theorem dJ3_isElementIndex_0 : decode cJ3_isElementIndex 0 = .ok (.iload_n 1, 1) := dk_27 (dk_at dksJ3_isElementIndex_0 0 rfl rfl)
theorem dJ3_isElementIndex_1 : decode cJ3_isElementIndex 1 = .ok (.ifCond .lt 15, 3) := dk_155 0 15 (dk_at dksJ3_isElementIndex_0 1 rfl rfl)
theorem dJ3_isElementIndex_4 : decode cJ3_isElementIndex 4 = .ok (.iload_n 1, 1) := dk_27 (dk_at dksJ3_isElementIndex_0 4 rfl rfl)
theorem dJ3_isElementIndex_5 : decode cJ3_isElementIndex 5 = .ok (.aload_n 0, 1) := dk_42 (dk_at dksJ3_isElementIndex_0 5 rfl rfl)
theorem dJ3_isElementIndex_6 : decode cJ3_isElementIndex 6 = .ok (.getfield 7, 3) := dk_180 0 7 (dk_at dksJ3_isElementIndex_0 6 rfl rfl)
theorem dJ3_isElementIndex_9 : decode cJ3_isElementIndex 9 = .ok (.if_icmp .ge 7, 3) := dk_162 0 7 (dk_at dksJ3_isElementIndex_0 9 rfl rfl)
theorem dJ3_isElementIndex_12 : decode cJ3_isElementIndex 12 = .ok (.iconst 1, 1) := dk_4 (dk_at dksJ3_isElementIndex_0 12 rfl rfl)
theorem dJ3_isElementIndex_13 : decode cJ3_isElementIndex 13 = .ok (.goto 4, 3) := dk_167 0 4 (dk_at dksJ3_isElementIndex_0 13 rfl rfl)
theorem dJ3_isElementIndex_16 : decode cJ3_isElementIndex 16 = .ok (.iconst 0, 1) := dk_3 (dk_at dksJ3_isElementIndex_0 16 rfl rfl)
theorem dJ3_isElementIndex_17 : decode cJ3_isElementIndex 17 = .ok (.ireturn, 1) := dk_172 (dk_at dksJ3_isElementIndex_0 17 rfl rfl)
abbrev cJ3_node : ByteArray := prog_49_method_31_code
def yJ3_node : MethodName := ⟨RJ3, "node", "(I)Ljava/util/LinkedList$Node;"⟩
def dkwJ3_node_2 : List UInt8 := [29, 27, 164, 0, 14, 44, 180, 0, 30, 77, 132, 3, 255, 167, 255, 243, 44, 176]
abbrev dktJ3_node_2 : List UInt8 := dkwJ3_node_2 ++ []
def dkwJ3_node_1 : List UInt8 := [180, 0, 36, 77, 132, 3, 1, 167, 255, 243, 44, 176, 42, 180, 0, 27, 77, 42, 180, 0, 7, 4, 100, 62]
abbrev dktJ3_node_1 : List UInt8 := dkwJ3_node_1 ++ dktJ3_node_2
def dkwJ3_node_0 : List UInt8 := [27, 42, 180, 0, 7, 4, 122, 162, 0, 28, 42, 180, 0, 18, 77, 3, 62, 29, 27, 162, 0, 14, 44]
abbrev dktJ3_node_0 : List UInt8 := dkwJ3_node_0 ++ dktJ3_node_1
theorem dksJ3_node_0 : cJ3_node.data.toList.drop 0 = dktJ3_node_0 := by decide +kernel
theorem dksJ3_node_1 : cJ3_node.data.toList.drop 23 = dktJ3_node_1 := dk_seg dksJ3_node_0 23 rfl rfl
theorem dksJ3_node_2 : cJ3_node.data.toList.drop 47 = dktJ3_node_2 := dk_seg dksJ3_node_1 24 rfl rfl
theorem dJ3_node_0 : decode cJ3_node 0 = .ok (.iload_n 1, 1) := dk_27 (dk_at dksJ3_node_0 0 rfl rfl)
theorem dJ3_node_1 : decode cJ3_node 1 = .ok (.aload_n 0, 1) := dk_42 (dk_at dksJ3_node_0 1 rfl rfl)
theorem dJ3_node_2 : decode cJ3_node 2 = .ok (.getfield 7, 3) := dk_180 0 7 (dk_at dksJ3_node_0 2 rfl rfl)
theorem dJ3_node_5 : decode cJ3_node 5 = .ok (.iconst 1, 1) := dk_4 (dk_at dksJ3_node_0 5 rfl rfl)
theorem dJ3_node_6 : decode cJ3_node 6 = .ok (.ishr, 1) := dk_122 (dk_at dksJ3_node_0 6 rfl rfl)
theorem dJ3_node_7 : decode cJ3_node 7 = .ok (.if_icmp .ge 28, 3) := dk_162 0 28 (dk_at dksJ3_node_0 7 rfl rfl)
theorem dJ3_node_10 : decode cJ3_node 10 = .ok (.aload_n 0, 1) := dk_42 (dk_at dksJ3_node_0 10 rfl rfl)
theorem dJ3_node_11 : decode cJ3_node 11 = .ok (.getfield 18, 3) := dk_180 0 18 (dk_at dksJ3_node_0 11 rfl rfl)
theorem dJ3_node_14 : decode cJ3_node 14 = .ok (.astore_n 2, 1) := dk_77 (dk_at dksJ3_node_0 14 rfl rfl)
theorem dJ3_node_15 : decode cJ3_node 15 = .ok (.iconst 0, 1) := dk_3 (dk_at dksJ3_node_0 15 rfl rfl)
theorem dJ3_node_16 : decode cJ3_node 16 = .ok (.istore_n 3, 1) := dk_62 (dk_at dksJ3_node_0 16 rfl rfl)
theorem dJ3_node_17 : decode cJ3_node 17 = .ok (.iload_n 3, 1) := dk_29 (dk_at dksJ3_node_0 17 rfl rfl)
theorem dJ3_node_18 : decode cJ3_node 18 = .ok (.iload_n 1, 1) := dk_27 (dk_at dksJ3_node_0 18 rfl rfl)
theorem dJ3_node_19 : decode cJ3_node 19 = .ok (.if_icmp .ge 14, 3) := dk_162 0 14 (dk_at dksJ3_node_0 19 rfl rfl)
theorem dJ3_node_22 : decode cJ3_node 22 = .ok (.aload_n 2, 1) := dk_44 (dk_at dksJ3_node_0 22 rfl rfl)
theorem dJ3_node_23 : decode cJ3_node 23 = .ok (.getfield 36, 3) := dk_180 0 36 (dk_at dksJ3_node_1 0 rfl rfl)
theorem dJ3_node_26 : decode cJ3_node 26 = .ok (.astore_n 2, 1) := dk_77 (dk_at dksJ3_node_1 3 rfl rfl)
theorem dJ3_node_27 : decode cJ3_node 27 = .ok (.iinc 3 1, 3) := dk_132 3 1 (dk_at dksJ3_node_1 4 rfl rfl)
theorem dJ3_node_30 : decode cJ3_node 30 = .ok (.goto (-13), 3) := dk_167 255 243 (dk_at dksJ3_node_1 7 rfl rfl)
theorem dJ3_node_33 : decode cJ3_node 33 = .ok (.aload_n 2, 1) := dk_44 (dk_at dksJ3_node_1 10 rfl rfl)
theorem dJ3_node_34 : decode cJ3_node 34 = .ok (.areturn, 1) := dk_176 (dk_at dksJ3_node_1 11 rfl rfl)
theorem dJ3_node_35 : decode cJ3_node 35 = .ok (.aload_n 0, 1) := dk_42 (dk_at dksJ3_node_1 12 rfl rfl)
theorem dJ3_node_36 : decode cJ3_node 36 = .ok (.getfield 27, 3) := dk_180 0 27 (dk_at dksJ3_node_1 13 rfl rfl)
theorem dJ3_node_39 : decode cJ3_node 39 = .ok (.astore_n 2, 1) := dk_77 (dk_at dksJ3_node_1 16 rfl rfl)
theorem dJ3_node_40 : decode cJ3_node 40 = .ok (.aload_n 0, 1) := dk_42 (dk_at dksJ3_node_1 17 rfl rfl)
theorem dJ3_node_41 : decode cJ3_node 41 = .ok (.getfield 7, 3) := dk_180 0 7 (dk_at dksJ3_node_1 18 rfl rfl)
theorem dJ3_node_44 : decode cJ3_node 44 = .ok (.iconst 1, 1) := dk_4 (dk_at dksJ3_node_1 21 rfl rfl)
theorem dJ3_node_45 : decode cJ3_node 45 = .ok (.isub, 1) := dk_100 (dk_at dksJ3_node_1 22 rfl rfl)
theorem dJ3_node_46 : decode cJ3_node 46 = .ok (.istore_n 3, 1) := dk_62 (dk_at dksJ3_node_1 23 rfl rfl)
theorem dJ3_node_47 : decode cJ3_node 47 = .ok (.iload_n 3, 1) := dk_29 (dk_at dksJ3_node_2 0 rfl rfl)
theorem dJ3_node_48 : decode cJ3_node 48 = .ok (.iload_n 1, 1) := dk_27 (dk_at dksJ3_node_2 1 rfl rfl)
theorem dJ3_node_49 : decode cJ3_node 49 = .ok (.if_icmp .le 14, 3) := dk_164 0 14 (dk_at dksJ3_node_2 2 rfl rfl)
theorem dJ3_node_52 : decode cJ3_node 52 = .ok (.aload_n 2, 1) := dk_44 (dk_at dksJ3_node_2 5 rfl rfl)
theorem dJ3_node_53 : decode cJ3_node 53 = .ok (.getfield 30, 3) := dk_180 0 30 (dk_at dksJ3_node_2 6 rfl rfl)
theorem dJ3_node_56 : decode cJ3_node 56 = .ok (.astore_n 2, 1) := dk_77 (dk_at dksJ3_node_2 9 rfl rfl)
theorem dJ3_node_57 : decode cJ3_node 57 = .ok (.iinc 3 (-1), 3) := dk_132 3 255 (dk_at dksJ3_node_2 10 rfl rfl)
theorem dJ3_node_60 : decode cJ3_node 60 = .ok (.goto (-13), 3) := dk_167 255 243 (dk_at dksJ3_node_2 13 rfl rfl)
theorem dJ3_node_63 : decode cJ3_node 63 = .ok (.aload_n 2, 1) := dk_44 (dk_at dksJ3_node_2 16 rfl rfl)
theorem dJ3_node_64 : decode cJ3_node 64 = .ok (.areturn, 1) := dk_176 (dk_at dksJ3_node_2 17 rfl rfl)
abbrev cJ3_clear : ByteArray := prog_49_method_21_code
def yJ3_clear : MethodName := ⟨RJ3, "clear", "()V"⟩
def dkwJ3_clear_2 : List UInt8 := [181, 0, 7, 42, 89, 180, 0, 33, 4, 96, 181, 0, 33, 177]
abbrev dktJ3_clear_2 : List UInt8 := dkwJ3_clear_2 ++ []
def dkwJ3_clear_1 : List UInt8 := [43, 1, 181, 0, 30, 44, 76, 167, 255, 230, 42, 42, 1, 90, 181, 0, 27, 181, 0, 18, 42, 3]
abbrev dktJ3_clear_1 : List UInt8 := dkwJ3_clear_1 ++ dktJ3_clear_2
def dkwJ3_clear_0 : List UInt8 := [42, 180, 0, 18, 76, 43, 198, 0, 28, 43, 180, 0, 36, 77, 43, 1, 181, 0, 39, 43, 1, 181, 0, 36]
abbrev dktJ3_clear_0 : List UInt8 := dkwJ3_clear_0 ++ dktJ3_clear_1
theorem dksJ3_clear_0 : cJ3_clear.data.toList.drop 0 = dktJ3_clear_0 := by decide +kernel
theorem dksJ3_clear_1 : cJ3_clear.data.toList.drop 24 = dktJ3_clear_1 := dk_seg dksJ3_clear_0 24 rfl rfl
theorem dksJ3_clear_2 : cJ3_clear.data.toList.drop 46 = dktJ3_clear_2 := dk_seg dksJ3_clear_1 22 rfl rfl
theorem dJ3_clear_0 : decode cJ3_clear 0 = .ok (.aload_n 0, 1) := dk_42 (dk_at dksJ3_clear_0 0 rfl rfl)
theorem dJ3_clear_1 : decode cJ3_clear 1 = .ok (.getfield 18, 3) := dk_180 0 18 (dk_at dksJ3_clear_0 1 rfl rfl)
theorem dJ3_clear_4 : decode cJ3_clear 4 = .ok (.astore_n 1, 1) := dk_76 (dk_at dksJ3_clear_0 4 rfl rfl)
theorem dJ3_clear_5 : decode cJ3_clear 5 = .ok (.aload_n 1, 1) := dk_43 (dk_at dksJ3_clear_0 5 rfl rfl)
theorem dJ3_clear_6 : decode cJ3_clear 6 = .ok (.ifnull 28, 3) := dk_198 0 28 (dk_at dksJ3_clear_0 6 rfl rfl)
theorem dJ3_clear_9 : decode cJ3_clear 9 = .ok (.aload_n 1, 1) := dk_43 (dk_at dksJ3_clear_0 9 rfl rfl)
theorem dJ3_clear_10 : decode cJ3_clear 10 = .ok (.getfield 36, 3) := dk_180 0 36 (dk_at dksJ3_clear_0 10 rfl rfl)
theorem dJ3_clear_13 : decode cJ3_clear 13 = .ok (.astore_n 2, 1) := dk_77 (dk_at dksJ3_clear_0 13 rfl rfl)
theorem dJ3_clear_14 : decode cJ3_clear 14 = .ok (.aload_n 1, 1) := dk_43 (dk_at dksJ3_clear_0 14 rfl rfl)
theorem dJ3_clear_15 : decode cJ3_clear 15 = .ok (.aconst_null, 1) := dk_1 (dk_at dksJ3_clear_0 15 rfl rfl)
theorem dJ3_clear_16 : decode cJ3_clear 16 = .ok (.putfield 39, 3) := dk_181 0 39 (dk_at dksJ3_clear_0 16 rfl rfl)
theorem dJ3_clear_19 : decode cJ3_clear 19 = .ok (.aload_n 1, 1) := dk_43 (dk_at dksJ3_clear_0 19 rfl rfl)
theorem dJ3_clear_20 : decode cJ3_clear 20 = .ok (.aconst_null, 1) := dk_1 (dk_at dksJ3_clear_0 20 rfl rfl)
theorem dJ3_clear_21 : decode cJ3_clear 21 = .ok (.putfield 36, 3) := dk_181 0 36 (dk_at dksJ3_clear_0 21 rfl rfl)
theorem dJ3_clear_24 : decode cJ3_clear 24 = .ok (.aload_n 1, 1) := dk_43 (dk_at dksJ3_clear_1 0 rfl rfl)
theorem dJ3_clear_25 : decode cJ3_clear 25 = .ok (.aconst_null, 1) := dk_1 (dk_at dksJ3_clear_1 1 rfl rfl)
theorem dJ3_clear_26 : decode cJ3_clear 26 = .ok (.putfield 30, 3) := dk_181 0 30 (dk_at dksJ3_clear_1 2 rfl rfl)
theorem dJ3_clear_29 : decode cJ3_clear 29 = .ok (.aload_n 2, 1) := dk_44 (dk_at dksJ3_clear_1 5 rfl rfl)
theorem dJ3_clear_30 : decode cJ3_clear 30 = .ok (.astore_n 1, 1) := dk_76 (dk_at dksJ3_clear_1 6 rfl rfl)
theorem dJ3_clear_31 : decode cJ3_clear 31 = .ok (.goto (-26), 3) := dk_167 255 230 (dk_at dksJ3_clear_1 7 rfl rfl)
theorem dJ3_clear_34 : decode cJ3_clear 34 = .ok (.aload_n 0, 1) := dk_42 (dk_at dksJ3_clear_1 10 rfl rfl)
theorem dJ3_clear_35 : decode cJ3_clear 35 = .ok (.aload_n 0, 1) := dk_42 (dk_at dksJ3_clear_1 11 rfl rfl)
theorem dJ3_clear_36 : decode cJ3_clear 36 = .ok (.aconst_null, 1) := dk_1 (dk_at dksJ3_clear_1 12 rfl rfl)
theorem dJ3_clear_37 : decode cJ3_clear 37 = .ok (.dup_x1, 1) := dk_90 (dk_at dksJ3_clear_1 13 rfl rfl)
theorem dJ3_clear_38 : decode cJ3_clear 38 = .ok (.putfield 27, 3) := dk_181 0 27 (dk_at dksJ3_clear_1 14 rfl rfl)
theorem dJ3_clear_41 : decode cJ3_clear 41 = .ok (.putfield 18, 3) := dk_181 0 18 (dk_at dksJ3_clear_1 17 rfl rfl)
theorem dJ3_clear_44 : decode cJ3_clear 44 = .ok (.aload_n 0, 1) := dk_42 (dk_at dksJ3_clear_1 20 rfl rfl)
theorem dJ3_clear_45 : decode cJ3_clear 45 = .ok (.iconst 0, 1) := dk_3 (dk_at dksJ3_clear_1 21 rfl rfl)
theorem dJ3_clear_46 : decode cJ3_clear 46 = .ok (.putfield 7, 3) := dk_181 0 7 (dk_at dksJ3_clear_2 0 rfl rfl)
theorem dJ3_clear_49 : decode cJ3_clear 49 = .ok (.aload_n 0, 1) := dk_42 (dk_at dksJ3_clear_2 3 rfl rfl)
theorem dJ3_clear_50 : decode cJ3_clear 50 = .ok (.dup, 1) := dk_89 (dk_at dksJ3_clear_2 4 rfl rfl)
theorem dJ3_clear_51 : decode cJ3_clear 51 = .ok (.getfield 33, 3) := dk_180 0 33 (dk_at dksJ3_clear_2 5 rfl rfl)
theorem dJ3_clear_54 : decode cJ3_clear 54 = .ok (.iconst 1, 1) := dk_4 (dk_at dksJ3_clear_2 8 rfl rfl)
theorem dJ3_clear_55 : decode cJ3_clear 55 = .ok (.iadd, 1) := dk_96 (dk_at dksJ3_clear_2 9 rfl rfl)
theorem dJ3_clear_56 : decode cJ3_clear 56 = .ok (.putfield 33, 3) := dk_181 0 33 (dk_at dksJ3_clear_2 10 rfl rfl)
theorem dJ3_clear_59 : decode cJ3_clear 59 = .ok (.return_, 1) := dk_177 (dk_at dksJ3_clear_2 13 rfl rfl)
abbrev cJ3_listIterator : ByteArray := prog_49_method_49_code
def yJ3_listIterator : MethodName := ⟨RJ3, "listIterator", "(I)Ljava/util/ListIterator;"⟩
def dkwJ3_listIterator_0 : List UInt8 := [42, 27, 182, 0, 76, 187, 0, 150, 89, 42, 27, 183, 0, 152, 176]
abbrev dktJ3_listIterator_0 : List UInt8 := dkwJ3_listIterator_0 ++ []
theorem dksJ3_listIterator_0 : cJ3_listIterator.data.toList.drop 0 = dktJ3_listIterator_0 := by decide +kernel
theorem dJ3_listIterator_0 : decode cJ3_listIterator 0 = .ok (.aload_n 0, 1) := dk_42 (dk_at dksJ3_listIterator_0 0 rfl rfl)
theorem dJ3_listIterator_1 : decode cJ3_listIterator 1 = .ok (.iload_n 1, 1) := dk_27 (dk_at dksJ3_listIterator_0 1 rfl rfl)
theorem dJ3_listIterator_2 : decode cJ3_listIterator 2 = .ok (.invokevirtual 76, 3) := dk_182 0 76 (dk_at dksJ3_listIterator_0 2 rfl rfl)
theorem dJ3_listIterator_5 : decode cJ3_listIterator 5 = .ok (.new 150, 3) := dk_187 0 150 (dk_at dksJ3_listIterator_0 5 rfl rfl)
theorem dJ3_listIterator_8 : decode cJ3_listIterator 8 = .ok (.dup, 1) := dk_89 (dk_at dksJ3_listIterator_0 8 rfl rfl)
theorem dJ3_listIterator_9 : decode cJ3_listIterator 9 = .ok (.aload_n 0, 1) := dk_42 (dk_at dksJ3_listIterator_0 9 rfl rfl)
theorem dJ3_listIterator_10 : decode cJ3_listIterator 10 = .ok (.iload_n 1, 1) := dk_27 (dk_at dksJ3_listIterator_0 10 rfl rfl)
theorem dJ3_listIterator_11 : decode cJ3_listIterator 11 = .ok (.invokespecial 152, 3) := dk_183 0 152 (dk_at dksJ3_listIterator_0 11 rfl rfl)
theorem dJ3_listIterator_14 : decode cJ3_listIterator 14 = .ok (.areturn, 1) := dk_176 (dk_at dksJ3_listIterator_0 14 rfl rfl)
abbrev cJ3_checkPositionIndex : ByteArray := prog_49_method_30_code
def yJ3_checkPositionIndex : MethodName := ⟨RJ3, "checkPositionIndex", "(I)V"⟩
def dkwJ3_checkPositionIndex_0 : List UInt8 := [42, 27, 182, 0, 128, 154, 0, 16, 187, 0, 119, 89, 42, 27, 182, 0, 121, 183, 0, 125, 191, 177]
abbrev dktJ3_checkPositionIndex_0 : List UInt8 := dkwJ3_checkPositionIndex_0 ++ []
theorem dksJ3_checkPositionIndex_0 : cJ3_checkPositionIndex.data.toList.drop 0 = dktJ3_checkPositionIndex_0 := by decide +kernel
theorem dJ3_checkPositionIndex_0 : decode cJ3_checkPositionIndex 0 = .ok (.aload_n 0, 1) := dk_42 (dk_at dksJ3_checkPositionIndex_0 0 rfl rfl)
theorem dJ3_checkPositionIndex_1 : decode cJ3_checkPositionIndex 1 = .ok (.iload_n 1, 1) := dk_27 (dk_at dksJ3_checkPositionIndex_0 1 rfl rfl)
theorem dJ3_checkPositionIndex_2 : decode cJ3_checkPositionIndex 2 = .ok (.invokevirtual 128, 3) := dk_182 0 128 (dk_at dksJ3_checkPositionIndex_0 2 rfl rfl)
theorem dJ3_checkPositionIndex_5 : decode cJ3_checkPositionIndex 5 = .ok (.ifCond .ne 16, 3) := dk_154 0 16 (dk_at dksJ3_checkPositionIndex_0 5 rfl rfl)
theorem dJ3_checkPositionIndex_8 : decode cJ3_checkPositionIndex 8 = .ok (.new 119, 3) := dk_187 0 119 (dk_at dksJ3_checkPositionIndex_0 8 rfl rfl)
theorem dJ3_checkPositionIndex_11 : decode cJ3_checkPositionIndex 11 = .ok (.dup, 1) := dk_89 (dk_at dksJ3_checkPositionIndex_0 11 rfl rfl)
theorem dJ3_checkPositionIndex_12 : decode cJ3_checkPositionIndex 12 = .ok (.aload_n 0, 1) := dk_42 (dk_at dksJ3_checkPositionIndex_0 12 rfl rfl)
theorem dJ3_checkPositionIndex_13 : decode cJ3_checkPositionIndex 13 = .ok (.iload_n 1, 1) := dk_27 (dk_at dksJ3_checkPositionIndex_0 13 rfl rfl)
theorem dJ3_checkPositionIndex_14 : decode cJ3_checkPositionIndex 14 = .ok (.invokevirtual 121, 3) := dk_182 0 121 (dk_at dksJ3_checkPositionIndex_0 14 rfl rfl)
theorem dJ3_checkPositionIndex_17 : decode cJ3_checkPositionIndex 17 = .ok (.invokespecial 125, 3) := dk_183 0 125 (dk_at dksJ3_checkPositionIndex_0 17 rfl rfl)
theorem dJ3_checkPositionIndex_20 : decode cJ3_checkPositionIndex 20 = .ok (.athrow, 1) := dk_191 (dk_at dksJ3_checkPositionIndex_0 20 rfl rfl)
theorem dJ3_checkPositionIndex_21 : decode cJ3_checkPositionIndex 21 = .ok (.return_, 1) := dk_177 (dk_at dksJ3_checkPositionIndex_0 21 rfl rfl)
abbrev cJ3_isPositionIndex : ByteArray := prog_49_method_27_code
def yJ3_isPositionIndex : MethodName := ⟨RJ3, "isPositionIndex", "(I)Z"⟩
def dkwJ3_isPositionIndex_0 : List UInt8 := [27, 155, 0, 15, 27, 42, 180, 0, 7, 163, 0, 7, 4, 167, 0, 4, 3, 172]
abbrev dktJ3_isPositionIndex_0 : List UInt8 := dkwJ3_isPositionIndex_0 ++ []
theorem dksJ3_isPositionIndex_0 : cJ3_isPositionIndex.data.toList.drop 0 = dktJ3_isPositionIndex_0 := by decide +kernel
theorem dJ3_isPositionIndex_0 : decode cJ3_isPositionIndex 0 = .ok (.iload_n 1, 1) := dk_27 (dk_at dksJ3_isPositionIndex_0 0 rfl rfl)
theorem dJ3_isPositionIndex_1 : decode cJ3_isPositionIndex 1 = .ok (.ifCond .lt 15, 3) := dk_155 0 15 (dk_at dksJ3_isPositionIndex_0 1 rfl rfl)
theorem dJ3_isPositionIndex_4 : decode cJ3_isPositionIndex 4 = .ok (.iload_n 1, 1) := dk_27 (dk_at dksJ3_isPositionIndex_0 4 rfl rfl)
theorem dJ3_isPositionIndex_5 : decode cJ3_isPositionIndex 5 = .ok (.aload_n 0, 1) := dk_42 (dk_at dksJ3_isPositionIndex_0 5 rfl rfl)
theorem dJ3_isPositionIndex_6 : decode cJ3_isPositionIndex 6 = .ok (.getfield 7, 3) := dk_180 0 7 (dk_at dksJ3_isPositionIndex_0 6 rfl rfl)
theorem dJ3_isPositionIndex_9 : decode cJ3_isPositionIndex 9 = .ok (.if_icmp .gt 7, 3) := dk_163 0 7 (dk_at dksJ3_isPositionIndex_0 9 rfl rfl)
theorem dJ3_isPositionIndex_12 : decode cJ3_isPositionIndex 12 = .ok (.iconst 1, 1) := dk_4 (dk_at dksJ3_isPositionIndex_0 12 rfl rfl)
theorem dJ3_isPositionIndex_13 : decode cJ3_isPositionIndex 13 = .ok (.goto 4, 3) := dk_167 0 4 (dk_at dksJ3_isPositionIndex_0 13 rfl rfl)
theorem dJ3_isPositionIndex_16 : decode cJ3_isPositionIndex 16 = .ok (.iconst 0, 1) := dk_3 (dk_at dksJ3_isPositionIndex_0 16 rfl rfl)
theorem dJ3_isPositionIndex_17 : decode cJ3_isPositionIndex 17 = .ok (.ireturn, 1) := dk_172 (dk_at dksJ3_isPositionIndex_0 17 rfl rfl)
abbrev cJ3_remove : ByteArray := prog_49_method_25_code
def yJ3_remove : MethodName := ⟨RJ3, "remove", "(I)Ljava/lang/Object;"⟩
def dkwJ3_remove_0 : List UInt8 := [42, 27, 182, 0, 90, 42, 42, 27, 182, 0, 86, 182, 0, 64, 176]
abbrev dktJ3_remove_0 : List UInt8 := dkwJ3_remove_0 ++ []
theorem dksJ3_remove_0 : cJ3_remove.data.toList.drop 0 = dktJ3_remove_0 := by decide +kernel
theorem dJ3_remove_0 : decode cJ3_remove 0 = .ok (.aload_n 0, 1) := dk_42 (dk_at dksJ3_remove_0 0 rfl rfl)
theorem dJ3_remove_1 : decode cJ3_remove 1 = .ok (.iload_n 1, 1) := dk_27 (dk_at dksJ3_remove_0 1 rfl rfl)
theorem dJ3_remove_2 : decode cJ3_remove 2 = .ok (.invokevirtual 90, 3) := dk_182 0 90 (dk_at dksJ3_remove_0 2 rfl rfl)
theorem dJ3_remove_5 : decode cJ3_remove 5 = .ok (.aload_n 0, 1) := dk_42 (dk_at dksJ3_remove_0 5 rfl rfl)
theorem dJ3_remove_6 : decode cJ3_remove 6 = .ok (.aload_n 0, 1) := dk_42 (dk_at dksJ3_remove_0 6 rfl rfl)
theorem dJ3_remove_7 : decode cJ3_remove 7 = .ok (.iload_n 1, 1) := dk_27 (dk_at dksJ3_remove_0 7 rfl rfl)
theorem dJ3_remove_8 : decode cJ3_remove 8 = .ok (.invokevirtual 86, 3) := dk_182 0 86 (dk_at dksJ3_remove_0 8 rfl rfl)
theorem dJ3_remove_11 : decode cJ3_remove 11 = .ok (.invokevirtual 64, 3) := dk_182 0 64 (dk_at dksJ3_remove_0 11 rfl rfl)
theorem dJ3_remove_14 : decode cJ3_remove 14 = .ok (.areturn, 1) := dk_176 (dk_at dksJ3_remove_0 14 rfl rfl)
abbrev cJ3_unlink : ByteArray := prog_49_method_8_code
def yJ3_unlink : MethodName := ⟨RJ3, "unlink", "(Ljava/util/LinkedList$Node;)Ljava/lang/Object;"⟩
def dkwJ3_unlink_3 : List UInt8 := [180, 0, 7, 4, 100, 181, 0, 7, 42, 89, 180, 0, 33, 4, 96, 181, 0, 33, 44, 176]
abbrev dktJ3_unlink_3 : List UInt8 := dkwJ3_unlink_3 ++ []
def dkwJ3_unlink_2 : List UInt8 := [181, 0, 27, 167, 0, 14, 45, 25, 4, 181, 0, 30, 43, 1, 181, 0, 36, 43, 1, 181, 0, 39, 42, 89]
abbrev dktJ3_unlink_2 : List UInt8 := dkwJ3_unlink_2 ++ dktJ3_unlink_3
def dkwJ3_unlink_1 : List UInt8 := [181, 0, 18, 167, 0, 14, 25, 4, 45, 181, 0, 36, 43, 1, 181, 0, 30, 45, 199, 0, 12, 42, 25, 4]
abbrev dktJ3_unlink_1 : List UInt8 := dkwJ3_unlink_1 ++ dktJ3_unlink_2
def dkwJ3_unlink_0 : List UInt8 := [43, 180, 0, 39, 77, 43, 180, 0, 36, 78, 43, 180, 0, 30, 58, 4, 25, 4, 199, 0, 11, 42, 45]
abbrev dktJ3_unlink_0 : List UInt8 := dkwJ3_unlink_0 ++ dktJ3_unlink_1
theorem dksJ3_unlink_0 : cJ3_unlink.data.toList.drop 0 = dktJ3_unlink_0 := by decide +kernel
theorem dksJ3_unlink_1 : cJ3_unlink.data.toList.drop 23 = dktJ3_unlink_1 := dk_seg dksJ3_unlink_0 23 rfl rfl
theorem dksJ3_unlink_2 : cJ3_unlink.data.toList.drop 47 = dktJ3_unlink_2 := dk_seg dksJ3_unlink_1 24 rfl rfl
theorem dksJ3_unlink_3 : cJ3_unlink.data.toList.drop 71 = dktJ3_unlink_3 := dk_seg dksJ3_unlink_2 24 rfl rfl
theorem dJ3_unlink_0 : decode cJ3_unlink 0 = .ok (.aload_n 1, 1) := dk_43 (dk_at dksJ3_unlink_0 0 rfl rfl)
theorem dJ3_unlink_1 : decode cJ3_unlink 1 = .ok (.getfield 39, 3) := dk_180 0 39 (dk_at dksJ3_unlink_0 1 rfl rfl)
theorem dJ3_unlink_4 : decode cJ3_unlink 4 = .ok (.astore_n 2, 1) := dk_77 (dk_at dksJ3_unlink_0 4 rfl rfl)
theorem dJ3_unlink_5 : decode cJ3_unlink 5 = .ok (.aload_n 1, 1) := dk_43 (dk_at dksJ3_unlink_0 5 rfl rfl)
theorem dJ3_unlink_6 : decode cJ3_unlink 6 = .ok (.getfield 36, 3) := dk_180 0 36 (dk_at dksJ3_unlink_0 6 rfl rfl)
theorem dJ3_unlink_9 : decode cJ3_unlink 9 = .ok (.astore_n 3, 1) := dk_78 (dk_at dksJ3_unlink_0 9 rfl rfl)
theorem dJ3_unlink_10 : decode cJ3_unlink 10 = .ok (.aload_n 1, 1) := dk_43 (dk_at dksJ3_unlink_0 10 rfl rfl)
theorem dJ3_unlink_11 : decode cJ3_unlink 11 = .ok (.getfield 30, 3) := dk_180 0 30 (dk_at dksJ3_unlink_0 11 rfl rfl)
theorem dJ3_unlink_14 : decode cJ3_unlink 14 = .ok (.astore 4, 2) := dk_58 4 (dk_at dksJ3_unlink_0 14 rfl rfl)
theorem dJ3_unlink_16 : decode cJ3_unlink 16 = .ok (.aload 4, 2) := dk_25 4 (dk_at dksJ3_unlink_0 16 rfl rfl)
theorem dJ3_unlink_18 : decode cJ3_unlink 18 = .ok (.ifnonnull 11, 3) := dk_199 0 11 (dk_at dksJ3_unlink_0 18 rfl rfl)
theorem dJ3_unlink_21 : decode cJ3_unlink 21 = .ok (.aload_n 0, 1) := dk_42 (dk_at dksJ3_unlink_0 21 rfl rfl)
theorem dJ3_unlink_22 : decode cJ3_unlink 22 = .ok (.aload_n 3, 1) := dk_45 (dk_at dksJ3_unlink_0 22 rfl rfl)
theorem dJ3_unlink_23 : decode cJ3_unlink 23 = .ok (.putfield 18, 3) := dk_181 0 18 (dk_at dksJ3_unlink_1 0 rfl rfl)
theorem dJ3_unlink_26 : decode cJ3_unlink 26 = .ok (.goto 14, 3) := dk_167 0 14 (dk_at dksJ3_unlink_1 3 rfl rfl)
theorem dJ3_unlink_29 : decode cJ3_unlink 29 = .ok (.aload 4, 2) := dk_25 4 (dk_at dksJ3_unlink_1 6 rfl rfl)
theorem dJ3_unlink_31 : decode cJ3_unlink 31 = .ok (.aload_n 3, 1) := dk_45 (dk_at dksJ3_unlink_1 8 rfl rfl)
theorem dJ3_unlink_32 : decode cJ3_unlink 32 = .ok (.putfield 36, 3) := dk_181 0 36 (dk_at dksJ3_unlink_1 9 rfl rfl)
theorem dJ3_unlink_35 : decode cJ3_unlink 35 = .ok (.aload_n 1, 1) := dk_43 (dk_at dksJ3_unlink_1 12 rfl rfl)
theorem dJ3_unlink_36 : decode cJ3_unlink 36 = .ok (.aconst_null, 1) := dk_1 (dk_at dksJ3_unlink_1 13 rfl rfl)
theorem dJ3_unlink_37 : decode cJ3_unlink 37 = .ok (.putfield 30, 3) := dk_181 0 30 (dk_at dksJ3_unlink_1 14 rfl rfl)
theorem dJ3_unlink_40 : decode cJ3_unlink 40 = .ok (.aload_n 3, 1) := dk_45 (dk_at dksJ3_unlink_1 17 rfl rfl)
theorem dJ3_unlink_41 : decode cJ3_unlink 41 = .ok (.ifnonnull 12, 3) := dk_199 0 12 (dk_at dksJ3_unlink_1 18 rfl rfl)
theorem dJ3_unlink_44 : decode cJ3_unlink 44 = .ok (.aload_n 0, 1) := dk_42 (dk_at dksJ3_unlink_1 21 rfl rfl)
theorem dJ3_unlink_45 : decode cJ3_unlink 45 = .ok (.aload 4, 2) := dk_25 4 (dk_at dksJ3_unlink_1 22 rfl rfl)
theorem dJ3_unlink_47 : decode cJ3_unlink 47 = .ok (.putfield 27, 3) := dk_181 0 27 (dk_at dksJ3_unlink_2 0 rfl rfl)
theorem dJ3_unlink_50 : decode cJ3_unlink 50 = .ok (.goto 14, 3) := dk_167 0 14 (dk_at dksJ3_unlink_2 3 rfl rfl)
theorem dJ3_unlink_53 : decode cJ3_unlink 53 = .ok (.aload_n 3, 1) := dk_45 (dk_at dksJ3_unlink_2 6 rfl rfl)
theorem dJ3_unlink_54 : decode cJ3_unlink 54 = .ok (.aload 4, 2) := dk_25 4 (dk_at dksJ3_unlink_2 7 rfl rfl)
theorem dJ3_unlink_56 : decode cJ3_unlink 56 = .ok (.putfield 30, 3) := dk_181 0 30 (dk_at dksJ3_unlink_2 9 rfl rfl)
theorem dJ3_unlink_59 : decode cJ3_unlink 59 = .ok (.aload_n 1, 1) := dk_43 (dk_at dksJ3_unlink_2 12 rfl rfl)
theorem dJ3_unlink_60 : decode cJ3_unlink 60 = .ok (.aconst_null, 1) := dk_1 (dk_at dksJ3_unlink_2 13 rfl rfl)
theorem dJ3_unlink_61 : decode cJ3_unlink 61 = .ok (.putfield 36, 3) := dk_181 0 36 (dk_at dksJ3_unlink_2 14 rfl rfl)
theorem dJ3_unlink_64 : decode cJ3_unlink 64 = .ok (.aload_n 1, 1) := dk_43 (dk_at dksJ3_unlink_2 17 rfl rfl)
theorem dJ3_unlink_65 : decode cJ3_unlink 65 = .ok (.aconst_null, 1) := dk_1 (dk_at dksJ3_unlink_2 18 rfl rfl)
theorem dJ3_unlink_66 : decode cJ3_unlink 66 = .ok (.putfield 39, 3) := dk_181 0 39 (dk_at dksJ3_unlink_2 19 rfl rfl)
theorem dJ3_unlink_69 : decode cJ3_unlink 69 = .ok (.aload_n 0, 1) := dk_42 (dk_at dksJ3_unlink_2 22 rfl rfl)
theorem dJ3_unlink_70 : decode cJ3_unlink 70 = .ok (.dup, 1) := dk_89 (dk_at dksJ3_unlink_2 23 rfl rfl)
theorem dJ3_unlink_71 : decode cJ3_unlink 71 = .ok (.getfield 7, 3) := dk_180 0 7 (dk_at dksJ3_unlink_3 0 rfl rfl)
theorem dJ3_unlink_74 : decode cJ3_unlink 74 = .ok (.iconst 1, 1) := dk_4 (dk_at dksJ3_unlink_3 3 rfl rfl)
theorem dJ3_unlink_75 : decode cJ3_unlink 75 = .ok (.isub, 1) := dk_100 (dk_at dksJ3_unlink_3 4 rfl rfl)
theorem dJ3_unlink_76 : decode cJ3_unlink 76 = .ok (.putfield 7, 3) := dk_181 0 7 (dk_at dksJ3_unlink_3 5 rfl rfl)
theorem dJ3_unlink_79 : decode cJ3_unlink 79 = .ok (.aload_n 0, 1) := dk_42 (dk_at dksJ3_unlink_3 8 rfl rfl)
theorem dJ3_unlink_80 : decode cJ3_unlink 80 = .ok (.dup, 1) := dk_89 (dk_at dksJ3_unlink_3 9 rfl rfl)
theorem dJ3_unlink_81 : decode cJ3_unlink 81 = .ok (.getfield 33, 3) := dk_180 0 33 (dk_at dksJ3_unlink_3 10 rfl rfl)
theorem dJ3_unlink_84 : decode cJ3_unlink 84 = .ok (.iconst 1, 1) := dk_4 (dk_at dksJ3_unlink_3 13 rfl rfl)
theorem dJ3_unlink_85 : decode cJ3_unlink 85 = .ok (.iadd, 1) := dk_96 (dk_at dksJ3_unlink_3 14 rfl rfl)
theorem dJ3_unlink_86 : decode cJ3_unlink 86 = .ok (.putfield 33, 3) := dk_181 0 33 (dk_at dksJ3_unlink_3 15 rfl rfl)
theorem dJ3_unlink_89 : decode cJ3_unlink 89 = .ok (.aload_n 2, 1) := dk_44 (dk_at dksJ3_unlink_3 18 rfl rfl)
theorem dJ3_unlink_90 : decode cJ3_unlink 90 = .ok (.areturn, 1) := dk_176 (dk_at dksJ3_unlink_3 19 rfl rfl)
abbrev cJ3_getFirst : ByteArray := prog_49_method_9_code
def yJ3_getFirst : MethodName := ⟨RJ3, "getFirst", "()Ljava/lang/Object;"⟩
def dkwJ3_getFirst_0 : List UInt8 := [42, 180, 0, 18, 76, 43, 199, 0, 11, 187, 0, 43, 89, 183, 0, 45, 191, 43, 180, 0, 39, 176]
abbrev dktJ3_getFirst_0 : List UInt8 := dkwJ3_getFirst_0 ++ []
theorem dksJ3_getFirst_0 : cJ3_getFirst.data.toList.drop 0 = dktJ3_getFirst_0 := by decide +kernel
theorem dJ3_getFirst_0 : decode cJ3_getFirst 0 = .ok (.aload_n 0, 1) := dk_42 (dk_at dksJ3_getFirst_0 0 rfl rfl)
theorem dJ3_getFirst_1 : decode cJ3_getFirst 1 = .ok (.getfield 18, 3) := dk_180 0 18 (dk_at dksJ3_getFirst_0 1 rfl rfl)
theorem dJ3_getFirst_4 : decode cJ3_getFirst 4 = .ok (.astore_n 1, 1) := dk_76 (dk_at dksJ3_getFirst_0 4 rfl rfl)
theorem dJ3_getFirst_5 : decode cJ3_getFirst 5 = .ok (.aload_n 1, 1) := dk_43 (dk_at dksJ3_getFirst_0 5 rfl rfl)
theorem dJ3_getFirst_6 : decode cJ3_getFirst 6 = .ok (.ifnonnull 11, 3) := dk_199 0 11 (dk_at dksJ3_getFirst_0 6 rfl rfl)
theorem dJ3_getFirst_9 : decode cJ3_getFirst 9 = .ok (.new 43, 3) := dk_187 0 43 (dk_at dksJ3_getFirst_0 9 rfl rfl)
theorem dJ3_getFirst_12 : decode cJ3_getFirst 12 = .ok (.dup, 1) := dk_89 (dk_at dksJ3_getFirst_0 12 rfl rfl)
theorem dJ3_getFirst_13 : decode cJ3_getFirst 13 = .ok (.invokespecial 45, 3) := dk_183 0 45 (dk_at dksJ3_getFirst_0 13 rfl rfl)
theorem dJ3_getFirst_16 : decode cJ3_getFirst 16 = .ok (.athrow, 1) := dk_191 (dk_at dksJ3_getFirst_0 16 rfl rfl)
theorem dJ3_getFirst_17 : decode cJ3_getFirst 17 = .ok (.aload_n 1, 1) := dk_43 (dk_at dksJ3_getFirst_0 17 rfl rfl)
theorem dJ3_getFirst_18 : decode cJ3_getFirst 18 = .ok (.getfield 39, 3) := dk_180 0 39 (dk_at dksJ3_getFirst_0 18 rfl rfl)
theorem dJ3_getFirst_21 : decode cJ3_getFirst 21 = .ok (.areturn, 1) := dk_176 (dk_at dksJ3_getFirst_0 21 rfl rfl)
abbrev cJ3_add_2 : ByteArray := prog_49_method_24_code
def yJ3_add_2 : MethodName := ⟨RJ3, "add", "(ILjava/lang/Object;)V"⟩
def dkwJ3_add_2_1 : List UInt8 := [27, 182, 0, 86, 182, 0, 93, 177]
abbrev dktJ3_add_2_1 : List UInt8 := dkwJ3_add_2_1 ++ []
def dkwJ3_add_2_0 : List UInt8 := [42, 27, 182, 0, 76, 27, 42, 180, 0, 7, 160, 0, 11, 42, 44, 182, 0, 57, 167, 0, 13, 42, 44, 42]
abbrev dktJ3_add_2_0 : List UInt8 := dkwJ3_add_2_0 ++ dktJ3_add_2_1
theorem dksJ3_add_2_0 : cJ3_add_2.data.toList.drop 0 = dktJ3_add_2_0 := by decide +kernel
theorem dksJ3_add_2_1 : cJ3_add_2.data.toList.drop 24 = dktJ3_add_2_1 := dk_seg dksJ3_add_2_0 24 rfl rfl
theorem dJ3_add_2_0 : decode cJ3_add_2 0 = .ok (.aload_n 0, 1) := dk_42 (dk_at dksJ3_add_2_0 0 rfl rfl)
theorem dJ3_add_2_1 : decode cJ3_add_2 1 = .ok (.iload_n 1, 1) := dk_27 (dk_at dksJ3_add_2_0 1 rfl rfl)
theorem dJ3_add_2_2 : decode cJ3_add_2 2 = .ok (.invokevirtual 76, 3) := dk_182 0 76 (dk_at dksJ3_add_2_0 2 rfl rfl)
theorem dJ3_add_2_5 : decode cJ3_add_2 5 = .ok (.iload_n 1, 1) := dk_27 (dk_at dksJ3_add_2_0 5 rfl rfl)
theorem dJ3_add_2_6 : decode cJ3_add_2 6 = .ok (.aload_n 0, 1) := dk_42 (dk_at dksJ3_add_2_0 6 rfl rfl)
theorem dJ3_add_2_7 : decode cJ3_add_2 7 = .ok (.getfield 7, 3) := dk_180 0 7 (dk_at dksJ3_add_2_0 7 rfl rfl)
theorem dJ3_add_2_10 : decode cJ3_add_2 10 = .ok (.if_icmp .ne 11, 3) := dk_160 0 11 (dk_at dksJ3_add_2_0 10 rfl rfl)
theorem dJ3_add_2_13 : decode cJ3_add_2 13 = .ok (.aload_n 0, 1) := dk_42 (dk_at dksJ3_add_2_0 13 rfl rfl)
theorem dJ3_add_2_14 : decode cJ3_add_2 14 = .ok (.aload_n 2, 1) := dk_44 (dk_at dksJ3_add_2_0 14 rfl rfl)
theorem dJ3_add_2_15 : decode cJ3_add_2 15 = .ok (.invokevirtual 57, 3) := dk_182 0 57 (dk_at dksJ3_add_2_0 15 rfl rfl)
theorem dJ3_add_2_18 : decode cJ3_add_2 18 = .ok (.goto 13, 3) := dk_167 0 13 (dk_at dksJ3_add_2_0 18 rfl rfl)
theorem dJ3_add_2_21 : decode cJ3_add_2 21 = .ok (.aload_n 0, 1) := dk_42 (dk_at dksJ3_add_2_0 21 rfl rfl)
theorem dJ3_add_2_22 : decode cJ3_add_2 22 = .ok (.aload_n 2, 1) := dk_44 (dk_at dksJ3_add_2_0 22 rfl rfl)
theorem dJ3_add_2_23 : decode cJ3_add_2 23 = .ok (.aload_n 0, 1) := dk_42 (dk_at dksJ3_add_2_0 23 rfl rfl)
theorem dJ3_add_2_24 : decode cJ3_add_2 24 = .ok (.iload_n 1, 1) := dk_27 (dk_at dksJ3_add_2_1 0 rfl rfl)
theorem dJ3_add_2_25 : decode cJ3_add_2 25 = .ok (.invokevirtual 86, 3) := dk_182 0 86 (dk_at dksJ3_add_2_1 1 rfl rfl)
theorem dJ3_add_2_28 : decode cJ3_add_2 28 = .ok (.invokevirtual 93, 3) := dk_182 0 93 (dk_at dksJ3_add_2_1 4 rfl rfl)
theorem dJ3_add_2_31 : decode cJ3_add_2 31 = .ok (.return_, 1) := dk_177 (dk_at dksJ3_add_2_1 7 rfl rfl)
abbrev cJ3_linkBefore : ByteArray := prog_49_method_5_code
def yJ3_linkBefore : MethodName := ⟨RJ3, "linkBefore", "(Ljava/lang/Object;Ljava/util/LinkedList$Node;)V"⟩
def dkwJ3_linkBefore_2 : List UInt8 := [96, 181, 0, 7, 42, 89, 180, 0, 33, 4, 96, 181, 0, 33, 177]
abbrev dktJ3_linkBefore_2 : List UInt8 := dkwJ3_linkBefore_2 ++ []
def dkwJ3_linkBefore_1 : List UInt8 := [199, 0, 12, 42, 25, 4, 181, 0, 18, 167, 0, 9, 45, 25, 4, 181, 0, 36, 42, 89, 180, 0, 7, 4]
abbrev dktJ3_linkBefore_1 : List UInt8 := dkwJ3_linkBefore_1 ++ dktJ3_linkBefore_2
def dkwJ3_linkBefore_0 : List UInt8 := [44, 180, 0, 30, 78, 187, 0, 22, 89, 45, 43, 44, 183, 0, 24, 58, 4, 44, 25, 4, 181, 0, 30, 45]
abbrev dktJ3_linkBefore_0 : List UInt8 := dkwJ3_linkBefore_0 ++ dktJ3_linkBefore_1
theorem dksJ3_linkBefore_0 : cJ3_linkBefore.data.toList.drop 0 = dktJ3_linkBefore_0 := by decide +kernel
theorem dksJ3_linkBefore_1 : cJ3_linkBefore.data.toList.drop 24 = dktJ3_linkBefore_1 := dk_seg dksJ3_linkBefore_0 24 rfl rfl
theorem dksJ3_linkBefore_2 : cJ3_linkBefore.data.toList.drop 48 = dktJ3_linkBefore_2 := dk_seg dksJ3_linkBefore_1 24 rfl rfl
theorem dJ3_linkBefore_0 : decode cJ3_linkBefore 0 = .ok (.aload_n 2, 1) := dk_44 (dk_at dksJ3_linkBefore_0 0 rfl rfl)
theorem dJ3_linkBefore_1 : decode cJ3_linkBefore 1 = .ok (.getfield 30, 3) := dk_180 0 30 (dk_at dksJ3_linkBefore_0 1 rfl rfl)
theorem dJ3_linkBefore_4 : decode cJ3_linkBefore 4 = .ok (.astore_n 3, 1) := dk_78 (dk_at dksJ3_linkBefore_0 4 rfl rfl)
theorem dJ3_linkBefore_5 : decode cJ3_linkBefore 5 = .ok (.new 22, 3) := dk_187 0 22 (dk_at dksJ3_linkBefore_0 5 rfl rfl)
theorem dJ3_linkBefore_8 : decode cJ3_linkBefore 8 = .ok (.dup, 1) := dk_89 (dk_at dksJ3_linkBefore_0 8 rfl rfl)
theorem dJ3_linkBefore_9 : decode cJ3_linkBefore 9 = .ok (.aload_n 3, 1) := dk_45 (dk_at dksJ3_linkBefore_0 9 rfl rfl)
theorem dJ3_linkBefore_10 : decode cJ3_linkBefore 10 = .ok (.aload_n 1, 1) := dk_43 (dk_at dksJ3_linkBefore_0 10 rfl rfl)
theorem dJ3_linkBefore_11 : decode cJ3_linkBefore 11 = .ok (.aload_n 2, 1) := dk_44 (dk_at dksJ3_linkBefore_0 11 rfl rfl)
theorem dJ3_linkBefore_12 : decode cJ3_linkBefore 12 = .ok (.invokespecial 24, 3) := dk_183 0 24 (dk_at dksJ3_linkBefore_0 12 rfl rfl)
theorem dJ3_linkBefore_15 : decode cJ3_linkBefore 15 = .ok (.astore 4, 2) := dk_58 4 (dk_at dksJ3_linkBefore_0 15 rfl rfl)
theorem dJ3_linkBefore_17 : decode cJ3_linkBefore 17 = .ok (.aload_n 2, 1) := dk_44 (dk_at dksJ3_linkBefore_0 17 rfl rfl)
theorem dJ3_linkBefore_18 : decode cJ3_linkBefore 18 = .ok (.aload 4, 2) := dk_25 4 (dk_at dksJ3_linkBefore_0 18 rfl rfl)
theorem dJ3_linkBefore_20 : decode cJ3_linkBefore 20 = .ok (.putfield 30, 3) := dk_181 0 30 (dk_at dksJ3_linkBefore_0 20 rfl rfl)
theorem dJ3_linkBefore_23 : decode cJ3_linkBefore 23 = .ok (.aload_n 3, 1) := dk_45 (dk_at dksJ3_linkBefore_0 23 rfl rfl)
theorem dJ3_linkBefore_24 : decode cJ3_linkBefore 24 = .ok (.ifnonnull 12, 3) := dk_199 0 12 (dk_at dksJ3_linkBefore_1 0 rfl rfl)
theorem dJ3_linkBefore_27 : decode cJ3_linkBefore 27 = .ok (.aload_n 0, 1) := dk_42 (dk_at dksJ3_linkBefore_1 3 rfl rfl)
theorem dJ3_linkBefore_28 : decode cJ3_linkBefore 28 = .ok (.aload 4, 2) := dk_25 4 (dk_at dksJ3_linkBefore_1 4 rfl rfl)
theorem dJ3_linkBefore_30 : decode cJ3_linkBefore 30 = .ok (.putfield 18, 3) := dk_181 0 18 (dk_at dksJ3_linkBefore_1 6 rfl rfl)
theorem dJ3_linkBefore_33 : decode cJ3_linkBefore 33 = .ok (.goto 9, 3) := dk_167 0 9 (dk_at dksJ3_linkBefore_1 9 rfl rfl)
theorem dJ3_linkBefore_36 : decode cJ3_linkBefore 36 = .ok (.aload_n 3, 1) := dk_45 (dk_at dksJ3_linkBefore_1 12 rfl rfl)
theorem dJ3_linkBefore_37 : decode cJ3_linkBefore 37 = .ok (.aload 4, 2) := dk_25 4 (dk_at dksJ3_linkBefore_1 13 rfl rfl)
theorem dJ3_linkBefore_39 : decode cJ3_linkBefore 39 = .ok (.putfield 36, 3) := dk_181 0 36 (dk_at dksJ3_linkBefore_1 15 rfl rfl)
theorem dJ3_linkBefore_42 : decode cJ3_linkBefore 42 = .ok (.aload_n 0, 1) := dk_42 (dk_at dksJ3_linkBefore_1 18 rfl rfl)
theorem dJ3_linkBefore_43 : decode cJ3_linkBefore 43 = .ok (.dup, 1) := dk_89 (dk_at dksJ3_linkBefore_1 19 rfl rfl)
theorem dJ3_linkBefore_44 : decode cJ3_linkBefore 44 = .ok (.getfield 7, 3) := dk_180 0 7 (dk_at dksJ3_linkBefore_1 20 rfl rfl)
theorem dJ3_linkBefore_47 : decode cJ3_linkBefore 47 = .ok (.iconst 1, 1) := dk_4 (dk_at dksJ3_linkBefore_1 23 rfl rfl)
theorem dJ3_linkBefore_48 : decode cJ3_linkBefore 48 = .ok (.iadd, 1) := dk_96 (dk_at dksJ3_linkBefore_2 0 rfl rfl)
theorem dJ3_linkBefore_49 : decode cJ3_linkBefore 49 = .ok (.putfield 7, 3) := dk_181 0 7 (dk_at dksJ3_linkBefore_2 1 rfl rfl)
theorem dJ3_linkBefore_52 : decode cJ3_linkBefore 52 = .ok (.aload_n 0, 1) := dk_42 (dk_at dksJ3_linkBefore_2 4 rfl rfl)
theorem dJ3_linkBefore_53 : decode cJ3_linkBefore 53 = .ok (.dup, 1) := dk_89 (dk_at dksJ3_linkBefore_2 5 rfl rfl)
theorem dJ3_linkBefore_54 : decode cJ3_linkBefore 54 = .ok (.getfield 33, 3) := dk_180 0 33 (dk_at dksJ3_linkBefore_2 6 rfl rfl)
theorem dJ3_linkBefore_57 : decode cJ3_linkBefore 57 = .ok (.iconst 1, 1) := dk_4 (dk_at dksJ3_linkBefore_2 9 rfl rfl)
theorem dJ3_linkBefore_58 : decode cJ3_linkBefore 58 = .ok (.iadd, 1) := dk_96 (dk_at dksJ3_linkBefore_2 10 rfl rfl)
theorem dJ3_linkBefore_59 : decode cJ3_linkBefore 59 = .ok (.putfield 33, 3) := dk_181 0 33 (dk_at dksJ3_linkBefore_2 11 rfl rfl)
theorem dJ3_linkBefore_62 : decode cJ3_linkBefore 62 = .ok (.return_, 1) := dk_177 (dk_at dksJ3_linkBefore_2 14 rfl rfl)
theorem q79 : (Jvm.Cond.initialized "java/util/LinkedList") ∈ lw_all := lw_g (lw_at lw_m1 5 rfl) rfl
theorem q130 : (Jvm.Cond.instantiable "java/util/LinkedList" (4 : Nat)) ∈ lw_all := lw_g (lw_at lw_m1 56 rfl) rfl
theorem q132 : (Jvm.Cond.instanceMethod ({ cls := "java/util/LinkedList", name := "<init>", desc := "()V" } : Jvm.MethodName)) ∈ lw_all := lw_g (lw_at lw_m1 58 rfl) rfl
theorem q133 : (Jvm.Cond.code ({ cls := "java/util/LinkedList", name := "<init>", desc := "()V" } : Jvm.MethodName) prog_49_method_1_code (1 : Nat) (Option.none : Option Jvm.ClassFile.FieldType)) ∈ lw_all := lw_g (lw_at lw_m1 59 rfl) rfl
theorem q134 : (Jvm.Cond.methodLink "java/util/LinkedList" (1 : Nat) ({ cls := "java/util/AbstractSequentialList", name := "<init>", desc := "()V" } : Jvm.MethodName)) ∈ lw_all := lw_g (lw_at lw_m1 60 rfl) rfl
theorem q144 : (Jvm.Cond.fieldLink "java/util/LinkedList" (7 : Nat) "java/util/LinkedList" "size" "I") ∈ lw_all := lw_g (lw_at lw_m1 70 rfl) rfl
theorem q146 : (Jvm.Cond.fieldLink "java/util/LinkedList" (18 : Nat) "java/util/LinkedList" "first" "Ljava/util/LinkedList$Node;") ∈ lw_all := lw_g (lw_at lw_m1 72 rfl) rfl
theorem q147 : (Jvm.Cond.fieldLink "java/util/LinkedList" (27 : Nat) "java/util/LinkedList" "last" "Ljava/util/LinkedList$Node;") ∈ lw_all := lw_g (lw_at lw_m1 73 rfl) rfl
theorem q150 : (Jvm.Cond.sameField "java/util/LinkedList" "java/util/AbstractList" "modCount" "I") ∈ lw_all := lw_g (lw_at lw_m1 76 rfl) rfl
theorem q154 : (Jvm.Cond.fieldLink "java/util/LinkedList" (33 : Nat) "java/util/LinkedList" "modCount" "I") ∈ lw_all := lw_g (lw_at lw_m1 80 rfl) rfl
theorem q156 : (Jvm.Cond.lays "java/util/LinkedList" "java/util/LinkedList" "size" "I") ∈ lw_all := lw_g (lw_at lw_m1 82 rfl) rfl
theorem q157 : (Jvm.Cond.soleField "java/util/LinkedList" "size") ∈ lw_all := lw_g (lw_at lw_m1 83 rfl) rfl
theorem q158 : (Jvm.Cond.lays "java/util/LinkedList" "java/util/LinkedList" "first" "Ljava/util/LinkedList$Node;") ∈ lw_all := lw_g (lw_at lw_m1 84 rfl) rfl
theorem q159 : (Jvm.Cond.soleField "java/util/LinkedList" "first") ∈ lw_all := lw_g (lw_at lw_m1 85 rfl) rfl
theorem q160 : (Jvm.Cond.lays "java/util/LinkedList" "java/util/LinkedList" "last" "Ljava/util/LinkedList$Node;") ∈ lw_all := lw_g (lw_at lw_m1 86 rfl) rfl
theorem q161 : (Jvm.Cond.soleField "java/util/LinkedList" "last") ∈ lw_all := lw_g (lw_at lw_m1 87 rfl) rfl
theorem q162 : (Jvm.Cond.lays "java/util/LinkedList" "java/util/AbstractList" "modCount" "I") ∈ lw_all := lw_g (lw_at lw_m1 88 rfl) rfl
theorem q164 : (Jvm.Cond.superclass "java/util/LinkedList" "java/util/AbstractSequentialList") ∈ lw_all := lw_g (lw_at lw_m1 90 rfl) rfl
theorem q552 : (Jvm.Cond.selects "java/util/LinkedList" ({ cls := "java/lang/Object", name := "getClass", desc := "()Ljava/lang/Class;" } : Jvm.MethodName) ({ cls := "java/lang/Object", name := "getClass", desc := "()Ljava/lang/Class;" } : Jvm.MethodName)) ∈ lw_all := lw_g (lw_at lw_m2 238 rfl) rfl
theorem q626 : (Jvm.Cond.castable "java/util/LinkedList" "java/util/List") ∈ lw_tbl := lw_at lw_m3 72 rfl
theorem q627 : (Jvm.Cond.selects "java/util/LinkedList" ({ cls := "java/util/List", name := "add", desc := "(Ljava/lang/Object;)Z" } : Jvm.MethodName) ({ cls := "java/util/LinkedList", name := "add", desc := "(Ljava/lang/Object;)Z" } : Jvm.MethodName)) ∈ lw_all := lw_g (lw_at lw_m3 73 rfl) rfl
theorem q628 : (Jvm.Cond.unhidden "java/util/LinkedList" "add" "(Ljava/lang/Object;)Z") ∈ lw_tbl := lw_at lw_m3 74 rfl
theorem q629 : (Jvm.Cond.instanceMethod ({ cls := "java/util/LinkedList", name := "add", desc := "(Ljava/lang/Object;)Z" } : Jvm.MethodName)) ∈ lw_all := lw_g (lw_at lw_m3 75 rfl) rfl
theorem q630 : (Jvm.Cond.publicMethod ({ cls := "java/util/LinkedList", name := "add", desc := "(Ljava/lang/Object;)Z" } : Jvm.MethodName)) ∈ lw_tbl := lw_at lw_m3 76 rfl
theorem q631 : (Jvm.Cond.code ({ cls := "java/util/LinkedList", name := "add", desc := "(Ljava/lang/Object;)Z" } : Jvm.MethodName) prog_49_method_17_code (2 : Nat) (Option.some Jvm.ClassFile.FieldType.boolean)) ∈ lw_all := lw_g (lw_at lw_m3 77 rfl) rfl
theorem q632 : (Jvm.Cond.methodLink "java/util/LinkedList" (57 : Nat) ({ cls := "java/util/LinkedList", name := "linkLast", desc := "(Ljava/lang/Object;)V" } : Jvm.MethodName)) ∈ lw_all := lw_g (lw_at lw_m3 78 rfl) rfl
theorem q633 : (Jvm.Cond.instanceMethod ({ cls := "java/util/LinkedList", name := "linkLast", desc := "(Ljava/lang/Object;)V" } : Jvm.MethodName)) ∈ lw_all := lw_g (lw_at lw_m3 79 rfl) rfl
theorem q634 : (Jvm.Cond.selects "java/util/LinkedList" ({ cls := "java/util/LinkedList", name := "linkLast", desc := "(Ljava/lang/Object;)V" } : Jvm.MethodName) ({ cls := "java/util/LinkedList", name := "linkLast", desc := "(Ljava/lang/Object;)V" } : Jvm.MethodName)) ∈ lw_all := lw_g (lw_at lw_m3 80 rfl) rfl
theorem q635 : (Jvm.Cond.code ({ cls := "java/util/LinkedList", name := "linkLast", desc := "(Ljava/lang/Object;)V" } : Jvm.MethodName) prog_49_method_4_code (4 : Nat) (Option.none : Option Jvm.ClassFile.FieldType)) ∈ lw_all := lw_g (lw_at lw_m3 81 rfl) rfl
theorem q636 : (Jvm.Cond.classLink "java/util/LinkedList" (22 : Nat) "java/util/LinkedList$Node") ∈ lw_all := lw_g (lw_at lw_m3 82 rfl) rfl
theorem q638 : (Jvm.Cond.methodLink "java/util/LinkedList" (24 : Nat) ({ cls := "java/util/LinkedList$Node", name := "<init>", desc := "(Ljava/util/LinkedList$Node;Ljava/lang/Object;Ljava/util/LinkedList$Node;)V" } : Jvm.MethodName)) ∈ lw_all := lw_g (lw_at lw_m3 84 rfl) rfl
theorem q644 : (Jvm.Cond.fieldLink "java/util/LinkedList" (39 : Nat) "java/util/LinkedList$Node" "item" "Ljava/lang/Object;") ∈ lw_all := lw_g (lw_at lw_m3 90 rfl) rfl
theorem q647 : (Jvm.Cond.fieldLink "java/util/LinkedList" (36 : Nat) "java/util/LinkedList$Node" "next" "Ljava/util/LinkedList$Node;") ∈ lw_all := lw_g (lw_at lw_m3 93 rfl) rfl
theorem q649 : (Jvm.Cond.fieldLink "java/util/LinkedList" (30 : Nat) "java/util/LinkedList$Node" "prev" "Ljava/util/LinkedList$Node;") ∈ lw_all := lw_g (lw_at lw_m3 95 rfl) rfl
theorem q666 : (Jvm.Cond.selects "java/util/LinkedList" ({ cls := "java/util/List", name := "size", desc := "()I" } : Jvm.MethodName) ({ cls := "java/util/LinkedList", name := "size", desc := "()I" } : Jvm.MethodName)) ∈ lw_all := lw_g (lw_at lw_m3 112 rfl) rfl
theorem q667 : (Jvm.Cond.unhidden "java/util/LinkedList" "size" "()I") ∈ lw_tbl := lw_at lw_m3 113 rfl
theorem q668 : (Jvm.Cond.instanceMethod ({ cls := "java/util/LinkedList", name := "size", desc := "()I" } : Jvm.MethodName)) ∈ lw_all := lw_g (lw_at lw_m3 114 rfl) rfl
theorem q669 : (Jvm.Cond.publicMethod ({ cls := "java/util/LinkedList", name := "size", desc := "()I" } : Jvm.MethodName)) ∈ lw_tbl := lw_at lw_m3 115 rfl
theorem q670 : (Jvm.Cond.code ({ cls := "java/util/LinkedList", name := "size", desc := "()I" } : Jvm.MethodName) prog_49_method_16_code (1 : Nat) (Option.some Jvm.ClassFile.FieldType.int)) ∈ lw_all := lw_g (lw_at lw_m3 116 rfl) rfl
theorem q690 : (Jvm.Cond.selects "java/util/LinkedList" ({ cls := "java/util/List", name := "get", desc := "(I)Ljava/lang/Object;" } : Jvm.MethodName) ({ cls := "java/util/LinkedList", name := "get", desc := "(I)Ljava/lang/Object;" } : Jvm.MethodName)) ∈ lw_all := lw_g (lw_at lw_m3 136 rfl) rfl
theorem q691 : (Jvm.Cond.unhidden "java/util/LinkedList" "get" "(I)Ljava/lang/Object;") ∈ lw_tbl := lw_at lw_m3 137 rfl
theorem q692 : (Jvm.Cond.instanceMethod ({ cls := "java/util/LinkedList", name := "get", desc := "(I)Ljava/lang/Object;" } : Jvm.MethodName)) ∈ lw_all := lw_g (lw_at lw_m3 138 rfl) rfl
theorem q693 : (Jvm.Cond.publicMethod ({ cls := "java/util/LinkedList", name := "get", desc := "(I)Ljava/lang/Object;" } : Jvm.MethodName)) ∈ lw_tbl := lw_at lw_m3 139 rfl
theorem q694 : (Jvm.Cond.code ({ cls := "java/util/LinkedList", name := "get", desc := "(I)Ljava/lang/Object;" } : Jvm.MethodName) prog_49_method_22_code (2 : Nat) (Option.some (Jvm.ClassFile.FieldType.object "java/lang/Object"))) ∈ lw_all := lw_g (lw_at lw_m3 140 rfl) rfl
theorem q695 : (Jvm.Cond.methodLink "java/util/LinkedList" (90 : Nat) ({ cls := "java/util/LinkedList", name := "checkElementIndex", desc := "(I)V" } : Jvm.MethodName)) ∈ lw_all := lw_g (lw_at lw_m3 141 rfl) rfl
theorem q696 : (Jvm.Cond.privateMethod ({ cls := "java/util/LinkedList", name := "checkElementIndex", desc := "(I)V" } : Jvm.MethodName)) ∈ lw_tbl := lw_at lw_m3 142 rfl
theorem q697 : (Jvm.Cond.instanceMethod ({ cls := "java/util/LinkedList", name := "checkElementIndex", desc := "(I)V" } : Jvm.MethodName)) ∈ lw_all := lw_g (lw_at lw_m3 143 rfl) rfl
theorem q698 : (Jvm.Cond.code ({ cls := "java/util/LinkedList", name := "checkElementIndex", desc := "(I)V" } : Jvm.MethodName) prog_49_method_29_code (2 : Nat) (Option.none : Option Jvm.ClassFile.FieldType)) ∈ lw_all := lw_g (lw_at lw_m3 144 rfl) rfl
theorem q699 : (Jvm.Cond.methodLink "java/util/LinkedList" (115 : Nat) ({ cls := "java/util/LinkedList", name := "isElementIndex", desc := "(I)Z" } : Jvm.MethodName)) ∈ lw_all := lw_g (lw_at lw_m3 145 rfl) rfl
theorem q700 : (Jvm.Cond.privateMethod ({ cls := "java/util/LinkedList", name := "isElementIndex", desc := "(I)Z" } : Jvm.MethodName)) ∈ lw_tbl := lw_at lw_m3 146 rfl
theorem q701 : (Jvm.Cond.instanceMethod ({ cls := "java/util/LinkedList", name := "isElementIndex", desc := "(I)Z" } : Jvm.MethodName)) ∈ lw_all := lw_g (lw_at lw_m3 147 rfl) rfl
theorem q702 : (Jvm.Cond.code ({ cls := "java/util/LinkedList", name := "isElementIndex", desc := "(I)Z" } : Jvm.MethodName) prog_49_method_26_code (2 : Nat) (Option.some Jvm.ClassFile.FieldType.boolean)) ∈ lw_all := lw_g (lw_at lw_m3 148 rfl) rfl
theorem q703 : (Jvm.Cond.methodLink "java/util/LinkedList" (86 : Nat) ({ cls := "java/util/LinkedList", name := "node", desc := "(I)Ljava/util/LinkedList$Node;" } : Jvm.MethodName)) ∈ lw_all := lw_g (lw_at lw_m3 149 rfl) rfl
theorem q704 : (Jvm.Cond.instanceMethod ({ cls := "java/util/LinkedList", name := "node", desc := "(I)Ljava/util/LinkedList$Node;" } : Jvm.MethodName)) ∈ lw_all := lw_g (lw_at lw_m3 150 rfl) rfl
theorem q705 : (Jvm.Cond.selects "java/util/LinkedList" ({ cls := "java/util/LinkedList", name := "node", desc := "(I)Ljava/util/LinkedList$Node;" } : Jvm.MethodName) ({ cls := "java/util/LinkedList", name := "node", desc := "(I)Ljava/util/LinkedList$Node;" } : Jvm.MethodName)) ∈ lw_all := lw_g (lw_at lw_m3 151 rfl) rfl
theorem q706 : (Jvm.Cond.code ({ cls := "java/util/LinkedList", name := "node", desc := "(I)Ljava/util/LinkedList$Node;" } : Jvm.MethodName) prog_49_method_31_code (4 : Nat) (Option.some (Jvm.ClassFile.FieldType.object "java/util/LinkedList$Node"))) ∈ lw_all := lw_g (lw_at lw_m3 152 rfl) rfl
theorem q720 : (Jvm.Cond.selects "java/util/LinkedList" ({ cls := "java/util/List", name := "isEmpty", desc := "()Z" } : Jvm.MethodName) ({ cls := "java/util/AbstractCollection", name := "isEmpty", desc := "()Z" } : Jvm.MethodName)) ∈ lw_all := lw_g (lw_at lw_m3 166 rfl) rfl
theorem q721 : (Jvm.Cond.unhidden "java/util/LinkedList" "isEmpty" "()Z") ∈ lw_tbl := lw_at lw_m3 167 rfl
theorem q735 : (Jvm.Cond.selects "java/util/LinkedList" ({ cls := "java/util/AbstractCollection", name := "size", desc := "()I" } : Jvm.MethodName) ({ cls := "java/util/LinkedList", name := "size", desc := "()I" } : Jvm.MethodName)) ∈ lw_all := lw_g (lw_at lw_m3 181 rfl) rfl
theorem q754 : (Jvm.Cond.selects "java/util/LinkedList" ({ cls := "java/util/List", name := "clear", desc := "()V" } : Jvm.MethodName) ({ cls := "java/util/LinkedList", name := "clear", desc := "()V" } : Jvm.MethodName)) ∈ lw_all := lw_g (lw_at lw_m3 200 rfl) rfl
theorem q755 : (Jvm.Cond.unhidden "java/util/LinkedList" "clear" "()V") ∈ lw_tbl := lw_at lw_m3 201 rfl
theorem q756 : (Jvm.Cond.instanceMethod ({ cls := "java/util/LinkedList", name := "clear", desc := "()V" } : Jvm.MethodName)) ∈ lw_all := lw_g (lw_at lw_m3 202 rfl) rfl
theorem q757 : (Jvm.Cond.publicMethod ({ cls := "java/util/LinkedList", name := "clear", desc := "()V" } : Jvm.MethodName)) ∈ lw_tbl := lw_at lw_m3 203 rfl
theorem q758 : (Jvm.Cond.code ({ cls := "java/util/LinkedList", name := "clear", desc := "()V" } : Jvm.MethodName) prog_49_method_21_code (3 : Nat) (Option.none : Option Jvm.ClassFile.FieldType)) ∈ lw_all := lw_g (lw_at lw_m3 204 rfl) rfl
theorem q782 : (Jvm.Cond.sameMethod "java/util/LinkedList" "java/util/AbstractCollection" "isEmpty" "()Z") ∈ lw_all := lw_g (lw_at lw_m3 228 rfl) rfl
theorem q784 : (Jvm.Cond.selects "java/util/LinkedList" ({ cls := "java/util/LinkedList", name := "isEmpty", desc := "()Z" } : Jvm.MethodName) ({ cls := "java/util/AbstractCollection", name := "isEmpty", desc := "()Z" } : Jvm.MethodName)) ∈ lw_all := lw_g (lw_at lw_m3 230 rfl) rfl
theorem q790 : (Jvm.Cond.sameMethod "java/util/LinkedList" "java/util/AbstractSequentialList" "iterator" "()Ljava/util/Iterator;") ∈ lw_all := lw_g (lw_at lw_m3 236 rfl) rfl
theorem q792 : (Jvm.Cond.selects "java/util/LinkedList" ({ cls := "java/util/LinkedList", name := "iterator", desc := "()Ljava/util/Iterator;" } : Jvm.MethodName) ({ cls := "java/util/AbstractSequentialList", name := "iterator", desc := "()Ljava/util/Iterator;" } : Jvm.MethodName)) ∈ lw_all := lw_g (lw_at lw_m3 238 rfl) rfl
theorem q798 : (Jvm.Cond.selects "java/util/LinkedList" ({ cls := "java/util/AbstractSequentialList", name := "listIterator", desc := "()Ljava/util/ListIterator;" } : Jvm.MethodName) ({ cls := "java/util/AbstractList", name := "listIterator", desc := "()Ljava/util/ListIterator;" } : Jvm.MethodName)) ∈ lw_all := lw_g (lw_at lw_m4 4 rfl) rfl
theorem q838 : (Jvm.Cond.selects "java/util/LinkedList" ({ cls := "java/util/AbstractList", name := "listIterator", desc := "(I)Ljava/util/ListIterator;" } : Jvm.MethodName) ({ cls := "java/util/LinkedList", name := "listIterator", desc := "(I)Ljava/util/ListIterator;" } : Jvm.MethodName)) ∈ lw_all := lw_g (lw_at lw_m4 44 rfl) rfl
theorem q839 : (Jvm.Cond.instanceMethod ({ cls := "java/util/LinkedList", name := "listIterator", desc := "(I)Ljava/util/ListIterator;" } : Jvm.MethodName)) ∈ lw_all := lw_g (lw_at lw_m4 45 rfl) rfl
theorem q840 : (Jvm.Cond.code ({ cls := "java/util/LinkedList", name := "listIterator", desc := "(I)Ljava/util/ListIterator;" } : Jvm.MethodName) prog_49_method_49_code (2 : Nat) (Option.some (Jvm.ClassFile.FieldType.object "java/util/ListIterator"))) ∈ lw_all := lw_g (lw_at lw_m4 46 rfl) rfl
theorem q841 : (Jvm.Cond.methodLink "java/util/LinkedList" (76 : Nat) ({ cls := "java/util/LinkedList", name := "checkPositionIndex", desc := "(I)V" } : Jvm.MethodName)) ∈ lw_all := lw_g (lw_at lw_m4 47 rfl) rfl
theorem q842 : (Jvm.Cond.privateMethod ({ cls := "java/util/LinkedList", name := "checkPositionIndex", desc := "(I)V" } : Jvm.MethodName)) ∈ lw_tbl := lw_at lw_m4 48 rfl
theorem q843 : (Jvm.Cond.instanceMethod ({ cls := "java/util/LinkedList", name := "checkPositionIndex", desc := "(I)V" } : Jvm.MethodName)) ∈ lw_all := lw_g (lw_at lw_m4 49 rfl) rfl
theorem q844 : (Jvm.Cond.code ({ cls := "java/util/LinkedList", name := "checkPositionIndex", desc := "(I)V" } : Jvm.MethodName) prog_49_method_30_code (2 : Nat) (Option.none : Option Jvm.ClassFile.FieldType)) ∈ lw_all := lw_g (lw_at lw_m4 50 rfl) rfl
theorem q845 : (Jvm.Cond.methodLink "java/util/LinkedList" (128 : Nat) ({ cls := "java/util/LinkedList", name := "isPositionIndex", desc := "(I)Z" } : Jvm.MethodName)) ∈ lw_all := lw_g (lw_at lw_m4 51 rfl) rfl
theorem q846 : (Jvm.Cond.privateMethod ({ cls := "java/util/LinkedList", name := "isPositionIndex", desc := "(I)Z" } : Jvm.MethodName)) ∈ lw_tbl := lw_at lw_m4 52 rfl
theorem q847 : (Jvm.Cond.instanceMethod ({ cls := "java/util/LinkedList", name := "isPositionIndex", desc := "(I)Z" } : Jvm.MethodName)) ∈ lw_all := lw_g (lw_at lw_m4 53 rfl) rfl
theorem q848 : (Jvm.Cond.code ({ cls := "java/util/LinkedList", name := "isPositionIndex", desc := "(I)Z" } : Jvm.MethodName) prog_49_method_27_code (2 : Nat) (Option.some Jvm.ClassFile.FieldType.boolean)) ∈ lw_all := lw_g (lw_at lw_m4 54 rfl) rfl
theorem q849 : (Jvm.Cond.classLink "java/util/LinkedList" (150 : Nat) "java/util/LinkedList$ListItr") ∈ lw_all := lw_g (lw_at lw_m4 55 rfl) rfl
theorem q851 : (Jvm.Cond.methodLink "java/util/LinkedList" (152 : Nat) ({ cls := "java/util/LinkedList$ListItr", name := "<init>", desc := "(Ljava/util/LinkedList;I)V" } : Jvm.MethodName)) ∈ lw_all := lw_g (lw_at lw_m4 57 rfl) rfl
theorem q886 : (Jvm.Cond.selects "java/util/LinkedList" ({ cls := "java/util/AbstractList", name := "size", desc := "()I" } : Jvm.MethodName) ({ cls := "java/util/LinkedList", name := "size", desc := "()I" } : Jvm.MethodName)) ∈ lw_all := lw_g (lw_at lw_m4 92 rfl) rfl
theorem q923 : (Jvm.Cond.selects "java/util/LinkedList" ({ cls := "java/util/AbstractList", name := "get", desc := "(I)Ljava/lang/Object;" } : Jvm.MethodName) ({ cls := "java/util/LinkedList", name := "get", desc := "(I)Ljava/lang/Object;" } : Jvm.MethodName)) ∈ lw_all := lw_g (lw_at lw_m4 129 rfl) rfl
theorem q1285 : (Jvm.Cond.selects "java/util/LinkedList" ({ cls := "java/util/AbstractList", name := "remove", desc := "(I)Ljava/lang/Object;" } : Jvm.MethodName) ({ cls := "java/util/LinkedList", name := "remove", desc := "(I)Ljava/lang/Object;" } : Jvm.MethodName)) ∈ lw_all := lw_g (lw_at lw_m6 11 rfl) rfl
theorem q1286 : (Jvm.Cond.instanceMethod ({ cls := "java/util/LinkedList", name := "remove", desc := "(I)Ljava/lang/Object;" } : Jvm.MethodName)) ∈ lw_all := lw_g (lw_at lw_m6 12 rfl) rfl
theorem q1287 : (Jvm.Cond.code ({ cls := "java/util/LinkedList", name := "remove", desc := "(I)Ljava/lang/Object;" } : Jvm.MethodName) prog_49_method_25_code (2 : Nat) (Option.some (Jvm.ClassFile.FieldType.object "java/lang/Object"))) ∈ lw_all := lw_g (lw_at lw_m6 13 rfl) rfl
theorem q1288 : (Jvm.Cond.methodLink "java/util/LinkedList" (64 : Nat) ({ cls := "java/util/LinkedList", name := "unlink", desc := "(Ljava/util/LinkedList$Node;)Ljava/lang/Object;" } : Jvm.MethodName)) ∈ lw_all := lw_g (lw_at lw_m6 14 rfl) rfl
theorem q1289 : (Jvm.Cond.instanceMethod ({ cls := "java/util/LinkedList", name := "unlink", desc := "(Ljava/util/LinkedList$Node;)Ljava/lang/Object;" } : Jvm.MethodName)) ∈ lw_all := lw_g (lw_at lw_m6 15 rfl) rfl
theorem q1290 : (Jvm.Cond.selects "java/util/LinkedList" ({ cls := "java/util/LinkedList", name := "unlink", desc := "(Ljava/util/LinkedList$Node;)Ljava/lang/Object;" } : Jvm.MethodName) ({ cls := "java/util/LinkedList", name := "unlink", desc := "(Ljava/util/LinkedList$Node;)Ljava/lang/Object;" } : Jvm.MethodName)) ∈ lw_all := lw_g (lw_at lw_m6 16 rfl) rfl
theorem q1291 : (Jvm.Cond.code ({ cls := "java/util/LinkedList", name := "unlink", desc := "(Ljava/util/LinkedList$Node;)Ljava/lang/Object;" } : Jvm.MethodName) prog_49_method_8_code (5 : Nat) (Option.some (Jvm.ClassFile.FieldType.object "java/lang/Object"))) ∈ lw_all := lw_g (lw_at lw_m6 17 rfl) rfl
theorem q1372 : (Jvm.Cond.instanceMethod ({ cls := "java/util/LinkedList", name := "getFirst", desc := "()Ljava/lang/Object;" } : Jvm.MethodName)) ∈ lw_all := lw_g (lw_at lw_m6 98 rfl) rfl
theorem q1373 : (Jvm.Cond.selects "java/util/LinkedList" ({ cls := "java/util/LinkedList", name := "getFirst", desc := "()Ljava/lang/Object;" } : Jvm.MethodName) ({ cls := "java/util/LinkedList", name := "getFirst", desc := "()Ljava/lang/Object;" } : Jvm.MethodName)) ∈ lw_all := lw_g (lw_at lw_m6 99 rfl) rfl
theorem q1374 : (Jvm.Cond.code ({ cls := "java/util/LinkedList", name := "getFirst", desc := "()Ljava/lang/Object;" } : Jvm.MethodName) prog_49_method_9_code (2 : Nat) (Option.some (Jvm.ClassFile.FieldType.object "java/lang/Object"))) ∈ lw_all := lw_g (lw_at lw_m6 100 rfl) rfl
theorem q1508 : (Jvm.Cond.instanceMethod ({ cls := "java/util/LinkedList", name := "add", desc := "(ILjava/lang/Object;)V" } : Jvm.MethodName)) ∈ lw_all := lw_g (lw_at lw_m6 234 rfl) rfl
theorem q1509 : (Jvm.Cond.selects "java/util/LinkedList" ({ cls := "java/util/LinkedList", name := "add", desc := "(ILjava/lang/Object;)V" } : Jvm.MethodName) ({ cls := "java/util/LinkedList", name := "add", desc := "(ILjava/lang/Object;)V" } : Jvm.MethodName)) ∈ lw_all := lw_g (lw_at lw_m6 235 rfl) rfl
theorem q1510 : (Jvm.Cond.code ({ cls := "java/util/LinkedList", name := "add", desc := "(ILjava/lang/Object;)V" } : Jvm.MethodName) prog_49_method_24_code (3 : Nat) (Option.none : Option Jvm.ClassFile.FieldType)) ∈ lw_all := lw_g (lw_at lw_m6 236 rfl) rfl
theorem q1511 : (Jvm.Cond.methodLink "java/util/LinkedList" (93 : Nat) ({ cls := "java/util/LinkedList", name := "linkBefore", desc := "(Ljava/lang/Object;Ljava/util/LinkedList$Node;)V" } : Jvm.MethodName)) ∈ lw_all := lw_g (lw_at lw_m6 237 rfl) rfl
theorem q1512 : (Jvm.Cond.instanceMethod ({ cls := "java/util/LinkedList", name := "linkBefore", desc := "(Ljava/lang/Object;Ljava/util/LinkedList$Node;)V" } : Jvm.MethodName)) ∈ lw_all := lw_g (lw_at lw_m6 238 rfl) rfl
theorem q1513 : (Jvm.Cond.selects "java/util/LinkedList" ({ cls := "java/util/LinkedList", name := "linkBefore", desc := "(Ljava/lang/Object;Ljava/util/LinkedList$Node;)V" } : Jvm.MethodName) ({ cls := "java/util/LinkedList", name := "linkBefore", desc := "(Ljava/lang/Object;Ljava/util/LinkedList$Node;)V" } : Jvm.MethodName)) ∈ lw_all := lw_g (lw_at lw_m6 239 rfl) rfl
theorem q1514 : (Jvm.Cond.code ({ cls := "java/util/LinkedList", name := "linkBefore", desc := "(Ljava/lang/Object;Ljava/util/LinkedList$Node;)V" } : Jvm.MethodName) prog_49_method_5_code (5 : Nat) (Option.none : Option Jvm.ClassFile.FieldType)) ∈ lw_all := lw_g (lw_at lw_m7 0 rfl) rfl
theorem q2020 : (Jvm.Cond.selects "java/util/LinkedList" ({ cls := "java/util/LinkedList", name := "clear", desc := "()V" } : Jvm.MethodName) ({ cls := "java/util/LinkedList", name := "clear", desc := "()V" } : Jvm.MethodName)) ∈ lw_all := lw_g (lw_at lw_m9 26 rfl) rfl
theorem q2021 : (Jvm.Cond.selects "java/util/LinkedList" ({ cls := "java/util/LinkedList", name := "size", desc := "()I" } : Jvm.MethodName) ({ cls := "java/util/LinkedList", name := "size", desc := "()I" } : Jvm.MethodName)) ∈ lw_all := lw_g (lw_at lw_m9 27 rfl) rfl
theorem q2022 : (Jvm.Cond.selects "java/util/LinkedList" ({ cls := "java/util/LinkedList", name := "add", desc := "(Ljava/lang/Object;)Z" } : Jvm.MethodName) ({ cls := "java/util/LinkedList", name := "add", desc := "(Ljava/lang/Object;)Z" } : Jvm.MethodName)) ∈ lw_all := lw_g (lw_at lw_m9 28 rfl) rfl
theorem q2034 : (Jvm.Cond.selects "java/util/LinkedList" ({ cls := "java/util/LinkedList", name := "get", desc := "(I)Ljava/lang/Object;" } : Jvm.MethodName) ({ cls := "java/util/LinkedList", name := "get", desc := "(I)Ljava/lang/Object;" } : Jvm.MethodName)) ∈ lw_all := lw_g (lw_at lw_m9 40 rfl) rfl
theorem q2039 : (Jvm.Cond.castable "java/util/LinkedList" "java/lang/Object") ∈ lw_tbl := lw_at lw_m9 45 rfl
theorem in_J3 : ∀ w ∈ wsJ30, w ∈ lw_all := lw_in wsJ30 [162, 156, 158, 160] (by decide +kernel) (by decide +kernel)
/-! java/util/ArrayList -/
set_option maxRecDepth 100000
def RJ4 : String := "java/util/ArrayList"
def TJ4 : u_T := fun k => match k with
  | 0 => ("java/util/AbstractList", "modCount", "I", false)
  | 1 => ("java/util/ArrayList", "elementData", "[Ljava/lang/Object;", false)
  | _ => ("java/util/ArrayList", "size", "I", false)
def tyJ4 : Nat → FieldType := fun k => match k with
  | 0 => .int
  | 1 => .array (.object "java/lang/Object")
  | _ => .int
abbrev wsJ40 : List Cond := u_ws RJ4 TJ4 3
theorem nmJ4 : ∀ a, a < 3 → ∀ b, b < 3 → a ≠ b → (TJ4 a).2.1 ≠ (TJ4 b).2.1 := by decide +kernel
theorem tyJ4_ok : ∀ k, k < 3 → parseFieldDescriptor (TJ4 k).2.2.1 = some (tyJ4 k) := by decide +kernel
abbrev cJ4_init : ByteArray := prog_40_method_2_code
def yJ4_init : MethodName := ⟨RJ4, "<init>", "()V"⟩
def dkwJ4_init_0 : List UInt8 := [42, 183, 0, 1, 42, 178, 0, 39, 181, 0, 9, 177]
abbrev dktJ4_init_0 : List UInt8 := dkwJ4_init_0 ++ []
theorem dksJ4_init_0 : cJ4_init.data.toList.drop 0 = dktJ4_init_0 := by decide +kernel
theorem dJ4_init_0 : decode cJ4_init 0 = .ok (.aload_n 0, 1) := dk_42 (dk_at dksJ4_init_0 0 rfl rfl)
theorem dJ4_init_1 : decode cJ4_init 1 = .ok (.invokespecial 1, 3) := dk_183 0 1 (dk_at dksJ4_init_0 1 rfl rfl)
theorem dJ4_init_4 : decode cJ4_init 4 = .ok (.aload_n 0, 1) := dk_42 (dk_at dksJ4_init_0 4 rfl rfl)
theorem dJ4_init_5 : decode cJ4_init 5 = .ok (.getstatic 39, 3) := dk_178 0 39 (dk_at dksJ4_init_0 5 rfl rfl)
theorem dJ4_init_8 : decode cJ4_init 8 = .ok (.putfield 9, 3) := dk_181 0 9 (dk_at dksJ4_init_0 8 rfl rfl)
theorem dJ4_init_11 : decode cJ4_init 11 = .ok (.return_, 1) := dk_177 (dk_at dksJ4_init_0 11 rfl rfl)
abbrev cJ4_add : ByteArray := prog_40_method_25_code
def yJ4_add : MethodName := ⟨RJ4, "add", "(Ljava/lang/Object;)Z"⟩
def dkwJ4_add_1 : List UInt8 := [172]
abbrev dktJ4_add_1 : List UInt8 := dkwJ4_add_1 ++ []
def dkwJ4_add_0 : List UInt8 := [42, 89, 180, 0, 63, 4, 96, 181, 0, 63, 42, 43, 42, 180, 0, 9, 42, 180, 0, 48, 182, 0, 131, 4]
abbrev dktJ4_add_0 : List UInt8 := dkwJ4_add_0 ++ dktJ4_add_1
theorem dksJ4_add_0 : cJ4_add.data.toList.drop 0 = dktJ4_add_0 := by decide +kernel
theorem dksJ4_add_1 : cJ4_add.data.toList.drop 24 = dktJ4_add_1 := dk_seg dksJ4_add_0 24 rfl rfl
theorem dJ4_add_0 : decode cJ4_add 0 = .ok (.aload_n 0, 1) := dk_42 (dk_at dksJ4_add_0 0 rfl rfl)
theorem dJ4_add_1 : decode cJ4_add 1 = .ok (.dup, 1) := dk_89 (dk_at dksJ4_add_0 1 rfl rfl)
theorem dJ4_add_2 : decode cJ4_add 2 = .ok (.getfield 63, 3) := dk_180 0 63 (dk_at dksJ4_add_0 2 rfl rfl)
theorem dJ4_add_5 : decode cJ4_add 5 = .ok (.iconst 1, 1) := dk_4 (dk_at dksJ4_add_0 5 rfl rfl)
theorem dJ4_add_6 : decode cJ4_add 6 = .ok (.iadd, 1) := dk_96 (dk_at dksJ4_add_0 6 rfl rfl)
theorem dJ4_add_7 : decode cJ4_add 7 = .ok (.putfield 63, 3) := dk_181 0 63 (dk_at dksJ4_add_0 7 rfl rfl)
theorem dJ4_add_10 : decode cJ4_add 10 = .ok (.aload_n 0, 1) := dk_42 (dk_at dksJ4_add_0 10 rfl rfl)
theorem dJ4_add_11 : decode cJ4_add 11 = .ok (.aload_n 1, 1) := dk_43 (dk_at dksJ4_add_0 11 rfl rfl)
theorem dJ4_add_12 : decode cJ4_add 12 = .ok (.aload_n 0, 1) := dk_42 (dk_at dksJ4_add_0 12 rfl rfl)
theorem dJ4_add_13 : decode cJ4_add 13 = .ok (.getfield 9, 3) := dk_180 0 9 (dk_at dksJ4_add_0 13 rfl rfl)
theorem dJ4_add_16 : decode cJ4_add 16 = .ok (.aload_n 0, 1) := dk_42 (dk_at dksJ4_add_0 16 rfl rfl)
theorem dJ4_add_17 : decode cJ4_add 17 = .ok (.getfield 48, 3) := dk_180 0 48 (dk_at dksJ4_add_0 17 rfl rfl)
theorem dJ4_add_20 : decode cJ4_add 20 = .ok (.invokevirtual 131, 3) := dk_182 0 131 (dk_at dksJ4_add_0 20 rfl rfl)
theorem dJ4_add_23 : decode cJ4_add 23 = .ok (.iconst 1, 1) := dk_4 (dk_at dksJ4_add_0 23 rfl rfl)
theorem dJ4_add_24 : decode cJ4_add 24 = .ok (.ireturn, 1) := dk_172 (dk_at dksJ4_add_1 0 rfl rfl)
abbrev cJ4_add_2 : ByteArray := prog_40_method_24_code
def yJ4_add_2 : MethodName := ⟨RJ4, "add", "(Ljava/lang/Object;[Ljava/lang/Object;I)V"⟩
def dkwJ4_add_2_0 : List UInt8 := [29, 44, 190, 160, 0, 8, 42, 182, 0, 129, 77, 44, 29, 43, 83, 42, 29, 4, 96, 181, 0, 48, 177]
abbrev dktJ4_add_2_0 : List UInt8 := dkwJ4_add_2_0 ++ []
theorem dksJ4_add_2_0 : cJ4_add_2.data.toList.drop 0 = dktJ4_add_2_0 := by decide +kernel
theorem dJ4_add_2_0 : decode cJ4_add_2 0 = .ok (.iload_n 3, 1) := dk_29 (dk_at dksJ4_add_2_0 0 rfl rfl)
theorem dJ4_add_2_1 : decode cJ4_add_2 1 = .ok (.aload_n 2, 1) := dk_44 (dk_at dksJ4_add_2_0 1 rfl rfl)
theorem dJ4_add_2_2 : decode cJ4_add_2 2 = .ok (.arraylength, 1) := dk_190 (dk_at dksJ4_add_2_0 2 rfl rfl)
theorem dJ4_add_2_3 : decode cJ4_add_2 3 = .ok (.if_icmp .ne 8, 3) := dk_160 0 8 (dk_at dksJ4_add_2_0 3 rfl rfl)
theorem dJ4_add_2_6 : decode cJ4_add_2 6 = .ok (.aload_n 0, 1) := dk_42 (dk_at dksJ4_add_2_0 6 rfl rfl)
theorem dJ4_add_2_7 : decode cJ4_add_2 7 = .ok (.invokevirtual 129, 3) := dk_182 0 129 (dk_at dksJ4_add_2_0 7 rfl rfl)
theorem dJ4_add_2_10 : decode cJ4_add_2 10 = .ok (.astore_n 2, 1) := dk_77 (dk_at dksJ4_add_2_0 10 rfl rfl)
theorem dJ4_add_2_11 : decode cJ4_add_2 11 = .ok (.aload_n 2, 1) := dk_44 (dk_at dksJ4_add_2_0 11 rfl rfl)
theorem dJ4_add_2_12 : decode cJ4_add_2 12 = .ok (.iload_n 3, 1) := dk_29 (dk_at dksJ4_add_2_0 12 rfl rfl)
theorem dJ4_add_2_13 : decode cJ4_add_2 13 = .ok (.aload_n 1, 1) := dk_43 (dk_at dksJ4_add_2_0 13 rfl rfl)
theorem dJ4_add_2_14 : decode cJ4_add_2 14 = .ok (.aastore, 1) := dk_83 (dk_at dksJ4_add_2_0 14 rfl rfl)
theorem dJ4_add_2_15 : decode cJ4_add_2 15 = .ok (.aload_n 0, 1) := dk_42 (dk_at dksJ4_add_2_0 15 rfl rfl)
theorem dJ4_add_2_16 : decode cJ4_add_2 16 = .ok (.iload_n 3, 1) := dk_29 (dk_at dksJ4_add_2_0 16 rfl rfl)
theorem dJ4_add_2_17 : decode cJ4_add_2 17 = .ok (.iconst 1, 1) := dk_4 (dk_at dksJ4_add_2_0 17 rfl rfl)
theorem dJ4_add_2_18 : decode cJ4_add_2 18 = .ok (.iadd, 1) := dk_96 (dk_at dksJ4_add_2_0 18 rfl rfl)
theorem dJ4_add_2_19 : decode cJ4_add_2 19 = .ok (.putfield 48, 3) := dk_181 0 48 (dk_at dksJ4_add_2_0 19 rfl rfl)
theorem dJ4_add_2_22 : decode cJ4_add_2 22 = .ok (.return_, 1) := dk_177 (dk_at dksJ4_add_2_0 22 rfl rfl)
abbrev cJ4_grow : ByteArray := prog_40_method_7_code
def yJ4_grow : MethodName := ⟨RJ4, "grow", "()[Ljava/lang/Object;"⟩
def dkwJ4_grow_0 : List UInt8 := [42, 42, 180, 0, 48, 4, 96, 182, 0, 69, 176]
abbrev dktJ4_grow_0 : List UInt8 := dkwJ4_grow_0 ++ []
theorem dksJ4_grow_0 : cJ4_grow.data.toList.drop 0 = dktJ4_grow_0 := by decide +kernel
theorem dJ4_grow_0 : decode cJ4_grow 0 = .ok (.aload_n 0, 1) := dk_42 (dk_at dksJ4_grow_0 0 rfl rfl)
theorem dJ4_grow_1 : decode cJ4_grow 1 = .ok (.aload_n 0, 1) := dk_42 (dk_at dksJ4_grow_0 1 rfl rfl)
theorem dJ4_grow_2 : decode cJ4_grow 2 = .ok (.getfield 48, 3) := dk_180 0 48 (dk_at dksJ4_grow_0 2 rfl rfl)
theorem dJ4_grow_5 : decode cJ4_grow 5 = .ok (.iconst 1, 1) := dk_4 (dk_at dksJ4_grow_0 5 rfl rfl)
theorem dJ4_grow_6 : decode cJ4_grow 6 = .ok (.iadd, 1) := dk_96 (dk_at dksJ4_grow_0 6 rfl rfl)
theorem dJ4_grow_7 : decode cJ4_grow 7 = .ok (.invokevirtual 69, 3) := dk_182 0 69 (dk_at dksJ4_grow_0 7 rfl rfl)
theorem dJ4_grow_10 : decode cJ4_grow 10 = .ok (.areturn, 1) := dk_176 (dk_at dksJ4_grow_0 10 rfl rfl)
abbrev cJ4_grow_2 : ByteArray := prog_40_method_6_code
def yJ4_grow_2 : MethodName := ⟨RJ4, "grow", "(I)[Ljava/lang/Object;"⟩
def dkwJ4_grow_2_2 : List UInt8 := [27, 184, 0, 79, 189, 0, 7, 90, 181, 0, 9, 176]
abbrev dktJ4_grow_2_2 : List UInt8 := dkwJ4_grow_2_2 ++ []
def dkwJ4_grow_2_1 : List UInt8 := [28, 4, 122, 184, 0, 73, 62, 42, 42, 180, 0, 9, 29, 184, 0, 66, 90, 181, 0, 9, 176, 42, 16, 10]
abbrev dktJ4_grow_2_1 : List UInt8 := dkwJ4_grow_2_1 ++ dktJ4_grow_2_2
def dkwJ4_grow_2_0 : List UInt8 := [42, 180, 0, 9, 190, 61, 28, 157, 0, 13, 42, 180, 0, 9, 178, 0, 39, 165, 0, 28, 28, 27, 28, 100]
abbrev dktJ4_grow_2_0 : List UInt8 := dkwJ4_grow_2_0 ++ dktJ4_grow_2_1
theorem dksJ4_grow_2_0 : cJ4_grow_2.data.toList.drop 0 = dktJ4_grow_2_0 := by decide +kernel
theorem dksJ4_grow_2_1 : cJ4_grow_2.data.toList.drop 24 = dktJ4_grow_2_1 := dk_seg dksJ4_grow_2_0 24 rfl rfl
theorem dksJ4_grow_2_2 : cJ4_grow_2.data.toList.drop 48 = dktJ4_grow_2_2 := dk_seg dksJ4_grow_2_1 24 rfl rfl
theorem dJ4_grow_2_0 : decode cJ4_grow_2 0 = .ok (.aload_n 0, 1) := dk_42 (dk_at dksJ4_grow_2_0 0 rfl rfl)
theorem dJ4_grow_2_1 : decode cJ4_grow_2 1 = .ok (.getfield 9, 3) := dk_180 0 9 (dk_at dksJ4_grow_2_0 1 rfl rfl)
theorem dJ4_grow_2_4 : decode cJ4_grow_2 4 = .ok (.arraylength, 1) := dk_190 (dk_at dksJ4_grow_2_0 4 rfl rfl)
theorem dJ4_grow_2_5 : decode cJ4_grow_2 5 = .ok (.istore_n 2, 1) := dk_61 (dk_at dksJ4_grow_2_0 5 rfl rfl)
theorem dJ4_grow_2_6 : decode cJ4_grow_2 6 = .ok (.iload_n 2, 1) := dk_28 (dk_at dksJ4_grow_2_0 6 rfl rfl)
theorem dJ4_grow_2_7 : decode cJ4_grow_2 7 = .ok (.ifCond .gt 13, 3) := dk_157 0 13 (dk_at dksJ4_grow_2_0 7 rfl rfl)
theorem dJ4_grow_2_10 : decode cJ4_grow_2 10 = .ok (.aload_n 0, 1) := dk_42 (dk_at dksJ4_grow_2_0 10 rfl rfl)
theorem dJ4_grow_2_11 : decode cJ4_grow_2 11 = .ok (.getfield 9, 3) := dk_180 0 9 (dk_at dksJ4_grow_2_0 11 rfl rfl)
theorem dJ4_grow_2_14 : decode cJ4_grow_2 14 = .ok (.getstatic 39, 3) := dk_178 0 39 (dk_at dksJ4_grow_2_0 14 rfl rfl)
theorem dJ4_grow_2_17 : decode cJ4_grow_2 17 = .ok (.if_acmp .eq 28, 3) := dk_165 0 28 (dk_at dksJ4_grow_2_0 17 rfl rfl)
theorem dJ4_grow_2_20 : decode cJ4_grow_2 20 = .ok (.iload_n 2, 1) := dk_28 (dk_at dksJ4_grow_2_0 20 rfl rfl)
theorem dJ4_grow_2_21 : decode cJ4_grow_2 21 = .ok (.iload_n 1, 1) := dk_27 (dk_at dksJ4_grow_2_0 21 rfl rfl)
theorem dJ4_grow_2_22 : decode cJ4_grow_2 22 = .ok (.iload_n 2, 1) := dk_28 (dk_at dksJ4_grow_2_0 22 rfl rfl)
theorem dJ4_grow_2_23 : decode cJ4_grow_2 23 = .ok (.isub, 1) := dk_100 (dk_at dksJ4_grow_2_0 23 rfl rfl)
theorem dJ4_grow_2_24 : decode cJ4_grow_2 24 = .ok (.iload_n 2, 1) := dk_28 (dk_at dksJ4_grow_2_1 0 rfl rfl)
theorem dJ4_grow_2_25 : decode cJ4_grow_2 25 = .ok (.iconst 1, 1) := dk_4 (dk_at dksJ4_grow_2_1 1 rfl rfl)
theorem dJ4_grow_2_26 : decode cJ4_grow_2 26 = .ok (.ishr, 1) := dk_122 (dk_at dksJ4_grow_2_1 2 rfl rfl)
theorem dJ4_grow_2_27 : decode cJ4_grow_2 27 = .ok (.invokestatic 73, 3) := dk_184 0 73 (dk_at dksJ4_grow_2_1 3 rfl rfl)
theorem dJ4_grow_2_30 : decode cJ4_grow_2 30 = .ok (.istore_n 3, 1) := dk_62 (dk_at dksJ4_grow_2_1 6 rfl rfl)
theorem dJ4_grow_2_31 : decode cJ4_grow_2 31 = .ok (.aload_n 0, 1) := dk_42 (dk_at dksJ4_grow_2_1 7 rfl rfl)
theorem dJ4_grow_2_32 : decode cJ4_grow_2 32 = .ok (.aload_n 0, 1) := dk_42 (dk_at dksJ4_grow_2_1 8 rfl rfl)
theorem dJ4_grow_2_33 : decode cJ4_grow_2 33 = .ok (.getfield 9, 3) := dk_180 0 9 (dk_at dksJ4_grow_2_1 9 rfl rfl)
theorem dJ4_grow_2_36 : decode cJ4_grow_2 36 = .ok (.iload_n 3, 1) := dk_29 (dk_at dksJ4_grow_2_1 12 rfl rfl)
theorem dJ4_grow_2_37 : decode cJ4_grow_2 37 = .ok (.invokestatic 66, 3) := dk_184 0 66 (dk_at dksJ4_grow_2_1 13 rfl rfl)
theorem dJ4_grow_2_40 : decode cJ4_grow_2 40 = .ok (.dup_x1, 1) := dk_90 (dk_at dksJ4_grow_2_1 16 rfl rfl)
theorem dJ4_grow_2_41 : decode cJ4_grow_2 41 = .ok (.putfield 9, 3) := dk_181 0 9 (dk_at dksJ4_grow_2_1 17 rfl rfl)
theorem dJ4_grow_2_44 : decode cJ4_grow_2 44 = .ok (.areturn, 1) := dk_176 (dk_at dksJ4_grow_2_1 20 rfl rfl)
theorem dJ4_grow_2_45 : decode cJ4_grow_2 45 = .ok (.aload_n 0, 1) := dk_42 (dk_at dksJ4_grow_2_1 21 rfl rfl)
theorem dJ4_grow_2_46 : decode cJ4_grow_2 46 = .ok (.bipush 10, 2) := dk_16 10 (dk_at dksJ4_grow_2_1 22 rfl rfl)
theorem dJ4_grow_2_48 : decode cJ4_grow_2 48 = .ok (.iload_n 1, 1) := dk_27 (dk_at dksJ4_grow_2_2 0 rfl rfl)
theorem dJ4_grow_2_49 : decode cJ4_grow_2 49 = .ok (.invokestatic 79, 3) := dk_184 0 79 (dk_at dksJ4_grow_2_2 1 rfl rfl)
theorem dJ4_grow_2_52 : decode cJ4_grow_2 52 = .ok (.anewarray 7, 3) := dk_189 0 7 (dk_at dksJ4_grow_2_2 4 rfl rfl)
theorem dJ4_grow_2_55 : decode cJ4_grow_2 55 = .ok (.dup_x1, 1) := dk_90 (dk_at dksJ4_grow_2_2 7 rfl rfl)
theorem dJ4_grow_2_56 : decode cJ4_grow_2 56 = .ok (.putfield 9, 3) := dk_181 0 9 (dk_at dksJ4_grow_2_2 8 rfl rfl)
theorem dJ4_grow_2_59 : decode cJ4_grow_2 59 = .ok (.areturn, 1) := dk_176 (dk_at dksJ4_grow_2_2 11 rfl rfl)
abbrev cJ4_size : ByteArray := prog_40_method_8_code
def yJ4_size : MethodName := ⟨RJ4, "size", "()I"⟩
theorem dJ4_size_0 : decode cJ4_size 0 = .ok (.aload_n 0, 1) := by decide +kernel
theorem dJ4_size_1 : decode cJ4_size 1 = .ok (.getfield 48, 3) := by decide +kernel
theorem dJ4_size_4 : decode cJ4_size 4 = .ok (.ireturn, 1) := by decide +kernel
abbrev cJ4_get : ByteArray := prog_40_method_20_code
def yJ4_get : MethodName := ⟨RJ4, "get", "(I)Ljava/lang/Object;"⟩
def dkwJ4_get_0 : List UInt8 := [27, 42, 180, 0, 48, 184, 0, 118, 87, 42, 27, 182, 0, 123, 176]
abbrev dktJ4_get_0 : List UInt8 := dkwJ4_get_0 ++ []
theorem dksJ4_get_0 : cJ4_get.data.toList.drop 0 = dktJ4_get_0 := by decide +kernel
theorem dJ4_get_0 : decode cJ4_get 0 = .ok (.iload_n 1, 1) := dk_27 (dk_at dksJ4_get_0 0 rfl rfl)
theorem dJ4_get_1 : decode cJ4_get 1 = .ok (.aload_n 0, 1) := dk_42 (dk_at dksJ4_get_0 1 rfl rfl)
theorem dJ4_get_2 : decode cJ4_get 2 = .ok (.getfield 48, 3) := dk_180 0 48 (dk_at dksJ4_get_0 2 rfl rfl)
theorem dJ4_get_5 : decode cJ4_get 5 = .ok (.invokestatic 118, 3) := dk_184 0 118 (dk_at dksJ4_get_0 5 rfl rfl)
theorem dJ4_get_8 : decode cJ4_get 8 = .ok (.pop, 1) := dk_87 (dk_at dksJ4_get_0 8 rfl rfl)
theorem dJ4_get_9 : decode cJ4_get 9 = .ok (.aload_n 0, 1) := dk_42 (dk_at dksJ4_get_0 9 rfl rfl)
theorem dJ4_get_10 : decode cJ4_get 10 = .ok (.iload_n 1, 1) := dk_27 (dk_at dksJ4_get_0 10 rfl rfl)
theorem dJ4_get_11 : decode cJ4_get 11 = .ok (.invokevirtual 123, 3) := dk_182 0 123 (dk_at dksJ4_get_0 11 rfl rfl)
theorem dJ4_get_14 : decode cJ4_get 14 = .ok (.areturn, 1) := dk_176 (dk_at dksJ4_get_0 14 rfl rfl)
abbrev cJ4_elementData : ByteArray := prog_40_method_18_code
def yJ4_elementData : MethodName := ⟨RJ4, "elementData", "(I)Ljava/lang/Object;"⟩
def dkwJ4_elementData_0 : List UInt8 := [42, 180, 0, 9, 27, 50, 176]
abbrev dktJ4_elementData_0 : List UInt8 := dkwJ4_elementData_0 ++ []
theorem dksJ4_elementData_0 : cJ4_elementData.data.toList.drop 0 = dktJ4_elementData_0 := by decide +kernel
theorem dJ4_elementData_0 : decode cJ4_elementData 0 = .ok (.aload_n 0, 1) := dk_42 (dk_at dksJ4_elementData_0 0 rfl rfl)
theorem dJ4_elementData_1 : decode cJ4_elementData 1 = .ok (.getfield 9, 3) := dk_180 0 9 (dk_at dksJ4_elementData_0 1 rfl rfl)
theorem dJ4_elementData_4 : decode cJ4_elementData 4 = .ok (.iload_n 1, 1) := dk_27 (dk_at dksJ4_elementData_0 4 rfl rfl)
theorem dJ4_elementData_5 : decode cJ4_elementData 5 = .ok (.aaload, 1) := dk_50 (dk_at dksJ4_elementData_0 5 rfl rfl)
theorem dJ4_elementData_6 : decode cJ4_elementData 6 = .ok (.areturn, 1) := dk_176 (dk_at dksJ4_elementData_0 6 rfl rfl)
abbrev cJ4_isEmpty : ByteArray := prog_40_method_9_code
def yJ4_isEmpty : MethodName := ⟨RJ4, "isEmpty", "()Z"⟩
def dkwJ4_isEmpty_0 : List UInt8 := [42, 180, 0, 48, 154, 0, 7, 4, 167, 0, 4, 3, 172]
abbrev dktJ4_isEmpty_0 : List UInt8 := dkwJ4_isEmpty_0 ++ []
theorem dksJ4_isEmpty_0 : cJ4_isEmpty.data.toList.drop 0 = dktJ4_isEmpty_0 := by decide +kernel
theorem dJ4_isEmpty_0 : decode cJ4_isEmpty 0 = .ok (.aload_n 0, 1) := dk_42 (dk_at dksJ4_isEmpty_0 0 rfl rfl)
theorem dJ4_isEmpty_1 : decode cJ4_isEmpty 1 = .ok (.getfield 48, 3) := dk_180 0 48 (dk_at dksJ4_isEmpty_0 1 rfl rfl)
theorem dJ4_isEmpty_4 : decode cJ4_isEmpty 4 = .ok (.ifCond .ne 7, 3) := dk_154 0 7 (dk_at dksJ4_isEmpty_0 4 rfl rfl)
theorem dJ4_isEmpty_7 : decode cJ4_isEmpty 7 = .ok (.iconst 1, 1) := dk_4 (dk_at dksJ4_isEmpty_0 7 rfl rfl)
theorem dJ4_isEmpty_8 : decode cJ4_isEmpty 8 = .ok (.goto 4, 3) := dk_167 0 4 (dk_at dksJ4_isEmpty_0 8 rfl rfl)
theorem dJ4_isEmpty_11 : decode cJ4_isEmpty 11 = .ok (.iconst 0, 1) := dk_3 (dk_at dksJ4_isEmpty_0 11 rfl rfl)
theorem dJ4_isEmpty_12 : decode cJ4_isEmpty 12 = .ok (.ireturn, 1) := dk_172 (dk_at dksJ4_isEmpty_0 12 rfl rfl)
abbrev cJ4_clear : ByteArray := prog_40_method_40_code
def yJ4_clear : MethodName := ⟨RJ4, "clear", "()V"⟩
def dkwJ4_clear_1 : List UInt8 := [181, 0, 48, 62, 29, 28, 162, 0, 13, 43, 29, 1, 83, 132, 3, 1, 167, 255, 244, 177]
abbrev dktJ4_clear_1 : List UInt8 := dkwJ4_clear_1 ++ []
def dkwJ4_clear_0 : List UInt8 := [42, 89, 180, 0, 63, 4, 96, 181, 0, 63, 42, 180, 0, 9, 76, 42, 180, 0, 48, 61, 42, 3, 90]
abbrev dktJ4_clear_0 : List UInt8 := dkwJ4_clear_0 ++ dktJ4_clear_1
theorem dksJ4_clear_0 : cJ4_clear.data.toList.drop 0 = dktJ4_clear_0 := by decide +kernel
theorem dksJ4_clear_1 : cJ4_clear.data.toList.drop 23 = dktJ4_clear_1 := dk_seg dksJ4_clear_0 23 rfl rfl
theorem dJ4_clear_0 : decode cJ4_clear 0 = .ok (.aload_n 0, 1) := dk_42 (dk_at dksJ4_clear_0 0 rfl rfl)
theorem dJ4_clear_1 : decode cJ4_clear 1 = .ok (.dup, 1) := dk_89 (dk_at dksJ4_clear_0 1 rfl rfl)
theorem dJ4_clear_2 : decode cJ4_clear 2 = .ok (.getfield 63, 3) := dk_180 0 63 (dk_at dksJ4_clear_0 2 rfl rfl)
theorem dJ4_clear_5 : decode cJ4_clear 5 = .ok (.iconst 1, 1) := dk_4 (dk_at dksJ4_clear_0 5 rfl rfl)
theorem dJ4_clear_6 : decode cJ4_clear 6 = .ok (.iadd, 1) := dk_96 (dk_at dksJ4_clear_0 6 rfl rfl)
theorem dJ4_clear_7 : decode cJ4_clear 7 = .ok (.putfield 63, 3) := dk_181 0 63 (dk_at dksJ4_clear_0 7 rfl rfl)
theorem dJ4_clear_10 : decode cJ4_clear 10 = .ok (.aload_n 0, 1) := dk_42 (dk_at dksJ4_clear_0 10 rfl rfl)
theorem dJ4_clear_11 : decode cJ4_clear 11 = .ok (.getfield 9, 3) := dk_180 0 9 (dk_at dksJ4_clear_0 11 rfl rfl)
theorem dJ4_clear_14 : decode cJ4_clear 14 = .ok (.astore_n 1, 1) := dk_76 (dk_at dksJ4_clear_0 14 rfl rfl)
theorem dJ4_clear_15 : decode cJ4_clear 15 = .ok (.aload_n 0, 1) := dk_42 (dk_at dksJ4_clear_0 15 rfl rfl)
theorem dJ4_clear_16 : decode cJ4_clear 16 = .ok (.getfield 48, 3) := dk_180 0 48 (dk_at dksJ4_clear_0 16 rfl rfl)
theorem dJ4_clear_19 : decode cJ4_clear 19 = .ok (.istore_n 2, 1) := dk_61 (dk_at dksJ4_clear_0 19 rfl rfl)
theorem dJ4_clear_20 : decode cJ4_clear 20 = .ok (.aload_n 0, 1) := dk_42 (dk_at dksJ4_clear_0 20 rfl rfl)
theorem dJ4_clear_21 : decode cJ4_clear 21 = .ok (.iconst 0, 1) := dk_3 (dk_at dksJ4_clear_0 21 rfl rfl)
theorem dJ4_clear_22 : decode cJ4_clear 22 = .ok (.dup_x1, 1) := dk_90 (dk_at dksJ4_clear_0 22 rfl rfl)
theorem dJ4_clear_23 : decode cJ4_clear 23 = .ok (.putfield 48, 3) := dk_181 0 48 (dk_at dksJ4_clear_1 0 rfl rfl)
theorem dJ4_clear_26 : decode cJ4_clear 26 = .ok (.istore_n 3, 1) := dk_62 (dk_at dksJ4_clear_1 3 rfl rfl)
theorem dJ4_clear_27 : decode cJ4_clear 27 = .ok (.iload_n 3, 1) := dk_29 (dk_at dksJ4_clear_1 4 rfl rfl)
theorem dJ4_clear_28 : decode cJ4_clear 28 = .ok (.iload_n 2, 1) := dk_28 (dk_at dksJ4_clear_1 5 rfl rfl)
theorem dJ4_clear_29 : decode cJ4_clear 29 = .ok (.if_icmp .ge 13, 3) := dk_162 0 13 (dk_at dksJ4_clear_1 6 rfl rfl)
theorem dJ4_clear_32 : decode cJ4_clear 32 = .ok (.aload_n 1, 1) := dk_43 (dk_at dksJ4_clear_1 9 rfl rfl)
theorem dJ4_clear_33 : decode cJ4_clear 33 = .ok (.iload_n 3, 1) := dk_29 (dk_at dksJ4_clear_1 10 rfl rfl)
theorem dJ4_clear_34 : decode cJ4_clear 34 = .ok (.aconst_null, 1) := dk_1 (dk_at dksJ4_clear_1 11 rfl rfl)
theorem dJ4_clear_35 : decode cJ4_clear 35 = .ok (.aastore, 1) := dk_83 (dk_at dksJ4_clear_1 12 rfl rfl)
theorem dJ4_clear_36 : decode cJ4_clear 36 = .ok (.iinc 3 1, 3) := dk_132 3 1 (dk_at dksJ4_clear_1 13 rfl rfl)
theorem dJ4_clear_39 : decode cJ4_clear 39 = .ok (.goto (-12), 3) := dk_167 255 244 (dk_at dksJ4_clear_1 16 rfl rfl)
theorem dJ4_clear_42 : decode cJ4_clear 42 = .ok (.return_, 1) := dk_177 (dk_at dksJ4_clear_1 19 rfl rfl)
abbrev cJ4_listIterator : ByteArray := prog_40_method_53_code
def yJ4_listIterator : MethodName := ⟨RJ4, "listIterator", "(I)Ljava/util/ListIterator;"⟩
def dkwJ4_listIterator_0 : List UInt8 := [42, 27, 182, 0, 135, 187, 1, 6, 89, 42, 27, 183, 1, 8, 176]
abbrev dktJ4_listIterator_0 : List UInt8 := dkwJ4_listIterator_0 ++ []
theorem dksJ4_listIterator_0 : cJ4_listIterator.data.toList.drop 0 = dktJ4_listIterator_0 := by decide +kernel
theorem dJ4_listIterator_0 : decode cJ4_listIterator 0 = .ok (.aload_n 0, 1) := dk_42 (dk_at dksJ4_listIterator_0 0 rfl rfl)
theorem dJ4_listIterator_1 : decode cJ4_listIterator 1 = .ok (.iload_n 1, 1) := dk_27 (dk_at dksJ4_listIterator_0 1 rfl rfl)
theorem dJ4_listIterator_2 : decode cJ4_listIterator 2 = .ok (.invokevirtual 135, 3) := dk_182 0 135 (dk_at dksJ4_listIterator_0 2 rfl rfl)
theorem dJ4_listIterator_5 : decode cJ4_listIterator 5 = .ok (.new 262, 3) := dk_187 1 6 (dk_at dksJ4_listIterator_0 5 rfl rfl)
theorem dJ4_listIterator_8 : decode cJ4_listIterator 8 = .ok (.dup, 1) := dk_89 (dk_at dksJ4_listIterator_0 8 rfl rfl)
theorem dJ4_listIterator_9 : decode cJ4_listIterator 9 = .ok (.aload_n 0, 1) := dk_42 (dk_at dksJ4_listIterator_0 9 rfl rfl)
theorem dJ4_listIterator_10 : decode cJ4_listIterator 10 = .ok (.iload_n 1, 1) := dk_27 (dk_at dksJ4_listIterator_0 10 rfl rfl)
theorem dJ4_listIterator_11 : decode cJ4_listIterator 11 = .ok (.invokespecial 264, 3) := dk_183 1 8 (dk_at dksJ4_listIterator_0 11 rfl rfl)
theorem dJ4_listIterator_14 : decode cJ4_listIterator 14 = .ok (.areturn, 1) := dk_176 (dk_at dksJ4_listIterator_0 14 rfl rfl)
abbrev cJ4_rangeCheckForAdd : ByteArray := prog_40_method_45_code
def yJ4_rangeCheckForAdd : MethodName := ⟨RJ4, "rangeCheckForAdd", "(I)V"⟩
def dkwJ4_rangeCheckForAdd_1 : List UInt8 := [191, 177]
abbrev dktJ4_rangeCheckForAdd_1 : List UInt8 := dkwJ4_rangeCheckForAdd_1 ++ []
def dkwJ4_rangeCheckForAdd_0 : List UInt8 := [27, 42, 180, 0, 48, 163, 0, 7, 27, 156, 0, 16, 187, 0, 187, 89, 42, 27, 182, 0, 198, 183, 0, 193]
abbrev dktJ4_rangeCheckForAdd_0 : List UInt8 := dkwJ4_rangeCheckForAdd_0 ++ dktJ4_rangeCheckForAdd_1
theorem dksJ4_rangeCheckForAdd_0 : cJ4_rangeCheckForAdd.data.toList.drop 0 = dktJ4_rangeCheckForAdd_0 := by decide +kernel
theorem dksJ4_rangeCheckForAdd_1 : cJ4_rangeCheckForAdd.data.toList.drop 24 = dktJ4_rangeCheckForAdd_1 := dk_seg dksJ4_rangeCheckForAdd_0 24 rfl rfl
theorem dJ4_rangeCheckForAdd_0 : decode cJ4_rangeCheckForAdd 0 = .ok (.iload_n 1, 1) := dk_27 (dk_at dksJ4_rangeCheckForAdd_0 0 rfl rfl)
theorem dJ4_rangeCheckForAdd_1 : decode cJ4_rangeCheckForAdd 1 = .ok (.aload_n 0, 1) := dk_42 (dk_at dksJ4_rangeCheckForAdd_0 1 rfl rfl)
theorem dJ4_rangeCheckForAdd_2 : decode cJ4_rangeCheckForAdd 2 = .ok (.getfield 48, 3) := dk_180 0 48 (dk_at dksJ4_rangeCheckForAdd_0 2 rfl rfl)
theorem dJ4_rangeCheckForAdd_5 : decode cJ4_rangeCheckForAdd 5 = .ok (.if_icmp .gt 7, 3) := dk_163 0 7 (dk_at dksJ4_rangeCheckForAdd_0 5 rfl rfl)
theorem dJ4_rangeCheckForAdd_8 : decode cJ4_rangeCheckForAdd 8 = .ok (.iload_n 1, 1) := dk_27 (dk_at dksJ4_rangeCheckForAdd_0 8 rfl rfl)
theorem dJ4_rangeCheckForAdd_9 : decode cJ4_rangeCheckForAdd 9 = .ok (.ifCond .ge 16, 3) := dk_156 0 16 (dk_at dksJ4_rangeCheckForAdd_0 9 rfl rfl)
theorem dJ4_rangeCheckForAdd_12 : decode cJ4_rangeCheckForAdd 12 = .ok (.new 187, 3) := dk_187 0 187 (dk_at dksJ4_rangeCheckForAdd_0 12 rfl rfl)
theorem dJ4_rangeCheckForAdd_15 : decode cJ4_rangeCheckForAdd 15 = .ok (.dup, 1) := dk_89 (dk_at dksJ4_rangeCheckForAdd_0 15 rfl rfl)
theorem dJ4_rangeCheckForAdd_16 : decode cJ4_rangeCheckForAdd 16 = .ok (.aload_n 0, 1) := dk_42 (dk_at dksJ4_rangeCheckForAdd_0 16 rfl rfl)
theorem dJ4_rangeCheckForAdd_17 : decode cJ4_rangeCheckForAdd 17 = .ok (.iload_n 1, 1) := dk_27 (dk_at dksJ4_rangeCheckForAdd_0 17 rfl rfl)
theorem dJ4_rangeCheckForAdd_18 : decode cJ4_rangeCheckForAdd 18 = .ok (.invokevirtual 198, 3) := dk_182 0 198 (dk_at dksJ4_rangeCheckForAdd_0 18 rfl rfl)
theorem dJ4_rangeCheckForAdd_21 : decode cJ4_rangeCheckForAdd 21 = .ok (.invokespecial 193, 3) := dk_183 0 193 (dk_at dksJ4_rangeCheckForAdd_0 21 rfl rfl)
theorem dJ4_rangeCheckForAdd_24 : decode cJ4_rangeCheckForAdd 24 = .ok (.athrow, 1) := dk_191 (dk_at dksJ4_rangeCheckForAdd_1 0 rfl rfl)
theorem dJ4_rangeCheckForAdd_25 : decode cJ4_rangeCheckForAdd 25 = .ok (.return_, 1) := dk_177 (dk_at dksJ4_rangeCheckForAdd_1 1 rfl rfl)
abbrev cJ4_remove : ByteArray := prog_40_method_29_code
def yJ4_remove : MethodName := ⟨RJ4, "remove", "(I)Ljava/lang/Object;"⟩
def dkwJ4_remove_1 : List UInt8 := [45, 176]
abbrev dktJ4_remove_1 : List UInt8 := dkwJ4_remove_1 ++ []
def dkwJ4_remove_0 : List UInt8 := [27, 42, 180, 0, 48, 184, 0, 118, 87, 42, 180, 0, 9, 77, 44, 27, 50, 78, 42, 44, 27, 182, 0, 144]
abbrev dktJ4_remove_0 : List UInt8 := dkwJ4_remove_0 ++ dktJ4_remove_1
theorem dksJ4_remove_0 : cJ4_remove.data.toList.drop 0 = dktJ4_remove_0 := by decide +kernel
theorem dksJ4_remove_1 : cJ4_remove.data.toList.drop 24 = dktJ4_remove_1 := dk_seg dksJ4_remove_0 24 rfl rfl
theorem dJ4_remove_0 : decode cJ4_remove 0 = .ok (.iload_n 1, 1) := dk_27 (dk_at dksJ4_remove_0 0 rfl rfl)
theorem dJ4_remove_1 : decode cJ4_remove 1 = .ok (.aload_n 0, 1) := dk_42 (dk_at dksJ4_remove_0 1 rfl rfl)
theorem dJ4_remove_2 : decode cJ4_remove 2 = .ok (.getfield 48, 3) := dk_180 0 48 (dk_at dksJ4_remove_0 2 rfl rfl)
theorem dJ4_remove_5 : decode cJ4_remove 5 = .ok (.invokestatic 118, 3) := dk_184 0 118 (dk_at dksJ4_remove_0 5 rfl rfl)
theorem dJ4_remove_8 : decode cJ4_remove 8 = .ok (.pop, 1) := dk_87 (dk_at dksJ4_remove_0 8 rfl rfl)
theorem dJ4_remove_9 : decode cJ4_remove 9 = .ok (.aload_n 0, 1) := dk_42 (dk_at dksJ4_remove_0 9 rfl rfl)
theorem dJ4_remove_10 : decode cJ4_remove 10 = .ok (.getfield 9, 3) := dk_180 0 9 (dk_at dksJ4_remove_0 10 rfl rfl)
theorem dJ4_remove_13 : decode cJ4_remove 13 = .ok (.astore_n 2, 1) := dk_77 (dk_at dksJ4_remove_0 13 rfl rfl)
theorem dJ4_remove_14 : decode cJ4_remove 14 = .ok (.aload_n 2, 1) := dk_44 (dk_at dksJ4_remove_0 14 rfl rfl)
theorem dJ4_remove_15 : decode cJ4_remove 15 = .ok (.iload_n 1, 1) := dk_27 (dk_at dksJ4_remove_0 15 rfl rfl)
theorem dJ4_remove_16 : decode cJ4_remove 16 = .ok (.aaload, 1) := dk_50 (dk_at dksJ4_remove_0 16 rfl rfl)
theorem dJ4_remove_17 : decode cJ4_remove 17 = .ok (.astore_n 3, 1) := dk_78 (dk_at dksJ4_remove_0 17 rfl rfl)
theorem dJ4_remove_18 : decode cJ4_remove 18 = .ok (.aload_n 0, 1) := dk_42 (dk_at dksJ4_remove_0 18 rfl rfl)
theorem dJ4_remove_19 : decode cJ4_remove 19 = .ok (.aload_n 2, 1) := dk_44 (dk_at dksJ4_remove_0 19 rfl rfl)
theorem dJ4_remove_20 : decode cJ4_remove 20 = .ok (.iload_n 1, 1) := dk_27 (dk_at dksJ4_remove_0 20 rfl rfl)
theorem dJ4_remove_21 : decode cJ4_remove 21 = .ok (.invokevirtual 144, 3) := dk_182 0 144 (dk_at dksJ4_remove_0 21 rfl rfl)
theorem dJ4_remove_24 : decode cJ4_remove 24 = .ok (.aload_n 3, 1) := dk_45 (dk_at dksJ4_remove_1 0 rfl rfl)
theorem dJ4_remove_25 : decode cJ4_remove 25 = .ok (.areturn, 1) := dk_176 (dk_at dksJ4_remove_1 1 rfl rfl)
abbrev cJ4_fastRemove : ByteArray := prog_40_method_39_code
def yJ4_fastRemove : MethodName := ⟨RJ4, "fastRemove", "([Ljava/lang/Object;I)V"⟩
def dkwJ4_fastRemove_1 : List UInt8 := [4, 96, 43, 28, 29, 28, 100, 184, 0, 112, 43, 42, 29, 90, 181, 0, 48, 1, 83, 177]
abbrev dktJ4_fastRemove_1 : List UInt8 := dkwJ4_fastRemove_1 ++ []
def dkwJ4_fastRemove_0 : List UInt8 := [42, 89, 180, 0, 63, 4, 96, 181, 0, 63, 42, 180, 0, 48, 4, 100, 89, 62, 28, 164, 0, 15, 43, 28]
abbrev dktJ4_fastRemove_0 : List UInt8 := dkwJ4_fastRemove_0 ++ dktJ4_fastRemove_1
theorem dksJ4_fastRemove_0 : cJ4_fastRemove.data.toList.drop 0 = dktJ4_fastRemove_0 := by decide +kernel
theorem dksJ4_fastRemove_1 : cJ4_fastRemove.data.toList.drop 24 = dktJ4_fastRemove_1 := dk_seg dksJ4_fastRemove_0 24 rfl rfl
theorem dJ4_fastRemove_0 : decode cJ4_fastRemove 0 = .ok (.aload_n 0, 1) := dk_42 (dk_at dksJ4_fastRemove_0 0 rfl rfl)
theorem dJ4_fastRemove_1 : decode cJ4_fastRemove 1 = .ok (.dup, 1) := dk_89 (dk_at dksJ4_fastRemove_0 1 rfl rfl)
theorem dJ4_fastRemove_2 : decode cJ4_fastRemove 2 = .ok (.getfield 63, 3) := dk_180 0 63 (dk_at dksJ4_fastRemove_0 2 rfl rfl)
theorem dJ4_fastRemove_5 : decode cJ4_fastRemove 5 = .ok (.iconst 1, 1) := dk_4 (dk_at dksJ4_fastRemove_0 5 rfl rfl)
theorem dJ4_fastRemove_6 : decode cJ4_fastRemove 6 = .ok (.iadd, 1) := dk_96 (dk_at dksJ4_fastRemove_0 6 rfl rfl)
theorem dJ4_fastRemove_7 : decode cJ4_fastRemove 7 = .ok (.putfield 63, 3) := dk_181 0 63 (dk_at dksJ4_fastRemove_0 7 rfl rfl)
theorem dJ4_fastRemove_10 : decode cJ4_fastRemove 10 = .ok (.aload_n 0, 1) := dk_42 (dk_at dksJ4_fastRemove_0 10 rfl rfl)
theorem dJ4_fastRemove_11 : decode cJ4_fastRemove 11 = .ok (.getfield 48, 3) := dk_180 0 48 (dk_at dksJ4_fastRemove_0 11 rfl rfl)
theorem dJ4_fastRemove_14 : decode cJ4_fastRemove 14 = .ok (.iconst 1, 1) := dk_4 (dk_at dksJ4_fastRemove_0 14 rfl rfl)
theorem dJ4_fastRemove_15 : decode cJ4_fastRemove 15 = .ok (.isub, 1) := dk_100 (dk_at dksJ4_fastRemove_0 15 rfl rfl)
theorem dJ4_fastRemove_16 : decode cJ4_fastRemove 16 = .ok (.dup, 1) := dk_89 (dk_at dksJ4_fastRemove_0 16 rfl rfl)
theorem dJ4_fastRemove_17 : decode cJ4_fastRemove 17 = .ok (.istore_n 3, 1) := dk_62 (dk_at dksJ4_fastRemove_0 17 rfl rfl)
theorem dJ4_fastRemove_18 : decode cJ4_fastRemove 18 = .ok (.iload_n 2, 1) := dk_28 (dk_at dksJ4_fastRemove_0 18 rfl rfl)
theorem dJ4_fastRemove_19 : decode cJ4_fastRemove 19 = .ok (.if_icmp .le 15, 3) := dk_164 0 15 (dk_at dksJ4_fastRemove_0 19 rfl rfl)
theorem dJ4_fastRemove_22 : decode cJ4_fastRemove 22 = .ok (.aload_n 1, 1) := dk_43 (dk_at dksJ4_fastRemove_0 22 rfl rfl)
theorem dJ4_fastRemove_23 : decode cJ4_fastRemove 23 = .ok (.iload_n 2, 1) := dk_28 (dk_at dksJ4_fastRemove_0 23 rfl rfl)
theorem dJ4_fastRemove_24 : decode cJ4_fastRemove 24 = .ok (.iconst 1, 1) := dk_4 (dk_at dksJ4_fastRemove_1 0 rfl rfl)
theorem dJ4_fastRemove_25 : decode cJ4_fastRemove 25 = .ok (.iadd, 1) := dk_96 (dk_at dksJ4_fastRemove_1 1 rfl rfl)
theorem dJ4_fastRemove_26 : decode cJ4_fastRemove 26 = .ok (.aload_n 1, 1) := dk_43 (dk_at dksJ4_fastRemove_1 2 rfl rfl)
theorem dJ4_fastRemove_27 : decode cJ4_fastRemove 27 = .ok (.iload_n 2, 1) := dk_28 (dk_at dksJ4_fastRemove_1 3 rfl rfl)
theorem dJ4_fastRemove_28 : decode cJ4_fastRemove 28 = .ok (.iload_n 3, 1) := dk_29 (dk_at dksJ4_fastRemove_1 4 rfl rfl)
theorem dJ4_fastRemove_29 : decode cJ4_fastRemove 29 = .ok (.iload_n 2, 1) := dk_28 (dk_at dksJ4_fastRemove_1 5 rfl rfl)
theorem dJ4_fastRemove_30 : decode cJ4_fastRemove 30 = .ok (.isub, 1) := dk_100 (dk_at dksJ4_fastRemove_1 6 rfl rfl)
theorem dJ4_fastRemove_31 : decode cJ4_fastRemove 31 = .ok (.invokestatic 112, 3) := dk_184 0 112 (dk_at dksJ4_fastRemove_1 7 rfl rfl)
theorem dJ4_fastRemove_34 : decode cJ4_fastRemove 34 = .ok (.aload_n 1, 1) := dk_43 (dk_at dksJ4_fastRemove_1 10 rfl rfl)
theorem dJ4_fastRemove_35 : decode cJ4_fastRemove 35 = .ok (.aload_n 0, 1) := dk_42 (dk_at dksJ4_fastRemove_1 11 rfl rfl)
theorem dJ4_fastRemove_36 : decode cJ4_fastRemove 36 = .ok (.iload_n 3, 1) := dk_29 (dk_at dksJ4_fastRemove_1 12 rfl rfl)
theorem dJ4_fastRemove_37 : decode cJ4_fastRemove 37 = .ok (.dup_x1, 1) := dk_90 (dk_at dksJ4_fastRemove_1 13 rfl rfl)
theorem dJ4_fastRemove_38 : decode cJ4_fastRemove 38 = .ok (.putfield 48, 3) := dk_181 0 48 (dk_at dksJ4_fastRemove_1 14 rfl rfl)
theorem dJ4_fastRemove_41 : decode cJ4_fastRemove 41 = .ok (.aconst_null, 1) := dk_1 (dk_at dksJ4_fastRemove_1 17 rfl rfl)
theorem dJ4_fastRemove_42 : decode cJ4_fastRemove 42 = .ok (.aastore, 1) := dk_83 (dk_at dksJ4_fastRemove_1 18 rfl rfl)
theorem dJ4_fastRemove_43 : decode cJ4_fastRemove 43 = .ok (.return_, 1) := dk_177 (dk_at dksJ4_fastRemove_1 19 rfl rfl)
theorem q80 : (Jvm.Cond.initialized "java/util/ArrayList") ∈ lw_all := lw_g (lw_at lw_m1 6 rfl) rfl
theorem q152 : (Jvm.Cond.sameField "java/util/ArrayList" "java/util/AbstractList" "modCount" "I") ∈ lw_all := lw_g (lw_at lw_m1 78 rfl) rfl
theorem q155 : (Jvm.Cond.fieldLink "java/util/ArrayList" (63 : Nat) "java/util/ArrayList" "modCount" "I") ∈ lw_all := lw_g (lw_at lw_m1 81 rfl) rfl
theorem q167 : (Jvm.Cond.instantiable "java/util/ArrayList" (3 : Nat)) ∈ lw_all := lw_g (lw_at lw_m1 93 rfl) rfl
theorem q169 : (Jvm.Cond.instanceMethod ({ cls := "java/util/ArrayList", name := "<init>", desc := "()V" } : Jvm.MethodName)) ∈ lw_all := lw_g (lw_at lw_m1 95 rfl) rfl
theorem q170 : (Jvm.Cond.code ({ cls := "java/util/ArrayList", name := "<init>", desc := "()V" } : Jvm.MethodName) prog_40_method_2_code (1 : Nat) (Option.none : Option Jvm.ClassFile.FieldType)) ∈ lw_all := lw_g (lw_at lw_m1 96 rfl) rfl
theorem q171 : (Jvm.Cond.methodLink "java/util/ArrayList" (1 : Nat) ({ cls := "java/util/AbstractList", name := "<init>", desc := "()V" } : Jvm.MethodName)) ∈ lw_all := lw_g (lw_at lw_m1 97 rfl) rfl
theorem q172 : (Jvm.Cond.fieldLink "java/util/ArrayList" (39 : Nat) "java/util/ArrayList" "DEFAULTCAPACITY_EMPTY_ELEMENTDATA" "[Ljava/lang/Object;") ∈ lw_all := lw_g (lw_at lw_m1 98 rfl) rfl
theorem q173 : (Jvm.Cond.laysStatic "java/util/ArrayList" "DEFAULTCAPACITY_EMPTY_ELEMENTDATA" "[Ljava/lang/Object;") ∈ lw_tbl := lw_at lw_m1 99 rfl
theorem q174 : (Jvm.Cond.fieldLink "java/util/ArrayList" (9 : Nat) "java/util/ArrayList" "elementData" "[Ljava/lang/Object;") ∈ lw_all := lw_g (lw_at lw_m1 100 rfl) rfl
theorem q177 : (Jvm.Cond.fieldLink "java/util/ArrayList" (48 : Nat) "java/util/ArrayList" "size" "I") ∈ lw_all := lw_g (lw_at lw_m1 103 rfl) rfl
theorem q178 : (Jvm.Cond.lays "java/util/ArrayList" "java/util/ArrayList" "elementData" "[Ljava/lang/Object;") ∈ lw_all := lw_g (lw_at lw_m1 104 rfl) rfl
theorem q179 : (Jvm.Cond.soleField "java/util/ArrayList" "elementData") ∈ lw_all := lw_g (lw_at lw_m1 105 rfl) rfl
theorem q180 : (Jvm.Cond.lays "java/util/ArrayList" "java/util/ArrayList" "size" "I") ∈ lw_all := lw_g (lw_at lw_m1 106 rfl) rfl
theorem q181 : (Jvm.Cond.soleField "java/util/ArrayList" "size") ∈ lw_all := lw_g (lw_at lw_m1 107 rfl) rfl
theorem q182 : (Jvm.Cond.lays "java/util/ArrayList" "java/util/AbstractList" "modCount" "I") ∈ lw_all := lw_g (lw_at lw_m1 108 rfl) rfl
theorem q183 : (Jvm.Cond.superclass "java/util/ArrayList" "java/util/AbstractList") ∈ lw_all := lw_g (lw_at lw_m1 109 rfl) rfl
theorem q548 : (Jvm.Cond.selects "java/util/ArrayList" ({ cls := "java/lang/Object", name := "getClass", desc := "()Ljava/lang/Class;" } : Jvm.MethodName) ({ cls := "java/lang/Object", name := "getClass", desc := "()Ljava/lang/Class;" } : Jvm.MethodName)) ∈ lw_all := lw_g (lw_at lw_m2 234 rfl) rfl
theorem q595 : (Jvm.Cond.castable "java/util/ArrayList" "java/util/List") ∈ lw_tbl := lw_at lw_m3 41 rfl
theorem q596 : (Jvm.Cond.selects "java/util/ArrayList" ({ cls := "java/util/List", name := "add", desc := "(Ljava/lang/Object;)Z" } : Jvm.MethodName) ({ cls := "java/util/ArrayList", name := "add", desc := "(Ljava/lang/Object;)Z" } : Jvm.MethodName)) ∈ lw_all := lw_g (lw_at lw_m3 42 rfl) rfl
theorem q597 : (Jvm.Cond.unhidden "java/util/ArrayList" "add" "(Ljava/lang/Object;)Z") ∈ lw_tbl := lw_at lw_m3 43 rfl
theorem q598 : (Jvm.Cond.instanceMethod ({ cls := "java/util/ArrayList", name := "add", desc := "(Ljava/lang/Object;)Z" } : Jvm.MethodName)) ∈ lw_all := lw_g (lw_at lw_m3 44 rfl) rfl
theorem q599 : (Jvm.Cond.publicMethod ({ cls := "java/util/ArrayList", name := "add", desc := "(Ljava/lang/Object;)Z" } : Jvm.MethodName)) ∈ lw_tbl := lw_at lw_m3 45 rfl
theorem q600 : (Jvm.Cond.code ({ cls := "java/util/ArrayList", name := "add", desc := "(Ljava/lang/Object;)Z" } : Jvm.MethodName) prog_40_method_25_code (2 : Nat) (Option.some Jvm.ClassFile.FieldType.boolean)) ∈ lw_all := lw_g (lw_at lw_m3 46 rfl) rfl
theorem q601 : (Jvm.Cond.methodLink "java/util/ArrayList" (131 : Nat) ({ cls := "java/util/ArrayList", name := "add", desc := "(Ljava/lang/Object;[Ljava/lang/Object;I)V" } : Jvm.MethodName)) ∈ lw_all := lw_g (lw_at lw_m3 47 rfl) rfl
theorem q602 : (Jvm.Cond.privateMethod ({ cls := "java/util/ArrayList", name := "add", desc := "(Ljava/lang/Object;[Ljava/lang/Object;I)V" } : Jvm.MethodName)) ∈ lw_tbl := lw_at lw_m3 48 rfl
theorem q603 : (Jvm.Cond.instanceMethod ({ cls := "java/util/ArrayList", name := "add", desc := "(Ljava/lang/Object;[Ljava/lang/Object;I)V" } : Jvm.MethodName)) ∈ lw_all := lw_g (lw_at lw_m3 49 rfl) rfl
theorem q604 : (Jvm.Cond.code ({ cls := "java/util/ArrayList", name := "add", desc := "(Ljava/lang/Object;[Ljava/lang/Object;I)V" } : Jvm.MethodName) prog_40_method_24_code (4 : Nat) (Option.none : Option Jvm.ClassFile.FieldType)) ∈ lw_all := lw_g (lw_at lw_m3 50 rfl) rfl
theorem q605 : (Jvm.Cond.methodLink "java/util/ArrayList" (129 : Nat) ({ cls := "java/util/ArrayList", name := "grow", desc := "()[Ljava/lang/Object;" } : Jvm.MethodName)) ∈ lw_all := lw_g (lw_at lw_m3 51 rfl) rfl
theorem q606 : (Jvm.Cond.privateMethod ({ cls := "java/util/ArrayList", name := "grow", desc := "()[Ljava/lang/Object;" } : Jvm.MethodName)) ∈ lw_tbl := lw_at lw_m3 52 rfl
theorem q607 : (Jvm.Cond.instanceMethod ({ cls := "java/util/ArrayList", name := "grow", desc := "()[Ljava/lang/Object;" } : Jvm.MethodName)) ∈ lw_all := lw_g (lw_at lw_m3 53 rfl) rfl
theorem q608 : (Jvm.Cond.code ({ cls := "java/util/ArrayList", name := "grow", desc := "()[Ljava/lang/Object;" } : Jvm.MethodName) prog_40_method_7_code (1 : Nat) (Option.some (Jvm.ClassFile.FieldType.array (Jvm.ClassFile.FieldType.object "java/lang/Object")))) ∈ lw_all := lw_g (lw_at lw_m3 54 rfl) rfl
theorem q609 : (Jvm.Cond.methodLink "java/util/ArrayList" (69 : Nat) ({ cls := "java/util/ArrayList", name := "grow", desc := "(I)[Ljava/lang/Object;" } : Jvm.MethodName)) ∈ lw_all := lw_g (lw_at lw_m3 55 rfl) rfl
theorem q610 : (Jvm.Cond.privateMethod ({ cls := "java/util/ArrayList", name := "grow", desc := "(I)[Ljava/lang/Object;" } : Jvm.MethodName)) ∈ lw_tbl := lw_at lw_m3 56 rfl
theorem q611 : (Jvm.Cond.instanceMethod ({ cls := "java/util/ArrayList", name := "grow", desc := "(I)[Ljava/lang/Object;" } : Jvm.MethodName)) ∈ lw_all := lw_g (lw_at lw_m3 57 rfl) rfl
theorem q612 : (Jvm.Cond.code ({ cls := "java/util/ArrayList", name := "grow", desc := "(I)[Ljava/lang/Object;" } : Jvm.MethodName) prog_40_method_6_code (4 : Nat) (Option.some (Jvm.ClassFile.FieldType.array (Jvm.ClassFile.FieldType.object "java/lang/Object")))) ∈ lw_all := lw_g (lw_at lw_m3 58 rfl) rfl
theorem q613 : (Jvm.Cond.methodLink "java/util/ArrayList" (73 : Nat) ({ cls := "jdk/internal/util/ArraysSupport", name := "newLength", desc := "(III)I" } : Jvm.MethodName)) ∈ lw_all := lw_g (lw_at lw_m3 59 rfl) rfl
theorem q623 : (Jvm.Cond.methodLink "java/util/ArrayList" (66 : Nat) ({ cls := "java/util/Arrays", name := "copyOf", desc := "([Ljava/lang/Object;I)[Ljava/lang/Object;" } : Jvm.MethodName)) ∈ lw_all := lw_g (lw_at lw_m3 69 rfl) rfl
theorem q624 : (Jvm.Cond.methodLink "java/util/ArrayList" (79 : Nat) ({ cls := "java/lang/Math", name := "max", desc := "(II)I" } : Jvm.MethodName)) ∈ lw_all := lw_g (lw_at lw_m3 70 rfl) rfl
theorem q625 : (Jvm.Cond.classLink "java/util/ArrayList" (7 : Nat) "java/lang/Object") ∈ lw_all := lw_g (lw_at lw_m3 71 rfl) rfl
theorem q661 : (Jvm.Cond.selects "java/util/ArrayList" ({ cls := "java/util/List", name := "size", desc := "()I" } : Jvm.MethodName) ({ cls := "java/util/ArrayList", name := "size", desc := "()I" } : Jvm.MethodName)) ∈ lw_all := lw_g (lw_at lw_m3 107 rfl) rfl
theorem q662 : (Jvm.Cond.unhidden "java/util/ArrayList" "size" "()I") ∈ lw_tbl := lw_at lw_m3 108 rfl
theorem q663 : (Jvm.Cond.instanceMethod ({ cls := "java/util/ArrayList", name := "size", desc := "()I" } : Jvm.MethodName)) ∈ lw_all := lw_g (lw_at lw_m3 109 rfl) rfl
theorem q664 : (Jvm.Cond.publicMethod ({ cls := "java/util/ArrayList", name := "size", desc := "()I" } : Jvm.MethodName)) ∈ lw_tbl := lw_at lw_m3 110 rfl
theorem q665 : (Jvm.Cond.code ({ cls := "java/util/ArrayList", name := "size", desc := "()I" } : Jvm.MethodName) prog_40_method_8_code (1 : Nat) (Option.some Jvm.ClassFile.FieldType.int)) ∈ lw_all := lw_g (lw_at lw_m3 111 rfl) rfl
theorem q675 : (Jvm.Cond.selects "java/util/ArrayList" ({ cls := "java/util/List", name := "get", desc := "(I)Ljava/lang/Object;" } : Jvm.MethodName) ({ cls := "java/util/ArrayList", name := "get", desc := "(I)Ljava/lang/Object;" } : Jvm.MethodName)) ∈ lw_all := lw_g (lw_at lw_m3 121 rfl) rfl
theorem q676 : (Jvm.Cond.unhidden "java/util/ArrayList" "get" "(I)Ljava/lang/Object;") ∈ lw_tbl := lw_at lw_m3 122 rfl
theorem q677 : (Jvm.Cond.instanceMethod ({ cls := "java/util/ArrayList", name := "get", desc := "(I)Ljava/lang/Object;" } : Jvm.MethodName)) ∈ lw_all := lw_g (lw_at lw_m3 123 rfl) rfl
theorem q678 : (Jvm.Cond.publicMethod ({ cls := "java/util/ArrayList", name := "get", desc := "(I)Ljava/lang/Object;" } : Jvm.MethodName)) ∈ lw_tbl := lw_at lw_m3 124 rfl
theorem q679 : (Jvm.Cond.code ({ cls := "java/util/ArrayList", name := "get", desc := "(I)Ljava/lang/Object;" } : Jvm.MethodName) prog_40_method_20_code (2 : Nat) (Option.some (Jvm.ClassFile.FieldType.object "java/lang/Object"))) ∈ lw_all := lw_g (lw_at lw_m3 125 rfl) rfl
theorem q680 : (Jvm.Cond.methodLink "java/util/ArrayList" (118 : Nat) ({ cls := "java/util/Objects", name := "checkIndex", desc := "(II)I" } : Jvm.MethodName)) ∈ lw_all := lw_g (lw_at lw_m3 126 rfl) rfl
theorem q686 : (Jvm.Cond.methodLink "java/util/ArrayList" (123 : Nat) ({ cls := "java/util/ArrayList", name := "elementData", desc := "(I)Ljava/lang/Object;" } : Jvm.MethodName)) ∈ lw_all := lw_g (lw_at lw_m3 132 rfl) rfl
theorem q687 : (Jvm.Cond.instanceMethod ({ cls := "java/util/ArrayList", name := "elementData", desc := "(I)Ljava/lang/Object;" } : Jvm.MethodName)) ∈ lw_all := lw_g (lw_at lw_m3 133 rfl) rfl
theorem q688 : (Jvm.Cond.selects "java/util/ArrayList" ({ cls := "java/util/ArrayList", name := "elementData", desc := "(I)Ljava/lang/Object;" } : Jvm.MethodName) ({ cls := "java/util/ArrayList", name := "elementData", desc := "(I)Ljava/lang/Object;" } : Jvm.MethodName)) ∈ lw_all := lw_g (lw_at lw_m3 134 rfl) rfl
theorem q689 : (Jvm.Cond.code ({ cls := "java/util/ArrayList", name := "elementData", desc := "(I)Ljava/lang/Object;" } : Jvm.MethodName) prog_40_method_18_code (2 : Nat) (Option.some (Jvm.ClassFile.FieldType.object "java/lang/Object"))) ∈ lw_all := lw_g (lw_at lw_m3 135 rfl) rfl
theorem q715 : (Jvm.Cond.selects "java/util/ArrayList" ({ cls := "java/util/List", name := "isEmpty", desc := "()Z" } : Jvm.MethodName) ({ cls := "java/util/ArrayList", name := "isEmpty", desc := "()Z" } : Jvm.MethodName)) ∈ lw_all := lw_g (lw_at lw_m3 161 rfl) rfl
theorem q716 : (Jvm.Cond.unhidden "java/util/ArrayList" "isEmpty" "()Z") ∈ lw_tbl := lw_at lw_m3 162 rfl
theorem q717 : (Jvm.Cond.instanceMethod ({ cls := "java/util/ArrayList", name := "isEmpty", desc := "()Z" } : Jvm.MethodName)) ∈ lw_all := lw_g (lw_at lw_m3 163 rfl) rfl
theorem q718 : (Jvm.Cond.publicMethod ({ cls := "java/util/ArrayList", name := "isEmpty", desc := "()Z" } : Jvm.MethodName)) ∈ lw_tbl := lw_at lw_m3 164 rfl
theorem q719 : (Jvm.Cond.code ({ cls := "java/util/ArrayList", name := "isEmpty", desc := "()Z" } : Jvm.MethodName) prog_40_method_9_code (1 : Nat) (Option.some Jvm.ClassFile.FieldType.boolean)) ∈ lw_all := lw_g (lw_at lw_m3 165 rfl) rfl
theorem q734 : (Jvm.Cond.selects "java/util/ArrayList" ({ cls := "java/util/AbstractCollection", name := "size", desc := "()I" } : Jvm.MethodName) ({ cls := "java/util/ArrayList", name := "size", desc := "()I" } : Jvm.MethodName)) ∈ lw_all := lw_g (lw_at lw_m3 180 rfl) rfl
theorem q749 : (Jvm.Cond.selects "java/util/ArrayList" ({ cls := "java/util/List", name := "clear", desc := "()V" } : Jvm.MethodName) ({ cls := "java/util/ArrayList", name := "clear", desc := "()V" } : Jvm.MethodName)) ∈ lw_all := lw_g (lw_at lw_m3 195 rfl) rfl
theorem q750 : (Jvm.Cond.unhidden "java/util/ArrayList" "clear" "()V") ∈ lw_tbl := lw_at lw_m3 196 rfl
theorem q751 : (Jvm.Cond.instanceMethod ({ cls := "java/util/ArrayList", name := "clear", desc := "()V" } : Jvm.MethodName)) ∈ lw_all := lw_g (lw_at lw_m3 197 rfl) rfl
theorem q752 : (Jvm.Cond.publicMethod ({ cls := "java/util/ArrayList", name := "clear", desc := "()V" } : Jvm.MethodName)) ∈ lw_tbl := lw_at lw_m3 198 rfl
theorem q753 : (Jvm.Cond.code ({ cls := "java/util/ArrayList", name := "clear", desc := "()V" } : Jvm.MethodName) prog_40_method_40_code (4 : Nat) (Option.none : Option Jvm.ClassFile.FieldType)) ∈ lw_all := lw_g (lw_at lw_m3 199 rfl) rfl
theorem q804 : (Jvm.Cond.selects "java/util/ArrayList" ({ cls := "java/util/AbstractList", name := "listIterator", desc := "(I)Ljava/util/ListIterator;" } : Jvm.MethodName) ({ cls := "java/util/ArrayList", name := "listIterator", desc := "(I)Ljava/util/ListIterator;" } : Jvm.MethodName)) ∈ lw_all := lw_g (lw_at lw_m4 10 rfl) rfl
theorem q805 : (Jvm.Cond.instanceMethod ({ cls := "java/util/ArrayList", name := "listIterator", desc := "(I)Ljava/util/ListIterator;" } : Jvm.MethodName)) ∈ lw_all := lw_g (lw_at lw_m4 11 rfl) rfl
theorem q806 : (Jvm.Cond.code ({ cls := "java/util/ArrayList", name := "listIterator", desc := "(I)Ljava/util/ListIterator;" } : Jvm.MethodName) prog_40_method_53_code (2 : Nat) (Option.some (Jvm.ClassFile.FieldType.object "java/util/ListIterator"))) ∈ lw_all := lw_g (lw_at lw_m4 12 rfl) rfl
theorem q807 : (Jvm.Cond.methodLink "java/util/ArrayList" (135 : Nat) ({ cls := "java/util/ArrayList", name := "rangeCheckForAdd", desc := "(I)V" } : Jvm.MethodName)) ∈ lw_all := lw_g (lw_at lw_m4 13 rfl) rfl
theorem q808 : (Jvm.Cond.privateMethod ({ cls := "java/util/ArrayList", name := "rangeCheckForAdd", desc := "(I)V" } : Jvm.MethodName)) ∈ lw_tbl := lw_at lw_m4 14 rfl
theorem q809 : (Jvm.Cond.instanceMethod ({ cls := "java/util/ArrayList", name := "rangeCheckForAdd", desc := "(I)V" } : Jvm.MethodName)) ∈ lw_all := lw_g (lw_at lw_m4 15 rfl) rfl
theorem q810 : (Jvm.Cond.code ({ cls := "java/util/ArrayList", name := "rangeCheckForAdd", desc := "(I)V" } : Jvm.MethodName) prog_40_method_45_code (2 : Nat) (Option.none : Option Jvm.ClassFile.FieldType)) ∈ lw_all := lw_g (lw_at lw_m4 16 rfl) rfl
theorem q811 : (Jvm.Cond.classLink "java/util/ArrayList" (262 : Nat) "java/util/ArrayList$ListItr") ∈ lw_all := lw_g (lw_at lw_m4 17 rfl) rfl
theorem q813 : (Jvm.Cond.methodLink "java/util/ArrayList" (264 : Nat) ({ cls := "java/util/ArrayList$ListItr", name := "<init>", desc := "(Ljava/util/ArrayList;I)V" } : Jvm.MethodName)) ∈ lw_all := lw_g (lw_at lw_m4 19 rfl) rfl
theorem q885 : (Jvm.Cond.selects "java/util/ArrayList" ({ cls := "java/util/AbstractList", name := "size", desc := "()I" } : Jvm.MethodName) ({ cls := "java/util/ArrayList", name := "size", desc := "()I" } : Jvm.MethodName)) ∈ lw_all := lw_g (lw_at lw_m4 91 rfl) rfl
theorem q922 : (Jvm.Cond.selects "java/util/ArrayList" ({ cls := "java/util/AbstractList", name := "get", desc := "(I)Ljava/lang/Object;" } : Jvm.MethodName) ({ cls := "java/util/ArrayList", name := "get", desc := "(I)Ljava/lang/Object;" } : Jvm.MethodName)) ∈ lw_all := lw_g (lw_at lw_m4 128 rfl) rfl
theorem q1277 : (Jvm.Cond.selects "java/util/ArrayList" ({ cls := "java/util/AbstractList", name := "remove", desc := "(I)Ljava/lang/Object;" } : Jvm.MethodName) ({ cls := "java/util/ArrayList", name := "remove", desc := "(I)Ljava/lang/Object;" } : Jvm.MethodName)) ∈ lw_all := lw_g (lw_at lw_m6 3 rfl) rfl
theorem q1278 : (Jvm.Cond.instanceMethod ({ cls := "java/util/ArrayList", name := "remove", desc := "(I)Ljava/lang/Object;" } : Jvm.MethodName)) ∈ lw_all := lw_g (lw_at lw_m6 4 rfl) rfl
theorem q1279 : (Jvm.Cond.code ({ cls := "java/util/ArrayList", name := "remove", desc := "(I)Ljava/lang/Object;" } : Jvm.MethodName) prog_40_method_29_code (4 : Nat) (Option.some (Jvm.ClassFile.FieldType.object "java/lang/Object"))) ∈ lw_all := lw_g (lw_at lw_m6 5 rfl) rfl
theorem q1280 : (Jvm.Cond.methodLink "java/util/ArrayList" (144 : Nat) ({ cls := "java/util/ArrayList", name := "fastRemove", desc := "([Ljava/lang/Object;I)V" } : Jvm.MethodName)) ∈ lw_all := lw_g (lw_at lw_m6 6 rfl) rfl
theorem q1281 : (Jvm.Cond.privateMethod ({ cls := "java/util/ArrayList", name := "fastRemove", desc := "([Ljava/lang/Object;I)V" } : Jvm.MethodName)) ∈ lw_tbl := lw_at lw_m6 7 rfl
theorem q1282 : (Jvm.Cond.instanceMethod ({ cls := "java/util/ArrayList", name := "fastRemove", desc := "([Ljava/lang/Object;I)V" } : Jvm.MethodName)) ∈ lw_all := lw_g (lw_at lw_m6 8 rfl) rfl
theorem q1283 : (Jvm.Cond.code ({ cls := "java/util/ArrayList", name := "fastRemove", desc := "([Ljava/lang/Object;I)V" } : Jvm.MethodName) prog_40_method_39_code (4 : Nat) (Option.none : Option Jvm.ClassFile.FieldType)) ∈ lw_all := lw_g (lw_at lw_m6 9 rfl) rfl
theorem q1284 : (Jvm.Cond.methodLink "java/util/ArrayList" (112 : Nat) ({ cls := "java/lang/System", name := "arraycopy", desc := "(Ljava/lang/Object;ILjava/lang/Object;II)V" } : Jvm.MethodName)) ∈ lw_all := lw_g (lw_at lw_m6 10 rfl) rfl
theorem q2032 : (Jvm.Cond.selects "java/util/ArrayList" ({ cls := "java/util/ArrayList", name := "remove", desc := "(I)Ljava/lang/Object;" } : Jvm.MethodName) ({ cls := "java/util/ArrayList", name := "remove", desc := "(I)Ljava/lang/Object;" } : Jvm.MethodName)) ∈ lw_all := lw_g (lw_at lw_m9 38 rfl) rfl
theorem q2040 : (Jvm.Cond.castable "java/util/ArrayList" "java/lang/Object") ∈ lw_tbl := lw_at lw_m9 46 rfl
theorem in_J4 : ∀ w ∈ wsJ40, w ∈ lw_all := lw_in wsJ40 [182, 178, 180] (by decide +kernel) (by decide +kernel)
/-! java/lang/Number -/
set_option maxRecDepth 100000
def RJ5 : String := "java/lang/Number"
abbrev cJ5_init : ByteArray := prog_23_method_1_code
def yJ5_init : MethodName := ⟨RJ5, "<init>", "()V"⟩
theorem dJ5_init_0 : decode cJ5_init 0 = .ok (.aload_n 0, 1) := by decide +kernel
theorem dJ5_init_1 : decode cJ5_init 1 = .ok (.invokespecial 1, 3) := by decide +kernel
theorem dJ5_init_4 : decode cJ5_init 4 = .ok (.return_, 1) := by decide +kernel
theorem q85 : (Jvm.Cond.initialized "java/lang/Number") ∈ lw_all := lw_g (lw_at lw_m1 11 rfl) rfl
theorem q500 : (Jvm.Cond.instanceMethod ({ cls := "java/lang/Number", name := "<init>", desc := "()V" } : Jvm.MethodName)) ∈ lw_all := lw_g (lw_at lw_m2 186 rfl) rfl
theorem q501 : (Jvm.Cond.code ({ cls := "java/lang/Number", name := "<init>", desc := "()V" } : Jvm.MethodName) prog_23_method_1_code (1 : Nat) (Option.none : Option Jvm.ClassFile.FieldType)) ∈ lw_all := lw_g (lw_at lw_m2 187 rfl) rfl
theorem q502 : (Jvm.Cond.methodLink "java/lang/Number" (1 : Nat) ({ cls := "java/lang/Object", name := "<init>", desc := "()V" } : Jvm.MethodName)) ∈ lw_all := lw_g (lw_at lw_m2 188 rfl) rfl
/-! java/lang/Integer -/
set_option maxRecDepth 100000
def RJ6 : String := "java/lang/Integer"
def TJ6 : u_T := fun k => match k with
  | _ => ("java/lang/Integer", "value", "I", true)
def tyJ6 : Nat → FieldType := fun k => match k with
  | _ => .int
abbrev wsJ60 : List Cond := u_ws RJ6 TJ6 1
theorem nmJ6 : ∀ a, a < 1 → ∀ b, b < 1 → a ≠ b → (TJ6 a).2.1 ≠ (TJ6 b).2.1 := by decide +kernel
theorem tyJ6_ok : ∀ k, k < 1 → parseFieldDescriptor (TJ6 k).2.2.1 = some (tyJ6 k) := by decide +kernel
abbrev cJ6_bitCount : ByteArray := prog_18_method_49_code
def yJ6_bitCount : MethodName := ⟨RJ6, "bitCount", "(I)I"⟩
def dkwJ6_bitCount_2 : List UInt8 := [26, 16, 63, 126, 172]
abbrev dktJ6_bitCount_2 : List UInt8 := dkwJ6_bitCount_2 ++ []
def dkwJ6_bitCount_1 : List UInt8 := [26, 26, 7, 124, 96, 19, 1, 11, 126, 59, 26, 26, 16, 8, 124, 96, 59, 26, 26, 16, 16, 124, 96, 59]
abbrev dktJ6_bitCount_1 : List UInt8 := dkwJ6_bitCount_1 ++ dktJ6_bitCount_2
def dkwJ6_bitCount_0 : List UInt8 := [26, 26, 4, 124, 19, 1, 9, 126, 100, 59, 26, 19, 1, 10, 126, 26, 5, 124, 19, 1, 10, 126, 96, 59]
abbrev dktJ6_bitCount_0 : List UInt8 := dkwJ6_bitCount_0 ++ dktJ6_bitCount_1
theorem dksJ6_bitCount_0 : cJ6_bitCount.data.toList.drop 0 = dktJ6_bitCount_0 := by decide +kernel
theorem dksJ6_bitCount_1 : cJ6_bitCount.data.toList.drop 24 = dktJ6_bitCount_1 := dk_seg dksJ6_bitCount_0 24 rfl rfl
theorem dksJ6_bitCount_2 : cJ6_bitCount.data.toList.drop 48 = dktJ6_bitCount_2 := dk_seg dksJ6_bitCount_1 24 rfl rfl
theorem dJ6_bitCount_0 : decode cJ6_bitCount 0 = .ok (.iload_n 0, 1) := dk_26 (dk_at dksJ6_bitCount_0 0 rfl rfl)
theorem dJ6_bitCount_1 : decode cJ6_bitCount 1 = .ok (.iload_n 0, 1) := dk_26 (dk_at dksJ6_bitCount_0 1 rfl rfl)
theorem dJ6_bitCount_2 : decode cJ6_bitCount 2 = .ok (.iconst 1, 1) := dk_4 (dk_at dksJ6_bitCount_0 2 rfl rfl)
theorem dJ6_bitCount_3 : decode cJ6_bitCount 3 = .ok (.iushr, 1) := dk_124 (dk_at dksJ6_bitCount_0 3 rfl rfl)
theorem dJ6_bitCount_4 : decode cJ6_bitCount 4 = .ok (.ldc_w 265, 3) := dk_19 1 9 (dk_at dksJ6_bitCount_0 4 rfl rfl)
theorem dJ6_bitCount_7 : decode cJ6_bitCount 7 = .ok (.iand, 1) := dk_126 (dk_at dksJ6_bitCount_0 7 rfl rfl)
theorem dJ6_bitCount_8 : decode cJ6_bitCount 8 = .ok (.isub, 1) := dk_100 (dk_at dksJ6_bitCount_0 8 rfl rfl)
theorem dJ6_bitCount_9 : decode cJ6_bitCount 9 = .ok (.istore_n 0, 1) := dk_59 (dk_at dksJ6_bitCount_0 9 rfl rfl)
theorem dJ6_bitCount_10 : decode cJ6_bitCount 10 = .ok (.iload_n 0, 1) := dk_26 (dk_at dksJ6_bitCount_0 10 rfl rfl)
theorem dJ6_bitCount_11 : decode cJ6_bitCount 11 = .ok (.ldc_w 266, 3) := dk_19 1 10 (dk_at dksJ6_bitCount_0 11 rfl rfl)
theorem dJ6_bitCount_14 : decode cJ6_bitCount 14 = .ok (.iand, 1) := dk_126 (dk_at dksJ6_bitCount_0 14 rfl rfl)
theorem dJ6_bitCount_15 : decode cJ6_bitCount 15 = .ok (.iload_n 0, 1) := dk_26 (dk_at dksJ6_bitCount_0 15 rfl rfl)
theorem dJ6_bitCount_16 : decode cJ6_bitCount 16 = .ok (.iconst 2, 1) := dk_5 (dk_at dksJ6_bitCount_0 16 rfl rfl)
theorem dJ6_bitCount_17 : decode cJ6_bitCount 17 = .ok (.iushr, 1) := dk_124 (dk_at dksJ6_bitCount_0 17 rfl rfl)
theorem dJ6_bitCount_18 : decode cJ6_bitCount 18 = .ok (.ldc_w 266, 3) := dk_19 1 10 (dk_at dksJ6_bitCount_0 18 rfl rfl)
theorem dJ6_bitCount_21 : decode cJ6_bitCount 21 = .ok (.iand, 1) := dk_126 (dk_at dksJ6_bitCount_0 21 rfl rfl)
theorem dJ6_bitCount_22 : decode cJ6_bitCount 22 = .ok (.iadd, 1) := dk_96 (dk_at dksJ6_bitCount_0 22 rfl rfl)
theorem dJ6_bitCount_23 : decode cJ6_bitCount 23 = .ok (.istore_n 0, 1) := dk_59 (dk_at dksJ6_bitCount_0 23 rfl rfl)
theorem dJ6_bitCount_24 : decode cJ6_bitCount 24 = .ok (.iload_n 0, 1) := dk_26 (dk_at dksJ6_bitCount_1 0 rfl rfl)
theorem dJ6_bitCount_25 : decode cJ6_bitCount 25 = .ok (.iload_n 0, 1) := dk_26 (dk_at dksJ6_bitCount_1 1 rfl rfl)
theorem dJ6_bitCount_26 : decode cJ6_bitCount 26 = .ok (.iconst 4, 1) := dk_7 (dk_at dksJ6_bitCount_1 2 rfl rfl)
theorem dJ6_bitCount_27 : decode cJ6_bitCount 27 = .ok (.iushr, 1) := dk_124 (dk_at dksJ6_bitCount_1 3 rfl rfl)
theorem dJ6_bitCount_28 : decode cJ6_bitCount 28 = .ok (.iadd, 1) := dk_96 (dk_at dksJ6_bitCount_1 4 rfl rfl)
theorem dJ6_bitCount_29 : decode cJ6_bitCount 29 = .ok (.ldc_w 267, 3) := dk_19 1 11 (dk_at dksJ6_bitCount_1 5 rfl rfl)
theorem dJ6_bitCount_32 : decode cJ6_bitCount 32 = .ok (.iand, 1) := dk_126 (dk_at dksJ6_bitCount_1 8 rfl rfl)
theorem dJ6_bitCount_33 : decode cJ6_bitCount 33 = .ok (.istore_n 0, 1) := dk_59 (dk_at dksJ6_bitCount_1 9 rfl rfl)
theorem dJ6_bitCount_34 : decode cJ6_bitCount 34 = .ok (.iload_n 0, 1) := dk_26 (dk_at dksJ6_bitCount_1 10 rfl rfl)
theorem dJ6_bitCount_35 : decode cJ6_bitCount 35 = .ok (.iload_n 0, 1) := dk_26 (dk_at dksJ6_bitCount_1 11 rfl rfl)
theorem dJ6_bitCount_36 : decode cJ6_bitCount 36 = .ok (.bipush 8, 2) := dk_16 8 (dk_at dksJ6_bitCount_1 12 rfl rfl)
theorem dJ6_bitCount_38 : decode cJ6_bitCount 38 = .ok (.iushr, 1) := dk_124 (dk_at dksJ6_bitCount_1 14 rfl rfl)
theorem dJ6_bitCount_39 : decode cJ6_bitCount 39 = .ok (.iadd, 1) := dk_96 (dk_at dksJ6_bitCount_1 15 rfl rfl)
theorem dJ6_bitCount_40 : decode cJ6_bitCount 40 = .ok (.istore_n 0, 1) := dk_59 (dk_at dksJ6_bitCount_1 16 rfl rfl)
theorem dJ6_bitCount_41 : decode cJ6_bitCount 41 = .ok (.iload_n 0, 1) := dk_26 (dk_at dksJ6_bitCount_1 17 rfl rfl)
theorem dJ6_bitCount_42 : decode cJ6_bitCount 42 = .ok (.iload_n 0, 1) := dk_26 (dk_at dksJ6_bitCount_1 18 rfl rfl)
theorem dJ6_bitCount_43 : decode cJ6_bitCount 43 = .ok (.bipush 16, 2) := dk_16 16 (dk_at dksJ6_bitCount_1 19 rfl rfl)
theorem dJ6_bitCount_45 : decode cJ6_bitCount 45 = .ok (.iushr, 1) := dk_124 (dk_at dksJ6_bitCount_1 21 rfl rfl)
theorem dJ6_bitCount_46 : decode cJ6_bitCount 46 = .ok (.iadd, 1) := dk_96 (dk_at dksJ6_bitCount_1 22 rfl rfl)
theorem dJ6_bitCount_47 : decode cJ6_bitCount 47 = .ok (.istore_n 0, 1) := dk_59 (dk_at dksJ6_bitCount_1 23 rfl rfl)
theorem dJ6_bitCount_48 : decode cJ6_bitCount 48 = .ok (.iload_n 0, 1) := dk_26 (dk_at dksJ6_bitCount_2 0 rfl rfl)
theorem dJ6_bitCount_49 : decode cJ6_bitCount 49 = .ok (.bipush 63, 2) := dk_16 63 (dk_at dksJ6_bitCount_2 1 rfl rfl)
theorem dJ6_bitCount_51 : decode cJ6_bitCount 51 = .ok (.iand, 1) := dk_126 (dk_at dksJ6_bitCount_2 3 rfl rfl)
theorem dJ6_bitCount_52 : decode cJ6_bitCount 52 = .ok (.ireturn, 1) := dk_172 (dk_at dksJ6_bitCount_2 4 rfl rfl)
abbrev cJ6_valueOf : ByteArray := prog_18_method_22_code
def yJ6_valueOf : MethodName := ⟨RJ6, "valueOf", "(I)Ljava/lang/Integer;"⟩
def dkwJ6_valueOf_1 : List UInt8 := [187, 0, 1, 89, 26, 183, 0, 199, 176]
abbrev dktJ6_valueOf_1 : List UInt8 := dkwJ6_valueOf_1 ++ []
def dkwJ6_valueOf_0 : List UInt8 := [26, 16, 128, 161, 0, 20, 26, 178, 0, 191, 163, 0, 13, 178, 0, 195, 26, 17, 0, 128, 96, 50, 176]
abbrev dktJ6_valueOf_0 : List UInt8 := dkwJ6_valueOf_0 ++ dktJ6_valueOf_1
theorem dksJ6_valueOf_0 : cJ6_valueOf.data.toList.drop 0 = dktJ6_valueOf_0 := by decide +kernel
theorem dksJ6_valueOf_1 : cJ6_valueOf.data.toList.drop 23 = dktJ6_valueOf_1 := dk_seg dksJ6_valueOf_0 23 rfl rfl
theorem dJ6_valueOf_0 : decode cJ6_valueOf 0 = .ok (.iload_n 0, 1) := dk_26 (dk_at dksJ6_valueOf_0 0 rfl rfl)
theorem dJ6_valueOf_1 : decode cJ6_valueOf 1 = .ok (.bipush (-128), 2) := dk_16 128 (dk_at dksJ6_valueOf_0 1 rfl rfl)
theorem dJ6_valueOf_3 : decode cJ6_valueOf 3 = .ok (.if_icmp .lt 20, 3) := dk_161 0 20 (dk_at dksJ6_valueOf_0 3 rfl rfl)
theorem dJ6_valueOf_6 : decode cJ6_valueOf 6 = .ok (.iload_n 0, 1) := dk_26 (dk_at dksJ6_valueOf_0 6 rfl rfl)
theorem dJ6_valueOf_7 : decode cJ6_valueOf 7 = .ok (.getstatic 191, 3) := dk_178 0 191 (dk_at dksJ6_valueOf_0 7 rfl rfl)
theorem dJ6_valueOf_10 : decode cJ6_valueOf 10 = .ok (.if_icmp .gt 13, 3) := dk_163 0 13 (dk_at dksJ6_valueOf_0 10 rfl rfl)
theorem dJ6_valueOf_13 : decode cJ6_valueOf 13 = .ok (.getstatic 195, 3) := dk_178 0 195 (dk_at dksJ6_valueOf_0 13 rfl rfl)
theorem dJ6_valueOf_16 : decode cJ6_valueOf 16 = .ok (.iload_n 0, 1) := dk_26 (dk_at dksJ6_valueOf_0 16 rfl rfl)
theorem dJ6_valueOf_17 : decode cJ6_valueOf 17 = .ok (.sipush 128, 3) := dk_17 0 128 (dk_at dksJ6_valueOf_0 17 rfl rfl)
theorem dJ6_valueOf_20 : decode cJ6_valueOf 20 = .ok (.iadd, 1) := dk_96 (dk_at dksJ6_valueOf_0 20 rfl rfl)
theorem dJ6_valueOf_21 : decode cJ6_valueOf 21 = .ok (.aaload, 1) := dk_50 (dk_at dksJ6_valueOf_0 21 rfl rfl)
theorem dJ6_valueOf_22 : decode cJ6_valueOf 22 = .ok (.areturn, 1) := dk_176 (dk_at dksJ6_valueOf_0 22 rfl rfl)
theorem dJ6_valueOf_23 : decode cJ6_valueOf 23 = .ok (.new 1, 3) := dk_187 0 1 (dk_at dksJ6_valueOf_1 0 rfl rfl)
theorem dJ6_valueOf_26 : decode cJ6_valueOf 26 = .ok (.dup, 1) := dk_89 (dk_at dksJ6_valueOf_1 3 rfl rfl)
theorem dJ6_valueOf_27 : decode cJ6_valueOf 27 = .ok (.iload_n 0, 1) := dk_26 (dk_at dksJ6_valueOf_1 4 rfl rfl)
theorem dJ6_valueOf_28 : decode cJ6_valueOf 28 = .ok (.invokespecial 199, 3) := dk_183 0 199 (dk_at dksJ6_valueOf_1 5 rfl rfl)
theorem dJ6_valueOf_31 : decode cJ6_valueOf 31 = .ok (.areturn, 1) := dk_176 (dk_at dksJ6_valueOf_1 8 rfl rfl)
abbrev cJ6_init : ByteArray := prog_18_method_23_code
def yJ6_init : MethodName := ⟨RJ6, "<init>", "(I)V"⟩
def dkwJ6_init_0 : List UInt8 := [42, 183, 0, 202, 42, 27, 181, 0, 205, 177]
abbrev dktJ6_init_0 : List UInt8 := dkwJ6_init_0 ++ []
theorem dksJ6_init_0 : cJ6_init.data.toList.drop 0 = dktJ6_init_0 := by decide +kernel
theorem dJ6_init_0 : decode cJ6_init 0 = .ok (.aload_n 0, 1) := dk_42 (dk_at dksJ6_init_0 0 rfl rfl)
theorem dJ6_init_1 : decode cJ6_init 1 = .ok (.invokespecial 202, 3) := dk_183 0 202 (dk_at dksJ6_init_0 1 rfl rfl)
theorem dJ6_init_4 : decode cJ6_init 4 = .ok (.aload_n 0, 1) := dk_42 (dk_at dksJ6_init_0 4 rfl rfl)
theorem dJ6_init_5 : decode cJ6_init 5 = .ok (.iload_n 1, 1) := dk_27 (dk_at dksJ6_init_0 5 rfl rfl)
theorem dJ6_init_6 : decode cJ6_init 6 = .ok (.putfield 205, 3) := dk_181 0 205 (dk_at dksJ6_init_0 6 rfl rfl)
theorem dJ6_init_9 : decode cJ6_init 9 = .ok (.return_, 1) := dk_177 (dk_at dksJ6_init_0 9 rfl rfl)
abbrev cJ6_intValue : ByteArray := prog_18_method_27_code
def yJ6_intValue : MethodName := ⟨RJ6, "intValue", "()I"⟩
theorem dJ6_intValue_0 : decode cJ6_intValue 0 = .ok (.aload_n 0, 1) := by decide +kernel
theorem dJ6_intValue_1 : decode cJ6_intValue 1 = .ok (.getfield 205, 3) := by decide +kernel
theorem dJ6_intValue_4 : decode cJ6_intValue 4 = .ok (.ireturn, 1) := by decide +kernel
abbrev cJ6_numberOfTrailingZeros : ByteArray := prog_18_method_48_code
def yJ6_numberOfTrailingZeros : MethodName := ⟨RJ6, "numberOfTrailingZeros", "(I)I"⟩
def dkwJ6_numberOfTrailingZeros_3 : List UInt8 := [5, 124, 59, 27, 26, 4, 124, 96, 172]
abbrev dktJ6_numberOfTrailingZeros_3 : List UInt8 := dkwJ6_numberOfTrailingZeros_3 ++ []
def dkwJ6_numberOfTrailingZeros_2 : List UInt8 := [124, 59, 26, 16, 16, 164, 0, 10, 132, 1, 4, 26, 7, 124, 59, 26, 7, 164, 0, 10, 132, 1, 2, 26]
abbrev dktJ6_numberOfTrailingZeros_2 : List UInt8 := dkwJ6_numberOfTrailingZeros_2 ++ dktJ6_numberOfTrailingZeros_3
def dkwJ6_numberOfTrailingZeros_1 : List UInt8 := [164, 0, 11, 132, 1, 16, 26, 16, 16, 124, 59, 26, 17, 1, 0, 164, 0, 11, 132, 1, 8, 26, 16, 8]
abbrev dktJ6_numberOfTrailingZeros_1 : List UInt8 := dkwJ6_numberOfTrailingZeros_1 ++ dktJ6_numberOfTrailingZeros_2
def dkwJ6_numberOfTrailingZeros_0 : List UInt8 := [26, 2, 130, 26, 4, 100, 126, 59, 26, 157, 0, 8, 26, 16, 32, 126, 172, 4, 60, 26, 19, 1, 8]
abbrev dktJ6_numberOfTrailingZeros_0 : List UInt8 := dkwJ6_numberOfTrailingZeros_0 ++ dktJ6_numberOfTrailingZeros_1
theorem dksJ6_numberOfTrailingZeros_0 : cJ6_numberOfTrailingZeros.data.toList.drop 0 = dktJ6_numberOfTrailingZeros_0 := by decide +kernel
theorem dksJ6_numberOfTrailingZeros_1 : cJ6_numberOfTrailingZeros.data.toList.drop 23 = dktJ6_numberOfTrailingZeros_1 := dk_seg dksJ6_numberOfTrailingZeros_0 23 rfl rfl
theorem dksJ6_numberOfTrailingZeros_2 : cJ6_numberOfTrailingZeros.data.toList.drop 47 = dktJ6_numberOfTrailingZeros_2 := dk_seg dksJ6_numberOfTrailingZeros_1 24 rfl rfl
theorem dksJ6_numberOfTrailingZeros_3 : cJ6_numberOfTrailingZeros.data.toList.drop 71 = dktJ6_numberOfTrailingZeros_3 := dk_seg dksJ6_numberOfTrailingZeros_2 24 rfl rfl
theorem dJ6_numberOfTrailingZeros_0 : decode cJ6_numberOfTrailingZeros 0 = .ok (.iload_n 0, 1) := dk_26 (dk_at dksJ6_numberOfTrailingZeros_0 0 rfl rfl)
theorem dJ6_numberOfTrailingZeros_1 : decode cJ6_numberOfTrailingZeros 1 = .ok (.iconst (-1), 1) := dk_2 (dk_at dksJ6_numberOfTrailingZeros_0 1 rfl rfl)
theorem dJ6_numberOfTrailingZeros_2 : decode cJ6_numberOfTrailingZeros 2 = .ok (.ixor, 1) := dk_130 (dk_at dksJ6_numberOfTrailingZeros_0 2 rfl rfl)
theorem dJ6_numberOfTrailingZeros_3 : decode cJ6_numberOfTrailingZeros 3 = .ok (.iload_n 0, 1) := dk_26 (dk_at dksJ6_numberOfTrailingZeros_0 3 rfl rfl)
theorem dJ6_numberOfTrailingZeros_4 : decode cJ6_numberOfTrailingZeros 4 = .ok (.iconst 1, 1) := dk_4 (dk_at dksJ6_numberOfTrailingZeros_0 4 rfl rfl)
theorem dJ6_numberOfTrailingZeros_5 : decode cJ6_numberOfTrailingZeros 5 = .ok (.isub, 1) := dk_100 (dk_at dksJ6_numberOfTrailingZeros_0 5 rfl rfl)
theorem dJ6_numberOfTrailingZeros_6 : decode cJ6_numberOfTrailingZeros 6 = .ok (.iand, 1) := dk_126 (dk_at dksJ6_numberOfTrailingZeros_0 6 rfl rfl)
theorem dJ6_numberOfTrailingZeros_7 : decode cJ6_numberOfTrailingZeros 7 = .ok (.istore_n 0, 1) := dk_59 (dk_at dksJ6_numberOfTrailingZeros_0 7 rfl rfl)
theorem dJ6_numberOfTrailingZeros_8 : decode cJ6_numberOfTrailingZeros 8 = .ok (.iload_n 0, 1) := dk_26 (dk_at dksJ6_numberOfTrailingZeros_0 8 rfl rfl)
theorem dJ6_numberOfTrailingZeros_9 : decode cJ6_numberOfTrailingZeros 9 = .ok (.ifCond .gt 8, 3) := dk_157 0 8 (dk_at dksJ6_numberOfTrailingZeros_0 9 rfl rfl)
theorem dJ6_numberOfTrailingZeros_12 : decode cJ6_numberOfTrailingZeros 12 = .ok (.iload_n 0, 1) := dk_26 (dk_at dksJ6_numberOfTrailingZeros_0 12 rfl rfl)
theorem dJ6_numberOfTrailingZeros_13 : decode cJ6_numberOfTrailingZeros 13 = .ok (.bipush 32, 2) := dk_16 32 (dk_at dksJ6_numberOfTrailingZeros_0 13 rfl rfl)
theorem dJ6_numberOfTrailingZeros_15 : decode cJ6_numberOfTrailingZeros 15 = .ok (.iand, 1) := dk_126 (dk_at dksJ6_numberOfTrailingZeros_0 15 rfl rfl)
theorem dJ6_numberOfTrailingZeros_16 : decode cJ6_numberOfTrailingZeros 16 = .ok (.ireturn, 1) := dk_172 (dk_at dksJ6_numberOfTrailingZeros_0 16 rfl rfl)
theorem dJ6_numberOfTrailingZeros_17 : decode cJ6_numberOfTrailingZeros 17 = .ok (.iconst 1, 1) := dk_4 (dk_at dksJ6_numberOfTrailingZeros_0 17 rfl rfl)
theorem dJ6_numberOfTrailingZeros_18 : decode cJ6_numberOfTrailingZeros 18 = .ok (.istore_n 1, 1) := dk_60 (dk_at dksJ6_numberOfTrailingZeros_0 18 rfl rfl)
theorem dJ6_numberOfTrailingZeros_19 : decode cJ6_numberOfTrailingZeros 19 = .ok (.iload_n 0, 1) := dk_26 (dk_at dksJ6_numberOfTrailingZeros_0 19 rfl rfl)
theorem dJ6_numberOfTrailingZeros_20 : decode cJ6_numberOfTrailingZeros 20 = .ok (.ldc_w 264, 3) := dk_19 1 8 (dk_at dksJ6_numberOfTrailingZeros_0 20 rfl rfl)
theorem dJ6_numberOfTrailingZeros_23 : decode cJ6_numberOfTrailingZeros 23 = .ok (.if_icmp .le 11, 3) := dk_164 0 11 (dk_at dksJ6_numberOfTrailingZeros_1 0 rfl rfl)
theorem dJ6_numberOfTrailingZeros_26 : decode cJ6_numberOfTrailingZeros 26 = .ok (.iinc 1 16, 3) := dk_132 1 16 (dk_at dksJ6_numberOfTrailingZeros_1 3 rfl rfl)
theorem dJ6_numberOfTrailingZeros_29 : decode cJ6_numberOfTrailingZeros 29 = .ok (.iload_n 0, 1) := dk_26 (dk_at dksJ6_numberOfTrailingZeros_1 6 rfl rfl)
theorem dJ6_numberOfTrailingZeros_30 : decode cJ6_numberOfTrailingZeros 30 = .ok (.bipush 16, 2) := dk_16 16 (dk_at dksJ6_numberOfTrailingZeros_1 7 rfl rfl)
theorem dJ6_numberOfTrailingZeros_32 : decode cJ6_numberOfTrailingZeros 32 = .ok (.iushr, 1) := dk_124 (dk_at dksJ6_numberOfTrailingZeros_1 9 rfl rfl)
theorem dJ6_numberOfTrailingZeros_33 : decode cJ6_numberOfTrailingZeros 33 = .ok (.istore_n 0, 1) := dk_59 (dk_at dksJ6_numberOfTrailingZeros_1 10 rfl rfl)
theorem dJ6_numberOfTrailingZeros_34 : decode cJ6_numberOfTrailingZeros 34 = .ok (.iload_n 0, 1) := dk_26 (dk_at dksJ6_numberOfTrailingZeros_1 11 rfl rfl)
theorem dJ6_numberOfTrailingZeros_35 : decode cJ6_numberOfTrailingZeros 35 = .ok (.sipush 256, 3) := dk_17 1 0 (dk_at dksJ6_numberOfTrailingZeros_1 12 rfl rfl)
theorem dJ6_numberOfTrailingZeros_38 : decode cJ6_numberOfTrailingZeros 38 = .ok (.if_icmp .le 11, 3) := dk_164 0 11 (dk_at dksJ6_numberOfTrailingZeros_1 15 rfl rfl)
theorem dJ6_numberOfTrailingZeros_41 : decode cJ6_numberOfTrailingZeros 41 = .ok (.iinc 1 8, 3) := dk_132 1 8 (dk_at dksJ6_numberOfTrailingZeros_1 18 rfl rfl)
theorem dJ6_numberOfTrailingZeros_44 : decode cJ6_numberOfTrailingZeros 44 = .ok (.iload_n 0, 1) := dk_26 (dk_at dksJ6_numberOfTrailingZeros_1 21 rfl rfl)
theorem dJ6_numberOfTrailingZeros_45 : decode cJ6_numberOfTrailingZeros 45 = .ok (.bipush 8, 2) := dk_16 8 (dk_at dksJ6_numberOfTrailingZeros_1 22 rfl rfl)
theorem dJ6_numberOfTrailingZeros_47 : decode cJ6_numberOfTrailingZeros 47 = .ok (.iushr, 1) := dk_124 (dk_at dksJ6_numberOfTrailingZeros_2 0 rfl rfl)
theorem dJ6_numberOfTrailingZeros_48 : decode cJ6_numberOfTrailingZeros 48 = .ok (.istore_n 0, 1) := dk_59 (dk_at dksJ6_numberOfTrailingZeros_2 1 rfl rfl)
theorem dJ6_numberOfTrailingZeros_49 : decode cJ6_numberOfTrailingZeros 49 = .ok (.iload_n 0, 1) := dk_26 (dk_at dksJ6_numberOfTrailingZeros_2 2 rfl rfl)
theorem dJ6_numberOfTrailingZeros_50 : decode cJ6_numberOfTrailingZeros 50 = .ok (.bipush 16, 2) := dk_16 16 (dk_at dksJ6_numberOfTrailingZeros_2 3 rfl rfl)
theorem dJ6_numberOfTrailingZeros_52 : decode cJ6_numberOfTrailingZeros 52 = .ok (.if_icmp .le 10, 3) := dk_164 0 10 (dk_at dksJ6_numberOfTrailingZeros_2 5 rfl rfl)
theorem dJ6_numberOfTrailingZeros_55 : decode cJ6_numberOfTrailingZeros 55 = .ok (.iinc 1 4, 3) := dk_132 1 4 (dk_at dksJ6_numberOfTrailingZeros_2 8 rfl rfl)
theorem dJ6_numberOfTrailingZeros_58 : decode cJ6_numberOfTrailingZeros 58 = .ok (.iload_n 0, 1) := dk_26 (dk_at dksJ6_numberOfTrailingZeros_2 11 rfl rfl)
theorem dJ6_numberOfTrailingZeros_59 : decode cJ6_numberOfTrailingZeros 59 = .ok (.iconst 4, 1) := dk_7 (dk_at dksJ6_numberOfTrailingZeros_2 12 rfl rfl)
theorem dJ6_numberOfTrailingZeros_60 : decode cJ6_numberOfTrailingZeros 60 = .ok (.iushr, 1) := dk_124 (dk_at dksJ6_numberOfTrailingZeros_2 13 rfl rfl)
theorem dJ6_numberOfTrailingZeros_61 : decode cJ6_numberOfTrailingZeros 61 = .ok (.istore_n 0, 1) := dk_59 (dk_at dksJ6_numberOfTrailingZeros_2 14 rfl rfl)
theorem dJ6_numberOfTrailingZeros_62 : decode cJ6_numberOfTrailingZeros 62 = .ok (.iload_n 0, 1) := dk_26 (dk_at dksJ6_numberOfTrailingZeros_2 15 rfl rfl)
theorem dJ6_numberOfTrailingZeros_63 : decode cJ6_numberOfTrailingZeros 63 = .ok (.iconst 4, 1) := dk_7 (dk_at dksJ6_numberOfTrailingZeros_2 16 rfl rfl)
theorem dJ6_numberOfTrailingZeros_64 : decode cJ6_numberOfTrailingZeros 64 = .ok (.if_icmp .le 10, 3) := dk_164 0 10 (dk_at dksJ6_numberOfTrailingZeros_2 17 rfl rfl)
theorem dJ6_numberOfTrailingZeros_67 : decode cJ6_numberOfTrailingZeros 67 = .ok (.iinc 1 2, 3) := dk_132 1 2 (dk_at dksJ6_numberOfTrailingZeros_2 20 rfl rfl)
theorem dJ6_numberOfTrailingZeros_70 : decode cJ6_numberOfTrailingZeros 70 = .ok (.iload_n 0, 1) := dk_26 (dk_at dksJ6_numberOfTrailingZeros_2 23 rfl rfl)
theorem dJ6_numberOfTrailingZeros_71 : decode cJ6_numberOfTrailingZeros 71 = .ok (.iconst 2, 1) := dk_5 (dk_at dksJ6_numberOfTrailingZeros_3 0 rfl rfl)
theorem dJ6_numberOfTrailingZeros_72 : decode cJ6_numberOfTrailingZeros 72 = .ok (.iushr, 1) := dk_124 (dk_at dksJ6_numberOfTrailingZeros_3 1 rfl rfl)
theorem dJ6_numberOfTrailingZeros_73 : decode cJ6_numberOfTrailingZeros 73 = .ok (.istore_n 0, 1) := dk_59 (dk_at dksJ6_numberOfTrailingZeros_3 2 rfl rfl)
theorem dJ6_numberOfTrailingZeros_74 : decode cJ6_numberOfTrailingZeros 74 = .ok (.iload_n 1, 1) := dk_27 (dk_at dksJ6_numberOfTrailingZeros_3 3 rfl rfl)
theorem dJ6_numberOfTrailingZeros_75 : decode cJ6_numberOfTrailingZeros 75 = .ok (.iload_n 0, 1) := dk_26 (dk_at dksJ6_numberOfTrailingZeros_3 4 rfl rfl)
theorem dJ6_numberOfTrailingZeros_76 : decode cJ6_numberOfTrailingZeros 76 = .ok (.iconst 1, 1) := dk_4 (dk_at dksJ6_numberOfTrailingZeros_3 5 rfl rfl)
theorem dJ6_numberOfTrailingZeros_77 : decode cJ6_numberOfTrailingZeros 77 = .ok (.iushr, 1) := dk_124 (dk_at dksJ6_numberOfTrailingZeros_3 6 rfl rfl)
theorem dJ6_numberOfTrailingZeros_78 : decode cJ6_numberOfTrailingZeros 78 = .ok (.iadd, 1) := dk_96 (dk_at dksJ6_numberOfTrailingZeros_3 7 rfl rfl)
theorem dJ6_numberOfTrailingZeros_79 : decode cJ6_numberOfTrailingZeros 79 = .ok (.ireturn, 1) := dk_172 (dk_at dksJ6_numberOfTrailingZeros_3 8 rfl rfl)
theorem q86 : (Jvm.Cond.initialized "java/lang/Integer") ∈ lw_all := lw_g (lw_at lw_m1 12 rfl) rfl
theorem q368 : (Jvm.Cond.static ({ cls := "java/lang/Integer", name := "bitCount", desc := "(I)I" } : Jvm.MethodName)) ∈ lw_all := lw_g (lw_at lw_m2 54 rfl) rfl
theorem q369 : (Jvm.Cond.code ({ cls := "java/lang/Integer", name := "bitCount", desc := "(I)I" } : Jvm.MethodName) prog_18_method_49_code (1 : Nat) (Option.some Jvm.ClassFile.FieldType.int)) ∈ lw_all := lw_g (lw_at lw_m2 55 rfl) rfl
theorem q370 : (Jvm.Cond.constant "java/lang/Integer" (265 : Nat) (1431655765 : Int32)) ∈ lw_all := lw_g (lw_at lw_m2 56 rfl) rfl
theorem q371 : (Jvm.Cond.constant "java/lang/Integer" (266 : Nat) (858993459 : Int32)) ∈ lw_all := lw_g (lw_at lw_m2 57 rfl) rfl
theorem q372 : (Jvm.Cond.constant "java/lang/Integer" (267 : Nat) (252645135 : Int32)) ∈ lw_all := lw_g (lw_at lw_m2 58 rfl) rfl
theorem q488 : (Jvm.Cond.static ({ cls := "java/lang/Integer", name := "valueOf", desc := "(I)Ljava/lang/Integer;" } : Jvm.MethodName)) ∈ lw_all := lw_g (lw_at lw_m2 174 rfl) rfl
theorem q489 : (Jvm.Cond.code ({ cls := "java/lang/Integer", name := "valueOf", desc := "(I)Ljava/lang/Integer;" } : Jvm.MethodName) prog_18_method_22_code (1 : Nat) (Option.some (Jvm.ClassFile.FieldType.object "java/lang/Integer"))) ∈ lw_all := lw_g (lw_at lw_m2 175 rfl) rfl
theorem q490 : (Jvm.Cond.fieldLink "java/lang/Integer" (191 : Nat) "java/lang/Integer$IntegerCache" "high" "I") ∈ lw_all := lw_g (lw_at lw_m2 176 rfl) rfl
theorem q492 : (Jvm.Cond.fieldLink "java/lang/Integer" (195 : Nat) "java/lang/Integer$IntegerCache" "cache" "[Ljava/lang/Integer;") ∈ lw_all := lw_g (lw_at lw_m2 178 rfl) rfl
theorem q494 : (Jvm.Cond.classLink "java/lang/Integer" (1 : Nat) "java/lang/Integer") ∈ lw_all := lw_g (lw_at lw_m2 180 rfl) rfl
theorem q495 : (Jvm.Cond.instantiable "java/lang/Integer" (1 : Nat)) ∈ lw_all := lw_g (lw_at lw_m2 181 rfl) rfl
theorem q496 : (Jvm.Cond.methodLink "java/lang/Integer" (199 : Nat) ({ cls := "java/lang/Integer", name := "<init>", desc := "(I)V" } : Jvm.MethodName)) ∈ lw_all := lw_g (lw_at lw_m2 182 rfl) rfl
theorem q497 : (Jvm.Cond.instanceMethod ({ cls := "java/lang/Integer", name := "<init>", desc := "(I)V" } : Jvm.MethodName)) ∈ lw_all := lw_g (lw_at lw_m2 183 rfl) rfl
theorem q498 : (Jvm.Cond.code ({ cls := "java/lang/Integer", name := "<init>", desc := "(I)V" } : Jvm.MethodName) prog_18_method_23_code (2 : Nat) (Option.none : Option Jvm.ClassFile.FieldType)) ∈ lw_all := lw_g (lw_at lw_m2 184 rfl) rfl
theorem q499 : (Jvm.Cond.methodLink "java/lang/Integer" (202 : Nat) ({ cls := "java/lang/Number", name := "<init>", desc := "()V" } : Jvm.MethodName)) ∈ lw_all := lw_g (lw_at lw_m2 185 rfl) rfl
theorem q503 : (Jvm.Cond.fieldLink "java/lang/Integer" (205 : Nat) "java/lang/Integer" "value" "I") ∈ lw_all := lw_g (lw_at lw_m2 189 rfl) rfl
theorem q504 : (Jvm.Cond.laysFinal "java/lang/Integer" "java/lang/Integer" "value" "I") ∈ lw_all := lw_g (lw_at lw_m2 190 rfl) rfl
theorem q505 : (Jvm.Cond.soleField "java/lang/Integer" "value") ∈ lw_all := lw_g (lw_at lw_m2 191 rfl) rfl
theorem q506 : (Jvm.Cond.superclass "java/lang/Integer" "java/lang/Number") ∈ lw_all := lw_g (lw_at lw_m2 192 rfl) rfl
theorem q542 : (Jvm.Cond.selects "java/lang/Integer" ({ cls := "java/lang/Object", name := "getClass", desc := "()Ljava/lang/Class;" } : Jvm.MethodName) ({ cls := "java/lang/Object", name := "getClass", desc := "()Ljava/lang/Class;" } : Jvm.MethodName)) ∈ lw_all := lw_g (lw_at lw_m2 228 rfl) rfl
theorem q584 : (Jvm.Cond.instanceMethod ({ cls := "java/lang/Integer", name := "intValue", desc := "()I" } : Jvm.MethodName)) ∈ lw_all := lw_g (lw_at lw_m3 30 rfl) rfl
theorem q585 : (Jvm.Cond.selects "java/lang/Integer" ({ cls := "java/lang/Integer", name := "intValue", desc := "()I" } : Jvm.MethodName) ({ cls := "java/lang/Integer", name := "intValue", desc := "()I" } : Jvm.MethodName)) ∈ lw_all := lw_g (lw_at lw_m3 31 rfl) rfl
theorem q586 : (Jvm.Cond.code ({ cls := "java/lang/Integer", name := "intValue", desc := "()I" } : Jvm.MethodName) prog_18_method_27_code (1 : Nat) (Option.some Jvm.ClassFile.FieldType.int)) ∈ lw_all := lw_g (lw_at lw_m3 32 rfl) rfl
theorem q1447 : (Jvm.Cond.static ({ cls := "java/lang/Integer", name := "numberOfTrailingZeros", desc := "(I)I" } : Jvm.MethodName)) ∈ lw_all := lw_g (lw_at lw_m6 173 rfl) rfl
theorem q1448 : (Jvm.Cond.code ({ cls := "java/lang/Integer", name := "numberOfTrailingZeros", desc := "(I)I" } : Jvm.MethodName) prog_18_method_48_code (2 : Nat) (Option.some Jvm.ClassFile.FieldType.int)) ∈ lw_all := lw_g (lw_at lw_m6 174 rfl) rfl
theorem q1449 : (Jvm.Cond.constant "java/lang/Integer" (264 : Nat) (65536 : Int32)) ∈ lw_all := lw_g (lw_at lw_m6 175 rfl) rfl
theorem q2043 : (Jvm.Cond.castable "java/lang/Integer" "java/lang/Object") ∈ lw_tbl := lw_at lw_m9 49 rfl
theorem in_J6 : ∀ w ∈ wsJ60, w ∈ lw_all := lw_in wsJ60 [504] (by decide +kernel) (by decide +kernel)
/-! java/util/ArrayDeque -/
set_option maxRecDepth 100000
def RJ7 : String := "java/util/ArrayDeque"
def TJ7 : u_T := fun k => match k with
  | 0 => ("java/util/ArrayDeque", "elements", "[Ljava/lang/Object;", false)
  | 1 => ("java/util/ArrayDeque", "head", "I", false)
  | _ => ("java/util/ArrayDeque", "tail", "I", false)
def tyJ7 : Nat → FieldType := fun k => match k with
  | 0 => .array (.object "java/lang/Object")
  | 1 => .int
  | _ => .int
abbrev wsJ70 : List Cond := u_ws RJ7 TJ7 3
theorem nmJ7 : ∀ a, a < 3 → ∀ b, b < 3 → a ≠ b → (TJ7 a).2.1 ≠ (TJ7 b).2.1 := by decide +kernel
theorem tyJ7_ok : ∀ k, k < 3 → parseFieldDescriptor (TJ7 k).2.2.1 = some (tyJ7 k) := by decide +kernel
abbrev cJ7_init : ByteArray := prog_38_method_3_code
def yJ7_init : MethodName := ⟨RJ7, "<init>", "()V"⟩
def dkwJ7_init_0 : List UInt8 := [42, 183, 0, 42, 42, 16, 17, 189, 0, 47, 181, 0, 3, 177]
abbrev dktJ7_init_0 : List UInt8 := dkwJ7_init_0 ++ []
theorem dksJ7_init_0 : cJ7_init.data.toList.drop 0 = dktJ7_init_0 := by decide +kernel
theorem dJ7_init_0 : decode cJ7_init 0 = .ok (.aload_n 0, 1) := dk_42 (dk_at dksJ7_init_0 0 rfl rfl)
theorem dJ7_init_1 : decode cJ7_init 1 = .ok (.invokespecial 42, 3) := dk_183 0 42 (dk_at dksJ7_init_0 1 rfl rfl)
theorem dJ7_init_4 : decode cJ7_init 4 = .ok (.aload_n 0, 1) := dk_42 (dk_at dksJ7_init_0 4 rfl rfl)
theorem dJ7_init_5 : decode cJ7_init 5 = .ok (.bipush 17, 2) := dk_16 17 (dk_at dksJ7_init_0 5 rfl rfl)
theorem dJ7_init_7 : decode cJ7_init 7 = .ok (.anewarray 47, 3) := dk_189 0 47 (dk_at dksJ7_init_0 7 rfl rfl)
theorem dJ7_init_10 : decode cJ7_init 10 = .ok (.putfield 3, 3) := dk_181 0 3 (dk_at dksJ7_init_0 10 rfl rfl)
theorem dJ7_init_13 : decode cJ7_init 13 = .ok (.return_, 1) := dk_177 (dk_at dksJ7_init_0 13 rfl rfl)
abbrev cJ7_add : ByteArray := prog_38_method_28_code
def yJ7_add : MethodName := ⟨RJ7, "add", "(Ljava/lang/Object;)Z"⟩
def dkwJ7_add_0 : List UInt8 := [42, 43, 182, 0, 90, 4, 172]
abbrev dktJ7_add_0 : List UInt8 := dkwJ7_add_0 ++ []
theorem dksJ7_add_0 : cJ7_add.data.toList.drop 0 = dktJ7_add_0 := by decide +kernel
theorem dJ7_add_0 : decode cJ7_add 0 = .ok (.aload_n 0, 1) := dk_42 (dk_at dksJ7_add_0 0 rfl rfl)
theorem dJ7_add_1 : decode cJ7_add 1 = .ok (.aload_n 1, 1) := dk_43 (dk_at dksJ7_add_0 1 rfl rfl)
theorem dJ7_add_2 : decode cJ7_add 2 = .ok (.invokevirtual 90, 3) := dk_182 0 90 (dk_at dksJ7_add_0 2 rfl rfl)
theorem dJ7_add_5 : decode cJ7_add 5 = .ok (.iconst 1, 1) := dk_4 (dk_at dksJ7_add_0 5 rfl rfl)
theorem dJ7_add_6 : decode cJ7_add 6 = .ok (.ireturn, 1) := dk_172 (dk_at dksJ7_add_0 6 rfl rfl)
abbrev cJ7_addLast : ByteArray := prog_38_method_13_code
def yJ7_addLast : MethodName := ⟨RJ7, "addLast", "(Ljava/lang/Object;)V"⟩
def dkwJ7_addLast_2 : List UInt8 := [182, 0, 71, 177]
abbrev dktJ7_addLast_2 : List UInt8 := dkwJ7_addLast_2 ++ []
def dkwJ7_addLast_1 : List UInt8 := [42, 180, 0, 24, 42, 42, 180, 0, 20, 44, 190, 184, 0, 74, 90, 181, 0, 20, 160, 0, 8, 42, 4]
abbrev dktJ7_addLast_1 : List UInt8 := dkwJ7_addLast_1 ++ dktJ7_addLast_2
def dkwJ7_addLast_0 : List UInt8 := [43, 199, 0, 11, 187, 0, 65, 89, 183, 0, 67, 191, 42, 180, 0, 3, 77, 44, 42, 180, 0, 20, 43, 83]
abbrev dktJ7_addLast_0 : List UInt8 := dkwJ7_addLast_0 ++ dktJ7_addLast_1
theorem dksJ7_addLast_0 : cJ7_addLast.data.toList.drop 0 = dktJ7_addLast_0 := by decide +kernel
theorem dksJ7_addLast_1 : cJ7_addLast.data.toList.drop 24 = dktJ7_addLast_1 := dk_seg dksJ7_addLast_0 24 rfl rfl
theorem dksJ7_addLast_2 : cJ7_addLast.data.toList.drop 47 = dktJ7_addLast_2 := dk_seg dksJ7_addLast_1 23 rfl rfl
theorem dJ7_addLast_0 : decode cJ7_addLast 0 = .ok (.aload_n 1, 1) := dk_43 (dk_at dksJ7_addLast_0 0 rfl rfl)
theorem dJ7_addLast_1 : decode cJ7_addLast 1 = .ok (.ifnonnull 11, 3) := dk_199 0 11 (dk_at dksJ7_addLast_0 1 rfl rfl)
theorem dJ7_addLast_4 : decode cJ7_addLast 4 = .ok (.new 65, 3) := dk_187 0 65 (dk_at dksJ7_addLast_0 4 rfl rfl)
theorem dJ7_addLast_7 : decode cJ7_addLast 7 = .ok (.dup, 1) := dk_89 (dk_at dksJ7_addLast_0 7 rfl rfl)
theorem dJ7_addLast_8 : decode cJ7_addLast 8 = .ok (.invokespecial 67, 3) := dk_183 0 67 (dk_at dksJ7_addLast_0 8 rfl rfl)
theorem dJ7_addLast_11 : decode cJ7_addLast 11 = .ok (.athrow, 1) := dk_191 (dk_at dksJ7_addLast_0 11 rfl rfl)
theorem dJ7_addLast_12 : decode cJ7_addLast 12 = .ok (.aload_n 0, 1) := dk_42 (dk_at dksJ7_addLast_0 12 rfl rfl)
theorem dJ7_addLast_13 : decode cJ7_addLast 13 = .ok (.getfield 3, 3) := dk_180 0 3 (dk_at dksJ7_addLast_0 13 rfl rfl)
theorem dJ7_addLast_16 : decode cJ7_addLast 16 = .ok (.astore_n 2, 1) := dk_77 (dk_at dksJ7_addLast_0 16 rfl rfl)
theorem dJ7_addLast_17 : decode cJ7_addLast 17 = .ok (.aload_n 2, 1) := dk_44 (dk_at dksJ7_addLast_0 17 rfl rfl)
theorem dJ7_addLast_18 : decode cJ7_addLast 18 = .ok (.aload_n 0, 1) := dk_42 (dk_at dksJ7_addLast_0 18 rfl rfl)
theorem dJ7_addLast_19 : decode cJ7_addLast 19 = .ok (.getfield 20, 3) := dk_180 0 20 (dk_at dksJ7_addLast_0 19 rfl rfl)
theorem dJ7_addLast_22 : decode cJ7_addLast 22 = .ok (.aload_n 1, 1) := dk_43 (dk_at dksJ7_addLast_0 22 rfl rfl)
theorem dJ7_addLast_23 : decode cJ7_addLast 23 = .ok (.aastore, 1) := dk_83 (dk_at dksJ7_addLast_0 23 rfl rfl)
theorem dJ7_addLast_24 : decode cJ7_addLast 24 = .ok (.aload_n 0, 1) := dk_42 (dk_at dksJ7_addLast_1 0 rfl rfl)
theorem dJ7_addLast_25 : decode cJ7_addLast 25 = .ok (.getfield 24, 3) := dk_180 0 24 (dk_at dksJ7_addLast_1 1 rfl rfl)
theorem dJ7_addLast_28 : decode cJ7_addLast 28 = .ok (.aload_n 0, 1) := dk_42 (dk_at dksJ7_addLast_1 4 rfl rfl)
theorem dJ7_addLast_29 : decode cJ7_addLast 29 = .ok (.aload_n 0, 1) := dk_42 (dk_at dksJ7_addLast_1 5 rfl rfl)
theorem dJ7_addLast_30 : decode cJ7_addLast 30 = .ok (.getfield 20, 3) := dk_180 0 20 (dk_at dksJ7_addLast_1 6 rfl rfl)
theorem dJ7_addLast_33 : decode cJ7_addLast 33 = .ok (.aload_n 2, 1) := dk_44 (dk_at dksJ7_addLast_1 9 rfl rfl)
theorem dJ7_addLast_34 : decode cJ7_addLast 34 = .ok (.arraylength, 1) := dk_190 (dk_at dksJ7_addLast_1 10 rfl rfl)
theorem dJ7_addLast_35 : decode cJ7_addLast 35 = .ok (.invokestatic 74, 3) := dk_184 0 74 (dk_at dksJ7_addLast_1 11 rfl rfl)
theorem dJ7_addLast_38 : decode cJ7_addLast 38 = .ok (.dup_x1, 1) := dk_90 (dk_at dksJ7_addLast_1 14 rfl rfl)
theorem dJ7_addLast_39 : decode cJ7_addLast 39 = .ok (.putfield 20, 3) := dk_181 0 20 (dk_at dksJ7_addLast_1 15 rfl rfl)
theorem dJ7_addLast_42 : decode cJ7_addLast 42 = .ok (.if_icmp .ne 8, 3) := dk_160 0 8 (dk_at dksJ7_addLast_1 18 rfl rfl)
theorem dJ7_addLast_45 : decode cJ7_addLast 45 = .ok (.aload_n 0, 1) := dk_42 (dk_at dksJ7_addLast_1 21 rfl rfl)
theorem dJ7_addLast_46 : decode cJ7_addLast 46 = .ok (.iconst 1, 1) := dk_4 (dk_at dksJ7_addLast_1 22 rfl rfl)
theorem dJ7_addLast_47 : decode cJ7_addLast 47 = .ok (.invokevirtual 71, 3) := dk_182 0 71 (dk_at dksJ7_addLast_2 0 rfl rfl)
theorem dJ7_addLast_50 : decode cJ7_addLast 50 = .ok (.return_, 1) := dk_177 (dk_at dksJ7_addLast_2 3 rfl rfl)
abbrev cJ7_inc : ByteArray := prog_38_method_6_code
def yJ7_inc : MethodName := ⟨RJ7, "inc", "(II)I"⟩
def dkwJ7_inc_0 : List UInt8 := [132, 0, 1, 26, 27, 161, 0, 5, 3, 59, 26, 172]
abbrev dktJ7_inc_0 : List UInt8 := dkwJ7_inc_0 ++ []
theorem dksJ7_inc_0 : cJ7_inc.data.toList.drop 0 = dktJ7_inc_0 := by decide +kernel
theorem dJ7_inc_0 : decode cJ7_inc 0 = .ok (.iinc 0 1, 3) := dk_132 0 1 (dk_at dksJ7_inc_0 0 rfl rfl)
theorem dJ7_inc_3 : decode cJ7_inc 3 = .ok (.iload_n 0, 1) := dk_26 (dk_at dksJ7_inc_0 3 rfl rfl)
theorem dJ7_inc_4 : decode cJ7_inc 4 = .ok (.iload_n 1, 1) := dk_27 (dk_at dksJ7_inc_0 4 rfl rfl)
theorem dJ7_inc_5 : decode cJ7_inc 5 = .ok (.if_icmp .lt 5, 3) := dk_161 0 5 (dk_at dksJ7_inc_0 5 rfl rfl)
theorem dJ7_inc_8 : decode cJ7_inc 8 = .ok (.iconst 0, 1) := dk_3 (dk_at dksJ7_inc_0 8 rfl rfl)
theorem dJ7_inc_9 : decode cJ7_inc 9 = .ok (.istore_n 0, 1) := dk_59 (dk_at dksJ7_inc_0 9 rfl rfl)
theorem dJ7_inc_10 : decode cJ7_inc 10 = .ok (.iload_n 0, 1) := dk_26 (dk_at dksJ7_inc_0 10 rfl rfl)
theorem dJ7_inc_11 : decode cJ7_inc 11 = .ok (.ireturn, 1) := dk_172 (dk_at dksJ7_inc_0 11 rfl rfl)
abbrev cJ7_grow : ByteArray := prog_38_method_1_code
def yJ7_grow : MethodName := ⟨RJ7, "grow", "(I)V"⟩
def dkwJ7_grow_7 : List UInt8 := [177]
abbrev dktJ7_grow_7 : List UInt8 := dkwJ7_grow_7 ++ []
def dkwJ7_grow_6 : List UInt8 := [181, 0, 24, 54, 8, 21, 7, 21, 8, 162, 0, 15, 25, 5, 21, 7, 1, 83, 132, 7, 1, 167, 255, 240]
abbrev dktJ7_grow_6 : List UInt8 := dkwJ7_grow_6 ++ dktJ7_grow_7
def dkwJ7_grow_5 : List UInt8 := [42, 180, 0, 24, 100, 184, 0, 27, 42, 180, 0, 24, 54, 7, 42, 89, 180, 0, 24, 21, 6, 96, 90]
abbrev dktJ7_grow_5 : List UInt8 := dkwJ7_grow_5 ++ dktJ7_grow_6
def dkwJ7_grow_4 : List UInt8 := [198, 0, 71, 29, 28, 100, 54, 6, 25, 5, 42, 180, 0, 24, 25, 5, 42, 180, 0, 24, 21, 6, 96, 28]
abbrev dktJ7_grow_4 : List UInt8 := dkwJ7_grow_4 ++ dktJ7_grow_5
def dkwJ7_grow_3 : List UInt8 := [180, 0, 24, 161, 0, 24, 42, 180, 0, 20, 42, 180, 0, 24, 160, 0, 81, 25, 5, 42, 180, 0, 24, 50]
abbrev dktJ7_grow_3 : List UInt8 := dkwJ7_grow_3 ++ dktJ7_grow_4
def dkwJ7_grow_2 : List UInt8 := [182, 0, 10, 62, 42, 42, 180, 0, 3, 29, 184, 0, 14, 90, 181, 0, 3, 58, 5, 42, 180, 0, 20, 42]
abbrev dktJ7_grow_2 : List UInt8 := dkwJ7_grow_2 ++ dktJ7_grow_3
def dkwJ7_grow_1 : List UInt8 := [21, 4, 27, 161, 0, 15, 28, 21, 4, 96, 89, 62, 18, 9, 100, 158, 0, 11, 42, 27, 21, 4]
abbrev dktJ7_grow_1 : List UInt8 := dkwJ7_grow_1 ++ dktJ7_grow_2
def dkwJ7_grow_0 : List UInt8 := [42, 180, 0, 3, 190, 61, 28, 16, 64, 162, 0, 9, 28, 5, 96, 167, 0, 6, 28, 4, 122, 54, 4]
abbrev dktJ7_grow_0 : List UInt8 := dkwJ7_grow_0 ++ dktJ7_grow_1
theorem dksJ7_grow_0 : cJ7_grow.data.toList.drop 0 = dktJ7_grow_0 := by decide +kernel
theorem dksJ7_grow_1 : cJ7_grow.data.toList.drop 23 = dktJ7_grow_1 := dk_seg dksJ7_grow_0 23 rfl rfl
theorem dksJ7_grow_2 : cJ7_grow.data.toList.drop 45 = dktJ7_grow_2 := dk_seg dksJ7_grow_1 22 rfl rfl
theorem dksJ7_grow_3 : cJ7_grow.data.toList.drop 69 = dktJ7_grow_3 := dk_seg dksJ7_grow_2 24 rfl rfl
theorem dksJ7_grow_4 : cJ7_grow.data.toList.drop 93 = dktJ7_grow_4 := dk_seg dksJ7_grow_3 24 rfl rfl
theorem dksJ7_grow_5 : cJ7_grow.data.toList.drop 117 = dktJ7_grow_5 := dk_seg dksJ7_grow_4 24 rfl rfl
theorem dksJ7_grow_6 : cJ7_grow.data.toList.drop 140 = dktJ7_grow_6 := dk_seg dksJ7_grow_5 23 rfl rfl
theorem dksJ7_grow_7 : cJ7_grow.data.toList.drop 164 = dktJ7_grow_7 := dk_seg dksJ7_grow_6 24 rfl rfl
theorem dJ7_grow_0 : decode cJ7_grow 0 = .ok (.aload_n 0, 1) := dk_42 (dk_at dksJ7_grow_0 0 rfl rfl)
theorem dJ7_grow_1 : decode cJ7_grow 1 = .ok (.getfield 3, 3) := dk_180 0 3 (dk_at dksJ7_grow_0 1 rfl rfl)
theorem dJ7_grow_4 : decode cJ7_grow 4 = .ok (.arraylength, 1) := dk_190 (dk_at dksJ7_grow_0 4 rfl rfl)
theorem dJ7_grow_5 : decode cJ7_grow 5 = .ok (.istore_n 2, 1) := dk_61 (dk_at dksJ7_grow_0 5 rfl rfl)
theorem dJ7_grow_6 : decode cJ7_grow 6 = .ok (.iload_n 2, 1) := dk_28 (dk_at dksJ7_grow_0 6 rfl rfl)
theorem dJ7_grow_7 : decode cJ7_grow 7 = .ok (.bipush 64, 2) := dk_16 64 (dk_at dksJ7_grow_0 7 rfl rfl)
theorem dJ7_grow_9 : decode cJ7_grow 9 = .ok (.if_icmp .ge 9, 3) := dk_162 0 9 (dk_at dksJ7_grow_0 9 rfl rfl)
theorem dJ7_grow_12 : decode cJ7_grow 12 = .ok (.iload_n 2, 1) := dk_28 (dk_at dksJ7_grow_0 12 rfl rfl)
theorem dJ7_grow_13 : decode cJ7_grow 13 = .ok (.iconst 2, 1) := dk_5 (dk_at dksJ7_grow_0 13 rfl rfl)
theorem dJ7_grow_14 : decode cJ7_grow 14 = .ok (.iadd, 1) := dk_96 (dk_at dksJ7_grow_0 14 rfl rfl)
theorem dJ7_grow_15 : decode cJ7_grow 15 = .ok (.goto 6, 3) := dk_167 0 6 (dk_at dksJ7_grow_0 15 rfl rfl)
theorem dJ7_grow_18 : decode cJ7_grow 18 = .ok (.iload_n 2, 1) := dk_28 (dk_at dksJ7_grow_0 18 rfl rfl)
theorem dJ7_grow_19 : decode cJ7_grow 19 = .ok (.iconst 1, 1) := dk_4 (dk_at dksJ7_grow_0 19 rfl rfl)
theorem dJ7_grow_20 : decode cJ7_grow 20 = .ok (.ishr, 1) := dk_122 (dk_at dksJ7_grow_0 20 rfl rfl)
theorem dJ7_grow_21 : decode cJ7_grow 21 = .ok (.istore 4, 2) := dk_54 4 (dk_at dksJ7_grow_0 21 rfl rfl)
theorem dJ7_grow_23 : decode cJ7_grow 23 = .ok (.iload 4, 2) := dk_21 4 (dk_at dksJ7_grow_1 0 rfl rfl)
theorem dJ7_grow_25 : decode cJ7_grow 25 = .ok (.iload_n 1, 1) := dk_27 (dk_at dksJ7_grow_1 2 rfl rfl)
theorem dJ7_grow_26 : decode cJ7_grow 26 = .ok (.if_icmp .lt 15, 3) := dk_161 0 15 (dk_at dksJ7_grow_1 3 rfl rfl)
theorem dJ7_grow_29 : decode cJ7_grow 29 = .ok (.iload_n 2, 1) := dk_28 (dk_at dksJ7_grow_1 6 rfl rfl)
theorem dJ7_grow_30 : decode cJ7_grow 30 = .ok (.iload 4, 2) := dk_21 4 (dk_at dksJ7_grow_1 7 rfl rfl)
theorem dJ7_grow_32 : decode cJ7_grow 32 = .ok (.iadd, 1) := dk_96 (dk_at dksJ7_grow_1 9 rfl rfl)
theorem dJ7_grow_33 : decode cJ7_grow 33 = .ok (.dup, 1) := dk_89 (dk_at dksJ7_grow_1 10 rfl rfl)
theorem dJ7_grow_34 : decode cJ7_grow 34 = .ok (.istore_n 3, 1) := dk_62 (dk_at dksJ7_grow_1 11 rfl rfl)
theorem dJ7_grow_35 : decode cJ7_grow 35 = .ok (.ldc 9, 2) := dk_18 9 (dk_at dksJ7_grow_1 12 rfl rfl)
theorem dJ7_grow_37 : decode cJ7_grow 37 = .ok (.isub, 1) := dk_100 (dk_at dksJ7_grow_1 14 rfl rfl)
theorem dJ7_grow_38 : decode cJ7_grow 38 = .ok (.ifCond .le 11, 3) := dk_158 0 11 (dk_at dksJ7_grow_1 15 rfl rfl)
theorem dJ7_grow_41 : decode cJ7_grow 41 = .ok (.aload_n 0, 1) := dk_42 (dk_at dksJ7_grow_1 18 rfl rfl)
theorem dJ7_grow_42 : decode cJ7_grow 42 = .ok (.iload_n 1, 1) := dk_27 (dk_at dksJ7_grow_1 19 rfl rfl)
theorem dJ7_grow_43 : decode cJ7_grow 43 = .ok (.iload 4, 2) := dk_21 4 (dk_at dksJ7_grow_1 20 rfl rfl)
theorem dJ7_grow_45 : decode cJ7_grow 45 = .ok (.invokevirtual 10, 3) := dk_182 0 10 (dk_at dksJ7_grow_2 0 rfl rfl)
theorem dJ7_grow_48 : decode cJ7_grow 48 = .ok (.istore_n 3, 1) := dk_62 (dk_at dksJ7_grow_2 3 rfl rfl)
theorem dJ7_grow_49 : decode cJ7_grow 49 = .ok (.aload_n 0, 1) := dk_42 (dk_at dksJ7_grow_2 4 rfl rfl)
theorem dJ7_grow_50 : decode cJ7_grow 50 = .ok (.aload_n 0, 1) := dk_42 (dk_at dksJ7_grow_2 5 rfl rfl)
theorem dJ7_grow_51 : decode cJ7_grow 51 = .ok (.getfield 3, 3) := dk_180 0 3 (dk_at dksJ7_grow_2 6 rfl rfl)
theorem dJ7_grow_54 : decode cJ7_grow 54 = .ok (.iload_n 3, 1) := dk_29 (dk_at dksJ7_grow_2 9 rfl rfl)
theorem dJ7_grow_55 : decode cJ7_grow 55 = .ok (.invokestatic 14, 3) := dk_184 0 14 (dk_at dksJ7_grow_2 10 rfl rfl)
theorem dJ7_grow_58 : decode cJ7_grow 58 = .ok (.dup_x1, 1) := dk_90 (dk_at dksJ7_grow_2 13 rfl rfl)
theorem dJ7_grow_59 : decode cJ7_grow 59 = .ok (.putfield 3, 3) := dk_181 0 3 (dk_at dksJ7_grow_2 14 rfl rfl)
theorem dJ7_grow_62 : decode cJ7_grow 62 = .ok (.astore 5, 2) := dk_58 5 (dk_at dksJ7_grow_2 17 rfl rfl)
theorem dJ7_grow_64 : decode cJ7_grow 64 = .ok (.aload_n 0, 1) := dk_42 (dk_at dksJ7_grow_2 19 rfl rfl)
theorem dJ7_grow_65 : decode cJ7_grow 65 = .ok (.getfield 20, 3) := dk_180 0 20 (dk_at dksJ7_grow_2 20 rfl rfl)
theorem dJ7_grow_68 : decode cJ7_grow 68 = .ok (.aload_n 0, 1) := dk_42 (dk_at dksJ7_grow_2 23 rfl rfl)
theorem dJ7_grow_69 : decode cJ7_grow 69 = .ok (.getfield 24, 3) := dk_180 0 24 (dk_at dksJ7_grow_3 0 rfl rfl)
theorem dJ7_grow_72 : decode cJ7_grow 72 = .ok (.if_icmp .lt 24, 3) := dk_161 0 24 (dk_at dksJ7_grow_3 3 rfl rfl)
theorem dJ7_grow_75 : decode cJ7_grow 75 = .ok (.aload_n 0, 1) := dk_42 (dk_at dksJ7_grow_3 6 rfl rfl)
theorem dJ7_grow_76 : decode cJ7_grow 76 = .ok (.getfield 20, 3) := dk_180 0 20 (dk_at dksJ7_grow_3 7 rfl rfl)
theorem dJ7_grow_79 : decode cJ7_grow 79 = .ok (.aload_n 0, 1) := dk_42 (dk_at dksJ7_grow_3 10 rfl rfl)
theorem dJ7_grow_80 : decode cJ7_grow 80 = .ok (.getfield 24, 3) := dk_180 0 24 (dk_at dksJ7_grow_3 11 rfl rfl)
theorem dJ7_grow_83 : decode cJ7_grow 83 = .ok (.if_icmp .ne 81, 3) := dk_160 0 81 (dk_at dksJ7_grow_3 14 rfl rfl)
theorem dJ7_grow_86 : decode cJ7_grow 86 = .ok (.aload 5, 2) := dk_25 5 (dk_at dksJ7_grow_3 17 rfl rfl)
theorem dJ7_grow_88 : decode cJ7_grow 88 = .ok (.aload_n 0, 1) := dk_42 (dk_at dksJ7_grow_3 19 rfl rfl)
theorem dJ7_grow_89 : decode cJ7_grow 89 = .ok (.getfield 24, 3) := dk_180 0 24 (dk_at dksJ7_grow_3 20 rfl rfl)
theorem dJ7_grow_92 : decode cJ7_grow 92 = .ok (.aaload, 1) := dk_50 (dk_at dksJ7_grow_3 23 rfl rfl)
theorem dJ7_grow_93 : decode cJ7_grow 93 = .ok (.ifnull 71, 3) := dk_198 0 71 (dk_at dksJ7_grow_4 0 rfl rfl)
theorem dJ7_grow_96 : decode cJ7_grow 96 = .ok (.iload_n 3, 1) := dk_29 (dk_at dksJ7_grow_4 3 rfl rfl)
theorem dJ7_grow_97 : decode cJ7_grow 97 = .ok (.iload_n 2, 1) := dk_28 (dk_at dksJ7_grow_4 4 rfl rfl)
theorem dJ7_grow_98 : decode cJ7_grow 98 = .ok (.isub, 1) := dk_100 (dk_at dksJ7_grow_4 5 rfl rfl)
theorem dJ7_grow_99 : decode cJ7_grow 99 = .ok (.istore 6, 2) := dk_54 6 (dk_at dksJ7_grow_4 6 rfl rfl)
theorem dJ7_grow_101 : decode cJ7_grow 101 = .ok (.aload 5, 2) := dk_25 5 (dk_at dksJ7_grow_4 8 rfl rfl)
theorem dJ7_grow_103 : decode cJ7_grow 103 = .ok (.aload_n 0, 1) := dk_42 (dk_at dksJ7_grow_4 10 rfl rfl)
theorem dJ7_grow_104 : decode cJ7_grow 104 = .ok (.getfield 24, 3) := dk_180 0 24 (dk_at dksJ7_grow_4 11 rfl rfl)
theorem dJ7_grow_107 : decode cJ7_grow 107 = .ok (.aload 5, 2) := dk_25 5 (dk_at dksJ7_grow_4 14 rfl rfl)
theorem dJ7_grow_109 : decode cJ7_grow 109 = .ok (.aload_n 0, 1) := dk_42 (dk_at dksJ7_grow_4 16 rfl rfl)
theorem dJ7_grow_110 : decode cJ7_grow 110 = .ok (.getfield 24, 3) := dk_180 0 24 (dk_at dksJ7_grow_4 17 rfl rfl)
theorem dJ7_grow_113 : decode cJ7_grow 113 = .ok (.iload 6, 2) := dk_21 6 (dk_at dksJ7_grow_4 20 rfl rfl)
theorem dJ7_grow_115 : decode cJ7_grow 115 = .ok (.iadd, 1) := dk_96 (dk_at dksJ7_grow_4 22 rfl rfl)
theorem dJ7_grow_116 : decode cJ7_grow 116 = .ok (.iload_n 2, 1) := dk_28 (dk_at dksJ7_grow_4 23 rfl rfl)
theorem dJ7_grow_117 : decode cJ7_grow 117 = .ok (.aload_n 0, 1) := dk_42 (dk_at dksJ7_grow_5 0 rfl rfl)
theorem dJ7_grow_118 : decode cJ7_grow 118 = .ok (.getfield 24, 3) := dk_180 0 24 (dk_at dksJ7_grow_5 1 rfl rfl)
theorem dJ7_grow_121 : decode cJ7_grow 121 = .ok (.isub, 1) := dk_100 (dk_at dksJ7_grow_5 4 rfl rfl)
theorem dJ7_grow_122 : decode cJ7_grow 122 = .ok (.invokestatic 27, 3) := dk_184 0 27 (dk_at dksJ7_grow_5 5 rfl rfl)
theorem dJ7_grow_125 : decode cJ7_grow 125 = .ok (.aload_n 0, 1) := dk_42 (dk_at dksJ7_grow_5 8 rfl rfl)
theorem dJ7_grow_126 : decode cJ7_grow 126 = .ok (.getfield 24, 3) := dk_180 0 24 (dk_at dksJ7_grow_5 9 rfl rfl)
theorem dJ7_grow_129 : decode cJ7_grow 129 = .ok (.istore 7, 2) := dk_54 7 (dk_at dksJ7_grow_5 12 rfl rfl)
theorem dJ7_grow_131 : decode cJ7_grow 131 = .ok (.aload_n 0, 1) := dk_42 (dk_at dksJ7_grow_5 14 rfl rfl)
theorem dJ7_grow_132 : decode cJ7_grow 132 = .ok (.dup, 1) := dk_89 (dk_at dksJ7_grow_5 15 rfl rfl)
theorem dJ7_grow_133 : decode cJ7_grow 133 = .ok (.getfield 24, 3) := dk_180 0 24 (dk_at dksJ7_grow_5 16 rfl rfl)
theorem dJ7_grow_136 : decode cJ7_grow 136 = .ok (.iload 6, 2) := dk_21 6 (dk_at dksJ7_grow_5 19 rfl rfl)
theorem dJ7_grow_138 : decode cJ7_grow 138 = .ok (.iadd, 1) := dk_96 (dk_at dksJ7_grow_5 21 rfl rfl)
theorem dJ7_grow_139 : decode cJ7_grow 139 = .ok (.dup_x1, 1) := dk_90 (dk_at dksJ7_grow_5 22 rfl rfl)
theorem dJ7_grow_140 : decode cJ7_grow 140 = .ok (.putfield 24, 3) := dk_181 0 24 (dk_at dksJ7_grow_6 0 rfl rfl)
theorem dJ7_grow_143 : decode cJ7_grow 143 = .ok (.istore 8, 2) := dk_54 8 (dk_at dksJ7_grow_6 3 rfl rfl)
theorem dJ7_grow_145 : decode cJ7_grow 145 = .ok (.iload 7, 2) := dk_21 7 (dk_at dksJ7_grow_6 5 rfl rfl)
theorem dJ7_grow_147 : decode cJ7_grow 147 = .ok (.iload 8, 2) := dk_21 8 (dk_at dksJ7_grow_6 7 rfl rfl)
theorem dJ7_grow_149 : decode cJ7_grow 149 = .ok (.if_icmp .ge 15, 3) := dk_162 0 15 (dk_at dksJ7_grow_6 9 rfl rfl)
theorem dJ7_grow_152 : decode cJ7_grow 152 = .ok (.aload 5, 2) := dk_25 5 (dk_at dksJ7_grow_6 12 rfl rfl)
theorem dJ7_grow_154 : decode cJ7_grow 154 = .ok (.iload 7, 2) := dk_21 7 (dk_at dksJ7_grow_6 14 rfl rfl)
theorem dJ7_grow_156 : decode cJ7_grow 156 = .ok (.aconst_null, 1) := dk_1 (dk_at dksJ7_grow_6 16 rfl rfl)
theorem dJ7_grow_157 : decode cJ7_grow 157 = .ok (.aastore, 1) := dk_83 (dk_at dksJ7_grow_6 17 rfl rfl)
theorem dJ7_grow_158 : decode cJ7_grow 158 = .ok (.iinc 7 1, 3) := dk_132 7 1 (dk_at dksJ7_grow_6 18 rfl rfl)
theorem dJ7_grow_161 : decode cJ7_grow 161 = .ok (.goto (-16), 3) := dk_167 255 240 (dk_at dksJ7_grow_6 21 rfl rfl)
theorem dJ7_grow_164 : decode cJ7_grow 164 = .ok (.return_, 1) := dk_177 (dk_at dksJ7_grow_7 0 rfl rfl)
abbrev cJ7_newCapacity : ByteArray := prog_38_method_2_code
def yJ7_newCapacity : MethodName := ⟨RJ7, "newCapacity", "(II)I"⟩
def dkwJ7_newCapacity_2 : List UInt8 := [18, 9, 100, 156, 0, 9, 29, 28, 96, 167, 0, 5, 18, 9, 172]
abbrev dktJ7_newCapacity_2 : List UInt8 := dkwJ7_newCapacity_2 ++ []
def dkwJ7_newCapacity_1 : List UInt8 := [187, 0, 33, 89, 18, 35, 183, 0, 37, 191, 18, 41, 172, 27, 28, 164, 0, 6, 21, 4, 172, 29, 28, 96]
abbrev dktJ7_newCapacity_1 : List UInt8 := dkwJ7_newCapacity_1 ++ dktJ7_newCapacity_2
def dkwJ7_newCapacity_0 : List UInt8 := [42, 180, 0, 3, 190, 62, 29, 27, 96, 89, 54, 4, 18, 9, 100, 158, 0, 21, 21, 4, 156, 0, 13]
abbrev dktJ7_newCapacity_0 : List UInt8 := dkwJ7_newCapacity_0 ++ dktJ7_newCapacity_1
theorem dksJ7_newCapacity_0 : cJ7_newCapacity.data.toList.drop 0 = dktJ7_newCapacity_0 := by decide +kernel
theorem dksJ7_newCapacity_1 : cJ7_newCapacity.data.toList.drop 23 = dktJ7_newCapacity_1 := dk_seg dksJ7_newCapacity_0 23 rfl rfl
theorem dksJ7_newCapacity_2 : cJ7_newCapacity.data.toList.drop 47 = dktJ7_newCapacity_2 := dk_seg dksJ7_newCapacity_1 24 rfl rfl
theorem dJ7_newCapacity_0 : decode cJ7_newCapacity 0 = .ok (.aload_n 0, 1) := dk_42 (dk_at dksJ7_newCapacity_0 0 rfl rfl)
theorem dJ7_newCapacity_1 : decode cJ7_newCapacity 1 = .ok (.getfield 3, 3) := dk_180 0 3 (dk_at dksJ7_newCapacity_0 1 rfl rfl)
theorem dJ7_newCapacity_4 : decode cJ7_newCapacity 4 = .ok (.arraylength, 1) := dk_190 (dk_at dksJ7_newCapacity_0 4 rfl rfl)
theorem dJ7_newCapacity_5 : decode cJ7_newCapacity 5 = .ok (.istore_n 3, 1) := dk_62 (dk_at dksJ7_newCapacity_0 5 rfl rfl)
theorem dJ7_newCapacity_6 : decode cJ7_newCapacity 6 = .ok (.iload_n 3, 1) := dk_29 (dk_at dksJ7_newCapacity_0 6 rfl rfl)
theorem dJ7_newCapacity_7 : decode cJ7_newCapacity 7 = .ok (.iload_n 1, 1) := dk_27 (dk_at dksJ7_newCapacity_0 7 rfl rfl)
theorem dJ7_newCapacity_8 : decode cJ7_newCapacity 8 = .ok (.iadd, 1) := dk_96 (dk_at dksJ7_newCapacity_0 8 rfl rfl)
theorem dJ7_newCapacity_9 : decode cJ7_newCapacity 9 = .ok (.dup, 1) := dk_89 (dk_at dksJ7_newCapacity_0 9 rfl rfl)
theorem dJ7_newCapacity_10 : decode cJ7_newCapacity 10 = .ok (.istore 4, 2) := dk_54 4 (dk_at dksJ7_newCapacity_0 10 rfl rfl)
theorem dJ7_newCapacity_12 : decode cJ7_newCapacity 12 = .ok (.ldc 9, 2) := dk_18 9 (dk_at dksJ7_newCapacity_0 12 rfl rfl)
theorem dJ7_newCapacity_14 : decode cJ7_newCapacity 14 = .ok (.isub, 1) := dk_100 (dk_at dksJ7_newCapacity_0 14 rfl rfl)
theorem dJ7_newCapacity_15 : decode cJ7_newCapacity 15 = .ok (.ifCond .le 21, 3) := dk_158 0 21 (dk_at dksJ7_newCapacity_0 15 rfl rfl)
theorem dJ7_newCapacity_18 : decode cJ7_newCapacity 18 = .ok (.iload 4, 2) := dk_21 4 (dk_at dksJ7_newCapacity_0 18 rfl rfl)
theorem dJ7_newCapacity_20 : decode cJ7_newCapacity 20 = .ok (.ifCond .ge 13, 3) := dk_156 0 13 (dk_at dksJ7_newCapacity_0 20 rfl rfl)
theorem dJ7_newCapacity_23 : decode cJ7_newCapacity 23 = .ok (.new 33, 3) := dk_187 0 33 (dk_at dksJ7_newCapacity_1 0 rfl rfl)
theorem dJ7_newCapacity_26 : decode cJ7_newCapacity 26 = .ok (.dup, 1) := dk_89 (dk_at dksJ7_newCapacity_1 3 rfl rfl)
theorem dJ7_newCapacity_27 : decode cJ7_newCapacity 27 = .ok (.ldc 35, 2) := dk_18 35 (dk_at dksJ7_newCapacity_1 4 rfl rfl)
theorem dJ7_newCapacity_29 : decode cJ7_newCapacity 29 = .ok (.invokespecial 37, 3) := dk_183 0 37 (dk_at dksJ7_newCapacity_1 6 rfl rfl)
theorem dJ7_newCapacity_32 : decode cJ7_newCapacity 32 = .ok (.athrow, 1) := dk_191 (dk_at dksJ7_newCapacity_1 9 rfl rfl)
theorem dJ7_newCapacity_33 : decode cJ7_newCapacity 33 = .ok (.ldc 41, 2) := dk_18 41 (dk_at dksJ7_newCapacity_1 10 rfl rfl)
theorem dJ7_newCapacity_35 : decode cJ7_newCapacity 35 = .ok (.ireturn, 1) := dk_172 (dk_at dksJ7_newCapacity_1 12 rfl rfl)
theorem dJ7_newCapacity_36 : decode cJ7_newCapacity 36 = .ok (.iload_n 1, 1) := dk_27 (dk_at dksJ7_newCapacity_1 13 rfl rfl)
theorem dJ7_newCapacity_37 : decode cJ7_newCapacity 37 = .ok (.iload_n 2, 1) := dk_28 (dk_at dksJ7_newCapacity_1 14 rfl rfl)
theorem dJ7_newCapacity_38 : decode cJ7_newCapacity 38 = .ok (.if_icmp .le 6, 3) := dk_164 0 6 (dk_at dksJ7_newCapacity_1 15 rfl rfl)
theorem dJ7_newCapacity_41 : decode cJ7_newCapacity 41 = .ok (.iload 4, 2) := dk_21 4 (dk_at dksJ7_newCapacity_1 18 rfl rfl)
theorem dJ7_newCapacity_43 : decode cJ7_newCapacity 43 = .ok (.ireturn, 1) := dk_172 (dk_at dksJ7_newCapacity_1 20 rfl rfl)
theorem dJ7_newCapacity_44 : decode cJ7_newCapacity 44 = .ok (.iload_n 3, 1) := dk_29 (dk_at dksJ7_newCapacity_1 21 rfl rfl)
theorem dJ7_newCapacity_45 : decode cJ7_newCapacity 45 = .ok (.iload_n 2, 1) := dk_28 (dk_at dksJ7_newCapacity_1 22 rfl rfl)
theorem dJ7_newCapacity_46 : decode cJ7_newCapacity 46 = .ok (.iadd, 1) := dk_96 (dk_at dksJ7_newCapacity_1 23 rfl rfl)
theorem dJ7_newCapacity_47 : decode cJ7_newCapacity 47 = .ok (.ldc 9, 2) := dk_18 9 (dk_at dksJ7_newCapacity_2 0 rfl rfl)
theorem dJ7_newCapacity_49 : decode cJ7_newCapacity 49 = .ok (.isub, 1) := dk_100 (dk_at dksJ7_newCapacity_2 2 rfl rfl)
theorem dJ7_newCapacity_50 : decode cJ7_newCapacity 50 = .ok (.ifCond .ge 9, 3) := dk_156 0 9 (dk_at dksJ7_newCapacity_2 3 rfl rfl)
theorem dJ7_newCapacity_53 : decode cJ7_newCapacity 53 = .ok (.iload_n 3, 1) := dk_29 (dk_at dksJ7_newCapacity_2 6 rfl rfl)
theorem dJ7_newCapacity_54 : decode cJ7_newCapacity 54 = .ok (.iload_n 2, 1) := dk_28 (dk_at dksJ7_newCapacity_2 7 rfl rfl)
theorem dJ7_newCapacity_55 : decode cJ7_newCapacity 55 = .ok (.iadd, 1) := dk_96 (dk_at dksJ7_newCapacity_2 8 rfl rfl)
theorem dJ7_newCapacity_56 : decode cJ7_newCapacity 56 = .ok (.goto 5, 3) := dk_167 0 5 (dk_at dksJ7_newCapacity_2 9 rfl rfl)
theorem dJ7_newCapacity_59 : decode cJ7_newCapacity 59 = .ok (.ldc 9, 2) := dk_18 9 (dk_at dksJ7_newCapacity_2 12 rfl rfl)
theorem dJ7_newCapacity_61 : decode cJ7_newCapacity 61 = .ok (.ireturn, 1) := dk_172 (dk_at dksJ7_newCapacity_2 14 rfl rfl)
abbrev cJ7_isEmpty : ByteArray := prog_38_method_38_code
def yJ7_isEmpty : MethodName := ⟨RJ7, "isEmpty", "()Z"⟩
def dkwJ7_isEmpty_0 : List UInt8 := [42, 180, 0, 24, 42, 180, 0, 20, 160, 0, 7, 4, 167, 0, 4, 3, 172]
abbrev dktJ7_isEmpty_0 : List UInt8 := dkwJ7_isEmpty_0 ++ []
theorem dksJ7_isEmpty_0 : cJ7_isEmpty.data.toList.drop 0 = dktJ7_isEmpty_0 := by decide +kernel
theorem dJ7_isEmpty_0 : decode cJ7_isEmpty 0 = .ok (.aload_n 0, 1) := dk_42 (dk_at dksJ7_isEmpty_0 0 rfl rfl)
theorem dJ7_isEmpty_1 : decode cJ7_isEmpty 1 = .ok (.getfield 24, 3) := dk_180 0 24 (dk_at dksJ7_isEmpty_0 1 rfl rfl)
theorem dJ7_isEmpty_4 : decode cJ7_isEmpty 4 = .ok (.aload_n 0, 1) := dk_42 (dk_at dksJ7_isEmpty_0 4 rfl rfl)
theorem dJ7_isEmpty_5 : decode cJ7_isEmpty 5 = .ok (.getfield 20, 3) := dk_180 0 20 (dk_at dksJ7_isEmpty_0 5 rfl rfl)
theorem dJ7_isEmpty_8 : decode cJ7_isEmpty 8 = .ok (.if_icmp .ne 7, 3) := dk_160 0 7 (dk_at dksJ7_isEmpty_0 8 rfl rfl)
theorem dJ7_isEmpty_11 : decode cJ7_isEmpty 11 = .ok (.iconst 1, 1) := dk_4 (dk_at dksJ7_isEmpty_0 11 rfl rfl)
theorem dJ7_isEmpty_12 : decode cJ7_isEmpty 12 = .ok (.goto 4, 3) := dk_167 0 4 (dk_at dksJ7_isEmpty_0 12 rfl rfl)
theorem dJ7_isEmpty_15 : decode cJ7_isEmpty 15 = .ok (.iconst 0, 1) := dk_3 (dk_at dksJ7_isEmpty_0 15 rfl rfl)
theorem dJ7_isEmpty_16 : decode cJ7_isEmpty 16 = .ok (.ireturn, 1) := dk_172 (dk_at dksJ7_isEmpty_0 16 rfl rfl)
abbrev cJ7_poll : ByteArray := prog_38_method_31_code
def yJ7_poll : MethodName := ⟨RJ7, "poll", "()Ljava/lang/Object;"⟩
theorem dJ7_poll_0 : decode cJ7_poll 0 = .ok (.aload_n 0, 1) := by decide +kernel
theorem dJ7_poll_1 : decode cJ7_poll 1 = .ok (.invokevirtual 93, 3) := by decide +kernel
theorem dJ7_poll_4 : decode cJ7_poll 4 = .ok (.areturn, 1) := by decide +kernel
abbrev cJ7_pollFirst : ByteArray := prog_38_method_20_code
def yJ7_pollFirst : MethodName := ⟨RJ7, "pollFirst", "()Ljava/lang/Object;"⟩
def dkwJ7_pollFirst_1 : List UInt8 := [42, 28, 43, 190, 184, 0, 74, 181, 0, 24, 45, 176]
abbrev dktJ7_pollFirst_1 : List UInt8 := dkwJ7_pollFirst_1 ++ []
def dkwJ7_pollFirst_0 : List UInt8 := [42, 180, 0, 3, 89, 76, 42, 180, 0, 24, 89, 61, 184, 0, 103, 78, 45, 198, 0, 17, 43, 28, 1, 83]
abbrev dktJ7_pollFirst_0 : List UInt8 := dkwJ7_pollFirst_0 ++ dktJ7_pollFirst_1
theorem dksJ7_pollFirst_0 : cJ7_pollFirst.data.toList.drop 0 = dktJ7_pollFirst_0 := by decide +kernel
theorem dksJ7_pollFirst_1 : cJ7_pollFirst.data.toList.drop 24 = dktJ7_pollFirst_1 := dk_seg dksJ7_pollFirst_0 24 rfl rfl
theorem dJ7_pollFirst_0 : decode cJ7_pollFirst 0 = .ok (.aload_n 0, 1) := dk_42 (dk_at dksJ7_pollFirst_0 0 rfl rfl)
theorem dJ7_pollFirst_1 : decode cJ7_pollFirst 1 = .ok (.getfield 3, 3) := dk_180 0 3 (dk_at dksJ7_pollFirst_0 1 rfl rfl)
theorem dJ7_pollFirst_4 : decode cJ7_pollFirst 4 = .ok (.dup, 1) := dk_89 (dk_at dksJ7_pollFirst_0 4 rfl rfl)
theorem dJ7_pollFirst_5 : decode cJ7_pollFirst 5 = .ok (.astore_n 1, 1) := dk_76 (dk_at dksJ7_pollFirst_0 5 rfl rfl)
theorem dJ7_pollFirst_6 : decode cJ7_pollFirst 6 = .ok (.aload_n 0, 1) := dk_42 (dk_at dksJ7_pollFirst_0 6 rfl rfl)
theorem dJ7_pollFirst_7 : decode cJ7_pollFirst 7 = .ok (.getfield 24, 3) := dk_180 0 24 (dk_at dksJ7_pollFirst_0 7 rfl rfl)
theorem dJ7_pollFirst_10 : decode cJ7_pollFirst 10 = .ok (.dup, 1) := dk_89 (dk_at dksJ7_pollFirst_0 10 rfl rfl)
theorem dJ7_pollFirst_11 : decode cJ7_pollFirst 11 = .ok (.istore_n 2, 1) := dk_61 (dk_at dksJ7_pollFirst_0 11 rfl rfl)
theorem dJ7_pollFirst_12 : decode cJ7_pollFirst 12 = .ok (.invokestatic 103, 3) := dk_184 0 103 (dk_at dksJ7_pollFirst_0 12 rfl rfl)
theorem dJ7_pollFirst_15 : decode cJ7_pollFirst 15 = .ok (.astore_n 3, 1) := dk_78 (dk_at dksJ7_pollFirst_0 15 rfl rfl)
theorem dJ7_pollFirst_16 : decode cJ7_pollFirst 16 = .ok (.aload_n 3, 1) := dk_45 (dk_at dksJ7_pollFirst_0 16 rfl rfl)
theorem dJ7_pollFirst_17 : decode cJ7_pollFirst 17 = .ok (.ifnull 17, 3) := dk_198 0 17 (dk_at dksJ7_pollFirst_0 17 rfl rfl)
theorem dJ7_pollFirst_20 : decode cJ7_pollFirst 20 = .ok (.aload_n 1, 1) := dk_43 (dk_at dksJ7_pollFirst_0 20 rfl rfl)
theorem dJ7_pollFirst_21 : decode cJ7_pollFirst 21 = .ok (.iload_n 2, 1) := dk_28 (dk_at dksJ7_pollFirst_0 21 rfl rfl)
theorem dJ7_pollFirst_22 : decode cJ7_pollFirst 22 = .ok (.aconst_null, 1) := dk_1 (dk_at dksJ7_pollFirst_0 22 rfl rfl)
theorem dJ7_pollFirst_23 : decode cJ7_pollFirst 23 = .ok (.aastore, 1) := dk_83 (dk_at dksJ7_pollFirst_0 23 rfl rfl)
theorem dJ7_pollFirst_24 : decode cJ7_pollFirst 24 = .ok (.aload_n 0, 1) := dk_42 (dk_at dksJ7_pollFirst_1 0 rfl rfl)
theorem dJ7_pollFirst_25 : decode cJ7_pollFirst 25 = .ok (.iload_n 2, 1) := dk_28 (dk_at dksJ7_pollFirst_1 1 rfl rfl)
theorem dJ7_pollFirst_26 : decode cJ7_pollFirst 26 = .ok (.aload_n 1, 1) := dk_43 (dk_at dksJ7_pollFirst_1 2 rfl rfl)
theorem dJ7_pollFirst_27 : decode cJ7_pollFirst 27 = .ok (.arraylength, 1) := dk_190 (dk_at dksJ7_pollFirst_1 3 rfl rfl)
theorem dJ7_pollFirst_28 : decode cJ7_pollFirst 28 = .ok (.invokestatic 74, 3) := dk_184 0 74 (dk_at dksJ7_pollFirst_1 4 rfl rfl)
theorem dJ7_pollFirst_31 : decode cJ7_pollFirst 31 = .ok (.putfield 24, 3) := dk_181 0 24 (dk_at dksJ7_pollFirst_1 7 rfl rfl)
theorem dJ7_pollFirst_34 : decode cJ7_pollFirst 34 = .ok (.aload_n 3, 1) := dk_45 (dk_at dksJ7_pollFirst_1 10 rfl rfl)
theorem dJ7_pollFirst_35 : decode cJ7_pollFirst 35 = .ok (.areturn, 1) := dk_176 (dk_at dksJ7_pollFirst_1 11 rfl rfl)
abbrev cJ7_elementAt : ByteArray := prog_38_method_10_code
def yJ7_elementAt : MethodName := ⟨RJ7, "elementAt", "([Ljava/lang/Object;I)Ljava/lang/Object;"⟩
def dkwJ7_elementAt_0 : List UInt8 := [42, 27, 50, 176]
abbrev dktJ7_elementAt_0 : List UInt8 := dkwJ7_elementAt_0 ++ []
theorem dksJ7_elementAt_0 : cJ7_elementAt.data.toList.drop 0 = dktJ7_elementAt_0 := by decide +kernel
theorem dJ7_elementAt_0 : decode cJ7_elementAt 0 = .ok (.aload_n 0, 1) := dk_42 (dk_at dksJ7_elementAt_0 0 rfl rfl)
theorem dJ7_elementAt_1 : decode cJ7_elementAt 1 = .ok (.iload_n 1, 1) := dk_27 (dk_at dksJ7_elementAt_0 1 rfl rfl)
theorem dJ7_elementAt_2 : decode cJ7_elementAt 2 = .ok (.aaload, 1) := dk_50 (dk_at dksJ7_elementAt_0 2 rfl rfl)
theorem dJ7_elementAt_3 : decode cJ7_elementAt 3 = .ok (.areturn, 1) := dk_176 (dk_at dksJ7_elementAt_0 3 rfl rfl)
abbrev cJ7_size : ByteArray := prog_38_method_37_code
def yJ7_size : MethodName := ⟨RJ7, "size", "()I"⟩
def dkwJ7_size_0 : List UInt8 := [42, 180, 0, 20, 42, 180, 0, 24, 42, 180, 0, 3, 190, 184, 0, 127, 172]
abbrev dktJ7_size_0 : List UInt8 := dkwJ7_size_0 ++ []
theorem dksJ7_size_0 : cJ7_size.data.toList.drop 0 = dktJ7_size_0 := by decide +kernel
theorem dJ7_size_0 : decode cJ7_size 0 = .ok (.aload_n 0, 1) := dk_42 (dk_at dksJ7_size_0 0 rfl rfl)
theorem dJ7_size_1 : decode cJ7_size 1 = .ok (.getfield 20, 3) := dk_180 0 20 (dk_at dksJ7_size_0 1 rfl rfl)
theorem dJ7_size_4 : decode cJ7_size 4 = .ok (.aload_n 0, 1) := dk_42 (dk_at dksJ7_size_0 4 rfl rfl)
theorem dJ7_size_5 : decode cJ7_size 5 = .ok (.getfield 24, 3) := dk_180 0 24 (dk_at dksJ7_size_0 5 rfl rfl)
theorem dJ7_size_8 : decode cJ7_size 8 = .ok (.aload_n 0, 1) := dk_42 (dk_at dksJ7_size_0 8 rfl rfl)
theorem dJ7_size_9 : decode cJ7_size 9 = .ok (.getfield 3, 3) := dk_180 0 3 (dk_at dksJ7_size_0 9 rfl rfl)
theorem dJ7_size_12 : decode cJ7_size 12 = .ok (.arraylength, 1) := dk_190 (dk_at dksJ7_size_0 12 rfl rfl)
theorem dJ7_size_13 : decode cJ7_size 13 = .ok (.invokestatic 127, 3) := dk_184 0 127 (dk_at dksJ7_size_0 13 rfl rfl)
theorem dJ7_size_16 : decode cJ7_size 16 = .ok (.ireturn, 1) := dk_172 (dk_at dksJ7_size_0 16 rfl rfl)
abbrev cJ7_sub : ByteArray := prog_38_method_9_code
def yJ7_sub : MethodName := ⟨RJ7, "sub", "(III)I"⟩
def dkwJ7_sub_0 : List UInt8 := [26, 27, 100, 89, 59, 156, 0, 7, 26, 28, 96, 59, 26, 172]
abbrev dktJ7_sub_0 : List UInt8 := dkwJ7_sub_0 ++ []
theorem dksJ7_sub_0 : cJ7_sub.data.toList.drop 0 = dktJ7_sub_0 := by decide +kernel
theorem dJ7_sub_0 : decode cJ7_sub 0 = .ok (.iload_n 0, 1) := dk_26 (dk_at dksJ7_sub_0 0 rfl rfl)
theorem dJ7_sub_1 : decode cJ7_sub 1 = .ok (.iload_n 1, 1) := dk_27 (dk_at dksJ7_sub_0 1 rfl rfl)
theorem dJ7_sub_2 : decode cJ7_sub 2 = .ok (.isub, 1) := dk_100 (dk_at dksJ7_sub_0 2 rfl rfl)
theorem dJ7_sub_3 : decode cJ7_sub 3 = .ok (.dup, 1) := dk_89 (dk_at dksJ7_sub_0 3 rfl rfl)
theorem dJ7_sub_4 : decode cJ7_sub 4 = .ok (.istore_n 0, 1) := dk_59 (dk_at dksJ7_sub_0 4 rfl rfl)
theorem dJ7_sub_5 : decode cJ7_sub 5 = .ok (.ifCond .ge 7, 3) := dk_156 0 7 (dk_at dksJ7_sub_0 5 rfl rfl)
theorem dJ7_sub_8 : decode cJ7_sub 8 = .ok (.iload_n 0, 1) := dk_26 (dk_at dksJ7_sub_0 8 rfl rfl)
theorem dJ7_sub_9 : decode cJ7_sub 9 = .ok (.iload_n 2, 1) := dk_28 (dk_at dksJ7_sub_0 9 rfl rfl)
theorem dJ7_sub_10 : decode cJ7_sub 10 = .ok (.iadd, 1) := dk_96 (dk_at dksJ7_sub_0 10 rfl rfl)
theorem dJ7_sub_11 : decode cJ7_sub 11 = .ok (.istore_n 0, 1) := dk_59 (dk_at dksJ7_sub_0 11 rfl rfl)
theorem dJ7_sub_12 : decode cJ7_sub 12 = .ok (.iload_n 0, 1) := dk_26 (dk_at dksJ7_sub_0 12 rfl rfl)
theorem dJ7_sub_13 : decode cJ7_sub 13 = .ok (.ireturn, 1) := dk_172 (dk_at dksJ7_sub_0 13 rfl rfl)
abbrev cJ7_nonNullElementAt : ByteArray := prog_38_method_11_code
def yJ7_nonNullElementAt : MethodName := ⟨RJ7, "nonNullElementAt", "([Ljava/lang/Object;I)Ljava/lang/Object;"⟩
def dkwJ7_nonNullElementAt_0 : List UInt8 := [42, 27, 50, 77, 44, 199, 0, 11, 187, 0, 62, 89, 183, 0, 64, 191, 44, 176]
abbrev dktJ7_nonNullElementAt_0 : List UInt8 := dkwJ7_nonNullElementAt_0 ++ []
theorem dksJ7_nonNullElementAt_0 : cJ7_nonNullElementAt.data.toList.drop 0 = dktJ7_nonNullElementAt_0 := by decide +kernel
theorem dJ7_nonNullElementAt_0 : decode cJ7_nonNullElementAt 0 = .ok (.aload_n 0, 1) := dk_42 (dk_at dksJ7_nonNullElementAt_0 0 rfl rfl)
theorem dJ7_nonNullElementAt_1 : decode cJ7_nonNullElementAt 1 = .ok (.iload_n 1, 1) := dk_27 (dk_at dksJ7_nonNullElementAt_0 1 rfl rfl)
theorem dJ7_nonNullElementAt_2 : decode cJ7_nonNullElementAt 2 = .ok (.aaload, 1) := dk_50 (dk_at dksJ7_nonNullElementAt_0 2 rfl rfl)
theorem dJ7_nonNullElementAt_3 : decode cJ7_nonNullElementAt 3 = .ok (.astore_n 2, 1) := dk_77 (dk_at dksJ7_nonNullElementAt_0 3 rfl rfl)
theorem dJ7_nonNullElementAt_4 : decode cJ7_nonNullElementAt 4 = .ok (.aload_n 2, 1) := dk_44 (dk_at dksJ7_nonNullElementAt_0 4 rfl rfl)
theorem dJ7_nonNullElementAt_5 : decode cJ7_nonNullElementAt 5 = .ok (.ifnonnull 11, 3) := dk_199 0 11 (dk_at dksJ7_nonNullElementAt_0 5 rfl rfl)
theorem dJ7_nonNullElementAt_8 : decode cJ7_nonNullElementAt 8 = .ok (.new 62, 3) := dk_187 0 62 (dk_at dksJ7_nonNullElementAt_0 8 rfl rfl)
theorem dJ7_nonNullElementAt_11 : decode cJ7_nonNullElementAt 11 = .ok (.dup, 1) := dk_89 (dk_at dksJ7_nonNullElementAt_0 11 rfl rfl)
theorem dJ7_nonNullElementAt_12 : decode cJ7_nonNullElementAt 12 = .ok (.invokespecial 64, 3) := dk_183 0 64 (dk_at dksJ7_nonNullElementAt_0 12 rfl rfl)
theorem dJ7_nonNullElementAt_15 : decode cJ7_nonNullElementAt 15 = .ok (.athrow, 1) := dk_191 (dk_at dksJ7_nonNullElementAt_0 15 rfl rfl)
theorem dJ7_nonNullElementAt_16 : decode cJ7_nonNullElementAt 16 = .ok (.aload_n 2, 1) := dk_44 (dk_at dksJ7_nonNullElementAt_0 16 rfl rfl)
theorem dJ7_nonNullElementAt_17 : decode cJ7_nonNullElementAt 17 = .ok (.areturn, 1) := dk_176 (dk_at dksJ7_nonNullElementAt_0 17 rfl rfl)
abbrev cJ7_delete : ByteArray := prog_38_method_36_code
def yJ7_delete : MethodName := ⟨RJ7, "delete", "(I)Z"⟩
def dkwJ7_delete_8 : List UInt8 := [4, 172]
abbrev dktJ7_delete_8 : List UInt8 := dkwJ7_delete_8 ++ []
def dkwJ7_delete_7 : List UInt8 := [4, 100, 44, 3, 50, 83, 44, 4, 44, 3, 21, 5, 4, 100, 184, 0, 27, 44, 42, 180, 0, 20, 1, 83]
abbrev dktJ7_delete_7 : List UInt8 := dkwJ7_delete_7 ++ dktJ7_delete_8
def dkwJ7_delete_6 : List UInt8 := [21, 7, 184, 0, 27, 167, 0, 36, 44, 27, 4, 96, 44, 27, 29, 27, 4, 96, 100, 184, 0, 27, 44, 29]
abbrev dktJ7_delete_6 : List UInt8 := dkwJ7_delete_6 ++ dktJ7_delete_7
def dkwJ7_delete_5 : List UInt8 := [21, 5, 29, 184, 0, 68, 181, 0, 20, 27, 42, 180, 0, 20, 163, 0, 17, 44, 27, 4, 96, 44, 27]
abbrev dktJ7_delete_5 : List UInt8 := dkwJ7_delete_5 ++ dktJ7_delete_6
def dkwJ7_delete_4 : List UInt8 := [96, 100, 184, 0, 27, 44, 21, 4, 1, 83, 42, 21, 4, 29, 184, 0, 74, 181, 0, 24, 3, 172, 42]
abbrev dktJ7_delete_4 : List UInt8 := dkwJ7_delete_4 ++ dktJ7_delete_5
def dkwJ7_delete_3 : List UInt8 := [27, 184, 0, 27, 44, 3, 44, 29, 4, 100, 50, 83, 44, 21, 4, 44, 21, 4, 4, 96, 21, 6, 27, 4]
abbrev dktJ7_delete_3 : List UInt8 := dkwJ7_delete_3 ++ dktJ7_delete_4
def dkwJ7_delete_2 : List UInt8 := [27, 163, 0, 19, 44, 21, 4, 44, 21, 4, 4, 96, 21, 6, 184, 0, 27, 167, 0, 36, 44, 3, 44, 4]
abbrev dktJ7_delete_2 : List UInt8 := dkwJ7_delete_2 ++ dktJ7_delete_3
def dkwJ7_delete_1 : List UInt8 := [180, 0, 20, 89, 54, 5, 27, 29, 184, 0, 127, 4, 100, 54, 7, 21, 6, 21, 7, 162, 0, 75, 21, 4]
abbrev dktJ7_delete_1 : List UInt8 := dkwJ7_delete_1 ++ dktJ7_delete_2
def dkwJ7_delete_0 : List UInt8 := [42, 180, 0, 3, 77, 44, 190, 62, 27, 42, 180, 0, 24, 89, 54, 4, 29, 184, 0, 127, 54, 6, 42]
abbrev dktJ7_delete_0 : List UInt8 := dkwJ7_delete_0 ++ dktJ7_delete_1
theorem dksJ7_delete_0 : cJ7_delete.data.toList.drop 0 = dktJ7_delete_0 := by decide +kernel
theorem dksJ7_delete_1 : cJ7_delete.data.toList.drop 23 = dktJ7_delete_1 := dk_seg dksJ7_delete_0 23 rfl rfl
theorem dksJ7_delete_2 : cJ7_delete.data.toList.drop 47 = dktJ7_delete_2 := dk_seg dksJ7_delete_1 24 rfl rfl
theorem dksJ7_delete_3 : cJ7_delete.data.toList.drop 71 = dktJ7_delete_3 := dk_seg dksJ7_delete_2 24 rfl rfl
theorem dksJ7_delete_4 : cJ7_delete.data.toList.drop 95 = dktJ7_delete_4 := dk_seg dksJ7_delete_3 24 rfl rfl
theorem dksJ7_delete_5 : cJ7_delete.data.toList.drop 118 = dktJ7_delete_5 := dk_seg dksJ7_delete_4 23 rfl rfl
theorem dksJ7_delete_6 : cJ7_delete.data.toList.drop 141 = dktJ7_delete_6 := dk_seg dksJ7_delete_5 23 rfl rfl
theorem dksJ7_delete_7 : cJ7_delete.data.toList.drop 165 = dktJ7_delete_7 := dk_seg dksJ7_delete_6 24 rfl rfl
theorem dksJ7_delete_8 : cJ7_delete.data.toList.drop 189 = dktJ7_delete_8 := dk_seg dksJ7_delete_7 24 rfl rfl
theorem dJ7_delete_0 : decode cJ7_delete 0 = .ok (.aload_n 0, 1) := dk_42 (dk_at dksJ7_delete_0 0 rfl rfl)
theorem dJ7_delete_1 : decode cJ7_delete 1 = .ok (.getfield 3, 3) := dk_180 0 3 (dk_at dksJ7_delete_0 1 rfl rfl)
theorem dJ7_delete_4 : decode cJ7_delete 4 = .ok (.astore_n 2, 1) := dk_77 (dk_at dksJ7_delete_0 4 rfl rfl)
theorem dJ7_delete_5 : decode cJ7_delete 5 = .ok (.aload_n 2, 1) := dk_44 (dk_at dksJ7_delete_0 5 rfl rfl)
theorem dJ7_delete_6 : decode cJ7_delete 6 = .ok (.arraylength, 1) := dk_190 (dk_at dksJ7_delete_0 6 rfl rfl)
theorem dJ7_delete_7 : decode cJ7_delete 7 = .ok (.istore_n 3, 1) := dk_62 (dk_at dksJ7_delete_0 7 rfl rfl)
theorem dJ7_delete_8 : decode cJ7_delete 8 = .ok (.iload_n 1, 1) := dk_27 (dk_at dksJ7_delete_0 8 rfl rfl)
theorem dJ7_delete_9 : decode cJ7_delete 9 = .ok (.aload_n 0, 1) := dk_42 (dk_at dksJ7_delete_0 9 rfl rfl)
theorem dJ7_delete_10 : decode cJ7_delete 10 = .ok (.getfield 24, 3) := dk_180 0 24 (dk_at dksJ7_delete_0 10 rfl rfl)
theorem dJ7_delete_13 : decode cJ7_delete 13 = .ok (.dup, 1) := dk_89 (dk_at dksJ7_delete_0 13 rfl rfl)
theorem dJ7_delete_14 : decode cJ7_delete 14 = .ok (.istore 4, 2) := dk_54 4 (dk_at dksJ7_delete_0 14 rfl rfl)
theorem dJ7_delete_16 : decode cJ7_delete 16 = .ok (.iload_n 3, 1) := dk_29 (dk_at dksJ7_delete_0 16 rfl rfl)
theorem dJ7_delete_17 : decode cJ7_delete 17 = .ok (.invokestatic 127, 3) := dk_184 0 127 (dk_at dksJ7_delete_0 17 rfl rfl)
theorem dJ7_delete_20 : decode cJ7_delete 20 = .ok (.istore 6, 2) := dk_54 6 (dk_at dksJ7_delete_0 20 rfl rfl)
theorem dJ7_delete_22 : decode cJ7_delete 22 = .ok (.aload_n 0, 1) := dk_42 (dk_at dksJ7_delete_0 22 rfl rfl)
theorem dJ7_delete_23 : decode cJ7_delete 23 = .ok (.getfield 20, 3) := dk_180 0 20 (dk_at dksJ7_delete_1 0 rfl rfl)
theorem dJ7_delete_26 : decode cJ7_delete 26 = .ok (.dup, 1) := dk_89 (dk_at dksJ7_delete_1 3 rfl rfl)
theorem dJ7_delete_27 : decode cJ7_delete 27 = .ok (.istore 5, 2) := dk_54 5 (dk_at dksJ7_delete_1 4 rfl rfl)
theorem dJ7_delete_29 : decode cJ7_delete 29 = .ok (.iload_n 1, 1) := dk_27 (dk_at dksJ7_delete_1 6 rfl rfl)
theorem dJ7_delete_30 : decode cJ7_delete 30 = .ok (.iload_n 3, 1) := dk_29 (dk_at dksJ7_delete_1 7 rfl rfl)
theorem dJ7_delete_31 : decode cJ7_delete 31 = .ok (.invokestatic 127, 3) := dk_184 0 127 (dk_at dksJ7_delete_1 8 rfl rfl)
theorem dJ7_delete_34 : decode cJ7_delete 34 = .ok (.iconst 1, 1) := dk_4 (dk_at dksJ7_delete_1 11 rfl rfl)
theorem dJ7_delete_35 : decode cJ7_delete 35 = .ok (.isub, 1) := dk_100 (dk_at dksJ7_delete_1 12 rfl rfl)
theorem dJ7_delete_36 : decode cJ7_delete 36 = .ok (.istore 7, 2) := dk_54 7 (dk_at dksJ7_delete_1 13 rfl rfl)
theorem dJ7_delete_38 : decode cJ7_delete 38 = .ok (.iload 6, 2) := dk_21 6 (dk_at dksJ7_delete_1 15 rfl rfl)
theorem dJ7_delete_40 : decode cJ7_delete 40 = .ok (.iload 7, 2) := dk_21 7 (dk_at dksJ7_delete_1 17 rfl rfl)
theorem dJ7_delete_42 : decode cJ7_delete 42 = .ok (.if_icmp .ge 75, 3) := dk_162 0 75 (dk_at dksJ7_delete_1 19 rfl rfl)
theorem dJ7_delete_45 : decode cJ7_delete 45 = .ok (.iload 4, 2) := dk_21 4 (dk_at dksJ7_delete_1 22 rfl rfl)
theorem dJ7_delete_47 : decode cJ7_delete 47 = .ok (.iload_n 1, 1) := dk_27 (dk_at dksJ7_delete_2 0 rfl rfl)
theorem dJ7_delete_48 : decode cJ7_delete 48 = .ok (.if_icmp .gt 19, 3) := dk_163 0 19 (dk_at dksJ7_delete_2 1 rfl rfl)
theorem dJ7_delete_51 : decode cJ7_delete 51 = .ok (.aload_n 2, 1) := dk_44 (dk_at dksJ7_delete_2 4 rfl rfl)
theorem dJ7_delete_52 : decode cJ7_delete 52 = .ok (.iload 4, 2) := dk_21 4 (dk_at dksJ7_delete_2 5 rfl rfl)
theorem dJ7_delete_54 : decode cJ7_delete 54 = .ok (.aload_n 2, 1) := dk_44 (dk_at dksJ7_delete_2 7 rfl rfl)
theorem dJ7_delete_55 : decode cJ7_delete 55 = .ok (.iload 4, 2) := dk_21 4 (dk_at dksJ7_delete_2 8 rfl rfl)
theorem dJ7_delete_57 : decode cJ7_delete 57 = .ok (.iconst 1, 1) := dk_4 (dk_at dksJ7_delete_2 10 rfl rfl)
theorem dJ7_delete_58 : decode cJ7_delete 58 = .ok (.iadd, 1) := dk_96 (dk_at dksJ7_delete_2 11 rfl rfl)
theorem dJ7_delete_59 : decode cJ7_delete 59 = .ok (.iload 6, 2) := dk_21 6 (dk_at dksJ7_delete_2 12 rfl rfl)
theorem dJ7_delete_61 : decode cJ7_delete 61 = .ok (.invokestatic 27, 3) := dk_184 0 27 (dk_at dksJ7_delete_2 14 rfl rfl)
theorem dJ7_delete_64 : decode cJ7_delete 64 = .ok (.goto 36, 3) := dk_167 0 36 (dk_at dksJ7_delete_2 17 rfl rfl)
theorem dJ7_delete_67 : decode cJ7_delete 67 = .ok (.aload_n 2, 1) := dk_44 (dk_at dksJ7_delete_2 20 rfl rfl)
theorem dJ7_delete_68 : decode cJ7_delete 68 = .ok (.iconst 0, 1) := dk_3 (dk_at dksJ7_delete_2 21 rfl rfl)
theorem dJ7_delete_69 : decode cJ7_delete 69 = .ok (.aload_n 2, 1) := dk_44 (dk_at dksJ7_delete_2 22 rfl rfl)
theorem dJ7_delete_70 : decode cJ7_delete 70 = .ok (.iconst 1, 1) := dk_4 (dk_at dksJ7_delete_2 23 rfl rfl)
theorem dJ7_delete_71 : decode cJ7_delete 71 = .ok (.iload_n 1, 1) := dk_27 (dk_at dksJ7_delete_3 0 rfl rfl)
theorem dJ7_delete_72 : decode cJ7_delete 72 = .ok (.invokestatic 27, 3) := dk_184 0 27 (dk_at dksJ7_delete_3 1 rfl rfl)
theorem dJ7_delete_75 : decode cJ7_delete 75 = .ok (.aload_n 2, 1) := dk_44 (dk_at dksJ7_delete_3 4 rfl rfl)
theorem dJ7_delete_76 : decode cJ7_delete 76 = .ok (.iconst 0, 1) := dk_3 (dk_at dksJ7_delete_3 5 rfl rfl)
theorem dJ7_delete_77 : decode cJ7_delete 77 = .ok (.aload_n 2, 1) := dk_44 (dk_at dksJ7_delete_3 6 rfl rfl)
theorem dJ7_delete_78 : decode cJ7_delete 78 = .ok (.iload_n 3, 1) := dk_29 (dk_at dksJ7_delete_3 7 rfl rfl)
theorem dJ7_delete_79 : decode cJ7_delete 79 = .ok (.iconst 1, 1) := dk_4 (dk_at dksJ7_delete_3 8 rfl rfl)
theorem dJ7_delete_80 : decode cJ7_delete 80 = .ok (.isub, 1) := dk_100 (dk_at dksJ7_delete_3 9 rfl rfl)
theorem dJ7_delete_81 : decode cJ7_delete 81 = .ok (.aaload, 1) := dk_50 (dk_at dksJ7_delete_3 10 rfl rfl)
theorem dJ7_delete_82 : decode cJ7_delete 82 = .ok (.aastore, 1) := dk_83 (dk_at dksJ7_delete_3 11 rfl rfl)
theorem dJ7_delete_83 : decode cJ7_delete 83 = .ok (.aload_n 2, 1) := dk_44 (dk_at dksJ7_delete_3 12 rfl rfl)
theorem dJ7_delete_84 : decode cJ7_delete 84 = .ok (.iload 4, 2) := dk_21 4 (dk_at dksJ7_delete_3 13 rfl rfl)
theorem dJ7_delete_86 : decode cJ7_delete 86 = .ok (.aload_n 2, 1) := dk_44 (dk_at dksJ7_delete_3 15 rfl rfl)
theorem dJ7_delete_87 : decode cJ7_delete 87 = .ok (.iload 4, 2) := dk_21 4 (dk_at dksJ7_delete_3 16 rfl rfl)
theorem dJ7_delete_89 : decode cJ7_delete 89 = .ok (.iconst 1, 1) := dk_4 (dk_at dksJ7_delete_3 18 rfl rfl)
theorem dJ7_delete_90 : decode cJ7_delete 90 = .ok (.iadd, 1) := dk_96 (dk_at dksJ7_delete_3 19 rfl rfl)
theorem dJ7_delete_91 : decode cJ7_delete 91 = .ok (.iload 6, 2) := dk_21 6 (dk_at dksJ7_delete_3 20 rfl rfl)
theorem dJ7_delete_93 : decode cJ7_delete 93 = .ok (.iload_n 1, 1) := dk_27 (dk_at dksJ7_delete_3 22 rfl rfl)
theorem dJ7_delete_94 : decode cJ7_delete 94 = .ok (.iconst 1, 1) := dk_4 (dk_at dksJ7_delete_3 23 rfl rfl)
theorem dJ7_delete_95 : decode cJ7_delete 95 = .ok (.iadd, 1) := dk_96 (dk_at dksJ7_delete_4 0 rfl rfl)
theorem dJ7_delete_96 : decode cJ7_delete 96 = .ok (.isub, 1) := dk_100 (dk_at dksJ7_delete_4 1 rfl rfl)
theorem dJ7_delete_97 : decode cJ7_delete 97 = .ok (.invokestatic 27, 3) := dk_184 0 27 (dk_at dksJ7_delete_4 2 rfl rfl)
theorem dJ7_delete_100 : decode cJ7_delete 100 = .ok (.aload_n 2, 1) := dk_44 (dk_at dksJ7_delete_4 5 rfl rfl)
theorem dJ7_delete_101 : decode cJ7_delete 101 = .ok (.iload 4, 2) := dk_21 4 (dk_at dksJ7_delete_4 6 rfl rfl)
theorem dJ7_delete_103 : decode cJ7_delete 103 = .ok (.aconst_null, 1) := dk_1 (dk_at dksJ7_delete_4 8 rfl rfl)
theorem dJ7_delete_104 : decode cJ7_delete 104 = .ok (.aastore, 1) := dk_83 (dk_at dksJ7_delete_4 9 rfl rfl)
theorem dJ7_delete_105 : decode cJ7_delete 105 = .ok (.aload_n 0, 1) := dk_42 (dk_at dksJ7_delete_4 10 rfl rfl)
theorem dJ7_delete_106 : decode cJ7_delete 106 = .ok (.iload 4, 2) := dk_21 4 (dk_at dksJ7_delete_4 11 rfl rfl)
theorem dJ7_delete_108 : decode cJ7_delete 108 = .ok (.iload_n 3, 1) := dk_29 (dk_at dksJ7_delete_4 13 rfl rfl)
theorem dJ7_delete_109 : decode cJ7_delete 109 = .ok (.invokestatic 74, 3) := dk_184 0 74 (dk_at dksJ7_delete_4 14 rfl rfl)
theorem dJ7_delete_112 : decode cJ7_delete 112 = .ok (.putfield 24, 3) := dk_181 0 24 (dk_at dksJ7_delete_4 17 rfl rfl)
theorem dJ7_delete_115 : decode cJ7_delete 115 = .ok (.iconst 0, 1) := dk_3 (dk_at dksJ7_delete_4 20 rfl rfl)
theorem dJ7_delete_116 : decode cJ7_delete 116 = .ok (.ireturn, 1) := dk_172 (dk_at dksJ7_delete_4 21 rfl rfl)
theorem dJ7_delete_117 : decode cJ7_delete 117 = .ok (.aload_n 0, 1) := dk_42 (dk_at dksJ7_delete_4 22 rfl rfl)
theorem dJ7_delete_118 : decode cJ7_delete 118 = .ok (.iload 5, 2) := dk_21 5 (dk_at dksJ7_delete_5 0 rfl rfl)
theorem dJ7_delete_120 : decode cJ7_delete 120 = .ok (.iload_n 3, 1) := dk_29 (dk_at dksJ7_delete_5 2 rfl rfl)
theorem dJ7_delete_121 : decode cJ7_delete 121 = .ok (.invokestatic 68, 3) := dk_184 0 68 (dk_at dksJ7_delete_5 3 rfl rfl)
theorem dJ7_delete_124 : decode cJ7_delete 124 = .ok (.putfield 20, 3) := dk_181 0 20 (dk_at dksJ7_delete_5 6 rfl rfl)
theorem dJ7_delete_127 : decode cJ7_delete 127 = .ok (.iload_n 1, 1) := dk_27 (dk_at dksJ7_delete_5 9 rfl rfl)
theorem dJ7_delete_128 : decode cJ7_delete 128 = .ok (.aload_n 0, 1) := dk_42 (dk_at dksJ7_delete_5 10 rfl rfl)
theorem dJ7_delete_129 : decode cJ7_delete 129 = .ok (.getfield 20, 3) := dk_180 0 20 (dk_at dksJ7_delete_5 11 rfl rfl)
theorem dJ7_delete_132 : decode cJ7_delete 132 = .ok (.if_icmp .gt 17, 3) := dk_163 0 17 (dk_at dksJ7_delete_5 14 rfl rfl)
theorem dJ7_delete_135 : decode cJ7_delete 135 = .ok (.aload_n 2, 1) := dk_44 (dk_at dksJ7_delete_5 17 rfl rfl)
theorem dJ7_delete_136 : decode cJ7_delete 136 = .ok (.iload_n 1, 1) := dk_27 (dk_at dksJ7_delete_5 18 rfl rfl)
theorem dJ7_delete_137 : decode cJ7_delete 137 = .ok (.iconst 1, 1) := dk_4 (dk_at dksJ7_delete_5 19 rfl rfl)
theorem dJ7_delete_138 : decode cJ7_delete 138 = .ok (.iadd, 1) := dk_96 (dk_at dksJ7_delete_5 20 rfl rfl)
theorem dJ7_delete_139 : decode cJ7_delete 139 = .ok (.aload_n 2, 1) := dk_44 (dk_at dksJ7_delete_5 21 rfl rfl)
theorem dJ7_delete_140 : decode cJ7_delete 140 = .ok (.iload_n 1, 1) := dk_27 (dk_at dksJ7_delete_5 22 rfl rfl)
theorem dJ7_delete_141 : decode cJ7_delete 141 = .ok (.iload 7, 2) := dk_21 7 (dk_at dksJ7_delete_6 0 rfl rfl)
theorem dJ7_delete_143 : decode cJ7_delete 143 = .ok (.invokestatic 27, 3) := dk_184 0 27 (dk_at dksJ7_delete_6 2 rfl rfl)
theorem dJ7_delete_146 : decode cJ7_delete 146 = .ok (.goto 36, 3) := dk_167 0 36 (dk_at dksJ7_delete_6 5 rfl rfl)
theorem dJ7_delete_149 : decode cJ7_delete 149 = .ok (.aload_n 2, 1) := dk_44 (dk_at dksJ7_delete_6 8 rfl rfl)
theorem dJ7_delete_150 : decode cJ7_delete 150 = .ok (.iload_n 1, 1) := dk_27 (dk_at dksJ7_delete_6 9 rfl rfl)
theorem dJ7_delete_151 : decode cJ7_delete 151 = .ok (.iconst 1, 1) := dk_4 (dk_at dksJ7_delete_6 10 rfl rfl)
theorem dJ7_delete_152 : decode cJ7_delete 152 = .ok (.iadd, 1) := dk_96 (dk_at dksJ7_delete_6 11 rfl rfl)
theorem dJ7_delete_153 : decode cJ7_delete 153 = .ok (.aload_n 2, 1) := dk_44 (dk_at dksJ7_delete_6 12 rfl rfl)
theorem dJ7_delete_154 : decode cJ7_delete 154 = .ok (.iload_n 1, 1) := dk_27 (dk_at dksJ7_delete_6 13 rfl rfl)
theorem dJ7_delete_155 : decode cJ7_delete 155 = .ok (.iload_n 3, 1) := dk_29 (dk_at dksJ7_delete_6 14 rfl rfl)
theorem dJ7_delete_156 : decode cJ7_delete 156 = .ok (.iload_n 1, 1) := dk_27 (dk_at dksJ7_delete_6 15 rfl rfl)
theorem dJ7_delete_157 : decode cJ7_delete 157 = .ok (.iconst 1, 1) := dk_4 (dk_at dksJ7_delete_6 16 rfl rfl)
theorem dJ7_delete_158 : decode cJ7_delete 158 = .ok (.iadd, 1) := dk_96 (dk_at dksJ7_delete_6 17 rfl rfl)
theorem dJ7_delete_159 : decode cJ7_delete 159 = .ok (.isub, 1) := dk_100 (dk_at dksJ7_delete_6 18 rfl rfl)
theorem dJ7_delete_160 : decode cJ7_delete 160 = .ok (.invokestatic 27, 3) := dk_184 0 27 (dk_at dksJ7_delete_6 19 rfl rfl)
theorem dJ7_delete_163 : decode cJ7_delete 163 = .ok (.aload_n 2, 1) := dk_44 (dk_at dksJ7_delete_6 22 rfl rfl)
theorem dJ7_delete_164 : decode cJ7_delete 164 = .ok (.iload_n 3, 1) := dk_29 (dk_at dksJ7_delete_6 23 rfl rfl)
theorem dJ7_delete_165 : decode cJ7_delete 165 = .ok (.iconst 1, 1) := dk_4 (dk_at dksJ7_delete_7 0 rfl rfl)
theorem dJ7_delete_166 : decode cJ7_delete 166 = .ok (.isub, 1) := dk_100 (dk_at dksJ7_delete_7 1 rfl rfl)
theorem dJ7_delete_167 : decode cJ7_delete 167 = .ok (.aload_n 2, 1) := dk_44 (dk_at dksJ7_delete_7 2 rfl rfl)
theorem dJ7_delete_168 : decode cJ7_delete 168 = .ok (.iconst 0, 1) := dk_3 (dk_at dksJ7_delete_7 3 rfl rfl)
theorem dJ7_delete_169 : decode cJ7_delete 169 = .ok (.aaload, 1) := dk_50 (dk_at dksJ7_delete_7 4 rfl rfl)
theorem dJ7_delete_170 : decode cJ7_delete 170 = .ok (.aastore, 1) := dk_83 (dk_at dksJ7_delete_7 5 rfl rfl)
theorem dJ7_delete_171 : decode cJ7_delete 171 = .ok (.aload_n 2, 1) := dk_44 (dk_at dksJ7_delete_7 6 rfl rfl)
theorem dJ7_delete_172 : decode cJ7_delete 172 = .ok (.iconst 1, 1) := dk_4 (dk_at dksJ7_delete_7 7 rfl rfl)
theorem dJ7_delete_173 : decode cJ7_delete 173 = .ok (.aload_n 2, 1) := dk_44 (dk_at dksJ7_delete_7 8 rfl rfl)
theorem dJ7_delete_174 : decode cJ7_delete 174 = .ok (.iconst 0, 1) := dk_3 (dk_at dksJ7_delete_7 9 rfl rfl)
theorem dJ7_delete_175 : decode cJ7_delete 175 = .ok (.iload 5, 2) := dk_21 5 (dk_at dksJ7_delete_7 10 rfl rfl)
theorem dJ7_delete_177 : decode cJ7_delete 177 = .ok (.iconst 1, 1) := dk_4 (dk_at dksJ7_delete_7 12 rfl rfl)
theorem dJ7_delete_178 : decode cJ7_delete 178 = .ok (.isub, 1) := dk_100 (dk_at dksJ7_delete_7 13 rfl rfl)
theorem dJ7_delete_179 : decode cJ7_delete 179 = .ok (.invokestatic 27, 3) := dk_184 0 27 (dk_at dksJ7_delete_7 14 rfl rfl)
theorem dJ7_delete_182 : decode cJ7_delete 182 = .ok (.aload_n 2, 1) := dk_44 (dk_at dksJ7_delete_7 17 rfl rfl)
theorem dJ7_delete_183 : decode cJ7_delete 183 = .ok (.aload_n 0, 1) := dk_42 (dk_at dksJ7_delete_7 18 rfl rfl)
theorem dJ7_delete_184 : decode cJ7_delete 184 = .ok (.getfield 20, 3) := dk_180 0 20 (dk_at dksJ7_delete_7 19 rfl rfl)
theorem dJ7_delete_187 : decode cJ7_delete 187 = .ok (.aconst_null, 1) := dk_1 (dk_at dksJ7_delete_7 22 rfl rfl)
theorem dJ7_delete_188 : decode cJ7_delete 188 = .ok (.aastore, 1) := dk_83 (dk_at dksJ7_delete_7 23 rfl rfl)
theorem dJ7_delete_189 : decode cJ7_delete 189 = .ok (.iconst 1, 1) := dk_4 (dk_at dksJ7_delete_8 0 rfl rfl)
theorem dJ7_delete_190 : decode cJ7_delete 190 = .ok (.ireturn, 1) := dk_172 (dk_at dksJ7_delete_8 1 rfl rfl)
abbrev cJ7_dec : ByteArray := prog_38_method_7_code
def yJ7_dec : MethodName := ⟨RJ7, "dec", "(II)I"⟩
def dkwJ7_dec_0 : List UInt8 := [132, 0, 255, 26, 156, 0, 7, 27, 4, 100, 59, 26, 172]
abbrev dktJ7_dec_0 : List UInt8 := dkwJ7_dec_0 ++ []
theorem dksJ7_dec_0 : cJ7_dec.data.toList.drop 0 = dktJ7_dec_0 := by decide +kernel
theorem dJ7_dec_0 : decode cJ7_dec 0 = .ok (.iinc 0 (-1), 3) := dk_132 0 255 (dk_at dksJ7_dec_0 0 rfl rfl)
theorem dJ7_dec_3 : decode cJ7_dec 3 = .ok (.iload_n 0, 1) := dk_26 (dk_at dksJ7_dec_0 3 rfl rfl)
theorem dJ7_dec_4 : decode cJ7_dec 4 = .ok (.ifCond .ge 7, 3) := dk_156 0 7 (dk_at dksJ7_dec_0 4 rfl rfl)
theorem dJ7_dec_7 : decode cJ7_dec 7 = .ok (.iload_n 1, 1) := dk_27 (dk_at dksJ7_dec_0 7 rfl rfl)
theorem dJ7_dec_8 : decode cJ7_dec 8 = .ok (.iconst 1, 1) := dk_4 (dk_at dksJ7_dec_0 8 rfl rfl)
theorem dJ7_dec_9 : decode cJ7_dec 9 = .ok (.isub, 1) := dk_100 (dk_at dksJ7_dec_0 9 rfl rfl)
theorem dJ7_dec_10 : decode cJ7_dec 10 = .ok (.istore_n 0, 1) := dk_59 (dk_at dksJ7_dec_0 10 rfl rfl)
theorem dJ7_dec_11 : decode cJ7_dec 11 = .ok (.iload_n 0, 1) := dk_26 (dk_at dksJ7_dec_0 11 rfl rfl)
theorem dJ7_dec_12 : decode cJ7_dec 12 = .ok (.ireturn, 1) := dk_172 (dk_at dksJ7_dec_0 12 rfl rfl)
abbrev cJ7_getFirst : ByteArray := prog_38_method_22_code
def yJ7_getFirst : MethodName := ⟨RJ7, "getFirst", "()Ljava/lang/Object;"⟩
def dkwJ7_getFirst_1 : List UInt8 := [43, 176]
abbrev dktJ7_getFirst_1 : List UInt8 := dkwJ7_getFirst_1 ++ []
def dkwJ7_getFirst_0 : List UInt8 := [42, 180, 0, 3, 42, 180, 0, 24, 184, 0, 103, 76, 43, 199, 0, 11, 187, 0, 97, 89, 183, 0, 99, 191]
abbrev dktJ7_getFirst_0 : List UInt8 := dkwJ7_getFirst_0 ++ dktJ7_getFirst_1
theorem dksJ7_getFirst_0 : cJ7_getFirst.data.toList.drop 0 = dktJ7_getFirst_0 := by decide +kernel
theorem dksJ7_getFirst_1 : cJ7_getFirst.data.toList.drop 24 = dktJ7_getFirst_1 := dk_seg dksJ7_getFirst_0 24 rfl rfl
theorem dJ7_getFirst_0 : decode cJ7_getFirst 0 = .ok (.aload_n 0, 1) := dk_42 (dk_at dksJ7_getFirst_0 0 rfl rfl)
theorem dJ7_getFirst_1 : decode cJ7_getFirst 1 = .ok (.getfield 3, 3) := dk_180 0 3 (dk_at dksJ7_getFirst_0 1 rfl rfl)
theorem dJ7_getFirst_4 : decode cJ7_getFirst 4 = .ok (.aload_n 0, 1) := dk_42 (dk_at dksJ7_getFirst_0 4 rfl rfl)
theorem dJ7_getFirst_5 : decode cJ7_getFirst 5 = .ok (.getfield 24, 3) := dk_180 0 24 (dk_at dksJ7_getFirst_0 5 rfl rfl)
theorem dJ7_getFirst_8 : decode cJ7_getFirst 8 = .ok (.invokestatic 103, 3) := dk_184 0 103 (dk_at dksJ7_getFirst_0 8 rfl rfl)
theorem dJ7_getFirst_11 : decode cJ7_getFirst 11 = .ok (.astore_n 1, 1) := dk_76 (dk_at dksJ7_getFirst_0 11 rfl rfl)
theorem dJ7_getFirst_12 : decode cJ7_getFirst 12 = .ok (.aload_n 1, 1) := dk_43 (dk_at dksJ7_getFirst_0 12 rfl rfl)
theorem dJ7_getFirst_13 : decode cJ7_getFirst 13 = .ok (.ifnonnull 11, 3) := dk_199 0 11 (dk_at dksJ7_getFirst_0 13 rfl rfl)
theorem dJ7_getFirst_16 : decode cJ7_getFirst 16 = .ok (.new 97, 3) := dk_187 0 97 (dk_at dksJ7_getFirst_0 16 rfl rfl)
theorem dJ7_getFirst_19 : decode cJ7_getFirst 19 = .ok (.dup, 1) := dk_89 (dk_at dksJ7_getFirst_0 19 rfl rfl)
theorem dJ7_getFirst_20 : decode cJ7_getFirst 20 = .ok (.invokespecial 99, 3) := dk_183 0 99 (dk_at dksJ7_getFirst_0 20 rfl rfl)
theorem dJ7_getFirst_23 : decode cJ7_getFirst 23 = .ok (.athrow, 1) := dk_191 (dk_at dksJ7_getFirst_0 23 rfl rfl)
theorem dJ7_getFirst_24 : decode cJ7_getFirst 24 = .ok (.aload_n 1, 1) := dk_43 (dk_at dksJ7_getFirst_1 0 rfl rfl)
theorem dJ7_getFirst_25 : decode cJ7_getFirst 25 = .ok (.areturn, 1) := dk_176 (dk_at dksJ7_getFirst_1 1 rfl rfl)
abbrev cJ7_iterator : ByteArray := prog_38_method_39_code
def yJ7_iterator : MethodName := ⟨RJ7, "iterator", "()Ljava/util/Iterator;"⟩
def dkwJ7_iterator_0 : List UInt8 := [187, 0, 131, 89, 42, 183, 0, 133, 176]
abbrev dktJ7_iterator_0 : List UInt8 := dkwJ7_iterator_0 ++ []
theorem dksJ7_iterator_0 : cJ7_iterator.data.toList.drop 0 = dktJ7_iterator_0 := by decide +kernel
theorem dJ7_iterator_0 : decode cJ7_iterator 0 = .ok (.new 131, 3) := dk_187 0 131 (dk_at dksJ7_iterator_0 0 rfl rfl)
theorem dJ7_iterator_3 : decode cJ7_iterator 3 = .ok (.dup, 1) := dk_89 (dk_at dksJ7_iterator_0 3 rfl rfl)
theorem dJ7_iterator_4 : decode cJ7_iterator 4 = .ok (.aload_n 0, 1) := dk_42 (dk_at dksJ7_iterator_0 4 rfl rfl)
theorem dJ7_iterator_5 : decode cJ7_iterator 5 = .ok (.invokespecial 133, 3) := dk_183 0 133 (dk_at dksJ7_iterator_0 5 rfl rfl)
theorem dJ7_iterator_8 : decode cJ7_iterator 8 = .ok (.areturn, 1) := dk_176 (dk_at dksJ7_iterator_0 8 rfl rfl)
theorem q87 : (Jvm.Cond.initialized "java/util/ArrayDeque") ∈ lw_all := lw_g (lw_at lw_m1 13 rfl) rfl
theorem q468 : (Jvm.Cond.instantiable "java/util/ArrayDeque" (3 : Nat)) ∈ lw_all := lw_g (lw_at lw_m2 154 rfl) rfl
theorem q470 : (Jvm.Cond.instanceMethod ({ cls := "java/util/ArrayDeque", name := "<init>", desc := "()V" } : Jvm.MethodName)) ∈ lw_all := lw_g (lw_at lw_m2 156 rfl) rfl
theorem q471 : (Jvm.Cond.code ({ cls := "java/util/ArrayDeque", name := "<init>", desc := "()V" } : Jvm.MethodName) prog_38_method_3_code (1 : Nat) (Option.none : Option Jvm.ClassFile.FieldType)) ∈ lw_all := lw_g (lw_at lw_m2 157 rfl) rfl
theorem q472 : (Jvm.Cond.methodLink "java/util/ArrayDeque" (42 : Nat) ({ cls := "java/util/AbstractCollection", name := "<init>", desc := "()V" } : Jvm.MethodName)) ∈ lw_all := lw_g (lw_at lw_m2 158 rfl) rfl
theorem q473 : (Jvm.Cond.classLink "java/util/ArrayDeque" (47 : Nat) "java/lang/Object") ∈ lw_all := lw_g (lw_at lw_m2 159 rfl) rfl
theorem q475 : (Jvm.Cond.fieldLink "java/util/ArrayDeque" (3 : Nat) "java/util/ArrayDeque" "elements" "[Ljava/lang/Object;") ∈ lw_all := lw_g (lw_at lw_m2 161 rfl) rfl
theorem q478 : (Jvm.Cond.fieldLink "java/util/ArrayDeque" (24 : Nat) "java/util/ArrayDeque" "head" "I") ∈ lw_all := lw_g (lw_at lw_m2 164 rfl) rfl
theorem q479 : (Jvm.Cond.fieldLink "java/util/ArrayDeque" (20 : Nat) "java/util/ArrayDeque" "tail" "I") ∈ lw_all := lw_g (lw_at lw_m2 165 rfl) rfl
theorem q480 : (Jvm.Cond.lays "java/util/ArrayDeque" "java/util/ArrayDeque" "elements" "[Ljava/lang/Object;") ∈ lw_all := lw_g (lw_at lw_m2 166 rfl) rfl
theorem q481 : (Jvm.Cond.soleField "java/util/ArrayDeque" "elements") ∈ lw_all := lw_g (lw_at lw_m2 167 rfl) rfl
theorem q482 : (Jvm.Cond.lays "java/util/ArrayDeque" "java/util/ArrayDeque" "head" "I") ∈ lw_all := lw_g (lw_at lw_m2 168 rfl) rfl
theorem q483 : (Jvm.Cond.soleField "java/util/ArrayDeque" "head") ∈ lw_all := lw_g (lw_at lw_m2 169 rfl) rfl
theorem q484 : (Jvm.Cond.lays "java/util/ArrayDeque" "java/util/ArrayDeque" "tail" "I") ∈ lw_all := lw_g (lw_at lw_m2 170 rfl) rfl
theorem q485 : (Jvm.Cond.soleField "java/util/ArrayDeque" "tail") ∈ lw_all := lw_g (lw_at lw_m2 171 rfl) rfl
theorem q486 : (Jvm.Cond.superclass "java/util/ArrayDeque" "java/util/AbstractCollection") ∈ lw_all := lw_g (lw_at lw_m2 172 rfl) rfl
theorem q508 : (Jvm.Cond.instanceMethod ({ cls := "java/util/ArrayDeque", name := "add", desc := "(Ljava/lang/Object;)Z" } : Jvm.MethodName)) ∈ lw_all := lw_g (lw_at lw_m2 194 rfl) rfl
theorem q509 : (Jvm.Cond.selects "java/util/ArrayDeque" ({ cls := "java/util/ArrayDeque", name := "add", desc := "(Ljava/lang/Object;)Z" } : Jvm.MethodName) ({ cls := "java/util/ArrayDeque", name := "add", desc := "(Ljava/lang/Object;)Z" } : Jvm.MethodName)) ∈ lw_all := lw_g (lw_at lw_m2 195 rfl) rfl
theorem q510 : (Jvm.Cond.code ({ cls := "java/util/ArrayDeque", name := "add", desc := "(Ljava/lang/Object;)Z" } : Jvm.MethodName) prog_38_method_28_code (2 : Nat) (Option.some Jvm.ClassFile.FieldType.boolean)) ∈ lw_all := lw_g (lw_at lw_m2 196 rfl) rfl
theorem q511 : (Jvm.Cond.methodLink "java/util/ArrayDeque" (90 : Nat) ({ cls := "java/util/ArrayDeque", name := "addLast", desc := "(Ljava/lang/Object;)V" } : Jvm.MethodName)) ∈ lw_all := lw_g (lw_at lw_m2 197 rfl) rfl
theorem q512 : (Jvm.Cond.instanceMethod ({ cls := "java/util/ArrayDeque", name := "addLast", desc := "(Ljava/lang/Object;)V" } : Jvm.MethodName)) ∈ lw_all := lw_g (lw_at lw_m2 198 rfl) rfl
theorem q513 : (Jvm.Cond.selects "java/util/ArrayDeque" ({ cls := "java/util/ArrayDeque", name := "addLast", desc := "(Ljava/lang/Object;)V" } : Jvm.MethodName) ({ cls := "java/util/ArrayDeque", name := "addLast", desc := "(Ljava/lang/Object;)V" } : Jvm.MethodName)) ∈ lw_all := lw_g (lw_at lw_m2 199 rfl) rfl
theorem q514 : (Jvm.Cond.code ({ cls := "java/util/ArrayDeque", name := "addLast", desc := "(Ljava/lang/Object;)V" } : Jvm.MethodName) prog_38_method_13_code (3 : Nat) (Option.none : Option Jvm.ClassFile.FieldType)) ∈ lw_all := lw_g (lw_at lw_m2 200 rfl) rfl
theorem q515 : (Jvm.Cond.methodLink "java/util/ArrayDeque" (74 : Nat) ({ cls := "java/util/ArrayDeque", name := "inc", desc := "(II)I" } : Jvm.MethodName)) ∈ lw_all := lw_g (lw_at lw_m2 201 rfl) rfl
theorem q516 : (Jvm.Cond.static ({ cls := "java/util/ArrayDeque", name := "inc", desc := "(II)I" } : Jvm.MethodName)) ∈ lw_all := lw_g (lw_at lw_m2 202 rfl) rfl
theorem q517 : (Jvm.Cond.code ({ cls := "java/util/ArrayDeque", name := "inc", desc := "(II)I" } : Jvm.MethodName) prog_38_method_6_code (2 : Nat) (Option.some Jvm.ClassFile.FieldType.int)) ∈ lw_all := lw_g (lw_at lw_m2 203 rfl) rfl
theorem q518 : (Jvm.Cond.methodLink "java/util/ArrayDeque" (71 : Nat) ({ cls := "java/util/ArrayDeque", name := "grow", desc := "(I)V" } : Jvm.MethodName)) ∈ lw_all := lw_g (lw_at lw_m2 204 rfl) rfl
theorem q519 : (Jvm.Cond.privateMethod ({ cls := "java/util/ArrayDeque", name := "grow", desc := "(I)V" } : Jvm.MethodName)) ∈ lw_tbl := lw_at lw_m2 205 rfl
theorem q520 : (Jvm.Cond.instanceMethod ({ cls := "java/util/ArrayDeque", name := "grow", desc := "(I)V" } : Jvm.MethodName)) ∈ lw_all := lw_g (lw_at lw_m2 206 rfl) rfl
theorem q521 : (Jvm.Cond.code ({ cls := "java/util/ArrayDeque", name := "grow", desc := "(I)V" } : Jvm.MethodName) prog_38_method_1_code (9 : Nat) (Option.none : Option Jvm.ClassFile.FieldType)) ∈ lw_all := lw_g (lw_at lw_m2 207 rfl) rfl
theorem q522 : (Jvm.Cond.constant "java/util/ArrayDeque" (9 : Nat) (2147483639 : Int32)) ∈ lw_all := lw_g (lw_at lw_m2 208 rfl) rfl
theorem q523 : (Jvm.Cond.methodLink "java/util/ArrayDeque" (10 : Nat) ({ cls := "java/util/ArrayDeque", name := "newCapacity", desc := "(II)I" } : Jvm.MethodName)) ∈ lw_all := lw_g (lw_at lw_m2 209 rfl) rfl
theorem q524 : (Jvm.Cond.privateMethod ({ cls := "java/util/ArrayDeque", name := "newCapacity", desc := "(II)I" } : Jvm.MethodName)) ∈ lw_tbl := lw_at lw_m2 210 rfl
theorem q525 : (Jvm.Cond.instanceMethod ({ cls := "java/util/ArrayDeque", name := "newCapacity", desc := "(II)I" } : Jvm.MethodName)) ∈ lw_all := lw_g (lw_at lw_m2 211 rfl) rfl
theorem q526 : (Jvm.Cond.code ({ cls := "java/util/ArrayDeque", name := "newCapacity", desc := "(II)I" } : Jvm.MethodName) prog_38_method_2_code (5 : Nat) (Option.some Jvm.ClassFile.FieldType.int)) ∈ lw_all := lw_g (lw_at lw_m2 212 rfl) rfl
theorem q527 : (Jvm.Cond.constant "java/util/ArrayDeque" (41 : Nat) (2147483647 : Int32)) ∈ lw_all := lw_g (lw_at lw_m2 213 rfl) rfl
theorem q528 : (Jvm.Cond.methodLink "java/util/ArrayDeque" (14 : Nat) ({ cls := "java/util/Arrays", name := "copyOf", desc := "([Ljava/lang/Object;I)[Ljava/lang/Object;" } : Jvm.MethodName)) ∈ lw_all := lw_g (lw_at lw_m2 214 rfl) rfl
theorem q546 : (Jvm.Cond.selects "java/util/ArrayDeque" ({ cls := "java/lang/Object", name := "getClass", desc := "()Ljava/lang/Class;" } : Jvm.MethodName) ({ cls := "java/lang/Object", name := "getClass", desc := "()Ljava/lang/Class;" } : Jvm.MethodName)) ∈ lw_all := lw_g (lw_at lw_m2 232 rfl) rfl
theorem q566 : (Jvm.Cond.methodLink "java/util/ArrayDeque" (27 : Nat) ({ cls := "java/lang/System", name := "arraycopy", desc := "(Ljava/lang/Object;ILjava/lang/Object;II)V" } : Jvm.MethodName)) ∈ lw_all := lw_g (lw_at lw_m3 12 rfl) rfl
theorem q568 : (Jvm.Cond.instanceMethod ({ cls := "java/util/ArrayDeque", name := "isEmpty", desc := "()Z" } : Jvm.MethodName)) ∈ lw_all := lw_g (lw_at lw_m3 14 rfl) rfl
theorem q569 : (Jvm.Cond.selects "java/util/ArrayDeque" ({ cls := "java/util/ArrayDeque", name := "isEmpty", desc := "()Z" } : Jvm.MethodName) ({ cls := "java/util/ArrayDeque", name := "isEmpty", desc := "()Z" } : Jvm.MethodName)) ∈ lw_all := lw_g (lw_at lw_m3 15 rfl) rfl
theorem q570 : (Jvm.Cond.code ({ cls := "java/util/ArrayDeque", name := "isEmpty", desc := "()Z" } : Jvm.MethodName) prog_38_method_38_code (1 : Nat) (Option.some Jvm.ClassFile.FieldType.boolean)) ∈ lw_all := lw_g (lw_at lw_m3 16 rfl) rfl
theorem q572 : (Jvm.Cond.instanceMethod ({ cls := "java/util/ArrayDeque", name := "poll", desc := "()Ljava/lang/Object;" } : Jvm.MethodName)) ∈ lw_all := lw_g (lw_at lw_m3 18 rfl) rfl
theorem q573 : (Jvm.Cond.selects "java/util/ArrayDeque" ({ cls := "java/util/ArrayDeque", name := "poll", desc := "()Ljava/lang/Object;" } : Jvm.MethodName) ({ cls := "java/util/ArrayDeque", name := "poll", desc := "()Ljava/lang/Object;" } : Jvm.MethodName)) ∈ lw_all := lw_g (lw_at lw_m3 19 rfl) rfl
theorem q574 : (Jvm.Cond.code ({ cls := "java/util/ArrayDeque", name := "poll", desc := "()Ljava/lang/Object;" } : Jvm.MethodName) prog_38_method_31_code (1 : Nat) (Option.some (Jvm.ClassFile.FieldType.object "java/lang/Object"))) ∈ lw_all := lw_g (lw_at lw_m3 20 rfl) rfl
theorem q575 : (Jvm.Cond.methodLink "java/util/ArrayDeque" (93 : Nat) ({ cls := "java/util/ArrayDeque", name := "pollFirst", desc := "()Ljava/lang/Object;" } : Jvm.MethodName)) ∈ lw_all := lw_g (lw_at lw_m3 21 rfl) rfl
theorem q576 : (Jvm.Cond.instanceMethod ({ cls := "java/util/ArrayDeque", name := "pollFirst", desc := "()Ljava/lang/Object;" } : Jvm.MethodName)) ∈ lw_all := lw_g (lw_at lw_m3 22 rfl) rfl
theorem q577 : (Jvm.Cond.selects "java/util/ArrayDeque" ({ cls := "java/util/ArrayDeque", name := "pollFirst", desc := "()Ljava/lang/Object;" } : Jvm.MethodName) ({ cls := "java/util/ArrayDeque", name := "pollFirst", desc := "()Ljava/lang/Object;" } : Jvm.MethodName)) ∈ lw_all := lw_g (lw_at lw_m3 23 rfl) rfl
theorem q578 : (Jvm.Cond.code ({ cls := "java/util/ArrayDeque", name := "pollFirst", desc := "()Ljava/lang/Object;" } : Jvm.MethodName) prog_38_method_20_code (4 : Nat) (Option.some (Jvm.ClassFile.FieldType.object "java/lang/Object"))) ∈ lw_all := lw_g (lw_at lw_m3 24 rfl) rfl
theorem q579 : (Jvm.Cond.methodLink "java/util/ArrayDeque" (103 : Nat) ({ cls := "java/util/ArrayDeque", name := "elementAt", desc := "([Ljava/lang/Object;I)Ljava/lang/Object;" } : Jvm.MethodName)) ∈ lw_all := lw_g (lw_at lw_m3 25 rfl) rfl
theorem q580 : (Jvm.Cond.static ({ cls := "java/util/ArrayDeque", name := "elementAt", desc := "([Ljava/lang/Object;I)Ljava/lang/Object;" } : Jvm.MethodName)) ∈ lw_all := lw_g (lw_at lw_m3 26 rfl) rfl
theorem q581 : (Jvm.Cond.code ({ cls := "java/util/ArrayDeque", name := "elementAt", desc := "([Ljava/lang/Object;I)Ljava/lang/Object;" } : Jvm.MethodName) prog_38_method_10_code (2 : Nat) (Option.some (Jvm.ClassFile.FieldType.object "java/lang/Object"))) ∈ lw_all := lw_g (lw_at lw_m3 27 rfl) rfl
theorem q728 : (Jvm.Cond.selects "java/util/ArrayDeque" ({ cls := "java/util/AbstractCollection", name := "size", desc := "()I" } : Jvm.MethodName) ({ cls := "java/util/ArrayDeque", name := "size", desc := "()I" } : Jvm.MethodName)) ∈ lw_all := lw_g (lw_at lw_m3 174 rfl) rfl
theorem q729 : (Jvm.Cond.instanceMethod ({ cls := "java/util/ArrayDeque", name := "size", desc := "()I" } : Jvm.MethodName)) ∈ lw_all := lw_g (lw_at lw_m3 175 rfl) rfl
theorem q730 : (Jvm.Cond.code ({ cls := "java/util/ArrayDeque", name := "size", desc := "()I" } : Jvm.MethodName) prog_38_method_37_code (1 : Nat) (Option.some Jvm.ClassFile.FieldType.int)) ∈ lw_all := lw_g (lw_at lw_m3 176 rfl) rfl
theorem q731 : (Jvm.Cond.methodLink "java/util/ArrayDeque" (127 : Nat) ({ cls := "java/util/ArrayDeque", name := "sub", desc := "(III)I" } : Jvm.MethodName)) ∈ lw_all := lw_g (lw_at lw_m3 177 rfl) rfl
theorem q732 : (Jvm.Cond.static ({ cls := "java/util/ArrayDeque", name := "sub", desc := "(III)I" } : Jvm.MethodName)) ∈ lw_all := lw_g (lw_at lw_m3 178 rfl) rfl
theorem q733 : (Jvm.Cond.code ({ cls := "java/util/ArrayDeque", name := "sub", desc := "(III)I" } : Jvm.MethodName) prog_38_method_9_code (3 : Nat) (Option.some Jvm.ClassFile.FieldType.int)) ∈ lw_all := lw_g (lw_at lw_m3 179 rfl) rfl
theorem q1217 : (Jvm.Cond.static ({ cls := "java/util/ArrayDeque", name := "nonNullElementAt", desc := "([Ljava/lang/Object;I)Ljava/lang/Object;" } : Jvm.MethodName)) ∈ lw_all := lw_g (lw_at lw_m5 183 rfl) rfl
theorem q1218 : (Jvm.Cond.code ({ cls := "java/util/ArrayDeque", name := "nonNullElementAt", desc := "([Ljava/lang/Object;I)Ljava/lang/Object;" } : Jvm.MethodName) prog_38_method_11_code (3 : Nat) (Option.some (Jvm.ClassFile.FieldType.object "java/lang/Object"))) ∈ lw_all := lw_g (lw_at lw_m5 184 rfl) rfl
theorem q1312 : (Jvm.Cond.instanceMethod ({ cls := "java/util/ArrayDeque", name := "delete", desc := "(I)Z" } : Jvm.MethodName)) ∈ lw_all := lw_g (lw_at lw_m6 38 rfl) rfl
theorem q1313 : (Jvm.Cond.selects "java/util/ArrayDeque" ({ cls := "java/util/ArrayDeque", name := "delete", desc := "(I)Z" } : Jvm.MethodName) ({ cls := "java/util/ArrayDeque", name := "delete", desc := "(I)Z" } : Jvm.MethodName)) ∈ lw_all := lw_g (lw_at lw_m6 39 rfl) rfl
theorem q1314 : (Jvm.Cond.code ({ cls := "java/util/ArrayDeque", name := "delete", desc := "(I)Z" } : Jvm.MethodName) prog_38_method_36_code (8 : Nat) (Option.some Jvm.ClassFile.FieldType.boolean)) ∈ lw_all := lw_g (lw_at lw_m6 40 rfl) rfl
theorem q1315 : (Jvm.Cond.methodLink "java/util/ArrayDeque" (68 : Nat) ({ cls := "java/util/ArrayDeque", name := "dec", desc := "(II)I" } : Jvm.MethodName)) ∈ lw_all := lw_g (lw_at lw_m6 41 rfl) rfl
theorem q1316 : (Jvm.Cond.static ({ cls := "java/util/ArrayDeque", name := "dec", desc := "(II)I" } : Jvm.MethodName)) ∈ lw_all := lw_g (lw_at lw_m6 42 rfl) rfl
theorem q1317 : (Jvm.Cond.code ({ cls := "java/util/ArrayDeque", name := "dec", desc := "(II)I" } : Jvm.MethodName) prog_38_method_7_code (2 : Nat) (Option.some Jvm.ClassFile.FieldType.int)) ∈ lw_all := lw_g (lw_at lw_m6 43 rfl) rfl
theorem q1411 : (Jvm.Cond.instanceMethod ({ cls := "java/util/ArrayDeque", name := "getFirst", desc := "()Ljava/lang/Object;" } : Jvm.MethodName)) ∈ lw_all := lw_g (lw_at lw_m6 137 rfl) rfl
theorem q1412 : (Jvm.Cond.selects "java/util/ArrayDeque" ({ cls := "java/util/ArrayDeque", name := "getFirst", desc := "()Ljava/lang/Object;" } : Jvm.MethodName) ({ cls := "java/util/ArrayDeque", name := "getFirst", desc := "()Ljava/lang/Object;" } : Jvm.MethodName)) ∈ lw_all := lw_g (lw_at lw_m6 138 rfl) rfl
theorem q1413 : (Jvm.Cond.code ({ cls := "java/util/ArrayDeque", name := "getFirst", desc := "()Ljava/lang/Object;" } : Jvm.MethodName) prog_38_method_22_code (2 : Nat) (Option.some (Jvm.ClassFile.FieldType.object "java/lang/Object"))) ∈ lw_all := lw_g (lw_at lw_m6 139 rfl) rfl
theorem q1415 : (Jvm.Cond.instanceMethod ({ cls := "java/util/ArrayDeque", name := "iterator", desc := "()Ljava/util/Iterator;" } : Jvm.MethodName)) ∈ lw_all := lw_g (lw_at lw_m6 141 rfl) rfl
theorem q1416 : (Jvm.Cond.selects "java/util/ArrayDeque" ({ cls := "java/util/ArrayDeque", name := "iterator", desc := "()Ljava/util/Iterator;" } : Jvm.MethodName) ({ cls := "java/util/ArrayDeque", name := "iterator", desc := "()Ljava/util/Iterator;" } : Jvm.MethodName)) ∈ lw_all := lw_g (lw_at lw_m6 142 rfl) rfl
theorem q1417 : (Jvm.Cond.code ({ cls := "java/util/ArrayDeque", name := "iterator", desc := "()Ljava/util/Iterator;" } : Jvm.MethodName) prog_38_method_39_code (1 : Nat) (Option.some (Jvm.ClassFile.FieldType.object "java/util/Iterator"))) ∈ lw_all := lw_g (lw_at lw_m6 143 rfl) rfl
theorem q1418 : (Jvm.Cond.classLink "java/util/ArrayDeque" (131 : Nat) "java/util/ArrayDeque$DeqIterator") ∈ lw_all := lw_g (lw_at lw_m6 144 rfl) rfl
theorem q1420 : (Jvm.Cond.methodLink "java/util/ArrayDeque" (133 : Nat) ({ cls := "java/util/ArrayDeque$DeqIterator", name := "<init>", desc := "(Ljava/util/ArrayDeque;)V" } : Jvm.MethodName)) ∈ lw_all := lw_g (lw_at lw_m6 146 rfl) rfl
theorem q2033 : (Jvm.Cond.selects "java/util/ArrayDeque" ({ cls := "java/util/ArrayDeque", name := "size", desc := "()I" } : Jvm.MethodName) ({ cls := "java/util/ArrayDeque", name := "size", desc := "()I" } : Jvm.MethodName)) ∈ lw_all := lw_g (lw_at lw_m9 39 rfl) rfl
theorem q2042 : (Jvm.Cond.castable "java/util/ArrayDeque" "java/lang/Object") ∈ lw_tbl := lw_at lw_m9 48 rfl
theorem in_J7 : ∀ w ∈ wsJ70, w ∈ lw_all := lw_in wsJ70 [480, 482, 484] (by decide +kernel) (by decide +kernel)
/-! java/util/Arrays -/
set_option maxRecDepth 100000
def RJ8 : String := "java/util/Arrays"
abbrev cJ8_copyOf : ByteArray := prog_43_method_119_code
def yJ8_copyOf : MethodName := ⟨RJ8, "copyOf", "([Ljava/lang/Object;I)[Ljava/lang/Object;"⟩
def dkwJ8_copyOf_0 : List UInt8 := [42, 27, 42, 182, 0, 86, 184, 1, 44, 176]
abbrev dktJ8_copyOf_0 : List UInt8 := dkwJ8_copyOf_0 ++ []
theorem dksJ8_copyOf_0 : cJ8_copyOf.data.toList.drop 0 = dktJ8_copyOf_0 := by decide +kernel
theorem dJ8_copyOf_0 : decode cJ8_copyOf 0 = .ok (.aload_n 0, 1) := dk_42 (dk_at dksJ8_copyOf_0 0 rfl rfl)
theorem dJ8_copyOf_1 : decode cJ8_copyOf 1 = .ok (.iload_n 1, 1) := dk_27 (dk_at dksJ8_copyOf_0 1 rfl rfl)
theorem dJ8_copyOf_2 : decode cJ8_copyOf 2 = .ok (.aload_n 0, 1) := dk_42 (dk_at dksJ8_copyOf_0 2 rfl rfl)
theorem dJ8_copyOf_3 : decode cJ8_copyOf 3 = .ok (.invokevirtual 86, 3) := dk_182 0 86 (dk_at dksJ8_copyOf_0 3 rfl rfl)
theorem dJ8_copyOf_6 : decode cJ8_copyOf 6 = .ok (.invokestatic 300, 3) := dk_184 1 44 (dk_at dksJ8_copyOf_0 6 rfl rfl)
theorem dJ8_copyOf_9 : decode cJ8_copyOf 9 = .ok (.areturn, 1) := dk_176 (dk_at dksJ8_copyOf_0 9 rfl rfl)
abbrev cJ8_copyOf_2 : ByteArray := prog_43_method_120_code
def yJ8_copyOf_2 : MethodName := ⟨RJ8, "copyOf", "([Ljava/lang/Object;ILjava/lang/Class;)[Ljava/lang/Object;"⟩
def dkwJ8_copyOf_2_1 : List UInt8 := [78, 42, 3, 45, 3, 42, 190, 27, 184, 1, 48, 184, 0, 150, 45, 176]
abbrev dktJ8_copyOf_2_1 : List UInt8 := dkwJ8_copyOf_2_1 ++ []
def dkwJ8_copyOf_2_0 : List UInt8 := [44, 18, 110, 166, 0, 10, 27, 189, 0, 2, 167, 0, 14, 44, 182, 0, 90, 27, 184, 0, 95, 192, 0, 110]
abbrev dktJ8_copyOf_2_0 : List UInt8 := dkwJ8_copyOf_2_0 ++ dktJ8_copyOf_2_1
theorem dksJ8_copyOf_2_0 : cJ8_copyOf_2.data.toList.drop 0 = dktJ8_copyOf_2_0 := by decide +kernel
theorem dksJ8_copyOf_2_1 : cJ8_copyOf_2.data.toList.drop 24 = dktJ8_copyOf_2_1 := dk_seg dksJ8_copyOf_2_0 24 rfl rfl
theorem dJ8_copyOf_2_0 : decode cJ8_copyOf_2 0 = .ok (.aload_n 2, 1) := dk_44 (dk_at dksJ8_copyOf_2_0 0 rfl rfl)
theorem dJ8_copyOf_2_1 : decode cJ8_copyOf_2 1 = .ok (.ldc 110, 2) := dk_18 110 (dk_at dksJ8_copyOf_2_0 1 rfl rfl)
theorem dJ8_copyOf_2_3 : decode cJ8_copyOf_2 3 = .ok (.if_acmp .ne 10, 3) := dk_166 0 10 (dk_at dksJ8_copyOf_2_0 3 rfl rfl)
theorem dJ8_copyOf_2_6 : decode cJ8_copyOf_2 6 = .ok (.iload_n 1, 1) := dk_27 (dk_at dksJ8_copyOf_2_0 6 rfl rfl)
theorem dJ8_copyOf_2_7 : decode cJ8_copyOf_2 7 = .ok (.anewarray 2, 3) := dk_189 0 2 (dk_at dksJ8_copyOf_2_0 7 rfl rfl)
theorem dJ8_copyOf_2_10 : decode cJ8_copyOf_2 10 = .ok (.goto 14, 3) := dk_167 0 14 (dk_at dksJ8_copyOf_2_0 10 rfl rfl)
theorem dJ8_copyOf_2_13 : decode cJ8_copyOf_2 13 = .ok (.aload_n 2, 1) := dk_44 (dk_at dksJ8_copyOf_2_0 13 rfl rfl)
theorem dJ8_copyOf_2_14 : decode cJ8_copyOf_2 14 = .ok (.invokevirtual 90, 3) := dk_182 0 90 (dk_at dksJ8_copyOf_2_0 14 rfl rfl)
theorem dJ8_copyOf_2_17 : decode cJ8_copyOf_2 17 = .ok (.iload_n 1, 1) := dk_27 (dk_at dksJ8_copyOf_2_0 17 rfl rfl)
theorem dJ8_copyOf_2_18 : decode cJ8_copyOf_2 18 = .ok (.invokestatic 95, 3) := dk_184 0 95 (dk_at dksJ8_copyOf_2_0 18 rfl rfl)
theorem dJ8_copyOf_2_21 : decode cJ8_copyOf_2 21 = .ok (.checkcast 110, 3) := dk_192 0 110 (dk_at dksJ8_copyOf_2_0 21 rfl rfl)
theorem dJ8_copyOf_2_24 : decode cJ8_copyOf_2 24 = .ok (.astore_n 3, 1) := dk_78 (dk_at dksJ8_copyOf_2_1 0 rfl rfl)
theorem dJ8_copyOf_2_25 : decode cJ8_copyOf_2 25 = .ok (.aload_n 0, 1) := dk_42 (dk_at dksJ8_copyOf_2_1 1 rfl rfl)
theorem dJ8_copyOf_2_26 : decode cJ8_copyOf_2 26 = .ok (.iconst 0, 1) := dk_3 (dk_at dksJ8_copyOf_2_1 2 rfl rfl)
theorem dJ8_copyOf_2_27 : decode cJ8_copyOf_2 27 = .ok (.aload_n 3, 1) := dk_45 (dk_at dksJ8_copyOf_2_1 3 rfl rfl)
theorem dJ8_copyOf_2_28 : decode cJ8_copyOf_2 28 = .ok (.iconst 0, 1) := dk_3 (dk_at dksJ8_copyOf_2_1 4 rfl rfl)
theorem dJ8_copyOf_2_29 : decode cJ8_copyOf_2 29 = .ok (.aload_n 0, 1) := dk_42 (dk_at dksJ8_copyOf_2_1 5 rfl rfl)
theorem dJ8_copyOf_2_30 : decode cJ8_copyOf_2 30 = .ok (.arraylength, 1) := dk_190 (dk_at dksJ8_copyOf_2_1 6 rfl rfl)
theorem dJ8_copyOf_2_31 : decode cJ8_copyOf_2 31 = .ok (.iload_n 1, 1) := dk_27 (dk_at dksJ8_copyOf_2_1 7 rfl rfl)
theorem dJ8_copyOf_2_32 : decode cJ8_copyOf_2 32 = .ok (.invokestatic 304, 3) := dk_184 1 48 (dk_at dksJ8_copyOf_2_1 8 rfl rfl)
theorem dJ8_copyOf_2_35 : decode cJ8_copyOf_2 35 = .ok (.invokestatic 150, 3) := dk_184 0 150 (dk_at dksJ8_copyOf_2_1 11 rfl rfl)
theorem dJ8_copyOf_2_38 : decode cJ8_copyOf_2 38 = .ok (.aload_n 3, 1) := dk_45 (dk_at dksJ8_copyOf_2_1 14 rfl rfl)
theorem dJ8_copyOf_2_39 : decode cJ8_copyOf_2 39 = .ok (.areturn, 1) := dk_176 (dk_at dksJ8_copyOf_2_1 15 rfl rfl)
abbrev cJ8_copyOf_3 : ByteArray := prog_43_method_121_code
def yJ8_copyOf_3 : MethodName := ⟨RJ8, "copyOf", "([BI)[B"⟩
def dkwJ8_copyOf_3_1 : List UInt8 := [27, 184, 1, 48, 184, 0, 150, 44, 176]
abbrev dktJ8_copyOf_3_1 : List UInt8 := dkwJ8_copyOf_3_1 ++ []
def dkwJ8_copyOf_3_0 : List UInt8 := [27, 42, 190, 160, 0, 11, 42, 182, 1, 54, 192, 1, 55, 176, 27, 188, 8, 77, 42, 3, 44, 3, 42, 190]
abbrev dktJ8_copyOf_3_0 : List UInt8 := dkwJ8_copyOf_3_0 ++ dktJ8_copyOf_3_1
theorem dksJ8_copyOf_3_0 : cJ8_copyOf_3.data.toList.drop 0 = dktJ8_copyOf_3_0 := by decide +kernel
theorem dksJ8_copyOf_3_1 : cJ8_copyOf_3.data.toList.drop 24 = dktJ8_copyOf_3_1 := dk_seg dksJ8_copyOf_3_0 24 rfl rfl
theorem dJ8_copyOf_3_0 : decode cJ8_copyOf_3 0 = .ok (.iload_n 1, 1) := dk_27 (dk_at dksJ8_copyOf_3_0 0 rfl rfl)
theorem dJ8_copyOf_3_1 : decode cJ8_copyOf_3 1 = .ok (.aload_n 0, 1) := dk_42 (dk_at dksJ8_copyOf_3_0 1 rfl rfl)
theorem dJ8_copyOf_3_2 : decode cJ8_copyOf_3 2 = .ok (.arraylength, 1) := dk_190 (dk_at dksJ8_copyOf_3_0 2 rfl rfl)
theorem dJ8_copyOf_3_3 : decode cJ8_copyOf_3 3 = .ok (.if_icmp .ne 11, 3) := dk_160 0 11 (dk_at dksJ8_copyOf_3_0 3 rfl rfl)
theorem dJ8_copyOf_3_6 : decode cJ8_copyOf_3 6 = .ok (.aload_n 0, 1) := dk_42 (dk_at dksJ8_copyOf_3_0 6 rfl rfl)
theorem dJ8_copyOf_3_7 : decode cJ8_copyOf_3 7 = .ok (.invokevirtual 310, 3) := dk_182 1 54 (dk_at dksJ8_copyOf_3_0 7 rfl rfl)
theorem dJ8_copyOf_3_10 : decode cJ8_copyOf_3 10 = .ok (.checkcast 311, 3) := dk_192 1 55 (dk_at dksJ8_copyOf_3_0 10 rfl rfl)
theorem dJ8_copyOf_3_13 : decode cJ8_copyOf_3 13 = .ok (.areturn, 1) := dk_176 (dk_at dksJ8_copyOf_3_0 13 rfl rfl)
theorem dJ8_copyOf_3_14 : decode cJ8_copyOf_3 14 = .ok (.iload_n 1, 1) := dk_27 (dk_at dksJ8_copyOf_3_0 14 rfl rfl)
theorem dJ8_copyOf_3_15 : decode cJ8_copyOf_3 15 = .ok (.newarray .byte, 2) := dk_188_8 (dk_at dksJ8_copyOf_3_0 15 rfl rfl)
theorem dJ8_copyOf_3_17 : decode cJ8_copyOf_3 17 = .ok (.astore_n 2, 1) := dk_77 (dk_at dksJ8_copyOf_3_0 17 rfl rfl)
theorem dJ8_copyOf_3_18 : decode cJ8_copyOf_3 18 = .ok (.aload_n 0, 1) := dk_42 (dk_at dksJ8_copyOf_3_0 18 rfl rfl)
theorem dJ8_copyOf_3_19 : decode cJ8_copyOf_3 19 = .ok (.iconst 0, 1) := dk_3 (dk_at dksJ8_copyOf_3_0 19 rfl rfl)
theorem dJ8_copyOf_3_20 : decode cJ8_copyOf_3 20 = .ok (.aload_n 2, 1) := dk_44 (dk_at dksJ8_copyOf_3_0 20 rfl rfl)
theorem dJ8_copyOf_3_21 : decode cJ8_copyOf_3 21 = .ok (.iconst 0, 1) := dk_3 (dk_at dksJ8_copyOf_3_0 21 rfl rfl)
theorem dJ8_copyOf_3_22 : decode cJ8_copyOf_3 22 = .ok (.aload_n 0, 1) := dk_42 (dk_at dksJ8_copyOf_3_0 22 rfl rfl)
theorem dJ8_copyOf_3_23 : decode cJ8_copyOf_3 23 = .ok (.arraylength, 1) := dk_190 (dk_at dksJ8_copyOf_3_0 23 rfl rfl)
theorem dJ8_copyOf_3_24 : decode cJ8_copyOf_3 24 = .ok (.iload_n 1, 1) := dk_27 (dk_at dksJ8_copyOf_3_1 0 rfl rfl)
theorem dJ8_copyOf_3_25 : decode cJ8_copyOf_3 25 = .ok (.invokestatic 304, 3) := dk_184 1 48 (dk_at dksJ8_copyOf_3_1 1 rfl rfl)
theorem dJ8_copyOf_3_28 : decode cJ8_copyOf_3 28 = .ok (.invokestatic 150, 3) := dk_184 0 150 (dk_at dksJ8_copyOf_3_1 4 rfl rfl)
theorem dJ8_copyOf_3_31 : decode cJ8_copyOf_3 31 = .ok (.aload_n 2, 1) := dk_44 (dk_at dksJ8_copyOf_3_1 7 rfl rfl)
theorem dJ8_copyOf_3_32 : decode cJ8_copyOf_3 32 = .ok (.areturn, 1) := dk_176 (dk_at dksJ8_copyOf_3_1 8 rfl rfl)
abbrev cJ8_copyOfRange : ByteArray := prog_43_method_132_code
def yJ8_copyOfRange : MethodName := ⟨RJ8, "copyOfRange", "([BII)[B"⟩
def dkwJ8_copyOfRange_1 : List UInt8 := [176]
abbrev dktJ8_copyOfRange_1 : List UInt8 := dkwJ8_copyOfRange_1 ++ []
def dkwJ8_copyOfRange_0 : List UInt8 := [27, 154, 0, 9, 28, 42, 190, 159, 0, 10, 42, 27, 28, 184, 1, 83, 176, 42, 182, 1, 54, 192, 1, 55]
abbrev dktJ8_copyOfRange_0 : List UInt8 := dkwJ8_copyOfRange_0 ++ dktJ8_copyOfRange_1
theorem dksJ8_copyOfRange_0 : cJ8_copyOfRange.data.toList.drop 0 = dktJ8_copyOfRange_0 := by decide +kernel
theorem dksJ8_copyOfRange_1 : cJ8_copyOfRange.data.toList.drop 24 = dktJ8_copyOfRange_1 := dk_seg dksJ8_copyOfRange_0 24 rfl rfl
theorem dJ8_copyOfRange_0 : decode cJ8_copyOfRange 0 = .ok (.iload_n 1, 1) := dk_27 (dk_at dksJ8_copyOfRange_0 0 rfl rfl)
theorem dJ8_copyOfRange_1 : decode cJ8_copyOfRange 1 = .ok (.ifCond .ne 9, 3) := dk_154 0 9 (dk_at dksJ8_copyOfRange_0 1 rfl rfl)
theorem dJ8_copyOfRange_4 : decode cJ8_copyOfRange 4 = .ok (.iload_n 2, 1) := dk_28 (dk_at dksJ8_copyOfRange_0 4 rfl rfl)
theorem dJ8_copyOfRange_5 : decode cJ8_copyOfRange 5 = .ok (.aload_n 0, 1) := dk_42 (dk_at dksJ8_copyOfRange_0 5 rfl rfl)
theorem dJ8_copyOfRange_6 : decode cJ8_copyOfRange 6 = .ok (.arraylength, 1) := dk_190 (dk_at dksJ8_copyOfRange_0 6 rfl rfl)
theorem dJ8_copyOfRange_7 : decode cJ8_copyOfRange 7 = .ok (.if_icmp .eq 10, 3) := dk_159 0 10 (dk_at dksJ8_copyOfRange_0 7 rfl rfl)
theorem dJ8_copyOfRange_10 : decode cJ8_copyOfRange 10 = .ok (.aload_n 0, 1) := dk_42 (dk_at dksJ8_copyOfRange_0 10 rfl rfl)
theorem dJ8_copyOfRange_11 : decode cJ8_copyOfRange 11 = .ok (.iload_n 1, 1) := dk_27 (dk_at dksJ8_copyOfRange_0 11 rfl rfl)
theorem dJ8_copyOfRange_12 : decode cJ8_copyOfRange 12 = .ok (.iload_n 2, 1) := dk_28 (dk_at dksJ8_copyOfRange_0 12 rfl rfl)
theorem dJ8_copyOfRange_13 : decode cJ8_copyOfRange 13 = .ok (.invokestatic 339, 3) := dk_184 1 83 (dk_at dksJ8_copyOfRange_0 13 rfl rfl)
theorem dJ8_copyOfRange_16 : decode cJ8_copyOfRange 16 = .ok (.areturn, 1) := dk_176 (dk_at dksJ8_copyOfRange_0 16 rfl rfl)
theorem dJ8_copyOfRange_17 : decode cJ8_copyOfRange 17 = .ok (.aload_n 0, 1) := dk_42 (dk_at dksJ8_copyOfRange_0 17 rfl rfl)
theorem dJ8_copyOfRange_18 : decode cJ8_copyOfRange 18 = .ok (.invokevirtual 310, 3) := dk_182 1 54 (dk_at dksJ8_copyOfRange_0 18 rfl rfl)
theorem dJ8_copyOfRange_21 : decode cJ8_copyOfRange 21 = .ok (.checkcast 311, 3) := dk_192 1 55 (dk_at dksJ8_copyOfRange_0 21 rfl rfl)
theorem dJ8_copyOfRange_24 : decode cJ8_copyOfRange 24 = .ok (.areturn, 1) := dk_176 (dk_at dksJ8_copyOfRange_1 0 rfl rfl)
abbrev cJ8_copyOfRangeByte : ByteArray := prog_43_method_133_code
def yJ8_copyOfRangeByte : MethodName := ⟨RJ8, "copyOfRangeByte", "([BII)[B"⟩
def dkwJ8_copyOfRangeByte_1 : List UInt8 := [184, 1, 48, 184, 0, 150, 25, 4, 176]
abbrev dktJ8_copyOfRangeByte_1 : List UInt8 := dkwJ8_copyOfRangeByte_1 ++ []
def dkwJ8_copyOfRangeByte_0 : List UInt8 := [27, 28, 184, 1, 87, 28, 27, 100, 62, 29, 188, 8, 58, 4, 42, 27, 25, 4, 3, 42, 190, 27, 100, 29]
abbrev dktJ8_copyOfRangeByte_0 : List UInt8 := dkwJ8_copyOfRangeByte_0 ++ dktJ8_copyOfRangeByte_1
theorem dksJ8_copyOfRangeByte_0 : cJ8_copyOfRangeByte.data.toList.drop 0 = dktJ8_copyOfRangeByte_0 := by decide +kernel
theorem dksJ8_copyOfRangeByte_1 : cJ8_copyOfRangeByte.data.toList.drop 24 = dktJ8_copyOfRangeByte_1 := dk_seg dksJ8_copyOfRangeByte_0 24 rfl rfl
theorem dJ8_copyOfRangeByte_0 : decode cJ8_copyOfRangeByte 0 = .ok (.iload_n 1, 1) := dk_27 (dk_at dksJ8_copyOfRangeByte_0 0 rfl rfl)
theorem dJ8_copyOfRangeByte_1 : decode cJ8_copyOfRangeByte 1 = .ok (.iload_n 2, 1) := dk_28 (dk_at dksJ8_copyOfRangeByte_0 1 rfl rfl)
theorem dJ8_copyOfRangeByte_2 : decode cJ8_copyOfRangeByte 2 = .ok (.invokestatic 343, 3) := dk_184 1 87 (dk_at dksJ8_copyOfRangeByte_0 2 rfl rfl)
theorem dJ8_copyOfRangeByte_5 : decode cJ8_copyOfRangeByte 5 = .ok (.iload_n 2, 1) := dk_28 (dk_at dksJ8_copyOfRangeByte_0 5 rfl rfl)
theorem dJ8_copyOfRangeByte_6 : decode cJ8_copyOfRangeByte 6 = .ok (.iload_n 1, 1) := dk_27 (dk_at dksJ8_copyOfRangeByte_0 6 rfl rfl)
theorem dJ8_copyOfRangeByte_7 : decode cJ8_copyOfRangeByte 7 = .ok (.isub, 1) := dk_100 (dk_at dksJ8_copyOfRangeByte_0 7 rfl rfl)
theorem dJ8_copyOfRangeByte_8 : decode cJ8_copyOfRangeByte 8 = .ok (.istore_n 3, 1) := dk_62 (dk_at dksJ8_copyOfRangeByte_0 8 rfl rfl)
theorem dJ8_copyOfRangeByte_9 : decode cJ8_copyOfRangeByte 9 = .ok (.iload_n 3, 1) := dk_29 (dk_at dksJ8_copyOfRangeByte_0 9 rfl rfl)
theorem dJ8_copyOfRangeByte_10 : decode cJ8_copyOfRangeByte 10 = .ok (.newarray .byte, 2) := dk_188_8 (dk_at dksJ8_copyOfRangeByte_0 10 rfl rfl)
theorem dJ8_copyOfRangeByte_12 : decode cJ8_copyOfRangeByte 12 = .ok (.astore 4, 2) := dk_58 4 (dk_at dksJ8_copyOfRangeByte_0 12 rfl rfl)
theorem dJ8_copyOfRangeByte_14 : decode cJ8_copyOfRangeByte 14 = .ok (.aload_n 0, 1) := dk_42 (dk_at dksJ8_copyOfRangeByte_0 14 rfl rfl)
theorem dJ8_copyOfRangeByte_15 : decode cJ8_copyOfRangeByte 15 = .ok (.iload_n 1, 1) := dk_27 (dk_at dksJ8_copyOfRangeByte_0 15 rfl rfl)
theorem dJ8_copyOfRangeByte_16 : decode cJ8_copyOfRangeByte 16 = .ok (.aload 4, 2) := dk_25 4 (dk_at dksJ8_copyOfRangeByte_0 16 rfl rfl)
theorem dJ8_copyOfRangeByte_18 : decode cJ8_copyOfRangeByte 18 = .ok (.iconst 0, 1) := dk_3 (dk_at dksJ8_copyOfRangeByte_0 18 rfl rfl)
theorem dJ8_copyOfRangeByte_19 : decode cJ8_copyOfRangeByte 19 = .ok (.aload_n 0, 1) := dk_42 (dk_at dksJ8_copyOfRangeByte_0 19 rfl rfl)
theorem dJ8_copyOfRangeByte_20 : decode cJ8_copyOfRangeByte 20 = .ok (.arraylength, 1) := dk_190 (dk_at dksJ8_copyOfRangeByte_0 20 rfl rfl)
theorem dJ8_copyOfRangeByte_21 : decode cJ8_copyOfRangeByte 21 = .ok (.iload_n 1, 1) := dk_27 (dk_at dksJ8_copyOfRangeByte_0 21 rfl rfl)
theorem dJ8_copyOfRangeByte_22 : decode cJ8_copyOfRangeByte 22 = .ok (.isub, 1) := dk_100 (dk_at dksJ8_copyOfRangeByte_0 22 rfl rfl)
theorem dJ8_copyOfRangeByte_23 : decode cJ8_copyOfRangeByte 23 = .ok (.iload_n 3, 1) := dk_29 (dk_at dksJ8_copyOfRangeByte_0 23 rfl rfl)
theorem dJ8_copyOfRangeByte_24 : decode cJ8_copyOfRangeByte 24 = .ok (.invokestatic 304, 3) := dk_184 1 48 (dk_at dksJ8_copyOfRangeByte_1 0 rfl rfl)
theorem dJ8_copyOfRangeByte_27 : decode cJ8_copyOfRangeByte 27 = .ok (.invokestatic 150, 3) := dk_184 0 150 (dk_at dksJ8_copyOfRangeByte_1 3 rfl rfl)
theorem dJ8_copyOfRangeByte_30 : decode cJ8_copyOfRangeByte 30 = .ok (.aload 4, 2) := dk_25 4 (dk_at dksJ8_copyOfRangeByte_1 6 rfl rfl)
theorem dJ8_copyOfRangeByte_32 : decode cJ8_copyOfRangeByte 32 = .ok (.areturn, 1) := dk_176 (dk_at dksJ8_copyOfRangeByte_1 8 rfl rfl)
abbrev cJ8_checkLength : ByteArray := prog_43_method_131_code
def yJ8_checkLength : MethodName := ⟨RJ8, "checkLength", "(II)V"⟩
def dkwJ8_checkLength_1 : List UInt8 := [182, 0, 50, 27, 182, 0, 54, 182, 0, 61, 183, 0, 65, 191, 177]
abbrev dktJ8_checkLength_1 : List UInt8 := dkwJ8_checkLength_1 ++ []
def dkwJ8_checkLength_0 : List UInt8 := [27, 26, 162, 0, 35, 187, 0, 43, 89, 187, 0, 45, 89, 183, 0, 47, 26, 182, 0, 54, 19, 1, 81]
abbrev dktJ8_checkLength_0 : List UInt8 := dkwJ8_checkLength_0 ++ dktJ8_checkLength_1
theorem dksJ8_checkLength_0 : cJ8_checkLength.data.toList.drop 0 = dktJ8_checkLength_0 := by decide +kernel
theorem dksJ8_checkLength_1 : cJ8_checkLength.data.toList.drop 23 = dktJ8_checkLength_1 := dk_seg dksJ8_checkLength_0 23 rfl rfl
theorem dJ8_checkLength_0 : decode cJ8_checkLength 0 = .ok (.iload_n 1, 1) := dk_27 (dk_at dksJ8_checkLength_0 0 rfl rfl)
theorem dJ8_checkLength_1 : decode cJ8_checkLength 1 = .ok (.iload_n 0, 1) := dk_26 (dk_at dksJ8_checkLength_0 1 rfl rfl)
theorem dJ8_checkLength_2 : decode cJ8_checkLength 2 = .ok (.if_icmp .ge 35, 3) := dk_162 0 35 (dk_at dksJ8_checkLength_0 2 rfl rfl)
theorem dJ8_checkLength_5 : decode cJ8_checkLength 5 = .ok (.new 43, 3) := dk_187 0 43 (dk_at dksJ8_checkLength_0 5 rfl rfl)
theorem dJ8_checkLength_8 : decode cJ8_checkLength 8 = .ok (.dup, 1) := dk_89 (dk_at dksJ8_checkLength_0 8 rfl rfl)
theorem dJ8_checkLength_9 : decode cJ8_checkLength 9 = .ok (.new 45, 3) := dk_187 0 45 (dk_at dksJ8_checkLength_0 9 rfl rfl)
theorem dJ8_checkLength_12 : decode cJ8_checkLength 12 = .ok (.dup, 1) := dk_89 (dk_at dksJ8_checkLength_0 12 rfl rfl)
theorem dJ8_checkLength_13 : decode cJ8_checkLength 13 = .ok (.invokespecial 47, 3) := dk_183 0 47 (dk_at dksJ8_checkLength_0 13 rfl rfl)
theorem dJ8_checkLength_16 : decode cJ8_checkLength 16 = .ok (.iload_n 0, 1) := dk_26 (dk_at dksJ8_checkLength_0 16 rfl rfl)
theorem dJ8_checkLength_17 : decode cJ8_checkLength 17 = .ok (.invokevirtual 54, 3) := dk_182 0 54 (dk_at dksJ8_checkLength_0 17 rfl rfl)
theorem dJ8_checkLength_20 : decode cJ8_checkLength 20 = .ok (.ldc_w 337, 3) := dk_19 1 81 (dk_at dksJ8_checkLength_0 20 rfl rfl)
theorem dJ8_checkLength_23 : decode cJ8_checkLength 23 = .ok (.invokevirtual 50, 3) := dk_182 0 50 (dk_at dksJ8_checkLength_1 0 rfl rfl)
theorem dJ8_checkLength_26 : decode cJ8_checkLength 26 = .ok (.iload_n 1, 1) := dk_27 (dk_at dksJ8_checkLength_1 3 rfl rfl)
theorem dJ8_checkLength_27 : decode cJ8_checkLength 27 = .ok (.invokevirtual 54, 3) := dk_182 0 54 (dk_at dksJ8_checkLength_1 4 rfl rfl)
theorem dJ8_checkLength_30 : decode cJ8_checkLength 30 = .ok (.invokevirtual 61, 3) := dk_182 0 61 (dk_at dksJ8_checkLength_1 7 rfl rfl)
theorem dJ8_checkLength_33 : decode cJ8_checkLength 33 = .ok (.invokespecial 65, 3) := dk_183 0 65 (dk_at dksJ8_checkLength_1 10 rfl rfl)
theorem dJ8_checkLength_36 : decode cJ8_checkLength 36 = .ok (.athrow, 1) := dk_191 (dk_at dksJ8_checkLength_1 13 rfl rfl)
theorem dJ8_checkLength_37 : decode cJ8_checkLength 37 = .ok (.return_, 1) := dk_177 (dk_at dksJ8_checkLength_1 14 rfl rfl)
abbrev cJ8_copyOf_4 : ByteArray := prog_43_method_124_code
def yJ8_copyOf_4 : MethodName := ⟨RJ8, "copyOf", "([JI)[J"⟩
def dkwJ8_copyOf_4_1 : List UInt8 := [27, 184, 1, 48, 184, 0, 150, 44, 176]
abbrev dktJ8_copyOf_4_1 : List UInt8 := dkwJ8_copyOf_4_1 ++ []
def dkwJ8_copyOf_4_0 : List UInt8 := [27, 42, 190, 160, 0, 11, 42, 182, 1, 63, 192, 1, 64, 176, 27, 188, 11, 77, 42, 3, 44, 3, 42, 190]
abbrev dktJ8_copyOf_4_0 : List UInt8 := dkwJ8_copyOf_4_0 ++ dktJ8_copyOf_4_1
theorem dksJ8_copyOf_4_0 : cJ8_copyOf_4.data.toList.drop 0 = dktJ8_copyOf_4_0 := by decide +kernel
theorem dksJ8_copyOf_4_1 : cJ8_copyOf_4.data.toList.drop 24 = dktJ8_copyOf_4_1 := dk_seg dksJ8_copyOf_4_0 24 rfl rfl
theorem dJ8_copyOf_4_0 : decode cJ8_copyOf_4 0 = .ok (.iload_n 1, 1) := dk_27 (dk_at dksJ8_copyOf_4_0 0 rfl rfl)
theorem dJ8_copyOf_4_1 : decode cJ8_copyOf_4 1 = .ok (.aload_n 0, 1) := dk_42 (dk_at dksJ8_copyOf_4_0 1 rfl rfl)
theorem dJ8_copyOf_4_2 : decode cJ8_copyOf_4 2 = .ok (.arraylength, 1) := dk_190 (dk_at dksJ8_copyOf_4_0 2 rfl rfl)
theorem dJ8_copyOf_4_3 : decode cJ8_copyOf_4 3 = .ok (.if_icmp .ne 11, 3) := dk_160 0 11 (dk_at dksJ8_copyOf_4_0 3 rfl rfl)
theorem dJ8_copyOf_4_6 : decode cJ8_copyOf_4 6 = .ok (.aload_n 0, 1) := dk_42 (dk_at dksJ8_copyOf_4_0 6 rfl rfl)
theorem dJ8_copyOf_4_7 : decode cJ8_copyOf_4 7 = .ok (.invokevirtual 319, 3) := dk_182 1 63 (dk_at dksJ8_copyOf_4_0 7 rfl rfl)
theorem dJ8_copyOf_4_10 : decode cJ8_copyOf_4 10 = .ok (.checkcast 320, 3) := dk_192 1 64 (dk_at dksJ8_copyOf_4_0 10 rfl rfl)
theorem dJ8_copyOf_4_13 : decode cJ8_copyOf_4 13 = .ok (.areturn, 1) := dk_176 (dk_at dksJ8_copyOf_4_0 13 rfl rfl)
theorem dJ8_copyOf_4_14 : decode cJ8_copyOf_4 14 = .ok (.iload_n 1, 1) := dk_27 (dk_at dksJ8_copyOf_4_0 14 rfl rfl)
theorem dJ8_copyOf_4_15 : decode cJ8_copyOf_4 15 = .ok (.newarray .long, 2) := dk_188_11 (dk_at dksJ8_copyOf_4_0 15 rfl rfl)
theorem dJ8_copyOf_4_17 : decode cJ8_copyOf_4 17 = .ok (.astore_n 2, 1) := dk_77 (dk_at dksJ8_copyOf_4_0 17 rfl rfl)
theorem dJ8_copyOf_4_18 : decode cJ8_copyOf_4 18 = .ok (.aload_n 0, 1) := dk_42 (dk_at dksJ8_copyOf_4_0 18 rfl rfl)
theorem dJ8_copyOf_4_19 : decode cJ8_copyOf_4 19 = .ok (.iconst 0, 1) := dk_3 (dk_at dksJ8_copyOf_4_0 19 rfl rfl)
theorem dJ8_copyOf_4_20 : decode cJ8_copyOf_4 20 = .ok (.aload_n 2, 1) := dk_44 (dk_at dksJ8_copyOf_4_0 20 rfl rfl)
theorem dJ8_copyOf_4_21 : decode cJ8_copyOf_4 21 = .ok (.iconst 0, 1) := dk_3 (dk_at dksJ8_copyOf_4_0 21 rfl rfl)
theorem dJ8_copyOf_4_22 : decode cJ8_copyOf_4 22 = .ok (.aload_n 0, 1) := dk_42 (dk_at dksJ8_copyOf_4_0 22 rfl rfl)
theorem dJ8_copyOf_4_23 : decode cJ8_copyOf_4 23 = .ok (.arraylength, 1) := dk_190 (dk_at dksJ8_copyOf_4_0 23 rfl rfl)
theorem dJ8_copyOf_4_24 : decode cJ8_copyOf_4 24 = .ok (.iload_n 1, 1) := dk_27 (dk_at dksJ8_copyOf_4_1 0 rfl rfl)
theorem dJ8_copyOf_4_25 : decode cJ8_copyOf_4 25 = .ok (.invokestatic 304, 3) := dk_184 1 48 (dk_at dksJ8_copyOf_4_1 1 rfl rfl)
theorem dJ8_copyOf_4_28 : decode cJ8_copyOf_4 28 = .ok (.invokestatic 150, 3) := dk_184 0 150 (dk_at dksJ8_copyOf_4_1 4 rfl rfl)
theorem dJ8_copyOf_4_31 : decode cJ8_copyOf_4 31 = .ok (.aload_n 2, 1) := dk_44 (dk_at dksJ8_copyOf_4_1 7 rfl rfl)
theorem dJ8_copyOf_4_32 : decode cJ8_copyOf_4 32 = .ok (.areturn, 1) := dk_176 (dk_at dksJ8_copyOf_4_1 8 rfl rfl)
theorem q89 : (Jvm.Cond.initialized "java/util/Arrays") ∈ lw_all := lw_g (lw_at lw_m1 15 rfl) rfl
theorem q529 : (Jvm.Cond.static ({ cls := "java/util/Arrays", name := "copyOf", desc := "([Ljava/lang/Object;I)[Ljava/lang/Object;" } : Jvm.MethodName)) ∈ lw_all := lw_g (lw_at lw_m2 215 rfl) rfl
theorem q530 : (Jvm.Cond.code ({ cls := "java/util/Arrays", name := "copyOf", desc := "([Ljava/lang/Object;I)[Ljava/lang/Object;" } : Jvm.MethodName) prog_43_method_119_code (2 : Nat) (Option.some (Jvm.ClassFile.FieldType.array (Jvm.ClassFile.FieldType.object "java/lang/Object")))) ∈ lw_all := lw_g (lw_at lw_m2 216 rfl) rfl
theorem q531 : (Jvm.Cond.methodLink "java/util/Arrays" (86 : Nat) ({ cls := "java/lang/Object", name := "getClass", desc := "()Ljava/lang/Class;" } : Jvm.MethodName)) ∈ lw_all := lw_g (lw_at lw_m2 217 rfl) rfl
theorem q557 : (Jvm.Cond.methodLink "java/util/Arrays" (300 : Nat) ({ cls := "java/util/Arrays", name := "copyOf", desc := "([Ljava/lang/Object;ILjava/lang/Class;)[Ljava/lang/Object;" } : Jvm.MethodName)) ∈ lw_all := lw_g (lw_at lw_m3 3 rfl) rfl
theorem q558 : (Jvm.Cond.static ({ cls := "java/util/Arrays", name := "copyOf", desc := "([Ljava/lang/Object;ILjava/lang/Class;)[Ljava/lang/Object;" } : Jvm.MethodName)) ∈ lw_all := lw_g (lw_at lw_m3 4 rfl) rfl
theorem q559 : (Jvm.Cond.code ({ cls := "java/util/Arrays", name := "copyOf", desc := "([Ljava/lang/Object;ILjava/lang/Class;)[Ljava/lang/Object;" } : Jvm.MethodName) prog_43_method_120_code (4 : Nat) (Option.some (Jvm.ClassFile.FieldType.array (Jvm.ClassFile.FieldType.object "java/lang/Object")))) ∈ lw_all := lw_g (lw_at lw_m3 5 rfl) rfl
theorem q560 : (Jvm.Cond.classLink "java/util/Arrays" (110 : Nat) "[Ljava/lang/Object;") ∈ lw_all := lw_g (lw_at lw_m3 6 rfl) rfl
theorem q561 : (Jvm.Cond.classLink "java/util/Arrays" (2 : Nat) "java/lang/Object") ∈ lw_all := lw_g (lw_at lw_m3 7 rfl) rfl
theorem q562 : (Jvm.Cond.methodLink "java/util/Arrays" (304 : Nat) ({ cls := "java/lang/Math", name := "min", desc := "(II)I" } : Jvm.MethodName)) ∈ lw_all := lw_g (lw_at lw_m3 8 rfl) rfl
theorem q565 : (Jvm.Cond.methodLink "java/util/Arrays" (150 : Nat) ({ cls := "java/lang/System", name := "arraycopy", desc := "(Ljava/lang/Object;ILjava/lang/Object;II)V" } : Jvm.MethodName)) ∈ lw_all := lw_g (lw_at lw_m3 11 rfl) rfl
theorem q1056 : (Jvm.Cond.static ({ cls := "java/util/Arrays", name := "copyOf", desc := "([BI)[B" } : Jvm.MethodName)) ∈ lw_all := lw_g (lw_at lw_m5 22 rfl) rfl
theorem q1057 : (Jvm.Cond.code ({ cls := "java/util/Arrays", name := "copyOf", desc := "([BI)[B" } : Jvm.MethodName) prog_43_method_121_code (3 : Nat) (Option.some (Jvm.ClassFile.FieldType.array Jvm.ClassFile.FieldType.byte))) ∈ lw_all := lw_g (lw_at lw_m5 23 rfl) rfl
theorem q1058 : (Jvm.Cond.methodLink "java/util/Arrays" (310 : Nat) ({ cls := "[B", name := "clone", desc := "()Ljava/lang/Object;" } : Jvm.MethodName)) ∈ lw_all := lw_g (lw_at lw_m5 24 rfl) rfl
theorem q1062 : (Jvm.Cond.classLink "java/util/Arrays" (311 : Nat) "[B") ∈ lw_all := lw_g (lw_at lw_m5 28 rfl) rfl
theorem q1166 : (Jvm.Cond.static ({ cls := "java/util/Arrays", name := "copyOfRange", desc := "([BII)[B" } : Jvm.MethodName)) ∈ lw_all := lw_g (lw_at lw_m5 132 rfl) rfl
theorem q1167 : (Jvm.Cond.code ({ cls := "java/util/Arrays", name := "copyOfRange", desc := "([BII)[B" } : Jvm.MethodName) prog_43_method_132_code (3 : Nat) (Option.some (Jvm.ClassFile.FieldType.array Jvm.ClassFile.FieldType.byte))) ∈ lw_all := lw_g (lw_at lw_m5 133 rfl) rfl
theorem q1168 : (Jvm.Cond.methodLink "java/util/Arrays" (339 : Nat) ({ cls := "java/util/Arrays", name := "copyOfRangeByte", desc := "([BII)[B" } : Jvm.MethodName)) ∈ lw_all := lw_g (lw_at lw_m5 134 rfl) rfl
theorem q1169 : (Jvm.Cond.static ({ cls := "java/util/Arrays", name := "copyOfRangeByte", desc := "([BII)[B" } : Jvm.MethodName)) ∈ lw_all := lw_g (lw_at lw_m5 135 rfl) rfl
theorem q1170 : (Jvm.Cond.code ({ cls := "java/util/Arrays", name := "copyOfRangeByte", desc := "([BII)[B" } : Jvm.MethodName) prog_43_method_133_code (5 : Nat) (Option.some (Jvm.ClassFile.FieldType.array Jvm.ClassFile.FieldType.byte))) ∈ lw_all := lw_g (lw_at lw_m5 136 rfl) rfl
theorem q1171 : (Jvm.Cond.methodLink "java/util/Arrays" (343 : Nat) ({ cls := "java/util/Arrays", name := "checkLength", desc := "(II)V" } : Jvm.MethodName)) ∈ lw_all := lw_g (lw_at lw_m5 137 rfl) rfl
theorem q1172 : (Jvm.Cond.static ({ cls := "java/util/Arrays", name := "checkLength", desc := "(II)V" } : Jvm.MethodName)) ∈ lw_all := lw_g (lw_at lw_m5 138 rfl) rfl
theorem q1173 : (Jvm.Cond.code ({ cls := "java/util/Arrays", name := "checkLength", desc := "(II)V" } : Jvm.MethodName) prog_43_method_131_code (2 : Nat) (Option.none : Option Jvm.ClassFile.FieldType)) ∈ lw_all := lw_g (lw_at lw_m5 139 rfl) rfl
theorem q1399 : (Jvm.Cond.static ({ cls := "java/util/Arrays", name := "copyOf", desc := "([JI)[J" } : Jvm.MethodName)) ∈ lw_all := lw_g (lw_at lw_m6 125 rfl) rfl
theorem q1400 : (Jvm.Cond.code ({ cls := "java/util/Arrays", name := "copyOf", desc := "([JI)[J" } : Jvm.MethodName) prog_43_method_124_code (3 : Nat) (Option.some (Jvm.ClassFile.FieldType.array Jvm.ClassFile.FieldType.long))) ∈ lw_all := lw_g (lw_at lw_m6 126 rfl) rfl
theorem q1401 : (Jvm.Cond.methodLink "java/util/Arrays" (319 : Nat) ({ cls := "[J", name := "clone", desc := "()Ljava/lang/Object;" } : Jvm.MethodName)) ∈ lw_all := lw_g (lw_at lw_m6 127 rfl) rfl
theorem q1405 : (Jvm.Cond.classLink "java/util/Arrays" (320 : Nat) "[J") ∈ lw_all := lw_g (lw_at lw_m6 131 rfl) rfl
/-! java/lang/Math -/
set_option maxRecDepth 100000
def RJ9 : String := "java/lang/Math"
abbrev cJ9_min : ByteArray := prog_22_method_69_code
def yJ9_min : MethodName := ⟨RJ9, "min", "(II)I"⟩
def dkwJ9_min_0 : List UInt8 := [26, 27, 163, 0, 7, 26, 167, 0, 4, 27, 172]
abbrev dktJ9_min_0 : List UInt8 := dkwJ9_min_0 ++ []
theorem dksJ9_min_0 : cJ9_min.data.toList.drop 0 = dktJ9_min_0 := by decide +kernel
theorem dJ9_min_0 : decode cJ9_min 0 = .ok (.iload_n 0, 1) := dk_26 (dk_at dksJ9_min_0 0 rfl rfl)
theorem dJ9_min_1 : decode cJ9_min 1 = .ok (.iload_n 1, 1) := dk_27 (dk_at dksJ9_min_0 1 rfl rfl)
theorem dJ9_min_2 : decode cJ9_min 2 = .ok (.if_icmp .gt 7, 3) := dk_163 0 7 (dk_at dksJ9_min_0 2 rfl rfl)
theorem dJ9_min_5 : decode cJ9_min 5 = .ok (.iload_n 0, 1) := dk_26 (dk_at dksJ9_min_0 5 rfl rfl)
theorem dJ9_min_6 : decode cJ9_min 6 = .ok (.goto 4, 3) := dk_167 0 4 (dk_at dksJ9_min_0 6 rfl rfl)
theorem dJ9_min_9 : decode cJ9_min 9 = .ok (.iload_n 1, 1) := dk_27 (dk_at dksJ9_min_0 9 rfl rfl)
theorem dJ9_min_10 : decode cJ9_min 10 = .ok (.ireturn, 1) := dk_172 (dk_at dksJ9_min_0 10 rfl rfl)
abbrev cJ9_max : ByteArray := prog_22_method_65_code
def yJ9_max : MethodName := ⟨RJ9, "max", "(II)I"⟩
def dkwJ9_max_0 : List UInt8 := [26, 27, 161, 0, 7, 26, 167, 0, 4, 27, 172]
abbrev dktJ9_max_0 : List UInt8 := dkwJ9_max_0 ++ []
theorem dksJ9_max_0 : cJ9_max.data.toList.drop 0 = dktJ9_max_0 := by decide +kernel
theorem dJ9_max_0 : decode cJ9_max 0 = .ok (.iload_n 0, 1) := dk_26 (dk_at dksJ9_max_0 0 rfl rfl)
theorem dJ9_max_1 : decode cJ9_max 1 = .ok (.iload_n 1, 1) := dk_27 (dk_at dksJ9_max_0 1 rfl rfl)
theorem dJ9_max_2 : decode cJ9_max 2 = .ok (.if_icmp .lt 7, 3) := dk_161 0 7 (dk_at dksJ9_max_0 2 rfl rfl)
theorem dJ9_max_5 : decode cJ9_max 5 = .ok (.iload_n 0, 1) := dk_26 (dk_at dksJ9_max_0 5 rfl rfl)
theorem dJ9_max_6 : decode cJ9_max 6 = .ok (.goto 4, 3) := dk_167 0 4 (dk_at dksJ9_max_0 6 rfl rfl)
theorem dJ9_max_9 : decode cJ9_max 9 = .ok (.iload_n 1, 1) := dk_27 (dk_at dksJ9_max_0 9 rfl rfl)
theorem dJ9_max_10 : decode cJ9_max 10 = .ok (.ireturn, 1) := dk_172 (dk_at dksJ9_max_0 10 rfl rfl)
theorem q90 : (Jvm.Cond.initialized "java/lang/Math") ∈ lw_all := lw_g (lw_at lw_m1 16 rfl) rfl
theorem q563 : (Jvm.Cond.static ({ cls := "java/lang/Math", name := "min", desc := "(II)I" } : Jvm.MethodName)) ∈ lw_all := lw_g (lw_at lw_m3 9 rfl) rfl
theorem q564 : (Jvm.Cond.code ({ cls := "java/lang/Math", name := "min", desc := "(II)I" } : Jvm.MethodName) prog_22_method_69_code (2 : Nat) (Option.some Jvm.ClassFile.FieldType.int)) ∈ lw_all := lw_g (lw_at lw_m3 10 rfl) rfl
theorem q617 : (Jvm.Cond.static ({ cls := "java/lang/Math", name := "max", desc := "(II)I" } : Jvm.MethodName)) ∈ lw_all := lw_g (lw_at lw_m3 63 rfl) rfl
theorem q618 : (Jvm.Cond.code ({ cls := "java/lang/Math", name := "max", desc := "(II)I" } : Jvm.MethodName) prog_22_method_65_code (2 : Nat) (Option.some Jvm.ClassFile.FieldType.int)) ∈ lw_all := lw_g (lw_at lw_m3 64 rfl) rfl
/-! jdk/internal/util/ArraysSupport -/
set_option maxRecDepth 100000
def RJ10 : String := "jdk/internal/util/ArraysSupport"
abbrev cJ10_newLength : ByteArray := prog_59_method_27_code
def yJ10_newLength : MethodName := ⟨RJ10, "newLength", "(III)I"⟩
def dkwJ10_newLength_1 : List UInt8 := [184, 0, 201, 172]
abbrev dktJ10_newLength_1 : List UInt8 := dkwJ10_newLength_1 ++ []
def dkwJ10_newLength_0 : List UInt8 := [26, 27, 28, 184, 0, 194, 96, 62, 3, 29, 162, 0, 11, 29, 18, 200, 163, 0, 5, 29, 172, 26, 27]
abbrev dktJ10_newLength_0 : List UInt8 := dkwJ10_newLength_0 ++ dktJ10_newLength_1
theorem dksJ10_newLength_0 : cJ10_newLength.data.toList.drop 0 = dktJ10_newLength_0 := by decide +kernel
theorem dksJ10_newLength_1 : cJ10_newLength.data.toList.drop 23 = dktJ10_newLength_1 := dk_seg dksJ10_newLength_0 23 rfl rfl
theorem dJ10_newLength_0 : decode cJ10_newLength 0 = .ok (.iload_n 0, 1) := dk_26 (dk_at dksJ10_newLength_0 0 rfl rfl)
theorem dJ10_newLength_1 : decode cJ10_newLength 1 = .ok (.iload_n 1, 1) := dk_27 (dk_at dksJ10_newLength_0 1 rfl rfl)
theorem dJ10_newLength_2 : decode cJ10_newLength 2 = .ok (.iload_n 2, 1) := dk_28 (dk_at dksJ10_newLength_0 2 rfl rfl)
theorem dJ10_newLength_3 : decode cJ10_newLength 3 = .ok (.invokestatic 194, 3) := dk_184 0 194 (dk_at dksJ10_newLength_0 3 rfl rfl)
theorem dJ10_newLength_6 : decode cJ10_newLength 6 = .ok (.iadd, 1) := dk_96 (dk_at dksJ10_newLength_0 6 rfl rfl)
theorem dJ10_newLength_7 : decode cJ10_newLength 7 = .ok (.istore_n 3, 1) := dk_62 (dk_at dksJ10_newLength_0 7 rfl rfl)
theorem dJ10_newLength_8 : decode cJ10_newLength 8 = .ok (.iconst 0, 1) := dk_3 (dk_at dksJ10_newLength_0 8 rfl rfl)
theorem dJ10_newLength_9 : decode cJ10_newLength 9 = .ok (.iload_n 3, 1) := dk_29 (dk_at dksJ10_newLength_0 9 rfl rfl)
theorem dJ10_newLength_10 : decode cJ10_newLength 10 = .ok (.if_icmp .ge 11, 3) := dk_162 0 11 (dk_at dksJ10_newLength_0 10 rfl rfl)
theorem dJ10_newLength_13 : decode cJ10_newLength 13 = .ok (.iload_n 3, 1) := dk_29 (dk_at dksJ10_newLength_0 13 rfl rfl)
theorem dJ10_newLength_14 : decode cJ10_newLength 14 = .ok (.ldc 200, 2) := dk_18 200 (dk_at dksJ10_newLength_0 14 rfl rfl)
theorem dJ10_newLength_16 : decode cJ10_newLength 16 = .ok (.if_icmp .gt 5, 3) := dk_163 0 5 (dk_at dksJ10_newLength_0 16 rfl rfl)
theorem dJ10_newLength_19 : decode cJ10_newLength 19 = .ok (.iload_n 3, 1) := dk_29 (dk_at dksJ10_newLength_0 19 rfl rfl)
theorem dJ10_newLength_20 : decode cJ10_newLength 20 = .ok (.ireturn, 1) := dk_172 (dk_at dksJ10_newLength_0 20 rfl rfl)
theorem dJ10_newLength_21 : decode cJ10_newLength 21 = .ok (.iload_n 0, 1) := dk_26 (dk_at dksJ10_newLength_0 21 rfl rfl)
theorem dJ10_newLength_22 : decode cJ10_newLength 22 = .ok (.iload_n 1, 1) := dk_27 (dk_at dksJ10_newLength_0 22 rfl rfl)
theorem dJ10_newLength_23 : decode cJ10_newLength 23 = .ok (.invokestatic 201, 3) := dk_184 0 201 (dk_at dksJ10_newLength_1 0 rfl rfl)
theorem dJ10_newLength_26 : decode cJ10_newLength 26 = .ok (.ireturn, 1) := dk_172 (dk_at dksJ10_newLength_1 3 rfl rfl)
abbrev cJ10_hugeLength : ByteArray := prog_59_method_28_code
def yJ10_hugeLength : MethodName := ⟨RJ10, "hugeLength", "(II)I"⟩
def dkwJ10_hugeLength_2 : List UInt8 := [191, 28, 18, 200, 163, 0, 6, 18, 200, 172, 28, 172]
abbrev dktJ10_hugeLength_2 : List UInt8 := dkwJ10_hugeLength_2 ++ []
def dkwJ10_hugeLength_1 : List UInt8 := [26, 182, 0, 98, 18, 208, 182, 0, 94, 27, 182, 0, 98, 18, 210, 182, 0, 94, 182, 0, 101, 183, 0, 212]
abbrev dktJ10_hugeLength_1 : List UInt8 := dkwJ10_hugeLength_1 ++ dktJ10_hugeLength_2
def dkwJ10_hugeLength_0 : List UInt8 := [26, 27, 96, 61, 28, 156, 0, 44, 187, 0, 204, 89, 187, 0, 89, 89, 183, 0, 91, 18, 206, 182, 0, 94]
abbrev dktJ10_hugeLength_0 : List UInt8 := dkwJ10_hugeLength_0 ++ dktJ10_hugeLength_1
theorem dksJ10_hugeLength_0 : cJ10_hugeLength.data.toList.drop 0 = dktJ10_hugeLength_0 := by decide +kernel
theorem dksJ10_hugeLength_1 : cJ10_hugeLength.data.toList.drop 24 = dktJ10_hugeLength_1 := dk_seg dksJ10_hugeLength_0 24 rfl rfl
theorem dksJ10_hugeLength_2 : cJ10_hugeLength.data.toList.drop 48 = dktJ10_hugeLength_2 := dk_seg dksJ10_hugeLength_1 24 rfl rfl
theorem dJ10_hugeLength_0 : decode cJ10_hugeLength 0 = .ok (.iload_n 0, 1) := dk_26 (dk_at dksJ10_hugeLength_0 0 rfl rfl)
theorem dJ10_hugeLength_1 : decode cJ10_hugeLength 1 = .ok (.iload_n 1, 1) := dk_27 (dk_at dksJ10_hugeLength_0 1 rfl rfl)
theorem dJ10_hugeLength_2 : decode cJ10_hugeLength 2 = .ok (.iadd, 1) := dk_96 (dk_at dksJ10_hugeLength_0 2 rfl rfl)
theorem dJ10_hugeLength_3 : decode cJ10_hugeLength 3 = .ok (.istore_n 2, 1) := dk_61 (dk_at dksJ10_hugeLength_0 3 rfl rfl)
theorem dJ10_hugeLength_4 : decode cJ10_hugeLength 4 = .ok (.iload_n 2, 1) := dk_28 (dk_at dksJ10_hugeLength_0 4 rfl rfl)
theorem dJ10_hugeLength_5 : decode cJ10_hugeLength 5 = .ok (.ifCond .ge 44, 3) := dk_156 0 44 (dk_at dksJ10_hugeLength_0 5 rfl rfl)
theorem dJ10_hugeLength_8 : decode cJ10_hugeLength 8 = .ok (.new 204, 3) := dk_187 0 204 (dk_at dksJ10_hugeLength_0 8 rfl rfl)
theorem dJ10_hugeLength_11 : decode cJ10_hugeLength 11 = .ok (.dup, 1) := dk_89 (dk_at dksJ10_hugeLength_0 11 rfl rfl)
theorem dJ10_hugeLength_12 : decode cJ10_hugeLength 12 = .ok (.new 89, 3) := dk_187 0 89 (dk_at dksJ10_hugeLength_0 12 rfl rfl)
theorem dJ10_hugeLength_15 : decode cJ10_hugeLength 15 = .ok (.dup, 1) := dk_89 (dk_at dksJ10_hugeLength_0 15 rfl rfl)
theorem dJ10_hugeLength_16 : decode cJ10_hugeLength 16 = .ok (.invokespecial 91, 3) := dk_183 0 91 (dk_at dksJ10_hugeLength_0 16 rfl rfl)
theorem dJ10_hugeLength_19 : decode cJ10_hugeLength 19 = .ok (.ldc 206, 2) := dk_18 206 (dk_at dksJ10_hugeLength_0 19 rfl rfl)
theorem dJ10_hugeLength_21 : decode cJ10_hugeLength 21 = .ok (.invokevirtual 94, 3) := dk_182 0 94 (dk_at dksJ10_hugeLength_0 21 rfl rfl)
theorem dJ10_hugeLength_24 : decode cJ10_hugeLength 24 = .ok (.iload_n 0, 1) := dk_26 (dk_at dksJ10_hugeLength_1 0 rfl rfl)
theorem dJ10_hugeLength_25 : decode cJ10_hugeLength 25 = .ok (.invokevirtual 98, 3) := dk_182 0 98 (dk_at dksJ10_hugeLength_1 1 rfl rfl)
theorem dJ10_hugeLength_28 : decode cJ10_hugeLength 28 = .ok (.ldc 208, 2) := dk_18 208 (dk_at dksJ10_hugeLength_1 4 rfl rfl)
theorem dJ10_hugeLength_30 : decode cJ10_hugeLength 30 = .ok (.invokevirtual 94, 3) := dk_182 0 94 (dk_at dksJ10_hugeLength_1 6 rfl rfl)
theorem dJ10_hugeLength_33 : decode cJ10_hugeLength 33 = .ok (.iload_n 1, 1) := dk_27 (dk_at dksJ10_hugeLength_1 9 rfl rfl)
theorem dJ10_hugeLength_34 : decode cJ10_hugeLength 34 = .ok (.invokevirtual 98, 3) := dk_182 0 98 (dk_at dksJ10_hugeLength_1 10 rfl rfl)
theorem dJ10_hugeLength_37 : decode cJ10_hugeLength 37 = .ok (.ldc 210, 2) := dk_18 210 (dk_at dksJ10_hugeLength_1 13 rfl rfl)
theorem dJ10_hugeLength_39 : decode cJ10_hugeLength 39 = .ok (.invokevirtual 94, 3) := dk_182 0 94 (dk_at dksJ10_hugeLength_1 15 rfl rfl)
theorem dJ10_hugeLength_42 : decode cJ10_hugeLength 42 = .ok (.invokevirtual 101, 3) := dk_182 0 101 (dk_at dksJ10_hugeLength_1 18 rfl rfl)
theorem dJ10_hugeLength_45 : decode cJ10_hugeLength 45 = .ok (.invokespecial 212, 3) := dk_183 0 212 (dk_at dksJ10_hugeLength_1 21 rfl rfl)
theorem dJ10_hugeLength_48 : decode cJ10_hugeLength 48 = .ok (.athrow, 1) := dk_191 (dk_at dksJ10_hugeLength_2 0 rfl rfl)
theorem dJ10_hugeLength_49 : decode cJ10_hugeLength 49 = .ok (.iload_n 2, 1) := dk_28 (dk_at dksJ10_hugeLength_2 1 rfl rfl)
theorem dJ10_hugeLength_50 : decode cJ10_hugeLength 50 = .ok (.ldc 200, 2) := dk_18 200 (dk_at dksJ10_hugeLength_2 2 rfl rfl)
theorem dJ10_hugeLength_52 : decode cJ10_hugeLength 52 = .ok (.if_icmp .gt 6, 3) := dk_163 0 6 (dk_at dksJ10_hugeLength_2 4 rfl rfl)
theorem dJ10_hugeLength_55 : decode cJ10_hugeLength 55 = .ok (.ldc 200, 2) := dk_18 200 (dk_at dksJ10_hugeLength_2 7 rfl rfl)
theorem dJ10_hugeLength_57 : decode cJ10_hugeLength 57 = .ok (.ireturn, 1) := dk_172 (dk_at dksJ10_hugeLength_2 9 rfl rfl)
theorem dJ10_hugeLength_58 : decode cJ10_hugeLength 58 = .ok (.iload_n 2, 1) := dk_28 (dk_at dksJ10_hugeLength_2 10 rfl rfl)
theorem dJ10_hugeLength_59 : decode cJ10_hugeLength 59 = .ok (.ireturn, 1) := dk_172 (dk_at dksJ10_hugeLength_2 11 rfl rfl)
theorem q91 : (Jvm.Cond.initialized "jdk/internal/util/ArraysSupport") ∈ lw_all := lw_g (lw_at lw_m1 17 rfl) rfl
theorem q614 : (Jvm.Cond.static ({ cls := "jdk/internal/util/ArraysSupport", name := "newLength", desc := "(III)I" } : Jvm.MethodName)) ∈ lw_all := lw_g (lw_at lw_m3 60 rfl) rfl
theorem q615 : (Jvm.Cond.code ({ cls := "jdk/internal/util/ArraysSupport", name := "newLength", desc := "(III)I" } : Jvm.MethodName) prog_59_method_27_code (4 : Nat) (Option.some Jvm.ClassFile.FieldType.int)) ∈ lw_all := lw_g (lw_at lw_m3 61 rfl) rfl
theorem q616 : (Jvm.Cond.methodLink "jdk/internal/util/ArraysSupport" (194 : Nat) ({ cls := "java/lang/Math", name := "max", desc := "(II)I" } : Jvm.MethodName)) ∈ lw_all := lw_g (lw_at lw_m3 62 rfl) rfl
theorem q619 : (Jvm.Cond.constant "jdk/internal/util/ArraysSupport" (200 : Nat) (2147483639 : Int32)) ∈ lw_all := lw_g (lw_at lw_m3 65 rfl) rfl
theorem q620 : (Jvm.Cond.methodLink "jdk/internal/util/ArraysSupport" (201 : Nat) ({ cls := "jdk/internal/util/ArraysSupport", name := "hugeLength", desc := "(II)I" } : Jvm.MethodName)) ∈ lw_all := lw_g (lw_at lw_m3 66 rfl) rfl
theorem q621 : (Jvm.Cond.static ({ cls := "jdk/internal/util/ArraysSupport", name := "hugeLength", desc := "(II)I" } : Jvm.MethodName)) ∈ lw_all := lw_g (lw_at lw_m3 67 rfl) rfl
theorem q622 : (Jvm.Cond.code ({ cls := "jdk/internal/util/ArraysSupport", name := "hugeLength", desc := "(II)I" } : Jvm.MethodName) prog_59_method_28_code (3 : Nat) (Option.some Jvm.ClassFile.FieldType.int)) ∈ lw_all := lw_g (lw_at lw_m3 68 rfl) rfl
/-! java/util/LinkedList$Node -/
set_option maxRecDepth 100000
def RJ11 : String := "java/util/LinkedList$Node"
def TJ11 : u_T := fun k => match k with
  | 0 => ("java/util/LinkedList$Node", "item", "Ljava/lang/Object;", false)
  | 1 => ("java/util/LinkedList$Node", "next", "Ljava/util/LinkedList$Node;", false)
  | _ => ("java/util/LinkedList$Node", "prev", "Ljava/util/LinkedList$Node;", false)
def tyJ11 : Nat → FieldType := fun k => match k with
  | 0 => .object "java/lang/Object"
  | 1 => .object "java/util/LinkedList$Node"
  | _ => .object "java/util/LinkedList$Node"
abbrev wsJ110 : List Cond := u_ws RJ11 TJ11 3
theorem nmJ11 : ∀ a, a < 3 → ∀ b, b < 3 → a ≠ b → (TJ11 a).2.1 ≠ (TJ11 b).2.1 := by decide +kernel
theorem tyJ11_ok : ∀ k, k < 3 → parseFieldDescriptor (TJ11 k).2.2.1 = some (tyJ11 k) := by decide +kernel
abbrev cJ11_init : ByteArray := prog_51_method_1_code
def yJ11_init : MethodName := ⟨RJ11, "<init>", "(Ljava/util/LinkedList$Node;Ljava/lang/Object;Ljava/util/LinkedList$Node;)V"⟩
def dkwJ11_init_0 : List UInt8 := [42, 183, 0, 1, 42, 44, 181, 0, 7, 42, 45, 181, 0, 13, 42, 43, 181, 0, 17, 177]
abbrev dktJ11_init_0 : List UInt8 := dkwJ11_init_0 ++ []
theorem dksJ11_init_0 : cJ11_init.data.toList.drop 0 = dktJ11_init_0 := by decide +kernel
theorem dJ11_init_0 : decode cJ11_init 0 = .ok (.aload_n 0, 1) := dk_42 (dk_at dksJ11_init_0 0 rfl rfl)
theorem dJ11_init_1 : decode cJ11_init 1 = .ok (.invokespecial 1, 3) := dk_183 0 1 (dk_at dksJ11_init_0 1 rfl rfl)
theorem dJ11_init_4 : decode cJ11_init 4 = .ok (.aload_n 0, 1) := dk_42 (dk_at dksJ11_init_0 4 rfl rfl)
theorem dJ11_init_5 : decode cJ11_init 5 = .ok (.aload_n 2, 1) := dk_44 (dk_at dksJ11_init_0 5 rfl rfl)
theorem dJ11_init_6 : decode cJ11_init 6 = .ok (.putfield 7, 3) := dk_181 0 7 (dk_at dksJ11_init_0 6 rfl rfl)
theorem dJ11_init_9 : decode cJ11_init 9 = .ok (.aload_n 0, 1) := dk_42 (dk_at dksJ11_init_0 9 rfl rfl)
theorem dJ11_init_10 : decode cJ11_init 10 = .ok (.aload_n 3, 1) := dk_45 (dk_at dksJ11_init_0 10 rfl rfl)
theorem dJ11_init_11 : decode cJ11_init 11 = .ok (.putfield 13, 3) := dk_181 0 13 (dk_at dksJ11_init_0 11 rfl rfl)
theorem dJ11_init_14 : decode cJ11_init 14 = .ok (.aload_n 0, 1) := dk_42 (dk_at dksJ11_init_0 14 rfl rfl)
theorem dJ11_init_15 : decode cJ11_init 15 = .ok (.aload_n 1, 1) := dk_43 (dk_at dksJ11_init_0 15 rfl rfl)
theorem dJ11_init_16 : decode cJ11_init 16 = .ok (.putfield 17, 3) := dk_181 0 17 (dk_at dksJ11_init_0 16 rfl rfl)
theorem dJ11_init_19 : decode cJ11_init 19 = .ok (.return_, 1) := dk_177 (dk_at dksJ11_init_0 19 rfl rfl)
theorem q92 : (Jvm.Cond.initialized "java/util/LinkedList$Node") ∈ lw_all := lw_g (lw_at lw_m1 18 rfl) rfl
theorem q554 : (Jvm.Cond.selects "java/util/LinkedList$Node" ({ cls := "java/lang/Object", name := "getClass", desc := "()Ljava/lang/Class;" } : Jvm.MethodName) ({ cls := "java/lang/Object", name := "getClass", desc := "()Ljava/lang/Class;" } : Jvm.MethodName)) ∈ lw_all := lw_g (lw_at lw_m3 0 rfl) rfl
theorem q637 : (Jvm.Cond.instantiable "java/util/LinkedList$Node" (3 : Nat)) ∈ lw_all := lw_g (lw_at lw_m3 83 rfl) rfl
theorem q639 : (Jvm.Cond.instanceMethod ({ cls := "java/util/LinkedList$Node", name := "<init>", desc := "(Ljava/util/LinkedList$Node;Ljava/lang/Object;Ljava/util/LinkedList$Node;)V" } : Jvm.MethodName)) ∈ lw_all := lw_g (lw_at lw_m3 85 rfl) rfl
theorem q640 : (Jvm.Cond.code ({ cls := "java/util/LinkedList$Node", name := "<init>", desc := "(Ljava/util/LinkedList$Node;Ljava/lang/Object;Ljava/util/LinkedList$Node;)V" } : Jvm.MethodName) prog_51_method_1_code (4 : Nat) (Option.none : Option Jvm.ClassFile.FieldType)) ∈ lw_all := lw_g (lw_at lw_m3 86 rfl) rfl
theorem q641 : (Jvm.Cond.methodLink "java/util/LinkedList$Node" (1 : Nat) ({ cls := "java/lang/Object", name := "<init>", desc := "()V" } : Jvm.MethodName)) ∈ lw_all := lw_g (lw_at lw_m3 87 rfl) rfl
theorem q642 : (Jvm.Cond.fieldLink "java/util/LinkedList$Node" (7 : Nat) "java/util/LinkedList$Node" "item" "Ljava/lang/Object;") ∈ lw_all := lw_g (lw_at lw_m3 88 rfl) rfl
theorem q645 : (Jvm.Cond.fieldLink "java/util/LinkedList$Node" (13 : Nat) "java/util/LinkedList$Node" "next" "Ljava/util/LinkedList$Node;") ∈ lw_all := lw_g (lw_at lw_m3 91 rfl) rfl
theorem q648 : (Jvm.Cond.fieldLink "java/util/LinkedList$Node" (17 : Nat) "java/util/LinkedList$Node" "prev" "Ljava/util/LinkedList$Node;") ∈ lw_all := lw_g (lw_at lw_m3 94 rfl) rfl
theorem q650 : (Jvm.Cond.lays "java/util/LinkedList$Node" "java/util/LinkedList$Node" "item" "Ljava/lang/Object;") ∈ lw_all := lw_g (lw_at lw_m3 96 rfl) rfl
theorem q651 : (Jvm.Cond.soleField "java/util/LinkedList$Node" "item") ∈ lw_all := lw_g (lw_at lw_m3 97 rfl) rfl
theorem q652 : (Jvm.Cond.lays "java/util/LinkedList$Node" "java/util/LinkedList$Node" "next" "Ljava/util/LinkedList$Node;") ∈ lw_all := lw_g (lw_at lw_m3 98 rfl) rfl
theorem q653 : (Jvm.Cond.soleField "java/util/LinkedList$Node" "next") ∈ lw_all := lw_g (lw_at lw_m3 99 rfl) rfl
theorem q654 : (Jvm.Cond.lays "java/util/LinkedList$Node" "java/util/LinkedList$Node" "prev" "Ljava/util/LinkedList$Node;") ∈ lw_all := lw_g (lw_at lw_m3 100 rfl) rfl
theorem q655 : (Jvm.Cond.soleField "java/util/LinkedList$Node" "prev") ∈ lw_all := lw_g (lw_at lw_m3 101 rfl) rfl
theorem q656 : (Jvm.Cond.superclass "java/util/LinkedList$Node" "java/lang/Object") ∈ lw_all := lw_g (lw_at lw_m3 102 rfl) rfl
theorem q2044 : (Jvm.Cond.castable "java/util/LinkedList$Node" "java/lang/Object") ∈ lw_tbl := lw_at lw_m9 50 rfl
theorem in_J11 : ∀ w ∈ wsJ110, w ∈ lw_all := lw_in wsJ110 [650, 652, 654] (by decide +kernel) (by decide +kernel)
/-! java/util/Objects -/
set_option maxRecDepth 100000
def RJ12 : String := "java/util/Objects"
abbrev cJ12_checkIndex : ByteArray := prog_55_method_17_code
def yJ12_checkIndex : MethodName := ⟨RJ12, "checkIndex", "(II)I"⟩
def dkwJ12_checkIndex_0 : List UInt8 := [26, 27, 1, 184, 0, 105, 172]
abbrev dktJ12_checkIndex_0 : List UInt8 := dkwJ12_checkIndex_0 ++ []
theorem dksJ12_checkIndex_0 : cJ12_checkIndex.data.toList.drop 0 = dktJ12_checkIndex_0 := by decide +kernel
theorem dJ12_checkIndex_0 : decode cJ12_checkIndex 0 = .ok (.iload_n 0, 1) := dk_26 (dk_at dksJ12_checkIndex_0 0 rfl rfl)
theorem dJ12_checkIndex_1 : decode cJ12_checkIndex 1 = .ok (.iload_n 1, 1) := dk_27 (dk_at dksJ12_checkIndex_0 1 rfl rfl)
theorem dJ12_checkIndex_2 : decode cJ12_checkIndex 2 = .ok (.aconst_null, 1) := dk_1 (dk_at dksJ12_checkIndex_0 2 rfl rfl)
theorem dJ12_checkIndex_3 : decode cJ12_checkIndex 3 = .ok (.invokestatic 105, 3) := dk_184 0 105 (dk_at dksJ12_checkIndex_0 3 rfl rfl)
theorem dJ12_checkIndex_6 : decode cJ12_checkIndex 6 = .ok (.ireturn, 1) := dk_172 (dk_at dksJ12_checkIndex_0 6 rfl rfl)
theorem q93 : (Jvm.Cond.initialized "java/util/Objects") ∈ lw_all := lw_g (lw_at lw_m1 19 rfl) rfl
theorem q681 : (Jvm.Cond.static ({ cls := "java/util/Objects", name := "checkIndex", desc := "(II)I" } : Jvm.MethodName)) ∈ lw_all := lw_g (lw_at lw_m3 127 rfl) rfl
theorem q682 : (Jvm.Cond.code ({ cls := "java/util/Objects", name := "checkIndex", desc := "(II)I" } : Jvm.MethodName) prog_55_method_17_code (2 : Nat) (Option.some Jvm.ClassFile.FieldType.int)) ∈ lw_all := lw_g (lw_at lw_m3 128 rfl) rfl
theorem q683 : (Jvm.Cond.methodLink "java/util/Objects" (105 : Nat) ({ cls := "jdk/internal/util/Preconditions", name := "checkIndex", desc := "(IILjava/util/function/BiFunction;)I" } : Jvm.MethodName)) ∈ lw_all := lw_g (lw_at lw_m3 129 rfl) rfl
/-! jdk/internal/util/Preconditions -/
set_option maxRecDepth 100000
def RJ13 : String := "jdk/internal/util/Preconditions"
abbrev cJ13_checkIndex : ByteArray := prog_60_method_11_code
def yJ13_checkIndex : MethodName := ⟨RJ13, "checkIndex", "(IILjava/util/function/BiFunction;)I"⟩
def dkwJ13_checkIndex_0 : List UInt8 := [26, 155, 0, 8, 26, 27, 161, 0, 10, 44, 26, 27, 184, 0, 95, 191, 26, 172]
abbrev dktJ13_checkIndex_0 : List UInt8 := dkwJ13_checkIndex_0 ++ []
theorem dksJ13_checkIndex_0 : cJ13_checkIndex.data.toList.drop 0 = dktJ13_checkIndex_0 := by decide +kernel
theorem dJ13_checkIndex_0 : decode cJ13_checkIndex 0 = .ok (.iload_n 0, 1) := dk_26 (dk_at dksJ13_checkIndex_0 0 rfl rfl)
theorem dJ13_checkIndex_1 : decode cJ13_checkIndex 1 = .ok (.ifCond .lt 8, 3) := dk_155 0 8 (dk_at dksJ13_checkIndex_0 1 rfl rfl)
theorem dJ13_checkIndex_4 : decode cJ13_checkIndex 4 = .ok (.iload_n 0, 1) := dk_26 (dk_at dksJ13_checkIndex_0 4 rfl rfl)
theorem dJ13_checkIndex_5 : decode cJ13_checkIndex 5 = .ok (.iload_n 1, 1) := dk_27 (dk_at dksJ13_checkIndex_0 5 rfl rfl)
theorem dJ13_checkIndex_6 : decode cJ13_checkIndex 6 = .ok (.if_icmp .lt 10, 3) := dk_161 0 10 (dk_at dksJ13_checkIndex_0 6 rfl rfl)
theorem dJ13_checkIndex_9 : decode cJ13_checkIndex 9 = .ok (.aload_n 2, 1) := dk_44 (dk_at dksJ13_checkIndex_0 9 rfl rfl)
theorem dJ13_checkIndex_10 : decode cJ13_checkIndex 10 = .ok (.iload_n 0, 1) := dk_26 (dk_at dksJ13_checkIndex_0 10 rfl rfl)
theorem dJ13_checkIndex_11 : decode cJ13_checkIndex 11 = .ok (.iload_n 1, 1) := dk_27 (dk_at dksJ13_checkIndex_0 11 rfl rfl)
theorem dJ13_checkIndex_12 : decode cJ13_checkIndex 12 = .ok (.invokestatic 95, 3) := dk_184 0 95 (dk_at dksJ13_checkIndex_0 12 rfl rfl)
theorem dJ13_checkIndex_15 : decode cJ13_checkIndex 15 = .ok (.athrow, 1) := dk_191 (dk_at dksJ13_checkIndex_0 15 rfl rfl)
theorem dJ13_checkIndex_16 : decode cJ13_checkIndex 16 = .ok (.iload_n 0, 1) := dk_26 (dk_at dksJ13_checkIndex_0 16 rfl rfl)
theorem dJ13_checkIndex_17 : decode cJ13_checkIndex 17 = .ok (.ireturn, 1) := dk_172 (dk_at dksJ13_checkIndex_0 17 rfl rfl)
abbrev cJ13_checkFromToIndex : ByteArray := prog_60_method_12_code
def yJ13_checkFromToIndex : MethodName := ⟨RJ13, "checkFromToIndex", "(IIILjava/util/function/BiFunction;)I"⟩
def dkwJ13_checkFromToIndex_0 : List UInt8 := [26, 155, 0, 13, 26, 27, 163, 0, 8, 27, 28, 164, 0, 11, 45, 26, 27, 28, 184, 0, 99, 191, 26, 172]
abbrev dktJ13_checkFromToIndex_0 : List UInt8 := dkwJ13_checkFromToIndex_0 ++ []
theorem dksJ13_checkFromToIndex_0 : cJ13_checkFromToIndex.data.toList.drop 0 = dktJ13_checkFromToIndex_0 := by decide +kernel
theorem dJ13_checkFromToIndex_0 : decode cJ13_checkFromToIndex 0 = .ok (.iload_n 0, 1) := dk_26 (dk_at dksJ13_checkFromToIndex_0 0 rfl rfl)
theorem dJ13_checkFromToIndex_1 : decode cJ13_checkFromToIndex 1 = .ok (.ifCond .lt 13, 3) := dk_155 0 13 (dk_at dksJ13_checkFromToIndex_0 1 rfl rfl)
theorem dJ13_checkFromToIndex_4 : decode cJ13_checkFromToIndex 4 = .ok (.iload_n 0, 1) := dk_26 (dk_at dksJ13_checkFromToIndex_0 4 rfl rfl)
theorem dJ13_checkFromToIndex_5 : decode cJ13_checkFromToIndex 5 = .ok (.iload_n 1, 1) := dk_27 (dk_at dksJ13_checkFromToIndex_0 5 rfl rfl)
theorem dJ13_checkFromToIndex_6 : decode cJ13_checkFromToIndex 6 = .ok (.if_icmp .gt 8, 3) := dk_163 0 8 (dk_at dksJ13_checkFromToIndex_0 6 rfl rfl)
theorem dJ13_checkFromToIndex_9 : decode cJ13_checkFromToIndex 9 = .ok (.iload_n 1, 1) := dk_27 (dk_at dksJ13_checkFromToIndex_0 9 rfl rfl)
theorem dJ13_checkFromToIndex_10 : decode cJ13_checkFromToIndex 10 = .ok (.iload_n 2, 1) := dk_28 (dk_at dksJ13_checkFromToIndex_0 10 rfl rfl)
theorem dJ13_checkFromToIndex_11 : decode cJ13_checkFromToIndex 11 = .ok (.if_icmp .le 11, 3) := dk_164 0 11 (dk_at dksJ13_checkFromToIndex_0 11 rfl rfl)
theorem dJ13_checkFromToIndex_14 : decode cJ13_checkFromToIndex 14 = .ok (.aload_n 3, 1) := dk_45 (dk_at dksJ13_checkFromToIndex_0 14 rfl rfl)
theorem dJ13_checkFromToIndex_15 : decode cJ13_checkFromToIndex 15 = .ok (.iload_n 0, 1) := dk_26 (dk_at dksJ13_checkFromToIndex_0 15 rfl rfl)
theorem dJ13_checkFromToIndex_16 : decode cJ13_checkFromToIndex 16 = .ok (.iload_n 1, 1) := dk_27 (dk_at dksJ13_checkFromToIndex_0 16 rfl rfl)
theorem dJ13_checkFromToIndex_17 : decode cJ13_checkFromToIndex 17 = .ok (.iload_n 2, 1) := dk_28 (dk_at dksJ13_checkFromToIndex_0 17 rfl rfl)
theorem dJ13_checkFromToIndex_18 : decode cJ13_checkFromToIndex 18 = .ok (.invokestatic 99, 3) := dk_184 0 99 (dk_at dksJ13_checkFromToIndex_0 18 rfl rfl)
theorem dJ13_checkFromToIndex_21 : decode cJ13_checkFromToIndex 21 = .ok (.athrow, 1) := dk_191 (dk_at dksJ13_checkFromToIndex_0 21 rfl rfl)
theorem dJ13_checkFromToIndex_22 : decode cJ13_checkFromToIndex 22 = .ok (.iload_n 0, 1) := dk_26 (dk_at dksJ13_checkFromToIndex_0 22 rfl rfl)
theorem dJ13_checkFromToIndex_23 : decode cJ13_checkFromToIndex 23 = .ok (.ireturn, 1) := dk_172 (dk_at dksJ13_checkFromToIndex_0 23 rfl rfl)
abbrev cJ13_checkFromIndexSize : ByteArray := prog_60_method_13_code
def yJ13_checkFromIndexSize : MethodName := ⟨RJ13, "checkFromIndexSize", "(IIILjava/util/function/BiFunction;)I"⟩
def dkwJ13_checkFromIndexSize_1 : List UInt8 := [172]
abbrev dktJ13_checkFromIndexSize_1 : List UInt8 := dkwJ13_checkFromIndexSize_1 ++ []
def dkwJ13_checkFromIndexSize_0 : List UInt8 := [28, 26, 128, 27, 128, 155, 0, 10, 27, 28, 26, 100, 164, 0, 11, 45, 26, 27, 28, 184, 0, 103, 191, 26]
abbrev dktJ13_checkFromIndexSize_0 : List UInt8 := dkwJ13_checkFromIndexSize_0 ++ dktJ13_checkFromIndexSize_1
theorem dksJ13_checkFromIndexSize_0 : cJ13_checkFromIndexSize.data.toList.drop 0 = dktJ13_checkFromIndexSize_0 := by decide +kernel
theorem dksJ13_checkFromIndexSize_1 : cJ13_checkFromIndexSize.data.toList.drop 24 = dktJ13_checkFromIndexSize_1 := dk_seg dksJ13_checkFromIndexSize_0 24 rfl rfl
theorem dJ13_checkFromIndexSize_0 : decode cJ13_checkFromIndexSize 0 = .ok (.iload_n 2, 1) := dk_28 (dk_at dksJ13_checkFromIndexSize_0 0 rfl rfl)
theorem dJ13_checkFromIndexSize_1 : decode cJ13_checkFromIndexSize 1 = .ok (.iload_n 0, 1) := dk_26 (dk_at dksJ13_checkFromIndexSize_0 1 rfl rfl)
theorem dJ13_checkFromIndexSize_2 : decode cJ13_checkFromIndexSize 2 = .ok (.ior, 1) := dk_128 (dk_at dksJ13_checkFromIndexSize_0 2 rfl rfl)
theorem dJ13_checkFromIndexSize_3 : decode cJ13_checkFromIndexSize 3 = .ok (.iload_n 1, 1) := dk_27 (dk_at dksJ13_checkFromIndexSize_0 3 rfl rfl)
theorem dJ13_checkFromIndexSize_4 : decode cJ13_checkFromIndexSize 4 = .ok (.ior, 1) := dk_128 (dk_at dksJ13_checkFromIndexSize_0 4 rfl rfl)
theorem dJ13_checkFromIndexSize_5 : decode cJ13_checkFromIndexSize 5 = .ok (.ifCond .lt 10, 3) := dk_155 0 10 (dk_at dksJ13_checkFromIndexSize_0 5 rfl rfl)
theorem dJ13_checkFromIndexSize_8 : decode cJ13_checkFromIndexSize 8 = .ok (.iload_n 1, 1) := dk_27 (dk_at dksJ13_checkFromIndexSize_0 8 rfl rfl)
theorem dJ13_checkFromIndexSize_9 : decode cJ13_checkFromIndexSize 9 = .ok (.iload_n 2, 1) := dk_28 (dk_at dksJ13_checkFromIndexSize_0 9 rfl rfl)
theorem dJ13_checkFromIndexSize_10 : decode cJ13_checkFromIndexSize 10 = .ok (.iload_n 0, 1) := dk_26 (dk_at dksJ13_checkFromIndexSize_0 10 rfl rfl)
theorem dJ13_checkFromIndexSize_11 : decode cJ13_checkFromIndexSize 11 = .ok (.isub, 1) := dk_100 (dk_at dksJ13_checkFromIndexSize_0 11 rfl rfl)
theorem dJ13_checkFromIndexSize_12 : decode cJ13_checkFromIndexSize 12 = .ok (.if_icmp .le 11, 3) := dk_164 0 11 (dk_at dksJ13_checkFromIndexSize_0 12 rfl rfl)
theorem dJ13_checkFromIndexSize_15 : decode cJ13_checkFromIndexSize 15 = .ok (.aload_n 3, 1) := dk_45 (dk_at dksJ13_checkFromIndexSize_0 15 rfl rfl)
theorem dJ13_checkFromIndexSize_16 : decode cJ13_checkFromIndexSize 16 = .ok (.iload_n 0, 1) := dk_26 (dk_at dksJ13_checkFromIndexSize_0 16 rfl rfl)
theorem dJ13_checkFromIndexSize_17 : decode cJ13_checkFromIndexSize 17 = .ok (.iload_n 1, 1) := dk_27 (dk_at dksJ13_checkFromIndexSize_0 17 rfl rfl)
theorem dJ13_checkFromIndexSize_18 : decode cJ13_checkFromIndexSize 18 = .ok (.iload_n 2, 1) := dk_28 (dk_at dksJ13_checkFromIndexSize_0 18 rfl rfl)
theorem dJ13_checkFromIndexSize_19 : decode cJ13_checkFromIndexSize 19 = .ok (.invokestatic 103, 3) := dk_184 0 103 (dk_at dksJ13_checkFromIndexSize_0 19 rfl rfl)
theorem dJ13_checkFromIndexSize_22 : decode cJ13_checkFromIndexSize 22 = .ok (.athrow, 1) := dk_191 (dk_at dksJ13_checkFromIndexSize_0 22 rfl rfl)
theorem dJ13_checkFromIndexSize_23 : decode cJ13_checkFromIndexSize 23 = .ok (.iload_n 0, 1) := dk_26 (dk_at dksJ13_checkFromIndexSize_0 23 rfl rfl)
theorem dJ13_checkFromIndexSize_24 : decode cJ13_checkFromIndexSize 24 = .ok (.ireturn, 1) := dk_172 (dk_at dksJ13_checkFromIndexSize_1 0 rfl rfl)
theorem q94 : (Jvm.Cond.initialized "jdk/internal/util/Preconditions") ∈ lw_all := lw_g (lw_at lw_m1 20 rfl) rfl
theorem q684 : (Jvm.Cond.static ({ cls := "jdk/internal/util/Preconditions", name := "checkIndex", desc := "(IILjava/util/function/BiFunction;)I" } : Jvm.MethodName)) ∈ lw_all := lw_g (lw_at lw_m3 130 rfl) rfl
theorem q685 : (Jvm.Cond.code ({ cls := "jdk/internal/util/Preconditions", name := "checkIndex", desc := "(IILjava/util/function/BiFunction;)I" } : Jvm.MethodName) prog_60_method_11_code (3 : Nat) (Option.some Jvm.ClassFile.FieldType.int)) ∈ lw_all := lw_g (lw_at lw_m3 131 rfl) rfl
theorem q1081 : (Jvm.Cond.laysStatic "jdk/internal/util/Preconditions" "SIOOBE_FORMATTER" "Ljava/util/function/BiFunction;") ∈ lw_tbl := lw_at lw_m5 47 rfl
theorem q1083 : (Jvm.Cond.static ({ cls := "jdk/internal/util/Preconditions", name := "checkFromToIndex", desc := "(IIILjava/util/function/BiFunction;)I" } : Jvm.MethodName)) ∈ lw_all := lw_g (lw_at lw_m5 49 rfl) rfl
theorem q1084 : (Jvm.Cond.code ({ cls := "jdk/internal/util/Preconditions", name := "checkFromToIndex", desc := "(IIILjava/util/function/BiFunction;)I" } : Jvm.MethodName) prog_60_method_12_code (4 : Nat) (Option.some Jvm.ClassFile.FieldType.int)) ∈ lw_all := lw_g (lw_at lw_m5 50 rfl) rfl
theorem q1129 : (Jvm.Cond.static ({ cls := "jdk/internal/util/Preconditions", name := "checkFromIndexSize", desc := "(IIILjava/util/function/BiFunction;)I" } : Jvm.MethodName)) ∈ lw_all := lw_g (lw_at lw_m5 95 rfl) rfl
theorem q1130 : (Jvm.Cond.code ({ cls := "jdk/internal/util/Preconditions", name := "checkFromIndexSize", desc := "(IIILjava/util/function/BiFunction;)I" } : Jvm.MethodName) prog_60_method_13_code (4 : Nat) (Option.some Jvm.ClassFile.FieldType.int)) ∈ lw_all := lw_g (lw_at lw_m5 96 rfl) rfl
/-! java/util/AbstractList$Itr -/
set_option maxRecDepth 100000
def RJ14 : String := "java/util/AbstractList$Itr"
abbrev cJ14_hasNext : ByteArray := prog_35_method_2_code
def yJ14_hasNext : MethodName := ⟨RJ14, "hasNext", "()Z"⟩
def dkwJ14_hasNext_0 : List UInt8 := [42, 180, 0, 13, 42, 180, 0, 1, 182, 0, 28, 159, 0, 7, 4, 167, 0, 4, 3, 172]
abbrev dktJ14_hasNext_0 : List UInt8 := dkwJ14_hasNext_0 ++ []
theorem dksJ14_hasNext_0 : cJ14_hasNext.data.toList.drop 0 = dktJ14_hasNext_0 := by decide +kernel
theorem dJ14_hasNext_0 : decode cJ14_hasNext 0 = .ok (.aload_n 0, 1) := dk_42 (dk_at dksJ14_hasNext_0 0 rfl rfl)
theorem dJ14_hasNext_1 : decode cJ14_hasNext 1 = .ok (.getfield 13, 3) := dk_180 0 13 (dk_at dksJ14_hasNext_0 1 rfl rfl)
theorem dJ14_hasNext_4 : decode cJ14_hasNext 4 = .ok (.aload_n 0, 1) := dk_42 (dk_at dksJ14_hasNext_0 4 rfl rfl)
theorem dJ14_hasNext_5 : decode cJ14_hasNext 5 = .ok (.getfield 1, 3) := dk_180 0 1 (dk_at dksJ14_hasNext_0 5 rfl rfl)
theorem dJ14_hasNext_8 : decode cJ14_hasNext 8 = .ok (.invokevirtual 28, 3) := dk_182 0 28 (dk_at dksJ14_hasNext_0 8 rfl rfl)
theorem dJ14_hasNext_11 : decode cJ14_hasNext 11 = .ok (.if_icmp .eq 7, 3) := dk_159 0 7 (dk_at dksJ14_hasNext_0 11 rfl rfl)
theorem dJ14_hasNext_14 : decode cJ14_hasNext 14 = .ok (.iconst 1, 1) := dk_4 (dk_at dksJ14_hasNext_0 14 rfl rfl)
theorem dJ14_hasNext_15 : decode cJ14_hasNext 15 = .ok (.goto 4, 3) := dk_167 0 4 (dk_at dksJ14_hasNext_0 15 rfl rfl)
theorem dJ14_hasNext_18 : decode cJ14_hasNext 18 = .ok (.iconst 0, 1) := dk_3 (dk_at dksJ14_hasNext_0 18 rfl rfl)
theorem dJ14_hasNext_19 : decode cJ14_hasNext 19 = .ok (.ireturn, 1) := dk_172 (dk_at dksJ14_hasNext_0 19 rfl rfl)
abbrev cJ14_next : ByteArray := prog_35_method_3_code
def yJ14_next : MethodName := ⟨RJ14, "next", "()Ljava/lang/Object;"⟩
def dkwJ14_next_1 : List UInt8 := [27, 4, 96, 181, 0, 13, 44, 176, 76, 42, 182, 0, 32, 187, 0, 41, 89, 43, 183, 0, 43, 191]
abbrev dktJ14_next_1 : List UInt8 := dkwJ14_next_1 ++ []
def dkwJ14_next_0 : List UInt8 := [42, 182, 0, 32, 42, 180, 0, 13, 60, 42, 180, 0, 1, 27, 182, 0, 35, 77, 42, 27, 181, 0, 17, 42]
abbrev dktJ14_next_0 : List UInt8 := dkwJ14_next_0 ++ dktJ14_next_1
theorem dksJ14_next_0 : cJ14_next.data.toList.drop 0 = dktJ14_next_0 := by decide +kernel
theorem dksJ14_next_1 : cJ14_next.data.toList.drop 24 = dktJ14_next_1 := dk_seg dksJ14_next_0 24 rfl rfl
theorem dJ14_next_0 : decode cJ14_next 0 = .ok (.aload_n 0, 1) := dk_42 (dk_at dksJ14_next_0 0 rfl rfl)
theorem dJ14_next_1 : decode cJ14_next 1 = .ok (.invokevirtual 32, 3) := dk_182 0 32 (dk_at dksJ14_next_0 1 rfl rfl)
theorem dJ14_next_4 : decode cJ14_next 4 = .ok (.aload_n 0, 1) := dk_42 (dk_at dksJ14_next_0 4 rfl rfl)
theorem dJ14_next_5 : decode cJ14_next 5 = .ok (.getfield 13, 3) := dk_180 0 13 (dk_at dksJ14_next_0 5 rfl rfl)
theorem dJ14_next_8 : decode cJ14_next 8 = .ok (.istore_n 1, 1) := dk_60 (dk_at dksJ14_next_0 8 rfl rfl)
theorem dJ14_next_9 : decode cJ14_next 9 = .ok (.aload_n 0, 1) := dk_42 (dk_at dksJ14_next_0 9 rfl rfl)
theorem dJ14_next_10 : decode cJ14_next 10 = .ok (.getfield 1, 3) := dk_180 0 1 (dk_at dksJ14_next_0 10 rfl rfl)
theorem dJ14_next_13 : decode cJ14_next 13 = .ok (.iload_n 1, 1) := dk_27 (dk_at dksJ14_next_0 13 rfl rfl)
theorem dJ14_next_14 : decode cJ14_next 14 = .ok (.invokevirtual 35, 3) := dk_182 0 35 (dk_at dksJ14_next_0 14 rfl rfl)
theorem dJ14_next_17 : decode cJ14_next 17 = .ok (.astore_n 2, 1) := dk_77 (dk_at dksJ14_next_0 17 rfl rfl)
theorem dJ14_next_18 : decode cJ14_next 18 = .ok (.aload_n 0, 1) := dk_42 (dk_at dksJ14_next_0 18 rfl rfl)
theorem dJ14_next_19 : decode cJ14_next 19 = .ok (.iload_n 1, 1) := dk_27 (dk_at dksJ14_next_0 19 rfl rfl)
theorem dJ14_next_20 : decode cJ14_next 20 = .ok (.putfield 17, 3) := dk_181 0 17 (dk_at dksJ14_next_0 20 rfl rfl)
theorem dJ14_next_23 : decode cJ14_next 23 = .ok (.aload_n 0, 1) := dk_42 (dk_at dksJ14_next_0 23 rfl rfl)
theorem dJ14_next_24 : decode cJ14_next 24 = .ok (.iload_n 1, 1) := dk_27 (dk_at dksJ14_next_1 0 rfl rfl)
theorem dJ14_next_25 : decode cJ14_next 25 = .ok (.iconst 1, 1) := dk_4 (dk_at dksJ14_next_1 1 rfl rfl)
theorem dJ14_next_26 : decode cJ14_next 26 = .ok (.iadd, 1) := dk_96 (dk_at dksJ14_next_1 2 rfl rfl)
theorem dJ14_next_27 : decode cJ14_next 27 = .ok (.putfield 13, 3) := dk_181 0 13 (dk_at dksJ14_next_1 3 rfl rfl)
theorem dJ14_next_30 : decode cJ14_next 30 = .ok (.aload_n 2, 1) := dk_44 (dk_at dksJ14_next_1 6 rfl rfl)
theorem dJ14_next_31 : decode cJ14_next 31 = .ok (.areturn, 1) := dk_176 (dk_at dksJ14_next_1 7 rfl rfl)
theorem dJ14_next_32 : decode cJ14_next 32 = .ok (.astore_n 1, 1) := dk_76 (dk_at dksJ14_next_1 8 rfl rfl)
theorem dJ14_next_33 : decode cJ14_next 33 = .ok (.aload_n 0, 1) := dk_42 (dk_at dksJ14_next_1 9 rfl rfl)
theorem dJ14_next_34 : decode cJ14_next 34 = .ok (.invokevirtual 32, 3) := dk_182 0 32 (dk_at dksJ14_next_1 10 rfl rfl)
theorem dJ14_next_37 : decode cJ14_next 37 = .ok (.new 41, 3) := dk_187 0 41 (dk_at dksJ14_next_1 13 rfl rfl)
theorem dJ14_next_40 : decode cJ14_next 40 = .ok (.dup, 1) := dk_89 (dk_at dksJ14_next_1 16 rfl rfl)
theorem dJ14_next_41 : decode cJ14_next 41 = .ok (.aload_n 1, 1) := dk_43 (dk_at dksJ14_next_1 17 rfl rfl)
theorem dJ14_next_42 : decode cJ14_next 42 = .ok (.invokespecial 43, 3) := dk_183 0 43 (dk_at dksJ14_next_1 18 rfl rfl)
theorem dJ14_next_45 : decode cJ14_next 45 = .ok (.athrow, 1) := dk_191 (dk_at dksJ14_next_1 21 rfl rfl)
abbrev cJ14_checkForComodification : ByteArray := prog_35_method_5_code
def yJ14_checkForComodification : MethodName := ⟨RJ14, "checkForComodification", "()V"⟩
def dkwJ14_checkForComodification_0 : List UInt8 := [42, 180, 0, 1, 180, 0, 20, 42, 180, 0, 25, 159, 0, 11, 187, 0, 52, 89, 183, 0, 54, 191, 177]
abbrev dktJ14_checkForComodification_0 : List UInt8 := dkwJ14_checkForComodification_0 ++ []
theorem dksJ14_checkForComodification_0 : cJ14_checkForComodification.data.toList.drop 0 = dktJ14_checkForComodification_0 := by decide +kernel
theorem dJ14_checkForComodification_0 : decode cJ14_checkForComodification 0 = .ok (.aload_n 0, 1) := dk_42 (dk_at dksJ14_checkForComodification_0 0 rfl rfl)
theorem dJ14_checkForComodification_1 : decode cJ14_checkForComodification 1 = .ok (.getfield 1, 3) := dk_180 0 1 (dk_at dksJ14_checkForComodification_0 1 rfl rfl)
theorem dJ14_checkForComodification_4 : decode cJ14_checkForComodification 4 = .ok (.getfield 20, 3) := dk_180 0 20 (dk_at dksJ14_checkForComodification_0 4 rfl rfl)
theorem dJ14_checkForComodification_7 : decode cJ14_checkForComodification 7 = .ok (.aload_n 0, 1) := dk_42 (dk_at dksJ14_checkForComodification_0 7 rfl rfl)
theorem dJ14_checkForComodification_8 : decode cJ14_checkForComodification 8 = .ok (.getfield 25, 3) := dk_180 0 25 (dk_at dksJ14_checkForComodification_0 8 rfl rfl)
theorem dJ14_checkForComodification_11 : decode cJ14_checkForComodification 11 = .ok (.if_icmp .eq 11, 3) := dk_159 0 11 (dk_at dksJ14_checkForComodification_0 11 rfl rfl)
theorem dJ14_checkForComodification_14 : decode cJ14_checkForComodification 14 = .ok (.new 52, 3) := dk_187 0 52 (dk_at dksJ14_checkForComodification_0 14 rfl rfl)
theorem dJ14_checkForComodification_17 : decode cJ14_checkForComodification 17 = .ok (.dup, 1) := dk_89 (dk_at dksJ14_checkForComodification_0 17 rfl rfl)
theorem dJ14_checkForComodification_18 : decode cJ14_checkForComodification 18 = .ok (.invokespecial 54, 3) := dk_183 0 54 (dk_at dksJ14_checkForComodification_0 18 rfl rfl)
theorem dJ14_checkForComodification_21 : decode cJ14_checkForComodification 21 = .ok (.athrow, 1) := dk_191 (dk_at dksJ14_checkForComodification_0 21 rfl rfl)
theorem dJ14_checkForComodification_22 : decode cJ14_checkForComodification 22 = .ok (.return_, 1) := dk_177 (dk_at dksJ14_checkForComodification_0 22 rfl rfl)
abbrev cJ14_remove : ByteArray := prog_35_method_4_code
def yJ14_remove : MethodName := ⟨RJ14, "remove", "()V"⟩
def dkwJ14_remove_3 : List UInt8 := [187, 0, 52, 89, 183, 0, 54, 191, 177]
abbrev dktJ14_remove_3 : List UInt8 := dkwJ14_remove_3 ++ []
def dkwJ14_remove_2 : List UInt8 := [100, 181, 0, 13, 42, 2, 181, 0, 17, 42, 42, 180, 0, 1, 180, 0, 20, 181, 0, 25, 167, 0, 12, 76]
abbrev dktJ14_remove_2 : List UInt8 := dkwJ14_remove_2 ++ dktJ14_remove_3
def dkwJ14_remove_1 : List UInt8 := [180, 0, 17, 182, 0, 49, 87, 42, 180, 0, 17, 42, 180, 0, 13, 162, 0, 13, 42, 89, 180, 0, 13, 4]
abbrev dktJ14_remove_1 : List UInt8 := dkwJ14_remove_1 ++ dktJ14_remove_2
def dkwJ14_remove_0 : List UInt8 := [42, 180, 0, 17, 156, 0, 11, 187, 0, 46, 89, 183, 0, 48, 191, 42, 182, 0, 32, 42, 180, 0, 1, 42]
abbrev dktJ14_remove_0 : List UInt8 := dkwJ14_remove_0 ++ dktJ14_remove_1
theorem dksJ14_remove_0 : cJ14_remove.data.toList.drop 0 = dktJ14_remove_0 := by decide +kernel
theorem dksJ14_remove_1 : cJ14_remove.data.toList.drop 24 = dktJ14_remove_1 := dk_seg dksJ14_remove_0 24 rfl rfl
theorem dksJ14_remove_2 : cJ14_remove.data.toList.drop 48 = dktJ14_remove_2 := dk_seg dksJ14_remove_1 24 rfl rfl
theorem dksJ14_remove_3 : cJ14_remove.data.toList.drop 72 = dktJ14_remove_3 := dk_seg dksJ14_remove_2 24 rfl rfl
theorem dJ14_remove_0 : decode cJ14_remove 0 = .ok (.aload_n 0, 1) := dk_42 (dk_at dksJ14_remove_0 0 rfl rfl)
theorem dJ14_remove_1 : decode cJ14_remove 1 = .ok (.getfield 17, 3) := dk_180 0 17 (dk_at dksJ14_remove_0 1 rfl rfl)
theorem dJ14_remove_4 : decode cJ14_remove 4 = .ok (.ifCond .ge 11, 3) := dk_156 0 11 (dk_at dksJ14_remove_0 4 rfl rfl)
theorem dJ14_remove_7 : decode cJ14_remove 7 = .ok (.new 46, 3) := dk_187 0 46 (dk_at dksJ14_remove_0 7 rfl rfl)
theorem dJ14_remove_10 : decode cJ14_remove 10 = .ok (.dup, 1) := dk_89 (dk_at dksJ14_remove_0 10 rfl rfl)
theorem dJ14_remove_11 : decode cJ14_remove 11 = .ok (.invokespecial 48, 3) := dk_183 0 48 (dk_at dksJ14_remove_0 11 rfl rfl)
theorem dJ14_remove_14 : decode cJ14_remove 14 = .ok (.athrow, 1) := dk_191 (dk_at dksJ14_remove_0 14 rfl rfl)
theorem dJ14_remove_15 : decode cJ14_remove 15 = .ok (.aload_n 0, 1) := dk_42 (dk_at dksJ14_remove_0 15 rfl rfl)
theorem dJ14_remove_16 : decode cJ14_remove 16 = .ok (.invokevirtual 32, 3) := dk_182 0 32 (dk_at dksJ14_remove_0 16 rfl rfl)
theorem dJ14_remove_19 : decode cJ14_remove 19 = .ok (.aload_n 0, 1) := dk_42 (dk_at dksJ14_remove_0 19 rfl rfl)
theorem dJ14_remove_20 : decode cJ14_remove 20 = .ok (.getfield 1, 3) := dk_180 0 1 (dk_at dksJ14_remove_0 20 rfl rfl)
theorem dJ14_remove_23 : decode cJ14_remove 23 = .ok (.aload_n 0, 1) := dk_42 (dk_at dksJ14_remove_0 23 rfl rfl)
theorem dJ14_remove_24 : decode cJ14_remove 24 = .ok (.getfield 17, 3) := dk_180 0 17 (dk_at dksJ14_remove_1 0 rfl rfl)
theorem dJ14_remove_27 : decode cJ14_remove 27 = .ok (.invokevirtual 49, 3) := dk_182 0 49 (dk_at dksJ14_remove_1 3 rfl rfl)
theorem dJ14_remove_30 : decode cJ14_remove 30 = .ok (.pop, 1) := dk_87 (dk_at dksJ14_remove_1 6 rfl rfl)
theorem dJ14_remove_31 : decode cJ14_remove 31 = .ok (.aload_n 0, 1) := dk_42 (dk_at dksJ14_remove_1 7 rfl rfl)
theorem dJ14_remove_32 : decode cJ14_remove 32 = .ok (.getfield 17, 3) := dk_180 0 17 (dk_at dksJ14_remove_1 8 rfl rfl)
theorem dJ14_remove_35 : decode cJ14_remove 35 = .ok (.aload_n 0, 1) := dk_42 (dk_at dksJ14_remove_1 11 rfl rfl)
theorem dJ14_remove_36 : decode cJ14_remove 36 = .ok (.getfield 13, 3) := dk_180 0 13 (dk_at dksJ14_remove_1 12 rfl rfl)
theorem dJ14_remove_39 : decode cJ14_remove 39 = .ok (.if_icmp .ge 13, 3) := dk_162 0 13 (dk_at dksJ14_remove_1 15 rfl rfl)
theorem dJ14_remove_42 : decode cJ14_remove 42 = .ok (.aload_n 0, 1) := dk_42 (dk_at dksJ14_remove_1 18 rfl rfl)
theorem dJ14_remove_43 : decode cJ14_remove 43 = .ok (.dup, 1) := dk_89 (dk_at dksJ14_remove_1 19 rfl rfl)
theorem dJ14_remove_44 : decode cJ14_remove 44 = .ok (.getfield 13, 3) := dk_180 0 13 (dk_at dksJ14_remove_1 20 rfl rfl)
theorem dJ14_remove_47 : decode cJ14_remove 47 = .ok (.iconst 1, 1) := dk_4 (dk_at dksJ14_remove_1 23 rfl rfl)
theorem dJ14_remove_48 : decode cJ14_remove 48 = .ok (.isub, 1) := dk_100 (dk_at dksJ14_remove_2 0 rfl rfl)
theorem dJ14_remove_49 : decode cJ14_remove 49 = .ok (.putfield 13, 3) := dk_181 0 13 (dk_at dksJ14_remove_2 1 rfl rfl)
theorem dJ14_remove_52 : decode cJ14_remove 52 = .ok (.aload_n 0, 1) := dk_42 (dk_at dksJ14_remove_2 4 rfl rfl)
theorem dJ14_remove_53 : decode cJ14_remove 53 = .ok (.iconst (-1), 1) := dk_2 (dk_at dksJ14_remove_2 5 rfl rfl)
theorem dJ14_remove_54 : decode cJ14_remove 54 = .ok (.putfield 17, 3) := dk_181 0 17 (dk_at dksJ14_remove_2 6 rfl rfl)
theorem dJ14_remove_57 : decode cJ14_remove 57 = .ok (.aload_n 0, 1) := dk_42 (dk_at dksJ14_remove_2 9 rfl rfl)
theorem dJ14_remove_58 : decode cJ14_remove 58 = .ok (.aload_n 0, 1) := dk_42 (dk_at dksJ14_remove_2 10 rfl rfl)
theorem dJ14_remove_59 : decode cJ14_remove 59 = .ok (.getfield 1, 3) := dk_180 0 1 (dk_at dksJ14_remove_2 11 rfl rfl)
theorem dJ14_remove_62 : decode cJ14_remove 62 = .ok (.getfield 20, 3) := dk_180 0 20 (dk_at dksJ14_remove_2 14 rfl rfl)
theorem dJ14_remove_65 : decode cJ14_remove 65 = .ok (.putfield 25, 3) := dk_181 0 25 (dk_at dksJ14_remove_2 17 rfl rfl)
theorem dJ14_remove_68 : decode cJ14_remove 68 = .ok (.goto 12, 3) := dk_167 0 12 (dk_at dksJ14_remove_2 20 rfl rfl)
theorem dJ14_remove_71 : decode cJ14_remove 71 = .ok (.astore_n 1, 1) := dk_76 (dk_at dksJ14_remove_2 23 rfl rfl)
theorem dJ14_remove_72 : decode cJ14_remove 72 = .ok (.new 52, 3) := dk_187 0 52 (dk_at dksJ14_remove_3 0 rfl rfl)
theorem dJ14_remove_75 : decode cJ14_remove 75 = .ok (.dup, 1) := dk_89 (dk_at dksJ14_remove_3 3 rfl rfl)
theorem dJ14_remove_76 : decode cJ14_remove 76 = .ok (.invokespecial 54, 3) := dk_183 0 54 (dk_at dksJ14_remove_3 4 rfl rfl)
theorem dJ14_remove_79 : decode cJ14_remove 79 = .ok (.athrow, 1) := dk_191 (dk_at dksJ14_remove_3 7 rfl rfl)
theorem dJ14_remove_80 : decode cJ14_remove 80 = .ok (.return_, 1) := dk_177 (dk_at dksJ14_remove_3 8 rfl rfl)
theorem q96 : (Jvm.Cond.initialized "java/util/AbstractList$Itr") ∈ lw_all := lw_g (lw_at lw_m1 22 rfl) rfl
theorem q153 : (Jvm.Cond.fieldLink "java/util/AbstractList$Itr" (20 : Nat) "java/util/AbstractList" "modCount" "I") ∈ lw_all := lw_g (lw_at lw_m1 79 rfl) rfl
theorem q880 : (Jvm.Cond.instanceMethod ({ cls := "java/util/AbstractList$Itr", name := "hasNext", desc := "()Z" } : Jvm.MethodName)) ∈ lw_all := lw_g (lw_at lw_m4 86 rfl) rfl
theorem q881 : (Jvm.Cond.publicMethod ({ cls := "java/util/AbstractList$Itr", name := "hasNext", desc := "()Z" } : Jvm.MethodName)) ∈ lw_tbl := lw_at lw_m4 87 rfl
theorem q882 : (Jvm.Cond.code ({ cls := "java/util/AbstractList$Itr", name := "hasNext", desc := "()Z" } : Jvm.MethodName) prog_35_method_2_code (1 : Nat) (Option.some Jvm.ClassFile.FieldType.boolean)) ∈ lw_all := lw_g (lw_at lw_m4 88 rfl) rfl
theorem q883 : (Jvm.Cond.methodLink "java/util/AbstractList$Itr" (28 : Nat) ({ cls := "java/util/AbstractList", name := "size", desc := "()I" } : Jvm.MethodName)) ∈ lw_all := lw_g (lw_at lw_m4 89 rfl) rfl
theorem q911 : (Jvm.Cond.instanceMethod ({ cls := "java/util/AbstractList$Itr", name := "next", desc := "()Ljava/lang/Object;" } : Jvm.MethodName)) ∈ lw_all := lw_g (lw_at lw_m4 117 rfl) rfl
theorem q912 : (Jvm.Cond.publicMethod ({ cls := "java/util/AbstractList$Itr", name := "next", desc := "()Ljava/lang/Object;" } : Jvm.MethodName)) ∈ lw_tbl := lw_at lw_m4 118 rfl
theorem q913 : (Jvm.Cond.codeWith ({ cls := "java/util/AbstractList$Itr", name := "next", desc := "()Ljava/lang/Object;" } : Jvm.MethodName) prog_35_method_3_code (3 : Nat) (Option.some (Jvm.ClassFile.FieldType.object "java/lang/Object")) [((4 : Nat), (31 : Nat), (32 : Nat), (39 : Nat))]) ∈ lw_all := lw_g (lw_at lw_m4 119 rfl) rfl
theorem q914 : (Jvm.Cond.methodLink "java/util/AbstractList$Itr" (32 : Nat) ({ cls := "java/util/AbstractList$Itr", name := "checkForComodification", desc := "()V" } : Jvm.MethodName)) ∈ lw_all := lw_g (lw_at lw_m4 120 rfl) rfl
theorem q915 : (Jvm.Cond.instanceMethod ({ cls := "java/util/AbstractList$Itr", name := "checkForComodification", desc := "()V" } : Jvm.MethodName)) ∈ lw_all := lw_g (lw_at lw_m4 121 rfl) rfl
theorem q916 : (Jvm.Cond.sameMethod "java/util/AbstractList$Itr" "java/util/AbstractList$Itr" "checkForComodification" "()V") ∈ lw_all := lw_g (lw_at lw_m4 122 rfl) rfl
theorem q918 : (Jvm.Cond.code ({ cls := "java/util/AbstractList$Itr", name := "checkForComodification", desc := "()V" } : Jvm.MethodName) prog_35_method_5_code (1 : Nat) (Option.none : Option Jvm.ClassFile.FieldType)) ∈ lw_all := lw_g (lw_at lw_m4 124 rfl) rfl
theorem q919 : (Jvm.Cond.methodLink "java/util/AbstractList$Itr" (35 : Nat) ({ cls := "java/util/AbstractList", name := "get", desc := "(I)Ljava/lang/Object;" } : Jvm.MethodName)) ∈ lw_all := lw_g (lw_at lw_m4 125 rfl) rfl
theorem q924 : (Jvm.Cond.classLink "java/util/AbstractList$Itr" (41 : Nat) "java/util/NoSuchElementException") ∈ lw_all := lw_g (lw_at lw_m4 130 rfl) rfl
theorem q966 : (Jvm.Cond.methodLink "java/util/AbstractList$Itr" (43 : Nat) ({ cls := "java/util/NoSuchElementException", name := "<init>", desc := "(Ljava/lang/Throwable;)V" } : Jvm.MethodName)) ∈ lw_all := lw_g (lw_at lw_m4 172 rfl) rfl
theorem q1250 : (Jvm.Cond.instanceMethod ({ cls := "java/util/AbstractList$Itr", name := "remove", desc := "()V" } : Jvm.MethodName)) ∈ lw_all := lw_g (lw_at lw_m5 216 rfl) rfl
theorem q1251 : (Jvm.Cond.publicMethod ({ cls := "java/util/AbstractList$Itr", name := "remove", desc := "()V" } : Jvm.MethodName)) ∈ lw_tbl := lw_at lw_m5 217 rfl
theorem q1252 : (Jvm.Cond.codeWith ({ cls := "java/util/AbstractList$Itr", name := "remove", desc := "()V" } : Jvm.MethodName) prog_35_method_4_code (2 : Nat) (Option.none : Option Jvm.ClassFile.FieldType) [((19 : Nat), (68 : Nat), (71 : Nat), (39 : Nat))]) ∈ lw_all := lw_g (lw_at lw_m5 218 rfl) rfl
theorem q1253 : (Jvm.Cond.classLink "java/util/AbstractList$Itr" (46 : Nat) "java/lang/IllegalStateException") ∈ lw_all := lw_g (lw_at lw_m5 219 rfl) rfl
theorem q1262 : (Jvm.Cond.methodLink "java/util/AbstractList$Itr" (48 : Nat) ({ cls := "java/lang/IllegalStateException", name := "<init>", desc := "()V" } : Jvm.MethodName)) ∈ lw_all := lw_g (lw_at lw_m5 228 rfl) rfl
theorem q1274 : (Jvm.Cond.methodLink "java/util/AbstractList$Itr" (49 : Nat) ({ cls := "java/util/AbstractList", name := "remove", desc := "(I)Ljava/lang/Object;" } : Jvm.MethodName)) ∈ lw_all := lw_g (lw_at lw_m6 0 rfl) rfl
theorem q1293 : (Jvm.Cond.classLink "java/util/AbstractList$Itr" (52 : Nat) "java/util/ConcurrentModificationException") ∈ lw_all := lw_g (lw_at lw_m6 19 rfl) rfl
theorem q1295 : (Jvm.Cond.methodLink "java/util/AbstractList$Itr" (54 : Nat) ({ cls := "java/util/ConcurrentModificationException", name := "<init>", desc := "()V" } : Jvm.MethodName)) ∈ lw_all := lw_g (lw_at lw_m6 21 rfl) rfl
theorem q2070 : (Jvm.Cond.fieldLink "java/util/AbstractList$Itr" (1 : Nat) "java/util/AbstractList$Itr" "this$0" "Ljava/util/AbstractList;") ∈ lw_all := lw_g (lw_at lw_m9 76 rfl) rfl
theorem q2071 : (Jvm.Cond.fieldLink "java/util/AbstractList$Itr" (13 : Nat) "java/util/AbstractList$Itr" "cursor" "I") ∈ lw_all := lw_g (lw_at lw_m9 77 rfl) rfl
theorem q2072 : (Jvm.Cond.fieldLink "java/util/AbstractList$Itr" (17 : Nat) "java/util/AbstractList$Itr" "lastRet" "I") ∈ lw_all := lw_g (lw_at lw_m9 78 rfl) rfl
theorem q2073 : (Jvm.Cond.fieldLink "java/util/AbstractList$Itr" (25 : Nat) "java/util/AbstractList$Itr" "expectedModCount" "I") ∈ lw_all := lw_g (lw_at lw_m9 79 rfl) rfl
/-! java/util/ArrayList$Itr -/
set_option maxRecDepth 100000
def RJ15 : String := "java/util/ArrayList$Itr"
abbrev cJ15_init : ByteArray := prog_41_method_1_code
def yJ15_init : MethodName := ⟨RJ15, "<init>", "(Ljava/util/ArrayList;)V"⟩
def dkwJ15_init_1 : List UInt8 := [181, 0, 22, 177]
abbrev dktJ15_init_1 : List UInt8 := dkwJ15_init_1 ++ []
def dkwJ15_init_0 : List UInt8 := [42, 43, 181, 0, 1, 42, 183, 0, 7, 42, 2, 181, 0, 13, 42, 42, 180, 0, 1, 180, 0, 17]
abbrev dktJ15_init_0 : List UInt8 := dkwJ15_init_0 ++ dktJ15_init_1
theorem dksJ15_init_0 : cJ15_init.data.toList.drop 0 = dktJ15_init_0 := by decide +kernel
theorem dksJ15_init_1 : cJ15_init.data.toList.drop 22 = dktJ15_init_1 := dk_seg dksJ15_init_0 22 rfl rfl
theorem dJ15_init_0 : decode cJ15_init 0 = .ok (.aload_n 0, 1) := dk_42 (dk_at dksJ15_init_0 0 rfl rfl)
theorem dJ15_init_1 : decode cJ15_init 1 = .ok (.aload_n 1, 1) := dk_43 (dk_at dksJ15_init_0 1 rfl rfl)
theorem dJ15_init_2 : decode cJ15_init 2 = .ok (.putfield 1, 3) := dk_181 0 1 (dk_at dksJ15_init_0 2 rfl rfl)
theorem dJ15_init_5 : decode cJ15_init 5 = .ok (.aload_n 0, 1) := dk_42 (dk_at dksJ15_init_0 5 rfl rfl)
theorem dJ15_init_6 : decode cJ15_init 6 = .ok (.invokespecial 7, 3) := dk_183 0 7 (dk_at dksJ15_init_0 6 rfl rfl)
theorem dJ15_init_9 : decode cJ15_init 9 = .ok (.aload_n 0, 1) := dk_42 (dk_at dksJ15_init_0 9 rfl rfl)
theorem dJ15_init_10 : decode cJ15_init 10 = .ok (.iconst (-1), 1) := dk_2 (dk_at dksJ15_init_0 10 rfl rfl)
theorem dJ15_init_11 : decode cJ15_init 11 = .ok (.putfield 13, 3) := dk_181 0 13 (dk_at dksJ15_init_0 11 rfl rfl)
theorem dJ15_init_14 : decode cJ15_init 14 = .ok (.aload_n 0, 1) := dk_42 (dk_at dksJ15_init_0 14 rfl rfl)
theorem dJ15_init_15 : decode cJ15_init 15 = .ok (.aload_n 0, 1) := dk_42 (dk_at dksJ15_init_0 15 rfl rfl)
theorem dJ15_init_16 : decode cJ15_init 16 = .ok (.getfield 1, 3) := dk_180 0 1 (dk_at dksJ15_init_0 16 rfl rfl)
theorem dJ15_init_19 : decode cJ15_init 19 = .ok (.getfield 17, 3) := dk_180 0 17 (dk_at dksJ15_init_0 19 rfl rfl)
theorem dJ15_init_22 : decode cJ15_init 22 = .ok (.putfield 22, 3) := dk_181 0 22 (dk_at dksJ15_init_1 0 rfl rfl)
theorem dJ15_init_25 : decode cJ15_init 25 = .ok (.return_, 1) := dk_177 (dk_at dksJ15_init_1 3 rfl rfl)
abbrev cJ15_hasNext : ByteArray := prog_41_method_2_code
def yJ15_hasNext : MethodName := ⟨RJ15, "hasNext", "()Z"⟩
def dkwJ15_hasNext_0 : List UInt8 := [42, 180, 0, 25, 42, 180, 0, 1, 180, 0, 28, 159, 0, 7, 4, 167, 0, 4, 3, 172]
abbrev dktJ15_hasNext_0 : List UInt8 := dkwJ15_hasNext_0 ++ []
theorem dksJ15_hasNext_0 : cJ15_hasNext.data.toList.drop 0 = dktJ15_hasNext_0 := by decide +kernel
theorem dJ15_hasNext_0 : decode cJ15_hasNext 0 = .ok (.aload_n 0, 1) := dk_42 (dk_at dksJ15_hasNext_0 0 rfl rfl)
theorem dJ15_hasNext_1 : decode cJ15_hasNext 1 = .ok (.getfield 25, 3) := dk_180 0 25 (dk_at dksJ15_hasNext_0 1 rfl rfl)
theorem dJ15_hasNext_4 : decode cJ15_hasNext 4 = .ok (.aload_n 0, 1) := dk_42 (dk_at dksJ15_hasNext_0 4 rfl rfl)
theorem dJ15_hasNext_5 : decode cJ15_hasNext 5 = .ok (.getfield 1, 3) := dk_180 0 1 (dk_at dksJ15_hasNext_0 5 rfl rfl)
theorem dJ15_hasNext_8 : decode cJ15_hasNext 8 = .ok (.getfield 28, 3) := dk_180 0 28 (dk_at dksJ15_hasNext_0 8 rfl rfl)
theorem dJ15_hasNext_11 : decode cJ15_hasNext 11 = .ok (.if_icmp .eq 7, 3) := dk_159 0 7 (dk_at dksJ15_hasNext_0 11 rfl rfl)
theorem dJ15_hasNext_14 : decode cJ15_hasNext 14 = .ok (.iconst 1, 1) := dk_4 (dk_at dksJ15_hasNext_0 14 rfl rfl)
theorem dJ15_hasNext_15 : decode cJ15_hasNext 15 = .ok (.goto 4, 3) := dk_167 0 4 (dk_at dksJ15_hasNext_0 15 rfl rfl)
theorem dJ15_hasNext_18 : decode cJ15_hasNext 18 = .ok (.iconst 0, 1) := dk_3 (dk_at dksJ15_hasNext_0 18 rfl rfl)
theorem dJ15_hasNext_19 : decode cJ15_hasNext 19 = .ok (.ireturn, 1) := dk_172 (dk_at dksJ15_hasNext_0 19 rfl rfl)
abbrev cJ15_next : ByteArray := prog_41_method_3_code
def yJ15_next : MethodName := ⟨RJ15, "next", "()Ljava/lang/Object;"⟩
def dkwJ15_next_2 : List UInt8 := [183, 0, 43, 191, 42, 27, 4, 96, 181, 0, 25, 44, 42, 27, 90, 181, 0, 13, 50, 176]
abbrev dktJ15_next_2 : List UInt8 := dkwJ15_next_2 ++ []
def dkwJ15_next_1 : List UInt8 := [183, 0, 36, 191, 42, 180, 0, 1, 180, 0, 37, 77, 27, 44, 190, 161, 0, 11, 187, 0, 41, 89]
abbrev dktJ15_next_1 : List UInt8 := dkwJ15_next_1 ++ dktJ15_next_2
def dkwJ15_next_0 : List UInt8 := [42, 182, 0, 31, 42, 180, 0, 25, 60, 27, 42, 180, 0, 1, 180, 0, 28, 161, 0, 11, 187, 0, 34, 89]
abbrev dktJ15_next_0 : List UInt8 := dkwJ15_next_0 ++ dktJ15_next_1
theorem dksJ15_next_0 : cJ15_next.data.toList.drop 0 = dktJ15_next_0 := by decide +kernel
theorem dksJ15_next_1 : cJ15_next.data.toList.drop 24 = dktJ15_next_1 := dk_seg dksJ15_next_0 24 rfl rfl
theorem dksJ15_next_2 : cJ15_next.data.toList.drop 46 = dktJ15_next_2 := dk_seg dksJ15_next_1 22 rfl rfl
theorem dJ15_next_0 : decode cJ15_next 0 = .ok (.aload_n 0, 1) := dk_42 (dk_at dksJ15_next_0 0 rfl rfl)
theorem dJ15_next_1 : decode cJ15_next 1 = .ok (.invokevirtual 31, 3) := dk_182 0 31 (dk_at dksJ15_next_0 1 rfl rfl)
theorem dJ15_next_4 : decode cJ15_next 4 = .ok (.aload_n 0, 1) := dk_42 (dk_at dksJ15_next_0 4 rfl rfl)
theorem dJ15_next_5 : decode cJ15_next 5 = .ok (.getfield 25, 3) := dk_180 0 25 (dk_at dksJ15_next_0 5 rfl rfl)
theorem dJ15_next_8 : decode cJ15_next 8 = .ok (.istore_n 1, 1) := dk_60 (dk_at dksJ15_next_0 8 rfl rfl)
theorem dJ15_next_9 : decode cJ15_next 9 = .ok (.iload_n 1, 1) := dk_27 (dk_at dksJ15_next_0 9 rfl rfl)
theorem dJ15_next_10 : decode cJ15_next 10 = .ok (.aload_n 0, 1) := dk_42 (dk_at dksJ15_next_0 10 rfl rfl)
theorem dJ15_next_11 : decode cJ15_next 11 = .ok (.getfield 1, 3) := dk_180 0 1 (dk_at dksJ15_next_0 11 rfl rfl)
theorem dJ15_next_14 : decode cJ15_next 14 = .ok (.getfield 28, 3) := dk_180 0 28 (dk_at dksJ15_next_0 14 rfl rfl)
theorem dJ15_next_17 : decode cJ15_next 17 = .ok (.if_icmp .lt 11, 3) := dk_161 0 11 (dk_at dksJ15_next_0 17 rfl rfl)
theorem dJ15_next_20 : decode cJ15_next 20 = .ok (.new 34, 3) := dk_187 0 34 (dk_at dksJ15_next_0 20 rfl rfl)
theorem dJ15_next_23 : decode cJ15_next 23 = .ok (.dup, 1) := dk_89 (dk_at dksJ15_next_0 23 rfl rfl)
theorem dJ15_next_24 : decode cJ15_next 24 = .ok (.invokespecial 36, 3) := dk_183 0 36 (dk_at dksJ15_next_1 0 rfl rfl)
theorem dJ15_next_27 : decode cJ15_next 27 = .ok (.athrow, 1) := dk_191 (dk_at dksJ15_next_1 3 rfl rfl)
theorem dJ15_next_28 : decode cJ15_next 28 = .ok (.aload_n 0, 1) := dk_42 (dk_at dksJ15_next_1 4 rfl rfl)
theorem dJ15_next_29 : decode cJ15_next 29 = .ok (.getfield 1, 3) := dk_180 0 1 (dk_at dksJ15_next_1 5 rfl rfl)
theorem dJ15_next_32 : decode cJ15_next 32 = .ok (.getfield 37, 3) := dk_180 0 37 (dk_at dksJ15_next_1 8 rfl rfl)
theorem dJ15_next_35 : decode cJ15_next 35 = .ok (.astore_n 2, 1) := dk_77 (dk_at dksJ15_next_1 11 rfl rfl)
theorem dJ15_next_36 : decode cJ15_next 36 = .ok (.iload_n 1, 1) := dk_27 (dk_at dksJ15_next_1 12 rfl rfl)
theorem dJ15_next_37 : decode cJ15_next 37 = .ok (.aload_n 2, 1) := dk_44 (dk_at dksJ15_next_1 13 rfl rfl)
theorem dJ15_next_38 : decode cJ15_next 38 = .ok (.arraylength, 1) := dk_190 (dk_at dksJ15_next_1 14 rfl rfl)
theorem dJ15_next_39 : decode cJ15_next 39 = .ok (.if_icmp .lt 11, 3) := dk_161 0 11 (dk_at dksJ15_next_1 15 rfl rfl)
theorem dJ15_next_42 : decode cJ15_next 42 = .ok (.new 41, 3) := dk_187 0 41 (dk_at dksJ15_next_1 18 rfl rfl)
theorem dJ15_next_45 : decode cJ15_next 45 = .ok (.dup, 1) := dk_89 (dk_at dksJ15_next_1 21 rfl rfl)
theorem dJ15_next_46 : decode cJ15_next 46 = .ok (.invokespecial 43, 3) := dk_183 0 43 (dk_at dksJ15_next_2 0 rfl rfl)
theorem dJ15_next_49 : decode cJ15_next 49 = .ok (.athrow, 1) := dk_191 (dk_at dksJ15_next_2 3 rfl rfl)
theorem dJ15_next_50 : decode cJ15_next 50 = .ok (.aload_n 0, 1) := dk_42 (dk_at dksJ15_next_2 4 rfl rfl)
theorem dJ15_next_51 : decode cJ15_next 51 = .ok (.iload_n 1, 1) := dk_27 (dk_at dksJ15_next_2 5 rfl rfl)
theorem dJ15_next_52 : decode cJ15_next 52 = .ok (.iconst 1, 1) := dk_4 (dk_at dksJ15_next_2 6 rfl rfl)
theorem dJ15_next_53 : decode cJ15_next 53 = .ok (.iadd, 1) := dk_96 (dk_at dksJ15_next_2 7 rfl rfl)
theorem dJ15_next_54 : decode cJ15_next 54 = .ok (.putfield 25, 3) := dk_181 0 25 (dk_at dksJ15_next_2 8 rfl rfl)
theorem dJ15_next_57 : decode cJ15_next 57 = .ok (.aload_n 2, 1) := dk_44 (dk_at dksJ15_next_2 11 rfl rfl)
theorem dJ15_next_58 : decode cJ15_next 58 = .ok (.aload_n 0, 1) := dk_42 (dk_at dksJ15_next_2 12 rfl rfl)
theorem dJ15_next_59 : decode cJ15_next 59 = .ok (.iload_n 1, 1) := dk_27 (dk_at dksJ15_next_2 13 rfl rfl)
theorem dJ15_next_60 : decode cJ15_next 60 = .ok (.dup_x1, 1) := dk_90 (dk_at dksJ15_next_2 14 rfl rfl)
theorem dJ15_next_61 : decode cJ15_next 61 = .ok (.putfield 13, 3) := dk_181 0 13 (dk_at dksJ15_next_2 15 rfl rfl)
theorem dJ15_next_64 : decode cJ15_next 64 = .ok (.aaload, 1) := dk_50 (dk_at dksJ15_next_2 18 rfl rfl)
theorem dJ15_next_65 : decode cJ15_next 65 = .ok (.areturn, 1) := dk_176 (dk_at dksJ15_next_2 19 rfl rfl)
abbrev cJ15_checkForComodification : ByteArray := prog_41_method_6_code
def yJ15_checkForComodification : MethodName := ⟨RJ15, "checkForComodification", "()V"⟩
def dkwJ15_checkForComodification_0 : List UInt8 := [42, 180, 0, 1, 180, 0, 17, 42, 180, 0, 22, 159, 0, 11, 187, 0, 41, 89, 183, 0, 43, 191, 177]
abbrev dktJ15_checkForComodification_0 : List UInt8 := dkwJ15_checkForComodification_0 ++ []
theorem dksJ15_checkForComodification_0 : cJ15_checkForComodification.data.toList.drop 0 = dktJ15_checkForComodification_0 := by decide +kernel
theorem dJ15_checkForComodification_0 : decode cJ15_checkForComodification 0 = .ok (.aload_n 0, 1) := dk_42 (dk_at dksJ15_checkForComodification_0 0 rfl rfl)
theorem dJ15_checkForComodification_1 : decode cJ15_checkForComodification 1 = .ok (.getfield 1, 3) := dk_180 0 1 (dk_at dksJ15_checkForComodification_0 1 rfl rfl)
theorem dJ15_checkForComodification_4 : decode cJ15_checkForComodification 4 = .ok (.getfield 17, 3) := dk_180 0 17 (dk_at dksJ15_checkForComodification_0 4 rfl rfl)
theorem dJ15_checkForComodification_7 : decode cJ15_checkForComodification 7 = .ok (.aload_n 0, 1) := dk_42 (dk_at dksJ15_checkForComodification_0 7 rfl rfl)
theorem dJ15_checkForComodification_8 : decode cJ15_checkForComodification 8 = .ok (.getfield 22, 3) := dk_180 0 22 (dk_at dksJ15_checkForComodification_0 8 rfl rfl)
theorem dJ15_checkForComodification_11 : decode cJ15_checkForComodification 11 = .ok (.if_icmp .eq 11, 3) := dk_159 0 11 (dk_at dksJ15_checkForComodification_0 11 rfl rfl)
theorem dJ15_checkForComodification_14 : decode cJ15_checkForComodification 14 = .ok (.new 41, 3) := dk_187 0 41 (dk_at dksJ15_checkForComodification_0 14 rfl rfl)
theorem dJ15_checkForComodification_17 : decode cJ15_checkForComodification 17 = .ok (.dup, 1) := dk_89 (dk_at dksJ15_checkForComodification_0 17 rfl rfl)
theorem dJ15_checkForComodification_18 : decode cJ15_checkForComodification 18 = .ok (.invokespecial 43, 3) := dk_183 0 43 (dk_at dksJ15_checkForComodification_0 18 rfl rfl)
theorem dJ15_checkForComodification_21 : decode cJ15_checkForComodification 21 = .ok (.athrow, 1) := dk_191 (dk_at dksJ15_checkForComodification_0 21 rfl rfl)
theorem dJ15_checkForComodification_22 : decode cJ15_checkForComodification 22 = .ok (.return_, 1) := dk_177 (dk_at dksJ15_checkForComodification_0 22 rfl rfl)
abbrev cJ15_remove : ByteArray := prog_41_method_4_code
def yJ15_remove : MethodName := ⟨RJ15, "remove", "()V"⟩
def dkwJ15_remove_2 : List UInt8 := [180, 0, 1, 180, 0, 17, 181, 0, 22, 167, 0, 12, 76, 187, 0, 41, 89, 183, 0, 43, 191, 177]
abbrev dktJ15_remove_2 : List UInt8 := dkwJ15_remove_2 ++ []
def dkwJ15_remove_1 : List UInt8 := [180, 0, 13, 182, 0, 47, 87, 42, 42, 180, 0, 13, 181, 0, 25, 42, 2, 181, 0, 13, 42, 42]
abbrev dktJ15_remove_1 : List UInt8 := dkwJ15_remove_1 ++ dktJ15_remove_2
def dkwJ15_remove_0 : List UInt8 := [42, 180, 0, 13, 156, 0, 11, 187, 0, 44, 89, 183, 0, 46, 191, 42, 182, 0, 31, 42, 180, 0, 1, 42]
abbrev dktJ15_remove_0 : List UInt8 := dkwJ15_remove_0 ++ dktJ15_remove_1
theorem dksJ15_remove_0 : cJ15_remove.data.toList.drop 0 = dktJ15_remove_0 := by decide +kernel
theorem dksJ15_remove_1 : cJ15_remove.data.toList.drop 24 = dktJ15_remove_1 := dk_seg dksJ15_remove_0 24 rfl rfl
theorem dksJ15_remove_2 : cJ15_remove.data.toList.drop 46 = dktJ15_remove_2 := dk_seg dksJ15_remove_1 22 rfl rfl
theorem dJ15_remove_0 : decode cJ15_remove 0 = .ok (.aload_n 0, 1) := dk_42 (dk_at dksJ15_remove_0 0 rfl rfl)
theorem dJ15_remove_1 : decode cJ15_remove 1 = .ok (.getfield 13, 3) := dk_180 0 13 (dk_at dksJ15_remove_0 1 rfl rfl)
theorem dJ15_remove_4 : decode cJ15_remove 4 = .ok (.ifCond .ge 11, 3) := dk_156 0 11 (dk_at dksJ15_remove_0 4 rfl rfl)
theorem dJ15_remove_7 : decode cJ15_remove 7 = .ok (.new 44, 3) := dk_187 0 44 (dk_at dksJ15_remove_0 7 rfl rfl)
theorem dJ15_remove_10 : decode cJ15_remove 10 = .ok (.dup, 1) := dk_89 (dk_at dksJ15_remove_0 10 rfl rfl)
theorem dJ15_remove_11 : decode cJ15_remove 11 = .ok (.invokespecial 46, 3) := dk_183 0 46 (dk_at dksJ15_remove_0 11 rfl rfl)
theorem dJ15_remove_14 : decode cJ15_remove 14 = .ok (.athrow, 1) := dk_191 (dk_at dksJ15_remove_0 14 rfl rfl)
theorem dJ15_remove_15 : decode cJ15_remove 15 = .ok (.aload_n 0, 1) := dk_42 (dk_at dksJ15_remove_0 15 rfl rfl)
theorem dJ15_remove_16 : decode cJ15_remove 16 = .ok (.invokevirtual 31, 3) := dk_182 0 31 (dk_at dksJ15_remove_0 16 rfl rfl)
theorem dJ15_remove_19 : decode cJ15_remove 19 = .ok (.aload_n 0, 1) := dk_42 (dk_at dksJ15_remove_0 19 rfl rfl)
theorem dJ15_remove_20 : decode cJ15_remove 20 = .ok (.getfield 1, 3) := dk_180 0 1 (dk_at dksJ15_remove_0 20 rfl rfl)
theorem dJ15_remove_23 : decode cJ15_remove 23 = .ok (.aload_n 0, 1) := dk_42 (dk_at dksJ15_remove_0 23 rfl rfl)
theorem dJ15_remove_24 : decode cJ15_remove 24 = .ok (.getfield 13, 3) := dk_180 0 13 (dk_at dksJ15_remove_1 0 rfl rfl)
theorem dJ15_remove_27 : decode cJ15_remove 27 = .ok (.invokevirtual 47, 3) := dk_182 0 47 (dk_at dksJ15_remove_1 3 rfl rfl)
theorem dJ15_remove_30 : decode cJ15_remove 30 = .ok (.pop, 1) := dk_87 (dk_at dksJ15_remove_1 6 rfl rfl)
theorem dJ15_remove_31 : decode cJ15_remove 31 = .ok (.aload_n 0, 1) := dk_42 (dk_at dksJ15_remove_1 7 rfl rfl)
theorem dJ15_remove_32 : decode cJ15_remove 32 = .ok (.aload_n 0, 1) := dk_42 (dk_at dksJ15_remove_1 8 rfl rfl)
theorem dJ15_remove_33 : decode cJ15_remove 33 = .ok (.getfield 13, 3) := dk_180 0 13 (dk_at dksJ15_remove_1 9 rfl rfl)
theorem dJ15_remove_36 : decode cJ15_remove 36 = .ok (.putfield 25, 3) := dk_181 0 25 (dk_at dksJ15_remove_1 12 rfl rfl)
theorem dJ15_remove_39 : decode cJ15_remove 39 = .ok (.aload_n 0, 1) := dk_42 (dk_at dksJ15_remove_1 15 rfl rfl)
theorem dJ15_remove_40 : decode cJ15_remove 40 = .ok (.iconst (-1), 1) := dk_2 (dk_at dksJ15_remove_1 16 rfl rfl)
theorem dJ15_remove_41 : decode cJ15_remove 41 = .ok (.putfield 13, 3) := dk_181 0 13 (dk_at dksJ15_remove_1 17 rfl rfl)
theorem dJ15_remove_44 : decode cJ15_remove 44 = .ok (.aload_n 0, 1) := dk_42 (dk_at dksJ15_remove_1 20 rfl rfl)
theorem dJ15_remove_45 : decode cJ15_remove 45 = .ok (.aload_n 0, 1) := dk_42 (dk_at dksJ15_remove_1 21 rfl rfl)
theorem dJ15_remove_46 : decode cJ15_remove 46 = .ok (.getfield 1, 3) := dk_180 0 1 (dk_at dksJ15_remove_2 0 rfl rfl)
theorem dJ15_remove_49 : decode cJ15_remove 49 = .ok (.getfield 17, 3) := dk_180 0 17 (dk_at dksJ15_remove_2 3 rfl rfl)
theorem dJ15_remove_52 : decode cJ15_remove 52 = .ok (.putfield 22, 3) := dk_181 0 22 (dk_at dksJ15_remove_2 6 rfl rfl)
theorem dJ15_remove_55 : decode cJ15_remove 55 = .ok (.goto 12, 3) := dk_167 0 12 (dk_at dksJ15_remove_2 9 rfl rfl)
theorem dJ15_remove_58 : decode cJ15_remove 58 = .ok (.astore_n 1, 1) := dk_76 (dk_at dksJ15_remove_2 12 rfl rfl)
theorem dJ15_remove_59 : decode cJ15_remove 59 = .ok (.new 41, 3) := dk_187 0 41 (dk_at dksJ15_remove_2 13 rfl rfl)
theorem dJ15_remove_62 : decode cJ15_remove 62 = .ok (.dup, 1) := dk_89 (dk_at dksJ15_remove_2 16 rfl rfl)
theorem dJ15_remove_63 : decode cJ15_remove 63 = .ok (.invokespecial 43, 3) := dk_183 0 43 (dk_at dksJ15_remove_2 17 rfl rfl)
theorem dJ15_remove_66 : decode cJ15_remove 66 = .ok (.athrow, 1) := dk_191 (dk_at dksJ15_remove_2 20 rfl rfl)
theorem dJ15_remove_67 : decode cJ15_remove 67 = .ok (.return_, 1) := dk_177 (dk_at dksJ15_remove_2 21 rfl rfl)
theorem q98 : (Jvm.Cond.initialized "java/util/ArrayList$Itr") ∈ lw_all := lw_g (lw_at lw_m1 24 rfl) rfl
theorem q151 : (Jvm.Cond.fieldLink "java/util/ArrayList$Itr" (17 : Nat) "java/util/ArrayList" "modCount" "I") ∈ lw_all := lw_g (lw_at lw_m1 77 rfl) rfl
theorem q175 : (Jvm.Cond.fieldLink "java/util/ArrayList$Itr" (37 : Nat) "java/util/ArrayList" "elementData" "[Ljava/lang/Object;") ∈ lw_all := lw_g (lw_at lw_m1 101 rfl) rfl
theorem q176 : (Jvm.Cond.fieldLinkNest "java/util/ArrayList$Itr" (28 : Nat) "java/util/ArrayList" "size" "I" "java/util/ArrayList") ∈ lw_tbl := lw_at lw_m1 102 rfl
theorem q817 : (Jvm.Cond.instanceMethod ({ cls := "java/util/ArrayList$Itr", name := "<init>", desc := "(Ljava/util/ArrayList;)V" } : Jvm.MethodName)) ∈ lw_all := lw_g (lw_at lw_m4 23 rfl) rfl
theorem q818 : (Jvm.Cond.code ({ cls := "java/util/ArrayList$Itr", name := "<init>", desc := "(Ljava/util/ArrayList;)V" } : Jvm.MethodName) prog_41_method_1_code (2 : Nat) (Option.none : Option Jvm.ClassFile.FieldType)) ∈ lw_all := lw_g (lw_at lw_m4 24 rfl) rfl
theorem q819 : (Jvm.Cond.methodLink "java/util/ArrayList$Itr" (7 : Nat) ({ cls := "java/lang/Object", name := "<init>", desc := "()V" } : Jvm.MethodName)) ∈ lw_all := lw_g (lw_at lw_m4 25 rfl) rfl
theorem q823 : (Jvm.Cond.fieldLink "java/util/ArrayList$Itr" (25 : Nat) "java/util/ArrayList$Itr" "cursor" "I") ∈ lw_all := lw_g (lw_at lw_m4 29 rfl) rfl
theorem q824 : (Jvm.Cond.fieldLink "java/util/ArrayList$Itr" (13 : Nat) "java/util/ArrayList$Itr" "lastRet" "I") ∈ lw_all := lw_g (lw_at lw_m4 30 rfl) rfl
theorem q825 : (Jvm.Cond.fieldLink "java/util/ArrayList$Itr" (22 : Nat) "java/util/ArrayList$Itr" "expectedModCount" "I") ∈ lw_all := lw_g (lw_at lw_m4 31 rfl) rfl
theorem q826 : (Jvm.Cond.fieldLink "java/util/ArrayList$Itr" (1 : Nat) "java/util/ArrayList$Itr" "this$0" "Ljava/util/ArrayList;") ∈ lw_all := lw_g (lw_at lw_m4 32 rfl) rfl
theorem q830 : (Jvm.Cond.soleField "java/util/ArrayList$Itr" "cursor") ∈ lw_all := lw_g (lw_at lw_m4 36 rfl) rfl
theorem q832 : (Jvm.Cond.soleField "java/util/ArrayList$Itr" "lastRet") ∈ lw_all := lw_g (lw_at lw_m4 38 rfl) rfl
theorem q834 : (Jvm.Cond.soleField "java/util/ArrayList$Itr" "expectedModCount") ∈ lw_all := lw_g (lw_at lw_m4 40 rfl) rfl
theorem q836 : (Jvm.Cond.soleField "java/util/ArrayList$Itr" "this$0") ∈ lw_all := lw_g (lw_at lw_m4 42 rfl) rfl
theorem q896 : (Jvm.Cond.instanceMethod ({ cls := "java/util/ArrayList$Itr", name := "hasNext", desc := "()Z" } : Jvm.MethodName)) ∈ lw_all := lw_g (lw_at lw_m4 102 rfl) rfl
theorem q897 : (Jvm.Cond.publicMethod ({ cls := "java/util/ArrayList$Itr", name := "hasNext", desc := "()Z" } : Jvm.MethodName)) ∈ lw_tbl := lw_at lw_m4 103 rfl
theorem q898 : (Jvm.Cond.code ({ cls := "java/util/ArrayList$Itr", name := "hasNext", desc := "()Z" } : Jvm.MethodName) prog_41_method_2_code (1 : Nat) (Option.some Jvm.ClassFile.FieldType.boolean)) ∈ lw_all := lw_g (lw_at lw_m4 104 rfl) rfl
theorem q1222 : (Jvm.Cond.instanceMethod ({ cls := "java/util/ArrayList$Itr", name := "next", desc := "()Ljava/lang/Object;" } : Jvm.MethodName)) ∈ lw_all := lw_g (lw_at lw_m5 188 rfl) rfl
theorem q1223 : (Jvm.Cond.publicMethod ({ cls := "java/util/ArrayList$Itr", name := "next", desc := "()Ljava/lang/Object;" } : Jvm.MethodName)) ∈ lw_tbl := lw_at lw_m5 189 rfl
theorem q1224 : (Jvm.Cond.code ({ cls := "java/util/ArrayList$Itr", name := "next", desc := "()Ljava/lang/Object;" } : Jvm.MethodName) prog_41_method_3_code (3 : Nat) (Option.some (Jvm.ClassFile.FieldType.object "java/lang/Object"))) ∈ lw_all := lw_g (lw_at lw_m5 190 rfl) rfl
theorem q1225 : (Jvm.Cond.methodLink "java/util/ArrayList$Itr" (31 : Nat) ({ cls := "java/util/ArrayList$Itr", name := "checkForComodification", desc := "()V" } : Jvm.MethodName)) ∈ lw_all := lw_g (lw_at lw_m5 191 rfl) rfl
theorem q1226 : (Jvm.Cond.instanceMethod ({ cls := "java/util/ArrayList$Itr", name := "checkForComodification", desc := "()V" } : Jvm.MethodName)) ∈ lw_all := lw_g (lw_at lw_m5 192 rfl) rfl
theorem q1227 : (Jvm.Cond.sameMethod "java/util/ArrayList$Itr" "java/util/ArrayList$Itr" "checkForComodification" "()V") ∈ lw_all := lw_g (lw_at lw_m5 193 rfl) rfl
theorem q1229 : (Jvm.Cond.code ({ cls := "java/util/ArrayList$Itr", name := "checkForComodification", desc := "()V" } : Jvm.MethodName) prog_41_method_6_code (1 : Nat) (Option.none : Option Jvm.ClassFile.FieldType)) ∈ lw_all := lw_g (lw_at lw_m5 195 rfl) rfl
theorem q1325 : (Jvm.Cond.instanceMethod ({ cls := "java/util/ArrayList$Itr", name := "remove", desc := "()V" } : Jvm.MethodName)) ∈ lw_all := lw_g (lw_at lw_m6 51 rfl) rfl
theorem q1326 : (Jvm.Cond.publicMethod ({ cls := "java/util/ArrayList$Itr", name := "remove", desc := "()V" } : Jvm.MethodName)) ∈ lw_tbl := lw_at lw_m6 52 rfl
theorem q1327 : (Jvm.Cond.codeWith ({ cls := "java/util/ArrayList$Itr", name := "remove", desc := "()V" } : Jvm.MethodName) prog_41_method_4_code (2 : Nat) (Option.none : Option Jvm.ClassFile.FieldType) [((19 : Nat), (55 : Nat), (58 : Nat), (51 : Nat))]) ∈ lw_all := lw_g (lw_at lw_m6 53 rfl) rfl
theorem q1328 : (Jvm.Cond.classLink "java/util/ArrayList$Itr" (44 : Nat) "java/lang/IllegalStateException") ∈ lw_all := lw_g (lw_at lw_m6 54 rfl) rfl
theorem q1329 : (Jvm.Cond.methodLink "java/util/ArrayList$Itr" (46 : Nat) ({ cls := "java/lang/IllegalStateException", name := "<init>", desc := "()V" } : Jvm.MethodName)) ∈ lw_all := lw_g (lw_at lw_m6 55 rfl) rfl
theorem q1330 : (Jvm.Cond.methodLink "java/util/ArrayList$Itr" (47 : Nat) ({ cls := "java/util/ArrayList", name := "remove", desc := "(I)Ljava/lang/Object;" } : Jvm.MethodName)) ∈ lw_all := lw_g (lw_at lw_m6 56 rfl) rfl
theorem q1331 : (Jvm.Cond.classLink "java/util/ArrayList$Itr" (41 : Nat) "java/util/ConcurrentModificationException") ∈ lw_all := lw_g (lw_at lw_m6 57 rfl) rfl
theorem q1332 : (Jvm.Cond.methodLink "java/util/ArrayList$Itr" (43 : Nat) ({ cls := "java/util/ConcurrentModificationException", name := "<init>", desc := "()V" } : Jvm.MethodName)) ∈ lw_all := lw_g (lw_at lw_m6 58 rfl) rfl
/-! java/util/ArrayList$ListItr -/
set_option maxRecDepth 100000
def RJ16 : String := "java/util/ArrayList$ListItr"
def TJ16 : u_T := fun k => match k with
  | 0 => ("java/util/ArrayList$Itr", "cursor", "I", false)
  | 1 => ("java/util/ArrayList$Itr", "lastRet", "I", false)
  | 2 => ("java/util/ArrayList$Itr", "expectedModCount", "I", false)
  | 3 => ("java/util/ArrayList$Itr", "this$0", "Ljava/util/ArrayList;", true)
  | _ => ("java/util/ArrayList$ListItr", "this$0", "Ljava/util/ArrayList;", true)
def tyJ16 : Nat → FieldType := fun k => match k with
  | 0 => .int
  | 1 => .int
  | 2 => .int
  | 3 => .object "java/util/ArrayList"
  | _ => .object "java/util/ArrayList"
abbrev wsJ160 : List Cond := u_ws RJ16 TJ16 5
-- two fields of one name: no nmJ16
theorem tyJ16_ok : ∀ k, k < 5 → parseFieldDescriptor (TJ16 k).2.2.1 = some (tyJ16 k) := by decide +kernel
abbrev cJ16_init : ByteArray := prog_42_method_1_code
def yJ16_init : MethodName := ⟨RJ16, "<init>", "(Ljava/util/ArrayList;I)V"⟩
def dkwJ16_init_0 : List UInt8 := [42, 43, 181, 0, 1, 42, 43, 183, 0, 7, 42, 28, 181, 0, 13, 177]
abbrev dktJ16_init_0 : List UInt8 := dkwJ16_init_0 ++ []
theorem dksJ16_init_0 : cJ16_init.data.toList.drop 0 = dktJ16_init_0 := by decide +kernel
theorem dJ16_init_0 : decode cJ16_init 0 = .ok (.aload_n 0, 1) := dk_42 (dk_at dksJ16_init_0 0 rfl rfl)
theorem dJ16_init_1 : decode cJ16_init 1 = .ok (.aload_n 1, 1) := dk_43 (dk_at dksJ16_init_0 1 rfl rfl)
theorem dJ16_init_2 : decode cJ16_init 2 = .ok (.putfield 1, 3) := dk_181 0 1 (dk_at dksJ16_init_0 2 rfl rfl)
theorem dJ16_init_5 : decode cJ16_init 5 = .ok (.aload_n 0, 1) := dk_42 (dk_at dksJ16_init_0 5 rfl rfl)
theorem dJ16_init_6 : decode cJ16_init 6 = .ok (.aload_n 1, 1) := dk_43 (dk_at dksJ16_init_0 6 rfl rfl)
theorem dJ16_init_7 : decode cJ16_init 7 = .ok (.invokespecial 7, 3) := dk_183 0 7 (dk_at dksJ16_init_0 7 rfl rfl)
theorem dJ16_init_10 : decode cJ16_init 10 = .ok (.aload_n 0, 1) := dk_42 (dk_at dksJ16_init_0 10 rfl rfl)
theorem dJ16_init_11 : decode cJ16_init 11 = .ok (.iload_n 2, 1) := dk_28 (dk_at dksJ16_init_0 11 rfl rfl)
theorem dJ16_init_12 : decode cJ16_init 12 = .ok (.putfield 13, 3) := dk_181 0 13 (dk_at dksJ16_init_0 12 rfl rfl)
theorem dJ16_init_15 : decode cJ16_init 15 = .ok (.return_, 1) := dk_177 (dk_at dksJ16_init_0 15 rfl rfl)
theorem q99 : (Jvm.Cond.initialized "java/util/ArrayList$ListItr") ∈ lw_all := lw_g (lw_at lw_m1 25 rfl) rfl
theorem q549 : (Jvm.Cond.selects "java/util/ArrayList$ListItr" ({ cls := "java/lang/Object", name := "getClass", desc := "()Ljava/lang/Class;" } : Jvm.MethodName) ({ cls := "java/lang/Object", name := "getClass", desc := "()Ljava/lang/Class;" } : Jvm.MethodName)) ∈ lw_all := lw_g (lw_at lw_m2 235 rfl) rfl
theorem q812 : (Jvm.Cond.instantiable "java/util/ArrayList$ListItr" (5 : Nat)) ∈ lw_all := lw_g (lw_at lw_m4 18 rfl) rfl
theorem q814 : (Jvm.Cond.instanceMethod ({ cls := "java/util/ArrayList$ListItr", name := "<init>", desc := "(Ljava/util/ArrayList;I)V" } : Jvm.MethodName)) ∈ lw_all := lw_g (lw_at lw_m4 20 rfl) rfl
theorem q815 : (Jvm.Cond.code ({ cls := "java/util/ArrayList$ListItr", name := "<init>", desc := "(Ljava/util/ArrayList;I)V" } : Jvm.MethodName) prog_42_method_1_code (3 : Nat) (Option.none : Option Jvm.ClassFile.FieldType)) ∈ lw_all := lw_g (lw_at lw_m4 21 rfl) rfl
theorem q816 : (Jvm.Cond.methodLink "java/util/ArrayList$ListItr" (7 : Nat) ({ cls := "java/util/ArrayList$Itr", name := "<init>", desc := "(Ljava/util/ArrayList;)V" } : Jvm.MethodName)) ∈ lw_all := lw_g (lw_at lw_m4 22 rfl) rfl
theorem q820 : (Jvm.Cond.fieldLink "java/util/ArrayList$ListItr" (1 : Nat) "java/util/ArrayList$ListItr" "this$0" "Ljava/util/ArrayList;") ∈ lw_all := lw_g (lw_at lw_m4 26 rfl) rfl
theorem q821 : (Jvm.Cond.fieldLink "java/util/ArrayList$ListItr" (13 : Nat) "java/util/ArrayList$ListItr" "cursor" "I") ∈ lw_all := lw_g (lw_at lw_m4 27 rfl) rfl
theorem q822 : (Jvm.Cond.sameField "java/util/ArrayList$ListItr" "java/util/ArrayList$Itr" "cursor" "I") ∈ lw_all := lw_g (lw_at lw_m4 28 rfl) rfl
theorem q827 : (Jvm.Cond.laysFinal "java/util/ArrayList$ListItr" "java/util/ArrayList$ListItr" "this$0" "Ljava/util/ArrayList;") ∈ lw_all := lw_g (lw_at lw_m4 33 rfl) rfl
theorem q828 : (Jvm.Cond.soleField "java/util/ArrayList$ListItr" "this$0") ∈ lw_all := lw_g (lw_at lw_m4 34 rfl) rfl
theorem q829 : (Jvm.Cond.lays "java/util/ArrayList$ListItr" "java/util/ArrayList$Itr" "cursor" "I") ∈ lw_all := lw_g (lw_at lw_m4 35 rfl) rfl
theorem q831 : (Jvm.Cond.lays "java/util/ArrayList$ListItr" "java/util/ArrayList$Itr" "lastRet" "I") ∈ lw_all := lw_g (lw_at lw_m4 37 rfl) rfl
theorem q833 : (Jvm.Cond.lays "java/util/ArrayList$ListItr" "java/util/ArrayList$Itr" "expectedModCount" "I") ∈ lw_all := lw_g (lw_at lw_m4 39 rfl) rfl
theorem q835 : (Jvm.Cond.laysFinal "java/util/ArrayList$ListItr" "java/util/ArrayList$Itr" "this$0" "Ljava/util/ArrayList;") ∈ lw_all := lw_g (lw_at lw_m4 41 rfl) rfl
theorem q837 : (Jvm.Cond.superclass "java/util/ArrayList$ListItr" "java/util/ArrayList$Itr") ∈ lw_all := lw_g (lw_at lw_m4 43 rfl) rfl
theorem q893 : (Jvm.Cond.castable "java/util/ArrayList$ListItr" "java/util/Iterator") ∈ lw_tbl := lw_at lw_m4 99 rfl
theorem q894 : (Jvm.Cond.selects "java/util/ArrayList$ListItr" ({ cls := "java/util/Iterator", name := "hasNext", desc := "()Z" } : Jvm.MethodName) ({ cls := "java/util/ArrayList$Itr", name := "hasNext", desc := "()Z" } : Jvm.MethodName)) ∈ lw_all := lw_g (lw_at lw_m4 100 rfl) rfl
theorem q895 : (Jvm.Cond.unhidden "java/util/ArrayList$ListItr" "hasNext" "()Z") ∈ lw_tbl := lw_at lw_m4 101 rfl
theorem q1220 : (Jvm.Cond.selects "java/util/ArrayList$ListItr" ({ cls := "java/util/Iterator", name := "next", desc := "()Ljava/lang/Object;" } : Jvm.MethodName) ({ cls := "java/util/ArrayList$Itr", name := "next", desc := "()Ljava/lang/Object;" } : Jvm.MethodName)) ∈ lw_all := lw_g (lw_at lw_m5 186 rfl) rfl
theorem q1221 : (Jvm.Cond.unhidden "java/util/ArrayList$ListItr" "next" "()Ljava/lang/Object;") ∈ lw_tbl := lw_at lw_m5 187 rfl
theorem q1228 : (Jvm.Cond.selects "java/util/ArrayList$ListItr" ({ cls := "java/util/ArrayList$Itr", name := "checkForComodification", desc := "()V" } : Jvm.MethodName) ({ cls := "java/util/ArrayList$Itr", name := "checkForComodification", desc := "()V" } : Jvm.MethodName)) ∈ lw_all := lw_g (lw_at lw_m5 194 rfl) rfl
theorem q1323 : (Jvm.Cond.selects "java/util/ArrayList$ListItr" ({ cls := "java/util/Iterator", name := "remove", desc := "()V" } : Jvm.MethodName) ({ cls := "java/util/ArrayList$Itr", name := "remove", desc := "()V" } : Jvm.MethodName)) ∈ lw_all := lw_g (lw_at lw_m6 49 rfl) rfl
theorem q1324 : (Jvm.Cond.unhidden "java/util/ArrayList$ListItr" "remove" "()V") ∈ lw_tbl := lw_at lw_m6 50 rfl
theorem q2047 : (Jvm.Cond.castable "java/util/ArrayList$ListItr" "java/lang/Object") ∈ lw_tbl := lw_at lw_m9 53 rfl
theorem in_J16 : ∀ w ∈ wsJ160, w ∈ lw_all := lw_in wsJ160 [829, 831, 833, 835, 827] (by decide +kernel) (by decide +kernel)
/-! java/util/LinkedList$ListItr -/
set_option maxRecDepth 100000
def RJ17 : String := "java/util/LinkedList$ListItr"
def TJ17 : u_T := fun k => match k with
  | 0 => ("java/util/LinkedList$ListItr", "lastReturned", "Ljava/util/LinkedList$Node;", false)
  | 1 => ("java/util/LinkedList$ListItr", "next", "Ljava/util/LinkedList$Node;", false)
  | 2 => ("java/util/LinkedList$ListItr", "nextIndex", "I", false)
  | 3 => ("java/util/LinkedList$ListItr", "expectedModCount", "I", false)
  | _ => ("java/util/LinkedList$ListItr", "this$0", "Ljava/util/LinkedList;", true)
def tyJ17 : Nat → FieldType := fun k => match k with
  | 0 => .object "java/util/LinkedList$Node"
  | 1 => .object "java/util/LinkedList$Node"
  | 2 => .int
  | 3 => .int
  | _ => .object "java/util/LinkedList"
abbrev wsJ170 : List Cond := u_ws RJ17 TJ17 5
theorem nmJ17 : ∀ a, a < 5 → ∀ b, b < 5 → a ≠ b → (TJ17 a).2.1 ≠ (TJ17 b).2.1 := by decide +kernel
theorem tyJ17_ok : ∀ k, k < 5 → parseFieldDescriptor (TJ17 k).2.2.1 = some (tyJ17 k) := by decide +kernel
abbrev cJ17_init : ByteArray := prog_50_method_1_code
def yJ17_init : MethodName := ⟨RJ17, "<init>", "(Ljava/util/LinkedList;I)V"⟩
def dkwJ17_init_1 : List UInt8 := [180, 0, 22, 160, 0, 7, 1, 167, 0, 8, 43, 28, 182, 0, 25, 181, 0, 29, 42, 28, 181, 0, 33, 177]
abbrev dktJ17_init_1 : List UInt8 := dkwJ17_init_1 ++ []
def dkwJ17_init_0 : List UInt8 := [42, 43, 181, 0, 1, 42, 183, 0, 7, 42, 42, 180, 0, 1, 180, 0, 13, 181, 0, 19, 42, 28, 43]
abbrev dktJ17_init_0 : List UInt8 := dkwJ17_init_0 ++ dktJ17_init_1
theorem dksJ17_init_0 : cJ17_init.data.toList.drop 0 = dktJ17_init_0 := by decide +kernel
theorem dksJ17_init_1 : cJ17_init.data.toList.drop 23 = dktJ17_init_1 := dk_seg dksJ17_init_0 23 rfl rfl
theorem dJ17_init_0 : decode cJ17_init 0 = .ok (.aload_n 0, 1) := dk_42 (dk_at dksJ17_init_0 0 rfl rfl)
theorem dJ17_init_1 : decode cJ17_init 1 = .ok (.aload_n 1, 1) := dk_43 (dk_at dksJ17_init_0 1 rfl rfl)
theorem dJ17_init_2 : decode cJ17_init 2 = .ok (.putfield 1, 3) := dk_181 0 1 (dk_at dksJ17_init_0 2 rfl rfl)
theorem dJ17_init_5 : decode cJ17_init 5 = .ok (.aload_n 0, 1) := dk_42 (dk_at dksJ17_init_0 5 rfl rfl)
theorem dJ17_init_6 : decode cJ17_init 6 = .ok (.invokespecial 7, 3) := dk_183 0 7 (dk_at dksJ17_init_0 6 rfl rfl)
theorem dJ17_init_9 : decode cJ17_init 9 = .ok (.aload_n 0, 1) := dk_42 (dk_at dksJ17_init_0 9 rfl rfl)
theorem dJ17_init_10 : decode cJ17_init 10 = .ok (.aload_n 0, 1) := dk_42 (dk_at dksJ17_init_0 10 rfl rfl)
theorem dJ17_init_11 : decode cJ17_init 11 = .ok (.getfield 1, 3) := dk_180 0 1 (dk_at dksJ17_init_0 11 rfl rfl)
theorem dJ17_init_14 : decode cJ17_init 14 = .ok (.getfield 13, 3) := dk_180 0 13 (dk_at dksJ17_init_0 14 rfl rfl)
theorem dJ17_init_17 : decode cJ17_init 17 = .ok (.putfield 19, 3) := dk_181 0 19 (dk_at dksJ17_init_0 17 rfl rfl)
theorem dJ17_init_20 : decode cJ17_init 20 = .ok (.aload_n 0, 1) := dk_42 (dk_at dksJ17_init_0 20 rfl rfl)
theorem dJ17_init_21 : decode cJ17_init 21 = .ok (.iload_n 2, 1) := dk_28 (dk_at dksJ17_init_0 21 rfl rfl)
theorem dJ17_init_22 : decode cJ17_init 22 = .ok (.aload_n 1, 1) := dk_43 (dk_at dksJ17_init_0 22 rfl rfl)
theorem dJ17_init_23 : decode cJ17_init 23 = .ok (.getfield 22, 3) := dk_180 0 22 (dk_at dksJ17_init_1 0 rfl rfl)
theorem dJ17_init_26 : decode cJ17_init 26 = .ok (.if_icmp .ne 7, 3) := dk_160 0 7 (dk_at dksJ17_init_1 3 rfl rfl)
theorem dJ17_init_29 : decode cJ17_init 29 = .ok (.aconst_null, 1) := dk_1 (dk_at dksJ17_init_1 6 rfl rfl)
theorem dJ17_init_30 : decode cJ17_init 30 = .ok (.goto 8, 3) := dk_167 0 8 (dk_at dksJ17_init_1 7 rfl rfl)
theorem dJ17_init_33 : decode cJ17_init 33 = .ok (.aload_n 1, 1) := dk_43 (dk_at dksJ17_init_1 10 rfl rfl)
theorem dJ17_init_34 : decode cJ17_init 34 = .ok (.iload_n 2, 1) := dk_28 (dk_at dksJ17_init_1 11 rfl rfl)
theorem dJ17_init_35 : decode cJ17_init 35 = .ok (.invokevirtual 25, 3) := dk_182 0 25 (dk_at dksJ17_init_1 12 rfl rfl)
theorem dJ17_init_38 : decode cJ17_init 38 = .ok (.putfield 29, 3) := dk_181 0 29 (dk_at dksJ17_init_1 15 rfl rfl)
theorem dJ17_init_41 : decode cJ17_init 41 = .ok (.aload_n 0, 1) := dk_42 (dk_at dksJ17_init_1 18 rfl rfl)
theorem dJ17_init_42 : decode cJ17_init 42 = .ok (.iload_n 2, 1) := dk_28 (dk_at dksJ17_init_1 19 rfl rfl)
theorem dJ17_init_43 : decode cJ17_init 43 = .ok (.putfield 33, 3) := dk_181 0 33 (dk_at dksJ17_init_1 20 rfl rfl)
theorem dJ17_init_46 : decode cJ17_init 46 = .ok (.return_, 1) := dk_177 (dk_at dksJ17_init_1 23 rfl rfl)
abbrev cJ17_hasNext : ByteArray := prog_50_method_2_code
def yJ17_hasNext : MethodName := ⟨RJ17, "hasNext", "()Z"⟩
def dkwJ17_hasNext_0 : List UInt8 := [42, 180, 0, 33, 42, 180, 0, 1, 180, 0, 22, 162, 0, 7, 4, 167, 0, 4, 3, 172]
abbrev dktJ17_hasNext_0 : List UInt8 := dkwJ17_hasNext_0 ++ []
theorem dksJ17_hasNext_0 : cJ17_hasNext.data.toList.drop 0 = dktJ17_hasNext_0 := by decide +kernel
theorem dJ17_hasNext_0 : decode cJ17_hasNext 0 = .ok (.aload_n 0, 1) := dk_42 (dk_at dksJ17_hasNext_0 0 rfl rfl)
theorem dJ17_hasNext_1 : decode cJ17_hasNext 1 = .ok (.getfield 33, 3) := dk_180 0 33 (dk_at dksJ17_hasNext_0 1 rfl rfl)
theorem dJ17_hasNext_4 : decode cJ17_hasNext 4 = .ok (.aload_n 0, 1) := dk_42 (dk_at dksJ17_hasNext_0 4 rfl rfl)
theorem dJ17_hasNext_5 : decode cJ17_hasNext 5 = .ok (.getfield 1, 3) := dk_180 0 1 (dk_at dksJ17_hasNext_0 5 rfl rfl)
theorem dJ17_hasNext_8 : decode cJ17_hasNext 8 = .ok (.getfield 22, 3) := dk_180 0 22 (dk_at dksJ17_hasNext_0 8 rfl rfl)
theorem dJ17_hasNext_11 : decode cJ17_hasNext 11 = .ok (.if_icmp .ge 7, 3) := dk_162 0 7 (dk_at dksJ17_hasNext_0 11 rfl rfl)
theorem dJ17_hasNext_14 : decode cJ17_hasNext 14 = .ok (.iconst 1, 1) := dk_4 (dk_at dksJ17_hasNext_0 14 rfl rfl)
theorem dJ17_hasNext_15 : decode cJ17_hasNext 15 = .ok (.goto 4, 3) := dk_167 0 4 (dk_at dksJ17_hasNext_0 15 rfl rfl)
theorem dJ17_hasNext_18 : decode cJ17_hasNext 18 = .ok (.iconst 0, 1) := dk_3 (dk_at dksJ17_hasNext_0 18 rfl rfl)
theorem dJ17_hasNext_19 : decode cJ17_hasNext 19 = .ok (.ireturn, 1) := dk_172 (dk_at dksJ17_hasNext_0 19 rfl rfl)
abbrev cJ17_next : ByteArray := prog_50_method_3_code
def yJ17_next : MethodName := ⟨RJ17, "next", "()Ljava/lang/Object;"⟩
def dkwJ17_next_2 : List UInt8 := [42, 180, 0, 46, 180, 0, 52, 176]
abbrev dktJ17_next_2 : List UInt8 := dkwJ17_next_2 ++ []
def dkwJ17_next_1 : List UInt8 := [181, 0, 46, 42, 42, 180, 0, 29, 180, 0, 49, 181, 0, 29, 42, 89, 180, 0, 33, 4, 96, 181, 0, 33]
abbrev dktJ17_next_1 : List UInt8 := dkwJ17_next_1 ++ dktJ17_next_2
def dkwJ17_next_0 : List UInt8 := [42, 182, 0, 36, 42, 182, 0, 39, 154, 0, 11, 187, 0, 43, 89, 183, 0, 45, 191, 42, 42, 180, 0, 29]
abbrev dktJ17_next_0 : List UInt8 := dkwJ17_next_0 ++ dktJ17_next_1
theorem dksJ17_next_0 : cJ17_next.data.toList.drop 0 = dktJ17_next_0 := by decide +kernel
theorem dksJ17_next_1 : cJ17_next.data.toList.drop 24 = dktJ17_next_1 := dk_seg dksJ17_next_0 24 rfl rfl
theorem dksJ17_next_2 : cJ17_next.data.toList.drop 48 = dktJ17_next_2 := dk_seg dksJ17_next_1 24 rfl rfl
theorem dJ17_next_0 : decode cJ17_next 0 = .ok (.aload_n 0, 1) := dk_42 (dk_at dksJ17_next_0 0 rfl rfl)
theorem dJ17_next_1 : decode cJ17_next 1 = .ok (.invokevirtual 36, 3) := dk_182 0 36 (dk_at dksJ17_next_0 1 rfl rfl)
theorem dJ17_next_4 : decode cJ17_next 4 = .ok (.aload_n 0, 1) := dk_42 (dk_at dksJ17_next_0 4 rfl rfl)
theorem dJ17_next_5 : decode cJ17_next 5 = .ok (.invokevirtual 39, 3) := dk_182 0 39 (dk_at dksJ17_next_0 5 rfl rfl)
theorem dJ17_next_8 : decode cJ17_next 8 = .ok (.ifCond .ne 11, 3) := dk_154 0 11 (dk_at dksJ17_next_0 8 rfl rfl)
theorem dJ17_next_11 : decode cJ17_next 11 = .ok (.new 43, 3) := dk_187 0 43 (dk_at dksJ17_next_0 11 rfl rfl)
theorem dJ17_next_14 : decode cJ17_next 14 = .ok (.dup, 1) := dk_89 (dk_at dksJ17_next_0 14 rfl rfl)
theorem dJ17_next_15 : decode cJ17_next 15 = .ok (.invokespecial 45, 3) := dk_183 0 45 (dk_at dksJ17_next_0 15 rfl rfl)
theorem dJ17_next_18 : decode cJ17_next 18 = .ok (.athrow, 1) := dk_191 (dk_at dksJ17_next_0 18 rfl rfl)
theorem dJ17_next_19 : decode cJ17_next 19 = .ok (.aload_n 0, 1) := dk_42 (dk_at dksJ17_next_0 19 rfl rfl)
theorem dJ17_next_20 : decode cJ17_next 20 = .ok (.aload_n 0, 1) := dk_42 (dk_at dksJ17_next_0 20 rfl rfl)
theorem dJ17_next_21 : decode cJ17_next 21 = .ok (.getfield 29, 3) := dk_180 0 29 (dk_at dksJ17_next_0 21 rfl rfl)
theorem dJ17_next_24 : decode cJ17_next 24 = .ok (.putfield 46, 3) := dk_181 0 46 (dk_at dksJ17_next_1 0 rfl rfl)
theorem dJ17_next_27 : decode cJ17_next 27 = .ok (.aload_n 0, 1) := dk_42 (dk_at dksJ17_next_1 3 rfl rfl)
theorem dJ17_next_28 : decode cJ17_next 28 = .ok (.aload_n 0, 1) := dk_42 (dk_at dksJ17_next_1 4 rfl rfl)
theorem dJ17_next_29 : decode cJ17_next 29 = .ok (.getfield 29, 3) := dk_180 0 29 (dk_at dksJ17_next_1 5 rfl rfl)
theorem dJ17_next_32 : decode cJ17_next 32 = .ok (.getfield 49, 3) := dk_180 0 49 (dk_at dksJ17_next_1 8 rfl rfl)
theorem dJ17_next_35 : decode cJ17_next 35 = .ok (.putfield 29, 3) := dk_181 0 29 (dk_at dksJ17_next_1 11 rfl rfl)
theorem dJ17_next_38 : decode cJ17_next 38 = .ok (.aload_n 0, 1) := dk_42 (dk_at dksJ17_next_1 14 rfl rfl)
theorem dJ17_next_39 : decode cJ17_next 39 = .ok (.dup, 1) := dk_89 (dk_at dksJ17_next_1 15 rfl rfl)
theorem dJ17_next_40 : decode cJ17_next 40 = .ok (.getfield 33, 3) := dk_180 0 33 (dk_at dksJ17_next_1 16 rfl rfl)
theorem dJ17_next_43 : decode cJ17_next 43 = .ok (.iconst 1, 1) := dk_4 (dk_at dksJ17_next_1 19 rfl rfl)
theorem dJ17_next_44 : decode cJ17_next 44 = .ok (.iadd, 1) := dk_96 (dk_at dksJ17_next_1 20 rfl rfl)
theorem dJ17_next_45 : decode cJ17_next 45 = .ok (.putfield 33, 3) := dk_181 0 33 (dk_at dksJ17_next_1 21 rfl rfl)
theorem dJ17_next_48 : decode cJ17_next 48 = .ok (.aload_n 0, 1) := dk_42 (dk_at dksJ17_next_2 0 rfl rfl)
theorem dJ17_next_49 : decode cJ17_next 49 = .ok (.getfield 46, 3) := dk_180 0 46 (dk_at dksJ17_next_2 1 rfl rfl)
theorem dJ17_next_52 : decode cJ17_next 52 = .ok (.getfield 52, 3) := dk_180 0 52 (dk_at dksJ17_next_2 4 rfl rfl)
theorem dJ17_next_55 : decode cJ17_next 55 = .ok (.areturn, 1) := dk_176 (dk_at dksJ17_next_2 7 rfl rfl)
abbrev cJ17_checkForComodification : ByteArray := prog_50_method_12_code
def yJ17_checkForComodification : MethodName := ⟨RJ17, "checkForComodification", "()V"⟩
def dkwJ17_checkForComodification_0 : List UInt8 := [42, 180, 0, 1, 180, 0, 13, 42, 180, 0, 19, 159, 0, 11, 187, 0, 91, 89, 183, 0, 93, 191, 177]
abbrev dktJ17_checkForComodification_0 : List UInt8 := dkwJ17_checkForComodification_0 ++ []
theorem dksJ17_checkForComodification_0 : cJ17_checkForComodification.data.toList.drop 0 = dktJ17_checkForComodification_0 := by decide +kernel
theorem dJ17_checkForComodification_0 : decode cJ17_checkForComodification 0 = .ok (.aload_n 0, 1) := dk_42 (dk_at dksJ17_checkForComodification_0 0 rfl rfl)
theorem dJ17_checkForComodification_1 : decode cJ17_checkForComodification 1 = .ok (.getfield 1, 3) := dk_180 0 1 (dk_at dksJ17_checkForComodification_0 1 rfl rfl)
theorem dJ17_checkForComodification_4 : decode cJ17_checkForComodification 4 = .ok (.getfield 13, 3) := dk_180 0 13 (dk_at dksJ17_checkForComodification_0 4 rfl rfl)
theorem dJ17_checkForComodification_7 : decode cJ17_checkForComodification 7 = .ok (.aload_n 0, 1) := dk_42 (dk_at dksJ17_checkForComodification_0 7 rfl rfl)
theorem dJ17_checkForComodification_8 : decode cJ17_checkForComodification 8 = .ok (.getfield 19, 3) := dk_180 0 19 (dk_at dksJ17_checkForComodification_0 8 rfl rfl)
theorem dJ17_checkForComodification_11 : decode cJ17_checkForComodification 11 = .ok (.if_icmp .eq 11, 3) := dk_159 0 11 (dk_at dksJ17_checkForComodification_0 11 rfl rfl)
theorem dJ17_checkForComodification_14 : decode cJ17_checkForComodification 14 = .ok (.new 91, 3) := dk_187 0 91 (dk_at dksJ17_checkForComodification_0 14 rfl rfl)
theorem dJ17_checkForComodification_17 : decode cJ17_checkForComodification 17 = .ok (.dup, 1) := dk_89 (dk_at dksJ17_checkForComodification_0 17 rfl rfl)
theorem dJ17_checkForComodification_18 : decode cJ17_checkForComodification 18 = .ok (.invokespecial 93, 3) := dk_183 0 93 (dk_at dksJ17_checkForComodification_0 18 rfl rfl)
theorem dJ17_checkForComodification_21 : decode cJ17_checkForComodification 21 = .ok (.athrow, 1) := dk_191 (dk_at dksJ17_checkForComodification_0 21 rfl rfl)
theorem dJ17_checkForComodification_22 : decode cJ17_checkForComodification 22 = .ok (.return_, 1) := dk_177 (dk_at dksJ17_checkForComodification_0 22 rfl rfl)
abbrev cJ17_remove : ByteArray := prog_50_method_8_code
def yJ17_remove : MethodName := ⟨RJ17, "remove", "()V"⟩
def dkwJ17_remove_3 : List UInt8 := [181, 0, 46, 42, 89, 180, 0, 19, 4, 96, 181, 0, 19, 177]
abbrev dktJ17_remove_3 : List UInt8 := dkwJ17_remove_3 ++ []
def dkwJ17_remove_2 : List UInt8 := [166, 0, 11, 42, 43, 181, 0, 29, 167, 0, 13, 42, 89, 180, 0, 33, 4, 100, 181, 0, 33, 42, 1]
abbrev dktJ17_remove_2 : List UInt8 := dkwJ17_remove_2 ++ dktJ17_remove_3
def dkwJ17_remove_1 : List UInt8 := [180, 0, 49, 76, 42, 180, 0, 1, 42, 180, 0, 46, 182, 0, 68, 87, 42, 180, 0, 29, 42, 180, 0, 46]
abbrev dktJ17_remove_1 : List UInt8 := dkwJ17_remove_1 ++ dktJ17_remove_2
def dkwJ17_remove_0 : List UInt8 := [42, 182, 0, 36, 42, 180, 0, 46, 199, 0, 11, 187, 0, 65, 89, 183, 0, 67, 191, 42, 180, 0, 46]
abbrev dktJ17_remove_0 : List UInt8 := dkwJ17_remove_0 ++ dktJ17_remove_1
theorem dksJ17_remove_0 : cJ17_remove.data.toList.drop 0 = dktJ17_remove_0 := by decide +kernel
theorem dksJ17_remove_1 : cJ17_remove.data.toList.drop 23 = dktJ17_remove_1 := dk_seg dksJ17_remove_0 23 rfl rfl
theorem dksJ17_remove_2 : cJ17_remove.data.toList.drop 47 = dktJ17_remove_2 := dk_seg dksJ17_remove_1 24 rfl rfl
theorem dksJ17_remove_3 : cJ17_remove.data.toList.drop 70 = dktJ17_remove_3 := dk_seg dksJ17_remove_2 23 rfl rfl
theorem dJ17_remove_0 : decode cJ17_remove 0 = .ok (.aload_n 0, 1) := dk_42 (dk_at dksJ17_remove_0 0 rfl rfl)
theorem dJ17_remove_1 : decode cJ17_remove 1 = .ok (.invokevirtual 36, 3) := dk_182 0 36 (dk_at dksJ17_remove_0 1 rfl rfl)
theorem dJ17_remove_4 : decode cJ17_remove 4 = .ok (.aload_n 0, 1) := dk_42 (dk_at dksJ17_remove_0 4 rfl rfl)
theorem dJ17_remove_5 : decode cJ17_remove 5 = .ok (.getfield 46, 3) := dk_180 0 46 (dk_at dksJ17_remove_0 5 rfl rfl)
theorem dJ17_remove_8 : decode cJ17_remove 8 = .ok (.ifnonnull 11, 3) := dk_199 0 11 (dk_at dksJ17_remove_0 8 rfl rfl)
theorem dJ17_remove_11 : decode cJ17_remove 11 = .ok (.new 65, 3) := dk_187 0 65 (dk_at dksJ17_remove_0 11 rfl rfl)
theorem dJ17_remove_14 : decode cJ17_remove 14 = .ok (.dup, 1) := dk_89 (dk_at dksJ17_remove_0 14 rfl rfl)
theorem dJ17_remove_15 : decode cJ17_remove 15 = .ok (.invokespecial 67, 3) := dk_183 0 67 (dk_at dksJ17_remove_0 15 rfl rfl)
theorem dJ17_remove_18 : decode cJ17_remove 18 = .ok (.athrow, 1) := dk_191 (dk_at dksJ17_remove_0 18 rfl rfl)
theorem dJ17_remove_19 : decode cJ17_remove 19 = .ok (.aload_n 0, 1) := dk_42 (dk_at dksJ17_remove_0 19 rfl rfl)
theorem dJ17_remove_20 : decode cJ17_remove 20 = .ok (.getfield 46, 3) := dk_180 0 46 (dk_at dksJ17_remove_0 20 rfl rfl)
theorem dJ17_remove_23 : decode cJ17_remove 23 = .ok (.getfield 49, 3) := dk_180 0 49 (dk_at dksJ17_remove_1 0 rfl rfl)
theorem dJ17_remove_26 : decode cJ17_remove 26 = .ok (.astore_n 1, 1) := dk_76 (dk_at dksJ17_remove_1 3 rfl rfl)
theorem dJ17_remove_27 : decode cJ17_remove 27 = .ok (.aload_n 0, 1) := dk_42 (dk_at dksJ17_remove_1 4 rfl rfl)
theorem dJ17_remove_28 : decode cJ17_remove 28 = .ok (.getfield 1, 3) := dk_180 0 1 (dk_at dksJ17_remove_1 5 rfl rfl)
theorem dJ17_remove_31 : decode cJ17_remove 31 = .ok (.aload_n 0, 1) := dk_42 (dk_at dksJ17_remove_1 8 rfl rfl)
theorem dJ17_remove_32 : decode cJ17_remove 32 = .ok (.getfield 46, 3) := dk_180 0 46 (dk_at dksJ17_remove_1 9 rfl rfl)
theorem dJ17_remove_35 : decode cJ17_remove 35 = .ok (.invokevirtual 68, 3) := dk_182 0 68 (dk_at dksJ17_remove_1 12 rfl rfl)
theorem dJ17_remove_38 : decode cJ17_remove 38 = .ok (.pop, 1) := dk_87 (dk_at dksJ17_remove_1 15 rfl rfl)
theorem dJ17_remove_39 : decode cJ17_remove 39 = .ok (.aload_n 0, 1) := dk_42 (dk_at dksJ17_remove_1 16 rfl rfl)
theorem dJ17_remove_40 : decode cJ17_remove 40 = .ok (.getfield 29, 3) := dk_180 0 29 (dk_at dksJ17_remove_1 17 rfl rfl)
theorem dJ17_remove_43 : decode cJ17_remove 43 = .ok (.aload_n 0, 1) := dk_42 (dk_at dksJ17_remove_1 20 rfl rfl)
theorem dJ17_remove_44 : decode cJ17_remove 44 = .ok (.getfield 46, 3) := dk_180 0 46 (dk_at dksJ17_remove_1 21 rfl rfl)
theorem dJ17_remove_47 : decode cJ17_remove 47 = .ok (.if_acmp .ne 11, 3) := dk_166 0 11 (dk_at dksJ17_remove_2 0 rfl rfl)
theorem dJ17_remove_50 : decode cJ17_remove 50 = .ok (.aload_n 0, 1) := dk_42 (dk_at dksJ17_remove_2 3 rfl rfl)
theorem dJ17_remove_51 : decode cJ17_remove 51 = .ok (.aload_n 1, 1) := dk_43 (dk_at dksJ17_remove_2 4 rfl rfl)
theorem dJ17_remove_52 : decode cJ17_remove 52 = .ok (.putfield 29, 3) := dk_181 0 29 (dk_at dksJ17_remove_2 5 rfl rfl)
theorem dJ17_remove_55 : decode cJ17_remove 55 = .ok (.goto 13, 3) := dk_167 0 13 (dk_at dksJ17_remove_2 8 rfl rfl)
theorem dJ17_remove_58 : decode cJ17_remove 58 = .ok (.aload_n 0, 1) := dk_42 (dk_at dksJ17_remove_2 11 rfl rfl)
theorem dJ17_remove_59 : decode cJ17_remove 59 = .ok (.dup, 1) := dk_89 (dk_at dksJ17_remove_2 12 rfl rfl)
theorem dJ17_remove_60 : decode cJ17_remove 60 = .ok (.getfield 33, 3) := dk_180 0 33 (dk_at dksJ17_remove_2 13 rfl rfl)
theorem dJ17_remove_63 : decode cJ17_remove 63 = .ok (.iconst 1, 1) := dk_4 (dk_at dksJ17_remove_2 16 rfl rfl)
theorem dJ17_remove_64 : decode cJ17_remove 64 = .ok (.isub, 1) := dk_100 (dk_at dksJ17_remove_2 17 rfl rfl)
theorem dJ17_remove_65 : decode cJ17_remove 65 = .ok (.putfield 33, 3) := dk_181 0 33 (dk_at dksJ17_remove_2 18 rfl rfl)
theorem dJ17_remove_68 : decode cJ17_remove 68 = .ok (.aload_n 0, 1) := dk_42 (dk_at dksJ17_remove_2 21 rfl rfl)
theorem dJ17_remove_69 : decode cJ17_remove 69 = .ok (.aconst_null, 1) := dk_1 (dk_at dksJ17_remove_2 22 rfl rfl)
theorem dJ17_remove_70 : decode cJ17_remove 70 = .ok (.putfield 46, 3) := dk_181 0 46 (dk_at dksJ17_remove_3 0 rfl rfl)
theorem dJ17_remove_73 : decode cJ17_remove 73 = .ok (.aload_n 0, 1) := dk_42 (dk_at dksJ17_remove_3 3 rfl rfl)
theorem dJ17_remove_74 : decode cJ17_remove 74 = .ok (.dup, 1) := dk_89 (dk_at dksJ17_remove_3 4 rfl rfl)
theorem dJ17_remove_75 : decode cJ17_remove 75 = .ok (.getfield 19, 3) := dk_180 0 19 (dk_at dksJ17_remove_3 5 rfl rfl)
theorem dJ17_remove_78 : decode cJ17_remove 78 = .ok (.iconst 1, 1) := dk_4 (dk_at dksJ17_remove_3 8 rfl rfl)
theorem dJ17_remove_79 : decode cJ17_remove 79 = .ok (.iadd, 1) := dk_96 (dk_at dksJ17_remove_3 9 rfl rfl)
theorem dJ17_remove_80 : decode cJ17_remove 80 = .ok (.putfield 19, 3) := dk_181 0 19 (dk_at dksJ17_remove_3 10 rfl rfl)
theorem dJ17_remove_83 : decode cJ17_remove 83 = .ok (.return_, 1) := dk_177 (dk_at dksJ17_remove_3 13 rfl rfl)
theorem q100 : (Jvm.Cond.initialized "java/util/LinkedList$ListItr") ∈ lw_all := lw_g (lw_at lw_m1 26 rfl) rfl
theorem q145 : (Jvm.Cond.fieldLink "java/util/LinkedList$ListItr" (22 : Nat) "java/util/LinkedList" "size" "I") ∈ lw_all := lw_g (lw_at lw_m1 71 rfl) rfl
theorem q149 : (Jvm.Cond.fieldLink "java/util/LinkedList$ListItr" (13 : Nat) "java/util/LinkedList" "modCount" "I") ∈ lw_all := lw_g (lw_at lw_m1 75 rfl) rfl
theorem q553 : (Jvm.Cond.selects "java/util/LinkedList$ListItr" ({ cls := "java/lang/Object", name := "getClass", desc := "()Ljava/lang/Class;" } : Jvm.MethodName) ({ cls := "java/lang/Object", name := "getClass", desc := "()Ljava/lang/Class;" } : Jvm.MethodName)) ∈ lw_all := lw_g (lw_at lw_m2 239 rfl) rfl
theorem q643 : (Jvm.Cond.fieldLink "java/util/LinkedList$ListItr" (52 : Nat) "java/util/LinkedList$Node" "item" "Ljava/lang/Object;") ∈ lw_all := lw_g (lw_at lw_m3 89 rfl) rfl
theorem q646 : (Jvm.Cond.fieldLink "java/util/LinkedList$ListItr" (49 : Nat) "java/util/LinkedList$Node" "next" "Ljava/util/LinkedList$Node;") ∈ lw_all := lw_g (lw_at lw_m3 92 rfl) rfl
theorem q850 : (Jvm.Cond.instantiable "java/util/LinkedList$ListItr" (5 : Nat)) ∈ lw_all := lw_g (lw_at lw_m4 56 rfl) rfl
theorem q852 : (Jvm.Cond.instanceMethod ({ cls := "java/util/LinkedList$ListItr", name := "<init>", desc := "(Ljava/util/LinkedList;I)V" } : Jvm.MethodName)) ∈ lw_all := lw_g (lw_at lw_m4 58 rfl) rfl
theorem q853 : (Jvm.Cond.code ({ cls := "java/util/LinkedList$ListItr", name := "<init>", desc := "(Ljava/util/LinkedList;I)V" } : Jvm.MethodName) prog_50_method_1_code (3 : Nat) (Option.none : Option Jvm.ClassFile.FieldType)) ∈ lw_all := lw_g (lw_at lw_m4 59 rfl) rfl
theorem q854 : (Jvm.Cond.methodLink "java/util/LinkedList$ListItr" (7 : Nat) ({ cls := "java/lang/Object", name := "<init>", desc := "()V" } : Jvm.MethodName)) ∈ lw_all := lw_g (lw_at lw_m4 60 rfl) rfl
theorem q855 : (Jvm.Cond.methodLink "java/util/LinkedList$ListItr" (25 : Nat) ({ cls := "java/util/LinkedList", name := "node", desc := "(I)Ljava/util/LinkedList$Node;" } : Jvm.MethodName)) ∈ lw_all := lw_g (lw_at lw_m4 61 rfl) rfl
theorem q856 : (Jvm.Cond.fieldLink "java/util/LinkedList$ListItr" (46 : Nat) "java/util/LinkedList$ListItr" "lastReturned" "Ljava/util/LinkedList$Node;") ∈ lw_all := lw_g (lw_at lw_m4 62 rfl) rfl
theorem q857 : (Jvm.Cond.fieldLink "java/util/LinkedList$ListItr" (29 : Nat) "java/util/LinkedList$ListItr" "next" "Ljava/util/LinkedList$Node;") ∈ lw_all := lw_g (lw_at lw_m4 63 rfl) rfl
theorem q858 : (Jvm.Cond.fieldLink "java/util/LinkedList$ListItr" (33 : Nat) "java/util/LinkedList$ListItr" "nextIndex" "I") ∈ lw_all := lw_g (lw_at lw_m4 64 rfl) rfl
theorem q859 : (Jvm.Cond.fieldLink "java/util/LinkedList$ListItr" (19 : Nat) "java/util/LinkedList$ListItr" "expectedModCount" "I") ∈ lw_all := lw_g (lw_at lw_m4 65 rfl) rfl
theorem q860 : (Jvm.Cond.fieldLink "java/util/LinkedList$ListItr" (1 : Nat) "java/util/LinkedList$ListItr" "this$0" "Ljava/util/LinkedList;") ∈ lw_all := lw_g (lw_at lw_m4 66 rfl) rfl
theorem q861 : (Jvm.Cond.lays "java/util/LinkedList$ListItr" "java/util/LinkedList$ListItr" "lastReturned" "Ljava/util/LinkedList$Node;") ∈ lw_all := lw_g (lw_at lw_m4 67 rfl) rfl
theorem q862 : (Jvm.Cond.soleField "java/util/LinkedList$ListItr" "lastReturned") ∈ lw_all := lw_g (lw_at lw_m4 68 rfl) rfl
theorem q863 : (Jvm.Cond.lays "java/util/LinkedList$ListItr" "java/util/LinkedList$ListItr" "next" "Ljava/util/LinkedList$Node;") ∈ lw_all := lw_g (lw_at lw_m4 69 rfl) rfl
theorem q864 : (Jvm.Cond.soleField "java/util/LinkedList$ListItr" "next") ∈ lw_all := lw_g (lw_at lw_m4 70 rfl) rfl
theorem q865 : (Jvm.Cond.lays "java/util/LinkedList$ListItr" "java/util/LinkedList$ListItr" "nextIndex" "I") ∈ lw_all := lw_g (lw_at lw_m4 71 rfl) rfl
theorem q866 : (Jvm.Cond.soleField "java/util/LinkedList$ListItr" "nextIndex") ∈ lw_all := lw_g (lw_at lw_m4 72 rfl) rfl
theorem q867 : (Jvm.Cond.lays "java/util/LinkedList$ListItr" "java/util/LinkedList$ListItr" "expectedModCount" "I") ∈ lw_all := lw_g (lw_at lw_m4 73 rfl) rfl
theorem q868 : (Jvm.Cond.soleField "java/util/LinkedList$ListItr" "expectedModCount") ∈ lw_all := lw_g (lw_at lw_m4 74 rfl) rfl
theorem q869 : (Jvm.Cond.laysFinal "java/util/LinkedList$ListItr" "java/util/LinkedList$ListItr" "this$0" "Ljava/util/LinkedList;") ∈ lw_all := lw_g (lw_at lw_m4 75 rfl) rfl
theorem q870 : (Jvm.Cond.soleField "java/util/LinkedList$ListItr" "this$0") ∈ lw_all := lw_g (lw_at lw_m4 76 rfl) rfl
theorem q871 : (Jvm.Cond.superclass "java/util/LinkedList$ListItr" "java/lang/Object") ∈ lw_all := lw_g (lw_at lw_m4 77 rfl) rfl
theorem q899 : (Jvm.Cond.castable "java/util/LinkedList$ListItr" "java/util/Iterator") ∈ lw_tbl := lw_at lw_m4 105 rfl
theorem q900 : (Jvm.Cond.selects "java/util/LinkedList$ListItr" ({ cls := "java/util/Iterator", name := "hasNext", desc := "()Z" } : Jvm.MethodName) ({ cls := "java/util/LinkedList$ListItr", name := "hasNext", desc := "()Z" } : Jvm.MethodName)) ∈ lw_all := lw_g (lw_at lw_m4 106 rfl) rfl
theorem q901 : (Jvm.Cond.unhidden "java/util/LinkedList$ListItr" "hasNext" "()Z") ∈ lw_tbl := lw_at lw_m4 107 rfl
theorem q902 : (Jvm.Cond.instanceMethod ({ cls := "java/util/LinkedList$ListItr", name := "hasNext", desc := "()Z" } : Jvm.MethodName)) ∈ lw_all := lw_g (lw_at lw_m4 108 rfl) rfl
theorem q903 : (Jvm.Cond.publicMethod ({ cls := "java/util/LinkedList$ListItr", name := "hasNext", desc := "()Z" } : Jvm.MethodName)) ∈ lw_tbl := lw_at lw_m4 109 rfl
theorem q904 : (Jvm.Cond.code ({ cls := "java/util/LinkedList$ListItr", name := "hasNext", desc := "()Z" } : Jvm.MethodName) prog_50_method_2_code (1 : Nat) (Option.some Jvm.ClassFile.FieldType.boolean)) ∈ lw_all := lw_g (lw_at lw_m4 110 rfl) rfl
theorem q1230 : (Jvm.Cond.selects "java/util/LinkedList$ListItr" ({ cls := "java/util/Iterator", name := "next", desc := "()Ljava/lang/Object;" } : Jvm.MethodName) ({ cls := "java/util/LinkedList$ListItr", name := "next", desc := "()Ljava/lang/Object;" } : Jvm.MethodName)) ∈ lw_all := lw_g (lw_at lw_m5 196 rfl) rfl
theorem q1231 : (Jvm.Cond.unhidden "java/util/LinkedList$ListItr" "next" "()Ljava/lang/Object;") ∈ lw_tbl := lw_at lw_m5 197 rfl
theorem q1232 : (Jvm.Cond.instanceMethod ({ cls := "java/util/LinkedList$ListItr", name := "next", desc := "()Ljava/lang/Object;" } : Jvm.MethodName)) ∈ lw_all := lw_g (lw_at lw_m5 198 rfl) rfl
theorem q1233 : (Jvm.Cond.publicMethod ({ cls := "java/util/LinkedList$ListItr", name := "next", desc := "()Ljava/lang/Object;" } : Jvm.MethodName)) ∈ lw_tbl := lw_at lw_m5 199 rfl
theorem q1234 : (Jvm.Cond.code ({ cls := "java/util/LinkedList$ListItr", name := "next", desc := "()Ljava/lang/Object;" } : Jvm.MethodName) prog_50_method_3_code (1 : Nat) (Option.some (Jvm.ClassFile.FieldType.object "java/lang/Object"))) ∈ lw_all := lw_g (lw_at lw_m5 200 rfl) rfl
theorem q1235 : (Jvm.Cond.methodLink "java/util/LinkedList$ListItr" (36 : Nat) ({ cls := "java/util/LinkedList$ListItr", name := "checkForComodification", desc := "()V" } : Jvm.MethodName)) ∈ lw_all := lw_g (lw_at lw_m5 201 rfl) rfl
theorem q1236 : (Jvm.Cond.instanceMethod ({ cls := "java/util/LinkedList$ListItr", name := "checkForComodification", desc := "()V" } : Jvm.MethodName)) ∈ lw_all := lw_g (lw_at lw_m5 202 rfl) rfl
theorem q1237 : (Jvm.Cond.selects "java/util/LinkedList$ListItr" ({ cls := "java/util/LinkedList$ListItr", name := "checkForComodification", desc := "()V" } : Jvm.MethodName) ({ cls := "java/util/LinkedList$ListItr", name := "checkForComodification", desc := "()V" } : Jvm.MethodName)) ∈ lw_all := lw_g (lw_at lw_m5 203 rfl) rfl
theorem q1238 : (Jvm.Cond.code ({ cls := "java/util/LinkedList$ListItr", name := "checkForComodification", desc := "()V" } : Jvm.MethodName) prog_50_method_12_code (1 : Nat) (Option.none : Option Jvm.ClassFile.FieldType)) ∈ lw_all := lw_g (lw_at lw_m5 204 rfl) rfl
theorem q1239 : (Jvm.Cond.methodLink "java/util/LinkedList$ListItr" (39 : Nat) ({ cls := "java/util/LinkedList$ListItr", name := "hasNext", desc := "()Z" } : Jvm.MethodName)) ∈ lw_all := lw_g (lw_at lw_m5 205 rfl) rfl
theorem q1333 : (Jvm.Cond.selects "java/util/LinkedList$ListItr" ({ cls := "java/util/Iterator", name := "remove", desc := "()V" } : Jvm.MethodName) ({ cls := "java/util/LinkedList$ListItr", name := "remove", desc := "()V" } : Jvm.MethodName)) ∈ lw_all := lw_g (lw_at lw_m6 59 rfl) rfl
theorem q1334 : (Jvm.Cond.unhidden "java/util/LinkedList$ListItr" "remove" "()V") ∈ lw_tbl := lw_at lw_m6 60 rfl
theorem q1335 : (Jvm.Cond.instanceMethod ({ cls := "java/util/LinkedList$ListItr", name := "remove", desc := "()V" } : Jvm.MethodName)) ∈ lw_all := lw_g (lw_at lw_m6 61 rfl) rfl
theorem q1336 : (Jvm.Cond.publicMethod ({ cls := "java/util/LinkedList$ListItr", name := "remove", desc := "()V" } : Jvm.MethodName)) ∈ lw_tbl := lw_at lw_m6 62 rfl
theorem q1337 : (Jvm.Cond.code ({ cls := "java/util/LinkedList$ListItr", name := "remove", desc := "()V" } : Jvm.MethodName) prog_50_method_8_code (2 : Nat) (Option.none : Option Jvm.ClassFile.FieldType)) ∈ lw_all := lw_g (lw_at lw_m6 63 rfl) rfl
theorem q1338 : (Jvm.Cond.methodLink "java/util/LinkedList$ListItr" (68 : Nat) ({ cls := "java/util/LinkedList", name := "unlink", desc := "(Ljava/util/LinkedList$Node;)Ljava/lang/Object;" } : Jvm.MethodName)) ∈ lw_all := lw_g (lw_at lw_m6 64 rfl) rfl
theorem q2031 : (Jvm.Cond.selects "java/util/LinkedList$ListItr" ({ cls := "java/util/LinkedList$ListItr", name := "hasNext", desc := "()Z" } : Jvm.MethodName) ({ cls := "java/util/LinkedList$ListItr", name := "hasNext", desc := "()Z" } : Jvm.MethodName)) ∈ lw_all := lw_g (lw_at lw_m9 37 rfl) rfl
theorem q2048 : (Jvm.Cond.castable "java/util/LinkedList$ListItr" "java/lang/Object") ∈ lw_tbl := lw_at lw_m9 54 rfl
theorem in_J17 : ∀ w ∈ wsJ170, w ∈ lw_all := lw_in wsJ170 [861, 863, 865, 867, 869] (by decide +kernel) (by decide +kernel)
/-! java/lang/Throwable -/
set_option maxRecDepth 100000
def RJ18 : String := "java/lang/Throwable"
def TJ18 : u_T := fun k => match k with
  | 0 => ("java/lang/Throwable", "cause", "Ljava/lang/Throwable;", false)
  | 1 => ("java/lang/Throwable", "stackTrace", "[Ljava/lang/StackTraceElement;", false)
  | 2 => ("java/lang/Throwable", "suppressedExceptions", "Ljava/util/List;", false)
  | 3 => ("java/lang/Throwable", "detailMessage", "Ljava/lang/String;", false)
  | _ => ("java/lang/Throwable", "backtrace", "Ljava/lang/Object;", false)
def tyJ18 : Nat → FieldType := fun k => match k with
  | 0 => .object "java/lang/Throwable"
  | 1 => .array (.object "java/lang/StackTraceElement")
  | 2 => .object "java/util/List"
  | 3 => .object "java/lang/String"
  | _ => .object "java/lang/Object"
abbrev wsJ180 : List Cond := u_ws RJ18 TJ18 5
theorem nmJ18 : ∀ a, a < 5 → ∀ b, b < 5 → a ≠ b → (TJ18 a).2.1 ≠ (TJ18 b).2.1 := by decide +kernel
theorem tyJ18_ok : ∀ k, k < 5 → parseFieldDescriptor (TJ18 k).2.2.1 = some (tyJ18 k) := by decide +kernel
abbrev cJ18_init : ByteArray := prog_30_method_1_code
def yJ18_init : MethodName := ⟨RJ18, "<init>", "()V"⟩
def dkwJ18_init_1 : List UInt8 := [182, 0, 27, 87, 177]
abbrev dktJ18_init_1 : List UInt8 := dkwJ18_init_1 ++ []
def dkwJ18_init_0 : List UInt8 := [42, 183, 0, 1, 42, 42, 181, 0, 7, 42, 178, 0, 13, 181, 0, 17, 42, 178, 0, 20, 181, 0, 24, 42]
abbrev dktJ18_init_0 : List UInt8 := dkwJ18_init_0 ++ dktJ18_init_1
theorem dksJ18_init_0 : cJ18_init.data.toList.drop 0 = dktJ18_init_0 := by decide +kernel
theorem dksJ18_init_1 : cJ18_init.data.toList.drop 24 = dktJ18_init_1 := dk_seg dksJ18_init_0 24 rfl rfl
theorem dJ18_init_0 : decode cJ18_init 0 = .ok (.aload_n 0, 1) := dk_42 (dk_at dksJ18_init_0 0 rfl rfl)
theorem dJ18_init_1 : decode cJ18_init 1 = .ok (.invokespecial 1, 3) := dk_183 0 1 (dk_at dksJ18_init_0 1 rfl rfl)
theorem dJ18_init_4 : decode cJ18_init 4 = .ok (.aload_n 0, 1) := dk_42 (dk_at dksJ18_init_0 4 rfl rfl)
theorem dJ18_init_5 : decode cJ18_init 5 = .ok (.aload_n 0, 1) := dk_42 (dk_at dksJ18_init_0 5 rfl rfl)
theorem dJ18_init_6 : decode cJ18_init 6 = .ok (.putfield 7, 3) := dk_181 0 7 (dk_at dksJ18_init_0 6 rfl rfl)
theorem dJ18_init_9 : decode cJ18_init 9 = .ok (.aload_n 0, 1) := dk_42 (dk_at dksJ18_init_0 9 rfl rfl)
theorem dJ18_init_10 : decode cJ18_init 10 = .ok (.getstatic 13, 3) := dk_178 0 13 (dk_at dksJ18_init_0 10 rfl rfl)
theorem dJ18_init_13 : decode cJ18_init 13 = .ok (.putfield 17, 3) := dk_181 0 17 (dk_at dksJ18_init_0 13 rfl rfl)
theorem dJ18_init_16 : decode cJ18_init 16 = .ok (.aload_n 0, 1) := dk_42 (dk_at dksJ18_init_0 16 rfl rfl)
theorem dJ18_init_17 : decode cJ18_init 17 = .ok (.getstatic 20, 3) := dk_178 0 20 (dk_at dksJ18_init_0 17 rfl rfl)
theorem dJ18_init_20 : decode cJ18_init 20 = .ok (.putfield 24, 3) := dk_181 0 24 (dk_at dksJ18_init_0 20 rfl rfl)
theorem dJ18_init_23 : decode cJ18_init 23 = .ok (.aload_n 0, 1) := dk_42 (dk_at dksJ18_init_0 23 rfl rfl)
theorem dJ18_init_24 : decode cJ18_init 24 = .ok (.invokevirtual 27, 3) := dk_182 0 27 (dk_at dksJ18_init_1 0 rfl rfl)
theorem dJ18_init_27 : decode cJ18_init 27 = .ok (.pop, 1) := dk_87 (dk_at dksJ18_init_1 3 rfl rfl)
theorem dJ18_init_28 : decode cJ18_init 28 = .ok (.return_, 1) := dk_177 (dk_at dksJ18_init_1 4 rfl rfl)
abbrev cJ18_init_2 : ByteArray := prog_30_method_4_code
def yJ18_init_2 : MethodName := ⟨RJ18, "<init>", "(Ljava/lang/Throwable;)V"⟩
def dkwJ18_init_2_2 : List UInt8 := [181, 0, 7, 177]
abbrev dktJ18_init_2_2 : List UInt8 := dkwJ18_init_2_2 ++ []
def dkwJ18_init_2_1 : List UInt8 := [182, 0, 27, 87, 42, 43, 199, 0, 7, 1, 167, 0, 7, 43, 182, 0, 35, 181, 0, 31, 42, 43]
abbrev dktJ18_init_2_1 : List UInt8 := dkwJ18_init_2_1 ++ dktJ18_init_2_2
def dkwJ18_init_2_0 : List UInt8 := [42, 183, 0, 1, 42, 42, 181, 0, 7, 42, 178, 0, 13, 181, 0, 17, 42, 178, 0, 20, 181, 0, 24, 42]
abbrev dktJ18_init_2_0 : List UInt8 := dkwJ18_init_2_0 ++ dktJ18_init_2_1
theorem dksJ18_init_2_0 : cJ18_init_2.data.toList.drop 0 = dktJ18_init_2_0 := by decide +kernel
theorem dksJ18_init_2_1 : cJ18_init_2.data.toList.drop 24 = dktJ18_init_2_1 := dk_seg dksJ18_init_2_0 24 rfl rfl
theorem dksJ18_init_2_2 : cJ18_init_2.data.toList.drop 46 = dktJ18_init_2_2 := dk_seg dksJ18_init_2_1 22 rfl rfl
theorem dJ18_init_2_0 : decode cJ18_init_2 0 = .ok (.aload_n 0, 1) := dk_42 (dk_at dksJ18_init_2_0 0 rfl rfl)
theorem dJ18_init_2_1 : decode cJ18_init_2 1 = .ok (.invokespecial 1, 3) := dk_183 0 1 (dk_at dksJ18_init_2_0 1 rfl rfl)
theorem dJ18_init_2_4 : decode cJ18_init_2 4 = .ok (.aload_n 0, 1) := dk_42 (dk_at dksJ18_init_2_0 4 rfl rfl)
theorem dJ18_init_2_5 : decode cJ18_init_2 5 = .ok (.aload_n 0, 1) := dk_42 (dk_at dksJ18_init_2_0 5 rfl rfl)
theorem dJ18_init_2_6 : decode cJ18_init_2 6 = .ok (.putfield 7, 3) := dk_181 0 7 (dk_at dksJ18_init_2_0 6 rfl rfl)
theorem dJ18_init_2_9 : decode cJ18_init_2 9 = .ok (.aload_n 0, 1) := dk_42 (dk_at dksJ18_init_2_0 9 rfl rfl)
theorem dJ18_init_2_10 : decode cJ18_init_2 10 = .ok (.getstatic 13, 3) := dk_178 0 13 (dk_at dksJ18_init_2_0 10 rfl rfl)
theorem dJ18_init_2_13 : decode cJ18_init_2 13 = .ok (.putfield 17, 3) := dk_181 0 17 (dk_at dksJ18_init_2_0 13 rfl rfl)
theorem dJ18_init_2_16 : decode cJ18_init_2 16 = .ok (.aload_n 0, 1) := dk_42 (dk_at dksJ18_init_2_0 16 rfl rfl)
theorem dJ18_init_2_17 : decode cJ18_init_2 17 = .ok (.getstatic 20, 3) := dk_178 0 20 (dk_at dksJ18_init_2_0 17 rfl rfl)
theorem dJ18_init_2_20 : decode cJ18_init_2 20 = .ok (.putfield 24, 3) := dk_181 0 24 (dk_at dksJ18_init_2_0 20 rfl rfl)
theorem dJ18_init_2_23 : decode cJ18_init_2 23 = .ok (.aload_n 0, 1) := dk_42 (dk_at dksJ18_init_2_0 23 rfl rfl)
theorem dJ18_init_2_24 : decode cJ18_init_2 24 = .ok (.invokevirtual 27, 3) := dk_182 0 27 (dk_at dksJ18_init_2_1 0 rfl rfl)
theorem dJ18_init_2_27 : decode cJ18_init_2 27 = .ok (.pop, 1) := dk_87 (dk_at dksJ18_init_2_1 3 rfl rfl)
theorem dJ18_init_2_28 : decode cJ18_init_2 28 = .ok (.aload_n 0, 1) := dk_42 (dk_at dksJ18_init_2_1 4 rfl rfl)
theorem dJ18_init_2_29 : decode cJ18_init_2 29 = .ok (.aload_n 1, 1) := dk_43 (dk_at dksJ18_init_2_1 5 rfl rfl)
theorem dJ18_init_2_30 : decode cJ18_init_2 30 = .ok (.ifnonnull 7, 3) := dk_199 0 7 (dk_at dksJ18_init_2_1 6 rfl rfl)
theorem dJ18_init_2_33 : decode cJ18_init_2 33 = .ok (.aconst_null, 1) := dk_1 (dk_at dksJ18_init_2_1 9 rfl rfl)
theorem dJ18_init_2_34 : decode cJ18_init_2 34 = .ok (.goto 7, 3) := dk_167 0 7 (dk_at dksJ18_init_2_1 10 rfl rfl)
theorem dJ18_init_2_37 : decode cJ18_init_2 37 = .ok (.aload_n 1, 1) := dk_43 (dk_at dksJ18_init_2_1 13 rfl rfl)
theorem dJ18_init_2_38 : decode cJ18_init_2 38 = .ok (.invokevirtual 35, 3) := dk_182 0 35 (dk_at dksJ18_init_2_1 14 rfl rfl)
theorem dJ18_init_2_41 : decode cJ18_init_2 41 = .ok (.putfield 31, 3) := dk_181 0 31 (dk_at dksJ18_init_2_1 17 rfl rfl)
theorem dJ18_init_2_44 : decode cJ18_init_2 44 = .ok (.aload_n 0, 1) := dk_42 (dk_at dksJ18_init_2_1 20 rfl rfl)
theorem dJ18_init_2_45 : decode cJ18_init_2 45 = .ok (.aload_n 1, 1) := dk_43 (dk_at dksJ18_init_2_1 21 rfl rfl)
theorem dJ18_init_2_46 : decode cJ18_init_2 46 = .ok (.putfield 7, 3) := dk_181 0 7 (dk_at dksJ18_init_2_2 0 rfl rfl)
theorem dJ18_init_2_49 : decode cJ18_init_2 49 = .ok (.return_, 1) := dk_177 (dk_at dksJ18_init_2_2 3 rfl rfl)
abbrev cJ18_toString : ByteArray := prog_30_method_11_code
def yJ18_toString : MethodName := ⟨RJ18, "toString", "()Ljava/lang/String;"⟩
def dkwJ18_toString_1 : List UInt8 := [43, 182, 0, 49, 18, 81, 182, 0, 49, 44, 182, 0, 49, 182, 0, 60, 167, 0, 4, 43, 176]
abbrev dktJ18_toString_1 : List UInt8 := dkwJ18_toString_1 ++ []
def dkwJ18_toString_0 : List UInt8 := [42, 182, 0, 69, 182, 0, 73, 76, 42, 182, 0, 78, 77, 44, 198, 0, 29, 187, 0, 44, 89, 183, 0, 46]
abbrev dktJ18_toString_0 : List UInt8 := dkwJ18_toString_0 ++ dktJ18_toString_1
theorem dksJ18_toString_0 : cJ18_toString.data.toList.drop 0 = dktJ18_toString_0 := by decide +kernel
theorem dksJ18_toString_1 : cJ18_toString.data.toList.drop 24 = dktJ18_toString_1 := dk_seg dksJ18_toString_0 24 rfl rfl
theorem dJ18_toString_0 : decode cJ18_toString 0 = .ok (.aload_n 0, 1) := dk_42 (dk_at dksJ18_toString_0 0 rfl rfl)
theorem dJ18_toString_1 : decode cJ18_toString 1 = .ok (.invokevirtual 69, 3) := dk_182 0 69 (dk_at dksJ18_toString_0 1 rfl rfl)
theorem dJ18_toString_4 : decode cJ18_toString 4 = .ok (.invokevirtual 73, 3) := dk_182 0 73 (dk_at dksJ18_toString_0 4 rfl rfl)
theorem dJ18_toString_7 : decode cJ18_toString 7 = .ok (.astore_n 1, 1) := dk_76 (dk_at dksJ18_toString_0 7 rfl rfl)
theorem dJ18_toString_8 : decode cJ18_toString 8 = .ok (.aload_n 0, 1) := dk_42 (dk_at dksJ18_toString_0 8 rfl rfl)
theorem dJ18_toString_9 : decode cJ18_toString 9 = .ok (.invokevirtual 78, 3) := dk_182 0 78 (dk_at dksJ18_toString_0 9 rfl rfl)
theorem dJ18_toString_12 : decode cJ18_toString 12 = .ok (.astore_n 2, 1) := dk_77 (dk_at dksJ18_toString_0 12 rfl rfl)
theorem dJ18_toString_13 : decode cJ18_toString 13 = .ok (.aload_n 2, 1) := dk_44 (dk_at dksJ18_toString_0 13 rfl rfl)
theorem dJ18_toString_14 : decode cJ18_toString 14 = .ok (.ifnull 29, 3) := dk_198 0 29 (dk_at dksJ18_toString_0 14 rfl rfl)
theorem dJ18_toString_17 : decode cJ18_toString 17 = .ok (.new 44, 3) := dk_187 0 44 (dk_at dksJ18_toString_0 17 rfl rfl)
theorem dJ18_toString_20 : decode cJ18_toString 20 = .ok (.dup, 1) := dk_89 (dk_at dksJ18_toString_0 20 rfl rfl)
theorem dJ18_toString_21 : decode cJ18_toString 21 = .ok (.invokespecial 46, 3) := dk_183 0 46 (dk_at dksJ18_toString_0 21 rfl rfl)
theorem dJ18_toString_24 : decode cJ18_toString 24 = .ok (.aload_n 1, 1) := dk_43 (dk_at dksJ18_toString_1 0 rfl rfl)
theorem dJ18_toString_25 : decode cJ18_toString 25 = .ok (.invokevirtual 49, 3) := dk_182 0 49 (dk_at dksJ18_toString_1 1 rfl rfl)
theorem dJ18_toString_28 : decode cJ18_toString 28 = .ok (.ldc 81, 2) := dk_18 81 (dk_at dksJ18_toString_1 4 rfl rfl)
theorem dJ18_toString_30 : decode cJ18_toString 30 = .ok (.invokevirtual 49, 3) := dk_182 0 49 (dk_at dksJ18_toString_1 6 rfl rfl)
theorem dJ18_toString_33 : decode cJ18_toString 33 = .ok (.aload_n 2, 1) := dk_44 (dk_at dksJ18_toString_1 9 rfl rfl)
theorem dJ18_toString_34 : decode cJ18_toString 34 = .ok (.invokevirtual 49, 3) := dk_182 0 49 (dk_at dksJ18_toString_1 10 rfl rfl)
theorem dJ18_toString_37 : decode cJ18_toString 37 = .ok (.invokevirtual 60, 3) := dk_182 0 60 (dk_at dksJ18_toString_1 13 rfl rfl)
theorem dJ18_toString_40 : decode cJ18_toString 40 = .ok (.goto 4, 3) := dk_167 0 4 (dk_at dksJ18_toString_1 16 rfl rfl)
theorem dJ18_toString_43 : decode cJ18_toString 43 = .ok (.aload_n 1, 1) := dk_43 (dk_at dksJ18_toString_1 19 rfl rfl)
theorem dJ18_toString_44 : decode cJ18_toString 44 = .ok (.areturn, 1) := dk_176 (dk_at dksJ18_toString_1 20 rfl rfl)
abbrev cJ18_getLocalizedMessage : ByteArray := prog_30_method_7_code
def yJ18_getLocalizedMessage : MethodName := ⟨RJ18, "getLocalizedMessage", "()Ljava/lang/String;"⟩
theorem dJ18_getLocalizedMessage_0 : decode cJ18_getLocalizedMessage 0 = .ok (.aload_n 0, 1) := by decide +kernel
theorem dJ18_getLocalizedMessage_1 : decode cJ18_getLocalizedMessage 1 = .ok (.invokevirtual 39, 3) := by decide +kernel
theorem dJ18_getLocalizedMessage_4 : decode cJ18_getLocalizedMessage 4 = .ok (.areturn, 1) := by decide +kernel
abbrev cJ18_getMessage : ByteArray := prog_30_method_6_code
def yJ18_getMessage : MethodName := ⟨RJ18, "getMessage", "()Ljava/lang/String;"⟩
theorem dJ18_getMessage_0 : decode cJ18_getMessage 0 = .ok (.aload_n 0, 1) := by decide +kernel
theorem dJ18_getMessage_1 : decode cJ18_getMessage 1 = .ok (.getfield 31, 3) := by decide +kernel
theorem dJ18_getMessage_4 : decode cJ18_getMessage 4 = .ok (.areturn, 1) := by decide +kernel
abbrev cJ18_init_3 : ByteArray := prog_30_method_2_code
def yJ18_init_3 : MethodName := ⟨RJ18, "<init>", "(Ljava/lang/String;)V"⟩
def dkwJ18_init_3_1 : List UInt8 := [182, 0, 27, 87, 42, 43, 181, 0, 31, 177]
abbrev dktJ18_init_3_1 : List UInt8 := dkwJ18_init_3_1 ++ []
def dkwJ18_init_3_0 : List UInt8 := [42, 183, 0, 1, 42, 42, 181, 0, 7, 42, 178, 0, 13, 181, 0, 17, 42, 178, 0, 20, 181, 0, 24, 42]
abbrev dktJ18_init_3_0 : List UInt8 := dkwJ18_init_3_0 ++ dktJ18_init_3_1
theorem dksJ18_init_3_0 : cJ18_init_3.data.toList.drop 0 = dktJ18_init_3_0 := by decide +kernel
theorem dksJ18_init_3_1 : cJ18_init_3.data.toList.drop 24 = dktJ18_init_3_1 := dk_seg dksJ18_init_3_0 24 rfl rfl
theorem dJ18_init_3_0 : decode cJ18_init_3 0 = .ok (.aload_n 0, 1) := dk_42 (dk_at dksJ18_init_3_0 0 rfl rfl)
theorem dJ18_init_3_1 : decode cJ18_init_3 1 = .ok (.invokespecial 1, 3) := dk_183 0 1 (dk_at dksJ18_init_3_0 1 rfl rfl)
theorem dJ18_init_3_4 : decode cJ18_init_3 4 = .ok (.aload_n 0, 1) := dk_42 (dk_at dksJ18_init_3_0 4 rfl rfl)
theorem dJ18_init_3_5 : decode cJ18_init_3 5 = .ok (.aload_n 0, 1) := dk_42 (dk_at dksJ18_init_3_0 5 rfl rfl)
theorem dJ18_init_3_6 : decode cJ18_init_3 6 = .ok (.putfield 7, 3) := dk_181 0 7 (dk_at dksJ18_init_3_0 6 rfl rfl)
theorem dJ18_init_3_9 : decode cJ18_init_3 9 = .ok (.aload_n 0, 1) := dk_42 (dk_at dksJ18_init_3_0 9 rfl rfl)
theorem dJ18_init_3_10 : decode cJ18_init_3 10 = .ok (.getstatic 13, 3) := dk_178 0 13 (dk_at dksJ18_init_3_0 10 rfl rfl)
theorem dJ18_init_3_13 : decode cJ18_init_3 13 = .ok (.putfield 17, 3) := dk_181 0 17 (dk_at dksJ18_init_3_0 13 rfl rfl)
theorem dJ18_init_3_16 : decode cJ18_init_3 16 = .ok (.aload_n 0, 1) := dk_42 (dk_at dksJ18_init_3_0 16 rfl rfl)
theorem dJ18_init_3_17 : decode cJ18_init_3 17 = .ok (.getstatic 20, 3) := dk_178 0 20 (dk_at dksJ18_init_3_0 17 rfl rfl)
theorem dJ18_init_3_20 : decode cJ18_init_3 20 = .ok (.putfield 24, 3) := dk_181 0 24 (dk_at dksJ18_init_3_0 20 rfl rfl)
theorem dJ18_init_3_23 : decode cJ18_init_3 23 = .ok (.aload_n 0, 1) := dk_42 (dk_at dksJ18_init_3_0 23 rfl rfl)
theorem dJ18_init_3_24 : decode cJ18_init_3 24 = .ok (.invokevirtual 27, 3) := dk_182 0 27 (dk_at dksJ18_init_3_1 0 rfl rfl)
theorem dJ18_init_3_27 : decode cJ18_init_3 27 = .ok (.pop, 1) := dk_87 (dk_at dksJ18_init_3_1 3 rfl rfl)
theorem dJ18_init_3_28 : decode cJ18_init_3 28 = .ok (.aload_n 0, 1) := dk_42 (dk_at dksJ18_init_3_1 4 rfl rfl)
theorem dJ18_init_3_29 : decode cJ18_init_3 29 = .ok (.aload_n 1, 1) := dk_43 (dk_at dksJ18_init_3_1 5 rfl rfl)
theorem dJ18_init_3_30 : decode cJ18_init_3 30 = .ok (.putfield 31, 3) := dk_181 0 31 (dk_at dksJ18_init_3_1 6 rfl rfl)
theorem dJ18_init_3_33 : decode cJ18_init_3 33 = .ok (.return_, 1) := dk_177 (dk_at dksJ18_init_3_1 9 rfl rfl)
theorem q101 : (Jvm.Cond.initialized "java/lang/Throwable") ∈ lw_all := lw_g (lw_at lw_m1 27 rfl) rfl
theorem q931 : (Jvm.Cond.declares ({ cls := "java/lang/Throwable", name := "<init>", desc := "()V" } : Jvm.MethodName)) ∈ lw_tbl := lw_at lw_m4 137 rfl
theorem q932 : (Jvm.Cond.declares ({ cls := "java/lang/Throwable", name := "<init>", desc := "(Ljava/lang/String;)V" } : Jvm.MethodName)) ∈ lw_tbl := lw_at lw_m4 138 rfl
theorem q936 : (Jvm.Cond.lays "java/lang/Throwable" "java/lang/Throwable" "cause" "Ljava/lang/Throwable;") ∈ lw_all := lw_g (lw_at lw_m4 142 rfl) rfl
theorem q938 : (Jvm.Cond.lays "java/lang/Throwable" "java/lang/Throwable" "stackTrace" "[Ljava/lang/StackTraceElement;") ∈ lw_all := lw_g (lw_at lw_m4 144 rfl) rfl
theorem q940 : (Jvm.Cond.lays "java/lang/Throwable" "java/lang/Throwable" "suppressedExceptions" "Ljava/util/List;") ∈ lw_all := lw_g (lw_at lw_m4 146 rfl) rfl
theorem q942 : (Jvm.Cond.lays "java/lang/Throwable" "java/lang/Throwable" "detailMessage" "Ljava/lang/String;") ∈ lw_all := lw_g (lw_at lw_m4 148 rfl) rfl
theorem q944 : (Jvm.Cond.lays "java/lang/Throwable" "java/lang/Throwable" "backtrace" "Ljava/lang/Object;") ∈ lw_all := lw_g (lw_at lw_m4 150 rfl) rfl
theorem q945 : (Jvm.Cond.fieldLink "java/lang/Throwable" (198 : Nat) "java/lang/Throwable" "backtrace" "Ljava/lang/Object;") ∈ lw_all := lw_g (lw_at lw_m4 151 rfl) rfl
theorem q946 : (Jvm.Cond.superclass "java/lang/Throwable" "java/lang/Object") ∈ lw_all := lw_g (lw_at lw_m4 152 rfl) rfl
theorem q947 : (Jvm.Cond.instanceMethod ({ cls := "java/lang/Throwable", name := "<init>", desc := "()V" } : Jvm.MethodName)) ∈ lw_all := lw_g (lw_at lw_m4 153 rfl) rfl
theorem q948 : (Jvm.Cond.code ({ cls := "java/lang/Throwable", name := "<init>", desc := "()V" } : Jvm.MethodName) prog_30_method_1_code (1 : Nat) (Option.none : Option Jvm.ClassFile.FieldType)) ∈ lw_all := lw_g (lw_at lw_m4 154 rfl) rfl
theorem q949 : (Jvm.Cond.methodLink "java/lang/Throwable" (1 : Nat) ({ cls := "java/lang/Object", name := "<init>", desc := "()V" } : Jvm.MethodName)) ∈ lw_all := lw_g (lw_at lw_m4 155 rfl) rfl
theorem q950 : (Jvm.Cond.fieldLink "java/lang/Throwable" (13 : Nat) "java/lang/Throwable" "UNASSIGNED_STACK" "[Ljava/lang/StackTraceElement;") ∈ lw_all := lw_g (lw_at lw_m4 156 rfl) rfl
theorem q951 : (Jvm.Cond.laysStatic "java/lang/Throwable" "UNASSIGNED_STACK" "[Ljava/lang/StackTraceElement;") ∈ lw_tbl := lw_at lw_m4 157 rfl
theorem q952 : (Jvm.Cond.fieldLink "java/lang/Throwable" (20 : Nat) "java/lang/Throwable" "SUPPRESSED_SENTINEL" "Ljava/util/List;") ∈ lw_all := lw_g (lw_at lw_m4 158 rfl) rfl
theorem q953 : (Jvm.Cond.laysStatic "java/lang/Throwable" "SUPPRESSED_SENTINEL" "Ljava/util/List;") ∈ lw_tbl := lw_at lw_m4 159 rfl
theorem q954 : (Jvm.Cond.methodLink "java/lang/Throwable" (27 : Nat) ({ cls := "java/lang/Throwable", name := "fillInStackTrace", desc := "()Ljava/lang/Throwable;" } : Jvm.MethodName)) ∈ lw_all := lw_g (lw_at lw_m4 160 rfl) rfl
theorem q955 : (Jvm.Cond.instanceMethod ({ cls := "java/lang/Throwable", name := "fillInStackTrace", desc := "()Ljava/lang/Throwable;" } : Jvm.MethodName)) ∈ lw_all := lw_g (lw_at lw_m4 161 rfl) rfl
theorem q956 : (Jvm.Cond.sameMethod "java/lang/Throwable" "java/lang/Throwable" "fillInStackTrace" "()Ljava/lang/Throwable;") ∈ lw_all := lw_g (lw_at lw_m4 162 rfl) rfl
theorem q960 : (Jvm.Cond.codeSync ({ cls := "java/lang/Throwable", name := "fillInStackTrace", desc := "()Ljava/lang/Throwable;" } : Jvm.MethodName) prog_30_method_18_code (1 : Nat) (Option.some (Jvm.ClassFile.FieldType.object "java/lang/Throwable"))) ∈ lw_all := lw_g (lw_at lw_m4 166 rfl) rfl
theorem q961 : (Jvm.Cond.methodLink "java/lang/Throwable" (202 : Nat) ({ cls := "java/lang/Throwable", name := "fillInStackTrace", desc := "(I)Ljava/lang/Throwable;" } : Jvm.MethodName)) ∈ lw_all := lw_g (lw_at lw_m4 167 rfl) rfl
theorem q962 : (Jvm.Cond.privateMethod ({ cls := "java/lang/Throwable", name := "fillInStackTrace", desc := "(I)Ljava/lang/Throwable;" } : Jvm.MethodName)) ∈ lw_tbl := lw_at lw_m4 168 rfl
theorem q963 : (Jvm.Cond.instanceMethod ({ cls := "java/lang/Throwable", name := "fillInStackTrace", desc := "(I)Ljava/lang/Throwable;" } : Jvm.MethodName)) ∈ lw_all := lw_g (lw_at lw_m4 169 rfl) rfl
theorem q964 : (Jvm.Cond.instantiable "java/lang/Throwable" (6 : Nat)) ∈ lw_all := lw_g (lw_at lw_m4 170 rfl) rfl
theorem q965 : (Jvm.Cond.native ({ cls := "java/lang/Throwable", name := "fillInStackTrace", desc := "(I)Ljava/lang/Throwable;" } : Jvm.MethodName)) ∈ lw_all := lw_g (lw_at lw_m4 171 rfl) rfl
theorem q976 : (Jvm.Cond.instanceMethod ({ cls := "java/lang/Throwable", name := "<init>", desc := "(Ljava/lang/Throwable;)V" } : Jvm.MethodName)) ∈ lw_all := lw_g (lw_at lw_m4 182 rfl) rfl
theorem q977 : (Jvm.Cond.code ({ cls := "java/lang/Throwable", name := "<init>", desc := "(Ljava/lang/Throwable;)V" } : Jvm.MethodName) prog_30_method_4_code (2 : Nat) (Option.none : Option Jvm.ClassFile.FieldType)) ∈ lw_all := lw_g (lw_at lw_m4 183 rfl) rfl
theorem q978 : (Jvm.Cond.methodLink "java/lang/Throwable" (35 : Nat) ({ cls := "java/lang/Throwable", name := "toString", desc := "()Ljava/lang/String;" } : Jvm.MethodName)) ∈ lw_all := lw_g (lw_at lw_m4 184 rfl) rfl
theorem q979 : (Jvm.Cond.instanceMethod ({ cls := "java/lang/Throwable", name := "toString", desc := "()Ljava/lang/String;" } : Jvm.MethodName)) ∈ lw_all := lw_g (lw_at lw_m4 185 rfl) rfl
theorem q980 : (Jvm.Cond.sameMethod "java/lang/Throwable" "java/lang/Throwable" "toString" "()Ljava/lang/String;") ∈ lw_all := lw_g (lw_at lw_m4 186 rfl) rfl
theorem q985 : (Jvm.Cond.code ({ cls := "java/lang/Throwable", name := "toString", desc := "()Ljava/lang/String;" } : Jvm.MethodName) prog_30_method_11_code (3 : Nat) (Option.some (Jvm.ClassFile.FieldType.object "java/lang/String"))) ∈ lw_all := lw_g (lw_at lw_m4 191 rfl) rfl
theorem q986 : (Jvm.Cond.methodLink "java/lang/Throwable" (69 : Nat) ({ cls := "java/lang/Object", name := "getClass", desc := "()Ljava/lang/Class;" } : Jvm.MethodName)) ∈ lw_all := lw_g (lw_at lw_m4 192 rfl) rfl
theorem q987 : (Jvm.Cond.methodLink "java/lang/Throwable" (78 : Nat) ({ cls := "java/lang/Throwable", name := "getLocalizedMessage", desc := "()Ljava/lang/String;" } : Jvm.MethodName)) ∈ lw_all := lw_g (lw_at lw_m4 193 rfl) rfl
theorem q988 : (Jvm.Cond.instanceMethod ({ cls := "java/lang/Throwable", name := "getLocalizedMessage", desc := "()Ljava/lang/String;" } : Jvm.MethodName)) ∈ lw_all := lw_g (lw_at lw_m4 194 rfl) rfl
theorem q989 : (Jvm.Cond.sameMethod "java/lang/Throwable" "java/lang/Throwable" "getLocalizedMessage" "()Ljava/lang/String;") ∈ lw_all := lw_g (lw_at lw_m4 195 rfl) rfl
theorem q994 : (Jvm.Cond.code ({ cls := "java/lang/Throwable", name := "getLocalizedMessage", desc := "()Ljava/lang/String;" } : Jvm.MethodName) prog_30_method_7_code (1 : Nat) (Option.some (Jvm.ClassFile.FieldType.object "java/lang/String"))) ∈ lw_all := lw_g (lw_at lw_m4 200 rfl) rfl
theorem q995 : (Jvm.Cond.methodLink "java/lang/Throwable" (39 : Nat) ({ cls := "java/lang/Throwable", name := "getMessage", desc := "()Ljava/lang/String;" } : Jvm.MethodName)) ∈ lw_all := lw_g (lw_at lw_m4 201 rfl) rfl
theorem q996 : (Jvm.Cond.instanceMethod ({ cls := "java/lang/Throwable", name := "getMessage", desc := "()Ljava/lang/String;" } : Jvm.MethodName)) ∈ lw_all := lw_g (lw_at lw_m4 202 rfl) rfl
theorem q997 : (Jvm.Cond.sameMethod "java/lang/Throwable" "java/lang/Throwable" "getMessage" "()Ljava/lang/String;") ∈ lw_all := lw_g (lw_at lw_m4 203 rfl) rfl
theorem q1002 : (Jvm.Cond.code ({ cls := "java/lang/Throwable", name := "getMessage", desc := "()Ljava/lang/String;" } : Jvm.MethodName) prog_30_method_6_code (1 : Nat) (Option.some (Jvm.ClassFile.FieldType.object "java/lang/String"))) ∈ lw_all := lw_g (lw_at lw_m4 208 rfl) rfl
theorem q1003 : (Jvm.Cond.classLink "java/lang/Throwable" (44 : Nat) "java/lang/StringBuilder") ∈ lw_all := lw_g (lw_at lw_m4 209 rfl) rfl
theorem q1005 : (Jvm.Cond.methodLink "java/lang/Throwable" (46 : Nat) ({ cls := "java/lang/StringBuilder", name := "<init>", desc := "()V" } : Jvm.MethodName)) ∈ lw_all := lw_g (lw_at lw_m4 211 rfl) rfl
theorem q1034 : (Jvm.Cond.methodLink "java/lang/Throwable" (49 : Nat) ({ cls := "java/lang/StringBuilder", name := "append", desc := "(Ljava/lang/String;)Ljava/lang/StringBuilder;" } : Jvm.MethodName)) ∈ lw_all := lw_g (lw_at lw_m5 0 rfl) rfl
theorem q1137 : (Jvm.Cond.stringRef "java/lang/Throwable" (81 : Nat) ": ") ∈ lw_tbl := lw_at lw_m5 103 rfl
theorem q1138 : (Jvm.Cond.methodLink "java/lang/Throwable" (60 : Nat) ({ cls := "java/lang/StringBuilder", name := "toString", desc := "()Ljava/lang/String;" } : Jvm.MethodName)) ∈ lw_all := lw_g (lw_at lw_m5 104 rfl) rfl
theorem q1198 : (Jvm.Cond.fieldLink "java/lang/Throwable" (198 : Nat) "java/lang/Throwable" "backtrace" "Ljava/lang/Object;") ∈ lw_all := lw_g (lw_at lw_m5 164 rfl) rfl
theorem q1199 : (Jvm.Cond.fieldLink "java/lang/Throwable" (31 : Nat) "java/lang/Throwable" "detailMessage" "Ljava/lang/String;") ∈ lw_all := lw_g (lw_at lw_m5 165 rfl) rfl
theorem q1200 : (Jvm.Cond.fieldLink "java/lang/Throwable" (7 : Nat) "java/lang/Throwable" "cause" "Ljava/lang/Throwable;") ∈ lw_all := lw_g (lw_at lw_m5 166 rfl) rfl
theorem q1201 : (Jvm.Cond.fieldLink "java/lang/Throwable" (17 : Nat) "java/lang/Throwable" "stackTrace" "[Ljava/lang/StackTraceElement;") ∈ lw_all := lw_g (lw_at lw_m5 167 rfl) rfl
theorem q1202 : (Jvm.Cond.fieldLink "java/lang/Throwable" (24 : Nat) "java/lang/Throwable" "suppressedExceptions" "Ljava/util/List;") ∈ lw_all := lw_g (lw_at lw_m5 168 rfl) rfl
theorem q1203 : (Jvm.Cond.soleField "java/lang/Throwable" "backtrace") ∈ lw_all := lw_g (lw_at lw_m5 169 rfl) rfl
theorem q1204 : (Jvm.Cond.soleField "java/lang/Throwable" "detailMessage") ∈ lw_all := lw_g (lw_at lw_m5 170 rfl) rfl
theorem q1205 : (Jvm.Cond.soleField "java/lang/Throwable" "cause") ∈ lw_all := lw_g (lw_at lw_m5 171 rfl) rfl
theorem q1206 : (Jvm.Cond.soleField "java/lang/Throwable" "stackTrace") ∈ lw_all := lw_g (lw_at lw_m5 172 rfl) rfl
theorem q1208 : (Jvm.Cond.soleField "java/lang/Throwable" "depth") ∈ lw_all := lw_g (lw_at lw_m5 174 rfl) rfl
theorem q1209 : (Jvm.Cond.soleField "java/lang/Throwable" "suppressedExceptions") ∈ lw_all := lw_g (lw_at lw_m5 175 rfl) rfl
theorem q1616 : (Jvm.Cond.instanceMethod ({ cls := "java/lang/Throwable", name := "<init>", desc := "(Ljava/lang/String;)V" } : Jvm.MethodName)) ∈ lw_all := lw_g (lw_at lw_m7 102 rfl) rfl
theorem q1617 : (Jvm.Cond.code ({ cls := "java/lang/Throwable", name := "<init>", desc := "(Ljava/lang/String;)V" } : Jvm.MethodName) prog_30_method_2_code (2 : Nat) (Option.none : Option Jvm.ClassFile.FieldType)) ∈ lw_all := lw_g (lw_at lw_m7 103 rfl) rfl
theorem q2023 : (Jvm.Cond.sameMethod "java/lang/Throwable" "java/lang/Throwable" "fillInStackTrace" "(I)Ljava/lang/Throwable;") ∈ lw_all := lw_g (lw_at lw_m9 29 rfl) rfl
theorem q2058 : (Jvm.Cond.castable "java/lang/Throwable" "java/lang/Object") ∈ lw_tbl := lw_at lw_m9 64 rfl
theorem in_J18 : ∀ w ∈ wsJ180, w ∈ lw_all := lw_in wsJ180 [936, 938, 940, 942, 944] (by decide +kernel) (by decide +kernel)
/-! java/lang/Exception -/
set_option maxRecDepth 100000
def RJ19 : String := "java/lang/Exception"
abbrev cJ19_init : ByteArray := prog_16_method_4_code
def yJ19_init : MethodName := ⟨RJ19, "<init>", "(Ljava/lang/Throwable;)V"⟩
def dkwJ19_init_0 : List UInt8 := [42, 43, 183, 0, 13, 177]
abbrev dktJ19_init_0 : List UInt8 := dkwJ19_init_0 ++ []
theorem dksJ19_init_0 : cJ19_init.data.toList.drop 0 = dktJ19_init_0 := by decide +kernel
theorem dJ19_init_0 : decode cJ19_init 0 = .ok (.aload_n 0, 1) := dk_42 (dk_at dksJ19_init_0 0 rfl rfl)
theorem dJ19_init_1 : decode cJ19_init 1 = .ok (.aload_n 1, 1) := dk_43 (dk_at dksJ19_init_0 1 rfl rfl)
theorem dJ19_init_2 : decode cJ19_init 2 = .ok (.invokespecial 13, 3) := dk_183 0 13 (dk_at dksJ19_init_0 2 rfl rfl)
theorem dJ19_init_5 : decode cJ19_init 5 = .ok (.return_, 1) := dk_177 (dk_at dksJ19_init_0 5 rfl rfl)
abbrev cJ19_init_2 : ByteArray := prog_16_method_1_code
def yJ19_init_2 : MethodName := ⟨RJ19, "<init>", "()V"⟩
theorem dJ19_init_2_0 : decode cJ19_init_2 0 = .ok (.aload_n 0, 1) := by decide +kernel
theorem dJ19_init_2_1 : decode cJ19_init_2 1 = .ok (.invokespecial 1, 3) := by decide +kernel
theorem dJ19_init_2_4 : decode cJ19_init_2 4 = .ok (.return_, 1) := by decide +kernel
abbrev cJ19_init_3 : ByteArray := prog_16_method_2_code
def yJ19_init_3 : MethodName := ⟨RJ19, "<init>", "(Ljava/lang/String;)V"⟩
def dkwJ19_init_3_0 : List UInt8 := [42, 43, 183, 0, 7, 177]
abbrev dktJ19_init_3_0 : List UInt8 := dkwJ19_init_3_0 ++ []
theorem dksJ19_init_3_0 : cJ19_init_3.data.toList.drop 0 = dktJ19_init_3_0 := by decide +kernel
theorem dJ19_init_3_0 : decode cJ19_init_3 0 = .ok (.aload_n 0, 1) := dk_42 (dk_at dksJ19_init_3_0 0 rfl rfl)
theorem dJ19_init_3_1 : decode cJ19_init_3 1 = .ok (.aload_n 1, 1) := dk_43 (dk_at dksJ19_init_3_0 1 rfl rfl)
theorem dJ19_init_3_2 : decode cJ19_init_3 2 = .ok (.invokespecial 7, 3) := dk_183 0 7 (dk_at dksJ19_init_3_0 2 rfl rfl)
theorem dJ19_init_3_5 : decode cJ19_init_3 5 = .ok (.return_, 1) := dk_177 (dk_at dksJ19_init_3_0 5 rfl rfl)
theorem q102 : (Jvm.Cond.initialized "java/lang/Exception") ∈ lw_all := lw_g (lw_at lw_m1 28 rfl) rfl
theorem q929 : (Jvm.Cond.declares ({ cls := "java/lang/Exception", name := "<init>", desc := "()V" } : Jvm.MethodName)) ∈ lw_tbl := lw_at lw_m4 135 rfl
theorem q930 : (Jvm.Cond.declares ({ cls := "java/lang/Exception", name := "<init>", desc := "(Ljava/lang/String;)V" } : Jvm.MethodName)) ∈ lw_tbl := lw_at lw_m4 136 rfl
theorem q973 : (Jvm.Cond.instanceMethod ({ cls := "java/lang/Exception", name := "<init>", desc := "(Ljava/lang/Throwable;)V" } : Jvm.MethodName)) ∈ lw_all := lw_g (lw_at lw_m4 179 rfl) rfl
theorem q974 : (Jvm.Cond.code ({ cls := "java/lang/Exception", name := "<init>", desc := "(Ljava/lang/Throwable;)V" } : Jvm.MethodName) prog_16_method_4_code (2 : Nat) (Option.none : Option Jvm.ClassFile.FieldType)) ∈ lw_all := lw_g (lw_at lw_m4 180 rfl) rfl
theorem q975 : (Jvm.Cond.methodLink "java/lang/Exception" (13 : Nat) ({ cls := "java/lang/Throwable", name := "<init>", desc := "(Ljava/lang/Throwable;)V" } : Jvm.MethodName)) ∈ lw_all := lw_g (lw_at lw_m4 181 rfl) rfl
theorem q1269 : (Jvm.Cond.instanceMethod ({ cls := "java/lang/Exception", name := "<init>", desc := "()V" } : Jvm.MethodName)) ∈ lw_all := lw_g (lw_at lw_m5 235 rfl) rfl
theorem q1270 : (Jvm.Cond.code ({ cls := "java/lang/Exception", name := "<init>", desc := "()V" } : Jvm.MethodName) prog_16_method_1_code (1 : Nat) (Option.none : Option Jvm.ClassFile.FieldType)) ∈ lw_all := lw_g (lw_at lw_m5 236 rfl) rfl
theorem q1271 : (Jvm.Cond.methodLink "java/lang/Exception" (1 : Nat) ({ cls := "java/lang/Throwable", name := "<init>", desc := "()V" } : Jvm.MethodName)) ∈ lw_all := lw_g (lw_at lw_m5 237 rfl) rfl
theorem q1613 : (Jvm.Cond.instanceMethod ({ cls := "java/lang/Exception", name := "<init>", desc := "(Ljava/lang/String;)V" } : Jvm.MethodName)) ∈ lw_all := lw_g (lw_at lw_m7 99 rfl) rfl
theorem q1614 : (Jvm.Cond.code ({ cls := "java/lang/Exception", name := "<init>", desc := "(Ljava/lang/String;)V" } : Jvm.MethodName) prog_16_method_2_code (2 : Nat) (Option.none : Option Jvm.ClassFile.FieldType)) ∈ lw_all := lw_g (lw_at lw_m7 100 rfl) rfl
theorem q1615 : (Jvm.Cond.methodLink "java/lang/Exception" (7 : Nat) ({ cls := "java/lang/Throwable", name := "<init>", desc := "(Ljava/lang/String;)V" } : Jvm.MethodName)) ∈ lw_all := lw_g (lw_at lw_m7 101 rfl) rfl
/-! java/lang/RuntimeException -/
set_option maxRecDepth 100000
def RJ20 : String := "java/lang/RuntimeException"
abbrev cJ20_init : ByteArray := prog_24_method_4_code
def yJ20_init : MethodName := ⟨RJ20, "<init>", "(Ljava/lang/Throwable;)V"⟩
def dkwJ20_init_0 : List UInt8 := [42, 43, 183, 0, 13, 177]
abbrev dktJ20_init_0 : List UInt8 := dkwJ20_init_0 ++ []
theorem dksJ20_init_0 : cJ20_init.data.toList.drop 0 = dktJ20_init_0 := by decide +kernel
theorem dJ20_init_0 : decode cJ20_init 0 = .ok (.aload_n 0, 1) := dk_42 (dk_at dksJ20_init_0 0 rfl rfl)
theorem dJ20_init_1 : decode cJ20_init 1 = .ok (.aload_n 1, 1) := dk_43 (dk_at dksJ20_init_0 1 rfl rfl)
theorem dJ20_init_2 : decode cJ20_init 2 = .ok (.invokespecial 13, 3) := dk_183 0 13 (dk_at dksJ20_init_0 2 rfl rfl)
theorem dJ20_init_5 : decode cJ20_init 5 = .ok (.return_, 1) := dk_177 (dk_at dksJ20_init_0 5 rfl rfl)
abbrev cJ20_init_2 : ByteArray := prog_24_method_1_code
def yJ20_init_2 : MethodName := ⟨RJ20, "<init>", "()V"⟩
theorem dJ20_init_2_0 : decode cJ20_init_2 0 = .ok (.aload_n 0, 1) := by decide +kernel
theorem dJ20_init_2_1 : decode cJ20_init_2 1 = .ok (.invokespecial 1, 3) := by decide +kernel
theorem dJ20_init_2_4 : decode cJ20_init_2 4 = .ok (.return_, 1) := by decide +kernel
theorem q103 : (Jvm.Cond.initialized "java/lang/RuntimeException") ∈ lw_all := lw_g (lw_at lw_m1 29 rfl) rfl
theorem q927 : (Jvm.Cond.declares ({ cls := "java/lang/RuntimeException", name := "<init>", desc := "()V" } : Jvm.MethodName)) ∈ lw_tbl := lw_at lw_m4 133 rfl
theorem q928 : (Jvm.Cond.declares ({ cls := "java/lang/RuntimeException", name := "<init>", desc := "(Ljava/lang/String;)V" } : Jvm.MethodName)) ∈ lw_tbl := lw_at lw_m4 134 rfl
theorem q970 : (Jvm.Cond.instanceMethod ({ cls := "java/lang/RuntimeException", name := "<init>", desc := "(Ljava/lang/Throwable;)V" } : Jvm.MethodName)) ∈ lw_all := lw_g (lw_at lw_m4 176 rfl) rfl
theorem q971 : (Jvm.Cond.code ({ cls := "java/lang/RuntimeException", name := "<init>", desc := "(Ljava/lang/Throwable;)V" } : Jvm.MethodName) prog_24_method_4_code (2 : Nat) (Option.none : Option Jvm.ClassFile.FieldType)) ∈ lw_all := lw_g (lw_at lw_m4 177 rfl) rfl
theorem q972 : (Jvm.Cond.methodLink "java/lang/RuntimeException" (13 : Nat) ({ cls := "java/lang/Exception", name := "<init>", desc := "(Ljava/lang/Throwable;)V" } : Jvm.MethodName)) ∈ lw_all := lw_g (lw_at lw_m4 178 rfl) rfl
theorem q1266 : (Jvm.Cond.instanceMethod ({ cls := "java/lang/RuntimeException", name := "<init>", desc := "()V" } : Jvm.MethodName)) ∈ lw_all := lw_g (lw_at lw_m5 232 rfl) rfl
theorem q1267 : (Jvm.Cond.code ({ cls := "java/lang/RuntimeException", name := "<init>", desc := "()V" } : Jvm.MethodName) prog_24_method_1_code (1 : Nat) (Option.none : Option Jvm.ClassFile.FieldType)) ∈ lw_all := lw_g (lw_at lw_m5 233 rfl) rfl
theorem q1268 : (Jvm.Cond.methodLink "java/lang/RuntimeException" (1 : Nat) ({ cls := "java/lang/Exception", name := "<init>", desc := "()V" } : Jvm.MethodName)) ∈ lw_all := lw_g (lw_at lw_m5 234 rfl) rfl
/-! java/util/NoSuchElementException -/
set_option maxRecDepth 100000
def RJ21 : String := "java/util/NoSuchElementException"
def TJ21 : u_T := fun k => match k with
  | 0 => ("java/lang/Throwable", "cause", "Ljava/lang/Throwable;", false)
  | 1 => ("java/lang/Throwable", "stackTrace", "[Ljava/lang/StackTraceElement;", false)
  | 2 => ("java/lang/Throwable", "suppressedExceptions", "Ljava/util/List;", false)
  | 3 => ("java/lang/Throwable", "detailMessage", "Ljava/lang/String;", false)
  | 4 => ("java/lang/Throwable", "backtrace", "Ljava/lang/Object;", false)
  | _ => ("java/lang/Throwable", "depth", "I", false)
def tyJ21 : Nat → FieldType := fun k => match k with
  | 0 => .object "java/lang/Throwable"
  | 1 => .array (.object "java/lang/StackTraceElement")
  | 2 => .object "java/util/List"
  | 3 => .object "java/lang/String"
  | 4 => .object "java/lang/Object"
  | _ => .int
abbrev wsJ210 : List Cond := u_ws RJ21 TJ21 6
theorem nmJ21 : ∀ a, a < 6 → ∀ b, b < 6 → a ≠ b → (TJ21 a).2.1 ≠ (TJ21 b).2.1 := by decide +kernel
theorem tyJ21_ok : ∀ k, k < 6 → parseFieldDescriptor (TJ21 k).2.2.1 = some (tyJ21 k) := by decide +kernel
abbrev cJ21_init : ByteArray := prog_54_method_3_code
def yJ21_init : MethodName := ⟨RJ21, "<init>", "(Ljava/lang/Throwable;)V"⟩
def dkwJ21_init_0 : List UInt8 := [42, 43, 183, 0, 10, 177]
abbrev dktJ21_init_0 : List UInt8 := dkwJ21_init_0 ++ []
theorem dksJ21_init_0 : cJ21_init.data.toList.drop 0 = dktJ21_init_0 := by decide +kernel
theorem dJ21_init_0 : decode cJ21_init 0 = .ok (.aload_n 0, 1) := dk_42 (dk_at dksJ21_init_0 0 rfl rfl)
theorem dJ21_init_1 : decode cJ21_init 1 = .ok (.aload_n 1, 1) := dk_43 (dk_at dksJ21_init_0 1 rfl rfl)
theorem dJ21_init_2 : decode cJ21_init 2 = .ok (.invokespecial 10, 3) := dk_183 0 10 (dk_at dksJ21_init_0 2 rfl rfl)
theorem dJ21_init_5 : decode cJ21_init 5 = .ok (.return_, 1) := dk_177 (dk_at dksJ21_init_0 5 rfl rfl)
theorem q104 : (Jvm.Cond.initialized "java/util/NoSuchElementException") ∈ lw_all := lw_g (lw_at lw_m1 30 rfl) rfl
theorem q555 : (Jvm.Cond.selects "java/util/NoSuchElementException" ({ cls := "java/lang/Object", name := "getClass", desc := "()Ljava/lang/Class;" } : Jvm.MethodName) ({ cls := "java/lang/Object", name := "getClass", desc := "()Ljava/lang/Class;" } : Jvm.MethodName)) ∈ lw_all := lw_g (lw_at lw_m3 1 rfl) rfl
theorem q925 : (Jvm.Cond.instantiable "java/util/NoSuchElementException" (6 : Nat)) ∈ lw_all := lw_g (lw_at lw_m4 131 rfl) rfl
theorem q926 : (Jvm.Cond.castable "java/util/NoSuchElementException" "java/util/NoSuchElementException") ∈ lw_tbl := lw_at lw_m4 132 rfl
theorem q933 : (Jvm.Cond.selects "java/util/NoSuchElementException" ({ cls := "java/lang/Throwable", name := "fillInStackTrace", desc := "(I)Ljava/lang/Throwable;" } : Jvm.MethodName) ({ cls := "java/lang/Throwable", name := "fillInStackTrace", desc := "(I)Ljava/lang/Throwable;" } : Jvm.MethodName)) ∈ lw_all := lw_g (lw_at lw_m4 139 rfl) rfl
theorem q934 : (Jvm.Cond.selects "java/util/NoSuchElementException" ({ cls := "java/lang/Throwable", name := "fillInStackTrace", desc := "()Ljava/lang/Throwable;" } : Jvm.MethodName) ({ cls := "java/lang/Throwable", name := "fillInStackTrace", desc := "()Ljava/lang/Throwable;" } : Jvm.MethodName)) ∈ lw_all := lw_g (lw_at lw_m4 140 rfl) rfl
theorem q935 : (Jvm.Cond.lays "java/util/NoSuchElementException" "java/lang/Throwable" "cause" "Ljava/lang/Throwable;") ∈ lw_all := lw_g (lw_at lw_m4 141 rfl) rfl
theorem q937 : (Jvm.Cond.lays "java/util/NoSuchElementException" "java/lang/Throwable" "stackTrace" "[Ljava/lang/StackTraceElement;") ∈ lw_all := lw_g (lw_at lw_m4 143 rfl) rfl
theorem q939 : (Jvm.Cond.lays "java/util/NoSuchElementException" "java/lang/Throwable" "suppressedExceptions" "Ljava/util/List;") ∈ lw_all := lw_g (lw_at lw_m4 145 rfl) rfl
theorem q941 : (Jvm.Cond.lays "java/util/NoSuchElementException" "java/lang/Throwable" "detailMessage" "Ljava/lang/String;") ∈ lw_all := lw_g (lw_at lw_m4 147 rfl) rfl
theorem q943 : (Jvm.Cond.lays "java/util/NoSuchElementException" "java/lang/Throwable" "backtrace" "Ljava/lang/Object;") ∈ lw_all := lw_g (lw_at lw_m4 149 rfl) rfl
theorem q967 : (Jvm.Cond.instanceMethod ({ cls := "java/util/NoSuchElementException", name := "<init>", desc := "(Ljava/lang/Throwable;)V" } : Jvm.MethodName)) ∈ lw_all := lw_g (lw_at lw_m4 173 rfl) rfl
theorem q968 : (Jvm.Cond.code ({ cls := "java/util/NoSuchElementException", name := "<init>", desc := "(Ljava/lang/Throwable;)V" } : Jvm.MethodName) prog_54_method_3_code (2 : Nat) (Option.none : Option Jvm.ClassFile.FieldType)) ∈ lw_all := lw_g (lw_at lw_m4 174 rfl) rfl
theorem q969 : (Jvm.Cond.methodLink "java/util/NoSuchElementException" (10 : Nat) ({ cls := "java/lang/RuntimeException", name := "<init>", desc := "(Ljava/lang/Throwable;)V" } : Jvm.MethodName)) ∈ lw_all := lw_g (lw_at lw_m4 175 rfl) rfl
theorem q984 : (Jvm.Cond.selects "java/util/NoSuchElementException" ({ cls := "java/lang/Throwable", name := "toString", desc := "()Ljava/lang/String;" } : Jvm.MethodName) ({ cls := "java/lang/Throwable", name := "toString", desc := "()Ljava/lang/String;" } : Jvm.MethodName)) ∈ lw_all := lw_g (lw_at lw_m4 190 rfl) rfl
theorem q993 : (Jvm.Cond.selects "java/util/NoSuchElementException" ({ cls := "java/lang/Throwable", name := "getLocalizedMessage", desc := "()Ljava/lang/String;" } : Jvm.MethodName) ({ cls := "java/lang/Throwable", name := "getLocalizedMessage", desc := "()Ljava/lang/String;" } : Jvm.MethodName)) ∈ lw_all := lw_g (lw_at lw_m4 199 rfl) rfl
theorem q1001 : (Jvm.Cond.selects "java/util/NoSuchElementException" ({ cls := "java/lang/Throwable", name := "getMessage", desc := "()Ljava/lang/String;" } : Jvm.MethodName) ({ cls := "java/lang/Throwable", name := "getMessage", desc := "()Ljava/lang/String;" } : Jvm.MethodName)) ∈ lw_all := lw_g (lw_at lw_m4 207 rfl) rfl
theorem q1207 : (Jvm.Cond.lays "java/util/NoSuchElementException" "java/lang/Throwable" "depth" "I") ∈ lw_all := lw_g (lw_at lw_m5 173 rfl) rfl
theorem q1210 : (Jvm.Cond.superclass "java/util/NoSuchElementException" "java/lang/RuntimeException") ∈ lw_all := lw_g (lw_at lw_m5 176 rfl) rfl
theorem q2049 : (Jvm.Cond.castable "java/util/NoSuchElementException" "java/lang/Object") ∈ lw_tbl := lw_at lw_m9 55 rfl
theorem in_J21 : ∀ w ∈ wsJ210, w ∈ lw_all := lw_in wsJ210 [935, 937, 939, 941, 943, 1207] (by decide +kernel) (by decide +kernel)
/-! java/lang/AbstractStringBuilder -/
set_option maxRecDepth 100000
def RJ22 : String := "java/lang/AbstractStringBuilder"
abbrev cJ22_init : ByteArray := prog_11_method_2_code
def yJ22_init : MethodName := ⟨RJ22, "<init>", "(I)V"⟩
def dkwJ22_init_1 : List UInt8 := [167, 0, 16, 42, 27, 184, 0, 26, 181, 0, 15, 42, 4, 181, 0, 22, 177]
abbrev dktJ22_init_1 : List UInt8 := dkwJ22_init_1 ++ []
def dkwJ22_init_0 : List UInt8 := [42, 183, 0, 3, 178, 0, 18, 153, 0, 18, 42, 27, 188, 8, 181, 0, 15, 42, 3, 181, 0, 22]
abbrev dktJ22_init_0 : List UInt8 := dkwJ22_init_0 ++ dktJ22_init_1
theorem dksJ22_init_0 : cJ22_init.data.toList.drop 0 = dktJ22_init_0 := by decide +kernel
theorem dksJ22_init_1 : cJ22_init.data.toList.drop 22 = dktJ22_init_1 := dk_seg dksJ22_init_0 22 rfl rfl
theorem dJ22_init_0 : decode cJ22_init 0 = .ok (.aload_n 0, 1) := dk_42 (dk_at dksJ22_init_0 0 rfl rfl)
theorem dJ22_init_1 : decode cJ22_init 1 = .ok (.invokespecial 3, 3) := dk_183 0 3 (dk_at dksJ22_init_0 1 rfl rfl)
theorem dJ22_init_4 : decode cJ22_init 4 = .ok (.getstatic 18, 3) := dk_178 0 18 (dk_at dksJ22_init_0 4 rfl rfl)
theorem dJ22_init_7 : decode cJ22_init 7 = .ok (.ifCond .eq 18, 3) := dk_153 0 18 (dk_at dksJ22_init_0 7 rfl rfl)
theorem dJ22_init_10 : decode cJ22_init 10 = .ok (.aload_n 0, 1) := dk_42 (dk_at dksJ22_init_0 10 rfl rfl)
theorem dJ22_init_11 : decode cJ22_init 11 = .ok (.iload_n 1, 1) := dk_27 (dk_at dksJ22_init_0 11 rfl rfl)
theorem dJ22_init_12 : decode cJ22_init 12 = .ok (.newarray .byte, 2) := dk_188_8 (dk_at dksJ22_init_0 12 rfl rfl)
theorem dJ22_init_14 : decode cJ22_init 14 = .ok (.putfield 15, 3) := dk_181 0 15 (dk_at dksJ22_init_0 14 rfl rfl)
theorem dJ22_init_17 : decode cJ22_init 17 = .ok (.aload_n 0, 1) := dk_42 (dk_at dksJ22_init_0 17 rfl rfl)
theorem dJ22_init_18 : decode cJ22_init 18 = .ok (.iconst 0, 1) := dk_3 (dk_at dksJ22_init_0 18 rfl rfl)
theorem dJ22_init_19 : decode cJ22_init 19 = .ok (.putfield 22, 3) := dk_181 0 22 (dk_at dksJ22_init_0 19 rfl rfl)
theorem dJ22_init_22 : decode cJ22_init 22 = .ok (.goto 16, 3) := dk_167 0 16 (dk_at dksJ22_init_1 0 rfl rfl)
theorem dJ22_init_25 : decode cJ22_init 25 = .ok (.aload_n 0, 1) := dk_42 (dk_at dksJ22_init_1 3 rfl rfl)
theorem dJ22_init_26 : decode cJ22_init 26 = .ok (.iload_n 1, 1) := dk_27 (dk_at dksJ22_init_1 4 rfl rfl)
theorem dJ22_init_27 : decode cJ22_init 27 = .ok (.invokestatic 26, 3) := dk_184 0 26 (dk_at dksJ22_init_1 5 rfl rfl)
theorem dJ22_init_30 : decode cJ22_init 30 = .ok (.putfield 15, 3) := dk_181 0 15 (dk_at dksJ22_init_1 8 rfl rfl)
theorem dJ22_init_33 : decode cJ22_init 33 = .ok (.aload_n 0, 1) := dk_42 (dk_at dksJ22_init_1 11 rfl rfl)
theorem dJ22_init_34 : decode cJ22_init 34 = .ok (.iconst 1, 1) := dk_4 (dk_at dksJ22_init_1 12 rfl rfl)
theorem dJ22_init_35 : decode cJ22_init 35 = .ok (.putfield 22, 3) := dk_181 0 22 (dk_at dksJ22_init_1 13 rfl rfl)
theorem dJ22_init_38 : decode cJ22_init 38 = .ok (.return_, 1) := dk_177 (dk_at dksJ22_init_1 16 rfl rfl)
abbrev cJ22_append : ByteArray := prog_11_method_22_code
def yJ22_append : MethodName := ⟨RJ22, "append", "(Ljava/lang/String;)Ljava/lang/AbstractStringBuilder;"⟩
def dkwJ22_append_1 : List UInt8 := [42, 42, 180, 0, 79, 43, 182, 0, 208, 42, 89, 180, 0, 79, 28, 96, 181, 0, 79, 42, 176]
abbrev dktJ22_append_1 : List UInt8 := dkwJ22_append_1 ++ []
def dkwJ22_append_0 : List UInt8 := [43, 199, 0, 8, 42, 182, 0, 204, 176, 43, 182, 0, 32, 61, 42, 42, 180, 0, 79, 28, 96, 182, 0, 100]
abbrev dktJ22_append_0 : List UInt8 := dkwJ22_append_0 ++ dktJ22_append_1
theorem dksJ22_append_0 : cJ22_append.data.toList.drop 0 = dktJ22_append_0 := by decide +kernel
theorem dksJ22_append_1 : cJ22_append.data.toList.drop 24 = dktJ22_append_1 := dk_seg dksJ22_append_0 24 rfl rfl
theorem dJ22_append_0 : decode cJ22_append 0 = .ok (.aload_n 1, 1) := dk_43 (dk_at dksJ22_append_0 0 rfl rfl)
theorem dJ22_append_1 : decode cJ22_append 1 = .ok (.ifnonnull 8, 3) := dk_199 0 8 (dk_at dksJ22_append_0 1 rfl rfl)
theorem dJ22_append_4 : decode cJ22_append 4 = .ok (.aload_n 0, 1) := dk_42 (dk_at dksJ22_append_0 4 rfl rfl)
theorem dJ22_append_5 : decode cJ22_append 5 = .ok (.invokevirtual 204, 3) := dk_182 0 204 (dk_at dksJ22_append_0 5 rfl rfl)
theorem dJ22_append_8 : decode cJ22_append 8 = .ok (.areturn, 1) := dk_176 (dk_at dksJ22_append_0 8 rfl rfl)
theorem dJ22_append_9 : decode cJ22_append 9 = .ok (.aload_n 1, 1) := dk_43 (dk_at dksJ22_append_0 9 rfl rfl)
theorem dJ22_append_10 : decode cJ22_append 10 = .ok (.invokevirtual 32, 3) := dk_182 0 32 (dk_at dksJ22_append_0 10 rfl rfl)
theorem dJ22_append_13 : decode cJ22_append 13 = .ok (.istore_n 2, 1) := dk_61 (dk_at dksJ22_append_0 13 rfl rfl)
theorem dJ22_append_14 : decode cJ22_append 14 = .ok (.aload_n 0, 1) := dk_42 (dk_at dksJ22_append_0 14 rfl rfl)
theorem dJ22_append_15 : decode cJ22_append 15 = .ok (.aload_n 0, 1) := dk_42 (dk_at dksJ22_append_0 15 rfl rfl)
theorem dJ22_append_16 : decode cJ22_append 16 = .ok (.getfield 79, 3) := dk_180 0 79 (dk_at dksJ22_append_0 16 rfl rfl)
theorem dJ22_append_19 : decode cJ22_append 19 = .ok (.iload_n 2, 1) := dk_28 (dk_at dksJ22_append_0 19 rfl rfl)
theorem dJ22_append_20 : decode cJ22_append 20 = .ok (.iadd, 1) := dk_96 (dk_at dksJ22_append_0 20 rfl rfl)
theorem dJ22_append_21 : decode cJ22_append 21 = .ok (.invokevirtual 100, 3) := dk_182 0 100 (dk_at dksJ22_append_0 21 rfl rfl)
theorem dJ22_append_24 : decode cJ22_append 24 = .ok (.aload_n 0, 1) := dk_42 (dk_at dksJ22_append_1 0 rfl rfl)
theorem dJ22_append_25 : decode cJ22_append 25 = .ok (.aload_n 0, 1) := dk_42 (dk_at dksJ22_append_1 1 rfl rfl)
theorem dJ22_append_26 : decode cJ22_append 26 = .ok (.getfield 79, 3) := dk_180 0 79 (dk_at dksJ22_append_1 2 rfl rfl)
theorem dJ22_append_29 : decode cJ22_append 29 = .ok (.aload_n 1, 1) := dk_43 (dk_at dksJ22_append_1 5 rfl rfl)
theorem dJ22_append_30 : decode cJ22_append 30 = .ok (.invokevirtual 208, 3) := dk_182 0 208 (dk_at dksJ22_append_1 6 rfl rfl)
theorem dJ22_append_33 : decode cJ22_append 33 = .ok (.aload_n 0, 1) := dk_42 (dk_at dksJ22_append_1 9 rfl rfl)
theorem dJ22_append_34 : decode cJ22_append 34 = .ok (.dup, 1) := dk_89 (dk_at dksJ22_append_1 10 rfl rfl)
theorem dJ22_append_35 : decode cJ22_append 35 = .ok (.getfield 79, 3) := dk_180 0 79 (dk_at dksJ22_append_1 11 rfl rfl)
theorem dJ22_append_38 : decode cJ22_append 38 = .ok (.iload_n 2, 1) := dk_28 (dk_at dksJ22_append_1 14 rfl rfl)
theorem dJ22_append_39 : decode cJ22_append 39 = .ok (.iadd, 1) := dk_96 (dk_at dksJ22_append_1 15 rfl rfl)
theorem dJ22_append_40 : decode cJ22_append 40 = .ok (.putfield 79, 3) := dk_181 0 79 (dk_at dksJ22_append_1 16 rfl rfl)
theorem dJ22_append_43 : decode cJ22_append 43 = .ok (.aload_n 0, 1) := dk_42 (dk_at dksJ22_append_1 19 rfl rfl)
theorem dJ22_append_44 : decode cJ22_append 44 = .ok (.areturn, 1) := dk_176 (dk_at dksJ22_append_1 20 rfl rfl)
abbrev cJ22_appendNull : ByteArray := prog_11_method_26_code
def yJ22_appendNull : MethodName := ⟨RJ22, "appendNull", "()Ljava/lang/AbstractStringBuilder;"⟩
def dkwJ22_appendNull_3 : List UInt8 := [184, 0, 226, 60, 42, 27, 181, 0, 79, 42, 176]
abbrev dktJ22_appendNull_3 : List UInt8 := dkwJ22_appendNull_3 ++ []
def dkwJ22_appendNull_2 : List UInt8 := [16, 108, 84, 44, 27, 132, 1, 1, 16, 108, 84, 167, 0, 17, 44, 27, 16, 110, 16, 117, 16, 108, 16, 108]
abbrev dktJ22_appendNull_2 : List UInt8 := dkwJ22_appendNull_2 ++ dktJ22_appendNull_3
def dkwJ22_appendNull_1 : List UInt8 := [153, 0, 38, 44, 27, 132, 1, 1, 16, 110, 84, 44, 27, 132, 1, 1, 16, 117, 84, 44, 27, 132, 1, 1]
abbrev dktJ22_appendNull_1 : List UInt8 := dkwJ22_appendNull_1 ++ dktJ22_appendNull_2
def dkwJ22_appendNull_0 : List UInt8 := [42, 42, 180, 0, 79, 7, 96, 182, 0, 100, 42, 180, 0, 79, 60, 42, 180, 0, 15, 77, 42, 182, 0, 83]
abbrev dktJ22_appendNull_0 : List UInt8 := dkwJ22_appendNull_0 ++ dktJ22_appendNull_1
theorem dksJ22_appendNull_0 : cJ22_appendNull.data.toList.drop 0 = dktJ22_appendNull_0 := by decide +kernel
theorem dksJ22_appendNull_1 : cJ22_appendNull.data.toList.drop 24 = dktJ22_appendNull_1 := dk_seg dksJ22_appendNull_0 24 rfl rfl
theorem dksJ22_appendNull_2 : cJ22_appendNull.data.toList.drop 48 = dktJ22_appendNull_2 := dk_seg dksJ22_appendNull_1 24 rfl rfl
theorem dksJ22_appendNull_3 : cJ22_appendNull.data.toList.drop 72 = dktJ22_appendNull_3 := dk_seg dksJ22_appendNull_2 24 rfl rfl
theorem dJ22_appendNull_0 : decode cJ22_appendNull 0 = .ok (.aload_n 0, 1) := dk_42 (dk_at dksJ22_appendNull_0 0 rfl rfl)
theorem dJ22_appendNull_1 : decode cJ22_appendNull 1 = .ok (.aload_n 0, 1) := dk_42 (dk_at dksJ22_appendNull_0 1 rfl rfl)
theorem dJ22_appendNull_2 : decode cJ22_appendNull 2 = .ok (.getfield 79, 3) := dk_180 0 79 (dk_at dksJ22_appendNull_0 2 rfl rfl)
theorem dJ22_appendNull_5 : decode cJ22_appendNull 5 = .ok (.iconst 4, 1) := dk_7 (dk_at dksJ22_appendNull_0 5 rfl rfl)
theorem dJ22_appendNull_6 : decode cJ22_appendNull 6 = .ok (.iadd, 1) := dk_96 (dk_at dksJ22_appendNull_0 6 rfl rfl)
theorem dJ22_appendNull_7 : decode cJ22_appendNull 7 = .ok (.invokevirtual 100, 3) := dk_182 0 100 (dk_at dksJ22_appendNull_0 7 rfl rfl)
theorem dJ22_appendNull_10 : decode cJ22_appendNull 10 = .ok (.aload_n 0, 1) := dk_42 (dk_at dksJ22_appendNull_0 10 rfl rfl)
theorem dJ22_appendNull_11 : decode cJ22_appendNull 11 = .ok (.getfield 79, 3) := dk_180 0 79 (dk_at dksJ22_appendNull_0 11 rfl rfl)
theorem dJ22_appendNull_14 : decode cJ22_appendNull 14 = .ok (.istore_n 1, 1) := dk_60 (dk_at dksJ22_appendNull_0 14 rfl rfl)
theorem dJ22_appendNull_15 : decode cJ22_appendNull 15 = .ok (.aload_n 0, 1) := dk_42 (dk_at dksJ22_appendNull_0 15 rfl rfl)
theorem dJ22_appendNull_16 : decode cJ22_appendNull 16 = .ok (.getfield 15, 3) := dk_180 0 15 (dk_at dksJ22_appendNull_0 16 rfl rfl)
theorem dJ22_appendNull_19 : decode cJ22_appendNull 19 = .ok (.astore_n 2, 1) := dk_77 (dk_at dksJ22_appendNull_0 19 rfl rfl)
theorem dJ22_appendNull_20 : decode cJ22_appendNull 20 = .ok (.aload_n 0, 1) := dk_42 (dk_at dksJ22_appendNull_0 20 rfl rfl)
theorem dJ22_appendNull_21 : decode cJ22_appendNull 21 = .ok (.invokevirtual 83, 3) := dk_182 0 83 (dk_at dksJ22_appendNull_0 21 rfl rfl)
theorem dJ22_appendNull_24 : decode cJ22_appendNull 24 = .ok (.ifCond .eq 38, 3) := dk_153 0 38 (dk_at dksJ22_appendNull_1 0 rfl rfl)
theorem dJ22_appendNull_27 : decode cJ22_appendNull 27 = .ok (.aload_n 2, 1) := dk_44 (dk_at dksJ22_appendNull_1 3 rfl rfl)
theorem dJ22_appendNull_28 : decode cJ22_appendNull 28 = .ok (.iload_n 1, 1) := dk_27 (dk_at dksJ22_appendNull_1 4 rfl rfl)
theorem dJ22_appendNull_29 : decode cJ22_appendNull 29 = .ok (.iinc 1 1, 3) := dk_132 1 1 (dk_at dksJ22_appendNull_1 5 rfl rfl)
theorem dJ22_appendNull_32 : decode cJ22_appendNull 32 = .ok (.bipush 110, 2) := dk_16 110 (dk_at dksJ22_appendNull_1 8 rfl rfl)
theorem dJ22_appendNull_34 : decode cJ22_appendNull 34 = .ok (.bastore, 1) := dk_84 (dk_at dksJ22_appendNull_1 10 rfl rfl)
theorem dJ22_appendNull_35 : decode cJ22_appendNull 35 = .ok (.aload_n 2, 1) := dk_44 (dk_at dksJ22_appendNull_1 11 rfl rfl)
theorem dJ22_appendNull_36 : decode cJ22_appendNull 36 = .ok (.iload_n 1, 1) := dk_27 (dk_at dksJ22_appendNull_1 12 rfl rfl)
theorem dJ22_appendNull_37 : decode cJ22_appendNull 37 = .ok (.iinc 1 1, 3) := dk_132 1 1 (dk_at dksJ22_appendNull_1 13 rfl rfl)
theorem dJ22_appendNull_40 : decode cJ22_appendNull 40 = .ok (.bipush 117, 2) := dk_16 117 (dk_at dksJ22_appendNull_1 16 rfl rfl)
theorem dJ22_appendNull_42 : decode cJ22_appendNull 42 = .ok (.bastore, 1) := dk_84 (dk_at dksJ22_appendNull_1 18 rfl rfl)
theorem dJ22_appendNull_43 : decode cJ22_appendNull 43 = .ok (.aload_n 2, 1) := dk_44 (dk_at dksJ22_appendNull_1 19 rfl rfl)
theorem dJ22_appendNull_44 : decode cJ22_appendNull 44 = .ok (.iload_n 1, 1) := dk_27 (dk_at dksJ22_appendNull_1 20 rfl rfl)
theorem dJ22_appendNull_45 : decode cJ22_appendNull 45 = .ok (.iinc 1 1, 3) := dk_132 1 1 (dk_at dksJ22_appendNull_1 21 rfl rfl)
theorem dJ22_appendNull_48 : decode cJ22_appendNull 48 = .ok (.bipush 108, 2) := dk_16 108 (dk_at dksJ22_appendNull_2 0 rfl rfl)
theorem dJ22_appendNull_50 : decode cJ22_appendNull 50 = .ok (.bastore, 1) := dk_84 (dk_at dksJ22_appendNull_2 2 rfl rfl)
theorem dJ22_appendNull_51 : decode cJ22_appendNull 51 = .ok (.aload_n 2, 1) := dk_44 (dk_at dksJ22_appendNull_2 3 rfl rfl)
theorem dJ22_appendNull_52 : decode cJ22_appendNull 52 = .ok (.iload_n 1, 1) := dk_27 (dk_at dksJ22_appendNull_2 4 rfl rfl)
theorem dJ22_appendNull_53 : decode cJ22_appendNull 53 = .ok (.iinc 1 1, 3) := dk_132 1 1 (dk_at dksJ22_appendNull_2 5 rfl rfl)
theorem dJ22_appendNull_56 : decode cJ22_appendNull 56 = .ok (.bipush 108, 2) := dk_16 108 (dk_at dksJ22_appendNull_2 8 rfl rfl)
theorem dJ22_appendNull_58 : decode cJ22_appendNull 58 = .ok (.bastore, 1) := dk_84 (dk_at dksJ22_appendNull_2 10 rfl rfl)
theorem dJ22_appendNull_59 : decode cJ22_appendNull 59 = .ok (.goto 17, 3) := dk_167 0 17 (dk_at dksJ22_appendNull_2 11 rfl rfl)
theorem dJ22_appendNull_62 : decode cJ22_appendNull 62 = .ok (.aload_n 2, 1) := dk_44 (dk_at dksJ22_appendNull_2 14 rfl rfl)
theorem dJ22_appendNull_63 : decode cJ22_appendNull 63 = .ok (.iload_n 1, 1) := dk_27 (dk_at dksJ22_appendNull_2 15 rfl rfl)
theorem dJ22_appendNull_64 : decode cJ22_appendNull 64 = .ok (.bipush 110, 2) := dk_16 110 (dk_at dksJ22_appendNull_2 16 rfl rfl)
theorem dJ22_appendNull_66 : decode cJ22_appendNull 66 = .ok (.bipush 117, 2) := dk_16 117 (dk_at dksJ22_appendNull_2 18 rfl rfl)
theorem dJ22_appendNull_68 : decode cJ22_appendNull 68 = .ok (.bipush 108, 2) := dk_16 108 (dk_at dksJ22_appendNull_2 20 rfl rfl)
theorem dJ22_appendNull_70 : decode cJ22_appendNull 70 = .ok (.bipush 108, 2) := dk_16 108 (dk_at dksJ22_appendNull_2 22 rfl rfl)
theorem dJ22_appendNull_72 : decode cJ22_appendNull 72 = .ok (.invokestatic 226, 3) := dk_184 0 226 (dk_at dksJ22_appendNull_3 0 rfl rfl)
theorem dJ22_appendNull_75 : decode cJ22_appendNull 75 = .ok (.istore_n 1, 1) := dk_60 (dk_at dksJ22_appendNull_3 3 rfl rfl)
theorem dJ22_appendNull_76 : decode cJ22_appendNull 76 = .ok (.aload_n 0, 1) := dk_42 (dk_at dksJ22_appendNull_3 4 rfl rfl)
theorem dJ22_appendNull_77 : decode cJ22_appendNull 77 = .ok (.iload_n 1, 1) := dk_27 (dk_at dksJ22_appendNull_3 5 rfl rfl)
theorem dJ22_appendNull_78 : decode cJ22_appendNull 78 = .ok (.putfield 79, 3) := dk_181 0 79 (dk_at dksJ22_appendNull_3 6 rfl rfl)
theorem dJ22_appendNull_81 : decode cJ22_appendNull 81 = .ok (.aload_n 0, 1) := dk_42 (dk_at dksJ22_appendNull_3 9 rfl rfl)
theorem dJ22_appendNull_82 : decode cJ22_appendNull 82 = .ok (.areturn, 1) := dk_176 (dk_at dksJ22_appendNull_3 10 rfl rfl)
abbrev cJ22_ensureCapacityInternal : ByteArray := prog_11_method_9_code
def yJ22_ensureCapacityInternal : MethodName := ⟨RJ22, "ensureCapacityInternal", "(I)V"⟩
def dkwJ22_ensureCapacityInternal_1 : List UInt8 := [182, 0, 104, 42, 180, 0, 22, 120, 184, 0, 108, 181, 0, 15, 177]
abbrev dktJ22_ensureCapacityInternal_1 : List UInt8 := dkwJ22_ensureCapacityInternal_1 ++ []
def dkwJ22_ensureCapacityInternal_0 : List UInt8 := [42, 180, 0, 15, 190, 42, 180, 0, 22, 122, 61, 27, 28, 100, 158, 0, 24, 42, 42, 180, 0, 15, 42, 27]
abbrev dktJ22_ensureCapacityInternal_0 : List UInt8 := dkwJ22_ensureCapacityInternal_0 ++ dktJ22_ensureCapacityInternal_1
theorem dksJ22_ensureCapacityInternal_0 : cJ22_ensureCapacityInternal.data.toList.drop 0 = dktJ22_ensureCapacityInternal_0 := by decide +kernel
theorem dksJ22_ensureCapacityInternal_1 : cJ22_ensureCapacityInternal.data.toList.drop 24 = dktJ22_ensureCapacityInternal_1 := dk_seg dksJ22_ensureCapacityInternal_0 24 rfl rfl
theorem dJ22_ensureCapacityInternal_0 : decode cJ22_ensureCapacityInternal 0 = .ok (.aload_n 0, 1) := dk_42 (dk_at dksJ22_ensureCapacityInternal_0 0 rfl rfl)
theorem dJ22_ensureCapacityInternal_1 : decode cJ22_ensureCapacityInternal 1 = .ok (.getfield 15, 3) := dk_180 0 15 (dk_at dksJ22_ensureCapacityInternal_0 1 rfl rfl)
theorem dJ22_ensureCapacityInternal_4 : decode cJ22_ensureCapacityInternal 4 = .ok (.arraylength, 1) := dk_190 (dk_at dksJ22_ensureCapacityInternal_0 4 rfl rfl)
theorem dJ22_ensureCapacityInternal_5 : decode cJ22_ensureCapacityInternal 5 = .ok (.aload_n 0, 1) := dk_42 (dk_at dksJ22_ensureCapacityInternal_0 5 rfl rfl)
theorem dJ22_ensureCapacityInternal_6 : decode cJ22_ensureCapacityInternal 6 = .ok (.getfield 22, 3) := dk_180 0 22 (dk_at dksJ22_ensureCapacityInternal_0 6 rfl rfl)
theorem dJ22_ensureCapacityInternal_9 : decode cJ22_ensureCapacityInternal 9 = .ok (.ishr, 1) := dk_122 (dk_at dksJ22_ensureCapacityInternal_0 9 rfl rfl)
theorem dJ22_ensureCapacityInternal_10 : decode cJ22_ensureCapacityInternal 10 = .ok (.istore_n 2, 1) := dk_61 (dk_at dksJ22_ensureCapacityInternal_0 10 rfl rfl)
theorem dJ22_ensureCapacityInternal_11 : decode cJ22_ensureCapacityInternal 11 = .ok (.iload_n 1, 1) := dk_27 (dk_at dksJ22_ensureCapacityInternal_0 11 rfl rfl)
theorem dJ22_ensureCapacityInternal_12 : decode cJ22_ensureCapacityInternal 12 = .ok (.iload_n 2, 1) := dk_28 (dk_at dksJ22_ensureCapacityInternal_0 12 rfl rfl)
theorem dJ22_ensureCapacityInternal_13 : decode cJ22_ensureCapacityInternal 13 = .ok (.isub, 1) := dk_100 (dk_at dksJ22_ensureCapacityInternal_0 13 rfl rfl)
theorem dJ22_ensureCapacityInternal_14 : decode cJ22_ensureCapacityInternal 14 = .ok (.ifCond .le 24, 3) := dk_158 0 24 (dk_at dksJ22_ensureCapacityInternal_0 14 rfl rfl)
theorem dJ22_ensureCapacityInternal_17 : decode cJ22_ensureCapacityInternal 17 = .ok (.aload_n 0, 1) := dk_42 (dk_at dksJ22_ensureCapacityInternal_0 17 rfl rfl)
theorem dJ22_ensureCapacityInternal_18 : decode cJ22_ensureCapacityInternal 18 = .ok (.aload_n 0, 1) := dk_42 (dk_at dksJ22_ensureCapacityInternal_0 18 rfl rfl)
theorem dJ22_ensureCapacityInternal_19 : decode cJ22_ensureCapacityInternal 19 = .ok (.getfield 15, 3) := dk_180 0 15 (dk_at dksJ22_ensureCapacityInternal_0 19 rfl rfl)
theorem dJ22_ensureCapacityInternal_22 : decode cJ22_ensureCapacityInternal 22 = .ok (.aload_n 0, 1) := dk_42 (dk_at dksJ22_ensureCapacityInternal_0 22 rfl rfl)
theorem dJ22_ensureCapacityInternal_23 : decode cJ22_ensureCapacityInternal 23 = .ok (.iload_n 1, 1) := dk_27 (dk_at dksJ22_ensureCapacityInternal_0 23 rfl rfl)
theorem dJ22_ensureCapacityInternal_24 : decode cJ22_ensureCapacityInternal 24 = .ok (.invokevirtual 104, 3) := dk_182 0 104 (dk_at dksJ22_ensureCapacityInternal_1 0 rfl rfl)
theorem dJ22_ensureCapacityInternal_27 : decode cJ22_ensureCapacityInternal 27 = .ok (.aload_n 0, 1) := dk_42 (dk_at dksJ22_ensureCapacityInternal_1 3 rfl rfl)
theorem dJ22_ensureCapacityInternal_28 : decode cJ22_ensureCapacityInternal 28 = .ok (.getfield 22, 3) := dk_180 0 22 (dk_at dksJ22_ensureCapacityInternal_1 4 rfl rfl)
theorem dJ22_ensureCapacityInternal_31 : decode cJ22_ensureCapacityInternal 31 = .ok (.ishl, 1) := dk_120 (dk_at dksJ22_ensureCapacityInternal_1 7 rfl rfl)
theorem dJ22_ensureCapacityInternal_32 : decode cJ22_ensureCapacityInternal 32 = .ok (.invokestatic 108, 3) := dk_184 0 108 (dk_at dksJ22_ensureCapacityInternal_1 8 rfl rfl)
theorem dJ22_ensureCapacityInternal_35 : decode cJ22_ensureCapacityInternal 35 = .ok (.putfield 15, 3) := dk_181 0 15 (dk_at dksJ22_ensureCapacityInternal_1 11 rfl rfl)
theorem dJ22_ensureCapacityInternal_38 : decode cJ22_ensureCapacityInternal 38 = .ok (.return_, 1) := dk_177 (dk_at dksJ22_ensureCapacityInternal_1 14 rfl rfl)
abbrev cJ22_newCapacity : ByteArray := prog_11_method_10_code
def yJ22_newCapacity : MethodName := ⟨RJ22, "newCapacity", "(I)I"⟩
def dkwJ22_newCapacity_2 : List UInt8 := [183, 0, 124, 191, 21, 5, 42, 180, 0, 22, 122, 172]
abbrev dktJ22_newCapacity_2 : List UInt8 := dkwJ22_newCapacity_2 ++ []
def dkwJ22_newCapacity_1 : List UInt8 := [180, 0, 22, 120, 96, 184, 0, 114, 54, 5, 21, 5, 18, 39, 160, 0, 13, 187, 0, 120, 89, 18, 122]
abbrev dktJ22_newCapacity_1 : List UInt8 := dkwJ22_newCapacity_1 ++ dktJ22_newCapacity_2
def dkwJ22_newCapacity_0 : List UInt8 := [42, 180, 0, 15, 190, 61, 27, 42, 180, 0, 22, 120, 62, 29, 28, 100, 54, 4, 28, 21, 4, 28, 5, 42]
abbrev dktJ22_newCapacity_0 : List UInt8 := dkwJ22_newCapacity_0 ++ dktJ22_newCapacity_1
theorem dksJ22_newCapacity_0 : cJ22_newCapacity.data.toList.drop 0 = dktJ22_newCapacity_0 := by decide +kernel
theorem dksJ22_newCapacity_1 : cJ22_newCapacity.data.toList.drop 24 = dktJ22_newCapacity_1 := dk_seg dksJ22_newCapacity_0 24 rfl rfl
theorem dksJ22_newCapacity_2 : cJ22_newCapacity.data.toList.drop 47 = dktJ22_newCapacity_2 := dk_seg dksJ22_newCapacity_1 23 rfl rfl
theorem dJ22_newCapacity_0 : decode cJ22_newCapacity 0 = .ok (.aload_n 0, 1) := dk_42 (dk_at dksJ22_newCapacity_0 0 rfl rfl)
theorem dJ22_newCapacity_1 : decode cJ22_newCapacity 1 = .ok (.getfield 15, 3) := dk_180 0 15 (dk_at dksJ22_newCapacity_0 1 rfl rfl)
theorem dJ22_newCapacity_4 : decode cJ22_newCapacity 4 = .ok (.arraylength, 1) := dk_190 (dk_at dksJ22_newCapacity_0 4 rfl rfl)
theorem dJ22_newCapacity_5 : decode cJ22_newCapacity 5 = .ok (.istore_n 2, 1) := dk_61 (dk_at dksJ22_newCapacity_0 5 rfl rfl)
theorem dJ22_newCapacity_6 : decode cJ22_newCapacity 6 = .ok (.iload_n 1, 1) := dk_27 (dk_at dksJ22_newCapacity_0 6 rfl rfl)
theorem dJ22_newCapacity_7 : decode cJ22_newCapacity 7 = .ok (.aload_n 0, 1) := dk_42 (dk_at dksJ22_newCapacity_0 7 rfl rfl)
theorem dJ22_newCapacity_8 : decode cJ22_newCapacity 8 = .ok (.getfield 22, 3) := dk_180 0 22 (dk_at dksJ22_newCapacity_0 8 rfl rfl)
theorem dJ22_newCapacity_11 : decode cJ22_newCapacity 11 = .ok (.ishl, 1) := dk_120 (dk_at dksJ22_newCapacity_0 11 rfl rfl)
theorem dJ22_newCapacity_12 : decode cJ22_newCapacity 12 = .ok (.istore_n 3, 1) := dk_62 (dk_at dksJ22_newCapacity_0 12 rfl rfl)
theorem dJ22_newCapacity_13 : decode cJ22_newCapacity 13 = .ok (.iload_n 3, 1) := dk_29 (dk_at dksJ22_newCapacity_0 13 rfl rfl)
theorem dJ22_newCapacity_14 : decode cJ22_newCapacity 14 = .ok (.iload_n 2, 1) := dk_28 (dk_at dksJ22_newCapacity_0 14 rfl rfl)
theorem dJ22_newCapacity_15 : decode cJ22_newCapacity 15 = .ok (.isub, 1) := dk_100 (dk_at dksJ22_newCapacity_0 15 rfl rfl)
theorem dJ22_newCapacity_16 : decode cJ22_newCapacity 16 = .ok (.istore 4, 2) := dk_54 4 (dk_at dksJ22_newCapacity_0 16 rfl rfl)
theorem dJ22_newCapacity_18 : decode cJ22_newCapacity 18 = .ok (.iload_n 2, 1) := dk_28 (dk_at dksJ22_newCapacity_0 18 rfl rfl)
theorem dJ22_newCapacity_19 : decode cJ22_newCapacity 19 = .ok (.iload 4, 2) := dk_21 4 (dk_at dksJ22_newCapacity_0 19 rfl rfl)
theorem dJ22_newCapacity_21 : decode cJ22_newCapacity 21 = .ok (.iload_n 2, 1) := dk_28 (dk_at dksJ22_newCapacity_0 21 rfl rfl)
theorem dJ22_newCapacity_22 : decode cJ22_newCapacity 22 = .ok (.iconst 2, 1) := dk_5 (dk_at dksJ22_newCapacity_0 22 rfl rfl)
theorem dJ22_newCapacity_23 : decode cJ22_newCapacity 23 = .ok (.aload_n 0, 1) := dk_42 (dk_at dksJ22_newCapacity_0 23 rfl rfl)
theorem dJ22_newCapacity_24 : decode cJ22_newCapacity 24 = .ok (.getfield 22, 3) := dk_180 0 22 (dk_at dksJ22_newCapacity_1 0 rfl rfl)
theorem dJ22_newCapacity_27 : decode cJ22_newCapacity 27 = .ok (.ishl, 1) := dk_120 (dk_at dksJ22_newCapacity_1 3 rfl rfl)
theorem dJ22_newCapacity_28 : decode cJ22_newCapacity 28 = .ok (.iadd, 1) := dk_96 (dk_at dksJ22_newCapacity_1 4 rfl rfl)
theorem dJ22_newCapacity_29 : decode cJ22_newCapacity 29 = .ok (.invokestatic 114, 3) := dk_184 0 114 (dk_at dksJ22_newCapacity_1 5 rfl rfl)
theorem dJ22_newCapacity_32 : decode cJ22_newCapacity 32 = .ok (.istore 5, 2) := dk_54 5 (dk_at dksJ22_newCapacity_1 8 rfl rfl)
theorem dJ22_newCapacity_34 : decode cJ22_newCapacity 34 = .ok (.iload 5, 2) := dk_21 5 (dk_at dksJ22_newCapacity_1 10 rfl rfl)
theorem dJ22_newCapacity_36 : decode cJ22_newCapacity 36 = .ok (.ldc 39, 2) := dk_18 39 (dk_at dksJ22_newCapacity_1 12 rfl rfl)
theorem dJ22_newCapacity_38 : decode cJ22_newCapacity 38 = .ok (.if_icmp .ne 13, 3) := dk_160 0 13 (dk_at dksJ22_newCapacity_1 14 rfl rfl)
theorem dJ22_newCapacity_41 : decode cJ22_newCapacity 41 = .ok (.new 120, 3) := dk_187 0 120 (dk_at dksJ22_newCapacity_1 17 rfl rfl)
theorem dJ22_newCapacity_44 : decode cJ22_newCapacity 44 = .ok (.dup, 1) := dk_89 (dk_at dksJ22_newCapacity_1 20 rfl rfl)
theorem dJ22_newCapacity_45 : decode cJ22_newCapacity 45 = .ok (.ldc 122, 2) := dk_18 122 (dk_at dksJ22_newCapacity_1 21 rfl rfl)
theorem dJ22_newCapacity_47 : decode cJ22_newCapacity 47 = .ok (.invokespecial 124, 3) := dk_183 0 124 (dk_at dksJ22_newCapacity_2 0 rfl rfl)
theorem dJ22_newCapacity_50 : decode cJ22_newCapacity 50 = .ok (.athrow, 1) := dk_191 (dk_at dksJ22_newCapacity_2 3 rfl rfl)
theorem dJ22_newCapacity_51 : decode cJ22_newCapacity 51 = .ok (.iload 5, 2) := dk_21 5 (dk_at dksJ22_newCapacity_2 4 rfl rfl)
theorem dJ22_newCapacity_53 : decode cJ22_newCapacity 53 = .ok (.aload_n 0, 1) := dk_42 (dk_at dksJ22_newCapacity_2 6 rfl rfl)
theorem dJ22_newCapacity_54 : decode cJ22_newCapacity 54 = .ok (.getfield 22, 3) := dk_180 0 22 (dk_at dksJ22_newCapacity_2 7 rfl rfl)
theorem dJ22_newCapacity_57 : decode cJ22_newCapacity 57 = .ok (.ishr, 1) := dk_122 (dk_at dksJ22_newCapacity_2 10 rfl rfl)
theorem dJ22_newCapacity_58 : decode cJ22_newCapacity 58 = .ok (.ireturn, 1) := dk_172 (dk_at dksJ22_newCapacity_2 11 rfl rfl)
abbrev cJ22_isLatin1 : ByteArray := prog_11_method_68_code
def yJ22_isLatin1 : MethodName := ⟨RJ22, "isLatin1", "()Z"⟩
def dkwJ22_isLatin1_0 : List UInt8 := [178, 0, 18, 153, 0, 14, 42, 180, 0, 22, 154, 0, 7, 4, 167, 0, 4, 3, 172]
abbrev dktJ22_isLatin1_0 : List UInt8 := dkwJ22_isLatin1_0 ++ []
theorem dksJ22_isLatin1_0 : cJ22_isLatin1.data.toList.drop 0 = dktJ22_isLatin1_0 := by decide +kernel
theorem dJ22_isLatin1_0 : decode cJ22_isLatin1 0 = .ok (.getstatic 18, 3) := dk_178 0 18 (dk_at dksJ22_isLatin1_0 0 rfl rfl)
theorem dJ22_isLatin1_3 : decode cJ22_isLatin1 3 = .ok (.ifCond .eq 14, 3) := dk_153 0 14 (dk_at dksJ22_isLatin1_0 3 rfl rfl)
theorem dJ22_isLatin1_6 : decode cJ22_isLatin1 6 = .ok (.aload_n 0, 1) := dk_42 (dk_at dksJ22_isLatin1_0 6 rfl rfl)
theorem dJ22_isLatin1_7 : decode cJ22_isLatin1 7 = .ok (.getfield 22, 3) := dk_180 0 22 (dk_at dksJ22_isLatin1_0 7 rfl rfl)
theorem dJ22_isLatin1_10 : decode cJ22_isLatin1 10 = .ok (.ifCond .ne 7, 3) := dk_154 0 7 (dk_at dksJ22_isLatin1_0 10 rfl rfl)
theorem dJ22_isLatin1_13 : decode cJ22_isLatin1 13 = .ok (.iconst 1, 1) := dk_4 (dk_at dksJ22_isLatin1_0 13 rfl rfl)
theorem dJ22_isLatin1_14 : decode cJ22_isLatin1 14 = .ok (.goto 4, 3) := dk_167 0 4 (dk_at dksJ22_isLatin1_0 14 rfl rfl)
theorem dJ22_isLatin1_17 : decode cJ22_isLatin1 17 = .ok (.iconst 0, 1) := dk_3 (dk_at dksJ22_isLatin1_0 17 rfl rfl)
theorem dJ22_isLatin1_18 : decode cJ22_isLatin1 18 = .ok (.ireturn, 1) := dk_172 (dk_at dksJ22_isLatin1_0 18 rfl rfl)
abbrev cJ22_putStringAt : ByteArray := prog_11_method_73_code
def yJ22_putStringAt : MethodName := ⟨RJ22, "putStringAt", "(ILjava/lang/String;)V"⟩
def dkwJ22_putStringAt_0 : List UInt8 := [42, 44, 182, 1, 141, 44, 42, 180, 0, 15, 27, 42, 180, 0, 22, 182, 1, 143, 177]
abbrev dktJ22_putStringAt_0 : List UInt8 := dkwJ22_putStringAt_0 ++ []
theorem dksJ22_putStringAt_0 : cJ22_putStringAt.data.toList.drop 0 = dktJ22_putStringAt_0 := by decide +kernel
theorem dJ22_putStringAt_0 : decode cJ22_putStringAt 0 = .ok (.aload_n 0, 1) := dk_42 (dk_at dksJ22_putStringAt_0 0 rfl rfl)
theorem dJ22_putStringAt_1 : decode cJ22_putStringAt 1 = .ok (.aload_n 2, 1) := dk_44 (dk_at dksJ22_putStringAt_0 1 rfl rfl)
theorem dJ22_putStringAt_2 : decode cJ22_putStringAt 2 = .ok (.invokevirtual 397, 3) := dk_182 1 141 (dk_at dksJ22_putStringAt_0 2 rfl rfl)
theorem dJ22_putStringAt_5 : decode cJ22_putStringAt 5 = .ok (.aload_n 2, 1) := dk_44 (dk_at dksJ22_putStringAt_0 5 rfl rfl)
theorem dJ22_putStringAt_6 : decode cJ22_putStringAt 6 = .ok (.aload_n 0, 1) := dk_42 (dk_at dksJ22_putStringAt_0 6 rfl rfl)
theorem dJ22_putStringAt_7 : decode cJ22_putStringAt 7 = .ok (.getfield 15, 3) := dk_180 0 15 (dk_at dksJ22_putStringAt_0 7 rfl rfl)
theorem dJ22_putStringAt_10 : decode cJ22_putStringAt 10 = .ok (.iload_n 1, 1) := dk_27 (dk_at dksJ22_putStringAt_0 10 rfl rfl)
theorem dJ22_putStringAt_11 : decode cJ22_putStringAt 11 = .ok (.aload_n 0, 1) := dk_42 (dk_at dksJ22_putStringAt_0 11 rfl rfl)
theorem dJ22_putStringAt_12 : decode cJ22_putStringAt 12 = .ok (.getfield 22, 3) := dk_180 0 22 (dk_at dksJ22_putStringAt_0 12 rfl rfl)
theorem dJ22_putStringAt_15 : decode cJ22_putStringAt 15 = .ok (.invokevirtual 399, 3) := dk_182 1 143 (dk_at dksJ22_putStringAt_0 15 rfl rfl)
theorem dJ22_putStringAt_18 : decode cJ22_putStringAt 18 = .ok (.return_, 1) := dk_177 (dk_at dksJ22_putStringAt_0 18 rfl rfl)
abbrev cJ22_inflateIfNeededFor : ByteArray := prog_11_method_71_code
def yJ22_inflateIfNeededFor : MethodName := ⟨RJ22, "inflateIfNeededFor", "(Ljava/lang/String;)V"⟩
def dkwJ22_inflateIfNeededFor_0 : List UInt8 := [178, 0, 18, 153, 0, 18, 42, 180, 0, 22, 43, 182, 0, 40, 159, 0, 7, 42, 182, 0, 195, 177]
abbrev dktJ22_inflateIfNeededFor_0 : List UInt8 := dkwJ22_inflateIfNeededFor_0 ++ []
theorem dksJ22_inflateIfNeededFor_0 : cJ22_inflateIfNeededFor.data.toList.drop 0 = dktJ22_inflateIfNeededFor_0 := by decide +kernel
theorem dJ22_inflateIfNeededFor_0 : decode cJ22_inflateIfNeededFor 0 = .ok (.getstatic 18, 3) := dk_178 0 18 (dk_at dksJ22_inflateIfNeededFor_0 0 rfl rfl)
theorem dJ22_inflateIfNeededFor_3 : decode cJ22_inflateIfNeededFor 3 = .ok (.ifCond .eq 18, 3) := dk_153 0 18 (dk_at dksJ22_inflateIfNeededFor_0 3 rfl rfl)
theorem dJ22_inflateIfNeededFor_6 : decode cJ22_inflateIfNeededFor 6 = .ok (.aload_n 0, 1) := dk_42 (dk_at dksJ22_inflateIfNeededFor_0 6 rfl rfl)
theorem dJ22_inflateIfNeededFor_7 : decode cJ22_inflateIfNeededFor 7 = .ok (.getfield 22, 3) := dk_180 0 22 (dk_at dksJ22_inflateIfNeededFor_0 7 rfl rfl)
theorem dJ22_inflateIfNeededFor_10 : decode cJ22_inflateIfNeededFor 10 = .ok (.aload_n 1, 1) := dk_43 (dk_at dksJ22_inflateIfNeededFor_0 10 rfl rfl)
theorem dJ22_inflateIfNeededFor_11 : decode cJ22_inflateIfNeededFor 11 = .ok (.invokevirtual 40, 3) := dk_182 0 40 (dk_at dksJ22_inflateIfNeededFor_0 11 rfl rfl)
theorem dJ22_inflateIfNeededFor_14 : decode cJ22_inflateIfNeededFor 14 = .ok (.if_icmp .eq 7, 3) := dk_159 0 7 (dk_at dksJ22_inflateIfNeededFor_0 14 rfl rfl)
theorem dJ22_inflateIfNeededFor_17 : decode cJ22_inflateIfNeededFor 17 = .ok (.aload_n 0, 1) := dk_42 (dk_at dksJ22_inflateIfNeededFor_0 17 rfl rfl)
theorem dJ22_inflateIfNeededFor_18 : decode cJ22_inflateIfNeededFor 18 = .ok (.invokevirtual 195, 3) := dk_182 0 195 (dk_at dksJ22_inflateIfNeededFor_0 18 rfl rfl)
theorem dJ22_inflateIfNeededFor_21 : decode cJ22_inflateIfNeededFor 21 = .ok (.return_, 1) := dk_177 (dk_at dksJ22_inflateIfNeededFor_0 21 rfl rfl)
abbrev cJ22_inflate : ByteArray := prog_11_method_11_code
def yJ22_inflate : MethodName := ⟨RJ22, "inflate", "()V"⟩
def dkwJ22_inflate_1 : List UInt8 := [42, 180, 0, 79, 184, 0, 125, 42, 43, 181, 0, 15, 42, 4, 181, 0, 22, 177]
abbrev dktJ22_inflate_1 : List UInt8 := dkwJ22_inflate_1 ++ []
def dkwJ22_inflate_0 : List UInt8 := [42, 182, 0, 83, 154, 0, 4, 177, 42, 180, 0, 15, 190, 184, 0, 26, 76, 42, 180, 0, 15, 3, 43, 3]
abbrev dktJ22_inflate_0 : List UInt8 := dkwJ22_inflate_0 ++ dktJ22_inflate_1
theorem dksJ22_inflate_0 : cJ22_inflate.data.toList.drop 0 = dktJ22_inflate_0 := by decide +kernel
theorem dksJ22_inflate_1 : cJ22_inflate.data.toList.drop 24 = dktJ22_inflate_1 := dk_seg dksJ22_inflate_0 24 rfl rfl
theorem dJ22_inflate_0 : decode cJ22_inflate 0 = .ok (.aload_n 0, 1) := dk_42 (dk_at dksJ22_inflate_0 0 rfl rfl)
theorem dJ22_inflate_1 : decode cJ22_inflate 1 = .ok (.invokevirtual 83, 3) := dk_182 0 83 (dk_at dksJ22_inflate_0 1 rfl rfl)
theorem dJ22_inflate_4 : decode cJ22_inflate 4 = .ok (.ifCond .ne 4, 3) := dk_154 0 4 (dk_at dksJ22_inflate_0 4 rfl rfl)
theorem dJ22_inflate_7 : decode cJ22_inflate 7 = .ok (.return_, 1) := dk_177 (dk_at dksJ22_inflate_0 7 rfl rfl)
theorem dJ22_inflate_8 : decode cJ22_inflate 8 = .ok (.aload_n 0, 1) := dk_42 (dk_at dksJ22_inflate_0 8 rfl rfl)
theorem dJ22_inflate_9 : decode cJ22_inflate 9 = .ok (.getfield 15, 3) := dk_180 0 15 (dk_at dksJ22_inflate_0 9 rfl rfl)
theorem dJ22_inflate_12 : decode cJ22_inflate 12 = .ok (.arraylength, 1) := dk_190 (dk_at dksJ22_inflate_0 12 rfl rfl)
theorem dJ22_inflate_13 : decode cJ22_inflate 13 = .ok (.invokestatic 26, 3) := dk_184 0 26 (dk_at dksJ22_inflate_0 13 rfl rfl)
theorem dJ22_inflate_16 : decode cJ22_inflate 16 = .ok (.astore_n 1, 1) := dk_76 (dk_at dksJ22_inflate_0 16 rfl rfl)
theorem dJ22_inflate_17 : decode cJ22_inflate 17 = .ok (.aload_n 0, 1) := dk_42 (dk_at dksJ22_inflate_0 17 rfl rfl)
theorem dJ22_inflate_18 : decode cJ22_inflate 18 = .ok (.getfield 15, 3) := dk_180 0 15 (dk_at dksJ22_inflate_0 18 rfl rfl)
theorem dJ22_inflate_21 : decode cJ22_inflate 21 = .ok (.iconst 0, 1) := dk_3 (dk_at dksJ22_inflate_0 21 rfl rfl)
theorem dJ22_inflate_22 : decode cJ22_inflate 22 = .ok (.aload_n 1, 1) := dk_43 (dk_at dksJ22_inflate_0 22 rfl rfl)
theorem dJ22_inflate_23 : decode cJ22_inflate 23 = .ok (.iconst 0, 1) := dk_3 (dk_at dksJ22_inflate_0 23 rfl rfl)
theorem dJ22_inflate_24 : decode cJ22_inflate 24 = .ok (.aload_n 0, 1) := dk_42 (dk_at dksJ22_inflate_1 0 rfl rfl)
theorem dJ22_inflate_25 : decode cJ22_inflate 25 = .ok (.getfield 79, 3) := dk_180 0 79 (dk_at dksJ22_inflate_1 1 rfl rfl)
theorem dJ22_inflate_28 : decode cJ22_inflate 28 = .ok (.invokestatic 125, 3) := dk_184 0 125 (dk_at dksJ22_inflate_1 4 rfl rfl)
theorem dJ22_inflate_31 : decode cJ22_inflate 31 = .ok (.aload_n 0, 1) := dk_42 (dk_at dksJ22_inflate_1 7 rfl rfl)
theorem dJ22_inflate_32 : decode cJ22_inflate 32 = .ok (.aload_n 1, 1) := dk_43 (dk_at dksJ22_inflate_1 8 rfl rfl)
theorem dJ22_inflate_33 : decode cJ22_inflate 33 = .ok (.putfield 15, 3) := dk_181 0 15 (dk_at dksJ22_inflate_1 9 rfl rfl)
theorem dJ22_inflate_36 : decode cJ22_inflate 36 = .ok (.aload_n 0, 1) := dk_42 (dk_at dksJ22_inflate_1 12 rfl rfl)
theorem dJ22_inflate_37 : decode cJ22_inflate 37 = .ok (.iconst 1, 1) := dk_4 (dk_at dksJ22_inflate_1 13 rfl rfl)
theorem dJ22_inflate_38 : decode cJ22_inflate 38 = .ok (.putfield 22, 3) := dk_181 0 22 (dk_at dksJ22_inflate_1 14 rfl rfl)
theorem dJ22_inflate_41 : decode cJ22_inflate 41 = .ok (.return_, 1) := dk_177 (dk_at dksJ22_inflate_1 17 rfl rfl)
abbrev cJ22_getValue : ByteArray := prog_11_method_64_code
def yJ22_getValue : MethodName := ⟨RJ22, "getValue", "()[B"⟩
theorem dJ22_getValue_0 : decode cJ22_getValue 0 = .ok (.aload_n 0, 1) := by decide +kernel
theorem dJ22_getValue_1 : decode cJ22_getValue 1 = .ok (.getfield 15, 3) := by decide +kernel
theorem dJ22_getValue_4 : decode cJ22_getValue 4 = .ok (.areturn, 1) := by decide +kernel
abbrev cJ22_length : ByteArray := prog_11_method_6_code
def yJ22_length : MethodName := ⟨RJ22, "length", "()I"⟩
theorem dJ22_length_0 : decode cJ22_length 0 = .ok (.aload_n 0, 1) := by decide +kernel
theorem dJ22_length_1 : decode cJ22_length 1 = .ok (.getfield 79, 3) := by decide +kernel
theorem dJ22_length_4 : decode cJ22_length 4 = .ok (.ireturn, 1) := by decide +kernel
theorem q105 : (Jvm.Cond.initialized "java/lang/AbstractStringBuilder") ∈ lw_all := lw_g (lw_at lw_m1 31 rfl) rfl
theorem q1009 : (Jvm.Cond.instanceMethod ({ cls := "java/lang/AbstractStringBuilder", name := "<init>", desc := "(I)V" } : Jvm.MethodName)) ∈ lw_all := lw_g (lw_at lw_m4 215 rfl) rfl
theorem q1010 : (Jvm.Cond.code ({ cls := "java/lang/AbstractStringBuilder", name := "<init>", desc := "(I)V" } : Jvm.MethodName) prog_11_method_2_code (2 : Nat) (Option.none : Option Jvm.ClassFile.FieldType)) ∈ lw_all := lw_g (lw_at lw_m4 216 rfl) rfl
theorem q1011 : (Jvm.Cond.methodLink "java/lang/AbstractStringBuilder" (3 : Nat) ({ cls := "java/lang/Object", name := "<init>", desc := "()V" } : Jvm.MethodName)) ∈ lw_all := lw_g (lw_at lw_m4 217 rfl) rfl
theorem q1012 : (Jvm.Cond.fieldLink "java/lang/AbstractStringBuilder" (18 : Nat) "java/lang/String" "COMPACT_STRINGS" "Z") ∈ lw_all := lw_g (lw_at lw_m4 218 rfl) rfl
theorem q1014 : (Jvm.Cond.methodLink "java/lang/AbstractStringBuilder" (26 : Nat) ({ cls := "java/lang/StringUTF16", name := "newBytesFor", desc := "(I)[B" } : Jvm.MethodName)) ∈ lw_all := lw_g (lw_at lw_m4 220 rfl) rfl
theorem q1021 : (Jvm.Cond.fieldLink "java/lang/AbstractStringBuilder" (15 : Nat) "java/lang/AbstractStringBuilder" "value" "[B") ∈ lw_all := lw_g (lw_at lw_m4 227 rfl) rfl
theorem q1022 : (Jvm.Cond.fieldLink "java/lang/AbstractStringBuilder" (22 : Nat) "java/lang/AbstractStringBuilder" "coder" "B") ∈ lw_all := lw_g (lw_at lw_m4 228 rfl) rfl
theorem q1024 : (Jvm.Cond.fieldLink "java/lang/AbstractStringBuilder" (79 : Nat) "java/lang/AbstractStringBuilder" "count" "I") ∈ lw_all := lw_g (lw_at lw_m4 230 rfl) rfl
theorem q1026 : (Jvm.Cond.soleField "java/lang/AbstractStringBuilder" "value") ∈ lw_all := lw_g (lw_at lw_m4 232 rfl) rfl
theorem q1028 : (Jvm.Cond.soleField "java/lang/AbstractStringBuilder" "coder") ∈ lw_all := lw_g (lw_at lw_m4 234 rfl) rfl
theorem q1030 : (Jvm.Cond.soleField "java/lang/AbstractStringBuilder" "maybeLatin1") ∈ lw_all := lw_g (lw_at lw_m4 236 rfl) rfl
theorem q1032 : (Jvm.Cond.soleField "java/lang/AbstractStringBuilder" "count") ∈ lw_all := lw_g (lw_at lw_m4 238 rfl) rfl
theorem q1039 : (Jvm.Cond.instanceMethod ({ cls := "java/lang/AbstractStringBuilder", name := "append", desc := "(Ljava/lang/String;)Ljava/lang/AbstractStringBuilder;" } : Jvm.MethodName)) ∈ lw_all := lw_g (lw_at lw_m5 5 rfl) rfl
theorem q1040 : (Jvm.Cond.code ({ cls := "java/lang/AbstractStringBuilder", name := "append", desc := "(Ljava/lang/String;)Ljava/lang/AbstractStringBuilder;" } : Jvm.MethodName) prog_11_method_22_code (3 : Nat) (Option.some (Jvm.ClassFile.FieldType.object "java/lang/AbstractStringBuilder"))) ∈ lw_all := lw_g (lw_at lw_m5 6 rfl) rfl
theorem q1041 : (Jvm.Cond.methodLink "java/lang/AbstractStringBuilder" (204 : Nat) ({ cls := "java/lang/AbstractStringBuilder", name := "appendNull", desc := "()Ljava/lang/AbstractStringBuilder;" } : Jvm.MethodName)) ∈ lw_all := lw_g (lw_at lw_m5 7 rfl) rfl
theorem q1042 : (Jvm.Cond.privateMethod ({ cls := "java/lang/AbstractStringBuilder", name := "appendNull", desc := "()Ljava/lang/AbstractStringBuilder;" } : Jvm.MethodName)) ∈ lw_tbl := lw_at lw_m5 8 rfl
theorem q1043 : (Jvm.Cond.instanceMethod ({ cls := "java/lang/AbstractStringBuilder", name := "appendNull", desc := "()Ljava/lang/AbstractStringBuilder;" } : Jvm.MethodName)) ∈ lw_all := lw_g (lw_at lw_m5 9 rfl) rfl
theorem q1044 : (Jvm.Cond.code ({ cls := "java/lang/AbstractStringBuilder", name := "appendNull", desc := "()Ljava/lang/AbstractStringBuilder;" } : Jvm.MethodName) prog_11_method_26_code (3 : Nat) (Option.some (Jvm.ClassFile.FieldType.object "java/lang/AbstractStringBuilder"))) ∈ lw_all := lw_g (lw_at lw_m5 10 rfl) rfl
theorem q1045 : (Jvm.Cond.methodLink "java/lang/AbstractStringBuilder" (100 : Nat) ({ cls := "java/lang/AbstractStringBuilder", name := "ensureCapacityInternal", desc := "(I)V" } : Jvm.MethodName)) ∈ lw_all := lw_g (lw_at lw_m5 11 rfl) rfl
theorem q1046 : (Jvm.Cond.privateMethod ({ cls := "java/lang/AbstractStringBuilder", name := "ensureCapacityInternal", desc := "(I)V" } : Jvm.MethodName)) ∈ lw_tbl := lw_at lw_m5 12 rfl
theorem q1047 : (Jvm.Cond.instanceMethod ({ cls := "java/lang/AbstractStringBuilder", name := "ensureCapacityInternal", desc := "(I)V" } : Jvm.MethodName)) ∈ lw_all := lw_g (lw_at lw_m5 13 rfl) rfl
theorem q1048 : (Jvm.Cond.code ({ cls := "java/lang/AbstractStringBuilder", name := "ensureCapacityInternal", desc := "(I)V" } : Jvm.MethodName) prog_11_method_9_code (3 : Nat) (Option.none : Option Jvm.ClassFile.FieldType)) ∈ lw_all := lw_g (lw_at lw_m5 14 rfl) rfl
theorem q1049 : (Jvm.Cond.methodLink "java/lang/AbstractStringBuilder" (104 : Nat) ({ cls := "java/lang/AbstractStringBuilder", name := "newCapacity", desc := "(I)I" } : Jvm.MethodName)) ∈ lw_all := lw_g (lw_at lw_m5 15 rfl) rfl
theorem q1050 : (Jvm.Cond.privateMethod ({ cls := "java/lang/AbstractStringBuilder", name := "newCapacity", desc := "(I)I" } : Jvm.MethodName)) ∈ lw_tbl := lw_at lw_m5 16 rfl
theorem q1051 : (Jvm.Cond.instanceMethod ({ cls := "java/lang/AbstractStringBuilder", name := "newCapacity", desc := "(I)I" } : Jvm.MethodName)) ∈ lw_all := lw_g (lw_at lw_m5 17 rfl) rfl
theorem q1052 : (Jvm.Cond.code ({ cls := "java/lang/AbstractStringBuilder", name := "newCapacity", desc := "(I)I" } : Jvm.MethodName) prog_11_method_10_code (6 : Nat) (Option.some Jvm.ClassFile.FieldType.int)) ∈ lw_all := lw_g (lw_at lw_m5 18 rfl) rfl
theorem q1053 : (Jvm.Cond.methodLink "java/lang/AbstractStringBuilder" (114 : Nat) ({ cls := "jdk/internal/util/ArraysSupport", name := "newLength", desc := "(III)I" } : Jvm.MethodName)) ∈ lw_all := lw_g (lw_at lw_m5 19 rfl) rfl
theorem q1054 : (Jvm.Cond.constant "java/lang/AbstractStringBuilder" (39 : Nat) (2147483647 : Int32)) ∈ lw_all := lw_g (lw_at lw_m5 20 rfl) rfl
theorem q1055 : (Jvm.Cond.methodLink "java/lang/AbstractStringBuilder" (108 : Nat) ({ cls := "java/util/Arrays", name := "copyOf", desc := "([BI)[B" } : Jvm.MethodName)) ∈ lw_all := lw_g (lw_at lw_m5 21 rfl) rfl
theorem q1063 : (Jvm.Cond.methodLink "java/lang/AbstractStringBuilder" (83 : Nat) ({ cls := "java/lang/AbstractStringBuilder", name := "isLatin1", desc := "()Z" } : Jvm.MethodName)) ∈ lw_all := lw_g (lw_at lw_m5 29 rfl) rfl
theorem q1064 : (Jvm.Cond.instanceMethod ({ cls := "java/lang/AbstractStringBuilder", name := "isLatin1", desc := "()Z" } : Jvm.MethodName)) ∈ lw_all := lw_g (lw_at lw_m5 30 rfl) rfl
theorem q1065 : (Jvm.Cond.sameMethod "java/lang/AbstractStringBuilder" "java/lang/AbstractStringBuilder" "isLatin1" "()Z") ∈ lw_all := lw_g (lw_at lw_m5 31 rfl) rfl
theorem q1067 : (Jvm.Cond.code ({ cls := "java/lang/AbstractStringBuilder", name := "isLatin1", desc := "()Z" } : Jvm.MethodName) prog_11_method_68_code (1 : Nat) (Option.some Jvm.ClassFile.FieldType.boolean)) ∈ lw_all := lw_g (lw_at lw_m5 33 rfl) rfl
theorem q1068 : (Jvm.Cond.methodLink "java/lang/AbstractStringBuilder" (226 : Nat) ({ cls := "java/lang/StringUTF16", name := "putCharsAt", desc := "([BICCCC)I" } : Jvm.MethodName)) ∈ lw_all := lw_g (lw_at lw_m5 34 rfl) rfl
theorem q1094 : (Jvm.Cond.methodLink "java/lang/AbstractStringBuilder" (32 : Nat) ({ cls := "java/lang/String", name := "length", desc := "()I" } : Jvm.MethodName)) ∈ lw_all := lw_g (lw_at lw_m5 60 rfl) rfl
theorem q1103 : (Jvm.Cond.methodLink "java/lang/AbstractStringBuilder" (208 : Nat) ({ cls := "java/lang/AbstractStringBuilder", name := "putStringAt", desc := "(ILjava/lang/String;)V" } : Jvm.MethodName)) ∈ lw_all := lw_g (lw_at lw_m5 69 rfl) rfl
theorem q1104 : (Jvm.Cond.privateMethod ({ cls := "java/lang/AbstractStringBuilder", name := "putStringAt", desc := "(ILjava/lang/String;)V" } : Jvm.MethodName)) ∈ lw_tbl := lw_at lw_m5 70 rfl
theorem q1105 : (Jvm.Cond.instanceMethod ({ cls := "java/lang/AbstractStringBuilder", name := "putStringAt", desc := "(ILjava/lang/String;)V" } : Jvm.MethodName)) ∈ lw_all := lw_g (lw_at lw_m5 71 rfl) rfl
theorem q1106 : (Jvm.Cond.code ({ cls := "java/lang/AbstractStringBuilder", name := "putStringAt", desc := "(ILjava/lang/String;)V" } : Jvm.MethodName) prog_11_method_73_code (3 : Nat) (Option.none : Option Jvm.ClassFile.FieldType)) ∈ lw_all := lw_g (lw_at lw_m5 72 rfl) rfl
theorem q1107 : (Jvm.Cond.methodLink "java/lang/AbstractStringBuilder" (397 : Nat) ({ cls := "java/lang/AbstractStringBuilder", name := "inflateIfNeededFor", desc := "(Ljava/lang/String;)V" } : Jvm.MethodName)) ∈ lw_all := lw_g (lw_at lw_m5 73 rfl) rfl
theorem q1108 : (Jvm.Cond.privateMethod ({ cls := "java/lang/AbstractStringBuilder", name := "inflateIfNeededFor", desc := "(Ljava/lang/String;)V" } : Jvm.MethodName)) ∈ lw_tbl := lw_at lw_m5 74 rfl
theorem q1109 : (Jvm.Cond.instanceMethod ({ cls := "java/lang/AbstractStringBuilder", name := "inflateIfNeededFor", desc := "(Ljava/lang/String;)V" } : Jvm.MethodName)) ∈ lw_all := lw_g (lw_at lw_m5 75 rfl) rfl
theorem q1110 : (Jvm.Cond.code ({ cls := "java/lang/AbstractStringBuilder", name := "inflateIfNeededFor", desc := "(Ljava/lang/String;)V" } : Jvm.MethodName) prog_11_method_71_code (2 : Nat) (Option.none : Option Jvm.ClassFile.FieldType)) ∈ lw_all := lw_g (lw_at lw_m5 76 rfl) rfl
theorem q1111 : (Jvm.Cond.methodLink "java/lang/AbstractStringBuilder" (40 : Nat) ({ cls := "java/lang/String", name := "coder", desc := "()B" } : Jvm.MethodName)) ∈ lw_all := lw_g (lw_at lw_m5 77 rfl) rfl
theorem q1112 : (Jvm.Cond.methodLink "java/lang/AbstractStringBuilder" (195 : Nat) ({ cls := "java/lang/AbstractStringBuilder", name := "inflate", desc := "()V" } : Jvm.MethodName)) ∈ lw_all := lw_g (lw_at lw_m5 78 rfl) rfl
theorem q1113 : (Jvm.Cond.privateMethod ({ cls := "java/lang/AbstractStringBuilder", name := "inflate", desc := "()V" } : Jvm.MethodName)) ∈ lw_tbl := lw_at lw_m5 79 rfl
theorem q1114 : (Jvm.Cond.instanceMethod ({ cls := "java/lang/AbstractStringBuilder", name := "inflate", desc := "()V" } : Jvm.MethodName)) ∈ lw_all := lw_g (lw_at lw_m5 80 rfl) rfl
theorem q1115 : (Jvm.Cond.code ({ cls := "java/lang/AbstractStringBuilder", name := "inflate", desc := "()V" } : Jvm.MethodName) prog_11_method_11_code (2 : Nat) (Option.none : Option Jvm.ClassFile.FieldType)) ∈ lw_all := lw_g (lw_at lw_m5 81 rfl) rfl
theorem q1116 : (Jvm.Cond.methodLink "java/lang/AbstractStringBuilder" (125 : Nat) ({ cls := "java/lang/StringLatin1", name := "inflate", desc := "([BI[BII)V" } : Jvm.MethodName)) ∈ lw_all := lw_g (lw_at lw_m5 82 rfl) rfl
theorem q1131 : (Jvm.Cond.methodLink "java/lang/AbstractStringBuilder" (399 : Nat) ({ cls := "java/lang/String", name := "getBytes", desc := "([BIB)V" } : Jvm.MethodName)) ∈ lw_all := lw_g (lw_at lw_m5 97 rfl) rfl
theorem q1152 : (Jvm.Cond.instanceMethod ({ cls := "java/lang/AbstractStringBuilder", name := "getValue", desc := "()[B" } : Jvm.MethodName)) ∈ lw_all := lw_g (lw_at lw_m5 118 rfl) rfl
theorem q1153 : (Jvm.Cond.sameMethod "java/lang/AbstractStringBuilder" "java/lang/AbstractStringBuilder" "getValue" "()[B") ∈ lw_all := lw_g (lw_at lw_m5 119 rfl) rfl
theorem q1155 : (Jvm.Cond.code ({ cls := "java/lang/AbstractStringBuilder", name := "getValue", desc := "()[B" } : Jvm.MethodName) prog_11_method_64_code (1 : Nat) (Option.some (Jvm.ClassFile.FieldType.array Jvm.ClassFile.FieldType.byte))) ∈ lw_all := lw_g (lw_at lw_m5 121 rfl) rfl
theorem q1157 : (Jvm.Cond.instanceMethod ({ cls := "java/lang/AbstractStringBuilder", name := "length", desc := "()I" } : Jvm.MethodName)) ∈ lw_all := lw_g (lw_at lw_m5 123 rfl) rfl
theorem q1158 : (Jvm.Cond.sameMethod "java/lang/AbstractStringBuilder" "java/lang/AbstractStringBuilder" "length" "()I") ∈ lw_all := lw_g (lw_at lw_m5 124 rfl) rfl
theorem q1163 : (Jvm.Cond.code ({ cls := "java/lang/AbstractStringBuilder", name := "length", desc := "()I" } : Jvm.MethodName) prog_11_method_6_code (1 : Nat) (Option.some Jvm.ClassFile.FieldType.int)) ∈ lw_all := lw_g (lw_at lw_m5 129 rfl) rfl
theorem q2024 : (Jvm.Cond.sameMethod "java/lang/AbstractStringBuilder" "java/lang/AbstractStringBuilder" "append" "(Ljava/lang/String;)Ljava/lang/AbstractStringBuilder;") ∈ lw_all := lw_g (lw_at lw_m9 30 rfl) rfl
theorem q2025 : (Jvm.Cond.sameMethod "java/lang/AbstractStringBuilder" "java/lang/AbstractStringBuilder" "appendNull" "()Ljava/lang/AbstractStringBuilder;") ∈ lw_all := lw_g (lw_at lw_m9 31 rfl) rfl
theorem q2026 : (Jvm.Cond.sameMethod "java/lang/AbstractStringBuilder" "java/lang/AbstractStringBuilder" "ensureCapacityInternal" "(I)V") ∈ lw_all := lw_g (lw_at lw_m9 32 rfl) rfl
theorem q2027 : (Jvm.Cond.sameMethod "java/lang/AbstractStringBuilder" "java/lang/AbstractStringBuilder" "newCapacity" "(I)I") ∈ lw_all := lw_g (lw_at lw_m9 33 rfl) rfl
theorem q2028 : (Jvm.Cond.sameMethod "java/lang/AbstractStringBuilder" "java/lang/AbstractStringBuilder" "putStringAt" "(ILjava/lang/String;)V") ∈ lw_all := lw_g (lw_at lw_m9 34 rfl) rfl
theorem q2029 : (Jvm.Cond.sameMethod "java/lang/AbstractStringBuilder" "java/lang/AbstractStringBuilder" "inflateIfNeededFor" "(Ljava/lang/String;)V") ∈ lw_all := lw_g (lw_at lw_m9 35 rfl) rfl
theorem q2030 : (Jvm.Cond.sameMethod "java/lang/AbstractStringBuilder" "java/lang/AbstractStringBuilder" "inflate" "()V") ∈ lw_all := lw_g (lw_at lw_m9 36 rfl) rfl
/-! java/lang/StringBuilder -/
set_option maxRecDepth 100000
def RJ23 : String := "java/lang/StringBuilder"
def TJ23 : u_T := fun k => match k with
  | 0 => ("java/lang/AbstractStringBuilder", "value", "[B", false)
  | 1 => ("java/lang/AbstractStringBuilder", "coder", "B", false)
  | 2 => ("java/lang/AbstractStringBuilder", "maybeLatin1", "Z", false)
  | _ => ("java/lang/AbstractStringBuilder", "count", "I", false)
def tyJ23 : Nat → FieldType := fun k => match k with
  | 0 => .array .byte
  | 1 => .byte
  | 2 => .boolean
  | _ => .int
abbrev wsJ230 : List Cond := u_ws RJ23 TJ23 4
theorem nmJ23 : ∀ a, a < 4 → ∀ b, b < 4 → a ≠ b → (TJ23 a).2.1 ≠ (TJ23 b).2.1 := by decide +kernel
theorem tyJ23_ok : ∀ k, k < 4 → parseFieldDescriptor (TJ23 k).2.2.1 = some (tyJ23 k) := by decide +kernel
abbrev cJ23_init : ByteArray := prog_26_method_1_code
def yJ23_init : MethodName := ⟨RJ23, "<init>", "()V"⟩
def dkwJ23_init_0 : List UInt8 := [42, 16, 16, 183, 0, 1, 177]
abbrev dktJ23_init_0 : List UInt8 := dkwJ23_init_0 ++ []
theorem dksJ23_init_0 : cJ23_init.data.toList.drop 0 = dktJ23_init_0 := by decide +kernel
theorem dJ23_init_0 : decode cJ23_init 0 = .ok (.aload_n 0, 1) := dk_42 (dk_at dksJ23_init_0 0 rfl rfl)
theorem dJ23_init_1 : decode cJ23_init 1 = .ok (.bipush 16, 2) := dk_16 16 (dk_at dksJ23_init_0 1 rfl rfl)
theorem dJ23_init_3 : decode cJ23_init 3 = .ok (.invokespecial 1, 3) := dk_183 0 1 (dk_at dksJ23_init_0 3 rfl rfl)
theorem dJ23_init_6 : decode cJ23_init 6 = .ok (.return_, 1) := dk_177 (dk_at dksJ23_init_0 6 rfl rfl)
abbrev cJ23_append : ByteArray := prog_26_method_7_code
def yJ23_append : MethodName := ⟨RJ23, "append", "(Ljava/lang/String;)Ljava/lang/StringBuilder;"⟩
def dkwJ23_append_0 : List UInt8 := [42, 43, 183, 0, 29, 87, 42, 176]
abbrev dktJ23_append_0 : List UInt8 := dkwJ23_append_0 ++ []
theorem dksJ23_append_0 : cJ23_append.data.toList.drop 0 = dktJ23_append_0 := by decide +kernel
theorem dJ23_append_0 : decode cJ23_append 0 = .ok (.aload_n 0, 1) := dk_42 (dk_at dksJ23_append_0 0 rfl rfl)
theorem dJ23_append_1 : decode cJ23_append 1 = .ok (.aload_n 1, 1) := dk_43 (dk_at dksJ23_append_0 1 rfl rfl)
theorem dJ23_append_2 : decode cJ23_append 2 = .ok (.invokespecial 29, 3) := dk_183 0 29 (dk_at dksJ23_append_0 2 rfl rfl)
theorem dJ23_append_5 : decode cJ23_append 5 = .ok (.pop, 1) := dk_87 (dk_at dksJ23_append_0 5 rfl rfl)
theorem dJ23_append_6 : decode cJ23_append 6 = .ok (.aload_n 0, 1) := dk_42 (dk_at dksJ23_append_0 6 rfl rfl)
theorem dJ23_append_7 : decode cJ23_append 7 = .ok (.areturn, 1) := dk_176 (dk_at dksJ23_append_0 7 rfl rfl)
abbrev cJ23_toString : ByteArray := prog_26_method_42_code
def yJ23_toString : MethodName := ⟨RJ23, "toString", "()Ljava/lang/String;"⟩
def dkwJ23_toString_0 : List UInt8 := [187, 0, 18, 89, 42, 183, 0, 137, 176]
abbrev dktJ23_toString_0 : List UInt8 := dkwJ23_toString_0 ++ []
theorem dksJ23_toString_0 : cJ23_toString.data.toList.drop 0 = dktJ23_toString_0 := by decide +kernel
theorem dJ23_toString_0 : decode cJ23_toString 0 = .ok (.new 18, 3) := dk_187 0 18 (dk_at dksJ23_toString_0 0 rfl rfl)
theorem dJ23_toString_3 : decode cJ23_toString 3 = .ok (.dup, 1) := dk_89 (dk_at dksJ23_toString_0 3 rfl rfl)
theorem dJ23_toString_4 : decode cJ23_toString 4 = .ok (.aload_n 0, 1) := dk_42 (dk_at dksJ23_toString_0 4 rfl rfl)
theorem dJ23_toString_5 : decode cJ23_toString 5 = .ok (.invokespecial 137, 3) := dk_183 0 137 (dk_at dksJ23_toString_0 5 rfl rfl)
theorem dJ23_toString_8 : decode cJ23_toString 8 = .ok (.areturn, 1) := dk_176 (dk_at dksJ23_toString_0 8 rfl rfl)
abbrev cJ23_length : ByteArray := prog_26_method_93_code
def yJ23_length : MethodName := ⟨RJ23, "length", "()I"⟩
theorem dJ23_length_0 : decode cJ23_length 0 = .ok (.aload_n 0, 1) := by decide +kernel
theorem dJ23_length_1 : decode cJ23_length 1 = .ok (.invokespecial 343, 3) := by decide +kernel
theorem dJ23_length_4 : decode cJ23_length 4 = .ok (.ireturn, 1) := by decide +kernel
theorem q106 : (Jvm.Cond.initialized "java/lang/StringBuilder") ∈ lw_all := lw_g (lw_at lw_m1 32 rfl) rfl
theorem q544 : (Jvm.Cond.selects "java/lang/StringBuilder" ({ cls := "java/lang/Object", name := "getClass", desc := "()Ljava/lang/Class;" } : Jvm.MethodName) ({ cls := "java/lang/Object", name := "getClass", desc := "()Ljava/lang/Class;" } : Jvm.MethodName)) ∈ lw_all := lw_g (lw_at lw_m2 230 rfl) rfl
theorem q1004 : (Jvm.Cond.instantiable "java/lang/StringBuilder" (4 : Nat)) ∈ lw_all := lw_g (lw_at lw_m4 210 rfl) rfl
theorem q1006 : (Jvm.Cond.instanceMethod ({ cls := "java/lang/StringBuilder", name := "<init>", desc := "()V" } : Jvm.MethodName)) ∈ lw_all := lw_g (lw_at lw_m4 212 rfl) rfl
theorem q1007 : (Jvm.Cond.code ({ cls := "java/lang/StringBuilder", name := "<init>", desc := "()V" } : Jvm.MethodName) prog_26_method_1_code (1 : Nat) (Option.none : Option Jvm.ClassFile.FieldType)) ∈ lw_all := lw_g (lw_at lw_m4 213 rfl) rfl
theorem q1008 : (Jvm.Cond.methodLink "java/lang/StringBuilder" (1 : Nat) ({ cls := "java/lang/AbstractStringBuilder", name := "<init>", desc := "(I)V" } : Jvm.MethodName)) ∈ lw_all := lw_g (lw_at lw_m4 214 rfl) rfl
theorem q1025 : (Jvm.Cond.lays "java/lang/StringBuilder" "java/lang/AbstractStringBuilder" "value" "[B") ∈ lw_all := lw_g (lw_at lw_m4 231 rfl) rfl
theorem q1027 : (Jvm.Cond.lays "java/lang/StringBuilder" "java/lang/AbstractStringBuilder" "coder" "B") ∈ lw_all := lw_g (lw_at lw_m4 233 rfl) rfl
theorem q1029 : (Jvm.Cond.lays "java/lang/StringBuilder" "java/lang/AbstractStringBuilder" "maybeLatin1" "Z") ∈ lw_all := lw_g (lw_at lw_m4 235 rfl) rfl
theorem q1031 : (Jvm.Cond.lays "java/lang/StringBuilder" "java/lang/AbstractStringBuilder" "count" "I") ∈ lw_all := lw_g (lw_at lw_m4 237 rfl) rfl
theorem q1033 : (Jvm.Cond.superclass "java/lang/StringBuilder" "java/lang/AbstractStringBuilder") ∈ lw_all := lw_g (lw_at lw_m4 239 rfl) rfl
theorem q1035 : (Jvm.Cond.instanceMethod ({ cls := "java/lang/StringBuilder", name := "append", desc := "(Ljava/lang/String;)Ljava/lang/StringBuilder;" } : Jvm.MethodName)) ∈ lw_all := lw_g (lw_at lw_m5 1 rfl) rfl
theorem q1036 : (Jvm.Cond.selects "java/lang/StringBuilder" ({ cls := "java/lang/StringBuilder", name := "append", desc := "(Ljava/lang/String;)Ljava/lang/StringBuilder;" } : Jvm.MethodName) ({ cls := "java/lang/StringBuilder", name := "append", desc := "(Ljava/lang/String;)Ljava/lang/StringBuilder;" } : Jvm.MethodName)) ∈ lw_all := lw_g (lw_at lw_m5 2 rfl) rfl
theorem q1037 : (Jvm.Cond.code ({ cls := "java/lang/StringBuilder", name := "append", desc := "(Ljava/lang/String;)Ljava/lang/StringBuilder;" } : Jvm.MethodName) prog_26_method_7_code (2 : Nat) (Option.some (Jvm.ClassFile.FieldType.object "java/lang/StringBuilder"))) ∈ lw_all := lw_g (lw_at lw_m5 3 rfl) rfl
theorem q1038 : (Jvm.Cond.methodLink "java/lang/StringBuilder" (29 : Nat) ({ cls := "java/lang/AbstractStringBuilder", name := "append", desc := "(Ljava/lang/String;)Ljava/lang/AbstractStringBuilder;" } : Jvm.MethodName)) ∈ lw_all := lw_g (lw_at lw_m5 4 rfl) rfl
theorem q1066 : (Jvm.Cond.selects "java/lang/StringBuilder" ({ cls := "java/lang/AbstractStringBuilder", name := "isLatin1", desc := "()Z" } : Jvm.MethodName) ({ cls := "java/lang/AbstractStringBuilder", name := "isLatin1", desc := "()Z" } : Jvm.MethodName)) ∈ lw_all := lw_g (lw_at lw_m5 32 rfl) rfl
theorem q1139 : (Jvm.Cond.instanceMethod ({ cls := "java/lang/StringBuilder", name := "toString", desc := "()Ljava/lang/String;" } : Jvm.MethodName)) ∈ lw_all := lw_g (lw_at lw_m5 105 rfl) rfl
theorem q1140 : (Jvm.Cond.selects "java/lang/StringBuilder" ({ cls := "java/lang/StringBuilder", name := "toString", desc := "()Ljava/lang/String;" } : Jvm.MethodName) ({ cls := "java/lang/StringBuilder", name := "toString", desc := "()Ljava/lang/String;" } : Jvm.MethodName)) ∈ lw_all := lw_g (lw_at lw_m5 106 rfl) rfl
theorem q1141 : (Jvm.Cond.code ({ cls := "java/lang/StringBuilder", name := "toString", desc := "()Ljava/lang/String;" } : Jvm.MethodName) prog_26_method_42_code (1 : Nat) (Option.some (Jvm.ClassFile.FieldType.object "java/lang/String"))) ∈ lw_all := lw_g (lw_at lw_m5 107 rfl) rfl
theorem q1142 : (Jvm.Cond.classLink "java/lang/StringBuilder" (18 : Nat) "java/lang/String") ∈ lw_all := lw_g (lw_at lw_m5 108 rfl) rfl
theorem q1144 : (Jvm.Cond.methodLink "java/lang/StringBuilder" (137 : Nat) ({ cls := "java/lang/String", name := "<init>", desc := "(Ljava/lang/StringBuilder;)V" } : Jvm.MethodName)) ∈ lw_all := lw_g (lw_at lw_m5 110 rfl) rfl
theorem q1154 : (Jvm.Cond.selects "java/lang/StringBuilder" ({ cls := "java/lang/AbstractStringBuilder", name := "getValue", desc := "()[B" } : Jvm.MethodName) ({ cls := "java/lang/AbstractStringBuilder", name := "getValue", desc := "()[B" } : Jvm.MethodName)) ∈ lw_all := lw_g (lw_at lw_m5 120 rfl) rfl
theorem q1159 : (Jvm.Cond.selects "java/lang/StringBuilder" ({ cls := "java/lang/AbstractStringBuilder", name := "length", desc := "()I" } : Jvm.MethodName) ({ cls := "java/lang/StringBuilder", name := "length", desc := "()I" } : Jvm.MethodName)) ∈ lw_all := lw_g (lw_at lw_m5 125 rfl) rfl
theorem q1160 : (Jvm.Cond.instanceMethod ({ cls := "java/lang/StringBuilder", name := "length", desc := "()I" } : Jvm.MethodName)) ∈ lw_all := lw_g (lw_at lw_m5 126 rfl) rfl
theorem q1161 : (Jvm.Cond.code ({ cls := "java/lang/StringBuilder", name := "length", desc := "()I" } : Jvm.MethodName) prog_26_method_93_code (1 : Nat) (Option.some Jvm.ClassFile.FieldType.int)) ∈ lw_all := lw_g (lw_at lw_m5 127 rfl) rfl
theorem q1162 : (Jvm.Cond.methodLink "java/lang/StringBuilder" (343 : Nat) ({ cls := "java/lang/AbstractStringBuilder", name := "length", desc := "()I" } : Jvm.MethodName)) ∈ lw_all := lw_g (lw_at lw_m5 128 rfl) rfl
theorem q2050 : (Jvm.Cond.castable "java/lang/StringBuilder" "java/lang/Object") ∈ lw_tbl := lw_at lw_m9 56 rfl
theorem in_J23 : ∀ w ∈ wsJ230, w ∈ lw_all := lw_in wsJ230 [1025, 1027, 1029, 1031] (by decide +kernel) (by decide +kernel)
/-! java/lang/String -/
set_option maxRecDepth 100000
def RJ24 : String := "java/lang/String"
def TJ24 : u_T := fun k => match k with
  | 0 => ("java/lang/String", "value", "[B", true)
  | 1 => ("java/lang/String", "coder", "B", true)
  | 2 => ("java/lang/String", "hash", "I", false)
  | _ => ("java/lang/String", "hashIsZero", "Z", false)
def tyJ24 : Nat → FieldType := fun k => match k with
  | 0 => .array .byte
  | 1 => .byte
  | 2 => .int
  | _ => .boolean
abbrev wsJ240 : List Cond := u_ws RJ24 TJ24 4
theorem nmJ24 : ∀ a, a < 4 → ∀ b, b < 4 → a ≠ b → (TJ24 a).2.1 ≠ (TJ24 b).2.1 := by decide +kernel
theorem tyJ24_ok : ∀ k, k < 4 → parseFieldDescriptor (TJ24 k).2.2.1 = some (tyJ24 k) := by decide +kernel
abbrev cJ24_checkBoundsBeginEnd : ByteArray := prog_25_method_158_code
def yJ24_checkBoundsBeginEnd : MethodName := ⟨RJ24, "checkBoundsBeginEnd", "(III)V"⟩
def dkwJ24_checkBoundsBeginEnd_0 : List UInt8 := [26, 27, 28, 178, 4, 29, 184, 4, 38, 87, 177]
abbrev dktJ24_checkBoundsBeginEnd_0 : List UInt8 := dkwJ24_checkBoundsBeginEnd_0 ++ []
theorem dksJ24_checkBoundsBeginEnd_0 : cJ24_checkBoundsBeginEnd.data.toList.drop 0 = dktJ24_checkBoundsBeginEnd_0 := by decide +kernel
theorem dJ24_checkBoundsBeginEnd_0 : decode cJ24_checkBoundsBeginEnd 0 = .ok (.iload_n 0, 1) := dk_26 (dk_at dksJ24_checkBoundsBeginEnd_0 0 rfl rfl)
theorem dJ24_checkBoundsBeginEnd_1 : decode cJ24_checkBoundsBeginEnd 1 = .ok (.iload_n 1, 1) := dk_27 (dk_at dksJ24_checkBoundsBeginEnd_0 1 rfl rfl)
theorem dJ24_checkBoundsBeginEnd_2 : decode cJ24_checkBoundsBeginEnd 2 = .ok (.iload_n 2, 1) := dk_28 (dk_at dksJ24_checkBoundsBeginEnd_0 2 rfl rfl)
theorem dJ24_checkBoundsBeginEnd_3 : decode cJ24_checkBoundsBeginEnd 3 = .ok (.getstatic 1053, 3) := dk_178 4 29 (dk_at dksJ24_checkBoundsBeginEnd_0 3 rfl rfl)
theorem dJ24_checkBoundsBeginEnd_6 : decode cJ24_checkBoundsBeginEnd 6 = .ok (.invokestatic 1062, 3) := dk_184 4 38 (dk_at dksJ24_checkBoundsBeginEnd_0 6 rfl rfl)
theorem dJ24_checkBoundsBeginEnd_9 : decode cJ24_checkBoundsBeginEnd 9 = .ok (.pop, 1) := dk_87 (dk_at dksJ24_checkBoundsBeginEnd_0 9 rfl rfl)
theorem dJ24_checkBoundsBeginEnd_10 : decode cJ24_checkBoundsBeginEnd 10 = .ok (.return_, 1) := dk_177 (dk_at dksJ24_checkBoundsBeginEnd_0 10 rfl rfl)
abbrev cJ24_length : ByteArray := prog_25_method_54_code
def yJ24_length : MethodName := ⟨RJ24, "length", "()I"⟩
def dkwJ24_length_0 : List UInt8 := [42, 180, 0, 9, 190, 42, 182, 1, 79, 122, 172]
abbrev dktJ24_length_0 : List UInt8 := dkwJ24_length_0 ++ []
theorem dksJ24_length_0 : cJ24_length.data.toList.drop 0 = dktJ24_length_0 := by decide +kernel
theorem dJ24_length_0 : decode cJ24_length 0 = .ok (.aload_n 0, 1) := dk_42 (dk_at dksJ24_length_0 0 rfl rfl)
theorem dJ24_length_1 : decode cJ24_length 1 = .ok (.getfield 9, 3) := dk_180 0 9 (dk_at dksJ24_length_0 1 rfl rfl)
theorem dJ24_length_4 : decode cJ24_length 4 = .ok (.arraylength, 1) := dk_190 (dk_at dksJ24_length_0 4 rfl rfl)
theorem dJ24_length_5 : decode cJ24_length 5 = .ok (.aload_n 0, 1) := dk_42 (dk_at dksJ24_length_0 5 rfl rfl)
theorem dJ24_length_6 : decode cJ24_length 6 = .ok (.invokevirtual 335, 3) := dk_182 1 79 (dk_at dksJ24_length_0 6 rfl rfl)
theorem dJ24_length_9 : decode cJ24_length 9 = .ok (.ishr, 1) := dk_122 (dk_at dksJ24_length_0 9 rfl rfl)
theorem dJ24_length_10 : decode cJ24_length 10 = .ok (.ireturn, 1) := dk_172 (dk_at dksJ24_length_0 10 rfl rfl)
abbrev cJ24_coder : ByteArray := prog_25_method_152_code
def yJ24_coder : MethodName := ⟨RJ24, "coder", "()B"⟩
def dkwJ24_coder_0 : List UInt8 := [178, 0, 38, 153, 0, 10, 42, 180, 0, 15, 167, 0, 4, 4, 172]
abbrev dktJ24_coder_0 : List UInt8 := dkwJ24_coder_0 ++ []
theorem dksJ24_coder_0 : cJ24_coder.data.toList.drop 0 = dktJ24_coder_0 := by decide +kernel
theorem dJ24_coder_0 : decode cJ24_coder 0 = .ok (.getstatic 38, 3) := dk_178 0 38 (dk_at dksJ24_coder_0 0 rfl rfl)
theorem dJ24_coder_3 : decode cJ24_coder 3 = .ok (.ifCond .eq 10, 3) := dk_153 0 10 (dk_at dksJ24_coder_0 3 rfl rfl)
theorem dJ24_coder_6 : decode cJ24_coder 6 = .ok (.aload_n 0, 1) := dk_42 (dk_at dksJ24_coder_0 6 rfl rfl)
theorem dJ24_coder_7 : decode cJ24_coder 7 = .ok (.getfield 15, 3) := dk_180 0 15 (dk_at dksJ24_coder_0 7 rfl rfl)
theorem dJ24_coder_10 : decode cJ24_coder 10 = .ok (.goto 4, 3) := dk_167 0 4 (dk_at dksJ24_coder_0 10 rfl rfl)
theorem dJ24_coder_13 : decode cJ24_coder 13 = .ok (.iconst 1, 1) := dk_4 (dk_at dksJ24_coder_0 13 rfl rfl)
theorem dJ24_coder_14 : decode cJ24_coder 14 = .ok (.ireturn, 1) := dk_172 (dk_at dksJ24_coder_0 14 rfl rfl)
abbrev cJ24_checkBoundsOffCount : ByteArray := prog_25_method_157_code
def yJ24_checkBoundsOffCount : MethodName := ⟨RJ24, "checkBoundsOffCount", "(III)I"⟩
def dkwJ24_checkBoundsOffCount_0 : List UInt8 := [26, 27, 28, 178, 4, 29, 184, 4, 41, 172]
abbrev dktJ24_checkBoundsOffCount_0 : List UInt8 := dkwJ24_checkBoundsOffCount_0 ++ []
theorem dksJ24_checkBoundsOffCount_0 : cJ24_checkBoundsOffCount.data.toList.drop 0 = dktJ24_checkBoundsOffCount_0 := by decide +kernel
theorem dJ24_checkBoundsOffCount_0 : decode cJ24_checkBoundsOffCount 0 = .ok (.iload_n 0, 1) := dk_26 (dk_at dksJ24_checkBoundsOffCount_0 0 rfl rfl)
theorem dJ24_checkBoundsOffCount_1 : decode cJ24_checkBoundsOffCount 1 = .ok (.iload_n 1, 1) := dk_27 (dk_at dksJ24_checkBoundsOffCount_0 1 rfl rfl)
theorem dJ24_checkBoundsOffCount_2 : decode cJ24_checkBoundsOffCount 2 = .ok (.iload_n 2, 1) := dk_28 (dk_at dksJ24_checkBoundsOffCount_0 2 rfl rfl)
theorem dJ24_checkBoundsOffCount_3 : decode cJ24_checkBoundsOffCount 3 = .ok (.getstatic 1053, 3) := dk_178 4 29 (dk_at dksJ24_checkBoundsOffCount_0 3 rfl rfl)
theorem dJ24_checkBoundsOffCount_6 : decode cJ24_checkBoundsOffCount 6 = .ok (.invokestatic 1065, 3) := dk_184 4 41 (dk_at dksJ24_checkBoundsOffCount_0 6 rfl rfl)
theorem dJ24_checkBoundsOffCount_9 : decode cJ24_checkBoundsOffCount 9 = .ok (.ireturn, 1) := dk_172 (dk_at dksJ24_checkBoundsOffCount_0 9 rfl rfl)
abbrev cJ24_getBytes : ByteArray := prog_25_method_147_code
def yJ24_getBytes : MethodName := ⟨RJ24, "getBytes", "([BIB)V"⟩
def dkwJ24_getBytes_1 : List UInt8 := [184, 0, 212, 167, 0, 18, 42, 180, 0, 9, 3, 43, 28, 42, 180, 0, 9, 190, 184, 0, 106, 177]
abbrev dktJ24_getBytes_1 : List UInt8 := dkwJ24_getBytes_1 ++ []
def dkwJ24_getBytes_0 : List UInt8 := [42, 182, 1, 79, 29, 160, 0, 23, 42, 180, 0, 9, 3, 43, 28, 29, 120, 42, 180, 0, 9, 190]
abbrev dktJ24_getBytes_0 : List UInt8 := dkwJ24_getBytes_0 ++ dktJ24_getBytes_1
theorem dksJ24_getBytes_0 : cJ24_getBytes.data.toList.drop 0 = dktJ24_getBytes_0 := by decide +kernel
theorem dksJ24_getBytes_1 : cJ24_getBytes.data.toList.drop 22 = dktJ24_getBytes_1 := dk_seg dksJ24_getBytes_0 22 rfl rfl
theorem dJ24_getBytes_0 : decode cJ24_getBytes 0 = .ok (.aload_n 0, 1) := dk_42 (dk_at dksJ24_getBytes_0 0 rfl rfl)
theorem dJ24_getBytes_1 : decode cJ24_getBytes 1 = .ok (.invokevirtual 335, 3) := dk_182 1 79 (dk_at dksJ24_getBytes_0 1 rfl rfl)
theorem dJ24_getBytes_4 : decode cJ24_getBytes 4 = .ok (.iload_n 3, 1) := dk_29 (dk_at dksJ24_getBytes_0 4 rfl rfl)
theorem dJ24_getBytes_5 : decode cJ24_getBytes 5 = .ok (.if_icmp .ne 23, 3) := dk_160 0 23 (dk_at dksJ24_getBytes_0 5 rfl rfl)
theorem dJ24_getBytes_8 : decode cJ24_getBytes 8 = .ok (.aload_n 0, 1) := dk_42 (dk_at dksJ24_getBytes_0 8 rfl rfl)
theorem dJ24_getBytes_9 : decode cJ24_getBytes 9 = .ok (.getfield 9, 3) := dk_180 0 9 (dk_at dksJ24_getBytes_0 9 rfl rfl)
theorem dJ24_getBytes_12 : decode cJ24_getBytes 12 = .ok (.iconst 0, 1) := dk_3 (dk_at dksJ24_getBytes_0 12 rfl rfl)
theorem dJ24_getBytes_13 : decode cJ24_getBytes 13 = .ok (.aload_n 1, 1) := dk_43 (dk_at dksJ24_getBytes_0 13 rfl rfl)
theorem dJ24_getBytes_14 : decode cJ24_getBytes 14 = .ok (.iload_n 2, 1) := dk_28 (dk_at dksJ24_getBytes_0 14 rfl rfl)
theorem dJ24_getBytes_15 : decode cJ24_getBytes 15 = .ok (.iload_n 3, 1) := dk_29 (dk_at dksJ24_getBytes_0 15 rfl rfl)
theorem dJ24_getBytes_16 : decode cJ24_getBytes 16 = .ok (.ishl, 1) := dk_120 (dk_at dksJ24_getBytes_0 16 rfl rfl)
theorem dJ24_getBytes_17 : decode cJ24_getBytes 17 = .ok (.aload_n 0, 1) := dk_42 (dk_at dksJ24_getBytes_0 17 rfl rfl)
theorem dJ24_getBytes_18 : decode cJ24_getBytes 18 = .ok (.getfield 9, 3) := dk_180 0 9 (dk_at dksJ24_getBytes_0 18 rfl rfl)
theorem dJ24_getBytes_21 : decode cJ24_getBytes 21 = .ok (.arraylength, 1) := dk_190 (dk_at dksJ24_getBytes_0 21 rfl rfl)
theorem dJ24_getBytes_22 : decode cJ24_getBytes 22 = .ok (.invokestatic 212, 3) := dk_184 0 212 (dk_at dksJ24_getBytes_1 0 rfl rfl)
theorem dJ24_getBytes_25 : decode cJ24_getBytes 25 = .ok (.goto 18, 3) := dk_167 0 18 (dk_at dksJ24_getBytes_1 3 rfl rfl)
theorem dJ24_getBytes_28 : decode cJ24_getBytes 28 = .ok (.aload_n 0, 1) := dk_42 (dk_at dksJ24_getBytes_1 6 rfl rfl)
theorem dJ24_getBytes_29 : decode cJ24_getBytes 29 = .ok (.getfield 9, 3) := dk_180 0 9 (dk_at dksJ24_getBytes_1 7 rfl rfl)
theorem dJ24_getBytes_32 : decode cJ24_getBytes 32 = .ok (.iconst 0, 1) := dk_3 (dk_at dksJ24_getBytes_1 10 rfl rfl)
theorem dJ24_getBytes_33 : decode cJ24_getBytes 33 = .ok (.aload_n 1, 1) := dk_43 (dk_at dksJ24_getBytes_1 11 rfl rfl)
theorem dJ24_getBytes_34 : decode cJ24_getBytes 34 = .ok (.iload_n 2, 1) := dk_28 (dk_at dksJ24_getBytes_1 12 rfl rfl)
theorem dJ24_getBytes_35 : decode cJ24_getBytes 35 = .ok (.aload_n 0, 1) := dk_42 (dk_at dksJ24_getBytes_1 13 rfl rfl)
theorem dJ24_getBytes_36 : decode cJ24_getBytes 36 = .ok (.getfield 9, 3) := dk_180 0 9 (dk_at dksJ24_getBytes_1 14 rfl rfl)
theorem dJ24_getBytes_39 : decode cJ24_getBytes 39 = .ok (.arraylength, 1) := dk_190 (dk_at dksJ24_getBytes_1 17 rfl rfl)
theorem dJ24_getBytes_40 : decode cJ24_getBytes 40 = .ok (.invokestatic 106, 3) := dk_184 0 106 (dk_at dksJ24_getBytes_1 18 rfl rfl)
theorem dJ24_getBytes_43 : decode cJ24_getBytes 43 = .ok (.return_, 1) := dk_177 (dk_at dksJ24_getBytes_1 21 rfl rfl)
abbrev cJ24_init : ByteArray := prog_25_method_53_code
def yJ24_init : MethodName := ⟨RJ24, "<init>", "(Ljava/lang/StringBuilder;)V"⟩
def dkwJ24_init_0 : List UInt8 := [42, 43, 1, 183, 1, 233, 177]
abbrev dktJ24_init_0 : List UInt8 := dkwJ24_init_0 ++ []
theorem dksJ24_init_0 : cJ24_init.data.toList.drop 0 = dktJ24_init_0 := by decide +kernel
theorem dJ24_init_0 : decode cJ24_init 0 = .ok (.aload_n 0, 1) := dk_42 (dk_at dksJ24_init_0 0 rfl rfl)
theorem dJ24_init_1 : decode cJ24_init 1 = .ok (.aload_n 1, 1) := dk_43 (dk_at dksJ24_init_0 1 rfl rfl)
theorem dJ24_init_2 : decode cJ24_init 2 = .ok (.aconst_null, 1) := dk_1 (dk_at dksJ24_init_0 2 rfl rfl)
theorem dJ24_init_3 : decode cJ24_init 3 = .ok (.invokespecial 489, 3) := dk_183 1 233 (dk_at dksJ24_init_0 3 rfl rfl)
theorem dJ24_init_6 : decode cJ24_init 6 = .ok (.return_, 1) := dk_177 (dk_at dksJ24_init_0 6 rfl rfl)
abbrev cJ24_init_2 : ByteArray := prog_25_method_150_code
def yJ24_init_2 : MethodName := ⟨RJ24, "<init>", "(Ljava/lang/AbstractStringBuilder;Ljava/lang/Void;)V"⟩
def dkwJ24_init_2_4 : List UInt8 := [181, 0, 9, 177]
abbrev dktJ24_init_2_4 : List UInt8 := dkwJ24_init_2_4 ++ []
def dkwJ24_init_2_3 : List UInt8 := [184, 0, 47, 181, 0, 15, 177, 42, 4, 181, 0, 15, 42, 45, 3, 21, 4, 4, 120, 184, 0, 54]
abbrev dktJ24_init_2_3 : List UInt8 := dkwJ24_init_2_3 ++ dktJ24_init_2_4
def dkwJ24_init_2_2 : List UInt8 := [180, 4, 24, 153, 0, 28, 42, 45, 3, 21, 4, 184, 4, 27, 181, 0, 9, 42, 42, 180, 0, 9, 21, 4]
abbrev dktJ24_init_2_2 : List UInt8 := dkwJ24_init_2_2 ++ dktJ24_init_2_3
def dkwJ24_init_2_1 : List UInt8 := [181, 0, 15, 42, 45, 3, 21, 4, 184, 0, 54, 181, 0, 9, 167, 0, 59, 178, 0, 38, 153, 0, 35, 43]
abbrev dktJ24_init_2_1 : List UInt8 := dkwJ24_init_2_1 ++ dktJ24_init_2_2
def dkwJ24_init_2_0 : List UInt8 := [42, 183, 0, 1, 43, 182, 2, 40, 78, 43, 182, 2, 37, 54, 4, 43, 182, 4, 23, 153, 0, 22, 42, 3]
abbrev dktJ24_init_2_0 : List UInt8 := dkwJ24_init_2_0 ++ dktJ24_init_2_1
theorem dksJ24_init_2_0 : cJ24_init_2.data.toList.drop 0 = dktJ24_init_2_0 := by decide +kernel
theorem dksJ24_init_2_1 : cJ24_init_2.data.toList.drop 24 = dktJ24_init_2_1 := dk_seg dksJ24_init_2_0 24 rfl rfl
theorem dksJ24_init_2_2 : cJ24_init_2.data.toList.drop 48 = dktJ24_init_2_2 := dk_seg dksJ24_init_2_1 24 rfl rfl
theorem dksJ24_init_2_3 : cJ24_init_2.data.toList.drop 72 = dktJ24_init_2_3 := dk_seg dksJ24_init_2_2 24 rfl rfl
theorem dksJ24_init_2_4 : cJ24_init_2.data.toList.drop 94 = dktJ24_init_2_4 := dk_seg dksJ24_init_2_3 22 rfl rfl
theorem dJ24_init_2_0 : decode cJ24_init_2 0 = .ok (.aload_n 0, 1) := dk_42 (dk_at dksJ24_init_2_0 0 rfl rfl)
theorem dJ24_init_2_1 : decode cJ24_init_2 1 = .ok (.invokespecial 1, 3) := dk_183 0 1 (dk_at dksJ24_init_2_0 1 rfl rfl)
theorem dJ24_init_2_4 : decode cJ24_init_2 4 = .ok (.aload_n 1, 1) := dk_43 (dk_at dksJ24_init_2_0 4 rfl rfl)
theorem dJ24_init_2_5 : decode cJ24_init_2 5 = .ok (.invokevirtual 552, 3) := dk_182 2 40 (dk_at dksJ24_init_2_0 5 rfl rfl)
theorem dJ24_init_2_8 : decode cJ24_init_2 8 = .ok (.astore_n 3, 1) := dk_78 (dk_at dksJ24_init_2_0 8 rfl rfl)
theorem dJ24_init_2_9 : decode cJ24_init_2 9 = .ok (.aload_n 1, 1) := dk_43 (dk_at dksJ24_init_2_0 9 rfl rfl)
theorem dJ24_init_2_10 : decode cJ24_init_2 10 = .ok (.invokevirtual 549, 3) := dk_182 2 37 (dk_at dksJ24_init_2_0 10 rfl rfl)
theorem dJ24_init_2_13 : decode cJ24_init_2 13 = .ok (.istore 4, 2) := dk_54 4 (dk_at dksJ24_init_2_0 13 rfl rfl)
theorem dJ24_init_2_15 : decode cJ24_init_2 15 = .ok (.aload_n 1, 1) := dk_43 (dk_at dksJ24_init_2_0 15 rfl rfl)
theorem dJ24_init_2_16 : decode cJ24_init_2 16 = .ok (.invokevirtual 1047, 3) := dk_182 4 23 (dk_at dksJ24_init_2_0 16 rfl rfl)
theorem dJ24_init_2_19 : decode cJ24_init_2 19 = .ok (.ifCond .eq 22, 3) := dk_153 0 22 (dk_at dksJ24_init_2_0 19 rfl rfl)
theorem dJ24_init_2_22 : decode cJ24_init_2 22 = .ok (.aload_n 0, 1) := dk_42 (dk_at dksJ24_init_2_0 22 rfl rfl)
theorem dJ24_init_2_23 : decode cJ24_init_2 23 = .ok (.iconst 0, 1) := dk_3 (dk_at dksJ24_init_2_0 23 rfl rfl)
theorem dJ24_init_2_24 : decode cJ24_init_2 24 = .ok (.putfield 15, 3) := dk_181 0 15 (dk_at dksJ24_init_2_1 0 rfl rfl)
theorem dJ24_init_2_27 : decode cJ24_init_2 27 = .ok (.aload_n 0, 1) := dk_42 (dk_at dksJ24_init_2_1 3 rfl rfl)
theorem dJ24_init_2_28 : decode cJ24_init_2 28 = .ok (.aload_n 3, 1) := dk_45 (dk_at dksJ24_init_2_1 4 rfl rfl)
theorem dJ24_init_2_29 : decode cJ24_init_2 29 = .ok (.iconst 0, 1) := dk_3 (dk_at dksJ24_init_2_1 5 rfl rfl)
theorem dJ24_init_2_30 : decode cJ24_init_2 30 = .ok (.iload 4, 2) := dk_21 4 (dk_at dksJ24_init_2_1 6 rfl rfl)
theorem dJ24_init_2_32 : decode cJ24_init_2 32 = .ok (.invokestatic 54, 3) := dk_184 0 54 (dk_at dksJ24_init_2_1 8 rfl rfl)
theorem dJ24_init_2_35 : decode cJ24_init_2 35 = .ok (.putfield 9, 3) := dk_181 0 9 (dk_at dksJ24_init_2_1 11 rfl rfl)
theorem dJ24_init_2_38 : decode cJ24_init_2 38 = .ok (.goto 59, 3) := dk_167 0 59 (dk_at dksJ24_init_2_1 14 rfl rfl)
theorem dJ24_init_2_41 : decode cJ24_init_2 41 = .ok (.getstatic 38, 3) := dk_178 0 38 (dk_at dksJ24_init_2_1 17 rfl rfl)
theorem dJ24_init_2_44 : decode cJ24_init_2 44 = .ok (.ifCond .eq 35, 3) := dk_153 0 35 (dk_at dksJ24_init_2_1 20 rfl rfl)
theorem dJ24_init_2_47 : decode cJ24_init_2 47 = .ok (.aload_n 1, 1) := dk_43 (dk_at dksJ24_init_2_1 23 rfl rfl)
theorem dJ24_init_2_48 : decode cJ24_init_2 48 = .ok (.getfield 1048, 3) := dk_180 4 24 (dk_at dksJ24_init_2_2 0 rfl rfl)
theorem dJ24_init_2_51 : decode cJ24_init_2 51 = .ok (.ifCond .eq 28, 3) := dk_153 0 28 (dk_at dksJ24_init_2_2 3 rfl rfl)
theorem dJ24_init_2_54 : decode cJ24_init_2 54 = .ok (.aload_n 0, 1) := dk_42 (dk_at dksJ24_init_2_2 6 rfl rfl)
theorem dJ24_init_2_55 : decode cJ24_init_2 55 = .ok (.aload_n 3, 1) := dk_45 (dk_at dksJ24_init_2_2 7 rfl rfl)
theorem dJ24_init_2_56 : decode cJ24_init_2 56 = .ok (.iconst 0, 1) := dk_3 (dk_at dksJ24_init_2_2 8 rfl rfl)
theorem dJ24_init_2_57 : decode cJ24_init_2 57 = .ok (.iload 4, 2) := dk_21 4 (dk_at dksJ24_init_2_2 9 rfl rfl)
theorem dJ24_init_2_59 : decode cJ24_init_2 59 = .ok (.invokestatic 1051, 3) := dk_184 4 27 (dk_at dksJ24_init_2_2 11 rfl rfl)
theorem dJ24_init_2_62 : decode cJ24_init_2 62 = .ok (.putfield 9, 3) := dk_181 0 9 (dk_at dksJ24_init_2_2 14 rfl rfl)
theorem dJ24_init_2_65 : decode cJ24_init_2 65 = .ok (.aload_n 0, 1) := dk_42 (dk_at dksJ24_init_2_2 17 rfl rfl)
theorem dJ24_init_2_66 : decode cJ24_init_2 66 = .ok (.aload_n 0, 1) := dk_42 (dk_at dksJ24_init_2_2 18 rfl rfl)
theorem dJ24_init_2_67 : decode cJ24_init_2 67 = .ok (.getfield 9, 3) := dk_180 0 9 (dk_at dksJ24_init_2_2 19 rfl rfl)
theorem dJ24_init_2_70 : decode cJ24_init_2 70 = .ok (.iload 4, 2) := dk_21 4 (dk_at dksJ24_init_2_2 22 rfl rfl)
theorem dJ24_init_2_72 : decode cJ24_init_2 72 = .ok (.invokestatic 47, 3) := dk_184 0 47 (dk_at dksJ24_init_2_3 0 rfl rfl)
theorem dJ24_init_2_75 : decode cJ24_init_2 75 = .ok (.putfield 15, 3) := dk_181 0 15 (dk_at dksJ24_init_2_3 3 rfl rfl)
theorem dJ24_init_2_78 : decode cJ24_init_2 78 = .ok (.return_, 1) := dk_177 (dk_at dksJ24_init_2_3 6 rfl rfl)
theorem dJ24_init_2_79 : decode cJ24_init_2 79 = .ok (.aload_n 0, 1) := dk_42 (dk_at dksJ24_init_2_3 7 rfl rfl)
theorem dJ24_init_2_80 : decode cJ24_init_2 80 = .ok (.iconst 1, 1) := dk_4 (dk_at dksJ24_init_2_3 8 rfl rfl)
theorem dJ24_init_2_81 : decode cJ24_init_2 81 = .ok (.putfield 15, 3) := dk_181 0 15 (dk_at dksJ24_init_2_3 9 rfl rfl)
theorem dJ24_init_2_84 : decode cJ24_init_2 84 = .ok (.aload_n 0, 1) := dk_42 (dk_at dksJ24_init_2_3 12 rfl rfl)
theorem dJ24_init_2_85 : decode cJ24_init_2 85 = .ok (.aload_n 3, 1) := dk_45 (dk_at dksJ24_init_2_3 13 rfl rfl)
theorem dJ24_init_2_86 : decode cJ24_init_2 86 = .ok (.iconst 0, 1) := dk_3 (dk_at dksJ24_init_2_3 14 rfl rfl)
theorem dJ24_init_2_87 : decode cJ24_init_2 87 = .ok (.iload 4, 2) := dk_21 4 (dk_at dksJ24_init_2_3 15 rfl rfl)
theorem dJ24_init_2_89 : decode cJ24_init_2 89 = .ok (.iconst 1, 1) := dk_4 (dk_at dksJ24_init_2_3 17 rfl rfl)
theorem dJ24_init_2_90 : decode cJ24_init_2 90 = .ok (.ishl, 1) := dk_120 (dk_at dksJ24_init_2_3 18 rfl rfl)
theorem dJ24_init_2_91 : decode cJ24_init_2 91 = .ok (.invokestatic 54, 3) := dk_184 0 54 (dk_at dksJ24_init_2_3 19 rfl rfl)
theorem dJ24_init_2_94 : decode cJ24_init_2 94 = .ok (.putfield 9, 3) := dk_181 0 9 (dk_at dksJ24_init_2_4 0 rfl rfl)
theorem dJ24_init_2_97 : decode cJ24_init_2 97 = .ok (.return_, 1) := dk_177 (dk_at dksJ24_init_2_4 3 rfl rfl)
theorem q107 : (Jvm.Cond.initialized "java/lang/String") ∈ lw_all := lw_g (lw_at lw_m1 33 rfl) rfl
theorem q543 : (Jvm.Cond.selects "java/lang/String" ({ cls := "java/lang/Object", name := "getClass", desc := "()Ljava/lang/Class;" } : Jvm.MethodName) ({ cls := "java/lang/Object", name := "getClass", desc := "()Ljava/lang/Class;" } : Jvm.MethodName)) ∈ lw_all := lw_g (lw_at lw_m2 229 rfl) rfl
theorem q1013 : (Jvm.Cond.laysStatic "java/lang/String" "COMPACT_STRINGS" "Z") ∈ lw_tbl := lw_at lw_m4 219 rfl
theorem q1023 : (Jvm.Cond.fieldLink "java/lang/String" (1048 : Nat) "java/lang/AbstractStringBuilder" "maybeLatin1" "Z") ∈ lw_all := lw_g (lw_at lw_m4 229 rfl) rfl
theorem q1078 : (Jvm.Cond.static ({ cls := "java/lang/String", name := "checkBoundsBeginEnd", desc := "(III)V" } : Jvm.MethodName)) ∈ lw_all := lw_g (lw_at lw_m5 44 rfl) rfl
theorem q1079 : (Jvm.Cond.code ({ cls := "java/lang/String", name := "checkBoundsBeginEnd", desc := "(III)V" } : Jvm.MethodName) prog_25_method_158_code (3 : Nat) (Option.none : Option Jvm.ClassFile.FieldType)) ∈ lw_all := lw_g (lw_at lw_m5 45 rfl) rfl
theorem q1080 : (Jvm.Cond.fieldLink "java/lang/String" (1053 : Nat) "jdk/internal/util/Preconditions" "SIOOBE_FORMATTER" "Ljava/util/function/BiFunction;") ∈ lw_all := lw_g (lw_at lw_m5 46 rfl) rfl
theorem q1082 : (Jvm.Cond.methodLink "java/lang/String" (1062 : Nat) ({ cls := "jdk/internal/util/Preconditions", name := "checkFromToIndex", desc := "(IIILjava/util/function/BiFunction;)I" } : Jvm.MethodName)) ∈ lw_all := lw_g (lw_at lw_m5 48 rfl) rfl
theorem q1095 : (Jvm.Cond.instanceMethod ({ cls := "java/lang/String", name := "length", desc := "()I" } : Jvm.MethodName)) ∈ lw_all := lw_g (lw_at lw_m5 61 rfl) rfl
theorem q1096 : (Jvm.Cond.selects "java/lang/String" ({ cls := "java/lang/String", name := "length", desc := "()I" } : Jvm.MethodName) ({ cls := "java/lang/String", name := "length", desc := "()I" } : Jvm.MethodName)) ∈ lw_all := lw_g (lw_at lw_m5 62 rfl) rfl
theorem q1097 : (Jvm.Cond.code ({ cls := "java/lang/String", name := "length", desc := "()I" } : Jvm.MethodName) prog_25_method_54_code (1 : Nat) (Option.some Jvm.ClassFile.FieldType.int)) ∈ lw_all := lw_g (lw_at lw_m5 63 rfl) rfl
theorem q1098 : (Jvm.Cond.methodLink "java/lang/String" (335 : Nat) ({ cls := "java/lang/String", name := "coder", desc := "()B" } : Jvm.MethodName)) ∈ lw_all := lw_g (lw_at lw_m5 64 rfl) rfl
theorem q1099 : (Jvm.Cond.instanceMethod ({ cls := "java/lang/String", name := "coder", desc := "()B" } : Jvm.MethodName)) ∈ lw_all := lw_g (lw_at lw_m5 65 rfl) rfl
theorem q1100 : (Jvm.Cond.selects "java/lang/String" ({ cls := "java/lang/String", name := "coder", desc := "()B" } : Jvm.MethodName) ({ cls := "java/lang/String", name := "coder", desc := "()B" } : Jvm.MethodName)) ∈ lw_all := lw_g (lw_at lw_m5 66 rfl) rfl
theorem q1101 : (Jvm.Cond.code ({ cls := "java/lang/String", name := "coder", desc := "()B" } : Jvm.MethodName) prog_25_method_152_code (1 : Nat) (Option.some Jvm.ClassFile.FieldType.byte)) ∈ lw_all := lw_g (lw_at lw_m5 67 rfl) rfl
theorem q1102 : (Jvm.Cond.fieldLink "java/lang/String" (38 : Nat) "java/lang/String" "COMPACT_STRINGS" "Z") ∈ lw_all := lw_g (lw_at lw_m5 68 rfl) rfl
theorem q1126 : (Jvm.Cond.static ({ cls := "java/lang/String", name := "checkBoundsOffCount", desc := "(III)I" } : Jvm.MethodName)) ∈ lw_all := lw_g (lw_at lw_m5 92 rfl) rfl
theorem q1127 : (Jvm.Cond.code ({ cls := "java/lang/String", name := "checkBoundsOffCount", desc := "(III)I" } : Jvm.MethodName) prog_25_method_157_code (3 : Nat) (Option.some Jvm.ClassFile.FieldType.int)) ∈ lw_all := lw_g (lw_at lw_m5 93 rfl) rfl
theorem q1128 : (Jvm.Cond.methodLink "java/lang/String" (1065 : Nat) ({ cls := "jdk/internal/util/Preconditions", name := "checkFromIndexSize", desc := "(IIILjava/util/function/BiFunction;)I" } : Jvm.MethodName)) ∈ lw_all := lw_g (lw_at lw_m5 94 rfl) rfl
theorem q1132 : (Jvm.Cond.instanceMethod ({ cls := "java/lang/String", name := "getBytes", desc := "([BIB)V" } : Jvm.MethodName)) ∈ lw_all := lw_g (lw_at lw_m5 98 rfl) rfl
theorem q1133 : (Jvm.Cond.selects "java/lang/String" ({ cls := "java/lang/String", name := "getBytes", desc := "([BIB)V" } : Jvm.MethodName) ({ cls := "java/lang/String", name := "getBytes", desc := "([BIB)V" } : Jvm.MethodName)) ∈ lw_all := lw_g (lw_at lw_m5 99 rfl) rfl
theorem q1134 : (Jvm.Cond.code ({ cls := "java/lang/String", name := "getBytes", desc := "([BIB)V" } : Jvm.MethodName) prog_25_method_147_code (4 : Nat) (Option.none : Option Jvm.ClassFile.FieldType)) ∈ lw_all := lw_g (lw_at lw_m5 100 rfl) rfl
theorem q1135 : (Jvm.Cond.methodLink "java/lang/String" (212 : Nat) ({ cls := "java/lang/System", name := "arraycopy", desc := "(Ljava/lang/Object;ILjava/lang/Object;II)V" } : Jvm.MethodName)) ∈ lw_all := lw_g (lw_at lw_m5 101 rfl) rfl
theorem q1136 : (Jvm.Cond.methodLink "java/lang/String" (106 : Nat) ({ cls := "java/lang/StringLatin1", name := "inflate", desc := "([BI[BII)V" } : Jvm.MethodName)) ∈ lw_all := lw_g (lw_at lw_m5 102 rfl) rfl
theorem q1143 : (Jvm.Cond.instantiable "java/lang/String" (4 : Nat)) ∈ lw_all := lw_g (lw_at lw_m5 109 rfl) rfl
theorem q1145 : (Jvm.Cond.instanceMethod ({ cls := "java/lang/String", name := "<init>", desc := "(Ljava/lang/StringBuilder;)V" } : Jvm.MethodName)) ∈ lw_all := lw_g (lw_at lw_m5 111 rfl) rfl
theorem q1146 : (Jvm.Cond.code ({ cls := "java/lang/String", name := "<init>", desc := "(Ljava/lang/StringBuilder;)V" } : Jvm.MethodName) prog_25_method_53_code (2 : Nat) (Option.none : Option Jvm.ClassFile.FieldType)) ∈ lw_all := lw_g (lw_at lw_m5 112 rfl) rfl
theorem q1147 : (Jvm.Cond.methodLink "java/lang/String" (489 : Nat) ({ cls := "java/lang/String", name := "<init>", desc := "(Ljava/lang/AbstractStringBuilder;Ljava/lang/Void;)V" } : Jvm.MethodName)) ∈ lw_all := lw_g (lw_at lw_m5 113 rfl) rfl
theorem q1148 : (Jvm.Cond.instanceMethod ({ cls := "java/lang/String", name := "<init>", desc := "(Ljava/lang/AbstractStringBuilder;Ljava/lang/Void;)V" } : Jvm.MethodName)) ∈ lw_all := lw_g (lw_at lw_m5 114 rfl) rfl
theorem q1149 : (Jvm.Cond.code ({ cls := "java/lang/String", name := "<init>", desc := "(Ljava/lang/AbstractStringBuilder;Ljava/lang/Void;)V" } : Jvm.MethodName) prog_25_method_150_code (5 : Nat) (Option.none : Option Jvm.ClassFile.FieldType)) ∈ lw_all := lw_g (lw_at lw_m5 115 rfl) rfl
theorem q1150 : (Jvm.Cond.methodLink "java/lang/String" (1 : Nat) ({ cls := "java/lang/Object", name := "<init>", desc := "()V" } : Jvm.MethodName)) ∈ lw_all := lw_g (lw_at lw_m5 116 rfl) rfl
theorem q1151 : (Jvm.Cond.methodLink "java/lang/String" (552 : Nat) ({ cls := "java/lang/AbstractStringBuilder", name := "getValue", desc := "()[B" } : Jvm.MethodName)) ∈ lw_all := lw_g (lw_at lw_m5 117 rfl) rfl
theorem q1156 : (Jvm.Cond.methodLink "java/lang/String" (549 : Nat) ({ cls := "java/lang/AbstractStringBuilder", name := "length", desc := "()I" } : Jvm.MethodName)) ∈ lw_all := lw_g (lw_at lw_m5 122 rfl) rfl
theorem q1164 : (Jvm.Cond.methodLink "java/lang/String" (1047 : Nat) ({ cls := "java/lang/AbstractStringBuilder", name := "isLatin1", desc := "()Z" } : Jvm.MethodName)) ∈ lw_all := lw_g (lw_at lw_m5 130 rfl) rfl
theorem q1165 : (Jvm.Cond.methodLink "java/lang/String" (54 : Nat) ({ cls := "java/util/Arrays", name := "copyOfRange", desc := "([BII)[B" } : Jvm.MethodName)) ∈ lw_all := lw_g (lw_at lw_m5 131 rfl) rfl
theorem q1174 : (Jvm.Cond.methodLink "java/lang/String" (1051 : Nat) ({ cls := "java/lang/StringUTF16", name := "compress", desc := "([BII)[B" } : Jvm.MethodName)) ∈ lw_all := lw_g (lw_at lw_m5 140 rfl) rfl
theorem q1184 : (Jvm.Cond.methodLink "java/lang/String" (47 : Nat) ({ cls := "java/lang/StringUTF16", name := "coderFromArrayLen", desc := "([BI)B" } : Jvm.MethodName)) ∈ lw_all := lw_g (lw_at lw_m5 150 rfl) rfl
theorem q1187 : (Jvm.Cond.fieldLink "java/lang/String" (9 : Nat) "java/lang/String" "value" "[B") ∈ lw_all := lw_g (lw_at lw_m5 153 rfl) rfl
theorem q1188 : (Jvm.Cond.fieldLink "java/lang/String" (15 : Nat) "java/lang/String" "coder" "B") ∈ lw_all := lw_g (lw_at lw_m5 154 rfl) rfl
theorem q1189 : (Jvm.Cond.laysFinal "java/lang/String" "java/lang/String" "value" "[B") ∈ lw_all := lw_g (lw_at lw_m5 155 rfl) rfl
theorem q1190 : (Jvm.Cond.soleField "java/lang/String" "value") ∈ lw_all := lw_g (lw_at lw_m5 156 rfl) rfl
theorem q1191 : (Jvm.Cond.laysFinal "java/lang/String" "java/lang/String" "coder" "B") ∈ lw_all := lw_g (lw_at lw_m5 157 rfl) rfl
theorem q1192 : (Jvm.Cond.soleField "java/lang/String" "coder") ∈ lw_all := lw_g (lw_at lw_m5 158 rfl) rfl
theorem q1193 : (Jvm.Cond.lays "java/lang/String" "java/lang/String" "hash" "I") ∈ lw_all := lw_g (lw_at lw_m5 159 rfl) rfl
theorem q1194 : (Jvm.Cond.soleField "java/lang/String" "hash") ∈ lw_all := lw_g (lw_at lw_m5 160 rfl) rfl
theorem q1195 : (Jvm.Cond.lays "java/lang/String" "java/lang/String" "hashIsZero" "Z") ∈ lw_all := lw_g (lw_at lw_m5 161 rfl) rfl
theorem q1196 : (Jvm.Cond.soleField "java/lang/String" "hashIsZero") ∈ lw_all := lw_g (lw_at lw_m5 162 rfl) rfl
theorem q1197 : (Jvm.Cond.superclass "java/lang/String" "java/lang/Object") ∈ lw_all := lw_g (lw_at lw_m5 163 rfl) rfl
theorem q2051 : (Jvm.Cond.castable "java/lang/String" "java/lang/Object") ∈ lw_tbl := lw_at lw_m9 57 rfl
theorem in_J24 : ∀ w ∈ wsJ240, w ∈ lw_all := lw_in wsJ240 [1189, 1191, 1193, 1195] (by decide +kernel) (by decide +kernel)
/-! java/lang/StringUTF16 -/
set_option maxRecDepth 100000
def RJ25 : String := "java/lang/StringUTF16"
abbrev cJ25_newBytesFor : ByteArray := prog_28_method_2_code
def yJ25_newBytesFor : MethodName := ⟨RJ25, "newBytesFor", "(I)[B"⟩
def dkwJ25_newBytesFor_0 : List UInt8 := [26, 184, 0, 11, 188, 8, 176]
abbrev dktJ25_newBytesFor_0 : List UInt8 := dkwJ25_newBytesFor_0 ++ []
theorem dksJ25_newBytesFor_0 : cJ25_newBytesFor.data.toList.drop 0 = dktJ25_newBytesFor_0 := by decide +kernel
theorem dJ25_newBytesFor_0 : decode cJ25_newBytesFor 0 = .ok (.iload_n 0, 1) := dk_26 (dk_at dksJ25_newBytesFor_0 0 rfl rfl)
theorem dJ25_newBytesFor_1 : decode cJ25_newBytesFor 1 = .ok (.invokestatic 11, 3) := dk_184 0 11 (dk_at dksJ25_newBytesFor_0 1 rfl rfl)
theorem dJ25_newBytesFor_4 : decode cJ25_newBytesFor 4 = .ok (.newarray .byte, 2) := dk_188_8 (dk_at dksJ25_newBytesFor_0 4 rfl rfl)
theorem dJ25_newBytesFor_6 : decode cJ25_newBytesFor 6 = .ok (.areturn, 1) := dk_176 (dk_at dksJ25_newBytesFor_0 6 rfl rfl)
abbrev cJ25_newBytesLength : ByteArray := prog_28_method_3_code
def yJ25_newBytesLength : MethodName := ⟨RJ25, "newBytesLength", "(I)I"⟩
def dkwJ25_newBytesLength_2 : List UInt8 := [182, 0, 32, 182, 0, 37, 183, 0, 41, 191, 26, 4, 120, 172]
abbrev dktJ25_newBytesLength_2 : List UInt8 := dkwJ25_newBytesLength_2 ++ []
def dkwJ25_newBytesLength_1 : List UInt8 := [187, 0, 23, 89, 183, 0, 25, 18, 26, 182, 0, 28, 26, 182, 0, 32, 18, 35, 182, 0, 28, 18, 20]
abbrev dktJ25_newBytesLength_1 : List UInt8 := dkwJ25_newBytesLength_1 ++ dktJ25_newBytesLength_2
def dkwJ25_newBytesLength_0 : List UInt8 := [26, 156, 0, 11, 187, 0, 17, 89, 183, 0, 19, 191, 26, 18, 20, 161, 0, 40, 187, 0, 21, 89]
abbrev dktJ25_newBytesLength_0 : List UInt8 := dkwJ25_newBytesLength_0 ++ dktJ25_newBytesLength_1
theorem dksJ25_newBytesLength_0 : cJ25_newBytesLength.data.toList.drop 0 = dktJ25_newBytesLength_0 := by decide +kernel
theorem dksJ25_newBytesLength_1 : cJ25_newBytesLength.data.toList.drop 22 = dktJ25_newBytesLength_1 := dk_seg dksJ25_newBytesLength_0 22 rfl rfl
theorem dksJ25_newBytesLength_2 : cJ25_newBytesLength.data.toList.drop 45 = dktJ25_newBytesLength_2 := dk_seg dksJ25_newBytesLength_1 23 rfl rfl
theorem dJ25_newBytesLength_0 : decode cJ25_newBytesLength 0 = .ok (.iload_n 0, 1) := dk_26 (dk_at dksJ25_newBytesLength_0 0 rfl rfl)
theorem dJ25_newBytesLength_1 : decode cJ25_newBytesLength 1 = .ok (.ifCond .ge 11, 3) := dk_156 0 11 (dk_at dksJ25_newBytesLength_0 1 rfl rfl)
theorem dJ25_newBytesLength_4 : decode cJ25_newBytesLength 4 = .ok (.new 17, 3) := dk_187 0 17 (dk_at dksJ25_newBytesLength_0 4 rfl rfl)
theorem dJ25_newBytesLength_7 : decode cJ25_newBytesLength 7 = .ok (.dup, 1) := dk_89 (dk_at dksJ25_newBytesLength_0 7 rfl rfl)
theorem dJ25_newBytesLength_8 : decode cJ25_newBytesLength 8 = .ok (.invokespecial 19, 3) := dk_183 0 19 (dk_at dksJ25_newBytesLength_0 8 rfl rfl)
theorem dJ25_newBytesLength_11 : decode cJ25_newBytesLength 11 = .ok (.athrow, 1) := dk_191 (dk_at dksJ25_newBytesLength_0 11 rfl rfl)
theorem dJ25_newBytesLength_12 : decode cJ25_newBytesLength 12 = .ok (.iload_n 0, 1) := dk_26 (dk_at dksJ25_newBytesLength_0 12 rfl rfl)
theorem dJ25_newBytesLength_13 : decode cJ25_newBytesLength 13 = .ok (.ldc 20, 2) := dk_18 20 (dk_at dksJ25_newBytesLength_0 13 rfl rfl)
theorem dJ25_newBytesLength_15 : decode cJ25_newBytesLength 15 = .ok (.if_icmp .lt 40, 3) := dk_161 0 40 (dk_at dksJ25_newBytesLength_0 15 rfl rfl)
theorem dJ25_newBytesLength_18 : decode cJ25_newBytesLength 18 = .ok (.new 21, 3) := dk_187 0 21 (dk_at dksJ25_newBytesLength_0 18 rfl rfl)
theorem dJ25_newBytesLength_21 : decode cJ25_newBytesLength 21 = .ok (.dup, 1) := dk_89 (dk_at dksJ25_newBytesLength_0 21 rfl rfl)
theorem dJ25_newBytesLength_22 : decode cJ25_newBytesLength 22 = .ok (.new 23, 3) := dk_187 0 23 (dk_at dksJ25_newBytesLength_1 0 rfl rfl)
theorem dJ25_newBytesLength_25 : decode cJ25_newBytesLength 25 = .ok (.dup, 1) := dk_89 (dk_at dksJ25_newBytesLength_1 3 rfl rfl)
theorem dJ25_newBytesLength_26 : decode cJ25_newBytesLength 26 = .ok (.invokespecial 25, 3) := dk_183 0 25 (dk_at dksJ25_newBytesLength_1 4 rfl rfl)
theorem dJ25_newBytesLength_29 : decode cJ25_newBytesLength 29 = .ok (.ldc 26, 2) := dk_18 26 (dk_at dksJ25_newBytesLength_1 7 rfl rfl)
theorem dJ25_newBytesLength_31 : decode cJ25_newBytesLength 31 = .ok (.invokevirtual 28, 3) := dk_182 0 28 (dk_at dksJ25_newBytesLength_1 9 rfl rfl)
theorem dJ25_newBytesLength_34 : decode cJ25_newBytesLength 34 = .ok (.iload_n 0, 1) := dk_26 (dk_at dksJ25_newBytesLength_1 12 rfl rfl)
theorem dJ25_newBytesLength_35 : decode cJ25_newBytesLength 35 = .ok (.invokevirtual 32, 3) := dk_182 0 32 (dk_at dksJ25_newBytesLength_1 13 rfl rfl)
theorem dJ25_newBytesLength_38 : decode cJ25_newBytesLength 38 = .ok (.ldc 35, 2) := dk_18 35 (dk_at dksJ25_newBytesLength_1 16 rfl rfl)
theorem dJ25_newBytesLength_40 : decode cJ25_newBytesLength 40 = .ok (.invokevirtual 28, 3) := dk_182 0 28 (dk_at dksJ25_newBytesLength_1 18 rfl rfl)
theorem dJ25_newBytesLength_43 : decode cJ25_newBytesLength 43 = .ok (.ldc 20, 2) := dk_18 20 (dk_at dksJ25_newBytesLength_1 21 rfl rfl)
theorem dJ25_newBytesLength_45 : decode cJ25_newBytesLength 45 = .ok (.invokevirtual 32, 3) := dk_182 0 32 (dk_at dksJ25_newBytesLength_2 0 rfl rfl)
theorem dJ25_newBytesLength_48 : decode cJ25_newBytesLength 48 = .ok (.invokevirtual 37, 3) := dk_182 0 37 (dk_at dksJ25_newBytesLength_2 3 rfl rfl)
theorem dJ25_newBytesLength_51 : decode cJ25_newBytesLength 51 = .ok (.invokespecial 41, 3) := dk_183 0 41 (dk_at dksJ25_newBytesLength_2 6 rfl rfl)
theorem dJ25_newBytesLength_54 : decode cJ25_newBytesLength 54 = .ok (.athrow, 1) := dk_191 (dk_at dksJ25_newBytesLength_2 9 rfl rfl)
theorem dJ25_newBytesLength_55 : decode cJ25_newBytesLength 55 = .ok (.iload_n 0, 1) := dk_26 (dk_at dksJ25_newBytesLength_2 10 rfl rfl)
theorem dJ25_newBytesLength_56 : decode cJ25_newBytesLength 56 = .ok (.iconst 1, 1) := dk_4 (dk_at dksJ25_newBytesLength_2 11 rfl rfl)
theorem dJ25_newBytesLength_57 : decode cJ25_newBytesLength 57 = .ok (.ishl, 1) := dk_120 (dk_at dksJ25_newBytesLength_2 12 rfl rfl)
theorem dJ25_newBytesLength_58 : decode cJ25_newBytesLength 58 = .ok (.ireturn, 1) := dk_172 (dk_at dksJ25_newBytesLength_2 13 rfl rfl)
abbrev cJ25_putCharsAt : ByteArray := prog_28_method_81_code
def yJ25_putCharsAt : MethodName := ⟨RJ25, "putCharsAt", "([BICCCC)I"⟩
def dkwJ25_putCharsAt_3 : List UInt8 := [21, 6, 172]
abbrev dktJ25_putCharsAt_3 : List UInt8 := dkwJ25_putCharsAt_3 ++ []
def dkwJ25_putCharsAt_2 : List UInt8 := [184, 0, 111, 178, 0, 44, 154, 0, 17, 27, 21, 6, 159, 0, 11, 187, 0, 52, 89, 183, 0, 66, 191]
abbrev dktJ25_putCharsAt_2 : List UInt8 := dkwJ25_putCharsAt_2 ++ dktJ25_putCharsAt_3
def dkwJ25_putCharsAt_1 : List UInt8 := [132, 1, 1, 29, 184, 0, 111, 42, 27, 132, 1, 1, 21, 4, 184, 0, 111, 42, 27, 132, 1, 1, 21, 5]
abbrev dktJ25_putCharsAt_1 : List UInt8 := dkwJ25_putCharsAt_1 ++ dktJ25_putCharsAt_2
def dkwJ25_putCharsAt_0 : List UInt8 := [27, 7, 96, 54, 6, 27, 21, 6, 42, 184, 0, 96, 42, 27, 132, 1, 1, 28, 184, 0, 111, 42, 27]
abbrev dktJ25_putCharsAt_0 : List UInt8 := dkwJ25_putCharsAt_0 ++ dktJ25_putCharsAt_1
theorem dksJ25_putCharsAt_0 : cJ25_putCharsAt.data.toList.drop 0 = dktJ25_putCharsAt_0 := by decide +kernel
theorem dksJ25_putCharsAt_1 : cJ25_putCharsAt.data.toList.drop 23 = dktJ25_putCharsAt_1 := dk_seg dksJ25_putCharsAt_0 23 rfl rfl
theorem dksJ25_putCharsAt_2 : cJ25_putCharsAt.data.toList.drop 47 = dktJ25_putCharsAt_2 := dk_seg dksJ25_putCharsAt_1 24 rfl rfl
theorem dksJ25_putCharsAt_3 : cJ25_putCharsAt.data.toList.drop 70 = dktJ25_putCharsAt_3 := dk_seg dksJ25_putCharsAt_2 23 rfl rfl
theorem dJ25_putCharsAt_0 : decode cJ25_putCharsAt 0 = .ok (.iload_n 1, 1) := dk_27 (dk_at dksJ25_putCharsAt_0 0 rfl rfl)
theorem dJ25_putCharsAt_1 : decode cJ25_putCharsAt 1 = .ok (.iconst 4, 1) := dk_7 (dk_at dksJ25_putCharsAt_0 1 rfl rfl)
theorem dJ25_putCharsAt_2 : decode cJ25_putCharsAt 2 = .ok (.iadd, 1) := dk_96 (dk_at dksJ25_putCharsAt_0 2 rfl rfl)
theorem dJ25_putCharsAt_3 : decode cJ25_putCharsAt 3 = .ok (.istore 6, 2) := dk_54 6 (dk_at dksJ25_putCharsAt_0 3 rfl rfl)
theorem dJ25_putCharsAt_5 : decode cJ25_putCharsAt 5 = .ok (.iload_n 1, 1) := dk_27 (dk_at dksJ25_putCharsAt_0 5 rfl rfl)
theorem dJ25_putCharsAt_6 : decode cJ25_putCharsAt 6 = .ok (.iload 6, 2) := dk_21 6 (dk_at dksJ25_putCharsAt_0 6 rfl rfl)
theorem dJ25_putCharsAt_8 : decode cJ25_putCharsAt 8 = .ok (.aload_n 0, 1) := dk_42 (dk_at dksJ25_putCharsAt_0 8 rfl rfl)
theorem dJ25_putCharsAt_9 : decode cJ25_putCharsAt 9 = .ok (.invokestatic 96, 3) := dk_184 0 96 (dk_at dksJ25_putCharsAt_0 9 rfl rfl)
theorem dJ25_putCharsAt_12 : decode cJ25_putCharsAt 12 = .ok (.aload_n 0, 1) := dk_42 (dk_at dksJ25_putCharsAt_0 12 rfl rfl)
theorem dJ25_putCharsAt_13 : decode cJ25_putCharsAt 13 = .ok (.iload_n 1, 1) := dk_27 (dk_at dksJ25_putCharsAt_0 13 rfl rfl)
theorem dJ25_putCharsAt_14 : decode cJ25_putCharsAt 14 = .ok (.iinc 1 1, 3) := dk_132 1 1 (dk_at dksJ25_putCharsAt_0 14 rfl rfl)
theorem dJ25_putCharsAt_17 : decode cJ25_putCharsAt 17 = .ok (.iload_n 2, 1) := dk_28 (dk_at dksJ25_putCharsAt_0 17 rfl rfl)
theorem dJ25_putCharsAt_18 : decode cJ25_putCharsAt 18 = .ok (.invokestatic 111, 3) := dk_184 0 111 (dk_at dksJ25_putCharsAt_0 18 rfl rfl)
theorem dJ25_putCharsAt_21 : decode cJ25_putCharsAt 21 = .ok (.aload_n 0, 1) := dk_42 (dk_at dksJ25_putCharsAt_0 21 rfl rfl)
theorem dJ25_putCharsAt_22 : decode cJ25_putCharsAt 22 = .ok (.iload_n 1, 1) := dk_27 (dk_at dksJ25_putCharsAt_0 22 rfl rfl)
theorem dJ25_putCharsAt_23 : decode cJ25_putCharsAt 23 = .ok (.iinc 1 1, 3) := dk_132 1 1 (dk_at dksJ25_putCharsAt_1 0 rfl rfl)
theorem dJ25_putCharsAt_26 : decode cJ25_putCharsAt 26 = .ok (.iload_n 3, 1) := dk_29 (dk_at dksJ25_putCharsAt_1 3 rfl rfl)
theorem dJ25_putCharsAt_27 : decode cJ25_putCharsAt 27 = .ok (.invokestatic 111, 3) := dk_184 0 111 (dk_at dksJ25_putCharsAt_1 4 rfl rfl)
theorem dJ25_putCharsAt_30 : decode cJ25_putCharsAt 30 = .ok (.aload_n 0, 1) := dk_42 (dk_at dksJ25_putCharsAt_1 7 rfl rfl)
theorem dJ25_putCharsAt_31 : decode cJ25_putCharsAt 31 = .ok (.iload_n 1, 1) := dk_27 (dk_at dksJ25_putCharsAt_1 8 rfl rfl)
theorem dJ25_putCharsAt_32 : decode cJ25_putCharsAt 32 = .ok (.iinc 1 1, 3) := dk_132 1 1 (dk_at dksJ25_putCharsAt_1 9 rfl rfl)
theorem dJ25_putCharsAt_35 : decode cJ25_putCharsAt 35 = .ok (.iload 4, 2) := dk_21 4 (dk_at dksJ25_putCharsAt_1 12 rfl rfl)
theorem dJ25_putCharsAt_37 : decode cJ25_putCharsAt 37 = .ok (.invokestatic 111, 3) := dk_184 0 111 (dk_at dksJ25_putCharsAt_1 14 rfl rfl)
theorem dJ25_putCharsAt_40 : decode cJ25_putCharsAt 40 = .ok (.aload_n 0, 1) := dk_42 (dk_at dksJ25_putCharsAt_1 17 rfl rfl)
theorem dJ25_putCharsAt_41 : decode cJ25_putCharsAt 41 = .ok (.iload_n 1, 1) := dk_27 (dk_at dksJ25_putCharsAt_1 18 rfl rfl)
theorem dJ25_putCharsAt_42 : decode cJ25_putCharsAt 42 = .ok (.iinc 1 1, 3) := dk_132 1 1 (dk_at dksJ25_putCharsAt_1 19 rfl rfl)
theorem dJ25_putCharsAt_45 : decode cJ25_putCharsAt 45 = .ok (.iload 5, 2) := dk_21 5 (dk_at dksJ25_putCharsAt_1 22 rfl rfl)
theorem dJ25_putCharsAt_47 : decode cJ25_putCharsAt 47 = .ok (.invokestatic 111, 3) := dk_184 0 111 (dk_at dksJ25_putCharsAt_2 0 rfl rfl)
theorem dJ25_putCharsAt_50 : decode cJ25_putCharsAt 50 = .ok (.getstatic 44, 3) := dk_178 0 44 (dk_at dksJ25_putCharsAt_2 3 rfl rfl)
theorem dJ25_putCharsAt_53 : decode cJ25_putCharsAt 53 = .ok (.ifCond .ne 17, 3) := dk_154 0 17 (dk_at dksJ25_putCharsAt_2 6 rfl rfl)
theorem dJ25_putCharsAt_56 : decode cJ25_putCharsAt 56 = .ok (.iload_n 1, 1) := dk_27 (dk_at dksJ25_putCharsAt_2 9 rfl rfl)
theorem dJ25_putCharsAt_57 : decode cJ25_putCharsAt 57 = .ok (.iload 6, 2) := dk_21 6 (dk_at dksJ25_putCharsAt_2 10 rfl rfl)
theorem dJ25_putCharsAt_59 : decode cJ25_putCharsAt 59 = .ok (.if_icmp .eq 11, 3) := dk_159 0 11 (dk_at dksJ25_putCharsAt_2 12 rfl rfl)
theorem dJ25_putCharsAt_62 : decode cJ25_putCharsAt 62 = .ok (.new 52, 3) := dk_187 0 52 (dk_at dksJ25_putCharsAt_2 15 rfl rfl)
theorem dJ25_putCharsAt_65 : decode cJ25_putCharsAt 65 = .ok (.dup, 1) := dk_89 (dk_at dksJ25_putCharsAt_2 18 rfl rfl)
theorem dJ25_putCharsAt_66 : decode cJ25_putCharsAt 66 = .ok (.invokespecial 66, 3) := dk_183 0 66 (dk_at dksJ25_putCharsAt_2 19 rfl rfl)
theorem dJ25_putCharsAt_69 : decode cJ25_putCharsAt 69 = .ok (.athrow, 1) := dk_191 (dk_at dksJ25_putCharsAt_2 22 rfl rfl)
theorem dJ25_putCharsAt_70 : decode cJ25_putCharsAt 70 = .ok (.iload 6, 2) := dk_21 6 (dk_at dksJ25_putCharsAt_3 0 rfl rfl)
theorem dJ25_putCharsAt_72 : decode cJ25_putCharsAt 72 = .ok (.ireturn, 1) := dk_172 (dk_at dksJ25_putCharsAt_3 2 rfl rfl)
abbrev cJ25_checkBoundsBeginEnd : ByteArray := prog_28_method_93_code
def yJ25_checkBoundsBeginEnd : MethodName := ⟨RJ25, "checkBoundsBeginEnd", "(II[B)V"⟩
def dkwJ25_checkBoundsBeginEnd_0 : List UInt8 := [26, 27, 44, 184, 0, 48, 184, 0, 241, 177]
abbrev dktJ25_checkBoundsBeginEnd_0 : List UInt8 := dkwJ25_checkBoundsBeginEnd_0 ++ []
theorem dksJ25_checkBoundsBeginEnd_0 : cJ25_checkBoundsBeginEnd.data.toList.drop 0 = dktJ25_checkBoundsBeginEnd_0 := by decide +kernel
theorem dJ25_checkBoundsBeginEnd_0 : decode cJ25_checkBoundsBeginEnd 0 = .ok (.iload_n 0, 1) := dk_26 (dk_at dksJ25_checkBoundsBeginEnd_0 0 rfl rfl)
theorem dJ25_checkBoundsBeginEnd_1 : decode cJ25_checkBoundsBeginEnd 1 = .ok (.iload_n 1, 1) := dk_27 (dk_at dksJ25_checkBoundsBeginEnd_0 1 rfl rfl)
theorem dJ25_checkBoundsBeginEnd_2 : decode cJ25_checkBoundsBeginEnd 2 = .ok (.aload_n 2, 1) := dk_44 (dk_at dksJ25_checkBoundsBeginEnd_0 2 rfl rfl)
theorem dJ25_checkBoundsBeginEnd_3 : decode cJ25_checkBoundsBeginEnd 3 = .ok (.invokestatic 48, 3) := dk_184 0 48 (dk_at dksJ25_checkBoundsBeginEnd_0 3 rfl rfl)
theorem dJ25_checkBoundsBeginEnd_6 : decode cJ25_checkBoundsBeginEnd 6 = .ok (.invokestatic 241, 3) := dk_184 0 241 (dk_at dksJ25_checkBoundsBeginEnd_0 6 rfl rfl)
theorem dJ25_checkBoundsBeginEnd_9 : decode cJ25_checkBoundsBeginEnd 9 = .ok (.return_, 1) := dk_177 (dk_at dksJ25_checkBoundsBeginEnd_0 9 rfl rfl)
abbrev cJ25_length : ByteArray := prog_28_method_6_code
def yJ25_length : MethodName := ⟨RJ25, "length", "([B)I"⟩
def dkwJ25_length_0 : List UInt8 := [42, 190, 4, 122, 172]
abbrev dktJ25_length_0 : List UInt8 := dkwJ25_length_0 ++ []
theorem dksJ25_length_0 : cJ25_length.data.toList.drop 0 = dktJ25_length_0 := by decide +kernel
theorem dJ25_length_0 : decode cJ25_length 0 = .ok (.aload_n 0, 1) := dk_42 (dk_at dksJ25_length_0 0 rfl rfl)
theorem dJ25_length_1 : decode cJ25_length 1 = .ok (.arraylength, 1) := dk_190 (dk_at dksJ25_length_0 1 rfl rfl)
theorem dJ25_length_2 : decode cJ25_length 2 = .ok (.iconst 1, 1) := dk_4 (dk_at dksJ25_length_0 2 rfl rfl)
theorem dJ25_length_3 : decode cJ25_length 3 = .ok (.ishr, 1) := dk_122 (dk_at dksJ25_length_0 3 rfl rfl)
theorem dJ25_length_4 : decode cJ25_length 4 = .ok (.ireturn, 1) := dk_172 (dk_at dksJ25_length_0 4 rfl rfl)
abbrev cJ25_putChar : ByteArray := prog_28_method_4_code
def yJ25_putChar : MethodName := ⟨RJ25, "putChar", "([BII)V"⟩
def dkwJ25_putChar_2 : List UInt8 := [178, 0, 63, 122, 145, 84, 177]
abbrev dktJ25_putChar_2 : List UInt8 := dkwJ25_putChar_2 ++ []
def dkwJ25_putChar_1 : List UInt8 := [183, 0, 56, 191, 27, 4, 120, 60, 42, 27, 132, 1, 1, 28, 178, 0, 59, 122, 145, 84, 42, 27, 28]
abbrev dktJ25_putChar_1 : List UInt8 := dkwJ25_putChar_1 ++ dktJ25_putChar_2
def dkwJ25_putChar_0 : List UInt8 := [178, 0, 44, 154, 0, 25, 27, 155, 0, 11, 27, 42, 184, 0, 48, 161, 0, 13, 187, 0, 52, 89, 18, 54]
abbrev dktJ25_putChar_0 : List UInt8 := dkwJ25_putChar_0 ++ dktJ25_putChar_1
theorem dksJ25_putChar_0 : cJ25_putChar.data.toList.drop 0 = dktJ25_putChar_0 := by decide +kernel
theorem dksJ25_putChar_1 : cJ25_putChar.data.toList.drop 24 = dktJ25_putChar_1 := dk_seg dksJ25_putChar_0 24 rfl rfl
theorem dksJ25_putChar_2 : cJ25_putChar.data.toList.drop 47 = dktJ25_putChar_2 := dk_seg dksJ25_putChar_1 23 rfl rfl
theorem dJ25_putChar_0 : decode cJ25_putChar 0 = .ok (.getstatic 44, 3) := dk_178 0 44 (dk_at dksJ25_putChar_0 0 rfl rfl)
theorem dJ25_putChar_3 : decode cJ25_putChar 3 = .ok (.ifCond .ne 25, 3) := dk_154 0 25 (dk_at dksJ25_putChar_0 3 rfl rfl)
theorem dJ25_putChar_6 : decode cJ25_putChar 6 = .ok (.iload_n 1, 1) := dk_27 (dk_at dksJ25_putChar_0 6 rfl rfl)
theorem dJ25_putChar_7 : decode cJ25_putChar 7 = .ok (.ifCond .lt 11, 3) := dk_155 0 11 (dk_at dksJ25_putChar_0 7 rfl rfl)
theorem dJ25_putChar_10 : decode cJ25_putChar 10 = .ok (.iload_n 1, 1) := dk_27 (dk_at dksJ25_putChar_0 10 rfl rfl)
theorem dJ25_putChar_11 : decode cJ25_putChar 11 = .ok (.aload_n 0, 1) := dk_42 (dk_at dksJ25_putChar_0 11 rfl rfl)
theorem dJ25_putChar_12 : decode cJ25_putChar 12 = .ok (.invokestatic 48, 3) := dk_184 0 48 (dk_at dksJ25_putChar_0 12 rfl rfl)
theorem dJ25_putChar_15 : decode cJ25_putChar 15 = .ok (.if_icmp .lt 13, 3) := dk_161 0 13 (dk_at dksJ25_putChar_0 15 rfl rfl)
theorem dJ25_putChar_18 : decode cJ25_putChar 18 = .ok (.new 52, 3) := dk_187 0 52 (dk_at dksJ25_putChar_0 18 rfl rfl)
theorem dJ25_putChar_21 : decode cJ25_putChar 21 = .ok (.dup, 1) := dk_89 (dk_at dksJ25_putChar_0 21 rfl rfl)
theorem dJ25_putChar_22 : decode cJ25_putChar 22 = .ok (.ldc 54, 2) := dk_18 54 (dk_at dksJ25_putChar_0 22 rfl rfl)
theorem dJ25_putChar_24 : decode cJ25_putChar 24 = .ok (.invokespecial 56, 3) := dk_183 0 56 (dk_at dksJ25_putChar_1 0 rfl rfl)
theorem dJ25_putChar_27 : decode cJ25_putChar 27 = .ok (.athrow, 1) := dk_191 (dk_at dksJ25_putChar_1 3 rfl rfl)
theorem dJ25_putChar_28 : decode cJ25_putChar 28 = .ok (.iload_n 1, 1) := dk_27 (dk_at dksJ25_putChar_1 4 rfl rfl)
theorem dJ25_putChar_29 : decode cJ25_putChar 29 = .ok (.iconst 1, 1) := dk_4 (dk_at dksJ25_putChar_1 5 rfl rfl)
theorem dJ25_putChar_30 : decode cJ25_putChar 30 = .ok (.ishl, 1) := dk_120 (dk_at dksJ25_putChar_1 6 rfl rfl)
theorem dJ25_putChar_31 : decode cJ25_putChar 31 = .ok (.istore_n 1, 1) := dk_60 (dk_at dksJ25_putChar_1 7 rfl rfl)
theorem dJ25_putChar_32 : decode cJ25_putChar 32 = .ok (.aload_n 0, 1) := dk_42 (dk_at dksJ25_putChar_1 8 rfl rfl)
theorem dJ25_putChar_33 : decode cJ25_putChar 33 = .ok (.iload_n 1, 1) := dk_27 (dk_at dksJ25_putChar_1 9 rfl rfl)
theorem dJ25_putChar_34 : decode cJ25_putChar 34 = .ok (.iinc 1 1, 3) := dk_132 1 1 (dk_at dksJ25_putChar_1 10 rfl rfl)
theorem dJ25_putChar_37 : decode cJ25_putChar 37 = .ok (.iload_n 2, 1) := dk_28 (dk_at dksJ25_putChar_1 13 rfl rfl)
theorem dJ25_putChar_38 : decode cJ25_putChar 38 = .ok (.getstatic 59, 3) := dk_178 0 59 (dk_at dksJ25_putChar_1 14 rfl rfl)
theorem dJ25_putChar_41 : decode cJ25_putChar 41 = .ok (.ishr, 1) := dk_122 (dk_at dksJ25_putChar_1 17 rfl rfl)
theorem dJ25_putChar_42 : decode cJ25_putChar 42 = .ok (.i2b, 1) := dk_145 (dk_at dksJ25_putChar_1 18 rfl rfl)
theorem dJ25_putChar_43 : decode cJ25_putChar 43 = .ok (.bastore, 1) := dk_84 (dk_at dksJ25_putChar_1 19 rfl rfl)
theorem dJ25_putChar_44 : decode cJ25_putChar 44 = .ok (.aload_n 0, 1) := dk_42 (dk_at dksJ25_putChar_1 20 rfl rfl)
theorem dJ25_putChar_45 : decode cJ25_putChar 45 = .ok (.iload_n 1, 1) := dk_27 (dk_at dksJ25_putChar_1 21 rfl rfl)
theorem dJ25_putChar_46 : decode cJ25_putChar 46 = .ok (.iload_n 2, 1) := dk_28 (dk_at dksJ25_putChar_1 22 rfl rfl)
theorem dJ25_putChar_47 : decode cJ25_putChar 47 = .ok (.getstatic 63, 3) := dk_178 0 63 (dk_at dksJ25_putChar_2 0 rfl rfl)
theorem dJ25_putChar_50 : decode cJ25_putChar 50 = .ok (.ishr, 1) := dk_122 (dk_at dksJ25_putChar_2 3 rfl rfl)
theorem dJ25_putChar_51 : decode cJ25_putChar 51 = .ok (.i2b, 1) := dk_145 (dk_at dksJ25_putChar_2 4 rfl rfl)
theorem dJ25_putChar_52 : decode cJ25_putChar 52 = .ok (.bastore, 1) := dk_84 (dk_at dksJ25_putChar_2 5 rfl rfl)
theorem dJ25_putChar_53 : decode cJ25_putChar 53 = .ok (.return_, 1) := dk_177 (dk_at dksJ25_putChar_2 6 rfl rfl)
abbrev cJ25_inflate : ByteArray := prog_28_method_86_code
def yJ25_inflate : MethodName := ⟨RJ25, "inflate", "([BI[BII)V"⟩
def dkwJ25_inflate_1 : List UInt8 := [132, 1, 1, 51, 17, 0, 255, 126, 184, 0, 111, 132, 5, 1, 167, 255, 228, 177]
abbrev dktJ25_inflate_1 : List UInt8 := dkwJ25_inflate_1 ++ []
def dkwJ25_inflate_0 : List UInt8 := [29, 21, 4, 44, 184, 0, 173, 3, 54, 5, 21, 5, 21, 4, 162, 0, 27, 44, 29, 132, 3, 1, 42, 27]
abbrev dktJ25_inflate_0 : List UInt8 := dkwJ25_inflate_0 ++ dktJ25_inflate_1
theorem dksJ25_inflate_0 : cJ25_inflate.data.toList.drop 0 = dktJ25_inflate_0 := by decide +kernel
theorem dksJ25_inflate_1 : cJ25_inflate.data.toList.drop 24 = dktJ25_inflate_1 := dk_seg dksJ25_inflate_0 24 rfl rfl
theorem dJ25_inflate_0 : decode cJ25_inflate 0 = .ok (.iload_n 3, 1) := dk_29 (dk_at dksJ25_inflate_0 0 rfl rfl)
theorem dJ25_inflate_1 : decode cJ25_inflate 1 = .ok (.iload 4, 2) := dk_21 4 (dk_at dksJ25_inflate_0 1 rfl rfl)
theorem dJ25_inflate_3 : decode cJ25_inflate 3 = .ok (.aload_n 2, 1) := dk_44 (dk_at dksJ25_inflate_0 3 rfl rfl)
theorem dJ25_inflate_4 : decode cJ25_inflate 4 = .ok (.invokestatic 173, 3) := dk_184 0 173 (dk_at dksJ25_inflate_0 4 rfl rfl)
theorem dJ25_inflate_7 : decode cJ25_inflate 7 = .ok (.iconst 0, 1) := dk_3 (dk_at dksJ25_inflate_0 7 rfl rfl)
theorem dJ25_inflate_8 : decode cJ25_inflate 8 = .ok (.istore 5, 2) := dk_54 5 (dk_at dksJ25_inflate_0 8 rfl rfl)
theorem dJ25_inflate_10 : decode cJ25_inflate 10 = .ok (.iload 5, 2) := dk_21 5 (dk_at dksJ25_inflate_0 10 rfl rfl)
theorem dJ25_inflate_12 : decode cJ25_inflate 12 = .ok (.iload 4, 2) := dk_21 4 (dk_at dksJ25_inflate_0 12 rfl rfl)
theorem dJ25_inflate_14 : decode cJ25_inflate 14 = .ok (.if_icmp .ge 27, 3) := dk_162 0 27 (dk_at dksJ25_inflate_0 14 rfl rfl)
theorem dJ25_inflate_17 : decode cJ25_inflate 17 = .ok (.aload_n 2, 1) := dk_44 (dk_at dksJ25_inflate_0 17 rfl rfl)
theorem dJ25_inflate_18 : decode cJ25_inflate 18 = .ok (.iload_n 3, 1) := dk_29 (dk_at dksJ25_inflate_0 18 rfl rfl)
theorem dJ25_inflate_19 : decode cJ25_inflate 19 = .ok (.iinc 3 1, 3) := dk_132 3 1 (dk_at dksJ25_inflate_0 19 rfl rfl)
theorem dJ25_inflate_22 : decode cJ25_inflate 22 = .ok (.aload_n 0, 1) := dk_42 (dk_at dksJ25_inflate_0 22 rfl rfl)
theorem dJ25_inflate_23 : decode cJ25_inflate 23 = .ok (.iload_n 1, 1) := dk_27 (dk_at dksJ25_inflate_0 23 rfl rfl)
theorem dJ25_inflate_24 : decode cJ25_inflate 24 = .ok (.iinc 1 1, 3) := dk_132 1 1 (dk_at dksJ25_inflate_1 0 rfl rfl)
theorem dJ25_inflate_27 : decode cJ25_inflate 27 = .ok (.baload, 1) := dk_51 (dk_at dksJ25_inflate_1 3 rfl rfl)
theorem dJ25_inflate_28 : decode cJ25_inflate 28 = .ok (.sipush 255, 3) := dk_17 0 255 (dk_at dksJ25_inflate_1 4 rfl rfl)
theorem dJ25_inflate_31 : decode cJ25_inflate 31 = .ok (.iand, 1) := dk_126 (dk_at dksJ25_inflate_1 7 rfl rfl)
theorem dJ25_inflate_32 : decode cJ25_inflate 32 = .ok (.invokestatic 111, 3) := dk_184 0 111 (dk_at dksJ25_inflate_1 8 rfl rfl)
theorem dJ25_inflate_35 : decode cJ25_inflate 35 = .ok (.iinc 5 1, 3) := dk_132 5 1 (dk_at dksJ25_inflate_1 11 rfl rfl)
theorem dJ25_inflate_38 : decode cJ25_inflate 38 = .ok (.goto (-28), 3) := dk_167 255 228 (dk_at dksJ25_inflate_1 14 rfl rfl)
theorem dJ25_inflate_41 : decode cJ25_inflate 41 = .ok (.return_, 1) := dk_177 (dk_at dksJ25_inflate_1 17 rfl rfl)
abbrev cJ25_checkBoundsOffCount : ByteArray := prog_28_method_94_code
def yJ25_checkBoundsOffCount : MethodName := ⟨RJ25, "checkBoundsOffCount", "(II[B)V"⟩
def dkwJ25_checkBoundsOffCount_0 : List UInt8 := [26, 27, 44, 184, 0, 48, 184, 1, 163, 87, 177]
abbrev dktJ25_checkBoundsOffCount_0 : List UInt8 := dkwJ25_checkBoundsOffCount_0 ++ []
theorem dksJ25_checkBoundsOffCount_0 : cJ25_checkBoundsOffCount.data.toList.drop 0 = dktJ25_checkBoundsOffCount_0 := by decide +kernel
theorem dJ25_checkBoundsOffCount_0 : decode cJ25_checkBoundsOffCount 0 = .ok (.iload_n 0, 1) := dk_26 (dk_at dksJ25_checkBoundsOffCount_0 0 rfl rfl)
theorem dJ25_checkBoundsOffCount_1 : decode cJ25_checkBoundsOffCount 1 = .ok (.iload_n 1, 1) := dk_27 (dk_at dksJ25_checkBoundsOffCount_0 1 rfl rfl)
theorem dJ25_checkBoundsOffCount_2 : decode cJ25_checkBoundsOffCount 2 = .ok (.aload_n 2, 1) := dk_44 (dk_at dksJ25_checkBoundsOffCount_0 2 rfl rfl)
theorem dJ25_checkBoundsOffCount_3 : decode cJ25_checkBoundsOffCount 3 = .ok (.invokestatic 48, 3) := dk_184 0 48 (dk_at dksJ25_checkBoundsOffCount_0 3 rfl rfl)
theorem dJ25_checkBoundsOffCount_6 : decode cJ25_checkBoundsOffCount 6 = .ok (.invokestatic 419, 3) := dk_184 1 163 (dk_at dksJ25_checkBoundsOffCount_0 6 rfl rfl)
theorem dJ25_checkBoundsOffCount_9 : decode cJ25_checkBoundsOffCount 9 = .ok (.pop, 1) := dk_87 (dk_at dksJ25_checkBoundsOffCount_0 9 rfl rfl)
theorem dJ25_checkBoundsOffCount_10 : decode cJ25_checkBoundsOffCount 10 = .ok (.return_, 1) := dk_177 (dk_at dksJ25_checkBoundsOffCount_0 10 rfl rfl)
abbrev cJ25_compress : ByteArray := prog_28_method_17_code
def yJ25_compress : MethodName := ⟨RJ25, "compress", "([BII)[B"⟩
def dkwJ25_compress_2 : List UInt8 := [25, 5, 3, 45, 3, 28, 184, 0, 123, 28, 159, 0, 6, 25, 5, 176, 45, 176]
abbrev dktJ25_compress_2 : List UInt8 := dkwJ25_compress_2 ++ []
def dkwJ25_compress_1 : List UInt8 := [27, 28, 96, 184, 0, 11, 184, 0, 126, 58, 5, 25, 5, 21, 4, 184, 0, 71, 17, 0, 255, 163, 0, 16]
abbrev dktJ25_compress_1 : List UInt8 := dkwJ25_compress_1 ++ dktJ25_compress_2
def dkwJ25_compress_0 : List UInt8 := [28, 188, 8, 78, 42, 27, 45, 3, 28, 184, 0, 123, 54, 4, 21, 4, 28, 159, 0, 47, 42, 27, 4, 120]
abbrev dktJ25_compress_0 : List UInt8 := dkwJ25_compress_0 ++ dktJ25_compress_1
theorem dksJ25_compress_0 : cJ25_compress.data.toList.drop 0 = dktJ25_compress_0 := by decide +kernel
theorem dksJ25_compress_1 : cJ25_compress.data.toList.drop 24 = dktJ25_compress_1 := dk_seg dksJ25_compress_0 24 rfl rfl
theorem dksJ25_compress_2 : cJ25_compress.data.toList.drop 48 = dktJ25_compress_2 := dk_seg dksJ25_compress_1 24 rfl rfl
theorem dJ25_compress_0 : decode cJ25_compress 0 = .ok (.iload_n 2, 1) := dk_28 (dk_at dksJ25_compress_0 0 rfl rfl)
theorem dJ25_compress_1 : decode cJ25_compress 1 = .ok (.newarray .byte, 2) := dk_188_8 (dk_at dksJ25_compress_0 1 rfl rfl)
theorem dJ25_compress_3 : decode cJ25_compress 3 = .ok (.astore_n 3, 1) := dk_78 (dk_at dksJ25_compress_0 3 rfl rfl)
theorem dJ25_compress_4 : decode cJ25_compress 4 = .ok (.aload_n 0, 1) := dk_42 (dk_at dksJ25_compress_0 4 rfl rfl)
theorem dJ25_compress_5 : decode cJ25_compress 5 = .ok (.iload_n 1, 1) := dk_27 (dk_at dksJ25_compress_0 5 rfl rfl)
theorem dJ25_compress_6 : decode cJ25_compress 6 = .ok (.aload_n 3, 1) := dk_45 (dk_at dksJ25_compress_0 6 rfl rfl)
theorem dJ25_compress_7 : decode cJ25_compress 7 = .ok (.iconst 0, 1) := dk_3 (dk_at dksJ25_compress_0 7 rfl rfl)
theorem dJ25_compress_8 : decode cJ25_compress 8 = .ok (.iload_n 2, 1) := dk_28 (dk_at dksJ25_compress_0 8 rfl rfl)
theorem dJ25_compress_9 : decode cJ25_compress 9 = .ok (.invokestatic 123, 3) := dk_184 0 123 (dk_at dksJ25_compress_0 9 rfl rfl)
theorem dJ25_compress_12 : decode cJ25_compress 12 = .ok (.istore 4, 2) := dk_54 4 (dk_at dksJ25_compress_0 12 rfl rfl)
theorem dJ25_compress_14 : decode cJ25_compress 14 = .ok (.iload 4, 2) := dk_21 4 (dk_at dksJ25_compress_0 14 rfl rfl)
theorem dJ25_compress_16 : decode cJ25_compress 16 = .ok (.iload_n 2, 1) := dk_28 (dk_at dksJ25_compress_0 16 rfl rfl)
theorem dJ25_compress_17 : decode cJ25_compress 17 = .ok (.if_icmp .eq 47, 3) := dk_159 0 47 (dk_at dksJ25_compress_0 17 rfl rfl)
theorem dJ25_compress_20 : decode cJ25_compress 20 = .ok (.aload_n 0, 1) := dk_42 (dk_at dksJ25_compress_0 20 rfl rfl)
theorem dJ25_compress_21 : decode cJ25_compress 21 = .ok (.iload_n 1, 1) := dk_27 (dk_at dksJ25_compress_0 21 rfl rfl)
theorem dJ25_compress_22 : decode cJ25_compress 22 = .ok (.iconst 1, 1) := dk_4 (dk_at dksJ25_compress_0 22 rfl rfl)
theorem dJ25_compress_23 : decode cJ25_compress 23 = .ok (.ishl, 1) := dk_120 (dk_at dksJ25_compress_0 23 rfl rfl)
theorem dJ25_compress_24 : decode cJ25_compress 24 = .ok (.iload_n 1, 1) := dk_27 (dk_at dksJ25_compress_1 0 rfl rfl)
theorem dJ25_compress_25 : decode cJ25_compress 25 = .ok (.iload_n 2, 1) := dk_28 (dk_at dksJ25_compress_1 1 rfl rfl)
theorem dJ25_compress_26 : decode cJ25_compress 26 = .ok (.iadd, 1) := dk_96 (dk_at dksJ25_compress_1 2 rfl rfl)
theorem dJ25_compress_27 : decode cJ25_compress 27 = .ok (.invokestatic 11, 3) := dk_184 0 11 (dk_at dksJ25_compress_1 3 rfl rfl)
theorem dJ25_compress_30 : decode cJ25_compress 30 = .ok (.invokestatic 126, 3) := dk_184 0 126 (dk_at dksJ25_compress_1 6 rfl rfl)
theorem dJ25_compress_33 : decode cJ25_compress 33 = .ok (.astore 5, 2) := dk_58 5 (dk_at dksJ25_compress_1 9 rfl rfl)
theorem dJ25_compress_35 : decode cJ25_compress 35 = .ok (.aload 5, 2) := dk_25 5 (dk_at dksJ25_compress_1 11 rfl rfl)
theorem dJ25_compress_37 : decode cJ25_compress 37 = .ok (.iload 4, 2) := dk_21 4 (dk_at dksJ25_compress_1 13 rfl rfl)
theorem dJ25_compress_39 : decode cJ25_compress 39 = .ok (.invokestatic 71, 3) := dk_184 0 71 (dk_at dksJ25_compress_1 15 rfl rfl)
theorem dJ25_compress_42 : decode cJ25_compress 42 = .ok (.sipush 255, 3) := dk_17 0 255 (dk_at dksJ25_compress_1 18 rfl rfl)
theorem dJ25_compress_45 : decode cJ25_compress 45 = .ok (.if_icmp .gt 16, 3) := dk_163 0 16 (dk_at dksJ25_compress_1 21 rfl rfl)
theorem dJ25_compress_48 : decode cJ25_compress 48 = .ok (.aload 5, 2) := dk_25 5 (dk_at dksJ25_compress_2 0 rfl rfl)
theorem dJ25_compress_50 : decode cJ25_compress 50 = .ok (.iconst 0, 1) := dk_3 (dk_at dksJ25_compress_2 2 rfl rfl)
theorem dJ25_compress_51 : decode cJ25_compress 51 = .ok (.aload_n 3, 1) := dk_45 (dk_at dksJ25_compress_2 3 rfl rfl)
theorem dJ25_compress_52 : decode cJ25_compress 52 = .ok (.iconst 0, 1) := dk_3 (dk_at dksJ25_compress_2 4 rfl rfl)
theorem dJ25_compress_53 : decode cJ25_compress 53 = .ok (.iload_n 2, 1) := dk_28 (dk_at dksJ25_compress_2 5 rfl rfl)
theorem dJ25_compress_54 : decode cJ25_compress 54 = .ok (.invokestatic 123, 3) := dk_184 0 123 (dk_at dksJ25_compress_2 6 rfl rfl)
theorem dJ25_compress_57 : decode cJ25_compress 57 = .ok (.iload_n 2, 1) := dk_28 (dk_at dksJ25_compress_2 9 rfl rfl)
theorem dJ25_compress_58 : decode cJ25_compress 58 = .ok (.if_icmp .eq 6, 3) := dk_159 0 6 (dk_at dksJ25_compress_2 10 rfl rfl)
theorem dJ25_compress_61 : decode cJ25_compress 61 = .ok (.aload 5, 2) := dk_25 5 (dk_at dksJ25_compress_2 13 rfl rfl)
theorem dJ25_compress_63 : decode cJ25_compress 63 = .ok (.areturn, 1) := dk_176 (dk_at dksJ25_compress_2 15 rfl rfl)
theorem dJ25_compress_64 : decode cJ25_compress 64 = .ok (.aload_n 3, 1) := dk_45 (dk_at dksJ25_compress_2 16 rfl rfl)
theorem dJ25_compress_65 : decode cJ25_compress 65 = .ok (.areturn, 1) := dk_176 (dk_at dksJ25_compress_2 17 rfl rfl)
abbrev cJ25_compress_2 : ByteArray := prog_28_method_22_code
def yJ25_compress_2 : MethodName := ⟨RJ25, "compress", "([BI[BII)I"⟩
def dkwJ25_compress_2_2 : List UInt8 := [132, 5, 1, 167, 255, 216, 21, 4, 172]
abbrev dktJ25_compress_2_2 : List UInt8 := dkwJ25_compress_2_2 ++ []
def dkwJ25_compress_2_1 : List UInt8 := [21, 6, 17, 0, 255, 164, 0, 6, 21, 5, 172, 44, 29, 21, 6, 145, 84, 132, 1, 1, 132, 3, 1]
abbrev dktJ25_compress_2_1 : List UInt8 := dkwJ25_compress_2_1 ++ dktJ25_compress_2_2
def dkwJ25_compress_2_0 : List UInt8 := [27, 21, 4, 42, 184, 0, 173, 3, 54, 5, 21, 5, 21, 4, 162, 0, 39, 42, 27, 184, 0, 71, 54, 6]
abbrev dktJ25_compress_2_0 : List UInt8 := dkwJ25_compress_2_0 ++ dktJ25_compress_2_1
theorem dksJ25_compress_2_0 : cJ25_compress_2.data.toList.drop 0 = dktJ25_compress_2_0 := by decide +kernel
theorem dksJ25_compress_2_1 : cJ25_compress_2.data.toList.drop 24 = dktJ25_compress_2_1 := dk_seg dksJ25_compress_2_0 24 rfl rfl
theorem dksJ25_compress_2_2 : cJ25_compress_2.data.toList.drop 47 = dktJ25_compress_2_2 := dk_seg dksJ25_compress_2_1 23 rfl rfl
theorem dJ25_compress_2_0 : decode cJ25_compress_2 0 = .ok (.iload_n 1, 1) := dk_27 (dk_at dksJ25_compress_2_0 0 rfl rfl)
theorem dJ25_compress_2_1 : decode cJ25_compress_2 1 = .ok (.iload 4, 2) := dk_21 4 (dk_at dksJ25_compress_2_0 1 rfl rfl)
theorem dJ25_compress_2_3 : decode cJ25_compress_2 3 = .ok (.aload_n 0, 1) := dk_42 (dk_at dksJ25_compress_2_0 3 rfl rfl)
theorem dJ25_compress_2_4 : decode cJ25_compress_2 4 = .ok (.invokestatic 173, 3) := dk_184 0 173 (dk_at dksJ25_compress_2_0 4 rfl rfl)
theorem dJ25_compress_2_7 : decode cJ25_compress_2 7 = .ok (.iconst 0, 1) := dk_3 (dk_at dksJ25_compress_2_0 7 rfl rfl)
theorem dJ25_compress_2_8 : decode cJ25_compress_2 8 = .ok (.istore 5, 2) := dk_54 5 (dk_at dksJ25_compress_2_0 8 rfl rfl)
theorem dJ25_compress_2_10 : decode cJ25_compress_2 10 = .ok (.iload 5, 2) := dk_21 5 (dk_at dksJ25_compress_2_0 10 rfl rfl)
theorem dJ25_compress_2_12 : decode cJ25_compress_2 12 = .ok (.iload 4, 2) := dk_21 4 (dk_at dksJ25_compress_2_0 12 rfl rfl)
theorem dJ25_compress_2_14 : decode cJ25_compress_2 14 = .ok (.if_icmp .ge 39, 3) := dk_162 0 39 (dk_at dksJ25_compress_2_0 14 rfl rfl)
theorem dJ25_compress_2_17 : decode cJ25_compress_2 17 = .ok (.aload_n 0, 1) := dk_42 (dk_at dksJ25_compress_2_0 17 rfl rfl)
theorem dJ25_compress_2_18 : decode cJ25_compress_2 18 = .ok (.iload_n 1, 1) := dk_27 (dk_at dksJ25_compress_2_0 18 rfl rfl)
theorem dJ25_compress_2_19 : decode cJ25_compress_2 19 = .ok (.invokestatic 71, 3) := dk_184 0 71 (dk_at dksJ25_compress_2_0 19 rfl rfl)
theorem dJ25_compress_2_22 : decode cJ25_compress_2 22 = .ok (.istore 6, 2) := dk_54 6 (dk_at dksJ25_compress_2_0 22 rfl rfl)
theorem dJ25_compress_2_24 : decode cJ25_compress_2 24 = .ok (.iload 6, 2) := dk_21 6 (dk_at dksJ25_compress_2_1 0 rfl rfl)
theorem dJ25_compress_2_26 : decode cJ25_compress_2 26 = .ok (.sipush 255, 3) := dk_17 0 255 (dk_at dksJ25_compress_2_1 2 rfl rfl)
theorem dJ25_compress_2_29 : decode cJ25_compress_2 29 = .ok (.if_icmp .le 6, 3) := dk_164 0 6 (dk_at dksJ25_compress_2_1 5 rfl rfl)
theorem dJ25_compress_2_32 : decode cJ25_compress_2 32 = .ok (.iload 5, 2) := dk_21 5 (dk_at dksJ25_compress_2_1 8 rfl rfl)
theorem dJ25_compress_2_34 : decode cJ25_compress_2 34 = .ok (.ireturn, 1) := dk_172 (dk_at dksJ25_compress_2_1 10 rfl rfl)
theorem dJ25_compress_2_35 : decode cJ25_compress_2 35 = .ok (.aload_n 2, 1) := dk_44 (dk_at dksJ25_compress_2_1 11 rfl rfl)
theorem dJ25_compress_2_36 : decode cJ25_compress_2 36 = .ok (.iload_n 3, 1) := dk_29 (dk_at dksJ25_compress_2_1 12 rfl rfl)
theorem dJ25_compress_2_37 : decode cJ25_compress_2 37 = .ok (.iload 6, 2) := dk_21 6 (dk_at dksJ25_compress_2_1 13 rfl rfl)
theorem dJ25_compress_2_39 : decode cJ25_compress_2 39 = .ok (.i2b, 1) := dk_145 (dk_at dksJ25_compress_2_1 15 rfl rfl)
theorem dJ25_compress_2_40 : decode cJ25_compress_2 40 = .ok (.bastore, 1) := dk_84 (dk_at dksJ25_compress_2_1 16 rfl rfl)
theorem dJ25_compress_2_41 : decode cJ25_compress_2 41 = .ok (.iinc 1 1, 3) := dk_132 1 1 (dk_at dksJ25_compress_2_1 17 rfl rfl)
theorem dJ25_compress_2_44 : decode cJ25_compress_2 44 = .ok (.iinc 3 1, 3) := dk_132 3 1 (dk_at dksJ25_compress_2_1 20 rfl rfl)
theorem dJ25_compress_2_47 : decode cJ25_compress_2 47 = .ok (.iinc 5 1, 3) := dk_132 5 1 (dk_at dksJ25_compress_2_2 0 rfl rfl)
theorem dJ25_compress_2_50 : decode cJ25_compress_2 50 = .ok (.goto (-40), 3) := dk_167 255 216 (dk_at dksJ25_compress_2_2 3 rfl rfl)
theorem dJ25_compress_2_53 : decode cJ25_compress_2 53 = .ok (.iload 4, 2) := dk_21 4 (dk_at dksJ25_compress_2_2 6 rfl rfl)
theorem dJ25_compress_2_55 : decode cJ25_compress_2 55 = .ok (.ireturn, 1) := dk_172 (dk_at dksJ25_compress_2_2 8 rfl rfl)
abbrev cJ25_getChar : ByteArray := prog_28_method_5_code
def yJ25_getChar : MethodName := ⟨RJ25, "getChar", "([BI)C"⟩
def dkwJ25_getChar_2 : List UInt8 := [51, 17, 0, 255, 126, 178, 0, 63, 120, 128, 146, 172]
abbrev dktJ25_getChar_2 : List UInt8 := dkwJ25_getChar_2 ++ []
def dkwJ25_getChar_1 : List UInt8 := [183, 0, 56, 191, 27, 4, 120, 60, 42, 27, 132, 1, 1, 51, 17, 0, 255, 126, 178, 0, 59, 120, 42, 27]
abbrev dktJ25_getChar_1 : List UInt8 := dkwJ25_getChar_1 ++ dktJ25_getChar_2
def dkwJ25_getChar_0 : List UInt8 := [178, 0, 44, 154, 0, 25, 27, 155, 0, 11, 27, 42, 184, 0, 48, 161, 0, 13, 187, 0, 52, 89, 18, 54]
abbrev dktJ25_getChar_0 : List UInt8 := dkwJ25_getChar_0 ++ dktJ25_getChar_1
theorem dksJ25_getChar_0 : cJ25_getChar.data.toList.drop 0 = dktJ25_getChar_0 := by decide +kernel
theorem dksJ25_getChar_1 : cJ25_getChar.data.toList.drop 24 = dktJ25_getChar_1 := dk_seg dksJ25_getChar_0 24 rfl rfl
theorem dksJ25_getChar_2 : cJ25_getChar.data.toList.drop 48 = dktJ25_getChar_2 := dk_seg dksJ25_getChar_1 24 rfl rfl
theorem dJ25_getChar_0 : decode cJ25_getChar 0 = .ok (.getstatic 44, 3) := dk_178 0 44 (dk_at dksJ25_getChar_0 0 rfl rfl)
theorem dJ25_getChar_3 : decode cJ25_getChar 3 = .ok (.ifCond .ne 25, 3) := dk_154 0 25 (dk_at dksJ25_getChar_0 3 rfl rfl)
theorem dJ25_getChar_6 : decode cJ25_getChar 6 = .ok (.iload_n 1, 1) := dk_27 (dk_at dksJ25_getChar_0 6 rfl rfl)
theorem dJ25_getChar_7 : decode cJ25_getChar 7 = .ok (.ifCond .lt 11, 3) := dk_155 0 11 (dk_at dksJ25_getChar_0 7 rfl rfl)
theorem dJ25_getChar_10 : decode cJ25_getChar 10 = .ok (.iload_n 1, 1) := dk_27 (dk_at dksJ25_getChar_0 10 rfl rfl)
theorem dJ25_getChar_11 : decode cJ25_getChar 11 = .ok (.aload_n 0, 1) := dk_42 (dk_at dksJ25_getChar_0 11 rfl rfl)
theorem dJ25_getChar_12 : decode cJ25_getChar 12 = .ok (.invokestatic 48, 3) := dk_184 0 48 (dk_at dksJ25_getChar_0 12 rfl rfl)
theorem dJ25_getChar_15 : decode cJ25_getChar 15 = .ok (.if_icmp .lt 13, 3) := dk_161 0 13 (dk_at dksJ25_getChar_0 15 rfl rfl)
theorem dJ25_getChar_18 : decode cJ25_getChar 18 = .ok (.new 52, 3) := dk_187 0 52 (dk_at dksJ25_getChar_0 18 rfl rfl)
theorem dJ25_getChar_21 : decode cJ25_getChar 21 = .ok (.dup, 1) := dk_89 (dk_at dksJ25_getChar_0 21 rfl rfl)
theorem dJ25_getChar_22 : decode cJ25_getChar 22 = .ok (.ldc 54, 2) := dk_18 54 (dk_at dksJ25_getChar_0 22 rfl rfl)
theorem dJ25_getChar_24 : decode cJ25_getChar 24 = .ok (.invokespecial 56, 3) := dk_183 0 56 (dk_at dksJ25_getChar_1 0 rfl rfl)
theorem dJ25_getChar_27 : decode cJ25_getChar 27 = .ok (.athrow, 1) := dk_191 (dk_at dksJ25_getChar_1 3 rfl rfl)
theorem dJ25_getChar_28 : decode cJ25_getChar 28 = .ok (.iload_n 1, 1) := dk_27 (dk_at dksJ25_getChar_1 4 rfl rfl)
theorem dJ25_getChar_29 : decode cJ25_getChar 29 = .ok (.iconst 1, 1) := dk_4 (dk_at dksJ25_getChar_1 5 rfl rfl)
theorem dJ25_getChar_30 : decode cJ25_getChar 30 = .ok (.ishl, 1) := dk_120 (dk_at dksJ25_getChar_1 6 rfl rfl)
theorem dJ25_getChar_31 : decode cJ25_getChar 31 = .ok (.istore_n 1, 1) := dk_60 (dk_at dksJ25_getChar_1 7 rfl rfl)
theorem dJ25_getChar_32 : decode cJ25_getChar 32 = .ok (.aload_n 0, 1) := dk_42 (dk_at dksJ25_getChar_1 8 rfl rfl)
theorem dJ25_getChar_33 : decode cJ25_getChar 33 = .ok (.iload_n 1, 1) := dk_27 (dk_at dksJ25_getChar_1 9 rfl rfl)
theorem dJ25_getChar_34 : decode cJ25_getChar 34 = .ok (.iinc 1 1, 3) := dk_132 1 1 (dk_at dksJ25_getChar_1 10 rfl rfl)
theorem dJ25_getChar_37 : decode cJ25_getChar 37 = .ok (.baload, 1) := dk_51 (dk_at dksJ25_getChar_1 13 rfl rfl)
theorem dJ25_getChar_38 : decode cJ25_getChar 38 = .ok (.sipush 255, 3) := dk_17 0 255 (dk_at dksJ25_getChar_1 14 rfl rfl)
theorem dJ25_getChar_41 : decode cJ25_getChar 41 = .ok (.iand, 1) := dk_126 (dk_at dksJ25_getChar_1 17 rfl rfl)
theorem dJ25_getChar_42 : decode cJ25_getChar 42 = .ok (.getstatic 59, 3) := dk_178 0 59 (dk_at dksJ25_getChar_1 18 rfl rfl)
theorem dJ25_getChar_45 : decode cJ25_getChar 45 = .ok (.ishl, 1) := dk_120 (dk_at dksJ25_getChar_1 21 rfl rfl)
theorem dJ25_getChar_46 : decode cJ25_getChar 46 = .ok (.aload_n 0, 1) := dk_42 (dk_at dksJ25_getChar_1 22 rfl rfl)
theorem dJ25_getChar_47 : decode cJ25_getChar 47 = .ok (.iload_n 1, 1) := dk_27 (dk_at dksJ25_getChar_1 23 rfl rfl)
theorem dJ25_getChar_48 : decode cJ25_getChar 48 = .ok (.baload, 1) := dk_51 (dk_at dksJ25_getChar_2 0 rfl rfl)
theorem dJ25_getChar_49 : decode cJ25_getChar 49 = .ok (.sipush 255, 3) := dk_17 0 255 (dk_at dksJ25_getChar_2 1 rfl rfl)
theorem dJ25_getChar_52 : decode cJ25_getChar 52 = .ok (.iand, 1) := dk_126 (dk_at dksJ25_getChar_2 4 rfl rfl)
theorem dJ25_getChar_53 : decode cJ25_getChar 53 = .ok (.getstatic 63, 3) := dk_178 0 63 (dk_at dksJ25_getChar_2 5 rfl rfl)
theorem dJ25_getChar_56 : decode cJ25_getChar 56 = .ok (.ishl, 1) := dk_120 (dk_at dksJ25_getChar_2 8 rfl rfl)
theorem dJ25_getChar_57 : decode cJ25_getChar 57 = .ok (.ior, 1) := dk_128 (dk_at dksJ25_getChar_2 9 rfl rfl)
theorem dJ25_getChar_58 : decode cJ25_getChar 58 = .ok (.i2c, 1) := dk_146 (dk_at dksJ25_getChar_2 10 rfl rfl)
theorem dJ25_getChar_59 : decode cJ25_getChar 59 = .ok (.ireturn, 1) := dk_172 (dk_at dksJ25_getChar_2 11 rfl rfl)
abbrev cJ25_coderFromArrayLen : ByteArray := prog_28_method_15_code
def yJ25_coderFromArrayLen : MethodName := ⟨RJ25, "coderFromArrayLen", "([BI)B"⟩
def dkwJ25_coderFromArrayLen_0 : List UInt8 := [27, 42, 190, 100, 16, 31, 124, 145, 172]
abbrev dktJ25_coderFromArrayLen_0 : List UInt8 := dkwJ25_coderFromArrayLen_0 ++ []
theorem dksJ25_coderFromArrayLen_0 : cJ25_coderFromArrayLen.data.toList.drop 0 = dktJ25_coderFromArrayLen_0 := by decide +kernel
theorem dJ25_coderFromArrayLen_0 : decode cJ25_coderFromArrayLen 0 = .ok (.iload_n 1, 1) := dk_27 (dk_at dksJ25_coderFromArrayLen_0 0 rfl rfl)
theorem dJ25_coderFromArrayLen_1 : decode cJ25_coderFromArrayLen 1 = .ok (.aload_n 0, 1) := dk_42 (dk_at dksJ25_coderFromArrayLen_0 1 rfl rfl)
theorem dJ25_coderFromArrayLen_2 : decode cJ25_coderFromArrayLen 2 = .ok (.arraylength, 1) := dk_190 (dk_at dksJ25_coderFromArrayLen_0 2 rfl rfl)
theorem dJ25_coderFromArrayLen_3 : decode cJ25_coderFromArrayLen 3 = .ok (.isub, 1) := dk_100 (dk_at dksJ25_coderFromArrayLen_0 3 rfl rfl)
theorem dJ25_coderFromArrayLen_4 : decode cJ25_coderFromArrayLen 4 = .ok (.bipush 31, 2) := dk_16 31 (dk_at dksJ25_coderFromArrayLen_0 4 rfl rfl)
theorem dJ25_coderFromArrayLen_6 : decode cJ25_coderFromArrayLen 6 = .ok (.iushr, 1) := dk_124 (dk_at dksJ25_coderFromArrayLen_0 6 rfl rfl)
theorem dJ25_coderFromArrayLen_7 : decode cJ25_coderFromArrayLen 7 = .ok (.i2b, 1) := dk_145 (dk_at dksJ25_coderFromArrayLen_0 7 rfl rfl)
theorem dJ25_coderFromArrayLen_8 : decode cJ25_coderFromArrayLen 8 = .ok (.ireturn, 1) := dk_172 (dk_at dksJ25_coderFromArrayLen_0 8 rfl rfl)
theorem q108 : (Jvm.Cond.initialized "java/lang/StringUTF16") ∈ lw_all := lw_g (lw_at lw_m1 34 rfl) rfl
theorem q1015 : (Jvm.Cond.static ({ cls := "java/lang/StringUTF16", name := "newBytesFor", desc := "(I)[B" } : Jvm.MethodName)) ∈ lw_all := lw_g (lw_at lw_m4 221 rfl) rfl
theorem q1016 : (Jvm.Cond.code ({ cls := "java/lang/StringUTF16", name := "newBytesFor", desc := "(I)[B" } : Jvm.MethodName) prog_28_method_2_code (1 : Nat) (Option.some (Jvm.ClassFile.FieldType.array Jvm.ClassFile.FieldType.byte))) ∈ lw_all := lw_g (lw_at lw_m4 222 rfl) rfl
theorem q1017 : (Jvm.Cond.methodLink "java/lang/StringUTF16" (11 : Nat) ({ cls := "java/lang/StringUTF16", name := "newBytesLength", desc := "(I)I" } : Jvm.MethodName)) ∈ lw_all := lw_g (lw_at lw_m4 223 rfl) rfl
theorem q1018 : (Jvm.Cond.static ({ cls := "java/lang/StringUTF16", name := "newBytesLength", desc := "(I)I" } : Jvm.MethodName)) ∈ lw_all := lw_g (lw_at lw_m4 224 rfl) rfl
theorem q1019 : (Jvm.Cond.code ({ cls := "java/lang/StringUTF16", name := "newBytesLength", desc := "(I)I" } : Jvm.MethodName) prog_28_method_3_code (1 : Nat) (Option.some Jvm.ClassFile.FieldType.int)) ∈ lw_all := lw_g (lw_at lw_m4 225 rfl) rfl
theorem q1020 : (Jvm.Cond.constant "java/lang/StringUTF16" (20 : Nat) (1073741823 : Int32)) ∈ lw_all := lw_g (lw_at lw_m4 226 rfl) rfl
theorem q1069 : (Jvm.Cond.static ({ cls := "java/lang/StringUTF16", name := "putCharsAt", desc := "([BICCCC)I" } : Jvm.MethodName)) ∈ lw_all := lw_g (lw_at lw_m5 35 rfl) rfl
theorem q1070 : (Jvm.Cond.code ({ cls := "java/lang/StringUTF16", name := "putCharsAt", desc := "([BICCCC)I" } : Jvm.MethodName) prog_28_method_81_code (7 : Nat) (Option.some Jvm.ClassFile.FieldType.int)) ∈ lw_all := lw_g (lw_at lw_m5 36 rfl) rfl
theorem q1071 : (Jvm.Cond.methodLink "java/lang/StringUTF16" (96 : Nat) ({ cls := "java/lang/StringUTF16", name := "checkBoundsBeginEnd", desc := "(II[B)V" } : Jvm.MethodName)) ∈ lw_all := lw_g (lw_at lw_m5 37 rfl) rfl
theorem q1072 : (Jvm.Cond.static ({ cls := "java/lang/StringUTF16", name := "checkBoundsBeginEnd", desc := "(II[B)V" } : Jvm.MethodName)) ∈ lw_all := lw_g (lw_at lw_m5 38 rfl) rfl
theorem q1073 : (Jvm.Cond.code ({ cls := "java/lang/StringUTF16", name := "checkBoundsBeginEnd", desc := "(II[B)V" } : Jvm.MethodName) prog_28_method_93_code (3 : Nat) (Option.none : Option Jvm.ClassFile.FieldType)) ∈ lw_all := lw_g (lw_at lw_m5 39 rfl) rfl
theorem q1074 : (Jvm.Cond.methodLink "java/lang/StringUTF16" (48 : Nat) ({ cls := "java/lang/StringUTF16", name := "length", desc := "([B)I" } : Jvm.MethodName)) ∈ lw_all := lw_g (lw_at lw_m5 40 rfl) rfl
theorem q1075 : (Jvm.Cond.static ({ cls := "java/lang/StringUTF16", name := "length", desc := "([B)I" } : Jvm.MethodName)) ∈ lw_all := lw_g (lw_at lw_m5 41 rfl) rfl
theorem q1076 : (Jvm.Cond.code ({ cls := "java/lang/StringUTF16", name := "length", desc := "([B)I" } : Jvm.MethodName) prog_28_method_6_code (1 : Nat) (Option.some Jvm.ClassFile.FieldType.int)) ∈ lw_all := lw_g (lw_at lw_m5 42 rfl) rfl
theorem q1077 : (Jvm.Cond.methodLink "java/lang/StringUTF16" (241 : Nat) ({ cls := "java/lang/String", name := "checkBoundsBeginEnd", desc := "(III)V" } : Jvm.MethodName)) ∈ lw_all := lw_g (lw_at lw_m5 43 rfl) rfl
theorem q1085 : (Jvm.Cond.methodLink "java/lang/StringUTF16" (111 : Nat) ({ cls := "java/lang/StringUTF16", name := "putChar", desc := "([BII)V" } : Jvm.MethodName)) ∈ lw_all := lw_g (lw_at lw_m5 51 rfl) rfl
theorem q1086 : (Jvm.Cond.static ({ cls := "java/lang/StringUTF16", name := "putChar", desc := "([BII)V" } : Jvm.MethodName)) ∈ lw_all := lw_g (lw_at lw_m5 52 rfl) rfl
theorem q1087 : (Jvm.Cond.code ({ cls := "java/lang/StringUTF16", name := "putChar", desc := "([BII)V" } : Jvm.MethodName) prog_28_method_4_code (3 : Nat) (Option.none : Option Jvm.ClassFile.FieldType)) ∈ lw_all := lw_g (lw_at lw_m5 53 rfl) rfl
theorem q1088 : (Jvm.Cond.fieldLink "java/lang/StringUTF16" (44 : Nat) "java/lang/StringUTF16" "$assertionsDisabled" "Z") ∈ lw_all := lw_g (lw_at lw_m5 54 rfl) rfl
theorem q1089 : (Jvm.Cond.laysStatic "java/lang/StringUTF16" "$assertionsDisabled" "Z") ∈ lw_tbl := lw_at lw_m5 55 rfl
theorem q1090 : (Jvm.Cond.fieldLink "java/lang/StringUTF16" (59 : Nat) "java/lang/StringUTF16" "HI_BYTE_SHIFT" "I") ∈ lw_all := lw_g (lw_at lw_m5 56 rfl) rfl
theorem q1091 : (Jvm.Cond.laysStatic "java/lang/StringUTF16" "HI_BYTE_SHIFT" "I") ∈ lw_tbl := lw_at lw_m5 57 rfl
theorem q1092 : (Jvm.Cond.fieldLink "java/lang/StringUTF16" (63 : Nat) "java/lang/StringUTF16" "LO_BYTE_SHIFT" "I") ∈ lw_all := lw_g (lw_at lw_m5 58 rfl) rfl
theorem q1093 : (Jvm.Cond.laysStatic "java/lang/StringUTF16" "LO_BYTE_SHIFT" "I") ∈ lw_tbl := lw_at lw_m5 59 rfl
theorem q1120 : (Jvm.Cond.static ({ cls := "java/lang/StringUTF16", name := "inflate", desc := "([BI[BII)V" } : Jvm.MethodName)) ∈ lw_all := lw_g (lw_at lw_m5 86 rfl) rfl
theorem q1121 : (Jvm.Cond.code ({ cls := "java/lang/StringUTF16", name := "inflate", desc := "([BI[BII)V" } : Jvm.MethodName) prog_28_method_86_code (6 : Nat) (Option.none : Option Jvm.ClassFile.FieldType)) ∈ lw_all := lw_g (lw_at lw_m5 87 rfl) rfl
theorem q1122 : (Jvm.Cond.methodLink "java/lang/StringUTF16" (173 : Nat) ({ cls := "java/lang/StringUTF16", name := "checkBoundsOffCount", desc := "(II[B)V" } : Jvm.MethodName)) ∈ lw_all := lw_g (lw_at lw_m5 88 rfl) rfl
theorem q1123 : (Jvm.Cond.static ({ cls := "java/lang/StringUTF16", name := "checkBoundsOffCount", desc := "(II[B)V" } : Jvm.MethodName)) ∈ lw_all := lw_g (lw_at lw_m5 89 rfl) rfl
theorem q1124 : (Jvm.Cond.code ({ cls := "java/lang/StringUTF16", name := "checkBoundsOffCount", desc := "(II[B)V" } : Jvm.MethodName) prog_28_method_94_code (3 : Nat) (Option.none : Option Jvm.ClassFile.FieldType)) ∈ lw_all := lw_g (lw_at lw_m5 90 rfl) rfl
theorem q1125 : (Jvm.Cond.methodLink "java/lang/StringUTF16" (419 : Nat) ({ cls := "java/lang/String", name := "checkBoundsOffCount", desc := "(III)I" } : Jvm.MethodName)) ∈ lw_all := lw_g (lw_at lw_m5 91 rfl) rfl
theorem q1175 : (Jvm.Cond.static ({ cls := "java/lang/StringUTF16", name := "compress", desc := "([BII)[B" } : Jvm.MethodName)) ∈ lw_all := lw_g (lw_at lw_m5 141 rfl) rfl
theorem q1176 : (Jvm.Cond.code ({ cls := "java/lang/StringUTF16", name := "compress", desc := "([BII)[B" } : Jvm.MethodName) prog_28_method_17_code (6 : Nat) (Option.some (Jvm.ClassFile.FieldType.array Jvm.ClassFile.FieldType.byte))) ∈ lw_all := lw_g (lw_at lw_m5 142 rfl) rfl
theorem q1177 : (Jvm.Cond.methodLink "java/lang/StringUTF16" (123 : Nat) ({ cls := "java/lang/StringUTF16", name := "compress", desc := "([BI[BII)I" } : Jvm.MethodName)) ∈ lw_all := lw_g (lw_at lw_m5 143 rfl) rfl
theorem q1178 : (Jvm.Cond.static ({ cls := "java/lang/StringUTF16", name := "compress", desc := "([BI[BII)I" } : Jvm.MethodName)) ∈ lw_all := lw_g (lw_at lw_m5 144 rfl) rfl
theorem q1179 : (Jvm.Cond.code ({ cls := "java/lang/StringUTF16", name := "compress", desc := "([BI[BII)I" } : Jvm.MethodName) prog_28_method_22_code (7 : Nat) (Option.some Jvm.ClassFile.FieldType.int)) ∈ lw_all := lw_g (lw_at lw_m5 145 rfl) rfl
theorem q1180 : (Jvm.Cond.methodLink "java/lang/StringUTF16" (71 : Nat) ({ cls := "java/lang/StringUTF16", name := "getChar", desc := "([BI)C" } : Jvm.MethodName)) ∈ lw_all := lw_g (lw_at lw_m5 146 rfl) rfl
theorem q1181 : (Jvm.Cond.static ({ cls := "java/lang/StringUTF16", name := "getChar", desc := "([BI)C" } : Jvm.MethodName)) ∈ lw_all := lw_g (lw_at lw_m5 147 rfl) rfl
theorem q1182 : (Jvm.Cond.code ({ cls := "java/lang/StringUTF16", name := "getChar", desc := "([BI)C" } : Jvm.MethodName) prog_28_method_5_code (2 : Nat) (Option.some Jvm.ClassFile.FieldType.char)) ∈ lw_all := lw_g (lw_at lw_m5 148 rfl) rfl
theorem q1183 : (Jvm.Cond.methodLink "java/lang/StringUTF16" (126 : Nat) ({ cls := "java/util/Arrays", name := "copyOfRange", desc := "([BII)[B" } : Jvm.MethodName)) ∈ lw_all := lw_g (lw_at lw_m5 149 rfl) rfl
theorem q1185 : (Jvm.Cond.static ({ cls := "java/lang/StringUTF16", name := "coderFromArrayLen", desc := "([BI)B" } : Jvm.MethodName)) ∈ lw_all := lw_g (lw_at lw_m5 151 rfl) rfl
theorem q1186 : (Jvm.Cond.code ({ cls := "java/lang/StringUTF16", name := "coderFromArrayLen", desc := "([BI)B" } : Jvm.MethodName) prog_28_method_15_code (2 : Nat) (Option.some Jvm.ClassFile.FieldType.byte)) ∈ lw_all := lw_g (lw_at lw_m5 152 rfl) rfl
/-! java/lang/StringLatin1 -/
set_option maxRecDepth 100000
def RJ26 : String := "java/lang/StringLatin1"
abbrev cJ26_inflate : ByteArray := prog_27_method_50_code
def yJ26_inflate : MethodName := ⟨RJ26, "inflate", "([BI[BII)V"⟩
def dkwJ26_inflate_0 : List UInt8 := [42, 27, 44, 29, 21, 4, 184, 0, 240, 177]
abbrev dktJ26_inflate_0 : List UInt8 := dkwJ26_inflate_0 ++ []
theorem dksJ26_inflate_0 : cJ26_inflate.data.toList.drop 0 = dktJ26_inflate_0 := by decide +kernel
theorem dJ26_inflate_0 : decode cJ26_inflate 0 = .ok (.aload_n 0, 1) := dk_42 (dk_at dksJ26_inflate_0 0 rfl rfl)
theorem dJ26_inflate_1 : decode cJ26_inflate 1 = .ok (.iload_n 1, 1) := dk_27 (dk_at dksJ26_inflate_0 1 rfl rfl)
theorem dJ26_inflate_2 : decode cJ26_inflate 2 = .ok (.aload_n 2, 1) := dk_44 (dk_at dksJ26_inflate_0 2 rfl rfl)
theorem dJ26_inflate_3 : decode cJ26_inflate 3 = .ok (.iload_n 3, 1) := dk_29 (dk_at dksJ26_inflate_0 3 rfl rfl)
theorem dJ26_inflate_4 : decode cJ26_inflate 4 = .ok (.iload 4, 2) := dk_21 4 (dk_at dksJ26_inflate_0 4 rfl rfl)
theorem dJ26_inflate_6 : decode cJ26_inflate 6 = .ok (.invokestatic 240, 3) := dk_184 0 240 (dk_at dksJ26_inflate_0 6 rfl rfl)
theorem dJ26_inflate_9 : decode cJ26_inflate 9 = .ok (.return_, 1) := dk_177 (dk_at dksJ26_inflate_0 9 rfl rfl)
theorem q109 : (Jvm.Cond.initialized "java/lang/StringLatin1") ∈ lw_all := lw_g (lw_at lw_m1 35 rfl) rfl
theorem q1117 : (Jvm.Cond.static ({ cls := "java/lang/StringLatin1", name := "inflate", desc := "([BI[BII)V" } : Jvm.MethodName)) ∈ lw_all := lw_g (lw_at lw_m5 83 rfl) rfl
theorem q1118 : (Jvm.Cond.code ({ cls := "java/lang/StringLatin1", name := "inflate", desc := "([BI[BII)V" } : Jvm.MethodName) prog_27_method_50_code (5 : Nat) (Option.none : Option Jvm.ClassFile.FieldType)) ∈ lw_all := lw_g (lw_at lw_m5 84 rfl) rfl
theorem q1119 : (Jvm.Cond.methodLink "java/lang/StringLatin1" (240 : Nat) ({ cls := "java/lang/StringUTF16", name := "inflate", desc := "([BI[BII)V" } : Jvm.MethodName)) ∈ lw_all := lw_g (lw_at lw_m5 85 rfl) rfl
/-! java/lang/IllegalStateException -/
set_option maxRecDepth 100000
def RJ27 : String := "java/lang/IllegalStateException"
def TJ27 : u_T := fun k => match k with
  | 0 => ("java/lang/Throwable", "cause", "Ljava/lang/Throwable;", false)
  | 1 => ("java/lang/Throwable", "stackTrace", "[Ljava/lang/StackTraceElement;", false)
  | 2 => ("java/lang/Throwable", "suppressedExceptions", "Ljava/util/List;", false)
  | 3 => ("java/lang/Throwable", "detailMessage", "Ljava/lang/String;", false)
  | 4 => ("java/lang/Throwable", "backtrace", "Ljava/lang/Object;", false)
  | _ => ("java/lang/Throwable", "depth", "I", false)
def tyJ27 : Nat → FieldType := fun k => match k with
  | 0 => .object "java/lang/Throwable"
  | 1 => .array (.object "java/lang/StackTraceElement")
  | 2 => .object "java/util/List"
  | 3 => .object "java/lang/String"
  | 4 => .object "java/lang/Object"
  | _ => .int
abbrev wsJ270 : List Cond := u_ws RJ27 TJ27 6
theorem nmJ27 : ∀ a, a < 6 → ∀ b, b < 6 → a ≠ b → (TJ27 a).2.1 ≠ (TJ27 b).2.1 := by decide +kernel
theorem tyJ27_ok : ∀ k, k < 6 → parseFieldDescriptor (TJ27 k).2.2.1 = some (tyJ27 k) := by decide +kernel
abbrev cJ27_init : ByteArray := prog_17_method_1_code
def yJ27_init : MethodName := ⟨RJ27, "<init>", "()V"⟩
theorem dJ27_init_0 : decode cJ27_init 0 = .ok (.aload_n 0, 1) := by decide +kernel
theorem dJ27_init_1 : decode cJ27_init 1 = .ok (.invokespecial 1, 3) := by decide +kernel
theorem dJ27_init_4 : decode cJ27_init 4 = .ok (.return_, 1) := by decide +kernel
theorem q110 : (Jvm.Cond.initialized "java/lang/IllegalStateException") ∈ lw_all := lw_g (lw_at lw_m1 36 rfl) rfl
theorem q541 : (Jvm.Cond.selects "java/lang/IllegalStateException" ({ cls := "java/lang/Object", name := "getClass", desc := "()Ljava/lang/Class;" } : Jvm.MethodName) ({ cls := "java/lang/Object", name := "getClass", desc := "()Ljava/lang/Class;" } : Jvm.MethodName)) ∈ lw_all := lw_g (lw_at lw_m2 227 rfl) rfl
theorem q958 : (Jvm.Cond.selects "java/lang/IllegalStateException" ({ cls := "java/lang/Throwable", name := "fillInStackTrace", desc := "()Ljava/lang/Throwable;" } : Jvm.MethodName) ({ cls := "java/lang/Throwable", name := "fillInStackTrace", desc := "()Ljava/lang/Throwable;" } : Jvm.MethodName)) ∈ lw_all := lw_g (lw_at lw_m4 164 rfl) rfl
theorem q982 : (Jvm.Cond.selects "java/lang/IllegalStateException" ({ cls := "java/lang/Throwable", name := "toString", desc := "()Ljava/lang/String;" } : Jvm.MethodName) ({ cls := "java/lang/Throwable", name := "toString", desc := "()Ljava/lang/String;" } : Jvm.MethodName)) ∈ lw_all := lw_g (lw_at lw_m4 188 rfl) rfl
theorem q991 : (Jvm.Cond.selects "java/lang/IllegalStateException" ({ cls := "java/lang/Throwable", name := "getLocalizedMessage", desc := "()Ljava/lang/String;" } : Jvm.MethodName) ({ cls := "java/lang/Throwable", name := "getLocalizedMessage", desc := "()Ljava/lang/String;" } : Jvm.MethodName)) ∈ lw_all := lw_g (lw_at lw_m4 197 rfl) rfl
theorem q999 : (Jvm.Cond.selects "java/lang/IllegalStateException" ({ cls := "java/lang/Throwable", name := "getMessage", desc := "()Ljava/lang/String;" } : Jvm.MethodName) ({ cls := "java/lang/Throwable", name := "getMessage", desc := "()Ljava/lang/String;" } : Jvm.MethodName)) ∈ lw_all := lw_g (lw_at lw_m4 205 rfl) rfl
theorem q1254 : (Jvm.Cond.instantiable "java/lang/IllegalStateException" (6 : Nat)) ∈ lw_all := lw_g (lw_at lw_m5 220 rfl) rfl
theorem q1255 : (Jvm.Cond.castable "java/lang/IllegalStateException" "java/lang/IllegalStateException") ∈ lw_tbl := lw_at lw_m5 221 rfl
theorem q1256 : (Jvm.Cond.selects "java/lang/IllegalStateException" ({ cls := "java/lang/Throwable", name := "fillInStackTrace", desc := "(I)Ljava/lang/Throwable;" } : Jvm.MethodName) ({ cls := "java/lang/Throwable", name := "fillInStackTrace", desc := "(I)Ljava/lang/Throwable;" } : Jvm.MethodName)) ∈ lw_all := lw_g (lw_at lw_m5 222 rfl) rfl
theorem q1257 : (Jvm.Cond.lays "java/lang/IllegalStateException" "java/lang/Throwable" "cause" "Ljava/lang/Throwable;") ∈ lw_all := lw_g (lw_at lw_m5 223 rfl) rfl
theorem q1258 : (Jvm.Cond.lays "java/lang/IllegalStateException" "java/lang/Throwable" "stackTrace" "[Ljava/lang/StackTraceElement;") ∈ lw_all := lw_g (lw_at lw_m5 224 rfl) rfl
theorem q1259 : (Jvm.Cond.lays "java/lang/IllegalStateException" "java/lang/Throwable" "suppressedExceptions" "Ljava/util/List;") ∈ lw_all := lw_g (lw_at lw_m5 225 rfl) rfl
theorem q1260 : (Jvm.Cond.lays "java/lang/IllegalStateException" "java/lang/Throwable" "detailMessage" "Ljava/lang/String;") ∈ lw_all := lw_g (lw_at lw_m5 226 rfl) rfl
theorem q1261 : (Jvm.Cond.lays "java/lang/IllegalStateException" "java/lang/Throwable" "backtrace" "Ljava/lang/Object;") ∈ lw_all := lw_g (lw_at lw_m5 227 rfl) rfl
theorem q1263 : (Jvm.Cond.instanceMethod ({ cls := "java/lang/IllegalStateException", name := "<init>", desc := "()V" } : Jvm.MethodName)) ∈ lw_all := lw_g (lw_at lw_m5 229 rfl) rfl
theorem q1264 : (Jvm.Cond.code ({ cls := "java/lang/IllegalStateException", name := "<init>", desc := "()V" } : Jvm.MethodName) prog_17_method_1_code (1 : Nat) (Option.none : Option Jvm.ClassFile.FieldType)) ∈ lw_all := lw_g (lw_at lw_m5 230 rfl) rfl
theorem q1265 : (Jvm.Cond.methodLink "java/lang/IllegalStateException" (1 : Nat) ({ cls := "java/lang/RuntimeException", name := "<init>", desc := "()V" } : Jvm.MethodName)) ∈ lw_all := lw_g (lw_at lw_m5 231 rfl) rfl
theorem q1272 : (Jvm.Cond.lays "java/lang/IllegalStateException" "java/lang/Throwable" "depth" "I") ∈ lw_all := lw_g (lw_at lw_m5 238 rfl) rfl
theorem q1273 : (Jvm.Cond.superclass "java/lang/IllegalStateException" "java/lang/RuntimeException") ∈ lw_all := lw_g (lw_at lw_m5 239 rfl) rfl
theorem q2052 : (Jvm.Cond.castable "java/lang/IllegalStateException" "java/lang/Object") ∈ lw_tbl := lw_at lw_m9 58 rfl
theorem in_J27 : ∀ w ∈ wsJ270, w ∈ lw_all := lw_in wsJ270 [1257, 1258, 1259, 1260, 1261, 1272] (by decide +kernel) (by decide +kernel)
/-! java/util/ConcurrentModificationException -/
set_option maxRecDepth 100000
def RJ28 : String := "java/util/ConcurrentModificationException"
def TJ28 : u_T := fun k => match k with
  | 0 => ("java/lang/Throwable", "backtrace", "Ljava/lang/Object;", false)
  | 1 => ("java/lang/Throwable", "detailMessage", "Ljava/lang/String;", false)
  | 2 => ("java/lang/Throwable", "cause", "Ljava/lang/Throwable;", false)
  | 3 => ("java/lang/Throwable", "stackTrace", "[Ljava/lang/StackTraceElement;", false)
  | 4 => ("java/lang/Throwable", "depth", "I", false)
  | _ => ("java/lang/Throwable", "suppressedExceptions", "Ljava/util/List;", false)
def tyJ28 : Nat → FieldType := fun k => match k with
  | 0 => .object "java/lang/Object"
  | 1 => .object "java/lang/String"
  | 2 => .object "java/lang/Throwable"
  | 3 => .array (.object "java/lang/StackTraceElement")
  | 4 => .int
  | _ => .object "java/util/List"
abbrev wsJ280 : List Cond := u_ws RJ28 TJ28 6
theorem nmJ28 : ∀ a, a < 6 → ∀ b, b < 6 → a ≠ b → (TJ28 a).2.1 ≠ (TJ28 b).2.1 := by decide +kernel
theorem tyJ28_ok : ∀ k, k < 6 → parseFieldDescriptor (TJ28 k).2.2.1 = some (tyJ28 k) := by decide +kernel
abbrev cJ28_init : ByteArray := prog_46_method_1_code
def yJ28_init : MethodName := ⟨RJ28, "<init>", "()V"⟩
theorem dJ28_init_0 : decode cJ28_init 0 = .ok (.aload_n 0, 1) := by decide +kernel
theorem dJ28_init_1 : decode cJ28_init 1 = .ok (.invokespecial 1, 3) := by decide +kernel
theorem dJ28_init_4 : decode cJ28_init 4 = .ok (.return_, 1) := by decide +kernel
theorem q111 : (Jvm.Cond.initialized "java/util/ConcurrentModificationException") ∈ lw_all := lw_g (lw_at lw_m1 37 rfl) rfl
theorem q551 : (Jvm.Cond.selects "java/util/ConcurrentModificationException" ({ cls := "java/lang/Object", name := "getClass", desc := "()Ljava/lang/Class;" } : Jvm.MethodName) ({ cls := "java/lang/Object", name := "getClass", desc := "()Ljava/lang/Class;" } : Jvm.MethodName)) ∈ lw_all := lw_g (lw_at lw_m2 237 rfl) rfl
theorem q959 : (Jvm.Cond.selects "java/util/ConcurrentModificationException" ({ cls := "java/lang/Throwable", name := "fillInStackTrace", desc := "()Ljava/lang/Throwable;" } : Jvm.MethodName) ({ cls := "java/lang/Throwable", name := "fillInStackTrace", desc := "()Ljava/lang/Throwable;" } : Jvm.MethodName)) ∈ lw_all := lw_g (lw_at lw_m4 165 rfl) rfl
theorem q983 : (Jvm.Cond.selects "java/util/ConcurrentModificationException" ({ cls := "java/lang/Throwable", name := "toString", desc := "()Ljava/lang/String;" } : Jvm.MethodName) ({ cls := "java/lang/Throwable", name := "toString", desc := "()Ljava/lang/String;" } : Jvm.MethodName)) ∈ lw_all := lw_g (lw_at lw_m4 189 rfl) rfl
theorem q992 : (Jvm.Cond.selects "java/util/ConcurrentModificationException" ({ cls := "java/lang/Throwable", name := "getLocalizedMessage", desc := "()Ljava/lang/String;" } : Jvm.MethodName) ({ cls := "java/lang/Throwable", name := "getLocalizedMessage", desc := "()Ljava/lang/String;" } : Jvm.MethodName)) ∈ lw_all := lw_g (lw_at lw_m4 198 rfl) rfl
theorem q1000 : (Jvm.Cond.selects "java/util/ConcurrentModificationException" ({ cls := "java/lang/Throwable", name := "getMessage", desc := "()Ljava/lang/String;" } : Jvm.MethodName) ({ cls := "java/lang/Throwable", name := "getMessage", desc := "()Ljava/lang/String;" } : Jvm.MethodName)) ∈ lw_all := lw_g (lw_at lw_m4 206 rfl) rfl
theorem q1294 : (Jvm.Cond.instantiable "java/util/ConcurrentModificationException" (6 : Nat)) ∈ lw_all := lw_g (lw_at lw_m6 20 rfl) rfl
theorem q1296 : (Jvm.Cond.instanceMethod ({ cls := "java/util/ConcurrentModificationException", name := "<init>", desc := "()V" } : Jvm.MethodName)) ∈ lw_all := lw_g (lw_at lw_m6 22 rfl) rfl
theorem q1297 : (Jvm.Cond.code ({ cls := "java/util/ConcurrentModificationException", name := "<init>", desc := "()V" } : Jvm.MethodName) prog_46_method_1_code (1 : Nat) (Option.none : Option Jvm.ClassFile.FieldType)) ∈ lw_all := lw_g (lw_at lw_m6 23 rfl) rfl
theorem q1298 : (Jvm.Cond.methodLink "java/util/ConcurrentModificationException" (1 : Nat) ({ cls := "java/lang/RuntimeException", name := "<init>", desc := "()V" } : Jvm.MethodName)) ∈ lw_all := lw_g (lw_at lw_m6 24 rfl) rfl
theorem q1299 : (Jvm.Cond.lays "java/util/ConcurrentModificationException" "java/lang/Throwable" "backtrace" "Ljava/lang/Object;") ∈ lw_all := lw_g (lw_at lw_m6 25 rfl) rfl
theorem q1300 : (Jvm.Cond.lays "java/util/ConcurrentModificationException" "java/lang/Throwable" "detailMessage" "Ljava/lang/String;") ∈ lw_all := lw_g (lw_at lw_m6 26 rfl) rfl
theorem q1301 : (Jvm.Cond.lays "java/util/ConcurrentModificationException" "java/lang/Throwable" "cause" "Ljava/lang/Throwable;") ∈ lw_all := lw_g (lw_at lw_m6 27 rfl) rfl
theorem q1302 : (Jvm.Cond.lays "java/util/ConcurrentModificationException" "java/lang/Throwable" "stackTrace" "[Ljava/lang/StackTraceElement;") ∈ lw_all := lw_g (lw_at lw_m6 28 rfl) rfl
theorem q1303 : (Jvm.Cond.lays "java/util/ConcurrentModificationException" "java/lang/Throwable" "depth" "I") ∈ lw_all := lw_g (lw_at lw_m6 29 rfl) rfl
theorem q1304 : (Jvm.Cond.lays "java/util/ConcurrentModificationException" "java/lang/Throwable" "suppressedExceptions" "Ljava/util/List;") ∈ lw_all := lw_g (lw_at lw_m6 30 rfl) rfl
theorem q1305 : (Jvm.Cond.superclass "java/util/ConcurrentModificationException" "java/lang/RuntimeException") ∈ lw_all := lw_g (lw_at lw_m6 31 rfl) rfl
theorem q2053 : (Jvm.Cond.castable "java/util/ConcurrentModificationException" "java/lang/Object") ∈ lw_tbl := lw_at lw_m9 59 rfl
theorem in_J28 : ∀ w ∈ wsJ280, w ∈ lw_all := lw_in wsJ280 [1299, 1300, 1301, 1302, 1303, 1304] (by decide +kernel) (by decide +kernel)
/-! java/util/BitSet -/
set_option maxRecDepth 100000
def RJ29 : String := "java/util/BitSet"
def TJ29 : u_T := fun k => match k with
  | 0 => ("java/util/BitSet", "words", "[J", false)
  | 1 => ("java/util/BitSet", "wordsInUse", "I", false)
  | _ => ("java/util/BitSet", "sizeIsSticky", "Z", false)
def tyJ29 : Nat → FieldType := fun k => match k with
  | 0 => .array .long
  | 1 => .int
  | _ => .boolean
abbrev wsJ290 : List Cond := u_ws RJ29 TJ29 3
theorem nmJ29 : ∀ a, a < 3 → ∀ b, b < 3 → a ≠ b → (TJ29 a).2.1 ≠ (TJ29 b).2.1 := by decide +kernel
theorem tyJ29_ok : ∀ k, k < 3 → parseFieldDescriptor (TJ29 k).2.2.1 = some (tyJ29 k) := by decide +kernel
abbrev cJ29_init : ByteArray := prog_44_method_4_code
def yJ29_init : MethodName := ⟨RJ29, "<init>", "()V"⟩
def dkwJ29_init_1 : List UInt8 := [181, 0, 24, 177]
abbrev dktJ29_init_1 : List UInt8 := dkwJ29_init_1 ++ []
def dkwJ29_init_0 : List UInt8 := [42, 183, 0, 21, 42, 3, 181, 0, 7, 42, 3, 181, 0, 24, 42, 16, 64, 182, 0, 27, 42, 3]
abbrev dktJ29_init_0 : List UInt8 := dkwJ29_init_0 ++ dktJ29_init_1
theorem dksJ29_init_0 : cJ29_init.data.toList.drop 0 = dktJ29_init_0 := by decide +kernel
theorem dksJ29_init_1 : cJ29_init.data.toList.drop 22 = dktJ29_init_1 := dk_seg dksJ29_init_0 22 rfl rfl
theorem dJ29_init_0 : decode cJ29_init 0 = .ok (.aload_n 0, 1) := dk_42 (dk_at dksJ29_init_0 0 rfl rfl)
theorem dJ29_init_1 : decode cJ29_init 1 = .ok (.invokespecial 21, 3) := dk_183 0 21 (dk_at dksJ29_init_0 1 rfl rfl)
theorem dJ29_init_4 : decode cJ29_init 4 = .ok (.aload_n 0, 1) := dk_42 (dk_at dksJ29_init_0 4 rfl rfl)
theorem dJ29_init_5 : decode cJ29_init 5 = .ok (.iconst 0, 1) := dk_3 (dk_at dksJ29_init_0 5 rfl rfl)
theorem dJ29_init_6 : decode cJ29_init 6 = .ok (.putfield 7, 3) := dk_181 0 7 (dk_at dksJ29_init_0 6 rfl rfl)
theorem dJ29_init_9 : decode cJ29_init 9 = .ok (.aload_n 0, 1) := dk_42 (dk_at dksJ29_init_0 9 rfl rfl)
theorem dJ29_init_10 : decode cJ29_init 10 = .ok (.iconst 0, 1) := dk_3 (dk_at dksJ29_init_0 10 rfl rfl)
theorem dJ29_init_11 : decode cJ29_init 11 = .ok (.putfield 24, 3) := dk_181 0 24 (dk_at dksJ29_init_0 11 rfl rfl)
theorem dJ29_init_14 : decode cJ29_init 14 = .ok (.aload_n 0, 1) := dk_42 (dk_at dksJ29_init_0 14 rfl rfl)
theorem dJ29_init_15 : decode cJ29_init 15 = .ok (.bipush 64, 2) := dk_16 64 (dk_at dksJ29_init_0 15 rfl rfl)
theorem dJ29_init_17 : decode cJ29_init 17 = .ok (.invokevirtual 27, 3) := dk_182 0 27 (dk_at dksJ29_init_0 17 rfl rfl)
theorem dJ29_init_20 : decode cJ29_init 20 = .ok (.aload_n 0, 1) := dk_42 (dk_at dksJ29_init_0 20 rfl rfl)
theorem dJ29_init_21 : decode cJ29_init 21 = .ok (.iconst 0, 1) := dk_3 (dk_at dksJ29_init_0 21 rfl rfl)
theorem dJ29_init_22 : decode cJ29_init 22 = .ok (.putfield 24, 3) := dk_181 0 24 (dk_at dksJ29_init_1 0 rfl rfl)
theorem dJ29_init_25 : decode cJ29_init 25 = .ok (.return_, 1) := dk_177 (dk_at dksJ29_init_1 3 rfl rfl)
abbrev cJ29_initWords : ByteArray := prog_44_method_6_code
def yJ29_initWords : MethodName := ⟨RJ29, "initWords", "(I)V"⟩
def dkwJ29_initWords_0 : List UInt8 := [42, 27, 4, 100, 184, 0, 52, 4, 96, 188, 11, 181, 0, 11, 177]
abbrev dktJ29_initWords_0 : List UInt8 := dkwJ29_initWords_0 ++ []
theorem dksJ29_initWords_0 : cJ29_initWords.data.toList.drop 0 = dktJ29_initWords_0 := by decide +kernel
theorem dJ29_initWords_0 : decode cJ29_initWords 0 = .ok (.aload_n 0, 1) := dk_42 (dk_at dksJ29_initWords_0 0 rfl rfl)
theorem dJ29_initWords_1 : decode cJ29_initWords 1 = .ok (.iload_n 1, 1) := dk_27 (dk_at dksJ29_initWords_0 1 rfl rfl)
theorem dJ29_initWords_2 : decode cJ29_initWords 2 = .ok (.iconst 1, 1) := dk_4 (dk_at dksJ29_initWords_0 2 rfl rfl)
theorem dJ29_initWords_3 : decode cJ29_initWords 3 = .ok (.isub, 1) := dk_100 (dk_at dksJ29_initWords_0 3 rfl rfl)
theorem dJ29_initWords_4 : decode cJ29_initWords 4 = .ok (.invokestatic 52, 3) := dk_184 0 52 (dk_at dksJ29_initWords_0 4 rfl rfl)
theorem dJ29_initWords_7 : decode cJ29_initWords 7 = .ok (.iconst 1, 1) := dk_4 (dk_at dksJ29_initWords_0 7 rfl rfl)
theorem dJ29_initWords_8 : decode cJ29_initWords 8 = .ok (.iadd, 1) := dk_96 (dk_at dksJ29_initWords_0 8 rfl rfl)
theorem dJ29_initWords_9 : decode cJ29_initWords 9 = .ok (.newarray .long, 2) := dk_188_11 (dk_at dksJ29_initWords_0 9 rfl rfl)
theorem dJ29_initWords_11 : decode cJ29_initWords 11 = .ok (.putfield 11, 3) := dk_181 0 11 (dk_at dksJ29_initWords_0 11 rfl rfl)
theorem dJ29_initWords_14 : decode cJ29_initWords 14 = .ok (.return_, 1) := dk_177 (dk_at dksJ29_initWords_0 14 rfl rfl)
abbrev cJ29_wordIndex : ByteArray := prog_44_method_1_code
def yJ29_wordIndex : MethodName := ⟨RJ29, "wordIndex", "(I)I"⟩
def dkwJ29_wordIndex_0 : List UInt8 := [26, 16, 6, 122, 172]
abbrev dktJ29_wordIndex_0 : List UInt8 := dkwJ29_wordIndex_0 ++ []
theorem dksJ29_wordIndex_0 : cJ29_wordIndex.data.toList.drop 0 = dktJ29_wordIndex_0 := by decide +kernel
theorem dJ29_wordIndex_0 : decode cJ29_wordIndex 0 = .ok (.iload_n 0, 1) := dk_26 (dk_at dksJ29_wordIndex_0 0 rfl rfl)
theorem dJ29_wordIndex_1 : decode cJ29_wordIndex 1 = .ok (.bipush 6, 2) := dk_16 6 (dk_at dksJ29_wordIndex_0 1 rfl rfl)
theorem dJ29_wordIndex_3 : decode cJ29_wordIndex 3 = .ok (.ishr, 1) := dk_122 (dk_at dksJ29_wordIndex_0 3 rfl rfl)
theorem dJ29_wordIndex_4 : decode cJ29_wordIndex 4 = .ok (.ireturn, 1) := dk_172 (dk_at dksJ29_wordIndex_0 4 rfl rfl)
abbrev cJ29_get : ByteArray := prog_44_method_26_code
def yJ29_get : MethodName := ⟨RJ29, "get", "(I)Z"⟩
def dkwJ29_get_2 : List UInt8 := [42, 180, 0, 11, 28, 47, 10, 27, 121, 127, 9, 148, 153, 0, 7, 4, 167, 0, 4, 3, 172]
abbrev dktJ29_get_2 : List UInt8 := dkwJ29_get_2 ++ []
def dkwJ29_get_1 : List UInt8 := [182, 0, 45, 183, 0, 146, 191, 42, 182, 0, 56, 27, 184, 0, 52, 61, 28, 42, 180, 0, 7, 162, 0, 22]
abbrev dktJ29_get_1 : List UInt8 := dkwJ29_get_1 ++ dktJ29_get_2
def dkwJ29_get_0 : List UInt8 := [27, 156, 0, 30, 187, 0, 142, 89, 187, 0, 33, 89, 183, 0, 35, 18, 153, 182, 0, 38, 27, 182, 0, 42]
abbrev dktJ29_get_0 : List UInt8 := dkwJ29_get_0 ++ dktJ29_get_1
theorem dksJ29_get_0 : cJ29_get.data.toList.drop 0 = dktJ29_get_0 := by decide +kernel
theorem dksJ29_get_1 : cJ29_get.data.toList.drop 24 = dktJ29_get_1 := dk_seg dksJ29_get_0 24 rfl rfl
theorem dksJ29_get_2 : cJ29_get.data.toList.drop 48 = dktJ29_get_2 := dk_seg dksJ29_get_1 24 rfl rfl
theorem dJ29_get_0 : decode cJ29_get 0 = .ok (.iload_n 1, 1) := dk_27 (dk_at dksJ29_get_0 0 rfl rfl)
theorem dJ29_get_1 : decode cJ29_get 1 = .ok (.ifCond .ge 30, 3) := dk_156 0 30 (dk_at dksJ29_get_0 1 rfl rfl)
theorem dJ29_get_4 : decode cJ29_get 4 = .ok (.new 142, 3) := dk_187 0 142 (dk_at dksJ29_get_0 4 rfl rfl)
theorem dJ29_get_7 : decode cJ29_get 7 = .ok (.dup, 1) := dk_89 (dk_at dksJ29_get_0 7 rfl rfl)
theorem dJ29_get_8 : decode cJ29_get 8 = .ok (.new 33, 3) := dk_187 0 33 (dk_at dksJ29_get_0 8 rfl rfl)
theorem dJ29_get_11 : decode cJ29_get 11 = .ok (.dup, 1) := dk_89 (dk_at dksJ29_get_0 11 rfl rfl)
theorem dJ29_get_12 : decode cJ29_get 12 = .ok (.invokespecial 35, 3) := dk_183 0 35 (dk_at dksJ29_get_0 12 rfl rfl)
theorem dJ29_get_15 : decode cJ29_get 15 = .ok (.ldc 153, 2) := dk_18 153 (dk_at dksJ29_get_0 15 rfl rfl)
theorem dJ29_get_17 : decode cJ29_get 17 = .ok (.invokevirtual 38, 3) := dk_182 0 38 (dk_at dksJ29_get_0 17 rfl rfl)
theorem dJ29_get_20 : decode cJ29_get 20 = .ok (.iload_n 1, 1) := dk_27 (dk_at dksJ29_get_0 20 rfl rfl)
theorem dJ29_get_21 : decode cJ29_get 21 = .ok (.invokevirtual 42, 3) := dk_182 0 42 (dk_at dksJ29_get_0 21 rfl rfl)
theorem dJ29_get_24 : decode cJ29_get 24 = .ok (.invokevirtual 45, 3) := dk_182 0 45 (dk_at dksJ29_get_1 0 rfl rfl)
theorem dJ29_get_27 : decode cJ29_get 27 = .ok (.invokespecial 146, 3) := dk_183 0 146 (dk_at dksJ29_get_1 3 rfl rfl)
theorem dJ29_get_30 : decode cJ29_get 30 = .ok (.athrow, 1) := dk_191 (dk_at dksJ29_get_1 6 rfl rfl)
theorem dJ29_get_31 : decode cJ29_get 31 = .ok (.aload_n 0, 1) := dk_42 (dk_at dksJ29_get_1 7 rfl rfl)
theorem dJ29_get_32 : decode cJ29_get 32 = .ok (.invokevirtual 56, 3) := dk_182 0 56 (dk_at dksJ29_get_1 8 rfl rfl)
theorem dJ29_get_35 : decode cJ29_get 35 = .ok (.iload_n 1, 1) := dk_27 (dk_at dksJ29_get_1 11 rfl rfl)
theorem dJ29_get_36 : decode cJ29_get 36 = .ok (.invokestatic 52, 3) := dk_184 0 52 (dk_at dksJ29_get_1 12 rfl rfl)
theorem dJ29_get_39 : decode cJ29_get 39 = .ok (.istore_n 2, 1) := dk_61 (dk_at dksJ29_get_1 15 rfl rfl)
theorem dJ29_get_40 : decode cJ29_get 40 = .ok (.iload_n 2, 1) := dk_28 (dk_at dksJ29_get_1 16 rfl rfl)
theorem dJ29_get_41 : decode cJ29_get 41 = .ok (.aload_n 0, 1) := dk_42 (dk_at dksJ29_get_1 17 rfl rfl)
theorem dJ29_get_42 : decode cJ29_get 42 = .ok (.getfield 7, 3) := dk_180 0 7 (dk_at dksJ29_get_1 18 rfl rfl)
theorem dJ29_get_45 : decode cJ29_get 45 = .ok (.if_icmp .ge 22, 3) := dk_162 0 22 (dk_at dksJ29_get_1 21 rfl rfl)
theorem dJ29_get_48 : decode cJ29_get 48 = .ok (.aload_n 0, 1) := dk_42 (dk_at dksJ29_get_2 0 rfl rfl)
theorem dJ29_get_49 : decode cJ29_get 49 = .ok (.getfield 11, 3) := dk_180 0 11 (dk_at dksJ29_get_2 1 rfl rfl)
theorem dJ29_get_52 : decode cJ29_get 52 = .ok (.iload_n 2, 1) := dk_28 (dk_at dksJ29_get_2 4 rfl rfl)
theorem dJ29_get_53 : decode cJ29_get 53 = .ok (.laload, 1) := dk_47 (dk_at dksJ29_get_2 5 rfl rfl)
theorem dJ29_get_54 : decode cJ29_get 54 = .ok (.lconst 1, 1) := dk_10 (dk_at dksJ29_get_2 6 rfl rfl)
theorem dJ29_get_55 : decode cJ29_get 55 = .ok (.iload_n 1, 1) := dk_27 (dk_at dksJ29_get_2 7 rfl rfl)
theorem dJ29_get_56 : decode cJ29_get 56 = .ok (.lshl, 1) := dk_121 (dk_at dksJ29_get_2 8 rfl rfl)
theorem dJ29_get_57 : decode cJ29_get 57 = .ok (.land, 1) := dk_127 (dk_at dksJ29_get_2 9 rfl rfl)
theorem dJ29_get_58 : decode cJ29_get 58 = .ok (.lconst 0, 1) := dk_9 (dk_at dksJ29_get_2 10 rfl rfl)
theorem dJ29_get_59 : decode cJ29_get 59 = .ok (.lcmp, 1) := dk_148 (dk_at dksJ29_get_2 11 rfl rfl)
theorem dJ29_get_60 : decode cJ29_get 60 = .ok (.ifCond .eq 7, 3) := dk_153 0 7 (dk_at dksJ29_get_2 12 rfl rfl)
theorem dJ29_get_63 : decode cJ29_get 63 = .ok (.iconst 1, 1) := dk_4 (dk_at dksJ29_get_2 15 rfl rfl)
theorem dJ29_get_64 : decode cJ29_get 64 = .ok (.goto 4, 3) := dk_167 0 4 (dk_at dksJ29_get_2 16 rfl rfl)
theorem dJ29_get_67 : decode cJ29_get 67 = .ok (.iconst 0, 1) := dk_3 (dk_at dksJ29_get_2 19 rfl rfl)
theorem dJ29_get_68 : decode cJ29_get 68 = .ok (.ireturn, 1) := dk_172 (dk_at dksJ29_get_2 20 rfl rfl)
abbrev cJ29_checkInvariants : ByteArray := prog_44_method_2_code
def yJ29_checkInvariants : MethodName := ⟨RJ29, "checkInvariants", "()V"⟩
def dkwJ29_checkInvariants_4 : List UInt8 := [180, 0, 7, 47, 9, 148, 153, 0, 11, 187, 0, 15, 89, 183, 0, 17, 191, 177]
abbrev dktJ29_checkInvariants_4 : List UInt8 := dkwJ29_checkInvariants_4 ++ []
def dkwJ29_checkInvariants_3 : List UInt8 := [178, 0, 3, 154, 0, 37, 42, 180, 0, 7, 42, 180, 0, 11, 190, 159, 0, 25, 42, 180, 0, 11, 42]
abbrev dktJ29_checkInvariants_3 : List UInt8 := dkwJ29_checkInvariants_3 ++ dktJ29_checkInvariants_4
def dkwJ29_checkInvariants_2 : List UInt8 := [155, 0, 15, 42, 180, 0, 7, 42, 180, 0, 11, 190, 164, 0, 11, 187, 0, 15, 89, 183, 0, 17, 191]
abbrev dktJ29_checkInvariants_2 : List UInt8 := dkwJ29_checkInvariants_2 ++ dktJ29_checkInvariants_3
def dkwJ29_checkInvariants_1 : List UInt8 := [9, 148, 154, 0, 11, 187, 0, 15, 89, 183, 0, 17, 191, 178, 0, 3, 154, 0, 30, 42, 180, 0, 7]
abbrev dktJ29_checkInvariants_1 : List UInt8 := dkwJ29_checkInvariants_1 ++ dktJ29_checkInvariants_2
def dkwJ29_checkInvariants_0 : List UInt8 := [178, 0, 3, 154, 0, 34, 42, 180, 0, 7, 153, 0, 27, 42, 180, 0, 11, 42, 180, 0, 7, 4, 100, 47]
abbrev dktJ29_checkInvariants_0 : List UInt8 := dkwJ29_checkInvariants_0 ++ dktJ29_checkInvariants_1
theorem dksJ29_checkInvariants_0 : cJ29_checkInvariants.data.toList.drop 0 = dktJ29_checkInvariants_0 := by decide +kernel
theorem dksJ29_checkInvariants_1 : cJ29_checkInvariants.data.toList.drop 24 = dktJ29_checkInvariants_1 := dk_seg dksJ29_checkInvariants_0 24 rfl rfl
theorem dksJ29_checkInvariants_2 : cJ29_checkInvariants.data.toList.drop 47 = dktJ29_checkInvariants_2 := dk_seg dksJ29_checkInvariants_1 23 rfl rfl
theorem dksJ29_checkInvariants_3 : cJ29_checkInvariants.data.toList.drop 70 = dktJ29_checkInvariants_3 := dk_seg dksJ29_checkInvariants_2 23 rfl rfl
theorem dksJ29_checkInvariants_4 : cJ29_checkInvariants.data.toList.drop 93 = dktJ29_checkInvariants_4 := dk_seg dksJ29_checkInvariants_3 23 rfl rfl
theorem dJ29_checkInvariants_0 : decode cJ29_checkInvariants 0 = .ok (.getstatic 3, 3) := dk_178 0 3 (dk_at dksJ29_checkInvariants_0 0 rfl rfl)
theorem dJ29_checkInvariants_3 : decode cJ29_checkInvariants 3 = .ok (.ifCond .ne 34, 3) := dk_154 0 34 (dk_at dksJ29_checkInvariants_0 3 rfl rfl)
theorem dJ29_checkInvariants_6 : decode cJ29_checkInvariants 6 = .ok (.aload_n 0, 1) := dk_42 (dk_at dksJ29_checkInvariants_0 6 rfl rfl)
theorem dJ29_checkInvariants_7 : decode cJ29_checkInvariants 7 = .ok (.getfield 7, 3) := dk_180 0 7 (dk_at dksJ29_checkInvariants_0 7 rfl rfl)
theorem dJ29_checkInvariants_10 : decode cJ29_checkInvariants 10 = .ok (.ifCond .eq 27, 3) := dk_153 0 27 (dk_at dksJ29_checkInvariants_0 10 rfl rfl)
theorem dJ29_checkInvariants_13 : decode cJ29_checkInvariants 13 = .ok (.aload_n 0, 1) := dk_42 (dk_at dksJ29_checkInvariants_0 13 rfl rfl)
theorem dJ29_checkInvariants_14 : decode cJ29_checkInvariants 14 = .ok (.getfield 11, 3) := dk_180 0 11 (dk_at dksJ29_checkInvariants_0 14 rfl rfl)
theorem dJ29_checkInvariants_17 : decode cJ29_checkInvariants 17 = .ok (.aload_n 0, 1) := dk_42 (dk_at dksJ29_checkInvariants_0 17 rfl rfl)
theorem dJ29_checkInvariants_18 : decode cJ29_checkInvariants 18 = .ok (.getfield 7, 3) := dk_180 0 7 (dk_at dksJ29_checkInvariants_0 18 rfl rfl)
theorem dJ29_checkInvariants_21 : decode cJ29_checkInvariants 21 = .ok (.iconst 1, 1) := dk_4 (dk_at dksJ29_checkInvariants_0 21 rfl rfl)
theorem dJ29_checkInvariants_22 : decode cJ29_checkInvariants 22 = .ok (.isub, 1) := dk_100 (dk_at dksJ29_checkInvariants_0 22 rfl rfl)
theorem dJ29_checkInvariants_23 : decode cJ29_checkInvariants 23 = .ok (.laload, 1) := dk_47 (dk_at dksJ29_checkInvariants_0 23 rfl rfl)
theorem dJ29_checkInvariants_24 : decode cJ29_checkInvariants 24 = .ok (.lconst 0, 1) := dk_9 (dk_at dksJ29_checkInvariants_1 0 rfl rfl)
theorem dJ29_checkInvariants_25 : decode cJ29_checkInvariants 25 = .ok (.lcmp, 1) := dk_148 (dk_at dksJ29_checkInvariants_1 1 rfl rfl)
theorem dJ29_checkInvariants_26 : decode cJ29_checkInvariants 26 = .ok (.ifCond .ne 11, 3) := dk_154 0 11 (dk_at dksJ29_checkInvariants_1 2 rfl rfl)
theorem dJ29_checkInvariants_29 : decode cJ29_checkInvariants 29 = .ok (.new 15, 3) := dk_187 0 15 (dk_at dksJ29_checkInvariants_1 5 rfl rfl)
theorem dJ29_checkInvariants_32 : decode cJ29_checkInvariants 32 = .ok (.dup, 1) := dk_89 (dk_at dksJ29_checkInvariants_1 8 rfl rfl)
theorem dJ29_checkInvariants_33 : decode cJ29_checkInvariants 33 = .ok (.invokespecial 17, 3) := dk_183 0 17 (dk_at dksJ29_checkInvariants_1 9 rfl rfl)
theorem dJ29_checkInvariants_36 : decode cJ29_checkInvariants 36 = .ok (.athrow, 1) := dk_191 (dk_at dksJ29_checkInvariants_1 12 rfl rfl)
theorem dJ29_checkInvariants_37 : decode cJ29_checkInvariants 37 = .ok (.getstatic 3, 3) := dk_178 0 3 (dk_at dksJ29_checkInvariants_1 13 rfl rfl)
theorem dJ29_checkInvariants_40 : decode cJ29_checkInvariants 40 = .ok (.ifCond .ne 30, 3) := dk_154 0 30 (dk_at dksJ29_checkInvariants_1 16 rfl rfl)
theorem dJ29_checkInvariants_43 : decode cJ29_checkInvariants 43 = .ok (.aload_n 0, 1) := dk_42 (dk_at dksJ29_checkInvariants_1 19 rfl rfl)
theorem dJ29_checkInvariants_44 : decode cJ29_checkInvariants 44 = .ok (.getfield 7, 3) := dk_180 0 7 (dk_at dksJ29_checkInvariants_1 20 rfl rfl)
theorem dJ29_checkInvariants_47 : decode cJ29_checkInvariants 47 = .ok (.ifCond .lt 15, 3) := dk_155 0 15 (dk_at dksJ29_checkInvariants_2 0 rfl rfl)
theorem dJ29_checkInvariants_50 : decode cJ29_checkInvariants 50 = .ok (.aload_n 0, 1) := dk_42 (dk_at dksJ29_checkInvariants_2 3 rfl rfl)
theorem dJ29_checkInvariants_51 : decode cJ29_checkInvariants 51 = .ok (.getfield 7, 3) := dk_180 0 7 (dk_at dksJ29_checkInvariants_2 4 rfl rfl)
theorem dJ29_checkInvariants_54 : decode cJ29_checkInvariants 54 = .ok (.aload_n 0, 1) := dk_42 (dk_at dksJ29_checkInvariants_2 7 rfl rfl)
theorem dJ29_checkInvariants_55 : decode cJ29_checkInvariants 55 = .ok (.getfield 11, 3) := dk_180 0 11 (dk_at dksJ29_checkInvariants_2 8 rfl rfl)
theorem dJ29_checkInvariants_58 : decode cJ29_checkInvariants 58 = .ok (.arraylength, 1) := dk_190 (dk_at dksJ29_checkInvariants_2 11 rfl rfl)
theorem dJ29_checkInvariants_59 : decode cJ29_checkInvariants 59 = .ok (.if_icmp .le 11, 3) := dk_164 0 11 (dk_at dksJ29_checkInvariants_2 12 rfl rfl)
theorem dJ29_checkInvariants_62 : decode cJ29_checkInvariants 62 = .ok (.new 15, 3) := dk_187 0 15 (dk_at dksJ29_checkInvariants_2 15 rfl rfl)
theorem dJ29_checkInvariants_65 : decode cJ29_checkInvariants 65 = .ok (.dup, 1) := dk_89 (dk_at dksJ29_checkInvariants_2 18 rfl rfl)
theorem dJ29_checkInvariants_66 : decode cJ29_checkInvariants 66 = .ok (.invokespecial 17, 3) := dk_183 0 17 (dk_at dksJ29_checkInvariants_2 19 rfl rfl)
theorem dJ29_checkInvariants_69 : decode cJ29_checkInvariants 69 = .ok (.athrow, 1) := dk_191 (dk_at dksJ29_checkInvariants_2 22 rfl rfl)
theorem dJ29_checkInvariants_70 : decode cJ29_checkInvariants 70 = .ok (.getstatic 3, 3) := dk_178 0 3 (dk_at dksJ29_checkInvariants_3 0 rfl rfl)
theorem dJ29_checkInvariants_73 : decode cJ29_checkInvariants 73 = .ok (.ifCond .ne 37, 3) := dk_154 0 37 (dk_at dksJ29_checkInvariants_3 3 rfl rfl)
theorem dJ29_checkInvariants_76 : decode cJ29_checkInvariants 76 = .ok (.aload_n 0, 1) := dk_42 (dk_at dksJ29_checkInvariants_3 6 rfl rfl)
theorem dJ29_checkInvariants_77 : decode cJ29_checkInvariants 77 = .ok (.getfield 7, 3) := dk_180 0 7 (dk_at dksJ29_checkInvariants_3 7 rfl rfl)
theorem dJ29_checkInvariants_80 : decode cJ29_checkInvariants 80 = .ok (.aload_n 0, 1) := dk_42 (dk_at dksJ29_checkInvariants_3 10 rfl rfl)
theorem dJ29_checkInvariants_81 : decode cJ29_checkInvariants 81 = .ok (.getfield 11, 3) := dk_180 0 11 (dk_at dksJ29_checkInvariants_3 11 rfl rfl)
theorem dJ29_checkInvariants_84 : decode cJ29_checkInvariants 84 = .ok (.arraylength, 1) := dk_190 (dk_at dksJ29_checkInvariants_3 14 rfl rfl)
theorem dJ29_checkInvariants_85 : decode cJ29_checkInvariants 85 = .ok (.if_icmp .eq 25, 3) := dk_159 0 25 (dk_at dksJ29_checkInvariants_3 15 rfl rfl)
theorem dJ29_checkInvariants_88 : decode cJ29_checkInvariants 88 = .ok (.aload_n 0, 1) := dk_42 (dk_at dksJ29_checkInvariants_3 18 rfl rfl)
theorem dJ29_checkInvariants_89 : decode cJ29_checkInvariants 89 = .ok (.getfield 11, 3) := dk_180 0 11 (dk_at dksJ29_checkInvariants_3 19 rfl rfl)
theorem dJ29_checkInvariants_92 : decode cJ29_checkInvariants 92 = .ok (.aload_n 0, 1) := dk_42 (dk_at dksJ29_checkInvariants_3 22 rfl rfl)
theorem dJ29_checkInvariants_93 : decode cJ29_checkInvariants 93 = .ok (.getfield 7, 3) := dk_180 0 7 (dk_at dksJ29_checkInvariants_4 0 rfl rfl)
theorem dJ29_checkInvariants_96 : decode cJ29_checkInvariants 96 = .ok (.laload, 1) := dk_47 (dk_at dksJ29_checkInvariants_4 3 rfl rfl)
theorem dJ29_checkInvariants_97 : decode cJ29_checkInvariants 97 = .ok (.lconst 0, 1) := dk_9 (dk_at dksJ29_checkInvariants_4 4 rfl rfl)
theorem dJ29_checkInvariants_98 : decode cJ29_checkInvariants 98 = .ok (.lcmp, 1) := dk_148 (dk_at dksJ29_checkInvariants_4 5 rfl rfl)
theorem dJ29_checkInvariants_99 : decode cJ29_checkInvariants 99 = .ok (.ifCond .eq 11, 3) := dk_153 0 11 (dk_at dksJ29_checkInvariants_4 6 rfl rfl)
theorem dJ29_checkInvariants_102 : decode cJ29_checkInvariants 102 = .ok (.new 15, 3) := dk_187 0 15 (dk_at dksJ29_checkInvariants_4 9 rfl rfl)
theorem dJ29_checkInvariants_105 : decode cJ29_checkInvariants 105 = .ok (.dup, 1) := dk_89 (dk_at dksJ29_checkInvariants_4 12 rfl rfl)
theorem dJ29_checkInvariants_106 : decode cJ29_checkInvariants 106 = .ok (.invokespecial 17, 3) := dk_183 0 17 (dk_at dksJ29_checkInvariants_4 13 rfl rfl)
theorem dJ29_checkInvariants_109 : decode cJ29_checkInvariants 109 = .ok (.athrow, 1) := dk_191 (dk_at dksJ29_checkInvariants_4 16 rfl rfl)
theorem dJ29_checkInvariants_110 : decode cJ29_checkInvariants 110 = .ok (.return_, 1) := dk_177 (dk_at dksJ29_checkInvariants_4 17 rfl rfl)
abbrev cJ29_set : ByteArray := prog_44_method_19_code
def yJ29_set : MethodName := ⟨RJ29, "set", "(I)V"⟩
def dkwJ29_set_2 : List UInt8 := [10, 27, 121, 129, 80, 42, 182, 0, 56, 177]
abbrev dktJ29_set_2 : List UInt8 := dkwJ29_set_2 ++ []
def dkwJ29_set_1 : List UInt8 := [182, 0, 45, 183, 0, 146, 191, 27, 184, 0, 52, 61, 42, 28, 182, 0, 155, 42, 180, 0, 11, 28, 92, 47]
abbrev dktJ29_set_1 : List UInt8 := dkwJ29_set_1 ++ dktJ29_set_2
def dkwJ29_set_0 : List UInt8 := [27, 156, 0, 30, 187, 0, 142, 89, 187, 0, 33, 89, 183, 0, 35, 18, 153, 182, 0, 38, 27, 182, 0, 42]
abbrev dktJ29_set_0 : List UInt8 := dkwJ29_set_0 ++ dktJ29_set_1
theorem dksJ29_set_0 : cJ29_set.data.toList.drop 0 = dktJ29_set_0 := by decide +kernel
theorem dksJ29_set_1 : cJ29_set.data.toList.drop 24 = dktJ29_set_1 := dk_seg dksJ29_set_0 24 rfl rfl
theorem dksJ29_set_2 : cJ29_set.data.toList.drop 48 = dktJ29_set_2 := dk_seg dksJ29_set_1 24 rfl rfl
theorem dJ29_set_0 : decode cJ29_set 0 = .ok (.iload_n 1, 1) := dk_27 (dk_at dksJ29_set_0 0 rfl rfl)
theorem dJ29_set_1 : decode cJ29_set 1 = .ok (.ifCond .ge 30, 3) := dk_156 0 30 (dk_at dksJ29_set_0 1 rfl rfl)
theorem dJ29_set_4 : decode cJ29_set 4 = .ok (.new 142, 3) := dk_187 0 142 (dk_at dksJ29_set_0 4 rfl rfl)
theorem dJ29_set_7 : decode cJ29_set 7 = .ok (.dup, 1) := dk_89 (dk_at dksJ29_set_0 7 rfl rfl)
theorem dJ29_set_8 : decode cJ29_set 8 = .ok (.new 33, 3) := dk_187 0 33 (dk_at dksJ29_set_0 8 rfl rfl)
theorem dJ29_set_11 : decode cJ29_set 11 = .ok (.dup, 1) := dk_89 (dk_at dksJ29_set_0 11 rfl rfl)
theorem dJ29_set_12 : decode cJ29_set 12 = .ok (.invokespecial 35, 3) := dk_183 0 35 (dk_at dksJ29_set_0 12 rfl rfl)
theorem dJ29_set_15 : decode cJ29_set 15 = .ok (.ldc 153, 2) := dk_18 153 (dk_at dksJ29_set_0 15 rfl rfl)
theorem dJ29_set_17 : decode cJ29_set 17 = .ok (.invokevirtual 38, 3) := dk_182 0 38 (dk_at dksJ29_set_0 17 rfl rfl)
theorem dJ29_set_20 : decode cJ29_set 20 = .ok (.iload_n 1, 1) := dk_27 (dk_at dksJ29_set_0 20 rfl rfl)
theorem dJ29_set_21 : decode cJ29_set 21 = .ok (.invokevirtual 42, 3) := dk_182 0 42 (dk_at dksJ29_set_0 21 rfl rfl)
theorem dJ29_set_24 : decode cJ29_set 24 = .ok (.invokevirtual 45, 3) := dk_182 0 45 (dk_at dksJ29_set_1 0 rfl rfl)
theorem dJ29_set_27 : decode cJ29_set 27 = .ok (.invokespecial 146, 3) := dk_183 0 146 (dk_at dksJ29_set_1 3 rfl rfl)
theorem dJ29_set_30 : decode cJ29_set 30 = .ok (.athrow, 1) := dk_191 (dk_at dksJ29_set_1 6 rfl rfl)
theorem dJ29_set_31 : decode cJ29_set 31 = .ok (.iload_n 1, 1) := dk_27 (dk_at dksJ29_set_1 7 rfl rfl)
theorem dJ29_set_32 : decode cJ29_set 32 = .ok (.invokestatic 52, 3) := dk_184 0 52 (dk_at dksJ29_set_1 8 rfl rfl)
theorem dJ29_set_35 : decode cJ29_set 35 = .ok (.istore_n 2, 1) := dk_61 (dk_at dksJ29_set_1 11 rfl rfl)
theorem dJ29_set_36 : decode cJ29_set 36 = .ok (.aload_n 0, 1) := dk_42 (dk_at dksJ29_set_1 12 rfl rfl)
theorem dJ29_set_37 : decode cJ29_set 37 = .ok (.iload_n 2, 1) := dk_28 (dk_at dksJ29_set_1 13 rfl rfl)
theorem dJ29_set_38 : decode cJ29_set 38 = .ok (.invokevirtual 155, 3) := dk_182 0 155 (dk_at dksJ29_set_1 14 rfl rfl)
theorem dJ29_set_41 : decode cJ29_set 41 = .ok (.aload_n 0, 1) := dk_42 (dk_at dksJ29_set_1 17 rfl rfl)
theorem dJ29_set_42 : decode cJ29_set 42 = .ok (.getfield 11, 3) := dk_180 0 11 (dk_at dksJ29_set_1 18 rfl rfl)
theorem dJ29_set_45 : decode cJ29_set 45 = .ok (.iload_n 2, 1) := dk_28 (dk_at dksJ29_set_1 21 rfl rfl)
theorem dJ29_set_46 : decode cJ29_set 46 = .ok (.dup2, 1) := dk_92 (dk_at dksJ29_set_1 22 rfl rfl)
theorem dJ29_set_47 : decode cJ29_set 47 = .ok (.laload, 1) := dk_47 (dk_at dksJ29_set_1 23 rfl rfl)
theorem dJ29_set_48 : decode cJ29_set 48 = .ok (.lconst 1, 1) := dk_10 (dk_at dksJ29_set_2 0 rfl rfl)
theorem dJ29_set_49 : decode cJ29_set 49 = .ok (.iload_n 1, 1) := dk_27 (dk_at dksJ29_set_2 1 rfl rfl)
theorem dJ29_set_50 : decode cJ29_set 50 = .ok (.lshl, 1) := dk_121 (dk_at dksJ29_set_2 2 rfl rfl)
theorem dJ29_set_51 : decode cJ29_set 51 = .ok (.lor, 1) := dk_129 (dk_at dksJ29_set_2 3 rfl rfl)
theorem dJ29_set_52 : decode cJ29_set 52 = .ok (.lastore, 1) := dk_80 (dk_at dksJ29_set_2 4 rfl rfl)
theorem dJ29_set_53 : decode cJ29_set 53 = .ok (.aload_n 0, 1) := dk_42 (dk_at dksJ29_set_2 5 rfl rfl)
theorem dJ29_set_54 : decode cJ29_set 54 = .ok (.invokevirtual 56, 3) := dk_182 0 56 (dk_at dksJ29_set_2 6 rfl rfl)
theorem dJ29_set_57 : decode cJ29_set 57 = .ok (.return_, 1) := dk_177 (dk_at dksJ29_set_2 9 rfl rfl)
abbrev cJ29_expandTo : ByteArray := prog_44_method_15_code
def yJ29_expandTo : MethodName := ⟨RJ29, "expandTo", "(I)V"⟩
def dkwJ29_expandTo_0 : List UInt8 := [27, 4, 96, 61, 42, 180, 0, 7, 28, 162, 0, 13, 42, 28, 182, 0, 139, 42, 28, 181, 0, 7, 177]
abbrev dktJ29_expandTo_0 : List UInt8 := dkwJ29_expandTo_0 ++ []
theorem dksJ29_expandTo_0 : cJ29_expandTo.data.toList.drop 0 = dktJ29_expandTo_0 := by decide +kernel
theorem dJ29_expandTo_0 : decode cJ29_expandTo 0 = .ok (.iload_n 1, 1) := dk_27 (dk_at dksJ29_expandTo_0 0 rfl rfl)
theorem dJ29_expandTo_1 : decode cJ29_expandTo 1 = .ok (.iconst 1, 1) := dk_4 (dk_at dksJ29_expandTo_0 1 rfl rfl)
theorem dJ29_expandTo_2 : decode cJ29_expandTo 2 = .ok (.iadd, 1) := dk_96 (dk_at dksJ29_expandTo_0 2 rfl rfl)
theorem dJ29_expandTo_3 : decode cJ29_expandTo 3 = .ok (.istore_n 2, 1) := dk_61 (dk_at dksJ29_expandTo_0 3 rfl rfl)
theorem dJ29_expandTo_4 : decode cJ29_expandTo 4 = .ok (.aload_n 0, 1) := dk_42 (dk_at dksJ29_expandTo_0 4 rfl rfl)
theorem dJ29_expandTo_5 : decode cJ29_expandTo 5 = .ok (.getfield 7, 3) := dk_180 0 7 (dk_at dksJ29_expandTo_0 5 rfl rfl)
theorem dJ29_expandTo_8 : decode cJ29_expandTo 8 = .ok (.iload_n 2, 1) := dk_28 (dk_at dksJ29_expandTo_0 8 rfl rfl)
theorem dJ29_expandTo_9 : decode cJ29_expandTo 9 = .ok (.if_icmp .ge 13, 3) := dk_162 0 13 (dk_at dksJ29_expandTo_0 9 rfl rfl)
theorem dJ29_expandTo_12 : decode cJ29_expandTo 12 = .ok (.aload_n 0, 1) := dk_42 (dk_at dksJ29_expandTo_0 12 rfl rfl)
theorem dJ29_expandTo_13 : decode cJ29_expandTo 13 = .ok (.iload_n 2, 1) := dk_28 (dk_at dksJ29_expandTo_0 13 rfl rfl)
theorem dJ29_expandTo_14 : decode cJ29_expandTo 14 = .ok (.invokevirtual 139, 3) := dk_182 0 139 (dk_at dksJ29_expandTo_0 14 rfl rfl)
theorem dJ29_expandTo_17 : decode cJ29_expandTo 17 = .ok (.aload_n 0, 1) := dk_42 (dk_at dksJ29_expandTo_0 17 rfl rfl)
theorem dJ29_expandTo_18 : decode cJ29_expandTo 18 = .ok (.iload_n 2, 1) := dk_28 (dk_at dksJ29_expandTo_0 18 rfl rfl)
theorem dJ29_expandTo_19 : decode cJ29_expandTo 19 = .ok (.putfield 7, 3) := dk_181 0 7 (dk_at dksJ29_expandTo_0 19 rfl rfl)
theorem dJ29_expandTo_22 : decode cJ29_expandTo 22 = .ok (.return_, 1) := dk_177 (dk_at dksJ29_expandTo_0 22 rfl rfl)
abbrev cJ29_ensureCapacity : ByteArray := prog_44_method_14_code
def yJ29_ensureCapacity : MethodName := ⟨RJ29, "ensureCapacity", "(I)V"⟩
def dkwJ29_ensureCapacity_1 : List UInt8 := [180, 0, 11, 28, 184, 0, 59, 181, 0, 11, 42, 3, 181, 0, 24, 177]
abbrev dktJ29_ensureCapacity_1 : List UInt8 := dkwJ29_ensureCapacity_1 ++ []
def dkwJ29_ensureCapacity_0 : List UInt8 := [42, 180, 0, 11, 190, 27, 162, 0, 32, 5, 42, 180, 0, 11, 190, 104, 27, 184, 0, 133, 61, 42, 42]
abbrev dktJ29_ensureCapacity_0 : List UInt8 := dkwJ29_ensureCapacity_0 ++ dktJ29_ensureCapacity_1
theorem dksJ29_ensureCapacity_0 : cJ29_ensureCapacity.data.toList.drop 0 = dktJ29_ensureCapacity_0 := by decide +kernel
theorem dksJ29_ensureCapacity_1 : cJ29_ensureCapacity.data.toList.drop 23 = dktJ29_ensureCapacity_1 := dk_seg dksJ29_ensureCapacity_0 23 rfl rfl
theorem dJ29_ensureCapacity_0 : decode cJ29_ensureCapacity 0 = .ok (.aload_n 0, 1) := dk_42 (dk_at dksJ29_ensureCapacity_0 0 rfl rfl)
theorem dJ29_ensureCapacity_1 : decode cJ29_ensureCapacity 1 = .ok (.getfield 11, 3) := dk_180 0 11 (dk_at dksJ29_ensureCapacity_0 1 rfl rfl)
theorem dJ29_ensureCapacity_4 : decode cJ29_ensureCapacity 4 = .ok (.arraylength, 1) := dk_190 (dk_at dksJ29_ensureCapacity_0 4 rfl rfl)
theorem dJ29_ensureCapacity_5 : decode cJ29_ensureCapacity 5 = .ok (.iload_n 1, 1) := dk_27 (dk_at dksJ29_ensureCapacity_0 5 rfl rfl)
theorem dJ29_ensureCapacity_6 : decode cJ29_ensureCapacity 6 = .ok (.if_icmp .ge 32, 3) := dk_162 0 32 (dk_at dksJ29_ensureCapacity_0 6 rfl rfl)
theorem dJ29_ensureCapacity_9 : decode cJ29_ensureCapacity 9 = .ok (.iconst 2, 1) := dk_5 (dk_at dksJ29_ensureCapacity_0 9 rfl rfl)
theorem dJ29_ensureCapacity_10 : decode cJ29_ensureCapacity 10 = .ok (.aload_n 0, 1) := dk_42 (dk_at dksJ29_ensureCapacity_0 10 rfl rfl)
theorem dJ29_ensureCapacity_11 : decode cJ29_ensureCapacity 11 = .ok (.getfield 11, 3) := dk_180 0 11 (dk_at dksJ29_ensureCapacity_0 11 rfl rfl)
theorem dJ29_ensureCapacity_14 : decode cJ29_ensureCapacity 14 = .ok (.arraylength, 1) := dk_190 (dk_at dksJ29_ensureCapacity_0 14 rfl rfl)
theorem dJ29_ensureCapacity_15 : decode cJ29_ensureCapacity 15 = .ok (.imul, 1) := dk_104 (dk_at dksJ29_ensureCapacity_0 15 rfl rfl)
theorem dJ29_ensureCapacity_16 : decode cJ29_ensureCapacity 16 = .ok (.iload_n 1, 1) := dk_27 (dk_at dksJ29_ensureCapacity_0 16 rfl rfl)
theorem dJ29_ensureCapacity_17 : decode cJ29_ensureCapacity 17 = .ok (.invokestatic 133, 3) := dk_184 0 133 (dk_at dksJ29_ensureCapacity_0 17 rfl rfl)
theorem dJ29_ensureCapacity_20 : decode cJ29_ensureCapacity 20 = .ok (.istore_n 2, 1) := dk_61 (dk_at dksJ29_ensureCapacity_0 20 rfl rfl)
theorem dJ29_ensureCapacity_21 : decode cJ29_ensureCapacity 21 = .ok (.aload_n 0, 1) := dk_42 (dk_at dksJ29_ensureCapacity_0 21 rfl rfl)
theorem dJ29_ensureCapacity_22 : decode cJ29_ensureCapacity 22 = .ok (.aload_n 0, 1) := dk_42 (dk_at dksJ29_ensureCapacity_0 22 rfl rfl)
theorem dJ29_ensureCapacity_23 : decode cJ29_ensureCapacity 23 = .ok (.getfield 11, 3) := dk_180 0 11 (dk_at dksJ29_ensureCapacity_1 0 rfl rfl)
theorem dJ29_ensureCapacity_26 : decode cJ29_ensureCapacity 26 = .ok (.iload_n 2, 1) := dk_28 (dk_at dksJ29_ensureCapacity_1 3 rfl rfl)
theorem dJ29_ensureCapacity_27 : decode cJ29_ensureCapacity 27 = .ok (.invokestatic 59, 3) := dk_184 0 59 (dk_at dksJ29_ensureCapacity_1 4 rfl rfl)
theorem dJ29_ensureCapacity_30 : decode cJ29_ensureCapacity 30 = .ok (.putfield 11, 3) := dk_181 0 11 (dk_at dksJ29_ensureCapacity_1 7 rfl rfl)
theorem dJ29_ensureCapacity_33 : decode cJ29_ensureCapacity 33 = .ok (.aload_n 0, 1) := dk_42 (dk_at dksJ29_ensureCapacity_1 10 rfl rfl)
theorem dJ29_ensureCapacity_34 : decode cJ29_ensureCapacity 34 = .ok (.iconst 0, 1) := dk_3 (dk_at dksJ29_ensureCapacity_1 11 rfl rfl)
theorem dJ29_ensureCapacity_35 : decode cJ29_ensureCapacity 35 = .ok (.putfield 24, 3) := dk_181 0 24 (dk_at dksJ29_ensureCapacity_1 12 rfl rfl)
theorem dJ29_ensureCapacity_38 : decode cJ29_ensureCapacity 38 = .ok (.return_, 1) := dk_177 (dk_at dksJ29_ensureCapacity_1 15 rfl rfl)
abbrev cJ29_nextSetBit : ByteArray := prog_44_method_28_code
def yJ29_nextSetBit : MethodName := ⟨RJ29, "nextSetBit", "(I)I"⟩
def dkwJ29_nextSetBit_4 : List UInt8 := [28, 47, 66, 167, 255, 220]
abbrev dktJ29_nextSetBit_4 : List UInt8 := dkwJ29_nextSetBit_4 ++ []
def dkwJ29_nextSetBit_3 : List UInt8 := [104, 33, 184, 0, 182, 96, 172, 132, 2, 1, 28, 42, 180, 0, 7, 160, 0, 5, 2, 172, 42, 180, 0, 11]
abbrev dktJ29_nextSetBit_3 : List UInt8 := dkwJ29_nextSetBit_3 ++ dktJ29_nextSetBit_4
def dkwJ29_nextSetBit_2 : List UInt8 := [2, 172, 42, 180, 0, 11, 28, 47, 20, 0, 165, 27, 121, 127, 66, 33, 9, 148, 153, 0, 13, 28, 16, 64]
abbrev dktJ29_nextSetBit_2 : List UInt8 := dkwJ29_nextSetBit_2 ++ dktJ29_nextSetBit_3
def dkwJ29_nextSetBit_1 : List UInt8 := [182, 0, 45, 183, 0, 146, 191, 42, 182, 0, 56, 27, 184, 0, 52, 61, 28, 42, 180, 0, 7, 161, 0, 5]
abbrev dktJ29_nextSetBit_1 : List UInt8 := dkwJ29_nextSetBit_1 ++ dktJ29_nextSetBit_2
def dkwJ29_nextSetBit_0 : List UInt8 := [27, 156, 0, 30, 187, 0, 142, 89, 187, 0, 33, 89, 183, 0, 35, 18, 144, 182, 0, 38, 27, 182, 0, 42]
abbrev dktJ29_nextSetBit_0 : List UInt8 := dkwJ29_nextSetBit_0 ++ dktJ29_nextSetBit_1
theorem dksJ29_nextSetBit_0 : cJ29_nextSetBit.data.toList.drop 0 = dktJ29_nextSetBit_0 := by decide +kernel
theorem dksJ29_nextSetBit_1 : cJ29_nextSetBit.data.toList.drop 24 = dktJ29_nextSetBit_1 := dk_seg dksJ29_nextSetBit_0 24 rfl rfl
theorem dksJ29_nextSetBit_2 : cJ29_nextSetBit.data.toList.drop 48 = dktJ29_nextSetBit_2 := dk_seg dksJ29_nextSetBit_1 24 rfl rfl
theorem dksJ29_nextSetBit_3 : cJ29_nextSetBit.data.toList.drop 72 = dktJ29_nextSetBit_3 := dk_seg dksJ29_nextSetBit_2 24 rfl rfl
theorem dksJ29_nextSetBit_4 : cJ29_nextSetBit.data.toList.drop 96 = dktJ29_nextSetBit_4 := dk_seg dksJ29_nextSetBit_3 24 rfl rfl
theorem dJ29_nextSetBit_0 : decode cJ29_nextSetBit 0 = .ok (.iload_n 1, 1) := dk_27 (dk_at dksJ29_nextSetBit_0 0 rfl rfl)
theorem dJ29_nextSetBit_1 : decode cJ29_nextSetBit 1 = .ok (.ifCond .ge 30, 3) := dk_156 0 30 (dk_at dksJ29_nextSetBit_0 1 rfl rfl)
theorem dJ29_nextSetBit_4 : decode cJ29_nextSetBit 4 = .ok (.new 142, 3) := dk_187 0 142 (dk_at dksJ29_nextSetBit_0 4 rfl rfl)
theorem dJ29_nextSetBit_7 : decode cJ29_nextSetBit 7 = .ok (.dup, 1) := dk_89 (dk_at dksJ29_nextSetBit_0 7 rfl rfl)
theorem dJ29_nextSetBit_8 : decode cJ29_nextSetBit 8 = .ok (.new 33, 3) := dk_187 0 33 (dk_at dksJ29_nextSetBit_0 8 rfl rfl)
theorem dJ29_nextSetBit_11 : decode cJ29_nextSetBit 11 = .ok (.dup, 1) := dk_89 (dk_at dksJ29_nextSetBit_0 11 rfl rfl)
theorem dJ29_nextSetBit_12 : decode cJ29_nextSetBit 12 = .ok (.invokespecial 35, 3) := dk_183 0 35 (dk_at dksJ29_nextSetBit_0 12 rfl rfl)
theorem dJ29_nextSetBit_15 : decode cJ29_nextSetBit 15 = .ok (.ldc 144, 2) := dk_18 144 (dk_at dksJ29_nextSetBit_0 15 rfl rfl)
theorem dJ29_nextSetBit_17 : decode cJ29_nextSetBit 17 = .ok (.invokevirtual 38, 3) := dk_182 0 38 (dk_at dksJ29_nextSetBit_0 17 rfl rfl)
theorem dJ29_nextSetBit_20 : decode cJ29_nextSetBit 20 = .ok (.iload_n 1, 1) := dk_27 (dk_at dksJ29_nextSetBit_0 20 rfl rfl)
theorem dJ29_nextSetBit_21 : decode cJ29_nextSetBit 21 = .ok (.invokevirtual 42, 3) := dk_182 0 42 (dk_at dksJ29_nextSetBit_0 21 rfl rfl)
theorem dJ29_nextSetBit_24 : decode cJ29_nextSetBit 24 = .ok (.invokevirtual 45, 3) := dk_182 0 45 (dk_at dksJ29_nextSetBit_1 0 rfl rfl)
theorem dJ29_nextSetBit_27 : decode cJ29_nextSetBit 27 = .ok (.invokespecial 146, 3) := dk_183 0 146 (dk_at dksJ29_nextSetBit_1 3 rfl rfl)
theorem dJ29_nextSetBit_30 : decode cJ29_nextSetBit 30 = .ok (.athrow, 1) := dk_191 (dk_at dksJ29_nextSetBit_1 6 rfl rfl)
theorem dJ29_nextSetBit_31 : decode cJ29_nextSetBit 31 = .ok (.aload_n 0, 1) := dk_42 (dk_at dksJ29_nextSetBit_1 7 rfl rfl)
theorem dJ29_nextSetBit_32 : decode cJ29_nextSetBit 32 = .ok (.invokevirtual 56, 3) := dk_182 0 56 (dk_at dksJ29_nextSetBit_1 8 rfl rfl)
theorem dJ29_nextSetBit_35 : decode cJ29_nextSetBit 35 = .ok (.iload_n 1, 1) := dk_27 (dk_at dksJ29_nextSetBit_1 11 rfl rfl)
theorem dJ29_nextSetBit_36 : decode cJ29_nextSetBit 36 = .ok (.invokestatic 52, 3) := dk_184 0 52 (dk_at dksJ29_nextSetBit_1 12 rfl rfl)
theorem dJ29_nextSetBit_39 : decode cJ29_nextSetBit 39 = .ok (.istore_n 2, 1) := dk_61 (dk_at dksJ29_nextSetBit_1 15 rfl rfl)
theorem dJ29_nextSetBit_40 : decode cJ29_nextSetBit 40 = .ok (.iload_n 2, 1) := dk_28 (dk_at dksJ29_nextSetBit_1 16 rfl rfl)
theorem dJ29_nextSetBit_41 : decode cJ29_nextSetBit 41 = .ok (.aload_n 0, 1) := dk_42 (dk_at dksJ29_nextSetBit_1 17 rfl rfl)
theorem dJ29_nextSetBit_42 : decode cJ29_nextSetBit 42 = .ok (.getfield 7, 3) := dk_180 0 7 (dk_at dksJ29_nextSetBit_1 18 rfl rfl)
theorem dJ29_nextSetBit_45 : decode cJ29_nextSetBit 45 = .ok (.if_icmp .lt 5, 3) := dk_161 0 5 (dk_at dksJ29_nextSetBit_1 21 rfl rfl)
theorem dJ29_nextSetBit_48 : decode cJ29_nextSetBit 48 = .ok (.iconst (-1), 1) := dk_2 (dk_at dksJ29_nextSetBit_2 0 rfl rfl)
theorem dJ29_nextSetBit_49 : decode cJ29_nextSetBit 49 = .ok (.ireturn, 1) := dk_172 (dk_at dksJ29_nextSetBit_2 1 rfl rfl)
theorem dJ29_nextSetBit_50 : decode cJ29_nextSetBit 50 = .ok (.aload_n 0, 1) := dk_42 (dk_at dksJ29_nextSetBit_2 2 rfl rfl)
theorem dJ29_nextSetBit_51 : decode cJ29_nextSetBit 51 = .ok (.getfield 11, 3) := dk_180 0 11 (dk_at dksJ29_nextSetBit_2 3 rfl rfl)
theorem dJ29_nextSetBit_54 : decode cJ29_nextSetBit 54 = .ok (.iload_n 2, 1) := dk_28 (dk_at dksJ29_nextSetBit_2 6 rfl rfl)
theorem dJ29_nextSetBit_55 : decode cJ29_nextSetBit 55 = .ok (.laload, 1) := dk_47 (dk_at dksJ29_nextSetBit_2 7 rfl rfl)
theorem dJ29_nextSetBit_56 : decode cJ29_nextSetBit 56 = .ok (.ldc2_w 165, 3) := dk_20 0 165 (dk_at dksJ29_nextSetBit_2 8 rfl rfl)
theorem dJ29_nextSetBit_59 : decode cJ29_nextSetBit 59 = .ok (.iload_n 1, 1) := dk_27 (dk_at dksJ29_nextSetBit_2 11 rfl rfl)
theorem dJ29_nextSetBit_60 : decode cJ29_nextSetBit 60 = .ok (.lshl, 1) := dk_121 (dk_at dksJ29_nextSetBit_2 12 rfl rfl)
theorem dJ29_nextSetBit_61 : decode cJ29_nextSetBit 61 = .ok (.land, 1) := dk_127 (dk_at dksJ29_nextSetBit_2 13 rfl rfl)
theorem dJ29_nextSetBit_62 : decode cJ29_nextSetBit 62 = .ok (.lstore_n 3, 1) := dk_66 (dk_at dksJ29_nextSetBit_2 14 rfl rfl)
theorem dJ29_nextSetBit_63 : decode cJ29_nextSetBit 63 = .ok (.lload_n 3, 1) := dk_33 (dk_at dksJ29_nextSetBit_2 15 rfl rfl)
theorem dJ29_nextSetBit_64 : decode cJ29_nextSetBit 64 = .ok (.lconst 0, 1) := dk_9 (dk_at dksJ29_nextSetBit_2 16 rfl rfl)
theorem dJ29_nextSetBit_65 : decode cJ29_nextSetBit 65 = .ok (.lcmp, 1) := dk_148 (dk_at dksJ29_nextSetBit_2 17 rfl rfl)
theorem dJ29_nextSetBit_66 : decode cJ29_nextSetBit 66 = .ok (.ifCond .eq 13, 3) := dk_153 0 13 (dk_at dksJ29_nextSetBit_2 18 rfl rfl)
theorem dJ29_nextSetBit_69 : decode cJ29_nextSetBit 69 = .ok (.iload_n 2, 1) := dk_28 (dk_at dksJ29_nextSetBit_2 21 rfl rfl)
theorem dJ29_nextSetBit_70 : decode cJ29_nextSetBit 70 = .ok (.bipush 64, 2) := dk_16 64 (dk_at dksJ29_nextSetBit_2 22 rfl rfl)
theorem dJ29_nextSetBit_72 : decode cJ29_nextSetBit 72 = .ok (.imul, 1) := dk_104 (dk_at dksJ29_nextSetBit_3 0 rfl rfl)
theorem dJ29_nextSetBit_73 : decode cJ29_nextSetBit 73 = .ok (.lload_n 3, 1) := dk_33 (dk_at dksJ29_nextSetBit_3 1 rfl rfl)
theorem dJ29_nextSetBit_74 : decode cJ29_nextSetBit 74 = .ok (.invokestatic 182, 3) := dk_184 0 182 (dk_at dksJ29_nextSetBit_3 2 rfl rfl)
theorem dJ29_nextSetBit_77 : decode cJ29_nextSetBit 77 = .ok (.iadd, 1) := dk_96 (dk_at dksJ29_nextSetBit_3 5 rfl rfl)
theorem dJ29_nextSetBit_78 : decode cJ29_nextSetBit 78 = .ok (.ireturn, 1) := dk_172 (dk_at dksJ29_nextSetBit_3 6 rfl rfl)
theorem dJ29_nextSetBit_79 : decode cJ29_nextSetBit 79 = .ok (.iinc 2 1, 3) := dk_132 2 1 (dk_at dksJ29_nextSetBit_3 7 rfl rfl)
theorem dJ29_nextSetBit_82 : decode cJ29_nextSetBit 82 = .ok (.iload_n 2, 1) := dk_28 (dk_at dksJ29_nextSetBit_3 10 rfl rfl)
theorem dJ29_nextSetBit_83 : decode cJ29_nextSetBit 83 = .ok (.aload_n 0, 1) := dk_42 (dk_at dksJ29_nextSetBit_3 11 rfl rfl)
theorem dJ29_nextSetBit_84 : decode cJ29_nextSetBit 84 = .ok (.getfield 7, 3) := dk_180 0 7 (dk_at dksJ29_nextSetBit_3 12 rfl rfl)
theorem dJ29_nextSetBit_87 : decode cJ29_nextSetBit 87 = .ok (.if_icmp .ne 5, 3) := dk_160 0 5 (dk_at dksJ29_nextSetBit_3 15 rfl rfl)
theorem dJ29_nextSetBit_90 : decode cJ29_nextSetBit 90 = .ok (.iconst (-1), 1) := dk_2 (dk_at dksJ29_nextSetBit_3 18 rfl rfl)
theorem dJ29_nextSetBit_91 : decode cJ29_nextSetBit 91 = .ok (.ireturn, 1) := dk_172 (dk_at dksJ29_nextSetBit_3 19 rfl rfl)
theorem dJ29_nextSetBit_92 : decode cJ29_nextSetBit 92 = .ok (.aload_n 0, 1) := dk_42 (dk_at dksJ29_nextSetBit_3 20 rfl rfl)
theorem dJ29_nextSetBit_93 : decode cJ29_nextSetBit 93 = .ok (.getfield 11, 3) := dk_180 0 11 (dk_at dksJ29_nextSetBit_3 21 rfl rfl)
theorem dJ29_nextSetBit_96 : decode cJ29_nextSetBit 96 = .ok (.iload_n 2, 1) := dk_28 (dk_at dksJ29_nextSetBit_4 0 rfl rfl)
theorem dJ29_nextSetBit_97 : decode cJ29_nextSetBit 97 = .ok (.laload, 1) := dk_47 (dk_at dksJ29_nextSetBit_4 1 rfl rfl)
theorem dJ29_nextSetBit_98 : decode cJ29_nextSetBit 98 = .ok (.lstore_n 3, 1) := dk_66 (dk_at dksJ29_nextSetBit_4 2 rfl rfl)
theorem dJ29_nextSetBit_99 : decode cJ29_nextSetBit 99 = .ok (.goto (-36), 3) := dk_167 255 220 (dk_at dksJ29_nextSetBit_4 3 rfl rfl)
theorem q112 : (Jvm.Cond.initialized "java/util/BitSet") ∈ lw_all := lw_g (lw_at lw_m1 38 rfl) rfl
theorem q550 : (Jvm.Cond.selects "java/util/BitSet" ({ cls := "java/lang/Object", name := "getClass", desc := "()Ljava/lang/Class;" } : Jvm.MethodName) ({ cls := "java/lang/Object", name := "getClass", desc := "()Ljava/lang/Class;" } : Jvm.MethodName)) ∈ lw_all := lw_g (lw_at lw_m2 236 rfl) rfl
theorem q1348 : (Jvm.Cond.instantiable "java/util/BitSet" (3 : Nat)) ∈ lw_all := lw_g (lw_at lw_m6 74 rfl) rfl
theorem q1350 : (Jvm.Cond.instanceMethod ({ cls := "java/util/BitSet", name := "<init>", desc := "()V" } : Jvm.MethodName)) ∈ lw_all := lw_g (lw_at lw_m6 76 rfl) rfl
theorem q1351 : (Jvm.Cond.code ({ cls := "java/util/BitSet", name := "<init>", desc := "()V" } : Jvm.MethodName) prog_44_method_4_code (1 : Nat) (Option.none : Option Jvm.ClassFile.FieldType)) ∈ lw_all := lw_g (lw_at lw_m6 77 rfl) rfl
theorem q1352 : (Jvm.Cond.methodLink "java/util/BitSet" (21 : Nat) ({ cls := "java/lang/Object", name := "<init>", desc := "()V" } : Jvm.MethodName)) ∈ lw_all := lw_g (lw_at lw_m6 78 rfl) rfl
theorem q1353 : (Jvm.Cond.methodLink "java/util/BitSet" (27 : Nat) ({ cls := "java/util/BitSet", name := "initWords", desc := "(I)V" } : Jvm.MethodName)) ∈ lw_all := lw_g (lw_at lw_m6 79 rfl) rfl
theorem q1354 : (Jvm.Cond.privateMethod ({ cls := "java/util/BitSet", name := "initWords", desc := "(I)V" } : Jvm.MethodName)) ∈ lw_tbl := lw_at lw_m6 80 rfl
theorem q1355 : (Jvm.Cond.instanceMethod ({ cls := "java/util/BitSet", name := "initWords", desc := "(I)V" } : Jvm.MethodName)) ∈ lw_all := lw_g (lw_at lw_m6 81 rfl) rfl
theorem q1356 : (Jvm.Cond.code ({ cls := "java/util/BitSet", name := "initWords", desc := "(I)V" } : Jvm.MethodName) prog_44_method_6_code (2 : Nat) (Option.none : Option Jvm.ClassFile.FieldType)) ∈ lw_all := lw_g (lw_at lw_m6 82 rfl) rfl
theorem q1357 : (Jvm.Cond.methodLink "java/util/BitSet" (52 : Nat) ({ cls := "java/util/BitSet", name := "wordIndex", desc := "(I)I" } : Jvm.MethodName)) ∈ lw_all := lw_g (lw_at lw_m6 83 rfl) rfl
theorem q1358 : (Jvm.Cond.static ({ cls := "java/util/BitSet", name := "wordIndex", desc := "(I)I" } : Jvm.MethodName)) ∈ lw_all := lw_g (lw_at lw_m6 84 rfl) rfl
theorem q1359 : (Jvm.Cond.code ({ cls := "java/util/BitSet", name := "wordIndex", desc := "(I)I" } : Jvm.MethodName) prog_44_method_1_code (1 : Nat) (Option.some Jvm.ClassFile.FieldType.int)) ∈ lw_all := lw_g (lw_at lw_m6 85 rfl) rfl
theorem q1360 : (Jvm.Cond.fieldLink "java/util/BitSet" (11 : Nat) "java/util/BitSet" "words" "[J") ∈ lw_all := lw_g (lw_at lw_m6 86 rfl) rfl
theorem q1361 : (Jvm.Cond.fieldLink "java/util/BitSet" (7 : Nat) "java/util/BitSet" "wordsInUse" "I") ∈ lw_all := lw_g (lw_at lw_m6 87 rfl) rfl
theorem q1362 : (Jvm.Cond.fieldLink "java/util/BitSet" (24 : Nat) "java/util/BitSet" "sizeIsSticky" "Z") ∈ lw_all := lw_g (lw_at lw_m6 88 rfl) rfl
theorem q1363 : (Jvm.Cond.lays "java/util/BitSet" "java/util/BitSet" "words" "[J") ∈ lw_all := lw_g (lw_at lw_m6 89 rfl) rfl
theorem q1364 : (Jvm.Cond.soleField "java/util/BitSet" "words") ∈ lw_all := lw_g (lw_at lw_m6 90 rfl) rfl
theorem q1365 : (Jvm.Cond.lays "java/util/BitSet" "java/util/BitSet" "wordsInUse" "I") ∈ lw_all := lw_g (lw_at lw_m6 91 rfl) rfl
theorem q1366 : (Jvm.Cond.soleField "java/util/BitSet" "wordsInUse") ∈ lw_all := lw_g (lw_at lw_m6 92 rfl) rfl
theorem q1367 : (Jvm.Cond.lays "java/util/BitSet" "java/util/BitSet" "sizeIsSticky" "Z") ∈ lw_all := lw_g (lw_at lw_m6 93 rfl) rfl
theorem q1368 : (Jvm.Cond.soleField "java/util/BitSet" "sizeIsSticky") ∈ lw_all := lw_g (lw_at lw_m6 94 rfl) rfl
theorem q1369 : (Jvm.Cond.superclass "java/util/BitSet" "java/lang/Object") ∈ lw_all := lw_g (lw_at lw_m6 95 rfl) rfl
theorem q1376 : (Jvm.Cond.instanceMethod ({ cls := "java/util/BitSet", name := "get", desc := "(I)Z" } : Jvm.MethodName)) ∈ lw_all := lw_g (lw_at lw_m6 102 rfl) rfl
theorem q1377 : (Jvm.Cond.selects "java/util/BitSet" ({ cls := "java/util/BitSet", name := "get", desc := "(I)Z" } : Jvm.MethodName) ({ cls := "java/util/BitSet", name := "get", desc := "(I)Z" } : Jvm.MethodName)) ∈ lw_all := lw_g (lw_at lw_m6 103 rfl) rfl
theorem q1378 : (Jvm.Cond.code ({ cls := "java/util/BitSet", name := "get", desc := "(I)Z" } : Jvm.MethodName) prog_44_method_26_code (3 : Nat) (Option.some Jvm.ClassFile.FieldType.boolean)) ∈ lw_all := lw_g (lw_at lw_m6 104 rfl) rfl
theorem q1379 : (Jvm.Cond.methodLink "java/util/BitSet" (56 : Nat) ({ cls := "java/util/BitSet", name := "checkInvariants", desc := "()V" } : Jvm.MethodName)) ∈ lw_all := lw_g (lw_at lw_m6 105 rfl) rfl
theorem q1380 : (Jvm.Cond.privateMethod ({ cls := "java/util/BitSet", name := "checkInvariants", desc := "()V" } : Jvm.MethodName)) ∈ lw_tbl := lw_at lw_m6 106 rfl
theorem q1381 : (Jvm.Cond.instanceMethod ({ cls := "java/util/BitSet", name := "checkInvariants", desc := "()V" } : Jvm.MethodName)) ∈ lw_all := lw_g (lw_at lw_m6 107 rfl) rfl
theorem q1382 : (Jvm.Cond.code ({ cls := "java/util/BitSet", name := "checkInvariants", desc := "()V" } : Jvm.MethodName) prog_44_method_2_code (1 : Nat) (Option.none : Option Jvm.ClassFile.FieldType)) ∈ lw_all := lw_g (lw_at lw_m6 108 rfl) rfl
theorem q1383 : (Jvm.Cond.fieldLink "java/util/BitSet" (3 : Nat) "java/util/BitSet" "$assertionsDisabled" "Z") ∈ lw_all := lw_g (lw_at lw_m6 109 rfl) rfl
theorem q1384 : (Jvm.Cond.laysStatic "java/util/BitSet" "$assertionsDisabled" "Z") ∈ lw_tbl := lw_at lw_m6 110 rfl
theorem q1386 : (Jvm.Cond.instanceMethod ({ cls := "java/util/BitSet", name := "set", desc := "(I)V" } : Jvm.MethodName)) ∈ lw_all := lw_g (lw_at lw_m6 112 rfl) rfl
theorem q1387 : (Jvm.Cond.selects "java/util/BitSet" ({ cls := "java/util/BitSet", name := "set", desc := "(I)V" } : Jvm.MethodName) ({ cls := "java/util/BitSet", name := "set", desc := "(I)V" } : Jvm.MethodName)) ∈ lw_all := lw_g (lw_at lw_m6 113 rfl) rfl
theorem q1388 : (Jvm.Cond.code ({ cls := "java/util/BitSet", name := "set", desc := "(I)V" } : Jvm.MethodName) prog_44_method_19_code (3 : Nat) (Option.none : Option Jvm.ClassFile.FieldType)) ∈ lw_all := lw_g (lw_at lw_m6 114 rfl) rfl
theorem q1389 : (Jvm.Cond.methodLink "java/util/BitSet" (155 : Nat) ({ cls := "java/util/BitSet", name := "expandTo", desc := "(I)V" } : Jvm.MethodName)) ∈ lw_all := lw_g (lw_at lw_m6 115 rfl) rfl
theorem q1390 : (Jvm.Cond.privateMethod ({ cls := "java/util/BitSet", name := "expandTo", desc := "(I)V" } : Jvm.MethodName)) ∈ lw_tbl := lw_at lw_m6 116 rfl
theorem q1391 : (Jvm.Cond.instanceMethod ({ cls := "java/util/BitSet", name := "expandTo", desc := "(I)V" } : Jvm.MethodName)) ∈ lw_all := lw_g (lw_at lw_m6 117 rfl) rfl
theorem q1392 : (Jvm.Cond.code ({ cls := "java/util/BitSet", name := "expandTo", desc := "(I)V" } : Jvm.MethodName) prog_44_method_15_code (3 : Nat) (Option.none : Option Jvm.ClassFile.FieldType)) ∈ lw_all := lw_g (lw_at lw_m6 118 rfl) rfl
theorem q1393 : (Jvm.Cond.methodLink "java/util/BitSet" (139 : Nat) ({ cls := "java/util/BitSet", name := "ensureCapacity", desc := "(I)V" } : Jvm.MethodName)) ∈ lw_all := lw_g (lw_at lw_m6 119 rfl) rfl
theorem q1394 : (Jvm.Cond.privateMethod ({ cls := "java/util/BitSet", name := "ensureCapacity", desc := "(I)V" } : Jvm.MethodName)) ∈ lw_tbl := lw_at lw_m6 120 rfl
theorem q1395 : (Jvm.Cond.instanceMethod ({ cls := "java/util/BitSet", name := "ensureCapacity", desc := "(I)V" } : Jvm.MethodName)) ∈ lw_all := lw_g (lw_at lw_m6 121 rfl) rfl
theorem q1396 : (Jvm.Cond.code ({ cls := "java/util/BitSet", name := "ensureCapacity", desc := "(I)V" } : Jvm.MethodName) prog_44_method_14_code (3 : Nat) (Option.none : Option Jvm.ClassFile.FieldType)) ∈ lw_all := lw_g (lw_at lw_m6 122 rfl) rfl
theorem q1397 : (Jvm.Cond.methodLink "java/util/BitSet" (133 : Nat) ({ cls := "java/lang/Math", name := "max", desc := "(II)I" } : Jvm.MethodName)) ∈ lw_all := lw_g (lw_at lw_m6 123 rfl) rfl
theorem q1398 : (Jvm.Cond.methodLink "java/util/BitSet" (59 : Nat) ({ cls := "java/util/Arrays", name := "copyOf", desc := "([JI)[J" } : Jvm.MethodName)) ∈ lw_all := lw_g (lw_at lw_m6 124 rfl) rfl
theorem q1439 : (Jvm.Cond.instanceMethod ({ cls := "java/util/BitSet", name := "nextSetBit", desc := "(I)I" } : Jvm.MethodName)) ∈ lw_all := lw_g (lw_at lw_m6 165 rfl) rfl
theorem q1440 : (Jvm.Cond.selects "java/util/BitSet" ({ cls := "java/util/BitSet", name := "nextSetBit", desc := "(I)I" } : Jvm.MethodName) ({ cls := "java/util/BitSet", name := "nextSetBit", desc := "(I)I" } : Jvm.MethodName)) ∈ lw_all := lw_g (lw_at lw_m6 166 rfl) rfl
theorem q1441 : (Jvm.Cond.code ({ cls := "java/util/BitSet", name := "nextSetBit", desc := "(I)I" } : Jvm.MethodName) prog_44_method_28_code (5 : Nat) (Option.some Jvm.ClassFile.FieldType.int)) ∈ lw_all := lw_g (lw_at lw_m6 167 rfl) rfl
theorem q1442 : (Jvm.Cond.constantLong "java/util/BitSet" (165 : Nat) (-1 : Int64)) ∈ lw_all := lw_g (lw_at lw_m6 168 rfl) rfl
theorem q1443 : (Jvm.Cond.methodLink "java/util/BitSet" (182 : Nat) ({ cls := "java/lang/Long", name := "numberOfTrailingZeros", desc := "(J)I" } : Jvm.MethodName)) ∈ lw_all := lw_g (lw_at lw_m6 169 rfl) rfl
theorem q2054 : (Jvm.Cond.castable "java/util/BitSet" "java/lang/Object") ∈ lw_tbl := lw_at lw_m9 60 rfl
theorem in_J29 : ∀ w ∈ wsJ290, w ∈ lw_all := lw_in wsJ290 [1363, 1365, 1367] (by decide +kernel) (by decide +kernel)
/-! java/util/ArrayDeque$DeqIterator -/
set_option maxRecDepth 100000
def RJ30 : String := "java/util/ArrayDeque$DeqIterator"
def TJ30 : u_T := fun k => match k with
  | 0 => ("java/util/ArrayDeque$DeqIterator", "cursor", "I", false)
  | 1 => ("java/util/ArrayDeque$DeqIterator", "remaining", "I", false)
  | 2 => ("java/util/ArrayDeque$DeqIterator", "lastRet", "I", false)
  | _ => ("java/util/ArrayDeque$DeqIterator", "this$0", "Ljava/util/ArrayDeque;", true)
def tyJ30 : Nat → FieldType := fun k => match k with
  | 0 => .int
  | 1 => .int
  | 2 => .int
  | _ => .object "java/util/ArrayDeque"
abbrev wsJ300 : List Cond := u_ws RJ30 TJ30 4
theorem nmJ30 : ∀ a, a < 4 → ∀ b, b < 4 → a ≠ b → (TJ30 a).2.1 ≠ (TJ30 b).2.1 := by decide +kernel
theorem tyJ30_ok : ∀ k, k < 4 → parseFieldDescriptor (TJ30 k).2.2.1 = some (tyJ30 k) := by decide +kernel
abbrev cJ30_hasNext : ByteArray := prog_39_method_2_code
def yJ30_hasNext : MethodName := ⟨RJ30, "hasNext", "()Z"⟩
def dkwJ30_hasNext_0 : List UInt8 := [42, 180, 0, 19, 158, 0, 7, 4, 167, 0, 4, 3, 172]
abbrev dktJ30_hasNext_0 : List UInt8 := dkwJ30_hasNext_0 ++ []
theorem dksJ30_hasNext_0 : cJ30_hasNext.data.toList.drop 0 = dktJ30_hasNext_0 := by decide +kernel
theorem dJ30_hasNext_0 : decode cJ30_hasNext 0 = .ok (.aload_n 0, 1) := dk_42 (dk_at dksJ30_hasNext_0 0 rfl rfl)
theorem dJ30_hasNext_1 : decode cJ30_hasNext 1 = .ok (.getfield 19, 3) := dk_180 0 19 (dk_at dksJ30_hasNext_0 1 rfl rfl)
theorem dJ30_hasNext_4 : decode cJ30_hasNext 4 = .ok (.ifCond .le 7, 3) := dk_158 0 7 (dk_at dksJ30_hasNext_0 4 rfl rfl)
theorem dJ30_hasNext_7 : decode cJ30_hasNext 7 = .ok (.iconst 1, 1) := dk_4 (dk_at dksJ30_hasNext_0 7 rfl rfl)
theorem dJ30_hasNext_8 : decode cJ30_hasNext 8 = .ok (.goto 4, 3) := dk_167 0 4 (dk_at dksJ30_hasNext_0 8 rfl rfl)
theorem dJ30_hasNext_11 : decode cJ30_hasNext 11 = .ok (.iconst 0, 1) := dk_3 (dk_at dksJ30_hasNext_0 11 rfl rfl)
theorem dJ30_hasNext_12 : decode cJ30_hasNext 12 = .ok (.ireturn, 1) := dk_172 (dk_at dksJ30_hasNext_0 12 rfl rfl)
abbrev cJ30_next : ByteArray := prog_39_method_3_code
def yJ30_next : MethodName := ⟨RJ30, "next", "()Ljava/lang/Object;"⟩
def dkwJ30_next_2 : List UInt8 := [181, 0, 29, 42, 89, 180, 0, 19, 4, 100, 181, 0, 19, 44, 176]
abbrev dktJ30_next_2 : List UInt8 := dkwJ30_next_2 ++ []
def dkwJ30_next_1 : List UInt8 := [42, 180, 0, 29, 184, 0, 39, 77, 42, 42, 42, 180, 0, 29, 90, 181, 0, 23, 43, 190, 184, 0, 43]
abbrev dktJ30_next_1 : List UInt8 := dkwJ30_next_1 ++ dktJ30_next_2
def dkwJ30_next_0 : List UInt8 := [42, 180, 0, 19, 157, 0, 11, 187, 0, 32, 89, 183, 0, 34, 191, 42, 180, 0, 1, 180, 0, 35, 76, 43]
abbrev dktJ30_next_0 : List UInt8 := dkwJ30_next_0 ++ dktJ30_next_1
theorem dksJ30_next_0 : cJ30_next.data.toList.drop 0 = dktJ30_next_0 := by decide +kernel
theorem dksJ30_next_1 : cJ30_next.data.toList.drop 24 = dktJ30_next_1 := dk_seg dksJ30_next_0 24 rfl rfl
theorem dksJ30_next_2 : cJ30_next.data.toList.drop 47 = dktJ30_next_2 := dk_seg dksJ30_next_1 23 rfl rfl
theorem dJ30_next_0 : decode cJ30_next 0 = .ok (.aload_n 0, 1) := dk_42 (dk_at dksJ30_next_0 0 rfl rfl)
theorem dJ30_next_1 : decode cJ30_next 1 = .ok (.getfield 19, 3) := dk_180 0 19 (dk_at dksJ30_next_0 1 rfl rfl)
theorem dJ30_next_4 : decode cJ30_next 4 = .ok (.ifCond .gt 11, 3) := dk_157 0 11 (dk_at dksJ30_next_0 4 rfl rfl)
theorem dJ30_next_7 : decode cJ30_next 7 = .ok (.new 32, 3) := dk_187 0 32 (dk_at dksJ30_next_0 7 rfl rfl)
theorem dJ30_next_10 : decode cJ30_next 10 = .ok (.dup, 1) := dk_89 (dk_at dksJ30_next_0 10 rfl rfl)
theorem dJ30_next_11 : decode cJ30_next 11 = .ok (.invokespecial 34, 3) := dk_183 0 34 (dk_at dksJ30_next_0 11 rfl rfl)
theorem dJ30_next_14 : decode cJ30_next 14 = .ok (.athrow, 1) := dk_191 (dk_at dksJ30_next_0 14 rfl rfl)
theorem dJ30_next_15 : decode cJ30_next 15 = .ok (.aload_n 0, 1) := dk_42 (dk_at dksJ30_next_0 15 rfl rfl)
theorem dJ30_next_16 : decode cJ30_next 16 = .ok (.getfield 1, 3) := dk_180 0 1 (dk_at dksJ30_next_0 16 rfl rfl)
theorem dJ30_next_19 : decode cJ30_next 19 = .ok (.getfield 35, 3) := dk_180 0 35 (dk_at dksJ30_next_0 19 rfl rfl)
theorem dJ30_next_22 : decode cJ30_next 22 = .ok (.astore_n 1, 1) := dk_76 (dk_at dksJ30_next_0 22 rfl rfl)
theorem dJ30_next_23 : decode cJ30_next 23 = .ok (.aload_n 1, 1) := dk_43 (dk_at dksJ30_next_0 23 rfl rfl)
theorem dJ30_next_24 : decode cJ30_next 24 = .ok (.aload_n 0, 1) := dk_42 (dk_at dksJ30_next_1 0 rfl rfl)
theorem dJ30_next_25 : decode cJ30_next 25 = .ok (.getfield 29, 3) := dk_180 0 29 (dk_at dksJ30_next_1 1 rfl rfl)
theorem dJ30_next_28 : decode cJ30_next 28 = .ok (.invokestatic 39, 3) := dk_184 0 39 (dk_at dksJ30_next_1 4 rfl rfl)
theorem dJ30_next_31 : decode cJ30_next 31 = .ok (.astore_n 2, 1) := dk_77 (dk_at dksJ30_next_1 7 rfl rfl)
theorem dJ30_next_32 : decode cJ30_next 32 = .ok (.aload_n 0, 1) := dk_42 (dk_at dksJ30_next_1 8 rfl rfl)
theorem dJ30_next_33 : decode cJ30_next 33 = .ok (.aload_n 0, 1) := dk_42 (dk_at dksJ30_next_1 9 rfl rfl)
theorem dJ30_next_34 : decode cJ30_next 34 = .ok (.aload_n 0, 1) := dk_42 (dk_at dksJ30_next_1 10 rfl rfl)
theorem dJ30_next_35 : decode cJ30_next 35 = .ok (.getfield 29, 3) := dk_180 0 29 (dk_at dksJ30_next_1 11 rfl rfl)
theorem dJ30_next_38 : decode cJ30_next 38 = .ok (.dup_x1, 1) := dk_90 (dk_at dksJ30_next_1 14 rfl rfl)
theorem dJ30_next_39 : decode cJ30_next 39 = .ok (.putfield 23, 3) := dk_181 0 23 (dk_at dksJ30_next_1 15 rfl rfl)
theorem dJ30_next_42 : decode cJ30_next 42 = .ok (.aload_n 1, 1) := dk_43 (dk_at dksJ30_next_1 18 rfl rfl)
theorem dJ30_next_43 : decode cJ30_next 43 = .ok (.arraylength, 1) := dk_190 (dk_at dksJ30_next_1 19 rfl rfl)
theorem dJ30_next_44 : decode cJ30_next 44 = .ok (.invokestatic 43, 3) := dk_184 0 43 (dk_at dksJ30_next_1 20 rfl rfl)
theorem dJ30_next_47 : decode cJ30_next 47 = .ok (.putfield 29, 3) := dk_181 0 29 (dk_at dksJ30_next_2 0 rfl rfl)
theorem dJ30_next_50 : decode cJ30_next 50 = .ok (.aload_n 0, 1) := dk_42 (dk_at dksJ30_next_2 3 rfl rfl)
theorem dJ30_next_51 : decode cJ30_next 51 = .ok (.dup, 1) := dk_89 (dk_at dksJ30_next_2 4 rfl rfl)
theorem dJ30_next_52 : decode cJ30_next 52 = .ok (.getfield 19, 3) := dk_180 0 19 (dk_at dksJ30_next_2 5 rfl rfl)
theorem dJ30_next_55 : decode cJ30_next 55 = .ok (.iconst 1, 1) := dk_4 (dk_at dksJ30_next_2 8 rfl rfl)
theorem dJ30_next_56 : decode cJ30_next 56 = .ok (.isub, 1) := dk_100 (dk_at dksJ30_next_2 9 rfl rfl)
theorem dJ30_next_57 : decode cJ30_next 57 = .ok (.putfield 19, 3) := dk_181 0 19 (dk_at dksJ30_next_2 10 rfl rfl)
theorem dJ30_next_60 : decode cJ30_next 60 = .ok (.aload_n 2, 1) := dk_44 (dk_at dksJ30_next_2 13 rfl rfl)
theorem dJ30_next_61 : decode cJ30_next 61 = .ok (.areturn, 1) := dk_176 (dk_at dksJ30_next_2 14 rfl rfl)
abbrev cJ30_remove : ByteArray := prog_39_method_5_code
def yJ30_remove : MethodName := ⟨RJ30, "remove", "()V"⟩
def dkwJ30_remove_1 : List UInt8 := [182, 0, 53, 182, 0, 57, 42, 2, 181, 0, 23, 177]
abbrev dktJ30_remove_1 : List UInt8 := dkwJ30_remove_1 ++ []
def dkwJ30_remove_0 : List UInt8 := [42, 180, 0, 23, 156, 0, 11, 187, 0, 50, 89, 183, 0, 52, 191, 42, 42, 180, 0, 1, 42, 180, 0, 23]
abbrev dktJ30_remove_0 : List UInt8 := dkwJ30_remove_0 ++ dktJ30_remove_1
theorem dksJ30_remove_0 : cJ30_remove.data.toList.drop 0 = dktJ30_remove_0 := by decide +kernel
theorem dksJ30_remove_1 : cJ30_remove.data.toList.drop 24 = dktJ30_remove_1 := dk_seg dksJ30_remove_0 24 rfl rfl
theorem dJ30_remove_0 : decode cJ30_remove 0 = .ok (.aload_n 0, 1) := dk_42 (dk_at dksJ30_remove_0 0 rfl rfl)
theorem dJ30_remove_1 : decode cJ30_remove 1 = .ok (.getfield 23, 3) := dk_180 0 23 (dk_at dksJ30_remove_0 1 rfl rfl)
theorem dJ30_remove_4 : decode cJ30_remove 4 = .ok (.ifCond .ge 11, 3) := dk_156 0 11 (dk_at dksJ30_remove_0 4 rfl rfl)
theorem dJ30_remove_7 : decode cJ30_remove 7 = .ok (.new 50, 3) := dk_187 0 50 (dk_at dksJ30_remove_0 7 rfl rfl)
theorem dJ30_remove_10 : decode cJ30_remove 10 = .ok (.dup, 1) := dk_89 (dk_at dksJ30_remove_0 10 rfl rfl)
theorem dJ30_remove_11 : decode cJ30_remove 11 = .ok (.invokespecial 52, 3) := dk_183 0 52 (dk_at dksJ30_remove_0 11 rfl rfl)
theorem dJ30_remove_14 : decode cJ30_remove 14 = .ok (.athrow, 1) := dk_191 (dk_at dksJ30_remove_0 14 rfl rfl)
theorem dJ30_remove_15 : decode cJ30_remove 15 = .ok (.aload_n 0, 1) := dk_42 (dk_at dksJ30_remove_0 15 rfl rfl)
theorem dJ30_remove_16 : decode cJ30_remove 16 = .ok (.aload_n 0, 1) := dk_42 (dk_at dksJ30_remove_0 16 rfl rfl)
theorem dJ30_remove_17 : decode cJ30_remove 17 = .ok (.getfield 1, 3) := dk_180 0 1 (dk_at dksJ30_remove_0 17 rfl rfl)
theorem dJ30_remove_20 : decode cJ30_remove 20 = .ok (.aload_n 0, 1) := dk_42 (dk_at dksJ30_remove_0 20 rfl rfl)
theorem dJ30_remove_21 : decode cJ30_remove 21 = .ok (.getfield 23, 3) := dk_180 0 23 (dk_at dksJ30_remove_0 21 rfl rfl)
theorem dJ30_remove_24 : decode cJ30_remove 24 = .ok (.invokevirtual 53, 3) := dk_182 0 53 (dk_at dksJ30_remove_1 0 rfl rfl)
theorem dJ30_remove_27 : decode cJ30_remove 27 = .ok (.invokevirtual 57, 3) := dk_182 0 57 (dk_at dksJ30_remove_1 3 rfl rfl)
theorem dJ30_remove_30 : decode cJ30_remove 30 = .ok (.aload_n 0, 1) := dk_42 (dk_at dksJ30_remove_1 6 rfl rfl)
theorem dJ30_remove_31 : decode cJ30_remove 31 = .ok (.iconst (-1), 1) := dk_2 (dk_at dksJ30_remove_1 7 rfl rfl)
theorem dJ30_remove_32 : decode cJ30_remove 32 = .ok (.putfield 23, 3) := dk_181 0 23 (dk_at dksJ30_remove_1 8 rfl rfl)
theorem dJ30_remove_35 : decode cJ30_remove 35 = .ok (.return_, 1) := dk_177 (dk_at dksJ30_remove_1 11 rfl rfl)
abbrev cJ30_postDelete : ByteArray := prog_39_method_4_code
def yJ30_postDelete : MethodName := ⟨RJ30, "postDelete", "(Z)V"⟩
def dkwJ30_postDelete_0 : List UInt8 := [27, 153, 0, 22, 42, 42, 180, 0, 29, 42, 180, 0, 1, 180, 0, 35, 190, 184, 0, 47, 181, 0, 29, 177]
abbrev dktJ30_postDelete_0 : List UInt8 := dkwJ30_postDelete_0 ++ []
theorem dksJ30_postDelete_0 : cJ30_postDelete.data.toList.drop 0 = dktJ30_postDelete_0 := by decide +kernel
theorem dJ30_postDelete_0 : decode cJ30_postDelete 0 = .ok (.iload_n 1, 1) := dk_27 (dk_at dksJ30_postDelete_0 0 rfl rfl)
theorem dJ30_postDelete_1 : decode cJ30_postDelete 1 = .ok (.ifCond .eq 22, 3) := dk_153 0 22 (dk_at dksJ30_postDelete_0 1 rfl rfl)
theorem dJ30_postDelete_4 : decode cJ30_postDelete 4 = .ok (.aload_n 0, 1) := dk_42 (dk_at dksJ30_postDelete_0 4 rfl rfl)
theorem dJ30_postDelete_5 : decode cJ30_postDelete 5 = .ok (.aload_n 0, 1) := dk_42 (dk_at dksJ30_postDelete_0 5 rfl rfl)
theorem dJ30_postDelete_6 : decode cJ30_postDelete 6 = .ok (.getfield 29, 3) := dk_180 0 29 (dk_at dksJ30_postDelete_0 6 rfl rfl)
theorem dJ30_postDelete_9 : decode cJ30_postDelete 9 = .ok (.aload_n 0, 1) := dk_42 (dk_at dksJ30_postDelete_0 9 rfl rfl)
theorem dJ30_postDelete_10 : decode cJ30_postDelete 10 = .ok (.getfield 1, 3) := dk_180 0 1 (dk_at dksJ30_postDelete_0 10 rfl rfl)
theorem dJ30_postDelete_13 : decode cJ30_postDelete 13 = .ok (.getfield 35, 3) := dk_180 0 35 (dk_at dksJ30_postDelete_0 13 rfl rfl)
theorem dJ30_postDelete_16 : decode cJ30_postDelete 16 = .ok (.arraylength, 1) := dk_190 (dk_at dksJ30_postDelete_0 16 rfl rfl)
theorem dJ30_postDelete_17 : decode cJ30_postDelete 17 = .ok (.invokestatic 47, 3) := dk_184 0 47 (dk_at dksJ30_postDelete_0 17 rfl rfl)
theorem dJ30_postDelete_20 : decode cJ30_postDelete 20 = .ok (.putfield 29, 3) := dk_181 0 29 (dk_at dksJ30_postDelete_0 20 rfl rfl)
theorem dJ30_postDelete_23 : decode cJ30_postDelete 23 = .ok (.return_, 1) := dk_177 (dk_at dksJ30_postDelete_0 23 rfl rfl)
abbrev cJ30_init : ByteArray := prog_39_method_1_code
def yJ30_init : MethodName := ⟨RJ30, "<init>", "(Ljava/util/ArrayDeque;)V"⟩
def dkwJ30_init_1 : List UInt8 := [181, 0, 23, 42, 43, 180, 0, 26, 181, 0, 29, 177]
abbrev dktJ30_init_1 : List UInt8 := dkwJ30_init_1 ++ []
def dkwJ30_init_0 : List UInt8 := [42, 43, 181, 0, 1, 42, 183, 0, 7, 42, 42, 180, 0, 1, 182, 0, 13, 181, 0, 19, 42, 2]
abbrev dktJ30_init_0 : List UInt8 := dkwJ30_init_0 ++ dktJ30_init_1
theorem dksJ30_init_0 : cJ30_init.data.toList.drop 0 = dktJ30_init_0 := by decide +kernel
theorem dksJ30_init_1 : cJ30_init.data.toList.drop 22 = dktJ30_init_1 := dk_seg dksJ30_init_0 22 rfl rfl
theorem dJ30_init_0 : decode cJ30_init 0 = .ok (.aload_n 0, 1) := dk_42 (dk_at dksJ30_init_0 0 rfl rfl)
theorem dJ30_init_1 : decode cJ30_init 1 = .ok (.aload_n 1, 1) := dk_43 (dk_at dksJ30_init_0 1 rfl rfl)
theorem dJ30_init_2 : decode cJ30_init 2 = .ok (.putfield 1, 3) := dk_181 0 1 (dk_at dksJ30_init_0 2 rfl rfl)
theorem dJ30_init_5 : decode cJ30_init 5 = .ok (.aload_n 0, 1) := dk_42 (dk_at dksJ30_init_0 5 rfl rfl)
theorem dJ30_init_6 : decode cJ30_init 6 = .ok (.invokespecial 7, 3) := dk_183 0 7 (dk_at dksJ30_init_0 6 rfl rfl)
theorem dJ30_init_9 : decode cJ30_init 9 = .ok (.aload_n 0, 1) := dk_42 (dk_at dksJ30_init_0 9 rfl rfl)
theorem dJ30_init_10 : decode cJ30_init 10 = .ok (.aload_n 0, 1) := dk_42 (dk_at dksJ30_init_0 10 rfl rfl)
theorem dJ30_init_11 : decode cJ30_init 11 = .ok (.getfield 1, 3) := dk_180 0 1 (dk_at dksJ30_init_0 11 rfl rfl)
theorem dJ30_init_14 : decode cJ30_init 14 = .ok (.invokevirtual 13, 3) := dk_182 0 13 (dk_at dksJ30_init_0 14 rfl rfl)
theorem dJ30_init_17 : decode cJ30_init 17 = .ok (.putfield 19, 3) := dk_181 0 19 (dk_at dksJ30_init_0 17 rfl rfl)
theorem dJ30_init_20 : decode cJ30_init 20 = .ok (.aload_n 0, 1) := dk_42 (dk_at dksJ30_init_0 20 rfl rfl)
theorem dJ30_init_21 : decode cJ30_init 21 = .ok (.iconst (-1), 1) := dk_2 (dk_at dksJ30_init_0 21 rfl rfl)
theorem dJ30_init_22 : decode cJ30_init 22 = .ok (.putfield 23, 3) := dk_181 0 23 (dk_at dksJ30_init_1 0 rfl rfl)
theorem dJ30_init_25 : decode cJ30_init 25 = .ok (.aload_n 0, 1) := dk_42 (dk_at dksJ30_init_1 3 rfl rfl)
theorem dJ30_init_26 : decode cJ30_init 26 = .ok (.aload_n 1, 1) := dk_43 (dk_at dksJ30_init_1 4 rfl rfl)
theorem dJ30_init_27 : decode cJ30_init 27 = .ok (.getfield 26, 3) := dk_180 0 26 (dk_at dksJ30_init_1 5 rfl rfl)
theorem dJ30_init_30 : decode cJ30_init 30 = .ok (.putfield 29, 3) := dk_181 0 29 (dk_at dksJ30_init_1 8 rfl rfl)
theorem dJ30_init_33 : decode cJ30_init 33 = .ok (.return_, 1) := dk_177 (dk_at dksJ30_init_1 11 rfl rfl)
theorem q113 : (Jvm.Cond.initialized "java/util/ArrayDeque$DeqIterator") ∈ lw_all := lw_g (lw_at lw_m1 39 rfl) rfl
theorem q476 : (Jvm.Cond.fieldLink "java/util/ArrayDeque$DeqIterator" (35 : Nat) "java/util/ArrayDeque" "elements" "[Ljava/lang/Object;") ∈ lw_all := lw_g (lw_at lw_m2 162 rfl) rfl
theorem q477 : (Jvm.Cond.fieldLink "java/util/ArrayDeque$DeqIterator" (26 : Nat) "java/util/ArrayDeque" "head" "I") ∈ lw_all := lw_g (lw_at lw_m2 163 rfl) rfl
theorem q547 : (Jvm.Cond.selects "java/util/ArrayDeque$DeqIterator" ({ cls := "java/lang/Object", name := "getClass", desc := "()Ljava/lang/Class;" } : Jvm.MethodName) ({ cls := "java/lang/Object", name := "getClass", desc := "()Ljava/lang/Class;" } : Jvm.MethodName)) ∈ lw_all := lw_g (lw_at lw_m2 233 rfl) rfl
theorem q887 : (Jvm.Cond.castable "java/util/ArrayDeque$DeqIterator" "java/util/Iterator") ∈ lw_tbl := lw_at lw_m4 93 rfl
theorem q888 : (Jvm.Cond.selects "java/util/ArrayDeque$DeqIterator" ({ cls := "java/util/Iterator", name := "hasNext", desc := "()Z" } : Jvm.MethodName) ({ cls := "java/util/ArrayDeque$DeqIterator", name := "hasNext", desc := "()Z" } : Jvm.MethodName)) ∈ lw_all := lw_g (lw_at lw_m4 94 rfl) rfl
theorem q889 : (Jvm.Cond.unhidden "java/util/ArrayDeque$DeqIterator" "hasNext" "()Z") ∈ lw_tbl := lw_at lw_m4 95 rfl
theorem q890 : (Jvm.Cond.instanceMethod ({ cls := "java/util/ArrayDeque$DeqIterator", name := "hasNext", desc := "()Z" } : Jvm.MethodName)) ∈ lw_all := lw_g (lw_at lw_m4 96 rfl) rfl
theorem q891 : (Jvm.Cond.publicMethod ({ cls := "java/util/ArrayDeque$DeqIterator", name := "hasNext", desc := "()Z" } : Jvm.MethodName)) ∈ lw_tbl := lw_at lw_m4 97 rfl
theorem q892 : (Jvm.Cond.code ({ cls := "java/util/ArrayDeque$DeqIterator", name := "hasNext", desc := "()Z" } : Jvm.MethodName) prog_39_method_2_code (1 : Nat) (Option.some Jvm.ClassFile.FieldType.boolean)) ∈ lw_all := lw_g (lw_at lw_m4 98 rfl) rfl
theorem q1211 : (Jvm.Cond.selects "java/util/ArrayDeque$DeqIterator" ({ cls := "java/util/Iterator", name := "next", desc := "()Ljava/lang/Object;" } : Jvm.MethodName) ({ cls := "java/util/ArrayDeque$DeqIterator", name := "next", desc := "()Ljava/lang/Object;" } : Jvm.MethodName)) ∈ lw_all := lw_g (lw_at lw_m5 177 rfl) rfl
theorem q1212 : (Jvm.Cond.unhidden "java/util/ArrayDeque$DeqIterator" "next" "()Ljava/lang/Object;") ∈ lw_tbl := lw_at lw_m5 178 rfl
theorem q1213 : (Jvm.Cond.instanceMethod ({ cls := "java/util/ArrayDeque$DeqIterator", name := "next", desc := "()Ljava/lang/Object;" } : Jvm.MethodName)) ∈ lw_all := lw_g (lw_at lw_m5 179 rfl) rfl
theorem q1214 : (Jvm.Cond.publicMethod ({ cls := "java/util/ArrayDeque$DeqIterator", name := "next", desc := "()Ljava/lang/Object;" } : Jvm.MethodName)) ∈ lw_tbl := lw_at lw_m5 180 rfl
theorem q1215 : (Jvm.Cond.code ({ cls := "java/util/ArrayDeque$DeqIterator", name := "next", desc := "()Ljava/lang/Object;" } : Jvm.MethodName) prog_39_method_3_code (3 : Nat) (Option.some (Jvm.ClassFile.FieldType.object "java/lang/Object"))) ∈ lw_all := lw_g (lw_at lw_m5 181 rfl) rfl
theorem q1216 : (Jvm.Cond.methodLink "java/util/ArrayDeque$DeqIterator" (39 : Nat) ({ cls := "java/util/ArrayDeque", name := "nonNullElementAt", desc := "([Ljava/lang/Object;I)Ljava/lang/Object;" } : Jvm.MethodName)) ∈ lw_all := lw_g (lw_at lw_m5 182 rfl) rfl
theorem q1219 : (Jvm.Cond.methodLink "java/util/ArrayDeque$DeqIterator" (43 : Nat) ({ cls := "java/util/ArrayDeque", name := "inc", desc := "(II)I" } : Jvm.MethodName)) ∈ lw_all := lw_g (lw_at lw_m5 185 rfl) rfl
theorem q1306 : (Jvm.Cond.selects "java/util/ArrayDeque$DeqIterator" ({ cls := "java/util/Iterator", name := "remove", desc := "()V" } : Jvm.MethodName) ({ cls := "java/util/ArrayDeque$DeqIterator", name := "remove", desc := "()V" } : Jvm.MethodName)) ∈ lw_all := lw_g (lw_at lw_m6 32 rfl) rfl
theorem q1307 : (Jvm.Cond.unhidden "java/util/ArrayDeque$DeqIterator" "remove" "()V") ∈ lw_tbl := lw_at lw_m6 33 rfl
theorem q1308 : (Jvm.Cond.instanceMethod ({ cls := "java/util/ArrayDeque$DeqIterator", name := "remove", desc := "()V" } : Jvm.MethodName)) ∈ lw_all := lw_g (lw_at lw_m6 34 rfl) rfl
theorem q1309 : (Jvm.Cond.publicMethod ({ cls := "java/util/ArrayDeque$DeqIterator", name := "remove", desc := "()V" } : Jvm.MethodName)) ∈ lw_tbl := lw_at lw_m6 35 rfl
theorem q1310 : (Jvm.Cond.code ({ cls := "java/util/ArrayDeque$DeqIterator", name := "remove", desc := "()V" } : Jvm.MethodName) prog_39_method_5_code (1 : Nat) (Option.none : Option Jvm.ClassFile.FieldType)) ∈ lw_all := lw_g (lw_at lw_m6 36 rfl) rfl
theorem q1311 : (Jvm.Cond.methodLink "java/util/ArrayDeque$DeqIterator" (53 : Nat) ({ cls := "java/util/ArrayDeque", name := "delete", desc := "(I)Z" } : Jvm.MethodName)) ∈ lw_all := lw_g (lw_at lw_m6 37 rfl) rfl
theorem q1318 : (Jvm.Cond.methodLink "java/util/ArrayDeque$DeqIterator" (57 : Nat) ({ cls := "java/util/ArrayDeque$DeqIterator", name := "postDelete", desc := "(Z)V" } : Jvm.MethodName)) ∈ lw_all := lw_g (lw_at lw_m6 44 rfl) rfl
theorem q1319 : (Jvm.Cond.instanceMethod ({ cls := "java/util/ArrayDeque$DeqIterator", name := "postDelete", desc := "(Z)V" } : Jvm.MethodName)) ∈ lw_all := lw_g (lw_at lw_m6 45 rfl) rfl
theorem q1320 : (Jvm.Cond.selects "java/util/ArrayDeque$DeqIterator" ({ cls := "java/util/ArrayDeque$DeqIterator", name := "postDelete", desc := "(Z)V" } : Jvm.MethodName) ({ cls := "java/util/ArrayDeque$DeqIterator", name := "postDelete", desc := "(Z)V" } : Jvm.MethodName)) ∈ lw_all := lw_g (lw_at lw_m6 46 rfl) rfl
theorem q1321 : (Jvm.Cond.code ({ cls := "java/util/ArrayDeque$DeqIterator", name := "postDelete", desc := "(Z)V" } : Jvm.MethodName) prog_39_method_4_code (2 : Nat) (Option.none : Option Jvm.ClassFile.FieldType)) ∈ lw_all := lw_g (lw_at lw_m6 47 rfl) rfl
theorem q1322 : (Jvm.Cond.methodLink "java/util/ArrayDeque$DeqIterator" (47 : Nat) ({ cls := "java/util/ArrayDeque", name := "dec", desc := "(II)I" } : Jvm.MethodName)) ∈ lw_all := lw_g (lw_at lw_m6 48 rfl) rfl
theorem q1419 : (Jvm.Cond.instantiable "java/util/ArrayDeque$DeqIterator" (4 : Nat)) ∈ lw_all := lw_g (lw_at lw_m6 145 rfl) rfl
theorem q1421 : (Jvm.Cond.instanceMethod ({ cls := "java/util/ArrayDeque$DeqIterator", name := "<init>", desc := "(Ljava/util/ArrayDeque;)V" } : Jvm.MethodName)) ∈ lw_all := lw_g (lw_at lw_m6 147 rfl) rfl
theorem q1422 : (Jvm.Cond.code ({ cls := "java/util/ArrayDeque$DeqIterator", name := "<init>", desc := "(Ljava/util/ArrayDeque;)V" } : Jvm.MethodName) prog_39_method_1_code (2 : Nat) (Option.none : Option Jvm.ClassFile.FieldType)) ∈ lw_all := lw_g (lw_at lw_m6 148 rfl) rfl
theorem q1423 : (Jvm.Cond.methodLink "java/util/ArrayDeque$DeqIterator" (7 : Nat) ({ cls := "java/lang/Object", name := "<init>", desc := "()V" } : Jvm.MethodName)) ∈ lw_all := lw_g (lw_at lw_m6 149 rfl) rfl
theorem q1424 : (Jvm.Cond.methodLink "java/util/ArrayDeque$DeqIterator" (13 : Nat) ({ cls := "java/util/ArrayDeque", name := "size", desc := "()I" } : Jvm.MethodName)) ∈ lw_all := lw_g (lw_at lw_m6 150 rfl) rfl
theorem q1425 : (Jvm.Cond.fieldLink "java/util/ArrayDeque$DeqIterator" (29 : Nat) "java/util/ArrayDeque$DeqIterator" "cursor" "I") ∈ lw_all := lw_g (lw_at lw_m6 151 rfl) rfl
theorem q1426 : (Jvm.Cond.fieldLink "java/util/ArrayDeque$DeqIterator" (19 : Nat) "java/util/ArrayDeque$DeqIterator" "remaining" "I") ∈ lw_all := lw_g (lw_at lw_m6 152 rfl) rfl
theorem q1427 : (Jvm.Cond.fieldLink "java/util/ArrayDeque$DeqIterator" (23 : Nat) "java/util/ArrayDeque$DeqIterator" "lastRet" "I") ∈ lw_all := lw_g (lw_at lw_m6 153 rfl) rfl
theorem q1428 : (Jvm.Cond.fieldLink "java/util/ArrayDeque$DeqIterator" (1 : Nat) "java/util/ArrayDeque$DeqIterator" "this$0" "Ljava/util/ArrayDeque;") ∈ lw_all := lw_g (lw_at lw_m6 154 rfl) rfl
theorem q1429 : (Jvm.Cond.lays "java/util/ArrayDeque$DeqIterator" "java/util/ArrayDeque$DeqIterator" "cursor" "I") ∈ lw_all := lw_g (lw_at lw_m6 155 rfl) rfl
theorem q1430 : (Jvm.Cond.soleField "java/util/ArrayDeque$DeqIterator" "cursor") ∈ lw_all := lw_g (lw_at lw_m6 156 rfl) rfl
theorem q1431 : (Jvm.Cond.lays "java/util/ArrayDeque$DeqIterator" "java/util/ArrayDeque$DeqIterator" "remaining" "I") ∈ lw_all := lw_g (lw_at lw_m6 157 rfl) rfl
theorem q1432 : (Jvm.Cond.soleField "java/util/ArrayDeque$DeqIterator" "remaining") ∈ lw_all := lw_g (lw_at lw_m6 158 rfl) rfl
theorem q1433 : (Jvm.Cond.lays "java/util/ArrayDeque$DeqIterator" "java/util/ArrayDeque$DeqIterator" "lastRet" "I") ∈ lw_all := lw_g (lw_at lw_m6 159 rfl) rfl
theorem q1434 : (Jvm.Cond.soleField "java/util/ArrayDeque$DeqIterator" "lastRet") ∈ lw_all := lw_g (lw_at lw_m6 160 rfl) rfl
theorem q1435 : (Jvm.Cond.laysFinal "java/util/ArrayDeque$DeqIterator" "java/util/ArrayDeque$DeqIterator" "this$0" "Ljava/util/ArrayDeque;") ∈ lw_all := lw_g (lw_at lw_m6 161 rfl) rfl
theorem q1436 : (Jvm.Cond.soleField "java/util/ArrayDeque$DeqIterator" "this$0") ∈ lw_all := lw_g (lw_at lw_m6 162 rfl) rfl
theorem q1437 : (Jvm.Cond.superclass "java/util/ArrayDeque$DeqIterator" "java/lang/Object") ∈ lw_all := lw_g (lw_at lw_m6 163 rfl) rfl
theorem q2055 : (Jvm.Cond.castable "java/util/ArrayDeque$DeqIterator" "java/lang/Object") ∈ lw_tbl := lw_at lw_m9 61 rfl
theorem in_J30 : ∀ w ∈ wsJ300, w ∈ lw_all := lw_in wsJ300 [1429, 1431, 1433, 1435] (by decide +kernel) (by decide +kernel)
/-! java/lang/Long -/
set_option maxRecDepth 100000
def RJ31 : String := "java/lang/Long"
abbrev cJ31_numberOfTrailingZeros : ByteArray := prog_21_method_49_code
def yJ31_numberOfTrailingZeros : MethodName := ⟨RJ31, "numberOfTrailingZeros", "(J)I"⟩
def dkwJ31_numberOfTrailingZeros_1 : List UInt8 := [184, 1, 55, 172]
abbrev dktJ31_numberOfTrailingZeros_1 : List UInt8 := dkwJ31_numberOfTrailingZeros_1 ++ []
def dkwJ31_numberOfTrailingZeros_0 : List UInt8 := [30, 136, 61, 28, 154, 0, 17, 16, 32, 30, 16, 32, 125, 136, 184, 1, 55, 96, 167, 0, 7, 28]
abbrev dktJ31_numberOfTrailingZeros_0 : List UInt8 := dkwJ31_numberOfTrailingZeros_0 ++ dktJ31_numberOfTrailingZeros_1
theorem dksJ31_numberOfTrailingZeros_0 : cJ31_numberOfTrailingZeros.data.toList.drop 0 = dktJ31_numberOfTrailingZeros_0 := by decide +kernel
theorem dksJ31_numberOfTrailingZeros_1 : cJ31_numberOfTrailingZeros.data.toList.drop 22 = dktJ31_numberOfTrailingZeros_1 := dk_seg dksJ31_numberOfTrailingZeros_0 22 rfl rfl
theorem dJ31_numberOfTrailingZeros_0 : decode cJ31_numberOfTrailingZeros 0 = .ok (.lload_n 0, 1) := dk_30 (dk_at dksJ31_numberOfTrailingZeros_0 0 rfl rfl)
theorem dJ31_numberOfTrailingZeros_1 : decode cJ31_numberOfTrailingZeros 1 = .ok (.l2i, 1) := dk_136 (dk_at dksJ31_numberOfTrailingZeros_0 1 rfl rfl)
theorem dJ31_numberOfTrailingZeros_2 : decode cJ31_numberOfTrailingZeros 2 = .ok (.istore_n 2, 1) := dk_61 (dk_at dksJ31_numberOfTrailingZeros_0 2 rfl rfl)
theorem dJ31_numberOfTrailingZeros_3 : decode cJ31_numberOfTrailingZeros 3 = .ok (.iload_n 2, 1) := dk_28 (dk_at dksJ31_numberOfTrailingZeros_0 3 rfl rfl)
theorem dJ31_numberOfTrailingZeros_4 : decode cJ31_numberOfTrailingZeros 4 = .ok (.ifCond .ne 17, 3) := dk_154 0 17 (dk_at dksJ31_numberOfTrailingZeros_0 4 rfl rfl)
theorem dJ31_numberOfTrailingZeros_7 : decode cJ31_numberOfTrailingZeros 7 = .ok (.bipush 32, 2) := dk_16 32 (dk_at dksJ31_numberOfTrailingZeros_0 7 rfl rfl)
theorem dJ31_numberOfTrailingZeros_9 : decode cJ31_numberOfTrailingZeros 9 = .ok (.lload_n 0, 1) := dk_30 (dk_at dksJ31_numberOfTrailingZeros_0 9 rfl rfl)
theorem dJ31_numberOfTrailingZeros_10 : decode cJ31_numberOfTrailingZeros 10 = .ok (.bipush 32, 2) := dk_16 32 (dk_at dksJ31_numberOfTrailingZeros_0 10 rfl rfl)
theorem dJ31_numberOfTrailingZeros_12 : decode cJ31_numberOfTrailingZeros 12 = .ok (.lushr, 1) := dk_125 (dk_at dksJ31_numberOfTrailingZeros_0 12 rfl rfl)
theorem dJ31_numberOfTrailingZeros_13 : decode cJ31_numberOfTrailingZeros 13 = .ok (.l2i, 1) := dk_136 (dk_at dksJ31_numberOfTrailingZeros_0 13 rfl rfl)
theorem dJ31_numberOfTrailingZeros_14 : decode cJ31_numberOfTrailingZeros 14 = .ok (.invokestatic 311, 3) := dk_184 1 55 (dk_at dksJ31_numberOfTrailingZeros_0 14 rfl rfl)
theorem dJ31_numberOfTrailingZeros_17 : decode cJ31_numberOfTrailingZeros 17 = .ok (.iadd, 1) := dk_96 (dk_at dksJ31_numberOfTrailingZeros_0 17 rfl rfl)
theorem dJ31_numberOfTrailingZeros_18 : decode cJ31_numberOfTrailingZeros 18 = .ok (.goto 7, 3) := dk_167 0 7 (dk_at dksJ31_numberOfTrailingZeros_0 18 rfl rfl)
theorem dJ31_numberOfTrailingZeros_21 : decode cJ31_numberOfTrailingZeros 21 = .ok (.iload_n 2, 1) := dk_28 (dk_at dksJ31_numberOfTrailingZeros_0 21 rfl rfl)
theorem dJ31_numberOfTrailingZeros_22 : decode cJ31_numberOfTrailingZeros 22 = .ok (.invokestatic 311, 3) := dk_184 1 55 (dk_at dksJ31_numberOfTrailingZeros_1 0 rfl rfl)
theorem dJ31_numberOfTrailingZeros_25 : decode cJ31_numberOfTrailingZeros 25 = .ok (.ireturn, 1) := dk_172 (dk_at dksJ31_numberOfTrailingZeros_1 3 rfl rfl)
theorem q114 : (Jvm.Cond.initialized "java/lang/Long") ∈ lw_all := lw_g (lw_at lw_m1 40 rfl) rfl
theorem q1444 : (Jvm.Cond.static ({ cls := "java/lang/Long", name := "numberOfTrailingZeros", desc := "(J)I" } : Jvm.MethodName)) ∈ lw_all := lw_g (lw_at lw_m6 170 rfl) rfl
theorem q1445 : (Jvm.Cond.code ({ cls := "java/lang/Long", name := "numberOfTrailingZeros", desc := "(J)I" } : Jvm.MethodName) prog_21_method_49_code (3 : Nat) (Option.some Jvm.ClassFile.FieldType.int)) ∈ lw_all := lw_g (lw_at lw_m6 171 rfl) rfl
theorem q1446 : (Jvm.Cond.methodLink "java/lang/Long" (311 : Nat) ({ cls := "java/lang/Integer", name := "numberOfTrailingZeros", desc := "(I)I" } : Jvm.MethodName)) ∈ lw_all := lw_g (lw_at lw_m6 172 rfl) rfl
/-! java/lang/Object -/
set_option maxRecDepth 100000
def RJ32 : String := "java/lang/Object"
abbrev cJ32_init : ByteArray := object_method_1_code
def yJ32_init : MethodName := ⟨RJ32, "<init>", "()V"⟩
theorem dJ32_init_0 : decode cJ32_init 0 = .ok (.return_, 1) := by decide +kernel
theorem q123 : (Jvm.Cond.instanceMethod ({ cls := "java/lang/Object", name := "<init>", desc := "()V" } : Jvm.MethodName)) ∈ lw_all := lw_g (lw_at lw_m1 49 rfl) rfl
theorem q124 : (Jvm.Cond.code ({ cls := "java/lang/Object", name := "<init>", desc := "()V" } : Jvm.MethodName) object_method_1_code (1 : Nat) (Option.none : Option Jvm.ClassFile.FieldType)) ∈ lw_all := lw_g (lw_at lw_m1 50 rfl) rfl
theorem q306 : (Jvm.Cond.native ({ cls := "java/lang/Object", name := "clone", desc := "()Ljava/lang/Object;" } : Jvm.MethodName)) ∈ lw_all := lw_g (lw_at lw_m1 232 rfl) rfl
theorem q307 : (Jvm.Cond.instanceMethod ({ cls := "java/lang/Object", name := "clone", desc := "()Ljava/lang/Object;" } : Jvm.MethodName)) ∈ lw_all := lw_g (lw_at lw_m1 233 rfl) rfl
theorem q532 : (Jvm.Cond.instanceMethod ({ cls := "java/lang/Object", name := "getClass", desc := "()Ljava/lang/Class;" } : Jvm.MethodName)) ∈ lw_all := lw_g (lw_at lw_m2 218 rfl) rfl
theorem q533 : (Jvm.Cond.sameMethod "java/lang/Object" "java/lang/Object" "getClass" "()Ljava/lang/Class;") ∈ lw_all := lw_g (lw_at lw_m2 219 rfl) rfl
theorem q556 : (Jvm.Cond.native ({ cls := "java/lang/Object", name := "getClass", desc := "()Ljava/lang/Class;" } : Jvm.MethodName)) ∈ lw_all := lw_g (lw_at lw_m3 2 rfl) rfl
theorem q2035 : (Jvm.Cond.initialized "java/lang/Object") ∈ lw_all := lw_g (lw_at lw_m9 41 rfl) rfl
theorem q2061 : (Jvm.Cond.declares ({ cls := "java/lang/Object", name := "getClass", desc := "()Ljava/lang/Class;" } : Jvm.MethodName)) ∈ lw_tbl := lw_at lw_m9 67 rfl
theorem q2076 : (Jvm.Cond.instantiable "java/lang/Object" (0 : Nat)) ∈ lw_all := lw_g (lw_at lw_m9 82 rfl) rfl
