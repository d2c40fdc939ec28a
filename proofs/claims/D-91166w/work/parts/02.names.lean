set_option maxRecDepth 100000
/-! java/lang/Object -/
def RJ8 : String := "java/lang/Object"
abbrev cJ8_init : ByteArray := object_method_1_code
def yJ8_init : MethodName := ⟨RJ8, "<init>", "()V"⟩
theorem q51 : (Jvm.Cond.instanceMethod ({ cls := "java/lang/Object", name := "<init>", desc := "()V" } : Jvm.MethodName)) ∈ lw_all := lw_g (lw_at lw_m1 21 rfl) rfl
theorem q52 : (Jvm.Cond.code ({ cls := "java/lang/Object", name := "<init>", desc := "()V" } : Jvm.MethodName) object_method_1_code (1 : Nat) (Option.none : Option Jvm.ClassFile.FieldType)) ∈ lw_all := lw_g (lw_at lw_m1 22 rfl) rfl
theorem q286 : (Jvm.Cond.instanceMethod ({ cls := "java/lang/Object", name := "getClass", desc := "()Ljava/lang/Class;" } : Jvm.MethodName)) ∈ lw_all := lw_g (lw_at lw_m2 16 rfl) rfl
theorem q287 : (Jvm.Cond.sameMethod "java/lang/Object" "java/lang/Object" "getClass" "()Ljava/lang/Class;") ∈ lw_all := lw_g (lw_at lw_m2 17 rfl) rfl
theorem q294 : (Jvm.Cond.native ({ cls := "java/lang/Object", name := "getClass", desc := "()Ljava/lang/Class;" } : Jvm.MethodName)) ∈ lw_all := lw_g (lw_at lw_m2 24 rfl) rfl
theorem q732 : (Jvm.Cond.declares ({ cls := "java/lang/Object", name := "getClass", desc := "()Ljava/lang/Class;" } : Jvm.MethodName)) ∈ lw_tbl := lw_at lw_m3 222 rfl
/-! java/util/AbstractCollection -/
def RJ0 : String := "java/util/AbstractCollection"
abbrev cJ0_init : ByteArray := prog_12_method_1_code
def yJ0_init : MethodName := ⟨RJ0, "<init>", "()V"⟩
theorem q32 : (Jvm.Cond.initialized "java/util/AbstractCollection") ∈ lw_all := lw_g (lw_at lw_m1 2 rfl) rfl
theorem q62 : (Jvm.Cond.instanceMethod ({ cls := "java/util/AbstractCollection", name := "<init>", desc := "()V" } : Jvm.MethodName)) ∈ lw_all := lw_g (lw_at lw_m1 32 rfl) rfl
theorem q63 : (Jvm.Cond.code ({ cls := "java/util/AbstractCollection", name := "<init>", desc := "()V" } : Jvm.MethodName) prog_12_method_1_code (1 : Nat) (Option.none : Option Jvm.ClassFile.FieldType)) ∈ lw_all := lw_g (lw_at lw_m1 33 rfl) rfl
theorem q64 : (Jvm.Cond.methodLink "java/util/AbstractCollection" (1 : Nat) ({ cls := "java/lang/Object", name := "<init>", desc := "()V" } : Jvm.MethodName)) ∈ lw_all := lw_g (lw_at lw_m1 34 rfl) rfl
/-! java/util/AbstractList -/
def RJ1 : String := "java/util/AbstractList"
abbrev cJ1_init : ByteArray := prog_13_method_1_code
def yJ1_init : MethodName := ⟨RJ1, "<init>", "()V"⟩
theorem q33 : (Jvm.Cond.initialized "java/util/AbstractList") ∈ lw_all := lw_g (lw_at lw_m1 3 rfl) rfl
theorem q59 : (Jvm.Cond.instanceMethod ({ cls := "java/util/AbstractList", name := "<init>", desc := "()V" } : Jvm.MethodName)) ∈ lw_all := lw_g (lw_at lw_m1 29 rfl) rfl
theorem q60 : (Jvm.Cond.code ({ cls := "java/util/AbstractList", name := "<init>", desc := "()V" } : Jvm.MethodName) prog_13_method_1_code (1 : Nat) (Option.none : Option Jvm.ClassFile.FieldType)) ∈ lw_all := lw_g (lw_at lw_m1 30 rfl) rfl
theorem q61 : (Jvm.Cond.methodLink "java/util/AbstractList" (1 : Nat) ({ cls := "java/util/AbstractCollection", name := "<init>", desc := "()V" } : Jvm.MethodName)) ∈ lw_all := lw_g (lw_at lw_m1 31 rfl) rfl
theorem q69 : (Jvm.Cond.fieldLink "java/util/AbstractList" (7 : Nat) "java/util/AbstractList" "modCount" "I") ∈ lw_all := lw_g (lw_at lw_m1 39 rfl) rfl
theorem q77 : (Jvm.Cond.soleField "java/util/AbstractList" "modCount") ∈ lw_all := lw_g (lw_at lw_m1 47 rfl) rfl
/-! java/util/ArrayList -/
def RJ2 : String := "java/util/ArrayList"
def TJ2 : u_T := fun k => match k with
  | 0 => ("java/util/AbstractList", "modCount", "I", false)
  | 1 => ("java/util/ArrayList", "elementData", "[Ljava/lang/Object;", false)
  | _ => ("java/util/ArrayList", "size", "I", false)
def tyJ2 : Nat → FieldType := fun k => match k with
  | 0 => .int
  | 1 => .array (.object "java/lang/Object")
  | _ => .int
abbrev wsJ20 : List Cond := u_ws RJ2 TJ2 3
theorem nmJ2 : ∀ a, a < 3 → ∀ b, b < 3 → a ≠ b → (TJ2 a).2.1 ≠ (TJ2 b).2.1 := by decide +kernel
theorem tyJ2_ok : ∀ k, k < 3 → parseFieldDescriptor (TJ2 k).2.2.1 = some (tyJ2 k) := by decide +kernel
abbrev cJ2_init : ByteArray := prog_14_method_2_code
def yJ2_init : MethodName := ⟨RJ2, "<init>", "()V"⟩
abbrev cJ2_size : ByteArray := prog_14_method_8_code
def yJ2_size : MethodName := ⟨RJ2, "size", "()I"⟩
abbrev cJ2_get : ByteArray := prog_14_method_20_code
def yJ2_get : MethodName := ⟨RJ2, "get", "(I)Ljava/lang/Object;"⟩
abbrev cJ2_elementData : ByteArray := prog_14_method_18_code
def yJ2_elementData : MethodName := ⟨RJ2, "elementData", "(I)Ljava/lang/Object;"⟩
abbrev cJ2_add : ByteArray := prog_14_method_25_code
def yJ2_add : MethodName := ⟨RJ2, "add", "(Ljava/lang/Object;)Z"⟩
abbrev cJ2_add_2 : ByteArray := prog_14_method_24_code
def yJ2_add_2 : MethodName := ⟨RJ2, "add", "(Ljava/lang/Object;[Ljava/lang/Object;I)V"⟩
abbrev cJ2_grow : ByteArray := prog_14_method_7_code
def yJ2_grow : MethodName := ⟨RJ2, "grow", "()[Ljava/lang/Object;"⟩
abbrev cJ2_grow_2 : ByteArray := prog_14_method_6_code
def yJ2_grow_2 : MethodName := ⟨RJ2, "grow", "(I)[Ljava/lang/Object;"⟩
abbrev cJ2_clear : ByteArray := prog_14_method_40_code
def yJ2_clear : MethodName := ⟨RJ2, "clear", "()V"⟩
abbrev cJ2_set : ByteArray := prog_14_method_23_code
def yJ2_set : MethodName := ⟨RJ2, "set", "(ILjava/lang/Object;)Ljava/lang/Object;"⟩
abbrev cJ2_add_3 : ByteArray := prog_14_method_26_code
def yJ2_add_3 : MethodName := ⟨RJ2, "add", "(ILjava/lang/Object;)V"⟩
abbrev cJ2_rangeCheckForAdd : ByteArray := prog_14_method_45_code
def yJ2_rangeCheckForAdd : MethodName := ⟨RJ2, "rangeCheckForAdd", "(I)V"⟩
theorem q34 : (Jvm.Cond.initialized "java/util/ArrayList") ∈ lw_all := lw_g (lw_at lw_m1 4 rfl) rfl
theorem q54 : (Jvm.Cond.instantiable "java/util/ArrayList" (3 : Nat)) ∈ lw_all := lw_g (lw_at lw_m1 24 rfl) rfl
theorem q56 : (Jvm.Cond.instanceMethod ({ cls := "java/util/ArrayList", name := "<init>", desc := "()V" } : Jvm.MethodName)) ∈ lw_all := lw_g (lw_at lw_m1 26 rfl) rfl
theorem q57 : (Jvm.Cond.code ({ cls := "java/util/ArrayList", name := "<init>", desc := "()V" } : Jvm.MethodName) prog_14_method_2_code (1 : Nat) (Option.none : Option Jvm.ClassFile.FieldType)) ∈ lw_all := lw_g (lw_at lw_m1 27 rfl) rfl
theorem q58 : (Jvm.Cond.methodLink "java/util/ArrayList" (1 : Nat) ({ cls := "java/util/AbstractList", name := "<init>", desc := "()V" } : Jvm.MethodName)) ∈ lw_all := lw_g (lw_at lw_m1 28 rfl) rfl
theorem q65 : (Jvm.Cond.fieldLink "java/util/ArrayList" (39 : Nat) "java/util/ArrayList" "DEFAULTCAPACITY_EMPTY_ELEMENTDATA" "[Ljava/lang/Object;") ∈ lw_all := lw_g (lw_at lw_m1 35 rfl) rfl
theorem q66 : (Jvm.Cond.laysStatic "java/util/ArrayList" "DEFAULTCAPACITY_EMPTY_ELEMENTDATA" "[Ljava/lang/Object;") ∈ lw_tbl := lw_at lw_m1 36 rfl
theorem q67 : (Jvm.Cond.fieldLink "java/util/ArrayList" (9 : Nat) "java/util/ArrayList" "elementData" "[Ljava/lang/Object;") ∈ lw_all := lw_g (lw_at lw_m1 37 rfl) rfl
theorem q68 : (Jvm.Cond.fieldLink "java/util/ArrayList" (48 : Nat) "java/util/ArrayList" "size" "I") ∈ lw_all := lw_g (lw_at lw_m1 38 rfl) rfl
theorem q70 : (Jvm.Cond.fieldLink "java/util/ArrayList" (63 : Nat) "java/util/ArrayList" "modCount" "I") ∈ lw_all := lw_g (lw_at lw_m1 40 rfl) rfl
theorem q71 : (Jvm.Cond.sameField "java/util/ArrayList" "java/util/AbstractList" "modCount" "I") ∈ lw_all := lw_g (lw_at lw_m1 41 rfl) rfl
theorem q72 : (Jvm.Cond.lays "java/util/ArrayList" "java/util/ArrayList" "elementData" "[Ljava/lang/Object;") ∈ lw_all := lw_g (lw_at lw_m1 42 rfl) rfl
theorem q73 : (Jvm.Cond.soleField "java/util/ArrayList" "elementData") ∈ lw_all := lw_g (lw_at lw_m1 43 rfl) rfl
theorem q74 : (Jvm.Cond.lays "java/util/ArrayList" "java/util/ArrayList" "size" "I") ∈ lw_all := lw_g (lw_at lw_m1 44 rfl) rfl
theorem q75 : (Jvm.Cond.soleField "java/util/ArrayList" "size") ∈ lw_all := lw_g (lw_at lw_m1 45 rfl) rfl
theorem q76 : (Jvm.Cond.lays "java/util/ArrayList" "java/util/AbstractList" "modCount" "I") ∈ lw_all := lw_g (lw_at lw_m1 46 rfl) rfl
theorem q78 : (Jvm.Cond.superclass "java/util/ArrayList" "java/util/AbstractList") ∈ lw_all := lw_g (lw_at lw_m1 48 rfl) rfl
theorem q161 : (Jvm.Cond.instanceMethod ({ cls := "java/util/ArrayList", name := "size", desc := "()I" } : Jvm.MethodName)) ∈ lw_all := lw_g (lw_at lw_m1 131 rfl) rfl
theorem q162 : (Jvm.Cond.selects "java/util/ArrayList" ({ cls := "java/util/ArrayList", name := "size", desc := "()I" } : Jvm.MethodName) ({ cls := "java/util/ArrayList", name := "size", desc := "()I" } : Jvm.MethodName)) ∈ lw_all := lw_g (lw_at lw_m1 132 rfl) rfl
theorem q163 : (Jvm.Cond.code ({ cls := "java/util/ArrayList", name := "size", desc := "()I" } : Jvm.MethodName) prog_14_method_8_code (1 : Nat) (Option.some Jvm.ClassFile.FieldType.int)) ∈ lw_all := lw_g (lw_at lw_m1 133 rfl) rfl
theorem q165 : (Jvm.Cond.instanceMethod ({ cls := "java/util/ArrayList", name := "get", desc := "(I)Ljava/lang/Object;" } : Jvm.MethodName)) ∈ lw_all := lw_g (lw_at lw_m1 135 rfl) rfl
theorem q166 : (Jvm.Cond.selects "java/util/ArrayList" ({ cls := "java/util/ArrayList", name := "get", desc := "(I)Ljava/lang/Object;" } : Jvm.MethodName) ({ cls := "java/util/ArrayList", name := "get", desc := "(I)Ljava/lang/Object;" } : Jvm.MethodName)) ∈ lw_all := lw_g (lw_at lw_m1 136 rfl) rfl
theorem q167 : (Jvm.Cond.code ({ cls := "java/util/ArrayList", name := "get", desc := "(I)Ljava/lang/Object;" } : Jvm.MethodName) prog_14_method_20_code (2 : Nat) (Option.some (Jvm.ClassFile.FieldType.object "java/lang/Object"))) ∈ lw_all := lw_g (lw_at lw_m1 137 rfl) rfl
theorem q168 : (Jvm.Cond.methodLink "java/util/ArrayList" (118 : Nat) ({ cls := "java/util/Objects", name := "checkIndex", desc := "(II)I" } : Jvm.MethodName)) ∈ lw_all := lw_g (lw_at lw_m1 138 rfl) rfl
theorem q174 : (Jvm.Cond.methodLink "java/util/ArrayList" (123 : Nat) ({ cls := "java/util/ArrayList", name := "elementData", desc := "(I)Ljava/lang/Object;" } : Jvm.MethodName)) ∈ lw_all := lw_g (lw_at lw_m1 144 rfl) rfl
theorem q175 : (Jvm.Cond.instanceMethod ({ cls := "java/util/ArrayList", name := "elementData", desc := "(I)Ljava/lang/Object;" } : Jvm.MethodName)) ∈ lw_all := lw_g (lw_at lw_m1 145 rfl) rfl
theorem q176 : (Jvm.Cond.selects "java/util/ArrayList" ({ cls := "java/util/ArrayList", name := "elementData", desc := "(I)Ljava/lang/Object;" } : Jvm.MethodName) ({ cls := "java/util/ArrayList", name := "elementData", desc := "(I)Ljava/lang/Object;" } : Jvm.MethodName)) ∈ lw_all := lw_g (lw_at lw_m1 146 rfl) rfl
theorem q177 : (Jvm.Cond.code ({ cls := "java/util/ArrayList", name := "elementData", desc := "(I)Ljava/lang/Object;" } : Jvm.MethodName) prog_14_method_18_code (2 : Nat) (Option.some (Jvm.ClassFile.FieldType.object "java/lang/Object"))) ∈ lw_all := lw_g (lw_at lw_m1 147 rfl) rfl
theorem q257 : (Jvm.Cond.instanceMethod ({ cls := "java/util/ArrayList", name := "add", desc := "(Ljava/lang/Object;)Z" } : Jvm.MethodName)) ∈ lw_all := lw_g (lw_at lw_m1 227 rfl) rfl
theorem q258 : (Jvm.Cond.selects "java/util/ArrayList" ({ cls := "java/util/ArrayList", name := "add", desc := "(Ljava/lang/Object;)Z" } : Jvm.MethodName) ({ cls := "java/util/ArrayList", name := "add", desc := "(Ljava/lang/Object;)Z" } : Jvm.MethodName)) ∈ lw_all := lw_g (lw_at lw_m1 228 rfl) rfl
theorem q259 : (Jvm.Cond.code ({ cls := "java/util/ArrayList", name := "add", desc := "(Ljava/lang/Object;)Z" } : Jvm.MethodName) prog_14_method_25_code (2 : Nat) (Option.some Jvm.ClassFile.FieldType.boolean)) ∈ lw_all := lw_g (lw_at lw_m1 229 rfl) rfl
theorem q260 : (Jvm.Cond.methodLink "java/util/ArrayList" (131 : Nat) ({ cls := "java/util/ArrayList", name := "add", desc := "(Ljava/lang/Object;[Ljava/lang/Object;I)V" } : Jvm.MethodName)) ∈ lw_all := lw_g (lw_at lw_m1 230 rfl) rfl
theorem q261 : (Jvm.Cond.privateMethod ({ cls := "java/util/ArrayList", name := "add", desc := "(Ljava/lang/Object;[Ljava/lang/Object;I)V" } : Jvm.MethodName)) ∈ lw_tbl := lw_at lw_m1 231 rfl
theorem q262 : (Jvm.Cond.instanceMethod ({ cls := "java/util/ArrayList", name := "add", desc := "(Ljava/lang/Object;[Ljava/lang/Object;I)V" } : Jvm.MethodName)) ∈ lw_all := lw_g (lw_at lw_m1 232 rfl) rfl
theorem q263 : (Jvm.Cond.code ({ cls := "java/util/ArrayList", name := "add", desc := "(Ljava/lang/Object;[Ljava/lang/Object;I)V" } : Jvm.MethodName) prog_14_method_24_code (4 : Nat) (Option.none : Option Jvm.ClassFile.FieldType)) ∈ lw_all := lw_g (lw_at lw_m1 233 rfl) rfl
theorem q264 : (Jvm.Cond.methodLink "java/util/ArrayList" (129 : Nat) ({ cls := "java/util/ArrayList", name := "grow", desc := "()[Ljava/lang/Object;" } : Jvm.MethodName)) ∈ lw_all := lw_g (lw_at lw_m1 234 rfl) rfl
theorem q265 : (Jvm.Cond.privateMethod ({ cls := "java/util/ArrayList", name := "grow", desc := "()[Ljava/lang/Object;" } : Jvm.MethodName)) ∈ lw_tbl := lw_at lw_m1 235 rfl
theorem q266 : (Jvm.Cond.instanceMethod ({ cls := "java/util/ArrayList", name := "grow", desc := "()[Ljava/lang/Object;" } : Jvm.MethodName)) ∈ lw_all := lw_g (lw_at lw_m1 236 rfl) rfl
theorem q267 : (Jvm.Cond.code ({ cls := "java/util/ArrayList", name := "grow", desc := "()[Ljava/lang/Object;" } : Jvm.MethodName) prog_14_method_7_code (1 : Nat) (Option.some (Jvm.ClassFile.FieldType.array (Jvm.ClassFile.FieldType.object "java/lang/Object")))) ∈ lw_all := lw_g (lw_at lw_m1 237 rfl) rfl
theorem q268 : (Jvm.Cond.methodLink "java/util/ArrayList" (69 : Nat) ({ cls := "java/util/ArrayList", name := "grow", desc := "(I)[Ljava/lang/Object;" } : Jvm.MethodName)) ∈ lw_all := lw_g (lw_at lw_m1 238 rfl) rfl
theorem q269 : (Jvm.Cond.privateMethod ({ cls := "java/util/ArrayList", name := "grow", desc := "(I)[Ljava/lang/Object;" } : Jvm.MethodName)) ∈ lw_tbl := lw_at lw_m1 239 rfl
theorem q270 : (Jvm.Cond.instanceMethod ({ cls := "java/util/ArrayList", name := "grow", desc := "(I)[Ljava/lang/Object;" } : Jvm.MethodName)) ∈ lw_all := lw_g (lw_at lw_m2 0 rfl) rfl
theorem q271 : (Jvm.Cond.code ({ cls := "java/util/ArrayList", name := "grow", desc := "(I)[Ljava/lang/Object;" } : Jvm.MethodName) prog_14_method_6_code (4 : Nat) (Option.some (Jvm.ClassFile.FieldType.array (Jvm.ClassFile.FieldType.object "java/lang/Object")))) ∈ lw_all := lw_g (lw_at lw_m2 1 rfl) rfl
theorem q272 : (Jvm.Cond.methodLink "java/util/ArrayList" (73 : Nat) ({ cls := "jdk/internal/util/ArraysSupport", name := "newLength", desc := "(III)I" } : Jvm.MethodName)) ∈ lw_all := lw_g (lw_at lw_m2 2 rfl) rfl
theorem q282 : (Jvm.Cond.methodLink "java/util/ArrayList" (66 : Nat) ({ cls := "java/util/Arrays", name := "copyOf", desc := "([Ljava/lang/Object;I)[Ljava/lang/Object;" } : Jvm.MethodName)) ∈ lw_all := lw_g (lw_at lw_m2 12 rfl) rfl
theorem q293 : (Jvm.Cond.selects "java/util/ArrayList" ({ cls := "java/lang/Object", name := "getClass", desc := "()Ljava/lang/Class;" } : Jvm.MethodName) ({ cls := "java/lang/Object", name := "getClass", desc := "()Ljava/lang/Class;" } : Jvm.MethodName)) ∈ lw_all := lw_g (lw_at lw_m2 23 rfl) rfl
theorem q307 : (Jvm.Cond.methodLink "java/util/ArrayList" (79 : Nat) ({ cls := "java/lang/Math", name := "max", desc := "(II)I" } : Jvm.MethodName)) ∈ lw_all := lw_g (lw_at lw_m2 37 rfl) rfl
theorem q308 : (Jvm.Cond.classLink "java/util/ArrayList" (7 : Nat) "java/lang/Object") ∈ lw_all := lw_g (lw_at lw_m2 38 rfl) rfl
theorem q376 : (Jvm.Cond.instanceMethod ({ cls := "java/util/ArrayList", name := "clear", desc := "()V" } : Jvm.MethodName)) ∈ lw_all := lw_g (lw_at lw_m2 106 rfl) rfl
theorem q377 : (Jvm.Cond.selects "java/util/ArrayList" ({ cls := "java/util/ArrayList", name := "clear", desc := "()V" } : Jvm.MethodName) ({ cls := "java/util/ArrayList", name := "clear", desc := "()V" } : Jvm.MethodName)) ∈ lw_all := lw_g (lw_at lw_m2 107 rfl) rfl
theorem q378 : (Jvm.Cond.code ({ cls := "java/util/ArrayList", name := "clear", desc := "()V" } : Jvm.MethodName) prog_14_method_40_code (4 : Nat) (Option.none : Option Jvm.ClassFile.FieldType)) ∈ lw_all := lw_g (lw_at lw_m2 108 rfl) rfl
theorem q412 : (Jvm.Cond.instanceMethod ({ cls := "java/util/ArrayList", name := "set", desc := "(ILjava/lang/Object;)Ljava/lang/Object;" } : Jvm.MethodName)) ∈ lw_all := lw_g (lw_at lw_m2 142 rfl) rfl
theorem q413 : (Jvm.Cond.selects "java/util/ArrayList" ({ cls := "java/util/ArrayList", name := "set", desc := "(ILjava/lang/Object;)Ljava/lang/Object;" } : Jvm.MethodName) ({ cls := "java/util/ArrayList", name := "set", desc := "(ILjava/lang/Object;)Ljava/lang/Object;" } : Jvm.MethodName)) ∈ lw_all := lw_g (lw_at lw_m2 143 rfl) rfl
theorem q414 : (Jvm.Cond.code ({ cls := "java/util/ArrayList", name := "set", desc := "(ILjava/lang/Object;)Ljava/lang/Object;" } : Jvm.MethodName) prog_14_method_23_code (4 : Nat) (Option.some (Jvm.ClassFile.FieldType.object "java/lang/Object"))) ∈ lw_all := lw_g (lw_at lw_m2 144 rfl) rfl
theorem q451 : (Jvm.Cond.instanceMethod ({ cls := "java/util/ArrayList", name := "add", desc := "(ILjava/lang/Object;)V" } : Jvm.MethodName)) ∈ lw_all := lw_g (lw_at lw_m2 181 rfl) rfl
theorem q452 : (Jvm.Cond.selects "java/util/ArrayList" ({ cls := "java/util/ArrayList", name := "add", desc := "(ILjava/lang/Object;)V" } : Jvm.MethodName) ({ cls := "java/util/ArrayList", name := "add", desc := "(ILjava/lang/Object;)V" } : Jvm.MethodName)) ∈ lw_all := lw_g (lw_at lw_m2 182 rfl) rfl
theorem q453 : (Jvm.Cond.code ({ cls := "java/util/ArrayList", name := "add", desc := "(ILjava/lang/Object;)V" } : Jvm.MethodName) prog_14_method_26_code (5 : Nat) (Option.none : Option Jvm.ClassFile.FieldType)) ∈ lw_all := lw_g (lw_at lw_m2 183 rfl) rfl
theorem q454 : (Jvm.Cond.methodLink "java/util/ArrayList" (135 : Nat) ({ cls := "java/util/ArrayList", name := "rangeCheckForAdd", desc := "(I)V" } : Jvm.MethodName)) ∈ lw_all := lw_g (lw_at lw_m2 184 rfl) rfl
theorem q455 : (Jvm.Cond.privateMethod ({ cls := "java/util/ArrayList", name := "rangeCheckForAdd", desc := "(I)V" } : Jvm.MethodName)) ∈ lw_tbl := lw_at lw_m2 185 rfl
theorem q456 : (Jvm.Cond.instanceMethod ({ cls := "java/util/ArrayList", name := "rangeCheckForAdd", desc := "(I)V" } : Jvm.MethodName)) ∈ lw_all := lw_g (lw_at lw_m2 186 rfl) rfl
theorem q457 : (Jvm.Cond.code ({ cls := "java/util/ArrayList", name := "rangeCheckForAdd", desc := "(I)V" } : Jvm.MethodName) prog_14_method_45_code (2 : Nat) (Option.none : Option Jvm.ClassFile.FieldType)) ∈ lw_all := lw_g (lw_at lw_m2 187 rfl) rfl
theorem q458 : (Jvm.Cond.methodLink "java/util/ArrayList" (112 : Nat) ({ cls := "java/lang/System", name := "arraycopy", desc := "(Ljava/lang/Object;ILjava/lang/Object;II)V" } : Jvm.MethodName)) ∈ lw_all := lw_g (lw_at lw_m2 188 rfl) rfl
theorem q725 : (Jvm.Cond.castable "java/util/ArrayList" "java/lang/Object") ∈ lw_tbl := lw_at lw_m3 215 rfl
theorem in_J2 : ∀ w ∈ wsJ20, w ∈ lw_all := lw_in wsJ20 [76, 72, 74] (by decide +kernel) (by decide +kernel)
/-! java/util/Objects -/
def RJ3 : String := "java/util/Objects"
abbrev cJ3_checkIndex : ByteArray := prog_18_method_17_code
def yJ3_checkIndex : MethodName := ⟨RJ3, "checkIndex", "(II)I"⟩
theorem q36 : (Jvm.Cond.initialized "java/util/Objects") ∈ lw_all := lw_g (lw_at lw_m1 6 rfl) rfl
theorem q169 : (Jvm.Cond.static ({ cls := "java/util/Objects", name := "checkIndex", desc := "(II)I" } : Jvm.MethodName)) ∈ lw_all := lw_g (lw_at lw_m1 139 rfl) rfl
theorem q170 : (Jvm.Cond.code ({ cls := "java/util/Objects", name := "checkIndex", desc := "(II)I" } : Jvm.MethodName) prog_18_method_17_code (2 : Nat) (Option.some Jvm.ClassFile.FieldType.int)) ∈ lw_all := lw_g (lw_at lw_m1 140 rfl) rfl
theorem q171 : (Jvm.Cond.methodLink "java/util/Objects" (105 : Nat) ({ cls := "jdk/internal/util/Preconditions", name := "checkIndex", desc := "(IILjava/util/function/BiFunction;)I" } : Jvm.MethodName)) ∈ lw_all := lw_g (lw_at lw_m1 141 rfl) rfl
/-! jdk/internal/util/Preconditions -/
def RJ4 : String := "jdk/internal/util/Preconditions"
abbrev cJ4_checkIndex : ByteArray := prog_22_method_11_code
def yJ4_checkIndex : MethodName := ⟨RJ4, "checkIndex", "(IILjava/util/function/BiFunction;)I"⟩
theorem q37 : (Jvm.Cond.initialized "jdk/internal/util/Preconditions") ∈ lw_all := lw_g (lw_at lw_m1 7 rfl) rfl
theorem q172 : (Jvm.Cond.static ({ cls := "jdk/internal/util/Preconditions", name := "checkIndex", desc := "(IILjava/util/function/BiFunction;)I" } : Jvm.MethodName)) ∈ lw_all := lw_g (lw_at lw_m1 142 rfl) rfl
theorem q173 : (Jvm.Cond.code ({ cls := "jdk/internal/util/Preconditions", name := "checkIndex", desc := "(IILjava/util/function/BiFunction;)I" } : Jvm.MethodName) prog_22_method_11_code (3 : Nat) (Option.some Jvm.ClassFile.FieldType.int)) ∈ lw_all := lw_g (lw_at lw_m1 143 rfl) rfl
/-! jdk/internal/util/ArraysSupport -/
def RJ5 : String := "jdk/internal/util/ArraysSupport"
abbrev cJ5_newLength : ByteArray := prog_21_method_27_code
def yJ5_newLength : MethodName := ⟨RJ5, "newLength", "(III)I"⟩
abbrev cJ5_hugeLength : ByteArray := prog_21_method_28_code
def yJ5_hugeLength : MethodName := ⟨RJ5, "hugeLength", "(II)I"⟩
theorem q39 : (Jvm.Cond.initialized "jdk/internal/util/ArraysSupport") ∈ lw_all := lw_g (lw_at lw_m1 9 rfl) rfl
theorem q273 : (Jvm.Cond.static ({ cls := "jdk/internal/util/ArraysSupport", name := "newLength", desc := "(III)I" } : Jvm.MethodName)) ∈ lw_all := lw_g (lw_at lw_m2 3 rfl) rfl
theorem q274 : (Jvm.Cond.code ({ cls := "jdk/internal/util/ArraysSupport", name := "newLength", desc := "(III)I" } : Jvm.MethodName) prog_21_method_27_code (4 : Nat) (Option.some Jvm.ClassFile.FieldType.int)) ∈ lw_all := lw_g (lw_at lw_m2 4 rfl) rfl
theorem q275 : (Jvm.Cond.methodLink "jdk/internal/util/ArraysSupport" (194 : Nat) ({ cls := "java/lang/Math", name := "max", desc := "(II)I" } : Jvm.MethodName)) ∈ lw_all := lw_g (lw_at lw_m2 5 rfl) rfl
theorem q278 : (Jvm.Cond.constant "jdk/internal/util/ArraysSupport" (200 : Nat) (2147483639 : Int32)) ∈ lw_all := lw_g (lw_at lw_m2 8 rfl) rfl
theorem q279 : (Jvm.Cond.methodLink "jdk/internal/util/ArraysSupport" (201 : Nat) ({ cls := "jdk/internal/util/ArraysSupport", name := "hugeLength", desc := "(II)I" } : Jvm.MethodName)) ∈ lw_all := lw_g (lw_at lw_m2 9 rfl) rfl
theorem q280 : (Jvm.Cond.static ({ cls := "jdk/internal/util/ArraysSupport", name := "hugeLength", desc := "(II)I" } : Jvm.MethodName)) ∈ lw_all := lw_g (lw_at lw_m2 10 rfl) rfl
theorem q281 : (Jvm.Cond.code ({ cls := "jdk/internal/util/ArraysSupport", name := "hugeLength", desc := "(II)I" } : Jvm.MethodName) prog_21_method_28_code (3 : Nat) (Option.some Jvm.ClassFile.FieldType.int)) ∈ lw_all := lw_g (lw_at lw_m2 11 rfl) rfl
/-! java/lang/Math -/
def RJ6 : String := "java/lang/Math"
abbrev cJ6_max : ByteArray := prog_10_method_65_code
def yJ6_max : MethodName := ⟨RJ6, "max", "(II)I"⟩
abbrev cJ6_min : ByteArray := prog_10_method_69_code
def yJ6_min : MethodName := ⟨RJ6, "min", "(II)I"⟩
abbrev cJ6_abs : ByteArray := prog_10_method_59_code
def yJ6_abs : MethodName := ⟨RJ6, "abs", "(I)I"⟩
theorem q40 : (Jvm.Cond.initialized "java/lang/Math") ∈ lw_all := lw_g (lw_at lw_m1 10 rfl) rfl
theorem q276 : (Jvm.Cond.static ({ cls := "java/lang/Math", name := "max", desc := "(II)I" } : Jvm.MethodName)) ∈ lw_all := lw_g (lw_at lw_m2 6 rfl) rfl
theorem q277 : (Jvm.Cond.code ({ cls := "java/lang/Math", name := "max", desc := "(II)I" } : Jvm.MethodName) prog_10_method_65_code (2 : Nat) (Option.some Jvm.ClassFile.FieldType.int)) ∈ lw_all := lw_g (lw_at lw_m2 7 rfl) rfl
theorem q302 : (Jvm.Cond.static ({ cls := "java/lang/Math", name := "min", desc := "(II)I" } : Jvm.MethodName)) ∈ lw_all := lw_g (lw_at lw_m2 32 rfl) rfl
theorem q303 : (Jvm.Cond.code ({ cls := "java/lang/Math", name := "min", desc := "(II)I" } : Jvm.MethodName) prog_10_method_69_code (2 : Nat) (Option.some Jvm.ClassFile.FieldType.int)) ∈ lw_all := lw_g (lw_at lw_m2 33 rfl) rfl
theorem q384 : (Jvm.Cond.static ({ cls := "java/lang/Math", name := "abs", desc := "(I)I" } : Jvm.MethodName)) ∈ lw_all := lw_g (lw_at lw_m2 114 rfl) rfl
theorem q385 : (Jvm.Cond.code ({ cls := "java/lang/Math", name := "abs", desc := "(I)I" } : Jvm.MethodName) prog_10_method_59_code (1 : Nat) (Option.some Jvm.ClassFile.FieldType.int)) ∈ lw_all := lw_g (lw_at lw_m2 115 rfl) rfl
/-! java/util/Arrays -/
def RJ7 : String := "java/util/Arrays"
abbrev cJ7_copyOf : ByteArray := prog_15_method_119_code
def yJ7_copyOf : MethodName := ⟨RJ7, "copyOf", "([Ljava/lang/Object;I)[Ljava/lang/Object;"⟩
abbrev cJ7_copyOf_2 : ByteArray := prog_15_method_120_code
def yJ7_copyOf_2 : MethodName := ⟨RJ7, "copyOf", "([Ljava/lang/Object;ILjava/lang/Class;)[Ljava/lang/Object;"⟩
theorem q41 : (Jvm.Cond.initialized "java/util/Arrays") ∈ lw_all := lw_g (lw_at lw_m1 11 rfl) rfl
theorem q283 : (Jvm.Cond.static ({ cls := "java/util/Arrays", name := "copyOf", desc := "([Ljava/lang/Object;I)[Ljava/lang/Object;" } : Jvm.MethodName)) ∈ lw_all := lw_g (lw_at lw_m2 13 rfl) rfl
theorem q284 : (Jvm.Cond.code ({ cls := "java/util/Arrays", name := "copyOf", desc := "([Ljava/lang/Object;I)[Ljava/lang/Object;" } : Jvm.MethodName) prog_15_method_119_code (2 : Nat) (Option.some (Jvm.ClassFile.FieldType.array (Jvm.ClassFile.FieldType.object "java/lang/Object")))) ∈ lw_all := lw_g (lw_at lw_m2 14 rfl) rfl
theorem q285 : (Jvm.Cond.methodLink "java/util/Arrays" (86 : Nat) ({ cls := "java/lang/Object", name := "getClass", desc := "()Ljava/lang/Class;" } : Jvm.MethodName)) ∈ lw_all := lw_g (lw_at lw_m2 15 rfl) rfl
theorem q295 : (Jvm.Cond.methodLink "java/util/Arrays" (300 : Nat) ({ cls := "java/util/Arrays", name := "copyOf", desc := "([Ljava/lang/Object;ILjava/lang/Class;)[Ljava/lang/Object;" } : Jvm.MethodName)) ∈ lw_all := lw_g (lw_at lw_m2 25 rfl) rfl
theorem q296 : (Jvm.Cond.static ({ cls := "java/util/Arrays", name := "copyOf", desc := "([Ljava/lang/Object;ILjava/lang/Class;)[Ljava/lang/Object;" } : Jvm.MethodName)) ∈ lw_all := lw_g (lw_at lw_m2 26 rfl) rfl
theorem q297 : (Jvm.Cond.code ({ cls := "java/util/Arrays", name := "copyOf", desc := "([Ljava/lang/Object;ILjava/lang/Class;)[Ljava/lang/Object;" } : Jvm.MethodName) prog_15_method_120_code (4 : Nat) (Option.some (Jvm.ClassFile.FieldType.array (Jvm.ClassFile.FieldType.object "java/lang/Object")))) ∈ lw_all := lw_g (lw_at lw_m2 27 rfl) rfl
theorem q298 : (Jvm.Cond.classLink "java/util/Arrays" (110 : Nat) "[Ljava/lang/Object;") ∈ lw_all := lw_g (lw_at lw_m2 28 rfl) rfl
theorem q300 : (Jvm.Cond.classLink "java/util/Arrays" (2 : Nat) "java/lang/Object") ∈ lw_all := lw_g (lw_at lw_m2 30 rfl) rfl
theorem q301 : (Jvm.Cond.methodLink "java/util/Arrays" (304 : Nat) ({ cls := "java/lang/Math", name := "min", desc := "(II)I" } : Jvm.MethodName)) ∈ lw_all := lw_g (lw_at lw_m2 31 rfl) rfl
theorem q304 : (Jvm.Cond.methodLink "java/util/Arrays" (150 : Nat) ({ cls := "java/lang/System", name := "arraycopy", desc := "(Ljava/lang/Object;ILjava/lang/Object;II)V" } : Jvm.MethodName)) ∈ lw_all := lw_g (lw_at lw_m2 34 rfl) rfl
/-! CryOrder$Alarm -/
def RX2 : String := "CryOrder$Alarm"
def TX2 : u_T := fun k => match k with
  | 0 => ("CryOrder$Alarm", "number", "I", true)
  | 1 => ("CryOrder$Alarm", "came", "I", true)
  | 2 => ("CryOrder$Alarm", "source", "I", true)
  | 3 => ("CryOrder$Alarm", "thing", "I", true)
  | 4 => ("CryOrder$Alarm", "marks", "I", true)
  | 5 => ("CryOrder$Alarm", "worth", "I", true)
  | 6 => ("CryOrder$Alarm", "isSilenced", "Z", true)
  | 7 => ("CryOrder$Alarm", "isCapped", "Z", true)
  | 8 => ("CryOrder$Alarm", "verdicts", "Ljava/util/ArrayList;", true)
  | 9 => ("CryOrder$Alarm", "repeated", "I", false)
  | 10 => ("CryOrder$Alarm", "latest", "I", false)
  | _ => ("CryOrder$Alarm", "how", "I", false)
def tyX2 : Nat → FieldType := fun k => match k with
  | 0 => .int
  | 1 => .int
  | 2 => .int
  | 3 => .int
  | 4 => .int
  | 5 => .int
  | 6 => .boolean
  | 7 => .boolean
  | 8 => .object "java/util/ArrayList"
  | 9 => .int
  | 10 => .int
  | _ => .int
abbrev wsX20 : List Cond := u_ws RX2 TX2 12
theorem nmX2 : ∀ a, a < 12 → ∀ b, b < 12 → a ≠ b → (TX2 a).2.1 ≠ (TX2 b).2.1 := by decide +kernel
theorem tyX2_ok : ∀ k, k < 12 → parseFieldDescriptor (TX2 k).2.2.1 = some (tyX2 k) := by decide +kernel
abbrev cX2_isLike : ByteArray := prog_2_method_4_code
def yX2_isLike : MethodName := ⟨RX2, "isLike", "(III)Z"⟩
abbrev cX2_isWaiting : ByteArray := prog_2_method_3_code
def yX2_isWaiting : MethodName := ⟨RX2, "isWaiting", "()Z"⟩
abbrev cX2_isHeard : ByteArray := prog_2_method_2_code
def yX2_isHeard : MethodName := ⟨RX2, "isHeard", "()Z"⟩
abbrev cX2_init : ByteArray := prog_2_method_1_code
def yX2_init : MethodName := ⟨RX2, "<init>", "(IIIIIIZZ)V"⟩
abbrev cX2_isAt : ByteArray := prog_2_method_5_code
def yX2_isAt : MethodName := ⟨RX2, "isAt", "(II)Z"⟩
theorem q38 : (Jvm.Cond.initialized "CryOrder$Alarm") ∈ lw_all := lw_g (lw_at lw_m1 8 rfl) rfl
theorem q180 : (Jvm.Cond.instanceMethod ({ cls := "CryOrder$Alarm", name := "isLike", desc := "(III)Z" } : Jvm.MethodName)) ∈ lw_all := lw_g (lw_at lw_m1 150 rfl) rfl
theorem q181 : (Jvm.Cond.selects "CryOrder$Alarm" ({ cls := "CryOrder$Alarm", name := "isLike", desc := "(III)Z" } : Jvm.MethodName) ({ cls := "CryOrder$Alarm", name := "isLike", desc := "(III)Z" } : Jvm.MethodName)) ∈ lw_all := lw_g (lw_at lw_m1 151 rfl) rfl
theorem q182 : (Jvm.Cond.code ({ cls := "CryOrder$Alarm", name := "isLike", desc := "(III)Z" } : Jvm.MethodName) prog_2_method_4_code (4 : Nat) (Option.some Jvm.ClassFile.FieldType.boolean)) ∈ lw_all := lw_g (lw_at lw_m1 152 rfl) rfl
theorem q184 : (Jvm.Cond.instanceMethod ({ cls := "CryOrder$Alarm", name := "isWaiting", desc := "()Z" } : Jvm.MethodName)) ∈ lw_all := lw_g (lw_at lw_m1 154 rfl) rfl
theorem q185 : (Jvm.Cond.selects "CryOrder$Alarm" ({ cls := "CryOrder$Alarm", name := "isWaiting", desc := "()Z" } : Jvm.MethodName) ({ cls := "CryOrder$Alarm", name := "isWaiting", desc := "()Z" } : Jvm.MethodName)) ∈ lw_all := lw_g (lw_at lw_m1 155 rfl) rfl
theorem q186 : (Jvm.Cond.code ({ cls := "CryOrder$Alarm", name := "isWaiting", desc := "()Z" } : Jvm.MethodName) prog_2_method_3_code (1 : Nat) (Option.some Jvm.ClassFile.FieldType.boolean)) ∈ lw_all := lw_g (lw_at lw_m1 156 rfl) rfl
theorem q187 : (Jvm.Cond.methodLink "CryOrder$Alarm" (47 : Nat) ({ cls := "CryOrder$Alarm", name := "isHeard", desc := "()Z" } : Jvm.MethodName)) ∈ lw_all := lw_g (lw_at lw_m1 157 rfl) rfl
theorem q188 : (Jvm.Cond.instanceMethod ({ cls := "CryOrder$Alarm", name := "isHeard", desc := "()Z" } : Jvm.MethodName)) ∈ lw_all := lw_g (lw_at lw_m1 158 rfl) rfl
theorem q189 : (Jvm.Cond.selects "CryOrder$Alarm" ({ cls := "CryOrder$Alarm", name := "isHeard", desc := "()Z" } : Jvm.MethodName) ({ cls := "CryOrder$Alarm", name := "isHeard", desc := "()Z" } : Jvm.MethodName)) ∈ lw_all := lw_g (lw_at lw_m1 159 rfl) rfl
theorem q190 : (Jvm.Cond.code ({ cls := "CryOrder$Alarm", name := "isHeard", desc := "()Z" } : Jvm.MethodName) prog_2_method_2_code (1 : Nat) (Option.some Jvm.ClassFile.FieldType.boolean)) ∈ lw_all := lw_g (lw_at lw_m1 160 rfl) rfl
theorem q195 : (Jvm.Cond.instantiable "CryOrder$Alarm" (12 : Nat)) ∈ lw_all := lw_g (lw_at lw_m1 165 rfl) rfl
theorem q202 : (Jvm.Cond.instanceMethod ({ cls := "CryOrder$Alarm", name := "<init>", desc := "(IIIIIIZZ)V" } : Jvm.MethodName)) ∈ lw_all := lw_g (lw_at lw_m1 172 rfl) rfl
theorem q203 : (Jvm.Cond.code ({ cls := "CryOrder$Alarm", name := "<init>", desc := "(IIIIIIZZ)V" } : Jvm.MethodName) prog_2_method_1_code (9 : Nat) (Option.none : Option Jvm.ClassFile.FieldType)) ∈ lw_all := lw_g (lw_at lw_m1 173 rfl) rfl
theorem q204 : (Jvm.Cond.methodLink "CryOrder$Alarm" (3 : Nat) ({ cls := "java/lang/Object", name := "<init>", desc := "()V" } : Jvm.MethodName)) ∈ lw_all := lw_g (lw_at lw_m1 174 rfl) rfl
theorem q205 : (Jvm.Cond.classLink "CryOrder$Alarm" (9 : Nat) "java/util/ArrayList") ∈ lw_all := lw_g (lw_at lw_m1 175 rfl) rfl
theorem q206 : (Jvm.Cond.methodLink "CryOrder$Alarm" (11 : Nat) ({ cls := "java/util/ArrayList", name := "<init>", desc := "()V" } : Jvm.MethodName)) ∈ lw_all := lw_g (lw_at lw_m1 176 rfl) rfl
theorem q207 : (Jvm.Cond.fieldLink "CryOrder$Alarm" (18 : Nat) "CryOrder$Alarm" "number" "I") ∈ lw_all := lw_g (lw_at lw_m1 177 rfl) rfl
theorem q210 : (Jvm.Cond.fieldLink "CryOrder$Alarm" (22 : Nat) "CryOrder$Alarm" "came" "I") ∈ lw_all := lw_g (lw_at lw_m1 180 rfl) rfl
theorem q212 : (Jvm.Cond.fieldLink "CryOrder$Alarm" (25 : Nat) "CryOrder$Alarm" "source" "I") ∈ lw_all := lw_g (lw_at lw_m1 182 rfl) rfl
theorem q214 : (Jvm.Cond.fieldLink "CryOrder$Alarm" (28 : Nat) "CryOrder$Alarm" "thing" "I") ∈ lw_all := lw_g (lw_at lw_m1 184 rfl) rfl
theorem q216 : (Jvm.Cond.fieldLink "CryOrder$Alarm" (31 : Nat) "CryOrder$Alarm" "marks" "I") ∈ lw_all := lw_g (lw_at lw_m1 186 rfl) rfl
theorem q218 : (Jvm.Cond.fieldLink "CryOrder$Alarm" (34 : Nat) "CryOrder$Alarm" "worth" "I") ∈ lw_all := lw_g (lw_at lw_m1 188 rfl) rfl
theorem q220 : (Jvm.Cond.fieldLink "CryOrder$Alarm" (37 : Nat) "CryOrder$Alarm" "isSilenced" "Z") ∈ lw_all := lw_g (lw_at lw_m1 190 rfl) rfl
theorem q222 : (Jvm.Cond.fieldLink "CryOrder$Alarm" (41 : Nat) "CryOrder$Alarm" "isCapped" "Z") ∈ lw_all := lw_g (lw_at lw_m1 192 rfl) rfl
theorem q224 : (Jvm.Cond.fieldLink "CryOrder$Alarm" (12 : Nat) "CryOrder$Alarm" "verdicts" "Ljava/util/ArrayList;") ∈ lw_all := lw_g (lw_at lw_m1 194 rfl) rfl
theorem q227 : (Jvm.Cond.fieldLink "CryOrder$Alarm" (44 : Nat) "CryOrder$Alarm" "latest" "I") ∈ lw_all := lw_g (lw_at lw_m1 197 rfl) rfl
theorem q229 : (Jvm.Cond.fieldLink "CryOrder$Alarm" (51 : Nat) "CryOrder$Alarm" "how" "I") ∈ lw_all := lw_g (lw_at lw_m1 199 rfl) rfl
theorem q231 : (Jvm.Cond.laysFinal "CryOrder$Alarm" "CryOrder$Alarm" "number" "I") ∈ lw_all := lw_g (lw_at lw_m1 201 rfl) rfl
theorem q232 : (Jvm.Cond.soleField "CryOrder$Alarm" "number") ∈ lw_all := lw_g (lw_at lw_m1 202 rfl) rfl
theorem q233 : (Jvm.Cond.laysFinal "CryOrder$Alarm" "CryOrder$Alarm" "came" "I") ∈ lw_all := lw_g (lw_at lw_m1 203 rfl) rfl
theorem q234 : (Jvm.Cond.soleField "CryOrder$Alarm" "came") ∈ lw_all := lw_g (lw_at lw_m1 204 rfl) rfl
theorem q235 : (Jvm.Cond.laysFinal "CryOrder$Alarm" "CryOrder$Alarm" "source" "I") ∈ lw_all := lw_g (lw_at lw_m1 205 rfl) rfl
theorem q236 : (Jvm.Cond.soleField "CryOrder$Alarm" "source") ∈ lw_all := lw_g (lw_at lw_m1 206 rfl) rfl
theorem q237 : (Jvm.Cond.laysFinal "CryOrder$Alarm" "CryOrder$Alarm" "thing" "I") ∈ lw_all := lw_g (lw_at lw_m1 207 rfl) rfl
theorem q238 : (Jvm.Cond.soleField "CryOrder$Alarm" "thing") ∈ lw_all := lw_g (lw_at lw_m1 208 rfl) rfl
theorem q239 : (Jvm.Cond.laysFinal "CryOrder$Alarm" "CryOrder$Alarm" "marks" "I") ∈ lw_all := lw_g (lw_at lw_m1 209 rfl) rfl
theorem q240 : (Jvm.Cond.soleField "CryOrder$Alarm" "marks") ∈ lw_all := lw_g (lw_at lw_m1 210 rfl) rfl
theorem q241 : (Jvm.Cond.laysFinal "CryOrder$Alarm" "CryOrder$Alarm" "worth" "I") ∈ lw_all := lw_g (lw_at lw_m1 211 rfl) rfl
theorem q242 : (Jvm.Cond.soleField "CryOrder$Alarm" "worth") ∈ lw_all := lw_g (lw_at lw_m1 212 rfl) rfl
theorem q243 : (Jvm.Cond.laysFinal "CryOrder$Alarm" "CryOrder$Alarm" "isSilenced" "Z") ∈ lw_all := lw_g (lw_at lw_m1 213 rfl) rfl
theorem q244 : (Jvm.Cond.soleField "CryOrder$Alarm" "isSilenced") ∈ lw_all := lw_g (lw_at lw_m1 214 rfl) rfl
theorem q245 : (Jvm.Cond.laysFinal "CryOrder$Alarm" "CryOrder$Alarm" "isCapped" "Z") ∈ lw_all := lw_g (lw_at lw_m1 215 rfl) rfl
theorem q246 : (Jvm.Cond.soleField "CryOrder$Alarm" "isCapped") ∈ lw_all := lw_g (lw_at lw_m1 216 rfl) rfl
theorem q247 : (Jvm.Cond.laysFinal "CryOrder$Alarm" "CryOrder$Alarm" "verdicts" "Ljava/util/ArrayList;") ∈ lw_all := lw_g (lw_at lw_m1 217 rfl) rfl
theorem q248 : (Jvm.Cond.soleField "CryOrder$Alarm" "verdicts") ∈ lw_all := lw_g (lw_at lw_m1 218 rfl) rfl
theorem q249 : (Jvm.Cond.lays "CryOrder$Alarm" "CryOrder$Alarm" "repeated" "I") ∈ lw_all := lw_g (lw_at lw_m1 219 rfl) rfl
theorem q250 : (Jvm.Cond.soleField "CryOrder$Alarm" "repeated") ∈ lw_all := lw_g (lw_at lw_m1 220 rfl) rfl
theorem q251 : (Jvm.Cond.lays "CryOrder$Alarm" "CryOrder$Alarm" "latest" "I") ∈ lw_all := lw_g (lw_at lw_m1 221 rfl) rfl
theorem q252 : (Jvm.Cond.soleField "CryOrder$Alarm" "latest") ∈ lw_all := lw_g (lw_at lw_m1 222 rfl) rfl
theorem q253 : (Jvm.Cond.lays "CryOrder$Alarm" "CryOrder$Alarm" "how" "I") ∈ lw_all := lw_g (lw_at lw_m1 223 rfl) rfl
theorem q254 : (Jvm.Cond.soleField "CryOrder$Alarm" "how") ∈ lw_all := lw_g (lw_at lw_m1 224 rfl) rfl
theorem q255 : (Jvm.Cond.superclass "CryOrder$Alarm" "java/lang/Object") ∈ lw_all := lw_g (lw_at lw_m1 225 rfl) rfl
theorem q289 : (Jvm.Cond.selects "CryOrder$Alarm" ({ cls := "java/lang/Object", name := "getClass", desc := "()Ljava/lang/Class;" } : Jvm.MethodName) ({ cls := "java/lang/Object", name := "getClass", desc := "()Ljava/lang/Class;" } : Jvm.MethodName)) ∈ lw_all := lw_g (lw_at lw_m2 19 rfl) rfl
theorem q341 : (Jvm.Cond.instanceMethod ({ cls := "CryOrder$Alarm", name := "isAt", desc := "(II)Z" } : Jvm.MethodName)) ∈ lw_all := lw_g (lw_at lw_m2 71 rfl) rfl
theorem q342 : (Jvm.Cond.selects "CryOrder$Alarm" ({ cls := "CryOrder$Alarm", name := "isAt", desc := "(II)Z" } : Jvm.MethodName) ({ cls := "CryOrder$Alarm", name := "isAt", desc := "(II)Z" } : Jvm.MethodName)) ∈ lw_all := lw_g (lw_at lw_m2 72 rfl) rfl
theorem q343 : (Jvm.Cond.code ({ cls := "CryOrder$Alarm", name := "isAt", desc := "(II)Z" } : Jvm.MethodName) prog_2_method_5_code (3 : Nat) (Option.some Jvm.ClassFile.FieldType.boolean)) ∈ lw_all := lw_g (lw_at lw_m2 73 rfl) rfl
theorem q727 : (Jvm.Cond.castable "CryOrder$Alarm" "java/lang/Object") ∈ lw_tbl := lw_at lw_m3 217 rfl
theorem in_X2 : ∀ w ∈ wsX20, w ∈ lw_all := lw_in wsX20 [231, 233, 235, 237, 239, 241, 243, 245, 247, 249, 251, 253] (by decide +kernel) (by decide +kernel)
/-! CryOrder$Verdict -/
def RX3 : String := "CryOrder$Verdict"
def TX3 : u_T := fun k => match k with
  | 0 => ("CryOrder$Verdict", "looker", "I", true)
  | _ => ("CryOrder$Verdict", "is", "Z", true)
def tyX3 : Nat → FieldType := fun k => match k with
  | 0 => .int
  | _ => .boolean
abbrev wsX30 : List Cond := u_ws RX3 TX3 2
theorem nmX3 : ∀ a, a < 2 → ∀ b, b < 2 → a ≠ b → (TX3 a).2.1 ≠ (TX3 b).2.1 := by decide +kernel
theorem tyX3_ok : ∀ k, k < 2 → parseFieldDescriptor (TX3 k).2.2.1 = some (tyX3 k) := by decide +kernel
abbrev cX3_init : ByteArray := prog_4_method_1_code
def yX3_init : MethodName := ⟨RX3, "<init>", "(IZ)V"⟩
theorem q43 : (Jvm.Cond.initialized "CryOrder$Verdict") ∈ lw_all := lw_g (lw_at lw_m1 13 rfl) rfl
theorem q291 : (Jvm.Cond.selects "CryOrder$Verdict" ({ cls := "java/lang/Object", name := "getClass", desc := "()Ljava/lang/Class;" } : Jvm.MethodName) ({ cls := "java/lang/Object", name := "getClass", desc := "()Ljava/lang/Class;" } : Jvm.MethodName)) ∈ lw_all := lw_g (lw_at lw_m2 21 rfl) rfl
theorem q318 : (Jvm.Cond.instantiable "CryOrder$Verdict" (2 : Nat)) ∈ lw_all := lw_g (lw_at lw_m2 48 rfl) rfl
theorem q320 : (Jvm.Cond.instanceMethod ({ cls := "CryOrder$Verdict", name := "<init>", desc := "(IZ)V" } : Jvm.MethodName)) ∈ lw_all := lw_g (lw_at lw_m2 50 rfl) rfl
theorem q321 : (Jvm.Cond.code ({ cls := "CryOrder$Verdict", name := "<init>", desc := "(IZ)V" } : Jvm.MethodName) prog_4_method_1_code (3 : Nat) (Option.none : Option Jvm.ClassFile.FieldType)) ∈ lw_all := lw_g (lw_at lw_m2 51 rfl) rfl
theorem q322 : (Jvm.Cond.methodLink "CryOrder$Verdict" (1 : Nat) ({ cls := "java/lang/Object", name := "<init>", desc := "()V" } : Jvm.MethodName)) ∈ lw_all := lw_g (lw_at lw_m2 52 rfl) rfl
theorem q323 : (Jvm.Cond.fieldLink "CryOrder$Verdict" (7 : Nat) "CryOrder$Verdict" "looker" "I") ∈ lw_all := lw_g (lw_at lw_m2 53 rfl) rfl
theorem q325 : (Jvm.Cond.fieldLink "CryOrder$Verdict" (13 : Nat) "CryOrder$Verdict" "is" "Z") ∈ lw_all := lw_g (lw_at lw_m2 55 rfl) rfl
theorem q327 : (Jvm.Cond.laysFinal "CryOrder$Verdict" "CryOrder$Verdict" "looker" "I") ∈ lw_all := lw_g (lw_at lw_m2 57 rfl) rfl
theorem q328 : (Jvm.Cond.soleField "CryOrder$Verdict" "looker") ∈ lw_all := lw_g (lw_at lw_m2 58 rfl) rfl
theorem q329 : (Jvm.Cond.laysFinal "CryOrder$Verdict" "CryOrder$Verdict" "is" "Z") ∈ lw_all := lw_g (lw_at lw_m2 59 rfl) rfl
theorem q330 : (Jvm.Cond.soleField "CryOrder$Verdict" "is") ∈ lw_all := lw_g (lw_at lw_m2 60 rfl) rfl
theorem q331 : (Jvm.Cond.superclass "CryOrder$Verdict" "java/lang/Object") ∈ lw_all := lw_g (lw_at lw_m2 61 rfl) rfl
theorem q728 : (Jvm.Cond.castable "CryOrder$Verdict" "java/lang/Object") ∈ lw_tbl := lw_at lw_m3 218 rfl
theorem in_X3 : ∀ w ∈ wsX30, w ∈ lw_all := lw_in wsX30 [327, 329] (by decide +kernel) (by decide +kernel)
/-! CryOrder$Case -/
def RX4 : String := "CryOrder$Case"
def TX4 : u_T := fun k => match k with
  | 0 => ("CryOrder$Case", "alarms", "Ljava/util/ArrayList;", true)
  | 1 => ("CryOrder$Case", "score", "I", false)
  | _ => ("CryOrder$Case", "isLittleKnown", "Z", false)
def tyX4 : Nat → FieldType := fun k => match k with
  | 0 => .object "java/util/ArrayList"
  | 1 => .int
  | _ => .boolean
abbrev wsX40 : List Cond := u_ws RX4 TX4 3
theorem nmX4 : ∀ a, a < 3 → ∀ b, b < 3 → a ≠ b → (TX4 a).2.1 ≠ (TX4 b).2.1 := by decide +kernel
theorem tyX4_ok : ∀ k, k < 3 → parseFieldDescriptor (TX4 k).2.2.1 = some (tyX4 k) := by decide +kernel
abbrev cX4_init : ByteArray := prog_3_method_1_code
def yX4_init : MethodName := ⟨RX4, "<init>", "()V"⟩
abbrev cX4_number : ByteArray := prog_3_method_2_code
def yX4_number : MethodName := ⟨RX4, "number", "()I"⟩
abbrev cX4_minutes : ByteArray := prog_3_method_3_code
def yX4_minutes : MethodName := ⟨RX4, "minutes", "()I"⟩
theorem q44 : (Jvm.Cond.initialized "CryOrder$Case") ∈ lw_all := lw_g (lw_at lw_m1 14 rfl) rfl
theorem q208 : (Jvm.Cond.fieldLinkNest "CryOrder$Case" (22 : Nat) "CryOrder$Alarm" "number" "I" "CryOrder") ∈ lw_tbl := lw_at lw_m1 178 rfl
theorem q290 : (Jvm.Cond.selects "CryOrder$Case" ({ cls := "java/lang/Object", name := "getClass", desc := "()Ljava/lang/Class;" } : Jvm.MethodName) ({ cls := "java/lang/Object", name := "getClass", desc := "()Ljava/lang/Class;" } : Jvm.MethodName)) ∈ lw_all := lw_g (lw_at lw_m2 20 rfl) rfl
theorem q392 : (Jvm.Cond.instantiable "CryOrder$Case" (3 : Nat)) ∈ lw_all := lw_g (lw_at lw_m2 122 rfl) rfl
theorem q394 : (Jvm.Cond.instanceMethod ({ cls := "CryOrder$Case", name := "<init>", desc := "()V" } : Jvm.MethodName)) ∈ lw_all := lw_g (lw_at lw_m2 124 rfl) rfl
theorem q395 : (Jvm.Cond.code ({ cls := "CryOrder$Case", name := "<init>", desc := "()V" } : Jvm.MethodName) prog_3_method_1_code (1 : Nat) (Option.none : Option Jvm.ClassFile.FieldType)) ∈ lw_all := lw_g (lw_at lw_m2 125 rfl) rfl
theorem q396 : (Jvm.Cond.methodLink "CryOrder$Case" (1 : Nat) ({ cls := "java/lang/Object", name := "<init>", desc := "()V" } : Jvm.MethodName)) ∈ lw_all := lw_g (lw_at lw_m2 126 rfl) rfl
theorem q397 : (Jvm.Cond.classLink "CryOrder$Case" (7 : Nat) "java/util/ArrayList") ∈ lw_all := lw_g (lw_at lw_m2 127 rfl) rfl
theorem q398 : (Jvm.Cond.methodLink "CryOrder$Case" (9 : Nat) ({ cls := "java/util/ArrayList", name := "<init>", desc := "()V" } : Jvm.MethodName)) ∈ lw_all := lw_g (lw_at lw_m2 128 rfl) rfl
theorem q399 : (Jvm.Cond.fieldLink "CryOrder$Case" (10 : Nat) "CryOrder$Case" "alarms" "Ljava/util/ArrayList;") ∈ lw_all := lw_g (lw_at lw_m2 129 rfl) rfl
theorem q403 : (Jvm.Cond.laysFinal "CryOrder$Case" "CryOrder$Case" "alarms" "Ljava/util/ArrayList;") ∈ lw_all := lw_g (lw_at lw_m2 133 rfl) rfl
theorem q404 : (Jvm.Cond.soleField "CryOrder$Case" "alarms") ∈ lw_all := lw_g (lw_at lw_m2 134 rfl) rfl
theorem q405 : (Jvm.Cond.lays "CryOrder$Case" "CryOrder$Case" "score" "I") ∈ lw_all := lw_g (lw_at lw_m2 135 rfl) rfl
theorem q406 : (Jvm.Cond.soleField "CryOrder$Case" "score") ∈ lw_all := lw_g (lw_at lw_m2 136 rfl) rfl
theorem q407 : (Jvm.Cond.lays "CryOrder$Case" "CryOrder$Case" "isLittleKnown" "Z") ∈ lw_all := lw_g (lw_at lw_m2 137 rfl) rfl
theorem q408 : (Jvm.Cond.soleField "CryOrder$Case" "isLittleKnown") ∈ lw_all := lw_g (lw_at lw_m2 138 rfl) rfl
theorem q409 : (Jvm.Cond.superclass "CryOrder$Case" "java/lang/Object") ∈ lw_all := lw_g (lw_at lw_m2 139 rfl) rfl
theorem q420 : (Jvm.Cond.instanceMethod ({ cls := "CryOrder$Case", name := "number", desc := "()I" } : Jvm.MethodName)) ∈ lw_all := lw_g (lw_at lw_m2 150 rfl) rfl
theorem q421 : (Jvm.Cond.selects "CryOrder$Case" ({ cls := "CryOrder$Case", name := "number", desc := "()I" } : Jvm.MethodName) ({ cls := "CryOrder$Case", name := "number", desc := "()I" } : Jvm.MethodName)) ∈ lw_all := lw_g (lw_at lw_m2 151 rfl) rfl
theorem q422 : (Jvm.Cond.code ({ cls := "CryOrder$Case", name := "number", desc := "()I" } : Jvm.MethodName) prog_3_method_2_code (1 : Nat) (Option.some Jvm.ClassFile.FieldType.int)) ∈ lw_all := lw_g (lw_at lw_m2 152 rfl) rfl
theorem q423 : (Jvm.Cond.methodLink "CryOrder$Case" (16 : Nat) ({ cls := "java/util/ArrayList", name := "get", desc := "(I)Ljava/lang/Object;" } : Jvm.MethodName)) ∈ lw_all := lw_g (lw_at lw_m2 153 rfl) rfl
theorem q424 : (Jvm.Cond.classLink "CryOrder$Case" (20 : Nat) "CryOrder$Alarm") ∈ lw_all := lw_g (lw_at lw_m2 154 rfl) rfl
theorem q434 : (Jvm.Cond.instanceMethod ({ cls := "CryOrder$Case", name := "minutes", desc := "()I" } : Jvm.MethodName)) ∈ lw_all := lw_g (lw_at lw_m2 164 rfl) rfl
theorem q435 : (Jvm.Cond.selects "CryOrder$Case" ({ cls := "CryOrder$Case", name := "minutes", desc := "()I" } : Jvm.MethodName) ({ cls := "CryOrder$Case", name := "minutes", desc := "()I" } : Jvm.MethodName)) ∈ lw_all := lw_g (lw_at lw_m2 165 rfl) rfl
theorem q436 : (Jvm.Cond.code ({ cls := "CryOrder$Case", name := "minutes", desc := "()I" } : Jvm.MethodName) prog_3_method_3_code (1 : Nat) (Option.some Jvm.ClassFile.FieldType.int)) ∈ lw_all := lw_g (lw_at lw_m2 166 rfl) rfl
theorem q437 : (Jvm.Cond.methodLink "CryOrder$Case" (26 : Nat) ({ cls := "java/util/ArrayList", name := "size", desc := "()I" } : Jvm.MethodName)) ∈ lw_all := lw_g (lw_at lw_m2 167 rfl) rfl
theorem q729 : (Jvm.Cond.castable "CryOrder$Case" "java/lang/Object") ∈ lw_tbl := lw_at lw_m3 219 rfl
theorem in_X4 : ∀ w ∈ wsX40, w ∈ lw_all := lw_in wsX40 [403, 405, 407] (by decide +kernel) (by decide +kernel)
/-! CryOrder -/
def RX0 : String := "CryOrder"
def TX0 : u_T := fun k => match k with
  | 0 => ("CryOrder", "now", "I", false)
  | 1 => ("CryOrder", "cap", "I", false)
  | 2 => ("CryOrder", "enough", "I", false)
  | 3 => ("CryOrder", "tries", "I", false)
  | 4 => ("CryOrder", "alarms", "Ljava/util/ArrayList;", true)
  | 5 => ("CryOrder", "silenceSource", "[I", true)
  | 6 => ("CryOrder", "silenceFrom", "[I", true)
  | 7 => ("CryOrder", "silenceTo", "[I", true)
  | 8 => ("CryOrder", "silences", "I", false)
  | 9 => ("CryOrder", "tieA", "[I", true)
  | 10 => ("CryOrder", "tieB", "[I", true)
  | 11 => ("CryOrder", "tieJoins", "[Z", true)
  | 12 => ("CryOrder", "ties", "I", false)
  | 13 => ("CryOrder", "cases", "Ljava/util/ArrayList;", true)
  | 14 => ("CryOrder", "caseOf", "[I", true)
  | 15 => ("CryOrder", "taken", "Ljava/util/ArrayList;", true)
  | 16 => ("CryOrder", "others", "Ljava/util/ArrayList;", true)
  | 17 => ("CryOrder", "most", "[[I", true)
  | _ => ("CryOrder", "left", "I", false)
def tyX0 : Nat → FieldType := fun k => match k with
  | 0 => .int
  | 1 => .int
  | 2 => .int
  | 3 => .int
  | 4 => .object "java/util/ArrayList"
  | 5 => .array .int
  | 6 => .array .int
  | 7 => .array .int
  | 8 => .int
  | 9 => .array .int
  | 10 => .array .int
  | 11 => .array .boolean
  | 12 => .int
  | 13 => .object "java/util/ArrayList"
  | 14 => .array .int
  | 15 => .object "java/util/ArrayList"
  | 16 => .object "java/util/ArrayList"
  | 17 => .array (.array .int)
  | _ => .int
abbrev wsX00 : List Cond := u_ws RX0 TX0 19
theorem nmX0 : ∀ a, a < 19 → ∀ b, b < 19 → a ≠ b → (TX0 a).2.1 ≠ (TX0 b).2.1 := by decide +kernel
theorem tyX0_ok : ∀ k, k < 19 → parseFieldDescriptor (TX0 k).2.2.1 = some (tyX0 k) := by decide +kernel
abbrev cX0_init : ByteArray := prog_1_method_2_code
def yX0_init : MethodName := ⟨RX0, "<init>", "()V"⟩
abbrev cX0_pass : ByteArray := prog_1_method_3_code
def yX0_pass : MethodName := ⟨RX0, "pass", "(I)I"⟩
abbrev cX0_isIn : ByteArray := prog_1_method_1_code
def yX0_isIn : MethodName := ⟨RX0, "isIn", "(III)Z"⟩
abbrev cX0_set : ByteArray := prog_1_method_4_code
def yX0_set : MethodName := ⟨RX0, "set", "(II)Z"⟩
abbrev cX0_silence : ByteArray := prog_1_method_6_code
def yX0_silence : MethodName := ⟨RX0, "silence", "(III)I"⟩
abbrev cX0_alarm : ByteArray := prog_1_method_9_code
def yX0_alarm : MethodName := ⟨RX0, "alarm", "(IIII)I"⟩
abbrev cX0_isSilent : ByteArray := prog_1_method_7_code
def yX0_isSilent : MethodName := ⟨RX0, "isSilent", "(I)Z"⟩
abbrev cX0_isOverCap : ByteArray := prog_1_method_8_code
def yX0_isOverCap : MethodName := ⟨RX0, "isOverCap", "(I)Z"⟩
abbrev cX0_verdict : ByteArray := prog_1_method_10_code
def yX0_verdict : MethodName := ⟨RX0, "verdict", "(IIZ)I"⟩
abbrev cX0_at : ByteArray := prog_1_method_5_code
def yX0_at : MethodName := ⟨RX0, "at", "(I)LCryOrder$Alarm;"⟩
abbrev cX0_node : ByteArray := prog_1_method_12_code
def yX0_node : MethodName := ⟨RX0, "node", "(III)I"⟩
abbrev cX0_countAt : ByteArray := prog_1_method_11_code
def yX0_countAt : MethodName := ⟨RX0, "countAt", "(III)I"⟩
abbrev cX0_odds : ByteArray := prog_1_method_16_code
def yX0_odds : MethodName := ⟨RX0, "odds", "(II)I"⟩
abbrev cX0_depthOf : ByteArray := prog_1_method_13_code
def yX0_depthOf : MethodName := ⟨RX0, "depthOf", "(LCryOrder$Alarm;)I"⟩
abbrev cX0_common : ByteArray := prog_1_method_15_code
def yX0_common : MethodName := ⟨RX0, "common", "(II)I"⟩
abbrev cX0_tie : ByteArray := prog_1_method_18_code
def yX0_tie : MethodName := ⟨RX0, "tie", "(IIZ)Z"⟩
abbrev cX0_tieOf : ByteArray := prog_1_method_17_code
def yX0_tieOf : MethodName := ⟨RX0, "tieOf", "(II)I"⟩
abbrev cX0_told : ByteArray := prog_1_method_23_code
def yX0_told : MethodName := ⟨RX0, "told", "(II)I"⟩
abbrev cX0_scoreOf : ByteArray := prog_1_method_14_code
def yX0_scoreOf : MethodName := ⟨RX0, "scoreOf", "(LCryOrder$Alarm;)I"⟩
abbrev cX0_makes : ByteArray := prog_1_method_20_code
def yX0_makes : MethodName := ⟨RX0, "makes", "()V"⟩
abbrev cX0_isTied : ByteArray := prog_1_method_19_code
def yX0_isTied : MethodName := ⟨RX0, "isTied", "(LCryOrder$Alarm;LCryOrder$Alarm;)Z"⟩
abbrev cX0_gather : ByteArray := prog_1_method_21_code
def yX0_gather : MethodName := ⟨RX0, "gather", "(I)LCryOrder$Case;"⟩
abbrev cX0_order : ByteArray := prog_1_method_24_code
def yX0_order : MethodName := ⟨RX0, "order", "(I)I"⟩
abbrev cX0_caseOf : ByteArray := prog_1_method_25_code
def yX0_caseOf : MethodName := ⟨RX0, "caseOf", "(II)I"⟩
abbrev cX0_find : ByteArray := prog_1_method_22_code
def yX0_find : MethodName := ⟨RX0, "find", "(I)LCryOrder$Case;"⟩
abbrev cX0_slow : ByteArray := prog_1_method_26_code
def yX0_slow : MethodName := ⟨RX0, "slow", "(I)I"⟩
abbrev cX0_plan : ByteArray := prog_1_method_28_code
def yX0_plan : MethodName := ⟨RX0, "plan", "(II)I"⟩
abbrev cX0_plans : ByteArray := prog_1_method_27_code
def yX0_plans : MethodName := ⟨RX0, "plans", "(I)V"⟩
abbrev cX0_worth : ByteArray := prog_1_method_29_code
def yX0_worth : MethodName := ⟨RX0, "worth", "(II)I"⟩
abbrev cX0_source : ByteArray := prog_1_method_30_code
def yX0_source : MethodName := ⟨RX0, "source", "(II)I"⟩
abbrev cX0_count : ByteArray := prog_1_method_31_code
def yX0_count : MethodName := ⟨RX0, "count", "(I)I"⟩
theorem q31 : (Jvm.Cond.initialized "CryOrder") ∈ lw_all := lw_g (lw_at lw_m1 1 rfl) rfl
theorem q46 : (Jvm.Cond.instantiable "CryOrder" (19 : Nat)) ∈ lw_all := lw_g (lw_at lw_m1 16 rfl) rfl
theorem q48 : (Jvm.Cond.instanceMethod ({ cls := "CryOrder", name := "<init>", desc := "()V" } : Jvm.MethodName)) ∈ lw_all := lw_g (lw_at lw_m1 18 rfl) rfl
theorem q49 : (Jvm.Cond.code ({ cls := "CryOrder", name := "<init>", desc := "()V" } : Jvm.MethodName) prog_1_method_2_code (1 : Nat) (Option.none : Option Jvm.ClassFile.FieldType)) ∈ lw_all := lw_g (lw_at lw_m1 19 rfl) rfl
theorem q50 : (Jvm.Cond.methodLink "CryOrder" (1 : Nat) ({ cls := "java/lang/Object", name := "<init>", desc := "()V" } : Jvm.MethodName)) ∈ lw_all := lw_g (lw_at lw_m1 20 rfl) rfl
theorem q53 : (Jvm.Cond.classLink "CryOrder" (16 : Nat) "java/util/ArrayList") ∈ lw_all := lw_g (lw_at lw_m1 23 rfl) rfl
theorem q55 : (Jvm.Cond.methodLink "CryOrder" (18 : Nat) ({ cls := "java/util/ArrayList", name := "<init>", desc := "()V" } : Jvm.MethodName)) ∈ lw_all := lw_g (lw_at lw_m1 25 rfl) rfl
theorem q79 : (Jvm.Cond.classLink "CryOrder" (55 : Nat) "[[I") ∈ lw_all := lw_g (lw_at lw_m1 49 rfl) rfl
theorem q81 : (Jvm.Cond.fieldLink "CryOrder" (64 : Nat) "CryOrder" "now" "I") ∈ lw_all := lw_g (lw_at lw_m1 51 rfl) rfl
theorem q82 : (Jvm.Cond.fieldLink "CryOrder" (7 : Nat) "CryOrder" "cap" "I") ∈ lw_all := lw_g (lw_at lw_m1 52 rfl) rfl
theorem q83 : (Jvm.Cond.fieldLink "CryOrder" (13 : Nat) "CryOrder" "enough" "I") ∈ lw_all := lw_g (lw_at lw_m1 53 rfl) rfl
theorem q84 : (Jvm.Cond.fieldLink "CryOrder" (67 : Nat) "CryOrder" "tries" "I") ∈ lw_all := lw_g (lw_at lw_m1 54 rfl) rfl
theorem q85 : (Jvm.Cond.fieldLink "CryOrder" (19 : Nat) "CryOrder" "alarms" "Ljava/util/ArrayList;") ∈ lw_all := lw_g (lw_at lw_m1 55 rfl) rfl
theorem q86 : (Jvm.Cond.fieldLink "CryOrder" (23 : Nat) "CryOrder" "silenceSource" "[I") ∈ lw_all := lw_g (lw_at lw_m1 56 rfl) rfl
theorem q87 : (Jvm.Cond.fieldLink "CryOrder" (27 : Nat) "CryOrder" "silenceFrom" "[I") ∈ lw_all := lw_g (lw_at lw_m1 57 rfl) rfl
theorem q88 : (Jvm.Cond.fieldLink "CryOrder" (30 : Nat) "CryOrder" "silenceTo" "[I") ∈ lw_all := lw_g (lw_at lw_m1 58 rfl) rfl
theorem q89 : (Jvm.Cond.fieldLink "CryOrder" (80 : Nat) "CryOrder" "silences" "I") ∈ lw_all := lw_g (lw_at lw_m1 59 rfl) rfl
theorem q90 : (Jvm.Cond.fieldLink "CryOrder" (33 : Nat) "CryOrder" "tieA" "[I") ∈ lw_all := lw_g (lw_at lw_m1 60 rfl) rfl
theorem q91 : (Jvm.Cond.fieldLink "CryOrder" (36 : Nat) "CryOrder" "tieB" "[I") ∈ lw_all := lw_g (lw_at lw_m1 61 rfl) rfl
theorem q92 : (Jvm.Cond.fieldLink "CryOrder" (39 : Nat) "CryOrder" "tieJoins" "[Z") ∈ lw_all := lw_g (lw_at lw_m1 62 rfl) rfl
theorem q93 : (Jvm.Cond.fieldLink "CryOrder" (163 : Nat) "CryOrder" "ties" "I") ∈ lw_all := lw_g (lw_at lw_m1 63 rfl) rfl
theorem q94 : (Jvm.Cond.fieldLink "CryOrder" (43 : Nat) "CryOrder" "cases" "Ljava/util/ArrayList;") ∈ lw_all := lw_g (lw_at lw_m1 64 rfl) rfl
theorem q95 : (Jvm.Cond.fieldLink "CryOrder" (46 : Nat) "CryOrder" "caseOf" "[I") ∈ lw_all := lw_g (lw_at lw_m1 65 rfl) rfl
theorem q96 : (Jvm.Cond.fieldLink "CryOrder" (49 : Nat) "CryOrder" "taken" "Ljava/util/ArrayList;") ∈ lw_all := lw_g (lw_at lw_m1 66 rfl) rfl
theorem q97 : (Jvm.Cond.fieldLink "CryOrder" (52 : Nat) "CryOrder" "others" "Ljava/util/ArrayList;") ∈ lw_all := lw_g (lw_at lw_m1 67 rfl) rfl
theorem q98 : (Jvm.Cond.fieldLink "CryOrder" (57 : Nat) "CryOrder" "most" "[[I") ∈ lw_all := lw_g (lw_at lw_m1 68 rfl) rfl
theorem q99 : (Jvm.Cond.fieldLink "CryOrder" (232 : Nat) "CryOrder" "left" "I") ∈ lw_all := lw_g (lw_at lw_m1 69 rfl) rfl
theorem q100 : (Jvm.Cond.lays "CryOrder" "CryOrder" "now" "I") ∈ lw_all := lw_g (lw_at lw_m1 70 rfl) rfl
theorem q101 : (Jvm.Cond.soleField "CryOrder" "now") ∈ lw_all := lw_g (lw_at lw_m1 71 rfl) rfl
theorem q102 : (Jvm.Cond.lays "CryOrder" "CryOrder" "cap" "I") ∈ lw_all := lw_g (lw_at lw_m1 72 rfl) rfl
theorem q103 : (Jvm.Cond.soleField "CryOrder" "cap") ∈ lw_all := lw_g (lw_at lw_m1 73 rfl) rfl
theorem q104 : (Jvm.Cond.lays "CryOrder" "CryOrder" "enough" "I") ∈ lw_all := lw_g (lw_at lw_m1 74 rfl) rfl
theorem q105 : (Jvm.Cond.soleField "CryOrder" "enough") ∈ lw_all := lw_g (lw_at lw_m1 75 rfl) rfl
theorem q106 : (Jvm.Cond.lays "CryOrder" "CryOrder" "tries" "I") ∈ lw_all := lw_g (lw_at lw_m1 76 rfl) rfl
theorem q107 : (Jvm.Cond.soleField "CryOrder" "tries") ∈ lw_all := lw_g (lw_at lw_m1 77 rfl) rfl
theorem q108 : (Jvm.Cond.laysFinal "CryOrder" "CryOrder" "alarms" "Ljava/util/ArrayList;") ∈ lw_all := lw_g (lw_at lw_m1 78 rfl) rfl
theorem q109 : (Jvm.Cond.soleField "CryOrder" "alarms") ∈ lw_all := lw_g (lw_at lw_m1 79 rfl) rfl
theorem q110 : (Jvm.Cond.laysFinal "CryOrder" "CryOrder" "silenceSource" "[I") ∈ lw_all := lw_g (lw_at lw_m1 80 rfl) rfl
theorem q111 : (Jvm.Cond.soleField "CryOrder" "silenceSource") ∈ lw_all := lw_g (lw_at lw_m1 81 rfl) rfl
theorem q112 : (Jvm.Cond.laysFinal "CryOrder" "CryOrder" "silenceFrom" "[I") ∈ lw_all := lw_g (lw_at lw_m1 82 rfl) rfl
theorem q113 : (Jvm.Cond.soleField "CryOrder" "silenceFrom") ∈ lw_all := lw_g (lw_at lw_m1 83 rfl) rfl
theorem q114 : (Jvm.Cond.laysFinal "CryOrder" "CryOrder" "silenceTo" "[I") ∈ lw_all := lw_g (lw_at lw_m1 84 rfl) rfl
theorem q115 : (Jvm.Cond.soleField "CryOrder" "silenceTo") ∈ lw_all := lw_g (lw_at lw_m1 85 rfl) rfl
theorem q116 : (Jvm.Cond.lays "CryOrder" "CryOrder" "silences" "I") ∈ lw_all := lw_g (lw_at lw_m1 86 rfl) rfl
theorem q117 : (Jvm.Cond.soleField "CryOrder" "silences") ∈ lw_all := lw_g (lw_at lw_m1 87 rfl) rfl
theorem q118 : (Jvm.Cond.laysFinal "CryOrder" "CryOrder" "tieA" "[I") ∈ lw_all := lw_g (lw_at lw_m1 88 rfl) rfl
theorem q119 : (Jvm.Cond.soleField "CryOrder" "tieA") ∈ lw_all := lw_g (lw_at lw_m1 89 rfl) rfl
theorem q120 : (Jvm.Cond.laysFinal "CryOrder" "CryOrder" "tieB" "[I") ∈ lw_all := lw_g (lw_at lw_m1 90 rfl) rfl
theorem q121 : (Jvm.Cond.soleField "CryOrder" "tieB") ∈ lw_all := lw_g (lw_at lw_m1 91 rfl) rfl
theorem q122 : (Jvm.Cond.laysFinal "CryOrder" "CryOrder" "tieJoins" "[Z") ∈ lw_all := lw_g (lw_at lw_m1 92 rfl) rfl
theorem q123 : (Jvm.Cond.soleField "CryOrder" "tieJoins") ∈ lw_all := lw_g (lw_at lw_m1 93 rfl) rfl
theorem q124 : (Jvm.Cond.lays "CryOrder" "CryOrder" "ties" "I") ∈ lw_all := lw_g (lw_at lw_m1 94 rfl) rfl
theorem q125 : (Jvm.Cond.soleField "CryOrder" "ties") ∈ lw_all := lw_g (lw_at lw_m1 95 rfl) rfl
theorem q126 : (Jvm.Cond.laysFinal "CryOrder" "CryOrder" "cases" "Ljava/util/ArrayList;") ∈ lw_all := lw_g (lw_at lw_m1 96 rfl) rfl
theorem q127 : (Jvm.Cond.soleField "CryOrder" "cases") ∈ lw_all := lw_g (lw_at lw_m1 97 rfl) rfl
theorem q128 : (Jvm.Cond.laysFinal "CryOrder" "CryOrder" "caseOf" "[I") ∈ lw_all := lw_g (lw_at lw_m1 98 rfl) rfl
theorem q129 : (Jvm.Cond.soleField "CryOrder" "caseOf") ∈ lw_all := lw_g (lw_at lw_m1 99 rfl) rfl
theorem q130 : (Jvm.Cond.laysFinal "CryOrder" "CryOrder" "taken" "Ljava/util/ArrayList;") ∈ lw_all := lw_g (lw_at lw_m1 100 rfl) rfl
theorem q131 : (Jvm.Cond.soleField "CryOrder" "taken") ∈ lw_all := lw_g (lw_at lw_m1 101 rfl) rfl
theorem q132 : (Jvm.Cond.laysFinal "CryOrder" "CryOrder" "others" "Ljava/util/ArrayList;") ∈ lw_all := lw_g (lw_at lw_m1 102 rfl) rfl
theorem q133 : (Jvm.Cond.soleField "CryOrder" "others") ∈ lw_all := lw_g (lw_at lw_m1 103 rfl) rfl
theorem q134 : (Jvm.Cond.laysFinal "CryOrder" "CryOrder" "most" "[[I") ∈ lw_all := lw_g (lw_at lw_m1 104 rfl) rfl
theorem q135 : (Jvm.Cond.soleField "CryOrder" "most") ∈ lw_all := lw_g (lw_at lw_m1 105 rfl) rfl
theorem q136 : (Jvm.Cond.lays "CryOrder" "CryOrder" "left" "I") ∈ lw_all := lw_g (lw_at lw_m1 106 rfl) rfl
theorem q137 : (Jvm.Cond.soleField "CryOrder" "left") ∈ lw_all := lw_g (lw_at lw_m1 107 rfl) rfl
theorem q138 : (Jvm.Cond.superclass "CryOrder" "java/lang/Object") ∈ lw_all := lw_g (lw_at lw_m1 108 rfl) rfl
theorem q142 : (Jvm.Cond.instanceMethod ({ cls := "CryOrder", name := "pass", desc := "(I)I" } : Jvm.MethodName)) ∈ lw_all := lw_g (lw_at lw_m1 112 rfl) rfl
theorem q143 : (Jvm.Cond.selects "CryOrder" ({ cls := "CryOrder", name := "pass", desc := "(I)I" } : Jvm.MethodName) ({ cls := "CryOrder", name := "pass", desc := "(I)I" } : Jvm.MethodName)) ∈ lw_all := lw_g (lw_at lw_m1 113 rfl) rfl
theorem q144 : (Jvm.Cond.code ({ cls := "CryOrder", name := "pass", desc := "(I)I" } : Jvm.MethodName) prog_1_method_3_code (2 : Nat) (Option.some Jvm.ClassFile.FieldType.int)) ∈ lw_all := lw_g (lw_at lw_m1 114 rfl) rfl
theorem q145 : (Jvm.Cond.methodLink "CryOrder" (60 : Nat) ({ cls := "CryOrder", name := "isIn", desc := "(III)Z" } : Jvm.MethodName)) ∈ lw_all := lw_g (lw_at lw_m1 115 rfl) rfl
theorem q146 : (Jvm.Cond.static ({ cls := "CryOrder", name := "isIn", desc := "(III)Z" } : Jvm.MethodName)) ∈ lw_all := lw_g (lw_at lw_m1 116 rfl) rfl
theorem q147 : (Jvm.Cond.code ({ cls := "CryOrder", name := "isIn", desc := "(III)Z" } : Jvm.MethodName) prog_1_method_1_code (3 : Nat) (Option.some Jvm.ClassFile.FieldType.boolean)) ∈ lw_all := lw_g (lw_at lw_m1 117 rfl) rfl
theorem q149 : (Jvm.Cond.instanceMethod ({ cls := "CryOrder", name := "set", desc := "(II)Z" } : Jvm.MethodName)) ∈ lw_all := lw_g (lw_at lw_m1 119 rfl) rfl
theorem q150 : (Jvm.Cond.selects "CryOrder" ({ cls := "CryOrder", name := "set", desc := "(II)Z" } : Jvm.MethodName) ({ cls := "CryOrder", name := "set", desc := "(II)Z" } : Jvm.MethodName)) ∈ lw_all := lw_g (lw_at lw_m1 120 rfl) rfl
theorem q151 : (Jvm.Cond.code ({ cls := "CryOrder", name := "set", desc := "(II)Z" } : Jvm.MethodName) prog_1_method_4_code (3 : Nat) (Option.some Jvm.ClassFile.FieldType.boolean)) ∈ lw_all := lw_g (lw_at lw_m1 121 rfl) rfl
theorem q153 : (Jvm.Cond.instanceMethod ({ cls := "CryOrder", name := "silence", desc := "(III)I" } : Jvm.MethodName)) ∈ lw_all := lw_g (lw_at lw_m1 123 rfl) rfl
theorem q154 : (Jvm.Cond.selects "CryOrder" ({ cls := "CryOrder", name := "silence", desc := "(III)I" } : Jvm.MethodName) ({ cls := "CryOrder", name := "silence", desc := "(III)I" } : Jvm.MethodName)) ∈ lw_all := lw_g (lw_at lw_m1 124 rfl) rfl
theorem q155 : (Jvm.Cond.code ({ cls := "CryOrder", name := "silence", desc := "(III)I" } : Jvm.MethodName) prog_1_method_6_code (4 : Nat) (Option.some Jvm.ClassFile.FieldType.int)) ∈ lw_all := lw_g (lw_at lw_m1 125 rfl) rfl
theorem q157 : (Jvm.Cond.instanceMethod ({ cls := "CryOrder", name := "alarm", desc := "(IIII)I" } : Jvm.MethodName)) ∈ lw_all := lw_g (lw_at lw_m1 127 rfl) rfl
theorem q158 : (Jvm.Cond.selects "CryOrder" ({ cls := "CryOrder", name := "alarm", desc := "(IIII)I" } : Jvm.MethodName) ({ cls := "CryOrder", name := "alarm", desc := "(IIII)I" } : Jvm.MethodName)) ∈ lw_all := lw_g (lw_at lw_m1 128 rfl) rfl
theorem q159 : (Jvm.Cond.code ({ cls := "CryOrder", name := "alarm", desc := "(IIII)I" } : Jvm.MethodName) prog_1_method_9_code (7 : Nat) (Option.some Jvm.ClassFile.FieldType.int)) ∈ lw_all := lw_g (lw_at lw_m1 129 rfl) rfl
theorem q160 : (Jvm.Cond.methodLink "CryOrder" (70 : Nat) ({ cls := "java/util/ArrayList", name := "size", desc := "()I" } : Jvm.MethodName)) ∈ lw_all := lw_g (lw_at lw_m1 130 rfl) rfl
theorem q164 : (Jvm.Cond.methodLink "CryOrder" (74 : Nat) ({ cls := "java/util/ArrayList", name := "get", desc := "(I)Ljava/lang/Object;" } : Jvm.MethodName)) ∈ lw_all := lw_g (lw_at lw_m1 134 rfl) rfl
theorem q178 : (Jvm.Cond.classLink "CryOrder" (78 : Nat) "CryOrder$Alarm") ∈ lw_all := lw_g (lw_at lw_m1 148 rfl) rfl
theorem q179 : (Jvm.Cond.methodLink "CryOrder" (93 : Nat) ({ cls := "CryOrder$Alarm", name := "isLike", desc := "(III)Z" } : Jvm.MethodName)) ∈ lw_all := lw_g (lw_at lw_m1 149 rfl) rfl
theorem q183 : (Jvm.Cond.methodLink "CryOrder" (96 : Nat) ({ cls := "CryOrder$Alarm", name := "isWaiting", desc := "()Z" } : Jvm.MethodName)) ∈ lw_all := lw_g (lw_at lw_m1 153 rfl) rfl
theorem q191 : (Jvm.Cond.methodLink "CryOrder" (105 : Nat) ({ cls := "CryOrder", name := "isSilent", desc := "(I)Z" } : Jvm.MethodName)) ∈ lw_all := lw_g (lw_at lw_m1 161 rfl) rfl
theorem q192 : (Jvm.Cond.privateMethod ({ cls := "CryOrder", name := "isSilent", desc := "(I)Z" } : Jvm.MethodName)) ∈ lw_tbl := lw_at lw_m1 162 rfl
theorem q193 : (Jvm.Cond.instanceMethod ({ cls := "CryOrder", name := "isSilent", desc := "(I)Z" } : Jvm.MethodName)) ∈ lw_all := lw_g (lw_at lw_m1 163 rfl) rfl
theorem q194 : (Jvm.Cond.code ({ cls := "CryOrder", name := "isSilent", desc := "(I)Z" } : Jvm.MethodName) prog_1_method_7_code (3 : Nat) (Option.some Jvm.ClassFile.FieldType.boolean)) ∈ lw_all := lw_g (lw_at lw_m1 164 rfl) rfl
theorem q196 : (Jvm.Cond.methodLink "CryOrder" (109 : Nat) ({ cls := "CryOrder", name := "isOverCap", desc := "(I)Z" } : Jvm.MethodName)) ∈ lw_all := lw_g (lw_at lw_m1 166 rfl) rfl
theorem q197 : (Jvm.Cond.privateMethod ({ cls := "CryOrder", name := "isOverCap", desc := "(I)Z" } : Jvm.MethodName)) ∈ lw_tbl := lw_at lw_m1 167 rfl
theorem q198 : (Jvm.Cond.instanceMethod ({ cls := "CryOrder", name := "isOverCap", desc := "(I)Z" } : Jvm.MethodName)) ∈ lw_all := lw_g (lw_at lw_m1 168 rfl) rfl
theorem q199 : (Jvm.Cond.code ({ cls := "CryOrder", name := "isOverCap", desc := "(I)Z" } : Jvm.MethodName) prog_1_method_8_code (4 : Nat) (Option.some Jvm.ClassFile.FieldType.boolean)) ∈ lw_all := lw_g (lw_at lw_m1 169 rfl) rfl
theorem q200 : (Jvm.Cond.methodLink "CryOrder" (86 : Nat) ({ cls := "CryOrder$Alarm", name := "isHeard", desc := "()Z" } : Jvm.MethodName)) ∈ lw_all := lw_g (lw_at lw_m1 170 rfl) rfl
theorem q201 : (Jvm.Cond.methodLink "CryOrder" (112 : Nat) ({ cls := "CryOrder$Alarm", name := "<init>", desc := "(IIIIIIZZ)V" } : Jvm.MethodName)) ∈ lw_all := lw_g (lw_at lw_m1 171 rfl) rfl
theorem q209 : (Jvm.Cond.fieldLinkNest "CryOrder" (169 : Nat) "CryOrder$Alarm" "number" "I" "CryOrder") ∈ lw_tbl := lw_at lw_m1 179 rfl
theorem q211 : (Jvm.Cond.fieldLinkNest "CryOrder" (90 : Nat) "CryOrder$Alarm" "came" "I" "CryOrder") ∈ lw_tbl := lw_at lw_m1 181 rfl
theorem q213 : (Jvm.Cond.fieldLinkNest "CryOrder" (83 : Nat) "CryOrder$Alarm" "source" "I" "CryOrder") ∈ lw_tbl := lw_at lw_m1 183 rfl
theorem q215 : (Jvm.Cond.fieldLinkNest "CryOrder" (172 : Nat) "CryOrder$Alarm" "thing" "I" "CryOrder") ∈ lw_tbl := lw_at lw_m1 185 rfl
theorem q217 : (Jvm.Cond.fieldLinkNest "CryOrder" (149 : Nat) "CryOrder$Alarm" "marks" "I" "CryOrder") ∈ lw_tbl := lw_at lw_m1 187 rfl
theorem q219 : (Jvm.Cond.fieldLinkNest "CryOrder" (156 : Nat) "CryOrder$Alarm" "worth" "I" "CryOrder") ∈ lw_tbl := lw_at lw_m1 189 rfl
theorem q221 : (Jvm.Cond.fieldLinkNest "CryOrder" (220 : Nat) "CryOrder$Alarm" "isSilenced" "Z" "CryOrder") ∈ lw_tbl := lw_at lw_m1 191 rfl
theorem q223 : (Jvm.Cond.fieldLinkNest "CryOrder" (223 : Nat) "CryOrder$Alarm" "isCapped" "Z" "CryOrder") ∈ lw_tbl := lw_at lw_m1 193 rfl
theorem q225 : (Jvm.Cond.fieldLinkNest "CryOrder" (126 : Nat) "CryOrder$Alarm" "verdicts" "Ljava/util/ArrayList;" "CryOrder") ∈ lw_tbl := lw_at lw_m1 195 rfl
theorem q226 : (Jvm.Cond.fieldLinkNest "CryOrder" (102 : Nat) "CryOrder$Alarm" "repeated" "I" "CryOrder") ∈ lw_tbl := lw_at lw_m1 196 rfl
theorem q228 : (Jvm.Cond.fieldLinkNest "CryOrder" (99 : Nat) "CryOrder$Alarm" "latest" "I" "CryOrder") ∈ lw_tbl := lw_at lw_m1 198 rfl
theorem q230 : (Jvm.Cond.fieldLinkNest "CryOrder" (123 : Nat) "CryOrder$Alarm" "how" "I" "CryOrder") ∈ lw_tbl := lw_at lw_m1 200 rfl
theorem q256 : (Jvm.Cond.methodLink "CryOrder" (115 : Nat) ({ cls := "java/util/ArrayList", name := "add", desc := "(Ljava/lang/Object;)Z" } : Jvm.MethodName)) ∈ lw_all := lw_g (lw_at lw_m1 226 rfl) rfl
theorem q288 : (Jvm.Cond.selects "CryOrder" ({ cls := "java/lang/Object", name := "getClass", desc := "()Ljava/lang/Class;" } : Jvm.MethodName) ({ cls := "java/lang/Object", name := "getClass", desc := "()Ljava/lang/Class;" } : Jvm.MethodName)) ∈ lw_all := lw_g (lw_at lw_m2 18 rfl) rfl
theorem q310 : (Jvm.Cond.instanceMethod ({ cls := "CryOrder", name := "verdict", desc := "(IIZ)I" } : Jvm.MethodName)) ∈ lw_all := lw_g (lw_at lw_m2 40 rfl) rfl
theorem q311 : (Jvm.Cond.selects "CryOrder" ({ cls := "CryOrder", name := "verdict", desc := "(IIZ)I" } : Jvm.MethodName) ({ cls := "CryOrder", name := "verdict", desc := "(IIZ)I" } : Jvm.MethodName)) ∈ lw_all := lw_g (lw_at lw_m2 41 rfl) rfl
theorem q312 : (Jvm.Cond.code ({ cls := "CryOrder", name := "verdict", desc := "(IIZ)I" } : Jvm.MethodName) prog_1_method_10_code (7 : Nat) (Option.some Jvm.ClassFile.FieldType.int)) ∈ lw_all := lw_g (lw_at lw_m2 42 rfl) rfl
theorem q313 : (Jvm.Cond.methodLink "CryOrder" (119 : Nat) ({ cls := "CryOrder", name := "at", desc := "(I)LCryOrder$Alarm;" } : Jvm.MethodName)) ∈ lw_all := lw_g (lw_at lw_m2 43 rfl) rfl
theorem q314 : (Jvm.Cond.privateMethod ({ cls := "CryOrder", name := "at", desc := "(I)LCryOrder$Alarm;" } : Jvm.MethodName)) ∈ lw_tbl := lw_at lw_m2 44 rfl
theorem q315 : (Jvm.Cond.instanceMethod ({ cls := "CryOrder", name := "at", desc := "(I)LCryOrder$Alarm;" } : Jvm.MethodName)) ∈ lw_all := lw_g (lw_at lw_m2 45 rfl) rfl
theorem q316 : (Jvm.Cond.code ({ cls := "CryOrder", name := "at", desc := "(I)LCryOrder$Alarm;" } : Jvm.MethodName) prog_1_method_5_code (2 : Nat) (Option.some (Jvm.ClassFile.FieldType.object "CryOrder$Alarm"))) ∈ lw_all := lw_g (lw_at lw_m2 46 rfl) rfl
theorem q317 : (Jvm.Cond.classLink "CryOrder" (129 : Nat) "CryOrder$Verdict") ∈ lw_all := lw_g (lw_at lw_m2 47 rfl) rfl
theorem q319 : (Jvm.Cond.methodLink "CryOrder" (138 : Nat) ({ cls := "CryOrder$Verdict", name := "<init>", desc := "(IZ)V" } : Jvm.MethodName)) ∈ lw_all := lw_g (lw_at lw_m2 49 rfl) rfl
theorem q324 : (Jvm.Cond.fieldLinkNest "CryOrder" (131 : Nat) "CryOrder$Verdict" "looker" "I" "CryOrder") ∈ lw_tbl := lw_at lw_m2 54 rfl
theorem q326 : (Jvm.Cond.fieldLinkNest "CryOrder" (134 : Nat) "CryOrder$Verdict" "is" "Z" "CryOrder") ∈ lw_tbl := lw_at lw_m2 56 rfl
theorem q333 : (Jvm.Cond.instanceMethod ({ cls := "CryOrder", name := "node", desc := "(III)I" } : Jvm.MethodName)) ∈ lw_all := lw_g (lw_at lw_m2 63 rfl) rfl
theorem q334 : (Jvm.Cond.selects "CryOrder" ({ cls := "CryOrder", name := "node", desc := "(III)I" } : Jvm.MethodName) ({ cls := "CryOrder", name := "node", desc := "(III)I" } : Jvm.MethodName)) ∈ lw_all := lw_g (lw_at lw_m2 64 rfl) rfl
theorem q335 : (Jvm.Cond.code ({ cls := "CryOrder", name := "node", desc := "(III)I" } : Jvm.MethodName) prog_1_method_12_code (4 : Nat) (Option.some Jvm.ClassFile.FieldType.int)) ∈ lw_all := lw_g (lw_at lw_m2 65 rfl) rfl
theorem q336 : (Jvm.Cond.methodLink "CryOrder" (145 : Nat) ({ cls := "CryOrder", name := "countAt", desc := "(III)I" } : Jvm.MethodName)) ∈ lw_all := lw_g (lw_at lw_m2 66 rfl) rfl
theorem q337 : (Jvm.Cond.privateMethod ({ cls := "CryOrder", name := "countAt", desc := "(III)I" } : Jvm.MethodName)) ∈ lw_tbl := lw_at lw_m2 67 rfl
theorem q338 : (Jvm.Cond.instanceMethod ({ cls := "CryOrder", name := "countAt", desc := "(III)I" } : Jvm.MethodName)) ∈ lw_all := lw_g (lw_at lw_m2 68 rfl) rfl
theorem q339 : (Jvm.Cond.code ({ cls := "CryOrder", name := "countAt", desc := "(III)I" } : Jvm.MethodName) prog_1_method_11_code (7 : Nat) (Option.some Jvm.ClassFile.FieldType.int)) ∈ lw_all := lw_g (lw_at lw_m2 69 rfl) rfl
theorem q340 : (Jvm.Cond.methodLink "CryOrder" (141 : Nat) ({ cls := "CryOrder$Alarm", name := "isAt", desc := "(II)Z" } : Jvm.MethodName)) ∈ lw_all := lw_g (lw_at lw_m2 70 rfl) rfl
theorem q345 : (Jvm.Cond.instanceMethod ({ cls := "CryOrder", name := "odds", desc := "(II)I" } : Jvm.MethodName)) ∈ lw_all := lw_g (lw_at lw_m2 75 rfl) rfl
theorem q346 : (Jvm.Cond.selects "CryOrder" ({ cls := "CryOrder", name := "odds", desc := "(II)I" } : Jvm.MethodName) ({ cls := "CryOrder", name := "odds", desc := "(II)I" } : Jvm.MethodName)) ∈ lw_all := lw_g (lw_at lw_m2 76 rfl) rfl
theorem q347 : (Jvm.Cond.code ({ cls := "CryOrder", name := "odds", desc := "(II)I" } : Jvm.MethodName) prog_1_method_16_code (11 : Nat) (Option.some Jvm.ClassFile.FieldType.int)) ∈ lw_all := lw_g (lw_at lw_m2 77 rfl) rfl
theorem q348 : (Jvm.Cond.methodLink "CryOrder" (152 : Nat) ({ cls := "CryOrder", name := "depthOf", desc := "(LCryOrder$Alarm;)I" } : Jvm.MethodName)) ∈ lw_all := lw_g (lw_at lw_m2 78 rfl) rfl
theorem q349 : (Jvm.Cond.privateMethod ({ cls := "CryOrder", name := "depthOf", desc := "(LCryOrder$Alarm;)I" } : Jvm.MethodName)) ∈ lw_tbl := lw_at lw_m2 79 rfl
theorem q350 : (Jvm.Cond.instanceMethod ({ cls := "CryOrder", name := "depthOf", desc := "(LCryOrder$Alarm;)I" } : Jvm.MethodName)) ∈ lw_all := lw_g (lw_at lw_m2 80 rfl) rfl
theorem q351 : (Jvm.Cond.code ({ cls := "CryOrder", name := "depthOf", desc := "(LCryOrder$Alarm;)I" } : Jvm.MethodName) prog_1_method_13_code (3 : Nat) (Option.some Jvm.ClassFile.FieldType.int)) ∈ lw_all := lw_g (lw_at lw_m2 81 rfl) rfl
theorem q352 : (Jvm.Cond.methodLink "CryOrder" (159 : Nat) ({ cls := "CryOrder", name := "common", desc := "(II)I" } : Jvm.MethodName)) ∈ lw_all := lw_g (lw_at lw_m2 82 rfl) rfl
theorem q353 : (Jvm.Cond.static ({ cls := "CryOrder", name := "common", desc := "(II)I" } : Jvm.MethodName)) ∈ lw_all := lw_g (lw_at lw_m2 83 rfl) rfl
theorem q354 : (Jvm.Cond.code ({ cls := "CryOrder", name := "common", desc := "(II)I" } : Jvm.MethodName) prog_1_method_15_code (5 : Nat) (Option.some Jvm.ClassFile.FieldType.int)) ∈ lw_all := lw_g (lw_at lw_m2 84 rfl) rfl
theorem q356 : (Jvm.Cond.instanceMethod ({ cls := "CryOrder", name := "tie", desc := "(IIZ)Z" } : Jvm.MethodName)) ∈ lw_all := lw_g (lw_at lw_m2 86 rfl) rfl
theorem q357 : (Jvm.Cond.selects "CryOrder" ({ cls := "CryOrder", name := "tie", desc := "(IIZ)Z" } : Jvm.MethodName) ({ cls := "CryOrder", name := "tie", desc := "(IIZ)Z" } : Jvm.MethodName)) ∈ lw_all := lw_g (lw_at lw_m2 87 rfl) rfl
theorem q358 : (Jvm.Cond.code ({ cls := "CryOrder", name := "tie", desc := "(IIZ)Z" } : Jvm.MethodName) prog_1_method_18_code (5 : Nat) (Option.some Jvm.ClassFile.FieldType.boolean)) ∈ lw_all := lw_g (lw_at lw_m2 88 rfl) rfl
theorem q359 : (Jvm.Cond.methodLink "CryOrder" (166 : Nat) ({ cls := "CryOrder", name := "tieOf", desc := "(II)I" } : Jvm.MethodName)) ∈ lw_all := lw_g (lw_at lw_m2 89 rfl) rfl
theorem q360 : (Jvm.Cond.privateMethod ({ cls := "CryOrder", name := "tieOf", desc := "(II)I" } : Jvm.MethodName)) ∈ lw_tbl := lw_at lw_m2 90 rfl
theorem q361 : (Jvm.Cond.instanceMethod ({ cls := "CryOrder", name := "tieOf", desc := "(II)I" } : Jvm.MethodName)) ∈ lw_all := lw_g (lw_at lw_m2 91 rfl) rfl
theorem q362 : (Jvm.Cond.code ({ cls := "CryOrder", name := "tieOf", desc := "(II)I" } : Jvm.MethodName) prog_1_method_17_code (4 : Nat) (Option.some Jvm.ClassFile.FieldType.int)) ∈ lw_all := lw_g (lw_at lw_m2 92 rfl) rfl
theorem q364 : (Jvm.Cond.instanceMethod ({ cls := "CryOrder", name := "told", desc := "(II)I" } : Jvm.MethodName)) ∈ lw_all := lw_g (lw_at lw_m2 94 rfl) rfl
theorem q365 : (Jvm.Cond.selects "CryOrder" ({ cls := "CryOrder", name := "told", desc := "(II)I" } : Jvm.MethodName) ({ cls := "CryOrder", name := "told", desc := "(II)I" } : Jvm.MethodName)) ∈ lw_all := lw_g (lw_at lw_m2 95 rfl) rfl
theorem q366 : (Jvm.Cond.code ({ cls := "CryOrder", name := "told", desc := "(II)I" } : Jvm.MethodName) prog_1_method_23_code (4 : Nat) (Option.some Jvm.ClassFile.FieldType.int)) ∈ lw_all := lw_g (lw_at lw_m2 96 rfl) rfl
theorem q367 : (Jvm.Cond.methodLink "CryOrder" (206 : Nat) ({ cls := "CryOrder", name := "scoreOf", desc := "(LCryOrder$Alarm;)I" } : Jvm.MethodName)) ∈ lw_all := lw_g (lw_at lw_m2 97 rfl) rfl
theorem q368 : (Jvm.Cond.privateMethod ({ cls := "CryOrder", name := "scoreOf", desc := "(LCryOrder$Alarm;)I" } : Jvm.MethodName)) ∈ lw_tbl := lw_at lw_m2 98 rfl
theorem q369 : (Jvm.Cond.instanceMethod ({ cls := "CryOrder", name := "scoreOf", desc := "(LCryOrder$Alarm;)I" } : Jvm.MethodName)) ∈ lw_all := lw_g (lw_at lw_m2 99 rfl) rfl
theorem q370 : (Jvm.Cond.code ({ cls := "CryOrder", name := "scoreOf", desc := "(LCryOrder$Alarm;)I" } : Jvm.MethodName) prog_1_method_14_code (4 : Nat) (Option.some Jvm.ClassFile.FieldType.int)) ∈ lw_all := lw_g (lw_at lw_m2 100 rfl) rfl
theorem q371 : (Jvm.Cond.methodLink "CryOrder" (215 : Nat) ({ cls := "CryOrder", name := "makes", desc := "()V" } : Jvm.MethodName)) ∈ lw_all := lw_g (lw_at lw_m2 101 rfl) rfl
theorem q372 : (Jvm.Cond.privateMethod ({ cls := "CryOrder", name := "makes", desc := "()V" } : Jvm.MethodName)) ∈ lw_tbl := lw_at lw_m2 102 rfl
theorem q373 : (Jvm.Cond.instanceMethod ({ cls := "CryOrder", name := "makes", desc := "()V" } : Jvm.MethodName)) ∈ lw_all := lw_g (lw_at lw_m2 103 rfl) rfl
theorem q374 : (Jvm.Cond.code ({ cls := "CryOrder", name := "makes", desc := "()V" } : Jvm.MethodName) prog_1_method_20_code (5 : Nat) (Option.none : Option Jvm.ClassFile.FieldType)) ∈ lw_all := lw_g (lw_at lw_m2 104 rfl) rfl
theorem q375 : (Jvm.Cond.methodLink "CryOrder" (181 : Nat) ({ cls := "java/util/ArrayList", name := "clear", desc := "()V" } : Jvm.MethodName)) ∈ lw_all := lw_g (lw_at lw_m2 105 rfl) rfl
theorem q379 : (Jvm.Cond.methodLink "CryOrder" (184 : Nat) ({ cls := "CryOrder", name := "isTied", desc := "(LCryOrder$Alarm;LCryOrder$Alarm;)Z" } : Jvm.MethodName)) ∈ lw_all := lw_g (lw_at lw_m2 109 rfl) rfl
theorem q380 : (Jvm.Cond.privateMethod ({ cls := "CryOrder", name := "isTied", desc := "(LCryOrder$Alarm;LCryOrder$Alarm;)Z" } : Jvm.MethodName)) ∈ lw_tbl := lw_at lw_m2 110 rfl
theorem q381 : (Jvm.Cond.instanceMethod ({ cls := "CryOrder", name := "isTied", desc := "(LCryOrder$Alarm;LCryOrder$Alarm;)Z" } : Jvm.MethodName)) ∈ lw_all := lw_g (lw_at lw_m2 111 rfl) rfl
theorem q382 : (Jvm.Cond.code ({ cls := "CryOrder", name := "isTied", desc := "(LCryOrder$Alarm;LCryOrder$Alarm;)Z" } : Jvm.MethodName) prog_1_method_19_code (4 : Nat) (Option.some Jvm.ClassFile.FieldType.boolean)) ∈ lw_all := lw_g (lw_at lw_m2 112 rfl) rfl
theorem q383 : (Jvm.Cond.methodLink "CryOrder" (175 : Nat) ({ cls := "java/lang/Math", name := "abs", desc := "(I)I" } : Jvm.MethodName)) ∈ lw_all := lw_g (lw_at lw_m2 113 rfl) rfl
theorem q386 : (Jvm.Cond.methodLink "CryOrder" (188 : Nat) ({ cls := "java/lang/Math", name := "min", desc := "(II)I" } : Jvm.MethodName)) ∈ lw_all := lw_g (lw_at lw_m2 116 rfl) rfl
theorem q387 : (Jvm.Cond.methodLink "CryOrder" (191 : Nat) ({ cls := "CryOrder", name := "gather", desc := "(I)LCryOrder$Case;" } : Jvm.MethodName)) ∈ lw_all := lw_g (lw_at lw_m2 117 rfl) rfl
theorem q388 : (Jvm.Cond.privateMethod ({ cls := "CryOrder", name := "gather", desc := "(I)LCryOrder$Case;" } : Jvm.MethodName)) ∈ lw_tbl := lw_at lw_m2 118 rfl
theorem q389 : (Jvm.Cond.instanceMethod ({ cls := "CryOrder", name := "gather", desc := "(I)LCryOrder$Case;" } : Jvm.MethodName)) ∈ lw_all := lw_g (lw_at lw_m2 119 rfl) rfl
theorem q390 : (Jvm.Cond.code ({ cls := "CryOrder", name := "gather", desc := "(I)LCryOrder$Case;" } : Jvm.MethodName) prog_1_method_21_code (5 : Nat) (Option.some (Jvm.ClassFile.FieldType.object "CryOrder$Case"))) ∈ lw_all := lw_g (lw_at lw_m2 120 rfl) rfl
theorem q391 : (Jvm.Cond.classLink "CryOrder" (195 : Nat) "CryOrder$Case") ∈ lw_all := lw_g (lw_at lw_m2 121 rfl) rfl
theorem q393 : (Jvm.Cond.methodLinkNest "CryOrder" (204 : Nat) ({ cls := "CryOrder$Case", name := "<init>", desc := "()V" } : Jvm.MethodName) "CryOrder") ∈ lw_tbl := lw_at lw_m2 123 rfl
theorem q400 : (Jvm.Cond.fieldLinkNest "CryOrder" (205 : Nat) "CryOrder$Case" "alarms" "Ljava/util/ArrayList;" "CryOrder") ∈ lw_tbl := lw_at lw_m2 130 rfl
theorem q401 : (Jvm.Cond.fieldLinkNest "CryOrder" (197 : Nat) "CryOrder$Case" "score" "I" "CryOrder") ∈ lw_tbl := lw_at lw_m2 131 rfl
theorem q402 : (Jvm.Cond.fieldLinkNest "CryOrder" (212 : Nat) "CryOrder$Case" "isLittleKnown" "Z" "CryOrder") ∈ lw_tbl := lw_at lw_m2 132 rfl
theorem q410 : (Jvm.Cond.methodLink "CryOrder" (209 : Nat) ({ cls := "java/lang/Math", name := "max", desc := "(II)I" } : Jvm.MethodName)) ∈ lw_all := lw_g (lw_at lw_m2 140 rfl) rfl
theorem q411 : (Jvm.Cond.methodLink "CryOrder" (200 : Nat) ({ cls := "java/util/ArrayList", name := "set", desc := "(ILjava/lang/Object;)Ljava/lang/Object;" } : Jvm.MethodName)) ∈ lw_all := lw_g (lw_at lw_m2 141 rfl) rfl
theorem q416 : (Jvm.Cond.instanceMethod ({ cls := "CryOrder", name := "order", desc := "(I)I" } : Jvm.MethodName)) ∈ lw_all := lw_g (lw_at lw_m2 146 rfl) rfl
theorem q417 : (Jvm.Cond.selects "CryOrder" ({ cls := "CryOrder", name := "order", desc := "(I)I" } : Jvm.MethodName) ({ cls := "CryOrder", name := "order", desc := "(I)I" } : Jvm.MethodName)) ∈ lw_all := lw_g (lw_at lw_m2 147 rfl) rfl
theorem q418 : (Jvm.Cond.code ({ cls := "CryOrder", name := "order", desc := "(I)I" } : Jvm.MethodName) prog_1_method_24_code (2 : Nat) (Option.some Jvm.ClassFile.FieldType.int)) ∈ lw_all := lw_g (lw_at lw_m2 148 rfl) rfl
theorem q419 : (Jvm.Cond.methodLink "CryOrder" (218 : Nat) ({ cls := "CryOrder$Case", name := "number", desc := "()I" } : Jvm.MethodName)) ∈ lw_all := lw_g (lw_at lw_m2 149 rfl) rfl
theorem q426 : (Jvm.Cond.instanceMethod ({ cls := "CryOrder", name := "caseOf", desc := "(II)I" } : Jvm.MethodName)) ∈ lw_all := lw_g (lw_at lw_m2 156 rfl) rfl
theorem q427 : (Jvm.Cond.selects "CryOrder" ({ cls := "CryOrder", name := "caseOf", desc := "(II)I" } : Jvm.MethodName) ({ cls := "CryOrder", name := "caseOf", desc := "(II)I" } : Jvm.MethodName)) ∈ lw_all := lw_g (lw_at lw_m2 157 rfl) rfl
theorem q428 : (Jvm.Cond.code ({ cls := "CryOrder", name := "caseOf", desc := "(II)I" } : Jvm.MethodName) prog_1_method_25_code (4 : Nat) (Option.some Jvm.ClassFile.FieldType.int)) ∈ lw_all := lw_g (lw_at lw_m2 158 rfl) rfl
theorem q429 : (Jvm.Cond.methodLink "CryOrder" (226 : Nat) ({ cls := "CryOrder", name := "find", desc := "(I)LCryOrder$Case;" } : Jvm.MethodName)) ∈ lw_all := lw_g (lw_at lw_m2 159 rfl) rfl
theorem q430 : (Jvm.Cond.privateMethod ({ cls := "CryOrder", name := "find", desc := "(I)LCryOrder$Case;" } : Jvm.MethodName)) ∈ lw_tbl := lw_at lw_m2 160 rfl
theorem q431 : (Jvm.Cond.instanceMethod ({ cls := "CryOrder", name := "find", desc := "(I)LCryOrder$Case;" } : Jvm.MethodName)) ∈ lw_all := lw_g (lw_at lw_m2 161 rfl) rfl
theorem q432 : (Jvm.Cond.code ({ cls := "CryOrder", name := "find", desc := "(I)LCryOrder$Case;" } : Jvm.MethodName) prog_1_method_22_code (3 : Nat) (Option.some (Jvm.ClassFile.FieldType.object "CryOrder$Case"))) ∈ lw_all := lw_g (lw_at lw_m2 162 rfl) rfl
theorem q433 : (Jvm.Cond.methodLink "CryOrder" (229 : Nat) ({ cls := "CryOrder$Case", name := "minutes", desc := "()I" } : Jvm.MethodName)) ∈ lw_all := lw_g (lw_at lw_m2 163 rfl) rfl
theorem q439 : (Jvm.Cond.instanceMethod ({ cls := "CryOrder", name := "slow", desc := "(I)I" } : Jvm.MethodName)) ∈ lw_all := lw_g (lw_at lw_m2 169 rfl) rfl
theorem q440 : (Jvm.Cond.selects "CryOrder" ({ cls := "CryOrder", name := "slow", desc := "(I)I" } : Jvm.MethodName) ({ cls := "CryOrder", name := "slow", desc := "(I)I" } : Jvm.MethodName)) ∈ lw_all := lw_g (lw_at lw_m2 170 rfl) rfl
theorem q441 : (Jvm.Cond.code ({ cls := "CryOrder", name := "slow", desc := "(I)I" } : Jvm.MethodName) prog_1_method_26_code (6 : Nat) (Option.some Jvm.ClassFile.FieldType.int)) ∈ lw_all := lw_g (lw_at lw_m2 171 rfl) rfl
theorem q443 : (Jvm.Cond.instanceMethod ({ cls := "CryOrder", name := "plan", desc := "(II)I" } : Jvm.MethodName)) ∈ lw_all := lw_g (lw_at lw_m2 173 rfl) rfl
theorem q444 : (Jvm.Cond.selects "CryOrder" ({ cls := "CryOrder", name := "plan", desc := "(II)I" } : Jvm.MethodName) ({ cls := "CryOrder", name := "plan", desc := "(II)I" } : Jvm.MethodName)) ∈ lw_all := lw_g (lw_at lw_m2 174 rfl) rfl
theorem q445 : (Jvm.Cond.code ({ cls := "CryOrder", name := "plan", desc := "(II)I" } : Jvm.MethodName) prog_1_method_28_code (3 : Nat) (Option.some Jvm.ClassFile.FieldType.int)) ∈ lw_all := lw_g (lw_at lw_m2 175 rfl) rfl
theorem q446 : (Jvm.Cond.methodLink "CryOrder" (238 : Nat) ({ cls := "CryOrder", name := "plans", desc := "(I)V" } : Jvm.MethodName)) ∈ lw_all := lw_g (lw_at lw_m2 176 rfl) rfl
theorem q447 : (Jvm.Cond.privateMethod ({ cls := "CryOrder", name := "plans", desc := "(I)V" } : Jvm.MethodName)) ∈ lw_tbl := lw_at lw_m2 177 rfl
theorem q448 : (Jvm.Cond.instanceMethod ({ cls := "CryOrder", name := "plans", desc := "(I)V" } : Jvm.MethodName)) ∈ lw_all := lw_g (lw_at lw_m2 178 rfl) rfl
theorem q449 : (Jvm.Cond.code ({ cls := "CryOrder", name := "plans", desc := "(I)V" } : Jvm.MethodName) prog_1_method_27_code (6 : Nat) (Option.none : Option Jvm.ClassFile.FieldType)) ∈ lw_all := lw_g (lw_at lw_m2 179 rfl) rfl
theorem q450 : (Jvm.Cond.methodLink "CryOrder" (235 : Nat) ({ cls := "java/util/ArrayList", name := "add", desc := "(ILjava/lang/Object;)V" } : Jvm.MethodName)) ∈ lw_all := lw_g (lw_at lw_m2 180 rfl) rfl
theorem q460 : (Jvm.Cond.instanceMethod ({ cls := "CryOrder", name := "worth", desc := "(II)I" } : Jvm.MethodName)) ∈ lw_all := lw_g (lw_at lw_m2 190 rfl) rfl
theorem q461 : (Jvm.Cond.selects "CryOrder" ({ cls := "CryOrder", name := "worth", desc := "(II)I" } : Jvm.MethodName) ({ cls := "CryOrder", name := "worth", desc := "(II)I" } : Jvm.MethodName)) ∈ lw_all := lw_g (lw_at lw_m2 191 rfl) rfl
theorem q462 : (Jvm.Cond.code ({ cls := "CryOrder", name := "worth", desc := "(II)I" } : Jvm.MethodName) prog_1_method_29_code (7 : Nat) (Option.some Jvm.ClassFile.FieldType.int)) ∈ lw_all := lw_g (lw_at lw_m2 192 rfl) rfl
theorem q464 : (Jvm.Cond.instanceMethod ({ cls := "CryOrder", name := "source", desc := "(II)I" } : Jvm.MethodName)) ∈ lw_all := lw_g (lw_at lw_m2 194 rfl) rfl
theorem q465 : (Jvm.Cond.selects "CryOrder" ({ cls := "CryOrder", name := "source", desc := "(II)I" } : Jvm.MethodName) ({ cls := "CryOrder", name := "source", desc := "(II)I" } : Jvm.MethodName)) ∈ lw_all := lw_g (lw_at lw_m2 195 rfl) rfl
theorem q466 : (Jvm.Cond.code ({ cls := "CryOrder", name := "source", desc := "(II)I" } : Jvm.MethodName) prog_1_method_30_code (6 : Nat) (Option.some Jvm.ClassFile.FieldType.int)) ∈ lw_all := lw_g (lw_at lw_m2 196 rfl) rfl
theorem q468 : (Jvm.Cond.instanceMethod ({ cls := "CryOrder", name := "count", desc := "(I)I" } : Jvm.MethodName)) ∈ lw_all := lw_g (lw_at lw_m2 198 rfl) rfl
theorem q469 : (Jvm.Cond.selects "CryOrder" ({ cls := "CryOrder", name := "count", desc := "(I)I" } : Jvm.MethodName) ({ cls := "CryOrder", name := "count", desc := "(I)I" } : Jvm.MethodName)) ∈ lw_all := lw_g (lw_at lw_m2 199 rfl) rfl
theorem q470 : (Jvm.Cond.code ({ cls := "CryOrder", name := "count", desc := "(I)I" } : Jvm.MethodName) prog_1_method_31_code (4 : Nat) (Option.some Jvm.ClassFile.FieldType.int)) ∈ lw_all := lw_g (lw_at lw_m2 200 rfl) rfl
theorem q724 : (Jvm.Cond.castable "CryOrder" "java/lang/Object") ∈ lw_tbl := lw_at lw_m3 214 rfl
theorem in_X0 : ∀ w ∈ wsX00, w ∈ lw_all := lw_in wsX00 [100, 102, 104, 106, 108, 110, 112, 114, 116, 118, 120, 122, 124, 126, 128, 130, 132, 134, 136] (by decide +kernel) (by decide +kernel)
/-! CryOrderModel -/
def RX1 : String := "CryOrderModel"
def TX1 : u_T := fun k => match k with
  | 0 => ("CryOrderModel", "now", "I", false)
  | 1 => ("CryOrderModel", "alarms", "I", false)
  | 2 => ("CryOrderModel", "silences", "I", false)
  | 3 => ("CryOrderModel", "ties", "I", false)
  | 4 => ("CryOrderModel", "cap", "I", false)
  | 5 => ("CryOrderModel", "needs", "I", false)
  | 6 => ("CryOrderModel", "tries", "I", false)
  | 7 => ("CryOrderModel", "came", "[I", true)
  | 8 => ("CryOrderModel", "last", "[I", true)
  | 9 => ("CryOrderModel", "source", "[I", true)
  | 10 => ("CryOrderModel", "thing", "[I", true)
  | 11 => ("CryOrderModel", "marks", "[I", true)
  | 12 => ("CryOrderModel", "worth", "[I", true)
  | 13 => ("CryOrderModel", "repeats", "[I", true)
  | 14 => ("CryOrderModel", "state", "[I", true)
  | 15 => ("CryOrderModel", "saidTrue", "[I", true)
  | 16 => ("CryOrderModel", "saidFalse", "[I", true)
  | 17 => ("CryOrderModel", "isSilenced", "[Z", true)
  | 18 => ("CryOrderModel", "isCapped", "[Z", true)
  | 19 => ("CryOrderModel", "silenced", "[I", true)
  | 20 => ("CryOrderModel", "from", "[I", true)
  | 21 => ("CryOrderModel", "to", "[I", true)
  | 22 => ("CryOrderModel", "tieA", "[I", true)
  | 23 => ("CryOrderModel", "tieB", "[I", true)
  | 24 => ("CryOrderModel", "isJoined", "[Z", true)
  | 25 => ("CryOrderModel", "trues", "I", false)
  | 26 => ("CryOrderModel", "settled", "I", false)
  | 27 => ("CryOrderModel", "opens", "I", false)
  | 28 => ("CryOrderModel", "caseNumber", "[I", true)
  | 29 => ("CryOrderModel", "scores", "[I", true)
  | 30 => ("CryOrderModel", "order", "[I", true)
  | 31 => ("CryOrderModel", "cases", "I", false)
  | 32 => ("CryOrderModel", "taken", "[I", true)
  | 33 => ("CryOrderModel", "rest", "[I", true)
  | 34 => ("CryOrderModel", "takenMany", "I", false)
  | 35 => ("CryOrderModel", "restMinutes", "[I", true)
  | _ => ("CryOrderModel", "restScores", "[I", true)
def tyX1 : Nat → FieldType := fun k => match k with
  | 0 => .int
  | 1 => .int
  | 2 => .int
  | 3 => .int
  | 4 => .int
  | 5 => .int
  | 6 => .int
  | 7 => .array .int
  | 8 => .array .int
  | 9 => .array .int
  | 10 => .array .int
  | 11 => .array .int
  | 12 => .array .int
  | 13 => .array .int
  | 14 => .array .int
  | 15 => .array .int
  | 16 => .array .int
  | 17 => .array .boolean
  | 18 => .array .boolean
  | 19 => .array .int
  | 20 => .array .int
  | 21 => .array .int
  | 22 => .array .int
  | 23 => .array .int
  | 24 => .array .boolean
  | 25 => .int
  | 26 => .int
  | 27 => .int
  | 28 => .array .int
  | 29 => .array .int
  | 30 => .array .int
  | 31 => .int
  | 32 => .array .int
  | 33 => .array .int
  | 34 => .int
  | 35 => .array .int
  | _ => .array .int
abbrev wsX10 : List Cond := u_ws RX1 TX1 37
theorem nmX1 : ∀ a, a < 37 → ∀ b, b < 37 → a ≠ b → (TX1 a).2.1 ≠ (TX1 b).2.1 := by decide +kernel
theorem tyX1_ok : ∀ k, k < 37 → parseFieldDescriptor (TX1 k).2.2.1 = some (tyX1 k) := by decide +kernel
abbrev cX1_init : ByteArray := prog_6_method_1_code
def yX1_init : MethodName := ⟨RX1, "<init>", "()V"⟩
abbrev cX1_pass : ByteArray := prog_6_method_5_code
def yX1_pass : MethodName := ⟨RX1, "pass", "(I)I"⟩
abbrev cX1_isIn : ByteArray := prog_6_method_2_code
def yX1_isIn : MethodName := ⟨RX1, "isIn", "(III)Z"⟩
abbrev cX1_alarm : ByteArray := prog_6_method_7_code
def yX1_alarm : MethodName := ⟨RX1, "alarm", "(IIII)I"⟩
abbrev cX1_isLive : ByteArray := prog_6_method_6_code
def yX1_isLive : MethodName := ⟨RX1, "isLive", "(I)Z"⟩
abbrev cX1_one : ByteArray := prog_6_method_3_code
def yX1_one : MethodName := ⟨RX1, "one", "(Z)I"⟩
abbrev cX1_silence : ByteArray := prog_6_method_8_code
def yX1_silence : MethodName := ⟨RX1, "silence", "(III)I"⟩
abbrev cX1_set : ByteArray := prog_6_method_9_code
def yX1_set : MethodName := ⟨RX1, "set", "(II)Z"⟩
abbrev cX1_verdict : ByteArray := prog_6_method_11_code
def yX1_verdict : MethodName := ⟨RX1, "verdict", "(IIZ)I"⟩
abbrev cX1_isAlarm : ByteArray := prog_6_method_4_code
def yX1_isAlarm : MethodName := ⟨RX1, "isAlarm", "(I)Z"⟩
abbrev cX1_many : ByteArray := prog_6_method_10_code
def yX1_many : MethodName := ⟨RX1, "many", "(I)I"⟩
abbrev cX1_tie : ByteArray := prog_6_method_13_code
def yX1_tie : MethodName := ⟨RX1, "tie", "(IIZ)Z"⟩
abbrev cX1_tieOf : ByteArray := prog_6_method_12_code
def yX1_tieOf : MethodName := ⟨RX1, "tieOf", "(II)I"⟩
abbrev cX1_node : ByteArray := prog_6_method_17_code
def yX1_node : MethodName := ⟨RX1, "node", "(III)I"⟩
abbrev cX1_counts : ByteArray := prog_6_method_14_code
def yX1_counts : MethodName := ⟨RX1, "counts", "(II)V"⟩
abbrev cX1_odds : ByteArray := prog_6_method_18_code
def yX1_odds : MethodName := ⟨RX1, "odds", "(II)I"⟩
abbrev cX1_depth : ByteArray := prog_6_method_15_code
def yX1_depth : MethodName := ⟨RX1, "depth", "(I)I"⟩
abbrev cX1_told : ByteArray := prog_6_method_25_code
def yX1_told : MethodName := ⟨RX1, "told", "(II)I"⟩
abbrev cX1_score : ByteArray := prog_6_method_16_code
def yX1_score : MethodName := ⟨RX1, "score", "(I)I"⟩
abbrev cX1_joins : ByteArray := prog_6_method_20_code
def yX1_joins : MethodName := ⟨RX1, "joins", "()V"⟩
abbrev cX1_hangs : ByteArray := prog_6_method_19_code
def yX1_hangs : MethodName := ⟨RX1, "hangs", "(II)Z"⟩
abbrev cX1_scoreOf : ByteArray := prog_6_method_21_code
def yX1_scoreOf : MethodName := ⟨RX1, "scoreOf", "(I)I"⟩
abbrev cX1_order : ByteArray := prog_6_method_26_code
def yX1_order : MethodName := ⟨RX1, "order", "(I)I"⟩
abbrev cX1_caseOf : ByteArray := prog_6_method_27_code
def yX1_caseOf : MethodName := ⟨RX1, "caseOf", "(II)I"⟩
abbrev cX1_sizeOf : ByteArray := prog_6_method_22_code
def yX1_sizeOf : MethodName := ⟨RX1, "sizeOf", "(I)I"⟩
abbrev cX1_minutesOf : ByteArray := prog_6_method_23_code
def yX1_minutesOf : MethodName := ⟨RX1, "minutesOf", "(I)I"⟩
abbrev cX1_isLittleKnown : ByteArray := prog_6_method_24_code
def yX1_isLittleKnown : MethodName := ⟨RX1, "isLittleKnown", "(I)Z"⟩
abbrev cX1_slow : ByteArray := prog_6_method_28_code
def yX1_slow : MethodName := ⟨RX1, "slow", "(I)I"⟩
abbrev cX1_plan : ByteArray := prog_6_method_32_code
def yX1_plan : MethodName := ⟨RX1, "plan", "(II)I"⟩
abbrev cX1_isPlan : ByteArray := prog_6_method_31_code
def yX1_isPlan : MethodName := ⟨RX1, "isPlan", "(I)Z"⟩
abbrev cX1_plans : ByteArray := prog_6_method_30_code
def yX1_plans : MethodName := ⟨RX1, "plans", "(I)V"⟩
abbrev cX1_isTaken : ByteArray := prog_6_method_29_code
def yX1_isTaken : MethodName := ⟨RX1, "isTaken", "(I)Z"⟩
abbrev cX1_worth : ByteArray := prog_6_method_33_code
def yX1_worth : MethodName := ⟨RX1, "worth", "(II)I"⟩
abbrev cX1_source : ByteArray := prog_6_method_34_code
def yX1_source : MethodName := ⟨RX1, "source", "(II)I"⟩
abbrev cX1_count : ByteArray := prog_6_method_35_code
def yX1_count : MethodName := ⟨RX1, "count", "(I)I"⟩
theorem q35 : (Jvm.Cond.initialized "CryOrderModel") ∈ lw_all := lw_g (lw_at lw_m1 5 rfl) rfl
theorem q292 : (Jvm.Cond.selects "CryOrderModel" ({ cls := "java/lang/Object", name := "getClass", desc := "()Ljava/lang/Class;" } : Jvm.MethodName) ({ cls := "java/lang/Object", name := "getClass", desc := "()Ljava/lang/Class;" } : Jvm.MethodName)) ∈ lw_all := lw_g (lw_at lw_m2 22 rfl) rfl
theorem q472 : (Jvm.Cond.instantiable "CryOrderModel" (37 : Nat)) ∈ lw_all := lw_g (lw_at lw_m2 202 rfl) rfl
theorem q474 : (Jvm.Cond.instanceMethod ({ cls := "CryOrderModel", name := "<init>", desc := "()V" } : Jvm.MethodName)) ∈ lw_all := lw_g (lw_at lw_m2 204 rfl) rfl
theorem q475 : (Jvm.Cond.code ({ cls := "CryOrderModel", name := "<init>", desc := "()V" } : Jvm.MethodName) prog_6_method_1_code (1 : Nat) (Option.none : Option Jvm.ClassFile.FieldType)) ∈ lw_all := lw_g (lw_at lw_m2 205 rfl) rfl
theorem q476 : (Jvm.Cond.methodLink "CryOrderModel" (1 : Nat) ({ cls := "java/lang/Object", name := "<init>", desc := "()V" } : Jvm.MethodName)) ∈ lw_all := lw_g (lw_at lw_m2 206 rfl) rfl
theorem q477 : (Jvm.Cond.fieldLink "CryOrderModel" (100 : Nat) "CryOrderModel" "now" "I") ∈ lw_all := lw_g (lw_at lw_m2 207 rfl) rfl
theorem q478 : (Jvm.Cond.fieldLink "CryOrderModel" (93 : Nat) "CryOrderModel" "alarms" "I") ∈ lw_all := lw_g (lw_at lw_m2 208 rfl) rfl
theorem q479 : (Jvm.Cond.fieldLink "CryOrderModel" (111 : Nat) "CryOrderModel" "silences" "I") ∈ lw_all := lw_g (lw_at lw_m2 209 rfl) rfl
theorem q480 : (Jvm.Cond.fieldLink "CryOrderModel" (124 : Nat) "CryOrderModel" "ties" "I") ∈ lw_all := lw_g (lw_at lw_m2 210 rfl) rfl
theorem q481 : (Jvm.Cond.fieldLink "CryOrderModel" (7 : Nat) "CryOrderModel" "cap" "I") ∈ lw_all := lw_g (lw_at lw_m2 211 rfl) rfl
theorem q482 : (Jvm.Cond.fieldLink "CryOrderModel" (13 : Nat) "CryOrderModel" "needs" "I") ∈ lw_all := lw_g (lw_at lw_m2 212 rfl) rfl
theorem q483 : (Jvm.Cond.fieldLink "CryOrderModel" (114 : Nat) "CryOrderModel" "tries" "I") ∈ lw_all := lw_g (lw_at lw_m2 213 rfl) rfl
theorem q484 : (Jvm.Cond.fieldLink "CryOrderModel" (16 : Nat) "CryOrderModel" "came" "[I") ∈ lw_all := lw_g (lw_at lw_m2 214 rfl) rfl
theorem q485 : (Jvm.Cond.fieldLink "CryOrderModel" (20 : Nat) "CryOrderModel" "last" "[I") ∈ lw_all := lw_g (lw_at lw_m2 215 rfl) rfl
theorem q486 : (Jvm.Cond.fieldLink "CryOrderModel" (23 : Nat) "CryOrderModel" "source" "[I") ∈ lw_all := lw_g (lw_at lw_m2 216 rfl) rfl
theorem q487 : (Jvm.Cond.fieldLink "CryOrderModel" (26 : Nat) "CryOrderModel" "thing" "[I") ∈ lw_all := lw_g (lw_at lw_m2 217 rfl) rfl
theorem q488 : (Jvm.Cond.fieldLink "CryOrderModel" (29 : Nat) "CryOrderModel" "marks" "[I") ∈ lw_all := lw_g (lw_at lw_m2 218 rfl) rfl
theorem q489 : (Jvm.Cond.fieldLink "CryOrderModel" (32 : Nat) "CryOrderModel" "worth" "[I") ∈ lw_all := lw_g (lw_at lw_m2 219 rfl) rfl
theorem q490 : (Jvm.Cond.fieldLink "CryOrderModel" (35 : Nat) "CryOrderModel" "repeats" "[I") ∈ lw_all := lw_g (lw_at lw_m2 220 rfl) rfl
theorem q491 : (Jvm.Cond.fieldLink "CryOrderModel" (38 : Nat) "CryOrderModel" "state" "[I") ∈ lw_all := lw_g (lw_at lw_m2 221 rfl) rfl
theorem q492 : (Jvm.Cond.fieldLink "CryOrderModel" (41 : Nat) "CryOrderModel" "saidTrue" "[I") ∈ lw_all := lw_g (lw_at lw_m2 222 rfl) rfl
theorem q493 : (Jvm.Cond.fieldLink "CryOrderModel" (44 : Nat) "CryOrderModel" "saidFalse" "[I") ∈ lw_all := lw_g (lw_at lw_m2 223 rfl) rfl
theorem q494 : (Jvm.Cond.fieldLink "CryOrderModel" (47 : Nat) "CryOrderModel" "isSilenced" "[Z") ∈ lw_all := lw_g (lw_at lw_m2 224 rfl) rfl
theorem q495 : (Jvm.Cond.fieldLink "CryOrderModel" (51 : Nat) "CryOrderModel" "isCapped" "[Z") ∈ lw_all := lw_g (lw_at lw_m2 225 rfl) rfl
theorem q496 : (Jvm.Cond.fieldLink "CryOrderModel" (54 : Nat) "CryOrderModel" "silenced" "[I") ∈ lw_all := lw_g (lw_at lw_m2 226 rfl) rfl
theorem q497 : (Jvm.Cond.fieldLink "CryOrderModel" (57 : Nat) "CryOrderModel" "from" "[I") ∈ lw_all := lw_g (lw_at lw_m2 227 rfl) rfl
theorem q498 : (Jvm.Cond.fieldLink "CryOrderModel" (60 : Nat) "CryOrderModel" "to" "[I") ∈ lw_all := lw_g (lw_at lw_m2 228 rfl) rfl
theorem q499 : (Jvm.Cond.fieldLink "CryOrderModel" (63 : Nat) "CryOrderModel" "tieA" "[I") ∈ lw_all := lw_g (lw_at lw_m2 229 rfl) rfl
theorem q500 : (Jvm.Cond.fieldLink "CryOrderModel" (66 : Nat) "CryOrderModel" "tieB" "[I") ∈ lw_all := lw_g (lw_at lw_m2 230 rfl) rfl
theorem q501 : (Jvm.Cond.fieldLink "CryOrderModel" (69 : Nat) "CryOrderModel" "isJoined" "[Z") ∈ lw_all := lw_g (lw_at lw_m2 231 rfl) rfl
theorem q502 : (Jvm.Cond.fieldLink "CryOrderModel" (131 : Nat) "CryOrderModel" "trues" "I") ∈ lw_all := lw_g (lw_at lw_m2 232 rfl) rfl
theorem q503 : (Jvm.Cond.fieldLink "CryOrderModel" (134 : Nat) "CryOrderModel" "settled" "I") ∈ lw_all := lw_g (lw_at lw_m2 233 rfl) rfl
theorem q504 : (Jvm.Cond.fieldLink "CryOrderModel" (137 : Nat) "CryOrderModel" "opens" "I") ∈ lw_all := lw_g (lw_at lw_m2 234 rfl) rfl
theorem q505 : (Jvm.Cond.fieldLink "CryOrderModel" (72 : Nat) "CryOrderModel" "caseNumber" "[I") ∈ lw_all := lw_g (lw_at lw_m2 235 rfl) rfl
theorem q506 : (Jvm.Cond.fieldLink "CryOrderModel" (75 : Nat) "CryOrderModel" "scores" "[I") ∈ lw_all := lw_g (lw_at lw_m2 236 rfl) rfl
theorem q507 : (Jvm.Cond.fieldLink "CryOrderModel" (78 : Nat) "CryOrderModel" "order" "[I") ∈ lw_all := lw_g (lw_at lw_m2 237 rfl) rfl
theorem q508 : (Jvm.Cond.fieldLink "CryOrderModel" (165 : Nat) "CryOrderModel" "cases" "I") ∈ lw_all := lw_g (lw_at lw_m2 238 rfl) rfl
theorem q509 : (Jvm.Cond.fieldLink "CryOrderModel" (81 : Nat) "CryOrderModel" "taken" "[I") ∈ lw_all := lw_g (lw_at lw_m2 239 rfl) rfl
theorem q510 : (Jvm.Cond.fieldLink "CryOrderModel" (84 : Nat) "CryOrderModel" "rest" "[I") ∈ lw_all := lw_g (lw_at lw_m3 0 rfl) rfl
theorem q511 : (Jvm.Cond.fieldLink "CryOrderModel" (183 : Nat) "CryOrderModel" "takenMany" "I") ∈ lw_all := lw_g (lw_at lw_m3 1 rfl) rfl
theorem q512 : (Jvm.Cond.fieldLink "CryOrderModel" (87 : Nat) "CryOrderModel" "restMinutes" "[I") ∈ lw_all := lw_g (lw_at lw_m3 2 rfl) rfl
theorem q513 : (Jvm.Cond.fieldLink "CryOrderModel" (90 : Nat) "CryOrderModel" "restScores" "[I") ∈ lw_all := lw_g (lw_at lw_m3 3 rfl) rfl
theorem q514 : (Jvm.Cond.lays "CryOrderModel" "CryOrderModel" "now" "I") ∈ lw_all := lw_g (lw_at lw_m3 4 rfl) rfl
theorem q515 : (Jvm.Cond.soleField "CryOrderModel" "now") ∈ lw_all := lw_g (lw_at lw_m3 5 rfl) rfl
theorem q516 : (Jvm.Cond.lays "CryOrderModel" "CryOrderModel" "alarms" "I") ∈ lw_all := lw_g (lw_at lw_m3 6 rfl) rfl
theorem q517 : (Jvm.Cond.soleField "CryOrderModel" "alarms") ∈ lw_all := lw_g (lw_at lw_m3 7 rfl) rfl
theorem q518 : (Jvm.Cond.lays "CryOrderModel" "CryOrderModel" "silences" "I") ∈ lw_all := lw_g (lw_at lw_m3 8 rfl) rfl
theorem q519 : (Jvm.Cond.soleField "CryOrderModel" "silences") ∈ lw_all := lw_g (lw_at lw_m3 9 rfl) rfl
theorem q520 : (Jvm.Cond.lays "CryOrderModel" "CryOrderModel" "ties" "I") ∈ lw_all := lw_g (lw_at lw_m3 10 rfl) rfl
theorem q521 : (Jvm.Cond.soleField "CryOrderModel" "ties") ∈ lw_all := lw_g (lw_at lw_m3 11 rfl) rfl
theorem q522 : (Jvm.Cond.lays "CryOrderModel" "CryOrderModel" "cap" "I") ∈ lw_all := lw_g (lw_at lw_m3 12 rfl) rfl
theorem q523 : (Jvm.Cond.soleField "CryOrderModel" "cap") ∈ lw_all := lw_g (lw_at lw_m3 13 rfl) rfl
theorem q524 : (Jvm.Cond.lays "CryOrderModel" "CryOrderModel" "needs" "I") ∈ lw_all := lw_g (lw_at lw_m3 14 rfl) rfl
theorem q525 : (Jvm.Cond.soleField "CryOrderModel" "needs") ∈ lw_all := lw_g (lw_at lw_m3 15 rfl) rfl
theorem q526 : (Jvm.Cond.lays "CryOrderModel" "CryOrderModel" "tries" "I") ∈ lw_all := lw_g (lw_at lw_m3 16 rfl) rfl
theorem q527 : (Jvm.Cond.soleField "CryOrderModel" "tries") ∈ lw_all := lw_g (lw_at lw_m3 17 rfl) rfl
theorem q528 : (Jvm.Cond.laysFinal "CryOrderModel" "CryOrderModel" "came" "[I") ∈ lw_all := lw_g (lw_at lw_m3 18 rfl) rfl
theorem q529 : (Jvm.Cond.soleField "CryOrderModel" "came") ∈ lw_all := lw_g (lw_at lw_m3 19 rfl) rfl
theorem q530 : (Jvm.Cond.laysFinal "CryOrderModel" "CryOrderModel" "last" "[I") ∈ lw_all := lw_g (lw_at lw_m3 20 rfl) rfl
theorem q531 : (Jvm.Cond.soleField "CryOrderModel" "last") ∈ lw_all := lw_g (lw_at lw_m3 21 rfl) rfl
theorem q532 : (Jvm.Cond.laysFinal "CryOrderModel" "CryOrderModel" "source" "[I") ∈ lw_all := lw_g (lw_at lw_m3 22 rfl) rfl
theorem q533 : (Jvm.Cond.soleField "CryOrderModel" "source") ∈ lw_all := lw_g (lw_at lw_m3 23 rfl) rfl
theorem q534 : (Jvm.Cond.laysFinal "CryOrderModel" "CryOrderModel" "thing" "[I") ∈ lw_all := lw_g (lw_at lw_m3 24 rfl) rfl
theorem q535 : (Jvm.Cond.soleField "CryOrderModel" "thing") ∈ lw_all := lw_g (lw_at lw_m3 25 rfl) rfl
theorem q536 : (Jvm.Cond.laysFinal "CryOrderModel" "CryOrderModel" "marks" "[I") ∈ lw_all := lw_g (lw_at lw_m3 26 rfl) rfl
theorem q537 : (Jvm.Cond.soleField "CryOrderModel" "marks") ∈ lw_all := lw_g (lw_at lw_m3 27 rfl) rfl
theorem q538 : (Jvm.Cond.laysFinal "CryOrderModel" "CryOrderModel" "worth" "[I") ∈ lw_all := lw_g (lw_at lw_m3 28 rfl) rfl
theorem q539 : (Jvm.Cond.soleField "CryOrderModel" "worth") ∈ lw_all := lw_g (lw_at lw_m3 29 rfl) rfl
theorem q540 : (Jvm.Cond.laysFinal "CryOrderModel" "CryOrderModel" "repeats" "[I") ∈ lw_all := lw_g (lw_at lw_m3 30 rfl) rfl
theorem q541 : (Jvm.Cond.soleField "CryOrderModel" "repeats") ∈ lw_all := lw_g (lw_at lw_m3 31 rfl) rfl
theorem q542 : (Jvm.Cond.laysFinal "CryOrderModel" "CryOrderModel" "state" "[I") ∈ lw_all := lw_g (lw_at lw_m3 32 rfl) rfl
theorem q543 : (Jvm.Cond.soleField "CryOrderModel" "state") ∈ lw_all := lw_g (lw_at lw_m3 33 rfl) rfl
theorem q544 : (Jvm.Cond.laysFinal "CryOrderModel" "CryOrderModel" "saidTrue" "[I") ∈ lw_all := lw_g (lw_at lw_m3 34 rfl) rfl
theorem q545 : (Jvm.Cond.soleField "CryOrderModel" "saidTrue") ∈ lw_all := lw_g (lw_at lw_m3 35 rfl) rfl
theorem q546 : (Jvm.Cond.laysFinal "CryOrderModel" "CryOrderModel" "saidFalse" "[I") ∈ lw_all := lw_g (lw_at lw_m3 36 rfl) rfl
theorem q547 : (Jvm.Cond.soleField "CryOrderModel" "saidFalse") ∈ lw_all := lw_g (lw_at lw_m3 37 rfl) rfl
theorem q548 : (Jvm.Cond.laysFinal "CryOrderModel" "CryOrderModel" "isSilenced" "[Z") ∈ lw_all := lw_g (lw_at lw_m3 38 rfl) rfl
theorem q549 : (Jvm.Cond.soleField "CryOrderModel" "isSilenced") ∈ lw_all := lw_g (lw_at lw_m3 39 rfl) rfl
theorem q550 : (Jvm.Cond.laysFinal "CryOrderModel" "CryOrderModel" "isCapped" "[Z") ∈ lw_all := lw_g (lw_at lw_m3 40 rfl) rfl
theorem q551 : (Jvm.Cond.soleField "CryOrderModel" "isCapped") ∈ lw_all := lw_g (lw_at lw_m3 41 rfl) rfl
theorem q552 : (Jvm.Cond.laysFinal "CryOrderModel" "CryOrderModel" "silenced" "[I") ∈ lw_all := lw_g (lw_at lw_m3 42 rfl) rfl
theorem q553 : (Jvm.Cond.soleField "CryOrderModel" "silenced") ∈ lw_all := lw_g (lw_at lw_m3 43 rfl) rfl
theorem q554 : (Jvm.Cond.laysFinal "CryOrderModel" "CryOrderModel" "from" "[I") ∈ lw_all := lw_g (lw_at lw_m3 44 rfl) rfl
theorem q555 : (Jvm.Cond.soleField "CryOrderModel" "from") ∈ lw_all := lw_g (lw_at lw_m3 45 rfl) rfl
theorem q556 : (Jvm.Cond.laysFinal "CryOrderModel" "CryOrderModel" "to" "[I") ∈ lw_all := lw_g (lw_at lw_m3 46 rfl) rfl
theorem q557 : (Jvm.Cond.soleField "CryOrderModel" "to") ∈ lw_all := lw_g (lw_at lw_m3 47 rfl) rfl
theorem q558 : (Jvm.Cond.laysFinal "CryOrderModel" "CryOrderModel" "tieA" "[I") ∈ lw_all := lw_g (lw_at lw_m3 48 rfl) rfl
theorem q559 : (Jvm.Cond.soleField "CryOrderModel" "tieA") ∈ lw_all := lw_g (lw_at lw_m3 49 rfl) rfl
theorem q560 : (Jvm.Cond.laysFinal "CryOrderModel" "CryOrderModel" "tieB" "[I") ∈ lw_all := lw_g (lw_at lw_m3 50 rfl) rfl
theorem q561 : (Jvm.Cond.soleField "CryOrderModel" "tieB") ∈ lw_all := lw_g (lw_at lw_m3 51 rfl) rfl
theorem q562 : (Jvm.Cond.laysFinal "CryOrderModel" "CryOrderModel" "isJoined" "[Z") ∈ lw_all := lw_g (lw_at lw_m3 52 rfl) rfl
theorem q563 : (Jvm.Cond.soleField "CryOrderModel" "isJoined") ∈ lw_all := lw_g (lw_at lw_m3 53 rfl) rfl
theorem q564 : (Jvm.Cond.lays "CryOrderModel" "CryOrderModel" "trues" "I") ∈ lw_all := lw_g (lw_at lw_m3 54 rfl) rfl
theorem q565 : (Jvm.Cond.soleField "CryOrderModel" "trues") ∈ lw_all := lw_g (lw_at lw_m3 55 rfl) rfl
theorem q566 : (Jvm.Cond.lays "CryOrderModel" "CryOrderModel" "settled" "I") ∈ lw_all := lw_g (lw_at lw_m3 56 rfl) rfl
theorem q567 : (Jvm.Cond.soleField "CryOrderModel" "settled") ∈ lw_all := lw_g (lw_at lw_m3 57 rfl) rfl
theorem q568 : (Jvm.Cond.lays "CryOrderModel" "CryOrderModel" "opens" "I") ∈ lw_all := lw_g (lw_at lw_m3 58 rfl) rfl
theorem q569 : (Jvm.Cond.soleField "CryOrderModel" "opens") ∈ lw_all := lw_g (lw_at lw_m3 59 rfl) rfl
theorem q570 : (Jvm.Cond.laysFinal "CryOrderModel" "CryOrderModel" "caseNumber" "[I") ∈ lw_all := lw_g (lw_at lw_m3 60 rfl) rfl
theorem q571 : (Jvm.Cond.soleField "CryOrderModel" "caseNumber") ∈ lw_all := lw_g (lw_at lw_m3 61 rfl) rfl
theorem q572 : (Jvm.Cond.laysFinal "CryOrderModel" "CryOrderModel" "scores" "[I") ∈ lw_all := lw_g (lw_at lw_m3 62 rfl) rfl
theorem q573 : (Jvm.Cond.soleField "CryOrderModel" "scores") ∈ lw_all := lw_g (lw_at lw_m3 63 rfl) rfl
theorem q574 : (Jvm.Cond.laysFinal "CryOrderModel" "CryOrderModel" "order" "[I") ∈ lw_all := lw_g (lw_at lw_m3 64 rfl) rfl
theorem q575 : (Jvm.Cond.soleField "CryOrderModel" "order") ∈ lw_all := lw_g (lw_at lw_m3 65 rfl) rfl
theorem q576 : (Jvm.Cond.lays "CryOrderModel" "CryOrderModel" "cases" "I") ∈ lw_all := lw_g (lw_at lw_m3 66 rfl) rfl
theorem q577 : (Jvm.Cond.soleField "CryOrderModel" "cases") ∈ lw_all := lw_g (lw_at lw_m3 67 rfl) rfl
theorem q578 : (Jvm.Cond.laysFinal "CryOrderModel" "CryOrderModel" "taken" "[I") ∈ lw_all := lw_g (lw_at lw_m3 68 rfl) rfl
theorem q579 : (Jvm.Cond.soleField "CryOrderModel" "taken") ∈ lw_all := lw_g (lw_at lw_m3 69 rfl) rfl
theorem q580 : (Jvm.Cond.laysFinal "CryOrderModel" "CryOrderModel" "rest" "[I") ∈ lw_all := lw_g (lw_at lw_m3 70 rfl) rfl
theorem q581 : (Jvm.Cond.soleField "CryOrderModel" "rest") ∈ lw_all := lw_g (lw_at lw_m3 71 rfl) rfl
theorem q582 : (Jvm.Cond.lays "CryOrderModel" "CryOrderModel" "takenMany" "I") ∈ lw_all := lw_g (lw_at lw_m3 72 rfl) rfl
theorem q583 : (Jvm.Cond.soleField "CryOrderModel" "takenMany") ∈ lw_all := lw_g (lw_at lw_m3 73 rfl) rfl
theorem q584 : (Jvm.Cond.laysFinal "CryOrderModel" "CryOrderModel" "restMinutes" "[I") ∈ lw_all := lw_g (lw_at lw_m3 74 rfl) rfl
theorem q585 : (Jvm.Cond.soleField "CryOrderModel" "restMinutes") ∈ lw_all := lw_g (lw_at lw_m3 75 rfl) rfl
theorem q586 : (Jvm.Cond.laysFinal "CryOrderModel" "CryOrderModel" "restScores" "[I") ∈ lw_all := lw_g (lw_at lw_m3 76 rfl) rfl
theorem q587 : (Jvm.Cond.soleField "CryOrderModel" "restScores") ∈ lw_all := lw_g (lw_at lw_m3 77 rfl) rfl
theorem q588 : (Jvm.Cond.superclass "CryOrderModel" "java/lang/Object") ∈ lw_all := lw_g (lw_at lw_m3 78 rfl) rfl
theorem q590 : (Jvm.Cond.instanceMethod ({ cls := "CryOrderModel", name := "pass", desc := "(I)I" } : Jvm.MethodName)) ∈ lw_all := lw_g (lw_at lw_m3 80 rfl) rfl
theorem q591 : (Jvm.Cond.selects "CryOrderModel" ({ cls := "CryOrderModel", name := "pass", desc := "(I)I" } : Jvm.MethodName) ({ cls := "CryOrderModel", name := "pass", desc := "(I)I" } : Jvm.MethodName)) ∈ lw_all := lw_g (lw_at lw_m3 81 rfl) rfl
theorem q592 : (Jvm.Cond.code ({ cls := "CryOrderModel", name := "pass", desc := "(I)I" } : Jvm.MethodName) prog_6_method_5_code (2 : Nat) (Option.some Jvm.ClassFile.FieldType.int)) ∈ lw_all := lw_g (lw_at lw_m3 82 rfl) rfl
theorem q593 : (Jvm.Cond.methodLink "CryOrderModel" (96 : Nat) ({ cls := "CryOrderModel", name := "isIn", desc := "(III)Z" } : Jvm.MethodName)) ∈ lw_all := lw_g (lw_at lw_m3 83 rfl) rfl
theorem q594 : (Jvm.Cond.static ({ cls := "CryOrderModel", name := "isIn", desc := "(III)Z" } : Jvm.MethodName)) ∈ lw_all := lw_g (lw_at lw_m3 84 rfl) rfl
theorem q595 : (Jvm.Cond.code ({ cls := "CryOrderModel", name := "isIn", desc := "(III)Z" } : Jvm.MethodName) prog_6_method_2_code (3 : Nat) (Option.some Jvm.ClassFile.FieldType.boolean)) ∈ lw_all := lw_g (lw_at lw_m3 85 rfl) rfl
theorem q597 : (Jvm.Cond.instanceMethod ({ cls := "CryOrderModel", name := "alarm", desc := "(IIII)I" } : Jvm.MethodName)) ∈ lw_all := lw_g (lw_at lw_m3 87 rfl) rfl
theorem q598 : (Jvm.Cond.selects "CryOrderModel" ({ cls := "CryOrderModel", name := "alarm", desc := "(IIII)I" } : Jvm.MethodName) ({ cls := "CryOrderModel", name := "alarm", desc := "(IIII)I" } : Jvm.MethodName)) ∈ lw_all := lw_g (lw_at lw_m3 88 rfl) rfl
theorem q599 : (Jvm.Cond.code ({ cls := "CryOrderModel", name := "alarm", desc := "(IIII)I" } : Jvm.MethodName) prog_6_method_7_code (8 : Nat) (Option.some Jvm.ClassFile.FieldType.int)) ∈ lw_all := lw_g (lw_at lw_m3 89 rfl) rfl
theorem q600 : (Jvm.Cond.methodLink "CryOrderModel" (103 : Nat) ({ cls := "CryOrderModel", name := "isLive", desc := "(I)Z" } : Jvm.MethodName)) ∈ lw_all := lw_g (lw_at lw_m3 90 rfl) rfl
theorem q601 : (Jvm.Cond.privateMethod ({ cls := "CryOrderModel", name := "isLive", desc := "(I)Z" } : Jvm.MethodName)) ∈ lw_tbl := lw_at lw_m3 91 rfl
theorem q602 : (Jvm.Cond.instanceMethod ({ cls := "CryOrderModel", name := "isLive", desc := "(I)Z" } : Jvm.MethodName)) ∈ lw_all := lw_g (lw_at lw_m3 92 rfl) rfl
theorem q603 : (Jvm.Cond.code ({ cls := "CryOrderModel", name := "isLive", desc := "(I)Z" } : Jvm.MethodName) prog_6_method_6_code (2 : Nat) (Option.some Jvm.ClassFile.FieldType.boolean)) ∈ lw_all := lw_g (lw_at lw_m3 93 rfl) rfl
theorem q604 : (Jvm.Cond.methodLink "CryOrderModel" (107 : Nat) ({ cls := "CryOrderModel", name := "one", desc := "(Z)I" } : Jvm.MethodName)) ∈ lw_all := lw_g (lw_at lw_m3 94 rfl) rfl
theorem q605 : (Jvm.Cond.static ({ cls := "CryOrderModel", name := "one", desc := "(Z)I" } : Jvm.MethodName)) ∈ lw_all := lw_g (lw_at lw_m3 95 rfl) rfl
theorem q606 : (Jvm.Cond.code ({ cls := "CryOrderModel", name := "one", desc := "(Z)I" } : Jvm.MethodName) prog_6_method_3_code (1 : Nat) (Option.some Jvm.ClassFile.FieldType.int)) ∈ lw_all := lw_g (lw_at lw_m3 96 rfl) rfl
theorem q608 : (Jvm.Cond.instanceMethod ({ cls := "CryOrderModel", name := "silence", desc := "(III)I" } : Jvm.MethodName)) ∈ lw_all := lw_g (lw_at lw_m3 98 rfl) rfl
theorem q609 : (Jvm.Cond.selects "CryOrderModel" ({ cls := "CryOrderModel", name := "silence", desc := "(III)I" } : Jvm.MethodName) ({ cls := "CryOrderModel", name := "silence", desc := "(III)I" } : Jvm.MethodName)) ∈ lw_all := lw_g (lw_at lw_m3 99 rfl) rfl
theorem q610 : (Jvm.Cond.code ({ cls := "CryOrderModel", name := "silence", desc := "(III)I" } : Jvm.MethodName) prog_6_method_8_code (4 : Nat) (Option.some Jvm.ClassFile.FieldType.int)) ∈ lw_all := lw_g (lw_at lw_m3 100 rfl) rfl
theorem q612 : (Jvm.Cond.instanceMethod ({ cls := "CryOrderModel", name := "set", desc := "(II)Z" } : Jvm.MethodName)) ∈ lw_all := lw_g (lw_at lw_m3 102 rfl) rfl
theorem q613 : (Jvm.Cond.selects "CryOrderModel" ({ cls := "CryOrderModel", name := "set", desc := "(II)Z" } : Jvm.MethodName) ({ cls := "CryOrderModel", name := "set", desc := "(II)Z" } : Jvm.MethodName)) ∈ lw_all := lw_g (lw_at lw_m3 103 rfl) rfl
theorem q614 : (Jvm.Cond.code ({ cls := "CryOrderModel", name := "set", desc := "(II)Z" } : Jvm.MethodName) prog_6_method_9_code (3 : Nat) (Option.some Jvm.ClassFile.FieldType.boolean)) ∈ lw_all := lw_g (lw_at lw_m3 104 rfl) rfl
theorem q616 : (Jvm.Cond.instanceMethod ({ cls := "CryOrderModel", name := "verdict", desc := "(IIZ)I" } : Jvm.MethodName)) ∈ lw_all := lw_g (lw_at lw_m3 106 rfl) rfl
theorem q617 : (Jvm.Cond.selects "CryOrderModel" ({ cls := "CryOrderModel", name := "verdict", desc := "(IIZ)I" } : Jvm.MethodName) ({ cls := "CryOrderModel", name := "verdict", desc := "(IIZ)I" } : Jvm.MethodName)) ∈ lw_all := lw_g (lw_at lw_m3 107 rfl) rfl
theorem q618 : (Jvm.Cond.code ({ cls := "CryOrderModel", name := "verdict", desc := "(IIZ)I" } : Jvm.MethodName) prog_6_method_11_code (4 : Nat) (Option.some Jvm.ClassFile.FieldType.int)) ∈ lw_all := lw_g (lw_at lw_m3 108 rfl) rfl
theorem q619 : (Jvm.Cond.methodLink "CryOrderModel" (117 : Nat) ({ cls := "CryOrderModel", name := "isAlarm", desc := "(I)Z" } : Jvm.MethodName)) ∈ lw_all := lw_g (lw_at lw_m3 109 rfl) rfl
theorem q620 : (Jvm.Cond.privateMethod ({ cls := "CryOrderModel", name := "isAlarm", desc := "(I)Z" } : Jvm.MethodName)) ∈ lw_tbl := lw_at lw_m3 110 rfl
theorem q621 : (Jvm.Cond.instanceMethod ({ cls := "CryOrderModel", name := "isAlarm", desc := "(I)Z" } : Jvm.MethodName)) ∈ lw_all := lw_g (lw_at lw_m3 111 rfl) rfl
theorem q622 : (Jvm.Cond.code ({ cls := "CryOrderModel", name := "isAlarm", desc := "(I)Z" } : Jvm.MethodName) prog_6_method_4_code (2 : Nat) (Option.some Jvm.ClassFile.FieldType.boolean)) ∈ lw_all := lw_g (lw_at lw_m3 112 rfl) rfl
theorem q623 : (Jvm.Cond.methodLink "CryOrderModel" (120 : Nat) ({ cls := "CryOrderModel", name := "many", desc := "(I)I" } : Jvm.MethodName)) ∈ lw_all := lw_g (lw_at lw_m3 113 rfl) rfl
theorem q624 : (Jvm.Cond.static ({ cls := "CryOrderModel", name := "many", desc := "(I)I" } : Jvm.MethodName)) ∈ lw_all := lw_g (lw_at lw_m3 114 rfl) rfl
theorem q625 : (Jvm.Cond.code ({ cls := "CryOrderModel", name := "many", desc := "(I)I" } : Jvm.MethodName) prog_6_method_10_code (3 : Nat) (Option.some Jvm.ClassFile.FieldType.int)) ∈ lw_all := lw_g (lw_at lw_m3 115 rfl) rfl
theorem q627 : (Jvm.Cond.instanceMethod ({ cls := "CryOrderModel", name := "tie", desc := "(IIZ)Z" } : Jvm.MethodName)) ∈ lw_all := lw_g (lw_at lw_m3 117 rfl) rfl
theorem q628 : (Jvm.Cond.selects "CryOrderModel" ({ cls := "CryOrderModel", name := "tie", desc := "(IIZ)Z" } : Jvm.MethodName) ({ cls := "CryOrderModel", name := "tie", desc := "(IIZ)Z" } : Jvm.MethodName)) ∈ lw_all := lw_g (lw_at lw_m3 118 rfl) rfl
theorem q629 : (Jvm.Cond.code ({ cls := "CryOrderModel", name := "tie", desc := "(IIZ)Z" } : Jvm.MethodName) prog_6_method_13_code (5 : Nat) (Option.some Jvm.ClassFile.FieldType.boolean)) ∈ lw_all := lw_g (lw_at lw_m3 119 rfl) rfl
theorem q630 : (Jvm.Cond.methodLink "CryOrderModel" (127 : Nat) ({ cls := "CryOrderModel", name := "tieOf", desc := "(II)I" } : Jvm.MethodName)) ∈ lw_all := lw_g (lw_at lw_m3 120 rfl) rfl
theorem q631 : (Jvm.Cond.privateMethod ({ cls := "CryOrderModel", name := "tieOf", desc := "(II)I" } : Jvm.MethodName)) ∈ lw_tbl := lw_at lw_m3 121 rfl
theorem q632 : (Jvm.Cond.instanceMethod ({ cls := "CryOrderModel", name := "tieOf", desc := "(II)I" } : Jvm.MethodName)) ∈ lw_all := lw_g (lw_at lw_m3 122 rfl) rfl
theorem q633 : (Jvm.Cond.code ({ cls := "CryOrderModel", name := "tieOf", desc := "(II)I" } : Jvm.MethodName) prog_6_method_12_code (4 : Nat) (Option.some Jvm.ClassFile.FieldType.int)) ∈ lw_all := lw_g (lw_at lw_m3 123 rfl) rfl
theorem q635 : (Jvm.Cond.instanceMethod ({ cls := "CryOrderModel", name := "node", desc := "(III)I" } : Jvm.MethodName)) ∈ lw_all := lw_g (lw_at lw_m3 125 rfl) rfl
theorem q636 : (Jvm.Cond.selects "CryOrderModel" ({ cls := "CryOrderModel", name := "node", desc := "(III)I" } : Jvm.MethodName) ({ cls := "CryOrderModel", name := "node", desc := "(III)I" } : Jvm.MethodName)) ∈ lw_all := lw_g (lw_at lw_m3 126 rfl) rfl
theorem q637 : (Jvm.Cond.code ({ cls := "CryOrderModel", name := "node", desc := "(III)I" } : Jvm.MethodName) prog_6_method_17_code (4 : Nat) (Option.some Jvm.ClassFile.FieldType.int)) ∈ lw_all := lw_g (lw_at lw_m3 127 rfl) rfl
theorem q638 : (Jvm.Cond.methodLink "CryOrderModel" (140 : Nat) ({ cls := "CryOrderModel", name := "counts", desc := "(II)V" } : Jvm.MethodName)) ∈ lw_all := lw_g (lw_at lw_m3 128 rfl) rfl
theorem q639 : (Jvm.Cond.privateMethod ({ cls := "CryOrderModel", name := "counts", desc := "(II)V" } : Jvm.MethodName)) ∈ lw_tbl := lw_at lw_m3 129 rfl
theorem q640 : (Jvm.Cond.instanceMethod ({ cls := "CryOrderModel", name := "counts", desc := "(II)V" } : Jvm.MethodName)) ∈ lw_all := lw_g (lw_at lw_m3 130 rfl) rfl
theorem q641 : (Jvm.Cond.code ({ cls := "CryOrderModel", name := "counts", desc := "(II)V" } : Jvm.MethodName) prog_6_method_14_code (5 : Nat) (Option.none : Option Jvm.ClassFile.FieldType)) ∈ lw_all := lw_g (lw_at lw_m3 131 rfl) rfl
theorem q643 : (Jvm.Cond.instanceMethod ({ cls := "CryOrderModel", name := "odds", desc := "(II)I" } : Jvm.MethodName)) ∈ lw_all := lw_g (lw_at lw_m3 133 rfl) rfl
theorem q644 : (Jvm.Cond.selects "CryOrderModel" ({ cls := "CryOrderModel", name := "odds", desc := "(II)I" } : Jvm.MethodName) ({ cls := "CryOrderModel", name := "odds", desc := "(II)I" } : Jvm.MethodName)) ∈ lw_all := lw_g (lw_at lw_m3 134 rfl) rfl
theorem q645 : (Jvm.Cond.code ({ cls := "CryOrderModel", name := "odds", desc := "(II)I" } : Jvm.MethodName) prog_6_method_18_code (8 : Nat) (Option.some Jvm.ClassFile.FieldType.int)) ∈ lw_all := lw_g (lw_at lw_m3 135 rfl) rfl
theorem q646 : (Jvm.Cond.methodLink "CryOrderModel" (144 : Nat) ({ cls := "CryOrderModel", name := "depth", desc := "(I)I" } : Jvm.MethodName)) ∈ lw_all := lw_g (lw_at lw_m3 136 rfl) rfl
theorem q647 : (Jvm.Cond.privateMethod ({ cls := "CryOrderModel", name := "depth", desc := "(I)I" } : Jvm.MethodName)) ∈ lw_tbl := lw_at lw_m3 137 rfl
theorem q648 : (Jvm.Cond.instanceMethod ({ cls := "CryOrderModel", name := "depth", desc := "(I)I" } : Jvm.MethodName)) ∈ lw_all := lw_g (lw_at lw_m3 138 rfl) rfl
theorem q649 : (Jvm.Cond.code ({ cls := "CryOrderModel", name := "depth", desc := "(I)I" } : Jvm.MethodName) prog_6_method_15_code (3 : Nat) (Option.some Jvm.ClassFile.FieldType.int)) ∈ lw_all := lw_g (lw_at lw_m3 139 rfl) rfl
theorem q651 : (Jvm.Cond.instanceMethod ({ cls := "CryOrderModel", name := "told", desc := "(II)I" } : Jvm.MethodName)) ∈ lw_all := lw_g (lw_at lw_m3 141 rfl) rfl
theorem q652 : (Jvm.Cond.selects "CryOrderModel" ({ cls := "CryOrderModel", name := "told", desc := "(II)I" } : Jvm.MethodName) ({ cls := "CryOrderModel", name := "told", desc := "(II)I" } : Jvm.MethodName)) ∈ lw_all := lw_g (lw_at lw_m3 142 rfl) rfl
theorem q653 : (Jvm.Cond.code ({ cls := "CryOrderModel", name := "told", desc := "(II)I" } : Jvm.MethodName) prog_6_method_25_code (3 : Nat) (Option.some Jvm.ClassFile.FieldType.int)) ∈ lw_all := lw_g (lw_at lw_m3 143 rfl) rfl
theorem q654 : (Jvm.Cond.methodLink "CryOrderModel" (152 : Nat) ({ cls := "CryOrderModel", name := "score", desc := "(I)I" } : Jvm.MethodName)) ∈ lw_all := lw_g (lw_at lw_m3 144 rfl) rfl
theorem q655 : (Jvm.Cond.privateMethod ({ cls := "CryOrderModel", name := "score", desc := "(I)I" } : Jvm.MethodName)) ∈ lw_tbl := lw_at lw_m3 145 rfl
theorem q656 : (Jvm.Cond.instanceMethod ({ cls := "CryOrderModel", name := "score", desc := "(I)I" } : Jvm.MethodName)) ∈ lw_all := lw_g (lw_at lw_m3 146 rfl) rfl
theorem q657 : (Jvm.Cond.code ({ cls := "CryOrderModel", name := "score", desc := "(I)I" } : Jvm.MethodName) prog_6_method_16_code (2 : Nat) (Option.some Jvm.ClassFile.FieldType.int)) ∈ lw_all := lw_g (lw_at lw_m3 147 rfl) rfl
theorem q658 : (Jvm.Cond.methodLink "CryOrderModel" (174 : Nat) ({ cls := "CryOrderModel", name := "joins", desc := "()V" } : Jvm.MethodName)) ∈ lw_all := lw_g (lw_at lw_m3 148 rfl) rfl
theorem q659 : (Jvm.Cond.privateMethod ({ cls := "CryOrderModel", name := "joins", desc := "()V" } : Jvm.MethodName)) ∈ lw_tbl := lw_at lw_m3 149 rfl
theorem q660 : (Jvm.Cond.instanceMethod ({ cls := "CryOrderModel", name := "joins", desc := "()V" } : Jvm.MethodName)) ∈ lw_all := lw_g (lw_at lw_m3 150 rfl) rfl
theorem q661 : (Jvm.Cond.code ({ cls := "CryOrderModel", name := "joins", desc := "()V" } : Jvm.MethodName) prog_6_method_20_code (6 : Nat) (Option.none : Option Jvm.ClassFile.FieldType)) ∈ lw_all := lw_g (lw_at lw_m3 151 rfl) rfl
theorem q662 : (Jvm.Cond.methodLink "CryOrderModel" (155 : Nat) ({ cls := "CryOrderModel", name := "hangs", desc := "(II)Z" } : Jvm.MethodName)) ∈ lw_all := lw_g (lw_at lw_m3 152 rfl) rfl
theorem q663 : (Jvm.Cond.privateMethod ({ cls := "CryOrderModel", name := "hangs", desc := "(II)Z" } : Jvm.MethodName)) ∈ lw_tbl := lw_at lw_m3 153 rfl
theorem q664 : (Jvm.Cond.instanceMethod ({ cls := "CryOrderModel", name := "hangs", desc := "(II)Z" } : Jvm.MethodName)) ∈ lw_all := lw_g (lw_at lw_m3 154 rfl) rfl
theorem q665 : (Jvm.Cond.code ({ cls := "CryOrderModel", name := "hangs", desc := "(II)Z" } : Jvm.MethodName) prog_6_method_19_code (4 : Nat) (Option.some Jvm.ClassFile.FieldType.boolean)) ∈ lw_all := lw_g (lw_at lw_m3 155 rfl) rfl
theorem q666 : (Jvm.Cond.methodLink "CryOrderModel" (147 : Nat) ({ cls := "java/lang/Math", name := "abs", desc := "(I)I" } : Jvm.MethodName)) ∈ lw_all := lw_g (lw_at lw_m3 156 rfl) rfl
theorem q667 : (Jvm.Cond.methodLink "CryOrderModel" (159 : Nat) ({ cls := "java/lang/Math", name := "min", desc := "(II)I" } : Jvm.MethodName)) ∈ lw_all := lw_g (lw_at lw_m3 157 rfl) rfl
theorem q668 : (Jvm.Cond.methodLink "CryOrderModel" (162 : Nat) ({ cls := "java/lang/Math", name := "max", desc := "(II)I" } : Jvm.MethodName)) ∈ lw_all := lw_g (lw_at lw_m3 158 rfl) rfl
theorem q669 : (Jvm.Cond.methodLink "CryOrderModel" (168 : Nat) ({ cls := "CryOrderModel", name := "scoreOf", desc := "(I)I" } : Jvm.MethodName)) ∈ lw_all := lw_g (lw_at lw_m3 159 rfl) rfl
theorem q670 : (Jvm.Cond.privateMethod ({ cls := "CryOrderModel", name := "scoreOf", desc := "(I)I" } : Jvm.MethodName)) ∈ lw_tbl := lw_at lw_m3 160 rfl
theorem q671 : (Jvm.Cond.instanceMethod ({ cls := "CryOrderModel", name := "scoreOf", desc := "(I)I" } : Jvm.MethodName)) ∈ lw_all := lw_g (lw_at lw_m3 161 rfl) rfl
theorem q672 : (Jvm.Cond.code ({ cls := "CryOrderModel", name := "scoreOf", desc := "(I)I" } : Jvm.MethodName) prog_6_method_21_code (4 : Nat) (Option.some Jvm.ClassFile.FieldType.int)) ∈ lw_all := lw_g (lw_at lw_m3 162 rfl) rfl
theorem q674 : (Jvm.Cond.instanceMethod ({ cls := "CryOrderModel", name := "order", desc := "(I)I" } : Jvm.MethodName)) ∈ lw_all := lw_g (lw_at lw_m3 164 rfl) rfl
theorem q675 : (Jvm.Cond.selects "CryOrderModel" ({ cls := "CryOrderModel", name := "order", desc := "(I)I" } : Jvm.MethodName) ({ cls := "CryOrderModel", name := "order", desc := "(I)I" } : Jvm.MethodName)) ∈ lw_all := lw_g (lw_at lw_m3 165 rfl) rfl
theorem q676 : (Jvm.Cond.code ({ cls := "CryOrderModel", name := "order", desc := "(I)I" } : Jvm.MethodName) prog_6_method_26_code (2 : Nat) (Option.some Jvm.ClassFile.FieldType.int)) ∈ lw_all := lw_g (lw_at lw_m3 166 rfl) rfl
theorem q678 : (Jvm.Cond.instanceMethod ({ cls := "CryOrderModel", name := "caseOf", desc := "(II)I" } : Jvm.MethodName)) ∈ lw_all := lw_g (lw_at lw_m3 168 rfl) rfl
theorem q679 : (Jvm.Cond.selects "CryOrderModel" ({ cls := "CryOrderModel", name := "caseOf", desc := "(II)I" } : Jvm.MethodName) ({ cls := "CryOrderModel", name := "caseOf", desc := "(II)I" } : Jvm.MethodName)) ∈ lw_all := lw_g (lw_at lw_m3 169 rfl) rfl
theorem q680 : (Jvm.Cond.code ({ cls := "CryOrderModel", name := "caseOf", desc := "(II)I" } : Jvm.MethodName) prog_6_method_27_code (5 : Nat) (Option.some Jvm.ClassFile.FieldType.int)) ∈ lw_all := lw_g (lw_at lw_m3 170 rfl) rfl
theorem q681 : (Jvm.Cond.methodLink "CryOrderModel" (171 : Nat) ({ cls := "CryOrderModel", name := "sizeOf", desc := "(I)I" } : Jvm.MethodName)) ∈ lw_all := lw_g (lw_at lw_m3 171 rfl) rfl
theorem q682 : (Jvm.Cond.privateMethod ({ cls := "CryOrderModel", name := "sizeOf", desc := "(I)I" } : Jvm.MethodName)) ∈ lw_tbl := lw_at lw_m3 172 rfl
theorem q683 : (Jvm.Cond.instanceMethod ({ cls := "CryOrderModel", name := "sizeOf", desc := "(I)I" } : Jvm.MethodName)) ∈ lw_all := lw_g (lw_at lw_m3 173 rfl) rfl
theorem q684 : (Jvm.Cond.code ({ cls := "CryOrderModel", name := "sizeOf", desc := "(I)I" } : Jvm.MethodName) prog_6_method_22_code (4 : Nat) (Option.some Jvm.ClassFile.FieldType.int)) ∈ lw_all := lw_g (lw_at lw_m3 174 rfl) rfl
theorem q685 : (Jvm.Cond.methodLink "CryOrderModel" (177 : Nat) ({ cls := "CryOrderModel", name := "minutesOf", desc := "(I)I" } : Jvm.MethodName)) ∈ lw_all := lw_g (lw_at lw_m3 175 rfl) rfl
theorem q686 : (Jvm.Cond.privateMethod ({ cls := "CryOrderModel", name := "minutesOf", desc := "(I)I" } : Jvm.MethodName)) ∈ lw_tbl := lw_at lw_m3 176 rfl
theorem q687 : (Jvm.Cond.instanceMethod ({ cls := "CryOrderModel", name := "minutesOf", desc := "(I)I" } : Jvm.MethodName)) ∈ lw_all := lw_g (lw_at lw_m3 177 rfl) rfl
theorem q688 : (Jvm.Cond.code ({ cls := "CryOrderModel", name := "minutesOf", desc := "(I)I" } : Jvm.MethodName) prog_6_method_23_code (2 : Nat) (Option.some Jvm.ClassFile.FieldType.int)) ∈ lw_all := lw_g (lw_at lw_m3 178 rfl) rfl
theorem q689 : (Jvm.Cond.methodLink "CryOrderModel" (180 : Nat) ({ cls := "CryOrderModel", name := "isLittleKnown", desc := "(I)Z" } : Jvm.MethodName)) ∈ lw_all := lw_g (lw_at lw_m3 179 rfl) rfl
theorem q690 : (Jvm.Cond.privateMethod ({ cls := "CryOrderModel", name := "isLittleKnown", desc := "(I)Z" } : Jvm.MethodName)) ∈ lw_tbl := lw_at lw_m3 180 rfl
theorem q691 : (Jvm.Cond.instanceMethod ({ cls := "CryOrderModel", name := "isLittleKnown", desc := "(I)Z" } : Jvm.MethodName)) ∈ lw_all := lw_g (lw_at lw_m3 181 rfl) rfl
theorem q692 : (Jvm.Cond.code ({ cls := "CryOrderModel", name := "isLittleKnown", desc := "(I)Z" } : Jvm.MethodName) prog_6_method_24_code (3 : Nat) (Option.some Jvm.ClassFile.FieldType.boolean)) ∈ lw_all := lw_g (lw_at lw_m3 182 rfl) rfl
theorem q694 : (Jvm.Cond.instanceMethod ({ cls := "CryOrderModel", name := "slow", desc := "(I)I" } : Jvm.MethodName)) ∈ lw_all := lw_g (lw_at lw_m3 184 rfl) rfl
theorem q695 : (Jvm.Cond.selects "CryOrderModel" ({ cls := "CryOrderModel", name := "slow", desc := "(I)I" } : Jvm.MethodName) ({ cls := "CryOrderModel", name := "slow", desc := "(I)I" } : Jvm.MethodName)) ∈ lw_all := lw_g (lw_at lw_m3 185 rfl) rfl
theorem q696 : (Jvm.Cond.code ({ cls := "CryOrderModel", name := "slow", desc := "(I)I" } : Jvm.MethodName) prog_6_method_28_code (5 : Nat) (Option.some Jvm.ClassFile.FieldType.int)) ∈ lw_all := lw_g (lw_at lw_m3 186 rfl) rfl
theorem q698 : (Jvm.Cond.instanceMethod ({ cls := "CryOrderModel", name := "plan", desc := "(II)I" } : Jvm.MethodName)) ∈ lw_all := lw_g (lw_at lw_m3 188 rfl) rfl
theorem q699 : (Jvm.Cond.selects "CryOrderModel" ({ cls := "CryOrderModel", name := "plan", desc := "(II)I" } : Jvm.MethodName) ({ cls := "CryOrderModel", name := "plan", desc := "(II)I" } : Jvm.MethodName)) ∈ lw_all := lw_g (lw_at lw_m3 189 rfl) rfl
theorem q700 : (Jvm.Cond.code ({ cls := "CryOrderModel", name := "plan", desc := "(II)I" } : Jvm.MethodName) prog_6_method_32_code (3 : Nat) (Option.some Jvm.ClassFile.FieldType.int)) ∈ lw_all := lw_g (lw_at lw_m3 190 rfl) rfl
theorem q701 : (Jvm.Cond.methodLink "CryOrderModel" (189 : Nat) ({ cls := "CryOrderModel", name := "isPlan", desc := "(I)Z" } : Jvm.MethodName)) ∈ lw_all := lw_g (lw_at lw_m3 191 rfl) rfl
theorem q702 : (Jvm.Cond.static ({ cls := "CryOrderModel", name := "isPlan", desc := "(I)Z" } : Jvm.MethodName)) ∈ lw_all := lw_g (lw_at lw_m3 192 rfl) rfl
theorem q703 : (Jvm.Cond.code ({ cls := "CryOrderModel", name := "isPlan", desc := "(I)Z" } : Jvm.MethodName) prog_6_method_31_code (1 : Nat) (Option.some Jvm.ClassFile.FieldType.boolean)) ∈ lw_all := lw_g (lw_at lw_m3 193 rfl) rfl
theorem q704 : (Jvm.Cond.methodLink "CryOrderModel" (192 : Nat) ({ cls := "CryOrderModel", name := "plans", desc := "(I)V" } : Jvm.MethodName)) ∈ lw_all := lw_g (lw_at lw_m3 194 rfl) rfl
theorem q705 : (Jvm.Cond.privateMethod ({ cls := "CryOrderModel", name := "plans", desc := "(I)V" } : Jvm.MethodName)) ∈ lw_tbl := lw_at lw_m3 195 rfl
theorem q706 : (Jvm.Cond.instanceMethod ({ cls := "CryOrderModel", name := "plans", desc := "(I)V" } : Jvm.MethodName)) ∈ lw_all := lw_g (lw_at lw_m3 196 rfl) rfl
theorem q707 : (Jvm.Cond.code ({ cls := "CryOrderModel", name := "plans", desc := "(I)V" } : Jvm.MethodName) prog_6_method_30_code (10 : Nat) (Option.none : Option Jvm.ClassFile.FieldType)) ∈ lw_all := lw_g (lw_at lw_m3 197 rfl) rfl
theorem q708 : (Jvm.Cond.methodLink "CryOrderModel" (186 : Nat) ({ cls := "CryOrderModel", name := "isTaken", desc := "(I)Z" } : Jvm.MethodName)) ∈ lw_all := lw_g (lw_at lw_m3 198 rfl) rfl
theorem q709 : (Jvm.Cond.privateMethod ({ cls := "CryOrderModel", name := "isTaken", desc := "(I)Z" } : Jvm.MethodName)) ∈ lw_tbl := lw_at lw_m3 199 rfl
theorem q710 : (Jvm.Cond.instanceMethod ({ cls := "CryOrderModel", name := "isTaken", desc := "(I)Z" } : Jvm.MethodName)) ∈ lw_all := lw_g (lw_at lw_m3 200 rfl) rfl
theorem q711 : (Jvm.Cond.code ({ cls := "CryOrderModel", name := "isTaken", desc := "(I)Z" } : Jvm.MethodName) prog_6_method_29_code (3 : Nat) (Option.some Jvm.ClassFile.FieldType.boolean)) ∈ lw_all := lw_g (lw_at lw_m3 201 rfl) rfl
theorem q713 : (Jvm.Cond.instanceMethod ({ cls := "CryOrderModel", name := "worth", desc := "(II)I" } : Jvm.MethodName)) ∈ lw_all := lw_g (lw_at lw_m3 203 rfl) rfl
theorem q714 : (Jvm.Cond.selects "CryOrderModel" ({ cls := "CryOrderModel", name := "worth", desc := "(II)I" } : Jvm.MethodName) ({ cls := "CryOrderModel", name := "worth", desc := "(II)I" } : Jvm.MethodName)) ∈ lw_all := lw_g (lw_at lw_m3 204 rfl) rfl
theorem q715 : (Jvm.Cond.code ({ cls := "CryOrderModel", name := "worth", desc := "(II)I" } : Jvm.MethodName) prog_6_method_33_code (6 : Nat) (Option.some Jvm.ClassFile.FieldType.int)) ∈ lw_all := lw_g (lw_at lw_m3 205 rfl) rfl
theorem q717 : (Jvm.Cond.instanceMethod ({ cls := "CryOrderModel", name := "source", desc := "(II)I" } : Jvm.MethodName)) ∈ lw_all := lw_g (lw_at lw_m3 207 rfl) rfl
theorem q718 : (Jvm.Cond.selects "CryOrderModel" ({ cls := "CryOrderModel", name := "source", desc := "(II)I" } : Jvm.MethodName) ({ cls := "CryOrderModel", name := "source", desc := "(II)I" } : Jvm.MethodName)) ∈ lw_all := lw_g (lw_at lw_m3 208 rfl) rfl
theorem q719 : (Jvm.Cond.code ({ cls := "CryOrderModel", name := "source", desc := "(II)I" } : Jvm.MethodName) prog_6_method_34_code (6 : Nat) (Option.some Jvm.ClassFile.FieldType.int)) ∈ lw_all := lw_g (lw_at lw_m3 209 rfl) rfl
theorem q721 : (Jvm.Cond.instanceMethod ({ cls := "CryOrderModel", name := "count", desc := "(I)I" } : Jvm.MethodName)) ∈ lw_all := lw_g (lw_at lw_m3 211 rfl) rfl
theorem q722 : (Jvm.Cond.selects "CryOrderModel" ({ cls := "CryOrderModel", name := "count", desc := "(I)I" } : Jvm.MethodName) ({ cls := "CryOrderModel", name := "count", desc := "(I)I" } : Jvm.MethodName)) ∈ lw_all := lw_g (lw_at lw_m3 212 rfl) rfl
theorem q723 : (Jvm.Cond.code ({ cls := "CryOrderModel", name := "count", desc := "(I)I" } : Jvm.MethodName) prog_6_method_35_code (4 : Nat) (Option.some Jvm.ClassFile.FieldType.int)) ∈ lw_all := lw_g (lw_at lw_m3 213 rfl) rfl
theorem q726 : (Jvm.Cond.castable "CryOrderModel" "java/lang/Object") ∈ lw_tbl := lw_at lw_m3 216 rfl
theorem in_X1 : ∀ w ∈ wsX10, w ∈ lw_all := lw_in wsX10 [514, 516, 518, 520, 522, 524, 526, 528, 530, 532, 534, 536, 538, 540, 542, 544, 546, 548, 550, 552, 554, 556, 558, 560, 562, 564, 566, 568, 570, 572, 574, 576, 578, 580, 582, 584, 586] (by decide +kernel) (by decide +kernel)
/-! the law's own entry -/
abbrev cL_law : ByteArray := code
theorem q30 : (Jvm.Cond.initialized "CryOrderLaw") ∈ lw_all := lw_g (lw_at lw_m1 0 rfl) rfl
theorem q45 : (Jvm.Cond.classLink "CryOrderLaw" (7 : Nat) "CryOrder") ∈ lw_all := lw_g (lw_at lw_m1 15 rfl) rfl
theorem q47 : (Jvm.Cond.methodLink "CryOrderLaw" (9 : Nat) ({ cls := "CryOrder", name := "<init>", desc := "()V" } : Jvm.MethodName)) ∈ lw_all := lw_g (lw_at lw_m1 17 rfl) rfl
theorem q141 : (Jvm.Cond.methodLink "CryOrderLaw" (13 : Nat) ({ cls := "CryOrder", name := "pass", desc := "(I)I" } : Jvm.MethodName)) ∈ lw_all := lw_g (lw_at lw_m1 111 rfl) rfl
theorem q148 : (Jvm.Cond.methodLink "CryOrderLaw" (28 : Nat) ({ cls := "CryOrder", name := "set", desc := "(II)Z" } : Jvm.MethodName)) ∈ lw_all := lw_g (lw_at lw_m1 118 rfl) rfl
theorem q152 : (Jvm.Cond.methodLink "CryOrderLaw" (23 : Nat) ({ cls := "CryOrder", name := "silence", desc := "(III)I" } : Jvm.MethodName)) ∈ lw_all := lw_g (lw_at lw_m1 122 rfl) rfl
theorem q156 : (Jvm.Cond.methodLink "CryOrderLaw" (18 : Nat) ({ cls := "CryOrder", name := "alarm", desc := "(IIII)I" } : Jvm.MethodName)) ∈ lw_all := lw_g (lw_at lw_m1 126 rfl) rfl
theorem q309 : (Jvm.Cond.methodLink "CryOrderLaw" (33 : Nat) ({ cls := "CryOrder", name := "verdict", desc := "(IIZ)I" } : Jvm.MethodName)) ∈ lw_all := lw_g (lw_at lw_m2 39 rfl) rfl
theorem q332 : (Jvm.Cond.methodLink "CryOrderLaw" (48 : Nat) ({ cls := "CryOrder", name := "node", desc := "(III)I" } : Jvm.MethodName)) ∈ lw_all := lw_g (lw_at lw_m2 62 rfl) rfl
theorem q344 : (Jvm.Cond.methodLink "CryOrderLaw" (52 : Nat) ({ cls := "CryOrder", name := "odds", desc := "(II)I" } : Jvm.MethodName)) ∈ lw_all := lw_g (lw_at lw_m2 74 rfl) rfl
theorem q355 : (Jvm.Cond.methodLink "CryOrderLaw" (38 : Nat) ({ cls := "CryOrder", name := "tie", desc := "(IIZ)Z" } : Jvm.MethodName)) ∈ lw_all := lw_g (lw_at lw_m2 85 rfl) rfl
theorem q363 : (Jvm.Cond.methodLink "CryOrderLaw" (43 : Nat) ({ cls := "CryOrder", name := "told", desc := "(II)I" } : Jvm.MethodName)) ∈ lw_all := lw_g (lw_at lw_m2 93 rfl) rfl
theorem q415 : (Jvm.Cond.methodLink "CryOrderLaw" (56 : Nat) ({ cls := "CryOrder", name := "order", desc := "(I)I" } : Jvm.MethodName)) ∈ lw_all := lw_g (lw_at lw_m2 145 rfl) rfl
theorem q425 : (Jvm.Cond.methodLink "CryOrderLaw" (60 : Nat) ({ cls := "CryOrder", name := "caseOf", desc := "(II)I" } : Jvm.MethodName)) ∈ lw_all := lw_g (lw_at lw_m2 155 rfl) rfl
theorem q438 : (Jvm.Cond.methodLink "CryOrderLaw" (64 : Nat) ({ cls := "CryOrder", name := "slow", desc := "(I)I" } : Jvm.MethodName)) ∈ lw_all := lw_g (lw_at lw_m2 168 rfl) rfl
theorem q442 : (Jvm.Cond.methodLink "CryOrderLaw" (68 : Nat) ({ cls := "CryOrder", name := "plan", desc := "(II)I" } : Jvm.MethodName)) ∈ lw_all := lw_g (lw_at lw_m2 172 rfl) rfl
theorem q459 : (Jvm.Cond.methodLink "CryOrderLaw" (72 : Nat) ({ cls := "CryOrder", name := "worth", desc := "(II)I" } : Jvm.MethodName)) ∈ lw_all := lw_g (lw_at lw_m2 189 rfl) rfl
theorem q463 : (Jvm.Cond.methodLink "CryOrderLaw" (76 : Nat) ({ cls := "CryOrder", name := "source", desc := "(II)I" } : Jvm.MethodName)) ∈ lw_all := lw_g (lw_at lw_m2 193 rfl) rfl
theorem q467 : (Jvm.Cond.methodLink "CryOrderLaw" (80 : Nat) ({ cls := "CryOrder", name := "count", desc := "(I)I" } : Jvm.MethodName)) ∈ lw_all := lw_g (lw_at lw_m2 197 rfl) rfl
theorem q471 : (Jvm.Cond.classLink "CryOrderLaw" (10 : Nat) "CryOrderModel") ∈ lw_all := lw_g (lw_at lw_m2 201 rfl) rfl
theorem q473 : (Jvm.Cond.methodLink "CryOrderLaw" (12 : Nat) ({ cls := "CryOrderModel", name := "<init>", desc := "()V" } : Jvm.MethodName)) ∈ lw_all := lw_g (lw_at lw_m2 203 rfl) rfl
theorem q589 : (Jvm.Cond.methodLink "CryOrderLaw" (17 : Nat) ({ cls := "CryOrderModel", name := "pass", desc := "(I)I" } : Jvm.MethodName)) ∈ lw_all := lw_g (lw_at lw_m3 79 rfl) rfl
theorem q596 : (Jvm.Cond.methodLink "CryOrderLaw" (22 : Nat) ({ cls := "CryOrderModel", name := "alarm", desc := "(IIII)I" } : Jvm.MethodName)) ∈ lw_all := lw_g (lw_at lw_m3 86 rfl) rfl
theorem q607 : (Jvm.Cond.methodLink "CryOrderLaw" (27 : Nat) ({ cls := "CryOrderModel", name := "silence", desc := "(III)I" } : Jvm.MethodName)) ∈ lw_all := lw_g (lw_at lw_m3 97 rfl) rfl
theorem q611 : (Jvm.Cond.methodLink "CryOrderLaw" (32 : Nat) ({ cls := "CryOrderModel", name := "set", desc := "(II)Z" } : Jvm.MethodName)) ∈ lw_all := lw_g (lw_at lw_m3 101 rfl) rfl
theorem q615 : (Jvm.Cond.methodLink "CryOrderLaw" (37 : Nat) ({ cls := "CryOrderModel", name := "verdict", desc := "(IIZ)I" } : Jvm.MethodName)) ∈ lw_all := lw_g (lw_at lw_m3 105 rfl) rfl
theorem q626 : (Jvm.Cond.methodLink "CryOrderLaw" (42 : Nat) ({ cls := "CryOrderModel", name := "tie", desc := "(IIZ)Z" } : Jvm.MethodName)) ∈ lw_all := lw_g (lw_at lw_m3 116 rfl) rfl
theorem q634 : (Jvm.Cond.methodLink "CryOrderLaw" (51 : Nat) ({ cls := "CryOrderModel", name := "node", desc := "(III)I" } : Jvm.MethodName)) ∈ lw_all := lw_g (lw_at lw_m3 124 rfl) rfl
theorem q642 : (Jvm.Cond.methodLink "CryOrderLaw" (55 : Nat) ({ cls := "CryOrderModel", name := "odds", desc := "(II)I" } : Jvm.MethodName)) ∈ lw_all := lw_g (lw_at lw_m3 132 rfl) rfl
theorem q650 : (Jvm.Cond.methodLink "CryOrderLaw" (47 : Nat) ({ cls := "CryOrderModel", name := "told", desc := "(II)I" } : Jvm.MethodName)) ∈ lw_all := lw_g (lw_at lw_m3 140 rfl) rfl
theorem q673 : (Jvm.Cond.methodLink "CryOrderLaw" (59 : Nat) ({ cls := "CryOrderModel", name := "order", desc := "(I)I" } : Jvm.MethodName)) ∈ lw_all := lw_g (lw_at lw_m3 163 rfl) rfl
theorem q677 : (Jvm.Cond.methodLink "CryOrderLaw" (63 : Nat) ({ cls := "CryOrderModel", name := "caseOf", desc := "(II)I" } : Jvm.MethodName)) ∈ lw_all := lw_g (lw_at lw_m3 167 rfl) rfl
theorem q693 : (Jvm.Cond.methodLink "CryOrderLaw" (67 : Nat) ({ cls := "CryOrderModel", name := "slow", desc := "(I)I" } : Jvm.MethodName)) ∈ lw_all := lw_g (lw_at lw_m3 183 rfl) rfl
theorem q697 : (Jvm.Cond.methodLink "CryOrderLaw" (71 : Nat) ({ cls := "CryOrderModel", name := "plan", desc := "(II)I" } : Jvm.MethodName)) ∈ lw_all := lw_g (lw_at lw_m3 187 rfl) rfl
theorem q712 : (Jvm.Cond.methodLink "CryOrderLaw" (75 : Nat) ({ cls := "CryOrderModel", name := "worth", desc := "(II)I" } : Jvm.MethodName)) ∈ lw_all := lw_g (lw_at lw_m3 202 rfl) rfl
theorem q716 : (Jvm.Cond.methodLink "CryOrderLaw" (79 : Nat) ({ cls := "CryOrderModel", name := "source", desc := "(II)I" } : Jvm.MethodName)) ∈ lw_all := lw_g (lw_at lw_m3 206 rfl) rfl
theorem q720 : (Jvm.Cond.methodLink "CryOrderLaw" (83 : Nat) ({ cls := "CryOrderModel", name := "count", desc := "(I)I" } : Jvm.MethodName)) ∈ lw_all := lw_g (lw_at lw_m3 210 rfl) rfl
theorem q734 : (Jvm.Cond.castable "[I" "java/lang/Object") ∈ lw_tbl := lw_at lw_m3 224 rfl
theorem q730 : (Jvm.Cond.sameMethod "[Ljava/lang/Object;" "java/lang/Object" "getClass" "()Ljava/lang/Class;") ∈ lw_all := lw_g (lw_at lw_m3 220 rfl) rfl
theorem q731 : (Jvm.Cond.selects "[Ljava/lang/Object;" ({ cls := "java/lang/Object", name := "getClass", desc := "()Ljava/lang/Class;" } : Jvm.MethodName) ({ cls := "java/lang/Object", name := "getClass", desc := "()Ljava/lang/Class;" } : Jvm.MethodName)) ∈ lw_all := lw_g (lw_at lw_m3 221 rfl) rfl
theorem q736 : (Jvm.Cond.castable "[Ljava/lang/Object;" "java/lang/Object") ∈ lw_tbl := lw_at lw_m3 226 rfl
theorem q735 : (Jvm.Cond.castable "[Z" "java/lang/Object") ∈ lw_tbl := lw_at lw_m3 225 rfl
theorem q733 : (Jvm.Cond.castable "[[I" "java/lang/Object") ∈ lw_tbl := lw_at lw_m3 223 rfl
theorem q42 : (Jvm.Cond.initialized "java/lang/System") ∈ lw_all := lw_g (lw_at lw_m1 12 rfl) rfl
theorem q305 : (Jvm.Cond.static ({ cls := "java/lang/System", name := "arraycopy", desc := "(Ljava/lang/Object;ILjava/lang/Object;II)V" } : Jvm.MethodName)) ∈ lw_all := lw_g (lw_at lw_m2 35 rfl) rfl
theorem q306 : (Jvm.Cond.native ({ cls := "java/lang/System", name := "arraycopy", desc := "(Ljava/lang/Object;ILjava/lang/Object;II)V" } : Jvm.MethodName)) ∈ lw_all := lw_g (lw_at lw_m2 36 rfl) rfl
theorem q80 : (Jvm.Cond.arrayOver (Jvm.ClassFile.FieldType.array Jvm.ClassFile.FieldType.int)) ∈ lw_tbl := lw_at lw_m1 50 rfl
theorem q139 : (Jvm.Cond.arrayClass Jvm.ClassFile.FieldType.int) ∈ lw_all := lw_g (lw_at lw_m1 109 rfl) rfl
theorem q140 : (Jvm.Cond.arrayClass Jvm.ClassFile.FieldType.boolean) ∈ lw_all := lw_g (lw_at lw_m1 110 rfl) rfl
theorem q299 : (Jvm.Cond.arrayOver (Jvm.ClassFile.FieldType.object "java/lang/Object")) ∈ lw_tbl := lw_at lw_m2 29 rfl
