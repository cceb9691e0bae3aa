/-! java/util/AbstractCollection -/
set_option maxRecDepth 100000
def RJ0 : String := "java/util/AbstractCollection"
abbrev cJ0_init : ByteArray := prog_33_method_1_code
def yJ0_init : MethodName := ⟨RJ0, "<init>", "()V"⟩
theorem q62 : (Jvm.Cond.initialized "java/util/AbstractCollection") ∈ lw_all := lw_g (lw_at lw_m1 2 rfl) rfl
theorem q114 : (Jvm.Cond.instanceMethod ({ cls := "java/util/AbstractCollection", name := "<init>", desc := "()V" } : Jvm.MethodName)) ∈ lw_all := lw_g (lw_at lw_m1 54 rfl) rfl
theorem q115 : (Jvm.Cond.code ({ cls := "java/util/AbstractCollection", name := "<init>", desc := "()V" } : Jvm.MethodName) prog_33_method_1_code (1 : Nat) (Option.none : Option Jvm.ClassFile.FieldType)) ∈ lw_all := lw_g (lw_at lw_m1 55 rfl) rfl
theorem q116 : (Jvm.Cond.methodLink "java/util/AbstractCollection" (1 : Nat) ({ cls := "java/lang/Object", name := "<init>", desc := "()V" } : Jvm.MethodName)) ∈ lw_all := lw_g (lw_at lw_m1 56 rfl) rfl

/-! java/util/AbstractList -/
set_option maxRecDepth 100000
def RJ1 : String := "java/util/AbstractList"
abbrev cJ1_init : ByteArray := prog_34_method_1_code
def yJ1_init : MethodName := ⟨RJ1, "<init>", "()V"⟩
theorem q63 : (Jvm.Cond.initialized "java/util/AbstractList") ∈ lw_all := lw_g (lw_at lw_m1 3 rfl) rfl
theorem q111 : (Jvm.Cond.instanceMethod ({ cls := "java/util/AbstractList", name := "<init>", desc := "()V" } : Jvm.MethodName)) ∈ lw_all := lw_g (lw_at lw_m1 51 rfl) rfl
theorem q112 : (Jvm.Cond.code ({ cls := "java/util/AbstractList", name := "<init>", desc := "()V" } : Jvm.MethodName) prog_34_method_1_code (1 : Nat) (Option.none : Option Jvm.ClassFile.FieldType)) ∈ lw_all := lw_g (lw_at lw_m1 52 rfl) rfl
theorem q113 : (Jvm.Cond.methodLink "java/util/AbstractList" (1 : Nat) ({ cls := "java/util/AbstractCollection", name := "<init>", desc := "()V" } : Jvm.MethodName)) ∈ lw_all := lw_g (lw_at lw_m1 53 rfl) rfl
theorem q123 : (Jvm.Cond.fieldLink "java/util/AbstractList" (7 : Nat) "java/util/AbstractList" "modCount" "I") ∈ lw_all := lw_g (lw_at lw_m1 63 rfl) rfl
theorem q131 : (Jvm.Cond.soleField "java/util/AbstractList" "modCount") ∈ lw_all := lw_g (lw_at lw_m1 71 rfl) rfl

/-! java/util/ArrayList -/
set_option maxRecDepth 100000
def RJ2 : String := "java/util/ArrayList"
def TJ2 : u_T := fun k => match k with
  | 0 => ("java/util/AbstractList", "modCount", "I", false)
  | 1 => ("java/util/ArrayList", "elementData", "[Ljava/lang/Object;", false)
  | _ => ("java/util/ArrayList", "size", "I", false)
def tyJ2 : Nat → FieldType := fun k => match k with
  | 0 => .int
  | 1 => .array (.object "java/lang/Object")
  | _ => .int
abbrev wsJ20 : List Cond := u_ws RJ2 TJ2 3
theorem nmJ2 : ∀ a, a < 3 → ∀ b, b < 3 → a ≠ b → (TJ2 a).2.1 ≠ (TJ2 b).2.1 := by decide +kernel
theorem tyJ2_ok : ∀ k, k < 3 → parseFieldDescriptor (TJ2 k).2.2.1 = some (tyJ2 k) := by decide +kernel
abbrev cJ2_init : ByteArray := prog_35_method_1_code
def yJ2_init : MethodName := ⟨RJ2, "<init>", "(I)V"⟩
abbrev cJ2_size : ByteArray := prog_35_method_8_code
def yJ2_size : MethodName := ⟨RJ2, "size", "()I"⟩
abbrev cJ2_add : ByteArray := prog_35_method_25_code
def yJ2_add : MethodName := ⟨RJ2, "add", "(Ljava/lang/Object;)Z"⟩
abbrev cJ2_add_2 : ByteArray := prog_35_method_24_code
def yJ2_add_2 : MethodName := ⟨RJ2, "add", "(Ljava/lang/Object;[Ljava/lang/Object;I)V"⟩
abbrev cJ2_grow : ByteArray := prog_35_method_7_code
def yJ2_grow : MethodName := ⟨RJ2, "grow", "()[Ljava/lang/Object;"⟩
abbrev cJ2_grow_2 : ByteArray := prog_35_method_6_code
def yJ2_grow_2 : MethodName := ⟨RJ2, "grow", "(I)[Ljava/lang/Object;"⟩
abbrev cJ2_get : ByteArray := prog_35_method_20_code
def yJ2_get : MethodName := ⟨RJ2, "get", "(I)Ljava/lang/Object;"⟩
abbrev cJ2_elementData : ByteArray := prog_35_method_18_code
def yJ2_elementData : MethodName := ⟨RJ2, "elementData", "(I)Ljava/lang/Object;"⟩
theorem q64 : (Jvm.Cond.initialized "java/util/ArrayList") ∈ lw_all := lw_g (lw_at lw_m1 4 rfl) rfl
theorem q106 : (Jvm.Cond.instantiable "java/util/ArrayList" (3 : Nat)) ∈ lw_all := lw_g (lw_at lw_m1 46 rfl) rfl
theorem q108 : (Jvm.Cond.instanceMethod ({ cls := "java/util/ArrayList", name := "<init>", desc := "(I)V" } : Jvm.MethodName)) ∈ lw_all := lw_g (lw_at lw_m1 48 rfl) rfl
theorem q109 : (Jvm.Cond.code ({ cls := "java/util/ArrayList", name := "<init>", desc := "(I)V" } : Jvm.MethodName) prog_35_method_1_code (2 : Nat) (Option.none : Option Jvm.ClassFile.FieldType)) ∈ lw_all := lw_g (lw_at lw_m1 49 rfl) rfl
theorem q110 : (Jvm.Cond.methodLink "java/util/ArrayList" (1 : Nat) ({ cls := "java/util/AbstractList", name := "<init>", desc := "()V" } : Jvm.MethodName)) ∈ lw_all := lw_g (lw_at lw_m1 50 rfl) rfl
theorem q117 : (Jvm.Cond.classLink "java/util/ArrayList" (7 : Nat) "java/lang/Object") ∈ lw_all := lw_g (lw_at lw_m1 57 rfl) rfl
theorem q119 : (Jvm.Cond.fieldLink "java/util/ArrayList" (15 : Nat) "java/util/ArrayList" "EMPTY_ELEMENTDATA" "[Ljava/lang/Object;") ∈ lw_all := lw_g (lw_at lw_m1 59 rfl) rfl
theorem q120 : (Jvm.Cond.laysStatic "java/util/ArrayList" "EMPTY_ELEMENTDATA" "[Ljava/lang/Object;") ∈ lw_tbl := lw_at lw_m1 60 rfl
theorem q121 : (Jvm.Cond.fieldLink "java/util/ArrayList" (9 : Nat) "java/util/ArrayList" "elementData" "[Ljava/lang/Object;") ∈ lw_all := lw_g (lw_at lw_m1 61 rfl) rfl
theorem q122 : (Jvm.Cond.fieldLink "java/util/ArrayList" (48 : Nat) "java/util/ArrayList" "size" "I") ∈ lw_all := lw_g (lw_at lw_m1 62 rfl) rfl
theorem q124 : (Jvm.Cond.fieldLink "java/util/ArrayList" (63 : Nat) "java/util/ArrayList" "modCount" "I") ∈ lw_all := lw_g (lw_at lw_m1 64 rfl) rfl
theorem q125 : (Jvm.Cond.sameField "java/util/ArrayList" "java/util/AbstractList" "modCount" "I") ∈ lw_all := lw_g (lw_at lw_m1 65 rfl) rfl
theorem q126 : (Jvm.Cond.lays "java/util/ArrayList" "java/util/ArrayList" "elementData" "[Ljava/lang/Object;") ∈ lw_all := lw_g (lw_at lw_m1 66 rfl) rfl
theorem q127 : (Jvm.Cond.soleField "java/util/ArrayList" "elementData") ∈ lw_all := lw_g (lw_at lw_m1 67 rfl) rfl
theorem q128 : (Jvm.Cond.lays "java/util/ArrayList" "java/util/ArrayList" "size" "I") ∈ lw_all := lw_g (lw_at lw_m1 68 rfl) rfl
theorem q129 : (Jvm.Cond.soleField "java/util/ArrayList" "size") ∈ lw_all := lw_g (lw_at lw_m1 69 rfl) rfl
theorem q130 : (Jvm.Cond.lays "java/util/ArrayList" "java/util/AbstractList" "modCount" "I") ∈ lw_all := lw_g (lw_at lw_m1 70 rfl) rfl
theorem q132 : (Jvm.Cond.superclass "java/util/ArrayList" "java/util/AbstractList") ∈ lw_all := lw_g (lw_at lw_m1 72 rfl) rfl
theorem q293 : (Jvm.Cond.instanceMethod ({ cls := "java/util/ArrayList", name := "size", desc := "()I" } : Jvm.MethodName)) ∈ lw_all := lw_g (lw_at lw_m1 233 rfl) rfl
theorem q294 : (Jvm.Cond.selects "java/util/ArrayList" ({ cls := "java/util/ArrayList", name := "size", desc := "()I" } : Jvm.MethodName) ({ cls := "java/util/ArrayList", name := "size", desc := "()I" } : Jvm.MethodName)) ∈ lw_all := lw_g (lw_at lw_m1 234 rfl) rfl
theorem q295 : (Jvm.Cond.code ({ cls := "java/util/ArrayList", name := "size", desc := "()I" } : Jvm.MethodName) prog_35_method_8_code (1 : Nat) (Option.some Jvm.ClassFile.FieldType.int)) ∈ lw_all := lw_g (lw_at lw_m1 235 rfl) rfl
theorem q358 : (Jvm.Cond.instanceMethod ({ cls := "java/util/ArrayList", name := "add", desc := "(Ljava/lang/Object;)Z" } : Jvm.MethodName)) ∈ lw_all := lw_g (lw_at lw_m2 58 rfl) rfl
theorem q359 : (Jvm.Cond.selects "java/util/ArrayList" ({ cls := "java/util/ArrayList", name := "add", desc := "(Ljava/lang/Object;)Z" } : Jvm.MethodName) ({ cls := "java/util/ArrayList", name := "add", desc := "(Ljava/lang/Object;)Z" } : Jvm.MethodName)) ∈ lw_all := lw_g (lw_at lw_m2 59 rfl) rfl
theorem q360 : (Jvm.Cond.code ({ cls := "java/util/ArrayList", name := "add", desc := "(Ljava/lang/Object;)Z" } : Jvm.MethodName) prog_35_method_25_code (2 : Nat) (Option.some Jvm.ClassFile.FieldType.boolean)) ∈ lw_all := lw_g (lw_at lw_m2 60 rfl) rfl
theorem q361 : (Jvm.Cond.methodLink "java/util/ArrayList" (131 : Nat) ({ cls := "java/util/ArrayList", name := "add", desc := "(Ljava/lang/Object;[Ljava/lang/Object;I)V" } : Jvm.MethodName)) ∈ lw_all := lw_g (lw_at lw_m2 61 rfl) rfl
theorem q362 : (Jvm.Cond.privateMethod ({ cls := "java/util/ArrayList", name := "add", desc := "(Ljava/lang/Object;[Ljava/lang/Object;I)V" } : Jvm.MethodName)) ∈ lw_tbl := lw_at lw_m2 62 rfl
theorem q363 : (Jvm.Cond.instanceMethod ({ cls := "java/util/ArrayList", name := "add", desc := "(Ljava/lang/Object;[Ljava/lang/Object;I)V" } : Jvm.MethodName)) ∈ lw_all := lw_g (lw_at lw_m2 63 rfl) rfl
theorem q364 : (Jvm.Cond.code ({ cls := "java/util/ArrayList", name := "add", desc := "(Ljava/lang/Object;[Ljava/lang/Object;I)V" } : Jvm.MethodName) prog_35_method_24_code (4 : Nat) (Option.none : Option Jvm.ClassFile.FieldType)) ∈ lw_all := lw_g (lw_at lw_m2 64 rfl) rfl
theorem q365 : (Jvm.Cond.methodLink "java/util/ArrayList" (129 : Nat) ({ cls := "java/util/ArrayList", name := "grow", desc := "()[Ljava/lang/Object;" } : Jvm.MethodName)) ∈ lw_all := lw_g (lw_at lw_m2 65 rfl) rfl
theorem q366 : (Jvm.Cond.privateMethod ({ cls := "java/util/ArrayList", name := "grow", desc := "()[Ljava/lang/Object;" } : Jvm.MethodName)) ∈ lw_tbl := lw_at lw_m2 66 rfl
theorem q367 : (Jvm.Cond.instanceMethod ({ cls := "java/util/ArrayList", name := "grow", desc := "()[Ljava/lang/Object;" } : Jvm.MethodName)) ∈ lw_all := lw_g (lw_at lw_m2 67 rfl) rfl
theorem q368 : (Jvm.Cond.code ({ cls := "java/util/ArrayList", name := "grow", desc := "()[Ljava/lang/Object;" } : Jvm.MethodName) prog_35_method_7_code (1 : Nat) (Option.some (Jvm.ClassFile.FieldType.array (Jvm.ClassFile.FieldType.object "java/lang/Object")))) ∈ lw_all := lw_g (lw_at lw_m2 68 rfl) rfl
theorem q369 : (Jvm.Cond.methodLink "java/util/ArrayList" (69 : Nat) ({ cls := "java/util/ArrayList", name := "grow", desc := "(I)[Ljava/lang/Object;" } : Jvm.MethodName)) ∈ lw_all := lw_g (lw_at lw_m2 69 rfl) rfl
theorem q370 : (Jvm.Cond.privateMethod ({ cls := "java/util/ArrayList", name := "grow", desc := "(I)[Ljava/lang/Object;" } : Jvm.MethodName)) ∈ lw_tbl := lw_at lw_m2 70 rfl
theorem q371 : (Jvm.Cond.instanceMethod ({ cls := "java/util/ArrayList", name := "grow", desc := "(I)[Ljava/lang/Object;" } : Jvm.MethodName)) ∈ lw_all := lw_g (lw_at lw_m2 71 rfl) rfl
theorem q372 : (Jvm.Cond.code ({ cls := "java/util/ArrayList", name := "grow", desc := "(I)[Ljava/lang/Object;" } : Jvm.MethodName) prog_35_method_6_code (4 : Nat) (Option.some (Jvm.ClassFile.FieldType.array (Jvm.ClassFile.FieldType.object "java/lang/Object")))) ∈ lw_all := lw_g (lw_at lw_m2 72 rfl) rfl
theorem q373 : (Jvm.Cond.fieldLink "java/util/ArrayList" (39 : Nat) "java/util/ArrayList" "DEFAULTCAPACITY_EMPTY_ELEMENTDATA" "[Ljava/lang/Object;") ∈ lw_all := lw_g (lw_at lw_m2 73 rfl) rfl
theorem q374 : (Jvm.Cond.laysStatic "java/util/ArrayList" "DEFAULTCAPACITY_EMPTY_ELEMENTDATA" "[Ljava/lang/Object;") ∈ lw_tbl := lw_at lw_m2 74 rfl
theorem q375 : (Jvm.Cond.methodLink "java/util/ArrayList" (73 : Nat) ({ cls := "jdk/internal/util/ArraysSupport", name := "newLength", desc := "(III)I" } : Jvm.MethodName)) ∈ lw_all := lw_g (lw_at lw_m2 75 rfl) rfl
theorem q385 : (Jvm.Cond.methodLink "java/util/ArrayList" (66 : Nat) ({ cls := "java/util/Arrays", name := "copyOf", desc := "([Ljava/lang/Object;I)[Ljava/lang/Object;" } : Jvm.MethodName)) ∈ lw_all := lw_g (lw_at lw_m2 85 rfl) rfl
theorem q406 : (Jvm.Cond.selects "java/util/ArrayList" ({ cls := "java/lang/Object", name := "getClass", desc := "()Ljava/lang/Class;" } : Jvm.MethodName) ({ cls := "java/lang/Object", name := "getClass", desc := "()Ljava/lang/Class;" } : Jvm.MethodName)) ∈ lw_all := lw_g (lw_at lw_m2 106 rfl) rfl
theorem q420 : (Jvm.Cond.methodLink "java/util/ArrayList" (79 : Nat) ({ cls := "java/lang/Math", name := "max", desc := "(II)I" } : Jvm.MethodName)) ∈ lw_all := lw_g (lw_at lw_m2 120 rfl) rfl
theorem q440 : (Jvm.Cond.instanceMethod ({ cls := "java/util/ArrayList", name := "get", desc := "(I)Ljava/lang/Object;" } : Jvm.MethodName)) ∈ lw_all := lw_g (lw_at lw_m2 140 rfl) rfl
theorem q441 : (Jvm.Cond.selects "java/util/ArrayList" ({ cls := "java/util/ArrayList", name := "get", desc := "(I)Ljava/lang/Object;" } : Jvm.MethodName) ({ cls := "java/util/ArrayList", name := "get", desc := "(I)Ljava/lang/Object;" } : Jvm.MethodName)) ∈ lw_all := lw_g (lw_at lw_m2 141 rfl) rfl
theorem q442 : (Jvm.Cond.code ({ cls := "java/util/ArrayList", name := "get", desc := "(I)Ljava/lang/Object;" } : Jvm.MethodName) prog_35_method_20_code (2 : Nat) (Option.some (Jvm.ClassFile.FieldType.object "java/lang/Object"))) ∈ lw_all := lw_g (lw_at lw_m2 142 rfl) rfl
theorem q443 : (Jvm.Cond.methodLink "java/util/ArrayList" (118 : Nat) ({ cls := "java/util/Objects", name := "checkIndex", desc := "(II)I" } : Jvm.MethodName)) ∈ lw_all := lw_g (lw_at lw_m2 143 rfl) rfl
theorem q449 : (Jvm.Cond.methodLink "java/util/ArrayList" (123 : Nat) ({ cls := "java/util/ArrayList", name := "elementData", desc := "(I)Ljava/lang/Object;" } : Jvm.MethodName)) ∈ lw_all := lw_g (lw_at lw_m2 149 rfl) rfl
theorem q450 : (Jvm.Cond.instanceMethod ({ cls := "java/util/ArrayList", name := "elementData", desc := "(I)Ljava/lang/Object;" } : Jvm.MethodName)) ∈ lw_all := lw_g (lw_at lw_m2 150 rfl) rfl
theorem q451 : (Jvm.Cond.selects "java/util/ArrayList" ({ cls := "java/util/ArrayList", name := "elementData", desc := "(I)Ljava/lang/Object;" } : Jvm.MethodName) ({ cls := "java/util/ArrayList", name := "elementData", desc := "(I)Ljava/lang/Object;" } : Jvm.MethodName)) ∈ lw_all := lw_g (lw_at lw_m2 151 rfl) rfl
theorem q452 : (Jvm.Cond.code ({ cls := "java/util/ArrayList", name := "elementData", desc := "(I)Ljava/lang/Object;" } : Jvm.MethodName) prog_35_method_18_code (2 : Nat) (Option.some (Jvm.ClassFile.FieldType.object "java/lang/Object"))) ∈ lw_all := lw_g (lw_at lw_m2 152 rfl) rfl
theorem q1682 : (Jvm.Cond.castable "java/util/ArrayList" "java/lang/Object") ∈ lw_tbl := lw_at lw_m7 182 rfl
theorem in_J2 : ∀ w ∈ wsJ20, w ∈ lw_all := lw_in wsJ20 [130, 126, 128] (by decide +kernel) (by decide +kernel)

/-! jdk/internal/util/ArraysSupport -/
set_option maxRecDepth 100000
def RJ3 : String := "jdk/internal/util/ArraysSupport"
abbrev cJ3_newLength : ByteArray := prog_43_method_27_code
def yJ3_newLength : MethodName := ⟨RJ3, "newLength", "(III)I"⟩
abbrev cJ3_hugeLength : ByteArray := prog_43_method_28_code
def yJ3_hugeLength : MethodName := ⟨RJ3, "hugeLength", "(II)I"⟩
theorem q70 : (Jvm.Cond.initialized "jdk/internal/util/ArraysSupport") ∈ lw_all := lw_g (lw_at lw_m1 10 rfl) rfl
theorem q376 : (Jvm.Cond.static ({ cls := "jdk/internal/util/ArraysSupport", name := "newLength", desc := "(III)I" } : Jvm.MethodName)) ∈ lw_all := lw_g (lw_at lw_m2 76 rfl) rfl
theorem q377 : (Jvm.Cond.code ({ cls := "jdk/internal/util/ArraysSupport", name := "newLength", desc := "(III)I" } : Jvm.MethodName) prog_43_method_27_code (4 : Nat) (Option.some Jvm.ClassFile.FieldType.int)) ∈ lw_all := lw_g (lw_at lw_m2 77 rfl) rfl
theorem q378 : (Jvm.Cond.methodLink "jdk/internal/util/ArraysSupport" (194 : Nat) ({ cls := "java/lang/Math", name := "max", desc := "(II)I" } : Jvm.MethodName)) ∈ lw_all := lw_g (lw_at lw_m2 78 rfl) rfl
theorem q381 : (Jvm.Cond.constant "jdk/internal/util/ArraysSupport" (200 : Nat) (2147483639 : Int32)) ∈ lw_all := lw_g (lw_at lw_m2 81 rfl) rfl
theorem q382 : (Jvm.Cond.methodLink "jdk/internal/util/ArraysSupport" (201 : Nat) ({ cls := "jdk/internal/util/ArraysSupport", name := "hugeLength", desc := "(II)I" } : Jvm.MethodName)) ∈ lw_all := lw_g (lw_at lw_m2 82 rfl) rfl
theorem q383 : (Jvm.Cond.static ({ cls := "jdk/internal/util/ArraysSupport", name := "hugeLength", desc := "(II)I" } : Jvm.MethodName)) ∈ lw_all := lw_g (lw_at lw_m2 83 rfl) rfl
theorem q384 : (Jvm.Cond.code ({ cls := "jdk/internal/util/ArraysSupport", name := "hugeLength", desc := "(II)I" } : Jvm.MethodName) prog_43_method_28_code (3 : Nat) (Option.some Jvm.ClassFile.FieldType.int)) ∈ lw_all := lw_g (lw_at lw_m2 84 rfl) rfl

/-! java/lang/Math -/
set_option maxRecDepth 100000
def RJ4 : String := "java/lang/Math"
abbrev cJ4_max : ByteArray := prog_25_method_65_code
def yJ4_max : MethodName := ⟨RJ4, "max", "(II)I"⟩
abbrev cJ4_min : ByteArray := prog_25_method_69_code
def yJ4_min : MethodName := ⟨RJ4, "min", "(II)I"⟩
theorem q71 : (Jvm.Cond.initialized "java/lang/Math") ∈ lw_all := lw_g (lw_at lw_m1 11 rfl) rfl
theorem q379 : (Jvm.Cond.static ({ cls := "java/lang/Math", name := "max", desc := "(II)I" } : Jvm.MethodName)) ∈ lw_all := lw_g (lw_at lw_m2 79 rfl) rfl
theorem q380 : (Jvm.Cond.code ({ cls := "java/lang/Math", name := "max", desc := "(II)I" } : Jvm.MethodName) prog_25_method_65_code (2 : Nat) (Option.some Jvm.ClassFile.FieldType.int)) ∈ lw_all := lw_g (lw_at lw_m2 80 rfl) rfl
theorem q415 : (Jvm.Cond.static ({ cls := "java/lang/Math", name := "min", desc := "(II)I" } : Jvm.MethodName)) ∈ lw_all := lw_g (lw_at lw_m2 115 rfl) rfl
theorem q416 : (Jvm.Cond.code ({ cls := "java/lang/Math", name := "min", desc := "(II)I" } : Jvm.MethodName) prog_25_method_69_code (2 : Nat) (Option.some Jvm.ClassFile.FieldType.int)) ∈ lw_all := lw_g (lw_at lw_m2 116 rfl) rfl

/-! java/util/Arrays -/
set_option maxRecDepth 100000
def RJ5 : String := "java/util/Arrays"
abbrev cJ5_copyOf : ByteArray := prog_36_method_119_code
def yJ5_copyOf : MethodName := ⟨RJ5, "copyOf", "([Ljava/lang/Object;I)[Ljava/lang/Object;"⟩
abbrev cJ5_copyOf_2 : ByteArray := prog_36_method_120_code
def yJ5_copyOf_2 : MethodName := ⟨RJ5, "copyOf", "([Ljava/lang/Object;ILjava/lang/Class;)[Ljava/lang/Object;"⟩
abbrev cJ5_copyOf_3 : ByteArray := prog_36_method_121_code
def yJ5_copyOf_3 : MethodName := ⟨RJ5, "copyOf", "([BI)[B"⟩
theorem q72 : (Jvm.Cond.initialized "java/util/Arrays") ∈ lw_all := lw_g (lw_at lw_m1 12 rfl) rfl
theorem q386 : (Jvm.Cond.static ({ cls := "java/util/Arrays", name := "copyOf", desc := "([Ljava/lang/Object;I)[Ljava/lang/Object;" } : Jvm.MethodName)) ∈ lw_all := lw_g (lw_at lw_m2 86 rfl) rfl
theorem q387 : (Jvm.Cond.code ({ cls := "java/util/Arrays", name := "copyOf", desc := "([Ljava/lang/Object;I)[Ljava/lang/Object;" } : Jvm.MethodName) prog_36_method_119_code (2 : Nat) (Option.some (Jvm.ClassFile.FieldType.array (Jvm.ClassFile.FieldType.object "java/lang/Object")))) ∈ lw_all := lw_g (lw_at lw_m2 87 rfl) rfl
theorem q388 : (Jvm.Cond.methodLink "java/util/Arrays" (86 : Nat) ({ cls := "java/lang/Object", name := "getClass", desc := "()Ljava/lang/Class;" } : Jvm.MethodName)) ∈ lw_all := lw_g (lw_at lw_m2 88 rfl) rfl
theorem q409 : (Jvm.Cond.methodLink "java/util/Arrays" (300 : Nat) ({ cls := "java/util/Arrays", name := "copyOf", desc := "([Ljava/lang/Object;ILjava/lang/Class;)[Ljava/lang/Object;" } : Jvm.MethodName)) ∈ lw_all := lw_g (lw_at lw_m2 109 rfl) rfl
theorem q410 : (Jvm.Cond.static ({ cls := "java/util/Arrays", name := "copyOf", desc := "([Ljava/lang/Object;ILjava/lang/Class;)[Ljava/lang/Object;" } : Jvm.MethodName)) ∈ lw_all := lw_g (lw_at lw_m2 110 rfl) rfl
theorem q411 : (Jvm.Cond.code ({ cls := "java/util/Arrays", name := "copyOf", desc := "([Ljava/lang/Object;ILjava/lang/Class;)[Ljava/lang/Object;" } : Jvm.MethodName) prog_36_method_120_code (4 : Nat) (Option.some (Jvm.ClassFile.FieldType.array (Jvm.ClassFile.FieldType.object "java/lang/Object")))) ∈ lw_all := lw_g (lw_at lw_m2 111 rfl) rfl
theorem q412 : (Jvm.Cond.classLink "java/util/Arrays" (110 : Nat) "[Ljava/lang/Object;") ∈ lw_all := lw_g (lw_at lw_m2 112 rfl) rfl
theorem q413 : (Jvm.Cond.classLink "java/util/Arrays" (2 : Nat) "java/lang/Object") ∈ lw_all := lw_g (lw_at lw_m2 113 rfl) rfl
theorem q414 : (Jvm.Cond.methodLink "java/util/Arrays" (304 : Nat) ({ cls := "java/lang/Math", name := "min", desc := "(II)I" } : Jvm.MethodName)) ∈ lw_all := lw_g (lw_at lw_m2 114 rfl) rfl
theorem q417 : (Jvm.Cond.methodLink "java/util/Arrays" (150 : Nat) ({ cls := "java/lang/System", name := "arraycopy", desc := "(Ljava/lang/Object;ILjava/lang/Object;II)V" } : Jvm.MethodName)) ∈ lw_all := lw_g (lw_at lw_m2 117 rfl) rfl
theorem q966 : (Jvm.Cond.static ({ cls := "java/util/Arrays", name := "copyOf", desc := "([BI)[B" } : Jvm.MethodName)) ∈ lw_all := lw_g (lw_at lw_m4 186 rfl) rfl
theorem q967 : (Jvm.Cond.code ({ cls := "java/util/Arrays", name := "copyOf", desc := "([BI)[B" } : Jvm.MethodName) prog_36_method_121_code (3 : Nat) (Option.some (Jvm.ClassFile.FieldType.array Jvm.ClassFile.FieldType.byte))) ∈ lw_all := lw_g (lw_at lw_m4 187 rfl) rfl
theorem q968 : (Jvm.Cond.methodLink "java/util/Arrays" (310 : Nat) ({ cls := "[B", name := "clone", desc := "()Ljava/lang/Object;" } : Jvm.MethodName)) ∈ lw_all := lw_g (lw_at lw_m4 188 rfl) rfl
theorem q974 : (Jvm.Cond.classLink "java/util/Arrays" (311 : Nat) "[B") ∈ lw_all := lw_g (lw_at lw_m4 194 rfl) rfl

/-! java/util/Objects -/
set_option maxRecDepth 100000
def RJ6 : String := "java/util/Objects"
abbrev cJ6_checkIndex : ByteArray := prog_40_method_17_code
def yJ6_checkIndex : MethodName := ⟨RJ6, "checkIndex", "(II)I"⟩
theorem q75 : (Jvm.Cond.initialized "java/util/Objects") ∈ lw_all := lw_g (lw_at lw_m1 15 rfl) rfl
theorem q444 : (Jvm.Cond.static ({ cls := "java/util/Objects", name := "checkIndex", desc := "(II)I" } : Jvm.MethodName)) ∈ lw_all := lw_g (lw_at lw_m2 144 rfl) rfl
theorem q445 : (Jvm.Cond.code ({ cls := "java/util/Objects", name := "checkIndex", desc := "(II)I" } : Jvm.MethodName) prog_40_method_17_code (2 : Nat) (Option.some Jvm.ClassFile.FieldType.int)) ∈ lw_all := lw_g (lw_at lw_m2 145 rfl) rfl
theorem q446 : (Jvm.Cond.methodLink "java/util/Objects" (105 : Nat) ({ cls := "jdk/internal/util/Preconditions", name := "checkIndex", desc := "(IILjava/util/function/BiFunction;)I" } : Jvm.MethodName)) ∈ lw_all := lw_g (lw_at lw_m2 146 rfl) rfl

/-! jdk/internal/util/Preconditions -/
set_option maxRecDepth 100000
def RJ7 : String := "jdk/internal/util/Preconditions"
abbrev cJ7_checkIndex : ByteArray := prog_44_method_11_code
def yJ7_checkIndex : MethodName := ⟨RJ7, "checkIndex", "(IILjava/util/function/BiFunction;)I"⟩
abbrev cJ7_checkFromToIndex : ByteArray := prog_44_method_12_code
def yJ7_checkFromToIndex : MethodName := ⟨RJ7, "checkFromToIndex", "(IIILjava/util/function/BiFunction;)I"⟩
abbrev cJ7_checkFromIndexSize : ByteArray := prog_44_method_13_code
def yJ7_checkFromIndexSize : MethodName := ⟨RJ7, "checkFromIndexSize", "(IIILjava/util/function/BiFunction;)I"⟩
theorem q76 : (Jvm.Cond.initialized "jdk/internal/util/Preconditions") ∈ lw_all := lw_g (lw_at lw_m1 16 rfl) rfl
theorem q447 : (Jvm.Cond.static ({ cls := "jdk/internal/util/Preconditions", name := "checkIndex", desc := "(IILjava/util/function/BiFunction;)I" } : Jvm.MethodName)) ∈ lw_all := lw_g (lw_at lw_m2 147 rfl) rfl
theorem q448 : (Jvm.Cond.code ({ cls := "jdk/internal/util/Preconditions", name := "checkIndex", desc := "(IILjava/util/function/BiFunction;)I" } : Jvm.MethodName) prog_44_method_11_code (3 : Nat) (Option.some Jvm.ClassFile.FieldType.int)) ∈ lw_all := lw_g (lw_at lw_m2 148 rfl) rfl
theorem q711 : (Jvm.Cond.laysStatic "jdk/internal/util/Preconditions" "SIOOBE_FORMATTER" "Ljava/util/function/BiFunction;") ∈ lw_tbl := lw_at lw_m3 171 rfl
theorem q713 : (Jvm.Cond.static ({ cls := "jdk/internal/util/Preconditions", name := "checkFromToIndex", desc := "(IIILjava/util/function/BiFunction;)I" } : Jvm.MethodName)) ∈ lw_all := lw_g (lw_at lw_m3 173 rfl) rfl
theorem q714 : (Jvm.Cond.code ({ cls := "jdk/internal/util/Preconditions", name := "checkFromToIndex", desc := "(IIILjava/util/function/BiFunction;)I" } : Jvm.MethodName) prog_44_method_12_code (4 : Nat) (Option.some Jvm.ClassFile.FieldType.int)) ∈ lw_all := lw_g (lw_at lw_m3 174 rfl) rfl
theorem q1000 : (Jvm.Cond.static ({ cls := "jdk/internal/util/Preconditions", name := "checkFromIndexSize", desc := "(IIILjava/util/function/BiFunction;)I" } : Jvm.MethodName)) ∈ lw_all := lw_g (lw_at lw_m4 220 rfl) rfl
theorem q1001 : (Jvm.Cond.code ({ cls := "jdk/internal/util/Preconditions", name := "checkFromIndexSize", desc := "(IIILjava/util/function/BiFunction;)I" } : Jvm.MethodName) prog_44_method_13_code (4 : Nat) (Option.some Jvm.ClassFile.FieldType.int)) ∈ lw_all := lw_g (lw_at lw_m4 221 rfl) rfl

/-! java/lang/Throwable -/
set_option maxRecDepth 100000
def RJ8 : String := "java/lang/Throwable"
def TJ8 : u_T := fun k => match k with
  | 0 => ("java/lang/Throwable", "cause", "Ljava/lang/Throwable;", false)
  | 1 => ("java/lang/Throwable", "stackTrace", "[Ljava/lang/StackTraceElement;", false)
  | 2 => ("java/lang/Throwable", "suppressedExceptions", "Ljava/util/List;", false)
  | 3 => ("java/lang/Throwable", "detailMessage", "Ljava/lang/String;", false)
  | _ => ("java/lang/Throwable", "backtrace", "Ljava/lang/Object;", false)
def tyJ8 : Nat → FieldType := fun k => match k with
  | 0 => .object "java/lang/Throwable"
  | 1 => .array (.object "java/lang/StackTraceElement")
  | 2 => .object "java/util/List"
  | 3 => .object "java/lang/String"
  | _ => .object "java/lang/Object"
abbrev wsJ80 : List Cond := u_ws RJ8 TJ8 5
theorem nmJ8 : ∀ a, a < 5 → ∀ b, b < 5 → a ≠ b → (TJ8 a).2.1 ≠ (TJ8 b).2.1 := by decide +kernel
theorem tyJ8_ok : ∀ k, k < 5 → parseFieldDescriptor (TJ8 k).2.2.1 = some (tyJ8 k) := by decide +kernel
abbrev cJ8_init : ByteArray := prog_32_method_1_code
def yJ8_init : MethodName := ⟨RJ8, "<init>", "()V"⟩
abbrev cJ8_init_2 : ByteArray := prog_32_method_5_code
def yJ8_init_2 : MethodName := ⟨RJ8, "<init>", "(Ljava/lang/String;Ljava/lang/Throwable;ZZ)V"⟩
theorem q80 : (Jvm.Cond.initialized "java/lang/Throwable") ∈ lw_all := lw_g (lw_at lw_m1 20 rfl) rfl
theorem q783 : (Jvm.Cond.declares ({ cls := "java/lang/Throwable", name := "<init>", desc := "()V" } : Jvm.MethodName)) ∈ lw_tbl := lw_at lw_m4 3 rfl
theorem q784 : (Jvm.Cond.declares ({ cls := "java/lang/Throwable", name := "<init>", desc := "(Ljava/lang/String;)V" } : Jvm.MethodName)) ∈ lw_tbl := lw_at lw_m4 4 rfl
theorem q788 : (Jvm.Cond.lays "java/lang/Throwable" "java/lang/Throwable" "cause" "Ljava/lang/Throwable;") ∈ lw_all := lw_g (lw_at lw_m4 8 rfl) rfl
theorem q790 : (Jvm.Cond.lays "java/lang/Throwable" "java/lang/Throwable" "stackTrace" "[Ljava/lang/StackTraceElement;") ∈ lw_all := lw_g (lw_at lw_m4 10 rfl) rfl
theorem q792 : (Jvm.Cond.lays "java/lang/Throwable" "java/lang/Throwable" "suppressedExceptions" "Ljava/util/List;") ∈ lw_all := lw_g (lw_at lw_m4 12 rfl) rfl
theorem q794 : (Jvm.Cond.lays "java/lang/Throwable" "java/lang/Throwable" "detailMessage" "Ljava/lang/String;") ∈ lw_all := lw_g (lw_at lw_m4 14 rfl) rfl
theorem q796 : (Jvm.Cond.lays "java/lang/Throwable" "java/lang/Throwable" "backtrace" "Ljava/lang/Object;") ∈ lw_all := lw_g (lw_at lw_m4 16 rfl) rfl
theorem q797 : (Jvm.Cond.fieldLink "java/lang/Throwable" (198 : Nat) "java/lang/Throwable" "backtrace" "Ljava/lang/Object;") ∈ lw_all := lw_g (lw_at lw_m4 17 rfl) rfl
theorem q798 : (Jvm.Cond.superclass "java/lang/Throwable" "java/lang/Object") ∈ lw_all := lw_g (lw_at lw_m4 18 rfl) rfl
theorem q799 : (Jvm.Cond.instanceMethod ({ cls := "java/lang/Throwable", name := "<init>", desc := "()V" } : Jvm.MethodName)) ∈ lw_all := lw_g (lw_at lw_m4 19 rfl) rfl
theorem q800 : (Jvm.Cond.code ({ cls := "java/lang/Throwable", name := "<init>", desc := "()V" } : Jvm.MethodName) prog_32_method_1_code (1 : Nat) (Option.none : Option Jvm.ClassFile.FieldType)) ∈ lw_all := lw_g (lw_at lw_m4 20 rfl) rfl
theorem q801 : (Jvm.Cond.methodLink "java/lang/Throwable" (1 : Nat) ({ cls := "java/lang/Object", name := "<init>", desc := "()V" } : Jvm.MethodName)) ∈ lw_all := lw_g (lw_at lw_m4 21 rfl) rfl
theorem q802 : (Jvm.Cond.fieldLink "java/lang/Throwable" (13 : Nat) "java/lang/Throwable" "UNASSIGNED_STACK" "[Ljava/lang/StackTraceElement;") ∈ lw_all := lw_g (lw_at lw_m4 22 rfl) rfl
theorem q803 : (Jvm.Cond.laysStatic "java/lang/Throwable" "UNASSIGNED_STACK" "[Ljava/lang/StackTraceElement;") ∈ lw_tbl := lw_at lw_m4 23 rfl
theorem q804 : (Jvm.Cond.fieldLink "java/lang/Throwable" (20 : Nat) "java/lang/Throwable" "SUPPRESSED_SENTINEL" "Ljava/util/List;") ∈ lw_all := lw_g (lw_at lw_m4 24 rfl) rfl
theorem q805 : (Jvm.Cond.laysStatic "java/lang/Throwable" "SUPPRESSED_SENTINEL" "Ljava/util/List;") ∈ lw_tbl := lw_at lw_m4 25 rfl
theorem q806 : (Jvm.Cond.methodLink "java/lang/Throwable" (27 : Nat) ({ cls := "java/lang/Throwable", name := "fillInStackTrace", desc := "()Ljava/lang/Throwable;" } : Jvm.MethodName)) ∈ lw_all := lw_g (lw_at lw_m4 26 rfl) rfl
theorem q807 : (Jvm.Cond.instanceMethod ({ cls := "java/lang/Throwable", name := "fillInStackTrace", desc := "()Ljava/lang/Throwable;" } : Jvm.MethodName)) ∈ lw_all := lw_g (lw_at lw_m4 27 rfl) rfl
theorem q808 : (Jvm.Cond.sameMethod "java/lang/Throwable" "java/lang/Throwable" "fillInStackTrace" "()Ljava/lang/Throwable;") ∈ lw_all := lw_g (lw_at lw_m4 28 rfl) rfl
theorem q810 : (Jvm.Cond.codeSync ({ cls := "java/lang/Throwable", name := "fillInStackTrace", desc := "()Ljava/lang/Throwable;" } : Jvm.MethodName) prog_32_method_18_code (1 : Nat) (Option.some (Jvm.ClassFile.FieldType.object "java/lang/Throwable"))) ∈ lw_all := lw_g (lw_at lw_m4 30 rfl) rfl
theorem q811 : (Jvm.Cond.methodLink "java/lang/Throwable" (202 : Nat) ({ cls := "java/lang/Throwable", name := "fillInStackTrace", desc := "(I)Ljava/lang/Throwable;" } : Jvm.MethodName)) ∈ lw_all := lw_g (lw_at lw_m4 31 rfl) rfl
theorem q812 : (Jvm.Cond.privateMethod ({ cls := "java/lang/Throwable", name := "fillInStackTrace", desc := "(I)Ljava/lang/Throwable;" } : Jvm.MethodName)) ∈ lw_tbl := lw_at lw_m4 32 rfl
theorem q813 : (Jvm.Cond.instanceMethod ({ cls := "java/lang/Throwable", name := "fillInStackTrace", desc := "(I)Ljava/lang/Throwable;" } : Jvm.MethodName)) ∈ lw_all := lw_g (lw_at lw_m4 33 rfl) rfl
theorem q814 : (Jvm.Cond.instantiable "java/lang/Throwable" (6 : Nat)) ∈ lw_all := lw_g (lw_at lw_m4 34 rfl) rfl
theorem q815 : (Jvm.Cond.native ({ cls := "java/lang/Throwable", name := "fillInStackTrace", desc := "(I)Ljava/lang/Throwable;" } : Jvm.MethodName)) ∈ lw_all := lw_g (lw_at lw_m4 35 rfl) rfl
theorem q826 : (Jvm.Cond.instanceMethod ({ cls := "java/lang/Throwable", name := "<init>", desc := "(Ljava/lang/String;Ljava/lang/Throwable;ZZ)V" } : Jvm.MethodName)) ∈ lw_all := lw_g (lw_at lw_m4 46 rfl) rfl
theorem q827 : (Jvm.Cond.code ({ cls := "java/lang/Throwable", name := "<init>", desc := "(Ljava/lang/String;Ljava/lang/Throwable;ZZ)V" } : Jvm.MethodName) prog_32_method_5_code (5 : Nat) (Option.none : Option Jvm.ClassFile.FieldType)) ∈ lw_all := lw_g (lw_at lw_m4 47 rfl) rfl
theorem q830 : (Jvm.Cond.fieldLink "java/lang/Throwable" (198 : Nat) "java/lang/Throwable" "backtrace" "Ljava/lang/Object;") ∈ lw_all := lw_g (lw_at lw_m4 50 rfl) rfl
theorem q831 : (Jvm.Cond.fieldLink "java/lang/Throwable" (31 : Nat) "java/lang/Throwable" "detailMessage" "Ljava/lang/String;") ∈ lw_all := lw_g (lw_at lw_m4 51 rfl) rfl
theorem q832 : (Jvm.Cond.fieldLink "java/lang/Throwable" (7 : Nat) "java/lang/Throwable" "cause" "Ljava/lang/Throwable;") ∈ lw_all := lw_g (lw_at lw_m4 52 rfl) rfl
theorem q833 : (Jvm.Cond.fieldLink "java/lang/Throwable" (17 : Nat) "java/lang/Throwable" "stackTrace" "[Ljava/lang/StackTraceElement;") ∈ lw_all := lw_g (lw_at lw_m4 53 rfl) rfl
theorem q834 : (Jvm.Cond.fieldLink "java/lang/Throwable" (24 : Nat) "java/lang/Throwable" "suppressedExceptions" "Ljava/util/List;") ∈ lw_all := lw_g (lw_at lw_m4 54 rfl) rfl
theorem q837 : (Jvm.Cond.soleField "java/lang/Throwable" "backtrace") ∈ lw_all := lw_g (lw_at lw_m4 57 rfl) rfl
theorem q838 : (Jvm.Cond.soleField "java/lang/Throwable" "detailMessage") ∈ lw_all := lw_g (lw_at lw_m4 58 rfl) rfl
theorem q839 : (Jvm.Cond.soleField "java/lang/Throwable" "cause") ∈ lw_all := lw_g (lw_at lw_m4 59 rfl) rfl
theorem q840 : (Jvm.Cond.soleField "java/lang/Throwable" "stackTrace") ∈ lw_all := lw_g (lw_at lw_m4 60 rfl) rfl
theorem q842 : (Jvm.Cond.soleField "java/lang/Throwable" "depth") ∈ lw_all := lw_g (lw_at lw_m4 62 rfl) rfl
theorem q843 : (Jvm.Cond.soleField "java/lang/Throwable" "suppressedExceptions") ∈ lw_all := lw_g (lw_at lw_m4 63 rfl) rfl
theorem q1668 : (Jvm.Cond.sameMethod "java/lang/Throwable" "java/lang/Throwable" "fillInStackTrace" "(I)Ljava/lang/Throwable;") ∈ lw_all := lw_g (lw_at lw_m7 168 rfl) rfl
theorem q1698 : (Jvm.Cond.castable "java/lang/Throwable" "java/lang/Object") ∈ lw_tbl := lw_at lw_m7 198 rfl
theorem in_J8 : ∀ w ∈ wsJ80, w ∈ lw_all := lw_in wsJ80 [788, 790, 792, 794, 796] (by decide +kernel) (by decide +kernel)

/-! java/lang/Exception -/
set_option maxRecDepth 100000
def RJ9 : String := "java/lang/Exception"
abbrev cJ9_init : ByteArray := prog_23_method_5_code
def yJ9_init : MethodName := ⟨RJ9, "<init>", "(Ljava/lang/String;Ljava/lang/Throwable;ZZ)V"⟩
abbrev cJ9_init_2 : ByteArray := prog_23_method_1_code
def yJ9_init_2 : MethodName := ⟨RJ9, "<init>", "()V"⟩
theorem q81 : (Jvm.Cond.initialized "java/lang/Exception") ∈ lw_all := lw_g (lw_at lw_m1 21 rfl) rfl
theorem q781 : (Jvm.Cond.declares ({ cls := "java/lang/Exception", name := "<init>", desc := "()V" } : Jvm.MethodName)) ∈ lw_tbl := lw_at lw_m4 1 rfl
theorem q782 : (Jvm.Cond.declares ({ cls := "java/lang/Exception", name := "<init>", desc := "(Ljava/lang/String;)V" } : Jvm.MethodName)) ∈ lw_tbl := lw_at lw_m4 2 rfl
theorem q823 : (Jvm.Cond.instanceMethod ({ cls := "java/lang/Exception", name := "<init>", desc := "(Ljava/lang/String;Ljava/lang/Throwable;ZZ)V" } : Jvm.MethodName)) ∈ lw_all := lw_g (lw_at lw_m4 43 rfl) rfl
theorem q824 : (Jvm.Cond.code ({ cls := "java/lang/Exception", name := "<init>", desc := "(Ljava/lang/String;Ljava/lang/Throwable;ZZ)V" } : Jvm.MethodName) prog_23_method_5_code (5 : Nat) (Option.none : Option Jvm.ClassFile.FieldType)) ∈ lw_all := lw_g (lw_at lw_m4 44 rfl) rfl
theorem q825 : (Jvm.Cond.methodLink "java/lang/Exception" (16 : Nat) ({ cls := "java/lang/Throwable", name := "<init>", desc := "(Ljava/lang/String;Ljava/lang/Throwable;ZZ)V" } : Jvm.MethodName)) ∈ lw_all := lw_g (lw_at lw_m4 45 rfl) rfl
theorem q1176 : (Jvm.Cond.instanceMethod ({ cls := "java/lang/Exception", name := "<init>", desc := "()V" } : Jvm.MethodName)) ∈ lw_all := lw_g (lw_at lw_m5 156 rfl) rfl
theorem q1177 : (Jvm.Cond.code ({ cls := "java/lang/Exception", name := "<init>", desc := "()V" } : Jvm.MethodName) prog_23_method_1_code (1 : Nat) (Option.none : Option Jvm.ClassFile.FieldType)) ∈ lw_all := lw_g (lw_at lw_m5 157 rfl) rfl
theorem q1178 : (Jvm.Cond.methodLink "java/lang/Exception" (1 : Nat) ({ cls := "java/lang/Throwable", name := "<init>", desc := "()V" } : Jvm.MethodName)) ∈ lw_all := lw_g (lw_at lw_m5 158 rfl) rfl

/-! java/lang/RuntimeException -/
set_option maxRecDepth 100000
def RJ10 : String := "java/lang/RuntimeException"
abbrev cJ10_init : ByteArray := prog_26_method_5_code
def yJ10_init : MethodName := ⟨RJ10, "<init>", "(Ljava/lang/String;Ljava/lang/Throwable;ZZ)V"⟩
abbrev cJ10_init_2 : ByteArray := prog_26_method_1_code
def yJ10_init_2 : MethodName := ⟨RJ10, "<init>", "()V"⟩
theorem q82 : (Jvm.Cond.initialized "java/lang/RuntimeException") ∈ lw_all := lw_g (lw_at lw_m1 22 rfl) rfl
theorem q779 : (Jvm.Cond.declares ({ cls := "java/lang/RuntimeException", name := "<init>", desc := "()V" } : Jvm.MethodName)) ∈ lw_tbl := lw_at lw_m3 239 rfl
theorem q780 : (Jvm.Cond.declares ({ cls := "java/lang/RuntimeException", name := "<init>", desc := "(Ljava/lang/String;)V" } : Jvm.MethodName)) ∈ lw_tbl := lw_at lw_m4 0 rfl
theorem q820 : (Jvm.Cond.instanceMethod ({ cls := "java/lang/RuntimeException", name := "<init>", desc := "(Ljava/lang/String;Ljava/lang/Throwable;ZZ)V" } : Jvm.MethodName)) ∈ lw_all := lw_g (lw_at lw_m4 40 rfl) rfl
theorem q821 : (Jvm.Cond.code ({ cls := "java/lang/RuntimeException", name := "<init>", desc := "(Ljava/lang/String;Ljava/lang/Throwable;ZZ)V" } : Jvm.MethodName) prog_26_method_5_code (5 : Nat) (Option.none : Option Jvm.ClassFile.FieldType)) ∈ lw_all := lw_g (lw_at lw_m4 41 rfl) rfl
theorem q822 : (Jvm.Cond.methodLink "java/lang/RuntimeException" (16 : Nat) ({ cls := "java/lang/Exception", name := "<init>", desc := "(Ljava/lang/String;Ljava/lang/Throwable;ZZ)V" } : Jvm.MethodName)) ∈ lw_all := lw_g (lw_at lw_m4 42 rfl) rfl
theorem q1173 : (Jvm.Cond.instanceMethod ({ cls := "java/lang/RuntimeException", name := "<init>", desc := "()V" } : Jvm.MethodName)) ∈ lw_all := lw_g (lw_at lw_m5 153 rfl) rfl
theorem q1174 : (Jvm.Cond.code ({ cls := "java/lang/RuntimeException", name := "<init>", desc := "()V" } : Jvm.MethodName) prog_26_method_1_code (1 : Nat) (Option.none : Option Jvm.ClassFile.FieldType)) ∈ lw_all := lw_g (lw_at lw_m5 154 rfl) rfl
theorem q1175 : (Jvm.Cond.methodLink "java/lang/RuntimeException" (1 : Nat) ({ cls := "java/lang/Exception", name := "<init>", desc := "()V" } : Jvm.MethodName)) ∈ lw_all := lw_g (lw_at lw_m5 155 rfl) rfl

/-! java/util/NoSuchElementException -/
set_option maxRecDepth 100000
def RJ11 : String := "java/util/NoSuchElementException"
def TJ11 : u_T := fun k => match k with
  | 0 => ("java/lang/Throwable", "cause", "Ljava/lang/Throwable;", false)
  | 1 => ("java/lang/Throwable", "stackTrace", "[Ljava/lang/StackTraceElement;", false)
  | 2 => ("java/lang/Throwable", "suppressedExceptions", "Ljava/util/List;", false)
  | 3 => ("java/lang/Throwable", "detailMessage", "Ljava/lang/String;", false)
  | 4 => ("java/lang/Throwable", "backtrace", "Ljava/lang/Object;", false)
  | _ => ("java/lang/Throwable", "depth", "I", false)
def tyJ11 : Nat → FieldType := fun k => match k with
  | 0 => .object "java/lang/Throwable"
  | 1 => .array (.object "java/lang/StackTraceElement")
  | 2 => .object "java/util/List"
  | 3 => .object "java/lang/String"
  | 4 => .object "java/lang/Object"
  | _ => .int
abbrev wsJ110 : List Cond := u_ws RJ11 TJ11 6
theorem nmJ11 : ∀ a, a < 6 → ∀ b, b < 6 → a ≠ b → (TJ11 a).2.1 ≠ (TJ11 b).2.1 := by decide +kernel
theorem tyJ11_ok : ∀ k, k < 6 → parseFieldDescriptor (TJ11 k).2.2.1 = some (tyJ11 k) := by decide +kernel
abbrev cJ11_init : ByteArray := prog_39_method_1_code
def yJ11_init : MethodName := ⟨RJ11, "<init>", "()V"⟩
theorem q83 : (Jvm.Cond.initialized "java/util/NoSuchElementException") ∈ lw_all := lw_g (lw_at lw_m1 23 rfl) rfl
theorem q407 : (Jvm.Cond.selects "java/util/NoSuchElementException" ({ cls := "java/lang/Object", name := "getClass", desc := "()Ljava/lang/Class;" } : Jvm.MethodName) ({ cls := "java/lang/Object", name := "getClass", desc := "()Ljava/lang/Class;" } : Jvm.MethodName)) ∈ lw_all := lw_g (lw_at lw_m2 107 rfl) rfl
theorem q809 : (Jvm.Cond.selects "java/util/NoSuchElementException" ({ cls := "java/lang/Throwable", name := "fillInStackTrace", desc := "()Ljava/lang/Throwable;" } : Jvm.MethodName) ({ cls := "java/lang/Throwable", name := "fillInStackTrace", desc := "()Ljava/lang/Throwable;" } : Jvm.MethodName)) ∈ lw_all := lw_g (lw_at lw_m4 29 rfl) rfl
theorem q1161 : (Jvm.Cond.instantiable "java/util/NoSuchElementException" (6 : Nat)) ∈ lw_all := lw_g (lw_at lw_m5 141 rfl) rfl
theorem q1162 : (Jvm.Cond.castable "java/util/NoSuchElementException" "java/util/NoSuchElementException") ∈ lw_tbl := lw_at lw_m5 142 rfl
theorem q1163 : (Jvm.Cond.selects "java/util/NoSuchElementException" ({ cls := "java/lang/Throwable", name := "fillInStackTrace", desc := "(I)Ljava/lang/Throwable;" } : Jvm.MethodName) ({ cls := "java/lang/Throwable", name := "fillInStackTrace", desc := "(I)Ljava/lang/Throwable;" } : Jvm.MethodName)) ∈ lw_all := lw_g (lw_at lw_m5 143 rfl) rfl
theorem q1164 : (Jvm.Cond.lays "java/util/NoSuchElementException" "java/lang/Throwable" "cause" "Ljava/lang/Throwable;") ∈ lw_all := lw_g (lw_at lw_m5 144 rfl) rfl
theorem q1165 : (Jvm.Cond.lays "java/util/NoSuchElementException" "java/lang/Throwable" "stackTrace" "[Ljava/lang/StackTraceElement;") ∈ lw_all := lw_g (lw_at lw_m5 145 rfl) rfl
theorem q1166 : (Jvm.Cond.lays "java/util/NoSuchElementException" "java/lang/Throwable" "suppressedExceptions" "Ljava/util/List;") ∈ lw_all := lw_g (lw_at lw_m5 146 rfl) rfl
theorem q1167 : (Jvm.Cond.lays "java/util/NoSuchElementException" "java/lang/Throwable" "detailMessage" "Ljava/lang/String;") ∈ lw_all := lw_g (lw_at lw_m5 147 rfl) rfl
theorem q1168 : (Jvm.Cond.lays "java/util/NoSuchElementException" "java/lang/Throwable" "backtrace" "Ljava/lang/Object;") ∈ lw_all := lw_g (lw_at lw_m5 148 rfl) rfl
theorem q1170 : (Jvm.Cond.instanceMethod ({ cls := "java/util/NoSuchElementException", name := "<init>", desc := "()V" } : Jvm.MethodName)) ∈ lw_all := lw_g (lw_at lw_m5 150 rfl) rfl
theorem q1171 : (Jvm.Cond.code ({ cls := "java/util/NoSuchElementException", name := "<init>", desc := "()V" } : Jvm.MethodName) prog_39_method_1_code (1 : Nat) (Option.none : Option Jvm.ClassFile.FieldType)) ∈ lw_all := lw_g (lw_at lw_m5 151 rfl) rfl
theorem q1172 : (Jvm.Cond.methodLink "java/util/NoSuchElementException" (1 : Nat) ({ cls := "java/lang/RuntimeException", name := "<init>", desc := "()V" } : Jvm.MethodName)) ∈ lw_all := lw_g (lw_at lw_m5 152 rfl) rfl
theorem q1179 : (Jvm.Cond.lays "java/util/NoSuchElementException" "java/lang/Throwable" "depth" "I") ∈ lw_all := lw_g (lw_at lw_m5 159 rfl) rfl
theorem q1180 : (Jvm.Cond.superclass "java/util/NoSuchElementException" "java/lang/RuntimeException") ∈ lw_all := lw_g (lw_at lw_m5 160 rfl) rfl
theorem q1690 : (Jvm.Cond.castable "java/util/NoSuchElementException" "java/lang/Object") ∈ lw_tbl := lw_at lw_m7 190 rfl
theorem in_J11 : ∀ w ∈ wsJ110, w ∈ lw_all := lw_in wsJ110 [1164, 1165, 1166, 1167, 1168, 1179] (by decide +kernel) (by decide +kernel)

/-! java/lang/String -/
set_option maxRecDepth 100000
def RJ12 : String := "java/lang/String"
abbrev cJ12_indexOf : ByteArray := prog_27_method_79_code
def yJ12_indexOf : MethodName := ⟨RJ12, "indexOf", "(I)I"⟩
abbrev cJ12_indexOf_2 : ByteArray := prog_27_method_80_code
def yJ12_indexOf_2 : MethodName := ⟨RJ12, "indexOf", "(II)I"⟩
abbrev cJ12_isLatin1 : ByteArray := prog_27_method_154_code
def yJ12_isLatin1 : MethodName := ⟨RJ12, "isLatin1", "()Z"⟩
abbrev cJ12_length : ByteArray := prog_27_method_54_code
def yJ12_length : MethodName := ⟨RJ12, "length", "()I"⟩
abbrev cJ12_coder : ByteArray := prog_27_method_152_code
def yJ12_coder : MethodName := ⟨RJ12, "coder", "()B"⟩
abbrev cJ12_checkBoundsBeginEnd : ByteArray := prog_27_method_158_code
def yJ12_checkBoundsBeginEnd : MethodName := ⟨RJ12, "checkBoundsBeginEnd", "(III)V"⟩
abbrev cJ12_charAt : ByteArray := prog_27_method_56_code
def yJ12_charAt : MethodName := ⟨RJ12, "charAt", "(I)C"⟩
abbrev cJ12_checkIndex : ByteArray := prog_27_method_155_code
def yJ12_checkIndex : MethodName := ⟨RJ12, "checkIndex", "(II)V"⟩
abbrev cJ12_checkBoundsOffCount : ByteArray := prog_27_method_157_code
def yJ12_checkBoundsOffCount : MethodName := ⟨RJ12, "checkBoundsOffCount", "(III)I"⟩
theorem q85 : (Jvm.Cond.initialized "java/lang/String") ∈ lw_all := lw_g (lw_at lw_m1 25 rfl) rfl
theorem q660 : (Jvm.Cond.instanceMethod ({ cls := "java/lang/String", name := "indexOf", desc := "(I)I" } : Jvm.MethodName)) ∈ lw_all := lw_g (lw_at lw_m3 120 rfl) rfl
theorem q661 : (Jvm.Cond.selects "java/lang/String" ({ cls := "java/lang/String", name := "indexOf", desc := "(I)I" } : Jvm.MethodName) ({ cls := "java/lang/String", name := "indexOf", desc := "(I)I" } : Jvm.MethodName)) ∈ lw_all := lw_g (lw_at lw_m3 121 rfl) rfl
theorem q662 : (Jvm.Cond.code ({ cls := "java/lang/String", name := "indexOf", desc := "(I)I" } : Jvm.MethodName) prog_27_method_79_code (2 : Nat) (Option.some Jvm.ClassFile.FieldType.int)) ∈ lw_all := lw_g (lw_at lw_m3 122 rfl) rfl
theorem q663 : (Jvm.Cond.methodLink "java/lang/String" (633 : Nat) ({ cls := "java/lang/String", name := "indexOf", desc := "(II)I" } : Jvm.MethodName)) ∈ lw_all := lw_g (lw_at lw_m3 123 rfl) rfl
theorem q664 : (Jvm.Cond.instanceMethod ({ cls := "java/lang/String", name := "indexOf", desc := "(II)I" } : Jvm.MethodName)) ∈ lw_all := lw_g (lw_at lw_m3 124 rfl) rfl
theorem q665 : (Jvm.Cond.selects "java/lang/String" ({ cls := "java/lang/String", name := "indexOf", desc := "(II)I" } : Jvm.MethodName) ({ cls := "java/lang/String", name := "indexOf", desc := "(II)I" } : Jvm.MethodName)) ∈ lw_all := lw_g (lw_at lw_m3 125 rfl) rfl
theorem q666 : (Jvm.Cond.code ({ cls := "java/lang/String", name := "indexOf", desc := "(II)I" } : Jvm.MethodName) prog_27_method_80_code (3 : Nat) (Option.some Jvm.ClassFile.FieldType.int)) ∈ lw_all := lw_g (lw_at lw_m3 126 rfl) rfl
theorem q667 : (Jvm.Cond.methodLink "java/lang/String" (492 : Nat) ({ cls := "java/lang/String", name := "isLatin1", desc := "()Z" } : Jvm.MethodName)) ∈ lw_all := lw_g (lw_at lw_m3 127 rfl) rfl
theorem q668 : (Jvm.Cond.instanceMethod ({ cls := "java/lang/String", name := "isLatin1", desc := "()Z" } : Jvm.MethodName)) ∈ lw_all := lw_g (lw_at lw_m3 128 rfl) rfl
theorem q669 : (Jvm.Cond.selects "java/lang/String" ({ cls := "java/lang/String", name := "isLatin1", desc := "()Z" } : Jvm.MethodName) ({ cls := "java/lang/String", name := "isLatin1", desc := "()Z" } : Jvm.MethodName)) ∈ lw_all := lw_g (lw_at lw_m3 129 rfl) rfl
theorem q670 : (Jvm.Cond.code ({ cls := "java/lang/String", name := "isLatin1", desc := "()Z" } : Jvm.MethodName) prog_27_method_154_code (1 : Nat) (Option.some Jvm.ClassFile.FieldType.boolean)) ∈ lw_all := lw_g (lw_at lw_m3 130 rfl) rfl
theorem q671 : (Jvm.Cond.fieldLink "java/lang/String" (38 : Nat) "java/lang/String" "COMPACT_STRINGS" "Z") ∈ lw_all := lw_g (lw_at lw_m3 131 rfl) rfl
theorem q672 : (Jvm.Cond.laysStatic "java/lang/String" "COMPACT_STRINGS" "Z") ∈ lw_tbl := lw_at lw_m3 132 rfl
theorem q673 : (Jvm.Cond.methodLink "java/lang/String" (505 : Nat) ({ cls := "java/lang/String", name := "length", desc := "()I" } : Jvm.MethodName)) ∈ lw_all := lw_g (lw_at lw_m3 133 rfl) rfl
theorem q674 : (Jvm.Cond.instanceMethod ({ cls := "java/lang/String", name := "length", desc := "()I" } : Jvm.MethodName)) ∈ lw_all := lw_g (lw_at lw_m3 134 rfl) rfl
theorem q675 : (Jvm.Cond.selects "java/lang/String" ({ cls := "java/lang/String", name := "length", desc := "()I" } : Jvm.MethodName) ({ cls := "java/lang/String", name := "length", desc := "()I" } : Jvm.MethodName)) ∈ lw_all := lw_g (lw_at lw_m3 135 rfl) rfl
theorem q676 : (Jvm.Cond.code ({ cls := "java/lang/String", name := "length", desc := "()I" } : Jvm.MethodName) prog_27_method_54_code (1 : Nat) (Option.some Jvm.ClassFile.FieldType.int)) ∈ lw_all := lw_g (lw_at lw_m3 136 rfl) rfl
theorem q677 : (Jvm.Cond.methodLink "java/lang/String" (335 : Nat) ({ cls := "java/lang/String", name := "coder", desc := "()B" } : Jvm.MethodName)) ∈ lw_all := lw_g (lw_at lw_m3 137 rfl) rfl
theorem q678 : (Jvm.Cond.instanceMethod ({ cls := "java/lang/String", name := "coder", desc := "()B" } : Jvm.MethodName)) ∈ lw_all := lw_g (lw_at lw_m3 138 rfl) rfl
theorem q679 : (Jvm.Cond.selects "java/lang/String" ({ cls := "java/lang/String", name := "coder", desc := "()B" } : Jvm.MethodName) ({ cls := "java/lang/String", name := "coder", desc := "()B" } : Jvm.MethodName)) ∈ lw_all := lw_g (lw_at lw_m3 139 rfl) rfl
theorem q680 : (Jvm.Cond.code ({ cls := "java/lang/String", name := "coder", desc := "()B" } : Jvm.MethodName) prog_27_method_152_code (1 : Nat) (Option.some Jvm.ClassFile.FieldType.byte)) ∈ lw_all := lw_g (lw_at lw_m3 140 rfl) rfl
theorem q681 : (Jvm.Cond.methodLink "java/lang/String" (637 : Nat) ({ cls := "java/lang/StringLatin1", name := "indexOf", desc := "([BIII)I" } : Jvm.MethodName)) ∈ lw_all := lw_g (lw_at lw_m3 141 rfl) rfl
theorem q692 : (Jvm.Cond.methodLink "java/lang/String" (640 : Nat) ({ cls := "java/lang/StringUTF16", name := "indexOf", desc := "([BIII)I" } : Jvm.MethodName)) ∈ lw_all := lw_g (lw_at lw_m3 152 rfl) rfl
theorem q708 : (Jvm.Cond.static ({ cls := "java/lang/String", name := "checkBoundsBeginEnd", desc := "(III)V" } : Jvm.MethodName)) ∈ lw_all := lw_g (lw_at lw_m3 168 rfl) rfl
theorem q709 : (Jvm.Cond.code ({ cls := "java/lang/String", name := "checkBoundsBeginEnd", desc := "(III)V" } : Jvm.MethodName) prog_27_method_158_code (3 : Nat) (Option.none : Option Jvm.ClassFile.FieldType)) ∈ lw_all := lw_g (lw_at lw_m3 169 rfl) rfl
theorem q710 : (Jvm.Cond.fieldLink "java/lang/String" (1053 : Nat) "jdk/internal/util/Preconditions" "SIOOBE_FORMATTER" "Ljava/util/function/BiFunction;") ∈ lw_all := lw_g (lw_at lw_m3 170 rfl) rfl
theorem q712 : (Jvm.Cond.methodLink "java/lang/String" (1062 : Nat) ({ cls := "jdk/internal/util/Preconditions", name := "checkFromToIndex", desc := "(IIILjava/util/function/BiFunction;)I" } : Jvm.MethodName)) ∈ lw_all := lw_g (lw_at lw_m3 172 rfl) rfl
theorem q755 : (Jvm.Cond.instanceMethod ({ cls := "java/lang/String", name := "charAt", desc := "(I)C" } : Jvm.MethodName)) ∈ lw_all := lw_g (lw_at lw_m3 215 rfl) rfl
theorem q756 : (Jvm.Cond.selects "java/lang/String" ({ cls := "java/lang/String", name := "charAt", desc := "(I)C" } : Jvm.MethodName) ({ cls := "java/lang/String", name := "charAt", desc := "(I)C" } : Jvm.MethodName)) ∈ lw_all := lw_g (lw_at lw_m3 216 rfl) rfl
theorem q757 : (Jvm.Cond.code ({ cls := "java/lang/String", name := "charAt", desc := "(I)C" } : Jvm.MethodName) prog_27_method_56_code (2 : Nat) (Option.some Jvm.ClassFile.FieldType.char)) ∈ lw_all := lw_g (lw_at lw_m3 217 rfl) rfl
theorem q758 : (Jvm.Cond.methodLink "java/lang/String" (495 : Nat) ({ cls := "java/lang/StringLatin1", name := "charAt", desc := "([BI)C" } : Jvm.MethodName)) ∈ lw_all := lw_g (lw_at lw_m3 218 rfl) rfl
theorem q762 : (Jvm.Cond.static ({ cls := "java/lang/String", name := "checkIndex", desc := "(II)V" } : Jvm.MethodName)) ∈ lw_all := lw_g (lw_at lw_m3 222 rfl) rfl
theorem q763 : (Jvm.Cond.code ({ cls := "java/lang/String", name := "checkIndex", desc := "(II)V" } : Jvm.MethodName) prog_27_method_155_code (2 : Nat) (Option.none : Option Jvm.ClassFile.FieldType)) ∈ lw_all := lw_g (lw_at lw_m3 223 rfl) rfl
theorem q764 : (Jvm.Cond.methodLink "java/lang/String" (1059 : Nat) ({ cls := "jdk/internal/util/Preconditions", name := "checkIndex", desc := "(IILjava/util/function/BiFunction;)I" } : Jvm.MethodName)) ∈ lw_all := lw_g (lw_at lw_m3 224 rfl) rfl
theorem q765 : (Jvm.Cond.methodLink "java/lang/String" (498 : Nat) ({ cls := "java/lang/StringUTF16", name := "charAt", desc := "([BI)C" } : Jvm.MethodName)) ∈ lw_all := lw_g (lw_at lw_m3 225 rfl) rfl
theorem q997 : (Jvm.Cond.static ({ cls := "java/lang/String", name := "checkBoundsOffCount", desc := "(III)I" } : Jvm.MethodName)) ∈ lw_all := lw_g (lw_at lw_m4 217 rfl) rfl
theorem q998 : (Jvm.Cond.code ({ cls := "java/lang/String", name := "checkBoundsOffCount", desc := "(III)I" } : Jvm.MethodName) prog_27_method_157_code (3 : Nat) (Option.some Jvm.ClassFile.FieldType.int)) ∈ lw_all := lw_g (lw_at lw_m4 218 rfl) rfl
theorem q999 : (Jvm.Cond.methodLink "java/lang/String" (1065 : Nat) ({ cls := "jdk/internal/util/Preconditions", name := "checkFromIndexSize", desc := "(IIILjava/util/function/BiFunction;)I" } : Jvm.MethodName)) ∈ lw_all := lw_g (lw_at lw_m4 219 rfl) rfl
theorem q1699 : (Jvm.Cond.castable "java/lang/String" "java/lang/Object") ∈ lw_tbl := lw_at lw_m7 199 rfl
theorem q1708 : (Jvm.Cond.fieldLink "java/lang/String" (15 : Nat) "java/lang/String" "coder" "B") ∈ lw_all := lw_g (lw_at lw_m7 208 rfl) rfl
theorem q1709 : (Jvm.Cond.fieldLink "java/lang/String" (9 : Nat) "java/lang/String" "value" "[B") ∈ lw_all := lw_g (lw_at lw_m7 209 rfl) rfl

/-! java/lang/StringLatin1 -/
set_option maxRecDepth 100000
def RJ13 : String := "java/lang/StringLatin1"
abbrev cJ13_indexOf : ByteArray := prog_29_method_22_code
def yJ13_indexOf : MethodName := ⟨RJ13, "indexOf", "([BIII)I"⟩
abbrev cJ13_canEncode : ByteArray := prog_29_method_4_code
def yJ13_canEncode : MethodName := ⟨RJ13, "canEncode", "(I)Z"⟩
abbrev cJ13_indexOfChar : ByteArray := prog_29_method_23_code
def yJ13_indexOfChar : MethodName := ⟨RJ13, "indexOfChar", "([BIII)I"⟩
abbrev cJ13_charAt : ByteArray := prog_29_method_2_code
def yJ13_charAt : MethodName := ⟨RJ13, "charAt", "([BI)C"⟩
abbrev cJ13_canEncode_2 : ByteArray := prog_29_method_3_code
def yJ13_canEncode_2 : MethodName := ⟨RJ13, "canEncode", "(C)Z"⟩
abbrev cJ13_inflate : ByteArray := prog_29_method_50_code
def yJ13_inflate : MethodName := ⟨RJ13, "inflate", "([BI[BII)V"⟩
theorem q86 : (Jvm.Cond.initialized "java/lang/StringLatin1") ∈ lw_all := lw_g (lw_at lw_m1 26 rfl) rfl
theorem q682 : (Jvm.Cond.static ({ cls := "java/lang/StringLatin1", name := "indexOf", desc := "([BIII)I" } : Jvm.MethodName)) ∈ lw_all := lw_g (lw_at lw_m3 142 rfl) rfl
theorem q683 : (Jvm.Cond.code ({ cls := "java/lang/StringLatin1", name := "indexOf", desc := "([BIII)I" } : Jvm.MethodName) prog_29_method_22_code (4 : Nat) (Option.some Jvm.ClassFile.FieldType.int)) ∈ lw_all := lw_g (lw_at lw_m3 143 rfl) rfl
theorem q684 : (Jvm.Cond.methodLink "java/lang/StringLatin1" (88 : Nat) ({ cls := "java/lang/StringLatin1", name := "canEncode", desc := "(I)Z" } : Jvm.MethodName)) ∈ lw_all := lw_g (lw_at lw_m3 144 rfl) rfl
theorem q685 : (Jvm.Cond.static ({ cls := "java/lang/StringLatin1", name := "canEncode", desc := "(I)Z" } : Jvm.MethodName)) ∈ lw_all := lw_g (lw_at lw_m3 145 rfl) rfl
theorem q686 : (Jvm.Cond.code ({ cls := "java/lang/StringLatin1", name := "canEncode", desc := "(I)Z" } : Jvm.MethodName) prog_29_method_4_code (1 : Nat) (Option.some Jvm.ClassFile.FieldType.boolean)) ∈ lw_all := lw_g (lw_at lw_m3 146 rfl) rfl
theorem q687 : (Jvm.Cond.methodLink "java/lang/StringLatin1" (92 : Nat) ({ cls := "java/lang/Math", name := "max", desc := "(II)I" } : Jvm.MethodName)) ∈ lw_all := lw_g (lw_at lw_m3 147 rfl) rfl
theorem q688 : (Jvm.Cond.methodLink "java/lang/StringLatin1" (38 : Nat) ({ cls := "java/lang/Math", name := "min", desc := "(II)I" } : Jvm.MethodName)) ∈ lw_all := lw_g (lw_at lw_m3 148 rfl) rfl
theorem q689 : (Jvm.Cond.methodLink "java/lang/StringLatin1" (95 : Nat) ({ cls := "java/lang/StringLatin1", name := "indexOfChar", desc := "([BIII)I" } : Jvm.MethodName)) ∈ lw_all := lw_g (lw_at lw_m3 149 rfl) rfl
theorem q690 : (Jvm.Cond.static ({ cls := "java/lang/StringLatin1", name := "indexOfChar", desc := "([BIII)I" } : Jvm.MethodName)) ∈ lw_all := lw_g (lw_at lw_m3 150 rfl) rfl
theorem q691 : (Jvm.Cond.code ({ cls := "java/lang/StringLatin1", name := "indexOfChar", desc := "([BIII)I" } : Jvm.MethodName) prog_29_method_23_code (6 : Nat) (Option.some Jvm.ClassFile.FieldType.int)) ∈ lw_all := lw_g (lw_at lw_m3 151 rfl) rfl
theorem q759 : (Jvm.Cond.static ({ cls := "java/lang/StringLatin1", name := "charAt", desc := "([BI)C" } : Jvm.MethodName)) ∈ lw_all := lw_g (lw_at lw_m3 219 rfl) rfl
theorem q760 : (Jvm.Cond.code ({ cls := "java/lang/StringLatin1", name := "charAt", desc := "([BI)C" } : Jvm.MethodName) prog_29_method_2_code (2 : Nat) (Option.some Jvm.ClassFile.FieldType.char)) ∈ lw_all := lw_g (lw_at lw_m3 220 rfl) rfl
theorem q761 : (Jvm.Cond.methodLink "java/lang/StringLatin1" (9 : Nat) ({ cls := "java/lang/String", name := "checkIndex", desc := "(II)V" } : Jvm.MethodName)) ∈ lw_all := lw_g (lw_at lw_m3 221 rfl) rfl
theorem q981 : (Jvm.Cond.static ({ cls := "java/lang/StringLatin1", name := "canEncode", desc := "(C)Z" } : Jvm.MethodName)) ∈ lw_all := lw_g (lw_at lw_m4 201 rfl) rfl
theorem q982 : (Jvm.Cond.code ({ cls := "java/lang/StringLatin1", name := "canEncode", desc := "(C)Z" } : Jvm.MethodName) prog_29_method_3_code (1 : Nat) (Option.some Jvm.ClassFile.FieldType.boolean)) ∈ lw_all := lw_g (lw_at lw_m4 202 rfl) rfl
theorem q988 : (Jvm.Cond.static ({ cls := "java/lang/StringLatin1", name := "inflate", desc := "([BI[BII)V" } : Jvm.MethodName)) ∈ lw_all := lw_g (lw_at lw_m4 208 rfl) rfl
theorem q989 : (Jvm.Cond.code ({ cls := "java/lang/StringLatin1", name := "inflate", desc := "([BI[BII)V" } : Jvm.MethodName) prog_29_method_50_code (5 : Nat) (Option.none : Option Jvm.ClassFile.FieldType)) ∈ lw_all := lw_g (lw_at lw_m4 209 rfl) rfl
theorem q990 : (Jvm.Cond.methodLink "java/lang/StringLatin1" (240 : Nat) ({ cls := "java/lang/StringUTF16", name := "inflate", desc := "([BI[BII)V" } : Jvm.MethodName)) ∈ lw_all := lw_g (lw_at lw_m4 210 rfl) rfl

/-! java/lang/StringUTF16 -/
set_option maxRecDepth 100000
def RJ14 : String := "java/lang/StringUTF16"
abbrev cJ14_indexOf : ByteArray := prog_30_method_40_code
def yJ14_indexOf : MethodName := ⟨RJ14, "indexOf", "([BIII)I"⟩
abbrev cJ14_indexOfChar : ByteArray := prog_30_method_47_code
def yJ14_indexOfChar : MethodName := ⟨RJ14, "indexOfChar", "([BIII)I"⟩
abbrev cJ14_checkBoundsBeginEnd : ByteArray := prog_30_method_93_code
def yJ14_checkBoundsBeginEnd : MethodName := ⟨RJ14, "checkBoundsBeginEnd", "(II[B)V"⟩
abbrev cJ14_length : ByteArray := prog_30_method_6_code
def yJ14_length : MethodName := ⟨RJ14, "length", "([B)I"⟩
abbrev cJ14_indexOfCharUnsafe : ByteArray := prog_30_method_48_code
def yJ14_indexOfCharUnsafe : MethodName := ⟨RJ14, "indexOfCharUnsafe", "([BIII)I"⟩
abbrev cJ14_getChar : ByteArray := prog_30_method_5_code
def yJ14_getChar : MethodName := ⟨RJ14, "getChar", "([BI)C"⟩
abbrev cJ14_indexOfSupplementary : ByteArray := prog_30_method_49_code
def yJ14_indexOfSupplementary : MethodName := ⟨RJ14, "indexOfSupplementary", "([BIII)I"⟩
abbrev cJ14_charAt : ByteArray := prog_30_method_83_code
def yJ14_charAt : MethodName := ⟨RJ14, "charAt", "([BI)C"⟩
abbrev cJ14_checkIndex : ByteArray := prog_30_method_91_code
def yJ14_checkIndex : MethodName := ⟨RJ14, "checkIndex", "(I[B)V"⟩
abbrev cJ14_newBytesFor : ByteArray := prog_30_method_2_code
def yJ14_newBytesFor : MethodName := ⟨RJ14, "newBytesFor", "(I)[B"⟩
abbrev cJ14_newBytesLength : ByteArray := prog_30_method_3_code
def yJ14_newBytesLength : MethodName := ⟨RJ14, "newBytesLength", "(I)I"⟩
abbrev cJ14_inflate : ByteArray := prog_30_method_86_code
def yJ14_inflate : MethodName := ⟨RJ14, "inflate", "([BI[BII)V"⟩
abbrev cJ14_checkBoundsOffCount : ByteArray := prog_30_method_94_code
def yJ14_checkBoundsOffCount : MethodName := ⟨RJ14, "checkBoundsOffCount", "(II[B)V"⟩
abbrev cJ14_putChar : ByteArray := prog_30_method_4_code
def yJ14_putChar : MethodName := ⟨RJ14, "putChar", "([BII)V"⟩
abbrev cJ14_putCharSB : ByteArray := prog_30_method_71_code
def yJ14_putCharSB : MethodName := ⟨RJ14, "putCharSB", "([BII)V"⟩
theorem q87 : (Jvm.Cond.initialized "java/lang/StringUTF16") ∈ lw_all := lw_g (lw_at lw_m1 27 rfl) rfl
theorem q693 : (Jvm.Cond.static ({ cls := "java/lang/StringUTF16", name := "indexOf", desc := "([BIII)I" } : Jvm.MethodName)) ∈ lw_all := lw_g (lw_at lw_m3 153 rfl) rfl
theorem q694 : (Jvm.Cond.code ({ cls := "java/lang/StringUTF16", name := "indexOf", desc := "([BIII)I" } : Jvm.MethodName) prog_30_method_40_code (4 : Nat) (Option.some Jvm.ClassFile.FieldType.int)) ∈ lw_all := lw_g (lw_at lw_m3 154 rfl) rfl
theorem q695 : (Jvm.Cond.methodLink "java/lang/StringUTF16" (224 : Nat) ({ cls := "java/lang/Math", name := "max", desc := "(II)I" } : Jvm.MethodName)) ∈ lw_all := lw_g (lw_at lw_m3 155 rfl) rfl
theorem q696 : (Jvm.Cond.methodLink "java/lang/StringUTF16" (183 : Nat) ({ cls := "java/lang/Math", name := "min", desc := "(II)I" } : Jvm.MethodName)) ∈ lw_all := lw_g (lw_at lw_m3 156 rfl) rfl
theorem q697 : (Jvm.Cond.constant "java/lang/StringUTF16" (227 : Nat) (65536 : Int32)) ∈ lw_all := lw_g (lw_at lw_m3 157 rfl) rfl
theorem q698 : (Jvm.Cond.methodLink "java/lang/StringUTF16" (228 : Nat) ({ cls := "java/lang/StringUTF16", name := "indexOfChar", desc := "([BIII)I" } : Jvm.MethodName)) ∈ lw_all := lw_g (lw_at lw_m3 158 rfl) rfl
theorem q699 : (Jvm.Cond.static ({ cls := "java/lang/StringUTF16", name := "indexOfChar", desc := "([BIII)I" } : Jvm.MethodName)) ∈ lw_all := lw_g (lw_at lw_m3 159 rfl) rfl
theorem q700 : (Jvm.Cond.code ({ cls := "java/lang/StringUTF16", name := "indexOfChar", desc := "([BIII)I" } : Jvm.MethodName) prog_30_method_47_code (4 : Nat) (Option.some Jvm.ClassFile.FieldType.int)) ∈ lw_all := lw_g (lw_at lw_m3 160 rfl) rfl
theorem q701 : (Jvm.Cond.methodLink "java/lang/StringUTF16" (96 : Nat) ({ cls := "java/lang/StringUTF16", name := "checkBoundsBeginEnd", desc := "(II[B)V" } : Jvm.MethodName)) ∈ lw_all := lw_g (lw_at lw_m3 161 rfl) rfl
theorem q702 : (Jvm.Cond.static ({ cls := "java/lang/StringUTF16", name := "checkBoundsBeginEnd", desc := "(II[B)V" } : Jvm.MethodName)) ∈ lw_all := lw_g (lw_at lw_m3 162 rfl) rfl
theorem q703 : (Jvm.Cond.code ({ cls := "java/lang/StringUTF16", name := "checkBoundsBeginEnd", desc := "(II[B)V" } : Jvm.MethodName) prog_30_method_93_code (3 : Nat) (Option.none : Option Jvm.ClassFile.FieldType)) ∈ lw_all := lw_g (lw_at lw_m3 163 rfl) rfl
theorem q704 : (Jvm.Cond.methodLink "java/lang/StringUTF16" (48 : Nat) ({ cls := "java/lang/StringUTF16", name := "length", desc := "([B)I" } : Jvm.MethodName)) ∈ lw_all := lw_g (lw_at lw_m3 164 rfl) rfl
theorem q705 : (Jvm.Cond.static ({ cls := "java/lang/StringUTF16", name := "length", desc := "([B)I" } : Jvm.MethodName)) ∈ lw_all := lw_g (lw_at lw_m3 165 rfl) rfl
theorem q706 : (Jvm.Cond.code ({ cls := "java/lang/StringUTF16", name := "length", desc := "([B)I" } : Jvm.MethodName) prog_30_method_6_code (1 : Nat) (Option.some Jvm.ClassFile.FieldType.int)) ∈ lw_all := lw_g (lw_at lw_m3 166 rfl) rfl
theorem q707 : (Jvm.Cond.methodLink "java/lang/StringUTF16" (241 : Nat) ({ cls := "java/lang/String", name := "checkBoundsBeginEnd", desc := "(III)V" } : Jvm.MethodName)) ∈ lw_all := lw_g (lw_at lw_m3 167 rfl) rfl
theorem q715 : (Jvm.Cond.methodLink "java/lang/StringUTF16" (244 : Nat) ({ cls := "java/lang/StringUTF16", name := "indexOfCharUnsafe", desc := "([BIII)I" } : Jvm.MethodName)) ∈ lw_all := lw_g (lw_at lw_m3 175 rfl) rfl
theorem q716 : (Jvm.Cond.static ({ cls := "java/lang/StringUTF16", name := "indexOfCharUnsafe", desc := "([BIII)I" } : Jvm.MethodName)) ∈ lw_all := lw_g (lw_at lw_m3 176 rfl) rfl
theorem q717 : (Jvm.Cond.code ({ cls := "java/lang/StringUTF16", name := "indexOfCharUnsafe", desc := "([BIII)I" } : Jvm.MethodName) prog_30_method_48_code (5 : Nat) (Option.some Jvm.ClassFile.FieldType.int)) ∈ lw_all := lw_g (lw_at lw_m3 177 rfl) rfl
theorem q718 : (Jvm.Cond.methodLink "java/lang/StringUTF16" (71 : Nat) ({ cls := "java/lang/StringUTF16", name := "getChar", desc := "([BI)C" } : Jvm.MethodName)) ∈ lw_all := lw_g (lw_at lw_m3 178 rfl) rfl
theorem q719 : (Jvm.Cond.static ({ cls := "java/lang/StringUTF16", name := "getChar", desc := "([BI)C" } : Jvm.MethodName)) ∈ lw_all := lw_g (lw_at lw_m3 179 rfl) rfl
theorem q720 : (Jvm.Cond.code ({ cls := "java/lang/StringUTF16", name := "getChar", desc := "([BI)C" } : Jvm.MethodName) prog_30_method_5_code (2 : Nat) (Option.some Jvm.ClassFile.FieldType.char)) ∈ lw_all := lw_g (lw_at lw_m3 180 rfl) rfl
theorem q721 : (Jvm.Cond.fieldLink "java/lang/StringUTF16" (44 : Nat) "java/lang/StringUTF16" "$assertionsDisabled" "Z") ∈ lw_all := lw_g (lw_at lw_m3 181 rfl) rfl
theorem q722 : (Jvm.Cond.laysStatic "java/lang/StringUTF16" "$assertionsDisabled" "Z") ∈ lw_tbl := lw_at lw_m3 182 rfl
theorem q723 : (Jvm.Cond.fieldLink "java/lang/StringUTF16" (59 : Nat) "java/lang/StringUTF16" "HI_BYTE_SHIFT" "I") ∈ lw_all := lw_g (lw_at lw_m3 183 rfl) rfl
theorem q724 : (Jvm.Cond.laysStatic "java/lang/StringUTF16" "HI_BYTE_SHIFT" "I") ∈ lw_tbl := lw_at lw_m3 184 rfl
theorem q725 : (Jvm.Cond.fieldLink "java/lang/StringUTF16" (63 : Nat) "java/lang/StringUTF16" "LO_BYTE_SHIFT" "I") ∈ lw_all := lw_g (lw_at lw_m3 185 rfl) rfl
theorem q726 : (Jvm.Cond.laysStatic "java/lang/StringUTF16" "LO_BYTE_SHIFT" "I") ∈ lw_tbl := lw_at lw_m3 186 rfl
theorem q727 : (Jvm.Cond.methodLink "java/lang/StringUTF16" (232 : Nat) ({ cls := "java/lang/StringUTF16", name := "indexOfSupplementary", desc := "([BIII)I" } : Jvm.MethodName)) ∈ lw_all := lw_g (lw_at lw_m3 187 rfl) rfl
theorem q728 : (Jvm.Cond.static ({ cls := "java/lang/StringUTF16", name := "indexOfSupplementary", desc := "([BIII)I" } : Jvm.MethodName)) ∈ lw_all := lw_g (lw_at lw_m3 188 rfl) rfl
theorem q729 : (Jvm.Cond.code ({ cls := "java/lang/StringUTF16", name := "indexOfSupplementary", desc := "([BIII)I" } : Jvm.MethodName) prog_30_method_49_code (7 : Nat) (Option.some Jvm.ClassFile.FieldType.int)) ∈ lw_all := lw_g (lw_at lw_m3 189 rfl) rfl
theorem q730 : (Jvm.Cond.methodLink "java/lang/StringUTF16" (164 : Nat) ({ cls := "java/lang/Character", name := "isValidCodePoint", desc := "(I)Z" } : Jvm.MethodName)) ∈ lw_all := lw_g (lw_at lw_m3 190 rfl) rfl
theorem q733 : (Jvm.Cond.methodLink "java/lang/StringUTF16" (157 : Nat) ({ cls := "java/lang/Character", name := "highSurrogate", desc := "(I)C" } : Jvm.MethodName)) ∈ lw_all := lw_g (lw_at lw_m3 193 rfl) rfl
theorem q737 : (Jvm.Cond.methodLink "java/lang/StringUTF16" (161 : Nat) ({ cls := "java/lang/Character", name := "lowSurrogate", desc := "(I)C" } : Jvm.MethodName)) ∈ lw_all := lw_g (lw_at lw_m3 197 rfl) rfl
theorem q766 : (Jvm.Cond.static ({ cls := "java/lang/StringUTF16", name := "charAt", desc := "([BI)C" } : Jvm.MethodName)) ∈ lw_all := lw_g (lw_at lw_m3 226 rfl) rfl
theorem q767 : (Jvm.Cond.code ({ cls := "java/lang/StringUTF16", name := "charAt", desc := "([BI)C" } : Jvm.MethodName) prog_30_method_83_code (2 : Nat) (Option.some Jvm.ClassFile.FieldType.char)) ∈ lw_all := lw_g (lw_at lw_m3 227 rfl) rfl
theorem q768 : (Jvm.Cond.methodLink "java/lang/StringUTF16" (67 : Nat) ({ cls := "java/lang/StringUTF16", name := "checkIndex", desc := "(I[B)V" } : Jvm.MethodName)) ∈ lw_all := lw_g (lw_at lw_m3 228 rfl) rfl
theorem q769 : (Jvm.Cond.static ({ cls := "java/lang/StringUTF16", name := "checkIndex", desc := "(I[B)V" } : Jvm.MethodName)) ∈ lw_all := lw_g (lw_at lw_m3 229 rfl) rfl
theorem q770 : (Jvm.Cond.code ({ cls := "java/lang/StringUTF16", name := "checkIndex", desc := "(I[B)V" } : Jvm.MethodName) prog_30_method_91_code (2 : Nat) (Option.none : Option Jvm.ClassFile.FieldType)) ∈ lw_all := lw_g (lw_at lw_m3 230 rfl) rfl
theorem q771 : (Jvm.Cond.methodLink "java/lang/StringUTF16" (414 : Nat) ({ cls := "java/lang/String", name := "checkIndex", desc := "(II)V" } : Jvm.MethodName)) ∈ lw_all := lw_g (lw_at lw_m3 231 rfl) rfl
theorem q918 : (Jvm.Cond.static ({ cls := "java/lang/StringUTF16", name := "newBytesFor", desc := "(I)[B" } : Jvm.MethodName)) ∈ lw_all := lw_g (lw_at lw_m4 138 rfl) rfl
theorem q919 : (Jvm.Cond.code ({ cls := "java/lang/StringUTF16", name := "newBytesFor", desc := "(I)[B" } : Jvm.MethodName) prog_30_method_2_code (1 : Nat) (Option.some (Jvm.ClassFile.FieldType.array Jvm.ClassFile.FieldType.byte))) ∈ lw_all := lw_g (lw_at lw_m4 139 rfl) rfl
theorem q920 : (Jvm.Cond.methodLink "java/lang/StringUTF16" (11 : Nat) ({ cls := "java/lang/StringUTF16", name := "newBytesLength", desc := "(I)I" } : Jvm.MethodName)) ∈ lw_all := lw_g (lw_at lw_m4 140 rfl) rfl
theorem q921 : (Jvm.Cond.static ({ cls := "java/lang/StringUTF16", name := "newBytesLength", desc := "(I)I" } : Jvm.MethodName)) ∈ lw_all := lw_g (lw_at lw_m4 141 rfl) rfl
theorem q922 : (Jvm.Cond.code ({ cls := "java/lang/StringUTF16", name := "newBytesLength", desc := "(I)I" } : Jvm.MethodName) prog_30_method_3_code (1 : Nat) (Option.some Jvm.ClassFile.FieldType.int)) ∈ lw_all := lw_g (lw_at lw_m4 142 rfl) rfl
theorem q923 : (Jvm.Cond.constant "java/lang/StringUTF16" (20 : Nat) (1073741823 : Int32)) ∈ lw_all := lw_g (lw_at lw_m4 143 rfl) rfl
theorem q991 : (Jvm.Cond.static ({ cls := "java/lang/StringUTF16", name := "inflate", desc := "([BI[BII)V" } : Jvm.MethodName)) ∈ lw_all := lw_g (lw_at lw_m4 211 rfl) rfl
theorem q992 : (Jvm.Cond.code ({ cls := "java/lang/StringUTF16", name := "inflate", desc := "([BI[BII)V" } : Jvm.MethodName) prog_30_method_86_code (6 : Nat) (Option.none : Option Jvm.ClassFile.FieldType)) ∈ lw_all := lw_g (lw_at lw_m4 212 rfl) rfl
theorem q993 : (Jvm.Cond.methodLink "java/lang/StringUTF16" (173 : Nat) ({ cls := "java/lang/StringUTF16", name := "checkBoundsOffCount", desc := "(II[B)V" } : Jvm.MethodName)) ∈ lw_all := lw_g (lw_at lw_m4 213 rfl) rfl
theorem q994 : (Jvm.Cond.static ({ cls := "java/lang/StringUTF16", name := "checkBoundsOffCount", desc := "(II[B)V" } : Jvm.MethodName)) ∈ lw_all := lw_g (lw_at lw_m4 214 rfl) rfl
theorem q995 : (Jvm.Cond.code ({ cls := "java/lang/StringUTF16", name := "checkBoundsOffCount", desc := "(II[B)V" } : Jvm.MethodName) prog_30_method_94_code (3 : Nat) (Option.none : Option Jvm.ClassFile.FieldType)) ∈ lw_all := lw_g (lw_at lw_m4 215 rfl) rfl
theorem q996 : (Jvm.Cond.methodLink "java/lang/StringUTF16" (419 : Nat) ({ cls := "java/lang/String", name := "checkBoundsOffCount", desc := "(III)I" } : Jvm.MethodName)) ∈ lw_all := lw_g (lw_at lw_m4 216 rfl) rfl
theorem q1002 : (Jvm.Cond.methodLink "java/lang/StringUTF16" (111 : Nat) ({ cls := "java/lang/StringUTF16", name := "putChar", desc := "([BII)V" } : Jvm.MethodName)) ∈ lw_all := lw_g (lw_at lw_m4 222 rfl) rfl
theorem q1003 : (Jvm.Cond.static ({ cls := "java/lang/StringUTF16", name := "putChar", desc := "([BII)V" } : Jvm.MethodName)) ∈ lw_all := lw_g (lw_at lw_m4 223 rfl) rfl
theorem q1004 : (Jvm.Cond.code ({ cls := "java/lang/StringUTF16", name := "putChar", desc := "([BII)V" } : Jvm.MethodName) prog_30_method_4_code (3 : Nat) (Option.none : Option Jvm.ClassFile.FieldType)) ∈ lw_all := lw_g (lw_at lw_m4 224 rfl) rfl
theorem q1006 : (Jvm.Cond.static ({ cls := "java/lang/StringUTF16", name := "putCharSB", desc := "([BII)V" } : Jvm.MethodName)) ∈ lw_all := lw_g (lw_at lw_m4 226 rfl) rfl
theorem q1007 : (Jvm.Cond.code ({ cls := "java/lang/StringUTF16", name := "putCharSB", desc := "([BII)V" } : Jvm.MethodName) prog_30_method_71_code (3 : Nat) (Option.none : Option Jvm.ClassFile.FieldType)) ∈ lw_all := lw_g (lw_at lw_m4 227 rfl) rfl

/-! java/lang/Character -/
set_option maxRecDepth 100000
def RJ15 : String := "java/lang/Character"
abbrev cJ15_isValidCodePoint : ByteArray := prog_21_method_11_code
def yJ15_isValidCodePoint : MethodName := ⟨RJ15, "isValidCodePoint", "(I)Z"⟩
abbrev cJ15_highSurrogate : ByteArray := prog_21_method_28_code
def yJ15_highSurrogate : MethodName := ⟨RJ15, "highSurrogate", "(I)C"⟩
abbrev cJ15_lowSurrogate : ByteArray := prog_21_method_29_code
def yJ15_lowSurrogate : MethodName := ⟨RJ15, "lowSurrogate", "(I)C"⟩
theorem q88 : (Jvm.Cond.initialized "java/lang/Character") ∈ lw_all := lw_g (lw_at lw_m1 28 rfl) rfl
theorem q731 : (Jvm.Cond.static ({ cls := "java/lang/Character", name := "isValidCodePoint", desc := "(I)Z" } : Jvm.MethodName)) ∈ lw_all := lw_g (lw_at lw_m3 191 rfl) rfl
theorem q732 : (Jvm.Cond.code ({ cls := "java/lang/Character", name := "isValidCodePoint", desc := "(I)Z" } : Jvm.MethodName) prog_21_method_11_code (2 : Nat) (Option.some Jvm.ClassFile.FieldType.boolean)) ∈ lw_all := lw_g (lw_at lw_m3 192 rfl) rfl
theorem q734 : (Jvm.Cond.static ({ cls := "java/lang/Character", name := "highSurrogate", desc := "(I)C" } : Jvm.MethodName)) ∈ lw_all := lw_g (lw_at lw_m3 194 rfl) rfl
theorem q735 : (Jvm.Cond.code ({ cls := "java/lang/Character", name := "highSurrogate", desc := "(I)C" } : Jvm.MethodName) prog_21_method_28_code (1 : Nat) (Option.some Jvm.ClassFile.FieldType.char)) ∈ lw_all := lw_g (lw_at lw_m3 195 rfl) rfl
theorem q736 : (Jvm.Cond.constant "java/lang/Character" (110 : Nat) (55232 : Int32)) ∈ lw_all := lw_g (lw_at lw_m3 196 rfl) rfl
theorem q738 : (Jvm.Cond.static ({ cls := "java/lang/Character", name := "lowSurrogate", desc := "(I)C" } : Jvm.MethodName)) ∈ lw_all := lw_g (lw_at lw_m3 198 rfl) rfl
theorem q739 : (Jvm.Cond.code ({ cls := "java/lang/Character", name := "lowSurrogate", desc := "(I)C" } : Jvm.MethodName) prog_21_method_29_code (1 : Nat) (Option.some Jvm.ClassFile.FieldType.char)) ∈ lw_all := lw_g (lw_at lw_m3 199 rfl) rfl
theorem q740 : (Jvm.Cond.constant "java/lang/Character" (76 : Nat) (56320 : Int32)) ∈ lw_all := lw_g (lw_at lw_m3 200 rfl) rfl

/-! java/lang/AbstractStringBuilder -/
set_option maxRecDepth 100000
def RJ16 : String := "java/lang/AbstractStringBuilder"
abbrev cJ16_init : ByteArray := prog_20_method_2_code
def yJ16_init : MethodName := ⟨RJ16, "<init>", "(I)V"⟩
abbrev cJ16_append : ByteArray := prog_20_method_31_code
def yJ16_append : MethodName := ⟨RJ16, "append", "(C)Ljava/lang/AbstractStringBuilder;"⟩
abbrev cJ16_ensureCapacityInternal : ByteArray := prog_20_method_9_code
def yJ16_ensureCapacityInternal : MethodName := ⟨RJ16, "ensureCapacityInternal", "(I)V"⟩
abbrev cJ16_newCapacity : ByteArray := prog_20_method_10_code
def yJ16_newCapacity : MethodName := ⟨RJ16, "newCapacity", "(I)I"⟩
abbrev cJ16_isLatin1 : ByteArray := prog_20_method_68_code
def yJ16_isLatin1 : MethodName := ⟨RJ16, "isLatin1", "()Z"⟩
abbrev cJ16_inflate : ByteArray := prog_20_method_11_code
def yJ16_inflate : MethodName := ⟨RJ16, "inflate", "()V"⟩
abbrev cJ16_charAt : ByteArray := prog_20_method_14_code
def yJ16_charAt : MethodName := ⟨RJ16, "charAt", "(I)C"⟩
theorem q94 : (Jvm.Cond.initialized "java/lang/AbstractStringBuilder") ∈ lw_all := lw_g (lw_at lw_m1 34 rfl) rfl
theorem q913 : (Jvm.Cond.instanceMethod ({ cls := "java/lang/AbstractStringBuilder", name := "<init>", desc := "(I)V" } : Jvm.MethodName)) ∈ lw_all := lw_g (lw_at lw_m4 133 rfl) rfl
theorem q914 : (Jvm.Cond.code ({ cls := "java/lang/AbstractStringBuilder", name := "<init>", desc := "(I)V" } : Jvm.MethodName) prog_20_method_2_code (2 : Nat) (Option.none : Option Jvm.ClassFile.FieldType)) ∈ lw_all := lw_g (lw_at lw_m4 134 rfl) rfl
theorem q915 : (Jvm.Cond.methodLink "java/lang/AbstractStringBuilder" (3 : Nat) ({ cls := "java/lang/Object", name := "<init>", desc := "()V" } : Jvm.MethodName)) ∈ lw_all := lw_g (lw_at lw_m4 135 rfl) rfl
theorem q916 : (Jvm.Cond.fieldLink "java/lang/AbstractStringBuilder" (18 : Nat) "java/lang/String" "COMPACT_STRINGS" "Z") ∈ lw_all := lw_g (lw_at lw_m4 136 rfl) rfl
theorem q917 : (Jvm.Cond.methodLink "java/lang/AbstractStringBuilder" (26 : Nat) ({ cls := "java/lang/StringUTF16", name := "newBytesFor", desc := "(I)[B" } : Jvm.MethodName)) ∈ lw_all := lw_g (lw_at lw_m4 137 rfl) rfl
theorem q924 : (Jvm.Cond.fieldLink "java/lang/AbstractStringBuilder" (15 : Nat) "java/lang/AbstractStringBuilder" "value" "[B") ∈ lw_all := lw_g (lw_at lw_m4 144 rfl) rfl
theorem q925 : (Jvm.Cond.fieldLink "java/lang/AbstractStringBuilder" (22 : Nat) "java/lang/AbstractStringBuilder" "coder" "B") ∈ lw_all := lw_g (lw_at lw_m4 145 rfl) rfl
theorem q926 : (Jvm.Cond.fieldLink "java/lang/AbstractStringBuilder" (79 : Nat) "java/lang/AbstractStringBuilder" "count" "I") ∈ lw_all := lw_g (lw_at lw_m4 146 rfl) rfl
theorem q928 : (Jvm.Cond.soleField "java/lang/AbstractStringBuilder" "value") ∈ lw_all := lw_g (lw_at lw_m4 148 rfl) rfl
theorem q930 : (Jvm.Cond.soleField "java/lang/AbstractStringBuilder" "coder") ∈ lw_all := lw_g (lw_at lw_m4 150 rfl) rfl
theorem q932 : (Jvm.Cond.soleField "java/lang/AbstractStringBuilder" "maybeLatin1") ∈ lw_all := lw_g (lw_at lw_m4 152 rfl) rfl
theorem q934 : (Jvm.Cond.soleField "java/lang/AbstractStringBuilder" "count") ∈ lw_all := lw_g (lw_at lw_m4 154 rfl) rfl
theorem q953 : (Jvm.Cond.instanceMethod ({ cls := "java/lang/AbstractStringBuilder", name := "append", desc := "(C)Ljava/lang/AbstractStringBuilder;" } : Jvm.MethodName)) ∈ lw_all := lw_g (lw_at lw_m4 173 rfl) rfl
theorem q954 : (Jvm.Cond.code ({ cls := "java/lang/AbstractStringBuilder", name := "append", desc := "(C)Ljava/lang/AbstractStringBuilder;" } : Jvm.MethodName) prog_20_method_31_code (2 : Nat) (Option.some (Jvm.ClassFile.FieldType.object "java/lang/AbstractStringBuilder"))) ∈ lw_all := lw_g (lw_at lw_m4 174 rfl) rfl
theorem q955 : (Jvm.Cond.methodLink "java/lang/AbstractStringBuilder" (100 : Nat) ({ cls := "java/lang/AbstractStringBuilder", name := "ensureCapacityInternal", desc := "(I)V" } : Jvm.MethodName)) ∈ lw_all := lw_g (lw_at lw_m4 175 rfl) rfl
theorem q956 : (Jvm.Cond.privateMethod ({ cls := "java/lang/AbstractStringBuilder", name := "ensureCapacityInternal", desc := "(I)V" } : Jvm.MethodName)) ∈ lw_tbl := lw_at lw_m4 176 rfl
theorem q957 : (Jvm.Cond.instanceMethod ({ cls := "java/lang/AbstractStringBuilder", name := "ensureCapacityInternal", desc := "(I)V" } : Jvm.MethodName)) ∈ lw_all := lw_g (lw_at lw_m4 177 rfl) rfl
theorem q958 : (Jvm.Cond.code ({ cls := "java/lang/AbstractStringBuilder", name := "ensureCapacityInternal", desc := "(I)V" } : Jvm.MethodName) prog_20_method_9_code (3 : Nat) (Option.none : Option Jvm.ClassFile.FieldType)) ∈ lw_all := lw_g (lw_at lw_m4 178 rfl) rfl
theorem q959 : (Jvm.Cond.methodLink "java/lang/AbstractStringBuilder" (104 : Nat) ({ cls := "java/lang/AbstractStringBuilder", name := "newCapacity", desc := "(I)I" } : Jvm.MethodName)) ∈ lw_all := lw_g (lw_at lw_m4 179 rfl) rfl
theorem q960 : (Jvm.Cond.privateMethod ({ cls := "java/lang/AbstractStringBuilder", name := "newCapacity", desc := "(I)I" } : Jvm.MethodName)) ∈ lw_tbl := lw_at lw_m4 180 rfl
theorem q961 : (Jvm.Cond.instanceMethod ({ cls := "java/lang/AbstractStringBuilder", name := "newCapacity", desc := "(I)I" } : Jvm.MethodName)) ∈ lw_all := lw_g (lw_at lw_m4 181 rfl) rfl
theorem q962 : (Jvm.Cond.code ({ cls := "java/lang/AbstractStringBuilder", name := "newCapacity", desc := "(I)I" } : Jvm.MethodName) prog_20_method_10_code (6 : Nat) (Option.some Jvm.ClassFile.FieldType.int)) ∈ lw_all := lw_g (lw_at lw_m4 182 rfl) rfl
theorem q963 : (Jvm.Cond.methodLink "java/lang/AbstractStringBuilder" (114 : Nat) ({ cls := "jdk/internal/util/ArraysSupport", name := "newLength", desc := "(III)I" } : Jvm.MethodName)) ∈ lw_all := lw_g (lw_at lw_m4 183 rfl) rfl
theorem q964 : (Jvm.Cond.constant "java/lang/AbstractStringBuilder" (39 : Nat) (2147483647 : Int32)) ∈ lw_all := lw_g (lw_at lw_m4 184 rfl) rfl
theorem q965 : (Jvm.Cond.methodLink "java/lang/AbstractStringBuilder" (108 : Nat) ({ cls := "java/util/Arrays", name := "copyOf", desc := "([BI)[B" } : Jvm.MethodName)) ∈ lw_all := lw_g (lw_at lw_m4 185 rfl) rfl
theorem q975 : (Jvm.Cond.methodLink "java/lang/AbstractStringBuilder" (83 : Nat) ({ cls := "java/lang/AbstractStringBuilder", name := "isLatin1", desc := "()Z" } : Jvm.MethodName)) ∈ lw_all := lw_g (lw_at lw_m4 195 rfl) rfl
theorem q976 : (Jvm.Cond.instanceMethod ({ cls := "java/lang/AbstractStringBuilder", name := "isLatin1", desc := "()Z" } : Jvm.MethodName)) ∈ lw_all := lw_g (lw_at lw_m4 196 rfl) rfl
theorem q977 : (Jvm.Cond.sameMethod "java/lang/AbstractStringBuilder" "java/lang/AbstractStringBuilder" "isLatin1" "()Z") ∈ lw_all := lw_g (lw_at lw_m4 197 rfl) rfl
theorem q979 : (Jvm.Cond.code ({ cls := "java/lang/AbstractStringBuilder", name := "isLatin1", desc := "()Z" } : Jvm.MethodName) prog_20_method_68_code (1 : Nat) (Option.some Jvm.ClassFile.FieldType.boolean)) ∈ lw_all := lw_g (lw_at lw_m4 199 rfl) rfl
theorem q980 : (Jvm.Cond.methodLink "java/lang/AbstractStringBuilder" (191 : Nat) ({ cls := "java/lang/StringLatin1", name := "canEncode", desc := "(C)Z" } : Jvm.MethodName)) ∈ lw_all := lw_g (lw_at lw_m4 200 rfl) rfl
theorem q983 : (Jvm.Cond.methodLink "java/lang/AbstractStringBuilder" (195 : Nat) ({ cls := "java/lang/AbstractStringBuilder", name := "inflate", desc := "()V" } : Jvm.MethodName)) ∈ lw_all := lw_g (lw_at lw_m4 203 rfl) rfl
theorem q984 : (Jvm.Cond.privateMethod ({ cls := "java/lang/AbstractStringBuilder", name := "inflate", desc := "()V" } : Jvm.MethodName)) ∈ lw_tbl := lw_at lw_m4 204 rfl
theorem q985 : (Jvm.Cond.instanceMethod ({ cls := "java/lang/AbstractStringBuilder", name := "inflate", desc := "()V" } : Jvm.MethodName)) ∈ lw_all := lw_g (lw_at lw_m4 205 rfl) rfl
theorem q986 : (Jvm.Cond.code ({ cls := "java/lang/AbstractStringBuilder", name := "inflate", desc := "()V" } : Jvm.MethodName) prog_20_method_11_code (2 : Nat) (Option.none : Option Jvm.ClassFile.FieldType)) ∈ lw_all := lw_g (lw_at lw_m4 206 rfl) rfl
theorem q987 : (Jvm.Cond.methodLink "java/lang/AbstractStringBuilder" (125 : Nat) ({ cls := "java/lang/StringLatin1", name := "inflate", desc := "([BI[BII)V" } : Jvm.MethodName)) ∈ lw_all := lw_g (lw_at lw_m4 207 rfl) rfl
theorem q1005 : (Jvm.Cond.methodLink "java/lang/AbstractStringBuilder" (197 : Nat) ({ cls := "java/lang/StringUTF16", name := "putCharSB", desc := "([BII)V" } : Jvm.MethodName)) ∈ lw_all := lw_g (lw_at lw_m4 225 rfl) rfl
theorem q1095 : (Jvm.Cond.instanceMethod ({ cls := "java/lang/AbstractStringBuilder", name := "charAt", desc := "(I)C" } : Jvm.MethodName)) ∈ lw_all := lw_g (lw_at lw_m5 75 rfl) rfl
theorem q1096 : (Jvm.Cond.code ({ cls := "java/lang/AbstractStringBuilder", name := "charAt", desc := "(I)C" } : Jvm.MethodName) prog_20_method_14_code (5 : Nat) (Option.some Jvm.ClassFile.FieldType.char)) ∈ lw_all := lw_g (lw_at lw_m5 76 rfl) rfl
theorem q1097 : (Jvm.Cond.methodLink "java/lang/AbstractStringBuilder" (138 : Nat) ({ cls := "java/lang/Math", name := "min", desc := "(II)I" } : Jvm.MethodName)) ∈ lw_all := lw_g (lw_at lw_m5 77 rfl) rfl
theorem q1098 : (Jvm.Cond.methodLink "java/lang/AbstractStringBuilder" (144 : Nat) ({ cls := "java/lang/String", name := "checkIndex", desc := "(II)V" } : Jvm.MethodName)) ∈ lw_all := lw_g (lw_at lw_m5 78 rfl) rfl
theorem q1099 : (Jvm.Cond.methodLink "java/lang/AbstractStringBuilder" (148 : Nat) ({ cls := "java/lang/StringUTF16", name := "getChar", desc := "([BI)C" } : Jvm.MethodName)) ∈ lw_all := lw_g (lw_at lw_m5 79 rfl) rfl
theorem q1669 : (Jvm.Cond.sameMethod "java/lang/AbstractStringBuilder" "java/lang/AbstractStringBuilder" "append" "(C)Ljava/lang/AbstractStringBuilder;") ∈ lw_all := lw_g (lw_at lw_m7 169 rfl) rfl
theorem q1670 : (Jvm.Cond.sameMethod "java/lang/AbstractStringBuilder" "java/lang/AbstractStringBuilder" "ensureCapacityInternal" "(I)V") ∈ lw_all := lw_g (lw_at lw_m7 170 rfl) rfl
theorem q1671 : (Jvm.Cond.sameMethod "java/lang/AbstractStringBuilder" "java/lang/AbstractStringBuilder" "newCapacity" "(I)I") ∈ lw_all := lw_g (lw_at lw_m7 171 rfl) rfl
theorem q1672 : (Jvm.Cond.sameMethod "java/lang/AbstractStringBuilder" "java/lang/AbstractStringBuilder" "inflate" "()V") ∈ lw_all := lw_g (lw_at lw_m7 172 rfl) rfl
theorem q1673 : (Jvm.Cond.sameMethod "java/lang/AbstractStringBuilder" "java/lang/AbstractStringBuilder" "charAt" "(I)C") ∈ lw_all := lw_g (lw_at lw_m7 173 rfl) rfl

/-! java/lang/StringBuilder -/
set_option maxRecDepth 100000
def RJ17 : String := "java/lang/StringBuilder"
def TJ17 : u_T := fun k => match k with
  | 0 => ("java/lang/AbstractStringBuilder", "value", "[B", false)
  | 1 => ("java/lang/AbstractStringBuilder", "coder", "B", false)
  | 2 => ("java/lang/AbstractStringBuilder", "maybeLatin1", "Z", false)
  | _ => ("java/lang/AbstractStringBuilder", "count", "I", false)
def tyJ17 : Nat → FieldType := fun k => match k with
  | 0 => .array .byte
  | 1 => .byte
  | 2 => .boolean
  | _ => .int
abbrev wsJ170 : List Cond := u_ws RJ17 TJ17 4
theorem nmJ17 : ∀ a, a < 4 → ∀ b, b < 4 → a ≠ b → (TJ17 a).2.1 ≠ (TJ17 b).2.1 := by decide +kernel
theorem tyJ17_ok : ∀ k, k < 4 → parseFieldDescriptor (TJ17 k).2.2.1 = some (tyJ17 k) := by decide +kernel
abbrev cJ17_init : ByteArray := prog_28_method_2_code
def yJ17_init : MethodName := ⟨RJ17, "<init>", "(I)V"⟩
abbrev cJ17_append : ByteArray := prog_28_method_14_code
def yJ17_append : MethodName := ⟨RJ17, "append", "(C)Ljava/lang/StringBuilder;"⟩
abbrev cJ17_charAt : ByteArray := prog_28_method_88_code
def yJ17_charAt : MethodName := ⟨RJ17, "charAt", "(I)C"⟩
theorem q95 : (Jvm.Cond.initialized "java/lang/StringBuilder") ∈ lw_all := lw_g (lw_at lw_m1 35 rfl) rfl
theorem q405 : (Jvm.Cond.selects "java/lang/StringBuilder" ({ cls := "java/lang/Object", name := "getClass", desc := "()Ljava/lang/Class;" } : Jvm.MethodName) ({ cls := "java/lang/Object", name := "getClass", desc := "()Ljava/lang/Class;" } : Jvm.MethodName)) ∈ lw_all := lw_g (lw_at lw_m2 105 rfl) rfl
theorem q908 : (Jvm.Cond.instantiable "java/lang/StringBuilder" (4 : Nat)) ∈ lw_all := lw_g (lw_at lw_m4 128 rfl) rfl
theorem q910 : (Jvm.Cond.instanceMethod ({ cls := "java/lang/StringBuilder", name := "<init>", desc := "(I)V" } : Jvm.MethodName)) ∈ lw_all := lw_g (lw_at lw_m4 130 rfl) rfl
theorem q911 : (Jvm.Cond.code ({ cls := "java/lang/StringBuilder", name := "<init>", desc := "(I)V" } : Jvm.MethodName) prog_28_method_2_code (2 : Nat) (Option.none : Option Jvm.ClassFile.FieldType)) ∈ lw_all := lw_g (lw_at lw_m4 131 rfl) rfl
theorem q912 : (Jvm.Cond.methodLink "java/lang/StringBuilder" (1 : Nat) ({ cls := "java/lang/AbstractStringBuilder", name := "<init>", desc := "(I)V" } : Jvm.MethodName)) ∈ lw_all := lw_g (lw_at lw_m4 132 rfl) rfl
theorem q927 : (Jvm.Cond.lays "java/lang/StringBuilder" "java/lang/AbstractStringBuilder" "value" "[B") ∈ lw_all := lw_g (lw_at lw_m4 147 rfl) rfl
theorem q929 : (Jvm.Cond.lays "java/lang/StringBuilder" "java/lang/AbstractStringBuilder" "coder" "B") ∈ lw_all := lw_g (lw_at lw_m4 149 rfl) rfl
theorem q931 : (Jvm.Cond.lays "java/lang/StringBuilder" "java/lang/AbstractStringBuilder" "maybeLatin1" "Z") ∈ lw_all := lw_g (lw_at lw_m4 151 rfl) rfl
theorem q933 : (Jvm.Cond.lays "java/lang/StringBuilder" "java/lang/AbstractStringBuilder" "count" "I") ∈ lw_all := lw_g (lw_at lw_m4 153 rfl) rfl
theorem q935 : (Jvm.Cond.superclass "java/lang/StringBuilder" "java/lang/AbstractStringBuilder") ∈ lw_all := lw_g (lw_at lw_m4 155 rfl) rfl
theorem q949 : (Jvm.Cond.instanceMethod ({ cls := "java/lang/StringBuilder", name := "append", desc := "(C)Ljava/lang/StringBuilder;" } : Jvm.MethodName)) ∈ lw_all := lw_g (lw_at lw_m4 169 rfl) rfl
theorem q950 : (Jvm.Cond.selects "java/lang/StringBuilder" ({ cls := "java/lang/StringBuilder", name := "append", desc := "(C)Ljava/lang/StringBuilder;" } : Jvm.MethodName) ({ cls := "java/lang/StringBuilder", name := "append", desc := "(C)Ljava/lang/StringBuilder;" } : Jvm.MethodName)) ∈ lw_all := lw_g (lw_at lw_m4 170 rfl) rfl
theorem q951 : (Jvm.Cond.code ({ cls := "java/lang/StringBuilder", name := "append", desc := "(C)Ljava/lang/StringBuilder;" } : Jvm.MethodName) prog_28_method_14_code (2 : Nat) (Option.some (Jvm.ClassFile.FieldType.object "java/lang/StringBuilder"))) ∈ lw_all := lw_g (lw_at lw_m4 171 rfl) rfl
theorem q952 : (Jvm.Cond.methodLink "java/lang/StringBuilder" (50 : Nat) ({ cls := "java/lang/AbstractStringBuilder", name := "append", desc := "(C)Ljava/lang/AbstractStringBuilder;" } : Jvm.MethodName)) ∈ lw_all := lw_g (lw_at lw_m4 172 rfl) rfl
theorem q978 : (Jvm.Cond.selects "java/lang/StringBuilder" ({ cls := "java/lang/AbstractStringBuilder", name := "isLatin1", desc := "()Z" } : Jvm.MethodName) ({ cls := "java/lang/AbstractStringBuilder", name := "isLatin1", desc := "()Z" } : Jvm.MethodName)) ∈ lw_all := lw_g (lw_at lw_m4 198 rfl) rfl
theorem q1091 : (Jvm.Cond.instanceMethod ({ cls := "java/lang/StringBuilder", name := "charAt", desc := "(I)C" } : Jvm.MethodName)) ∈ lw_all := lw_g (lw_at lw_m5 71 rfl) rfl
theorem q1092 : (Jvm.Cond.selects "java/lang/StringBuilder" ({ cls := "java/lang/StringBuilder", name := "charAt", desc := "(I)C" } : Jvm.MethodName) ({ cls := "java/lang/StringBuilder", name := "charAt", desc := "(I)C" } : Jvm.MethodName)) ∈ lw_all := lw_g (lw_at lw_m5 72 rfl) rfl
theorem q1093 : (Jvm.Cond.code ({ cls := "java/lang/StringBuilder", name := "charAt", desc := "(I)C" } : Jvm.MethodName) prog_28_method_88_code (2 : Nat) (Option.some Jvm.ClassFile.FieldType.char)) ∈ lw_all := lw_g (lw_at lw_m5 73 rfl) rfl
theorem q1094 : (Jvm.Cond.methodLink "java/lang/StringBuilder" (329 : Nat) ({ cls := "java/lang/AbstractStringBuilder", name := "charAt", desc := "(I)C" } : Jvm.MethodName)) ∈ lw_all := lw_g (lw_at lw_m5 74 rfl) rfl
theorem q1696 : (Jvm.Cond.castable "java/lang/StringBuilder" "java/lang/Object") ∈ lw_tbl := lw_at lw_m7 196 rfl
theorem in_J17 : ∀ w ∈ wsJ170, w ∈ lw_all := lw_in wsJ170 [927, 929, 931, 933] (by decide +kernel) (by decide +kernel)

/-! java/lang/Object -/
set_option maxRecDepth 100000
def RJ18 : String := "java/lang/Object"
abbrev cJ18_init : ByteArray := object_method_1_code
def yJ18_init : MethodName := ⟨RJ18, "<init>", "()V"⟩
theorem q103 : (Jvm.Cond.instanceMethod ({ cls := "java/lang/Object", name := "<init>", desc := "()V" } : Jvm.MethodName)) ∈ lw_all := lw_g (lw_at lw_m1 43 rfl) rfl
theorem q104 : (Jvm.Cond.code ({ cls := "java/lang/Object", name := "<init>", desc := "()V" } : Jvm.MethodName) object_method_1_code (1 : Nat) (Option.none : Option Jvm.ClassFile.FieldType)) ∈ lw_all := lw_g (lw_at lw_m1 44 rfl) rfl
theorem q389 : (Jvm.Cond.instanceMethod ({ cls := "java/lang/Object", name := "getClass", desc := "()Ljava/lang/Class;" } : Jvm.MethodName)) ∈ lw_all := lw_g (lw_at lw_m2 89 rfl) rfl
theorem q390 : (Jvm.Cond.sameMethod "java/lang/Object" "java/lang/Object" "getClass" "()Ljava/lang/Class;") ∈ lw_all := lw_g (lw_at lw_m2 90 rfl) rfl
theorem q408 : (Jvm.Cond.native ({ cls := "java/lang/Object", name := "getClass", desc := "()Ljava/lang/Class;" } : Jvm.MethodName)) ∈ lw_all := lw_g (lw_at lw_m2 108 rfl) rfl
theorem q970 : (Jvm.Cond.native ({ cls := "java/lang/Object", name := "clone", desc := "()Ljava/lang/Object;" } : Jvm.MethodName)) ∈ lw_all := lw_g (lw_at lw_m4 190 rfl) rfl
theorem q971 : (Jvm.Cond.instanceMethod ({ cls := "java/lang/Object", name := "clone", desc := "()Ljava/lang/Object;" } : Jvm.MethodName)) ∈ lw_all := lw_g (lw_at lw_m4 191 rfl) rfl
theorem q1702 : (Jvm.Cond.declares ({ cls := "java/lang/Object", name := "getClass", desc := "()Ljava/lang/Class;" } : Jvm.MethodName)) ∈ lw_tbl := lw_at lw_m7 202 rfl

/-! BedBookLaw -/
set_option maxRecDepth 100000
def RX0 : String := "BedBookLaw"
abbrev cX0_named : ByteArray := method_3_code
def yX0_named : MethodName := ⟨RX0, "named", "(LBedBook;III[J)I"⟩
abbrev cX0_look : ByteArray := method_4_code
def yX0_look : MethodName := ⟨RX0, "look", "(LBedBook;II[J)I"⟩
theorem q60 : (Jvm.Cond.initialized "BedBookLaw") ∈ lw_all := lw_g (lw_at lw_m1 0 rfl) rfl
theorem q97 : (Jvm.Cond.classLink "BedBookLaw" (8 : Nat) "BedBook") ∈ lw_all := lw_g (lw_at lw_m1 37 rfl) rfl
theorem q99 : (Jvm.Cond.methodLink "BedBookLaw" (19 : Nat) ({ cls := "BedBook", name := "<init>", desc := "()V" } : Jvm.MethodName)) ∈ lw_all := lw_g (lw_at lw_m1 39 rfl) rfl
theorem q277 : (Jvm.Cond.methodLink "BedBookLaw" (23 : Nat) ({ cls := "BedBook", name := "days", desc := "(I)I" } : Jvm.MethodName)) ∈ lw_all := lw_g (lw_at lw_m1 217 rfl) rfl
theorem q284 : (Jvm.Cond.methodLink "BedBookLaw" (28 : Nat) ({ cls := "BedBook", name := "wild", desc := "(II)I" } : Jvm.MethodName)) ∈ lw_all := lw_g (lw_at lw_m1 224 rfl) rfl
theorem q429 : (Jvm.Cond.methodLink "BedBookLaw" (32 : Nat) ({ cls := "BedBook", name := "seed", desc := "(III)I" } : Jvm.MethodName)) ∈ lw_all := lw_g (lw_at lw_m2 129 rfl) rfl
theorem q477 : (Jvm.Cond.methodLink "BedBookLaw" (36 : Nat) ({ cls := "BedBook", name := "cut", desc := "(II)I" } : Jvm.MethodName)) ∈ lw_all := lw_g (lw_at lw_m2 177 rfl) rfl
theorem q520 : (Jvm.Cond.methodLink "BedBookLaw" (40 : Nat) ({ cls := "BedBook", name := "split", desc := "(II)I" } : Jvm.MethodName)) ∈ lw_all := lw_g (lw_at lw_m2 220 rfl) rfl
theorem q544 : (Jvm.Cond.methodLink "BedBookLaw" (44 : Nat) ({ cls := "BedBook", name := "mark", desc := "(IIII)Z" } : Jvm.MethodName)) ∈ lw_all := lw_g (lw_at lw_m3 4 rfl) rfl
theorem q550 : (Jvm.Cond.methodLink "BedBookLaw" (49 : Nat) ({ cls := "BedBook", name := "name", desc := "(II)Z" } : Jvm.MethodName)) ∈ lw_all := lw_g (lw_at lw_m3 10 rfl) rfl
theorem q554 : (Jvm.Cond.methodLink "BedBookLaw" (54 : Nat) ({ cls := "BedBook", name := "join", desc := "(II)Z" } : Jvm.MethodName)) ∈ lw_all := lw_g (lw_at lw_m3 14 rfl) rfl
theorem q562 : (Jvm.Cond.methodLink "BedBookLaw" (68 : Nat) ({ cls := "BedBook", name := "bed", desc := "(III)I" } : Jvm.MethodName)) ∈ lw_all := lw_g (lw_at lw_m3 22 rfl) rfl
theorem q591 : (Jvm.Cond.methodLink "BedBookLaw" (72 : Nat) ({ cls := "BedBook", name := "change", desc := "(III)Z" } : Jvm.MethodName)) ∈ lw_all := lw_g (lw_at lw_m3 51 rfl) rfl
theorem q599 : (Jvm.Cond.methodLink "BedBookLaw" (77 : Nat) ({ cls := "BedBook", name := "needs", desc := "(IIIII)Z" } : Jvm.MethodName)) ∈ lw_all := lw_g (lw_at lw_m3 59 rfl) rfl
theorem q603 : (Jvm.Cond.methodLink "BedBookLaw" (82 : Nat) ({ cls := "BedBook", name := "lay", desc := "(II)Z" } : Jvm.MethodName)) ∈ lw_all := lw_g (lw_at lw_m3 63 rfl) rfl
theorem q615 : (Jvm.Cond.methodLink "BedBookLaw" (86 : Nat) ({ cls := "BedBook", name := "moves", desc := "()I" } : Jvm.MethodName)) ∈ lw_all := lw_g (lw_at lw_m3 75 rfl) rfl
theorem q631 : (Jvm.Cond.methodLink "BedBookLaw" (92 : Nat) ({ cls := "BedBook", name := "feed", desc := "(JJJ)I" } : Jvm.MethodName)) ∈ lw_all := lw_g (lw_at lw_m3 91 rfl) rfl
theorem q635 : (Jvm.Cond.methodLink "BedBookLaw" (97 : Nat) ({ cls := "BedBook", name := "text", desc := "()I" } : Jvm.MethodName)) ∈ lw_all := lw_g (lw_at lw_m3 95 rfl) rfl
theorem q1025 : (Jvm.Cond.methodLink "BedBookLaw" (101 : Nat) ({ cls := "BedBook", name := "may", desc := "(III)I" } : Jvm.MethodName)) ∈ lw_all := lw_g (lw_at lw_m5 5 rfl) rfl
theorem q1103 : (Jvm.Cond.methodLink "BedBookLaw" (105 : Nat) ({ cls := "BedBook", name := "send", desc := "(III)Z" } : Jvm.MethodName)) ∈ lw_all := lw_g (lw_at lw_m5 83 rfl) rfl
theorem q1108 : (Jvm.Cond.methodLink "BedBookLaw" (109 : Nat) ({ cls := "BedBook", name := "sent", desc := "(II)I" } : Jvm.MethodName)) ∈ lw_all := lw_g (lw_at lw_m5 88 rfl) rfl
theorem q1112 : (Jvm.Cond.methodLink "BedBookLaw" (113 : Nat) ({ cls := "BedBook", name := "seen", desc := "(II)Z" } : Jvm.MethodName)) ∈ lw_all := lw_g (lw_at lw_m5 92 rfl) rfl
theorem q1116 : (Jvm.Cond.methodLink "BedBookLaw" (117 : Nat) ({ cls := "BedBook", name := "close", desc := "(I)I" } : Jvm.MethodName)) ∈ lw_all := lw_g (lw_at lw_m5 96 rfl) rfl
theorem q1120 : (Jvm.Cond.methodLink "BedBookLaw" (121 : Nat) ({ cls := "BedBook", name := "fits", desc := "(I)I" } : Jvm.MethodName)) ∈ lw_all := lw_g (lw_at lw_m5 100 rfl) rfl
theorem q1141 : (Jvm.Cond.methodLink "BedBookLaw" (125 : Nat) ({ cls := "BedBook", name := "changed", desc := "(II)I" } : Jvm.MethodName)) ∈ lw_all := lw_g (lw_at lw_m5 121 rfl) rfl
theorem q1145 : (Jvm.Cond.methodLink "BedBookLaw" (133 : Nat) ({ cls := "BedBook", name := "count", desc := "(I)I" } : Jvm.MethodName)) ∈ lw_all := lw_g (lw_at lw_m5 125 rfl) rfl
theorem q1149 : (Jvm.Cond.methodLink "BedBookLaw" (58 : Nat) ({ cls := "BedBookLaw", name := "named", desc := "(LBedBook;III[J)I" } : Jvm.MethodName)) ∈ lw_all := lw_g (lw_at lw_m5 129 rfl) rfl
theorem q1150 : (Jvm.Cond.static ({ cls := "BedBookLaw", name := "named", desc := "(LBedBook;III[J)I" } : Jvm.MethodName)) ∈ lw_all := lw_g (lw_at lw_m5 130 rfl) rfl
theorem q1151 : (Jvm.Cond.codeWith ({ cls := "BedBookLaw", name := "named", desc := "(LBedBook;III[J)I" } : Jvm.MethodName) method_3_code (6 : Nat) (Option.some Jvm.ClassFile.FieldType.int) [((0 : Nat), (12 : Nat), (15 : Nat), (13 : Nat))]) ∈ lw_all := lw_g (lw_at lw_m5 131 rfl) rfl
theorem q1152 : (Jvm.Cond.classLink "BedBookLaw" (13 : Nat) "java/util/NoSuchElementException") ∈ lw_all := lw_g (lw_at lw_m5 132 rfl) rfl
theorem q1153 : (Jvm.Cond.methodLink "BedBookLaw" (7 : Nat) ({ cls := "BedBook", name := "named", desc := "(III)I" } : Jvm.MethodName)) ∈ lw_all := lw_g (lw_at lw_m5 133 rfl) rfl
theorem q1181 : (Jvm.Cond.methodLink "BedBookLaw" (129 : Nat) ({ cls := "BedBookLaw", name := "look", desc := "(LBedBook;II[J)I" } : Jvm.MethodName)) ∈ lw_all := lw_g (lw_at lw_m5 161 rfl) rfl
theorem q1182 : (Jvm.Cond.static ({ cls := "BedBookLaw", name := "look", desc := "(LBedBook;II[J)I" } : Jvm.MethodName)) ∈ lw_all := lw_g (lw_at lw_m5 162 rfl) rfl
theorem q1183 : (Jvm.Cond.codeWith ({ cls := "BedBookLaw", name := "look", desc := "(LBedBook;II[J)I" } : Jvm.MethodName) method_4_code (5 : Nat) (Option.some Jvm.ClassFile.FieldType.int) [((0 : Nat), (10 : Nat), (13 : Nat), (13 : Nat))]) ∈ lw_all := lw_g (lw_at lw_m5 163 rfl) rfl
theorem q1184 : (Jvm.Cond.methodLink "BedBookLaw" (15 : Nat) ({ cls := "BedBook", name := "look", desc := "(II)I" } : Jvm.MethodName)) ∈ lw_all := lw_g (lw_at lw_m5 164 rfl) rfl
theorem q1210 : (Jvm.Cond.methodLink "BedBookLaw" (64 : Nat) ({ cls := "BedBookModel", name := "thrown", desc := "()I" } : Jvm.MethodName)) ∈ lw_all := lw_g (lw_at lw_m5 190 rfl) rfl
theorem q1214 : (Jvm.Cond.methodLink "BedBookLaw" (96 : Nat) ({ cls := "BedBookModel", name := "feed", desc := "(JJJ)I" } : Jvm.MethodName)) ∈ lw_all := lw_g (lw_at lw_m5 194 rfl) rfl
theorem q1223 : (Jvm.Cond.classLink "BedBookLaw" (20 : Nat) "BedBookModel") ∈ lw_all := lw_g (lw_at lw_m5 203 rfl) rfl
theorem q1224 : (Jvm.Cond.methodLink "BedBookLaw" (22 : Nat) ({ cls := "BedBookModel", name := "<init>", desc := "()V" } : Jvm.MethodName)) ∈ lw_all := lw_g (lw_at lw_m5 204 rfl) rfl
theorem q1410 : (Jvm.Cond.methodLink "BedBookLaw" (100 : Nat) ({ cls := "BedBookModel", name := "text", desc := "()I" } : Jvm.MethodName)) ∈ lw_all := lw_g (lw_at lw_m6 150 rfl) rfl
theorem q1485 : (Jvm.Cond.methodLink "BedBookLaw" (27 : Nat) ({ cls := "BedBookModel", name := "days", desc := "(I)I" } : Jvm.MethodName)) ∈ lw_all := lw_g (lw_at lw_m6 225 rfl) rfl
theorem q1489 : (Jvm.Cond.methodLink "BedBookLaw" (31 : Nat) ({ cls := "BedBookModel", name := "wild", desc := "(II)I" } : Jvm.MethodName)) ∈ lw_all := lw_g (lw_at lw_m6 229 rfl) rfl
theorem q1500 : (Jvm.Cond.methodLink "BedBookLaw" (35 : Nat) ({ cls := "BedBookModel", name := "seed", desc := "(III)I" } : Jvm.MethodName)) ∈ lw_all := lw_g (lw_at lw_m7 0 rfl) rfl
theorem q1508 : (Jvm.Cond.methodLink "BedBookLaw" (39 : Nat) ({ cls := "BedBookModel", name := "cut", desc := "(II)I" } : Jvm.MethodName)) ∈ lw_all := lw_g (lw_at lw_m7 8 rfl) rfl
theorem q1512 : (Jvm.Cond.methodLink "BedBookLaw" (43 : Nat) ({ cls := "BedBookModel", name := "split", desc := "(II)I" } : Jvm.MethodName)) ∈ lw_all := lw_g (lw_at lw_m7 12 rfl) rfl
theorem q1516 : (Jvm.Cond.methodLink "BedBookLaw" (48 : Nat) ({ cls := "BedBookModel", name := "mark", desc := "(IIII)Z" } : Jvm.MethodName)) ∈ lw_all := lw_g (lw_at lw_m7 16 rfl) rfl
theorem q1520 : (Jvm.Cond.methodLink "BedBookLaw" (124 : Nat) ({ cls := "BedBookModel", name := "fits", desc := "(I)I" } : Jvm.MethodName)) ∈ lw_all := lw_g (lw_at lw_m7 20 rfl) rfl
theorem q1536 : (Jvm.Cond.methodLink "BedBookLaw" (128 : Nat) ({ cls := "BedBookModel", name := "changed", desc := "(II)I" } : Jvm.MethodName)) ∈ lw_all := lw_g (lw_at lw_m7 36 rfl) rfl
theorem q1540 : (Jvm.Cond.methodLink "BedBookLaw" (53 : Nat) ({ cls := "BedBookModel", name := "name", desc := "(II)Z" } : Jvm.MethodName)) ∈ lw_all := lw_g (lw_at lw_m7 40 rfl) rfl
theorem q1547 : (Jvm.Cond.methodLink "BedBookLaw" (57 : Nat) ({ cls := "BedBookModel", name := "join", desc := "(II)Z" } : Jvm.MethodName)) ∈ lw_all := lw_g (lw_at lw_m7 47 rfl) rfl
theorem q1559 : (Jvm.Cond.methodLink "BedBookLaw" (63 : Nat) ({ cls := "BedBookModel", name := "named", desc := "(III)I" } : Jvm.MethodName)) ∈ lw_all := lw_g (lw_at lw_m7 59 rfl) rfl
theorem q1571 : (Jvm.Cond.methodLink "BedBookLaw" (71 : Nat) ({ cls := "BedBookModel", name := "bed", desc := "(III)I" } : Jvm.MethodName)) ∈ lw_all := lw_g (lw_at lw_m7 71 rfl) rfl
theorem q1578 : (Jvm.Cond.methodLink "BedBookLaw" (76 : Nat) ({ cls := "BedBookModel", name := "change", desc := "(III)Z" } : Jvm.MethodName)) ∈ lw_all := lw_g (lw_at lw_m7 78 rfl) rfl
theorem q1586 : (Jvm.Cond.methodLink "BedBookLaw" (81 : Nat) ({ cls := "BedBookModel", name := "needs", desc := "(IIIII)Z" } : Jvm.MethodName)) ∈ lw_all := lw_g (lw_at lw_m7 86 rfl) rfl
theorem q1590 : (Jvm.Cond.methodLink "BedBookLaw" (85 : Nat) ({ cls := "BedBookModel", name := "lay", desc := "(II)Z" } : Jvm.MethodName)) ∈ lw_all := lw_g (lw_at lw_m7 90 rfl) rfl
theorem q1598 : (Jvm.Cond.methodLink "BedBookLaw" (89 : Nat) ({ cls := "BedBookModel", name := "moves", desc := "()I" } : Jvm.MethodName)) ∈ lw_all := lw_g (lw_at lw_m7 98 rfl) rfl
theorem q1615 : (Jvm.Cond.methodLink "BedBookLaw" (104 : Nat) ({ cls := "BedBookModel", name := "may", desc := "(III)I" } : Jvm.MethodName)) ∈ lw_all := lw_g (lw_at lw_m7 115 rfl) rfl
theorem q1639 : (Jvm.Cond.methodLink "BedBookLaw" (108 : Nat) ({ cls := "BedBookModel", name := "send", desc := "(III)Z" } : Jvm.MethodName)) ∈ lw_all := lw_g (lw_at lw_m7 139 rfl) rfl
theorem q1643 : (Jvm.Cond.methodLink "BedBookLaw" (112 : Nat) ({ cls := "BedBookModel", name := "sent", desc := "(II)I" } : Jvm.MethodName)) ∈ lw_all := lw_g (lw_at lw_m7 143 rfl) rfl
theorem q1647 : (Jvm.Cond.methodLink "BedBookLaw" (116 : Nat) ({ cls := "BedBookModel", name := "seen", desc := "(II)Z" } : Jvm.MethodName)) ∈ lw_all := lw_g (lw_at lw_m7 147 rfl) rfl
theorem q1651 : (Jvm.Cond.methodLink "BedBookLaw" (120 : Nat) ({ cls := "BedBookModel", name := "close", desc := "(I)I" } : Jvm.MethodName)) ∈ lw_all := lw_g (lw_at lw_m7 151 rfl) rfl
theorem q1659 : (Jvm.Cond.methodLink "BedBookLaw" (132 : Nat) ({ cls := "BedBookModel", name := "look", desc := "(II)I" } : Jvm.MethodName)) ∈ lw_all := lw_g (lw_at lw_m7 159 rfl) rfl
theorem q1663 : (Jvm.Cond.methodLink "BedBookLaw" (136 : Nat) ({ cls := "BedBookModel", name := "count", desc := "(I)I" } : Jvm.MethodName)) ∈ lw_all := lw_g (lw_at lw_m7 163 rfl) rfl
theorem q1667 : (Jvm.Cond.constantLong "BedBookLaw" (90 : Nat) (4294967295 : Int64)) ∈ lw_all := lw_g (lw_at lw_m7 167 rfl) rfl

/-! BedBook -/
set_option maxRecDepth 100000
def RX1 : String := "BedBook"
def TX1 : u_T := fun k => match k with
  | 0 => ("BedBook", "now", "I", false)
  | 1 => ("BedBook", "plants", "Ljava/util/ArrayList;", true)
  | 2 => ("BedBook", "beds", "Ljava/util/ArrayList;", true)
  | 3 => ("BedBook", "givenTo", "[I", true)
  | 4 => ("BedBook", "given", "[I", true)
  | 5 => ("BedBook", "givenOn", "[I", true)
  | 6 => ("BedBook", "joined", "[I", true)
  | 7 => ("BedBook", "joinedTo", "[I", true)
  | 8 => ("BedBook", "joinedOn", "[I", true)
  | 9 => ("BedBook", "sentPlant", "[I", true)
  | 10 => ("BedBook", "sentHouse", "[I", true)
  | 11 => ("BedBook", "sentAim", "[I", true)
  | 12 => ("BedBook", "sentDay", "[I", true)
  | 13 => ("BedBook", "names", "I", false)
  | 14 => ("BedBook", "joins", "I", false)
  | 15 => ("BedBook", "sends", "I", false)
  | 16 => ("BedBook", "tape", "[B", true)
  | 17 => ("BedBook", "taped", "I", false)
  | 18 => ("BedBook", "reader", "LBedBook$Reader;", true)
  | 19 => ("BedBook", "ask", "LBedBook$Ask;", true)
  | 20 => ("BedBook", "text", "Ljava/util/ArrayList;", false)
  | 21 => ("BedBook", "would", "[I", true)
  | 22 => ("BedBook", "full", "[I", true)
  | 23 => ("BedBook", "cost", "[I", true)
  | 24 => ("BedBook", "from", "[I", true)
  | _ => ("BedBook", "by", "[I", true)
def tyX1 : Nat → FieldType := fun k => match k with
  | 0 => .int
  | 1 => .object "java/util/ArrayList"
  | 2 => .object "java/util/ArrayList"
  | 3 => .array .int
  | 4 => .array .int
  | 5 => .array .int
  | 6 => .array .int
  | 7 => .array .int
  | 8 => .array .int
  | 9 => .array .int
  | 10 => .array .int
  | 11 => .array .int
  | 12 => .array .int
  | 13 => .int
  | 14 => .int
  | 15 => .int
  | 16 => .array .byte
  | 17 => .int
  | 18 => .object "BedBook$Reader"
  | 19 => .object "BedBook$Ask"
  | 20 => .object "java/util/ArrayList"
  | 21 => .array .int
  | 22 => .array .int
  | 23 => .array .int
  | 24 => .array .int
  | _ => .array .int
abbrev wsX10 : List Cond := u_ws RX1 TX1 26
set_option maxRecDepth 100000 in
theorem nmX1 : ∀ a, a < 26 → ∀ b, b < 26 → a ≠ b → (TX1 a).2.1 ≠ (TX1 b).2.1 := by decide +kernel
set_option maxRecDepth 100000 in
theorem tyX1_ok : ∀ k, k < 26 → parseFieldDescriptor (TX1 k).2.2.1 = some (tyX1 k) := by decide +kernel
abbrev cX1_init : ByteArray := prog_1_method_1_code
def yX1_init : MethodName := ⟨RX1, "<init>", "()V"⟩
abbrev cX1_days : ByteArray := prog_1_method_6_code
def yX1_days : MethodName := ⟨RX1, "days", "(I)I"⟩
abbrev cX1_in : ByteArray := prog_1_method_2_code
def yX1_in : MethodName := ⟨RX1, "in", "(III)Z"⟩
abbrev cX1_wild : ByteArray := prog_1_method_7_code
def yX1_wild : MethodName := ⟨RX1, "wild", "(II)I"⟩
abbrev cX1_isFull : ByteArray := prog_1_method_4_code
def yX1_isFull : MethodName := ⟨RX1, "isFull", "()Z"⟩
abbrev cX1_comes : ByteArray := prog_1_method_5_code
def yX1_comes : MethodName := ⟨RX1, "comes", "(LBedBook$Plant;)I"⟩
abbrev cX1_seed : ByteArray := prog_1_method_8_code
def yX1_seed : MethodName := ⟨RX1, "seed", "(III)I"⟩
abbrev cX1_isPlant : ByteArray := prog_1_method_3_code
def yX1_isPlant : MethodName := ⟨RX1, "isPlant", "(I)Z"⟩
abbrev cX1_cut : ByteArray := prog_1_method_9_code
def yX1_cut : MethodName := ⟨RX1, "cut", "(II)I"⟩
abbrev cX1_split : ByteArray := prog_1_method_10_code
def yX1_split : MethodName := ⟨RX1, "split", "(II)I"⟩
abbrev cX1_mark : ByteArray := prog_1_method_11_code
def yX1_mark : MethodName := ⟨RX1, "mark", "(IIII)Z"⟩
abbrev cX1_name : ByteArray := prog_1_method_12_code
def yX1_name : MethodName := ⟨RX1, "name", "(II)Z"⟩
abbrev cX1_join : ByteArray := prog_1_method_15_code
def yX1_join : MethodName := ⟨RX1, "join", "(II)Z"⟩
abbrev cX1_leadsBack : ByteArray := prog_1_method_14_code
def yX1_leadsBack : MethodName := ⟨RX1, "leadsBack", "(II)Z"⟩
abbrev cX1_bed : ByteArray := prog_1_method_20_code
def yX1_bed : MethodName := ⟨RX1, "bed", "(III)I"⟩
abbrev cX1_change : ByteArray := prog_1_method_21_code
def yX1_change : MethodName := ⟨RX1, "change", "(III)Z"⟩
abbrev cX1_isBed : ByteArray := prog_1_method_19_code
def yX1_isBed : MethodName := ⟨RX1, "isBed", "(I)Z"⟩
abbrev cX1_needs : ByteArray := prog_1_method_22_code
def yX1_needs : MethodName := ⟨RX1, "needs", "(IIIII)Z"⟩
abbrev cX1_lay : ByteArray := prog_1_method_23_code
def yX1_lay : MethodName := ⟨RX1, "lay", "(II)Z"⟩
abbrev cX1_moves : ByteArray := prog_1_method_25_code
def yX1_moves : MethodName := ⟨RX1, "moves", "()I"⟩
abbrev cX1_brings : ByteArray := prog_1_method_26_code
def yX1_brings : MethodName := ⟨RX1, "brings", "(I)I"⟩
abbrev cX1_price : ByteArray := prog_1_method_24_code
def yX1_price : MethodName := ⟨RX1, "price", "(II)I"⟩
abbrev cX1_goesOn : ByteArray := prog_1_method_27_code
def yX1_goesOn : MethodName := ⟨RX1, "goesOn", "(I)V"⟩
abbrev cX1_feed : ByteArray := prog_1_method_28_code
def yX1_feed : MethodName := ⟨RX1, "feed", "(JJJ)I"⟩
abbrev cX1_text : ByteArray := prog_1_method_29_code
def yX1_text : MethodName := ⟨RX1, "text", "()I"⟩
abbrev cX1_may : ByteArray := prog_1_method_30_code
def yX1_may : MethodName := ⟨RX1, "may", "(III)I"⟩
abbrev cX1_nameOf : ByteArray := prog_1_method_16_code
def yX1_nameOf : MethodName := ⟨RX1, "nameOf", "(III)I"⟩
abbrev cX1_called : ByteArray := prog_1_method_13_code
def yX1_called : MethodName := ⟨RX1, "called", "(II)I"⟩
abbrev cX1_send : ByteArray := prog_1_method_31_code
def yX1_send : MethodName := ⟨RX1, "send", "(III)Z"⟩
abbrev cX1_sent : ByteArray := prog_1_method_32_code
def yX1_sent : MethodName := ⟨RX1, "sent", "(II)I"⟩
abbrev cX1_seen : ByteArray := prog_1_method_33_code
def yX1_seen : MethodName := ⟨RX1, "seen", "(II)Z"⟩
abbrev cX1_close : ByteArray := prog_1_method_34_code
def yX1_close : MethodName := ⟨RX1, "close", "(I)I"⟩
abbrev cX1_fits : ByteArray := prog_1_method_35_code
def yX1_fits : MethodName := ⟨RX1, "fits", "(I)I"⟩
abbrev cX1_changed : ByteArray := prog_1_method_36_code
def yX1_changed : MethodName := ⟨RX1, "changed", "(II)I"⟩
abbrev cX1_count : ByteArray := prog_1_method_38_code
def yX1_count : MethodName := ⟨RX1, "count", "(I)I"⟩
abbrev cX1_named : ByteArray := prog_1_method_18_code
def yX1_named : MethodName := ⟨RX1, "named", "(III)I"⟩
abbrev cX1_need : ByteArray := prog_1_method_17_code
def yX1_need : MethodName := ⟨RX1, "need", "(Z)V"⟩
abbrev cX1_look : ByteArray := prog_1_method_37_code
def yX1_look : MethodName := ⟨RX1, "look", "(II)I"⟩
theorem q61 : (Jvm.Cond.initialized "BedBook") ∈ lw_all := lw_g (lw_at lw_m1 1 rfl) rfl
theorem q98 : (Jvm.Cond.instantiable "BedBook" (26 : Nat)) ∈ lw_all := lw_g (lw_at lw_m1 38 rfl) rfl
theorem q100 : (Jvm.Cond.instanceMethod ({ cls := "BedBook", name := "<init>", desc := "()V" } : Jvm.MethodName)) ∈ lw_all := lw_g (lw_at lw_m1 40 rfl) rfl
theorem q101 : (Jvm.Cond.code ({ cls := "BedBook", name := "<init>", desc := "()V" } : Jvm.MethodName) prog_1_method_1_code (1 : Nat) (Option.none : Option Jvm.ClassFile.FieldType)) ∈ lw_all := lw_g (lw_at lw_m1 41 rfl) rfl
theorem q102 : (Jvm.Cond.methodLink "BedBook" (1 : Nat) ({ cls := "java/lang/Object", name := "<init>", desc := "()V" } : Jvm.MethodName)) ∈ lw_all := lw_g (lw_at lw_m1 42 rfl) rfl
theorem q105 : (Jvm.Cond.classLink "BedBook" (7 : Nat) "java/util/ArrayList") ∈ lw_all := lw_g (lw_at lw_m1 45 rfl) rfl
theorem q107 : (Jvm.Cond.methodLink "BedBook" (9 : Nat) ({ cls := "java/util/ArrayList", name := "<init>", desc := "(I)V" } : Jvm.MethodName)) ∈ lw_all := lw_g (lw_at lw_m1 47 rfl) rfl
theorem q133 : (Jvm.Cond.classLink "BedBook" (56 : Nat) "BedBook$Reader") ∈ lw_all := lw_g (lw_at lw_m1 73 rfl) rfl
theorem q135 : (Jvm.Cond.methodLinkNest "BedBook" (58 : Nat) ({ cls := "BedBook$Reader", name := "<init>", desc := "()V" } : Jvm.MethodName) "BedBook") ∈ lw_tbl := lw_at lw_m1 75 rfl
theorem q163 : (Jvm.Cond.classLink "BedBook" (63 : Nat) "BedBook$Ask") ∈ lw_all := lw_g (lw_at lw_m1 103 rfl) rfl
theorem q165 : (Jvm.Cond.methodLinkNest "BedBook" (65 : Nat) ({ cls := "BedBook$Ask", name := "<init>", desc := "()V" } : Jvm.MethodName) "BedBook") ∈ lw_tbl := lw_at lw_m1 105 rfl
theorem q170 : (Jvm.Cond.fieldLinkNest "BedBook" (251 : Nat) "BedBook$Ask" "place" "I" "BedBook") ∈ lw_tbl := lw_at lw_m1 110 rfl
theorem q172 : (Jvm.Cond.fieldLinkNest "BedBook" (253 : Nat) "BedBook$Ask" "name" "I" "BedBook") ∈ lw_tbl := lw_at lw_m1 112 rfl
theorem q174 : (Jvm.Cond.fieldLinkNest "BedBook" (256 : Nat) "BedBook$Ask" "house" "I" "BedBook") ∈ lw_tbl := lw_at lw_m1 114 rfl
theorem q176 : (Jvm.Cond.fieldLinkNest "BedBook" (259 : Nat) "BedBook$Ask" "aim" "I" "BedBook") ∈ lw_tbl := lw_at lw_m1 116 rfl
theorem q178 : (Jvm.Cond.fieldLinkNest "BedBook" (265 : Nat) "BedBook$Ask" "cut" "I" "BedBook") ∈ lw_tbl := lw_at lw_m1 118 rfl
theorem q180 : (Jvm.Cond.fieldLinkNest "BedBook" (268 : Nat) "BedBook$Ask" "pieces" "I" "BedBook") ∈ lw_tbl := lw_at lw_m1 120 rfl
theorem q182 : (Jvm.Cond.fieldLinkNest "BedBook" (269 : Nat) "BedBook$Ask" "day" "I" "BedBook") ∈ lw_tbl := lw_at lw_m1 122 rfl
theorem q198 : (Jvm.Cond.fieldLink "BedBook" (105 : Nat) "BedBook" "now" "I") ∈ lw_all := lw_g (lw_at lw_m1 138 rfl) rfl
theorem q199 : (Jvm.Cond.fieldLink "BedBook" (12 : Nat) "BedBook" "plants" "Ljava/util/ArrayList;") ∈ lw_all := lw_g (lw_at lw_m1 139 rfl) rfl
theorem q200 : (Jvm.Cond.fieldLink "BedBook" (18 : Nat) "BedBook" "beds" "Ljava/util/ArrayList;") ∈ lw_all := lw_g (lw_at lw_m1 140 rfl) rfl
theorem q201 : (Jvm.Cond.fieldLink "BedBook" (21 : Nat) "BedBook" "givenTo" "[I") ∈ lw_all := lw_g (lw_at lw_m1 141 rfl) rfl
theorem q202 : (Jvm.Cond.fieldLink "BedBook" (25 : Nat) "BedBook" "given" "[I") ∈ lw_all := lw_g (lw_at lw_m1 142 rfl) rfl
theorem q203 : (Jvm.Cond.fieldLink "BedBook" (28 : Nat) "BedBook" "givenOn" "[I") ∈ lw_all := lw_g (lw_at lw_m1 143 rfl) rfl
theorem q204 : (Jvm.Cond.fieldLink "BedBook" (31 : Nat) "BedBook" "joined" "[I") ∈ lw_all := lw_g (lw_at lw_m1 144 rfl) rfl
theorem q205 : (Jvm.Cond.fieldLink "BedBook" (34 : Nat) "BedBook" "joinedTo" "[I") ∈ lw_all := lw_g (lw_at lw_m1 145 rfl) rfl
theorem q206 : (Jvm.Cond.fieldLink "BedBook" (37 : Nat) "BedBook" "joinedOn" "[I") ∈ lw_all := lw_g (lw_at lw_m1 146 rfl) rfl
theorem q207 : (Jvm.Cond.fieldLink "BedBook" (40 : Nat) "BedBook" "sentPlant" "[I") ∈ lw_all := lw_g (lw_at lw_m1 147 rfl) rfl
theorem q208 : (Jvm.Cond.fieldLink "BedBook" (43 : Nat) "BedBook" "sentHouse" "[I") ∈ lw_all := lw_g (lw_at lw_m1 148 rfl) rfl
theorem q209 : (Jvm.Cond.fieldLink "BedBook" (46 : Nat) "BedBook" "sentAim" "[I") ∈ lw_all := lw_g (lw_at lw_m1 149 rfl) rfl
theorem q210 : (Jvm.Cond.fieldLink "BedBook" (49 : Nat) "BedBook" "sentDay" "[I") ∈ lw_all := lw_g (lw_at lw_m1 150 rfl) rfl
theorem q211 : (Jvm.Cond.fieldLink "BedBook" (158 : Nat) "BedBook" "names" "I") ∈ lw_all := lw_g (lw_at lw_m1 151 rfl) rfl
theorem q212 : (Jvm.Cond.fieldLink "BedBook" (161 : Nat) "BedBook" "joins" "I") ∈ lw_all := lw_g (lw_at lw_m1 152 rfl) rfl
theorem q213 : (Jvm.Cond.fieldLink "BedBook" (291 : Nat) "BedBook" "sends" "I") ∈ lw_all := lw_g (lw_at lw_m1 153 rfl) rfl
theorem q214 : (Jvm.Cond.fieldLink "BedBook" (52 : Nat) "BedBook" "tape" "[B") ∈ lw_all := lw_g (lw_at lw_m1 154 rfl) rfl
theorem q215 : (Jvm.Cond.fieldLink "BedBook" (232 : Nat) "BedBook" "taped" "I") ∈ lw_all := lw_g (lw_at lw_m1 155 rfl) rfl
theorem q216 : (Jvm.Cond.fieldLink "BedBook" (59 : Nat) "BedBook" "reader" "LBedBook$Reader;") ∈ lw_all := lw_g (lw_at lw_m1 156 rfl) rfl
theorem q217 : (Jvm.Cond.fieldLink "BedBook" (66 : Nat) "BedBook" "ask" "LBedBook$Ask;") ∈ lw_all := lw_g (lw_at lw_m1 157 rfl) rfl
theorem q218 : (Jvm.Cond.fieldLink "BedBook" (70 : Nat) "BedBook" "text" "Ljava/util/ArrayList;") ∈ lw_all := lw_g (lw_at lw_m1 158 rfl) rfl
theorem q219 : (Jvm.Cond.fieldLink "BedBook" (73 : Nat) "BedBook" "would" "[I") ∈ lw_all := lw_g (lw_at lw_m1 159 rfl) rfl
theorem q220 : (Jvm.Cond.fieldLink "BedBook" (76 : Nat) "BedBook" "full" "[I") ∈ lw_all := lw_g (lw_at lw_m1 160 rfl) rfl
theorem q221 : (Jvm.Cond.fieldLink "BedBook" (79 : Nat) "BedBook" "cost" "[I") ∈ lw_all := lw_g (lw_at lw_m1 161 rfl) rfl
theorem q222 : (Jvm.Cond.fieldLink "BedBook" (82 : Nat) "BedBook" "from" "[I") ∈ lw_all := lw_g (lw_at lw_m1 162 rfl) rfl
theorem q223 : (Jvm.Cond.fieldLink "BedBook" (85 : Nat) "BedBook" "by" "[I") ∈ lw_all := lw_g (lw_at lw_m1 163 rfl) rfl
theorem q224 : (Jvm.Cond.lays "BedBook" "BedBook" "now" "I") ∈ lw_all := lw_g (lw_at lw_m1 164 rfl) rfl
theorem q225 : (Jvm.Cond.soleField "BedBook" "now") ∈ lw_all := lw_g (lw_at lw_m1 165 rfl) rfl
theorem q226 : (Jvm.Cond.laysFinal "BedBook" "BedBook" "plants" "Ljava/util/ArrayList;") ∈ lw_all := lw_g (lw_at lw_m1 166 rfl) rfl
theorem q227 : (Jvm.Cond.soleField "BedBook" "plants") ∈ lw_all := lw_g (lw_at lw_m1 167 rfl) rfl
theorem q228 : (Jvm.Cond.laysFinal "BedBook" "BedBook" "beds" "Ljava/util/ArrayList;") ∈ lw_all := lw_g (lw_at lw_m1 168 rfl) rfl
theorem q229 : (Jvm.Cond.soleField "BedBook" "beds") ∈ lw_all := lw_g (lw_at lw_m1 169 rfl) rfl
theorem q230 : (Jvm.Cond.laysFinal "BedBook" "BedBook" "givenTo" "[I") ∈ lw_all := lw_g (lw_at lw_m1 170 rfl) rfl
theorem q231 : (Jvm.Cond.soleField "BedBook" "givenTo") ∈ lw_all := lw_g (lw_at lw_m1 171 rfl) rfl
theorem q232 : (Jvm.Cond.laysFinal "BedBook" "BedBook" "given" "[I") ∈ lw_all := lw_g (lw_at lw_m1 172 rfl) rfl
theorem q233 : (Jvm.Cond.soleField "BedBook" "given") ∈ lw_all := lw_g (lw_at lw_m1 173 rfl) rfl
theorem q234 : (Jvm.Cond.laysFinal "BedBook" "BedBook" "givenOn" "[I") ∈ lw_all := lw_g (lw_at lw_m1 174 rfl) rfl
theorem q235 : (Jvm.Cond.soleField "BedBook" "givenOn") ∈ lw_all := lw_g (lw_at lw_m1 175 rfl) rfl
theorem q236 : (Jvm.Cond.laysFinal "BedBook" "BedBook" "joined" "[I") ∈ lw_all := lw_g (lw_at lw_m1 176 rfl) rfl
theorem q237 : (Jvm.Cond.soleField "BedBook" "joined") ∈ lw_all := lw_g (lw_at lw_m1 177 rfl) rfl
theorem q238 : (Jvm.Cond.laysFinal "BedBook" "BedBook" "joinedTo" "[I") ∈ lw_all := lw_g (lw_at lw_m1 178 rfl) rfl
theorem q239 : (Jvm.Cond.soleField "BedBook" "joinedTo") ∈ lw_all := lw_g (lw_at lw_m1 179 rfl) rfl
theorem q240 : (Jvm.Cond.laysFinal "BedBook" "BedBook" "joinedOn" "[I") ∈ lw_all := lw_g (lw_at lw_m1 180 rfl) rfl
theorem q241 : (Jvm.Cond.soleField "BedBook" "joinedOn") ∈ lw_all := lw_g (lw_at lw_m1 181 rfl) rfl
theorem q242 : (Jvm.Cond.laysFinal "BedBook" "BedBook" "sentPlant" "[I") ∈ lw_all := lw_g (lw_at lw_m1 182 rfl) rfl
theorem q243 : (Jvm.Cond.soleField "BedBook" "sentPlant") ∈ lw_all := lw_g (lw_at lw_m1 183 rfl) rfl
theorem q244 : (Jvm.Cond.laysFinal "BedBook" "BedBook" "sentHouse" "[I") ∈ lw_all := lw_g (lw_at lw_m1 184 rfl) rfl
theorem q245 : (Jvm.Cond.soleField "BedBook" "sentHouse") ∈ lw_all := lw_g (lw_at lw_m1 185 rfl) rfl
theorem q246 : (Jvm.Cond.laysFinal "BedBook" "BedBook" "sentAim" "[I") ∈ lw_all := lw_g (lw_at lw_m1 186 rfl) rfl
theorem q247 : (Jvm.Cond.soleField "BedBook" "sentAim") ∈ lw_all := lw_g (lw_at lw_m1 187 rfl) rfl
theorem q248 : (Jvm.Cond.laysFinal "BedBook" "BedBook" "sentDay" "[I") ∈ lw_all := lw_g (lw_at lw_m1 188 rfl) rfl
theorem q249 : (Jvm.Cond.soleField "BedBook" "sentDay") ∈ lw_all := lw_g (lw_at lw_m1 189 rfl) rfl
theorem q250 : (Jvm.Cond.lays "BedBook" "BedBook" "names" "I") ∈ lw_all := lw_g (lw_at lw_m1 190 rfl) rfl
theorem q251 : (Jvm.Cond.soleField "BedBook" "names") ∈ lw_all := lw_g (lw_at lw_m1 191 rfl) rfl
theorem q252 : (Jvm.Cond.lays "BedBook" "BedBook" "joins" "I") ∈ lw_all := lw_g (lw_at lw_m1 192 rfl) rfl
theorem q253 : (Jvm.Cond.soleField "BedBook" "joins") ∈ lw_all := lw_g (lw_at lw_m1 193 rfl) rfl
theorem q254 : (Jvm.Cond.lays "BedBook" "BedBook" "sends" "I") ∈ lw_all := lw_g (lw_at lw_m1 194 rfl) rfl
theorem q255 : (Jvm.Cond.soleField "BedBook" "sends") ∈ lw_all := lw_g (lw_at lw_m1 195 rfl) rfl
theorem q256 : (Jvm.Cond.laysFinal "BedBook" "BedBook" "tape" "[B") ∈ lw_all := lw_g (lw_at lw_m1 196 rfl) rfl
theorem q257 : (Jvm.Cond.soleField "BedBook" "tape") ∈ lw_all := lw_g (lw_at lw_m1 197 rfl) rfl
theorem q258 : (Jvm.Cond.lays "BedBook" "BedBook" "taped" "I") ∈ lw_all := lw_g (lw_at lw_m1 198 rfl) rfl
theorem q259 : (Jvm.Cond.soleField "BedBook" "taped") ∈ lw_all := lw_g (lw_at lw_m1 199 rfl) rfl
theorem q260 : (Jvm.Cond.laysFinal "BedBook" "BedBook" "reader" "LBedBook$Reader;") ∈ lw_all := lw_g (lw_at lw_m1 200 rfl) rfl
theorem q261 : (Jvm.Cond.soleField "BedBook" "reader") ∈ lw_all := lw_g (lw_at lw_m1 201 rfl) rfl
theorem q262 : (Jvm.Cond.laysFinal "BedBook" "BedBook" "ask" "LBedBook$Ask;") ∈ lw_all := lw_g (lw_at lw_m1 202 rfl) rfl
theorem q263 : (Jvm.Cond.soleField "BedBook" "ask") ∈ lw_all := lw_g (lw_at lw_m1 203 rfl) rfl
theorem q264 : (Jvm.Cond.lays "BedBook" "BedBook" "text" "Ljava/util/ArrayList;") ∈ lw_all := lw_g (lw_at lw_m1 204 rfl) rfl
theorem q265 : (Jvm.Cond.soleField "BedBook" "text") ∈ lw_all := lw_g (lw_at lw_m1 205 rfl) rfl
theorem q266 : (Jvm.Cond.laysFinal "BedBook" "BedBook" "would" "[I") ∈ lw_all := lw_g (lw_at lw_m1 206 rfl) rfl
theorem q267 : (Jvm.Cond.soleField "BedBook" "would") ∈ lw_all := lw_g (lw_at lw_m1 207 rfl) rfl
theorem q268 : (Jvm.Cond.laysFinal "BedBook" "BedBook" "full" "[I") ∈ lw_all := lw_g (lw_at lw_m1 208 rfl) rfl
theorem q269 : (Jvm.Cond.soleField "BedBook" "full") ∈ lw_all := lw_g (lw_at lw_m1 209 rfl) rfl
theorem q270 : (Jvm.Cond.laysFinal "BedBook" "BedBook" "cost" "[I") ∈ lw_all := lw_g (lw_at lw_m1 210 rfl) rfl
theorem q271 : (Jvm.Cond.soleField "BedBook" "cost") ∈ lw_all := lw_g (lw_at lw_m1 211 rfl) rfl
theorem q272 : (Jvm.Cond.laysFinal "BedBook" "BedBook" "from" "[I") ∈ lw_all := lw_g (lw_at lw_m1 212 rfl) rfl
theorem q273 : (Jvm.Cond.soleField "BedBook" "from") ∈ lw_all := lw_g (lw_at lw_m1 213 rfl) rfl
theorem q274 : (Jvm.Cond.laysFinal "BedBook" "BedBook" "by" "[I") ∈ lw_all := lw_g (lw_at lw_m1 214 rfl) rfl
theorem q275 : (Jvm.Cond.soleField "BedBook" "by") ∈ lw_all := lw_g (lw_at lw_m1 215 rfl) rfl
theorem q276 : (Jvm.Cond.superclass "BedBook" "java/lang/Object") ∈ lw_all := lw_g (lw_at lw_m1 216 rfl) rfl
theorem q278 : (Jvm.Cond.instanceMethod ({ cls := "BedBook", name := "days", desc := "(I)I" } : Jvm.MethodName)) ∈ lw_all := lw_g (lw_at lw_m1 218 rfl) rfl
theorem q279 : (Jvm.Cond.selects "BedBook" ({ cls := "BedBook", name := "days", desc := "(I)I" } : Jvm.MethodName) ({ cls := "BedBook", name := "days", desc := "(I)I" } : Jvm.MethodName)) ∈ lw_all := lw_g (lw_at lw_m1 219 rfl) rfl
theorem q280 : (Jvm.Cond.code ({ cls := "BedBook", name := "days", desc := "(I)I" } : Jvm.MethodName) prog_1_method_6_code (2 : Nat) (Option.some Jvm.ClassFile.FieldType.int)) ∈ lw_all := lw_g (lw_at lw_m1 220 rfl) rfl
theorem q281 : (Jvm.Cond.methodLink "BedBook" (92 : Nat) ({ cls := "BedBook", name := "in", desc := "(III)Z" } : Jvm.MethodName)) ∈ lw_all := lw_g (lw_at lw_m1 221 rfl) rfl
theorem q282 : (Jvm.Cond.static ({ cls := "BedBook", name := "in", desc := "(III)Z" } : Jvm.MethodName)) ∈ lw_all := lw_g (lw_at lw_m1 222 rfl) rfl
theorem q283 : (Jvm.Cond.code ({ cls := "BedBook", name := "in", desc := "(III)Z" } : Jvm.MethodName) prog_1_method_2_code (3 : Nat) (Option.some Jvm.ClassFile.FieldType.boolean)) ∈ lw_all := lw_g (lw_at lw_m1 223 rfl) rfl
theorem q285 : (Jvm.Cond.instanceMethod ({ cls := "BedBook", name := "wild", desc := "(II)I" } : Jvm.MethodName)) ∈ lw_all := lw_g (lw_at lw_m1 225 rfl) rfl
theorem q286 : (Jvm.Cond.selects "BedBook" ({ cls := "BedBook", name := "wild", desc := "(II)I" } : Jvm.MethodName) ({ cls := "BedBook", name := "wild", desc := "(II)I" } : Jvm.MethodName)) ∈ lw_all := lw_g (lw_at lw_m1 226 rfl) rfl
theorem q287 : (Jvm.Cond.code ({ cls := "BedBook", name := "wild", desc := "(II)I" } : Jvm.MethodName) prog_1_method_7_code (3 : Nat) (Option.some Jvm.ClassFile.FieldType.int)) ∈ lw_all := lw_g (lw_at lw_m1 227 rfl) rfl
theorem q288 : (Jvm.Cond.methodLink "BedBook" (109 : Nat) ({ cls := "BedBook", name := "isFull", desc := "()Z" } : Jvm.MethodName)) ∈ lw_all := lw_g (lw_at lw_m1 228 rfl) rfl
theorem q289 : (Jvm.Cond.privateMethod ({ cls := "BedBook", name := "isFull", desc := "()Z" } : Jvm.MethodName)) ∈ lw_tbl := lw_at lw_m1 229 rfl
theorem q290 : (Jvm.Cond.instanceMethod ({ cls := "BedBook", name := "isFull", desc := "()Z" } : Jvm.MethodName)) ∈ lw_all := lw_g (lw_at lw_m1 230 rfl) rfl
theorem q291 : (Jvm.Cond.code ({ cls := "BedBook", name := "isFull", desc := "()Z" } : Jvm.MethodName) prog_1_method_4_code (1 : Nat) (Option.some Jvm.ClassFile.FieldType.boolean)) ∈ lw_all := lw_g (lw_at lw_m1 231 rfl) rfl
theorem q292 : (Jvm.Cond.methodLink "BedBook" (88 : Nat) ({ cls := "java/util/ArrayList", name := "size", desc := "()I" } : Jvm.MethodName)) ∈ lw_all := lw_g (lw_at lw_m1 232 rfl) rfl
theorem q296 : (Jvm.Cond.classLink "BedBook" (113 : Nat) "BedBook$Wild") ∈ lw_all := lw_g (lw_at lw_m1 236 rfl) rfl
theorem q298 : (Jvm.Cond.methodLink "BedBook" (115 : Nat) ({ cls := "BedBook$Wild", name := "<init>", desc := "(III)V" } : Jvm.MethodName)) ∈ lw_all := lw_g (lw_at lw_m1 238 rfl) rfl
theorem q307 : (Jvm.Cond.fieldLinkNest "BedBook" (311 : Nat) "BedBook$Plant" "number" "I" "BedBook") ∈ lw_tbl := lw_at lw_m2 7 rfl
theorem q309 : (Jvm.Cond.fieldLinkNest "BedBook" (304 : Nat) "BedBook$Plant" "kind" "I" "BedBook") ∈ lw_tbl := lw_at lw_m2 9 rfl
theorem q311 : (Jvm.Cond.fieldLinkNest "BedBook" (140 : Nat) "BedBook$Plant" "pieces" "I" "BedBook") ∈ lw_tbl := lw_at lw_m2 11 rfl
theorem q312 : (Jvm.Cond.fieldLinkNest "BedBook" (294 : Nat) "BedBook$Plant" "missed" "I" "BedBook") ∈ lw_tbl := lw_at lw_m2 12 rfl
theorem q313 : (Jvm.Cond.fieldLinkNest "BedBook" (219 : Nat) "BedBook$Plant" "told" "I" "BedBook") ∈ lw_tbl := lw_at lw_m2 13 rfl
theorem q314 : (Jvm.Cond.fieldLinkNest "BedBook" (297 : Nat) "BedBook$Plant" "isDead" "Z" "BedBook") ∈ lw_tbl := lw_at lw_m2 14 rfl
theorem q316 : (Jvm.Cond.fieldLinkNest "BedBook" (146 : Nat) "BedBook$Plant" "mark" "[I" "BedBook") ∈ lw_tbl := lw_at lw_m2 16 rfl
theorem q318 : (Jvm.Cond.fieldLinkNest "BedBook" (196 : Nat) "BedBook$Plant" "lightFrom" "I" "BedBook") ∈ lw_tbl := lw_at lw_m2 18 rfl
theorem q320 : (Jvm.Cond.fieldLinkNest "BedBook" (199 : Nat) "BedBook$Plant" "lightTo" "I" "BedBook") ∈ lw_tbl := lw_at lw_m2 20 rfl
theorem q322 : (Jvm.Cond.fieldLinkNest "BedBook" (202 : Nat) "BedBook$Plant" "wetFrom" "I" "BedBook") ∈ lw_tbl := lw_at lw_m2 22 rfl
theorem q324 : (Jvm.Cond.fieldLinkNest "BedBook" (205 : Nat) "BedBook$Plant" "wetTo" "I" "BedBook") ∈ lw_tbl := lw_at lw_m2 24 rfl
theorem q325 : (Jvm.Cond.fieldLinkNest "BedBook" (208 : Nat) "BedBook$Plant" "bed" "LBedBook$Bed;" "BedBook") ∈ lw_tbl := lw_at lw_m2 25 rfl
theorem q353 : (Jvm.Cond.methodLink "BedBook" (118 : Nat) ({ cls := "BedBook", name := "comes", desc := "(LBedBook$Plant;)I" } : Jvm.MethodName)) ∈ lw_all := lw_g (lw_at lw_m2 53 rfl) rfl
theorem q354 : (Jvm.Cond.privateMethod ({ cls := "BedBook", name := "comes", desc := "(LBedBook$Plant;)I" } : Jvm.MethodName)) ∈ lw_tbl := lw_at lw_m2 54 rfl
theorem q355 : (Jvm.Cond.instanceMethod ({ cls := "BedBook", name := "comes", desc := "(LBedBook$Plant;)I" } : Jvm.MethodName)) ∈ lw_all := lw_g (lw_at lw_m2 55 rfl) rfl
theorem q356 : (Jvm.Cond.code ({ cls := "BedBook", name := "comes", desc := "(LBedBook$Plant;)I" } : Jvm.MethodName) prog_1_method_5_code (2 : Nat) (Option.some Jvm.ClassFile.FieldType.int)) ∈ lw_all := lw_g (lw_at lw_m2 56 rfl) rfl
theorem q357 : (Jvm.Cond.methodLink "BedBook" (96 : Nat) ({ cls := "java/util/ArrayList", name := "add", desc := "(Ljava/lang/Object;)Z" } : Jvm.MethodName)) ∈ lw_all := lw_g (lw_at lw_m2 57 rfl) rfl
theorem q391 : (Jvm.Cond.selects "BedBook" ({ cls := "java/lang/Object", name := "getClass", desc := "()Ljava/lang/Class;" } : Jvm.MethodName) ({ cls := "java/lang/Object", name := "getClass", desc := "()Ljava/lang/Class;" } : Jvm.MethodName)) ∈ lw_all := lw_g (lw_at lw_m2 91 rfl) rfl
theorem q421 : (Jvm.Cond.methodLink "BedBook" (100 : Nat) ({ cls := "BedBook$Plant", name := "number", desc := "()I" } : Jvm.MethodName)) ∈ lw_all := lw_g (lw_at lw_m2 121 rfl) rfl
theorem q430 : (Jvm.Cond.instanceMethod ({ cls := "BedBook", name := "seed", desc := "(III)I" } : Jvm.MethodName)) ∈ lw_all := lw_g (lw_at lw_m2 130 rfl) rfl
theorem q431 : (Jvm.Cond.selects "BedBook" ({ cls := "BedBook", name := "seed", desc := "(III)I" } : Jvm.MethodName) ({ cls := "BedBook", name := "seed", desc := "(III)I" } : Jvm.MethodName)) ∈ lw_all := lw_g (lw_at lw_m2 131 rfl) rfl
theorem q432 : (Jvm.Cond.code ({ cls := "BedBook", name := "seed", desc := "(III)I" } : Jvm.MethodName) prog_1_method_8_code (4 : Nat) (Option.some Jvm.ClassFile.FieldType.int)) ∈ lw_all := lw_g (lw_at lw_m2 132 rfl) rfl
theorem q433 : (Jvm.Cond.methodLink "BedBook" (122 : Nat) ({ cls := "BedBook", name := "isPlant", desc := "(I)Z" } : Jvm.MethodName)) ∈ lw_all := lw_g (lw_at lw_m2 133 rfl) rfl
theorem q434 : (Jvm.Cond.privateMethod ({ cls := "BedBook", name := "isPlant", desc := "(I)Z" } : Jvm.MethodName)) ∈ lw_tbl := lw_at lw_m2 134 rfl
theorem q435 : (Jvm.Cond.instanceMethod ({ cls := "BedBook", name := "isPlant", desc := "(I)Z" } : Jvm.MethodName)) ∈ lw_all := lw_g (lw_at lw_m2 135 rfl) rfl
theorem q436 : (Jvm.Cond.code ({ cls := "BedBook", name := "isPlant", desc := "(I)Z" } : Jvm.MethodName) prog_1_method_3_code (2 : Nat) (Option.some Jvm.ClassFile.FieldType.boolean)) ∈ lw_all := lw_g (lw_at lw_m2 136 rfl) rfl
theorem q437 : (Jvm.Cond.classLink "BedBook" (126 : Nat) "BedBook$Seed") ∈ lw_all := lw_g (lw_at lw_m2 137 rfl) rfl
theorem q439 : (Jvm.Cond.methodLink "BedBook" (128 : Nat) ({ cls := "java/util/ArrayList", name := "get", desc := "(I)Ljava/lang/Object;" } : Jvm.MethodName)) ∈ lw_all := lw_g (lw_at lw_m2 139 rfl) rfl
theorem q453 : (Jvm.Cond.classLink "BedBook" (101 : Nat) "BedBook$Plant") ∈ lw_all := lw_g (lw_at lw_m2 153 rfl) rfl
theorem q454 : (Jvm.Cond.methodLink "BedBook" (132 : Nat) ({ cls := "BedBook$Seed", name := "<init>", desc := "(ILBedBook$Plant;LBedBook$Plant;I)V" } : Jvm.MethodName)) ∈ lw_all := lw_g (lw_at lw_m2 154 rfl) rfl
theorem q478 : (Jvm.Cond.instanceMethod ({ cls := "BedBook", name := "cut", desc := "(II)I" } : Jvm.MethodName)) ∈ lw_all := lw_g (lw_at lw_m2 178 rfl) rfl
theorem q479 : (Jvm.Cond.selects "BedBook" ({ cls := "BedBook", name := "cut", desc := "(II)I" } : Jvm.MethodName) ({ cls := "BedBook", name := "cut", desc := "(II)I" } : Jvm.MethodName)) ∈ lw_all := lw_g (lw_at lw_m2 179 rfl) rfl
theorem q480 : (Jvm.Cond.code ({ cls := "BedBook", name := "cut", desc := "(II)I" } : Jvm.MethodName) prog_1_method_9_code (3 : Nat) (Option.some Jvm.ClassFile.FieldType.int)) ∈ lw_all := lw_g (lw_at lw_m2 180 rfl) rfl
theorem q481 : (Jvm.Cond.classLink "BedBook" (135 : Nat) "BedBook$Cutting") ∈ lw_all := lw_g (lw_at lw_m2 181 rfl) rfl
theorem q483 : (Jvm.Cond.methodLink "BedBook" (137 : Nat) ({ cls := "BedBook$Cutting", name := "<init>", desc := "(ILBedBook$Plant;I)V" } : Jvm.MethodName)) ∈ lw_all := lw_g (lw_at lw_m2 183 rfl) rfl
theorem q521 : (Jvm.Cond.instanceMethod ({ cls := "BedBook", name := "split", desc := "(II)I" } : Jvm.MethodName)) ∈ lw_all := lw_g (lw_at lw_m2 221 rfl) rfl
theorem q522 : (Jvm.Cond.selects "BedBook" ({ cls := "BedBook", name := "split", desc := "(II)I" } : Jvm.MethodName) ({ cls := "BedBook", name := "split", desc := "(II)I" } : Jvm.MethodName)) ∈ lw_all := lw_g (lw_at lw_m2 222 rfl) rfl
theorem q523 : (Jvm.Cond.code ({ cls := "BedBook", name := "split", desc := "(II)I" } : Jvm.MethodName) prog_1_method_10_code (3 : Nat) (Option.some Jvm.ClassFile.FieldType.int)) ∈ lw_all := lw_g (lw_at lw_m2 223 rfl) rfl
theorem q524 : (Jvm.Cond.classLink "BedBook" (143 : Nat) "BedBook$Split") ∈ lw_all := lw_g (lw_at lw_m2 224 rfl) rfl
theorem q526 : (Jvm.Cond.methodLink "BedBook" (145 : Nat) ({ cls := "BedBook$Split", name := "<init>", desc := "(ILBedBook$Plant;I)V" } : Jvm.MethodName)) ∈ lw_all := lw_g (lw_at lw_m2 226 rfl) rfl
theorem q545 : (Jvm.Cond.instanceMethod ({ cls := "BedBook", name := "mark", desc := "(IIII)Z" } : Jvm.MethodName)) ∈ lw_all := lw_g (lw_at lw_m3 5 rfl) rfl
theorem q546 : (Jvm.Cond.selects "BedBook" ({ cls := "BedBook", name := "mark", desc := "(IIII)Z" } : Jvm.MethodName) ({ cls := "BedBook", name := "mark", desc := "(IIII)Z" } : Jvm.MethodName)) ∈ lw_all := lw_g (lw_at lw_m3 6 rfl) rfl
theorem q547 : (Jvm.Cond.code ({ cls := "BedBook", name := "mark", desc := "(IIII)Z" } : Jvm.MethodName) prog_1_method_11_code (5 : Nat) (Option.some Jvm.ClassFile.FieldType.boolean)) ∈ lw_all := lw_g (lw_at lw_m3 7 rfl) rfl
theorem q548 : (Jvm.Cond.methodLink "BedBook" (149 : Nat) ({ cls := "java/lang/Math", name := "min", desc := "(II)I" } : Jvm.MethodName)) ∈ lw_all := lw_g (lw_at lw_m3 8 rfl) rfl
theorem q549 : (Jvm.Cond.methodLink "BedBook" (155 : Nat) ({ cls := "java/lang/Math", name := "max", desc := "(II)I" } : Jvm.MethodName)) ∈ lw_all := lw_g (lw_at lw_m3 9 rfl) rfl
theorem q551 : (Jvm.Cond.instanceMethod ({ cls := "BedBook", name := "name", desc := "(II)Z" } : Jvm.MethodName)) ∈ lw_all := lw_g (lw_at lw_m3 11 rfl) rfl
theorem q552 : (Jvm.Cond.selects "BedBook" ({ cls := "BedBook", name := "name", desc := "(II)Z" } : Jvm.MethodName) ({ cls := "BedBook", name := "name", desc := "(II)Z" } : Jvm.MethodName)) ∈ lw_all := lw_g (lw_at lw_m3 12 rfl) rfl
theorem q553 : (Jvm.Cond.code ({ cls := "BedBook", name := "name", desc := "(II)Z" } : Jvm.MethodName) prog_1_method_12_code (3 : Nat) (Option.some Jvm.ClassFile.FieldType.boolean)) ∈ lw_all := lw_g (lw_at lw_m3 13 rfl) rfl
theorem q555 : (Jvm.Cond.instanceMethod ({ cls := "BedBook", name := "join", desc := "(II)Z" } : Jvm.MethodName)) ∈ lw_all := lw_g (lw_at lw_m3 15 rfl) rfl
theorem q556 : (Jvm.Cond.selects "BedBook" ({ cls := "BedBook", name := "join", desc := "(II)Z" } : Jvm.MethodName) ({ cls := "BedBook", name := "join", desc := "(II)Z" } : Jvm.MethodName)) ∈ lw_all := lw_g (lw_at lw_m3 16 rfl) rfl
theorem q557 : (Jvm.Cond.code ({ cls := "BedBook", name := "join", desc := "(II)Z" } : Jvm.MethodName) prog_1_method_15_code (3 : Nat) (Option.some Jvm.ClassFile.FieldType.boolean)) ∈ lw_all := lw_g (lw_at lw_m3 17 rfl) rfl
theorem q558 : (Jvm.Cond.methodLink "BedBook" (164 : Nat) ({ cls := "BedBook", name := "leadsBack", desc := "(II)Z" } : Jvm.MethodName)) ∈ lw_all := lw_g (lw_at lw_m3 18 rfl) rfl
theorem q559 : (Jvm.Cond.privateMethod ({ cls := "BedBook", name := "leadsBack", desc := "(II)Z" } : Jvm.MethodName)) ∈ lw_tbl := lw_at lw_m3 19 rfl
theorem q560 : (Jvm.Cond.instanceMethod ({ cls := "BedBook", name := "leadsBack", desc := "(II)Z" } : Jvm.MethodName)) ∈ lw_all := lw_g (lw_at lw_m3 20 rfl) rfl
theorem q561 : (Jvm.Cond.code ({ cls := "BedBook", name := "leadsBack", desc := "(II)Z" } : Jvm.MethodName) prog_1_method_14_code (6 : Nat) (Option.some Jvm.ClassFile.FieldType.boolean)) ∈ lw_all := lw_g (lw_at lw_m3 21 rfl) rfl
theorem q563 : (Jvm.Cond.instanceMethod ({ cls := "BedBook", name := "bed", desc := "(III)I" } : Jvm.MethodName)) ∈ lw_all := lw_g (lw_at lw_m3 23 rfl) rfl
theorem q564 : (Jvm.Cond.selects "BedBook" ({ cls := "BedBook", name := "bed", desc := "(III)I" } : Jvm.MethodName) ({ cls := "BedBook", name := "bed", desc := "(III)I" } : Jvm.MethodName)) ∈ lw_all := lw_g (lw_at lw_m3 24 rfl) rfl
theorem q565 : (Jvm.Cond.code ({ cls := "BedBook", name := "bed", desc := "(III)I" } : Jvm.MethodName) prog_1_method_20_code (4 : Nat) (Option.some Jvm.ClassFile.FieldType.int)) ∈ lw_all := lw_g (lw_at lw_m3 25 rfl) rfl
theorem q566 : (Jvm.Cond.classLink "BedBook" (182 : Nat) "BedBook$Bed") ∈ lw_all := lw_g (lw_at lw_m3 26 rfl) rfl
theorem q568 : (Jvm.Cond.methodLink "BedBook" (184 : Nat) ({ cls := "BedBook$Bed", name := "<init>", desc := "(IIII)V" } : Jvm.MethodName)) ∈ lw_all := lw_g (lw_at lw_m3 28 rfl) rfl
theorem q574 : (Jvm.Cond.fieldLinkNest "BedBook" (190 : Nat) "BedBook$Bed" "light" "I" "BedBook") ∈ lw_tbl := lw_at lw_m3 34 rfl
theorem q577 : (Jvm.Cond.fieldLinkNest "BedBook" (193 : Nat) "BedBook$Bed" "wet" "I" "BedBook") ∈ lw_tbl := lw_at lw_m3 37 rfl
theorem q579 : (Jvm.Cond.fieldLinkNest "BedBook" (319 : Nat) "BedBook$Bed" "number" "I" "BedBook") ∈ lw_tbl := lw_at lw_m3 39 rfl
theorem q581 : (Jvm.Cond.fieldLinkNest "BedBook" (212 : Nat) "BedBook$Bed" "room" "I" "BedBook") ∈ lw_tbl := lw_at lw_m3 41 rfl
theorem q592 : (Jvm.Cond.instanceMethod ({ cls := "BedBook", name := "change", desc := "(III)Z" } : Jvm.MethodName)) ∈ lw_all := lw_g (lw_at lw_m3 52 rfl) rfl
theorem q593 : (Jvm.Cond.selects "BedBook" ({ cls := "BedBook", name := "change", desc := "(III)Z" } : Jvm.MethodName) ({ cls := "BedBook", name := "change", desc := "(III)Z" } : Jvm.MethodName)) ∈ lw_all := lw_g (lw_at lw_m3 53 rfl) rfl
theorem q594 : (Jvm.Cond.code ({ cls := "BedBook", name := "change", desc := "(III)Z" } : Jvm.MethodName) prog_1_method_21_code (4 : Nat) (Option.some Jvm.ClassFile.FieldType.boolean)) ∈ lw_all := lw_g (lw_at lw_m3 54 rfl) rfl
theorem q595 : (Jvm.Cond.methodLink "BedBook" (187 : Nat) ({ cls := "BedBook", name := "isBed", desc := "(I)Z" } : Jvm.MethodName)) ∈ lw_all := lw_g (lw_at lw_m3 55 rfl) rfl
theorem q596 : (Jvm.Cond.privateMethod ({ cls := "BedBook", name := "isBed", desc := "(I)Z" } : Jvm.MethodName)) ∈ lw_tbl := lw_at lw_m3 56 rfl
theorem q597 : (Jvm.Cond.instanceMethod ({ cls := "BedBook", name := "isBed", desc := "(I)Z" } : Jvm.MethodName)) ∈ lw_all := lw_g (lw_at lw_m3 57 rfl) rfl
theorem q598 : (Jvm.Cond.code ({ cls := "BedBook", name := "isBed", desc := "(I)Z" } : Jvm.MethodName) prog_1_method_19_code (2 : Nat) (Option.some Jvm.ClassFile.FieldType.boolean)) ∈ lw_all := lw_g (lw_at lw_m3 58 rfl) rfl
theorem q600 : (Jvm.Cond.instanceMethod ({ cls := "BedBook", name := "needs", desc := "(IIIII)Z" } : Jvm.MethodName)) ∈ lw_all := lw_g (lw_at lw_m3 60 rfl) rfl
theorem q601 : (Jvm.Cond.selects "BedBook" ({ cls := "BedBook", name := "needs", desc := "(IIIII)Z" } : Jvm.MethodName) ({ cls := "BedBook", name := "needs", desc := "(IIIII)Z" } : Jvm.MethodName)) ∈ lw_all := lw_g (lw_at lw_m3 61 rfl) rfl
theorem q602 : (Jvm.Cond.code ({ cls := "BedBook", name := "needs", desc := "(IIIII)Z" } : Jvm.MethodName) prog_1_method_22_code (7 : Nat) (Option.some Jvm.ClassFile.FieldType.boolean)) ∈ lw_all := lw_g (lw_at lw_m3 62 rfl) rfl
theorem q604 : (Jvm.Cond.instanceMethod ({ cls := "BedBook", name := "lay", desc := "(II)Z" } : Jvm.MethodName)) ∈ lw_all := lw_g (lw_at lw_m3 64 rfl) rfl
theorem q605 : (Jvm.Cond.selects "BedBook" ({ cls := "BedBook", name := "lay", desc := "(II)Z" } : Jvm.MethodName) ({ cls := "BedBook", name := "lay", desc := "(II)Z" } : Jvm.MethodName)) ∈ lw_all := lw_g (lw_at lw_m3 65 rfl) rfl
theorem q606 : (Jvm.Cond.code ({ cls := "BedBook", name := "lay", desc := "(II)Z" } : Jvm.MethodName) prog_1_method_23_code (7 : Nat) (Option.some Jvm.ClassFile.FieldType.boolean)) ∈ lw_all := lw_g (lw_at lw_m3 66 rfl) rfl
theorem q607 : (Jvm.Cond.methodLink "BedBook" (215 : Nat) ({ cls := "BedBook$Plant", name := "suits", desc := "(LBedBook$Bed;)Z" } : Jvm.MethodName)) ∈ lw_all := lw_g (lw_at lw_m3 67 rfl) rfl
theorem q616 : (Jvm.Cond.instanceMethod ({ cls := "BedBook", name := "moves", desc := "()I" } : Jvm.MethodName)) ∈ lw_all := lw_g (lw_at lw_m3 76 rfl) rfl
theorem q617 : (Jvm.Cond.selects "BedBook" ({ cls := "BedBook", name := "moves", desc := "()I" } : Jvm.MethodName) ({ cls := "BedBook", name := "moves", desc := "()I" } : Jvm.MethodName)) ∈ lw_all := lw_g (lw_at lw_m3 77 rfl) rfl
theorem q618 : (Jvm.Cond.code ({ cls := "BedBook", name := "moves", desc := "()I" } : Jvm.MethodName) prog_1_method_25_code (4 : Nat) (Option.some Jvm.ClassFile.FieldType.int)) ∈ lw_all := lw_g (lw_at lw_m3 78 rfl) rfl
theorem q619 : (Jvm.Cond.methodLink "BedBook" (222 : Nat) ({ cls := "BedBook", name := "brings", desc := "(I)I" } : Jvm.MethodName)) ∈ lw_all := lw_g (lw_at lw_m3 79 rfl) rfl
theorem q620 : (Jvm.Cond.privateMethod ({ cls := "BedBook", name := "brings", desc := "(I)I" } : Jvm.MethodName)) ∈ lw_tbl := lw_at lw_m3 80 rfl
theorem q621 : (Jvm.Cond.instanceMethod ({ cls := "BedBook", name := "brings", desc := "(I)I" } : Jvm.MethodName)) ∈ lw_all := lw_g (lw_at lw_m3 81 rfl) rfl
theorem q622 : (Jvm.Cond.code ({ cls := "BedBook", name := "brings", desc := "(I)I" } : Jvm.MethodName) prog_1_method_26_code (6 : Nat) (Option.some Jvm.ClassFile.FieldType.int)) ∈ lw_all := lw_g (lw_at lw_m3 82 rfl) rfl
theorem q623 : (Jvm.Cond.methodLink "BedBook" (226 : Nat) ({ cls := "BedBook", name := "price", desc := "(II)I" } : Jvm.MethodName)) ∈ lw_all := lw_g (lw_at lw_m3 83 rfl) rfl
theorem q624 : (Jvm.Cond.privateMethod ({ cls := "BedBook", name := "price", desc := "(II)I" } : Jvm.MethodName)) ∈ lw_tbl := lw_at lw_m3 84 rfl
theorem q625 : (Jvm.Cond.instanceMethod ({ cls := "BedBook", name := "price", desc := "(II)I" } : Jvm.MethodName)) ∈ lw_all := lw_g (lw_at lw_m3 85 rfl) rfl
theorem q626 : (Jvm.Cond.code ({ cls := "BedBook", name := "price", desc := "(II)I" } : Jvm.MethodName) prog_1_method_24_code (3 : Nat) (Option.some Jvm.ClassFile.FieldType.int)) ∈ lw_all := lw_g (lw_at lw_m3 86 rfl) rfl
theorem q627 : (Jvm.Cond.methodLink "BedBook" (229 : Nat) ({ cls := "BedBook", name := "goesOn", desc := "(I)V" } : Jvm.MethodName)) ∈ lw_all := lw_g (lw_at lw_m3 87 rfl) rfl
theorem q628 : (Jvm.Cond.privateMethod ({ cls := "BedBook", name := "goesOn", desc := "(I)V" } : Jvm.MethodName)) ∈ lw_tbl := lw_at lw_m3 88 rfl
theorem q629 : (Jvm.Cond.instanceMethod ({ cls := "BedBook", name := "goesOn", desc := "(I)V" } : Jvm.MethodName)) ∈ lw_all := lw_g (lw_at lw_m3 89 rfl) rfl
theorem q630 : (Jvm.Cond.code ({ cls := "BedBook", name := "goesOn", desc := "(I)V" } : Jvm.MethodName) prog_1_method_27_code (5 : Nat) (Option.none : Option Jvm.ClassFile.FieldType)) ∈ lw_all := lw_g (lw_at lw_m3 90 rfl) rfl
theorem q632 : (Jvm.Cond.instanceMethod ({ cls := "BedBook", name := "feed", desc := "(JJJ)I" } : Jvm.MethodName)) ∈ lw_all := lw_g (lw_at lw_m3 92 rfl) rfl
theorem q633 : (Jvm.Cond.selects "BedBook" ({ cls := "BedBook", name := "feed", desc := "(JJJ)I" } : Jvm.MethodName) ({ cls := "BedBook", name := "feed", desc := "(JJJ)I" } : Jvm.MethodName)) ∈ lw_all := lw_g (lw_at lw_m3 93 rfl) rfl
theorem q634 : (Jvm.Cond.code ({ cls := "BedBook", name := "feed", desc := "(JJJ)I" } : Jvm.MethodName) prog_1_method_28_code (9 : Nat) (Option.some Jvm.ClassFile.FieldType.int)) ∈ lw_all := lw_g (lw_at lw_m3 94 rfl) rfl
theorem q636 : (Jvm.Cond.instanceMethod ({ cls := "BedBook", name := "text", desc := "()I" } : Jvm.MethodName)) ∈ lw_all := lw_g (lw_at lw_m3 96 rfl) rfl
theorem q637 : (Jvm.Cond.selects "BedBook" ({ cls := "BedBook", name := "text", desc := "()I" } : Jvm.MethodName) ({ cls := "BedBook", name := "text", desc := "()I" } : Jvm.MethodName)) ∈ lw_all := lw_g (lw_at lw_m3 97 rfl) rfl
theorem q638 : (Jvm.Cond.codeWith ({ cls := "BedBook", name := "text", desc := "()I" } : Jvm.MethodName) prog_1_method_29_code (3 : Nat) (Option.some Jvm.ClassFile.FieldType.int) [((22 : Nat), (33 : Nat), (36 : Nat), (243 : Nat))]) ∈ lw_all := lw_g (lw_at lw_m3 98 rfl) rfl
theorem q639 : (Jvm.Cond.classLink "BedBook" (243 : Nat) "BedBook$Wrong") ∈ lw_all := lw_g (lw_at lw_m3 99 rfl) rfl
theorem q640 : (Jvm.Cond.methodLink "BedBook" (235 : Nat) ({ cls := "BedBook$Reader", name := "begin", desc := "([BI)V" } : Jvm.MethodName)) ∈ lw_all := lw_g (lw_at lw_m3 100 rfl) rfl
theorem q741 : (Jvm.Cond.methodLink "BedBook" (239 : Nat) ({ cls := "BedBook$Reader", name := "whole", desc := "()Ljava/util/ArrayList;" } : Jvm.MethodName)) ∈ lw_all := lw_g (lw_at lw_m3 201 rfl) rfl
theorem q829 : (Jvm.Cond.fieldLinkNest "BedBook" (245 : Nat) "BedBook$Wrong" "fault" "I" "BedBook") ∈ lw_tbl := lw_at lw_m4 49 rfl
theorem q1016 : (Jvm.Cond.fieldLinkNest "BedBook" (284 : Nat) "BedBook$Line" "lets" "Z" "BedBook") ∈ lw_tbl := lw_at lw_m4 236 rfl
theorem q1018 : (Jvm.Cond.fieldLinkNest "BedBook" (274 : Nat) "BedBook$Line" "when" "LBedBook$Exp;" "BedBook") ∈ lw_tbl := lw_at lw_m4 238 rfl
theorem q1026 : (Jvm.Cond.instanceMethod ({ cls := "BedBook", name := "may", desc := "(III)I" } : Jvm.MethodName)) ∈ lw_all := lw_g (lw_at lw_m5 6 rfl) rfl
theorem q1027 : (Jvm.Cond.selects "BedBook" ({ cls := "BedBook", name := "may", desc := "(III)I" } : Jvm.MethodName) ({ cls := "BedBook", name := "may", desc := "(III)I" } : Jvm.MethodName)) ∈ lw_all := lw_g (lw_at lw_m5 7 rfl) rfl
theorem q1028 : (Jvm.Cond.code ({ cls := "BedBook", name := "may", desc := "(III)I" } : Jvm.MethodName) prog_1_method_30_code (6 : Nat) (Option.some Jvm.ClassFile.FieldType.int)) ∈ lw_all := lw_g (lw_at lw_m5 8 rfl) rfl
theorem q1029 : (Jvm.Cond.methodLink "BedBook" (248 : Nat) ({ cls := "BedBook$Plant", name := "place", desc := "()I" } : Jvm.MethodName)) ∈ lw_all := lw_g (lw_at lw_m5 9 rfl) rfl
theorem q1052 : (Jvm.Cond.methodLink "BedBook" (178 : Nat) ({ cls := "BedBook", name := "nameOf", desc := "(III)I" } : Jvm.MethodName)) ∈ lw_all := lw_g (lw_at lw_m5 32 rfl) rfl
theorem q1053 : (Jvm.Cond.privateMethod ({ cls := "BedBook", name := "nameOf", desc := "(III)I" } : Jvm.MethodName)) ∈ lw_tbl := lw_at lw_m5 33 rfl
theorem q1054 : (Jvm.Cond.instanceMethod ({ cls := "BedBook", name := "nameOf", desc := "(III)I" } : Jvm.MethodName)) ∈ lw_all := lw_g (lw_at lw_m5 34 rfl) rfl
theorem q1055 : (Jvm.Cond.code ({ cls := "BedBook", name := "nameOf", desc := "(III)I" } : Jvm.MethodName) prog_1_method_16_code (6 : Nat) (Option.some Jvm.ClassFile.FieldType.int)) ∈ lw_all := lw_g (lw_at lw_m5 35 rfl) rfl
theorem q1056 : (Jvm.Cond.methodLink "BedBook" (168 : Nat) ({ cls := "BedBook", name := "called", desc := "(II)I" } : Jvm.MethodName)) ∈ lw_all := lw_g (lw_at lw_m5 36 rfl) rfl
theorem q1057 : (Jvm.Cond.privateMethod ({ cls := "BedBook", name := "called", desc := "(II)I" } : Jvm.MethodName)) ∈ lw_tbl := lw_at lw_m5 37 rfl
theorem q1058 : (Jvm.Cond.instanceMethod ({ cls := "BedBook", name := "called", desc := "(II)I" } : Jvm.MethodName)) ∈ lw_all := lw_g (lw_at lw_m5 38 rfl) rfl
theorem q1059 : (Jvm.Cond.code ({ cls := "BedBook", name := "called", desc := "(II)I" } : Jvm.MethodName) prog_1_method_13_code (6 : Nat) (Option.some Jvm.ClassFile.FieldType.int)) ∈ lw_all := lw_g (lw_at lw_m5 39 rfl) rfl
theorem q1060 : (Jvm.Cond.methodLink "BedBook" (262 : Nat) ({ cls := "BedBook$Plant", name := "isCut", desc := "()Z" } : Jvm.MethodName)) ∈ lw_all := lw_g (lw_at lw_m5 40 rfl) rfl
theorem q1073 : (Jvm.Cond.classLink "BedBook" (272 : Nat) "BedBook$Line") ∈ lw_all := lw_g (lw_at lw_m5 53 rfl) rfl
theorem q1074 : (Jvm.Cond.methodLink "BedBook" (278 : Nat) ({ cls := "BedBook$Exp", name := "value", desc := "(LBedBook$Ask;)I" } : Jvm.MethodName)) ∈ lw_all := lw_g (lw_at lw_m5 54 rfl) rfl
theorem q1104 : (Jvm.Cond.instanceMethod ({ cls := "BedBook", name := "send", desc := "(III)Z" } : Jvm.MethodName)) ∈ lw_all := lw_g (lw_at lw_m5 84 rfl) rfl
theorem q1105 : (Jvm.Cond.selects "BedBook" ({ cls := "BedBook", name := "send", desc := "(III)Z" } : Jvm.MethodName) ({ cls := "BedBook", name := "send", desc := "(III)Z" } : Jvm.MethodName)) ∈ lw_all := lw_g (lw_at lw_m5 85 rfl) rfl
theorem q1106 : (Jvm.Cond.code ({ cls := "BedBook", name := "send", desc := "(III)Z" } : Jvm.MethodName) prog_1_method_31_code (4 : Nat) (Option.some Jvm.ClassFile.FieldType.boolean)) ∈ lw_all := lw_g (lw_at lw_m5 86 rfl) rfl
theorem q1107 : (Jvm.Cond.methodLink "BedBook" (288 : Nat) ({ cls := "BedBook", name := "may", desc := "(III)I" } : Jvm.MethodName)) ∈ lw_all := lw_g (lw_at lw_m5 87 rfl) rfl
theorem q1109 : (Jvm.Cond.instanceMethod ({ cls := "BedBook", name := "sent", desc := "(II)I" } : Jvm.MethodName)) ∈ lw_all := lw_g (lw_at lw_m5 89 rfl) rfl
theorem q1110 : (Jvm.Cond.selects "BedBook" ({ cls := "BedBook", name := "sent", desc := "(II)I" } : Jvm.MethodName) ({ cls := "BedBook", name := "sent", desc := "(II)I" } : Jvm.MethodName)) ∈ lw_all := lw_g (lw_at lw_m5 90 rfl) rfl
theorem q1111 : (Jvm.Cond.code ({ cls := "BedBook", name := "sent", desc := "(II)I" } : Jvm.MethodName) prog_1_method_32_code (3 : Nat) (Option.some Jvm.ClassFile.FieldType.int)) ∈ lw_all := lw_g (lw_at lw_m5 91 rfl) rfl
theorem q1113 : (Jvm.Cond.instanceMethod ({ cls := "BedBook", name := "seen", desc := "(II)Z" } : Jvm.MethodName)) ∈ lw_all := lw_g (lw_at lw_m5 93 rfl) rfl
theorem q1114 : (Jvm.Cond.selects "BedBook" ({ cls := "BedBook", name := "seen", desc := "(II)Z" } : Jvm.MethodName) ({ cls := "BedBook", name := "seen", desc := "(II)Z" } : Jvm.MethodName)) ∈ lw_all := lw_g (lw_at lw_m5 94 rfl) rfl
theorem q1115 : (Jvm.Cond.code ({ cls := "BedBook", name := "seen", desc := "(II)Z" } : Jvm.MethodName) prog_1_method_33_code (3 : Nat) (Option.some Jvm.ClassFile.FieldType.boolean)) ∈ lw_all := lw_g (lw_at lw_m5 95 rfl) rfl
theorem q1117 : (Jvm.Cond.instanceMethod ({ cls := "BedBook", name := "close", desc := "(I)I" } : Jvm.MethodName)) ∈ lw_all := lw_g (lw_at lw_m5 97 rfl) rfl
theorem q1118 : (Jvm.Cond.selects "BedBook" ({ cls := "BedBook", name := "close", desc := "(I)I" } : Jvm.MethodName) ({ cls := "BedBook", name := "close", desc := "(I)I" } : Jvm.MethodName)) ∈ lw_all := lw_g (lw_at lw_m5 98 rfl) rfl
theorem q1119 : (Jvm.Cond.code ({ cls := "BedBook", name := "close", desc := "(I)I" } : Jvm.MethodName) prog_1_method_34_code (5 : Nat) (Option.some Jvm.ClassFile.FieldType.int)) ∈ lw_all := lw_g (lw_at lw_m5 99 rfl) rfl
theorem q1121 : (Jvm.Cond.instanceMethod ({ cls := "BedBook", name := "fits", desc := "(I)I" } : Jvm.MethodName)) ∈ lw_all := lw_g (lw_at lw_m5 101 rfl) rfl
theorem q1122 : (Jvm.Cond.selects "BedBook" ({ cls := "BedBook", name := "fits", desc := "(I)I" } : Jvm.MethodName) ({ cls := "BedBook", name := "fits", desc := "(I)I" } : Jvm.MethodName)) ∈ lw_all := lw_g (lw_at lw_m5 102 rfl) rfl
theorem q1123 : (Jvm.Cond.code ({ cls := "BedBook", name := "fits", desc := "(I)I" } : Jvm.MethodName) prog_1_method_35_code (2 : Nat) (Option.some Jvm.ClassFile.FieldType.int)) ∈ lw_all := lw_g (lw_at lw_m5 103 rfl) rfl
theorem q1124 : (Jvm.Cond.methodLink "BedBook" (300 : Nat) ({ cls := "BedBook$Plant", name := "fits", desc := "([I)Z" } : Jvm.MethodName)) ∈ lw_all := lw_g (lw_at lw_m5 104 rfl) rfl
theorem q1142 : (Jvm.Cond.instanceMethod ({ cls := "BedBook", name := "changed", desc := "(II)I" } : Jvm.MethodName)) ∈ lw_all := lw_g (lw_at lw_m5 122 rfl) rfl
theorem q1143 : (Jvm.Cond.selects "BedBook" ({ cls := "BedBook", name := "changed", desc := "(II)I" } : Jvm.MethodName) ({ cls := "BedBook", name := "changed", desc := "(II)I" } : Jvm.MethodName)) ∈ lw_all := lw_g (lw_at lw_m5 123 rfl) rfl
theorem q1144 : (Jvm.Cond.code ({ cls := "BedBook", name := "changed", desc := "(II)I" } : Jvm.MethodName) prog_1_method_36_code (5 : Nat) (Option.some Jvm.ClassFile.FieldType.int)) ∈ lw_all := lw_g (lw_at lw_m5 124 rfl) rfl
theorem q1146 : (Jvm.Cond.instanceMethod ({ cls := "BedBook", name := "count", desc := "(I)I" } : Jvm.MethodName)) ∈ lw_all := lw_g (lw_at lw_m5 126 rfl) rfl
theorem q1147 : (Jvm.Cond.selects "BedBook" ({ cls := "BedBook", name := "count", desc := "(I)I" } : Jvm.MethodName) ({ cls := "BedBook", name := "count", desc := "(I)I" } : Jvm.MethodName)) ∈ lw_all := lw_g (lw_at lw_m5 127 rfl) rfl
theorem q1148 : (Jvm.Cond.code ({ cls := "BedBook", name := "count", desc := "(I)I" } : Jvm.MethodName) prog_1_method_38_code (4 : Nat) (Option.some Jvm.ClassFile.FieldType.int)) ∈ lw_all := lw_g (lw_at lw_m5 128 rfl) rfl
theorem q1154 : (Jvm.Cond.instanceMethod ({ cls := "BedBook", name := "named", desc := "(III)I" } : Jvm.MethodName)) ∈ lw_all := lw_g (lw_at lw_m5 134 rfl) rfl
theorem q1155 : (Jvm.Cond.selects "BedBook" ({ cls := "BedBook", name := "named", desc := "(III)I" } : Jvm.MethodName) ({ cls := "BedBook", name := "named", desc := "(III)I" } : Jvm.MethodName)) ∈ lw_all := lw_g (lw_at lw_m5 135 rfl) rfl
theorem q1156 : (Jvm.Cond.code ({ cls := "BedBook", name := "named", desc := "(III)I" } : Jvm.MethodName) prog_1_method_18_code (4 : Nat) (Option.some Jvm.ClassFile.FieldType.int)) ∈ lw_all := lw_g (lw_at lw_m5 136 rfl) rfl
theorem q1157 : (Jvm.Cond.methodLink "BedBook" (174 : Nat) ({ cls := "BedBook", name := "need", desc := "(Z)V" } : Jvm.MethodName)) ∈ lw_all := lw_g (lw_at lw_m5 137 rfl) rfl
theorem q1158 : (Jvm.Cond.static ({ cls := "BedBook", name := "need", desc := "(Z)V" } : Jvm.MethodName)) ∈ lw_all := lw_g (lw_at lw_m5 138 rfl) rfl
theorem q1159 : (Jvm.Cond.code ({ cls := "BedBook", name := "need", desc := "(Z)V" } : Jvm.MethodName) prog_1_method_17_code (1 : Nat) (Option.none : Option Jvm.ClassFile.FieldType)) ∈ lw_all := lw_g (lw_at lw_m5 139 rfl) rfl
theorem q1160 : (Jvm.Cond.classLink "BedBook" (171 : Nat) "java/util/NoSuchElementException") ∈ lw_all := lw_g (lw_at lw_m5 140 rfl) rfl
theorem q1169 : (Jvm.Cond.methodLink "BedBook" (173 : Nat) ({ cls := "java/util/NoSuchElementException", name := "<init>", desc := "()V" } : Jvm.MethodName)) ∈ lw_all := lw_g (lw_at lw_m5 149 rfl) rfl
theorem q1185 : (Jvm.Cond.instanceMethod ({ cls := "BedBook", name := "look", desc := "(II)I" } : Jvm.MethodName)) ∈ lw_all := lw_g (lw_at lw_m5 165 rfl) rfl
theorem q1186 : (Jvm.Cond.selects "BedBook" ({ cls := "BedBook", name := "look", desc := "(II)I" } : Jvm.MethodName) ({ cls := "BedBook", name := "look", desc := "(II)I" } : Jvm.MethodName)) ∈ lw_all := lw_g (lw_at lw_m5 166 rfl) rfl
theorem q1187 : (Jvm.Cond.code ({ cls := "BedBook", name := "look", desc := "(II)I" } : Jvm.MethodName) prog_1_method_37_code (4 : Nat) (Option.some Jvm.ClassFile.FieldType.int)) ∈ lw_all := lw_g (lw_at lw_m5 167 rfl) rfl
theorem q1188 : (Jvm.Cond.methodLink "BedBook" (307 : Nat) ({ cls := "BedBook$Plant", name := "of", desc := "()LBedBook$Plant;" } : Jvm.MethodName)) ∈ lw_all := lw_g (lw_at lw_m5 168 rfl) rfl
theorem q1189 : (Jvm.Cond.methodLink "BedBook" (313 : Nat) ({ cls := "BedBook$Plant", name := "father", desc := "()LBedBook$Plant;" } : Jvm.MethodName)) ∈ lw_all := lw_g (lw_at lw_m5 169 rfl) rfl
theorem q1199 : (Jvm.Cond.methodLink "BedBook" (316 : Nat) ({ cls := "BedBook$Plant", name := "root", desc := "()LBedBook$Plant;" } : Jvm.MethodName)) ∈ lw_all := lw_g (lw_at lw_m5 179 rfl) rfl
theorem q1681 : (Jvm.Cond.castable "BedBook" "java/lang/Object") ∈ lw_tbl := lw_at lw_m7 181 rfl
theorem in_X1 : ∀ w ∈ wsX10, w ∈ lw_all := lw_in wsX10 [224, 226, 228, 230, 232, 234, 236, 238, 240, 242, 244, 246, 248, 250, 252, 254, 256, 258, 260, 262, 264, 266, 268, 270, 272, 274] (by decide +kernel) (by decide +kernel)

/-! BedBook$Reader -/
set_option maxRecDepth 100000
def RX2 : String := "BedBook$Reader"
def TX2 : u_T := fun k => match k with
  | 0 => ("BedBook$Reader", "text", "[B", false)
  | 1 => ("BedBook$Reader", "size", "I", false)
  | 2 => ("BedBook$Reader", "to", "I", false)
  | 3 => ("BedBook$Reader", "kind", "I", false)
  | 4 => ("BedBook$Reader", "from", "I", false)
  | 5 => ("BedBook$Reader", "value", "I", false)
  | _ => ("BedBook$Reader", "within", "I", false)
def tyX2 : Nat → FieldType := fun k => match k with
  | 0 => .array .byte
  | 1 => .int
  | 2 => .int
  | 3 => .int
  | 4 => .int
  | 5 => .int
  | _ => .int
abbrev wsX20 : List Cond := u_ws RX2 TX2 7
theorem nmX2 : ∀ a, a < 7 → ∀ b, b < 7 → a ≠ b → (TX2 a).2.1 ≠ (TX2 b).2.1 := by decide +kernel
theorem tyX2_ok : ∀ k, k < 7 → parseFieldDescriptor (TX2 k).2.2.1 = some (tyX2 k) := by decide +kernel
abbrev cX2_init : ByteArray := prog_11_method_1_code
def yX2_init : MethodName := ⟨RX2, "<init>", "()V"⟩
abbrev cX2_begin : ByteArray := prog_11_method_2_code
def yX2_begin : MethodName := ⟨RX2, "begin", "([BI)V"⟩
abbrev cX2_next : ByteArray := prog_11_method_6_code
def yX2_next : MethodName := ⟨RX2, "next", "()V"⟩
abbrev cX2_at : ByteArray := prog_11_method_3_code
def yX2_at : MethodName := ⟨RX2, "at", "(I)I"⟩
abbrev cX2_isLetter : ByteArray := prog_11_method_4_code
def yX2_isLetter : MethodName := ⟨RX2, "isLetter", "(I)Z"⟩
abbrev cX2_isDigit : ByteArray := prog_11_method_5_code
def yX2_isDigit : MethodName := ⟨RX2, "isDigit", "(I)Z"⟩
abbrev cX2_whole : ByteArray := prog_11_method_12_code
def yX2_whole : MethodName := ⟨RX2, "whole", "()Ljava/util/ArrayList;"⟩
abbrev cX2_which : ByteArray := prog_11_method_8_code
def yX2_which : MethodName := ⟨RX2, "which", "(Ljava/lang/String;)I"⟩
abbrev cX2_wrong : ByteArray := prog_11_method_7_code
def yX2_wrong : MethodName := ⟨RX2, "wrong", "(I)LBedBook$Wrong;"⟩
abbrev cX2_need : ByteArray := prog_11_method_9_code
def yX2_need : MethodName := ⟨RX2, "need", "(Ljava/lang/String;)V"⟩
abbrev cX2_e : ByteArray := prog_11_method_13_code
def yX2_e : MethodName := ⟨RX2, "e", "()LBedBook$Exp;"⟩
abbrev cX2_test : ByteArray := prog_11_method_14_code
def yX2_test : MethodName := ⟨RX2, "test", "()LBedBook$Exp;"⟩
abbrev cX2_sum : ByteArray := prog_11_method_15_code
def yX2_sum : MethodName := ⟨RX2, "sum", "()LBedBook$Exp;"⟩
abbrev cX2_part : ByteArray := prog_11_method_16_code
def yX2_part : MethodName := ⟨RX2, "part", "()LBedBook$Exp;"⟩
abbrev cX2_isSign : ByteArray := prog_11_method_10_code
def yX2_isSign : MethodName := ⟨RX2, "isSign", "(C)Z"⟩
abbrev cX2_need_2 : ByteArray := prog_11_method_11_code
def yX2_need_2 : MethodName := ⟨RX2, "need", "(C)V"⟩
theorem q65 : (Jvm.Cond.initialized "BedBook$Reader") ∈ lw_all := lw_g (lw_at lw_m1 5 rfl) rfl
theorem q134 : (Jvm.Cond.instantiable "BedBook$Reader" (7 : Nat)) ∈ lw_all := lw_g (lw_at lw_m1 74 rfl) rfl
theorem q136 : (Jvm.Cond.instanceMethod ({ cls := "BedBook$Reader", name := "<init>", desc := "()V" } : Jvm.MethodName)) ∈ lw_all := lw_g (lw_at lw_m1 76 rfl) rfl
theorem q137 : (Jvm.Cond.code ({ cls := "BedBook$Reader", name := "<init>", desc := "()V" } : Jvm.MethodName) prog_11_method_1_code (1 : Nat) (Option.none : Option Jvm.ClassFile.FieldType)) ∈ lw_all := lw_g (lw_at lw_m1 77 rfl) rfl
theorem q138 : (Jvm.Cond.methodLink "BedBook$Reader" (3 : Nat) ({ cls := "java/lang/Object", name := "<init>", desc := "()V" } : Jvm.MethodName)) ∈ lw_all := lw_g (lw_at lw_m1 78 rfl) rfl
theorem q139 : (Jvm.Cond.fieldLink "BedBook$Reader" (9 : Nat) "BedBook$Reader" "text" "[B") ∈ lw_all := lw_g (lw_at lw_m1 79 rfl) rfl
theorem q140 : (Jvm.Cond.fieldLink "BedBook$Reader" (15 : Nat) "BedBook$Reader" "size" "I") ∈ lw_all := lw_g (lw_at lw_m1 80 rfl) rfl
theorem q141 : (Jvm.Cond.fieldLink "BedBook$Reader" (19 : Nat) "BedBook$Reader" "to" "I") ∈ lw_all := lw_g (lw_at lw_m1 81 rfl) rfl
theorem q142 : (Jvm.Cond.fieldLink "BedBook$Reader" (31 : Nat) "BedBook$Reader" "kind" "I") ∈ lw_all := lw_g (lw_at lw_m1 82 rfl) rfl
theorem q143 : (Jvm.Cond.fieldLink "BedBook$Reader" (28 : Nat) "BedBook$Reader" "from" "I") ∈ lw_all := lw_g (lw_at lw_m1 83 rfl) rfl
theorem q144 : (Jvm.Cond.fieldLink "BedBook$Reader" (45 : Nat) "BedBook$Reader" "value" "I") ∈ lw_all := lw_g (lw_at lw_m1 84 rfl) rfl
theorem q145 : (Jvm.Cond.fieldLink "BedBook$Reader" (22 : Nat) "BedBook$Reader" "within" "I") ∈ lw_all := lw_g (lw_at lw_m1 85 rfl) rfl
theorem q146 : (Jvm.Cond.lays "BedBook$Reader" "BedBook$Reader" "text" "[B") ∈ lw_all := lw_g (lw_at lw_m1 86 rfl) rfl
theorem q147 : (Jvm.Cond.soleField "BedBook$Reader" "text") ∈ lw_all := lw_g (lw_at lw_m1 87 rfl) rfl
theorem q148 : (Jvm.Cond.lays "BedBook$Reader" "BedBook$Reader" "size" "I") ∈ lw_all := lw_g (lw_at lw_m1 88 rfl) rfl
theorem q149 : (Jvm.Cond.soleField "BedBook$Reader" "size") ∈ lw_all := lw_g (lw_at lw_m1 89 rfl) rfl
theorem q150 : (Jvm.Cond.lays "BedBook$Reader" "BedBook$Reader" "to" "I") ∈ lw_all := lw_g (lw_at lw_m1 90 rfl) rfl
theorem q151 : (Jvm.Cond.soleField "BedBook$Reader" "to") ∈ lw_all := lw_g (lw_at lw_m1 91 rfl) rfl
theorem q152 : (Jvm.Cond.lays "BedBook$Reader" "BedBook$Reader" "kind" "I") ∈ lw_all := lw_g (lw_at lw_m1 92 rfl) rfl
theorem q153 : (Jvm.Cond.soleField "BedBook$Reader" "kind") ∈ lw_all := lw_g (lw_at lw_m1 93 rfl) rfl
theorem q154 : (Jvm.Cond.lays "BedBook$Reader" "BedBook$Reader" "from" "I") ∈ lw_all := lw_g (lw_at lw_m1 94 rfl) rfl
theorem q155 : (Jvm.Cond.soleField "BedBook$Reader" "from") ∈ lw_all := lw_g (lw_at lw_m1 95 rfl) rfl
theorem q156 : (Jvm.Cond.lays "BedBook$Reader" "BedBook$Reader" "value" "I") ∈ lw_all := lw_g (lw_at lw_m1 96 rfl) rfl
theorem q157 : (Jvm.Cond.soleField "BedBook$Reader" "value") ∈ lw_all := lw_g (lw_at lw_m1 97 rfl) rfl
theorem q158 : (Jvm.Cond.lays "BedBook$Reader" "BedBook$Reader" "within" "I") ∈ lw_all := lw_g (lw_at lw_m1 98 rfl) rfl
theorem q159 : (Jvm.Cond.soleField "BedBook$Reader" "within") ∈ lw_all := lw_g (lw_at lw_m1 99 rfl) rfl
theorem q160 : (Jvm.Cond.superclass "BedBook$Reader" "java/lang/Object") ∈ lw_all := lw_g (lw_at lw_m1 100 rfl) rfl
theorem q398 : (Jvm.Cond.selects "BedBook$Reader" ({ cls := "java/lang/Object", name := "getClass", desc := "()Ljava/lang/Class;" } : Jvm.MethodName) ({ cls := "java/lang/Object", name := "getClass", desc := "()Ljava/lang/Class;" } : Jvm.MethodName)) ∈ lw_all := lw_g (lw_at lw_m2 98 rfl) rfl
theorem q641 : (Jvm.Cond.instanceMethod ({ cls := "BedBook$Reader", name := "begin", desc := "([BI)V" } : Jvm.MethodName)) ∈ lw_all := lw_g (lw_at lw_m3 101 rfl) rfl
theorem q642 : (Jvm.Cond.selects "BedBook$Reader" ({ cls := "BedBook$Reader", name := "begin", desc := "([BI)V" } : Jvm.MethodName) ({ cls := "BedBook$Reader", name := "begin", desc := "([BI)V" } : Jvm.MethodName)) ∈ lw_all := lw_g (lw_at lw_m3 102 rfl) rfl
theorem q643 : (Jvm.Cond.code ({ cls := "BedBook$Reader", name := "begin", desc := "([BI)V" } : Jvm.MethodName) prog_11_method_2_code (3 : Nat) (Option.none : Option Jvm.ClassFile.FieldType)) ∈ lw_all := lw_g (lw_at lw_m3 103 rfl) rfl
theorem q644 : (Jvm.Cond.methodLink "BedBook$Reader" (25 : Nat) ({ cls := "BedBook$Reader", name := "next", desc := "()V" } : Jvm.MethodName)) ∈ lw_all := lw_g (lw_at lw_m3 104 rfl) rfl
theorem q645 : (Jvm.Cond.privateMethod ({ cls := "BedBook$Reader", name := "next", desc := "()V" } : Jvm.MethodName)) ∈ lw_tbl := lw_at lw_m3 105 rfl
theorem q646 : (Jvm.Cond.instanceMethod ({ cls := "BedBook$Reader", name := "next", desc := "()V" } : Jvm.MethodName)) ∈ lw_all := lw_g (lw_at lw_m3 106 rfl) rfl
theorem q647 : (Jvm.Cond.code ({ cls := "BedBook$Reader", name := "next", desc := "()V" } : Jvm.MethodName) prog_11_method_6_code (1 : Nat) (Option.none : Option Jvm.ClassFile.FieldType)) ∈ lw_all := lw_g (lw_at lw_m3 107 rfl) rfl
theorem q648 : (Jvm.Cond.methodLink "BedBook$Reader" (34 : Nat) ({ cls := "BedBook$Reader", name := "at", desc := "(I)I" } : Jvm.MethodName)) ∈ lw_all := lw_g (lw_at lw_m3 108 rfl) rfl
theorem q649 : (Jvm.Cond.privateMethod ({ cls := "BedBook$Reader", name := "at", desc := "(I)I" } : Jvm.MethodName)) ∈ lw_tbl := lw_at lw_m3 109 rfl
theorem q650 : (Jvm.Cond.instanceMethod ({ cls := "BedBook$Reader", name := "at", desc := "(I)I" } : Jvm.MethodName)) ∈ lw_all := lw_g (lw_at lw_m3 110 rfl) rfl
theorem q651 : (Jvm.Cond.code ({ cls := "BedBook$Reader", name := "at", desc := "(I)I" } : Jvm.MethodName) prog_11_method_3_code (2 : Nat) (Option.some Jvm.ClassFile.FieldType.int)) ∈ lw_all := lw_g (lw_at lw_m3 111 rfl) rfl
theorem q652 : (Jvm.Cond.methodLink "BedBook$Reader" (38 : Nat) ({ cls := "BedBook$Reader", name := "isLetter", desc := "(I)Z" } : Jvm.MethodName)) ∈ lw_all := lw_g (lw_at lw_m3 112 rfl) rfl
theorem q653 : (Jvm.Cond.static ({ cls := "BedBook$Reader", name := "isLetter", desc := "(I)Z" } : Jvm.MethodName)) ∈ lw_all := lw_g (lw_at lw_m3 113 rfl) rfl
theorem q654 : (Jvm.Cond.code ({ cls := "BedBook$Reader", name := "isLetter", desc := "(I)Z" } : Jvm.MethodName) prog_11_method_4_code (1 : Nat) (Option.some Jvm.ClassFile.FieldType.boolean)) ∈ lw_all := lw_g (lw_at lw_m3 114 rfl) rfl
theorem q655 : (Jvm.Cond.methodLink "BedBook$Reader" (42 : Nat) ({ cls := "BedBook$Reader", name := "isDigit", desc := "(I)Z" } : Jvm.MethodName)) ∈ lw_all := lw_g (lw_at lw_m3 115 rfl) rfl
theorem q656 : (Jvm.Cond.static ({ cls := "BedBook$Reader", name := "isDigit", desc := "(I)Z" } : Jvm.MethodName)) ∈ lw_all := lw_g (lw_at lw_m3 116 rfl) rfl
theorem q657 : (Jvm.Cond.code ({ cls := "BedBook$Reader", name := "isDigit", desc := "(I)Z" } : Jvm.MethodName) prog_11_method_5_code (1 : Nat) (Option.some Jvm.ClassFile.FieldType.boolean)) ∈ lw_all := lw_g (lw_at lw_m3 117 rfl) rfl
theorem q658 : (Jvm.Cond.stringRef "BedBook$Reader" (48 : Nat) "()<=+-;") ∈ lw_tbl := lw_at lw_m3 118 rfl
theorem q659 : (Jvm.Cond.methodLink "BedBook$Reader" (50 : Nat) ({ cls := "java/lang/String", name := "indexOf", desc := "(I)I" } : Jvm.MethodName)) ∈ lw_all := lw_g (lw_at lw_m3 119 rfl) rfl
theorem q742 : (Jvm.Cond.instanceMethod ({ cls := "BedBook$Reader", name := "whole", desc := "()Ljava/util/ArrayList;" } : Jvm.MethodName)) ∈ lw_all := lw_g (lw_at lw_m3 202 rfl) rfl
theorem q743 : (Jvm.Cond.selects "BedBook$Reader" ({ cls := "BedBook$Reader", name := "whole", desc := "()Ljava/util/ArrayList;" } : Jvm.MethodName) ({ cls := "BedBook$Reader", name := "whole", desc := "()Ljava/util/ArrayList;" } : Jvm.MethodName)) ∈ lw_all := lw_g (lw_at lw_m3 203 rfl) rfl
theorem q744 : (Jvm.Cond.code ({ cls := "BedBook$Reader", name := "whole", desc := "()Ljava/util/ArrayList;" } : Jvm.MethodName) prog_11_method_12_code (4 : Nat) (Option.some (Jvm.ClassFile.FieldType.object "java/util/ArrayList"))) ∈ lw_all := lw_g (lw_at lw_m3 204 rfl) rfl
theorem q745 : (Jvm.Cond.classLink "BedBook$Reader" (83 : Nat) "java/util/ArrayList") ∈ lw_all := lw_g (lw_at lw_m3 205 rfl) rfl
theorem q746 : (Jvm.Cond.methodLink "BedBook$Reader" (85 : Nat) ({ cls := "java/util/ArrayList", name := "<init>", desc := "(I)V" } : Jvm.MethodName)) ∈ lw_all := lw_g (lw_at lw_m3 206 rfl) rfl
theorem q747 : (Jvm.Cond.stringRef "BedBook$Reader" (88 : Nat) "let bar ") ∈ lw_tbl := lw_at lw_m3 207 rfl
theorem q748 : (Jvm.Cond.methodLink "BedBook$Reader" (71 : Nat) ({ cls := "BedBook$Reader", name := "which", desc := "(Ljava/lang/String;)I" } : Jvm.MethodName)) ∈ lw_all := lw_g (lw_at lw_m3 208 rfl) rfl
theorem q749 : (Jvm.Cond.privateMethod ({ cls := "BedBook$Reader", name := "which", desc := "(Ljava/lang/String;)I" } : Jvm.MethodName)) ∈ lw_tbl := lw_at lw_m3 209 rfl
theorem q750 : (Jvm.Cond.instanceMethod ({ cls := "BedBook$Reader", name := "which", desc := "(Ljava/lang/String;)I" } : Jvm.MethodName)) ∈ lw_all := lw_g (lw_at lw_m3 210 rfl) rfl
theorem q751 : (Jvm.Cond.code ({ cls := "BedBook$Reader", name := "which", desc := "(Ljava/lang/String;)I" } : Jvm.MethodName) prog_11_method_8_code (7 : Nat) (Option.some Jvm.ClassFile.FieldType.int)) ∈ lw_all := lw_g (lw_at lw_m3 211 rfl) rfl
theorem q752 : (Jvm.Cond.methodLink "BedBook$Reader" (60 : Nat) ({ cls := "java/lang/String", name := "length", desc := "()I" } : Jvm.MethodName)) ∈ lw_all := lw_g (lw_at lw_m3 212 rfl) rfl
theorem q753 : (Jvm.Cond.methodLink "BedBook$Reader" (64 : Nat) ({ cls := "java/lang/String", name := "indexOf", desc := "(II)I" } : Jvm.MethodName)) ∈ lw_all := lw_g (lw_at lw_m3 213 rfl) rfl
theorem q754 : (Jvm.Cond.methodLink "BedBook$Reader" (67 : Nat) ({ cls := "java/lang/String", name := "charAt", desc := "(I)C" } : Jvm.MethodName)) ∈ lw_all := lw_g (lw_at lw_m3 214 rfl) rfl
theorem q772 : (Jvm.Cond.methodLink "BedBook$Reader" (75 : Nat) ({ cls := "BedBook$Reader", name := "wrong", desc := "(I)LBedBook$Wrong;" } : Jvm.MethodName)) ∈ lw_all := lw_g (lw_at lw_m3 232 rfl) rfl
theorem q773 : (Jvm.Cond.privateMethod ({ cls := "BedBook$Reader", name := "wrong", desc := "(I)LBedBook$Wrong;" } : Jvm.MethodName)) ∈ lw_tbl := lw_at lw_m3 233 rfl
theorem q774 : (Jvm.Cond.instanceMethod ({ cls := "BedBook$Reader", name := "wrong", desc := "(I)LBedBook$Wrong;" } : Jvm.MethodName)) ∈ lw_all := lw_g (lw_at lw_m3 234 rfl) rfl
theorem q775 : (Jvm.Cond.code ({ cls := "BedBook$Reader", name := "wrong", desc := "(I)LBedBook$Wrong;" } : Jvm.MethodName) prog_11_method_7_code (2 : Nat) (Option.some (Jvm.ClassFile.FieldType.object "BedBook$Wrong"))) ∈ lw_all := lw_g (lw_at lw_m3 235 rfl) rfl
theorem q776 : (Jvm.Cond.classLink "BedBook$Reader" (55 : Nat) "BedBook$Wrong") ∈ lw_all := lw_g (lw_at lw_m3 236 rfl) rfl
theorem q816 : (Jvm.Cond.methodLink "BedBook$Reader" (57 : Nat) ({ cls := "BedBook$Wrong", name := "<init>", desc := "(II)V" } : Jvm.MethodName)) ∈ lw_all := lw_g (lw_at lw_m4 36 rfl) rfl
theorem q845 : (Jvm.Cond.methodLink "BedBook$Reader" (90 : Nat) ({ cls := "java/util/ArrayList", name := "size", desc := "()I" } : Jvm.MethodName)) ∈ lw_all := lw_g (lw_at lw_m4 65 rfl) rfl
theorem q846 : (Jvm.Cond.stringRef "BedBook$Reader" (92 : Nat) "when ") ∈ lw_tbl := lw_at lw_m4 66 rfl
theorem q847 : (Jvm.Cond.methodLink "BedBook$Reader" (94 : Nat) ({ cls := "BedBook$Reader", name := "need", desc := "(Ljava/lang/String;)V" } : Jvm.MethodName)) ∈ lw_all := lw_g (lw_at lw_m4 67 rfl) rfl
theorem q848 : (Jvm.Cond.privateMethod ({ cls := "BedBook$Reader", name := "need", desc := "(Ljava/lang/String;)V" } : Jvm.MethodName)) ∈ lw_tbl := lw_at lw_m4 68 rfl
theorem q849 : (Jvm.Cond.instanceMethod ({ cls := "BedBook$Reader", name := "need", desc := "(Ljava/lang/String;)V" } : Jvm.MethodName)) ∈ lw_all := lw_g (lw_at lw_m4 69 rfl) rfl
theorem q850 : (Jvm.Cond.code ({ cls := "BedBook$Reader", name := "need", desc := "(Ljava/lang/String;)V" } : Jvm.MethodName) prog_11_method_9_code (2 : Nat) (Option.none : Option Jvm.ClassFile.FieldType)) ∈ lw_all := lw_g (lw_at lw_m4 70 rfl) rfl
theorem q851 : (Jvm.Cond.methodLink "BedBook$Reader" (98 : Nat) ({ cls := "BedBook$Reader", name := "e", desc := "()LBedBook$Exp;" } : Jvm.MethodName)) ∈ lw_all := lw_g (lw_at lw_m4 71 rfl) rfl
theorem q852 : (Jvm.Cond.privateMethod ({ cls := "BedBook$Reader", name := "e", desc := "()LBedBook$Exp;" } : Jvm.MethodName)) ∈ lw_tbl := lw_at lw_m4 72 rfl
theorem q853 : (Jvm.Cond.instanceMethod ({ cls := "BedBook$Reader", name := "e", desc := "()LBedBook$Exp;" } : Jvm.MethodName)) ∈ lw_all := lw_g (lw_at lw_m4 73 rfl) rfl
theorem q854 : (Jvm.Cond.code ({ cls := "BedBook$Reader", name := "e", desc := "()LBedBook$Exp;" } : Jvm.MethodName) prog_11_method_13_code (3 : Nat) (Option.some (Jvm.ClassFile.FieldType.object "BedBook$Exp"))) ∈ lw_all := lw_g (lw_at lw_m4 74 rfl) rfl
theorem q855 : (Jvm.Cond.methodLink "BedBook$Reader" (114 : Nat) ({ cls := "BedBook$Reader", name := "test", desc := "()LBedBook$Exp;" } : Jvm.MethodName)) ∈ lw_all := lw_g (lw_at lw_m4 75 rfl) rfl
theorem q856 : (Jvm.Cond.privateMethod ({ cls := "BedBook$Reader", name := "test", desc := "()LBedBook$Exp;" } : Jvm.MethodName)) ∈ lw_tbl := lw_at lw_m4 76 rfl
theorem q857 : (Jvm.Cond.instanceMethod ({ cls := "BedBook$Reader", name := "test", desc := "()LBedBook$Exp;" } : Jvm.MethodName)) ∈ lw_all := lw_g (lw_at lw_m4 77 rfl) rfl
theorem q858 : (Jvm.Cond.code ({ cls := "BedBook$Reader", name := "test", desc := "()LBedBook$Exp;" } : Jvm.MethodName) prog_11_method_14_code (3 : Nat) (Option.some (Jvm.ClassFile.FieldType.object "BedBook$Exp"))) ∈ lw_all := lw_g (lw_at lw_m4 78 rfl) rfl
theorem q859 : (Jvm.Cond.methodLink "BedBook$Reader" (128 : Nat) ({ cls := "BedBook$Reader", name := "sum", desc := "()LBedBook$Exp;" } : Jvm.MethodName)) ∈ lw_all := lw_g (lw_at lw_m4 79 rfl) rfl
theorem q860 : (Jvm.Cond.privateMethod ({ cls := "BedBook$Reader", name := "sum", desc := "()LBedBook$Exp;" } : Jvm.MethodName)) ∈ lw_tbl := lw_at lw_m4 80 rfl
theorem q861 : (Jvm.Cond.instanceMethod ({ cls := "BedBook$Reader", name := "sum", desc := "()LBedBook$Exp;" } : Jvm.MethodName)) ∈ lw_all := lw_g (lw_at lw_m4 81 rfl) rfl
theorem q862 : (Jvm.Cond.code ({ cls := "BedBook$Reader", name := "sum", desc := "()LBedBook$Exp;" } : Jvm.MethodName) prog_11_method_15_code (4 : Nat) (Option.some (Jvm.ClassFile.FieldType.object "BedBook$Exp"))) ∈ lw_all := lw_g (lw_at lw_m4 82 rfl) rfl
theorem q863 : (Jvm.Cond.methodLink "BedBook$Reader" (131 : Nat) ({ cls := "BedBook$Reader", name := "part", desc := "()LBedBook$Exp;" } : Jvm.MethodName)) ∈ lw_all := lw_g (lw_at lw_m4 83 rfl) rfl
theorem q864 : (Jvm.Cond.privateMethod ({ cls := "BedBook$Reader", name := "part", desc := "()LBedBook$Exp;" } : Jvm.MethodName)) ∈ lw_tbl := lw_at lw_m4 84 rfl
theorem q865 : (Jvm.Cond.instanceMethod ({ cls := "BedBook$Reader", name := "part", desc := "()LBedBook$Exp;" } : Jvm.MethodName)) ∈ lw_all := lw_g (lw_at lw_m4 85 rfl) rfl
theorem q866 : (Jvm.Cond.code ({ cls := "BedBook$Reader", name := "part", desc := "()LBedBook$Exp;" } : Jvm.MethodName) prog_11_method_16_code (3 : Nat) (Option.some (Jvm.ClassFile.FieldType.object "BedBook$Exp"))) ∈ lw_all := lw_g (lw_at lw_m4 86 rfl) rfl
theorem q867 : (Jvm.Cond.stringRef "BedBook$Reader" (134 : Nat) "place name house aim cut pieces day ") ∈ lw_tbl := lw_at lw_m4 87 rfl
theorem q868 : (Jvm.Cond.methodLink "BedBook$Reader" (79 : Nat) ({ cls := "BedBook$Reader", name := "isSign", desc := "(C)Z" } : Jvm.MethodName)) ∈ lw_all := lw_g (lw_at lw_m4 88 rfl) rfl
theorem q869 : (Jvm.Cond.privateMethod ({ cls := "BedBook$Reader", name := "isSign", desc := "(C)Z" } : Jvm.MethodName)) ∈ lw_tbl := lw_at lw_m4 89 rfl
theorem q870 : (Jvm.Cond.instanceMethod ({ cls := "BedBook$Reader", name := "isSign", desc := "(C)Z" } : Jvm.MethodName)) ∈ lw_all := lw_g (lw_at lw_m4 90 rfl) rfl
theorem q871 : (Jvm.Cond.code ({ cls := "BedBook$Reader", name := "isSign", desc := "(C)Z" } : Jvm.MethodName) prog_11_method_10_code (2 : Nat) (Option.some Jvm.ClassFile.FieldType.boolean)) ∈ lw_all := lw_g (lw_at lw_m4 91 rfl) rfl
theorem q872 : (Jvm.Cond.classLink "BedBook$Reader" (136 : Nat) "BedBook$Constant") ∈ lw_all := lw_g (lw_at lw_m4 92 rfl) rfl
theorem q874 : (Jvm.Cond.methodLink "BedBook$Reader" (138 : Nat) ({ cls := "BedBook$Constant", name := "<init>", desc := "(I)V" } : Jvm.MethodName)) ∈ lw_all := lw_g (lw_at lw_m4 94 rfl) rfl
theorem q885 : (Jvm.Cond.classLink "BedBook$Reader" (139 : Nat) "BedBook$About") ∈ lw_all := lw_g (lw_at lw_m4 105 rfl) rfl
theorem q887 : (Jvm.Cond.methodLink "BedBook$Reader" (141 : Nat) ({ cls := "BedBook$About", name := "<init>", desc := "(I)V" } : Jvm.MethodName)) ∈ lw_all := lw_g (lw_at lw_m4 107 rfl) rfl
theorem q895 : (Jvm.Cond.methodLink "BedBook$Reader" (102 : Nat) ({ cls := "BedBook$Reader", name := "need", desc := "(C)V" } : Jvm.MethodName)) ∈ lw_all := lw_g (lw_at lw_m4 115 rfl) rfl
theorem q896 : (Jvm.Cond.privateMethod ({ cls := "BedBook$Reader", name := "need", desc := "(C)V" } : Jvm.MethodName)) ∈ lw_tbl := lw_at lw_m4 116 rfl
theorem q897 : (Jvm.Cond.instanceMethod ({ cls := "BedBook$Reader", name := "need", desc := "(C)V" } : Jvm.MethodName)) ∈ lw_all := lw_g (lw_at lw_m4 117 rfl) rfl
theorem q898 : (Jvm.Cond.code ({ cls := "BedBook$Reader", name := "need", desc := "(C)V" } : Jvm.MethodName) prog_11_method_11_code (2 : Nat) (Option.none : Option Jvm.ClassFile.FieldType)) ∈ lw_all := lw_g (lw_at lw_m4 118 rfl) rfl
theorem q899 : (Jvm.Cond.classLink "BedBook$Reader" (119 : Nat) "BedBook$Row") ∈ lw_all := lw_g (lw_at lw_m4 119 rfl) rfl
theorem q901 : (Jvm.Cond.methodLink "BedBook$Reader" (121 : Nat) ({ cls := "BedBook$Row", name := "<init>", desc := "(LBedBook$Exp;)V" } : Jvm.MethodName)) ∈ lw_all := lw_g (lw_at lw_m4 121 rfl) rfl
theorem q944 : (Jvm.Cond.methodLink "BedBook$Reader" (124 : Nat) ({ cls := "BedBook$Row", name := "and", desc := "(CLBedBook$Exp;)LBedBook$Row;" } : Jvm.MethodName)) ∈ lw_all := lw_g (lw_at lw_m4 164 rfl) rfl
theorem q1008 : (Jvm.Cond.stringRef "BedBook$Reader" (117 : Nat) "and ") ∈ lw_tbl := lw_at lw_m4 228 rfl
theorem q1009 : (Jvm.Cond.classLink "BedBook$Reader" (105 : Nat) "BedBook$Line") ∈ lw_all := lw_g (lw_at lw_m4 229 rfl) rfl
theorem q1011 : (Jvm.Cond.methodLink "BedBook$Reader" (107 : Nat) ({ cls := "BedBook$Line", name := "<init>", desc := "(ZLBedBook$Exp;)V" } : Jvm.MethodName)) ∈ lw_all := lw_g (lw_at lw_m4 231 rfl) rfl
theorem q1024 : (Jvm.Cond.methodLink "BedBook$Reader" (110 : Nat) ({ cls := "java/util/ArrayList", name := "add", desc := "(Ljava/lang/Object;)Z" } : Jvm.MethodName)) ∈ lw_all := lw_g (lw_at lw_m5 4 rfl) rfl
theorem q1683 : (Jvm.Cond.castable "BedBook$Reader" "java/lang/Object") ∈ lw_tbl := lw_at lw_m7 183 rfl
theorem in_X2 : ∀ w ∈ wsX20, w ∈ lw_all := lw_in wsX20 [146, 148, 150, 152, 154, 156, 158] (by decide +kernel) (by decide +kernel)

/-! BedBook$Ask -/
set_option maxRecDepth 100000
def RX3 : String := "BedBook$Ask"
def TX3 : u_T := fun k => match k with
  | 0 => ("BedBook$Ask", "place", "I", false)
  | 1 => ("BedBook$Ask", "name", "I", false)
  | 2 => ("BedBook$Ask", "house", "I", false)
  | 3 => ("BedBook$Ask", "aim", "I", false)
  | 4 => ("BedBook$Ask", "cut", "I", false)
  | 5 => ("BedBook$Ask", "pieces", "I", false)
  | _ => ("BedBook$Ask", "day", "I", false)
def tyX3 : Nat → FieldType := fun k => match k with
  | 0 => .int
  | 1 => .int
  | 2 => .int
  | 3 => .int
  | 4 => .int
  | 5 => .int
  | _ => .int
abbrev wsX30 : List Cond := u_ws RX3 TX3 7
theorem nmX3 : ∀ a, a < 7 → ∀ b, b < 7 → a ≠ b → (TX3 a).2.1 ≠ (TX3 b).2.1 := by decide +kernel
theorem tyX3_ok : ∀ k, k < 7 → parseFieldDescriptor (TX3 k).2.2.1 = some (tyX3 k) := by decide +kernel
abbrev cX3_init : ByteArray := prog_3_method_1_code
def yX3_init : MethodName := ⟨RX3, "<init>", "()V"⟩
theorem q66 : (Jvm.Cond.initialized "BedBook$Ask") ∈ lw_all := lw_g (lw_at lw_m1 6 rfl) rfl
theorem q164 : (Jvm.Cond.instantiable "BedBook$Ask" (7 : Nat)) ∈ lw_all := lw_g (lw_at lw_m1 104 rfl) rfl
theorem q166 : (Jvm.Cond.instanceMethod ({ cls := "BedBook$Ask", name := "<init>", desc := "()V" } : Jvm.MethodName)) ∈ lw_all := lw_g (lw_at lw_m1 106 rfl) rfl
theorem q167 : (Jvm.Cond.code ({ cls := "BedBook$Ask", name := "<init>", desc := "()V" } : Jvm.MethodName) prog_3_method_1_code (1 : Nat) (Option.none : Option Jvm.ClassFile.FieldType)) ∈ lw_all := lw_g (lw_at lw_m1 107 rfl) rfl
theorem q168 : (Jvm.Cond.methodLink "BedBook$Ask" (1 : Nat) ({ cls := "java/lang/Object", name := "<init>", desc := "()V" } : Jvm.MethodName)) ∈ lw_all := lw_g (lw_at lw_m1 108 rfl) rfl
theorem q183 : (Jvm.Cond.lays "BedBook$Ask" "BedBook$Ask" "place" "I") ∈ lw_all := lw_g (lw_at lw_m1 123 rfl) rfl
theorem q184 : (Jvm.Cond.soleField "BedBook$Ask" "place") ∈ lw_all := lw_g (lw_at lw_m1 124 rfl) rfl
theorem q185 : (Jvm.Cond.lays "BedBook$Ask" "BedBook$Ask" "name" "I") ∈ lw_all := lw_g (lw_at lw_m1 125 rfl) rfl
theorem q186 : (Jvm.Cond.soleField "BedBook$Ask" "name") ∈ lw_all := lw_g (lw_at lw_m1 126 rfl) rfl
theorem q187 : (Jvm.Cond.lays "BedBook$Ask" "BedBook$Ask" "house" "I") ∈ lw_all := lw_g (lw_at lw_m1 127 rfl) rfl
theorem q188 : (Jvm.Cond.soleField "BedBook$Ask" "house") ∈ lw_all := lw_g (lw_at lw_m1 128 rfl) rfl
theorem q189 : (Jvm.Cond.lays "BedBook$Ask" "BedBook$Ask" "aim" "I") ∈ lw_all := lw_g (lw_at lw_m1 129 rfl) rfl
theorem q190 : (Jvm.Cond.soleField "BedBook$Ask" "aim") ∈ lw_all := lw_g (lw_at lw_m1 130 rfl) rfl
theorem q191 : (Jvm.Cond.lays "BedBook$Ask" "BedBook$Ask" "cut" "I") ∈ lw_all := lw_g (lw_at lw_m1 131 rfl) rfl
theorem q192 : (Jvm.Cond.soleField "BedBook$Ask" "cut") ∈ lw_all := lw_g (lw_at lw_m1 132 rfl) rfl
theorem q193 : (Jvm.Cond.lays "BedBook$Ask" "BedBook$Ask" "pieces" "I") ∈ lw_all := lw_g (lw_at lw_m1 133 rfl) rfl
theorem q194 : (Jvm.Cond.soleField "BedBook$Ask" "pieces") ∈ lw_all := lw_g (lw_at lw_m1 134 rfl) rfl
theorem q195 : (Jvm.Cond.lays "BedBook$Ask" "BedBook$Ask" "day" "I") ∈ lw_all := lw_g (lw_at lw_m1 135 rfl) rfl
theorem q196 : (Jvm.Cond.soleField "BedBook$Ask" "day") ∈ lw_all := lw_g (lw_at lw_m1 136 rfl) rfl
theorem q197 : (Jvm.Cond.superclass "BedBook$Ask" "java/lang/Object") ∈ lw_all := lw_g (lw_at lw_m1 137 rfl) rfl
theorem q393 : (Jvm.Cond.selects "BedBook$Ask" ({ cls := "java/lang/Object", name := "getClass", desc := "()Ljava/lang/Class;" } : Jvm.MethodName) ({ cls := "java/lang/Object", name := "getClass", desc := "()Ljava/lang/Class;" } : Jvm.MethodName)) ∈ lw_all := lw_g (lw_at lw_m2 93 rfl) rfl
theorem q1684 : (Jvm.Cond.castable "BedBook$Ask" "java/lang/Object") ∈ lw_tbl := lw_at lw_m7 184 rfl
theorem in_X3 : ∀ w ∈ wsX30, w ∈ lw_all := lw_in wsX30 [183, 185, 187, 189, 191, 193, 195] (by decide +kernel) (by decide +kernel)

/-! BedBookModel -/
set_option maxRecDepth 100000
def RX4 : String := "BedBookModel"
def TX4 : u_T := fun k => match k with
  | 0 => ("BedBookModel", "thrown", "I", false)
  | 1 => ("BedBookModel", "tape", "[I", true)
  | 2 => ("BedBookModel", "taped", "I", false)
  | 3 => ("BedBookModel", "size", "I", false)
  | 4 => ("BedBookModel", "sort", "[I", true)
  | 5 => ("BedBookModel", "place", "[I", true)
  | 6 => ("BedBookModel", "value", "[J", true)
  | 7 => ("BedBookModel", "at", "I", false)
  | 8 => ("BedBookModel", "fault", "I", false)
  | 9 => ("BedBookModel", "words", "[J", true)
  | 10 => ("BedBookModel", "lines", "[I", true)
  | 11 => ("BedBookModel", "isBar", "[Z", true)
  | 12 => ("BedBookModel", "lineAt", "[I", true)
  | 13 => ("BedBookModel", "op", "[I", true)
  | 14 => ("BedBookModel", "one", "[I", true)
  | 15 => ("BedBookModel", "holds", "I", false)
  | 16 => ("BedBookModel", "next", "I", false)
  | 17 => ("BedBookModel", "codes", "I", false)
  | 18 => ("BedBookModel", "deep", "I", false)
  | 19 => ("BedBookModel", "sumWaits", "[I", true)
  | 20 => ("BedBookModel", "signWaits", "[I", true)
  | 21 => ("BedBookModel", "andWaits", "[I", true)
  | 22 => ("BedBookModel", "known", "[I", true)
  | 23 => ("BedBookModel", "pile", "[I", true)
  | 24 => ("BedBookModel", "now", "I", false)
  | 25 => ("BedBookModel", "plants", "I", false)
  | 26 => ("BedBookModel", "kind", "[I", true)
  | 27 => ("BedBookModel", "of", "[I", true)
  | 28 => ("BedBookModel", "father", "[I", true)
  | 29 => ("BedBookModel", "pieces", "[I", true)
  | 30 => ("BedBookModel", "marks", "[I", true)
  | 31 => ("BedBookModel", "needs", "[I", true)
  | 32 => ("BedBookModel", "inBed", "[I", true)
  | 33 => ("BedBookModel", "seen", "[I", true)
  | 34 => ("BedBookModel", "missed", "[I", true)
  | 35 => ("BedBookModel", "isDead", "[Z", true)
  | 36 => ("BedBookModel", "wildAt", "[I", true)
  | 37 => ("BedBookModel", "given", "I", false)
  | 38 => ("BedBookModel", "givenTo", "[I", true)
  | 39 => ("BedBookModel", "givenName", "[I", true)
  | 40 => ("BedBookModel", "givenDay", "[I", true)
  | 41 => ("BedBookModel", "joins", "I", false)
  | 42 => ("BedBookModel", "joinName", "[I", true)
  | 43 => ("BedBookModel", "joinTo", "[I", true)
  | 44 => ("BedBookModel", "joinDay", "[I", true)
  | 45 => ("BedBookModel", "beds", "I", false)
  | 46 => ("BedBookModel", "light", "[I", true)
  | 47 => ("BedBookModel", "wet", "[I", true)
  | 48 => ("BedBookModel", "room", "[I", true)
  | 49 => ("BedBookModel", "goesTo", "[I", true)
  | 50 => ("BedBookModel", "many", "[I", true)
  | 51 => ("BedBookModel", "cost", "[I", true)
  | 52 => ("BedBookModel", "by", "[I", true)
  | 53 => ("BedBookModel", "from", "[I", true)
  | 54 => ("BedBookModel", "sends", "I", false)
  | _ => ("BedBookModel", "sentRow", "[I", true)
def tyX4 : Nat → FieldType := fun k => match k with
  | 0 => .int
  | 1 => .array .int
  | 2 => .int
  | 3 => .int
  | 4 => .array .int
  | 5 => .array .int
  | 6 => .array .long
  | 7 => .int
  | 8 => .int
  | 9 => .array .long
  | 10 => .array .int
  | 11 => .array .boolean
  | 12 => .array .int
  | 13 => .array .int
  | 14 => .array .int
  | 15 => .int
  | 16 => .int
  | 17 => .int
  | 18 => .int
  | 19 => .array .int
  | 20 => .array .int
  | 21 => .array .int
  | 22 => .array .int
  | 23 => .array .int
  | 24 => .int
  | 25 => .int
  | 26 => .array .int
  | 27 => .array .int
  | 28 => .array .int
  | 29 => .array .int
  | 30 => .array .int
  | 31 => .array .int
  | 32 => .array .int
  | 33 => .array .int
  | 34 => .array .int
  | 35 => .array .boolean
  | 36 => .array .int
  | 37 => .int
  | 38 => .array .int
  | 39 => .array .int
  | 40 => .array .int
  | 41 => .int
  | 42 => .array .int
  | 43 => .array .int
  | 44 => .array .int
  | 45 => .int
  | 46 => .array .int
  | 47 => .array .int
  | 48 => .array .int
  | 49 => .array .int
  | 50 => .array .int
  | 51 => .array .int
  | 52 => .array .int
  | 53 => .array .int
  | 54 => .int
  | _ => .array .int
abbrev wsX40 : List Cond := u_ws RX4 TX4 56
set_option maxRecDepth 100000 in
theorem nmX4 : ∀ a, a < 56 → ∀ b, b < 56 → a ≠ b → (TX4 a).2.1 ≠ (TX4 b).2.1 := by decide +kernel
set_option maxRecDepth 100000 in
theorem tyX4_ok : ∀ k, k < 56 → parseFieldDescriptor (TX4 k).2.2.1 = some (tyX4 k) := by decide +kernel
abbrev cX4_thrown : ByteArray := prog_18_method_1_code
def yX4_thrown : MethodName := ⟨RX4, "thrown", "()I"⟩
abbrev cX4_feed : ByteArray := prog_18_method_2_code
def yX4_feed : MethodName := ⟨RX4, "feed", "(JJJ)I"⟩
abbrev cX4_lay : ByteArray := prog_18_method_3_code
def yX4_lay : MethodName := ⟨RX4, "lay", "(J)V"⟩
abbrev cX4_init : ByteArray := prog_18_method_4_code
def yX4_init : MethodName := ⟨RX4, "<init>", "()V"⟩
abbrev cX4_text : ByteArray := prog_18_method_18_code
def yX4_text : MethodName := ⟨RX4, "text", "()I"⟩
abbrev cX4_cutAll : ByteArray := prog_18_method_9_code
def yX4_cutAll : MethodName := ⟨RX4, "cutAll", "()V"⟩
abbrev cX4_isLetter : ByteArray := prog_18_method_5_code
def yX4_isLetter : MethodName := ⟨RX4, "isLetter", "(I)Z"⟩
abbrev cX4_rank : ByteArray := prog_18_method_7_code
def yX4_rank : MethodName := ⟨RX4, "rank", "(I)I"⟩
abbrev cX4_isDigit : ByteArray := prog_18_method_6_code
def yX4_isDigit : MethodName := ⟨RX4, "isDigit", "(I)Z"⟩
abbrev cX4_isSignOf : ByteArray := prog_18_method_8_code
def yX4_isSignOf : MethodName := ⟨RX4, "isSignOf", "(I)Z"⟩
abbrev cX4_line : ByteArray := prog_18_method_19_code
def yX4_line : MethodName := ⟨RX4, "line", "()V"⟩
abbrev cX4_isWord : ByteArray := prog_18_method_12_code
def yX4_isWord : MethodName := ⟨RX4, "isWord", "(I)Z"⟩
abbrev cX4_wrong : ByteArray := prog_18_method_10_code
def yX4_wrong : MethodName := ⟨RX4, "wrong", "(I)V"⟩
abbrev cX4_takeWord : ByteArray := prog_18_method_16_code
def yX4_takeWord : MethodName := ⟨RX4, "takeWord", "(I)V"⟩
abbrev cX4_hasWord : ByteArray := prog_18_method_15_code
def yX4_hasWord : MethodName := ⟨RX4, "hasWord", "(I)Z"⟩
abbrev cX4_opens : ByteArray := prog_18_method_20_code
def yX4_opens : MethodName := ⟨RX4, "opens", "()V"⟩
abbrev cX4_part : ByteArray := prog_18_method_22_code
def yX4_part : MethodName := ⟨RX4, "part", "()Z"⟩
abbrev cX4_partWord : ByteArray := prog_18_method_21_code
def yX4_partWord : MethodName := ⟨RX4, "partWord", "()I"⟩
abbrev cX4_isSign : ByteArray := prog_18_method_11_code
def yX4_isSign : MethodName := ⟨RX4, "isSign", "(I)Z"⟩
abbrev cX4_hasSign : ByteArray := prog_18_method_14_code
def yX4_hasSign : MethodName := ⟨RX4, "hasSign", "(I)Z"⟩
abbrev cX4_emit : ByteArray := prog_18_method_17_code
def yX4_emit : MethodName := ⟨RX4, "emit", "(II)V"⟩
abbrev cX4_goesOnBehind : ByteArray := prog_18_method_23_code
def yX4_goesOnBehind : MethodName := ⟨RX4, "goesOnBehind", "()Z"⟩
abbrev cX4_takeSign : ByteArray := prog_18_method_13_code
def yX4_takeSign : MethodName := ⟨RX4, "takeSign", "(I)V"⟩
abbrev cX4_days : ByteArray := prog_18_method_25_code
def yX4_days : MethodName := ⟨RX4, "days", "(I)I"⟩
abbrev cX4_wild : ByteArray := prog_18_method_29_code
def yX4_wild : MethodName := ⟨RX4, "wild", "(II)I"⟩
abbrev cX4_areMany : ByteArray := prog_18_method_28_code
def yX4_areMany : MethodName := ⟨RX4, "areMany", "(I)Z"⟩
abbrev cX4_grows : ByteArray := prog_18_method_27_code
def yX4_grows : MethodName := ⟨RX4, "grows", "(IIII)I"⟩
abbrev cX4_seed : ByteArray := prog_18_method_30_code
def yX4_seed : MethodName := ⟨RX4, "seed", "(III)I"⟩
abbrev cX4_isPlant : ByteArray := prog_18_method_26_code
def yX4_isPlant : MethodName := ⟨RX4, "isPlant", "(I)Z"⟩
abbrev cX4_cut : ByteArray := prog_18_method_31_code
def yX4_cut : MethodName := ⟨RX4, "cut", "(II)I"⟩
abbrev cX4_split : ByteArray := prog_18_method_32_code
def yX4_split : MethodName := ⟨RX4, "split", "(II)I"⟩
abbrev cX4_mark : ByteArray := prog_18_method_35_code
def yX4_mark : MethodName := ⟨RX4, "mark", "(IIII)Z"⟩
abbrev cX4_fits : ByteArray := prog_18_method_39_code
def yX4_fits : MethodName := ⟨RX4, "fits", "(I)I"⟩
abbrev cX4_fitsAs : ByteArray := prog_18_method_38_code
def yX4_fitsAs : MethodName := ⟨RX4, "fitsAs", "(II)Z"⟩
abbrev cX4_markOf : ByteArray := prog_18_method_36_code
def yX4_markOf : MethodName := ⟨RX4, "markOf", "(III)I"⟩
abbrev cX4_hasMark : ByteArray := prog_18_method_37_code
def yX4_hasMark : MethodName := ⟨RX4, "hasMark", "(III)Z"⟩
abbrev cX4_changed : ByteArray := prog_18_method_40_code
def yX4_changed : MethodName := ⟨RX4, "changed", "(II)I"⟩
abbrev cX4_name : ByteArray := prog_18_method_42_code
def yX4_name : MethodName := ⟨RX4, "name", "(II)Z"⟩
abbrev cX4_isName : ByteArray := prog_18_method_41_code
def yX4_isName : MethodName := ⟨RX4, "isName", "(I)Z"⟩
abbrev cX4_join : ByteArray := prog_18_method_46_code
def yX4_join : MethodName := ⟨RX4, "join", "(II)Z"⟩
abbrev cX4_leadsBack : ByteArray := prog_18_method_45_code
def yX4_leadsBack : MethodName := ⟨RX4, "leadsBack", "(II)Z"⟩
abbrev cX4_joinedTo : ByteArray := prog_18_method_44_code
def yX4_joinedTo : MethodName := ⟨RX4, "joinedTo", "(II)I"⟩
abbrev cX4_named : ByteArray := prog_18_method_48_code
def yX4_named : MethodName := ⟨RX4, "named", "(III)I"⟩
abbrev cX4_nameOf : ByteArray := prog_18_method_47_code
def yX4_nameOf : MethodName := ⟨RX4, "nameOf", "(III)I"⟩
abbrev cX4_leads : ByteArray := prog_18_method_43_code
def yX4_leads : MethodName := ⟨RX4, "leads", "(II)I"⟩
abbrev cX4_bed : ByteArray := prog_18_method_50_code
def yX4_bed : MethodName := ⟨RX4, "bed", "(III)I"⟩
abbrev cX4_isDigitNumber : ByteArray := prog_18_method_49_code
def yX4_isDigitNumber : MethodName := ⟨RX4, "isDigitNumber", "(I)Z"⟩
abbrev cX4_change : ByteArray := prog_18_method_52_code
def yX4_change : MethodName := ⟨RX4, "change", "(III)Z"⟩
abbrev cX4_isBed : ByteArray := prog_18_method_51_code
def yX4_isBed : MethodName := ⟨RX4, "isBed", "(I)Z"⟩
abbrev cX4_needs : ByteArray := prog_18_method_53_code
def yX4_needs : MethodName := ⟨RX4, "needs", "(IIIII)Z"⟩
abbrev cX4_lay_2 : ByteArray := prog_18_method_55_code
def yX4_lay_2 : MethodName := ⟨RX4, "lay", "(II)Z"⟩
abbrev cX4_suits : ByteArray := prog_18_method_54_code
def yX4_suits : MethodName := ⟨RX4, "suits", "(II)Z"⟩
abbrev cX4_moves : ByteArray := prog_18_method_59_code
def yX4_moves : MethodName := ⟨RX4, "moves", "()I"⟩
abbrev cX4_comes : ByteArray := prog_18_method_58_code
def yX4_comes : MethodName := ⟨RX4, "comes", "(I)Z"⟩
abbrev cX4_begins : ByteArray := prog_18_method_57_code
def yX4_begins : MethodName := ⟨RX4, "begins", "(I)V"⟩
abbrev cX4_costOf : ByteArray := prog_18_method_56_code
def yX4_costOf : MethodName := ⟨RX4, "costOf", "(II)I"⟩
abbrev cX4_may : ByteArray := prog_18_method_62_code
def yX4_may : MethodName := ⟨RX4, "may", "(III)I"⟩
abbrev cX4_isSending : ByteArray := prog_18_method_61_code
def yX4_isSending : MethodName := ⟨RX4, "isSending", "(III)Z"⟩
abbrev cX4_lets : ByteArray := prog_18_method_60_code
def yX4_lets : MethodName := ⟨RX4, "lets", "(III)Z"⟩
abbrev cX4_rootOf : ByteArray := prog_18_method_33_code
def yX4_rootOf : MethodName := ⟨RX4, "rootOf", "(I)I"⟩
abbrev cX4_isCut : ByteArray := prog_18_method_34_code
def yX4_isCut : MethodName := ⟨RX4, "isCut", "(I)Z"⟩
abbrev cX4_worth : ByteArray := prog_18_method_24_code
def yX4_worth : MethodName := ⟨RX4, "worth", "(I)I"⟩
abbrev cX4_send : ByteArray := prog_18_method_63_code
def yX4_send : MethodName := ⟨RX4, "send", "(III)Z"⟩
abbrev cX4_sent : ByteArray := prog_18_method_64_code
def yX4_sent : MethodName := ⟨RX4, "sent", "(II)I"⟩
abbrev cX4_seen : ByteArray := prog_18_method_65_code
def yX4_seen : MethodName := ⟨RX4, "seen", "(II)Z"⟩
abbrev cX4_close : ByteArray := prog_18_method_66_code
def yX4_close : MethodName := ⟨RX4, "close", "(I)I"⟩
abbrev cX4_checks : ByteArray := prog_18_method_67_code
def yX4_checks : MethodName := ⟨RX4, "checks", "(I)Z"⟩
abbrev cX4_look : ByteArray := prog_18_method_68_code
def yX4_look : MethodName := ⟨RX4, "look", "(II)I"⟩
abbrev cX4_count : ByteArray := prog_18_method_69_code
def yX4_count : MethodName := ⟨RX4, "count", "(I)I"⟩
theorem q67 : (Jvm.Cond.initialized "BedBookModel") ∈ lw_all := lw_g (lw_at lw_m1 7 rfl) rfl
theorem q404 : (Jvm.Cond.selects "BedBookModel" ({ cls := "java/lang/Object", name := "getClass", desc := "()Ljava/lang/Class;" } : Jvm.MethodName) ({ cls := "java/lang/Object", name := "getClass", desc := "()Ljava/lang/Class;" } : Jvm.MethodName)) ∈ lw_all := lw_g (lw_at lw_m2 104 rfl) rfl
theorem q1211 : (Jvm.Cond.instanceMethod ({ cls := "BedBookModel", name := "thrown", desc := "()I" } : Jvm.MethodName)) ∈ lw_all := lw_g (lw_at lw_m5 191 rfl) rfl
theorem q1212 : (Jvm.Cond.selects "BedBookModel" ({ cls := "BedBookModel", name := "thrown", desc := "()I" } : Jvm.MethodName) ({ cls := "BedBookModel", name := "thrown", desc := "()I" } : Jvm.MethodName)) ∈ lw_all := lw_g (lw_at lw_m5 192 rfl) rfl
theorem q1213 : (Jvm.Cond.code ({ cls := "BedBookModel", name := "thrown", desc := "()I" } : Jvm.MethodName) prog_18_method_1_code (1 : Nat) (Option.some Jvm.ClassFile.FieldType.int)) ∈ lw_all := lw_g (lw_at lw_m5 193 rfl) rfl
theorem q1215 : (Jvm.Cond.instanceMethod ({ cls := "BedBookModel", name := "feed", desc := "(JJJ)I" } : Jvm.MethodName)) ∈ lw_all := lw_g (lw_at lw_m5 195 rfl) rfl
theorem q1216 : (Jvm.Cond.selects "BedBookModel" ({ cls := "BedBookModel", name := "feed", desc := "(JJJ)I" } : Jvm.MethodName) ({ cls := "BedBookModel", name := "feed", desc := "(JJJ)I" } : Jvm.MethodName)) ∈ lw_all := lw_g (lw_at lw_m5 196 rfl) rfl
theorem q1217 : (Jvm.Cond.code ({ cls := "BedBookModel", name := "feed", desc := "(JJJ)I" } : Jvm.MethodName) prog_18_method_2_code (7 : Nat) (Option.some Jvm.ClassFile.FieldType.int)) ∈ lw_all := lw_g (lw_at lw_m5 197 rfl) rfl
theorem q1218 : (Jvm.Cond.methodLink "BedBookModel" (7 : Nat) ({ cls := "BedBookModel", name := "lay", desc := "(J)V" } : Jvm.MethodName)) ∈ lw_all := lw_g (lw_at lw_m5 198 rfl) rfl
theorem q1219 : (Jvm.Cond.privateMethod ({ cls := "BedBookModel", name := "lay", desc := "(J)V" } : Jvm.MethodName)) ∈ lw_tbl := lw_at lw_m5 199 rfl
theorem q1220 : (Jvm.Cond.instanceMethod ({ cls := "BedBookModel", name := "lay", desc := "(J)V" } : Jvm.MethodName)) ∈ lw_all := lw_g (lw_at lw_m5 200 rfl) rfl
theorem q1221 : (Jvm.Cond.instantiable "BedBookModel" (56 : Nat)) ∈ lw_all := lw_g (lw_at lw_m5 201 rfl) rfl
theorem q1222 : (Jvm.Cond.code ({ cls := "BedBookModel", name := "lay", desc := "(J)V" } : Jvm.MethodName) prog_18_method_3_code (5 : Nat) (Option.none : Option Jvm.ClassFile.FieldType)) ∈ lw_all := lw_g (lw_at lw_m5 202 rfl) rfl
theorem q1225 : (Jvm.Cond.instanceMethod ({ cls := "BedBookModel", name := "<init>", desc := "()V" } : Jvm.MethodName)) ∈ lw_all := lw_g (lw_at lw_m5 205 rfl) rfl
theorem q1226 : (Jvm.Cond.code ({ cls := "BedBookModel", name := "<init>", desc := "()V" } : Jvm.MethodName) prog_18_method_4_code (2 : Nat) (Option.none : Option Jvm.ClassFile.FieldType)) ∈ lw_all := lw_g (lw_at lw_m5 206 rfl) rfl
theorem q1227 : (Jvm.Cond.methodLink "BedBookModel" (18 : Nat) ({ cls := "java/lang/Object", name := "<init>", desc := "()V" } : Jvm.MethodName)) ∈ lw_all := lw_g (lw_at lw_m5 207 rfl) rfl
theorem q1228 : (Jvm.Cond.constantLong "BedBookModel" (34 : Nat) (16633 : Int64)) ∈ lw_all := lw_g (lw_at lw_m5 208 rfl) rfl
theorem q1229 : (Jvm.Cond.constantLong "BedBookModel" (36 : Nat) (2793 : Int64)) ∈ lw_all := lw_g (lw_at lw_m5 209 rfl) rfl
theorem q1230 : (Jvm.Cond.constantLong "BedBookModel" (38 : Nat) (1176170 : Int64)) ∈ lw_all := lw_g (lw_at lw_m5 210 rfl) rfl
theorem q1231 : (Jvm.Cond.constantLong "BedBookModel" (40 : Nat) (1891 : Int64)) ∈ lw_all := lw_g (lw_at lw_m5 211 rfl) rfl
theorem q1232 : (Jvm.Cond.constantLong "BedBookModel" (42 : Nat) (30595897 : Int64)) ∈ lw_all := lw_g (lw_at lw_m5 212 rfl) rfl
theorem q1233 : (Jvm.Cond.constantLong "BedBookModel" (44 : Nat) (710997 : Int64)) ∈ lw_all := lw_g (lw_at lw_m5 213 rfl) rfl
theorem q1234 : (Jvm.Cond.constantLong "BedBookModel" (46 : Nat) (15782540 : Int64)) ∈ lw_all := lw_g (lw_at lw_m5 214 rfl) rfl
theorem q1235 : (Jvm.Cond.constantLong "BedBookModel" (48 : Nat) (1715 : Int64)) ∈ lw_all := lw_g (lw_at lw_m5 215 rfl) rfl
theorem q1236 : (Jvm.Cond.constantLong "BedBookModel" (50 : Nat) (4904 : Int64)) ∈ lw_all := lw_g (lw_at lw_m5 216 rfl) rfl
theorem q1237 : (Jvm.Cond.constantLong "BedBookModel" (52 : Nat) (1126628337 : Int64)) ∈ lw_all := lw_g (lw_at lw_m5 217 rfl) rfl
theorem q1238 : (Jvm.Cond.constantLong "BedBookModel" (54 : Nat) (5538 : Int64)) ∈ lw_all := lw_g (lw_at lw_m5 218 rfl) rfl
theorem q1239 : (Jvm.Cond.fieldLink "BedBookModel" (1 : Nat) "BedBookModel" "thrown" "I") ∈ lw_all := lw_g (lw_at lw_m5 219 rfl) rfl
theorem q1240 : (Jvm.Cond.fieldLink "BedBookModel" (14 : Nat) "BedBookModel" "tape" "[I") ∈ lw_all := lw_g (lw_at lw_m5 220 rfl) rfl
theorem q1241 : (Jvm.Cond.fieldLink "BedBookModel" (11 : Nat) "BedBookModel" "taped" "I") ∈ lw_all := lw_g (lw_at lw_m5 221 rfl) rfl
theorem q1242 : (Jvm.Cond.fieldLink "BedBookModel" (172 : Nat) "BedBookModel" "size" "I") ∈ lw_all := lw_g (lw_at lw_m5 222 rfl) rfl
theorem q1243 : (Jvm.Cond.fieldLink "BedBookModel" (24 : Nat) "BedBookModel" "sort" "[I") ∈ lw_all := lw_g (lw_at lw_m5 223 rfl) rfl
theorem q1244 : (Jvm.Cond.fieldLink "BedBookModel" (27 : Nat) "BedBookModel" "place" "[I") ∈ lw_all := lw_g (lw_at lw_m5 224 rfl) rfl
theorem q1245 : (Jvm.Cond.fieldLink "BedBookModel" (30 : Nat) "BedBookModel" "value" "[J") ∈ lw_all := lw_g (lw_at lw_m5 225 rfl) rfl
theorem q1246 : (Jvm.Cond.fieldLink "BedBookModel" (191 : Nat) "BedBookModel" "at" "I") ∈ lw_all := lw_g (lw_at lw_m5 226 rfl) rfl
theorem q1247 : (Jvm.Cond.fieldLink "BedBookModel" (194 : Nat) "BedBookModel" "fault" "I") ∈ lw_all := lw_g (lw_at lw_m5 227 rfl) rfl
theorem q1248 : (Jvm.Cond.fieldLink "BedBookModel" (56 : Nat) "BedBookModel" "words" "[J") ∈ lw_all := lw_g (lw_at lw_m5 228 rfl) rfl
theorem q1249 : (Jvm.Cond.fieldLink "BedBookModel" (59 : Nat) "BedBookModel" "lines" "[I") ∈ lw_all := lw_g (lw_at lw_m5 229 rfl) rfl
theorem q1250 : (Jvm.Cond.fieldLink "BedBookModel" (62 : Nat) "BedBookModel" "isBar" "[Z") ∈ lw_all := lw_g (lw_at lw_m5 230 rfl) rfl
theorem q1251 : (Jvm.Cond.fieldLink "BedBookModel" (66 : Nat) "BedBookModel" "lineAt" "[I") ∈ lw_all := lw_g (lw_at lw_m5 231 rfl) rfl
theorem q1252 : (Jvm.Cond.fieldLink "BedBookModel" (69 : Nat) "BedBookModel" "op" "[I") ∈ lw_all := lw_g (lw_at lw_m5 232 rfl) rfl
theorem q1253 : (Jvm.Cond.fieldLink "BedBookModel" (72 : Nat) "BedBookModel" "one" "[I") ∈ lw_all := lw_g (lw_at lw_m5 233 rfl) rfl
theorem q1254 : (Jvm.Cond.fieldLink "BedBookModel" (219 : Nat) "BedBookModel" "holds" "I") ∈ lw_all := lw_g (lw_at lw_m5 234 rfl) rfl
theorem q1255 : (Jvm.Cond.fieldLink "BedBookModel" (210 : Nat) "BedBookModel" "next" "I") ∈ lw_all := lw_g (lw_at lw_m5 235 rfl) rfl
theorem q1256 : (Jvm.Cond.fieldLink "BedBookModel" (213 : Nat) "BedBookModel" "codes" "I") ∈ lw_all := lw_g (lw_at lw_m5 236 rfl) rfl
theorem q1257 : (Jvm.Cond.fieldLink "BedBookModel" (228 : Nat) "BedBookModel" "deep" "I") ∈ lw_all := lw_g (lw_at lw_m5 237 rfl) rfl
theorem q1258 : (Jvm.Cond.fieldLink "BedBookModel" (75 : Nat) "BedBookModel" "sumWaits" "[I") ∈ lw_all := lw_g (lw_at lw_m5 238 rfl) rfl
theorem q1259 : (Jvm.Cond.fieldLink "BedBookModel" (78 : Nat) "BedBookModel" "signWaits" "[I") ∈ lw_all := lw_g (lw_at lw_m5 239 rfl) rfl
theorem q1260 : (Jvm.Cond.fieldLink "BedBookModel" (81 : Nat) "BedBookModel" "andWaits" "[I") ∈ lw_all := lw_g (lw_at lw_m6 0 rfl) rfl
theorem q1261 : (Jvm.Cond.fieldLink "BedBookModel" (84 : Nat) "BedBookModel" "known" "[I") ∈ lw_all := lw_g (lw_at lw_m6 1 rfl) rfl
theorem q1262 : (Jvm.Cond.fieldLink "BedBookModel" (87 : Nat) "BedBookModel" "pile" "[I") ∈ lw_all := lw_g (lw_at lw_m6 2 rfl) rfl
theorem q1263 : (Jvm.Cond.fieldLink "BedBookModel" (255 : Nat) "BedBookModel" "now" "I") ∈ lw_all := lw_g (lw_at lw_m6 3 rfl) rfl
theorem q1264 : (Jvm.Cond.fieldLink "BedBookModel" (258 : Nat) "BedBookModel" "plants" "I") ∈ lw_all := lw_g (lw_at lw_m6 4 rfl) rfl
theorem q1265 : (Jvm.Cond.fieldLink "BedBookModel" (90 : Nat) "BedBookModel" "kind" "[I") ∈ lw_all := lw_g (lw_at lw_m6 5 rfl) rfl
theorem q1266 : (Jvm.Cond.fieldLink "BedBookModel" (93 : Nat) "BedBookModel" "of" "[I") ∈ lw_all := lw_g (lw_at lw_m6 6 rfl) rfl
theorem q1267 : (Jvm.Cond.fieldLink "BedBookModel" (96 : Nat) "BedBookModel" "father" "[I") ∈ lw_all := lw_g (lw_at lw_m6 7 rfl) rfl
theorem q1268 : (Jvm.Cond.fieldLink "BedBookModel" (99 : Nat) "BedBookModel" "pieces" "[I") ∈ lw_all := lw_g (lw_at lw_m6 8 rfl) rfl
theorem q1269 : (Jvm.Cond.fieldLink "BedBookModel" (102 : Nat) "BedBookModel" "marks" "[I") ∈ lw_all := lw_g (lw_at lw_m6 9 rfl) rfl
theorem q1270 : (Jvm.Cond.fieldLink "BedBookModel" (105 : Nat) "BedBookModel" "needs" "[I") ∈ lw_all := lw_g (lw_at lw_m6 10 rfl) rfl
theorem q1271 : (Jvm.Cond.fieldLink "BedBookModel" (108 : Nat) "BedBookModel" "inBed" "[I") ∈ lw_all := lw_g (lw_at lw_m6 11 rfl) rfl
theorem q1272 : (Jvm.Cond.fieldLink "BedBookModel" (111 : Nat) "BedBookModel" "seen" "[I") ∈ lw_all := lw_g (lw_at lw_m6 12 rfl) rfl
theorem q1273 : (Jvm.Cond.fieldLink "BedBookModel" (114 : Nat) "BedBookModel" "missed" "[I") ∈ lw_all := lw_g (lw_at lw_m6 13 rfl) rfl
theorem q1274 : (Jvm.Cond.fieldLink "BedBookModel" (117 : Nat) "BedBookModel" "isDead" "[Z") ∈ lw_all := lw_g (lw_at lw_m6 14 rfl) rfl
theorem q1275 : (Jvm.Cond.fieldLink "BedBookModel" (120 : Nat) "BedBookModel" "wildAt" "[I") ∈ lw_all := lw_g (lw_at lw_m6 15 rfl) rfl
theorem q1276 : (Jvm.Cond.fieldLink "BedBookModel" (286 : Nat) "BedBookModel" "given" "I") ∈ lw_all := lw_g (lw_at lw_m6 16 rfl) rfl
theorem q1277 : (Jvm.Cond.fieldLink "BedBookModel" (123 : Nat) "BedBookModel" "givenTo" "[I") ∈ lw_all := lw_g (lw_at lw_m6 17 rfl) rfl
theorem q1278 : (Jvm.Cond.fieldLink "BedBookModel" (126 : Nat) "BedBookModel" "givenName" "[I") ∈ lw_all := lw_g (lw_at lw_m6 18 rfl) rfl
theorem q1279 : (Jvm.Cond.fieldLink "BedBookModel" (129 : Nat) "BedBookModel" "givenDay" "[I") ∈ lw_all := lw_g (lw_at lw_m6 19 rfl) rfl
theorem q1280 : (Jvm.Cond.fieldLink "BedBookModel" (293 : Nat) "BedBookModel" "joins" "I") ∈ lw_all := lw_g (lw_at lw_m6 20 rfl) rfl
theorem q1281 : (Jvm.Cond.fieldLink "BedBookModel" (132 : Nat) "BedBookModel" "joinName" "[I") ∈ lw_all := lw_g (lw_at lw_m6 21 rfl) rfl
theorem q1282 : (Jvm.Cond.fieldLink "BedBookModel" (135 : Nat) "BedBookModel" "joinTo" "[I") ∈ lw_all := lw_g (lw_at lw_m6 22 rfl) rfl
theorem q1283 : (Jvm.Cond.fieldLink "BedBookModel" (138 : Nat) "BedBookModel" "joinDay" "[I") ∈ lw_all := lw_g (lw_at lw_m6 23 rfl) rfl
theorem q1284 : (Jvm.Cond.fieldLink "BedBookModel" (308 : Nat) "BedBookModel" "beds" "I") ∈ lw_all := lw_g (lw_at lw_m6 24 rfl) rfl
theorem q1285 : (Jvm.Cond.fieldLink "BedBookModel" (141 : Nat) "BedBookModel" "light" "[I") ∈ lw_all := lw_g (lw_at lw_m6 25 rfl) rfl
theorem q1286 : (Jvm.Cond.fieldLink "BedBookModel" (144 : Nat) "BedBookModel" "wet" "[I") ∈ lw_all := lw_g (lw_at lw_m6 26 rfl) rfl
theorem q1287 : (Jvm.Cond.fieldLink "BedBookModel" (147 : Nat) "BedBookModel" "room" "[I") ∈ lw_all := lw_g (lw_at lw_m6 27 rfl) rfl
theorem q1288 : (Jvm.Cond.fieldLink "BedBookModel" (150 : Nat) "BedBookModel" "goesTo" "[I") ∈ lw_all := lw_g (lw_at lw_m6 28 rfl) rfl
theorem q1289 : (Jvm.Cond.fieldLink "BedBookModel" (153 : Nat) "BedBookModel" "many" "[I") ∈ lw_all := lw_g (lw_at lw_m6 29 rfl) rfl
theorem q1290 : (Jvm.Cond.fieldLink "BedBookModel" (156 : Nat) "BedBookModel" "cost" "[I") ∈ lw_all := lw_g (lw_at lw_m6 30 rfl) rfl
theorem q1291 : (Jvm.Cond.fieldLink "BedBookModel" (159 : Nat) "BedBookModel" "by" "[I") ∈ lw_all := lw_g (lw_at lw_m6 31 rfl) rfl
theorem q1292 : (Jvm.Cond.fieldLink "BedBookModel" (162 : Nat) "BedBookModel" "from" "[I") ∈ lw_all := lw_g (lw_at lw_m6 32 rfl) rfl
theorem q1293 : (Jvm.Cond.fieldLink "BedBookModel" (342 : Nat) "BedBookModel" "sends" "I") ∈ lw_all := lw_g (lw_at lw_m6 33 rfl) rfl
theorem q1294 : (Jvm.Cond.fieldLink "BedBookModel" (165 : Nat) "BedBookModel" "sentRow" "[I") ∈ lw_all := lw_g (lw_at lw_m6 34 rfl) rfl
theorem q1295 : (Jvm.Cond.lays "BedBookModel" "BedBookModel" "thrown" "I") ∈ lw_all := lw_g (lw_at lw_m6 35 rfl) rfl
theorem q1296 : (Jvm.Cond.soleField "BedBookModel" "thrown") ∈ lw_all := lw_g (lw_at lw_m6 36 rfl) rfl
theorem q1297 : (Jvm.Cond.laysFinal "BedBookModel" "BedBookModel" "tape" "[I") ∈ lw_all := lw_g (lw_at lw_m6 37 rfl) rfl
theorem q1298 : (Jvm.Cond.soleField "BedBookModel" "tape") ∈ lw_all := lw_g (lw_at lw_m6 38 rfl) rfl
theorem q1299 : (Jvm.Cond.lays "BedBookModel" "BedBookModel" "taped" "I") ∈ lw_all := lw_g (lw_at lw_m6 39 rfl) rfl
theorem q1300 : (Jvm.Cond.soleField "BedBookModel" "taped") ∈ lw_all := lw_g (lw_at lw_m6 40 rfl) rfl
theorem q1301 : (Jvm.Cond.lays "BedBookModel" "BedBookModel" "size" "I") ∈ lw_all := lw_g (lw_at lw_m6 41 rfl) rfl
theorem q1302 : (Jvm.Cond.soleField "BedBookModel" "size") ∈ lw_all := lw_g (lw_at lw_m6 42 rfl) rfl
theorem q1303 : (Jvm.Cond.laysFinal "BedBookModel" "BedBookModel" "sort" "[I") ∈ lw_all := lw_g (lw_at lw_m6 43 rfl) rfl
theorem q1304 : (Jvm.Cond.soleField "BedBookModel" "sort") ∈ lw_all := lw_g (lw_at lw_m6 44 rfl) rfl
theorem q1305 : (Jvm.Cond.laysFinal "BedBookModel" "BedBookModel" "place" "[I") ∈ lw_all := lw_g (lw_at lw_m6 45 rfl) rfl
theorem q1306 : (Jvm.Cond.soleField "BedBookModel" "place") ∈ lw_all := lw_g (lw_at lw_m6 46 rfl) rfl
theorem q1307 : (Jvm.Cond.laysFinal "BedBookModel" "BedBookModel" "value" "[J") ∈ lw_all := lw_g (lw_at lw_m6 47 rfl) rfl
theorem q1308 : (Jvm.Cond.soleField "BedBookModel" "value") ∈ lw_all := lw_g (lw_at lw_m6 48 rfl) rfl
theorem q1309 : (Jvm.Cond.lays "BedBookModel" "BedBookModel" "at" "I") ∈ lw_all := lw_g (lw_at lw_m6 49 rfl) rfl
theorem q1310 : (Jvm.Cond.soleField "BedBookModel" "at") ∈ lw_all := lw_g (lw_at lw_m6 50 rfl) rfl
theorem q1311 : (Jvm.Cond.lays "BedBookModel" "BedBookModel" "fault" "I") ∈ lw_all := lw_g (lw_at lw_m6 51 rfl) rfl
theorem q1312 : (Jvm.Cond.soleField "BedBookModel" "fault") ∈ lw_all := lw_g (lw_at lw_m6 52 rfl) rfl
theorem q1313 : (Jvm.Cond.laysFinal "BedBookModel" "BedBookModel" "words" "[J") ∈ lw_all := lw_g (lw_at lw_m6 53 rfl) rfl
theorem q1314 : (Jvm.Cond.soleField "BedBookModel" "words") ∈ lw_all := lw_g (lw_at lw_m6 54 rfl) rfl
theorem q1315 : (Jvm.Cond.laysFinal "BedBookModel" "BedBookModel" "lines" "[I") ∈ lw_all := lw_g (lw_at lw_m6 55 rfl) rfl
theorem q1316 : (Jvm.Cond.soleField "BedBookModel" "lines") ∈ lw_all := lw_g (lw_at lw_m6 56 rfl) rfl
theorem q1317 : (Jvm.Cond.laysFinal "BedBookModel" "BedBookModel" "isBar" "[Z") ∈ lw_all := lw_g (lw_at lw_m6 57 rfl) rfl
theorem q1318 : (Jvm.Cond.soleField "BedBookModel" "isBar") ∈ lw_all := lw_g (lw_at lw_m6 58 rfl) rfl
theorem q1319 : (Jvm.Cond.laysFinal "BedBookModel" "BedBookModel" "lineAt" "[I") ∈ lw_all := lw_g (lw_at lw_m6 59 rfl) rfl
theorem q1320 : (Jvm.Cond.soleField "BedBookModel" "lineAt") ∈ lw_all := lw_g (lw_at lw_m6 60 rfl) rfl
theorem q1321 : (Jvm.Cond.laysFinal "BedBookModel" "BedBookModel" "op" "[I") ∈ lw_all := lw_g (lw_at lw_m6 61 rfl) rfl
theorem q1322 : (Jvm.Cond.soleField "BedBookModel" "op") ∈ lw_all := lw_g (lw_at lw_m6 62 rfl) rfl
theorem q1323 : (Jvm.Cond.laysFinal "BedBookModel" "BedBookModel" "one" "[I") ∈ lw_all := lw_g (lw_at lw_m6 63 rfl) rfl
theorem q1324 : (Jvm.Cond.soleField "BedBookModel" "one") ∈ lw_all := lw_g (lw_at lw_m6 64 rfl) rfl
theorem q1325 : (Jvm.Cond.lays "BedBookModel" "BedBookModel" "holds" "I") ∈ lw_all := lw_g (lw_at lw_m6 65 rfl) rfl
theorem q1326 : (Jvm.Cond.soleField "BedBookModel" "holds") ∈ lw_all := lw_g (lw_at lw_m6 66 rfl) rfl
theorem q1327 : (Jvm.Cond.lays "BedBookModel" "BedBookModel" "next" "I") ∈ lw_all := lw_g (lw_at lw_m6 67 rfl) rfl
theorem q1328 : (Jvm.Cond.soleField "BedBookModel" "next") ∈ lw_all := lw_g (lw_at lw_m6 68 rfl) rfl
theorem q1329 : (Jvm.Cond.lays "BedBookModel" "BedBookModel" "codes" "I") ∈ lw_all := lw_g (lw_at lw_m6 69 rfl) rfl
theorem q1330 : (Jvm.Cond.soleField "BedBookModel" "codes") ∈ lw_all := lw_g (lw_at lw_m6 70 rfl) rfl
theorem q1331 : (Jvm.Cond.lays "BedBookModel" "BedBookModel" "deep" "I") ∈ lw_all := lw_g (lw_at lw_m6 71 rfl) rfl
theorem q1332 : (Jvm.Cond.soleField "BedBookModel" "deep") ∈ lw_all := lw_g (lw_at lw_m6 72 rfl) rfl
theorem q1333 : (Jvm.Cond.laysFinal "BedBookModel" "BedBookModel" "sumWaits" "[I") ∈ lw_all := lw_g (lw_at lw_m6 73 rfl) rfl
theorem q1334 : (Jvm.Cond.soleField "BedBookModel" "sumWaits") ∈ lw_all := lw_g (lw_at lw_m6 74 rfl) rfl
theorem q1335 : (Jvm.Cond.laysFinal "BedBookModel" "BedBookModel" "signWaits" "[I") ∈ lw_all := lw_g (lw_at lw_m6 75 rfl) rfl
theorem q1336 : (Jvm.Cond.soleField "BedBookModel" "signWaits") ∈ lw_all := lw_g (lw_at lw_m6 76 rfl) rfl
theorem q1337 : (Jvm.Cond.laysFinal "BedBookModel" "BedBookModel" "andWaits" "[I") ∈ lw_all := lw_g (lw_at lw_m6 77 rfl) rfl
theorem q1338 : (Jvm.Cond.soleField "BedBookModel" "andWaits") ∈ lw_all := lw_g (lw_at lw_m6 78 rfl) rfl
theorem q1339 : (Jvm.Cond.laysFinal "BedBookModel" "BedBookModel" "known" "[I") ∈ lw_all := lw_g (lw_at lw_m6 79 rfl) rfl
theorem q1340 : (Jvm.Cond.soleField "BedBookModel" "known") ∈ lw_all := lw_g (lw_at lw_m6 80 rfl) rfl
theorem q1341 : (Jvm.Cond.laysFinal "BedBookModel" "BedBookModel" "pile" "[I") ∈ lw_all := lw_g (lw_at lw_m6 81 rfl) rfl
theorem q1342 : (Jvm.Cond.soleField "BedBookModel" "pile") ∈ lw_all := lw_g (lw_at lw_m6 82 rfl) rfl
theorem q1343 : (Jvm.Cond.lays "BedBookModel" "BedBookModel" "now" "I") ∈ lw_all := lw_g (lw_at lw_m6 83 rfl) rfl
theorem q1344 : (Jvm.Cond.soleField "BedBookModel" "now") ∈ lw_all := lw_g (lw_at lw_m6 84 rfl) rfl
theorem q1345 : (Jvm.Cond.lays "BedBookModel" "BedBookModel" "plants" "I") ∈ lw_all := lw_g (lw_at lw_m6 85 rfl) rfl
theorem q1346 : (Jvm.Cond.soleField "BedBookModel" "plants") ∈ lw_all := lw_g (lw_at lw_m6 86 rfl) rfl
theorem q1347 : (Jvm.Cond.laysFinal "BedBookModel" "BedBookModel" "kind" "[I") ∈ lw_all := lw_g (lw_at lw_m6 87 rfl) rfl
theorem q1348 : (Jvm.Cond.soleField "BedBookModel" "kind") ∈ lw_all := lw_g (lw_at lw_m6 88 rfl) rfl
theorem q1349 : (Jvm.Cond.laysFinal "BedBookModel" "BedBookModel" "of" "[I") ∈ lw_all := lw_g (lw_at lw_m6 89 rfl) rfl
theorem q1350 : (Jvm.Cond.soleField "BedBookModel" "of") ∈ lw_all := lw_g (lw_at lw_m6 90 rfl) rfl
theorem q1351 : (Jvm.Cond.laysFinal "BedBookModel" "BedBookModel" "father" "[I") ∈ lw_all := lw_g (lw_at lw_m6 91 rfl) rfl
theorem q1352 : (Jvm.Cond.soleField "BedBookModel" "father") ∈ lw_all := lw_g (lw_at lw_m6 92 rfl) rfl
theorem q1353 : (Jvm.Cond.laysFinal "BedBookModel" "BedBookModel" "pieces" "[I") ∈ lw_all := lw_g (lw_at lw_m6 93 rfl) rfl
theorem q1354 : (Jvm.Cond.soleField "BedBookModel" "pieces") ∈ lw_all := lw_g (lw_at lw_m6 94 rfl) rfl
theorem q1355 : (Jvm.Cond.laysFinal "BedBookModel" "BedBookModel" "marks" "[I") ∈ lw_all := lw_g (lw_at lw_m6 95 rfl) rfl
theorem q1356 : (Jvm.Cond.soleField "BedBookModel" "marks") ∈ lw_all := lw_g (lw_at lw_m6 96 rfl) rfl
theorem q1357 : (Jvm.Cond.laysFinal "BedBookModel" "BedBookModel" "needs" "[I") ∈ lw_all := lw_g (lw_at lw_m6 97 rfl) rfl
theorem q1358 : (Jvm.Cond.soleField "BedBookModel" "needs") ∈ lw_all := lw_g (lw_at lw_m6 98 rfl) rfl
theorem q1359 : (Jvm.Cond.laysFinal "BedBookModel" "BedBookModel" "inBed" "[I") ∈ lw_all := lw_g (lw_at lw_m6 99 rfl) rfl
theorem q1360 : (Jvm.Cond.soleField "BedBookModel" "inBed") ∈ lw_all := lw_g (lw_at lw_m6 100 rfl) rfl
theorem q1361 : (Jvm.Cond.laysFinal "BedBookModel" "BedBookModel" "seen" "[I") ∈ lw_all := lw_g (lw_at lw_m6 101 rfl) rfl
theorem q1362 : (Jvm.Cond.soleField "BedBookModel" "seen") ∈ lw_all := lw_g (lw_at lw_m6 102 rfl) rfl
theorem q1363 : (Jvm.Cond.laysFinal "BedBookModel" "BedBookModel" "missed" "[I") ∈ lw_all := lw_g (lw_at lw_m6 103 rfl) rfl
theorem q1364 : (Jvm.Cond.soleField "BedBookModel" "missed") ∈ lw_all := lw_g (lw_at lw_m6 104 rfl) rfl
theorem q1365 : (Jvm.Cond.laysFinal "BedBookModel" "BedBookModel" "isDead" "[Z") ∈ lw_all := lw_g (lw_at lw_m6 105 rfl) rfl
theorem q1366 : (Jvm.Cond.soleField "BedBookModel" "isDead") ∈ lw_all := lw_g (lw_at lw_m6 106 rfl) rfl
theorem q1367 : (Jvm.Cond.laysFinal "BedBookModel" "BedBookModel" "wildAt" "[I") ∈ lw_all := lw_g (lw_at lw_m6 107 rfl) rfl
theorem q1368 : (Jvm.Cond.soleField "BedBookModel" "wildAt") ∈ lw_all := lw_g (lw_at lw_m6 108 rfl) rfl
theorem q1369 : (Jvm.Cond.lays "BedBookModel" "BedBookModel" "given" "I") ∈ lw_all := lw_g (lw_at lw_m6 109 rfl) rfl
theorem q1370 : (Jvm.Cond.soleField "BedBookModel" "given") ∈ lw_all := lw_g (lw_at lw_m6 110 rfl) rfl
theorem q1371 : (Jvm.Cond.laysFinal "BedBookModel" "BedBookModel" "givenTo" "[I") ∈ lw_all := lw_g (lw_at lw_m6 111 rfl) rfl
theorem q1372 : (Jvm.Cond.soleField "BedBookModel" "givenTo") ∈ lw_all := lw_g (lw_at lw_m6 112 rfl) rfl
theorem q1373 : (Jvm.Cond.laysFinal "BedBookModel" "BedBookModel" "givenName" "[I") ∈ lw_all := lw_g (lw_at lw_m6 113 rfl) rfl
theorem q1374 : (Jvm.Cond.soleField "BedBookModel" "givenName") ∈ lw_all := lw_g (lw_at lw_m6 114 rfl) rfl
theorem q1375 : (Jvm.Cond.laysFinal "BedBookModel" "BedBookModel" "givenDay" "[I") ∈ lw_all := lw_g (lw_at lw_m6 115 rfl) rfl
theorem q1376 : (Jvm.Cond.soleField "BedBookModel" "givenDay") ∈ lw_all := lw_g (lw_at lw_m6 116 rfl) rfl
theorem q1377 : (Jvm.Cond.lays "BedBookModel" "BedBookModel" "joins" "I") ∈ lw_all := lw_g (lw_at lw_m6 117 rfl) rfl
theorem q1378 : (Jvm.Cond.soleField "BedBookModel" "joins") ∈ lw_all := lw_g (lw_at lw_m6 118 rfl) rfl
theorem q1379 : (Jvm.Cond.laysFinal "BedBookModel" "BedBookModel" "joinName" "[I") ∈ lw_all := lw_g (lw_at lw_m6 119 rfl) rfl
theorem q1380 : (Jvm.Cond.soleField "BedBookModel" "joinName") ∈ lw_all := lw_g (lw_at lw_m6 120 rfl) rfl
theorem q1381 : (Jvm.Cond.laysFinal "BedBookModel" "BedBookModel" "joinTo" "[I") ∈ lw_all := lw_g (lw_at lw_m6 121 rfl) rfl
theorem q1382 : (Jvm.Cond.soleField "BedBookModel" "joinTo") ∈ lw_all := lw_g (lw_at lw_m6 122 rfl) rfl
theorem q1383 : (Jvm.Cond.laysFinal "BedBookModel" "BedBookModel" "joinDay" "[I") ∈ lw_all := lw_g (lw_at lw_m6 123 rfl) rfl
theorem q1384 : (Jvm.Cond.soleField "BedBookModel" "joinDay") ∈ lw_all := lw_g (lw_at lw_m6 124 rfl) rfl
theorem q1385 : (Jvm.Cond.lays "BedBookModel" "BedBookModel" "beds" "I") ∈ lw_all := lw_g (lw_at lw_m6 125 rfl) rfl
theorem q1386 : (Jvm.Cond.soleField "BedBookModel" "beds") ∈ lw_all := lw_g (lw_at lw_m6 126 rfl) rfl
theorem q1387 : (Jvm.Cond.laysFinal "BedBookModel" "BedBookModel" "light" "[I") ∈ lw_all := lw_g (lw_at lw_m6 127 rfl) rfl
theorem q1388 : (Jvm.Cond.soleField "BedBookModel" "light") ∈ lw_all := lw_g (lw_at lw_m6 128 rfl) rfl
theorem q1389 : (Jvm.Cond.laysFinal "BedBookModel" "BedBookModel" "wet" "[I") ∈ lw_all := lw_g (lw_at lw_m6 129 rfl) rfl
theorem q1390 : (Jvm.Cond.soleField "BedBookModel" "wet") ∈ lw_all := lw_g (lw_at lw_m6 130 rfl) rfl
theorem q1391 : (Jvm.Cond.laysFinal "BedBookModel" "BedBookModel" "room" "[I") ∈ lw_all := lw_g (lw_at lw_m6 131 rfl) rfl
theorem q1392 : (Jvm.Cond.soleField "BedBookModel" "room") ∈ lw_all := lw_g (lw_at lw_m6 132 rfl) rfl
theorem q1393 : (Jvm.Cond.laysFinal "BedBookModel" "BedBookModel" "goesTo" "[I") ∈ lw_all := lw_g (lw_at lw_m6 133 rfl) rfl
theorem q1394 : (Jvm.Cond.soleField "BedBookModel" "goesTo") ∈ lw_all := lw_g (lw_at lw_m6 134 rfl) rfl
theorem q1395 : (Jvm.Cond.laysFinal "BedBookModel" "BedBookModel" "many" "[I") ∈ lw_all := lw_g (lw_at lw_m6 135 rfl) rfl
theorem q1396 : (Jvm.Cond.soleField "BedBookModel" "many") ∈ lw_all := lw_g (lw_at lw_m6 136 rfl) rfl
theorem q1397 : (Jvm.Cond.laysFinal "BedBookModel" "BedBookModel" "cost" "[I") ∈ lw_all := lw_g (lw_at lw_m6 137 rfl) rfl
theorem q1398 : (Jvm.Cond.soleField "BedBookModel" "cost") ∈ lw_all := lw_g (lw_at lw_m6 138 rfl) rfl
theorem q1399 : (Jvm.Cond.laysFinal "BedBookModel" "BedBookModel" "by" "[I") ∈ lw_all := lw_g (lw_at lw_m6 139 rfl) rfl
theorem q1400 : (Jvm.Cond.soleField "BedBookModel" "by") ∈ lw_all := lw_g (lw_at lw_m6 140 rfl) rfl
theorem q1401 : (Jvm.Cond.laysFinal "BedBookModel" "BedBookModel" "from" "[I") ∈ lw_all := lw_g (lw_at lw_m6 141 rfl) rfl
theorem q1402 : (Jvm.Cond.soleField "BedBookModel" "from") ∈ lw_all := lw_g (lw_at lw_m6 142 rfl) rfl
theorem q1403 : (Jvm.Cond.lays "BedBookModel" "BedBookModel" "sends" "I") ∈ lw_all := lw_g (lw_at lw_m6 143 rfl) rfl
theorem q1404 : (Jvm.Cond.soleField "BedBookModel" "sends") ∈ lw_all := lw_g (lw_at lw_m6 144 rfl) rfl
theorem q1405 : (Jvm.Cond.laysFinal "BedBookModel" "BedBookModel" "sentRow" "[I") ∈ lw_all := lw_g (lw_at lw_m6 145 rfl) rfl
theorem q1406 : (Jvm.Cond.soleField "BedBookModel" "sentRow") ∈ lw_all := lw_g (lw_at lw_m6 146 rfl) rfl
theorem q1407 : (Jvm.Cond.superclass "BedBookModel" "java/lang/Object") ∈ lw_all := lw_g (lw_at lw_m6 147 rfl) rfl
theorem q1411 : (Jvm.Cond.instanceMethod ({ cls := "BedBookModel", name := "text", desc := "()I" } : Jvm.MethodName)) ∈ lw_all := lw_g (lw_at lw_m6 151 rfl) rfl
theorem q1412 : (Jvm.Cond.selects "BedBookModel" ({ cls := "BedBookModel", name := "text", desc := "()I" } : Jvm.MethodName) ({ cls := "BedBookModel", name := "text", desc := "()I" } : Jvm.MethodName)) ∈ lw_all := lw_g (lw_at lw_m6 152 rfl) rfl
theorem q1413 : (Jvm.Cond.code ({ cls := "BedBookModel", name := "text", desc := "()I" } : Jvm.MethodName) prog_18_method_18_code (1 : Nat) (Option.some Jvm.ClassFile.FieldType.int)) ∈ lw_all := lw_g (lw_at lw_m6 153 rfl) rfl
theorem q1414 : (Jvm.Cond.methodLink "BedBookModel" (216 : Nat) ({ cls := "BedBookModel", name := "cutAll", desc := "()V" } : Jvm.MethodName)) ∈ lw_all := lw_g (lw_at lw_m6 154 rfl) rfl
theorem q1415 : (Jvm.Cond.privateMethod ({ cls := "BedBookModel", name := "cutAll", desc := "()V" } : Jvm.MethodName)) ∈ lw_tbl := lw_at lw_m6 155 rfl
theorem q1416 : (Jvm.Cond.instanceMethod ({ cls := "BedBookModel", name := "cutAll", desc := "()V" } : Jvm.MethodName)) ∈ lw_all := lw_g (lw_at lw_m6 156 rfl) rfl
theorem q1417 : (Jvm.Cond.code ({ cls := "BedBookModel", name := "cutAll", desc := "()V" } : Jvm.MethodName) prog_18_method_9_code (7 : Nat) (Option.none : Option Jvm.ClassFile.FieldType)) ∈ lw_all := lw_g (lw_at lw_m6 157 rfl) rfl
theorem q1418 : (Jvm.Cond.methodLink "BedBookModel" (168 : Nat) ({ cls := "BedBookModel", name := "isLetter", desc := "(I)Z" } : Jvm.MethodName)) ∈ lw_all := lw_g (lw_at lw_m6 158 rfl) rfl
theorem q1419 : (Jvm.Cond.static ({ cls := "BedBookModel", name := "isLetter", desc := "(I)Z" } : Jvm.MethodName)) ∈ lw_all := lw_g (lw_at lw_m6 159 rfl) rfl
theorem q1420 : (Jvm.Cond.code ({ cls := "BedBookModel", name := "isLetter", desc := "(I)Z" } : Jvm.MethodName) prog_18_method_5_code (1 : Nat) (Option.some Jvm.ClassFile.FieldType.boolean)) ∈ lw_all := lw_g (lw_at lw_m6 160 rfl) rfl
theorem q1421 : (Jvm.Cond.constantLong "BedBookModel" (175 : Nat) (37 : Int64)) ∈ lw_all := lw_g (lw_at lw_m6 161 rfl) rfl
theorem q1422 : (Jvm.Cond.methodLink "BedBookModel" (177 : Nat) ({ cls := "BedBookModel", name := "rank", desc := "(I)I" } : Jvm.MethodName)) ∈ lw_all := lw_g (lw_at lw_m6 162 rfl) rfl
theorem q1423 : (Jvm.Cond.static ({ cls := "BedBookModel", name := "rank", desc := "(I)I" } : Jvm.MethodName)) ∈ lw_all := lw_g (lw_at lw_m6 163 rfl) rfl
theorem q1424 : (Jvm.Cond.code ({ cls := "BedBookModel", name := "rank", desc := "(I)I" } : Jvm.MethodName) prog_18_method_7_code (1 : Nat) (Option.some Jvm.ClassFile.FieldType.int)) ∈ lw_all := lw_g (lw_at lw_m6 164 rfl) rfl
theorem q1425 : (Jvm.Cond.methodLink "BedBookModel" (181 : Nat) ({ cls := "BedBookModel", name := "isDigit", desc := "(I)Z" } : Jvm.MethodName)) ∈ lw_all := lw_g (lw_at lw_m6 165 rfl) rfl
theorem q1426 : (Jvm.Cond.static ({ cls := "BedBookModel", name := "isDigit", desc := "(I)Z" } : Jvm.MethodName)) ∈ lw_all := lw_g (lw_at lw_m6 166 rfl) rfl
theorem q1427 : (Jvm.Cond.code ({ cls := "BedBookModel", name := "isDigit", desc := "(I)Z" } : Jvm.MethodName) prog_18_method_6_code (1 : Nat) (Option.some Jvm.ClassFile.FieldType.boolean)) ∈ lw_all := lw_g (lw_at lw_m6 167 rfl) rfl
theorem q1428 : (Jvm.Cond.constantLong "BedBookModel" (184 : Nat) (10 : Int64)) ∈ lw_all := lw_g (lw_at lw_m6 168 rfl) rfl
theorem q1429 : (Jvm.Cond.constantLong "BedBookModel" (186 : Nat) (48 : Int64)) ∈ lw_all := lw_g (lw_at lw_m6 169 rfl) rfl
theorem q1430 : (Jvm.Cond.methodLink "BedBookModel" (188 : Nat) ({ cls := "BedBookModel", name := "isSignOf", desc := "(I)Z" } : Jvm.MethodName)) ∈ lw_all := lw_g (lw_at lw_m6 170 rfl) rfl
theorem q1431 : (Jvm.Cond.static ({ cls := "BedBookModel", name := "isSignOf", desc := "(I)Z" } : Jvm.MethodName)) ∈ lw_all := lw_g (lw_at lw_m6 171 rfl) rfl
theorem q1432 : (Jvm.Cond.code ({ cls := "BedBookModel", name := "isSignOf", desc := "(I)Z" } : Jvm.MethodName) prog_18_method_8_code (1 : Nat) (Option.some Jvm.ClassFile.FieldType.boolean)) ∈ lw_all := lw_g (lw_at lw_m6 172 rfl) rfl
theorem q1433 : (Jvm.Cond.methodLink "BedBookModel" (222 : Nat) ({ cls := "BedBookModel", name := "line", desc := "()V" } : Jvm.MethodName)) ∈ lw_all := lw_g (lw_at lw_m6 173 rfl) rfl
theorem q1434 : (Jvm.Cond.privateMethod ({ cls := "BedBookModel", name := "line", desc := "()V" } : Jvm.MethodName)) ∈ lw_tbl := lw_at lw_m6 174 rfl
theorem q1435 : (Jvm.Cond.instanceMethod ({ cls := "BedBookModel", name := "line", desc := "()V" } : Jvm.MethodName)) ∈ lw_all := lw_g (lw_at lw_m6 175 rfl) rfl
theorem q1436 : (Jvm.Cond.code ({ cls := "BedBookModel", name := "line", desc := "()V" } : Jvm.MethodName) prog_18_method_19_code (4 : Nat) (Option.none : Option Jvm.ClassFile.FieldType)) ∈ lw_all := lw_g (lw_at lw_m6 176 rfl) rfl
theorem q1437 : (Jvm.Cond.methodLink "BedBookModel" (204 : Nat) ({ cls := "BedBookModel", name := "isWord", desc := "(I)Z" } : Jvm.MethodName)) ∈ lw_all := lw_g (lw_at lw_m6 177 rfl) rfl
theorem q1438 : (Jvm.Cond.privateMethod ({ cls := "BedBookModel", name := "isWord", desc := "(I)Z" } : Jvm.MethodName)) ∈ lw_tbl := lw_at lw_m6 178 rfl
theorem q1439 : (Jvm.Cond.instanceMethod ({ cls := "BedBookModel", name := "isWord", desc := "(I)Z" } : Jvm.MethodName)) ∈ lw_all := lw_g (lw_at lw_m6 179 rfl) rfl
theorem q1440 : (Jvm.Cond.code ({ cls := "BedBookModel", name := "isWord", desc := "(I)Z" } : Jvm.MethodName) prog_18_method_12_code (2 : Nat) (Option.some Jvm.ClassFile.FieldType.boolean)) ∈ lw_all := lw_g (lw_at lw_m6 180 rfl) rfl
theorem q1441 : (Jvm.Cond.methodLink "BedBookModel" (200 : Nat) ({ cls := "BedBookModel", name := "wrong", desc := "(I)V" } : Jvm.MethodName)) ∈ lw_all := lw_g (lw_at lw_m6 181 rfl) rfl
theorem q1442 : (Jvm.Cond.privateMethod ({ cls := "BedBookModel", name := "wrong", desc := "(I)V" } : Jvm.MethodName)) ∈ lw_tbl := lw_at lw_m6 182 rfl
theorem q1443 : (Jvm.Cond.instanceMethod ({ cls := "BedBookModel", name := "wrong", desc := "(I)V" } : Jvm.MethodName)) ∈ lw_all := lw_g (lw_at lw_m6 183 rfl) rfl
theorem q1444 : (Jvm.Cond.code ({ cls := "BedBookModel", name := "wrong", desc := "(I)V" } : Jvm.MethodName) prog_18_method_10_code (2 : Nat) (Option.none : Option Jvm.ClassFile.FieldType)) ∈ lw_all := lw_g (lw_at lw_m6 184 rfl) rfl
theorem q1445 : (Jvm.Cond.methodLink "BedBookModel" (225 : Nat) ({ cls := "BedBookModel", name := "takeWord", desc := "(I)V" } : Jvm.MethodName)) ∈ lw_all := lw_g (lw_at lw_m6 185 rfl) rfl
theorem q1446 : (Jvm.Cond.privateMethod ({ cls := "BedBookModel", name := "takeWord", desc := "(I)V" } : Jvm.MethodName)) ∈ lw_tbl := lw_at lw_m6 186 rfl
theorem q1447 : (Jvm.Cond.instanceMethod ({ cls := "BedBookModel", name := "takeWord", desc := "(I)V" } : Jvm.MethodName)) ∈ lw_all := lw_g (lw_at lw_m6 187 rfl) rfl
theorem q1448 : (Jvm.Cond.code ({ cls := "BedBookModel", name := "takeWord", desc := "(I)V" } : Jvm.MethodName) prog_18_method_16_code (2 : Nat) (Option.none : Option Jvm.ClassFile.FieldType)) ∈ lw_all := lw_g (lw_at lw_m6 188 rfl) rfl
theorem q1449 : (Jvm.Cond.methodLink "BedBookModel" (207 : Nat) ({ cls := "BedBookModel", name := "hasWord", desc := "(I)Z" } : Jvm.MethodName)) ∈ lw_all := lw_g (lw_at lw_m6 189 rfl) rfl
theorem q1450 : (Jvm.Cond.privateMethod ({ cls := "BedBookModel", name := "hasWord", desc := "(I)Z" } : Jvm.MethodName)) ∈ lw_tbl := lw_at lw_m6 190 rfl
theorem q1451 : (Jvm.Cond.instanceMethod ({ cls := "BedBookModel", name := "hasWord", desc := "(I)Z" } : Jvm.MethodName)) ∈ lw_all := lw_g (lw_at lw_m6 191 rfl) rfl
theorem q1452 : (Jvm.Cond.code ({ cls := "BedBookModel", name := "hasWord", desc := "(I)Z" } : Jvm.MethodName) prog_18_method_15_code (3 : Nat) (Option.some Jvm.ClassFile.FieldType.boolean)) ∈ lw_all := lw_g (lw_at lw_m6 192 rfl) rfl
theorem q1453 : (Jvm.Cond.methodLink "BedBookModel" (231 : Nat) ({ cls := "BedBookModel", name := "opens", desc := "()V" } : Jvm.MethodName)) ∈ lw_all := lw_g (lw_at lw_m6 193 rfl) rfl
theorem q1454 : (Jvm.Cond.privateMethod ({ cls := "BedBookModel", name := "opens", desc := "()V" } : Jvm.MethodName)) ∈ lw_tbl := lw_at lw_m6 194 rfl
theorem q1455 : (Jvm.Cond.instanceMethod ({ cls := "BedBookModel", name := "opens", desc := "()V" } : Jvm.MethodName)) ∈ lw_all := lw_g (lw_at lw_m6 195 rfl) rfl
theorem q1456 : (Jvm.Cond.code ({ cls := "BedBookModel", name := "opens", desc := "()V" } : Jvm.MethodName) prog_18_method_20_code (1 : Nat) (Option.none : Option Jvm.ClassFile.FieldType)) ∈ lw_all := lw_g (lw_at lw_m6 196 rfl) rfl
theorem q1457 : (Jvm.Cond.methodLink "BedBookModel" (234 : Nat) ({ cls := "BedBookModel", name := "part", desc := "()Z" } : Jvm.MethodName)) ∈ lw_all := lw_g (lw_at lw_m6 197 rfl) rfl
theorem q1458 : (Jvm.Cond.privateMethod ({ cls := "BedBookModel", name := "part", desc := "()Z" } : Jvm.MethodName)) ∈ lw_tbl := lw_at lw_m6 198 rfl
theorem q1459 : (Jvm.Cond.instanceMethod ({ cls := "BedBookModel", name := "part", desc := "()Z" } : Jvm.MethodName)) ∈ lw_all := lw_g (lw_at lw_m6 199 rfl) rfl
theorem q1460 : (Jvm.Cond.code ({ cls := "BedBookModel", name := "part", desc := "()Z" } : Jvm.MethodName) prog_18_method_22_code (2 : Nat) (Option.some Jvm.ClassFile.FieldType.boolean)) ∈ lw_all := lw_g (lw_at lw_m6 200 rfl) rfl
theorem q1461 : (Jvm.Cond.methodLink "BedBookModel" (248 : Nat) ({ cls := "BedBookModel", name := "partWord", desc := "()I" } : Jvm.MethodName)) ∈ lw_all := lw_g (lw_at lw_m6 201 rfl) rfl
theorem q1462 : (Jvm.Cond.privateMethod ({ cls := "BedBookModel", name := "partWord", desc := "()I" } : Jvm.MethodName)) ∈ lw_tbl := lw_at lw_m6 202 rfl
theorem q1463 : (Jvm.Cond.instanceMethod ({ cls := "BedBookModel", name := "partWord", desc := "()I" } : Jvm.MethodName)) ∈ lw_all := lw_g (lw_at lw_m6 203 rfl) rfl
theorem q1464 : (Jvm.Cond.code ({ cls := "BedBookModel", name := "partWord", desc := "()I" } : Jvm.MethodName) prog_18_method_21_code (2 : Nat) (Option.some Jvm.ClassFile.FieldType.int)) ∈ lw_all := lw_g (lw_at lw_m6 204 rfl) rfl
theorem q1465 : (Jvm.Cond.methodLink "BedBookModel" (197 : Nat) ({ cls := "BedBookModel", name := "isSign", desc := "(I)Z" } : Jvm.MethodName)) ∈ lw_all := lw_g (lw_at lw_m6 205 rfl) rfl
theorem q1466 : (Jvm.Cond.privateMethod ({ cls := "BedBookModel", name := "isSign", desc := "(I)Z" } : Jvm.MethodName)) ∈ lw_tbl := lw_at lw_m6 206 rfl
theorem q1467 : (Jvm.Cond.instanceMethod ({ cls := "BedBookModel", name := "isSign", desc := "(I)Z" } : Jvm.MethodName)) ∈ lw_all := lw_g (lw_at lw_m6 207 rfl) rfl
theorem q1468 : (Jvm.Cond.code ({ cls := "BedBookModel", name := "isSign", desc := "(I)Z" } : Jvm.MethodName) prog_18_method_11_code (2 : Nat) (Option.some Jvm.ClassFile.FieldType.boolean)) ∈ lw_all := lw_g (lw_at lw_m6 208 rfl) rfl
theorem q1469 : (Jvm.Cond.methodLink "BedBookModel" (252 : Nat) ({ cls := "BedBookModel", name := "hasSign", desc := "(I)Z" } : Jvm.MethodName)) ∈ lw_all := lw_g (lw_at lw_m6 209 rfl) rfl
theorem q1470 : (Jvm.Cond.privateMethod ({ cls := "BedBookModel", name := "hasSign", desc := "(I)Z" } : Jvm.MethodName)) ∈ lw_tbl := lw_at lw_m6 210 rfl
theorem q1471 : (Jvm.Cond.instanceMethod ({ cls := "BedBookModel", name := "hasSign", desc := "(I)Z" } : Jvm.MethodName)) ∈ lw_all := lw_g (lw_at lw_m6 211 rfl) rfl
theorem q1472 : (Jvm.Cond.code ({ cls := "BedBookModel", name := "hasSign", desc := "(I)Z" } : Jvm.MethodName) prog_18_method_14_code (3 : Nat) (Option.some Jvm.ClassFile.FieldType.boolean)) ∈ lw_all := lw_g (lw_at lw_m6 212 rfl) rfl
theorem q1473 : (Jvm.Cond.methodLink "BedBookModel" (241 : Nat) ({ cls := "BedBookModel", name := "emit", desc := "(II)V" } : Jvm.MethodName)) ∈ lw_all := lw_g (lw_at lw_m6 213 rfl) rfl
theorem q1474 : (Jvm.Cond.privateMethod ({ cls := "BedBookModel", name := "emit", desc := "(II)V" } : Jvm.MethodName)) ∈ lw_tbl := lw_at lw_m6 214 rfl
theorem q1475 : (Jvm.Cond.instanceMethod ({ cls := "BedBookModel", name := "emit", desc := "(II)V" } : Jvm.MethodName)) ∈ lw_all := lw_g (lw_at lw_m6 215 rfl) rfl
theorem q1476 : (Jvm.Cond.code ({ cls := "BedBookModel", name := "emit", desc := "(II)V" } : Jvm.MethodName) prog_18_method_17_code (3 : Nat) (Option.none : Option Jvm.ClassFile.FieldType)) ∈ lw_all := lw_g (lw_at lw_m6 216 rfl) rfl
theorem q1477 : (Jvm.Cond.methodLink "BedBookModel" (238 : Nat) ({ cls := "BedBookModel", name := "goesOnBehind", desc := "()Z" } : Jvm.MethodName)) ∈ lw_all := lw_g (lw_at lw_m6 217 rfl) rfl
theorem q1478 : (Jvm.Cond.privateMethod ({ cls := "BedBookModel", name := "goesOnBehind", desc := "()Z" } : Jvm.MethodName)) ∈ lw_tbl := lw_at lw_m6 218 rfl
theorem q1479 : (Jvm.Cond.instanceMethod ({ cls := "BedBookModel", name := "goesOnBehind", desc := "()Z" } : Jvm.MethodName)) ∈ lw_all := lw_g (lw_at lw_m6 219 rfl) rfl
theorem q1480 : (Jvm.Cond.code ({ cls := "BedBookModel", name := "goesOnBehind", desc := "()Z" } : Jvm.MethodName) prog_18_method_23_code (1 : Nat) (Option.some Jvm.ClassFile.FieldType.boolean)) ∈ lw_all := lw_g (lw_at lw_m6 220 rfl) rfl
theorem q1481 : (Jvm.Cond.methodLink "BedBookModel" (245 : Nat) ({ cls := "BedBookModel", name := "takeSign", desc := "(I)V" } : Jvm.MethodName)) ∈ lw_all := lw_g (lw_at lw_m6 221 rfl) rfl
theorem q1482 : (Jvm.Cond.privateMethod ({ cls := "BedBookModel", name := "takeSign", desc := "(I)V" } : Jvm.MethodName)) ∈ lw_tbl := lw_at lw_m6 222 rfl
theorem q1483 : (Jvm.Cond.instanceMethod ({ cls := "BedBookModel", name := "takeSign", desc := "(I)V" } : Jvm.MethodName)) ∈ lw_all := lw_g (lw_at lw_m6 223 rfl) rfl
theorem q1484 : (Jvm.Cond.code ({ cls := "BedBookModel", name := "takeSign", desc := "(I)V" } : Jvm.MethodName) prog_18_method_13_code (2 : Nat) (Option.none : Option Jvm.ClassFile.FieldType)) ∈ lw_all := lw_g (lw_at lw_m6 224 rfl) rfl
theorem q1486 : (Jvm.Cond.instanceMethod ({ cls := "BedBookModel", name := "days", desc := "(I)I" } : Jvm.MethodName)) ∈ lw_all := lw_g (lw_at lw_m6 226 rfl) rfl
theorem q1487 : (Jvm.Cond.selects "BedBookModel" ({ cls := "BedBookModel", name := "days", desc := "(I)I" } : Jvm.MethodName) ({ cls := "BedBookModel", name := "days", desc := "(I)I" } : Jvm.MethodName)) ∈ lw_all := lw_g (lw_at lw_m6 227 rfl) rfl
theorem q1488 : (Jvm.Cond.code ({ cls := "BedBookModel", name := "days", desc := "(I)I" } : Jvm.MethodName) prog_18_method_25_code (2 : Nat) (Option.some Jvm.ClassFile.FieldType.int)) ∈ lw_all := lw_g (lw_at lw_m6 228 rfl) rfl
theorem q1490 : (Jvm.Cond.instanceMethod ({ cls := "BedBookModel", name := "wild", desc := "(II)I" } : Jvm.MethodName)) ∈ lw_all := lw_g (lw_at lw_m6 230 rfl) rfl
theorem q1491 : (Jvm.Cond.selects "BedBookModel" ({ cls := "BedBookModel", name := "wild", desc := "(II)I" } : Jvm.MethodName) ({ cls := "BedBookModel", name := "wild", desc := "(II)I" } : Jvm.MethodName)) ∈ lw_all := lw_g (lw_at lw_m6 231 rfl) rfl
theorem q1492 : (Jvm.Cond.code ({ cls := "BedBookModel", name := "wild", desc := "(II)I" } : Jvm.MethodName) prog_18_method_29_code (3 : Nat) (Option.some Jvm.ClassFile.FieldType.int)) ∈ lw_all := lw_g (lw_at lw_m6 232 rfl) rfl
theorem q1493 : (Jvm.Cond.methodLink "BedBookModel" (261 : Nat) ({ cls := "BedBookModel", name := "areMany", desc := "(I)Z" } : Jvm.MethodName)) ∈ lw_all := lw_g (lw_at lw_m6 233 rfl) rfl
theorem q1494 : (Jvm.Cond.static ({ cls := "BedBookModel", name := "areMany", desc := "(I)Z" } : Jvm.MethodName)) ∈ lw_all := lw_g (lw_at lw_m6 234 rfl) rfl
theorem q1495 : (Jvm.Cond.code ({ cls := "BedBookModel", name := "areMany", desc := "(I)Z" } : Jvm.MethodName) prog_18_method_28_code (1 : Nat) (Option.some Jvm.ClassFile.FieldType.boolean)) ∈ lw_all := lw_g (lw_at lw_m6 235 rfl) rfl
theorem q1496 : (Jvm.Cond.methodLink "BedBookModel" (264 : Nat) ({ cls := "BedBookModel", name := "grows", desc := "(IIII)I" } : Jvm.MethodName)) ∈ lw_all := lw_g (lw_at lw_m6 236 rfl) rfl
theorem q1497 : (Jvm.Cond.privateMethod ({ cls := "BedBookModel", name := "grows", desc := "(IIII)I" } : Jvm.MethodName)) ∈ lw_tbl := lw_at lw_m6 237 rfl
theorem q1498 : (Jvm.Cond.instanceMethod ({ cls := "BedBookModel", name := "grows", desc := "(IIII)I" } : Jvm.MethodName)) ∈ lw_all := lw_g (lw_at lw_m6 238 rfl) rfl
theorem q1499 : (Jvm.Cond.code ({ cls := "BedBookModel", name := "grows", desc := "(IIII)I" } : Jvm.MethodName) prog_18_method_27_code (6 : Nat) (Option.some Jvm.ClassFile.FieldType.int)) ∈ lw_all := lw_g (lw_at lw_m6 239 rfl) rfl
theorem q1501 : (Jvm.Cond.instanceMethod ({ cls := "BedBookModel", name := "seed", desc := "(III)I" } : Jvm.MethodName)) ∈ lw_all := lw_g (lw_at lw_m7 1 rfl) rfl
theorem q1502 : (Jvm.Cond.selects "BedBookModel" ({ cls := "BedBookModel", name := "seed", desc := "(III)I" } : Jvm.MethodName) ({ cls := "BedBookModel", name := "seed", desc := "(III)I" } : Jvm.MethodName)) ∈ lw_all := lw_g (lw_at lw_m7 2 rfl) rfl
theorem q1503 : (Jvm.Cond.code ({ cls := "BedBookModel", name := "seed", desc := "(III)I" } : Jvm.MethodName) prog_18_method_30_code (4 : Nat) (Option.some Jvm.ClassFile.FieldType.int)) ∈ lw_all := lw_g (lw_at lw_m7 3 rfl) rfl
theorem q1504 : (Jvm.Cond.methodLink "BedBookModel" (268 : Nat) ({ cls := "BedBookModel", name := "isPlant", desc := "(I)Z" } : Jvm.MethodName)) ∈ lw_all := lw_g (lw_at lw_m7 4 rfl) rfl
theorem q1505 : (Jvm.Cond.privateMethod ({ cls := "BedBookModel", name := "isPlant", desc := "(I)Z" } : Jvm.MethodName)) ∈ lw_tbl := lw_at lw_m7 5 rfl
theorem q1506 : (Jvm.Cond.instanceMethod ({ cls := "BedBookModel", name := "isPlant", desc := "(I)Z" } : Jvm.MethodName)) ∈ lw_all := lw_g (lw_at lw_m7 6 rfl) rfl
theorem q1507 : (Jvm.Cond.code ({ cls := "BedBookModel", name := "isPlant", desc := "(I)Z" } : Jvm.MethodName) prog_18_method_26_code (2 : Nat) (Option.some Jvm.ClassFile.FieldType.boolean)) ∈ lw_all := lw_g (lw_at lw_m7 7 rfl) rfl
theorem q1509 : (Jvm.Cond.instanceMethod ({ cls := "BedBookModel", name := "cut", desc := "(II)I" } : Jvm.MethodName)) ∈ lw_all := lw_g (lw_at lw_m7 9 rfl) rfl
theorem q1510 : (Jvm.Cond.selects "BedBookModel" ({ cls := "BedBookModel", name := "cut", desc := "(II)I" } : Jvm.MethodName) ({ cls := "BedBookModel", name := "cut", desc := "(II)I" } : Jvm.MethodName)) ∈ lw_all := lw_g (lw_at lw_m7 10 rfl) rfl
theorem q1511 : (Jvm.Cond.code ({ cls := "BedBookModel", name := "cut", desc := "(II)I" } : Jvm.MethodName) prog_18_method_31_code (3 : Nat) (Option.some Jvm.ClassFile.FieldType.int)) ∈ lw_all := lw_g (lw_at lw_m7 11 rfl) rfl
theorem q1513 : (Jvm.Cond.instanceMethod ({ cls := "BedBookModel", name := "split", desc := "(II)I" } : Jvm.MethodName)) ∈ lw_all := lw_g (lw_at lw_m7 13 rfl) rfl
theorem q1514 : (Jvm.Cond.selects "BedBookModel" ({ cls := "BedBookModel", name := "split", desc := "(II)I" } : Jvm.MethodName) ({ cls := "BedBookModel", name := "split", desc := "(II)I" } : Jvm.MethodName)) ∈ lw_all := lw_g (lw_at lw_m7 14 rfl) rfl
theorem q1515 : (Jvm.Cond.code ({ cls := "BedBookModel", name := "split", desc := "(II)I" } : Jvm.MethodName) prog_18_method_32_code (3 : Nat) (Option.some Jvm.ClassFile.FieldType.int)) ∈ lw_all := lw_g (lw_at lw_m7 15 rfl) rfl
theorem q1517 : (Jvm.Cond.instanceMethod ({ cls := "BedBookModel", name := "mark", desc := "(IIII)Z" } : Jvm.MethodName)) ∈ lw_all := lw_g (lw_at lw_m7 17 rfl) rfl
theorem q1518 : (Jvm.Cond.selects "BedBookModel" ({ cls := "BedBookModel", name := "mark", desc := "(IIII)Z" } : Jvm.MethodName) ({ cls := "BedBookModel", name := "mark", desc := "(IIII)Z" } : Jvm.MethodName)) ∈ lw_all := lw_g (lw_at lw_m7 18 rfl) rfl
theorem q1519 : (Jvm.Cond.code ({ cls := "BedBookModel", name := "mark", desc := "(IIII)Z" } : Jvm.MethodName) prog_18_method_35_code (5 : Nat) (Option.some Jvm.ClassFile.FieldType.boolean)) ∈ lw_all := lw_g (lw_at lw_m7 19 rfl) rfl
theorem q1521 : (Jvm.Cond.instanceMethod ({ cls := "BedBookModel", name := "fits", desc := "(I)I" } : Jvm.MethodName)) ∈ lw_all := lw_g (lw_at lw_m7 21 rfl) rfl
theorem q1522 : (Jvm.Cond.selects "BedBookModel" ({ cls := "BedBookModel", name := "fits", desc := "(I)I" } : Jvm.MethodName) ({ cls := "BedBookModel", name := "fits", desc := "(I)I" } : Jvm.MethodName)) ∈ lw_all := lw_g (lw_at lw_m7 22 rfl) rfl
theorem q1523 : (Jvm.Cond.code ({ cls := "BedBookModel", name := "fits", desc := "(I)I" } : Jvm.MethodName) prog_18_method_39_code (2 : Nat) (Option.some Jvm.ClassFile.FieldType.int)) ∈ lw_all := lw_g (lw_at lw_m7 23 rfl) rfl
theorem q1524 : (Jvm.Cond.methodLink "BedBookModel" (279 : Nat) ({ cls := "BedBookModel", name := "fitsAs", desc := "(II)Z" } : Jvm.MethodName)) ∈ lw_all := lw_g (lw_at lw_m7 24 rfl) rfl
theorem q1525 : (Jvm.Cond.privateMethod ({ cls := "BedBookModel", name := "fitsAs", desc := "(II)Z" } : Jvm.MethodName)) ∈ lw_tbl := lw_at lw_m7 25 rfl
theorem q1526 : (Jvm.Cond.instanceMethod ({ cls := "BedBookModel", name := "fitsAs", desc := "(II)Z" } : Jvm.MethodName)) ∈ lw_all := lw_g (lw_at lw_m7 26 rfl) rfl
theorem q1527 : (Jvm.Cond.code ({ cls := "BedBookModel", name := "fitsAs", desc := "(II)Z" } : Jvm.MethodName) prog_18_method_38_code (9 : Nat) (Option.some Jvm.ClassFile.FieldType.boolean)) ∈ lw_all := lw_g (lw_at lw_m7 27 rfl) rfl
theorem q1528 : (Jvm.Cond.methodLink "BedBookModel" (271 : Nat) ({ cls := "BedBookModel", name := "markOf", desc := "(III)I" } : Jvm.MethodName)) ∈ lw_all := lw_g (lw_at lw_m7 28 rfl) rfl
theorem q1529 : (Jvm.Cond.privateMethod ({ cls := "BedBookModel", name := "markOf", desc := "(III)I" } : Jvm.MethodName)) ∈ lw_tbl := lw_at lw_m7 29 rfl
theorem q1530 : (Jvm.Cond.instanceMethod ({ cls := "BedBookModel", name := "markOf", desc := "(III)I" } : Jvm.MethodName)) ∈ lw_all := lw_g (lw_at lw_m7 30 rfl) rfl
theorem q1531 : (Jvm.Cond.code ({ cls := "BedBookModel", name := "markOf", desc := "(III)I" } : Jvm.MethodName) prog_18_method_36_code (4 : Nat) (Option.some Jvm.ClassFile.FieldType.int)) ∈ lw_all := lw_g (lw_at lw_m7 31 rfl) rfl
theorem q1532 : (Jvm.Cond.methodLink "BedBookModel" (275 : Nat) ({ cls := "BedBookModel", name := "hasMark", desc := "(III)Z" } : Jvm.MethodName)) ∈ lw_all := lw_g (lw_at lw_m7 32 rfl) rfl
theorem q1533 : (Jvm.Cond.privateMethod ({ cls := "BedBookModel", name := "hasMark", desc := "(III)Z" } : Jvm.MethodName)) ∈ lw_tbl := lw_at lw_m7 33 rfl
theorem q1534 : (Jvm.Cond.instanceMethod ({ cls := "BedBookModel", name := "hasMark", desc := "(III)Z" } : Jvm.MethodName)) ∈ lw_all := lw_g (lw_at lw_m7 34 rfl) rfl
theorem q1535 : (Jvm.Cond.code ({ cls := "BedBookModel", name := "hasMark", desc := "(III)Z" } : Jvm.MethodName) prog_18_method_37_code (4 : Nat) (Option.some Jvm.ClassFile.FieldType.boolean)) ∈ lw_all := lw_g (lw_at lw_m7 35 rfl) rfl
theorem q1537 : (Jvm.Cond.instanceMethod ({ cls := "BedBookModel", name := "changed", desc := "(II)I" } : Jvm.MethodName)) ∈ lw_all := lw_g (lw_at lw_m7 37 rfl) rfl
theorem q1538 : (Jvm.Cond.selects "BedBookModel" ({ cls := "BedBookModel", name := "changed", desc := "(II)I" } : Jvm.MethodName) ({ cls := "BedBookModel", name := "changed", desc := "(II)I" } : Jvm.MethodName)) ∈ lw_all := lw_g (lw_at lw_m7 38 rfl) rfl
theorem q1539 : (Jvm.Cond.code ({ cls := "BedBookModel", name := "changed", desc := "(II)I" } : Jvm.MethodName) prog_18_method_40_code (3 : Nat) (Option.some Jvm.ClassFile.FieldType.int)) ∈ lw_all := lw_g (lw_at lw_m7 39 rfl) rfl
theorem q1541 : (Jvm.Cond.instanceMethod ({ cls := "BedBookModel", name := "name", desc := "(II)Z" } : Jvm.MethodName)) ∈ lw_all := lw_g (lw_at lw_m7 41 rfl) rfl
theorem q1542 : (Jvm.Cond.selects "BedBookModel" ({ cls := "BedBookModel", name := "name", desc := "(II)Z" } : Jvm.MethodName) ({ cls := "BedBookModel", name := "name", desc := "(II)Z" } : Jvm.MethodName)) ∈ lw_all := lw_g (lw_at lw_m7 42 rfl) rfl
theorem q1543 : (Jvm.Cond.code ({ cls := "BedBookModel", name := "name", desc := "(II)Z" } : Jvm.MethodName) prog_18_method_42_code (3 : Nat) (Option.some Jvm.ClassFile.FieldType.boolean)) ∈ lw_all := lw_g (lw_at lw_m7 43 rfl) rfl
theorem q1544 : (Jvm.Cond.methodLink "BedBookModel" (283 : Nat) ({ cls := "BedBookModel", name := "isName", desc := "(I)Z" } : Jvm.MethodName)) ∈ lw_all := lw_g (lw_at lw_m7 44 rfl) rfl
theorem q1545 : (Jvm.Cond.static ({ cls := "BedBookModel", name := "isName", desc := "(I)Z" } : Jvm.MethodName)) ∈ lw_all := lw_g (lw_at lw_m7 45 rfl) rfl
theorem q1546 : (Jvm.Cond.code ({ cls := "BedBookModel", name := "isName", desc := "(I)Z" } : Jvm.MethodName) prog_18_method_41_code (1 : Nat) (Option.some Jvm.ClassFile.FieldType.boolean)) ∈ lw_all := lw_g (lw_at lw_m7 46 rfl) rfl
theorem q1548 : (Jvm.Cond.instanceMethod ({ cls := "BedBookModel", name := "join", desc := "(II)Z" } : Jvm.MethodName)) ∈ lw_all := lw_g (lw_at lw_m7 48 rfl) rfl
theorem q1549 : (Jvm.Cond.selects "BedBookModel" ({ cls := "BedBookModel", name := "join", desc := "(II)Z" } : Jvm.MethodName) ({ cls := "BedBookModel", name := "join", desc := "(II)Z" } : Jvm.MethodName)) ∈ lw_all := lw_g (lw_at lw_m7 49 rfl) rfl
theorem q1550 : (Jvm.Cond.code ({ cls := "BedBookModel", name := "join", desc := "(II)Z" } : Jvm.MethodName) prog_18_method_46_code (3 : Nat) (Option.some Jvm.ClassFile.FieldType.boolean)) ∈ lw_all := lw_g (lw_at lw_m7 50 rfl) rfl
theorem q1551 : (Jvm.Cond.methodLink "BedBookModel" (296 : Nat) ({ cls := "BedBookModel", name := "leadsBack", desc := "(II)Z" } : Jvm.MethodName)) ∈ lw_all := lw_g (lw_at lw_m7 51 rfl) rfl
theorem q1552 : (Jvm.Cond.privateMethod ({ cls := "BedBookModel", name := "leadsBack", desc := "(II)Z" } : Jvm.MethodName)) ∈ lw_tbl := lw_at lw_m7 52 rfl
theorem q1553 : (Jvm.Cond.instanceMethod ({ cls := "BedBookModel", name := "leadsBack", desc := "(II)Z" } : Jvm.MethodName)) ∈ lw_all := lw_g (lw_at lw_m7 53 rfl) rfl
theorem q1554 : (Jvm.Cond.code ({ cls := "BedBookModel", name := "leadsBack", desc := "(II)Z" } : Jvm.MethodName) prog_18_method_45_code (4 : Nat) (Option.some Jvm.ClassFile.FieldType.boolean)) ∈ lw_all := lw_g (lw_at lw_m7 54 rfl) rfl
theorem q1555 : (Jvm.Cond.methodLink "BedBookModel" (289 : Nat) ({ cls := "BedBookModel", name := "joinedTo", desc := "(II)I" } : Jvm.MethodName)) ∈ lw_all := lw_g (lw_at lw_m7 55 rfl) rfl
theorem q1556 : (Jvm.Cond.privateMethod ({ cls := "BedBookModel", name := "joinedTo", desc := "(II)I" } : Jvm.MethodName)) ∈ lw_tbl := lw_at lw_m7 56 rfl
theorem q1557 : (Jvm.Cond.instanceMethod ({ cls := "BedBookModel", name := "joinedTo", desc := "(II)I" } : Jvm.MethodName)) ∈ lw_all := lw_g (lw_at lw_m7 57 rfl) rfl
theorem q1558 : (Jvm.Cond.code ({ cls := "BedBookModel", name := "joinedTo", desc := "(II)I" } : Jvm.MethodName) prog_18_method_44_code (5 : Nat) (Option.some Jvm.ClassFile.FieldType.int)) ∈ lw_all := lw_g (lw_at lw_m7 58 rfl) rfl
theorem q1560 : (Jvm.Cond.instanceMethod ({ cls := "BedBookModel", name := "named", desc := "(III)I" } : Jvm.MethodName)) ∈ lw_all := lw_g (lw_at lw_m7 60 rfl) rfl
theorem q1561 : (Jvm.Cond.selects "BedBookModel" ({ cls := "BedBookModel", name := "named", desc := "(III)I" } : Jvm.MethodName) ({ cls := "BedBookModel", name := "named", desc := "(III)I" } : Jvm.MethodName)) ∈ lw_all := lw_g (lw_at lw_m7 61 rfl) rfl
theorem q1562 : (Jvm.Cond.code ({ cls := "BedBookModel", name := "named", desc := "(III)I" } : Jvm.MethodName) prog_18_method_48_code (4 : Nat) (Option.some Jvm.ClassFile.FieldType.int)) ∈ lw_all := lw_g (lw_at lw_m7 62 rfl) rfl
theorem q1563 : (Jvm.Cond.methodLink "BedBookModel" (302 : Nat) ({ cls := "BedBookModel", name := "nameOf", desc := "(III)I" } : Jvm.MethodName)) ∈ lw_all := lw_g (lw_at lw_m7 63 rfl) rfl
theorem q1564 : (Jvm.Cond.privateMethod ({ cls := "BedBookModel", name := "nameOf", desc := "(III)I" } : Jvm.MethodName)) ∈ lw_tbl := lw_at lw_m7 64 rfl
theorem q1565 : (Jvm.Cond.instanceMethod ({ cls := "BedBookModel", name := "nameOf", desc := "(III)I" } : Jvm.MethodName)) ∈ lw_all := lw_g (lw_at lw_m7 65 rfl) rfl
theorem q1566 : (Jvm.Cond.code ({ cls := "BedBookModel", name := "nameOf", desc := "(III)I" } : Jvm.MethodName) prog_18_method_47_code (6 : Nat) (Option.some Jvm.ClassFile.FieldType.int)) ∈ lw_all := lw_g (lw_at lw_m7 66 rfl) rfl
theorem q1567 : (Jvm.Cond.methodLink "BedBookModel" (299 : Nat) ({ cls := "BedBookModel", name := "leads", desc := "(II)I" } : Jvm.MethodName)) ∈ lw_all := lw_g (lw_at lw_m7 67 rfl) rfl
theorem q1568 : (Jvm.Cond.privateMethod ({ cls := "BedBookModel", name := "leads", desc := "(II)I" } : Jvm.MethodName)) ∈ lw_tbl := lw_at lw_m7 68 rfl
theorem q1569 : (Jvm.Cond.instanceMethod ({ cls := "BedBookModel", name := "leads", desc := "(II)I" } : Jvm.MethodName)) ∈ lw_all := lw_g (lw_at lw_m7 69 rfl) rfl
theorem q1570 : (Jvm.Cond.code ({ cls := "BedBookModel", name := "leads", desc := "(II)I" } : Jvm.MethodName) prog_18_method_43_code (5 : Nat) (Option.some Jvm.ClassFile.FieldType.int)) ∈ lw_all := lw_g (lw_at lw_m7 70 rfl) rfl
theorem q1572 : (Jvm.Cond.instanceMethod ({ cls := "BedBookModel", name := "bed", desc := "(III)I" } : Jvm.MethodName)) ∈ lw_all := lw_g (lw_at lw_m7 72 rfl) rfl
theorem q1573 : (Jvm.Cond.selects "BedBookModel" ({ cls := "BedBookModel", name := "bed", desc := "(III)I" } : Jvm.MethodName) ({ cls := "BedBookModel", name := "bed", desc := "(III)I" } : Jvm.MethodName)) ∈ lw_all := lw_g (lw_at lw_m7 73 rfl) rfl
theorem q1574 : (Jvm.Cond.code ({ cls := "BedBookModel", name := "bed", desc := "(III)I" } : Jvm.MethodName) prog_18_method_50_code (4 : Nat) (Option.some Jvm.ClassFile.FieldType.int)) ∈ lw_all := lw_g (lw_at lw_m7 74 rfl) rfl
theorem q1575 : (Jvm.Cond.methodLink "BedBookModel" (305 : Nat) ({ cls := "BedBookModel", name := "isDigitNumber", desc := "(I)Z" } : Jvm.MethodName)) ∈ lw_all := lw_g (lw_at lw_m7 75 rfl) rfl
theorem q1576 : (Jvm.Cond.static ({ cls := "BedBookModel", name := "isDigitNumber", desc := "(I)Z" } : Jvm.MethodName)) ∈ lw_all := lw_g (lw_at lw_m7 76 rfl) rfl
theorem q1577 : (Jvm.Cond.code ({ cls := "BedBookModel", name := "isDigitNumber", desc := "(I)Z" } : Jvm.MethodName) prog_18_method_49_code (1 : Nat) (Option.some Jvm.ClassFile.FieldType.boolean)) ∈ lw_all := lw_g (lw_at lw_m7 77 rfl) rfl
theorem q1579 : (Jvm.Cond.instanceMethod ({ cls := "BedBookModel", name := "change", desc := "(III)Z" } : Jvm.MethodName)) ∈ lw_all := lw_g (lw_at lw_m7 79 rfl) rfl
theorem q1580 : (Jvm.Cond.selects "BedBookModel" ({ cls := "BedBookModel", name := "change", desc := "(III)Z" } : Jvm.MethodName) ({ cls := "BedBookModel", name := "change", desc := "(III)Z" } : Jvm.MethodName)) ∈ lw_all := lw_g (lw_at lw_m7 80 rfl) rfl
theorem q1581 : (Jvm.Cond.code ({ cls := "BedBookModel", name := "change", desc := "(III)Z" } : Jvm.MethodName) prog_18_method_52_code (4 : Nat) (Option.some Jvm.ClassFile.FieldType.boolean)) ∈ lw_all := lw_g (lw_at lw_m7 81 rfl) rfl
theorem q1582 : (Jvm.Cond.methodLink "BedBookModel" (311 : Nat) ({ cls := "BedBookModel", name := "isBed", desc := "(I)Z" } : Jvm.MethodName)) ∈ lw_all := lw_g (lw_at lw_m7 82 rfl) rfl
theorem q1583 : (Jvm.Cond.privateMethod ({ cls := "BedBookModel", name := "isBed", desc := "(I)Z" } : Jvm.MethodName)) ∈ lw_tbl := lw_at lw_m7 83 rfl
theorem q1584 : (Jvm.Cond.instanceMethod ({ cls := "BedBookModel", name := "isBed", desc := "(I)Z" } : Jvm.MethodName)) ∈ lw_all := lw_g (lw_at lw_m7 84 rfl) rfl
theorem q1585 : (Jvm.Cond.code ({ cls := "BedBookModel", name := "isBed", desc := "(I)Z" } : Jvm.MethodName) prog_18_method_51_code (2 : Nat) (Option.some Jvm.ClassFile.FieldType.boolean)) ∈ lw_all := lw_g (lw_at lw_m7 85 rfl) rfl
theorem q1587 : (Jvm.Cond.instanceMethod ({ cls := "BedBookModel", name := "needs", desc := "(IIIII)Z" } : Jvm.MethodName)) ∈ lw_all := lw_g (lw_at lw_m7 87 rfl) rfl
theorem q1588 : (Jvm.Cond.selects "BedBookModel" ({ cls := "BedBookModel", name := "needs", desc := "(IIIII)Z" } : Jvm.MethodName) ({ cls := "BedBookModel", name := "needs", desc := "(IIIII)Z" } : Jvm.MethodName)) ∈ lw_all := lw_g (lw_at lw_m7 88 rfl) rfl
theorem q1589 : (Jvm.Cond.code ({ cls := "BedBookModel", name := "needs", desc := "(IIIII)Z" } : Jvm.MethodName) prog_18_method_53_code (6 : Nat) (Option.some Jvm.ClassFile.FieldType.boolean)) ∈ lw_all := lw_g (lw_at lw_m7 89 rfl) rfl
theorem q1591 : (Jvm.Cond.instanceMethod ({ cls := "BedBookModel", name := "lay", desc := "(II)Z" } : Jvm.MethodName)) ∈ lw_all := lw_g (lw_at lw_m7 91 rfl) rfl
theorem q1592 : (Jvm.Cond.selects "BedBookModel" ({ cls := "BedBookModel", name := "lay", desc := "(II)Z" } : Jvm.MethodName) ({ cls := "BedBookModel", name := "lay", desc := "(II)Z" } : Jvm.MethodName)) ∈ lw_all := lw_g (lw_at lw_m7 92 rfl) rfl
theorem q1593 : (Jvm.Cond.code ({ cls := "BedBookModel", name := "lay", desc := "(II)Z" } : Jvm.MethodName) prog_18_method_55_code (5 : Nat) (Option.some Jvm.ClassFile.FieldType.boolean)) ∈ lw_all := lw_g (lw_at lw_m7 93 rfl) rfl
theorem q1594 : (Jvm.Cond.methodLink "BedBookModel" (314 : Nat) ({ cls := "BedBookModel", name := "suits", desc := "(II)Z" } : Jvm.MethodName)) ∈ lw_all := lw_g (lw_at lw_m7 94 rfl) rfl
theorem q1595 : (Jvm.Cond.privateMethod ({ cls := "BedBookModel", name := "suits", desc := "(II)Z" } : Jvm.MethodName)) ∈ lw_tbl := lw_at lw_m7 95 rfl
theorem q1596 : (Jvm.Cond.instanceMethod ({ cls := "BedBookModel", name := "suits", desc := "(II)Z" } : Jvm.MethodName)) ∈ lw_all := lw_g (lw_at lw_m7 96 rfl) rfl
theorem q1597 : (Jvm.Cond.code ({ cls := "BedBookModel", name := "suits", desc := "(II)Z" } : Jvm.MethodName) prog_18_method_54_code (3 : Nat) (Option.some Jvm.ClassFile.FieldType.boolean)) ∈ lw_all := lw_g (lw_at lw_m7 97 rfl) rfl
theorem q1599 : (Jvm.Cond.instanceMethod ({ cls := "BedBookModel", name := "moves", desc := "()I" } : Jvm.MethodName)) ∈ lw_all := lw_g (lw_at lw_m7 99 rfl) rfl
theorem q1600 : (Jvm.Cond.selects "BedBookModel" ({ cls := "BedBookModel", name := "moves", desc := "()I" } : Jvm.MethodName) ({ cls := "BedBookModel", name := "moves", desc := "()I" } : Jvm.MethodName)) ∈ lw_all := lw_g (lw_at lw_m7 100 rfl) rfl
theorem q1601 : (Jvm.Cond.code ({ cls := "BedBookModel", name := "moves", desc := "()I" } : Jvm.MethodName) prog_18_method_59_code (3 : Nat) (Option.some Jvm.ClassFile.FieldType.int)) ∈ lw_all := lw_g (lw_at lw_m7 101 rfl) rfl
theorem q1602 : (Jvm.Cond.methodLink "BedBookModel" (324 : Nat) ({ cls := "BedBookModel", name := "comes", desc := "(I)Z" } : Jvm.MethodName)) ∈ lw_all := lw_g (lw_at lw_m7 102 rfl) rfl
theorem q1603 : (Jvm.Cond.privateMethod ({ cls := "BedBookModel", name := "comes", desc := "(I)Z" } : Jvm.MethodName)) ∈ lw_tbl := lw_at lw_m7 103 rfl
theorem q1604 : (Jvm.Cond.instanceMethod ({ cls := "BedBookModel", name := "comes", desc := "(I)Z" } : Jvm.MethodName)) ∈ lw_all := lw_g (lw_at lw_m7 104 rfl) rfl
theorem q1605 : (Jvm.Cond.code ({ cls := "BedBookModel", name := "comes", desc := "(I)Z" } : Jvm.MethodName) prog_18_method_58_code (4 : Nat) (Option.some Jvm.ClassFile.FieldType.boolean)) ∈ lw_all := lw_g (lw_at lw_m7 105 rfl) rfl
theorem q1606 : (Jvm.Cond.methodLink "BedBookModel" (321 : Nat) ({ cls := "BedBookModel", name := "begins", desc := "(I)V" } : Jvm.MethodName)) ∈ lw_all := lw_g (lw_at lw_m7 106 rfl) rfl
theorem q1607 : (Jvm.Cond.privateMethod ({ cls := "BedBookModel", name := "begins", desc := "(I)V" } : Jvm.MethodName)) ∈ lw_tbl := lw_at lw_m7 107 rfl
theorem q1608 : (Jvm.Cond.instanceMethod ({ cls := "BedBookModel", name := "begins", desc := "(I)V" } : Jvm.MethodName)) ∈ lw_all := lw_g (lw_at lw_m7 108 rfl) rfl
theorem q1609 : (Jvm.Cond.code ({ cls := "BedBookModel", name := "begins", desc := "(I)V" } : Jvm.MethodName) prog_18_method_57_code (7 : Nat) (Option.none : Option Jvm.ClassFile.FieldType)) ∈ lw_all := lw_g (lw_at lw_m7 109 rfl) rfl
theorem q1610 : (Jvm.Cond.methodLink "BedBookModel" (318 : Nat) ({ cls := "BedBookModel", name := "costOf", desc := "(II)I" } : Jvm.MethodName)) ∈ lw_all := lw_g (lw_at lw_m7 110 rfl) rfl
theorem q1611 : (Jvm.Cond.privateMethod ({ cls := "BedBookModel", name := "costOf", desc := "(II)I" } : Jvm.MethodName)) ∈ lw_tbl := lw_at lw_m7 111 rfl
theorem q1612 : (Jvm.Cond.instanceMethod ({ cls := "BedBookModel", name := "costOf", desc := "(II)I" } : Jvm.MethodName)) ∈ lw_all := lw_g (lw_at lw_m7 112 rfl) rfl
theorem q1613 : (Jvm.Cond.code ({ cls := "BedBookModel", name := "costOf", desc := "(II)I" } : Jvm.MethodName) prog_18_method_56_code (3 : Nat) (Option.some Jvm.ClassFile.FieldType.int)) ∈ lw_all := lw_g (lw_at lw_m7 113 rfl) rfl
theorem q1614 : (Jvm.Cond.constant "BedBookModel" (317 : Nat) (1000000 : Int32)) ∈ lw_all := lw_g (lw_at lw_m7 114 rfl) rfl
theorem q1616 : (Jvm.Cond.instanceMethod ({ cls := "BedBookModel", name := "may", desc := "(III)I" } : Jvm.MethodName)) ∈ lw_all := lw_g (lw_at lw_m7 116 rfl) rfl
theorem q1617 : (Jvm.Cond.selects "BedBookModel" ({ cls := "BedBookModel", name := "may", desc := "(III)I" } : Jvm.MethodName) ({ cls := "BedBookModel", name := "may", desc := "(III)I" } : Jvm.MethodName)) ∈ lw_all := lw_g (lw_at lw_m7 117 rfl) rfl
theorem q1618 : (Jvm.Cond.code ({ cls := "BedBookModel", name := "may", desc := "(III)I" } : Jvm.MethodName) prog_18_method_62_code (4 : Nat) (Option.some Jvm.ClassFile.FieldType.int)) ∈ lw_all := lw_g (lw_at lw_m7 118 rfl) rfl
theorem q1619 : (Jvm.Cond.methodLink "BedBookModel" (336 : Nat) ({ cls := "BedBookModel", name := "isSending", desc := "(III)Z" } : Jvm.MethodName)) ∈ lw_all := lw_g (lw_at lw_m7 119 rfl) rfl
theorem q1620 : (Jvm.Cond.privateMethod ({ cls := "BedBookModel", name := "isSending", desc := "(III)Z" } : Jvm.MethodName)) ∈ lw_tbl := lw_at lw_m7 120 rfl
theorem q1621 : (Jvm.Cond.instanceMethod ({ cls := "BedBookModel", name := "isSending", desc := "(III)Z" } : Jvm.MethodName)) ∈ lw_all := lw_g (lw_at lw_m7 121 rfl) rfl
theorem q1622 : (Jvm.Cond.code ({ cls := "BedBookModel", name := "isSending", desc := "(III)Z" } : Jvm.MethodName) prog_18_method_61_code (4 : Nat) (Option.some Jvm.ClassFile.FieldType.boolean)) ∈ lw_all := lw_g (lw_at lw_m7 122 rfl) rfl
theorem q1623 : (Jvm.Cond.methodLink "BedBookModel" (339 : Nat) ({ cls := "BedBookModel", name := "lets", desc := "(III)Z" } : Jvm.MethodName)) ∈ lw_all := lw_g (lw_at lw_m7 123 rfl) rfl
theorem q1624 : (Jvm.Cond.privateMethod ({ cls := "BedBookModel", name := "lets", desc := "(III)Z" } : Jvm.MethodName)) ∈ lw_tbl := lw_at lw_m7 124 rfl
theorem q1625 : (Jvm.Cond.instanceMethod ({ cls := "BedBookModel", name := "lets", desc := "(III)Z" } : Jvm.MethodName)) ∈ lw_all := lw_g (lw_at lw_m7 125 rfl) rfl
theorem q1626 : (Jvm.Cond.code ({ cls := "BedBookModel", name := "lets", desc := "(III)Z" } : Jvm.MethodName) prog_18_method_60_code (5 : Nat) (Option.some Jvm.ClassFile.FieldType.boolean)) ∈ lw_all := lw_g (lw_at lw_m7 126 rfl) rfl
theorem q1627 : (Jvm.Cond.methodLink "BedBookModel" (327 : Nat) ({ cls := "BedBookModel", name := "rootOf", desc := "(I)I" } : Jvm.MethodName)) ∈ lw_all := lw_g (lw_at lw_m7 127 rfl) rfl
theorem q1628 : (Jvm.Cond.privateMethod ({ cls := "BedBookModel", name := "rootOf", desc := "(I)I" } : Jvm.MethodName)) ∈ lw_tbl := lw_at lw_m7 128 rfl
theorem q1629 : (Jvm.Cond.instanceMethod ({ cls := "BedBookModel", name := "rootOf", desc := "(I)I" } : Jvm.MethodName)) ∈ lw_all := lw_g (lw_at lw_m7 129 rfl) rfl
theorem q1630 : (Jvm.Cond.code ({ cls := "BedBookModel", name := "rootOf", desc := "(I)I" } : Jvm.MethodName) prog_18_method_33_code (3 : Nat) (Option.some Jvm.ClassFile.FieldType.int)) ∈ lw_all := lw_g (lw_at lw_m7 130 rfl) rfl
theorem q1631 : (Jvm.Cond.methodLink "BedBookModel" (330 : Nat) ({ cls := "BedBookModel", name := "isCut", desc := "(I)Z" } : Jvm.MethodName)) ∈ lw_all := lw_g (lw_at lw_m7 131 rfl) rfl
theorem q1632 : (Jvm.Cond.privateMethod ({ cls := "BedBookModel", name := "isCut", desc := "(I)Z" } : Jvm.MethodName)) ∈ lw_tbl := lw_at lw_m7 132 rfl
theorem q1633 : (Jvm.Cond.instanceMethod ({ cls := "BedBookModel", name := "isCut", desc := "(I)Z" } : Jvm.MethodName)) ∈ lw_all := lw_g (lw_at lw_m7 133 rfl) rfl
theorem q1634 : (Jvm.Cond.code ({ cls := "BedBookModel", name := "isCut", desc := "(I)Z" } : Jvm.MethodName) prog_18_method_34_code (3 : Nat) (Option.some Jvm.ClassFile.FieldType.boolean)) ∈ lw_all := lw_g (lw_at lw_m7 134 rfl) rfl
theorem q1635 : (Jvm.Cond.methodLink "BedBookModel" (333 : Nat) ({ cls := "BedBookModel", name := "worth", desc := "(I)I" } : Jvm.MethodName)) ∈ lw_all := lw_g (lw_at lw_m7 135 rfl) rfl
theorem q1636 : (Jvm.Cond.privateMethod ({ cls := "BedBookModel", name := "worth", desc := "(I)I" } : Jvm.MethodName)) ∈ lw_tbl := lw_at lw_m7 136 rfl
theorem q1637 : (Jvm.Cond.instanceMethod ({ cls := "BedBookModel", name := "worth", desc := "(I)I" } : Jvm.MethodName)) ∈ lw_all := lw_g (lw_at lw_m7 137 rfl) rfl
theorem q1638 : (Jvm.Cond.code ({ cls := "BedBookModel", name := "worth", desc := "(I)I" } : Jvm.MethodName) prog_18_method_24_code (7 : Nat) (Option.some Jvm.ClassFile.FieldType.int)) ∈ lw_all := lw_g (lw_at lw_m7 138 rfl) rfl
theorem q1640 : (Jvm.Cond.instanceMethod ({ cls := "BedBookModel", name := "send", desc := "(III)Z" } : Jvm.MethodName)) ∈ lw_all := lw_g (lw_at lw_m7 140 rfl) rfl
theorem q1641 : (Jvm.Cond.selects "BedBookModel" ({ cls := "BedBookModel", name := "send", desc := "(III)Z" } : Jvm.MethodName) ({ cls := "BedBookModel", name := "send", desc := "(III)Z" } : Jvm.MethodName)) ∈ lw_all := lw_g (lw_at lw_m7 141 rfl) rfl
theorem q1642 : (Jvm.Cond.code ({ cls := "BedBookModel", name := "send", desc := "(III)Z" } : Jvm.MethodName) prog_18_method_63_code (4 : Nat) (Option.some Jvm.ClassFile.FieldType.boolean)) ∈ lw_all := lw_g (lw_at lw_m7 142 rfl) rfl
theorem q1644 : (Jvm.Cond.instanceMethod ({ cls := "BedBookModel", name := "sent", desc := "(II)I" } : Jvm.MethodName)) ∈ lw_all := lw_g (lw_at lw_m7 144 rfl) rfl
theorem q1645 : (Jvm.Cond.selects "BedBookModel" ({ cls := "BedBookModel", name := "sent", desc := "(II)I" } : Jvm.MethodName) ({ cls := "BedBookModel", name := "sent", desc := "(II)I" } : Jvm.MethodName)) ∈ lw_all := lw_g (lw_at lw_m7 145 rfl) rfl
theorem q1646 : (Jvm.Cond.code ({ cls := "BedBookModel", name := "sent", desc := "(II)I" } : Jvm.MethodName) prog_18_method_64_code (3 : Nat) (Option.some Jvm.ClassFile.FieldType.int)) ∈ lw_all := lw_g (lw_at lw_m7 146 rfl) rfl
theorem q1648 : (Jvm.Cond.instanceMethod ({ cls := "BedBookModel", name := "seen", desc := "(II)Z" } : Jvm.MethodName)) ∈ lw_all := lw_g (lw_at lw_m7 148 rfl) rfl
theorem q1649 : (Jvm.Cond.selects "BedBookModel" ({ cls := "BedBookModel", name := "seen", desc := "(II)Z" } : Jvm.MethodName) ({ cls := "BedBookModel", name := "seen", desc := "(II)Z" } : Jvm.MethodName)) ∈ lw_all := lw_g (lw_at lw_m7 149 rfl) rfl
theorem q1650 : (Jvm.Cond.code ({ cls := "BedBookModel", name := "seen", desc := "(II)Z" } : Jvm.MethodName) prog_18_method_65_code (3 : Nat) (Option.some Jvm.ClassFile.FieldType.boolean)) ∈ lw_all := lw_g (lw_at lw_m7 150 rfl) rfl
theorem q1652 : (Jvm.Cond.instanceMethod ({ cls := "BedBookModel", name := "close", desc := "(I)I" } : Jvm.MethodName)) ∈ lw_all := lw_g (lw_at lw_m7 152 rfl) rfl
theorem q1653 : (Jvm.Cond.selects "BedBookModel" ({ cls := "BedBookModel", name := "close", desc := "(I)I" } : Jvm.MethodName) ({ cls := "BedBookModel", name := "close", desc := "(I)I" } : Jvm.MethodName)) ∈ lw_all := lw_g (lw_at lw_m7 153 rfl) rfl
theorem q1654 : (Jvm.Cond.code ({ cls := "BedBookModel", name := "close", desc := "(I)I" } : Jvm.MethodName) prog_18_method_66_code (4 : Nat) (Option.some Jvm.ClassFile.FieldType.int)) ∈ lw_all := lw_g (lw_at lw_m7 154 rfl) rfl
theorem q1655 : (Jvm.Cond.methodLink "BedBookModel" (345 : Nat) ({ cls := "BedBookModel", name := "checks", desc := "(I)Z" } : Jvm.MethodName)) ∈ lw_all := lw_g (lw_at lw_m7 155 rfl) rfl
theorem q1656 : (Jvm.Cond.privateMethod ({ cls := "BedBookModel", name := "checks", desc := "(I)Z" } : Jvm.MethodName)) ∈ lw_tbl := lw_at lw_m7 156 rfl
theorem q1657 : (Jvm.Cond.instanceMethod ({ cls := "BedBookModel", name := "checks", desc := "(I)Z" } : Jvm.MethodName)) ∈ lw_all := lw_g (lw_at lw_m7 157 rfl) rfl
theorem q1658 : (Jvm.Cond.code ({ cls := "BedBookModel", name := "checks", desc := "(I)Z" } : Jvm.MethodName) prog_18_method_67_code (3 : Nat) (Option.some Jvm.ClassFile.FieldType.boolean)) ∈ lw_all := lw_g (lw_at lw_m7 158 rfl) rfl
theorem q1660 : (Jvm.Cond.instanceMethod ({ cls := "BedBookModel", name := "look", desc := "(II)I" } : Jvm.MethodName)) ∈ lw_all := lw_g (lw_at lw_m7 160 rfl) rfl
theorem q1661 : (Jvm.Cond.selects "BedBookModel" ({ cls := "BedBookModel", name := "look", desc := "(II)I" } : Jvm.MethodName) ({ cls := "BedBookModel", name := "look", desc := "(II)I" } : Jvm.MethodName)) ∈ lw_all := lw_g (lw_at lw_m7 161 rfl) rfl
theorem q1662 : (Jvm.Cond.code ({ cls := "BedBookModel", name := "look", desc := "(II)I" } : Jvm.MethodName) prog_18_method_68_code (3 : Nat) (Option.some Jvm.ClassFile.FieldType.int)) ∈ lw_all := lw_g (lw_at lw_m7 162 rfl) rfl
theorem q1664 : (Jvm.Cond.instanceMethod ({ cls := "BedBookModel", name := "count", desc := "(I)I" } : Jvm.MethodName)) ∈ lw_all := lw_g (lw_at lw_m7 164 rfl) rfl
theorem q1665 : (Jvm.Cond.selects "BedBookModel" ({ cls := "BedBookModel", name := "count", desc := "(I)I" } : Jvm.MethodName) ({ cls := "BedBookModel", name := "count", desc := "(I)I" } : Jvm.MethodName)) ∈ lw_all := lw_g (lw_at lw_m7 165 rfl) rfl
theorem q1666 : (Jvm.Cond.code ({ cls := "BedBookModel", name := "count", desc := "(I)I" } : Jvm.MethodName) prog_18_method_69_code (5 : Nat) (Option.some Jvm.ClassFile.FieldType.int)) ∈ lw_all := lw_g (lw_at lw_m7 166 rfl) rfl
theorem q1685 : (Jvm.Cond.castable "BedBookModel" "java/lang/Object") ∈ lw_tbl := lw_at lw_m7 185 rfl
theorem in_X4 : ∀ w ∈ wsX40, w ∈ lw_all := lw_in wsX40 [1295, 1297, 1299, 1301, 1303, 1305, 1307, 1309, 1311, 1313, 1315, 1317, 1319, 1321, 1323, 1325, 1327, 1329, 1331, 1333, 1335, 1337, 1339, 1341, 1343, 1345, 1347, 1349, 1351, 1353, 1355, 1357, 1359, 1361, 1363, 1365, 1367, 1369, 1371, 1373, 1375, 1377, 1379, 1381, 1383, 1385, 1387, 1389, 1391, 1393, 1395, 1397, 1399, 1401, 1403, 1405] (by decide +kernel) (by decide +kernel)

/-! BedBook$Plant -/
set_option maxRecDepth 100000
def RX5 : String := "BedBook$Plant"
abbrev cX5_init : ByteArray := prog_10_method_1_code
def yX5_init : MethodName := ⟨RX5, "<init>", "(III)V"⟩
abbrev cX5_number : ByteArray := prog_10_method_9_code
def yX5_number : MethodName := ⟨RX5, "number", "()I"⟩
abbrev cX5_marks : ByteArray := prog_10_method_8_code
def yX5_marks : MethodName := ⟨RX5, "marks", "()[I"⟩
abbrev cX5_suits : ByteArray := prog_10_method_10_code
def yX5_suits : MethodName := ⟨RX5, "suits", "(LBedBook$Bed;)Z"⟩
abbrev cX5_place : ByteArray := prog_10_method_4_code
def yX5_place : MethodName := ⟨RX5, "place", "()I"⟩
abbrev cX5_of : ByteArray := prog_10_method_2_code
def yX5_of : MethodName := ⟨RX5, "of", "()LBedBook$Plant;"⟩
abbrev cX5_isCut : ByteArray := prog_10_method_6_code
def yX5_isCut : MethodName := ⟨RX5, "isCut", "()Z"⟩
abbrev cX5_father : ByteArray := prog_10_method_3_code
def yX5_father : MethodName := ⟨RX5, "father", "()LBedBook$Plant;"⟩
abbrev cX5_root : ByteArray := prog_10_method_5_code
def yX5_root : MethodName := ⟨RX5, "root", "()LBedBook$Plant;"⟩
theorem q68 : (Jvm.Cond.initialized "BedBook$Plant") ∈ lw_all := lw_g (lw_at lw_m1 8 rfl) rfl
theorem q302 : (Jvm.Cond.instanceMethod ({ cls := "BedBook$Plant", name := "<init>", desc := "(III)V" } : Jvm.MethodName)) ∈ lw_all := lw_g (lw_at lw_m2 2 rfl) rfl
theorem q303 : (Jvm.Cond.code ({ cls := "BedBook$Plant", name := "<init>", desc := "(III)V" } : Jvm.MethodName) prog_10_method_1_code (4 : Nat) (Option.none : Option Jvm.ClassFile.FieldType)) ∈ lw_all := lw_g (lw_at lw_m2 3 rfl) rfl
theorem q304 : (Jvm.Cond.methodLink "BedBook$Plant" (3 : Nat) ({ cls := "java/lang/Object", name := "<init>", desc := "()V" } : Jvm.MethodName)) ∈ lw_all := lw_g (lw_at lw_m2 4 rfl) rfl
theorem q306 : (Jvm.Cond.fieldLink "BedBook$Plant" (22 : Nat) "BedBook$Plant" "number" "I") ∈ lw_all := lw_g (lw_at lw_m2 6 rfl) rfl
theorem q308 : (Jvm.Cond.fieldLink "BedBook$Plant" (25 : Nat) "BedBook$Plant" "kind" "I") ∈ lw_all := lw_g (lw_at lw_m2 8 rfl) rfl
theorem q310 : (Jvm.Cond.fieldLink "BedBook$Plant" (28 : Nat) "BedBook$Plant" "pieces" "I") ∈ lw_all := lw_g (lw_at lw_m2 10 rfl) rfl
theorem q315 : (Jvm.Cond.fieldLink "BedBook$Plant" (9 : Nat) "BedBook$Plant" "mark" "[I") ∈ lw_all := lw_g (lw_at lw_m2 15 rfl) rfl
theorem q317 : (Jvm.Cond.fieldLink "BedBook$Plant" (47 : Nat) "BedBook$Plant" "lightFrom" "I") ∈ lw_all := lw_g (lw_at lw_m2 17 rfl) rfl
theorem q319 : (Jvm.Cond.fieldLink "BedBook$Plant" (15 : Nat) "BedBook$Plant" "lightTo" "I") ∈ lw_all := lw_g (lw_at lw_m2 19 rfl) rfl
theorem q321 : (Jvm.Cond.fieldLink "BedBook$Plant" (53 : Nat) "BedBook$Plant" "wetFrom" "I") ∈ lw_all := lw_g (lw_at lw_m2 21 rfl) rfl
theorem q323 : (Jvm.Cond.fieldLink "BedBook$Plant" (19 : Nat) "BedBook$Plant" "wetTo" "I") ∈ lw_all := lw_g (lw_at lw_m2 23 rfl) rfl
theorem q329 : (Jvm.Cond.soleField "BedBook$Plant" "number") ∈ lw_all := lw_g (lw_at lw_m2 29 rfl) rfl
theorem q331 : (Jvm.Cond.soleField "BedBook$Plant" "kind") ∈ lw_all := lw_g (lw_at lw_m2 31 rfl) rfl
theorem q333 : (Jvm.Cond.soleField "BedBook$Plant" "pieces") ∈ lw_all := lw_g (lw_at lw_m2 33 rfl) rfl
theorem q335 : (Jvm.Cond.soleField "BedBook$Plant" "missed") ∈ lw_all := lw_g (lw_at lw_m2 35 rfl) rfl
theorem q337 : (Jvm.Cond.soleField "BedBook$Plant" "told") ∈ lw_all := lw_g (lw_at lw_m2 37 rfl) rfl
theorem q339 : (Jvm.Cond.soleField "BedBook$Plant" "isDead") ∈ lw_all := lw_g (lw_at lw_m2 39 rfl) rfl
theorem q341 : (Jvm.Cond.soleField "BedBook$Plant" "mark") ∈ lw_all := lw_g (lw_at lw_m2 41 rfl) rfl
theorem q343 : (Jvm.Cond.soleField "BedBook$Plant" "lightFrom") ∈ lw_all := lw_g (lw_at lw_m2 43 rfl) rfl
theorem q345 : (Jvm.Cond.soleField "BedBook$Plant" "lightTo") ∈ lw_all := lw_g (lw_at lw_m2 45 rfl) rfl
theorem q347 : (Jvm.Cond.soleField "BedBook$Plant" "wetFrom") ∈ lw_all := lw_g (lw_at lw_m2 47 rfl) rfl
theorem q349 : (Jvm.Cond.soleField "BedBook$Plant" "wetTo") ∈ lw_all := lw_g (lw_at lw_m2 49 rfl) rfl
theorem q351 : (Jvm.Cond.soleField "BedBook$Plant" "bed") ∈ lw_all := lw_g (lw_at lw_m2 51 rfl) rfl
theorem q422 : (Jvm.Cond.instanceMethod ({ cls := "BedBook$Plant", name := "number", desc := "()I" } : Jvm.MethodName)) ∈ lw_all := lw_g (lw_at lw_m2 122 rfl) rfl
theorem q423 : (Jvm.Cond.sameMethod "BedBook$Plant" "BedBook$Plant" "number" "()I") ∈ lw_all := lw_g (lw_at lw_m2 123 rfl) rfl
theorem q428 : (Jvm.Cond.code ({ cls := "BedBook$Plant", name := "number", desc := "()I" } : Jvm.MethodName) prog_10_method_9_code (1 : Nat) (Option.some Jvm.ClassFile.FieldType.int)) ∈ lw_all := lw_g (lw_at lw_m2 128 rfl) rfl
theorem q491 : (Jvm.Cond.instanceMethod ({ cls := "BedBook$Plant", name := "marks", desc := "()[I" } : Jvm.MethodName)) ∈ lw_all := lw_g (lw_at lw_m2 191 rfl) rfl
theorem q492 : (Jvm.Cond.sameMethod "BedBook$Plant" "BedBook$Plant" "marks" "()[I") ∈ lw_all := lw_g (lw_at lw_m2 192 rfl) rfl
theorem q497 : (Jvm.Cond.code ({ cls := "BedBook$Plant", name := "marks", desc := "()[I" } : Jvm.MethodName) prog_10_method_8_code (1 : Nat) (Option.some (Jvm.ClassFile.FieldType.array Jvm.ClassFile.FieldType.int))) ∈ lw_all := lw_g (lw_at lw_m2 197 rfl) rfl
theorem q500 : (Jvm.Cond.declares ({ cls := "BedBook$Plant", name := "marks", desc := "()[I" } : Jvm.MethodName)) ∈ lw_tbl := lw_at lw_m2 200 rfl
theorem q573 : (Jvm.Cond.fieldLinkNest "BedBook$Plant" (42 : Nat) "BedBook$Bed" "light" "I" "BedBook") ∈ lw_tbl := lw_at lw_m3 33 rfl
theorem q576 : (Jvm.Cond.fieldLinkNest "BedBook$Plant" (50 : Nat) "BedBook$Bed" "wet" "I" "BedBook") ∈ lw_tbl := lw_at lw_m3 36 rfl
theorem q608 : (Jvm.Cond.instanceMethod ({ cls := "BedBook$Plant", name := "suits", desc := "(LBedBook$Bed;)Z" } : Jvm.MethodName)) ∈ lw_all := lw_g (lw_at lw_m3 68 rfl) rfl
theorem q609 : (Jvm.Cond.sameMethod "BedBook$Plant" "BedBook$Plant" "suits" "(LBedBook$Bed;)Z") ∈ lw_all := lw_g (lw_at lw_m3 69 rfl) rfl
theorem q614 : (Jvm.Cond.code ({ cls := "BedBook$Plant", name := "suits", desc := "(LBedBook$Bed;)Z" } : Jvm.MethodName) prog_10_method_10_code (2 : Nat) (Option.some Jvm.ClassFile.FieldType.boolean)) ∈ lw_all := lw_g (lw_at lw_m3 74 rfl) rfl
theorem q1030 : (Jvm.Cond.instanceMethod ({ cls := "BedBook$Plant", name := "place", desc := "()I" } : Jvm.MethodName)) ∈ lw_all := lw_g (lw_at lw_m5 10 rfl) rfl
theorem q1031 : (Jvm.Cond.sameMethod "BedBook$Plant" "BedBook$Plant" "place" "()I") ∈ lw_all := lw_g (lw_at lw_m5 11 rfl) rfl
theorem q1038 : (Jvm.Cond.code ({ cls := "BedBook$Plant", name := "place", desc := "()I" } : Jvm.MethodName) prog_10_method_4_code (1 : Nat) (Option.some Jvm.ClassFile.FieldType.int)) ∈ lw_all := lw_g (lw_at lw_m5 18 rfl) rfl
theorem q1039 : (Jvm.Cond.methodLink "BedBook$Plant" (31 : Nat) ({ cls := "BedBook$Plant", name := "of", desc := "()LBedBook$Plant;" } : Jvm.MethodName)) ∈ lw_all := lw_g (lw_at lw_m5 19 rfl) rfl
theorem q1040 : (Jvm.Cond.instanceMethod ({ cls := "BedBook$Plant", name := "of", desc := "()LBedBook$Plant;" } : Jvm.MethodName)) ∈ lw_all := lw_g (lw_at lw_m5 20 rfl) rfl
theorem q1041 : (Jvm.Cond.sameMethod "BedBook$Plant" "BedBook$Plant" "of" "()LBedBook$Plant;") ∈ lw_all := lw_g (lw_at lw_m5 21 rfl) rfl
theorem q1050 : (Jvm.Cond.code ({ cls := "BedBook$Plant", name := "of", desc := "()LBedBook$Plant;" } : Jvm.MethodName) prog_10_method_2_code (1 : Nat) (Option.some (Jvm.ClassFile.FieldType.object "BedBook$Plant"))) ∈ lw_all := lw_g (lw_at lw_m5 30 rfl) rfl
theorem q1051 : (Jvm.Cond.methodLink "BedBook$Plant" (35 : Nat) ({ cls := "BedBook$Plant", name := "place", desc := "()I" } : Jvm.MethodName)) ∈ lw_all := lw_g (lw_at lw_m5 31 rfl) rfl
theorem q1061 : (Jvm.Cond.instanceMethod ({ cls := "BedBook$Plant", name := "isCut", desc := "()Z" } : Jvm.MethodName)) ∈ lw_all := lw_g (lw_at lw_m5 41 rfl) rfl
theorem q1062 : (Jvm.Cond.sameMethod "BedBook$Plant" "BedBook$Plant" "isCut" "()Z") ∈ lw_all := lw_g (lw_at lw_m5 42 rfl) rfl
theorem q1072 : (Jvm.Cond.code ({ cls := "BedBook$Plant", name := "isCut", desc := "()Z" } : Jvm.MethodName) prog_10_method_6_code (1 : Nat) (Option.some Jvm.ClassFile.FieldType.boolean)) ∈ lw_all := lw_g (lw_at lw_m5 52 rfl) rfl
theorem q1125 : (Jvm.Cond.declares ({ cls := "BedBook$Plant", name := "fits", desc := "([I)Z" } : Jvm.MethodName)) ∈ lw_tbl := lw_at lw_m5 105 rfl
theorem q1126 : (Jvm.Cond.sameMethod "BedBook$Plant" "BedBook$Plant" "fits" "([I)Z") ∈ lw_all := lw_g (lw_at lw_m5 106 rfl) rfl
theorem q1190 : (Jvm.Cond.instanceMethod ({ cls := "BedBook$Plant", name := "father", desc := "()LBedBook$Plant;" } : Jvm.MethodName)) ∈ lw_all := lw_g (lw_at lw_m5 170 rfl) rfl
theorem q1191 : (Jvm.Cond.sameMethod "BedBook$Plant" "BedBook$Plant" "father" "()LBedBook$Plant;") ∈ lw_all := lw_g (lw_at lw_m5 171 rfl) rfl
theorem q1198 : (Jvm.Cond.code ({ cls := "BedBook$Plant", name := "father", desc := "()LBedBook$Plant;" } : Jvm.MethodName) prog_10_method_3_code (1 : Nat) (Option.some (Jvm.ClassFile.FieldType.object "BedBook$Plant"))) ∈ lw_all := lw_g (lw_at lw_m5 178 rfl) rfl
theorem q1200 : (Jvm.Cond.instanceMethod ({ cls := "BedBook$Plant", name := "root", desc := "()LBedBook$Plant;" } : Jvm.MethodName)) ∈ lw_all := lw_g (lw_at lw_m5 180 rfl) rfl
theorem q1201 : (Jvm.Cond.sameMethod "BedBook$Plant" "BedBook$Plant" "root" "()LBedBook$Plant;") ∈ lw_all := lw_g (lw_at lw_m5 181 rfl) rfl
theorem q1208 : (Jvm.Cond.code ({ cls := "BedBook$Plant", name := "root", desc := "()LBedBook$Plant;" } : Jvm.MethodName) prog_10_method_5_code (1 : Nat) (Option.some (Jvm.ClassFile.FieldType.object "BedBook$Plant"))) ∈ lw_all := lw_g (lw_at lw_m5 188 rfl) rfl
theorem q1209 : (Jvm.Cond.methodLink "BedBook$Plant" (39 : Nat) ({ cls := "BedBook$Plant", name := "root", desc := "()LBedBook$Plant;" } : Jvm.MethodName)) ∈ lw_all := lw_g (lw_at lw_m5 189 rfl) rfl

/-! BedBook$Wild -/
set_option maxRecDepth 100000
def RX6 : String := "BedBook$Wild"
def TX6 : u_T := fun k => match k with
  | 0 => ("BedBook$Plant", "number", "I", true)
  | 1 => ("BedBook$Plant", "kind", "I", true)
  | 2 => ("BedBook$Plant", "pieces", "I", false)
  | 3 => ("BedBook$Plant", "missed", "I", false)
  | 4 => ("BedBook$Plant", "told", "I", false)
  | 5 => ("BedBook$Plant", "isDead", "Z", false)
  | 6 => ("BedBook$Plant", "mark", "[I", true)
  | 7 => ("BedBook$Plant", "lightFrom", "I", false)
  | 8 => ("BedBook$Plant", "lightTo", "I", false)
  | 9 => ("BedBook$Plant", "wetFrom", "I", false)
  | 10 => ("BedBook$Plant", "wetTo", "I", false)
  | 11 => ("BedBook$Plant", "bed", "LBedBook$Bed;", false)
  | _ => ("BedBook$Wild", "place", "I", true)
def tyX6 : Nat → FieldType := fun k => match k with
  | 0 => .int
  | 1 => .int
  | 2 => .int
  | 3 => .int
  | 4 => .int
  | 5 => .boolean
  | 6 => .array .int
  | 7 => .int
  | 8 => .int
  | 9 => .int
  | 10 => .int
  | 11 => .object "BedBook$Bed"
  | _ => .int
abbrev wsX60 : List Cond := u_ws RX6 TX6 13
set_option maxRecDepth 100000 in
theorem nmX6 : ∀ a, a < 13 → ∀ b, b < 13 → a ≠ b → (TX6 a).2.1 ≠ (TX6 b).2.1 := by decide +kernel
set_option maxRecDepth 100000 in
theorem tyX6_ok : ∀ k, k < 13 → parseFieldDescriptor (TX6 k).2.2.1 = some (tyX6 k) := by decide +kernel
abbrev cX6_init : ByteArray := prog_15_method_1_code
def yX6_init : MethodName := ⟨RX6, "<init>", "(III)V"⟩
abbrev cX6_place : ByteArray := prog_15_method_2_code
def yX6_place : MethodName := ⟨RX6, "place", "()I"⟩
abbrev cX6_fits : ByteArray := prog_15_method_4_code
def yX6_fits : MethodName := ⟨RX6, "fits", "([I)Z"⟩
abbrev cX6_root : ByteArray := prog_15_method_3_code
def yX6_root : MethodName := ⟨RX6, "root", "()LBedBook$Plant;"⟩
theorem q69 : (Jvm.Cond.initialized "BedBook$Wild") ∈ lw_all := lw_g (lw_at lw_m1 9 rfl) rfl
theorem q297 : (Jvm.Cond.instantiable "BedBook$Wild" (13 : Nat)) ∈ lw_all := lw_g (lw_at lw_m1 237 rfl) rfl
theorem q299 : (Jvm.Cond.instanceMethod ({ cls := "BedBook$Wild", name := "<init>", desc := "(III)V" } : Jvm.MethodName)) ∈ lw_all := lw_g (lw_at lw_m1 239 rfl) rfl
theorem q300 : (Jvm.Cond.code ({ cls := "BedBook$Wild", name := "<init>", desc := "(III)V" } : Jvm.MethodName) prog_15_method_1_code (4 : Nat) (Option.none : Option Jvm.ClassFile.FieldType)) ∈ lw_all := lw_g (lw_at lw_m2 0 rfl) rfl
theorem q301 : (Jvm.Cond.methodLink "BedBook$Wild" (1 : Nat) ({ cls := "BedBook$Plant", name := "<init>", desc := "(III)V" } : Jvm.MethodName)) ∈ lw_all := lw_g (lw_at lw_m2 1 rfl) rfl
theorem q305 : (Jvm.Cond.fieldLink "BedBook$Wild" (7 : Nat) "BedBook$Wild" "place" "I") ∈ lw_all := lw_g (lw_at lw_m2 5 rfl) rfl
theorem q326 : (Jvm.Cond.laysFinal "BedBook$Wild" "BedBook$Wild" "place" "I") ∈ lw_all := lw_g (lw_at lw_m2 26 rfl) rfl
theorem q327 : (Jvm.Cond.soleField "BedBook$Wild" "place") ∈ lw_all := lw_g (lw_at lw_m2 27 rfl) rfl
theorem q328 : (Jvm.Cond.laysFinal "BedBook$Wild" "BedBook$Plant" "number" "I") ∈ lw_all := lw_g (lw_at lw_m2 28 rfl) rfl
theorem q330 : (Jvm.Cond.laysFinal "BedBook$Wild" "BedBook$Plant" "kind" "I") ∈ lw_all := lw_g (lw_at lw_m2 30 rfl) rfl
theorem q332 : (Jvm.Cond.lays "BedBook$Wild" "BedBook$Plant" "pieces" "I") ∈ lw_all := lw_g (lw_at lw_m2 32 rfl) rfl
theorem q334 : (Jvm.Cond.lays "BedBook$Wild" "BedBook$Plant" "missed" "I") ∈ lw_all := lw_g (lw_at lw_m2 34 rfl) rfl
theorem q336 : (Jvm.Cond.lays "BedBook$Wild" "BedBook$Plant" "told" "I") ∈ lw_all := lw_g (lw_at lw_m2 36 rfl) rfl
theorem q338 : (Jvm.Cond.lays "BedBook$Wild" "BedBook$Plant" "isDead" "Z") ∈ lw_all := lw_g (lw_at lw_m2 38 rfl) rfl
theorem q340 : (Jvm.Cond.laysFinal "BedBook$Wild" "BedBook$Plant" "mark" "[I") ∈ lw_all := lw_g (lw_at lw_m2 40 rfl) rfl
theorem q342 : (Jvm.Cond.lays "BedBook$Wild" "BedBook$Plant" "lightFrom" "I") ∈ lw_all := lw_g (lw_at lw_m2 42 rfl) rfl
theorem q344 : (Jvm.Cond.lays "BedBook$Wild" "BedBook$Plant" "lightTo" "I") ∈ lw_all := lw_g (lw_at lw_m2 44 rfl) rfl
theorem q346 : (Jvm.Cond.lays "BedBook$Wild" "BedBook$Plant" "wetFrom" "I") ∈ lw_all := lw_g (lw_at lw_m2 46 rfl) rfl
theorem q348 : (Jvm.Cond.lays "BedBook$Wild" "BedBook$Plant" "wetTo" "I") ∈ lw_all := lw_g (lw_at lw_m2 48 rfl) rfl
theorem q350 : (Jvm.Cond.lays "BedBook$Wild" "BedBook$Plant" "bed" "LBedBook$Bed;") ∈ lw_all := lw_g (lw_at lw_m2 50 rfl) rfl
theorem q352 : (Jvm.Cond.superclass "BedBook$Wild" "BedBook$Plant") ∈ lw_all := lw_g (lw_at lw_m2 52 rfl) rfl
theorem q402 : (Jvm.Cond.selects "BedBook$Wild" ({ cls := "java/lang/Object", name := "getClass", desc := "()Ljava/lang/Class;" } : Jvm.MethodName) ({ cls := "java/lang/Object", name := "getClass", desc := "()Ljava/lang/Class;" } : Jvm.MethodName)) ∈ lw_all := lw_g (lw_at lw_m2 102 rfl) rfl
theorem q427 : (Jvm.Cond.selects "BedBook$Wild" ({ cls := "BedBook$Plant", name := "number", desc := "()I" } : Jvm.MethodName) ({ cls := "BedBook$Plant", name := "number", desc := "()I" } : Jvm.MethodName)) ∈ lw_all := lw_g (lw_at lw_m2 127 rfl) rfl
theorem q496 : (Jvm.Cond.selects "BedBook$Wild" ({ cls := "BedBook$Plant", name := "marks", desc := "()[I" } : Jvm.MethodName) ({ cls := "BedBook$Plant", name := "marks", desc := "()[I" } : Jvm.MethodName)) ∈ lw_all := lw_g (lw_at lw_m2 196 rfl) rfl
theorem q613 : (Jvm.Cond.selects "BedBook$Wild" ({ cls := "BedBook$Plant", name := "suits", desc := "(LBedBook$Bed;)Z" } : Jvm.MethodName) ({ cls := "BedBook$Plant", name := "suits", desc := "(LBedBook$Bed;)Z" } : Jvm.MethodName)) ∈ lw_all := lw_g (lw_at lw_m3 73 rfl) rfl
theorem q1035 : (Jvm.Cond.selects "BedBook$Wild" ({ cls := "BedBook$Plant", name := "place", desc := "()I" } : Jvm.MethodName) ({ cls := "BedBook$Wild", name := "place", desc := "()I" } : Jvm.MethodName)) ∈ lw_all := lw_g (lw_at lw_m5 15 rfl) rfl
theorem q1036 : (Jvm.Cond.instanceMethod ({ cls := "BedBook$Wild", name := "place", desc := "()I" } : Jvm.MethodName)) ∈ lw_all := lw_g (lw_at lw_m5 16 rfl) rfl
theorem q1037 : (Jvm.Cond.code ({ cls := "BedBook$Wild", name := "place", desc := "()I" } : Jvm.MethodName) prog_15_method_2_code (1 : Nat) (Option.some Jvm.ClassFile.FieldType.int)) ∈ lw_all := lw_g (lw_at lw_m5 17 rfl) rfl
theorem q1049 : (Jvm.Cond.selects "BedBook$Wild" ({ cls := "BedBook$Plant", name := "of", desc := "()LBedBook$Plant;" } : Jvm.MethodName) ({ cls := "BedBook$Plant", name := "of", desc := "()LBedBook$Plant;" } : Jvm.MethodName)) ∈ lw_all := lw_g (lw_at lw_m5 29 rfl) rfl
theorem q1071 : (Jvm.Cond.selects "BedBook$Wild" ({ cls := "BedBook$Plant", name := "isCut", desc := "()Z" } : Jvm.MethodName) ({ cls := "BedBook$Plant", name := "isCut", desc := "()Z" } : Jvm.MethodName)) ∈ lw_all := lw_g (lw_at lw_m5 51 rfl) rfl
theorem q1138 : (Jvm.Cond.selects "BedBook$Wild" ({ cls := "BedBook$Plant", name := "fits", desc := "([I)Z" } : Jvm.MethodName) ({ cls := "BedBook$Wild", name := "fits", desc := "([I)Z" } : Jvm.MethodName)) ∈ lw_all := lw_g (lw_at lw_m5 118 rfl) rfl
theorem q1139 : (Jvm.Cond.instanceMethod ({ cls := "BedBook$Wild", name := "fits", desc := "([I)Z" } : Jvm.MethodName)) ∈ lw_all := lw_g (lw_at lw_m5 119 rfl) rfl
theorem q1140 : (Jvm.Cond.code ({ cls := "BedBook$Wild", name := "fits", desc := "([I)Z" } : Jvm.MethodName) prog_15_method_4_code (2 : Nat) (Option.some Jvm.ClassFile.FieldType.boolean)) ∈ lw_all := lw_g (lw_at lw_m5 120 rfl) rfl
theorem q1197 : (Jvm.Cond.selects "BedBook$Wild" ({ cls := "BedBook$Plant", name := "father", desc := "()LBedBook$Plant;" } : Jvm.MethodName) ({ cls := "BedBook$Plant", name := "father", desc := "()LBedBook$Plant;" } : Jvm.MethodName)) ∈ lw_all := lw_g (lw_at lw_m5 177 rfl) rfl
theorem q1205 : (Jvm.Cond.selects "BedBook$Wild" ({ cls := "BedBook$Plant", name := "root", desc := "()LBedBook$Plant;" } : Jvm.MethodName) ({ cls := "BedBook$Wild", name := "root", desc := "()LBedBook$Plant;" } : Jvm.MethodName)) ∈ lw_all := lw_g (lw_at lw_m5 185 rfl) rfl
theorem q1206 : (Jvm.Cond.instanceMethod ({ cls := "BedBook$Wild", name := "root", desc := "()LBedBook$Plant;" } : Jvm.MethodName)) ∈ lw_all := lw_g (lw_at lw_m5 186 rfl) rfl
theorem q1207 : (Jvm.Cond.code ({ cls := "BedBook$Wild", name := "root", desc := "()LBedBook$Plant;" } : Jvm.MethodName) prog_15_method_3_code (1 : Nat) (Option.some (Jvm.ClassFile.FieldType.object "BedBook$Plant"))) ∈ lw_all := lw_g (lw_at lw_m5 187 rfl) rfl
theorem q1677 : (Jvm.Cond.castable "BedBook$Wild" "BedBook$Plant") ∈ lw_tbl := lw_at lw_m7 177 rfl
theorem q1686 : (Jvm.Cond.castable "BedBook$Wild" "java/lang/Object") ∈ lw_tbl := lw_at lw_m7 186 rfl
theorem in_X6 : ∀ w ∈ wsX60, w ∈ lw_all := lw_in wsX60 [328, 330, 332, 334, 336, 338, 340, 342, 344, 346, 348, 350, 326] (by decide +kernel) (by decide +kernel)

/-! BedBook$Seed -/
set_option maxRecDepth 100000
def RX7 : String := "BedBook$Seed"
def TX7 : u_T := fun k => match k with
  | 0 => ("BedBook$Plant", "number", "I", true)
  | 1 => ("BedBook$Plant", "kind", "I", true)
  | 2 => ("BedBook$Plant", "pieces", "I", false)
  | 3 => ("BedBook$Plant", "missed", "I", false)
  | 4 => ("BedBook$Plant", "told", "I", false)
  | 5 => ("BedBook$Plant", "isDead", "Z", false)
  | 6 => ("BedBook$Plant", "mark", "[I", true)
  | 7 => ("BedBook$Plant", "lightFrom", "I", false)
  | 8 => ("BedBook$Plant", "lightTo", "I", false)
  | 9 => ("BedBook$Plant", "wetFrom", "I", false)
  | 10 => ("BedBook$Plant", "wetTo", "I", false)
  | 11 => ("BedBook$Plant", "bed", "LBedBook$Bed;", false)
  | 12 => ("BedBook$Seed", "mother", "LBedBook$Plant;", true)
  | _ => ("BedBook$Seed", "father", "LBedBook$Plant;", true)
def tyX7 : Nat → FieldType := fun k => match k with
  | 0 => .int
  | 1 => .int
  | 2 => .int
  | 3 => .int
  | 4 => .int
  | 5 => .boolean
  | 6 => .array .int
  | 7 => .int
  | 8 => .int
  | 9 => .int
  | 10 => .int
  | 11 => .object "BedBook$Bed"
  | 12 => .object "BedBook$Plant"
  | _ => .object "BedBook$Plant"
abbrev wsX70 : List Cond := u_ws RX7 TX7 14
set_option maxRecDepth 100000 in
theorem nmX7 : ∀ a, a < 14 → ∀ b, b < 14 → a ≠ b → (TX7 a).2.1 ≠ (TX7 b).2.1 := by decide +kernel
set_option maxRecDepth 100000 in
theorem tyX7_ok : ∀ k, k < 14 → parseFieldDescriptor (TX7 k).2.2.1 = some (tyX7 k) := by decide +kernel
abbrev cX7_init : ByteArray := prog_13_method_1_code
def yX7_init : MethodName := ⟨RX7, "<init>", "(ILBedBook$Plant;LBedBook$Plant;I)V"⟩
abbrev cX7_of : ByteArray := prog_13_method_2_code
def yX7_of : MethodName := ⟨RX7, "of", "()LBedBook$Plant;"⟩
abbrev cX7_fits : ByteArray := prog_13_method_5_code
def yX7_fits : MethodName := ⟨RX7, "fits", "([I)Z"⟩
abbrev cX7_has : ByteArray := prog_13_method_4_code
def yX7_has : MethodName := ⟨RX7, "has", "(LBedBook$Plant;II)Z"⟩
abbrev cX7_father : ByteArray := prog_13_method_3_code
def yX7_father : MethodName := ⟨RX7, "father", "()LBedBook$Plant;"⟩
theorem q74 : (Jvm.Cond.initialized "BedBook$Seed") ∈ lw_all := lw_g (lw_at lw_m1 14 rfl) rfl
theorem q400 : (Jvm.Cond.selects "BedBook$Seed" ({ cls := "java/lang/Object", name := "getClass", desc := "()Ljava/lang/Class;" } : Jvm.MethodName) ({ cls := "java/lang/Object", name := "getClass", desc := "()Ljava/lang/Class;" } : Jvm.MethodName)) ∈ lw_all := lw_g (lw_at lw_m2 100 rfl) rfl
theorem q425 : (Jvm.Cond.selects "BedBook$Seed" ({ cls := "BedBook$Plant", name := "number", desc := "()I" } : Jvm.MethodName) ({ cls := "BedBook$Plant", name := "number", desc := "()I" } : Jvm.MethodName)) ∈ lw_all := lw_g (lw_at lw_m2 125 rfl) rfl
theorem q438 : (Jvm.Cond.instantiable "BedBook$Seed" (14 : Nat)) ∈ lw_all := lw_g (lw_at lw_m2 138 rfl) rfl
theorem q455 : (Jvm.Cond.instanceMethod ({ cls := "BedBook$Seed", name := "<init>", desc := "(ILBedBook$Plant;LBedBook$Plant;I)V" } : Jvm.MethodName)) ∈ lw_all := lw_g (lw_at lw_m2 155 rfl) rfl
theorem q456 : (Jvm.Cond.code ({ cls := "BedBook$Seed", name := "<init>", desc := "(ILBedBook$Plant;LBedBook$Plant;I)V" } : Jvm.MethodName) prog_13_method_1_code (5 : Nat) (Option.none : Option Jvm.ClassFile.FieldType)) ∈ lw_all := lw_g (lw_at lw_m2 156 rfl) rfl
theorem q457 : (Jvm.Cond.methodLink "BedBook$Seed" (3 : Nat) ({ cls := "BedBook$Plant", name := "<init>", desc := "(III)V" } : Jvm.MethodName)) ∈ lw_all := lw_g (lw_at lw_m2 157 rfl) rfl
theorem q458 : (Jvm.Cond.fieldLink "BedBook$Seed" (9 : Nat) "BedBook$Seed" "mother" "LBedBook$Plant;") ∈ lw_all := lw_g (lw_at lw_m2 158 rfl) rfl
theorem q459 : (Jvm.Cond.fieldLink "BedBook$Seed" (15 : Nat) "BedBook$Seed" "father" "LBedBook$Plant;") ∈ lw_all := lw_g (lw_at lw_m2 159 rfl) rfl
theorem q460 : (Jvm.Cond.laysFinal "BedBook$Seed" "BedBook$Seed" "mother" "LBedBook$Plant;") ∈ lw_all := lw_g (lw_at lw_m2 160 rfl) rfl
theorem q461 : (Jvm.Cond.soleField "BedBook$Seed" "mother") ∈ lw_all := lw_g (lw_at lw_m2 161 rfl) rfl
theorem q462 : (Jvm.Cond.laysFinal "BedBook$Seed" "BedBook$Seed" "father" "LBedBook$Plant;") ∈ lw_all := lw_g (lw_at lw_m2 162 rfl) rfl
theorem q463 : (Jvm.Cond.soleField "BedBook$Seed" "father") ∈ lw_all := lw_g (lw_at lw_m2 163 rfl) rfl
theorem q464 : (Jvm.Cond.laysFinal "BedBook$Seed" "BedBook$Plant" "number" "I") ∈ lw_all := lw_g (lw_at lw_m2 164 rfl) rfl
theorem q465 : (Jvm.Cond.laysFinal "BedBook$Seed" "BedBook$Plant" "kind" "I") ∈ lw_all := lw_g (lw_at lw_m2 165 rfl) rfl
theorem q466 : (Jvm.Cond.lays "BedBook$Seed" "BedBook$Plant" "pieces" "I") ∈ lw_all := lw_g (lw_at lw_m2 166 rfl) rfl
theorem q467 : (Jvm.Cond.lays "BedBook$Seed" "BedBook$Plant" "missed" "I") ∈ lw_all := lw_g (lw_at lw_m2 167 rfl) rfl
theorem q468 : (Jvm.Cond.lays "BedBook$Seed" "BedBook$Plant" "told" "I") ∈ lw_all := lw_g (lw_at lw_m2 168 rfl) rfl
theorem q469 : (Jvm.Cond.lays "BedBook$Seed" "BedBook$Plant" "isDead" "Z") ∈ lw_all := lw_g (lw_at lw_m2 169 rfl) rfl
theorem q470 : (Jvm.Cond.laysFinal "BedBook$Seed" "BedBook$Plant" "mark" "[I") ∈ lw_all := lw_g (lw_at lw_m2 170 rfl) rfl
theorem q471 : (Jvm.Cond.lays "BedBook$Seed" "BedBook$Plant" "lightFrom" "I") ∈ lw_all := lw_g (lw_at lw_m2 171 rfl) rfl
theorem q472 : (Jvm.Cond.lays "BedBook$Seed" "BedBook$Plant" "lightTo" "I") ∈ lw_all := lw_g (lw_at lw_m2 172 rfl) rfl
theorem q473 : (Jvm.Cond.lays "BedBook$Seed" "BedBook$Plant" "wetFrom" "I") ∈ lw_all := lw_g (lw_at lw_m2 173 rfl) rfl
theorem q474 : (Jvm.Cond.lays "BedBook$Seed" "BedBook$Plant" "wetTo" "I") ∈ lw_all := lw_g (lw_at lw_m2 174 rfl) rfl
theorem q475 : (Jvm.Cond.lays "BedBook$Seed" "BedBook$Plant" "bed" "LBedBook$Bed;") ∈ lw_all := lw_g (lw_at lw_m2 175 rfl) rfl
theorem q476 : (Jvm.Cond.superclass "BedBook$Seed" "BedBook$Plant") ∈ lw_all := lw_g (lw_at lw_m2 176 rfl) rfl
theorem q494 : (Jvm.Cond.selects "BedBook$Seed" ({ cls := "BedBook$Plant", name := "marks", desc := "()[I" } : Jvm.MethodName) ({ cls := "BedBook$Plant", name := "marks", desc := "()[I" } : Jvm.MethodName)) ∈ lw_all := lw_g (lw_at lw_m2 194 rfl) rfl
theorem q611 : (Jvm.Cond.selects "BedBook$Seed" ({ cls := "BedBook$Plant", name := "suits", desc := "(LBedBook$Bed;)Z" } : Jvm.MethodName) ({ cls := "BedBook$Plant", name := "suits", desc := "(LBedBook$Bed;)Z" } : Jvm.MethodName)) ∈ lw_all := lw_g (lw_at lw_m3 71 rfl) rfl
theorem q1033 : (Jvm.Cond.selects "BedBook$Seed" ({ cls := "BedBook$Plant", name := "place", desc := "()I" } : Jvm.MethodName) ({ cls := "BedBook$Plant", name := "place", desc := "()I" } : Jvm.MethodName)) ∈ lw_all := lw_g (lw_at lw_m5 13 rfl) rfl
theorem q1045 : (Jvm.Cond.selects "BedBook$Seed" ({ cls := "BedBook$Plant", name := "of", desc := "()LBedBook$Plant;" } : Jvm.MethodName) ({ cls := "BedBook$Seed", name := "of", desc := "()LBedBook$Plant;" } : Jvm.MethodName)) ∈ lw_all := lw_g (lw_at lw_m5 25 rfl) rfl
theorem q1046 : (Jvm.Cond.instanceMethod ({ cls := "BedBook$Seed", name := "of", desc := "()LBedBook$Plant;" } : Jvm.MethodName)) ∈ lw_all := lw_g (lw_at lw_m5 26 rfl) rfl
theorem q1047 : (Jvm.Cond.code ({ cls := "BedBook$Seed", name := "of", desc := "()LBedBook$Plant;" } : Jvm.MethodName) prog_13_method_2_code (1 : Nat) (Option.some (Jvm.ClassFile.FieldType.object "BedBook$Plant"))) ∈ lw_all := lw_g (lw_at lw_m5 27 rfl) rfl
theorem q1066 : (Jvm.Cond.selects "BedBook$Seed" ({ cls := "BedBook$Plant", name := "isCut", desc := "()Z" } : Jvm.MethodName) ({ cls := "BedBook$Plant", name := "isCut", desc := "()Z" } : Jvm.MethodName)) ∈ lw_all := lw_g (lw_at lw_m5 46 rfl) rfl
theorem q1130 : (Jvm.Cond.selects "BedBook$Seed" ({ cls := "BedBook$Plant", name := "fits", desc := "([I)Z" } : Jvm.MethodName) ({ cls := "BedBook$Seed", name := "fits", desc := "([I)Z" } : Jvm.MethodName)) ∈ lw_all := lw_g (lw_at lw_m5 110 rfl) rfl
theorem q1131 : (Jvm.Cond.instanceMethod ({ cls := "BedBook$Seed", name := "fits", desc := "([I)Z" } : Jvm.MethodName)) ∈ lw_all := lw_g (lw_at lw_m5 111 rfl) rfl
theorem q1132 : (Jvm.Cond.code ({ cls := "BedBook$Seed", name := "fits", desc := "([I)Z" } : Jvm.MethodName) prog_13_method_5_code (6 : Nat) (Option.some Jvm.ClassFile.FieldType.boolean)) ∈ lw_all := lw_g (lw_at lw_m5 112 rfl) rfl
theorem q1133 : (Jvm.Cond.methodLink "BedBook$Seed" (22 : Nat) ({ cls := "BedBook$Seed", name := "has", desc := "(LBedBook$Plant;II)Z" } : Jvm.MethodName)) ∈ lw_all := lw_g (lw_at lw_m5 113 rfl) rfl
theorem q1134 : (Jvm.Cond.static ({ cls := "BedBook$Seed", name := "has", desc := "(LBedBook$Plant;II)Z" } : Jvm.MethodName)) ∈ lw_all := lw_g (lw_at lw_m5 114 rfl) rfl
theorem q1135 : (Jvm.Cond.code ({ cls := "BedBook$Seed", name := "has", desc := "(LBedBook$Plant;II)Z" } : Jvm.MethodName) prog_13_method_4_code (3 : Nat) (Option.some Jvm.ClassFile.FieldType.boolean)) ∈ lw_all := lw_g (lw_at lw_m5 115 rfl) rfl
theorem q1136 : (Jvm.Cond.methodLink "BedBook$Seed" (18 : Nat) ({ cls := "BedBook$Plant", name := "marks", desc := "()[I" } : Jvm.MethodName)) ∈ lw_all := lw_g (lw_at lw_m5 116 rfl) rfl
theorem q1193 : (Jvm.Cond.selects "BedBook$Seed" ({ cls := "BedBook$Plant", name := "father", desc := "()LBedBook$Plant;" } : Jvm.MethodName) ({ cls := "BedBook$Seed", name := "father", desc := "()LBedBook$Plant;" } : Jvm.MethodName)) ∈ lw_all := lw_g (lw_at lw_m5 173 rfl) rfl
theorem q1194 : (Jvm.Cond.instanceMethod ({ cls := "BedBook$Seed", name := "father", desc := "()LBedBook$Plant;" } : Jvm.MethodName)) ∈ lw_all := lw_g (lw_at lw_m5 174 rfl) rfl
theorem q1195 : (Jvm.Cond.code ({ cls := "BedBook$Seed", name := "father", desc := "()LBedBook$Plant;" } : Jvm.MethodName) prog_13_method_3_code (1 : Nat) (Option.some (Jvm.ClassFile.FieldType.object "BedBook$Plant"))) ∈ lw_all := lw_g (lw_at lw_m5 175 rfl) rfl
theorem q1203 : (Jvm.Cond.selects "BedBook$Seed" ({ cls := "BedBook$Plant", name := "root", desc := "()LBedBook$Plant;" } : Jvm.MethodName) ({ cls := "BedBook$Plant", name := "root", desc := "()LBedBook$Plant;" } : Jvm.MethodName)) ∈ lw_all := lw_g (lw_at lw_m5 183 rfl) rfl
theorem q1675 : (Jvm.Cond.castable "BedBook$Seed" "BedBook$Plant") ∈ lw_tbl := lw_at lw_m7 175 rfl
theorem q1687 : (Jvm.Cond.castable "BedBook$Seed" "java/lang/Object") ∈ lw_tbl := lw_at lw_m7 187 rfl
theorem in_X7 : ∀ w ∈ wsX70, w ∈ lw_all := lw_in wsX70 [464, 465, 466, 467, 468, 469, 470, 471, 472, 473, 474, 475, 460, 462] (by decide +kernel) (by decide +kernel)

/-! BedBook$Part -/
set_option maxRecDepth 100000
def RX8 : String := "BedBook$Part"
abbrev cX8_init : ByteArray := prog_9_method_1_code
def yX8_init : MethodName := ⟨RX8, "<init>", "(IILBedBook$Plant;I)V"⟩
abbrev cX8_of : ByteArray := prog_9_method_2_code
def yX8_of : MethodName := ⟨RX8, "of", "()LBedBook$Plant;"⟩
abbrev cX8_isCut : ByteArray := prog_9_method_3_code
def yX8_isCut : MethodName := ⟨RX8, "isCut", "()Z"⟩
abbrev cX8_fits : ByteArray := prog_9_method_4_code
def yX8_fits : MethodName := ⟨RX8, "fits", "([I)Z"⟩
theorem q77 : (Jvm.Cond.initialized "BedBook$Part") ∈ lw_all := lw_g (lw_at lw_m1 17 rfl) rfl
theorem q487 : (Jvm.Cond.instanceMethod ({ cls := "BedBook$Part", name := "<init>", desc := "(IILBedBook$Plant;I)V" } : Jvm.MethodName)) ∈ lw_all := lw_g (lw_at lw_m2 187 rfl) rfl
theorem q488 : (Jvm.Cond.code ({ cls := "BedBook$Part", name := "<init>", desc := "(IILBedBook$Plant;I)V" } : Jvm.MethodName) prog_9_method_1_code (5 : Nat) (Option.none : Option Jvm.ClassFile.FieldType)) ∈ lw_all := lw_g (lw_at lw_m2 188 rfl) rfl
theorem q489 : (Jvm.Cond.methodLink "BedBook$Part" (3 : Nat) ({ cls := "BedBook$Plant", name := "<init>", desc := "(III)V" } : Jvm.MethodName)) ∈ lw_all := lw_g (lw_at lw_m2 189 rfl) rfl
theorem q490 : (Jvm.Cond.methodLink "BedBook$Part" (15 : Nat) ({ cls := "BedBook$Plant", name := "marks", desc := "()[I" } : Jvm.MethodName)) ∈ lw_all := lw_g (lw_at lw_m2 190 rfl) rfl
theorem q498 : (Jvm.Cond.methodLink "BedBook$Part" (19 : Nat) ({ cls := "BedBook$Part", name := "marks", desc := "()[I" } : Jvm.MethodName)) ∈ lw_all := lw_g (lw_at lw_m2 198 rfl) rfl
theorem q499 : (Jvm.Cond.sameMethod "BedBook$Part" "BedBook$Plant" "marks" "()[I") ∈ lw_all := lw_g (lw_at lw_m2 199 rfl) rfl
theorem q503 : (Jvm.Cond.methodLink "BedBook$Part" (20 : Nat) ({ cls := "java/lang/System", name := "arraycopy", desc := "(Ljava/lang/Object;ILjava/lang/Object;II)V" } : Jvm.MethodName)) ∈ lw_all := lw_g (lw_at lw_m2 203 rfl) rfl
theorem q504 : (Jvm.Cond.fieldLink "BedBook$Part" (9 : Nat) "BedBook$Part" "of" "LBedBook$Plant;") ∈ lw_all := lw_g (lw_at lw_m2 204 rfl) rfl
theorem q506 : (Jvm.Cond.soleField "BedBook$Part" "of") ∈ lw_all := lw_g (lw_at lw_m2 206 rfl) rfl
theorem q1043 : (Jvm.Cond.instanceMethod ({ cls := "BedBook$Part", name := "of", desc := "()LBedBook$Plant;" } : Jvm.MethodName)) ∈ lw_all := lw_g (lw_at lw_m5 23 rfl) rfl
theorem q1044 : (Jvm.Cond.code ({ cls := "BedBook$Part", name := "of", desc := "()LBedBook$Plant;" } : Jvm.MethodName) prog_9_method_2_code (1 : Nat) (Option.some (Jvm.ClassFile.FieldType.object "BedBook$Plant"))) ∈ lw_all := lw_g (lw_at lw_m5 24 rfl) rfl
theorem q1068 : (Jvm.Cond.instanceMethod ({ cls := "BedBook$Part", name := "isCut", desc := "()Z" } : Jvm.MethodName)) ∈ lw_all := lw_g (lw_at lw_m5 48 rfl) rfl
theorem q1069 : (Jvm.Cond.code ({ cls := "BedBook$Part", name := "isCut", desc := "()Z" } : Jvm.MethodName) prog_9_method_3_code (1 : Nat) (Option.some Jvm.ClassFile.FieldType.boolean)) ∈ lw_all := lw_g (lw_at lw_m5 49 rfl) rfl
theorem q1070 : (Jvm.Cond.methodLink "BedBook$Part" (26 : Nat) ({ cls := "BedBook$Plant", name := "isCut", desc := "()Z" } : Jvm.MethodName)) ∈ lw_all := lw_g (lw_at lw_m5 50 rfl) rfl
theorem q1128 : (Jvm.Cond.instanceMethod ({ cls := "BedBook$Part", name := "fits", desc := "([I)Z" } : Jvm.MethodName)) ∈ lw_all := lw_g (lw_at lw_m5 108 rfl) rfl
theorem q1129 : (Jvm.Cond.code ({ cls := "BedBook$Part", name := "fits", desc := "([I)Z" } : Jvm.MethodName) prog_9_method_4_code (4 : Nat) (Option.some Jvm.ClassFile.FieldType.boolean)) ∈ lw_all := lw_g (lw_at lw_m5 109 rfl) rfl

/-! BedBook$Cutting -/
set_option maxRecDepth 100000
def RX9 : String := "BedBook$Cutting"
def TX9 : u_T := fun k => match k with
  | 0 => ("BedBook$Part", "of", "LBedBook$Plant;", true)
  | 1 => ("BedBook$Plant", "number", "I", true)
  | 2 => ("BedBook$Plant", "kind", "I", true)
  | 3 => ("BedBook$Plant", "pieces", "I", false)
  | 4 => ("BedBook$Plant", "missed", "I", false)
  | 5 => ("BedBook$Plant", "told", "I", false)
  | 6 => ("BedBook$Plant", "isDead", "Z", false)
  | 7 => ("BedBook$Plant", "mark", "[I", true)
  | 8 => ("BedBook$Plant", "lightFrom", "I", false)
  | 9 => ("BedBook$Plant", "lightTo", "I", false)
  | 10 => ("BedBook$Plant", "wetFrom", "I", false)
  | 11 => ("BedBook$Plant", "wetTo", "I", false)
  | _ => ("BedBook$Plant", "bed", "LBedBook$Bed;", false)
def tyX9 : Nat → FieldType := fun k => match k with
  | 0 => .object "BedBook$Plant"
  | 1 => .int
  | 2 => .int
  | 3 => .int
  | 4 => .int
  | 5 => .int
  | 6 => .boolean
  | 7 => .array .int
  | 8 => .int
  | 9 => .int
  | 10 => .int
  | 11 => .int
  | _ => .object "BedBook$Bed"
abbrev wsX90 : List Cond := u_ws RX9 TX9 13
set_option maxRecDepth 100000 in
theorem nmX9 : ∀ a, a < 13 → ∀ b, b < 13 → a ≠ b → (TX9 a).2.1 ≠ (TX9 b).2.1 := by decide +kernel
set_option maxRecDepth 100000 in
theorem tyX9_ok : ∀ k, k < 13 → parseFieldDescriptor (TX9 k).2.2.1 = some (tyX9 k) := by decide +kernel
abbrev cX9_init : ByteArray := prog_6_method_1_code
def yX9_init : MethodName := ⟨RX9, "<init>", "(ILBedBook$Plant;I)V"⟩
abbrev cX9_isCut : ByteArray := prog_6_method_2_code
def yX9_isCut : MethodName := ⟨RX9, "isCut", "()Z"⟩
theorem q78 : (Jvm.Cond.initialized "BedBook$Cutting") ∈ lw_all := lw_g (lw_at lw_m1 18 rfl) rfl
theorem q396 : (Jvm.Cond.selects "BedBook$Cutting" ({ cls := "java/lang/Object", name := "getClass", desc := "()Ljava/lang/Class;" } : Jvm.MethodName) ({ cls := "java/lang/Object", name := "getClass", desc := "()Ljava/lang/Class;" } : Jvm.MethodName)) ∈ lw_all := lw_g (lw_at lw_m2 96 rfl) rfl
theorem q424 : (Jvm.Cond.selects "BedBook$Cutting" ({ cls := "BedBook$Plant", name := "number", desc := "()I" } : Jvm.MethodName) ({ cls := "BedBook$Plant", name := "number", desc := "()I" } : Jvm.MethodName)) ∈ lw_all := lw_g (lw_at lw_m2 124 rfl) rfl
theorem q482 : (Jvm.Cond.instantiable "BedBook$Cutting" (13 : Nat)) ∈ lw_all := lw_g (lw_at lw_m2 182 rfl) rfl
theorem q484 : (Jvm.Cond.instanceMethod ({ cls := "BedBook$Cutting", name := "<init>", desc := "(ILBedBook$Plant;I)V" } : Jvm.MethodName)) ∈ lw_all := lw_g (lw_at lw_m2 184 rfl) rfl
theorem q485 : (Jvm.Cond.code ({ cls := "BedBook$Cutting", name := "<init>", desc := "(ILBedBook$Plant;I)V" } : Jvm.MethodName) prog_6_method_1_code (4 : Nat) (Option.none : Option Jvm.ClassFile.FieldType)) ∈ lw_all := lw_g (lw_at lw_m2 185 rfl) rfl
theorem q486 : (Jvm.Cond.methodLink "BedBook$Cutting" (1 : Nat) ({ cls := "BedBook$Part", name := "<init>", desc := "(IILBedBook$Plant;I)V" } : Jvm.MethodName)) ∈ lw_all := lw_g (lw_at lw_m2 186 rfl) rfl
theorem q493 : (Jvm.Cond.selects "BedBook$Cutting" ({ cls := "BedBook$Plant", name := "marks", desc := "()[I" } : Jvm.MethodName) ({ cls := "BedBook$Plant", name := "marks", desc := "()[I" } : Jvm.MethodName)) ∈ lw_all := lw_g (lw_at lw_m2 193 rfl) rfl
theorem q501 : (Jvm.Cond.selects "BedBook$Cutting" ({ cls := "BedBook$Part", name := "marks", desc := "()[I" } : Jvm.MethodName) ({ cls := "BedBook$Plant", name := "marks", desc := "()[I" } : Jvm.MethodName)) ∈ lw_all := lw_g (lw_at lw_m2 201 rfl) rfl
theorem q505 : (Jvm.Cond.laysFinal "BedBook$Cutting" "BedBook$Part" "of" "LBedBook$Plant;") ∈ lw_all := lw_g (lw_at lw_m2 205 rfl) rfl
theorem q507 : (Jvm.Cond.laysFinal "BedBook$Cutting" "BedBook$Plant" "number" "I") ∈ lw_all := lw_g (lw_at lw_m2 207 rfl) rfl
theorem q508 : (Jvm.Cond.laysFinal "BedBook$Cutting" "BedBook$Plant" "kind" "I") ∈ lw_all := lw_g (lw_at lw_m2 208 rfl) rfl
theorem q509 : (Jvm.Cond.lays "BedBook$Cutting" "BedBook$Plant" "pieces" "I") ∈ lw_all := lw_g (lw_at lw_m2 209 rfl) rfl
theorem q510 : (Jvm.Cond.lays "BedBook$Cutting" "BedBook$Plant" "missed" "I") ∈ lw_all := lw_g (lw_at lw_m2 210 rfl) rfl
theorem q511 : (Jvm.Cond.lays "BedBook$Cutting" "BedBook$Plant" "told" "I") ∈ lw_all := lw_g (lw_at lw_m2 211 rfl) rfl
theorem q512 : (Jvm.Cond.lays "BedBook$Cutting" "BedBook$Plant" "isDead" "Z") ∈ lw_all := lw_g (lw_at lw_m2 212 rfl) rfl
theorem q513 : (Jvm.Cond.laysFinal "BedBook$Cutting" "BedBook$Plant" "mark" "[I") ∈ lw_all := lw_g (lw_at lw_m2 213 rfl) rfl
theorem q514 : (Jvm.Cond.lays "BedBook$Cutting" "BedBook$Plant" "lightFrom" "I") ∈ lw_all := lw_g (lw_at lw_m2 214 rfl) rfl
theorem q515 : (Jvm.Cond.lays "BedBook$Cutting" "BedBook$Plant" "lightTo" "I") ∈ lw_all := lw_g (lw_at lw_m2 215 rfl) rfl
theorem q516 : (Jvm.Cond.lays "BedBook$Cutting" "BedBook$Plant" "wetFrom" "I") ∈ lw_all := lw_g (lw_at lw_m2 216 rfl) rfl
theorem q517 : (Jvm.Cond.lays "BedBook$Cutting" "BedBook$Plant" "wetTo" "I") ∈ lw_all := lw_g (lw_at lw_m2 217 rfl) rfl
theorem q518 : (Jvm.Cond.lays "BedBook$Cutting" "BedBook$Plant" "bed" "LBedBook$Bed;") ∈ lw_all := lw_g (lw_at lw_m2 218 rfl) rfl
theorem q519 : (Jvm.Cond.superclass "BedBook$Cutting" "BedBook$Part") ∈ lw_all := lw_g (lw_at lw_m2 219 rfl) rfl
theorem q610 : (Jvm.Cond.selects "BedBook$Cutting" ({ cls := "BedBook$Plant", name := "suits", desc := "(LBedBook$Bed;)Z" } : Jvm.MethodName) ({ cls := "BedBook$Plant", name := "suits", desc := "(LBedBook$Bed;)Z" } : Jvm.MethodName)) ∈ lw_all := lw_g (lw_at lw_m3 70 rfl) rfl
theorem q1032 : (Jvm.Cond.selects "BedBook$Cutting" ({ cls := "BedBook$Plant", name := "place", desc := "()I" } : Jvm.MethodName) ({ cls := "BedBook$Plant", name := "place", desc := "()I" } : Jvm.MethodName)) ∈ lw_all := lw_g (lw_at lw_m5 12 rfl) rfl
theorem q1042 : (Jvm.Cond.selects "BedBook$Cutting" ({ cls := "BedBook$Plant", name := "of", desc := "()LBedBook$Plant;" } : Jvm.MethodName) ({ cls := "BedBook$Part", name := "of", desc := "()LBedBook$Plant;" } : Jvm.MethodName)) ∈ lw_all := lw_g (lw_at lw_m5 22 rfl) rfl
theorem q1063 : (Jvm.Cond.selects "BedBook$Cutting" ({ cls := "BedBook$Plant", name := "isCut", desc := "()Z" } : Jvm.MethodName) ({ cls := "BedBook$Cutting", name := "isCut", desc := "()Z" } : Jvm.MethodName)) ∈ lw_all := lw_g (lw_at lw_m5 43 rfl) rfl
theorem q1064 : (Jvm.Cond.instanceMethod ({ cls := "BedBook$Cutting", name := "isCut", desc := "()Z" } : Jvm.MethodName)) ∈ lw_all := lw_g (lw_at lw_m5 44 rfl) rfl
theorem q1065 : (Jvm.Cond.code ({ cls := "BedBook$Cutting", name := "isCut", desc := "()Z" } : Jvm.MethodName) prog_6_method_2_code (1 : Nat) (Option.some Jvm.ClassFile.FieldType.boolean)) ∈ lw_all := lw_g (lw_at lw_m5 45 rfl) rfl
theorem q1127 : (Jvm.Cond.selects "BedBook$Cutting" ({ cls := "BedBook$Plant", name := "fits", desc := "([I)Z" } : Jvm.MethodName) ({ cls := "BedBook$Part", name := "fits", desc := "([I)Z" } : Jvm.MethodName)) ∈ lw_all := lw_g (lw_at lw_m5 107 rfl) rfl
theorem q1192 : (Jvm.Cond.selects "BedBook$Cutting" ({ cls := "BedBook$Plant", name := "father", desc := "()LBedBook$Plant;" } : Jvm.MethodName) ({ cls := "BedBook$Plant", name := "father", desc := "()LBedBook$Plant;" } : Jvm.MethodName)) ∈ lw_all := lw_g (lw_at lw_m5 172 rfl) rfl
theorem q1202 : (Jvm.Cond.selects "BedBook$Cutting" ({ cls := "BedBook$Plant", name := "root", desc := "()LBedBook$Plant;" } : Jvm.MethodName) ({ cls := "BedBook$Plant", name := "root", desc := "()LBedBook$Plant;" } : Jvm.MethodName)) ∈ lw_all := lw_g (lw_at lw_m5 182 rfl) rfl
theorem q1674 : (Jvm.Cond.castable "BedBook$Cutting" "BedBook$Plant") ∈ lw_tbl := lw_at lw_m7 174 rfl
theorem q1688 : (Jvm.Cond.castable "BedBook$Cutting" "java/lang/Object") ∈ lw_tbl := lw_at lw_m7 188 rfl
theorem in_X9 : ∀ w ∈ wsX90, w ∈ lw_all := lw_in wsX90 [505, 507, 508, 509, 510, 511, 512, 513, 514, 515, 516, 517, 518] (by decide +kernel) (by decide +kernel)

/-! BedBook$Split -/
set_option maxRecDepth 100000
def RX10 : String := "BedBook$Split"
def TX10 : u_T := fun k => match k with
  | 0 => ("BedBook$Part", "of", "LBedBook$Plant;", true)
  | 1 => ("BedBook$Plant", "number", "I", true)
  | 2 => ("BedBook$Plant", "kind", "I", true)
  | 3 => ("BedBook$Plant", "pieces", "I", false)
  | 4 => ("BedBook$Plant", "missed", "I", false)
  | 5 => ("BedBook$Plant", "told", "I", false)
  | 6 => ("BedBook$Plant", "isDead", "Z", false)
  | 7 => ("BedBook$Plant", "mark", "[I", true)
  | 8 => ("BedBook$Plant", "lightFrom", "I", false)
  | 9 => ("BedBook$Plant", "lightTo", "I", false)
  | 10 => ("BedBook$Plant", "wetFrom", "I", false)
  | 11 => ("BedBook$Plant", "wetTo", "I", false)
  | _ => ("BedBook$Plant", "bed", "LBedBook$Bed;", false)
def tyX10 : Nat → FieldType := fun k => match k with
  | 0 => .object "BedBook$Plant"
  | 1 => .int
  | 2 => .int
  | 3 => .int
  | 4 => .int
  | 5 => .int
  | 6 => .boolean
  | 7 => .array .int
  | 8 => .int
  | 9 => .int
  | 10 => .int
  | 11 => .int
  | _ => .object "BedBook$Bed"
abbrev wsX100 : List Cond := u_ws RX10 TX10 13
set_option maxRecDepth 100000 in
theorem nmX10 : ∀ a, a < 13 → ∀ b, b < 13 → a ≠ b → (TX10 a).2.1 ≠ (TX10 b).2.1 := by decide +kernel
set_option maxRecDepth 100000 in
theorem tyX10_ok : ∀ k, k < 13 → parseFieldDescriptor (TX10 k).2.2.1 = some (tyX10 k) := by decide +kernel
abbrev cX10_init : ByteArray := prog_14_method_1_code
def yX10_init : MethodName := ⟨RX10, "<init>", "(ILBedBook$Plant;I)V"⟩
theorem q79 : (Jvm.Cond.initialized "BedBook$Split") ∈ lw_all := lw_g (lw_at lw_m1 19 rfl) rfl
theorem q401 : (Jvm.Cond.selects "BedBook$Split" ({ cls := "java/lang/Object", name := "getClass", desc := "()Ljava/lang/Class;" } : Jvm.MethodName) ({ cls := "java/lang/Object", name := "getClass", desc := "()Ljava/lang/Class;" } : Jvm.MethodName)) ∈ lw_all := lw_g (lw_at lw_m2 101 rfl) rfl
theorem q426 : (Jvm.Cond.selects "BedBook$Split" ({ cls := "BedBook$Plant", name := "number", desc := "()I" } : Jvm.MethodName) ({ cls := "BedBook$Plant", name := "number", desc := "()I" } : Jvm.MethodName)) ∈ lw_all := lw_g (lw_at lw_m2 126 rfl) rfl
theorem q495 : (Jvm.Cond.selects "BedBook$Split" ({ cls := "BedBook$Plant", name := "marks", desc := "()[I" } : Jvm.MethodName) ({ cls := "BedBook$Plant", name := "marks", desc := "()[I" } : Jvm.MethodName)) ∈ lw_all := lw_g (lw_at lw_m2 195 rfl) rfl
theorem q502 : (Jvm.Cond.selects "BedBook$Split" ({ cls := "BedBook$Part", name := "marks", desc := "()[I" } : Jvm.MethodName) ({ cls := "BedBook$Plant", name := "marks", desc := "()[I" } : Jvm.MethodName)) ∈ lw_all := lw_g (lw_at lw_m2 202 rfl) rfl
theorem q525 : (Jvm.Cond.instantiable "BedBook$Split" (13 : Nat)) ∈ lw_all := lw_g (lw_at lw_m2 225 rfl) rfl
theorem q527 : (Jvm.Cond.instanceMethod ({ cls := "BedBook$Split", name := "<init>", desc := "(ILBedBook$Plant;I)V" } : Jvm.MethodName)) ∈ lw_all := lw_g (lw_at lw_m2 227 rfl) rfl
theorem q528 : (Jvm.Cond.code ({ cls := "BedBook$Split", name := "<init>", desc := "(ILBedBook$Plant;I)V" } : Jvm.MethodName) prog_14_method_1_code (4 : Nat) (Option.none : Option Jvm.ClassFile.FieldType)) ∈ lw_all := lw_g (lw_at lw_m2 228 rfl) rfl
theorem q529 : (Jvm.Cond.methodLink "BedBook$Split" (1 : Nat) ({ cls := "BedBook$Part", name := "<init>", desc := "(IILBedBook$Plant;I)V" } : Jvm.MethodName)) ∈ lw_all := lw_g (lw_at lw_m2 229 rfl) rfl
theorem q530 : (Jvm.Cond.laysFinal "BedBook$Split" "BedBook$Part" "of" "LBedBook$Plant;") ∈ lw_all := lw_g (lw_at lw_m2 230 rfl) rfl
theorem q531 : (Jvm.Cond.laysFinal "BedBook$Split" "BedBook$Plant" "number" "I") ∈ lw_all := lw_g (lw_at lw_m2 231 rfl) rfl
theorem q532 : (Jvm.Cond.laysFinal "BedBook$Split" "BedBook$Plant" "kind" "I") ∈ lw_all := lw_g (lw_at lw_m2 232 rfl) rfl
theorem q533 : (Jvm.Cond.lays "BedBook$Split" "BedBook$Plant" "pieces" "I") ∈ lw_all := lw_g (lw_at lw_m2 233 rfl) rfl
theorem q534 : (Jvm.Cond.lays "BedBook$Split" "BedBook$Plant" "missed" "I") ∈ lw_all := lw_g (lw_at lw_m2 234 rfl) rfl
theorem q535 : (Jvm.Cond.lays "BedBook$Split" "BedBook$Plant" "told" "I") ∈ lw_all := lw_g (lw_at lw_m2 235 rfl) rfl
theorem q536 : (Jvm.Cond.lays "BedBook$Split" "BedBook$Plant" "isDead" "Z") ∈ lw_all := lw_g (lw_at lw_m2 236 rfl) rfl
theorem q537 : (Jvm.Cond.laysFinal "BedBook$Split" "BedBook$Plant" "mark" "[I") ∈ lw_all := lw_g (lw_at lw_m2 237 rfl) rfl
theorem q538 : (Jvm.Cond.lays "BedBook$Split" "BedBook$Plant" "lightFrom" "I") ∈ lw_all := lw_g (lw_at lw_m2 238 rfl) rfl
theorem q539 : (Jvm.Cond.lays "BedBook$Split" "BedBook$Plant" "lightTo" "I") ∈ lw_all := lw_g (lw_at lw_m2 239 rfl) rfl
theorem q540 : (Jvm.Cond.lays "BedBook$Split" "BedBook$Plant" "wetFrom" "I") ∈ lw_all := lw_g (lw_at lw_m3 0 rfl) rfl
theorem q541 : (Jvm.Cond.lays "BedBook$Split" "BedBook$Plant" "wetTo" "I") ∈ lw_all := lw_g (lw_at lw_m3 1 rfl) rfl
theorem q542 : (Jvm.Cond.lays "BedBook$Split" "BedBook$Plant" "bed" "LBedBook$Bed;") ∈ lw_all := lw_g (lw_at lw_m3 2 rfl) rfl
theorem q543 : (Jvm.Cond.superclass "BedBook$Split" "BedBook$Part") ∈ lw_all := lw_g (lw_at lw_m3 3 rfl) rfl
theorem q612 : (Jvm.Cond.selects "BedBook$Split" ({ cls := "BedBook$Plant", name := "suits", desc := "(LBedBook$Bed;)Z" } : Jvm.MethodName) ({ cls := "BedBook$Plant", name := "suits", desc := "(LBedBook$Bed;)Z" } : Jvm.MethodName)) ∈ lw_all := lw_g (lw_at lw_m3 72 rfl) rfl
theorem q1034 : (Jvm.Cond.selects "BedBook$Split" ({ cls := "BedBook$Plant", name := "place", desc := "()I" } : Jvm.MethodName) ({ cls := "BedBook$Plant", name := "place", desc := "()I" } : Jvm.MethodName)) ∈ lw_all := lw_g (lw_at lw_m5 14 rfl) rfl
theorem q1048 : (Jvm.Cond.selects "BedBook$Split" ({ cls := "BedBook$Plant", name := "of", desc := "()LBedBook$Plant;" } : Jvm.MethodName) ({ cls := "BedBook$Part", name := "of", desc := "()LBedBook$Plant;" } : Jvm.MethodName)) ∈ lw_all := lw_g (lw_at lw_m5 28 rfl) rfl
theorem q1067 : (Jvm.Cond.selects "BedBook$Split" ({ cls := "BedBook$Plant", name := "isCut", desc := "()Z" } : Jvm.MethodName) ({ cls := "BedBook$Part", name := "isCut", desc := "()Z" } : Jvm.MethodName)) ∈ lw_all := lw_g (lw_at lw_m5 47 rfl) rfl
theorem q1137 : (Jvm.Cond.selects "BedBook$Split" ({ cls := "BedBook$Plant", name := "fits", desc := "([I)Z" } : Jvm.MethodName) ({ cls := "BedBook$Part", name := "fits", desc := "([I)Z" } : Jvm.MethodName)) ∈ lw_all := lw_g (lw_at lw_m5 117 rfl) rfl
theorem q1196 : (Jvm.Cond.selects "BedBook$Split" ({ cls := "BedBook$Plant", name := "father", desc := "()LBedBook$Plant;" } : Jvm.MethodName) ({ cls := "BedBook$Plant", name := "father", desc := "()LBedBook$Plant;" } : Jvm.MethodName)) ∈ lw_all := lw_g (lw_at lw_m5 176 rfl) rfl
theorem q1204 : (Jvm.Cond.selects "BedBook$Split" ({ cls := "BedBook$Plant", name := "root", desc := "()LBedBook$Plant;" } : Jvm.MethodName) ({ cls := "BedBook$Plant", name := "root", desc := "()LBedBook$Plant;" } : Jvm.MethodName)) ∈ lw_all := lw_g (lw_at lw_m5 184 rfl) rfl
theorem q1676 : (Jvm.Cond.castable "BedBook$Split" "BedBook$Plant") ∈ lw_tbl := lw_at lw_m7 176 rfl
theorem q1689 : (Jvm.Cond.castable "BedBook$Split" "java/lang/Object") ∈ lw_tbl := lw_at lw_m7 189 rfl
theorem in_X10 : ∀ w ∈ wsX100, w ∈ lw_all := lw_in wsX100 [530, 531, 532, 533, 534, 535, 536, 537, 538, 539, 540, 541, 542] (by decide +kernel) (by decide +kernel)

/-! BedBook$Bed -/
set_option maxRecDepth 100000
def RX11 : String := "BedBook$Bed"
def TX11 : u_T := fun k => match k with
  | 0 => ("BedBook$Bed", "light", "I", false)
  | 1 => ("BedBook$Bed", "wet", "I", false)
  | 2 => ("BedBook$Bed", "number", "I", true)
  | _ => ("BedBook$Bed", "room", "I", true)
def tyX11 : Nat → FieldType := fun k => match k with
  | 0 => .int
  | 1 => .int
  | 2 => .int
  | _ => .int
abbrev wsX110 : List Cond := u_ws RX11 TX11 4
theorem nmX11 : ∀ a, a < 4 → ∀ b, b < 4 → a ≠ b → (TX11 a).2.1 ≠ (TX11 b).2.1 := by decide +kernel
theorem tyX11_ok : ∀ k, k < 4 → parseFieldDescriptor (TX11 k).2.2.1 = some (tyX11 k) := by decide +kernel
abbrev cX11_init : ByteArray := prog_4_method_1_code
def yX11_init : MethodName := ⟨RX11, "<init>", "(IIII)V"⟩
theorem q84 : (Jvm.Cond.initialized "BedBook$Bed") ∈ lw_all := lw_g (lw_at lw_m1 24 rfl) rfl
theorem q394 : (Jvm.Cond.selects "BedBook$Bed" ({ cls := "java/lang/Object", name := "getClass", desc := "()Ljava/lang/Class;" } : Jvm.MethodName) ({ cls := "java/lang/Object", name := "getClass", desc := "()Ljava/lang/Class;" } : Jvm.MethodName)) ∈ lw_all := lw_g (lw_at lw_m2 94 rfl) rfl
theorem q567 : (Jvm.Cond.instantiable "BedBook$Bed" (4 : Nat)) ∈ lw_all := lw_g (lw_at lw_m3 27 rfl) rfl
theorem q569 : (Jvm.Cond.instanceMethod ({ cls := "BedBook$Bed", name := "<init>", desc := "(IIII)V" } : Jvm.MethodName)) ∈ lw_all := lw_g (lw_at lw_m3 29 rfl) rfl
theorem q570 : (Jvm.Cond.code ({ cls := "BedBook$Bed", name := "<init>", desc := "(IIII)V" } : Jvm.MethodName) prog_4_method_1_code (5 : Nat) (Option.none : Option Jvm.ClassFile.FieldType)) ∈ lw_all := lw_g (lw_at lw_m3 30 rfl) rfl
theorem q571 : (Jvm.Cond.methodLink "BedBook$Bed" (1 : Nat) ({ cls := "java/lang/Object", name := "<init>", desc := "()V" } : Jvm.MethodName)) ∈ lw_all := lw_g (lw_at lw_m3 31 rfl) rfl
theorem q572 : (Jvm.Cond.fieldLink "BedBook$Bed" (13 : Nat) "BedBook$Bed" "light" "I") ∈ lw_all := lw_g (lw_at lw_m3 32 rfl) rfl
theorem q575 : (Jvm.Cond.fieldLink "BedBook$Bed" (16 : Nat) "BedBook$Bed" "wet" "I") ∈ lw_all := lw_g (lw_at lw_m3 35 rfl) rfl
theorem q578 : (Jvm.Cond.fieldLink "BedBook$Bed" (7 : Nat) "BedBook$Bed" "number" "I") ∈ lw_all := lw_g (lw_at lw_m3 38 rfl) rfl
theorem q580 : (Jvm.Cond.fieldLink "BedBook$Bed" (19 : Nat) "BedBook$Bed" "room" "I") ∈ lw_all := lw_g (lw_at lw_m3 40 rfl) rfl
theorem q582 : (Jvm.Cond.lays "BedBook$Bed" "BedBook$Bed" "light" "I") ∈ lw_all := lw_g (lw_at lw_m3 42 rfl) rfl
theorem q583 : (Jvm.Cond.soleField "BedBook$Bed" "light") ∈ lw_all := lw_g (lw_at lw_m3 43 rfl) rfl
theorem q584 : (Jvm.Cond.lays "BedBook$Bed" "BedBook$Bed" "wet" "I") ∈ lw_all := lw_g (lw_at lw_m3 44 rfl) rfl
theorem q585 : (Jvm.Cond.soleField "BedBook$Bed" "wet") ∈ lw_all := lw_g (lw_at lw_m3 45 rfl) rfl
theorem q586 : (Jvm.Cond.laysFinal "BedBook$Bed" "BedBook$Bed" "number" "I") ∈ lw_all := lw_g (lw_at lw_m3 46 rfl) rfl
theorem q587 : (Jvm.Cond.soleField "BedBook$Bed" "number") ∈ lw_all := lw_g (lw_at lw_m3 47 rfl) rfl
theorem q588 : (Jvm.Cond.laysFinal "BedBook$Bed" "BedBook$Bed" "room" "I") ∈ lw_all := lw_g (lw_at lw_m3 48 rfl) rfl
theorem q589 : (Jvm.Cond.soleField "BedBook$Bed" "room") ∈ lw_all := lw_g (lw_at lw_m3 49 rfl) rfl
theorem q590 : (Jvm.Cond.superclass "BedBook$Bed" "java/lang/Object") ∈ lw_all := lw_g (lw_at lw_m3 50 rfl) rfl
theorem q1691 : (Jvm.Cond.castable "BedBook$Bed" "java/lang/Object") ∈ lw_tbl := lw_at lw_m7 191 rfl
theorem in_X11 : ∀ w ∈ wsX110, w ∈ lw_all := lw_in wsX110 [582, 584, 586, 588] (by decide +kernel) (by decide +kernel)

/-! BedBook$Wrong -/
set_option maxRecDepth 100000
def RX12 : String := "BedBook$Wrong"
def TX12 : u_T := fun k => match k with
  | 0 => ("java/lang/Throwable", "cause", "Ljava/lang/Throwable;", false)
  | 1 => ("java/lang/Throwable", "stackTrace", "[Ljava/lang/StackTraceElement;", false)
  | 2 => ("java/lang/Throwable", "suppressedExceptions", "Ljava/util/List;", false)
  | 3 => ("java/lang/Throwable", "detailMessage", "Ljava/lang/String;", false)
  | 4 => ("java/lang/Throwable", "backtrace", "Ljava/lang/Object;", false)
  | 5 => ("java/lang/Throwable", "depth", "I", false)
  | _ => ("BedBook$Wrong", "fault", "I", true)
def tyX12 : Nat → FieldType := fun k => match k with
  | 0 => .object "java/lang/Throwable"
  | 1 => .array (.object "java/lang/StackTraceElement")
  | 2 => .object "java/util/List"
  | 3 => .object "java/lang/String"
  | 4 => .object "java/lang/Object"
  | 5 => .int
  | _ => .int
abbrev wsX120 : List Cond := u_ws RX12 TX12 7
theorem nmX12 : ∀ a, a < 7 → ∀ b, b < 7 → a ≠ b → (TX12 a).2.1 ≠ (TX12 b).2.1 := by decide +kernel
theorem tyX12_ok : ∀ k, k < 7 → parseFieldDescriptor (TX12 k).2.2.1 = some (tyX12 k) := by decide +kernel
abbrev cX12_init : ByteArray := prog_16_method_1_code
def yX12_init : MethodName := ⟨RX12, "<init>", "(II)V"⟩
theorem q89 : (Jvm.Cond.initialized "BedBook$Wrong") ∈ lw_all := lw_g (lw_at lw_m1 29 rfl) rfl
theorem q403 : (Jvm.Cond.selects "BedBook$Wrong" ({ cls := "java/lang/Object", name := "getClass", desc := "()Ljava/lang/Class;" } : Jvm.MethodName) ({ cls := "java/lang/Object", name := "getClass", desc := "()Ljava/lang/Class;" } : Jvm.MethodName)) ∈ lw_all := lw_g (lw_at lw_m2 103 rfl) rfl
theorem q777 : (Jvm.Cond.instantiable "BedBook$Wrong" (7 : Nat)) ∈ lw_all := lw_g (lw_at lw_m3 237 rfl) rfl
theorem q778 : (Jvm.Cond.castable "BedBook$Wrong" "BedBook$Wrong") ∈ lw_tbl := lw_at lw_m3 238 rfl
theorem q785 : (Jvm.Cond.selects "BedBook$Wrong" ({ cls := "java/lang/Throwable", name := "fillInStackTrace", desc := "(I)Ljava/lang/Throwable;" } : Jvm.MethodName) ({ cls := "java/lang/Throwable", name := "fillInStackTrace", desc := "(I)Ljava/lang/Throwable;" } : Jvm.MethodName)) ∈ lw_all := lw_g (lw_at lw_m4 5 rfl) rfl
theorem q786 : (Jvm.Cond.selects "BedBook$Wrong" ({ cls := "java/lang/Throwable", name := "fillInStackTrace", desc := "()Ljava/lang/Throwable;" } : Jvm.MethodName) ({ cls := "java/lang/Throwable", name := "fillInStackTrace", desc := "()Ljava/lang/Throwable;" } : Jvm.MethodName)) ∈ lw_all := lw_g (lw_at lw_m4 6 rfl) rfl
theorem q787 : (Jvm.Cond.lays "BedBook$Wrong" "java/lang/Throwable" "cause" "Ljava/lang/Throwable;") ∈ lw_all := lw_g (lw_at lw_m4 7 rfl) rfl
theorem q789 : (Jvm.Cond.lays "BedBook$Wrong" "java/lang/Throwable" "stackTrace" "[Ljava/lang/StackTraceElement;") ∈ lw_all := lw_g (lw_at lw_m4 9 rfl) rfl
theorem q791 : (Jvm.Cond.lays "BedBook$Wrong" "java/lang/Throwable" "suppressedExceptions" "Ljava/util/List;") ∈ lw_all := lw_g (lw_at lw_m4 11 rfl) rfl
theorem q793 : (Jvm.Cond.lays "BedBook$Wrong" "java/lang/Throwable" "detailMessage" "Ljava/lang/String;") ∈ lw_all := lw_g (lw_at lw_m4 13 rfl) rfl
theorem q795 : (Jvm.Cond.lays "BedBook$Wrong" "java/lang/Throwable" "backtrace" "Ljava/lang/Object;") ∈ lw_all := lw_g (lw_at lw_m4 15 rfl) rfl
theorem q817 : (Jvm.Cond.instanceMethod ({ cls := "BedBook$Wrong", name := "<init>", desc := "(II)V" } : Jvm.MethodName)) ∈ lw_all := lw_g (lw_at lw_m4 37 rfl) rfl
theorem q818 : (Jvm.Cond.code ({ cls := "BedBook$Wrong", name := "<init>", desc := "(II)V" } : Jvm.MethodName) prog_16_method_1_code (3 : Nat) (Option.none : Option Jvm.ClassFile.FieldType)) ∈ lw_all := lw_g (lw_at lw_m4 38 rfl) rfl
theorem q819 : (Jvm.Cond.methodLink "BedBook$Wrong" (1 : Nat) ({ cls := "java/lang/RuntimeException", name := "<init>", desc := "(Ljava/lang/String;Ljava/lang/Throwable;ZZ)V" } : Jvm.MethodName)) ∈ lw_all := lw_g (lw_at lw_m4 39 rfl) rfl
theorem q828 : (Jvm.Cond.fieldLink "BedBook$Wrong" (7 : Nat) "BedBook$Wrong" "fault" "I") ∈ lw_all := lw_g (lw_at lw_m4 48 rfl) rfl
theorem q835 : (Jvm.Cond.laysFinal "BedBook$Wrong" "BedBook$Wrong" "fault" "I") ∈ lw_all := lw_g (lw_at lw_m4 55 rfl) rfl
theorem q836 : (Jvm.Cond.soleField "BedBook$Wrong" "fault") ∈ lw_all := lw_g (lw_at lw_m4 56 rfl) rfl
theorem q841 : (Jvm.Cond.lays "BedBook$Wrong" "java/lang/Throwable" "depth" "I") ∈ lw_all := lw_g (lw_at lw_m4 61 rfl) rfl
theorem q844 : (Jvm.Cond.superclass "BedBook$Wrong" "java/lang/RuntimeException") ∈ lw_all := lw_g (lw_at lw_m4 64 rfl) rfl
theorem q1692 : (Jvm.Cond.castable "BedBook$Wrong" "java/lang/Object") ∈ lw_tbl := lw_at lw_m7 192 rfl
theorem in_X12 : ∀ w ∈ wsX120, w ∈ lw_all := lw_in wsX120 [787, 789, 791, 793, 795, 841, 835] (by decide +kernel) (by decide +kernel)

/-! BedBook$Exp -/
set_option maxRecDepth 100000
def RX13 : String := "BedBook$Exp"
abbrev cX13_init : ByteArray := prog_7_method_1_code
def yX13_init : MethodName := ⟨RX13, "<init>", "()V"⟩
theorem q90 : (Jvm.Cond.initialized "BedBook$Exp") ∈ lw_all := lw_g (lw_at lw_m1 30 rfl) rfl
theorem q878 : (Jvm.Cond.instanceMethod ({ cls := "BedBook$Exp", name := "<init>", desc := "()V" } : Jvm.MethodName)) ∈ lw_all := lw_g (lw_at lw_m4 98 rfl) rfl
theorem q879 : (Jvm.Cond.code ({ cls := "BedBook$Exp", name := "<init>", desc := "()V" } : Jvm.MethodName) prog_7_method_1_code (1 : Nat) (Option.none : Option Jvm.ClassFile.FieldType)) ∈ lw_all := lw_g (lw_at lw_m4 99 rfl) rfl
theorem q880 : (Jvm.Cond.methodLink "BedBook$Exp" (1 : Nat) ({ cls := "java/lang/Object", name := "<init>", desc := "()V" } : Jvm.MethodName)) ∈ lw_all := lw_g (lw_at lw_m4 100 rfl) rfl
theorem q1075 : (Jvm.Cond.declares ({ cls := "BedBook$Exp", name := "value", desc := "(LBedBook$Ask;)I" } : Jvm.MethodName)) ∈ lw_tbl := lw_at lw_m5 55 rfl
theorem q1076 : (Jvm.Cond.sameMethod "BedBook$Exp" "BedBook$Exp" "value" "(LBedBook$Ask;)I") ∈ lw_all := lw_g (lw_at lw_m5 56 rfl) rfl

/-! BedBook$Constant -/
set_option maxRecDepth 100000
def RX14 : String := "BedBook$Constant"
def TX14 : u_T := fun k => match k with
  | _ => ("BedBook$Constant", "v", "I", true)
def tyX14 : Nat → FieldType := fun k => match k with
  | _ => .int
abbrev wsX140 : List Cond := u_ws RX14 TX14 1
theorem nmX14 : ∀ a, a < 1 → ∀ b, b < 1 → a ≠ b → (TX14 a).2.1 ≠ (TX14 b).2.1 := by decide +kernel
theorem tyX14_ok : ∀ k, k < 1 → parseFieldDescriptor (TX14 k).2.2.1 = some (tyX14 k) := by decide +kernel
abbrev cX14_init : ByteArray := prog_5_method_1_code
def yX14_init : MethodName := ⟨RX14, "<init>", "(I)V"⟩
abbrev cX14_value : ByteArray := prog_5_method_2_code
def yX14_value : MethodName := ⟨RX14, "value", "(LBedBook$Ask;)I"⟩
theorem q91 : (Jvm.Cond.initialized "BedBook$Constant") ∈ lw_all := lw_g (lw_at lw_m1 31 rfl) rfl
theorem q395 : (Jvm.Cond.selects "BedBook$Constant" ({ cls := "java/lang/Object", name := "getClass", desc := "()Ljava/lang/Class;" } : Jvm.MethodName) ({ cls := "java/lang/Object", name := "getClass", desc := "()Ljava/lang/Class;" } : Jvm.MethodName)) ∈ lw_all := lw_g (lw_at lw_m2 95 rfl) rfl
theorem q873 : (Jvm.Cond.instantiable "BedBook$Constant" (1 : Nat)) ∈ lw_all := lw_g (lw_at lw_m4 93 rfl) rfl
theorem q875 : (Jvm.Cond.instanceMethod ({ cls := "BedBook$Constant", name := "<init>", desc := "(I)V" } : Jvm.MethodName)) ∈ lw_all := lw_g (lw_at lw_m4 95 rfl) rfl
theorem q876 : (Jvm.Cond.code ({ cls := "BedBook$Constant", name := "<init>", desc := "(I)V" } : Jvm.MethodName) prog_5_method_1_code (2 : Nat) (Option.none : Option Jvm.ClassFile.FieldType)) ∈ lw_all := lw_g (lw_at lw_m4 96 rfl) rfl
theorem q877 : (Jvm.Cond.methodLinkNest "BedBook$Constant" (1 : Nat) ({ cls := "BedBook$Exp", name := "<init>", desc := "()V" } : Jvm.MethodName) "BedBook") ∈ lw_tbl := lw_at lw_m4 97 rfl
theorem q881 : (Jvm.Cond.fieldLink "BedBook$Constant" (7 : Nat) "BedBook$Constant" "v" "I") ∈ lw_all := lw_g (lw_at lw_m4 101 rfl) rfl
theorem q882 : (Jvm.Cond.laysFinal "BedBook$Constant" "BedBook$Constant" "v" "I") ∈ lw_all := lw_g (lw_at lw_m4 102 rfl) rfl
theorem q883 : (Jvm.Cond.soleField "BedBook$Constant" "v") ∈ lw_all := lw_g (lw_at lw_m4 103 rfl) rfl
theorem q884 : (Jvm.Cond.superclass "BedBook$Constant" "BedBook$Exp") ∈ lw_all := lw_g (lw_at lw_m4 104 rfl) rfl
theorem q1080 : (Jvm.Cond.selects "BedBook$Constant" ({ cls := "BedBook$Exp", name := "value", desc := "(LBedBook$Ask;)I" } : Jvm.MethodName) ({ cls := "BedBook$Constant", name := "value", desc := "(LBedBook$Ask;)I" } : Jvm.MethodName)) ∈ lw_all := lw_g (lw_at lw_m5 60 rfl) rfl
theorem q1081 : (Jvm.Cond.instanceMethod ({ cls := "BedBook$Constant", name := "value", desc := "(LBedBook$Ask;)I" } : Jvm.MethodName)) ∈ lw_all := lw_g (lw_at lw_m5 61 rfl) rfl
theorem q1082 : (Jvm.Cond.code ({ cls := "BedBook$Constant", name := "value", desc := "(LBedBook$Ask;)I" } : Jvm.MethodName) prog_5_method_2_code (2 : Nat) (Option.some Jvm.ClassFile.FieldType.int)) ∈ lw_all := lw_g (lw_at lw_m5 62 rfl) rfl
theorem q1679 : (Jvm.Cond.castable "BedBook$Constant" "BedBook$Exp") ∈ lw_tbl := lw_at lw_m7 179 rfl
theorem q1693 : (Jvm.Cond.castable "BedBook$Constant" "java/lang/Object") ∈ lw_tbl := lw_at lw_m7 193 rfl
theorem in_X14 : ∀ w ∈ wsX140, w ∈ lw_all := lw_in wsX140 [882] (by decide +kernel) (by decide +kernel)

/-! BedBook$About -/
set_option maxRecDepth 100000
def RX15 : String := "BedBook$About"
def TX15 : u_T := fun k => match k with
  | _ => ("BedBook$About", "what", "I", true)
def tyX15 : Nat → FieldType := fun k => match k with
  | _ => .int
abbrev wsX150 : List Cond := u_ws RX15 TX15 1
theorem nmX15 : ∀ a, a < 1 → ∀ b, b < 1 → a ≠ b → (TX15 a).2.1 ≠ (TX15 b).2.1 := by decide +kernel
theorem tyX15_ok : ∀ k, k < 1 → parseFieldDescriptor (TX15 k).2.2.1 = some (tyX15 k) := by decide +kernel
abbrev cX15_init : ByteArray := prog_2_method_1_code
def yX15_init : MethodName := ⟨RX15, "<init>", "(I)V"⟩
abbrev cX15_value : ByteArray := prog_2_method_2_code
def yX15_value : MethodName := ⟨RX15, "value", "(LBedBook$Ask;)I"⟩
theorem q92 : (Jvm.Cond.initialized "BedBook$About") ∈ lw_all := lw_g (lw_at lw_m1 32 rfl) rfl
theorem q169 : (Jvm.Cond.fieldLinkNest "BedBook$About" (13 : Nat) "BedBook$Ask" "place" "I" "BedBook") ∈ lw_tbl := lw_at lw_m1 109 rfl
theorem q171 : (Jvm.Cond.fieldLinkNest "BedBook$About" (18 : Nat) "BedBook$Ask" "name" "I" "BedBook") ∈ lw_tbl := lw_at lw_m1 111 rfl
theorem q173 : (Jvm.Cond.fieldLinkNest "BedBook$About" (21 : Nat) "BedBook$Ask" "house" "I" "BedBook") ∈ lw_tbl := lw_at lw_m1 113 rfl
theorem q175 : (Jvm.Cond.fieldLinkNest "BedBook$About" (24 : Nat) "BedBook$Ask" "aim" "I" "BedBook") ∈ lw_tbl := lw_at lw_m1 115 rfl
theorem q177 : (Jvm.Cond.fieldLinkNest "BedBook$About" (27 : Nat) "BedBook$Ask" "cut" "I" "BedBook") ∈ lw_tbl := lw_at lw_m1 117 rfl
theorem q179 : (Jvm.Cond.fieldLinkNest "BedBook$About" (30 : Nat) "BedBook$Ask" "pieces" "I" "BedBook") ∈ lw_tbl := lw_at lw_m1 119 rfl
theorem q181 : (Jvm.Cond.fieldLinkNest "BedBook$About" (33 : Nat) "BedBook$Ask" "day" "I" "BedBook") ∈ lw_tbl := lw_at lw_m1 121 rfl
theorem q392 : (Jvm.Cond.selects "BedBook$About" ({ cls := "java/lang/Object", name := "getClass", desc := "()Ljava/lang/Class;" } : Jvm.MethodName) ({ cls := "java/lang/Object", name := "getClass", desc := "()Ljava/lang/Class;" } : Jvm.MethodName)) ∈ lw_all := lw_g (lw_at lw_m2 92 rfl) rfl
theorem q886 : (Jvm.Cond.instantiable "BedBook$About" (1 : Nat)) ∈ lw_all := lw_g (lw_at lw_m4 106 rfl) rfl
theorem q888 : (Jvm.Cond.instanceMethod ({ cls := "BedBook$About", name := "<init>", desc := "(I)V" } : Jvm.MethodName)) ∈ lw_all := lw_g (lw_at lw_m4 108 rfl) rfl
theorem q889 : (Jvm.Cond.code ({ cls := "BedBook$About", name := "<init>", desc := "(I)V" } : Jvm.MethodName) prog_2_method_1_code (2 : Nat) (Option.none : Option Jvm.ClassFile.FieldType)) ∈ lw_all := lw_g (lw_at lw_m4 109 rfl) rfl
theorem q890 : (Jvm.Cond.methodLinkNest "BedBook$About" (1 : Nat) ({ cls := "BedBook$Exp", name := "<init>", desc := "()V" } : Jvm.MethodName) "BedBook") ∈ lw_tbl := lw_at lw_m4 110 rfl
theorem q891 : (Jvm.Cond.fieldLink "BedBook$About" (7 : Nat) "BedBook$About" "what" "I") ∈ lw_all := lw_g (lw_at lw_m4 111 rfl) rfl
theorem q892 : (Jvm.Cond.laysFinal "BedBook$About" "BedBook$About" "what" "I") ∈ lw_all := lw_g (lw_at lw_m4 112 rfl) rfl
theorem q893 : (Jvm.Cond.soleField "BedBook$About" "what") ∈ lw_all := lw_g (lw_at lw_m4 113 rfl) rfl
theorem q894 : (Jvm.Cond.superclass "BedBook$About" "BedBook$Exp") ∈ lw_all := lw_g (lw_at lw_m4 114 rfl) rfl
theorem q1077 : (Jvm.Cond.selects "BedBook$About" ({ cls := "BedBook$Exp", name := "value", desc := "(LBedBook$Ask;)I" } : Jvm.MethodName) ({ cls := "BedBook$About", name := "value", desc := "(LBedBook$Ask;)I" } : Jvm.MethodName)) ∈ lw_all := lw_g (lw_at lw_m5 57 rfl) rfl
theorem q1078 : (Jvm.Cond.instanceMethod ({ cls := "BedBook$About", name := "value", desc := "(LBedBook$Ask;)I" } : Jvm.MethodName)) ∈ lw_all := lw_g (lw_at lw_m5 58 rfl) rfl
theorem q1079 : (Jvm.Cond.code ({ cls := "BedBook$About", name := "value", desc := "(LBedBook$Ask;)I" } : Jvm.MethodName) prog_2_method_2_code (2 : Nat) (Option.some Jvm.ClassFile.FieldType.int)) ∈ lw_all := lw_g (lw_at lw_m5 59 rfl) rfl
theorem q1678 : (Jvm.Cond.castable "BedBook$About" "BedBook$Exp") ∈ lw_tbl := lw_at lw_m7 178 rfl
theorem q1694 : (Jvm.Cond.castable "BedBook$About" "java/lang/Object") ∈ lw_tbl := lw_at lw_m7 194 rfl
theorem in_X15 : ∀ w ∈ wsX150, w ∈ lw_all := lw_in wsX150 [892] (by decide +kernel) (by decide +kernel)

/-! BedBook$Row -/
set_option maxRecDepth 100000
def RX16 : String := "BedBook$Row"
def TX16 : u_T := fun k => match k with
  | 0 => ("BedBook$Row", "operands", "Ljava/util/ArrayList;", true)
  | _ => ("BedBook$Row", "signs", "Ljava/lang/StringBuilder;", true)
def tyX16 : Nat → FieldType := fun k => match k with
  | 0 => .object "java/util/ArrayList"
  | _ => .object "java/lang/StringBuilder"
abbrev wsX160 : List Cond := u_ws RX16 TX16 2
theorem nmX16 : ∀ a, a < 2 → ∀ b, b < 2 → a ≠ b → (TX16 a).2.1 ≠ (TX16 b).2.1 := by decide +kernel
theorem tyX16_ok : ∀ k, k < 2 → parseFieldDescriptor (TX16 k).2.2.1 = some (tyX16 k) := by decide +kernel
abbrev cX16_init : ByteArray := prog_12_method_1_code
def yX16_init : MethodName := ⟨RX16, "<init>", "(LBedBook$Exp;)V"⟩
abbrev cX16_and : ByteArray := prog_12_method_2_code
def yX16_and : MethodName := ⟨RX16, "and", "(CLBedBook$Exp;)LBedBook$Row;"⟩
abbrev cX16_value : ByteArray := prog_12_method_3_code
def yX16_value : MethodName := ⟨RX16, "value", "(LBedBook$Ask;)I"⟩
abbrev cX16_worked : ByteArray := prog_12_method_4_code
def yX16_worked : MethodName := ⟨RX16, "worked", "(CII)I"⟩
theorem q93 : (Jvm.Cond.initialized "BedBook$Row") ∈ lw_all := lw_g (lw_at lw_m1 33 rfl) rfl
theorem q399 : (Jvm.Cond.selects "BedBook$Row" ({ cls := "java/lang/Object", name := "getClass", desc := "()Ljava/lang/Class;" } : Jvm.MethodName) ({ cls := "java/lang/Object", name := "getClass", desc := "()Ljava/lang/Class;" } : Jvm.MethodName)) ∈ lw_all := lw_g (lw_at lw_m2 99 rfl) rfl
theorem q900 : (Jvm.Cond.instantiable "BedBook$Row" (2 : Nat)) ∈ lw_all := lw_g (lw_at lw_m4 120 rfl) rfl
theorem q902 : (Jvm.Cond.instanceMethod ({ cls := "BedBook$Row", name := "<init>", desc := "(LBedBook$Exp;)V" } : Jvm.MethodName)) ∈ lw_all := lw_g (lw_at lw_m4 122 rfl) rfl
theorem q903 : (Jvm.Cond.code ({ cls := "BedBook$Row", name := "<init>", desc := "(LBedBook$Exp;)V" } : Jvm.MethodName) prog_12_method_1_code (2 : Nat) (Option.none : Option Jvm.ClassFile.FieldType)) ∈ lw_all := lw_g (lw_at lw_m4 123 rfl) rfl
theorem q904 : (Jvm.Cond.methodLinkNest "BedBook$Row" (1 : Nat) ({ cls := "BedBook$Exp", name := "<init>", desc := "()V" } : Jvm.MethodName) "BedBook") ∈ lw_tbl := lw_at lw_m4 124 rfl
theorem q905 : (Jvm.Cond.classLink "BedBook$Row" (7 : Nat) "java/util/ArrayList") ∈ lw_all := lw_g (lw_at lw_m4 125 rfl) rfl
theorem q906 : (Jvm.Cond.methodLink "BedBook$Row" (9 : Nat) ({ cls := "java/util/ArrayList", name := "<init>", desc := "(I)V" } : Jvm.MethodName)) ∈ lw_all := lw_g (lw_at lw_m4 126 rfl) rfl
theorem q907 : (Jvm.Cond.classLink "BedBook$Row" (18 : Nat) "java/lang/StringBuilder") ∈ lw_all := lw_g (lw_at lw_m4 127 rfl) rfl
theorem q909 : (Jvm.Cond.methodLink "BedBook$Row" (20 : Nat) ({ cls := "java/lang/StringBuilder", name := "<init>", desc := "(I)V" } : Jvm.MethodName)) ∈ lw_all := lw_g (lw_at lw_m4 129 rfl) rfl
theorem q936 : (Jvm.Cond.methodLink "BedBook$Row" (25 : Nat) ({ cls := "java/util/ArrayList", name := "add", desc := "(Ljava/lang/Object;)Z" } : Jvm.MethodName)) ∈ lw_all := lw_g (lw_at lw_m4 156 rfl) rfl
theorem q937 : (Jvm.Cond.fieldLink "BedBook$Row" (12 : Nat) "BedBook$Row" "operands" "Ljava/util/ArrayList;") ∈ lw_all := lw_g (lw_at lw_m4 157 rfl) rfl
theorem q938 : (Jvm.Cond.fieldLink "BedBook$Row" (21 : Nat) "BedBook$Row" "signs" "Ljava/lang/StringBuilder;") ∈ lw_all := lw_g (lw_at lw_m4 158 rfl) rfl
theorem q939 : (Jvm.Cond.laysFinal "BedBook$Row" "BedBook$Row" "operands" "Ljava/util/ArrayList;") ∈ lw_all := lw_g (lw_at lw_m4 159 rfl) rfl
theorem q940 : (Jvm.Cond.soleField "BedBook$Row" "operands") ∈ lw_all := lw_g (lw_at lw_m4 160 rfl) rfl
theorem q941 : (Jvm.Cond.laysFinal "BedBook$Row" "BedBook$Row" "signs" "Ljava/lang/StringBuilder;") ∈ lw_all := lw_g (lw_at lw_m4 161 rfl) rfl
theorem q942 : (Jvm.Cond.soleField "BedBook$Row" "signs") ∈ lw_all := lw_g (lw_at lw_m4 162 rfl) rfl
theorem q943 : (Jvm.Cond.superclass "BedBook$Row" "BedBook$Exp") ∈ lw_all := lw_g (lw_at lw_m4 163 rfl) rfl
theorem q945 : (Jvm.Cond.instanceMethod ({ cls := "BedBook$Row", name := "and", desc := "(CLBedBook$Exp;)LBedBook$Row;" } : Jvm.MethodName)) ∈ lw_all := lw_g (lw_at lw_m4 165 rfl) rfl
theorem q946 : (Jvm.Cond.selects "BedBook$Row" ({ cls := "BedBook$Row", name := "and", desc := "(CLBedBook$Exp;)LBedBook$Row;" } : Jvm.MethodName) ({ cls := "BedBook$Row", name := "and", desc := "(CLBedBook$Exp;)LBedBook$Row;" } : Jvm.MethodName)) ∈ lw_all := lw_g (lw_at lw_m4 166 rfl) rfl
theorem q947 : (Jvm.Cond.code ({ cls := "BedBook$Row", name := "and", desc := "(CLBedBook$Exp;)LBedBook$Row;" } : Jvm.MethodName) prog_12_method_2_code (3 : Nat) (Option.some (Jvm.ClassFile.FieldType.object "BedBook$Row"))) ∈ lw_all := lw_g (lw_at lw_m4 167 rfl) rfl
theorem q948 : (Jvm.Cond.methodLink "BedBook$Row" (29 : Nat) ({ cls := "java/lang/StringBuilder", name := "append", desc := "(C)Ljava/lang/StringBuilder;" } : Jvm.MethodName)) ∈ lw_all := lw_g (lw_at lw_m4 168 rfl) rfl
theorem q1083 : (Jvm.Cond.selects "BedBook$Row" ({ cls := "BedBook$Exp", name := "value", desc := "(LBedBook$Ask;)I" } : Jvm.MethodName) ({ cls := "BedBook$Row", name := "value", desc := "(LBedBook$Ask;)I" } : Jvm.MethodName)) ∈ lw_all := lw_g (lw_at lw_m5 63 rfl) rfl
theorem q1084 : (Jvm.Cond.instanceMethod ({ cls := "BedBook$Row", name := "value", desc := "(LBedBook$Ask;)I" } : Jvm.MethodName)) ∈ lw_all := lw_g (lw_at lw_m5 64 rfl) rfl
theorem q1085 : (Jvm.Cond.code ({ cls := "BedBook$Row", name := "value", desc := "(LBedBook$Ask;)I" } : Jvm.MethodName) prog_12_method_3_code (4 : Nat) (Option.some Jvm.ClassFile.FieldType.int)) ∈ lw_all := lw_g (lw_at lw_m5 65 rfl) rfl
theorem q1086 : (Jvm.Cond.methodLink "BedBook$Row" (33 : Nat) ({ cls := "java/util/ArrayList", name := "get", desc := "(I)Ljava/lang/Object;" } : Jvm.MethodName)) ∈ lw_all := lw_g (lw_at lw_m5 66 rfl) rfl
theorem q1087 : (Jvm.Cond.classLink "BedBook$Row" (2 : Nat) "BedBook$Exp") ∈ lw_all := lw_g (lw_at lw_m5 67 rfl) rfl
theorem q1088 : (Jvm.Cond.methodLink "BedBook$Row" (37 : Nat) ({ cls := "BedBook$Exp", name := "value", desc := "(LBedBook$Ask;)I" } : Jvm.MethodName)) ∈ lw_all := lw_g (lw_at lw_m5 68 rfl) rfl
theorem q1089 : (Jvm.Cond.methodLink "BedBook$Row" (41 : Nat) ({ cls := "java/util/ArrayList", name := "size", desc := "()I" } : Jvm.MethodName)) ∈ lw_all := lw_g (lw_at lw_m5 69 rfl) rfl
theorem q1090 : (Jvm.Cond.methodLink "BedBook$Row" (45 : Nat) ({ cls := "java/lang/StringBuilder", name := "charAt", desc := "(I)C" } : Jvm.MethodName)) ∈ lw_all := lw_g (lw_at lw_m5 70 rfl) rfl
theorem q1100 : (Jvm.Cond.methodLink "BedBook$Row" (49 : Nat) ({ cls := "BedBook$Row", name := "worked", desc := "(CII)I" } : Jvm.MethodName)) ∈ lw_all := lw_g (lw_at lw_m5 80 rfl) rfl
theorem q1101 : (Jvm.Cond.static ({ cls := "BedBook$Row", name := "worked", desc := "(CII)I" } : Jvm.MethodName)) ∈ lw_all := lw_g (lw_at lw_m5 81 rfl) rfl
theorem q1102 : (Jvm.Cond.code ({ cls := "BedBook$Row", name := "worked", desc := "(CII)I" } : Jvm.MethodName) prog_12_method_4_code (3 : Nat) (Option.some Jvm.ClassFile.FieldType.int)) ∈ lw_all := lw_g (lw_at lw_m5 82 rfl) rfl
theorem q1680 : (Jvm.Cond.castable "BedBook$Row" "BedBook$Exp") ∈ lw_tbl := lw_at lw_m7 180 rfl
theorem q1695 : (Jvm.Cond.castable "BedBook$Row" "java/lang/Object") ∈ lw_tbl := lw_at lw_m7 195 rfl
theorem in_X16 : ∀ w ∈ wsX160, w ∈ lw_all := lw_in wsX160 [939, 941] (by decide +kernel) (by decide +kernel)

/-! BedBook$Line -/
set_option maxRecDepth 100000
def RX17 : String := "BedBook$Line"
def TX17 : u_T := fun k => match k with
  | 0 => ("BedBook$Line", "lets", "Z", true)
  | _ => ("BedBook$Line", "when", "LBedBook$Exp;", true)
def tyX17 : Nat → FieldType := fun k => match k with
  | 0 => .boolean
  | _ => .object "BedBook$Exp"
abbrev wsX170 : List Cond := u_ws RX17 TX17 2
theorem nmX17 : ∀ a, a < 2 → ∀ b, b < 2 → a ≠ b → (TX17 a).2.1 ≠ (TX17 b).2.1 := by decide +kernel
theorem tyX17_ok : ∀ k, k < 2 → parseFieldDescriptor (TX17 k).2.2.1 = some (tyX17 k) := by decide +kernel
abbrev cX17_init : ByteArray := prog_8_method_1_code
def yX17_init : MethodName := ⟨RX17, "<init>", "(ZLBedBook$Exp;)V"⟩
theorem q96 : (Jvm.Cond.initialized "BedBook$Line") ∈ lw_all := lw_g (lw_at lw_m1 36 rfl) rfl
theorem q397 : (Jvm.Cond.selects "BedBook$Line" ({ cls := "java/lang/Object", name := "getClass", desc := "()Ljava/lang/Class;" } : Jvm.MethodName) ({ cls := "java/lang/Object", name := "getClass", desc := "()Ljava/lang/Class;" } : Jvm.MethodName)) ∈ lw_all := lw_g (lw_at lw_m2 97 rfl) rfl
theorem q1010 : (Jvm.Cond.instantiable "BedBook$Line" (2 : Nat)) ∈ lw_all := lw_g (lw_at lw_m4 230 rfl) rfl
theorem q1012 : (Jvm.Cond.instanceMethod ({ cls := "BedBook$Line", name := "<init>", desc := "(ZLBedBook$Exp;)V" } : Jvm.MethodName)) ∈ lw_all := lw_g (lw_at lw_m4 232 rfl) rfl
theorem q1013 : (Jvm.Cond.code ({ cls := "BedBook$Line", name := "<init>", desc := "(ZLBedBook$Exp;)V" } : Jvm.MethodName) prog_8_method_1_code (3 : Nat) (Option.none : Option Jvm.ClassFile.FieldType)) ∈ lw_all := lw_g (lw_at lw_m4 233 rfl) rfl
theorem q1014 : (Jvm.Cond.methodLink "BedBook$Line" (1 : Nat) ({ cls := "java/lang/Object", name := "<init>", desc := "()V" } : Jvm.MethodName)) ∈ lw_all := lw_g (lw_at lw_m4 234 rfl) rfl
theorem q1015 : (Jvm.Cond.fieldLink "BedBook$Line" (7 : Nat) "BedBook$Line" "lets" "Z") ∈ lw_all := lw_g (lw_at lw_m4 235 rfl) rfl
theorem q1017 : (Jvm.Cond.fieldLink "BedBook$Line" (13 : Nat) "BedBook$Line" "when" "LBedBook$Exp;") ∈ lw_all := lw_g (lw_at lw_m4 237 rfl) rfl
theorem q1019 : (Jvm.Cond.laysFinal "BedBook$Line" "BedBook$Line" "lets" "Z") ∈ lw_all := lw_g (lw_at lw_m4 239 rfl) rfl
theorem q1020 : (Jvm.Cond.soleField "BedBook$Line" "lets") ∈ lw_all := lw_g (lw_at lw_m5 0 rfl) rfl
theorem q1021 : (Jvm.Cond.laysFinal "BedBook$Line" "BedBook$Line" "when" "LBedBook$Exp;") ∈ lw_all := lw_g (lw_at lw_m5 1 rfl) rfl
theorem q1022 : (Jvm.Cond.soleField "BedBook$Line" "when") ∈ lw_all := lw_g (lw_at lw_m5 2 rfl) rfl
theorem q1023 : (Jvm.Cond.superclass "BedBook$Line" "java/lang/Object") ∈ lw_all := lw_g (lw_at lw_m5 3 rfl) rfl
theorem q1697 : (Jvm.Cond.castable "BedBook$Line" "java/lang/Object") ∈ lw_tbl := lw_at lw_m7 197 rfl
theorem in_X17 : ∀ w ∈ wsX170, w ∈ lw_all := lw_in wsX170 [1019, 1021] (by decide +kernel) (by decide +kernel)

theorem q1707 : (Jvm.Cond.castable "[Z" "java/lang/Object") ∈ lw_tbl := lw_at lw_m7 207 rfl
set_option maxRecDepth 100000

theorem q118 : (Jvm.Cond.arrayOver (Jvm.ClassFile.FieldType.object "java/lang/Object")) ∈ lw_tbl := lw_at lw_m1 58 rfl
set_option maxRecDepth 100000
theorem q161 : (Jvm.Cond.arrayClass Jvm.ClassFile.FieldType.int) ∈ lw_all := lw_g (lw_at lw_m1 101 rfl) rfl
theorem q162 : (Jvm.Cond.arrayClass Jvm.ClassFile.FieldType.byte) ∈ lw_all := lw_g (lw_at lw_m1 102 rfl) rfl
theorem q1408 : (Jvm.Cond.arrayClass Jvm.ClassFile.FieldType.long) ∈ lw_all := lw_g (lw_at lw_m6 148 rfl) rfl
theorem q1409 : (Jvm.Cond.arrayClass Jvm.ClassFile.FieldType.boolean) ∈ lw_all := lw_g (lw_at lw_m6 149 rfl) rfl

theorem q73 : (Jvm.Cond.initialized "java/lang/System") ∈ lw_all := lw_g (lw_at lw_m1 13 rfl) rfl
set_option maxRecDepth 100000
theorem q418 : (Jvm.Cond.static ({ cls := "java/lang/System", name := "arraycopy", desc := "(Ljava/lang/Object;ILjava/lang/Object;II)V" } : Jvm.MethodName)) ∈ lw_all := lw_g (lw_at lw_m2 118 rfl) rfl
theorem q419 : (Jvm.Cond.native ({ cls := "java/lang/System", name := "arraycopy", desc := "(Ljava/lang/Object;ILjava/lang/Object;II)V" } : Jvm.MethodName)) ∈ lw_all := lw_g (lw_at lw_m2 119 rfl) rfl

theorem q1700 : (Jvm.Cond.sameMethod "[Ljava/lang/Object;" "java/lang/Object" "getClass" "()Ljava/lang/Class;") ∈ lw_all := lw_g (lw_at lw_m7 200 rfl) rfl
set_option maxRecDepth 100000
theorem q1701 : (Jvm.Cond.selects "[Ljava/lang/Object;" ({ cls := "java/lang/Object", name := "getClass", desc := "()Ljava/lang/Class;" } : Jvm.MethodName) ({ cls := "java/lang/Object", name := "getClass", desc := "()Ljava/lang/Class;" } : Jvm.MethodName)) ∈ lw_all := lw_g (lw_at lw_m7 201 rfl) rfl
theorem q1703 : (Jvm.Cond.castable "[Ljava/lang/Object;" "java/lang/Object") ∈ lw_tbl := lw_at lw_m7 203 rfl

theorem q969 : (Jvm.Cond.sameMethod "[B" "java/lang/Object" "clone" "()Ljava/lang/Object;") ∈ lw_all := lw_g (lw_at lw_m4 189 rfl) rfl
set_option maxRecDepth 100000
theorem q972 : (Jvm.Cond.selects "[B" ({ cls := "[B", name := "clone", desc := "()Ljava/lang/Object;" } : Jvm.MethodName) ({ cls := "java/lang/Object", name := "clone", desc := "()Ljava/lang/Object;" } : Jvm.MethodName)) ∈ lw_all := lw_g (lw_at lw_m4 192 rfl) rfl
theorem q973 : (Jvm.Cond.castable "[B" "java/lang/Cloneable") ∈ lw_tbl := lw_at lw_m4 193 rfl
theorem q1705 : (Jvm.Cond.castable "[B" "java/lang/Object") ∈ lw_tbl := lw_at lw_m7 205 rfl

theorem q1704 : (Jvm.Cond.castable "[I" "java/lang/Object") ∈ lw_tbl := lw_at lw_m7 204 rfl
set_option maxRecDepth 100000

theorem q1706 : (Jvm.Cond.castable "[J" "java/lang/Object") ∈ lw_tbl := lw_at lw_m7 206 rfl
set_option maxRecDepth 100000

