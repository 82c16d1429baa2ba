/-! words of the tables, by their places -/
set_option maxRecDepth 100000 in
theorem q377 : (Jvm.Cond.initialized "PascalHouse") ∈ lw_all := lw_g (lw_at lw_m1 1 rfl) rfl
set_option maxRecDepth 100000 in
theorem q378 : (Jvm.Cond.initialized "PascalHouse$Faults") ∈ lw_all := lw_g (lw_at lw_m1 2 rfl) rfl
set_option maxRecDepth 100000 in
theorem q379 : (Jvm.Cond.initialized "PascalHouse$Code") ∈ lw_all := lw_g (lw_at lw_m1 3 rfl) rfl
set_option maxRecDepth 100000 in
theorem q382 : (Jvm.Cond.initialized "java/util/ArrayList") ∈ lw_all := lw_g (lw_at lw_m1 6 rfl) rfl
set_option maxRecDepth 100000 in
theorem q383 : (Jvm.Cond.initialized "PascalHouse$Parser") ∈ lw_all := lw_g (lw_at lw_m1 7 rfl) rfl
set_option maxRecDepth 100000 in
theorem q384 : (Jvm.Cond.initialized "PascalHouse$Scanner") ∈ lw_all := lw_g (lw_at lw_m1 8 rfl) rfl
set_option maxRecDepth 100000 in
theorem q386 : (Jvm.Cond.initialized "java/lang/StringBuilder") ∈ lw_all := lw_g (lw_at lw_m1 10 rfl) rfl
set_option maxRecDepth 100000 in
theorem q387 : (Jvm.Cond.initialized "java/lang/String") ∈ lw_all := lw_g (lw_at lw_m1 11 rfl) rfl
set_option maxRecDepth 100000 in
theorem q388 : (Jvm.Cond.initialized "java/lang/StringUTF16") ∈ lw_all := lw_g (lw_at lw_m1 12 rfl) rfl
set_option maxRecDepth 100000 in
theorem q389 : (Jvm.Cond.initialized "PascalHouse$Compiler") ∈ lw_all := lw_g (lw_at lw_m1 13 rfl) rfl
set_option maxRecDepth 100000 in
theorem q390 : (Jvm.Cond.initialized "PascalHouse$Type") ∈ lw_all := lw_g (lw_at lw_m1 14 rfl) rfl
set_option maxRecDepth 100000 in
theorem q391 : (Jvm.Cond.initialized "PascalHouse$Scope") ∈ lw_all := lw_g (lw_at lw_m1 15 rfl) rfl
set_option maxRecDepth 100000 in
theorem q392 : (Jvm.Cond.initialized "java/lang/StringLatin1") ∈ lw_all := lw_g (lw_at lw_m1 16 rfl) rfl
set_option maxRecDepth 100000 in
theorem q393 : (Jvm.Cond.initialized "jdk/internal/util/Preconditions") ∈ lw_all := lw_g (lw_at lw_m1 17 rfl) rfl
set_option maxRecDepth 100000 in
theorem q394 : (Jvm.Cond.initialized "jdk/internal/util/ArraysSupport") ∈ lw_all := lw_g (lw_at lw_m1 18 rfl) rfl
set_option maxRecDepth 100000 in
theorem q395 : (Jvm.Cond.initialized "java/lang/Math") ∈ lw_all := lw_g (lw_at lw_m1 19 rfl) rfl
set_option maxRecDepth 100000 in
theorem q396 : (Jvm.Cond.initialized "java/util/Arrays") ∈ lw_all := lw_g (lw_at lw_m1 20 rfl) rfl
set_option maxRecDepth 100000 in
theorem q397 : (Jvm.Cond.initialized "java/lang/System") ∈ lw_all := lw_g (lw_at lw_m1 21 rfl) rfl
set_option maxRecDepth 100000 in
theorem q398 : (Jvm.Cond.initialized "PascalHouse$Item") ∈ lw_all := lw_g (lw_at lw_m1 22 rfl) rfl
set_option maxRecDepth 100000 in
theorem q399 : (Jvm.Cond.initialized "PascalHouse$Machine") ∈ lw_all := lw_g (lw_at lw_m1 23 rfl) rfl
set_option maxRecDepth 100000 in
theorem q400 : (Jvm.Cond.initialized "PascalHouse$Memory") ∈ lw_all := lw_g (lw_at lw_m1 24 rfl) rfl
set_option maxRecDepth 100000 in
theorem q401 : (Jvm.Cond.initialized "PascalHouse$FileRows") ∈ lw_all := lw_g (lw_at lw_m1 25 rfl) rfl
set_option maxRecDepth 100000 in
theorem q402 : (Jvm.Cond.initialized "PascalHouseModel") ∈ lw_all := lw_g (lw_at lw_m1 26 rfl) rfl
set_option maxRecDepth 100000 in
theorem q403 : (Jvm.Cond.initialized "PascalHouseModel$Type") ∈ lw_all := lw_g (lw_at lw_m1 27 rfl) rfl
set_option maxRecDepth 100000 in
theorem q407 : (Jvm.Cond.initialized "java/lang/IllegalStateException") ∈ lw_all := lw_g (lw_at lw_m1 31 rfl) rfl
set_option maxRecDepth 100000 in
theorem q408 : (Jvm.Cond.initialized "PascalHouse$Symbol") ∈ lw_all := lw_g (lw_at lw_m1 32 rfl) rfl
set_option maxRecDepth 100000 in
theorem q411 : (Jvm.Cond.initialized "PascalHouse$Tree") ∈ lw_all := lw_g (lw_at lw_m1 35 rfl) rfl
set_option maxRecDepth 100000 in
theorem q412 : (Jvm.Cond.initialized "PascalHouse$Routine") ∈ lw_all := lw_g (lw_at lw_m1 36 rfl) rfl
set_option maxRecDepth 100000 in
theorem q413 : (Jvm.Cond.initialized "java/util/Objects") ∈ lw_all := lw_g (lw_at lw_m1 37 rfl) rfl
set_option maxRecDepth 100000 in
theorem q414 : (Jvm.Cond.initialized "PascalHouse$Block") ∈ lw_all := lw_g (lw_at lw_m1 38 rfl) rfl
set_option maxRecDepth 100000 in
theorem q415 : (Jvm.Cond.initialized "PascalHouse$Label") ∈ lw_all := lw_g (lw_at lw_m1 39 rfl) rfl
set_option maxRecDepth 100000 in
theorem q416 : (Jvm.Cond.initialized "PascalHouse$Part") ∈ lw_all := lw_g (lw_at lw_m1 40 rfl) rfl
set_option maxRecDepth 100000 in
theorem q417 : (Jvm.Cond.initialized "PascalHouse$Field") ∈ lw_all := lw_g (lw_at lw_m1 41 rfl) rfl
set_option maxRecDepth 100000 in
theorem q418 : (Jvm.Cond.initialized "PascalHouse$Parameter") ∈ lw_all := lw_g (lw_at lw_m1 42 rfl) rfl
set_option maxRecDepth 100000 in
theorem q419 : (Jvm.Cond.initialized "PascalHouse$Leap") ∈ lw_all := lw_g (lw_at lw_m1 43 rfl) rfl
set_option maxRecDepth 100000 in
theorem q420 : (Jvm.Cond.initialized "PascalHouseModel$Symbol") ∈ lw_all := lw_g (lw_at lw_m1 44 rfl) rfl
set_option maxRecDepth 100000 in
theorem q421 : (Jvm.Cond.initialized "PascalHouseModel$Scope") ∈ lw_all := lw_g (lw_at lw_m1 45 rfl) rfl
set_option maxRecDepth 100000 in
theorem q422 : (Jvm.Cond.initialized "PascalHouseModel$Label") ∈ lw_all := lw_g (lw_at lw_m1 46 rfl) rfl
set_option maxRecDepth 100000 in
theorem q423 : (Jvm.Cond.initialized "PascalHouseModel$Variants") ∈ lw_all := lw_g (lw_at lw_m1 47 rfl) rfl
set_option maxRecDepth 100000 in
theorem q424 : (Jvm.Cond.initialized "PascalHouseModel$Jump") ∈ lw_all := lw_g (lw_at lw_m1 48 rfl) rfl
set_option maxRecDepth 100000 in
theorem q425 : (Jvm.Cond.initialized "java/lang/StrictMath") ∈ lw_all := lw_g (lw_at lw_m1 49 rfl) rfl
set_option maxRecDepth 100000 in
theorem q426 : (Jvm.Cond.initialized "java/lang/FdLibm$Sqrt") ∈ lw_all := lw_g (lw_at lw_m1 50 rfl) rfl
set_option maxRecDepth 100000 in
theorem q427 : (Jvm.Cond.initialized "java/lang/FdLibm") ∈ lw_all := lw_g (lw_at lw_m1 51 rfl) rfl
set_option maxRecDepth 100000 in
theorem q429 : (Jvm.Cond.initialized "java/lang/Double") ∈ lw_all := lw_g (lw_at lw_m1 53 rfl) rfl
set_option maxRecDepth 100000 in
theorem q430 : (Jvm.Cond.initialized "java/lang/Integer") ∈ lw_all := lw_g (lw_at lw_m1 54 rfl) rfl
set_option maxRecDepth 100000 in
theorem q431 : (Jvm.Cond.initialized "java/lang/Long") ∈ lw_all := lw_g (lw_at lw_m1 55 rfl) rfl
set_option maxRecDepth 100000 in
theorem q432 : (Jvm.Cond.classLink "PascalHouseLaw" (7 : Nat) "PascalHouse") ∈ lw_all := lw_g (lw_at lw_m1 56 rfl) rfl
set_option maxRecDepth 100000 in
theorem q433 : (Jvm.Cond.instantiable "PascalHouse" (21 : Nat)) ∈ lw_all := lw_g (lw_at lw_m1 57 rfl) rfl
set_option maxRecDepth 100000 in
theorem q434 : (Jvm.Cond.methodLink "PascalHouseLaw" (9 : Nat) ({ cls := "PascalHouse", name := "<init>", desc := "()V" } : Jvm.MethodName)) ∈ lw_all := lw_g (lw_at lw_m1 58 rfl) rfl
set_option maxRecDepth 100000 in
theorem q435 : (Jvm.Cond.instanceMethod ({ cls := "PascalHouse", name := "<init>", desc := "()V" } : Jvm.MethodName)) ∈ lw_all := lw_g (lw_at lw_m1 59 rfl) rfl
set_option maxRecDepth 100000 in
theorem q436 : (Jvm.Cond.code ({ cls := "PascalHouse", name := "<init>", desc := "()V" } : Jvm.MethodName) prog_1_method_7_code (1 : Nat) (Option.none : Option Jvm.ClassFile.FieldType)) ∈ lw_all := lw_g (lw_at lw_m1 60 rfl) rfl
set_option maxRecDepth 100000 in
theorem q437 : (Jvm.Cond.methodLink "PascalHouse" (13 : Nat) ({ cls := "java/lang/Object", name := "<init>", desc := "()V" } : Jvm.MethodName)) ∈ lw_all := lw_g (lw_at lw_m1 61 rfl) rfl
set_option maxRecDepth 100000 in
theorem q438 : (Jvm.Cond.instanceMethod ({ cls := "java/lang/Object", name := "<init>", desc := "()V" } : Jvm.MethodName)) ∈ lw_all := lw_g (lw_at lw_m1 62 rfl) rfl
set_option maxRecDepth 100000 in
theorem q439 : (Jvm.Cond.code ({ cls := "java/lang/Object", name := "<init>", desc := "()V" } : Jvm.MethodName) object_method_1_code (1 : Nat) (Option.none : Option Jvm.ClassFile.FieldType)) ∈ lw_all := lw_g (lw_at lw_m1 63 rfl) rfl
set_option maxRecDepth 100000 in
theorem q440 : (Jvm.Cond.classLink "PascalHouse" (19 : Nat) "java/lang/String") ∈ lw_all := lw_g (lw_at lw_m1 64 rfl) rfl
set_option maxRecDepth 100000 in
theorem q477 : (Jvm.Cond.classLink "PascalHouse" (109 : Nat) "PascalHouse$Faults") ∈ lw_all := lw_g (lw_at lw_m1 101 rfl) rfl
set_option maxRecDepth 100000 in
theorem q478 : (Jvm.Cond.instantiable "PascalHouse$Faults" (2 : Nat)) ∈ lw_all := lw_g (lw_at lw_m1 102 rfl) rfl
set_option maxRecDepth 100000 in
theorem q479 : (Jvm.Cond.methodLinkNest "PascalHouse" (111 : Nat) ({ cls := "PascalHouse$Faults", name := "<init>", desc := "()V" } : Jvm.MethodName) "PascalHouse") ∈ lw_tbl := lw_at lw_m1 103 rfl
set_option maxRecDepth 100000 in
theorem q480 : (Jvm.Cond.instanceMethod ({ cls := "PascalHouse$Faults", name := "<init>", desc := "()V" } : Jvm.MethodName)) ∈ lw_all := lw_g (lw_at lw_m1 104 rfl) rfl
set_option maxRecDepth 100000 in
theorem q481 : (Jvm.Cond.code ({ cls := "PascalHouse$Faults", name := "<init>", desc := "()V" } : Jvm.MethodName) prog_5_method_1_code (1 : Nat) (Option.none : Option Jvm.ClassFile.FieldType)) ∈ lw_all := lw_g (lw_at lw_m1 105 rfl) rfl
set_option maxRecDepth 100000 in
theorem q482 : (Jvm.Cond.methodLink "PascalHouse$Faults" (1 : Nat) ({ cls := "java/lang/Object", name := "<init>", desc := "()V" } : Jvm.MethodName)) ∈ lw_all := lw_g (lw_at lw_m1 106 rfl) rfl
set_option maxRecDepth 100000 in
theorem q483 : (Jvm.Cond.fieldLink "PascalHouse$Faults" (7 : Nat) "PascalHouse$Faults" "number" "I") ∈ lw_all := lw_g (lw_at lw_m1 107 rfl) rfl
set_option maxRecDepth 100000 in
theorem q484 : (Jvm.Cond.fieldLinkNest "PascalHouse" (192 : Nat) "PascalHouse$Faults" "number" "I" "PascalHouse") ∈ lw_tbl := lw_at lw_m1 108 rfl
set_option maxRecDepth 100000 in
theorem q485 : (Jvm.Cond.fieldLink "PascalHouse$Faults" (13 : Nat) "PascalHouse$Faults" "place" "I") ∈ lw_all := lw_g (lw_at lw_m1 109 rfl) rfl
set_option maxRecDepth 100000 in
theorem q486 : (Jvm.Cond.fieldLinkNest "PascalHouse" (171 : Nat) "PascalHouse$Faults" "place" "I" "PascalHouse") ∈ lw_tbl := lw_at lw_m1 110 rfl
set_option maxRecDepth 100000 in
theorem q492 : (Jvm.Cond.arrayClass Jvm.ClassFile.FieldType.byte) ∈ lw_all := lw_g (lw_at lw_m1 116 rfl) rfl
set_option maxRecDepth 100000 in
theorem q493 : (Jvm.Cond.arrayClass Jvm.ClassFile.FieldType.int) ∈ lw_all := lw_g (lw_at lw_m1 117 rfl) rfl
set_option maxRecDepth 100000 in
theorem q494 : (Jvm.Cond.classLink "PascalHouse" (116 : Nat) "PascalHouse$Code") ∈ lw_all := lw_g (lw_at lw_m1 118 rfl) rfl
set_option maxRecDepth 100000 in
theorem q495 : (Jvm.Cond.instantiable "PascalHouse$Code" (17 : Nat)) ∈ lw_all := lw_g (lw_at lw_m1 119 rfl) rfl
set_option maxRecDepth 100000 in
theorem q496 : (Jvm.Cond.methodLinkNest "PascalHouse" (118 : Nat) ({ cls := "PascalHouse$Code", name := "<init>", desc := "()V" } : Jvm.MethodName) "PascalHouse") ∈ lw_tbl := lw_at lw_m1 120 rfl
set_option maxRecDepth 100000 in
theorem q497 : (Jvm.Cond.instanceMethod ({ cls := "PascalHouse$Code", name := "<init>", desc := "()V" } : Jvm.MethodName)) ∈ lw_all := lw_g (lw_at lw_m1 121 rfl) rfl
set_option maxRecDepth 100000 in
theorem q498 : (Jvm.Cond.code ({ cls := "PascalHouse$Code", name := "<init>", desc := "()V" } : Jvm.MethodName) prog_3_method_1_code (1 : Nat) (Option.none : Option Jvm.ClassFile.FieldType)) ∈ lw_all := lw_g (lw_at lw_m1 122 rfl) rfl
set_option maxRecDepth 100000 in
theorem q499 : (Jvm.Cond.methodLink "PascalHouse$Code" (3 : Nat) ({ cls := "java/lang/Object", name := "<init>", desc := "()V" } : Jvm.MethodName)) ∈ lw_all := lw_g (lw_at lw_m1 123 rfl) rfl
set_option maxRecDepth 100000 in
theorem q500 : (Jvm.Cond.classLink "PascalHouse$Code" (35 : Nat) "java/util/ArrayList") ∈ lw_all := lw_g (lw_at lw_m1 124 rfl) rfl
set_option maxRecDepth 100000 in
theorem q501 : (Jvm.Cond.instantiable "java/util/ArrayList" (3 : Nat)) ∈ lw_all := lw_g (lw_at lw_m1 125 rfl) rfl
set_option maxRecDepth 100000 in
theorem q502 : (Jvm.Cond.methodLink "PascalHouse$Code" (37 : Nat) ({ cls := "java/util/ArrayList", name := "<init>", desc := "(I)V" } : Jvm.MethodName)) ∈ lw_all := lw_g (lw_at lw_m1 126 rfl) rfl
set_option maxRecDepth 100000 in
theorem q503 : (Jvm.Cond.instanceMethod ({ cls := "java/util/ArrayList", name := "<init>", desc := "(I)V" } : Jvm.MethodName)) ∈ lw_all := lw_g (lw_at lw_m1 127 rfl) rfl
set_option maxRecDepth 100000 in
theorem q504 : (Jvm.Cond.code ({ cls := "java/util/ArrayList", name := "<init>", desc := "(I)V" } : Jvm.MethodName) prog_60_method_1_code (2 : Nat) (Option.none : Option Jvm.ClassFile.FieldType)) ∈ lw_all := lw_g (lw_at lw_m1 128 rfl) rfl
set_option maxRecDepth 100000 in
theorem q505 : (Jvm.Cond.methodLink "java/util/ArrayList" (1 : Nat) ({ cls := "java/util/AbstractList", name := "<init>", desc := "()V" } : Jvm.MethodName)) ∈ lw_all := lw_g (lw_at lw_m1 129 rfl) rfl
set_option maxRecDepth 100000 in
theorem q506 : (Jvm.Cond.instanceMethod ({ cls := "java/util/AbstractList", name := "<init>", desc := "()V" } : Jvm.MethodName)) ∈ lw_all := lw_g (lw_at lw_m1 130 rfl) rfl
set_option maxRecDepth 100000 in
theorem q507 : (Jvm.Cond.code ({ cls := "java/util/AbstractList", name := "<init>", desc := "()V" } : Jvm.MethodName) prog_59_method_1_code (1 : Nat) (Option.none : Option Jvm.ClassFile.FieldType)) ∈ lw_all := lw_g (lw_at lw_m1 131 rfl) rfl
set_option maxRecDepth 100000 in
theorem q508 : (Jvm.Cond.methodLink "java/util/AbstractList" (1 : Nat) ({ cls := "java/util/AbstractCollection", name := "<init>", desc := "()V" } : Jvm.MethodName)) ∈ lw_all := lw_g (lw_at lw_m1 132 rfl) rfl
set_option maxRecDepth 100000 in
theorem q509 : (Jvm.Cond.instanceMethod ({ cls := "java/util/AbstractCollection", name := "<init>", desc := "()V" } : Jvm.MethodName)) ∈ lw_all := lw_g (lw_at lw_m1 133 rfl) rfl
set_option maxRecDepth 100000 in
theorem q510 : (Jvm.Cond.code ({ cls := "java/util/AbstractCollection", name := "<init>", desc := "()V" } : Jvm.MethodName) prog_58_method_1_code (1 : Nat) (Option.none : Option Jvm.ClassFile.FieldType)) ∈ lw_all := lw_g (lw_at lw_m1 134 rfl) rfl
set_option maxRecDepth 100000 in
theorem q511 : (Jvm.Cond.methodLink "java/util/AbstractCollection" (1 : Nat) ({ cls := "java/lang/Object", name := "<init>", desc := "()V" } : Jvm.MethodName)) ∈ lw_all := lw_g (lw_at lw_m1 135 rfl) rfl
set_option maxRecDepth 100000 in
theorem q512 : (Jvm.Cond.classLink "java/util/ArrayList" (7 : Nat) "java/lang/Object") ∈ lw_all := lw_g (lw_at lw_m1 136 rfl) rfl
set_option maxRecDepth 100000 in
theorem q514 : (Jvm.Cond.fieldLink "java/util/ArrayList" (15 : Nat) "java/util/ArrayList" "EMPTY_ELEMENTDATA" "[Ljava/lang/Object;") ∈ lw_all := lw_g (lw_at lw_m1 138 rfl) rfl
set_option maxRecDepth 100000 in
theorem q516 : (Jvm.Cond.fieldLink "java/util/ArrayList" (9 : Nat) "java/util/ArrayList" "elementData" "[Ljava/lang/Object;") ∈ lw_all := lw_g (lw_at lw_m1 140 rfl) rfl
set_option maxRecDepth 100000 in
theorem q517 : (Jvm.Cond.fieldLink "java/util/ArrayList" (48 : Nat) "java/util/ArrayList" "size" "I") ∈ lw_all := lw_g (lw_at lw_m1 141 rfl) rfl
set_option maxRecDepth 100000 in
theorem q518 : (Jvm.Cond.fieldLink "java/util/AbstractList" (7 : Nat) "java/util/AbstractList" "modCount" "I") ∈ lw_all := lw_g (lw_at lw_m1 142 rfl) rfl
set_option maxRecDepth 100000 in
theorem q519 : (Jvm.Cond.fieldLink "java/util/ArrayList" (63 : Nat) "java/util/ArrayList" "modCount" "I") ∈ lw_all := lw_g (lw_at lw_m1 143 rfl) rfl
set_option maxRecDepth 100000 in
theorem q520 : (Jvm.Cond.sameField "java/util/ArrayList" "java/util/AbstractList" "modCount" "I") ∈ lw_all := lw_g (lw_at lw_m1 144 rfl) rfl
set_option maxRecDepth 100000 in
theorem q528 : (Jvm.Cond.arrayClass Jvm.ClassFile.FieldType.double) ∈ lw_all := lw_g (lw_at lw_m1 152 rfl) rfl
set_option maxRecDepth 100000 in
theorem q529 : (Jvm.Cond.fieldLink "PascalHouse$Code" (9 : Nat) "PascalHouse$Code" "op" "[I") ∈ lw_all := lw_g (lw_at lw_m1 153 rfl) rfl
set_option maxRecDepth 100000 in
theorem q530 : (Jvm.Cond.fieldLinkNest "PascalHouse$Machine" (183 : Nat) "PascalHouse$Code" "op" "[I" "PascalHouse") ∈ lw_tbl := lw_at lw_m1 154 rfl
set_option maxRecDepth 100000 in
theorem q531 : (Jvm.Cond.fieldLink "PascalHouse$Code" (15 : Nat) "PascalHouse$Code" "x" "[I") ∈ lw_all := lw_g (lw_at lw_m1 155 rfl) rfl
set_option maxRecDepth 100000 in
theorem q532 : (Jvm.Cond.fieldLinkNest "PascalHouse$Machine" (201 : Nat) "PascalHouse$Code" "x" "[I" "PascalHouse") ∈ lw_tbl := lw_at lw_m1 156 rfl
set_option maxRecDepth 100000 in
theorem q533 : (Jvm.Cond.fieldLink "PascalHouse$Code" (18 : Nat) "PascalHouse$Code" "y" "[I") ∈ lw_all := lw_g (lw_at lw_m1 157 rfl) rfl
set_option maxRecDepth 100000 in
theorem q534 : (Jvm.Cond.fieldLinkNest "PascalHouse$Machine" (204 : Nat) "PascalHouse$Code" "y" "[I" "PascalHouse") ∈ lw_tbl := lw_at lw_m1 158 rfl
set_option maxRecDepth 100000 in
theorem q535 : (Jvm.Cond.fieldLinkNest "PascalHouse$Compiler" (685 : Nat) "PascalHouse$Code" "y" "[I" "PascalHouse") ∈ lw_tbl := lw_at lw_m1 159 rfl
set_option maxRecDepth 100000 in
theorem q536 : (Jvm.Cond.fieldLink "PascalHouse$Code" (21 : Nat) "PascalHouse$Code" "z" "[I") ∈ lw_all := lw_g (lw_at lw_m1 160 rfl) rfl
set_option maxRecDepth 100000 in
theorem q537 : (Jvm.Cond.fieldLinkNest "PascalHouse$Machine" (224 : Nat) "PascalHouse$Code" "z" "[I" "PascalHouse") ∈ lw_tbl := lw_at lw_m1 161 rfl
set_option maxRecDepth 100000 in
theorem q538 : (Jvm.Cond.fieldLink "PascalHouse$Code" (24 : Nat) "PascalHouse$Code" "place" "[I") ∈ lw_all := lw_g (lw_at lw_m1 162 rfl) rfl
set_option maxRecDepth 100000 in
theorem q539 : (Jvm.Cond.fieldLinkNest "PascalHouse$Machine" (222 : Nat) "PascalHouse$Code" "place" "[I" "PascalHouse") ∈ lw_tbl := lw_at lw_m1 163 rfl
set_option maxRecDepth 100000 in
theorem q540 : (Jvm.Cond.fieldLink "PascalHouse$Code" (56 : Nat) "PascalHouse$Code" "size" "I") ∈ lw_all := lw_g (lw_at lw_m1 164 rfl) rfl
set_option maxRecDepth 100000 in
theorem q541 : (Jvm.Cond.fieldLinkNest "PascalHouse$Compiler" (501 : Nat) "PascalHouse$Code" "size" "I" "PascalHouse") ∈ lw_tbl := lw_at lw_m1 165 rfl
set_option maxRecDepth 100000 in
theorem q542 : (Jvm.Cond.fieldLink "PascalHouse$Code" (27 : Nat) "PascalHouse$Code" "reals" "[D") ∈ lw_all := lw_g (lw_at lw_m1 166 rfl) rfl
set_option maxRecDepth 100000 in
theorem q543 : (Jvm.Cond.fieldLinkNest "PascalHouse$Machine" (211 : Nat) "PascalHouse$Code" "reals" "[D" "PascalHouse") ∈ lw_tbl := lw_at lw_m1 167 rfl
set_option maxRecDepth 100000 in
theorem q544 : (Jvm.Cond.fieldLink "PascalHouse$Code" (60 : Nat) "PascalHouse$Code" "realCount" "I") ∈ lw_all := lw_g (lw_at lw_m1 168 rfl) rfl
set_option maxRecDepth 100000 in
theorem q545 : (Jvm.Cond.fieldLink "PascalHouse$Code" (31 : Nat) "PascalHouse$Code" "literals" "[B") ∈ lw_all := lw_g (lw_at lw_m1 169 rfl) rfl
set_option maxRecDepth 100000 in
theorem q546 : (Jvm.Cond.fieldLinkNest "PascalHouse$Machine" (137 : Nat) "PascalHouse$Code" "literals" "[B" "PascalHouse") ∈ lw_tbl := lw_at lw_m1 170 rfl
set_option maxRecDepth 100000 in
theorem q547 : (Jvm.Cond.fieldLink "PascalHouse$Code" (63 : Nat) "PascalHouse$Code" "literalSize" "I") ∈ lw_all := lw_g (lw_at lw_m1 171 rfl) rfl
set_option maxRecDepth 100000 in
theorem q548 : (Jvm.Cond.fieldLinkNest "PascalHouse$Machine" (132 : Nat) "PascalHouse$Code" "literalSize" "I" "PascalHouse") ∈ lw_tbl := lw_at lw_m1 172 rfl
set_option maxRecDepth 100000 in
theorem q549 : (Jvm.Cond.fieldLink "PascalHouse$Code" (40 : Nat) "PascalHouse$Code" "routines" "Ljava/util/ArrayList;") ∈ lw_all := lw_g (lw_at lw_m1 173 rfl) rfl
set_option maxRecDepth 100000 in
theorem q550 : (Jvm.Cond.fieldLinkNest "PascalHouse" (311 : Nat) "PascalHouse$Code" "routines" "Ljava/util/ArrayList;" "PascalHouse") ∈ lw_tbl := lw_at lw_m1 174 rfl
set_option maxRecDepth 100000 in
theorem q551 : (Jvm.Cond.fieldLinkNest "PascalHouse$Machine" (346 : Nat) "PascalHouse$Code" "routines" "Ljava/util/ArrayList;" "PascalHouse") ∈ lw_tbl := lw_at lw_m1 175 rfl
set_option maxRecDepth 100000 in
theorem q552 : (Jvm.Cond.fieldLinkNest "PascalHouse$Compiler" (528 : Nat) "PascalHouse$Code" "routines" "Ljava/util/ArrayList;" "PascalHouse") ∈ lw_tbl := lw_at lw_m1 176 rfl
set_option maxRecDepth 100000 in
theorem q553 : (Jvm.Cond.fieldLink "PascalHouse$Code" (44 : Nat) "PascalHouse$Code" "parts" "Ljava/util/ArrayList;") ∈ lw_all := lw_g (lw_at lw_m1 177 rfl) rfl
set_option maxRecDepth 100000 in
theorem q554 : (Jvm.Cond.fieldLinkNest "PascalHouse$Machine" (231 : Nat) "PascalHouse$Code" "parts" "Ljava/util/ArrayList;" "PascalHouse") ∈ lw_tbl := lw_at lw_m1 178 rfl
set_option maxRecDepth 100000 in
theorem q555 : (Jvm.Cond.fieldLinkNest "PascalHouse$Compiler" (390 : Nat) "PascalHouse$Code" "parts" "Ljava/util/ArrayList;" "PascalHouse") ∈ lw_tbl := lw_at lw_m1 179 rfl
set_option maxRecDepth 100000 in
theorem q556 : (Jvm.Cond.fieldLink "PascalHouse$Code" (47 : Nat) "PascalHouse$Code" "values" "[I") ∈ lw_all := lw_g (lw_at lw_m1 180 rfl) rfl
set_option maxRecDepth 100000 in
theorem q557 : (Jvm.Cond.fieldLinkNest "PascalHouse$Machine" (362 : Nat) "PascalHouse$Code" "values" "[I" "PascalHouse") ∈ lw_tbl := lw_at lw_m1 181 rfl
set_option maxRecDepth 100000 in
theorem q558 : (Jvm.Cond.fieldLink "PascalHouse$Code" (50 : Nat) "PascalHouse$Code" "targets" "[I") ∈ lw_all := lw_g (lw_at lw_m1 182 rfl) rfl
set_option maxRecDepth 100000 in
theorem q559 : (Jvm.Cond.fieldLinkNest "PascalHouse$Machine" (365 : Nat) "PascalHouse$Code" "targets" "[I" "PascalHouse") ∈ lw_tbl := lw_at lw_m1 183 rfl
set_option maxRecDepth 100000 in
theorem q560 : (Jvm.Cond.fieldLink "PascalHouse$Code" (66 : Nat) "PascalHouse$Code" "cases" "I") ∈ lw_all := lw_g (lw_at lw_m1 184 rfl) rfl
set_option maxRecDepth 100000 in
theorem q561 : (Jvm.Cond.fieldLinkNest "PascalHouse$Compiler" (663 : Nat) "PascalHouse$Code" "cases" "I" "PascalHouse") ∈ lw_tbl := lw_at lw_m1 185 rfl
set_option maxRecDepth 100000 in
theorem q562 : (Jvm.Cond.fieldLink "PascalHouse$Code" (53 : Nat) "PascalHouse$Code" "marks" "[I") ∈ lw_all := lw_g (lw_at lw_m1 186 rfl) rfl
set_option maxRecDepth 100000 in
theorem q563 : (Jvm.Cond.fieldLinkNest "PascalHouse$Machine" (398 : Nat) "PascalHouse$Code" "marks" "[I" "PascalHouse") ∈ lw_tbl := lw_at lw_m1 187 rfl
set_option maxRecDepth 100000 in
theorem q564 : (Jvm.Cond.fieldLinkNest "PascalHouse$Compiler" (616 : Nat) "PascalHouse$Code" "marks" "[I" "PascalHouse") ∈ lw_tbl := lw_at lw_m1 188 rfl
set_option maxRecDepth 100000 in
theorem q565 : (Jvm.Cond.fieldLink "PascalHouse$Code" (69 : Nat) "PascalHouse$Code" "labels" "I") ∈ lw_all := lw_g (lw_at lw_m1 189 rfl) rfl
set_option maxRecDepth 100000 in
theorem q601 : (Jvm.Cond.classLink "PascalHouse" (123 : Nat) "PascalHouse$Parser") ∈ lw_all := lw_g (lw_at lw_m1 225 rfl) rfl
set_option maxRecDepth 100000 in
theorem q602 : (Jvm.Cond.instantiable "PascalHouse$Parser" (5 : Nat)) ∈ lw_all := lw_g (lw_at lw_m1 226 rfl) rfl
set_option maxRecDepth 100000 in
theorem q603 : (Jvm.Cond.classLink "PascalHouse" (125 : Nat) "PascalHouse$Scanner") ∈ lw_all := lw_g (lw_at lw_m1 227 rfl) rfl
set_option maxRecDepth 100000 in
theorem q604 : (Jvm.Cond.instantiable "PascalHouse$Scanner" (6 : Nat)) ∈ lw_all := lw_g (lw_at lw_m1 228 rfl) rfl
set_option maxRecDepth 100000 in
theorem q605 : (Jvm.Cond.methodLink "PascalHouse" (127 : Nat) ({ cls := "PascalHouse$Scanner", name := "<init>", desc := "([B[Ljava/lang/String;LPascalHouse$Faults;)V" } : Jvm.MethodName)) ∈ lw_all := lw_g (lw_at lw_m1 229 rfl) rfl
set_option maxRecDepth 100000 in
theorem q606 : (Jvm.Cond.instanceMethod ({ cls := "PascalHouse$Scanner", name := "<init>", desc := "([B[Ljava/lang/String;LPascalHouse$Faults;)V" } : Jvm.MethodName)) ∈ lw_all := lw_g (lw_at lw_m1 230 rfl) rfl
set_option maxRecDepth 100000 in
theorem q607 : (Jvm.Cond.code ({ cls := "PascalHouse$Scanner", name := "<init>", desc := "([B[Ljava/lang/String;LPascalHouse$Faults;)V" } : Jvm.MethodName) prog_17_method_1_code (4 : Nat) (Option.none : Option Jvm.ClassFile.FieldType)) ∈ lw_all := lw_g (lw_at lw_m1 231 rfl) rfl
set_option maxRecDepth 100000 in
theorem q608 : (Jvm.Cond.methodLink "PascalHouse$Scanner" (3 : Nat) ({ cls := "java/lang/Object", name := "<init>", desc := "()V" } : Jvm.MethodName)) ∈ lw_all := lw_g (lw_at lw_m1 232 rfl) rfl
set_option maxRecDepth 100000 in
theorem q609 : (Jvm.Cond.classLink "PascalHouse$Scanner" (9 : Nat) "java/lang/StringBuilder") ∈ lw_all := lw_g (lw_at lw_m1 233 rfl) rfl
set_option maxRecDepth 100000 in
theorem q610 : (Jvm.Cond.instantiable "java/lang/StringBuilder" (4 : Nat)) ∈ lw_all := lw_g (lw_at lw_m1 234 rfl) rfl
set_option maxRecDepth 100000 in
theorem q611 : (Jvm.Cond.methodLink "PascalHouse$Scanner" (11 : Nat) ({ cls := "java/lang/StringBuilder", name := "<init>", desc := "(I)V" } : Jvm.MethodName)) ∈ lw_all := lw_g (lw_at lw_m1 235 rfl) rfl
set_option maxRecDepth 100000 in
theorem q612 : (Jvm.Cond.instanceMethod ({ cls := "java/lang/StringBuilder", name := "<init>", desc := "(I)V" } : Jvm.MethodName)) ∈ lw_all := lw_g (lw_at lw_m1 236 rfl) rfl
set_option maxRecDepth 100000 in
theorem q613 : (Jvm.Cond.code ({ cls := "java/lang/StringBuilder", name := "<init>", desc := "(I)V" } : Jvm.MethodName) prog_51_method_2_code (2 : Nat) (Option.none : Option Jvm.ClassFile.FieldType)) ∈ lw_all := lw_g (lw_at lw_m1 237 rfl) rfl
set_option maxRecDepth 100000 in
theorem q614 : (Jvm.Cond.methodLink "java/lang/StringBuilder" (1 : Nat) ({ cls := "java/lang/AbstractStringBuilder", name := "<init>", desc := "(I)V" } : Jvm.MethodName)) ∈ lw_all := lw_g (lw_at lw_m1 238 rfl) rfl
set_option maxRecDepth 100000 in
theorem q615 : (Jvm.Cond.instanceMethod ({ cls := "java/lang/AbstractStringBuilder", name := "<init>", desc := "(I)V" } : Jvm.MethodName)) ∈ lw_all := lw_g (lw_at lw_m1 239 rfl) rfl
set_option maxRecDepth 100000 in
theorem q616 : (Jvm.Cond.code ({ cls := "java/lang/AbstractStringBuilder", name := "<init>", desc := "(I)V" } : Jvm.MethodName) prog_32_method_2_code (2 : Nat) (Option.none : Option Jvm.ClassFile.FieldType)) ∈ lw_all := lw_g (lw_at lw_m2 0 rfl) rfl
set_option maxRecDepth 100000 in
theorem q617 : (Jvm.Cond.methodLink "java/lang/AbstractStringBuilder" (3 : Nat) ({ cls := "java/lang/Object", name := "<init>", desc := "()V" } : Jvm.MethodName)) ∈ lw_all := lw_g (lw_at lw_m2 1 rfl) rfl
set_option maxRecDepth 100000 in
theorem q618 : (Jvm.Cond.fieldLink "java/lang/AbstractStringBuilder" (18 : Nat) "java/lang/String" "COMPACT_STRINGS" "Z") ∈ lw_all := lw_g (lw_at lw_m2 2 rfl) rfl
set_option maxRecDepth 100000 in
theorem q620 : (Jvm.Cond.methodLink "java/lang/AbstractStringBuilder" (26 : Nat) ({ cls := "java/lang/StringUTF16", name := "newBytesFor", desc := "(I)[B" } : Jvm.MethodName)) ∈ lw_all := lw_g (lw_at lw_m2 4 rfl) rfl
set_option maxRecDepth 100000 in
theorem q621 : (Jvm.Cond.static ({ cls := "java/lang/StringUTF16", name := "newBytesFor", desc := "(I)[B" } : Jvm.MethodName)) ∈ lw_all := lw_g (lw_at lw_m2 5 rfl) rfl
set_option maxRecDepth 100000 in
theorem q622 : (Jvm.Cond.code ({ cls := "java/lang/StringUTF16", name := "newBytesFor", desc := "(I)[B" } : Jvm.MethodName) prog_53_method_2_code (1 : Nat) (Option.some (Jvm.ClassFile.FieldType.array Jvm.ClassFile.FieldType.byte))) ∈ lw_all := lw_g (lw_at lw_m2 6 rfl) rfl
set_option maxRecDepth 100000 in
theorem q623 : (Jvm.Cond.methodLink "java/lang/StringUTF16" (11 : Nat) ({ cls := "java/lang/StringUTF16", name := "newBytesLength", desc := "(I)I" } : Jvm.MethodName)) ∈ lw_all := lw_g (lw_at lw_m2 7 rfl) rfl
set_option maxRecDepth 100000 in
theorem q624 : (Jvm.Cond.static ({ cls := "java/lang/StringUTF16", name := "newBytesLength", desc := "(I)I" } : Jvm.MethodName)) ∈ lw_all := lw_g (lw_at lw_m2 8 rfl) rfl
set_option maxRecDepth 100000 in
theorem q625 : (Jvm.Cond.code ({ cls := "java/lang/StringUTF16", name := "newBytesLength", desc := "(I)I" } : Jvm.MethodName) prog_53_method_3_code (1 : Nat) (Option.some Jvm.ClassFile.FieldType.int)) ∈ lw_all := lw_g (lw_at lw_m2 9 rfl) rfl
set_option maxRecDepth 100000 in
theorem q626 : (Jvm.Cond.constant "java/lang/StringUTF16" (20 : Nat) (1073741823 : Int32)) ∈ lw_all := lw_g (lw_at lw_m2 10 rfl) rfl
set_option maxRecDepth 100000 in
theorem q627 : (Jvm.Cond.fieldLink "java/lang/AbstractStringBuilder" (15 : Nat) "java/lang/AbstractStringBuilder" "value" "[B") ∈ lw_all := lw_g (lw_at lw_m2 11 rfl) rfl
set_option maxRecDepth 100000 in
theorem q628 : (Jvm.Cond.fieldLink "java/lang/AbstractStringBuilder" (22 : Nat) "java/lang/AbstractStringBuilder" "coder" "B") ∈ lw_all := lw_g (lw_at lw_m2 12 rfl) rfl
set_option maxRecDepth 100000 in
theorem q629 : (Jvm.Cond.fieldLink "java/lang/AbstractStringBuilder" (73 : Nat) "java/lang/AbstractStringBuilder" "maybeLatin1" "Z") ∈ lw_all := lw_g (lw_at lw_m2 13 rfl) rfl
set_option maxRecDepth 100000 in
theorem q630 : (Jvm.Cond.fieldLink "java/lang/String" (1048 : Nat) "java/lang/AbstractStringBuilder" "maybeLatin1" "Z") ∈ lw_all := lw_g (lw_at lw_m2 14 rfl) rfl
set_option maxRecDepth 100000 in
theorem q631 : (Jvm.Cond.fieldLink "java/lang/AbstractStringBuilder" (79 : Nat) "java/lang/AbstractStringBuilder" "count" "I") ∈ lw_all := lw_g (lw_at lw_m2 15 rfl) rfl
set_option maxRecDepth 100000 in
theorem q640 : (Jvm.Cond.superclass "java/lang/StringBuilder" "java/lang/AbstractStringBuilder") ∈ lw_all := lw_g (lw_at lw_m2 24 rfl) rfl
set_option maxRecDepth 100000 in
theorem q641 : (Jvm.Cond.fieldLink "PascalHouse$Scanner" (20 : Nat) "PascalHouse$Scanner" "text" "[B") ∈ lw_all := lw_g (lw_at lw_m2 25 rfl) rfl
set_option maxRecDepth 100000 in
theorem q642 : (Jvm.Cond.fieldLink "PascalHouse$Scanner" (24 : Nat) "PascalHouse$Scanner" "reserved" "[Ljava/lang/String;") ∈ lw_all := lw_g (lw_at lw_m2 26 rfl) rfl
set_option maxRecDepth 100000 in
theorem q643 : (Jvm.Cond.fieldLink "PascalHouse$Scanner" (28 : Nat) "PascalHouse$Scanner" "faults" "LPascalHouse$Faults;") ∈ lw_all := lw_g (lw_at lw_m2 27 rfl) rfl
set_option maxRecDepth 100000 in
theorem q644 : (Jvm.Cond.fieldLink "PascalHouse$Scanner" (14 : Nat) "PascalHouse$Scanner" "spelt" "Ljava/lang/StringBuilder;") ∈ lw_all := lw_g (lw_at lw_m2 28 rfl) rfl
set_option maxRecDepth 100000 in
theorem q645 : (Jvm.Cond.fieldLink "PascalHouse$Scanner" (32 : Nat) "PascalHouse$Scanner" "size" "I") ∈ lw_all := lw_g (lw_at lw_m2 29 rfl) rfl
set_option maxRecDepth 100000 in
theorem q646 : (Jvm.Cond.fieldLink "PascalHouse$Scanner" (36 : Nat) "PascalHouse$Scanner" "at" "I") ∈ lw_all := lw_g (lw_at lw_m2 30 rfl) rfl
set_option maxRecDepth 100000 in
theorem q660 : (Jvm.Cond.methodLink "PascalHouse" (130 : Nat) ({ cls := "PascalHouse$Parser", name := "<init>", desc := "(LPascalHouse$Scanner;LPascalHouse$Faults;)V" } : Jvm.MethodName)) ∈ lw_all := lw_g (lw_at lw_m2 44 rfl) rfl
set_option maxRecDepth 100000 in
theorem q661 : (Jvm.Cond.instanceMethod ({ cls := "PascalHouse$Parser", name := "<init>", desc := "(LPascalHouse$Scanner;LPascalHouse$Faults;)V" } : Jvm.MethodName)) ∈ lw_all := lw_g (lw_at lw_m2 45 rfl) rfl
set_option maxRecDepth 100000 in
theorem q662 : (Jvm.Cond.code ({ cls := "PascalHouse$Parser", name := "<init>", desc := "(LPascalHouse$Scanner;LPascalHouse$Faults;)V" } : Jvm.MethodName) prog_14_method_1_code (3 : Nat) (Option.none : Option Jvm.ClassFile.FieldType)) ∈ lw_all := lw_g (lw_at lw_m2 46 rfl) rfl
set_option maxRecDepth 100000 in
theorem q663 : (Jvm.Cond.methodLink "PascalHouse$Parser" (3 : Nat) ({ cls := "java/lang/Object", name := "<init>", desc := "()V" } : Jvm.MethodName)) ∈ lw_all := lw_g (lw_at lw_m2 47 rfl) rfl
set_option maxRecDepth 100000 in
theorem q664 : (Jvm.Cond.fieldLink "PascalHouse$Parser" (9 : Nat) "PascalHouse$Parser" "scanner" "LPascalHouse$Scanner;") ∈ lw_all := lw_g (lw_at lw_m2 48 rfl) rfl
set_option maxRecDepth 100000 in
theorem q665 : (Jvm.Cond.fieldLink "PascalHouse$Parser" (15 : Nat) "PascalHouse$Parser" "faults" "LPascalHouse$Faults;") ∈ lw_all := lw_g (lw_at lw_m2 49 rfl) rfl
set_option maxRecDepth 100000 in
theorem q666 : (Jvm.Cond.fieldLink "PascalHouse$Parser" (25 : Nat) "PascalHouse$Parser" "now" "LPascalHouse$Symbol;") ∈ lw_all := lw_g (lw_at lw_m2 50 rfl) rfl
set_option maxRecDepth 100000 in
theorem q667 : (Jvm.Cond.fieldLink "PascalHouse$Parser" (29 : Nat) "PascalHouse$Parser" "symbols" "I") ∈ lw_all := lw_g (lw_at lw_m2 51 rfl) rfl
set_option maxRecDepth 100000 in
theorem q668 : (Jvm.Cond.fieldLinkNest "PascalHouse" (210 : Nat) "PascalHouse$Parser" "symbols" "I" "PascalHouse") ∈ lw_tbl := lw_at lw_m2 52 rfl
set_option maxRecDepth 100000 in
theorem q669 : (Jvm.Cond.fieldLink "PascalHouse$Parser" (68 : Nat) "PascalHouse$Parser" "depth" "I") ∈ lw_all := lw_g (lw_at lw_m2 53 rfl) rfl
set_option maxRecDepth 100000 in
theorem q681 : (Jvm.Cond.classLink "PascalHouse" (137 : Nat) "PascalHouse$Compiler") ∈ lw_all := lw_g (lw_at lw_m2 65 rfl) rfl
set_option maxRecDepth 100000 in
theorem q682 : (Jvm.Cond.instantiable "PascalHouse$Compiler" (29 : Nat)) ∈ lw_all := lw_g (lw_at lw_m2 66 rfl) rfl
set_option maxRecDepth 100000 in
theorem q683 : (Jvm.Cond.methodLink "PascalHouse" (139 : Nat) ({ cls := "PascalHouse$Compiler", name := "<init>", desc := "(LPascalHouse$Faults;LPascalHouse$Code;)V" } : Jvm.MethodName)) ∈ lw_all := lw_g (lw_at lw_m2 67 rfl) rfl
set_option maxRecDepth 100000 in
theorem q684 : (Jvm.Cond.instanceMethod ({ cls := "PascalHouse$Compiler", name := "<init>", desc := "(LPascalHouse$Faults;LPascalHouse$Code;)V" } : Jvm.MethodName)) ∈ lw_all := lw_g (lw_at lw_m2 68 rfl) rfl
set_option maxRecDepth 100000 in
theorem q685 : (Jvm.Cond.code ({ cls := "PascalHouse$Compiler", name := "<init>", desc := "(LPascalHouse$Faults;LPascalHouse$Code;)V" } : Jvm.MethodName) prog_4_method_1_code (3 : Nat) (Option.none : Option Jvm.ClassFile.FieldType)) ∈ lw_all := lw_g (lw_at lw_m2 69 rfl) rfl
set_option maxRecDepth 100000 in
theorem q686 : (Jvm.Cond.methodLink "PascalHouse$Compiler" (3 : Nat) ({ cls := "java/lang/Object", name := "<init>", desc := "()V" } : Jvm.MethodName)) ∈ lw_all := lw_g (lw_at lw_m2 70 rfl) rfl
set_option maxRecDepth 100000 in
theorem q687 : (Jvm.Cond.classLink "PascalHouse$Compiler" (9 : Nat) "PascalHouse$Type") ∈ lw_all := lw_g (lw_at lw_m2 71 rfl) rfl
set_option maxRecDepth 100000 in
theorem q688 : (Jvm.Cond.instantiable "PascalHouse$Type" (9 : Nat)) ∈ lw_all := lw_g (lw_at lw_m2 72 rfl) rfl
set_option maxRecDepth 100000 in
theorem q689 : (Jvm.Cond.methodLink "PascalHouse$Compiler" (11 : Nat) ({ cls := "PascalHouse$Type", name := "<init>", desc := "(I)V" } : Jvm.MethodName)) ∈ lw_all := lw_g (lw_at lw_m2 73 rfl) rfl
set_option maxRecDepth 100000 in
theorem q690 : (Jvm.Cond.instanceMethod ({ cls := "PascalHouse$Type", name := "<init>", desc := "(I)V" } : Jvm.MethodName)) ∈ lw_all := lw_g (lw_at lw_m2 74 rfl) rfl
set_option maxRecDepth 100000 in
theorem q691 : (Jvm.Cond.code ({ cls := "PascalHouse$Type", name := "<init>", desc := "(I)V" } : Jvm.MethodName) prog_22_method_1_code (2 : Nat) (Option.none : Option Jvm.ClassFile.FieldType)) ∈ lw_all := lw_g (lw_at lw_m2 75 rfl) rfl
set_option maxRecDepth 100000 in
theorem q692 : (Jvm.Cond.methodLink "PascalHouse$Type" (3 : Nat) ({ cls := "java/lang/Object", name := "<init>", desc := "()V" } : Jvm.MethodName)) ∈ lw_all := lw_g (lw_at lw_m2 76 rfl) rfl
set_option maxRecDepth 100000 in
theorem q693 : (Jvm.Cond.classLink "PascalHouse$Type" (15 : Nat) "java/util/ArrayList") ∈ lw_all := lw_g (lw_at lw_m2 77 rfl) rfl
set_option maxRecDepth 100000 in
theorem q694 : (Jvm.Cond.methodLink "PascalHouse$Type" (17 : Nat) ({ cls := "java/util/ArrayList", name := "<init>", desc := "(I)V" } : Jvm.MethodName)) ∈ lw_all := lw_g (lw_at lw_m2 78 rfl) rfl
set_option maxRecDepth 100000 in
theorem q695 : (Jvm.Cond.fieldLink "PascalHouse$Type" (24 : Nat) "PascalHouse$Type" "kind" "I") ∈ lw_all := lw_g (lw_at lw_m2 79 rfl) rfl
set_option maxRecDepth 100000 in
theorem q696 : (Jvm.Cond.fieldLinkNest "PascalHouse$Compiler" (289 : Nat) "PascalHouse$Type" "kind" "I" "PascalHouse") ∈ lw_tbl := lw_at lw_m2 80 rfl
set_option maxRecDepth 100000 in
theorem q697 : (Jvm.Cond.fieldLink "PascalHouse$Type" (37 : Nat) "PascalHouse$Type" "host" "LPascalHouse$Type;") ∈ lw_all := lw_g (lw_at lw_m2 81 rfl) rfl
set_option maxRecDepth 100000 in
theorem q698 : (Jvm.Cond.fieldLinkNest "PascalHouse$Compiler" (321 : Nat) "PascalHouse$Type" "host" "LPascalHouse$Type;" "PascalHouse") ∈ lw_tbl := lw_at lw_m2 82 rfl
set_option maxRecDepth 100000 in
theorem q699 : (Jvm.Cond.fieldLink "PascalHouse$Type" (33 : Nat) "PascalHouse$Type" "base" "LPascalHouse$Type;") ∈ lw_all := lw_g (lw_at lw_m2 83 rfl) rfl
set_option maxRecDepth 100000 in
theorem q700 : (Jvm.Cond.fieldLinkNest "PascalHouse$FileRows" (71 : Nat) "PascalHouse$Type" "base" "LPascalHouse$Type;" "PascalHouse") ∈ lw_tbl := lw_at lw_m2 84 rfl
set_option maxRecDepth 100000 in
theorem q701 : (Jvm.Cond.fieldLinkNest "PascalHouse$Compiler" (286 : Nat) "PascalHouse$Type" "base" "LPascalHouse$Type;" "PascalHouse") ∈ lw_tbl := lw_at lw_m2 85 rfl
set_option maxRecDepth 100000 in
theorem q702 : (Jvm.Cond.fieldLink "PascalHouse$Type" (44 : Nat) "PascalHouse$Type" "index" "LPascalHouse$Type;") ∈ lw_all := lw_g (lw_at lw_m2 86 rfl) rfl
set_option maxRecDepth 100000 in
theorem q703 : (Jvm.Cond.fieldLinkNest "PascalHouse$Compiler" (343 : Nat) "PascalHouse$Type" "index" "LPascalHouse$Type;" "PascalHouse") ∈ lw_tbl := lw_at lw_m2 87 rfl
set_option maxRecDepth 100000 in
theorem q704 : (Jvm.Cond.fieldLink "PascalHouse$Type" (67 : Nat) "PascalHouse$Type" "sets" "LPascalHouse$Type;") ∈ lw_all := lw_g (lw_at lw_m2 88 rfl) rfl
set_option maxRecDepth 100000 in
theorem q705 : (Jvm.Cond.fieldLink "PascalHouse$Type" (27 : Nat) "PascalHouse$Type" "low" "I") ∈ lw_all := lw_g (lw_at lw_m2 89 rfl) rfl
set_option maxRecDepth 100000 in
theorem q706 : (Jvm.Cond.fieldLinkNest "PascalHouse$Compiler" (338 : Nat) "PascalHouse$Type" "low" "I" "PascalHouse") ∈ lw_tbl := lw_at lw_m2 90 rfl
set_option maxRecDepth 100000 in
theorem q707 : (Jvm.Cond.fieldLink "PascalHouse$Type" (30 : Nat) "PascalHouse$Type" "high" "I") ∈ lw_all := lw_g (lw_at lw_m2 91 rfl) rfl
set_option maxRecDepth 100000 in
theorem q708 : (Jvm.Cond.fieldLinkNest "PascalHouse$Compiler" (335 : Nat) "PascalHouse$Type" "high" "I" "PascalHouse") ∈ lw_tbl := lw_at lw_m2 92 rfl
set_option maxRecDepth 100000 in
theorem q709 : (Jvm.Cond.fieldLink "PascalHouse$Type" (9 : Nat) "PascalHouse$Type" "cells" "I") ∈ lw_all := lw_g (lw_at lw_m2 93 rfl) rfl
set_option maxRecDepth 100000 in
theorem q710 : (Jvm.Cond.fieldLinkNest "PascalHouse$Compiler" (66 : Nat) "PascalHouse$Type" "cells" "I" "PascalHouse") ∈ lw_tbl := lw_at lw_m2 94 rfl
set_option maxRecDepth 100000 in
theorem q711 : (Jvm.Cond.fieldLinkNest "PascalHouse$FileRows" (75 : Nat) "PascalHouse$Type" "cells" "I" "PascalHouse") ∈ lw_tbl := lw_at lw_m2 95 rfl
set_option maxRecDepth 100000 in
theorem q712 : (Jvm.Cond.fieldLinkNest "PascalHouse$Machine" (388 : Nat) "PascalHouse$Type" "cells" "I" "PascalHouse") ∈ lw_tbl := lw_at lw_m2 96 rfl
set_option maxRecDepth 100000 in
theorem q713 : (Jvm.Cond.fieldLink "PascalHouse$Type" (20 : Nat) "PascalHouse$Type" "fields" "Ljava/util/ArrayList;") ∈ lw_all := lw_g (lw_at lw_m2 97 rfl) rfl
set_option maxRecDepth 100000 in
theorem q714 : (Jvm.Cond.fieldLinkNest "PascalHouse$Compiler" (367 : Nat) "PascalHouse$Type" "fields" "Ljava/util/ArrayList;" "PascalHouse") ∈ lw_tbl := lw_at lw_m2 98 rfl
set_option maxRecDepth 100000 in
theorem q734 : (Jvm.Cond.constant "PascalHouse$Compiler" (14 : Nat) (-2147483647 : Int32)) ∈ lw_all := lw_g (lw_at lw_m2 118 rfl) rfl
set_option maxRecDepth 100000 in
theorem q735 : (Jvm.Cond.constant "PascalHouse$Compiler" (15 : Nat) (2147483647 : Int32)) ∈ lw_all := lw_g (lw_at lw_m2 119 rfl) rfl
set_option maxRecDepth 100000 in
theorem q736 : (Jvm.Cond.methodLink "PascalHouse$Compiler" (16 : Nat) ({ cls := "PascalHouse$Type", name := "bounded", desc := "(II)LPascalHouse$Type;" } : Jvm.MethodName)) ∈ lw_all := lw_g (lw_at lw_m2 120 rfl) rfl
set_option maxRecDepth 100000 in
theorem q737 : (Jvm.Cond.instanceMethod ({ cls := "PascalHouse$Type", name := "bounded", desc := "(II)LPascalHouse$Type;" } : Jvm.MethodName)) ∈ lw_all := lw_g (lw_at lw_m2 121 rfl) rfl
set_option maxRecDepth 100000 in
theorem q738 : (Jvm.Cond.selects "PascalHouse$Type" ({ cls := "PascalHouse$Type", name := "bounded", desc := "(II)LPascalHouse$Type;" } : Jvm.MethodName) ({ cls := "PascalHouse$Type", name := "bounded", desc := "(II)LPascalHouse$Type;" } : Jvm.MethodName)) ∈ lw_all := lw_g (lw_at lw_m2 122 rfl) rfl
set_option maxRecDepth 100000 in
theorem q739 : (Jvm.Cond.code ({ cls := "PascalHouse$Type", name := "bounded", desc := "(II)LPascalHouse$Type;" } : Jvm.MethodName) prog_22_method_2_code (3 : Nat) (Option.some (Jvm.ClassFile.FieldType.object "PascalHouse$Type"))) ∈ lw_all := lw_g (lw_at lw_m2 123 rfl) rfl
set_option maxRecDepth 100000 in
theorem q740 : (Jvm.Cond.methodLink "PascalHouse$Compiler" (35 : Nat) ({ cls := "PascalHouse$Type", name := "of", desc := "(LPascalHouse$Type;)LPascalHouse$Type;" } : Jvm.MethodName)) ∈ lw_all := lw_g (lw_at lw_m2 124 rfl) rfl
set_option maxRecDepth 100000 in
theorem q741 : (Jvm.Cond.instanceMethod ({ cls := "PascalHouse$Type", name := "of", desc := "(LPascalHouse$Type;)LPascalHouse$Type;" } : Jvm.MethodName)) ∈ lw_all := lw_g (lw_at lw_m2 125 rfl) rfl
set_option maxRecDepth 100000 in
theorem q742 : (Jvm.Cond.selects "PascalHouse$Type" ({ cls := "PascalHouse$Type", name := "of", desc := "(LPascalHouse$Type;)LPascalHouse$Type;" } : Jvm.MethodName) ({ cls := "PascalHouse$Type", name := "of", desc := "(LPascalHouse$Type;)LPascalHouse$Type;" } : Jvm.MethodName)) ∈ lw_all := lw_g (lw_at lw_m2 126 rfl) rfl
set_option maxRecDepth 100000 in
theorem q743 : (Jvm.Cond.code ({ cls := "PascalHouse$Type", name := "of", desc := "(LPascalHouse$Type;)LPascalHouse$Type;" } : Jvm.MethodName) prog_22_method_3_code (2 : Nat) (Option.some (Jvm.ClassFile.FieldType.object "PascalHouse$Type"))) ∈ lw_all := lw_g (lw_at lw_m2 127 rfl) rfl
set_option maxRecDepth 100000 in
theorem q744 : (Jvm.Cond.classLink "PascalHouse$Compiler" (48 : Nat) "java/util/ArrayList") ∈ lw_all := lw_g (lw_at lw_m2 128 rfl) rfl
set_option maxRecDepth 100000 in
theorem q745 : (Jvm.Cond.methodLink "PascalHouse$Compiler" (50 : Nat) ({ cls := "java/util/ArrayList", name := "<init>", desc := "(I)V" } : Jvm.MethodName)) ∈ lw_all := lw_g (lw_at lw_m2 129 rfl) rfl
set_option maxRecDepth 100000 in
theorem q746 : (Jvm.Cond.methodLink "PascalHouse$Compiler" (70 : Nat) ({ cls := "PascalHouse$Compiler", name := "begin", desc := "()V" } : Jvm.MethodName)) ∈ lw_all := lw_g (lw_at lw_m2 130 rfl) rfl
set_option maxRecDepth 100000 in
theorem q748 : (Jvm.Cond.instanceMethod ({ cls := "PascalHouse$Compiler", name := "begin", desc := "()V" } : Jvm.MethodName)) ∈ lw_all := lw_g (lw_at lw_m2 132 rfl) rfl
set_option maxRecDepth 100000 in
theorem q749 : (Jvm.Cond.code ({ cls := "PascalHouse$Compiler", name := "begin", desc := "()V" } : Jvm.MethodName) prog_4_method_5_code (1 : Nat) (Option.none : Option Jvm.ClassFile.FieldType)) ∈ lw_all := lw_g (lw_at lw_m2 133 rfl) rfl
set_option maxRecDepth 100000 in
theorem q750 : (Jvm.Cond.classLink "PascalHouse$Compiler" (116 : Nat) "PascalHouse$Scope") ∈ lw_all := lw_g (lw_at lw_m2 134 rfl) rfl
set_option maxRecDepth 100000 in
theorem q751 : (Jvm.Cond.instantiable "PascalHouse$Scope" (4 : Nat)) ∈ lw_all := lw_g (lw_at lw_m2 135 rfl) rfl
set_option maxRecDepth 100000 in
theorem q752 : (Jvm.Cond.methodLink "PascalHouse$Compiler" (127 : Nat) ({ cls := "PascalHouse$Scope", name := "<init>", desc := "(LPascalHouse$Scope;)V" } : Jvm.MethodName)) ∈ lw_all := lw_g (lw_at lw_m2 136 rfl) rfl
set_option maxRecDepth 100000 in
theorem q753 : (Jvm.Cond.instanceMethod ({ cls := "PascalHouse$Scope", name := "<init>", desc := "(LPascalHouse$Scope;)V" } : Jvm.MethodName)) ∈ lw_all := lw_g (lw_at lw_m2 137 rfl) rfl
set_option maxRecDepth 100000 in
theorem q754 : (Jvm.Cond.code ({ cls := "PascalHouse$Scope", name := "<init>", desc := "(LPascalHouse$Scope;)V" } : Jvm.MethodName) prog_18_method_1_code (2 : Nat) (Option.none : Option Jvm.ClassFile.FieldType)) ∈ lw_all := lw_g (lw_at lw_m2 138 rfl) rfl
set_option maxRecDepth 100000 in
theorem q755 : (Jvm.Cond.methodLink "PascalHouse$Scope" (1 : Nat) ({ cls := "java/lang/Object", name := "<init>", desc := "()V" } : Jvm.MethodName)) ∈ lw_all := lw_g (lw_at lw_m2 139 rfl) rfl
set_option maxRecDepth 100000 in
theorem q756 : (Jvm.Cond.classLink "PascalHouse$Scope" (7 : Nat) "java/util/ArrayList") ∈ lw_all := lw_g (lw_at lw_m2 140 rfl) rfl
set_option maxRecDepth 100000 in
theorem q757 : (Jvm.Cond.methodLink "PascalHouse$Scope" (9 : Nat) ({ cls := "java/util/ArrayList", name := "<init>", desc := "(I)V" } : Jvm.MethodName)) ∈ lw_all := lw_g (lw_at lw_m2 141 rfl) rfl
set_option maxRecDepth 100000 in
theorem q758 : (Jvm.Cond.fieldLink "PascalHouse$Scope" (12 : Nat) "PascalHouse$Scope" "items" "Ljava/util/ArrayList;") ∈ lw_all := lw_g (lw_at lw_m2 142 rfl) rfl
set_option maxRecDepth 100000 in
theorem q759 : (Jvm.Cond.fieldLinkNest "PascalHouse$Compiler" (115 : Nat) "PascalHouse$Scope" "items" "Ljava/util/ArrayList;" "PascalHouse") ∈ lw_tbl := lw_at lw_m2 143 rfl
set_option maxRecDepth 100000 in
theorem q760 : (Jvm.Cond.fieldLink "PascalHouse$Scope" (18 : Nat) "PascalHouse$Scope" "outer" "LPascalHouse$Scope;") ∈ lw_all := lw_g (lw_at lw_m2 144 rfl) rfl
set_option maxRecDepth 100000 in
theorem q761 : (Jvm.Cond.fieldLinkNest "PascalHouse$Compiler" (189 : Nat) "PascalHouse$Scope" "outer" "LPascalHouse$Scope;" "PascalHouse") ∈ lw_tbl := lw_at lw_m2 145 rfl
set_option maxRecDepth 100000 in
theorem q762 : (Jvm.Cond.fieldLinkNest "PascalHouse$Compiler" (170 : Nat) "PascalHouse$Scope" "record" "LPascalHouse$Type;" "PascalHouse") ∈ lw_tbl := lw_at lw_m2 146 rfl
set_option maxRecDepth 100000 in
theorem q763 : (Jvm.Cond.fieldLinkNest "PascalHouse$Compiler" (691 : Nat) "PascalHouse$Scope" "temporary" "I" "PascalHouse") ∈ lw_tbl := lw_at lw_m2 147 rfl
set_option maxRecDepth 100000 in
theorem q774 : (Jvm.Cond.methodLink "PascalHouse$Compiler" (131 : Nat) ({ cls := "PascalHouse$Compiler", name := "there", desc := "(Ljava/lang/String;ILPascalHouse$Type;I)V" } : Jvm.MethodName)) ∈ lw_all := lw_g (lw_at lw_m2 158 rfl) rfl
set_option maxRecDepth 100000 in
theorem q776 : (Jvm.Cond.instanceMethod ({ cls := "PascalHouse$Compiler", name := "there", desc := "(Ljava/lang/String;ILPascalHouse$Type;I)V" } : Jvm.MethodName)) ∈ lw_all := lw_g (lw_at lw_m2 160 rfl) rfl
set_option maxRecDepth 100000 in
theorem q777 : (Jvm.Cond.code ({ cls := "PascalHouse$Compiler", name := "there", desc := "(Ljava/lang/String;ILPascalHouse$Type;I)V" } : Jvm.MethodName) prog_4_method_3_code (9 : Nat) (Option.none : Option Jvm.ClassFile.FieldType)) ∈ lw_all := lw_g (lw_at lw_m2 161 rfl) rfl
set_option maxRecDepth 100000 in
theorem q778 : (Jvm.Cond.classLink "PascalHouse$Compiler" (86 : Nat) "java/lang/StringBuilder") ∈ lw_all := lw_g (lw_at lw_m2 162 rfl) rfl
set_option maxRecDepth 100000 in
theorem q779 : (Jvm.Cond.methodLink "PascalHouse$Compiler" (88 : Nat) ({ cls := "java/lang/StringBuilder", name := "<init>", desc := "(I)V" } : Jvm.MethodName)) ∈ lw_all := lw_g (lw_at lw_m2 163 rfl) rfl
set_option maxRecDepth 100000 in
theorem q780 : (Jvm.Cond.methodLink "PascalHouse$Compiler" (89 : Nat) ({ cls := "java/lang/String", name := "length", desc := "()I" } : Jvm.MethodName)) ∈ lw_all := lw_g (lw_at lw_m2 164 rfl) rfl
set_option maxRecDepth 100000 in
theorem q781 : (Jvm.Cond.instanceMethod ({ cls := "java/lang/String", name := "length", desc := "()I" } : Jvm.MethodName)) ∈ lw_all := lw_g (lw_at lw_m2 165 rfl) rfl
set_option maxRecDepth 100000 in
theorem q782 : (Jvm.Cond.selects "java/lang/String" ({ cls := "java/lang/String", name := "length", desc := "()I" } : Jvm.MethodName) ({ cls := "java/lang/String", name := "length", desc := "()I" } : Jvm.MethodName)) ∈ lw_all := lw_g (lw_at lw_m2 166 rfl) rfl
set_option maxRecDepth 100000 in
theorem q783 : (Jvm.Cond.code ({ cls := "java/lang/String", name := "length", desc := "()I" } : Jvm.MethodName) prog_50_method_54_code (1 : Nat) (Option.some Jvm.ClassFile.FieldType.int)) ∈ lw_all := lw_g (lw_at lw_m2 167 rfl) rfl
set_option maxRecDepth 100000 in
theorem q784 : (Jvm.Cond.methodLink "java/lang/String" (335 : Nat) ({ cls := "java/lang/String", name := "coder", desc := "()B" } : Jvm.MethodName)) ∈ lw_all := lw_g (lw_at lw_m2 168 rfl) rfl
set_option maxRecDepth 100000 in
theorem q785 : (Jvm.Cond.instanceMethod ({ cls := "java/lang/String", name := "coder", desc := "()B" } : Jvm.MethodName)) ∈ lw_all := lw_g (lw_at lw_m2 169 rfl) rfl
set_option maxRecDepth 100000 in
theorem q786 : (Jvm.Cond.selects "java/lang/String" ({ cls := "java/lang/String", name := "coder", desc := "()B" } : Jvm.MethodName) ({ cls := "java/lang/String", name := "coder", desc := "()B" } : Jvm.MethodName)) ∈ lw_all := lw_g (lw_at lw_m2 170 rfl) rfl
set_option maxRecDepth 100000 in
theorem q787 : (Jvm.Cond.code ({ cls := "java/lang/String", name := "coder", desc := "()B" } : Jvm.MethodName) prog_50_method_152_code (1 : Nat) (Option.some Jvm.ClassFile.FieldType.byte)) ∈ lw_all := lw_g (lw_at lw_m2 171 rfl) rfl
set_option maxRecDepth 100000 in
theorem q788 : (Jvm.Cond.fieldLink "java/lang/String" (38 : Nat) "java/lang/String" "COMPACT_STRINGS" "Z") ∈ lw_all := lw_g (lw_at lw_m2 172 rfl) rfl
set_option maxRecDepth 100000 in
theorem q789 : (Jvm.Cond.methodLink "PascalHouse$Compiler" (95 : Nat) ({ cls := "java/lang/String", name := "charAt", desc := "(I)C" } : Jvm.MethodName)) ∈ lw_all := lw_g (lw_at lw_m2 173 rfl) rfl
set_option maxRecDepth 100000 in
theorem q790 : (Jvm.Cond.instanceMethod ({ cls := "java/lang/String", name := "charAt", desc := "(I)C" } : Jvm.MethodName)) ∈ lw_all := lw_g (lw_at lw_m2 174 rfl) rfl
set_option maxRecDepth 100000 in
theorem q791 : (Jvm.Cond.selects "java/lang/String" ({ cls := "java/lang/String", name := "charAt", desc := "(I)C" } : Jvm.MethodName) ({ cls := "java/lang/String", name := "charAt", desc := "(I)C" } : Jvm.MethodName)) ∈ lw_all := lw_g (lw_at lw_m2 175 rfl) rfl
set_option maxRecDepth 100000 in
theorem q792 : (Jvm.Cond.code ({ cls := "java/lang/String", name := "charAt", desc := "(I)C" } : Jvm.MethodName) prog_50_method_56_code (2 : Nat) (Option.some Jvm.ClassFile.FieldType.char)) ∈ lw_all := lw_g (lw_at lw_m2 176 rfl) rfl
set_option maxRecDepth 100000 in
theorem q793 : (Jvm.Cond.methodLink "java/lang/String" (492 : Nat) ({ cls := "java/lang/String", name := "isLatin1", desc := "()Z" } : Jvm.MethodName)) ∈ lw_all := lw_g (lw_at lw_m2 177 rfl) rfl
set_option maxRecDepth 100000 in
theorem q794 : (Jvm.Cond.instanceMethod ({ cls := "java/lang/String", name := "isLatin1", desc := "()Z" } : Jvm.MethodName)) ∈ lw_all := lw_g (lw_at lw_m2 178 rfl) rfl
set_option maxRecDepth 100000 in
theorem q795 : (Jvm.Cond.selects "java/lang/String" ({ cls := "java/lang/String", name := "isLatin1", desc := "()Z" } : Jvm.MethodName) ({ cls := "java/lang/String", name := "isLatin1", desc := "()Z" } : Jvm.MethodName)) ∈ lw_all := lw_g (lw_at lw_m2 179 rfl) rfl
set_option maxRecDepth 100000 in
theorem q796 : (Jvm.Cond.code ({ cls := "java/lang/String", name := "isLatin1", desc := "()Z" } : Jvm.MethodName) prog_50_method_154_code (1 : Nat) (Option.some Jvm.ClassFile.FieldType.boolean)) ∈ lw_all := lw_g (lw_at lw_m2 180 rfl) rfl
set_option maxRecDepth 100000 in
theorem q797 : (Jvm.Cond.methodLink "java/lang/String" (495 : Nat) ({ cls := "java/lang/StringLatin1", name := "charAt", desc := "([BI)C" } : Jvm.MethodName)) ∈ lw_all := lw_g (lw_at lw_m2 181 rfl) rfl
set_option maxRecDepth 100000 in
theorem q798 : (Jvm.Cond.static ({ cls := "java/lang/StringLatin1", name := "charAt", desc := "([BI)C" } : Jvm.MethodName)) ∈ lw_all := lw_g (lw_at lw_m2 182 rfl) rfl
set_option maxRecDepth 100000 in
theorem q799 : (Jvm.Cond.code ({ cls := "java/lang/StringLatin1", name := "charAt", desc := "([BI)C" } : Jvm.MethodName) prog_52_method_2_code (2 : Nat) (Option.some Jvm.ClassFile.FieldType.char)) ∈ lw_all := lw_g (lw_at lw_m2 183 rfl) rfl
set_option maxRecDepth 100000 in
theorem q800 : (Jvm.Cond.methodLink "java/lang/StringLatin1" (9 : Nat) ({ cls := "java/lang/String", name := "checkIndex", desc := "(II)V" } : Jvm.MethodName)) ∈ lw_all := lw_g (lw_at lw_m2 184 rfl) rfl
set_option maxRecDepth 100000 in
theorem q801 : (Jvm.Cond.static ({ cls := "java/lang/String", name := "checkIndex", desc := "(II)V" } : Jvm.MethodName)) ∈ lw_all := lw_g (lw_at lw_m2 185 rfl) rfl
set_option maxRecDepth 100000 in
theorem q802 : (Jvm.Cond.code ({ cls := "java/lang/String", name := "checkIndex", desc := "(II)V" } : Jvm.MethodName) prog_50_method_155_code (2 : Nat) (Option.none : Option Jvm.ClassFile.FieldType)) ∈ lw_all := lw_g (lw_at lw_m2 186 rfl) rfl
set_option maxRecDepth 100000 in
theorem q803 : (Jvm.Cond.fieldLink "java/lang/String" (1053 : Nat) "jdk/internal/util/Preconditions" "SIOOBE_FORMATTER" "Ljava/util/function/BiFunction;") ∈ lw_all := lw_g (lw_at lw_m2 187 rfl) rfl
set_option maxRecDepth 100000 in
theorem q805 : (Jvm.Cond.methodLink "java/lang/String" (1059 : Nat) ({ cls := "jdk/internal/util/Preconditions", name := "checkIndex", desc := "(IILjava/util/function/BiFunction;)I" } : Jvm.MethodName)) ∈ lw_all := lw_g (lw_at lw_m2 189 rfl) rfl
set_option maxRecDepth 100000 in
theorem q806 : (Jvm.Cond.static ({ cls := "jdk/internal/util/Preconditions", name := "checkIndex", desc := "(IILjava/util/function/BiFunction;)I" } : Jvm.MethodName)) ∈ lw_all := lw_g (lw_at lw_m2 190 rfl) rfl
set_option maxRecDepth 100000 in
theorem q807 : (Jvm.Cond.code ({ cls := "jdk/internal/util/Preconditions", name := "checkIndex", desc := "(IILjava/util/function/BiFunction;)I" } : Jvm.MethodName) prog_68_method_11_code (3 : Nat) (Option.some Jvm.ClassFile.FieldType.int)) ∈ lw_all := lw_g (lw_at lw_m2 191 rfl) rfl
set_option maxRecDepth 100000 in
theorem q808 : (Jvm.Cond.methodLink "java/lang/String" (498 : Nat) ({ cls := "java/lang/StringUTF16", name := "charAt", desc := "([BI)C" } : Jvm.MethodName)) ∈ lw_all := lw_g (lw_at lw_m2 192 rfl) rfl
set_option maxRecDepth 100000 in
theorem q809 : (Jvm.Cond.static ({ cls := "java/lang/StringUTF16", name := "charAt", desc := "([BI)C" } : Jvm.MethodName)) ∈ lw_all := lw_g (lw_at lw_m2 193 rfl) rfl
set_option maxRecDepth 100000 in
theorem q810 : (Jvm.Cond.code ({ cls := "java/lang/StringUTF16", name := "charAt", desc := "([BI)C" } : Jvm.MethodName) prog_53_method_83_code (2 : Nat) (Option.some Jvm.ClassFile.FieldType.char)) ∈ lw_all := lw_g (lw_at lw_m2 194 rfl) rfl
set_option maxRecDepth 100000 in
theorem q811 : (Jvm.Cond.methodLink "java/lang/StringUTF16" (67 : Nat) ({ cls := "java/lang/StringUTF16", name := "checkIndex", desc := "(I[B)V" } : Jvm.MethodName)) ∈ lw_all := lw_g (lw_at lw_m2 195 rfl) rfl
set_option maxRecDepth 100000 in
theorem q812 : (Jvm.Cond.static ({ cls := "java/lang/StringUTF16", name := "checkIndex", desc := "(I[B)V" } : Jvm.MethodName)) ∈ lw_all := lw_g (lw_at lw_m2 196 rfl) rfl
set_option maxRecDepth 100000 in
theorem q813 : (Jvm.Cond.code ({ cls := "java/lang/StringUTF16", name := "checkIndex", desc := "(I[B)V" } : Jvm.MethodName) prog_53_method_91_code (2 : Nat) (Option.none : Option Jvm.ClassFile.FieldType)) ∈ lw_all := lw_g (lw_at lw_m2 197 rfl) rfl
set_option maxRecDepth 100000 in
theorem q814 : (Jvm.Cond.methodLink "java/lang/StringUTF16" (48 : Nat) ({ cls := "java/lang/StringUTF16", name := "length", desc := "([B)I" } : Jvm.MethodName)) ∈ lw_all := lw_g (lw_at lw_m2 198 rfl) rfl
set_option maxRecDepth 100000 in
theorem q815 : (Jvm.Cond.static ({ cls := "java/lang/StringUTF16", name := "length", desc := "([B)I" } : Jvm.MethodName)) ∈ lw_all := lw_g (lw_at lw_m2 199 rfl) rfl
set_option maxRecDepth 100000 in
theorem q816 : (Jvm.Cond.code ({ cls := "java/lang/StringUTF16", name := "length", desc := "([B)I" } : Jvm.MethodName) prog_53_method_6_code (1 : Nat) (Option.some Jvm.ClassFile.FieldType.int)) ∈ lw_all := lw_g (lw_at lw_m2 200 rfl) rfl
set_option maxRecDepth 100000 in
theorem q817 : (Jvm.Cond.methodLink "java/lang/StringUTF16" (414 : Nat) ({ cls := "java/lang/String", name := "checkIndex", desc := "(II)V" } : Jvm.MethodName)) ∈ lw_all := lw_g (lw_at lw_m2 201 rfl) rfl
set_option maxRecDepth 100000 in
theorem q818 : (Jvm.Cond.methodLink "java/lang/StringUTF16" (71 : Nat) ({ cls := "java/lang/StringUTF16", name := "getChar", desc := "([BI)C" } : Jvm.MethodName)) ∈ lw_all := lw_g (lw_at lw_m2 202 rfl) rfl
set_option maxRecDepth 100000 in
theorem q819 : (Jvm.Cond.static ({ cls := "java/lang/StringUTF16", name := "getChar", desc := "([BI)C" } : Jvm.MethodName)) ∈ lw_all := lw_g (lw_at lw_m2 203 rfl) rfl
set_option maxRecDepth 100000 in
theorem q820 : (Jvm.Cond.code ({ cls := "java/lang/StringUTF16", name := "getChar", desc := "([BI)C" } : Jvm.MethodName) prog_53_method_5_code (2 : Nat) (Option.some Jvm.ClassFile.FieldType.char)) ∈ lw_all := lw_g (lw_at lw_m2 204 rfl) rfl
set_option maxRecDepth 100000 in
theorem q821 : (Jvm.Cond.fieldLink "java/lang/StringUTF16" (44 : Nat) "java/lang/StringUTF16" "$assertionsDisabled" "Z") ∈ lw_all := lw_g (lw_at lw_m2 205 rfl) rfl
set_option maxRecDepth 100000 in
theorem q823 : (Jvm.Cond.fieldLink "java/lang/StringUTF16" (59 : Nat) "java/lang/StringUTF16" "HI_BYTE_SHIFT" "I") ∈ lw_all := lw_g (lw_at lw_m2 207 rfl) rfl
set_option maxRecDepth 100000 in
theorem q825 : (Jvm.Cond.fieldLink "java/lang/StringUTF16" (63 : Nat) "java/lang/StringUTF16" "LO_BYTE_SHIFT" "I") ∈ lw_all := lw_g (lw_at lw_m2 209 rfl) rfl
set_option maxRecDepth 100000 in
theorem q827 : (Jvm.Cond.methodLink "PascalHouse$Compiler" (99 : Nat) ({ cls := "java/lang/StringBuilder", name := "append", desc := "(C)Ljava/lang/StringBuilder;" } : Jvm.MethodName)) ∈ lw_all := lw_g (lw_at lw_m2 211 rfl) rfl
set_option maxRecDepth 100000 in
theorem q828 : (Jvm.Cond.instanceMethod ({ cls := "java/lang/StringBuilder", name := "append", desc := "(C)Ljava/lang/StringBuilder;" } : Jvm.MethodName)) ∈ lw_all := lw_g (lw_at lw_m2 212 rfl) rfl
set_option maxRecDepth 100000 in
theorem q829 : (Jvm.Cond.selects "java/lang/StringBuilder" ({ cls := "java/lang/StringBuilder", name := "append", desc := "(C)Ljava/lang/StringBuilder;" } : Jvm.MethodName) ({ cls := "java/lang/StringBuilder", name := "append", desc := "(C)Ljava/lang/StringBuilder;" } : Jvm.MethodName)) ∈ lw_all := lw_g (lw_at lw_m2 213 rfl) rfl
set_option maxRecDepth 100000 in
theorem q830 : (Jvm.Cond.code ({ cls := "java/lang/StringBuilder", name := "append", desc := "(C)Ljava/lang/StringBuilder;" } : Jvm.MethodName) prog_51_method_14_code (2 : Nat) (Option.some (Jvm.ClassFile.FieldType.object "java/lang/StringBuilder"))) ∈ lw_all := lw_g (lw_at lw_m2 214 rfl) rfl
set_option maxRecDepth 100000 in
theorem q831 : (Jvm.Cond.methodLink "java/lang/StringBuilder" (50 : Nat) ({ cls := "java/lang/AbstractStringBuilder", name := "append", desc := "(C)Ljava/lang/AbstractStringBuilder;" } : Jvm.MethodName)) ∈ lw_all := lw_g (lw_at lw_m2 215 rfl) rfl
set_option maxRecDepth 100000 in
theorem q832 : (Jvm.Cond.instanceMethod ({ cls := "java/lang/AbstractStringBuilder", name := "append", desc := "(C)Ljava/lang/AbstractStringBuilder;" } : Jvm.MethodName)) ∈ lw_all := lw_g (lw_at lw_m2 216 rfl) rfl
set_option maxRecDepth 100000 in
theorem q833 : (Jvm.Cond.code ({ cls := "java/lang/AbstractStringBuilder", name := "append", desc := "(C)Ljava/lang/AbstractStringBuilder;" } : Jvm.MethodName) prog_32_method_31_code (2 : Nat) (Option.some (Jvm.ClassFile.FieldType.object "java/lang/AbstractStringBuilder"))) ∈ lw_all := lw_g (lw_at lw_m2 217 rfl) rfl
set_option maxRecDepth 100000 in
theorem q834 : (Jvm.Cond.methodLink "java/lang/AbstractStringBuilder" (100 : Nat) ({ cls := "java/lang/AbstractStringBuilder", name := "ensureCapacityInternal", desc := "(I)V" } : Jvm.MethodName)) ∈ lw_all := lw_g (lw_at lw_m2 218 rfl) rfl
set_option maxRecDepth 100000 in
theorem q835 : (Jvm.Cond.privateMethod ({ cls := "java/lang/AbstractStringBuilder", name := "ensureCapacityInternal", desc := "(I)V" } : Jvm.MethodName)) ∈ lw_tbl := lw_at lw_m2 219 rfl
set_option maxRecDepth 100000 in
theorem q836 : (Jvm.Cond.instanceMethod ({ cls := "java/lang/AbstractStringBuilder", name := "ensureCapacityInternal", desc := "(I)V" } : Jvm.MethodName)) ∈ lw_all := lw_g (lw_at lw_m2 220 rfl) rfl
set_option maxRecDepth 100000 in
theorem q837 : (Jvm.Cond.code ({ cls := "java/lang/AbstractStringBuilder", name := "ensureCapacityInternal", desc := "(I)V" } : Jvm.MethodName) prog_32_method_9_code (3 : Nat) (Option.none : Option Jvm.ClassFile.FieldType)) ∈ lw_all := lw_g (lw_at lw_m2 221 rfl) rfl
set_option maxRecDepth 100000 in
theorem q838 : (Jvm.Cond.methodLink "java/lang/AbstractStringBuilder" (104 : Nat) ({ cls := "java/lang/AbstractStringBuilder", name := "newCapacity", desc := "(I)I" } : Jvm.MethodName)) ∈ lw_all := lw_g (lw_at lw_m2 222 rfl) rfl
set_option maxRecDepth 100000 in
theorem q839 : (Jvm.Cond.privateMethod ({ cls := "java/lang/AbstractStringBuilder", name := "newCapacity", desc := "(I)I" } : Jvm.MethodName)) ∈ lw_tbl := lw_at lw_m2 223 rfl
set_option maxRecDepth 100000 in
theorem q840 : (Jvm.Cond.instanceMethod ({ cls := "java/lang/AbstractStringBuilder", name := "newCapacity", desc := "(I)I" } : Jvm.MethodName)) ∈ lw_all := lw_g (lw_at lw_m2 224 rfl) rfl
set_option maxRecDepth 100000 in
theorem q841 : (Jvm.Cond.code ({ cls := "java/lang/AbstractStringBuilder", name := "newCapacity", desc := "(I)I" } : Jvm.MethodName) prog_32_method_10_code (6 : Nat) (Option.some Jvm.ClassFile.FieldType.int)) ∈ lw_all := lw_g (lw_at lw_m2 225 rfl) rfl
set_option maxRecDepth 100000 in
theorem q842 : (Jvm.Cond.methodLink "java/lang/AbstractStringBuilder" (114 : Nat) ({ cls := "jdk/internal/util/ArraysSupport", name := "newLength", desc := "(III)I" } : Jvm.MethodName)) ∈ lw_all := lw_g (lw_at lw_m2 226 rfl) rfl
set_option maxRecDepth 100000 in
theorem q843 : (Jvm.Cond.static ({ cls := "jdk/internal/util/ArraysSupport", name := "newLength", desc := "(III)I" } : Jvm.MethodName)) ∈ lw_all := lw_g (lw_at lw_m2 227 rfl) rfl
set_option maxRecDepth 100000 in
theorem q844 : (Jvm.Cond.code ({ cls := "jdk/internal/util/ArraysSupport", name := "newLength", desc := "(III)I" } : Jvm.MethodName) prog_67_method_27_code (4 : Nat) (Option.some Jvm.ClassFile.FieldType.int)) ∈ lw_all := lw_g (lw_at lw_m2 228 rfl) rfl
set_option maxRecDepth 100000 in
theorem q845 : (Jvm.Cond.methodLink "jdk/internal/util/ArraysSupport" (194 : Nat) ({ cls := "java/lang/Math", name := "max", desc := "(II)I" } : Jvm.MethodName)) ∈ lw_all := lw_g (lw_at lw_m2 229 rfl) rfl
set_option maxRecDepth 100000 in
theorem q846 : (Jvm.Cond.static ({ cls := "java/lang/Math", name := "max", desc := "(II)I" } : Jvm.MethodName)) ∈ lw_all := lw_g (lw_at lw_m2 230 rfl) rfl
set_option maxRecDepth 100000 in
theorem q847 : (Jvm.Cond.code ({ cls := "java/lang/Math", name := "max", desc := "(II)I" } : Jvm.MethodName) prog_46_method_65_code (2 : Nat) (Option.some Jvm.ClassFile.FieldType.int)) ∈ lw_all := lw_g (lw_at lw_m2 231 rfl) rfl
set_option maxRecDepth 100000 in
theorem q848 : (Jvm.Cond.constant "jdk/internal/util/ArraysSupport" (200 : Nat) (2147483639 : Int32)) ∈ lw_all := lw_g (lw_at lw_m2 232 rfl) rfl
set_option maxRecDepth 100000 in
theorem q849 : (Jvm.Cond.methodLink "jdk/internal/util/ArraysSupport" (201 : Nat) ({ cls := "jdk/internal/util/ArraysSupport", name := "hugeLength", desc := "(II)I" } : Jvm.MethodName)) ∈ lw_all := lw_g (lw_at lw_m2 233 rfl) rfl
set_option maxRecDepth 100000 in
theorem q850 : (Jvm.Cond.static ({ cls := "jdk/internal/util/ArraysSupport", name := "hugeLength", desc := "(II)I" } : Jvm.MethodName)) ∈ lw_all := lw_g (lw_at lw_m2 234 rfl) rfl
set_option maxRecDepth 100000 in
theorem q851 : (Jvm.Cond.code ({ cls := "jdk/internal/util/ArraysSupport", name := "hugeLength", desc := "(II)I" } : Jvm.MethodName) prog_67_method_28_code (3 : Nat) (Option.some Jvm.ClassFile.FieldType.int)) ∈ lw_all := lw_g (lw_at lw_m2 235 rfl) rfl
set_option maxRecDepth 100000 in
theorem q852 : (Jvm.Cond.constant "java/lang/AbstractStringBuilder" (39 : Nat) (2147483647 : Int32)) ∈ lw_all := lw_g (lw_at lw_m2 236 rfl) rfl
set_option maxRecDepth 100000 in
theorem q853 : (Jvm.Cond.methodLink "java/lang/AbstractStringBuilder" (108 : Nat) ({ cls := "java/util/Arrays", name := "copyOf", desc := "([BI)[B" } : Jvm.MethodName)) ∈ lw_all := lw_g (lw_at lw_m2 237 rfl) rfl
set_option maxRecDepth 100000 in
theorem q854 : (Jvm.Cond.static ({ cls := "java/util/Arrays", name := "copyOf", desc := "([BI)[B" } : Jvm.MethodName)) ∈ lw_all := lw_g (lw_at lw_m2 238 rfl) rfl
set_option maxRecDepth 100000 in
theorem q855 : (Jvm.Cond.code ({ cls := "java/util/Arrays", name := "copyOf", desc := "([BI)[B" } : Jvm.MethodName) prog_61_method_121_code (3 : Nat) (Option.some (Jvm.ClassFile.FieldType.array Jvm.ClassFile.FieldType.byte))) ∈ lw_all := lw_g (lw_at lw_m2 239 rfl) rfl
set_option maxRecDepth 100000 in
theorem q856 : (Jvm.Cond.methodLink "java/util/Arrays" (310 : Nat) ({ cls := "[B", name := "clone", desc := "()Ljava/lang/Object;" } : Jvm.MethodName)) ∈ lw_all := lw_g (lw_at lw_m3 0 rfl) rfl
set_option maxRecDepth 100000 in
theorem q857 : (Jvm.Cond.sameMethod "[B" "java/lang/Object" "clone" "()Ljava/lang/Object;") ∈ lw_all := lw_g (lw_at lw_m3 1 rfl) rfl
set_option maxRecDepth 100000 in
theorem q858 : (Jvm.Cond.native ({ cls := "java/lang/Object", name := "clone", desc := "()Ljava/lang/Object;" } : Jvm.MethodName)) ∈ lw_all := lw_g (lw_at lw_m3 2 rfl) rfl
set_option maxRecDepth 100000 in
theorem q859 : (Jvm.Cond.instanceMethod ({ cls := "java/lang/Object", name := "clone", desc := "()Ljava/lang/Object;" } : Jvm.MethodName)) ∈ lw_all := lw_g (lw_at lw_m3 3 rfl) rfl
set_option maxRecDepth 100000 in
theorem q860 : (Jvm.Cond.selects "[B" ({ cls := "[B", name := "clone", desc := "()Ljava/lang/Object;" } : Jvm.MethodName) ({ cls := "java/lang/Object", name := "clone", desc := "()Ljava/lang/Object;" } : Jvm.MethodName)) ∈ lw_all := lw_g (lw_at lw_m3 4 rfl) rfl
set_option maxRecDepth 100000 in
theorem q861 : (Jvm.Cond.castable "[B" "java/lang/Cloneable") ∈ lw_tbl := lw_at lw_m3 5 rfl
set_option maxRecDepth 100000 in
theorem q862 : (Jvm.Cond.classLink "java/util/Arrays" (311 : Nat) "[B") ∈ lw_all := lw_g (lw_at lw_m3 6 rfl) rfl
set_option maxRecDepth 100000 in
theorem q863 : (Jvm.Cond.methodLink "java/util/Arrays" (304 : Nat) ({ cls := "java/lang/Math", name := "min", desc := "(II)I" } : Jvm.MethodName)) ∈ lw_all := lw_g (lw_at lw_m3 7 rfl) rfl
set_option maxRecDepth 100000 in
theorem q864 : (Jvm.Cond.static ({ cls := "java/lang/Math", name := "min", desc := "(II)I" } : Jvm.MethodName)) ∈ lw_all := lw_g (lw_at lw_m3 8 rfl) rfl
set_option maxRecDepth 100000 in
theorem q865 : (Jvm.Cond.code ({ cls := "java/lang/Math", name := "min", desc := "(II)I" } : Jvm.MethodName) prog_46_method_69_code (2 : Nat) (Option.some Jvm.ClassFile.FieldType.int)) ∈ lw_all := lw_g (lw_at lw_m3 9 rfl) rfl
set_option maxRecDepth 100000 in
theorem q866 : (Jvm.Cond.methodLink "java/util/Arrays" (150 : Nat) ({ cls := "java/lang/System", name := "arraycopy", desc := "(Ljava/lang/Object;ILjava/lang/Object;II)V" } : Jvm.MethodName)) ∈ lw_all := lw_g (lw_at lw_m3 10 rfl) rfl
set_option maxRecDepth 100000 in
theorem q867 : (Jvm.Cond.static ({ cls := "java/lang/System", name := "arraycopy", desc := "(Ljava/lang/Object;ILjava/lang/Object;II)V" } : Jvm.MethodName)) ∈ lw_all := lw_g (lw_at lw_m3 11 rfl) rfl
set_option maxRecDepth 100000 in
theorem q868 : (Jvm.Cond.native ({ cls := "java/lang/System", name := "arraycopy", desc := "(Ljava/lang/Object;ILjava/lang/Object;II)V" } : Jvm.MethodName)) ∈ lw_all := lw_g (lw_at lw_m3 12 rfl) rfl
set_option maxRecDepth 100000 in
theorem q869 : (Jvm.Cond.methodLink "java/lang/AbstractStringBuilder" (83 : Nat) ({ cls := "java/lang/AbstractStringBuilder", name := "isLatin1", desc := "()Z" } : Jvm.MethodName)) ∈ lw_all := lw_g (lw_at lw_m3 13 rfl) rfl
set_option maxRecDepth 100000 in
theorem q870 : (Jvm.Cond.instanceMethod ({ cls := "java/lang/AbstractStringBuilder", name := "isLatin1", desc := "()Z" } : Jvm.MethodName)) ∈ lw_all := lw_g (lw_at lw_m3 14 rfl) rfl
set_option maxRecDepth 100000 in
theorem q872 : (Jvm.Cond.selects "java/lang/StringBuilder" ({ cls := "java/lang/AbstractStringBuilder", name := "isLatin1", desc := "()Z" } : Jvm.MethodName) ({ cls := "java/lang/AbstractStringBuilder", name := "isLatin1", desc := "()Z" } : Jvm.MethodName)) ∈ lw_all := lw_g (lw_at lw_m3 16 rfl) rfl
set_option maxRecDepth 100000 in
theorem q873 : (Jvm.Cond.code ({ cls := "java/lang/AbstractStringBuilder", name := "isLatin1", desc := "()Z" } : Jvm.MethodName) prog_32_method_68_code (1 : Nat) (Option.some Jvm.ClassFile.FieldType.boolean)) ∈ lw_all := lw_g (lw_at lw_m3 17 rfl) rfl
set_option maxRecDepth 100000 in
theorem q874 : (Jvm.Cond.methodLink "java/lang/AbstractStringBuilder" (191 : Nat) ({ cls := "java/lang/StringLatin1", name := "canEncode", desc := "(C)Z" } : Jvm.MethodName)) ∈ lw_all := lw_g (lw_at lw_m3 18 rfl) rfl
set_option maxRecDepth 100000 in
theorem q875 : (Jvm.Cond.static ({ cls := "java/lang/StringLatin1", name := "canEncode", desc := "(C)Z" } : Jvm.MethodName)) ∈ lw_all := lw_g (lw_at lw_m3 19 rfl) rfl
set_option maxRecDepth 100000 in
theorem q876 : (Jvm.Cond.code ({ cls := "java/lang/StringLatin1", name := "canEncode", desc := "(C)Z" } : Jvm.MethodName) prog_52_method_3_code (1 : Nat) (Option.some Jvm.ClassFile.FieldType.boolean)) ∈ lw_all := lw_g (lw_at lw_m3 20 rfl) rfl
set_option maxRecDepth 100000 in
theorem q877 : (Jvm.Cond.methodLink "java/lang/AbstractStringBuilder" (195 : Nat) ({ cls := "java/lang/AbstractStringBuilder", name := "inflate", desc := "()V" } : Jvm.MethodName)) ∈ lw_all := lw_g (lw_at lw_m3 21 rfl) rfl
set_option maxRecDepth 100000 in
theorem q878 : (Jvm.Cond.privateMethod ({ cls := "java/lang/AbstractStringBuilder", name := "inflate", desc := "()V" } : Jvm.MethodName)) ∈ lw_tbl := lw_at lw_m3 22 rfl
set_option maxRecDepth 100000 in
theorem q879 : (Jvm.Cond.instanceMethod ({ cls := "java/lang/AbstractStringBuilder", name := "inflate", desc := "()V" } : Jvm.MethodName)) ∈ lw_all := lw_g (lw_at lw_m3 23 rfl) rfl
set_option maxRecDepth 100000 in
theorem q880 : (Jvm.Cond.code ({ cls := "java/lang/AbstractStringBuilder", name := "inflate", desc := "()V" } : Jvm.MethodName) prog_32_method_11_code (2 : Nat) (Option.none : Option Jvm.ClassFile.FieldType)) ∈ lw_all := lw_g (lw_at lw_m3 24 rfl) rfl
set_option maxRecDepth 100000 in
theorem q881 : (Jvm.Cond.methodLink "java/lang/AbstractStringBuilder" (125 : Nat) ({ cls := "java/lang/StringLatin1", name := "inflate", desc := "([BI[BII)V" } : Jvm.MethodName)) ∈ lw_all := lw_g (lw_at lw_m3 25 rfl) rfl
set_option maxRecDepth 100000 in
theorem q882 : (Jvm.Cond.static ({ cls := "java/lang/StringLatin1", name := "inflate", desc := "([BI[BII)V" } : Jvm.MethodName)) ∈ lw_all := lw_g (lw_at lw_m3 26 rfl) rfl
set_option maxRecDepth 100000 in
theorem q883 : (Jvm.Cond.code ({ cls := "java/lang/StringLatin1", name := "inflate", desc := "([BI[BII)V" } : Jvm.MethodName) prog_52_method_50_code (5 : Nat) (Option.none : Option Jvm.ClassFile.FieldType)) ∈ lw_all := lw_g (lw_at lw_m3 27 rfl) rfl
set_option maxRecDepth 100000 in
theorem q884 : (Jvm.Cond.methodLink "java/lang/StringLatin1" (240 : Nat) ({ cls := "java/lang/StringUTF16", name := "inflate", desc := "([BI[BII)V" } : Jvm.MethodName)) ∈ lw_all := lw_g (lw_at lw_m3 28 rfl) rfl
set_option maxRecDepth 100000 in
theorem q885 : (Jvm.Cond.static ({ cls := "java/lang/StringUTF16", name := "inflate", desc := "([BI[BII)V" } : Jvm.MethodName)) ∈ lw_all := lw_g (lw_at lw_m3 29 rfl) rfl
set_option maxRecDepth 100000 in
theorem q886 : (Jvm.Cond.code ({ cls := "java/lang/StringUTF16", name := "inflate", desc := "([BI[BII)V" } : Jvm.MethodName) prog_53_method_86_code (6 : Nat) (Option.none : Option Jvm.ClassFile.FieldType)) ∈ lw_all := lw_g (lw_at lw_m3 30 rfl) rfl
set_option maxRecDepth 100000 in
theorem q887 : (Jvm.Cond.methodLink "java/lang/StringUTF16" (173 : Nat) ({ cls := "java/lang/StringUTF16", name := "checkBoundsOffCount", desc := "(II[B)V" } : Jvm.MethodName)) ∈ lw_all := lw_g (lw_at lw_m3 31 rfl) rfl
set_option maxRecDepth 100000 in
theorem q888 : (Jvm.Cond.static ({ cls := "java/lang/StringUTF16", name := "checkBoundsOffCount", desc := "(II[B)V" } : Jvm.MethodName)) ∈ lw_all := lw_g (lw_at lw_m3 32 rfl) rfl
set_option maxRecDepth 100000 in
theorem q889 : (Jvm.Cond.code ({ cls := "java/lang/StringUTF16", name := "checkBoundsOffCount", desc := "(II[B)V" } : Jvm.MethodName) prog_53_method_94_code (3 : Nat) (Option.none : Option Jvm.ClassFile.FieldType)) ∈ lw_all := lw_g (lw_at lw_m3 33 rfl) rfl
set_option maxRecDepth 100000 in
theorem q890 : (Jvm.Cond.methodLink "java/lang/StringUTF16" (419 : Nat) ({ cls := "java/lang/String", name := "checkBoundsOffCount", desc := "(III)I" } : Jvm.MethodName)) ∈ lw_all := lw_g (lw_at lw_m3 34 rfl) rfl
set_option maxRecDepth 100000 in
theorem q891 : (Jvm.Cond.static ({ cls := "java/lang/String", name := "checkBoundsOffCount", desc := "(III)I" } : Jvm.MethodName)) ∈ lw_all := lw_g (lw_at lw_m3 35 rfl) rfl
set_option maxRecDepth 100000 in
theorem q892 : (Jvm.Cond.code ({ cls := "java/lang/String", name := "checkBoundsOffCount", desc := "(III)I" } : Jvm.MethodName) prog_50_method_157_code (3 : Nat) (Option.some Jvm.ClassFile.FieldType.int)) ∈ lw_all := lw_g (lw_at lw_m3 36 rfl) rfl
set_option maxRecDepth 100000 in
theorem q893 : (Jvm.Cond.methodLink "java/lang/String" (1065 : Nat) ({ cls := "jdk/internal/util/Preconditions", name := "checkFromIndexSize", desc := "(IIILjava/util/function/BiFunction;)I" } : Jvm.MethodName)) ∈ lw_all := lw_g (lw_at lw_m3 37 rfl) rfl
set_option maxRecDepth 100000 in
theorem q894 : (Jvm.Cond.static ({ cls := "jdk/internal/util/Preconditions", name := "checkFromIndexSize", desc := "(IIILjava/util/function/BiFunction;)I" } : Jvm.MethodName)) ∈ lw_all := lw_g (lw_at lw_m3 38 rfl) rfl
set_option maxRecDepth 100000 in
theorem q895 : (Jvm.Cond.code ({ cls := "jdk/internal/util/Preconditions", name := "checkFromIndexSize", desc := "(IIILjava/util/function/BiFunction;)I" } : Jvm.MethodName) prog_68_method_13_code (4 : Nat) (Option.some Jvm.ClassFile.FieldType.int)) ∈ lw_all := lw_g (lw_at lw_m3 39 rfl) rfl
set_option maxRecDepth 100000 in
theorem q896 : (Jvm.Cond.methodLink "java/lang/StringUTF16" (111 : Nat) ({ cls := "java/lang/StringUTF16", name := "putChar", desc := "([BII)V" } : Jvm.MethodName)) ∈ lw_all := lw_g (lw_at lw_m3 40 rfl) rfl
set_option maxRecDepth 100000 in
theorem q897 : (Jvm.Cond.static ({ cls := "java/lang/StringUTF16", name := "putChar", desc := "([BII)V" } : Jvm.MethodName)) ∈ lw_all := lw_g (lw_at lw_m3 41 rfl) rfl
set_option maxRecDepth 100000 in
theorem q898 : (Jvm.Cond.code ({ cls := "java/lang/StringUTF16", name := "putChar", desc := "([BII)V" } : Jvm.MethodName) prog_53_method_4_code (3 : Nat) (Option.none : Option Jvm.ClassFile.FieldType)) ∈ lw_all := lw_g (lw_at lw_m3 42 rfl) rfl
set_option maxRecDepth 100000 in
theorem q899 : (Jvm.Cond.methodLink "java/lang/AbstractStringBuilder" (197 : Nat) ({ cls := "java/lang/StringUTF16", name := "putCharSB", desc := "([BII)V" } : Jvm.MethodName)) ∈ lw_all := lw_g (lw_at lw_m3 43 rfl) rfl
set_option maxRecDepth 100000 in
theorem q900 : (Jvm.Cond.static ({ cls := "java/lang/StringUTF16", name := "putCharSB", desc := "([BII)V" } : Jvm.MethodName)) ∈ lw_all := lw_g (lw_at lw_m3 44 rfl) rfl
set_option maxRecDepth 100000 in
theorem q901 : (Jvm.Cond.code ({ cls := "java/lang/StringUTF16", name := "putCharSB", desc := "([BII)V" } : Jvm.MethodName) prog_53_method_71_code (3 : Nat) (Option.none : Option Jvm.ClassFile.FieldType)) ∈ lw_all := lw_g (lw_at lw_m3 45 rfl) rfl
set_option maxRecDepth 100000 in
theorem q902 : (Jvm.Cond.classLink "PascalHouse$Compiler" (103 : Nat) "PascalHouse$Item") ∈ lw_all := lw_g (lw_at lw_m3 46 rfl) rfl
set_option maxRecDepth 100000 in
theorem q903 : (Jvm.Cond.instantiable "PascalHouse$Item" (12 : Nat)) ∈ lw_all := lw_g (lw_at lw_m3 47 rfl) rfl
set_option maxRecDepth 100000 in
theorem q904 : (Jvm.Cond.methodLink "PascalHouse$Compiler" (105 : Nat) ({ cls := "java/lang/StringBuilder", name := "toString", desc := "()Ljava/lang/String;" } : Jvm.MethodName)) ∈ lw_all := lw_g (lw_at lw_m3 48 rfl) rfl
set_option maxRecDepth 100000 in
theorem q905 : (Jvm.Cond.instanceMethod ({ cls := "java/lang/StringBuilder", name := "toString", desc := "()Ljava/lang/String;" } : Jvm.MethodName)) ∈ lw_all := lw_g (lw_at lw_m3 49 rfl) rfl
set_option maxRecDepth 100000 in
theorem q906 : (Jvm.Cond.selects "java/lang/StringBuilder" ({ cls := "java/lang/StringBuilder", name := "toString", desc := "()Ljava/lang/String;" } : Jvm.MethodName) ({ cls := "java/lang/StringBuilder", name := "toString", desc := "()Ljava/lang/String;" } : Jvm.MethodName)) ∈ lw_all := lw_g (lw_at lw_m3 50 rfl) rfl
set_option maxRecDepth 100000 in
theorem q907 : (Jvm.Cond.code ({ cls := "java/lang/StringBuilder", name := "toString", desc := "()Ljava/lang/String;" } : Jvm.MethodName) prog_51_method_42_code (1 : Nat) (Option.some (Jvm.ClassFile.FieldType.object "java/lang/String"))) ∈ lw_all := lw_g (lw_at lw_m3 51 rfl) rfl
set_option maxRecDepth 100000 in
theorem q908 : (Jvm.Cond.classLink "java/lang/StringBuilder" (18 : Nat) "java/lang/String") ∈ lw_all := lw_g (lw_at lw_m3 52 rfl) rfl
set_option maxRecDepth 100000 in
theorem q909 : (Jvm.Cond.instantiable "java/lang/String" (4 : Nat)) ∈ lw_all := lw_g (lw_at lw_m3 53 rfl) rfl
set_option maxRecDepth 100000 in
theorem q910 : (Jvm.Cond.methodLink "java/lang/StringBuilder" (137 : Nat) ({ cls := "java/lang/String", name := "<init>", desc := "(Ljava/lang/StringBuilder;)V" } : Jvm.MethodName)) ∈ lw_all := lw_g (lw_at lw_m3 54 rfl) rfl
set_option maxRecDepth 100000 in
theorem q911 : (Jvm.Cond.instanceMethod ({ cls := "java/lang/String", name := "<init>", desc := "(Ljava/lang/StringBuilder;)V" } : Jvm.MethodName)) ∈ lw_all := lw_g (lw_at lw_m3 55 rfl) rfl
set_option maxRecDepth 100000 in
theorem q912 : (Jvm.Cond.code ({ cls := "java/lang/String", name := "<init>", desc := "(Ljava/lang/StringBuilder;)V" } : Jvm.MethodName) prog_50_method_53_code (2 : Nat) (Option.none : Option Jvm.ClassFile.FieldType)) ∈ lw_all := lw_g (lw_at lw_m3 56 rfl) rfl
set_option maxRecDepth 100000 in
theorem q913 : (Jvm.Cond.methodLink "java/lang/String" (489 : Nat) ({ cls := "java/lang/String", name := "<init>", desc := "(Ljava/lang/AbstractStringBuilder;Ljava/lang/Void;)V" } : Jvm.MethodName)) ∈ lw_all := lw_g (lw_at lw_m3 57 rfl) rfl
set_option maxRecDepth 100000 in
theorem q914 : (Jvm.Cond.instanceMethod ({ cls := "java/lang/String", name := "<init>", desc := "(Ljava/lang/AbstractStringBuilder;Ljava/lang/Void;)V" } : Jvm.MethodName)) ∈ lw_all := lw_g (lw_at lw_m3 58 rfl) rfl
set_option maxRecDepth 100000 in
theorem q915 : (Jvm.Cond.code ({ cls := "java/lang/String", name := "<init>", desc := "(Ljava/lang/AbstractStringBuilder;Ljava/lang/Void;)V" } : Jvm.MethodName) prog_50_method_150_code (5 : Nat) (Option.none : Option Jvm.ClassFile.FieldType)) ∈ lw_all := lw_g (lw_at lw_m3 59 rfl) rfl
set_option maxRecDepth 100000 in
theorem q916 : (Jvm.Cond.methodLink "java/lang/String" (1 : Nat) ({ cls := "java/lang/Object", name := "<init>", desc := "()V" } : Jvm.MethodName)) ∈ lw_all := lw_g (lw_at lw_m3 60 rfl) rfl
set_option maxRecDepth 100000 in
theorem q917 : (Jvm.Cond.methodLink "java/lang/String" (552 : Nat) ({ cls := "java/lang/AbstractStringBuilder", name := "getValue", desc := "()[B" } : Jvm.MethodName)) ∈ lw_all := lw_g (lw_at lw_m3 61 rfl) rfl
set_option maxRecDepth 100000 in
theorem q918 : (Jvm.Cond.instanceMethod ({ cls := "java/lang/AbstractStringBuilder", name := "getValue", desc := "()[B" } : Jvm.MethodName)) ∈ lw_all := lw_g (lw_at lw_m3 62 rfl) rfl
set_option maxRecDepth 100000 in
theorem q920 : (Jvm.Cond.selects "java/lang/StringBuilder" ({ cls := "java/lang/AbstractStringBuilder", name := "getValue", desc := "()[B" } : Jvm.MethodName) ({ cls := "java/lang/AbstractStringBuilder", name := "getValue", desc := "()[B" } : Jvm.MethodName)) ∈ lw_all := lw_g (lw_at lw_m3 64 rfl) rfl
set_option maxRecDepth 100000 in
theorem q921 : (Jvm.Cond.code ({ cls := "java/lang/AbstractStringBuilder", name := "getValue", desc := "()[B" } : Jvm.MethodName) prog_32_method_64_code (1 : Nat) (Option.some (Jvm.ClassFile.FieldType.array Jvm.ClassFile.FieldType.byte))) ∈ lw_all := lw_g (lw_at lw_m3 65 rfl) rfl
set_option maxRecDepth 100000 in
theorem q922 : (Jvm.Cond.methodLink "java/lang/String" (549 : Nat) ({ cls := "java/lang/AbstractStringBuilder", name := "length", desc := "()I" } : Jvm.MethodName)) ∈ lw_all := lw_g (lw_at lw_m3 66 rfl) rfl
set_option maxRecDepth 100000 in
theorem q923 : (Jvm.Cond.instanceMethod ({ cls := "java/lang/AbstractStringBuilder", name := "length", desc := "()I" } : Jvm.MethodName)) ∈ lw_all := lw_g (lw_at lw_m3 67 rfl) rfl
set_option maxRecDepth 100000 in
theorem q924 : (Jvm.Cond.sameMethod "java/lang/AbstractStringBuilder" "java/lang/AbstractStringBuilder" "length" "()I") ∈ lw_all := lw_g (lw_at lw_m3 68 rfl) rfl
set_option maxRecDepth 100000 in
theorem q925 : (Jvm.Cond.selects "java/lang/StringBuilder" ({ cls := "java/lang/AbstractStringBuilder", name := "length", desc := "()I" } : Jvm.MethodName) ({ cls := "java/lang/StringBuilder", name := "length", desc := "()I" } : Jvm.MethodName)) ∈ lw_all := lw_g (lw_at lw_m3 69 rfl) rfl
set_option maxRecDepth 100000 in
theorem q926 : (Jvm.Cond.instanceMethod ({ cls := "java/lang/StringBuilder", name := "length", desc := "()I" } : Jvm.MethodName)) ∈ lw_all := lw_g (lw_at lw_m3 70 rfl) rfl
set_option maxRecDepth 100000 in
theorem q927 : (Jvm.Cond.code ({ cls := "java/lang/StringBuilder", name := "length", desc := "()I" } : Jvm.MethodName) prog_51_method_93_code (1 : Nat) (Option.some Jvm.ClassFile.FieldType.int)) ∈ lw_all := lw_g (lw_at lw_m3 71 rfl) rfl
set_option maxRecDepth 100000 in
theorem q928 : (Jvm.Cond.methodLink "java/lang/StringBuilder" (343 : Nat) ({ cls := "java/lang/AbstractStringBuilder", name := "length", desc := "()I" } : Jvm.MethodName)) ∈ lw_all := lw_g (lw_at lw_m3 72 rfl) rfl
set_option maxRecDepth 100000 in
theorem q929 : (Jvm.Cond.code ({ cls := "java/lang/AbstractStringBuilder", name := "length", desc := "()I" } : Jvm.MethodName) prog_32_method_6_code (1 : Nat) (Option.some Jvm.ClassFile.FieldType.int)) ∈ lw_all := lw_g (lw_at lw_m3 73 rfl) rfl
set_option maxRecDepth 100000 in
theorem q930 : (Jvm.Cond.methodLink "java/lang/String" (1047 : Nat) ({ cls := "java/lang/AbstractStringBuilder", name := "isLatin1", desc := "()Z" } : Jvm.MethodName)) ∈ lw_all := lw_g (lw_at lw_m3 74 rfl) rfl
set_option maxRecDepth 100000 in
theorem q931 : (Jvm.Cond.methodLink "java/lang/String" (54 : Nat) ({ cls := "java/util/Arrays", name := "copyOfRange", desc := "([BII)[B" } : Jvm.MethodName)) ∈ lw_all := lw_g (lw_at lw_m3 75 rfl) rfl
set_option maxRecDepth 100000 in
theorem q932 : (Jvm.Cond.static ({ cls := "java/util/Arrays", name := "copyOfRange", desc := "([BII)[B" } : Jvm.MethodName)) ∈ lw_all := lw_g (lw_at lw_m3 76 rfl) rfl
set_option maxRecDepth 100000 in
theorem q933 : (Jvm.Cond.code ({ cls := "java/util/Arrays", name := "copyOfRange", desc := "([BII)[B" } : Jvm.MethodName) prog_61_method_132_code (3 : Nat) (Option.some (Jvm.ClassFile.FieldType.array Jvm.ClassFile.FieldType.byte))) ∈ lw_all := lw_g (lw_at lw_m3 77 rfl) rfl
set_option maxRecDepth 100000 in
theorem q934 : (Jvm.Cond.methodLink "java/util/Arrays" (339 : Nat) ({ cls := "java/util/Arrays", name := "copyOfRangeByte", desc := "([BII)[B" } : Jvm.MethodName)) ∈ lw_all := lw_g (lw_at lw_m3 78 rfl) rfl
set_option maxRecDepth 100000 in
theorem q935 : (Jvm.Cond.static ({ cls := "java/util/Arrays", name := "copyOfRangeByte", desc := "([BII)[B" } : Jvm.MethodName)) ∈ lw_all := lw_g (lw_at lw_m3 79 rfl) rfl
set_option maxRecDepth 100000 in
theorem q936 : (Jvm.Cond.code ({ cls := "java/util/Arrays", name := "copyOfRangeByte", desc := "([BII)[B" } : Jvm.MethodName) prog_61_method_133_code (5 : Nat) (Option.some (Jvm.ClassFile.FieldType.array Jvm.ClassFile.FieldType.byte))) ∈ lw_all := lw_g (lw_at lw_m3 80 rfl) rfl
set_option maxRecDepth 100000 in
theorem q937 : (Jvm.Cond.methodLink "java/util/Arrays" (343 : Nat) ({ cls := "java/util/Arrays", name := "checkLength", desc := "(II)V" } : Jvm.MethodName)) ∈ lw_all := lw_g (lw_at lw_m3 81 rfl) rfl
set_option maxRecDepth 100000 in
theorem q938 : (Jvm.Cond.static ({ cls := "java/util/Arrays", name := "checkLength", desc := "(II)V" } : Jvm.MethodName)) ∈ lw_all := lw_g (lw_at lw_m3 82 rfl) rfl
set_option maxRecDepth 100000 in
theorem q939 : (Jvm.Cond.code ({ cls := "java/util/Arrays", name := "checkLength", desc := "(II)V" } : Jvm.MethodName) prog_61_method_131_code (2 : Nat) (Option.none : Option Jvm.ClassFile.FieldType)) ∈ lw_all := lw_g (lw_at lw_m3 83 rfl) rfl
set_option maxRecDepth 100000 in
theorem q940 : (Jvm.Cond.methodLink "java/lang/String" (1051 : Nat) ({ cls := "java/lang/StringUTF16", name := "compress", desc := "([BII)[B" } : Jvm.MethodName)) ∈ lw_all := lw_g (lw_at lw_m3 84 rfl) rfl
set_option maxRecDepth 100000 in
theorem q941 : (Jvm.Cond.static ({ cls := "java/lang/StringUTF16", name := "compress", desc := "([BII)[B" } : Jvm.MethodName)) ∈ lw_all := lw_g (lw_at lw_m3 85 rfl) rfl
set_option maxRecDepth 100000 in
theorem q942 : (Jvm.Cond.code ({ cls := "java/lang/StringUTF16", name := "compress", desc := "([BII)[B" } : Jvm.MethodName) prog_53_method_17_code (6 : Nat) (Option.some (Jvm.ClassFile.FieldType.array Jvm.ClassFile.FieldType.byte))) ∈ lw_all := lw_g (lw_at lw_m3 86 rfl) rfl
set_option maxRecDepth 100000 in
theorem q943 : (Jvm.Cond.methodLink "java/lang/StringUTF16" (123 : Nat) ({ cls := "java/lang/StringUTF16", name := "compress", desc := "([BI[BII)I" } : Jvm.MethodName)) ∈ lw_all := lw_g (lw_at lw_m3 87 rfl) rfl
set_option maxRecDepth 100000 in
theorem q944 : (Jvm.Cond.static ({ cls := "java/lang/StringUTF16", name := "compress", desc := "([BI[BII)I" } : Jvm.MethodName)) ∈ lw_all := lw_g (lw_at lw_m3 88 rfl) rfl
set_option maxRecDepth 100000 in
theorem q945 : (Jvm.Cond.code ({ cls := "java/lang/StringUTF16", name := "compress", desc := "([BI[BII)I" } : Jvm.MethodName) prog_53_method_22_code (7 : Nat) (Option.some Jvm.ClassFile.FieldType.int)) ∈ lw_all := lw_g (lw_at lw_m3 89 rfl) rfl
set_option maxRecDepth 100000 in
theorem q946 : (Jvm.Cond.methodLink "java/lang/StringUTF16" (126 : Nat) ({ cls := "java/util/Arrays", name := "copyOfRange", desc := "([BII)[B" } : Jvm.MethodName)) ∈ lw_all := lw_g (lw_at lw_m3 90 rfl) rfl
set_option maxRecDepth 100000 in
theorem q947 : (Jvm.Cond.methodLink "java/lang/String" (47 : Nat) ({ cls := "java/lang/StringUTF16", name := "coderFromArrayLen", desc := "([BI)B" } : Jvm.MethodName)) ∈ lw_all := lw_g (lw_at lw_m3 91 rfl) rfl
set_option maxRecDepth 100000 in
theorem q948 : (Jvm.Cond.static ({ cls := "java/lang/StringUTF16", name := "coderFromArrayLen", desc := "([BI)B" } : Jvm.MethodName)) ∈ lw_all := lw_g (lw_at lw_m3 92 rfl) rfl
set_option maxRecDepth 100000 in
theorem q949 : (Jvm.Cond.code ({ cls := "java/lang/StringUTF16", name := "coderFromArrayLen", desc := "([BI)B" } : Jvm.MethodName) prog_53_method_15_code (2 : Nat) (Option.some Jvm.ClassFile.FieldType.byte)) ∈ lw_all := lw_g (lw_at lw_m3 93 rfl) rfl
set_option maxRecDepth 100000 in
theorem q950 : (Jvm.Cond.fieldLink "java/lang/String" (9 : Nat) "java/lang/String" "value" "[B") ∈ lw_all := lw_g (lw_at lw_m3 94 rfl) rfl
set_option maxRecDepth 100000 in
theorem q951 : (Jvm.Cond.fieldLink "java/lang/String" (15 : Nat) "java/lang/String" "coder" "B") ∈ lw_all := lw_g (lw_at lw_m3 95 rfl) rfl
set_option maxRecDepth 100000 in
theorem q961 : (Jvm.Cond.methodLink "PascalHouse$Compiler" (109 : Nat) ({ cls := "PascalHouse$Item", name := "<init>", desc := "(ILjava/lang/String;LPascalHouse$Type;)V" } : Jvm.MethodName)) ∈ lw_all := lw_g (lw_at lw_m3 105 rfl) rfl
set_option maxRecDepth 100000 in
theorem q962 : (Jvm.Cond.instanceMethod ({ cls := "PascalHouse$Item", name := "<init>", desc := "(ILjava/lang/String;LPascalHouse$Type;)V" } : Jvm.MethodName)) ∈ lw_all := lw_g (lw_at lw_m3 106 rfl) rfl
set_option maxRecDepth 100000 in
theorem q963 : (Jvm.Cond.code ({ cls := "PascalHouse$Item", name := "<init>", desc := "(ILjava/lang/String;LPascalHouse$Type;)V" } : Jvm.MethodName) prog_8_method_1_code (4 : Nat) (Option.none : Option Jvm.ClassFile.FieldType)) ∈ lw_all := lw_g (lw_at lw_m3 107 rfl) rfl
set_option maxRecDepth 100000 in
theorem q964 : (Jvm.Cond.methodLink "PascalHouse$Item" (1 : Nat) ({ cls := "java/lang/Object", name := "<init>", desc := "()V" } : Jvm.MethodName)) ∈ lw_all := lw_g (lw_at lw_m3 108 rfl) rfl
set_option maxRecDepth 100000 in
theorem q965 : (Jvm.Cond.fieldLink "PascalHouse$Item" (7 : Nat) "PascalHouse$Item" "kind" "I") ∈ lw_all := lw_g (lw_at lw_m3 109 rfl) rfl
set_option maxRecDepth 100000 in
theorem q966 : (Jvm.Cond.fieldLinkNest "PascalHouse$Compiler" (199 : Nat) "PascalHouse$Item" "kind" "I" "PascalHouse") ∈ lw_tbl := lw_at lw_m3 110 rfl
set_option maxRecDepth 100000 in
theorem q967 : (Jvm.Cond.fieldLink "PascalHouse$Item" (13 : Nat) "PascalHouse$Item" "name" "Ljava/lang/String;") ∈ lw_all := lw_g (lw_at lw_m3 111 rfl) rfl
set_option maxRecDepth 100000 in
theorem q968 : (Jvm.Cond.fieldLinkNest "PascalHouse$Scope" (32 : Nat) "PascalHouse$Item" "name" "Ljava/lang/String;" "PascalHouse") ∈ lw_tbl := lw_at lw_m3 112 rfl
set_option maxRecDepth 100000 in
theorem q969 : (Jvm.Cond.fieldLinkNest "PascalHouse$Compiler" (155 : Nat) "PascalHouse$Item" "name" "Ljava/lang/String;" "PascalHouse") ∈ lw_tbl := lw_at lw_m3 113 rfl
set_option maxRecDepth 100000 in
theorem q970 : (Jvm.Cond.fieldLink "PascalHouse$Item" (17 : Nat) "PascalHouse$Item" "type" "LPascalHouse$Type;") ∈ lw_all := lw_g (lw_at lw_m3 114 rfl) rfl
set_option maxRecDepth 100000 in
theorem q971 : (Jvm.Cond.fieldLinkNest "PascalHouse$Machine" (175 : Nat) "PascalHouse$Item" "type" "LPascalHouse$Type;" "PascalHouse") ∈ lw_tbl := lw_at lw_m3 115 rfl
set_option maxRecDepth 100000 in
theorem q972 : (Jvm.Cond.fieldLinkNest "PascalHouse$Compiler" (249 : Nat) "PascalHouse$Item" "type" "LPascalHouse$Type;" "PascalHouse") ∈ lw_tbl := lw_at lw_m3 116 rfl
set_option maxRecDepth 100000 in
theorem q973 : (Jvm.Cond.fieldLinkNest "PascalHouse$Compiler" (112 : Nat) "PascalHouse$Item" "value" "I" "PascalHouse") ∈ lw_tbl := lw_at lw_m3 117 rfl
set_option maxRecDepth 100000 in
theorem q974 : (Jvm.Cond.fieldLinkNest "PascalHouse$Compiler" (450 : Nat) "PascalHouse$Item" "level" "I" "PascalHouse") ∈ lw_tbl := lw_at lw_m3 118 rfl
set_option maxRecDepth 100000 in
theorem q975 : (Jvm.Cond.fieldLinkNest "PascalHouse$Machine" (172 : Nat) "PascalHouse$Item" "offset" "I" "PascalHouse") ∈ lw_tbl := lw_at lw_m3 119 rfl
set_option maxRecDepth 100000 in
theorem q976 : (Jvm.Cond.fieldLinkNest "PascalHouse" (242 : Nat) "PascalHouse$Item" "offset" "I" "PascalHouse") ∈ lw_tbl := lw_at lw_m3 120 rfl
set_option maxRecDepth 100000 in
theorem q977 : (Jvm.Cond.fieldLinkNest "PascalHouse$Compiler" (454 : Nat) "PascalHouse$Item" "offset" "I" "PascalHouse") ∈ lw_tbl := lw_at lw_m3 121 rfl
set_option maxRecDepth 100000 in
theorem q978 : (Jvm.Cond.fieldLinkNest "PascalHouse$Compiler" (671 : Nat) "PascalHouse$Item" "controls" "I" "PascalHouse") ∈ lw_tbl := lw_at lw_m3 122 rfl
set_option maxRecDepth 100000 in
theorem q979 : (Jvm.Cond.fieldLinkNest "PascalHouse$Compiler" (250 : Nat) "PascalHouse$Item" "real" "D" "PascalHouse") ∈ lw_tbl := lw_at lw_m3 123 rfl
set_option maxRecDepth 100000 in
theorem q980 : (Jvm.Cond.fieldLinkNest "PascalHouse$Compiler" (553 : Nat) "PascalHouse$Item" "byReference" "Z" "PascalHouse") ∈ lw_tbl := lw_at lw_m3 124 rfl
set_option maxRecDepth 100000 in
theorem q981 : (Jvm.Cond.fieldLinkNest "PascalHouse$Compiler" (517 : Nat) "PascalHouse$Item" "own" "Z" "PascalHouse") ∈ lw_tbl := lw_at lw_m3 125 rfl
set_option maxRecDepth 100000 in
theorem q982 : (Jvm.Cond.fieldLinkNest "PascalHouse$Compiler" (668 : Nat) "PascalHouse$Item" "threatened" "Z" "PascalHouse") ∈ lw_tbl := lw_at lw_m3 126 rfl
set_option maxRecDepth 100000 in
theorem q983 : (Jvm.Cond.fieldLinkNest "PascalHouse$Compiler" (492 : Nat) "PascalHouse$Item" "routine" "LPascalHouse$Routine;" "PascalHouse") ∈ lw_tbl := lw_at lw_m3 127 rfl
set_option maxRecDepth 100000 in
theorem q1009 : (Jvm.Cond.methodLink "PascalHouse$Compiler" (120 : Nat) ({ cls := "java/util/ArrayList", name := "add", desc := "(Ljava/lang/Object;)Z" } : Jvm.MethodName)) ∈ lw_all := lw_g (lw_at lw_m3 153 rfl) rfl
set_option maxRecDepth 100000 in
theorem q1010 : (Jvm.Cond.instanceMethod ({ cls := "java/util/ArrayList", name := "add", desc := "(Ljava/lang/Object;)Z" } : Jvm.MethodName)) ∈ lw_all := lw_g (lw_at lw_m3 154 rfl) rfl
set_option maxRecDepth 100000 in
theorem q1011 : (Jvm.Cond.selects "java/util/ArrayList" ({ cls := "java/util/ArrayList", name := "add", desc := "(Ljava/lang/Object;)Z" } : Jvm.MethodName) ({ cls := "java/util/ArrayList", name := "add", desc := "(Ljava/lang/Object;)Z" } : Jvm.MethodName)) ∈ lw_all := lw_g (lw_at lw_m3 155 rfl) rfl
set_option maxRecDepth 100000 in
theorem q1012 : (Jvm.Cond.code ({ cls := "java/util/ArrayList", name := "add", desc := "(Ljava/lang/Object;)Z" } : Jvm.MethodName) prog_60_method_25_code (2 : Nat) (Option.some Jvm.ClassFile.FieldType.boolean)) ∈ lw_all := lw_g (lw_at lw_m3 156 rfl) rfl
set_option maxRecDepth 100000 in
theorem q1013 : (Jvm.Cond.methodLink "java/util/ArrayList" (131 : Nat) ({ cls := "java/util/ArrayList", name := "add", desc := "(Ljava/lang/Object;[Ljava/lang/Object;I)V" } : Jvm.MethodName)) ∈ lw_all := lw_g (lw_at lw_m3 157 rfl) rfl
set_option maxRecDepth 100000 in
theorem q1015 : (Jvm.Cond.instanceMethod ({ cls := "java/util/ArrayList", name := "add", desc := "(Ljava/lang/Object;[Ljava/lang/Object;I)V" } : Jvm.MethodName)) ∈ lw_all := lw_g (lw_at lw_m3 159 rfl) rfl
set_option maxRecDepth 100000 in
theorem q1016 : (Jvm.Cond.code ({ cls := "java/util/ArrayList", name := "add", desc := "(Ljava/lang/Object;[Ljava/lang/Object;I)V" } : Jvm.MethodName) prog_60_method_24_code (4 : Nat) (Option.none : Option Jvm.ClassFile.FieldType)) ∈ lw_all := lw_g (lw_at lw_m3 160 rfl) rfl
set_option maxRecDepth 100000 in
theorem q1017 : (Jvm.Cond.methodLink "java/util/ArrayList" (129 : Nat) ({ cls := "java/util/ArrayList", name := "grow", desc := "()[Ljava/lang/Object;" } : Jvm.MethodName)) ∈ lw_all := lw_g (lw_at lw_m3 161 rfl) rfl
set_option maxRecDepth 100000 in
theorem q1019 : (Jvm.Cond.instanceMethod ({ cls := "java/util/ArrayList", name := "grow", desc := "()[Ljava/lang/Object;" } : Jvm.MethodName)) ∈ lw_all := lw_g (lw_at lw_m3 163 rfl) rfl
set_option maxRecDepth 100000 in
theorem q1020 : (Jvm.Cond.code ({ cls := "java/util/ArrayList", name := "grow", desc := "()[Ljava/lang/Object;" } : Jvm.MethodName) prog_60_method_7_code (1 : Nat) (Option.some (Jvm.ClassFile.FieldType.array (Jvm.ClassFile.FieldType.object "java/lang/Object")))) ∈ lw_all := lw_g (lw_at lw_m3 164 rfl) rfl
set_option maxRecDepth 100000 in
theorem q1021 : (Jvm.Cond.methodLink "java/util/ArrayList" (69 : Nat) ({ cls := "java/util/ArrayList", name := "grow", desc := "(I)[Ljava/lang/Object;" } : Jvm.MethodName)) ∈ lw_all := lw_g (lw_at lw_m3 165 rfl) rfl
set_option maxRecDepth 100000 in
theorem q1023 : (Jvm.Cond.instanceMethod ({ cls := "java/util/ArrayList", name := "grow", desc := "(I)[Ljava/lang/Object;" } : Jvm.MethodName)) ∈ lw_all := lw_g (lw_at lw_m3 167 rfl) rfl
set_option maxRecDepth 100000 in
theorem q1024 : (Jvm.Cond.code ({ cls := "java/util/ArrayList", name := "grow", desc := "(I)[Ljava/lang/Object;" } : Jvm.MethodName) prog_60_method_6_code (4 : Nat) (Option.some (Jvm.ClassFile.FieldType.array (Jvm.ClassFile.FieldType.object "java/lang/Object")))) ∈ lw_all := lw_g (lw_at lw_m3 168 rfl) rfl
set_option maxRecDepth 100000 in
theorem q1025 : (Jvm.Cond.fieldLink "java/util/ArrayList" (39 : Nat) "java/util/ArrayList" "DEFAULTCAPACITY_EMPTY_ELEMENTDATA" "[Ljava/lang/Object;") ∈ lw_all := lw_g (lw_at lw_m3 169 rfl) rfl
set_option maxRecDepth 100000 in
theorem q1027 : (Jvm.Cond.methodLink "java/util/ArrayList" (73 : Nat) ({ cls := "jdk/internal/util/ArraysSupport", name := "newLength", desc := "(III)I" } : Jvm.MethodName)) ∈ lw_all := lw_g (lw_at lw_m3 171 rfl) rfl
set_option maxRecDepth 100000 in
theorem q1028 : (Jvm.Cond.methodLink "java/util/ArrayList" (66 : Nat) ({ cls := "java/util/Arrays", name := "copyOf", desc := "([Ljava/lang/Object;I)[Ljava/lang/Object;" } : Jvm.MethodName)) ∈ lw_all := lw_g (lw_at lw_m3 172 rfl) rfl
set_option maxRecDepth 100000 in
theorem q1029 : (Jvm.Cond.static ({ cls := "java/util/Arrays", name := "copyOf", desc := "([Ljava/lang/Object;I)[Ljava/lang/Object;" } : Jvm.MethodName)) ∈ lw_all := lw_g (lw_at lw_m3 173 rfl) rfl
set_option maxRecDepth 100000 in
theorem q1030 : (Jvm.Cond.code ({ cls := "java/util/Arrays", name := "copyOf", desc := "([Ljava/lang/Object;I)[Ljava/lang/Object;" } : Jvm.MethodName) prog_61_method_119_code (2 : Nat) (Option.some (Jvm.ClassFile.FieldType.array (Jvm.ClassFile.FieldType.object "java/lang/Object")))) ∈ lw_all := lw_g (lw_at lw_m3 174 rfl) rfl
set_option maxRecDepth 100000 in
theorem q1031 : (Jvm.Cond.methodLink "java/util/Arrays" (86 : Nat) ({ cls := "java/lang/Object", name := "getClass", desc := "()Ljava/lang/Class;" } : Jvm.MethodName)) ∈ lw_all := lw_g (lw_at lw_m3 175 rfl) rfl
set_option maxRecDepth 100000 in
theorem q1032 : (Jvm.Cond.instanceMethod ({ cls := "java/lang/Object", name := "getClass", desc := "()Ljava/lang/Class;" } : Jvm.MethodName)) ∈ lw_all := lw_g (lw_at lw_m3 176 rfl) rfl
set_option maxRecDepth 100000 in
theorem q1067 : (Jvm.Cond.native ({ cls := "java/lang/Object", name := "getClass", desc := "()Ljava/lang/Class;" } : Jvm.MethodName)) ∈ lw_all := lw_g (lw_at lw_m3 211 rfl) rfl
set_option maxRecDepth 100000 in
theorem q1068 : (Jvm.Cond.methodLink "java/util/Arrays" (300 : Nat) ({ cls := "java/util/Arrays", name := "copyOf", desc := "([Ljava/lang/Object;ILjava/lang/Class;)[Ljava/lang/Object;" } : Jvm.MethodName)) ∈ lw_all := lw_g (lw_at lw_m3 212 rfl) rfl
set_option maxRecDepth 100000 in
theorem q1069 : (Jvm.Cond.static ({ cls := "java/util/Arrays", name := "copyOf", desc := "([Ljava/lang/Object;ILjava/lang/Class;)[Ljava/lang/Object;" } : Jvm.MethodName)) ∈ lw_all := lw_g (lw_at lw_m3 213 rfl) rfl
set_option maxRecDepth 100000 in
theorem q1070 : (Jvm.Cond.code ({ cls := "java/util/Arrays", name := "copyOf", desc := "([Ljava/lang/Object;ILjava/lang/Class;)[Ljava/lang/Object;" } : Jvm.MethodName) prog_61_method_120_code (4 : Nat) (Option.some (Jvm.ClassFile.FieldType.array (Jvm.ClassFile.FieldType.object "java/lang/Object")))) ∈ lw_all := lw_g (lw_at lw_m3 214 rfl) rfl
set_option maxRecDepth 100000 in
theorem q1071 : (Jvm.Cond.classLink "java/util/Arrays" (110 : Nat) "[Ljava/lang/Object;") ∈ lw_all := lw_g (lw_at lw_m3 215 rfl) rfl
set_option maxRecDepth 100000 in
theorem q1072 : (Jvm.Cond.classLink "java/util/Arrays" (2 : Nat) "java/lang/Object") ∈ lw_all := lw_g (lw_at lw_m3 216 rfl) rfl
set_option maxRecDepth 100000 in
theorem q1073 : (Jvm.Cond.methodLink "java/util/ArrayList" (79 : Nat) ({ cls := "java/lang/Math", name := "max", desc := "(II)I" } : Jvm.MethodName)) ∈ lw_all := lw_g (lw_at lw_m3 217 rfl) rfl
set_option maxRecDepth 100000 in
theorem q1074 : (Jvm.Cond.methodLink "PascalHouse$Compiler" (124 : Nat) ({ cls := "java/lang/StringBuilder", name := "setLength", desc := "(I)V" } : Jvm.MethodName)) ∈ lw_all := lw_g (lw_at lw_m3 218 rfl) rfl
set_option maxRecDepth 100000 in
theorem q1075 : (Jvm.Cond.instanceMethod ({ cls := "java/lang/StringBuilder", name := "setLength", desc := "(I)V" } : Jvm.MethodName)) ∈ lw_all := lw_g (lw_at lw_m3 219 rfl) rfl
set_option maxRecDepth 100000 in
theorem q1076 : (Jvm.Cond.selects "java/lang/StringBuilder" ({ cls := "java/lang/StringBuilder", name := "setLength", desc := "(I)V" } : Jvm.MethodName) ({ cls := "java/lang/StringBuilder", name := "setLength", desc := "(I)V" } : Jvm.MethodName)) ∈ lw_all := lw_g (lw_at lw_m3 220 rfl) rfl
set_option maxRecDepth 100000 in
theorem q1077 : (Jvm.Cond.code ({ cls := "java/lang/StringBuilder", name := "setLength", desc := "(I)V" } : Jvm.MethodName) prog_51_method_89_code (2 : Nat) (Option.none : Option Jvm.ClassFile.FieldType)) ∈ lw_all := lw_g (lw_at lw_m3 221 rfl) rfl
set_option maxRecDepth 100000 in
theorem q1078 : (Jvm.Cond.methodLink "java/lang/StringBuilder" (333 : Nat) ({ cls := "java/lang/AbstractStringBuilder", name := "setLength", desc := "(I)V" } : Jvm.MethodName)) ∈ lw_all := lw_g (lw_at lw_m3 222 rfl) rfl
set_option maxRecDepth 100000 in
theorem q1079 : (Jvm.Cond.instanceMethod ({ cls := "java/lang/AbstractStringBuilder", name := "setLength", desc := "(I)V" } : Jvm.MethodName)) ∈ lw_all := lw_g (lw_at lw_m3 223 rfl) rfl
set_option maxRecDepth 100000 in
theorem q1080 : (Jvm.Cond.code ({ cls := "java/lang/AbstractStringBuilder", name := "setLength", desc := "(I)V" } : Jvm.MethodName) prog_32_method_13_code (2 : Nat) (Option.none : Option Jvm.ClassFile.FieldType)) ∈ lw_all := lw_g (lw_at lw_m3 224 rfl) rfl
set_option maxRecDepth 100000 in
theorem q1081 : (Jvm.Cond.methodLink "java/lang/AbstractStringBuilder" (133 : Nat) ({ cls := "java/lang/StringLatin1", name := "fillNull", desc := "([BII)V" } : Jvm.MethodName)) ∈ lw_all := lw_g (lw_at lw_m3 225 rfl) rfl
set_option maxRecDepth 100000 in
theorem q1082 : (Jvm.Cond.static ({ cls := "java/lang/StringLatin1", name := "fillNull", desc := "([BII)V" } : Jvm.MethodName)) ∈ lw_all := lw_g (lw_at lw_m3 226 rfl) rfl
set_option maxRecDepth 100000 in
theorem q1083 : (Jvm.Cond.code ({ cls := "java/lang/StringLatin1", name := "fillNull", desc := "([BII)V" } : Jvm.MethodName) prog_52_method_48_code (3 : Nat) (Option.none : Option Jvm.ClassFile.FieldType)) ∈ lw_all := lw_g (lw_at lw_m3 227 rfl) rfl
set_option maxRecDepth 100000 in
theorem q1084 : (Jvm.Cond.methodLink "java/lang/StringLatin1" (236 : Nat) ({ cls := "java/util/Arrays", name := "fill", desc := "([BIIB)V" } : Jvm.MethodName)) ∈ lw_all := lw_g (lw_at lw_m3 228 rfl) rfl
set_option maxRecDepth 100000 in
theorem q1085 : (Jvm.Cond.static ({ cls := "java/util/Arrays", name := "fill", desc := "([BIIB)V" } : Jvm.MethodName)) ∈ lw_all := lw_g (lw_at lw_m3 229 rfl) rfl
set_option maxRecDepth 100000 in
theorem q1086 : (Jvm.Cond.code ({ cls := "java/util/Arrays", name := "fill", desc := "([BIIB)V" } : Jvm.MethodName) prog_61_method_110_code (5 : Nat) (Option.none : Option Jvm.ClassFile.FieldType)) ∈ lw_all := lw_g (lw_at lw_m3 230 rfl) rfl
set_option maxRecDepth 100000 in
theorem q1087 : (Jvm.Cond.methodLink "java/util/Arrays" (13 : Nat) ({ cls := "java/util/Arrays", name := "rangeCheck", desc := "(III)V" } : Jvm.MethodName)) ∈ lw_all := lw_g (lw_at lw_m3 231 rfl) rfl
set_option maxRecDepth 100000 in
theorem q1088 : (Jvm.Cond.static ({ cls := "java/util/Arrays", name := "rangeCheck", desc := "(III)V" } : Jvm.MethodName)) ∈ lw_all := lw_g (lw_at lw_m3 232 rfl) rfl
set_option maxRecDepth 100000 in
theorem q1089 : (Jvm.Cond.code ({ cls := "java/util/Arrays", name := "rangeCheck", desc := "(III)V" } : Jvm.MethodName) prog_61_method_30_code (3 : Nat) (Option.none : Option Jvm.ClassFile.FieldType)) ∈ lw_all := lw_g (lw_at lw_m3 233 rfl) rfl
set_option maxRecDepth 100000 in
theorem q1090 : (Jvm.Cond.methodLink "java/lang/AbstractStringBuilder" (137 : Nat) ({ cls := "java/lang/StringUTF16", name := "fillNull", desc := "([BII)V" } : Jvm.MethodName)) ∈ lw_all := lw_g (lw_at lw_m3 234 rfl) rfl
set_option maxRecDepth 100000 in
theorem q1091 : (Jvm.Cond.static ({ cls := "java/lang/StringUTF16", name := "fillNull", desc := "([BII)V" } : Jvm.MethodName)) ∈ lw_all := lw_g (lw_at lw_m3 235 rfl) rfl
set_option maxRecDepth 100000 in
theorem q1092 : (Jvm.Cond.code ({ cls := "java/lang/StringUTF16", name := "fillNull", desc := "([BII)V" } : Jvm.MethodName) prog_53_method_70_code (3 : Nat) (Option.none : Option Jvm.ClassFile.FieldType)) ∈ lw_all := lw_g (lw_at lw_m3 236 rfl) rfl
set_option maxRecDepth 100000 in
theorem q1093 : (Jvm.Cond.methodLink "java/lang/StringUTF16" (380 : Nat) ({ cls := "java/util/Arrays", name := "fill", desc := "([BIIB)V" } : Jvm.MethodName)) ∈ lw_all := lw_g (lw_at lw_m3 237 rfl) rfl
set_option maxRecDepth 100000 in
theorem q1099 : (Jvm.Cond.methodLink "PascalHouse$Compiler" (143 : Nat) ({ cls := "PascalHouse$Compiler", name := "valueItem", desc := "(Ljava/lang/String;LPascalHouse$Type;I)LPascalHouse$Item;" } : Jvm.MethodName)) ∈ lw_all := lw_g (lw_at lw_m4 3 rfl) rfl
set_option maxRecDepth 100000 in
theorem q1101 : (Jvm.Cond.instanceMethod ({ cls := "PascalHouse$Compiler", name := "valueItem", desc := "(Ljava/lang/String;LPascalHouse$Type;I)LPascalHouse$Item;" } : Jvm.MethodName)) ∈ lw_all := lw_g (lw_at lw_m4 5 rfl) rfl
set_option maxRecDepth 100000 in
theorem q1102 : (Jvm.Cond.code ({ cls := "PascalHouse$Compiler", name := "valueItem", desc := "(Ljava/lang/String;LPascalHouse$Type;I)LPascalHouse$Item;" } : Jvm.MethodName) prog_4_method_4_code (5 : Nat) (Option.some (Jvm.ClassFile.FieldType.object "PascalHouse$Item"))) ∈ lw_all := lw_g (lw_at lw_m4 6 rfl) rfl
set_option maxRecDepth 100000 in
theorem q1107 : (Jvm.Cond.fieldLink "PascalHouse$Compiler" (58 : Nat) "PascalHouse$Compiler" "faults" "LPascalHouse$Faults;") ∈ lw_all := lw_g (lw_at lw_m4 11 rfl) rfl
set_option maxRecDepth 100000 in
theorem q1108 : (Jvm.Cond.fieldLink "PascalHouse$Compiler" (62 : Nat) "PascalHouse$Compiler" "code" "LPascalHouse$Code;") ∈ lw_all := lw_g (lw_at lw_m4 12 rfl) rfl
set_option maxRecDepth 100000 in
theorem q1109 : (Jvm.Cond.fieldLink "PascalHouse$Compiler" (20 : Nat) "PascalHouse$Compiler" "integer" "LPascalHouse$Type;") ∈ lw_all := lw_g (lw_at lw_m4 13 rfl) rfl
set_option maxRecDepth 100000 in
theorem q1110 : (Jvm.Cond.fieldLink "PascalHouse$Compiler" (26 : Nat) "PascalHouse$Compiler" "real" "LPascalHouse$Type;") ∈ lw_all := lw_g (lw_at lw_m4 14 rfl) rfl
set_option maxRecDepth 100000 in
theorem q1111 : (Jvm.Cond.fieldLink "PascalHouse$Compiler" (29 : Nat) "PascalHouse$Compiler" "bool" "LPascalHouse$Type;") ∈ lw_all := lw_g (lw_at lw_m4 15 rfl) rfl
set_option maxRecDepth 100000 in
theorem q1112 : (Jvm.Cond.fieldLink "PascalHouse$Compiler" (32 : Nat) "PascalHouse$Compiler" "chars" "LPascalHouse$Type;") ∈ lw_all := lw_g (lw_at lw_m4 16 rfl) rfl
set_option maxRecDepth 100000 in
theorem q1113 : (Jvm.Cond.fieldLink "PascalHouse$Compiler" (39 : Nat) "PascalHouse$Compiler" "text" "LPascalHouse$Type;") ∈ lw_all := lw_g (lw_at lw_m4 17 rfl) rfl
set_option maxRecDepth 100000 in
theorem q1114 : (Jvm.Cond.fieldLink "PascalHouse$Compiler" (42 : Nat) "PascalHouse$Compiler" "nil" "LPascalHouse$Type;") ∈ lw_all := lw_g (lw_at lw_m4 18 rfl) rfl
set_option maxRecDepth 100000 in
theorem q1115 : (Jvm.Cond.fieldLink "PascalHouse$Compiler" (45 : Nat) "PascalHouse$Compiler" "empty" "LPascalHouse$Type;") ∈ lw_all := lw_g (lw_at lw_m4 19 rfl) rfl
set_option maxRecDepth 100000 in
theorem q1116 : (Jvm.Cond.fieldLink "PascalHouse$Compiler" (51 : Nat) "PascalHouse$Compiler" "waiting" "Ljava/util/ArrayList;") ∈ lw_all := lw_g (lw_at lw_m4 20 rfl) rfl
set_option maxRecDepth 100000 in
theorem q1117 : (Jvm.Cond.fieldLink "PascalHouse$Compiler" (55 : Nat) "PascalHouse$Compiler" "waitingFor" "Ljava/util/ArrayList;") ∈ lw_all := lw_g (lw_at lw_m4 21 rfl) rfl
set_option maxRecDepth 100000 in
theorem q1118 : (Jvm.Cond.fieldLink "PascalHouse$Compiler" (346 : Nat) "PascalHouse$Compiler" "waits" "Z") ∈ lw_all := lw_g (lw_at lw_m4 22 rfl) rfl
set_option maxRecDepth 100000 in
theorem q1119 : (Jvm.Cond.fieldLink "PascalHouse$Compiler" (77 : Nat) "PascalHouse$Compiler" "outermost" "LPascalHouse$Scope;") ∈ lw_all := lw_g (lw_at lw_m4 23 rfl) rfl
set_option maxRecDepth 100000 in
theorem q1120 : (Jvm.Cond.fieldLink "PascalHouse$Compiler" (73 : Nat) "PascalHouse$Compiler" "scope" "LPascalHouse$Scope;") ∈ lw_all := lw_g (lw_at lw_m4 24 rfl) rfl
set_option maxRecDepth 100000 in
theorem q1121 : (Jvm.Cond.fieldLink "PascalHouse$Compiler" (296 : Nat) "PascalHouse$Compiler" "block" "LPascalHouse$Block;") ∈ lw_all := lw_g (lw_at lw_m4 25 rfl) rfl
set_option maxRecDepth 100000 in
theorem q1122 : (Jvm.Cond.fieldLink "PascalHouse$Compiler" (416 : Nat) "PascalHouse$Compiler" "routine" "LPascalHouse$Routine;") ∈ lw_all := lw_g (lw_at lw_m4 26 rfl) rfl
set_option maxRecDepth 100000 in
theorem q1123 : (Jvm.Cond.fieldLink "PascalHouse$Compiler" (216 : Nat) "PascalHouse$Compiler" "cType" "LPascalHouse$Type;") ∈ lw_all := lw_g (lw_at lw_m4 27 rfl) rfl
set_option maxRecDepth 100000 in
theorem q1124 : (Jvm.Cond.fieldLink "PascalHouse$Compiler" (222 : Nat) "PascalHouse$Compiler" "cInt" "I") ∈ lw_all := lw_g (lw_at lw_m4 28 rfl) rfl
set_option maxRecDepth 100000 in
theorem q1125 : (Jvm.Cond.fieldLink "PascalHouse$Compiler" (231 : Nat) "PascalHouse$Compiler" "cReal" "D") ∈ lw_all := lw_g (lw_at lw_m4 29 rfl) rfl
set_option maxRecDepth 100000 in
theorem q1126 : (Jvm.Cond.fieldLink "PascalHouse$Compiler" (166 : Nat) "PascalHouse$Compiler" "laid" "LPascalHouse$Field;") ∈ lw_all := lw_g (lw_at lw_m4 30 rfl) rfl
set_option maxRecDepth 100000 in
theorem q1127 : (Jvm.Cond.fieldLink "PascalHouse$Compiler" (181 : Nat) "PascalHouse$Compiler" "laidBy" "LPascalHouse$Scope;") ∈ lw_all := lw_g (lw_at lw_m4 31 rfl) rfl
set_option maxRecDepth 100000 in
theorem q1128 : (Jvm.Cond.fieldLink "PascalHouse$Compiler" (705 : Nat) "PascalHouse$Compiler" "alone" "LPascalHouse$Item;") ∈ lw_all := lw_g (lw_at lw_m4 32 rfl) rfl
set_option maxRecDepth 100000 in
theorem q1129 : (Jvm.Cond.fieldLink "PascalHouse$Compiler" (702 : Nat) "PascalHouse$Compiler" "tag" "LPascalHouse$Part;") ∈ lw_all := lw_g (lw_at lw_m4 33 rfl) rfl
set_option maxRecDepth 100000 in
theorem q1130 : (Jvm.Cond.fieldLink "PascalHouse$Compiler" (411 : Nat) "PascalHouse$Compiler" "main" "LPascalHouse$Routine;") ∈ lw_all := lw_g (lw_at lw_m4 34 rfl) rfl
set_option maxRecDepth 100000 in
theorem q1131 : (Jvm.Cond.fieldLinkNest "PascalHouse" (247 : Nat) "PascalHouse$Compiler" "input" "LPascalHouse$Item;" "PascalHouse") ∈ lw_tbl := lw_at lw_m4 35 rfl
set_option maxRecDepth 100000 in
theorem q1132 : (Jvm.Cond.fieldLink "PascalHouse$Compiler" (419 : Nat) "PascalHouse$Compiler" "input" "LPascalHouse$Item;") ∈ lw_all := lw_g (lw_at lw_m4 36 rfl) rfl
set_option maxRecDepth 100000 in
theorem q1133 : (Jvm.Cond.fieldLinkNest "PascalHouse" (250 : Nat) "PascalHouse$Compiler" "output" "LPascalHouse$Item;" "PascalHouse") ∈ lw_tbl := lw_at lw_m4 37 rfl
set_option maxRecDepth 100000 in
theorem q1134 : (Jvm.Cond.fieldLink "PascalHouse$Compiler" (423 : Nat) "PascalHouse$Compiler" "output" "LPascalHouse$Item;") ∈ lw_all := lw_g (lw_at lw_m4 38 rfl) rfl
set_option maxRecDepth 100000 in
theorem q1135 : (Jvm.Cond.fieldLink "PascalHouse$Compiler" (429 : Nat) "PascalHouse$Compiler" "rows" "I") ∈ lw_all := lw_g (lw_at lw_m4 39 rfl) rfl
set_option maxRecDepth 100000 in
theorem q1136 : (Jvm.Cond.fieldLink "PascalHouse$Compiler" (432 : Nat) "PascalHouse$Compiler" "marked" "I") ∈ lw_all := lw_g (lw_at lw_m4 40 rfl) rfl
set_option maxRecDepth 100000 in
theorem q1196 : (Jvm.Cond.classLink "PascalHouse" (146 : Nat) "PascalHouse$Machine") ∈ lw_all := lw_g (lw_at lw_m4 100 rfl) rfl
set_option maxRecDepth 100000 in
theorem q1197 : (Jvm.Cond.instantiable "PascalHouse$Machine" (31 : Nat)) ∈ lw_all := lw_g (lw_at lw_m4 101 rfl) rfl
set_option maxRecDepth 100000 in
theorem q1198 : (Jvm.Cond.methodLink "PascalHouse" (148 : Nat) ({ cls := "PascalHouse$Machine", name := "<init>", desc := "(LPascalHouse$Code;)V" } : Jvm.MethodName)) ∈ lw_all := lw_g (lw_at lw_m4 102 rfl) rfl
set_option maxRecDepth 100000 in
theorem q1199 : (Jvm.Cond.instanceMethod ({ cls := "PascalHouse$Machine", name := "<init>", desc := "(LPascalHouse$Code;)V" } : Jvm.MethodName)) ∈ lw_all := lw_g (lw_at lw_m4 103 rfl) rfl
set_option maxRecDepth 100000 in
theorem q1200 : (Jvm.Cond.code ({ cls := "PascalHouse$Machine", name := "<init>", desc := "(LPascalHouse$Code;)V" } : Jvm.MethodName) prog_11_method_1_code (2 : Nat) (Option.none : Option Jvm.ClassFile.FieldType)) ∈ lw_all := lw_g (lw_at lw_m4 104 rfl) rfl
set_option maxRecDepth 100000 in
theorem q1201 : (Jvm.Cond.methodLink "PascalHouse$Machine" (3 : Nat) ({ cls := "java/lang/Object", name := "<init>", desc := "()V" } : Jvm.MethodName)) ∈ lw_all := lw_g (lw_at lw_m4 105 rfl) rfl
set_option maxRecDepth 100000 in
theorem q1202 : (Jvm.Cond.classLink "PascalHouse$Machine" (9 : Nat) "PascalHouse$Memory") ∈ lw_all := lw_g (lw_at lw_m4 106 rfl) rfl
set_option maxRecDepth 100000 in
theorem q1203 : (Jvm.Cond.instantiable "PascalHouse$Memory" (4 : Nat)) ∈ lw_all := lw_g (lw_at lw_m4 107 rfl) rfl
set_option maxRecDepth 100000 in
theorem q1204 : (Jvm.Cond.methodLinkNest "PascalHouse$Machine" (11 : Nat) ({ cls := "PascalHouse$Memory", name := "<init>", desc := "()V" } : Jvm.MethodName) "PascalHouse") ∈ lw_tbl := lw_at lw_m4 108 rfl
set_option maxRecDepth 100000 in
theorem q1205 : (Jvm.Cond.instanceMethod ({ cls := "PascalHouse$Memory", name := "<init>", desc := "()V" } : Jvm.MethodName)) ∈ lw_all := lw_g (lw_at lw_m4 109 rfl) rfl
set_option maxRecDepth 100000 in
theorem q1206 : (Jvm.Cond.code ({ cls := "PascalHouse$Memory", name := "<init>", desc := "()V" } : Jvm.MethodName) prog_12_method_1_code (1 : Nat) (Option.none : Option Jvm.ClassFile.FieldType)) ∈ lw_all := lw_g (lw_at lw_m4 110 rfl) rfl
set_option maxRecDepth 100000 in
theorem q1207 : (Jvm.Cond.methodLink "PascalHouse$Memory" (3 : Nat) ({ cls := "java/lang/Object", name := "<init>", desc := "()V" } : Jvm.MethodName)) ∈ lw_all := lw_g (lw_at lw_m4 111 rfl) rfl
set_option maxRecDepth 100000 in
theorem q1208 : (Jvm.Cond.constant "PascalHouse$Memory" (9 : Nat) (40000 : Int32)) ∈ lw_all := lw_g (lw_at lw_m4 112 rfl) rfl
set_option maxRecDepth 100000 in
theorem q1209 : (Jvm.Cond.fieldLink "PascalHouse$Memory" (10 : Nat) "PascalHouse$Memory" "low" "[J") ∈ lw_all := lw_g (lw_at lw_m4 113 rfl) rfl
set_option maxRecDepth 100000 in
theorem q1210 : (Jvm.Cond.fieldLinkNest "PascalHouse$FileRows" (82 : Nat) "PascalHouse$Memory" "low" "[J" "PascalHouse") ∈ lw_tbl := lw_at lw_m4 114 rfl
set_option maxRecDepth 100000 in
theorem q1211 : (Jvm.Cond.fieldLinkNest "PascalHouse$Machine" (218 : Nat) "PascalHouse$Memory" "low" "[J" "PascalHouse") ∈ lw_tbl := lw_at lw_m4 115 rfl
set_option maxRecDepth 100000 in
theorem q1212 : (Jvm.Cond.fieldLink "PascalHouse$Memory" (16 : Nat) "PascalHouse$Memory" "high" "[J") ∈ lw_all := lw_g (lw_at lw_m4 116 rfl) rfl
set_option maxRecDepth 100000 in
theorem q1213 : (Jvm.Cond.fieldLinkNest "PascalHouse$FileRows" (85 : Nat) "PascalHouse$Memory" "high" "[J" "PascalHouse") ∈ lw_tbl := lw_at lw_m4 117 rfl
set_option maxRecDepth 100000 in
theorem q1214 : (Jvm.Cond.fieldLinkNest "PascalHouse$Machine" (277 : Nat) "PascalHouse$Memory" "high" "[J" "PascalHouse") ∈ lw_tbl := lw_at lw_m4 118 rfl
set_option maxRecDepth 100000 in
theorem q1215 : (Jvm.Cond.fieldLink "PascalHouse$Memory" (19 : Nat) "PascalHouse$Memory" "real" "[D") ∈ lw_all := lw_g (lw_at lw_m4 119 rfl) rfl
set_option maxRecDepth 100000 in
theorem q1216 : (Jvm.Cond.fieldLinkNest "PascalHouse$FileRows" (86 : Nat) "PascalHouse$Memory" "real" "[D" "PascalHouse") ∈ lw_tbl := lw_at lw_m4 120 rfl
set_option maxRecDepth 100000 in
theorem q1217 : (Jvm.Cond.fieldLinkNest "PascalHouse$Machine" (278 : Nat) "PascalHouse$Memory" "real" "[D" "PascalHouse") ∈ lw_tbl := lw_at lw_m4 121 rfl
set_option maxRecDepth 100000 in
theorem q1218 : (Jvm.Cond.fieldLink "PascalHouse$Memory" (23 : Nat) "PascalHouse$Memory" "has" "[Z") ∈ lw_all := lw_g (lw_at lw_m4 122 rfl) rfl
set_option maxRecDepth 100000 in
theorem q1219 : (Jvm.Cond.fieldLinkNest "PascalHouse$FileRows" (87 : Nat) "PascalHouse$Memory" "has" "[Z" "PascalHouse") ∈ lw_tbl := lw_at lw_m4 123 rfl
set_option maxRecDepth 100000 in
theorem q1220 : (Jvm.Cond.fieldLinkNest "PascalHouse$Machine" (247 : Nat) "PascalHouse$Memory" "has" "[Z" "PascalHouse") ∈ lw_tbl := lw_at lw_m4 124 rfl
set_option maxRecDepth 100000 in
theorem q1230 : (Jvm.Cond.arrayClass Jvm.ClassFile.FieldType.long) ∈ lw_all := lw_g (lw_at lw_m4 134 rfl) rfl
set_option maxRecDepth 100000 in
theorem q1231 : (Jvm.Cond.arrayClass Jvm.ClassFile.FieldType.boolean) ∈ lw_all := lw_g (lw_at lw_m4 135 rfl) rfl
set_option maxRecDepth 100000 in
theorem q1232 : (Jvm.Cond.classLink "PascalHouse$Machine" (18 : Nat) "PascalHouse$FileRows") ∈ lw_all := lw_g (lw_at lw_m4 136 rfl) rfl
set_option maxRecDepth 100000 in
theorem q1233 : (Jvm.Cond.instantiable "PascalHouse$FileRows" (16 : Nat)) ∈ lw_all := lw_g (lw_at lw_m4 137 rfl) rfl
set_option maxRecDepth 100000 in
theorem q1234 : (Jvm.Cond.methodLink "PascalHouse$Machine" (20 : Nat) ({ cls := "PascalHouse$FileRows", name := "<init>", desc := "(LPascalHouse$Memory;)V" } : Jvm.MethodName)) ∈ lw_all := lw_g (lw_at lw_m4 138 rfl) rfl
set_option maxRecDepth 100000 in
theorem q1235 : (Jvm.Cond.instanceMethod ({ cls := "PascalHouse$FileRows", name := "<init>", desc := "(LPascalHouse$Memory;)V" } : Jvm.MethodName)) ∈ lw_all := lw_g (lw_at lw_m4 139 rfl) rfl
set_option maxRecDepth 100000 in
theorem q1236 : (Jvm.Cond.code ({ cls := "PascalHouse$FileRows", name := "<init>", desc := "(LPascalHouse$Memory;)V" } : Jvm.MethodName) prog_7_method_1_code (2 : Nat) (Option.none : Option Jvm.ClassFile.FieldType)) ∈ lw_all := lw_g (lw_at lw_m4 140 rfl) rfl
set_option maxRecDepth 100000 in
theorem q1237 : (Jvm.Cond.methodLink "PascalHouse$FileRows" (3 : Nat) ({ cls := "java/lang/Object", name := "<init>", desc := "()V" } : Jvm.MethodName)) ∈ lw_all := lw_g (lw_at lw_m4 141 rfl) rfl
set_option maxRecDepth 100000 in
theorem q1238 : (Jvm.Cond.constant "PascalHouse$FileRows" (37 : Nat) (45000 : Int32)) ∈ lw_all := lw_g (lw_at lw_m4 142 rfl) rfl
set_option maxRecDepth 100000 in
theorem q1239 : (Jvm.Cond.fieldLink "PascalHouse$FileRows" (55 : Nat) "PascalHouse$FileRows" "memory" "LPascalHouse$Memory;") ∈ lw_all := lw_g (lw_at lw_m4 143 rfl) rfl
set_option maxRecDepth 100000 in
theorem q1240 : (Jvm.Cond.fieldLink "PascalHouse$FileRows" (9 : Nat) "PascalHouse$FileRows" "mode" "[I") ∈ lw_all := lw_g (lw_at lw_m4 144 rfl) rfl
set_option maxRecDepth 100000 in
theorem q1241 : (Jvm.Cond.fieldLinkNest "PascalHouse" (294 : Nat) "PascalHouse$FileRows" "mode" "[I" "PascalHouse") ∈ lw_tbl := lw_at lw_m4 145 rfl
set_option maxRecDepth 100000 in
theorem q1242 : (Jvm.Cond.fieldLinkNest "PascalHouse$Machine" (429 : Nat) "PascalHouse$FileRows" "mode" "[I" "PascalHouse") ∈ lw_tbl := lw_at lw_m4 146 rfl
set_option maxRecDepth 100000 in
theorem q1243 : (Jvm.Cond.fieldLink "PascalHouse$FileRows" (15 : Nat) "PascalHouse$FileRows" "first" "[I") ∈ lw_all := lw_g (lw_at lw_m4 147 rfl) rfl
set_option maxRecDepth 100000 in
theorem q1244 : (Jvm.Cond.fieldLinkNest "PascalHouse" (297 : Nat) "PascalHouse$FileRows" "first" "[I" "PascalHouse") ∈ lw_tbl := lw_at lw_m4 148 rfl
set_option maxRecDepth 100000 in
theorem q1245 : (Jvm.Cond.fieldLink "PascalHouse$FileRows" (18 : Nat) "PascalHouse$FileRows" "last" "[I") ∈ lw_all := lw_g (lw_at lw_m4 149 rfl) rfl
set_option maxRecDepth 100000 in
theorem q1246 : (Jvm.Cond.fieldLink "PascalHouse$FileRows" (21 : Nat) "PascalHouse$FileRows" "point" "[I") ∈ lw_all := lw_g (lw_at lw_m4 150 rfl) rfl
set_option maxRecDepth 100000 in
theorem q1247 : (Jvm.Cond.fieldLinkNest "PascalHouse$Machine" (432 : Nat) "PascalHouse$FileRows" "point" "[I" "PascalHouse") ∈ lw_tbl := lw_at lw_m4 151 rfl
set_option maxRecDepth 100000 in
theorem q1248 : (Jvm.Cond.fieldLink "PascalHouse$FileRows" (24 : Nat) "PascalHouse$FileRows" "count" "[I") ∈ lw_all := lw_g (lw_at lw_m4 152 rfl) rfl
set_option maxRecDepth 100000 in
theorem q1249 : (Jvm.Cond.fieldLink "PascalHouse$FileRows" (27 : Nat) "PascalHouse$FileRows" "step" "[I") ∈ lw_all := lw_g (lw_at lw_m4 153 rfl) rfl
set_option maxRecDepth 100000 in
theorem q1250 : (Jvm.Cond.fieldLinkNest "PascalHouse$Machine" (460 : Nat) "PascalHouse$FileRows" "step" "[I" "PascalHouse") ∈ lw_tbl := lw_at lw_m4 154 rfl
set_option maxRecDepth 100000 in
theorem q1251 : (Jvm.Cond.fieldLink "PascalHouse$FileRows" (30 : Nat) "PascalHouse$FileRows" "isText" "[Z") ∈ lw_all := lw_g (lw_at lw_m4 155 rfl) rfl
set_option maxRecDepth 100000 in
theorem q1252 : (Jvm.Cond.fieldLink "PascalHouse$FileRows" (34 : Nat) "PascalHouse$FileRows" "outside" "[Z") ∈ lw_all := lw_g (lw_at lw_m4 156 rfl) rfl
set_option maxRecDepth 100000 in
theorem q1253 : (Jvm.Cond.fieldLinkNest "PascalHouse" (284 : Nat) "PascalHouse$FileRows" "outside" "[Z" "PascalHouse") ∈ lw_tbl := lw_at lw_m4 157 rfl
set_option maxRecDepth 100000 in
theorem q1254 : (Jvm.Cond.fieldLinkNest "PascalHouse$Machine" (435 : Nat) "PascalHouse$FileRows" "outside" "[Z" "PascalHouse") ∈ lw_tbl := lw_at lw_m4 158 rfl
set_option maxRecDepth 100000 in
theorem q1255 : (Jvm.Cond.fieldLink "PascalHouse$FileRows" (38 : Nat) "PascalHouse$FileRows" "next" "[I") ∈ lw_all := lw_g (lw_at lw_m4 159 rfl) rfl
set_option maxRecDepth 100000 in
theorem q1256 : (Jvm.Cond.fieldLinkNest "PascalHouse" (303 : Nat) "PascalHouse$FileRows" "next" "[I" "PascalHouse") ∈ lw_tbl := lw_at lw_m4 160 rfl
set_option maxRecDepth 100000 in
theorem q1257 : (Jvm.Cond.fieldLink "PascalHouse$FileRows" (41 : Nat) "PascalHouse$FileRows" "low" "[J") ∈ lw_all := lw_g (lw_at lw_m4 161 rfl) rfl
set_option maxRecDepth 100000 in
theorem q1258 : (Jvm.Cond.fieldLinkNest "PascalHouse" (299 : Nat) "PascalHouse$FileRows" "low" "[J" "PascalHouse") ∈ lw_tbl := lw_at lw_m4 162 rfl
set_option maxRecDepth 100000 in
theorem q1259 : (Jvm.Cond.fieldLink "PascalHouse$FileRows" (45 : Nat) "PascalHouse$FileRows" "high" "[J") ∈ lw_all := lw_g (lw_at lw_m4 163 rfl) rfl
set_option maxRecDepth 100000 in
theorem q1260 : (Jvm.Cond.fieldLink "PascalHouse$FileRows" (48 : Nat) "PascalHouse$FileRows" "real" "[D") ∈ lw_all := lw_g (lw_at lw_m4 164 rfl) rfl
set_option maxRecDepth 100000 in
theorem q1261 : (Jvm.Cond.fieldLink "PascalHouse$FileRows" (52 : Nat) "PascalHouse$FileRows" "has" "[Z") ∈ lw_all := lw_g (lw_at lw_m4 165 rfl) rfl
set_option maxRecDepth 100000 in
theorem q1262 : (Jvm.Cond.fieldLink "PascalHouse$FileRows" (59 : Nat) "PascalHouse$FileRows" "free" "I") ∈ lw_all := lw_g (lw_at lw_m4 166 rfl) rfl
set_option maxRecDepth 100000 in
theorem q1263 : (Jvm.Cond.fieldLink "PascalHouse$FileRows" (63 : Nat) "PascalHouse$FileRows" "all" "I") ∈ lw_all := lw_g (lw_at lw_m4 167 rfl) rfl
set_option maxRecDepth 100000 in
theorem q1297 : (Jvm.Cond.constant "PascalHouse$Machine" (27 : Nat) (40000 : Int32)) ∈ lw_all := lw_g (lw_at lw_m4 201 rfl) rfl
set_option maxRecDepth 100000 in
theorem q1298 : (Jvm.Cond.classLink "PascalHouse$Machine" (55 : Nat) "PascalHouse$Routine") ∈ lw_all := lw_g (lw_at lw_m4 202 rfl) rfl
set_option maxRecDepth 100000 in
theorem q1300 : (Jvm.Cond.fieldLink "PascalHouse$Machine" (75 : Nat) "PascalHouse$Machine" "code" "LPascalHouse$Code;") ∈ lw_all := lw_g (lw_at lw_m4 204 rfl) rfl
set_option maxRecDepth 100000 in
theorem q1301 : (Jvm.Cond.fieldLink "PascalHouse$Machine" (12 : Nat) "PascalHouse$Machine" "memory" "LPascalHouse$Memory;") ∈ lw_all := lw_g (lw_at lw_m4 205 rfl) rfl
set_option maxRecDepth 100000 in
theorem q1302 : (Jvm.Cond.fieldLink "PascalHouse$Machine" (23 : Nat) "PascalHouse$Machine" "files" "LPascalHouse$FileRows;") ∈ lw_all := lw_g (lw_at lw_m4 206 rfl) rfl
set_option maxRecDepth 100000 in
theorem q1303 : (Jvm.Cond.fieldLinkNest "PascalHouse" (275 : Nat) "PascalHouse$Machine" "files" "LPascalHouse$FileRows;" "PascalHouse") ∈ lw_tbl := lw_at lw_m4 207 rfl
set_option maxRecDepth 100000 in
theorem q1304 : (Jvm.Cond.fieldLink "PascalHouse$Machine" (28 : Nat) "PascalHouse$Machine" "low" "[J") ∈ lw_all := lw_g (lw_at lw_m4 208 rfl) rfl
set_option maxRecDepth 100000 in
theorem q1305 : (Jvm.Cond.fieldLink "PascalHouse$Machine" (32 : Nat) "PascalHouse$Machine" "high" "[J") ∈ lw_all := lw_g (lw_at lw_m4 209 rfl) rfl
set_option maxRecDepth 100000 in
theorem q1306 : (Jvm.Cond.fieldLink "PascalHouse$Machine" (35 : Nat) "PascalHouse$Machine" "real" "[D") ∈ lw_all := lw_g (lw_at lw_m4 210 rfl) rfl
set_option maxRecDepth 100000 in
theorem q1307 : (Jvm.Cond.fieldLink "PascalHouse$Machine" (86 : Nat) "PascalHouse$Machine" "top" "I") ∈ lw_all := lw_g (lw_at lw_m4 211 rfl) rfl
set_option maxRecDepth 100000 in
theorem q1308 : (Jvm.Cond.fieldLink "PascalHouse$Machine" (129 : Nat) "PascalHouse$Machine" "at" "I") ∈ lw_all := lw_g (lw_at lw_m4 212 rfl) rfl
set_option maxRecDepth 100000 in
theorem q1309 : (Jvm.Cond.fieldLink "PascalHouse$Machine" (39 : Nat) "PascalHouse$Machine" "base" "[I") ∈ lw_all := lw_g (lw_at lw_m4 213 rfl) rfl
set_option maxRecDepth 100000 in
theorem q1310 : (Jvm.Cond.fieldLink "PascalHouse$Machine" (43 : Nat) "PascalHouse$Machine" "link" "[I") ∈ lw_all := lw_g (lw_at lw_m4 214 rfl) rfl
set_option maxRecDepth 100000 in
theorem q1311 : (Jvm.Cond.fieldLink "PascalHouse$Machine" (46 : Nat) "PascalHouse$Machine" "back" "[I") ∈ lw_all := lw_g (lw_at lw_m4 215 rfl) rfl
set_option maxRecDepth 100000 in
theorem q1312 : (Jvm.Cond.fieldLink "PascalHouse$Machine" (49 : Nat) "PascalHouse$Machine" "pile" "[I") ∈ lw_all := lw_g (lw_at lw_m4 216 rfl) rfl
set_option maxRecDepth 100000 in
theorem q1313 : (Jvm.Cond.fieldLink "PascalHouse$Machine" (52 : Nat) "PascalHouse$Machine" "called" "[I") ∈ lw_all := lw_g (lw_at lw_m4 217 rfl) rfl
set_option maxRecDepth 100000 in
theorem q1314 : (Jvm.Cond.fieldLink "PascalHouse$Machine" (57 : Nat) "PascalHouse$Machine" "routine" "[LPascalHouse$Routine;") ∈ lw_all := lw_g (lw_at lw_m4 218 rfl) rfl
set_option maxRecDepth 100000 in
theorem q1315 : (Jvm.Cond.fieldLink "PascalHouse$Machine" (61 : Nat) "PascalHouse$Machine" "temporary" "[J") ∈ lw_all := lw_g (lw_at lw_m4 219 rfl) rfl
set_option maxRecDepth 100000 in
theorem q1316 : (Jvm.Cond.fieldLink "PascalHouse$Machine" (89 : Nat) "PascalHouse$Machine" "frame" "I") ∈ lw_all := lw_g (lw_at lw_m4 220 rfl) rfl
set_option maxRecDepth 100000 in
theorem q1317 : (Jvm.Cond.fieldLink "PascalHouse$Machine" (95 : Nat) "PascalHouse$Machine" "cells" "I") ∈ lw_all := lw_g (lw_at lw_m4 221 rfl) rfl
set_option maxRecDepth 100000 in
theorem q1318 : (Jvm.Cond.fieldLink "PascalHouse$Machine" (64 : Nat) "PascalHouse$Machine" "start" "[I") ∈ lw_all := lw_g (lw_at lw_m4 222 rfl) rfl
set_option maxRecDepth 100000 in
theorem q1319 : (Jvm.Cond.fieldLink "PascalHouse$Machine" (67 : Nat) "PascalHouse$Machine" "gone" "[Z") ∈ lw_all := lw_g (lw_at lw_m4 223 rfl) rfl
set_option maxRecDepth 100000 in
theorem q1320 : (Jvm.Cond.fieldLink "PascalHouse$Machine" (114 : Nat) "PascalHouse$Machine" "heap" "I") ∈ lw_all := lw_g (lw_at lw_m4 224 rfl) rfl
set_option maxRecDepth 100000 in
theorem q1321 : (Jvm.Cond.fieldLink "PascalHouse$Machine" (117 : Nat) "PascalHouse$Machine" "made" "I") ∈ lw_all := lw_g (lw_at lw_m4 225 rfl) rfl
set_option maxRecDepth 100000 in
theorem q1322 : (Jvm.Cond.fieldLinkNest "PascalHouse" (329 : Nat) "PascalHouse$Machine" "made" "I" "PascalHouse") ∈ lw_tbl := lw_at lw_m4 226 rfl
set_option maxRecDepth 100000 in
theorem q1323 : (Jvm.Cond.fieldLink "PascalHouse$Machine" (120 : Nat) "PascalHouse$Machine" "alive" "I") ∈ lw_all := lw_g (lw_at lw_m4 227 rfl) rfl
set_option maxRecDepth 100000 in
theorem q1324 : (Jvm.Cond.fieldLinkNest "PascalHouse" (323 : Nat) "PascalHouse$Machine" "alive" "I" "PascalHouse") ∈ lw_tbl := lw_at lw_m4 228 rfl
set_option maxRecDepth 100000 in
theorem q1325 : (Jvm.Cond.fieldLink "PascalHouse$Machine" (79 : Nat) "PascalHouse$Machine" "error" "I") ∈ lw_all := lw_g (lw_at lw_m4 229 rfl) rfl
set_option maxRecDepth 100000 in
theorem q1326 : (Jvm.Cond.fieldLinkNest "PascalHouse" (263 : Nat) "PascalHouse$Machine" "error" "I" "PascalHouse") ∈ lw_tbl := lw_at lw_m4 230 rfl
set_option maxRecDepth 100000 in
theorem q1327 : (Jvm.Cond.fieldLink "PascalHouse$Machine" (83 : Nat) "PascalHouse$Machine" "where" "I") ∈ lw_all := lw_g (lw_at lw_m4 231 rfl) rfl
set_option maxRecDepth 100000 in
theorem q1328 : (Jvm.Cond.fieldLinkNest "PascalHouse" (305 : Nat) "PascalHouse$Machine" "where" "I" "PascalHouse") ∈ lw_tbl := lw_at lw_m4 232 rfl
set_option maxRecDepth 100000 in
theorem q1329 : (Jvm.Cond.fieldLink "PascalHouse$Machine" (98 : Nat) "PascalHouse$Machine" "steps" "I") ∈ lw_all := lw_g (lw_at lw_m4 233 rfl) rfl
set_option maxRecDepth 100000 in
theorem q1330 : (Jvm.Cond.fieldLinkNest "PascalHouse" (308 : Nat) "PascalHouse$Machine" "steps" "I" "PascalHouse") ∈ lw_tbl := lw_at lw_m4 234 rfl
set_option maxRecDepth 100000 in
theorem q1331 : (Jvm.Cond.fieldLink "PascalHouse$Machine" (101 : Nat) "PascalHouse$Machine" "most" "I") ∈ lw_all := lw_g (lw_at lw_m4 235 rfl) rfl
set_option maxRecDepth 100000 in
theorem q1332 : (Jvm.Cond.fieldLink "PascalHouse$Machine" (104 : Nat) "PascalHouse$Machine" "deepest" "I") ∈ lw_all := lw_g (lw_at lw_m4 236 rfl) rfl
set_option maxRecDepth 100000 in
theorem q1333 : (Jvm.Cond.fieldLinkNest "PascalHouse" (320 : Nat) "PascalHouse$Machine" "deepest" "I" "PascalHouse") ∈ lw_tbl := lw_at lw_m4 237 rfl
set_option maxRecDepth 100000 in
theorem q1334 : (Jvm.Cond.fieldLink "PascalHouse$Machine" (107 : Nat) "PascalHouse$Machine" "greatest" "I") ∈ lw_all := lw_g (lw_at lw_m4 238 rfl) rfl
set_option maxRecDepth 100000 in
theorem q1335 : (Jvm.Cond.fieldLinkNest "PascalHouse" (326 : Nat) "PascalHouse$Machine" "greatest" "I" "PascalHouse") ∈ lw_tbl := lw_at lw_m4 239 rfl
set_option maxRecDepth 100000 in
theorem q1336 : (Jvm.Cond.fieldLink "PascalHouse$Machine" (110 : Nat) "PascalHouse$Machine" "over" "Z") ∈ lw_all := lw_g (lw_at lw_m5 0 rfl) rfl
set_option maxRecDepth 100000 in
theorem q1337 : (Jvm.Cond.fieldLink "PascalHouse$Machine" (71 : Nat) "PascalHouse$Machine" "line" "[B") ∈ lw_all := lw_g (lw_at lw_m5 1 rfl) rfl
set_option maxRecDepth 100000 in
theorem q1338 : (Jvm.Cond.fieldLink "PascalHouse$Machine" (491 : Nat) "PascalHouse$Machine" "lineSize" "I") ∈ lw_all := lw_g (lw_at lw_m5 2 rfl) rfl
set_option maxRecDepth 100000 in
theorem q1402 : (Jvm.Cond.fieldLink "PascalHouse" (91 : Nat) "PascalHouse" "reserved" "[Ljava/lang/String;") ∈ lw_all := lw_g (lw_at lw_m5 66 rfl) rfl
set_option maxRecDepth 100000 in
theorem q1403 : (Jvm.Cond.fieldLink "PascalHouse" (95 : Nat) "PascalHouse" "tape" "[B") ∈ lw_all := lw_g (lw_at lw_m5 67 rfl) rfl
set_option maxRecDepth 100000 in
theorem q1404 : (Jvm.Cond.fieldLink "PascalHouse" (99 : Nat) "PascalHouse" "input" "[B") ∈ lw_all := lw_g (lw_at lw_m5 68 rfl) rfl
set_option maxRecDepth 100000 in
theorem q1405 : (Jvm.Cond.fieldLink "PascalHouse" (174 : Nat) "PascalHouse" "taped" "I") ∈ lw_all := lw_g (lw_at lw_m5 69 rfl) rfl
set_option maxRecDepth 100000 in
theorem q1406 : (Jvm.Cond.fieldLink "PascalHouse" (181 : Nat) "PascalHouse" "size" "I") ∈ lw_all := lw_g (lw_at lw_m5 70 rfl) rfl
set_option maxRecDepth 100000 in
theorem q1407 : (Jvm.Cond.fieldLink "PascalHouse" (102 : Nat) "PascalHouse" "slots" "[B") ∈ lw_all := lw_g (lw_at lw_m5 71 rfl) rfl
set_option maxRecDepth 100000 in
theorem q1408 : (Jvm.Cond.fieldLink "PascalHouse" (105 : Nat) "PascalHouse" "slotSize" "[I") ∈ lw_all := lw_g (lw_at lw_m5 72 rfl) rfl
set_option maxRecDepth 100000 in
theorem q1409 : (Jvm.Cond.fieldLink "PascalHouse" (112 : Nat) "PascalHouse" "faults" "LPascalHouse$Faults;") ∈ lw_all := lw_g (lw_at lw_m5 73 rfl) rfl
set_option maxRecDepth 100000 in
theorem q1410 : (Jvm.Cond.fieldLink "PascalHouse" (119 : Nat) "PascalHouse" "code" "LPascalHouse$Code;") ∈ lw_all := lw_g (lw_at lw_m5 74 rfl) rfl
set_option maxRecDepth 100000 in
theorem q1411 : (Jvm.Cond.fieldLink "PascalHouse" (133 : Nat) "PascalHouse" "parser" "LPascalHouse$Parser;") ∈ lw_all := lw_g (lw_at lw_m5 75 rfl) rfl
set_option maxRecDepth 100000 in
theorem q1412 : (Jvm.Cond.fieldLink "PascalHouse" (142 : Nat) "PascalHouse" "compiler" "LPascalHouse$Compiler;") ∈ lw_all := lw_g (lw_at lw_m5 76 rfl) rfl
set_option maxRecDepth 100000 in
theorem q1413 : (Jvm.Cond.fieldLink "PascalHouse" (151 : Nat) "PascalHouse" "machine" "LPascalHouse$Machine;") ∈ lw_all := lw_g (lw_at lw_m5 77 rfl) rfl
set_option maxRecDepth 100000 in
theorem q1414 : (Jvm.Cond.fieldLink "PascalHouse" (184 : Nat) "PascalHouse" "main" "LPascalHouse$Routine;") ∈ lw_all := lw_g (lw_at lw_m5 78 rfl) rfl
set_option maxRecDepth 100000 in
theorem q1415 : (Jvm.Cond.fieldLink "PascalHouse" (155 : Nat) "PascalHouse" "fileAt" "[I") ∈ lw_all := lw_g (lw_at lw_m5 79 rfl) rfl
set_option maxRecDepth 100000 in
theorem q1416 : (Jvm.Cond.fieldLink "PascalHouse" (217 : Nat) "PascalHouse" "files" "I") ∈ lw_all := lw_g (lw_at lw_m5 80 rfl) rfl
set_option maxRecDepth 100000 in
theorem q1417 : (Jvm.Cond.fieldLink "PascalHouse" (213 : Nat) "PascalHouse" "symbols" "I") ∈ lw_all := lw_g (lw_at lw_m5 81 rfl) rfl
set_option maxRecDepth 100000 in
theorem q1418 : (Jvm.Cond.fieldLink "PascalHouse" (158 : Nat) "PascalHouse" "readAt" "I") ∈ lw_all := lw_g (lw_at lw_m5 82 rfl) rfl
set_option maxRecDepth 100000 in
theorem q1419 : (Jvm.Cond.fieldLink "PascalHouse" (162 : Nat) "PascalHouse" "writtenAt" "I") ∈ lw_all := lw_g (lw_at lw_m5 83 rfl) rfl
set_option maxRecDepth 100000 in
theorem q1420 : (Jvm.Cond.fieldLink "PascalHouse" (188 : Nat) "PascalHouse" "ran" "Z") ∈ lw_all := lw_g (lw_at lw_m5 84 rfl) rfl
set_option maxRecDepth 100000 in
theorem q1421 : (Jvm.Cond.fieldLink "PascalHouse" (165 : Nat) "PascalHouse" "left" "[B") ∈ lw_all := lw_g (lw_at lw_m5 85 rfl) rfl
set_option maxRecDepth 100000 in
theorem q1422 : (Jvm.Cond.fieldLink "PascalHouse" (168 : Nat) "PascalHouse" "leftSize" "[I") ∈ lw_all := lw_g (lw_at lw_m5 86 rfl) rfl
set_option maxRecDepth 100000 in
theorem q1466 : (Jvm.Cond.methodLink "PascalHouseLaw" (13 : Nat) ({ cls := "PascalHouse", name := "feed", desc := "(IIIII)Z" } : Jvm.MethodName)) ∈ lw_all := lw_g (lw_at lw_m5 130 rfl) rfl
set_option maxRecDepth 100000 in
theorem q1467 : (Jvm.Cond.instanceMethod ({ cls := "PascalHouse", name := "feed", desc := "(IIIII)Z" } : Jvm.MethodName)) ∈ lw_all := lw_g (lw_at lw_m5 131 rfl) rfl
set_option maxRecDepth 100000 in
theorem q1468 : (Jvm.Cond.selects "PascalHouse" ({ cls := "PascalHouse", name := "feed", desc := "(IIIII)Z" } : Jvm.MethodName) ({ cls := "PascalHouse", name := "feed", desc := "(IIIII)Z" } : Jvm.MethodName)) ∈ lw_all := lw_g (lw_at lw_m5 132 rfl) rfl
set_option maxRecDepth 100000 in
theorem q1469 : (Jvm.Cond.code ({ cls := "PascalHouse", name := "feed", desc := "(IIIII)Z" } : Jvm.MethodName) prog_1_method_8_code (6 : Nat) (Option.some Jvm.ClassFile.FieldType.boolean)) ∈ lw_all := lw_g (lw_at lw_m5 133 rfl) rfl
set_option maxRecDepth 100000 in
theorem q1470 : (Jvm.Cond.methodLink "PascalHouse" (177 : Nat) ({ cls := "PascalHouse", name := "four", desc := "(I)V" } : Jvm.MethodName)) ∈ lw_all := lw_g (lw_at lw_m5 134 rfl) rfl
set_option maxRecDepth 100000 in
theorem q1472 : (Jvm.Cond.instanceMethod ({ cls := "PascalHouse", name := "four", desc := "(I)V" } : Jvm.MethodName)) ∈ lw_all := lw_g (lw_at lw_m5 136 rfl) rfl
set_option maxRecDepth 100000 in
theorem q1473 : (Jvm.Cond.code ({ cls := "PascalHouse", name := "four", desc := "(I)V" } : Jvm.MethodName) prog_1_method_9_code (3 : Nat) (Option.none : Option Jvm.ClassFile.FieldType)) ∈ lw_all := lw_g (lw_at lw_m5 137 rfl) rfl
set_option maxRecDepth 100000 in
theorem q1474 : (Jvm.Cond.methodLink "PascalHouseLaw" (18 : Nat) ({ cls := "PascalHouse", name := "end", desc := "(I)Z" } : Jvm.MethodName)) ∈ lw_all := lw_g (lw_at lw_m5 138 rfl) rfl
set_option maxRecDepth 100000 in
theorem q1475 : (Jvm.Cond.instanceMethod ({ cls := "PascalHouse", name := "end", desc := "(I)Z" } : Jvm.MethodName)) ∈ lw_all := lw_g (lw_at lw_m5 139 rfl) rfl
set_option maxRecDepth 100000 in
theorem q1476 : (Jvm.Cond.selects "PascalHouse" ({ cls := "PascalHouse", name := "end", desc := "(I)Z" } : Jvm.MethodName) ({ cls := "PascalHouse", name := "end", desc := "(I)Z" } : Jvm.MethodName)) ∈ lw_all := lw_g (lw_at lw_m5 140 rfl) rfl
set_option maxRecDepth 100000 in
theorem q1477 : (Jvm.Cond.code ({ cls := "PascalHouse", name := "end", desc := "(I)Z" } : Jvm.MethodName) prog_1_method_10_code (3 : Nat) (Option.some Jvm.ClassFile.FieldType.boolean)) ∈ lw_all := lw_g (lw_at lw_m5 141 rfl) rfl
set_option maxRecDepth 100000 in
theorem q1478 : (Jvm.Cond.methodLink "PascalHouseLaw" (23 : Nat) ({ cls := "PascalHouse", name := "program", desc := "()I" } : Jvm.MethodName)) ∈ lw_all := lw_g (lw_at lw_m5 142 rfl) rfl
set_option maxRecDepth 100000 in
theorem q1479 : (Jvm.Cond.instanceMethod ({ cls := "PascalHouse", name := "program", desc := "()I" } : Jvm.MethodName)) ∈ lw_all := lw_g (lw_at lw_m5 143 rfl) rfl
set_option maxRecDepth 100000 in
theorem q1480 : (Jvm.Cond.selects "PascalHouse" ({ cls := "PascalHouse", name := "program", desc := "()I" } : Jvm.MethodName) ({ cls := "PascalHouse", name := "program", desc := "()I" } : Jvm.MethodName)) ∈ lw_all := lw_g (lw_at lw_m5 144 rfl) rfl
set_option maxRecDepth 100000 in
theorem q1481 : (Jvm.Cond.codeWith ({ cls := "PascalHouse", name := "program", desc := "()I" } : Jvm.MethodName) prog_1_method_11_code (3 : Nat) (Option.some Jvm.ClassFile.FieldType.int) [((43 : Nat), (48 : Nat), (51 : Nat), (201 : Nat))]) ∈ lw_all := lw_g (lw_at lw_m5 145 rfl) rfl
set_option maxRecDepth 100000 in
theorem q1482 : (Jvm.Cond.classLink "PascalHouse" (201 : Nat) "java/lang/IllegalStateException") ∈ lw_all := lw_g (lw_at lw_m5 146 rfl) rfl
set_option maxRecDepth 100000 in
theorem q1483 : (Jvm.Cond.methodLink "PascalHouse" (195 : Nat) ({ cls := "PascalHouse$Code", name := "clear", desc := "()V" } : Jvm.MethodName)) ∈ lw_all := lw_g (lw_at lw_m5 147 rfl) rfl
set_option maxRecDepth 100000 in
theorem q1484 : (Jvm.Cond.instanceMethod ({ cls := "PascalHouse$Code", name := "clear", desc := "()V" } : Jvm.MethodName)) ∈ lw_all := lw_g (lw_at lw_m5 148 rfl) rfl
set_option maxRecDepth 100000 in
theorem q1485 : (Jvm.Cond.selects "PascalHouse$Code" ({ cls := "PascalHouse$Code", name := "clear", desc := "()V" } : Jvm.MethodName) ({ cls := "PascalHouse$Code", name := "clear", desc := "()V" } : Jvm.MethodName)) ∈ lw_all := lw_g (lw_at lw_m5 149 rfl) rfl
set_option maxRecDepth 100000 in
theorem q1486 : (Jvm.Cond.code ({ cls := "PascalHouse$Code", name := "clear", desc := "()V" } : Jvm.MethodName) prog_3_method_2_code (1 : Nat) (Option.none : Option Jvm.ClassFile.FieldType)) ∈ lw_all := lw_g (lw_at lw_m5 150 rfl) rfl
set_option maxRecDepth 100000 in
theorem q1487 : (Jvm.Cond.methodLink "PascalHouse$Code" (72 : Nat) ({ cls := "java/util/ArrayList", name := "clear", desc := "()V" } : Jvm.MethodName)) ∈ lw_all := lw_g (lw_at lw_m5 151 rfl) rfl
set_option maxRecDepth 100000 in
theorem q1488 : (Jvm.Cond.instanceMethod ({ cls := "java/util/ArrayList", name := "clear", desc := "()V" } : Jvm.MethodName)) ∈ lw_all := lw_g (lw_at lw_m5 152 rfl) rfl
set_option maxRecDepth 100000 in
theorem q1489 : (Jvm.Cond.selects "java/util/ArrayList" ({ cls := "java/util/ArrayList", name := "clear", desc := "()V" } : Jvm.MethodName) ({ cls := "java/util/ArrayList", name := "clear", desc := "()V" } : Jvm.MethodName)) ∈ lw_all := lw_g (lw_at lw_m5 153 rfl) rfl
set_option maxRecDepth 100000 in
theorem q1490 : (Jvm.Cond.code ({ cls := "java/util/ArrayList", name := "clear", desc := "()V" } : Jvm.MethodName) prog_60_method_40_code (4 : Nat) (Option.none : Option Jvm.ClassFile.FieldType)) ∈ lw_all := lw_g (lw_at lw_m5 154 rfl) rfl
set_option maxRecDepth 100000 in
theorem q1491 : (Jvm.Cond.methodLink "PascalHouse" (198 : Nat) ({ cls := "PascalHouse", name := "read", desc := "(I)V" } : Jvm.MethodName)) ∈ lw_all := lw_g (lw_at lw_m5 155 rfl) rfl
set_option maxRecDepth 100000 in
theorem q1493 : (Jvm.Cond.instanceMethod ({ cls := "PascalHouse", name := "read", desc := "(I)V" } : Jvm.MethodName)) ∈ lw_all := lw_g (lw_at lw_m5 157 rfl) rfl
set_option maxRecDepth 100000 in
theorem q1494 : (Jvm.Cond.code ({ cls := "PascalHouse", name := "read", desc := "(I)V" } : Jvm.MethodName) prog_1_method_12_code (5 : Nat) (Option.none : Option Jvm.ClassFile.FieldType)) ∈ lw_all := lw_g (lw_at lw_m5 158 rfl) rfl
set_option maxRecDepth 100000 in
theorem q1495 : (Jvm.Cond.methodLink "PascalHouse" (203 : Nat) ({ cls := "PascalHouse$Faults", name := "at", desc := "(II)Ljava/lang/IllegalStateException;" } : Jvm.MethodName)) ∈ lw_all := lw_g (lw_at lw_m5 159 rfl) rfl
set_option maxRecDepth 100000 in
theorem q1496 : (Jvm.Cond.instanceMethod ({ cls := "PascalHouse$Faults", name := "at", desc := "(II)Ljava/lang/IllegalStateException;" } : Jvm.MethodName)) ∈ lw_all := lw_g (lw_at lw_m5 160 rfl) rfl
set_option maxRecDepth 100000 in
theorem q1497 : (Jvm.Cond.selects "PascalHouse$Faults" ({ cls := "PascalHouse$Faults", name := "at", desc := "(II)Ljava/lang/IllegalStateException;" } : Jvm.MethodName) ({ cls := "PascalHouse$Faults", name := "at", desc := "(II)Ljava/lang/IllegalStateException;" } : Jvm.MethodName)) ∈ lw_all := lw_g (lw_at lw_m5 161 rfl) rfl
set_option maxRecDepth 100000 in
theorem q1498 : (Jvm.Cond.code ({ cls := "PascalHouse$Faults", name := "at", desc := "(II)Ljava/lang/IllegalStateException;" } : Jvm.MethodName) prog_5_method_2_code (3 : Nat) (Option.some (Jvm.ClassFile.FieldType.object "java/lang/IllegalStateException"))) ∈ lw_all := lw_g (lw_at lw_m5 162 rfl) rfl
set_option maxRecDepth 100000 in
theorem q1499 : (Jvm.Cond.classLink "PascalHouse$Faults" (16 : Nat) "java/lang/IllegalStateException") ∈ lw_all := lw_g (lw_at lw_m5 163 rfl) rfl
set_option maxRecDepth 100000 in
theorem q1500 : (Jvm.Cond.instantiable "java/lang/IllegalStateException" (6 : Nat)) ∈ lw_all := lw_g (lw_at lw_m5 164 rfl) rfl
set_option maxRecDepth 100000 in
theorem q1560 : (Jvm.Cond.methodLink "PascalHouse" (207 : Nat) ({ cls := "PascalHouse$Parser", name := "program", desc := "(I)LPascalHouse$Tree;" } : Jvm.MethodName)) ∈ lw_all := lw_g (lw_at lw_m5 224 rfl) rfl
set_option maxRecDepth 100000 in
theorem q1561 : (Jvm.Cond.instanceMethod ({ cls := "PascalHouse$Parser", name := "program", desc := "(I)LPascalHouse$Tree;" } : Jvm.MethodName)) ∈ lw_all := lw_g (lw_at lw_m5 225 rfl) rfl
set_option maxRecDepth 100000 in
theorem q1562 : (Jvm.Cond.selects "PascalHouse$Parser" ({ cls := "PascalHouse$Parser", name := "program", desc := "(I)LPascalHouse$Tree;" } : Jvm.MethodName) ({ cls := "PascalHouse$Parser", name := "program", desc := "(I)LPascalHouse$Tree;" } : Jvm.MethodName)) ∈ lw_all := lw_g (lw_at lw_m5 226 rfl) rfl
set_option maxRecDepth 100000 in
theorem q1563 : (Jvm.Cond.code ({ cls := "PascalHouse$Parser", name := "program", desc := "(I)LPascalHouse$Tree;" } : Jvm.MethodName) prog_14_method_14_code (4 : Nat) (Option.some (Jvm.ClassFile.FieldType.object "PascalHouse$Tree"))) ∈ lw_all := lw_g (lw_at lw_m5 227 rfl) rfl
set_option maxRecDepth 100000 in
theorem q1564 : (Jvm.Cond.methodLink "PascalHouse$Parser" (93 : Nat) ({ cls := "PascalHouse$Scanner", name := "begin", desc := "(I)V" } : Jvm.MethodName)) ∈ lw_all := lw_g (lw_at lw_m5 228 rfl) rfl
set_option maxRecDepth 100000 in
theorem q1565 : (Jvm.Cond.instanceMethod ({ cls := "PascalHouse$Scanner", name := "begin", desc := "(I)V" } : Jvm.MethodName)) ∈ lw_all := lw_g (lw_at lw_m5 229 rfl) rfl
set_option maxRecDepth 100000 in
theorem q1566 : (Jvm.Cond.selects "PascalHouse$Scanner" ({ cls := "PascalHouse$Scanner", name := "begin", desc := "(I)V" } : Jvm.MethodName) ({ cls := "PascalHouse$Scanner", name := "begin", desc := "(I)V" } : Jvm.MethodName)) ∈ lw_all := lw_g (lw_at lw_m5 230 rfl) rfl
set_option maxRecDepth 100000 in
theorem q1567 : (Jvm.Cond.code ({ cls := "PascalHouse$Scanner", name := "begin", desc := "(I)V" } : Jvm.MethodName) prog_17_method_2_code (2 : Nat) (Option.none : Option Jvm.ClassFile.FieldType)) ∈ lw_all := lw_g (lw_at lw_m5 231 rfl) rfl
set_option maxRecDepth 100000 in
theorem q1568 : (Jvm.Cond.methodLink "PascalHouse$Parser" (57 : Nat) ({ cls := "PascalHouse$Parser", name := "step", desc := "()V" } : Jvm.MethodName)) ∈ lw_all := lw_g (lw_at lw_m5 232 rfl) rfl
set_option maxRecDepth 100000 in
theorem q1570 : (Jvm.Cond.instanceMethod ({ cls := "PascalHouse$Parser", name := "step", desc := "()V" } : Jvm.MethodName)) ∈ lw_all := lw_g (lw_at lw_m5 234 rfl) rfl
set_option maxRecDepth 100000 in
theorem q1571 : (Jvm.Cond.code ({ cls := "PascalHouse$Parser", name := "step", desc := "()V" } : Jvm.MethodName) prog_14_method_2_code (1 : Nat) (Option.none : Option Jvm.ClassFile.FieldType)) ∈ lw_all := lw_g (lw_at lw_m5 235 rfl) rfl
set_option maxRecDepth 100000 in
theorem q1572 : (Jvm.Cond.methodLink "PascalHouse$Parser" (19 : Nat) ({ cls := "PascalHouse$Scanner", name := "next", desc := "()LPascalHouse$Symbol;" } : Jvm.MethodName)) ∈ lw_all := lw_g (lw_at lw_m5 236 rfl) rfl
set_option maxRecDepth 100000 in
theorem q1573 : (Jvm.Cond.instanceMethod ({ cls := "PascalHouse$Scanner", name := "next", desc := "()LPascalHouse$Symbol;" } : Jvm.MethodName)) ∈ lw_all := lw_g (lw_at lw_m5 237 rfl) rfl
set_option maxRecDepth 100000 in
theorem q1574 : (Jvm.Cond.selects "PascalHouse$Scanner" ({ cls := "PascalHouse$Scanner", name := "next", desc := "()LPascalHouse$Symbol;" } : Jvm.MethodName) ({ cls := "PascalHouse$Scanner", name := "next", desc := "()LPascalHouse$Symbol;" } : Jvm.MethodName)) ∈ lw_all := lw_g (lw_at lw_m5 238 rfl) rfl
set_option maxRecDepth 100000 in
theorem q1575 : (Jvm.Cond.code ({ cls := "PascalHouse$Scanner", name := "next", desc := "()LPascalHouse$Symbol;" } : Jvm.MethodName) prog_17_method_7_code (2 : Nat) (Option.some (Jvm.ClassFile.FieldType.object "PascalHouse$Symbol"))) ∈ lw_all := lw_g (lw_at lw_m5 239 rfl) rfl
set_option maxRecDepth 100000 in
theorem q1576 : (Jvm.Cond.methodLink "PascalHouse$Scanner" (55 : Nat) ({ cls := "PascalHouse$Scanner", name := "pass", desc := "()V" } : Jvm.MethodName)) ∈ lw_all := lw_g (lw_at lw_m6 0 rfl) rfl
set_option maxRecDepth 100000 in
theorem q1578 : (Jvm.Cond.instanceMethod ({ cls := "PascalHouse$Scanner", name := "pass", desc := "()V" } : Jvm.MethodName)) ∈ lw_all := lw_g (lw_at lw_m6 2 rfl) rfl
set_option maxRecDepth 100000 in
theorem q1579 : (Jvm.Cond.code ({ cls := "PascalHouse$Scanner", name := "pass", desc := "()V" } : Jvm.MethodName) prog_17_method_5_code (2 : Nat) (Option.none : Option Jvm.ClassFile.FieldType)) ∈ lw_all := lw_g (lw_at lw_m6 3 rfl) rfl
set_option maxRecDepth 100000 in
theorem q1580 : (Jvm.Cond.methodLink "PascalHouse$Scanner" (44 : Nat) ({ cls := "PascalHouse$Scanner", name := "here", desc := "(I)I" } : Jvm.MethodName)) ∈ lw_all := lw_g (lw_at lw_m6 4 rfl) rfl
set_option maxRecDepth 100000 in
theorem q1582 : (Jvm.Cond.instanceMethod ({ cls := "PascalHouse$Scanner", name := "here", desc := "(I)I" } : Jvm.MethodName)) ∈ lw_all := lw_g (lw_at lw_m6 6 rfl) rfl
set_option maxRecDepth 100000 in
theorem q1583 : (Jvm.Cond.code ({ cls := "PascalHouse$Scanner", name := "here", desc := "(I)I" } : Jvm.MethodName) prog_17_method_3_code (2 : Nat) (Option.some Jvm.ClassFile.FieldType.int)) ∈ lw_all := lw_g (lw_at lw_m6 7 rfl) rfl
set_option maxRecDepth 100000 in
theorem q1584 : (Jvm.Cond.methodLink "PascalHouse$Scanner" (48 : Nat) ({ cls := "PascalHouse$Scanner", name := "passComment", desc := "()V" } : Jvm.MethodName)) ∈ lw_all := lw_g (lw_at lw_m6 8 rfl) rfl
set_option maxRecDepth 100000 in
theorem q1586 : (Jvm.Cond.instanceMethod ({ cls := "PascalHouse$Scanner", name := "passComment", desc := "()V" } : Jvm.MethodName)) ∈ lw_all := lw_g (lw_at lw_m6 10 rfl) rfl
set_option maxRecDepth 100000 in
theorem q1587 : (Jvm.Cond.code ({ cls := "PascalHouse$Scanner", name := "passComment", desc := "()V" } : Jvm.MethodName) prog_17_method_6_code (2 : Nat) (Option.none : Option Jvm.ClassFile.FieldType)) ∈ lw_all := lw_g (lw_at lw_m6 11 rfl) rfl
set_option maxRecDepth 100000 in
theorem q1588 : (Jvm.Cond.methodLink "PascalHouse$Scanner" (51 : Nat) ({ cls := "PascalHouse$Scanner", name := "wrong", desc := "(I)Ljava/lang/IllegalStateException;" } : Jvm.MethodName)) ∈ lw_all := lw_g (lw_at lw_m6 12 rfl) rfl
set_option maxRecDepth 100000 in
theorem q1590 : (Jvm.Cond.instanceMethod ({ cls := "PascalHouse$Scanner", name := "wrong", desc := "(I)Ljava/lang/IllegalStateException;" } : Jvm.MethodName)) ∈ lw_all := lw_g (lw_at lw_m6 14 rfl) rfl
set_option maxRecDepth 100000 in
theorem q1591 : (Jvm.Cond.code ({ cls := "PascalHouse$Scanner", name := "wrong", desc := "(I)Ljava/lang/IllegalStateException;" } : Jvm.MethodName) prog_17_method_4_code (2 : Nat) (Option.some (Jvm.ClassFile.FieldType.object "java/lang/IllegalStateException"))) ∈ lw_all := lw_g (lw_at lw_m6 15 rfl) rfl
set_option maxRecDepth 100000 in
theorem q1592 : (Jvm.Cond.methodLink "PascalHouse$Scanner" (39 : Nat) ({ cls := "PascalHouse$Faults", name := "at", desc := "(II)Ljava/lang/IllegalStateException;" } : Jvm.MethodName)) ∈ lw_all := lw_g (lw_at lw_m6 16 rfl) rfl
set_option maxRecDepth 100000 in
theorem q1593 : (Jvm.Cond.classLink "PascalHouse$Scanner" (58 : Nat) "PascalHouse$Symbol") ∈ lw_all := lw_g (lw_at lw_m6 17 rfl) rfl
set_option maxRecDepth 100000 in
theorem q1594 : (Jvm.Cond.instantiable "PascalHouse$Symbol" (5 : Nat)) ∈ lw_all := lw_g (lw_at lw_m6 18 rfl) rfl
set_option maxRecDepth 100000 in
theorem q1595 : (Jvm.Cond.fieldLink "PascalHouse$Scanner" (60 : Nat) "PascalHouse$Sort" "END" "LPascalHouse$Sort;") ∈ lw_all := lw_g (lw_at lw_m6 19 rfl) rfl
set_option maxRecDepth 100000 in
theorem q1598 : (Jvm.Cond.methodLink "PascalHouse$Scanner" (68 : Nat) ({ cls := "PascalHouse$Symbol", name := "<init>", desc := "(LPascalHouse$Sort;Ljava/lang/String;IID)V" } : Jvm.MethodName)) ∈ lw_all := lw_g (lw_at lw_m6 22 rfl) rfl
set_option maxRecDepth 100000 in
theorem q1599 : (Jvm.Cond.instanceMethod ({ cls := "PascalHouse$Symbol", name := "<init>", desc := "(LPascalHouse$Sort;Ljava/lang/String;IID)V" } : Jvm.MethodName)) ∈ lw_all := lw_g (lw_at lw_m6 23 rfl) rfl
set_option maxRecDepth 100000 in
theorem q1600 : (Jvm.Cond.code ({ cls := "PascalHouse$Symbol", name := "<init>", desc := "(LPascalHouse$Sort;Ljava/lang/String;IID)V" } : Jvm.MethodName) prog_20_method_1_code (7 : Nat) (Option.none : Option Jvm.ClassFile.FieldType)) ∈ lw_all := lw_g (lw_at lw_m6 24 rfl) rfl
set_option maxRecDepth 100000 in
theorem q1601 : (Jvm.Cond.methodLink "PascalHouse$Symbol" (1 : Nat) ({ cls := "java/lang/Object", name := "<init>", desc := "()V" } : Jvm.MethodName)) ∈ lw_all := lw_g (lw_at lw_m6 25 rfl) rfl
set_option maxRecDepth 100000 in
theorem q1602 : (Jvm.Cond.fieldLink "PascalHouse$Symbol" (7 : Nat) "PascalHouse$Symbol" "sort" "LPascalHouse$Sort;") ∈ lw_all := lw_g (lw_at lw_m6 26 rfl) rfl
set_option maxRecDepth 100000 in
theorem q1603 : (Jvm.Cond.fieldLinkNest "PascalHouse$Parser" (39 : Nat) "PascalHouse$Symbol" "sort" "LPascalHouse$Sort;" "PascalHouse") ∈ lw_tbl := lw_at lw_m6 27 rfl
set_option maxRecDepth 100000 in
theorem q1604 : (Jvm.Cond.fieldLinkNest "PascalHouse$Compiler" (205 : Nat) "PascalHouse$Symbol" "sort" "LPascalHouse$Sort;" "PascalHouse") ∈ lw_tbl := lw_at lw_m6 28 rfl
set_option maxRecDepth 100000 in
theorem q1605 : (Jvm.Cond.fieldLink "PascalHouse$Symbol" (13 : Nat) "PascalHouse$Symbol" "text" "Ljava/lang/String;") ∈ lw_all := lw_g (lw_at lw_m6 29 rfl) rfl
set_option maxRecDepth 100000 in
theorem q1606 : (Jvm.Cond.fieldLinkNest "PascalHouse$Tree" (35 : Nat) "PascalHouse$Symbol" "text" "Ljava/lang/String;" "PascalHouse") ∈ lw_tbl := lw_at lw_m6 30 rfl
set_option maxRecDepth 100000 in
theorem q1607 : (Jvm.Cond.fieldLinkNest "PascalHouse$Compiler" (237 : Nat) "PascalHouse$Symbol" "text" "Ljava/lang/String;" "PascalHouse") ∈ lw_tbl := lw_at lw_m6 31 rfl
set_option maxRecDepth 100000 in
theorem q1608 : (Jvm.Cond.fieldLinkNest "PascalHouse$Parser" (178 : Nat) "PascalHouse$Symbol" "text" "Ljava/lang/String;" "PascalHouse") ∈ lw_tbl := lw_at lw_m6 32 rfl
set_option maxRecDepth 100000 in
theorem q1609 : (Jvm.Cond.fieldLink "PascalHouse$Symbol" (17 : Nat) "PascalHouse$Symbol" "place" "I") ∈ lw_all := lw_g (lw_at lw_m6 33 rfl) rfl
set_option maxRecDepth 100000 in
theorem q1610 : (Jvm.Cond.fieldLinkNest "PascalHouse$Tree" (30 : Nat) "PascalHouse$Symbol" "place" "I" "PascalHouse") ∈ lw_tbl := lw_at lw_m6 34 rfl
set_option maxRecDepth 100000 in
theorem q1611 : (Jvm.Cond.fieldLinkNest "PascalHouse$Parser" (48 : Nat) "PascalHouse$Symbol" "place" "I" "PascalHouse") ∈ lw_tbl := lw_at lw_m6 35 rfl
set_option maxRecDepth 100000 in
theorem q1612 : (Jvm.Cond.fieldLink "PascalHouse$Symbol" (21 : Nat) "PascalHouse$Symbol" "number" "I") ∈ lw_all := lw_g (lw_at lw_m6 36 rfl) rfl
set_option maxRecDepth 100000 in
theorem q1613 : (Jvm.Cond.fieldLinkNest "PascalHouse$Compiler" (219 : Nat) "PascalHouse$Symbol" "number" "I" "PascalHouse") ∈ lw_tbl := lw_at lw_m6 37 rfl
set_option maxRecDepth 100000 in
theorem q1614 : (Jvm.Cond.fieldLink "PascalHouse$Symbol" (24 : Nat) "PascalHouse$Symbol" "real" "D") ∈ lw_all := lw_g (lw_at lw_m6 38 rfl) rfl
set_option maxRecDepth 100000 in
theorem q1615 : (Jvm.Cond.fieldLinkNest "PascalHouse$Compiler" (228 : Nat) "PascalHouse$Symbol" "real" "D" "PascalHouse") ∈ lw_tbl := lw_at lw_m6 39 rfl
set_option maxRecDepth 100000 in
theorem q1627 : (Jvm.Cond.methodLinkNest "PascalHouse$Scanner" (71 : Nat) ({ cls := "PascalHouse", name := "isLetter", desc := "(I)Z" } : Jvm.MethodName) "PascalHouse") ∈ lw_tbl := lw_at lw_m6 51 rfl
set_option maxRecDepth 100000 in
theorem q1628 : (Jvm.Cond.static ({ cls := "PascalHouse", name := "isLetter", desc := "(I)Z" } : Jvm.MethodName)) ∈ lw_all := lw_g (lw_at lw_m6 52 rfl) rfl
set_option maxRecDepth 100000 in
theorem q1629 : (Jvm.Cond.code ({ cls := "PascalHouse", name := "isLetter", desc := "(I)Z" } : Jvm.MethodName) prog_1_method_2_code (1 : Nat) (Option.some Jvm.ClassFile.FieldType.boolean)) ∈ lw_all := lw_g (lw_at lw_m6 53 rfl) rfl
set_option maxRecDepth 100000 in
theorem q1630 : (Jvm.Cond.methodLink "PascalHouse$Scanner" (75 : Nat) ({ cls := "PascalHouse$Scanner", name := "word", desc := "()LPascalHouse$Symbol;" } : Jvm.MethodName)) ∈ lw_all := lw_g (lw_at lw_m6 54 rfl) rfl
set_option maxRecDepth 100000 in
theorem q1632 : (Jvm.Cond.instanceMethod ({ cls := "PascalHouse$Scanner", name := "word", desc := "()LPascalHouse$Symbol;" } : Jvm.MethodName)) ∈ lw_all := lw_g (lw_at lw_m6 56 rfl) rfl
set_option maxRecDepth 100000 in
theorem q1633 : (Jvm.Cond.code ({ cls := "PascalHouse$Scanner", name := "word", desc := "()LPascalHouse$Symbol;" } : Jvm.MethodName) prog_17_method_8_code (6 : Nat) (Option.some (Jvm.ClassFile.FieldType.object "PascalHouse$Symbol"))) ∈ lw_all := lw_g (lw_at lw_m6 57 rfl) rfl
set_option maxRecDepth 100000 in
theorem q1634 : (Jvm.Cond.methodLink "PascalHouse$Scanner" (91 : Nat) ({ cls := "java/lang/StringBuilder", name := "setLength", desc := "(I)V" } : Jvm.MethodName)) ∈ lw_all := lw_g (lw_at lw_m6 58 rfl) rfl
set_option maxRecDepth 100000 in
theorem q1635 : (Jvm.Cond.methodLinkNest "PascalHouse$Scanner" (79 : Nat) ({ cls := "PascalHouse", name := "isDigit", desc := "(I)Z" } : Jvm.MethodName) "PascalHouse") ∈ lw_tbl := lw_at lw_m6 59 rfl
set_option maxRecDepth 100000 in
theorem q1636 : (Jvm.Cond.static ({ cls := "PascalHouse", name := "isDigit", desc := "(I)Z" } : Jvm.MethodName)) ∈ lw_all := lw_g (lw_at lw_m6 60 rfl) rfl
set_option maxRecDepth 100000 in
theorem q1637 : (Jvm.Cond.code ({ cls := "PascalHouse", name := "isDigit", desc := "(I)Z" } : Jvm.MethodName) prog_1_method_1_code (1 : Nat) (Option.some Jvm.ClassFile.FieldType.boolean)) ∈ lw_all := lw_g (lw_at lw_m6 61 rfl) rfl
set_option maxRecDepth 100000 in
theorem q1638 : (Jvm.Cond.methodLinkNest "PascalHouse$Scanner" (94 : Nat) ({ cls := "PascalHouse", name := "small", desc := "(I)I" } : Jvm.MethodName) "PascalHouse") ∈ lw_tbl := lw_at lw_m6 62 rfl
set_option maxRecDepth 100000 in
theorem q1639 : (Jvm.Cond.static ({ cls := "PascalHouse", name := "small", desc := "(I)I" } : Jvm.MethodName)) ∈ lw_all := lw_g (lw_at lw_m6 63 rfl) rfl
set_option maxRecDepth 100000 in
theorem q1640 : (Jvm.Cond.code ({ cls := "PascalHouse", name := "small", desc := "(I)I" } : Jvm.MethodName) prog_1_method_3_code (1 : Nat) (Option.some Jvm.ClassFile.FieldType.int)) ∈ lw_all := lw_g (lw_at lw_m6 64 rfl) rfl
set_option maxRecDepth 100000 in
theorem q1641 : (Jvm.Cond.methodLink "PascalHouse$Scanner" (97 : Nat) ({ cls := "java/lang/StringBuilder", name := "append", desc := "(C)Ljava/lang/StringBuilder;" } : Jvm.MethodName)) ∈ lw_all := lw_g (lw_at lw_m6 65 rfl) rfl
set_option maxRecDepth 100000 in
theorem q1642 : (Jvm.Cond.methodLink "PascalHouse$Scanner" (101 : Nat) ({ cls := "java/lang/StringBuilder", name := "toString", desc := "()Ljava/lang/String;" } : Jvm.MethodName)) ∈ lw_all := lw_g (lw_at lw_m6 66 rfl) rfl
set_option maxRecDepth 100000 in
theorem q1643 : (Jvm.Cond.methodLink "PascalHouse$Scanner" (105 : Nat) ({ cls := "java/lang/String", name := "equals", desc := "(Ljava/lang/Object;)Z" } : Jvm.MethodName)) ∈ lw_all := lw_g (lw_at lw_m6 67 rfl) rfl
set_option maxRecDepth 100000 in
theorem q1644 : (Jvm.Cond.instanceMethod ({ cls := "java/lang/String", name := "equals", desc := "(Ljava/lang/Object;)Z" } : Jvm.MethodName)) ∈ lw_all := lw_g (lw_at lw_m6 68 rfl) rfl
set_option maxRecDepth 100000 in
theorem q1645 : (Jvm.Cond.selects "java/lang/String" ({ cls := "java/lang/String", name := "equals", desc := "(Ljava/lang/Object;)Z" } : Jvm.MethodName) ({ cls := "java/lang/String", name := "equals", desc := "(Ljava/lang/Object;)Z" } : Jvm.MethodName)) ∈ lw_all := lw_g (lw_at lw_m6 69 rfl) rfl
set_option maxRecDepth 100000 in
theorem q1646 : (Jvm.Cond.code ({ cls := "java/lang/String", name := "equals", desc := "(Ljava/lang/Object;)Z" } : Jvm.MethodName) prog_50_method_66_code (3 : Nat) (Option.some Jvm.ClassFile.FieldType.boolean)) ∈ lw_all := lw_g (lw_at lw_m6 70 rfl) rfl
set_option maxRecDepth 100000 in
theorem q1647 : (Jvm.Cond.classLink "java/lang/String" (10 : Nat) "java/lang/String") ∈ lw_all := lw_g (lw_at lw_m6 71 rfl) rfl
set_option maxRecDepth 100000 in
theorem q1648 : (Jvm.Cond.methodLink "java/lang/String" (541 : Nat) ({ cls := "java/lang/StringLatin1", name := "equals", desc := "([B[B)Z" } : Jvm.MethodName)) ∈ lw_all := lw_g (lw_at lw_m6 72 rfl) rfl
set_option maxRecDepth 100000 in
theorem q1649 : (Jvm.Cond.static ({ cls := "java/lang/StringLatin1", name := "equals", desc := "([B[B)Z" } : Jvm.MethodName)) ∈ lw_all := lw_g (lw_at lw_m6 73 rfl) rfl
set_option maxRecDepth 100000 in
theorem q1650 : (Jvm.Cond.code ({ cls := "java/lang/StringLatin1", name := "equals", desc := "([B[B)Z" } : Jvm.MethodName) prog_52_method_13_code (3 : Nat) (Option.some Jvm.ClassFile.FieldType.boolean)) ∈ lw_all := lw_g (lw_at lw_m6 74 rfl) rfl
set_option maxRecDepth 100000 in
theorem q1651 : (Jvm.Cond.fieldLink "PascalHouse$Scanner" (111 : Nat) "PascalHouse$Sort" "SIGN" "LPascalHouse$Sort;") ∈ lw_all := lw_g (lw_at lw_m6 75 rfl) rfl
set_option maxRecDepth 100000 in
theorem q1653 : (Jvm.Cond.fieldLink "PascalHouse$Scanner" (114 : Nat) "PascalHouse$Sort" "NAME" "LPascalHouse$Sort;") ∈ lw_all := lw_g (lw_at lw_m6 77 rfl) rfl
set_option maxRecDepth 100000 in
theorem q1655 : (Jvm.Cond.methodLink "PascalHouse$Scanner" (82 : Nat) ({ cls := "PascalHouse$Scanner", name := "number", desc := "()LPascalHouse$Symbol;" } : Jvm.MethodName)) ∈ lw_all := lw_g (lw_at lw_m6 79 rfl) rfl
set_option maxRecDepth 100000 in
theorem q1657 : (Jvm.Cond.instanceMethod ({ cls := "PascalHouse$Scanner", name := "number", desc := "()LPascalHouse$Symbol;" } : Jvm.MethodName)) ∈ lw_all := lw_g (lw_at lw_m6 81 rfl) rfl
set_option maxRecDepth 100000 in
theorem q1658 : (Jvm.Cond.code ({ cls := "PascalHouse$Scanner", name := "number", desc := "()LPascalHouse$Symbol;" } : Jvm.MethodName) prog_17_method_9_code (13 : Nat) (Option.some (Jvm.ClassFile.FieldType.object "PascalHouse$Symbol"))) ∈ lw_all := lw_g (lw_at lw_m6 82 rfl) rfl
set_option maxRecDepth 100000 in
theorem q1659 : (Jvm.Cond.constantLong "PascalHouse$Scanner" (117 : Nat) (10 : Int64)) ∈ lw_all := lw_g (lw_at lw_m6 83 rfl) rfl
set_option maxRecDepth 100000 in
theorem q1660 : (Jvm.Cond.constantLong "PascalHouse$Scanner" (119 : Nat) (48 : Int64)) ∈ lw_all := lw_g (lw_at lw_m6 84 rfl) rfl
set_option maxRecDepth 100000 in
theorem q1661 : (Jvm.Cond.constantLong "PascalHouse$Scanner" (121 : Nat) (2147483647 : Int64)) ∈ lw_all := lw_g (lw_at lw_m6 85 rfl) rfl
set_option maxRecDepth 100000 in
theorem q1662 : (Jvm.Cond.fieldLink "PascalHouse$Scanner" (123 : Nat) "PascalHouse$Sort" "NUMBER" "LPascalHouse$Sort;") ∈ lw_all := lw_g (lw_at lw_m6 86 rfl) rfl
set_option maxRecDepth 100000 in
theorem q1664 : (Jvm.Cond.methodLink "PascalHouse$Scanner" (126 : Nat) ({ cls := "PascalHouse$Scanner", name := "exponent", desc := "(I)I" } : Jvm.MethodName)) ∈ lw_all := lw_g (lw_at lw_m6 88 rfl) rfl
set_option maxRecDepth 100000 in
theorem q1666 : (Jvm.Cond.instanceMethod ({ cls := "PascalHouse$Scanner", name := "exponent", desc := "(I)I" } : Jvm.MethodName)) ∈ lw_all := lw_g (lw_at lw_m6 90 rfl) rfl
set_option maxRecDepth 100000 in
theorem q1667 : (Jvm.Cond.code ({ cls := "PascalHouse$Scanner", name := "exponent", desc := "(I)I" } : Jvm.MethodName) prog_17_method_10_code (6 : Nat) (Option.some Jvm.ClassFile.FieldType.int)) ∈ lw_all := lw_g (lw_at lw_m6 91 rfl) rfl
set_option maxRecDepth 100000 in
theorem q1668 : (Jvm.Cond.methodLinkNest "PascalHouse$Scanner" (129 : Nat) ({ cls := "PascalHouse", name := "realOf", desc := "(JII)D" } : Jvm.MethodName) "PascalHouse") ∈ lw_tbl := lw_at lw_m6 92 rfl
set_option maxRecDepth 100000 in
theorem q1669 : (Jvm.Cond.static ({ cls := "PascalHouse", name := "realOf", desc := "(JII)D" } : Jvm.MethodName)) ∈ lw_all := lw_g (lw_at lw_m6 93 rfl) rfl
set_option maxRecDepth 100000 in
theorem q1670 : (Jvm.Cond.code ({ cls := "PascalHouse", name := "realOf", desc := "(JII)D" } : Jvm.MethodName) prog_1_method_5_code (6 : Nat) (Option.some Jvm.ClassFile.FieldType.double)) ∈ lw_all := lw_g (lw_at lw_m6 94 rfl) rfl
set_option maxRecDepth 100000 in
theorem q1671 : (Jvm.Cond.methodLink "PascalHouse" (3 : Nat) ({ cls := "PascalHouse", name := "power", desc := "(I)D" } : Jvm.MethodName)) ∈ lw_all := lw_g (lw_at lw_m6 95 rfl) rfl
set_option maxRecDepth 100000 in
theorem q1672 : (Jvm.Cond.static ({ cls := "PascalHouse", name := "power", desc := "(I)D" } : Jvm.MethodName)) ∈ lw_all := lw_g (lw_at lw_m6 96 rfl) rfl
set_option maxRecDepth 100000 in
theorem q1673 : (Jvm.Cond.code ({ cls := "PascalHouse", name := "power", desc := "(I)D" } : Jvm.MethodName) prog_1_method_4_code (4 : Nat) (Option.some Jvm.ClassFile.FieldType.double)) ∈ lw_all := lw_g (lw_at lw_m6 97 rfl) rfl
set_option maxRecDepth 100000 in
theorem q1674 : (Jvm.Cond.constantDouble "PascalHouse" (1 : Nat) (4621819117588971520 : UInt64)) ∈ lw_all := lw_g (lw_at lw_m6 98 rfl) rfl
set_option maxRecDepth 100000 in
theorem q1675 : (Jvm.Cond.methodLinkNest "PascalHouse$Scanner" (133 : Nat) ({ cls := "PascalHouse", name := "isFinite", desc := "(D)Z" } : Jvm.MethodName) "PascalHouse") ∈ lw_tbl := lw_at lw_m6 99 rfl
set_option maxRecDepth 100000 in
theorem q1676 : (Jvm.Cond.static ({ cls := "PascalHouse", name := "isFinite", desc := "(D)Z" } : Jvm.MethodName)) ∈ lw_all := lw_g (lw_at lw_m6 100 rfl) rfl
set_option maxRecDepth 100000 in
theorem q1677 : (Jvm.Cond.code ({ cls := "PascalHouse", name := "isFinite", desc := "(D)Z" } : Jvm.MethodName) prog_1_method_6_code (2 : Nat) (Option.some Jvm.ClassFile.FieldType.boolean)) ∈ lw_all := lw_g (lw_at lw_m6 101 rfl) rfl
set_option maxRecDepth 100000 in
theorem q1678 : (Jvm.Cond.constantDouble "PascalHouse" (9 : Nat) (18442240474082181119 : UInt64)) ∈ lw_all := lw_g (lw_at lw_m6 102 rfl) rfl
set_option maxRecDepth 100000 in
theorem q1679 : (Jvm.Cond.constantDouble "PascalHouse" (11 : Nat) (9218868437227405311 : UInt64)) ∈ lw_all := lw_g (lw_at lw_m6 103 rfl) rfl
set_option maxRecDepth 100000 in
theorem q1680 : (Jvm.Cond.fieldLink "PascalHouse$Scanner" (137 : Nat) "PascalHouse$Sort" "REAL" "LPascalHouse$Sort;") ∈ lw_all := lw_g (lw_at lw_m6 104 rfl) rfl
set_option maxRecDepth 100000 in
theorem q1682 : (Jvm.Cond.methodLink "PascalHouse$Scanner" (85 : Nat) ({ cls := "PascalHouse$Scanner", name := "string", desc := "()LPascalHouse$Symbol;" } : Jvm.MethodName)) ∈ lw_all := lw_g (lw_at lw_m6 106 rfl) rfl
set_option maxRecDepth 100000 in
theorem q1684 : (Jvm.Cond.instanceMethod ({ cls := "PascalHouse$Scanner", name := "string", desc := "()LPascalHouse$Symbol;" } : Jvm.MethodName)) ∈ lw_all := lw_g (lw_at lw_m6 108 rfl) rfl
set_option maxRecDepth 100000 in
theorem q1685 : (Jvm.Cond.code ({ cls := "PascalHouse$Scanner", name := "string", desc := "()LPascalHouse$Symbol;" } : Jvm.MethodName) prog_17_method_11_code (2 : Nat) (Option.some (Jvm.ClassFile.FieldType.object "PascalHouse$Symbol"))) ∈ lw_all := lw_g (lw_at lw_m6 109 rfl) rfl
set_option maxRecDepth 100000 in
theorem q1686 : (Jvm.Cond.methodLink "PascalHouse$Scanner" (140 : Nat) ({ cls := "java/lang/StringBuilder", name := "length", desc := "()I" } : Jvm.MethodName)) ∈ lw_all := lw_g (lw_at lw_m6 110 rfl) rfl
set_option maxRecDepth 100000 in
theorem q1687 : (Jvm.Cond.fieldLink "PascalHouse$Scanner" (144 : Nat) "PascalHouse$Sort" "STRING" "LPascalHouse$Sort;") ∈ lw_all := lw_g (lw_at lw_m6 111 rfl) rfl
set_option maxRecDepth 100000 in
theorem q1689 : (Jvm.Cond.methodLink "PascalHouse$Scanner" (88 : Nat) ({ cls := "PascalHouse$Scanner", name := "sign", desc := "()LPascalHouse$Symbol;" } : Jvm.MethodName)) ∈ lw_all := lw_g (lw_at lw_m6 113 rfl) rfl
set_option maxRecDepth 100000 in
theorem q1691 : (Jvm.Cond.instanceMethod ({ cls := "PascalHouse$Scanner", name := "sign", desc := "()LPascalHouse$Symbol;" } : Jvm.MethodName)) ∈ lw_all := lw_g (lw_at lw_m6 115 rfl) rfl
set_option maxRecDepth 100000 in
theorem q1692 : (Jvm.Cond.code ({ cls := "PascalHouse$Scanner", name := "sign", desc := "()LPascalHouse$Symbol;" } : Jvm.MethodName) prog_17_method_12_code (6 : Nat) (Option.some (Jvm.ClassFile.FieldType.object "PascalHouse$Symbol"))) ∈ lw_all := lw_g (lw_at lw_m6 116 rfl) rfl
set_option maxRecDepth 100000 in
theorem q1700 : (Jvm.Cond.methodLink "PascalHouse$Scanner" (161 : Nat) ({ cls := "PascalHouse$Scanner", name := "single", desc := "(I)Ljava/lang/String;" } : Jvm.MethodName)) ∈ lw_all := lw_g (lw_at lw_m6 124 rfl) rfl
set_option maxRecDepth 100000 in
theorem q1701 : (Jvm.Cond.static ({ cls := "PascalHouse$Scanner", name := "single", desc := "(I)Ljava/lang/String;" } : Jvm.MethodName)) ∈ lw_all := lw_g (lw_at lw_m6 125 rfl) rfl
set_option maxRecDepth 100000 in
theorem q1702 : (Jvm.Cond.code ({ cls := "PascalHouse$Scanner", name := "single", desc := "(I)Ljava/lang/String;" } : Jvm.MethodName) prog_17_method_13_code (1 : Nat) (Option.some (Jvm.ClassFile.FieldType.object "java/lang/String"))) ∈ lw_all := lw_g (lw_at lw_m6 126 rfl) rfl
set_option maxRecDepth 100000 in
theorem q1717 : (Jvm.Cond.methodLink "PascalHouse$Scanner" (165 : Nat) ({ cls := "java/lang/String", name := "length", desc := "()I" } : Jvm.MethodName)) ∈ lw_all := lw_g (lw_at lw_m6 141 rfl) rfl
set_option maxRecDepth 100000 in
theorem q1719 : (Jvm.Cond.methodLink "PascalHouse$Parser" (99 : Nat) ({ cls := "PascalHouse$Parser", name := "need", desc := "(Ljava/lang/String;)LPascalHouse$Symbol;" } : Jvm.MethodName)) ∈ lw_all := lw_g (lw_at lw_m6 143 rfl) rfl
set_option maxRecDepth 100000 in
theorem q1721 : (Jvm.Cond.instanceMethod ({ cls := "PascalHouse$Parser", name := "need", desc := "(Ljava/lang/String;)LPascalHouse$Symbol;" } : Jvm.MethodName)) ∈ lw_all := lw_g (lw_at lw_m6 145 rfl) rfl
set_option maxRecDepth 100000 in
theorem q1722 : (Jvm.Cond.code ({ cls := "PascalHouse$Parser", name := "need", desc := "(Ljava/lang/String;)LPascalHouse$Symbol;" } : Jvm.MethodName) prog_14_method_7_code (2 : Nat) (Option.some (Jvm.ClassFile.FieldType.object "PascalHouse$Symbol"))) ∈ lw_all := lw_g (lw_at lw_m6 146 rfl) rfl
set_option maxRecDepth 100000 in
theorem q1723 : (Jvm.Cond.methodLink "PascalHouse$Parser" (60 : Nat) ({ cls := "PascalHouse$Parser", name := "is", desc := "(Ljava/lang/String;)Z" } : Jvm.MethodName)) ∈ lw_all := lw_g (lw_at lw_m6 147 rfl) rfl
set_option maxRecDepth 100000 in
theorem q1725 : (Jvm.Cond.instanceMethod ({ cls := "PascalHouse$Parser", name := "is", desc := "(Ljava/lang/String;)Z" } : Jvm.MethodName)) ∈ lw_all := lw_g (lw_at lw_m6 149 rfl) rfl
set_option maxRecDepth 100000 in
theorem q1726 : (Jvm.Cond.code ({ cls := "PascalHouse$Parser", name := "is", desc := "(Ljava/lang/String;)Z" } : Jvm.MethodName) prog_14_method_3_code (2 : Nat) (Option.some Jvm.ClassFile.FieldType.boolean)) ∈ lw_all := lw_g (lw_at lw_m6 150 rfl) rfl
set_option maxRecDepth 100000 in
theorem q1727 : (Jvm.Cond.methodLink "PascalHouse$Parser" (33 : Nat) ({ cls := "PascalHouse$Symbol", name := "is", desc := "(Ljava/lang/String;)Z" } : Jvm.MethodName)) ∈ lw_all := lw_g (lw_at lw_m6 151 rfl) rfl
set_option maxRecDepth 100000 in
theorem q1728 : (Jvm.Cond.instanceMethod ({ cls := "PascalHouse$Symbol", name := "is", desc := "(Ljava/lang/String;)Z" } : Jvm.MethodName)) ∈ lw_all := lw_g (lw_at lw_m6 152 rfl) rfl
set_option maxRecDepth 100000 in
theorem q1729 : (Jvm.Cond.selects "PascalHouse$Symbol" ({ cls := "PascalHouse$Symbol", name := "is", desc := "(Ljava/lang/String;)Z" } : Jvm.MethodName) ({ cls := "PascalHouse$Symbol", name := "is", desc := "(Ljava/lang/String;)Z" } : Jvm.MethodName)) ∈ lw_all := lw_g (lw_at lw_m6 153 rfl) rfl
set_option maxRecDepth 100000 in
theorem q1730 : (Jvm.Cond.code ({ cls := "PascalHouse$Symbol", name := "is", desc := "(Ljava/lang/String;)Z" } : Jvm.MethodName) prog_20_method_2_code (2 : Nat) (Option.some Jvm.ClassFile.FieldType.boolean)) ∈ lw_all := lw_g (lw_at lw_m6 154 rfl) rfl
set_option maxRecDepth 100000 in
theorem q1731 : (Jvm.Cond.fieldLink "PascalHouse$Symbol" (28 : Nat) "PascalHouse$Sort" "SIGN" "LPascalHouse$Sort;") ∈ lw_all := lw_g (lw_at lw_m6 155 rfl) rfl
set_option maxRecDepth 100000 in
theorem q1732 : (Jvm.Cond.methodLink "PascalHouse$Symbol" (33 : Nat) ({ cls := "java/lang/String", name := "equals", desc := "(Ljava/lang/Object;)Z" } : Jvm.MethodName)) ∈ lw_all := lw_g (lw_at lw_m6 156 rfl) rfl
set_option maxRecDepth 100000 in
theorem q1733 : (Jvm.Cond.methodLink "PascalHouse$Parser" (61 : Nat) ({ cls := "PascalHouse$Parser", name := "wrong", desc := "()Ljava/lang/IllegalStateException;" } : Jvm.MethodName)) ∈ lw_all := lw_g (lw_at lw_m6 157 rfl) rfl
set_option maxRecDepth 100000 in
theorem q1735 : (Jvm.Cond.instanceMethod ({ cls := "PascalHouse$Parser", name := "wrong", desc := "()Ljava/lang/IllegalStateException;" } : Jvm.MethodName)) ∈ lw_all := lw_g (lw_at lw_m6 159 rfl) rfl
set_option maxRecDepth 100000 in
theorem q1736 : (Jvm.Cond.code ({ cls := "PascalHouse$Parser", name := "wrong", desc := "()Ljava/lang/IllegalStateException;" } : Jvm.MethodName) prog_14_method_5_code (1 : Nat) (Option.some (Jvm.ClassFile.FieldType.object "java/lang/IllegalStateException"))) ∈ lw_all := lw_g (lw_at lw_m6 160 rfl) rfl
set_option maxRecDepth 100000 in
theorem q1737 : (Jvm.Cond.methodLink "PascalHouse$Parser" (51 : Nat) ({ cls := "PascalHouse$Faults", name := "at", desc := "(II)Ljava/lang/IllegalStateException;" } : Jvm.MethodName)) ∈ lw_all := lw_g (lw_at lw_m6 161 rfl) rfl
set_option maxRecDepth 100000 in
theorem q1738 : (Jvm.Cond.methodLink "PascalHouse$Parser" (65 : Nat) ({ cls := "PascalHouse$Parser", name := "take", desc := "()LPascalHouse$Symbol;" } : Jvm.MethodName)) ∈ lw_all := lw_g (lw_at lw_m6 162 rfl) rfl
set_option maxRecDepth 100000 in
theorem q1740 : (Jvm.Cond.instanceMethod ({ cls := "PascalHouse$Parser", name := "take", desc := "()LPascalHouse$Symbol;" } : Jvm.MethodName)) ∈ lw_all := lw_g (lw_at lw_m6 164 rfl) rfl
set_option maxRecDepth 100000 in
theorem q1741 : (Jvm.Cond.code ({ cls := "PascalHouse$Parser", name := "take", desc := "()LPascalHouse$Symbol;" } : Jvm.MethodName) prog_14_method_6_code (2 : Nat) (Option.some (Jvm.ClassFile.FieldType.object "PascalHouse$Symbol"))) ∈ lw_all := lw_g (lw_at lw_m6 165 rfl) rfl
set_option maxRecDepth 100000 in
theorem q1742 : (Jvm.Cond.classLink "PascalHouse$Parser" (71 : Nat) "PascalHouse$Tree") ∈ lw_all := lw_g (lw_at lw_m6 166 rfl) rfl
set_option maxRecDepth 100000 in
theorem q1743 : (Jvm.Cond.instantiable "PascalHouse$Tree" (6 : Nat)) ∈ lw_all := lw_g (lw_at lw_m6 167 rfl) rfl
set_option maxRecDepth 100000 in
theorem q1744 : (Jvm.Cond.fieldLink "PascalHouse$Parser" (43 : Nat) "PascalHouse$Sort" "NAME" "LPascalHouse$Sort;") ∈ lw_all := lw_g (lw_at lw_m6 168 rfl) rfl
set_option maxRecDepth 100000 in
theorem q1745 : (Jvm.Cond.methodLink "PascalHouse$Parser" (73 : Nat) ({ cls := "PascalHouse$Parser", name := "needSort", desc := "(LPascalHouse$Sort;)LPascalHouse$Symbol;" } : Jvm.MethodName)) ∈ lw_all := lw_g (lw_at lw_m6 169 rfl) rfl
set_option maxRecDepth 100000 in
theorem q1747 : (Jvm.Cond.instanceMethod ({ cls := "PascalHouse$Parser", name := "needSort", desc := "(LPascalHouse$Sort;)LPascalHouse$Symbol;" } : Jvm.MethodName)) ∈ lw_all := lw_g (lw_at lw_m6 171 rfl) rfl
set_option maxRecDepth 100000 in
theorem q1748 : (Jvm.Cond.code ({ cls := "PascalHouse$Parser", name := "needSort", desc := "(LPascalHouse$Sort;)LPascalHouse$Symbol;" } : Jvm.MethodName) prog_14_method_8_code (2 : Nat) (Option.some (Jvm.ClassFile.FieldType.object "PascalHouse$Symbol"))) ∈ lw_all := lw_g (lw_at lw_m6 172 rfl) rfl
set_option maxRecDepth 100000 in
theorem q1749 : (Jvm.Cond.methodLink "PascalHouse$Parser" (77 : Nat) ({ cls := "PascalHouse$Tree", name := "<init>", desc := "(ILPascalHouse$Symbol;)V" } : Jvm.MethodName)) ∈ lw_all := lw_g (lw_at lw_m6 173 rfl) rfl
set_option maxRecDepth 100000 in
theorem q1750 : (Jvm.Cond.instanceMethod ({ cls := "PascalHouse$Tree", name := "<init>", desc := "(ILPascalHouse$Symbol;)V" } : Jvm.MethodName)) ∈ lw_all := lw_g (lw_at lw_m6 174 rfl) rfl
set_option maxRecDepth 100000 in
theorem q1751 : (Jvm.Cond.code ({ cls := "PascalHouse$Tree", name := "<init>", desc := "(ILPascalHouse$Symbol;)V" } : Jvm.MethodName) prog_21_method_1_code (3 : Nat) (Option.none : Option Jvm.ClassFile.FieldType)) ∈ lw_all := lw_g (lw_at lw_m6 175 rfl) rfl
set_option maxRecDepth 100000 in
theorem q1752 : (Jvm.Cond.methodLink "PascalHouse$Tree" (1 : Nat) ({ cls := "java/lang/Object", name := "<init>", desc := "()V" } : Jvm.MethodName)) ∈ lw_all := lw_g (lw_at lw_m6 176 rfl) rfl
set_option maxRecDepth 100000 in
theorem q1753 : (Jvm.Cond.fieldLink "PascalHouse$Tree" (7 : Nat) "PascalHouse$Tree" "kind" "I") ∈ lw_all := lw_g (lw_at lw_m6 177 rfl) rfl
set_option maxRecDepth 100000 in
theorem q1754 : (Jvm.Cond.fieldLinkNest "PascalHouse$Compiler" (264 : Nat) "PascalHouse$Tree" "kind" "I" "PascalHouse") ∈ lw_tbl := lw_at lw_m6 178 rfl
set_option maxRecDepth 100000 in
theorem q1755 : (Jvm.Cond.fieldLink "PascalHouse$Tree" (13 : Nat) "PascalHouse$Tree" "at" "LPascalHouse$Symbol;") ∈ lw_all := lw_g (lw_at lw_m6 179 rfl) rfl
set_option maxRecDepth 100000 in
theorem q1756 : (Jvm.Cond.fieldLinkNest "PascalHouse$Compiler" (202 : Nat) "PascalHouse$Tree" "at" "LPascalHouse$Symbol;" "PascalHouse") ∈ lw_tbl := lw_at lw_m6 180 rfl
set_option maxRecDepth 100000 in
theorem q1757 : (Jvm.Cond.fieldLinkNest "PascalHouse$Parser" (103 : Nat) "PascalHouse$Tree" "at" "LPascalHouse$Symbol;" "PascalHouse") ∈ lw_tbl := lw_at lw_m6 181 rfl
set_option maxRecDepth 100000 in
theorem q1758 : (Jvm.Cond.fieldLink "PascalHouse$Tree" (17 : Nat) "PascalHouse$Tree" "first" "LPascalHouse$Tree;") ∈ lw_all := lw_g (lw_at lw_m6 182 rfl) rfl
set_option maxRecDepth 100000 in
theorem q1759 : (Jvm.Cond.fieldLinkNest "PascalHouse$Compiler" (251 : Nat) "PascalHouse$Tree" "first" "LPascalHouse$Tree;" "PascalHouse") ∈ lw_tbl := lw_at lw_m6 183 rfl
set_option maxRecDepth 100000 in
theorem q1760 : (Jvm.Cond.fieldLinkNest "PascalHouse" (220 : Nat) "PascalHouse$Tree" "first" "LPascalHouse$Tree;" "PascalHouse") ∈ lw_tbl := lw_at lw_m6 184 rfl
set_option maxRecDepth 100000 in
theorem q1761 : (Jvm.Cond.fieldLinkNest "PascalHouse$Parser" (232 : Nat) "PascalHouse$Tree" "first" "LPascalHouse$Tree;" "PascalHouse") ∈ lw_tbl := lw_at lw_m6 185 rfl
set_option maxRecDepth 100000 in
theorem q1762 : (Jvm.Cond.fieldLink "PascalHouse$Tree" (21 : Nat) "PascalHouse$Tree" "last" "LPascalHouse$Tree;") ∈ lw_all := lw_g (lw_at lw_m6 186 rfl) rfl
set_option maxRecDepth 100000 in
theorem q1763 : (Jvm.Cond.fieldLinkNest "PascalHouse$Compiler" (519 : Nat) "PascalHouse$Tree" "last" "LPascalHouse$Tree;" "PascalHouse") ∈ lw_tbl := lw_at lw_m6 187 rfl
set_option maxRecDepth 100000 in
theorem q1764 : (Jvm.Cond.fieldLink "PascalHouse$Tree" (24 : Nat) "PascalHouse$Tree" "next" "LPascalHouse$Tree;") ∈ lw_all := lw_g (lw_at lw_m6 188 rfl) rfl
set_option maxRecDepth 100000 in
theorem q1765 : (Jvm.Cond.fieldLinkNest "PascalHouse" (253 : Nat) "PascalHouse$Tree" "next" "LPascalHouse$Tree;" "PascalHouse") ∈ lw_tbl := lw_at lw_m6 189 rfl
set_option maxRecDepth 100000 in
theorem q1766 : (Jvm.Cond.fieldLinkNest "PascalHouse$Compiler" (307 : Nat) "PascalHouse$Tree" "next" "LPascalHouse$Tree;" "PascalHouse") ∈ lw_tbl := lw_at lw_m6 190 rfl
set_option maxRecDepth 100000 in
theorem q1767 : (Jvm.Cond.fieldLink "PascalHouse$Tree" (27 : Nat) "PascalHouse$Tree" "many" "I") ∈ lw_all := lw_g (lw_at lw_m6 191 rfl) rfl
set_option maxRecDepth 100000 in
theorem q1768 : (Jvm.Cond.fieldLinkNest "PascalHouse$Compiler" (293 : Nat) "PascalHouse$Tree" "many" "I" "PascalHouse") ∈ lw_tbl := lw_at lw_m6 192 rfl
set_option maxRecDepth 100000 in
theorem q1783 : (Jvm.Cond.methodLink "PascalHouse$Parser" (90 : Nat) ({ cls := "PascalHouse$Parser", name := "has", desc := "(Ljava/lang/String;)Z" } : Jvm.MethodName)) ∈ lw_all := lw_g (lw_at lw_m6 207 rfl) rfl
set_option maxRecDepth 100000 in
theorem q1785 : (Jvm.Cond.instanceMethod ({ cls := "PascalHouse$Parser", name := "has", desc := "(Ljava/lang/String;)Z" } : Jvm.MethodName)) ∈ lw_all := lw_g (lw_at lw_m6 209 rfl) rfl
set_option maxRecDepth 100000 in
theorem q1786 : (Jvm.Cond.code ({ cls := "PascalHouse$Parser", name := "has", desc := "(Ljava/lang/String;)Z" } : Jvm.MethodName) prog_14_method_9_code (2 : Nat) (Option.some Jvm.ClassFile.FieldType.boolean)) ∈ lw_all := lw_g (lw_at lw_m6 210 rfl) rfl
set_option maxRecDepth 100000 in
theorem q1787 : (Jvm.Cond.methodLink "PascalHouse$Parser" (107 : Nat) ({ cls := "PascalHouse$Parser", name := "names", desc := "(LPascalHouse$Tree;)V" } : Jvm.MethodName)) ∈ lw_all := lw_g (lw_at lw_m6 211 rfl) rfl
set_option maxRecDepth 100000 in
theorem q1789 : (Jvm.Cond.instanceMethod ({ cls := "PascalHouse$Parser", name := "names", desc := "(LPascalHouse$Tree;)V" } : Jvm.MethodName)) ∈ lw_all := lw_g (lw_at lw_m6 213 rfl) rfl
set_option maxRecDepth 100000 in
theorem q1790 : (Jvm.Cond.code ({ cls := "PascalHouse$Parser", name := "names", desc := "(LPascalHouse$Tree;)V" } : Jvm.MethodName) prog_14_method_13_code (2 : Nat) (Option.none : Option Jvm.ClassFile.FieldType)) ∈ lw_all := lw_g (lw_at lw_m6 214 rfl) rfl
set_option maxRecDepth 100000 in
theorem q1791 : (Jvm.Cond.methodLink "PascalHouse$Parser" (80 : Nat) ({ cls := "PascalHouse$Parser", name := "name", desc := "()LPascalHouse$Tree;" } : Jvm.MethodName)) ∈ lw_all := lw_g (lw_at lw_m6 215 rfl) rfl
set_option maxRecDepth 100000 in
theorem q1793 : (Jvm.Cond.instanceMethod ({ cls := "PascalHouse$Parser", name := "name", desc := "()LPascalHouse$Tree;" } : Jvm.MethodName)) ∈ lw_all := lw_g (lw_at lw_m6 217 rfl) rfl
set_option maxRecDepth 100000 in
theorem q1794 : (Jvm.Cond.code ({ cls := "PascalHouse$Parser", name := "name", desc := "()LPascalHouse$Tree;" } : Jvm.MethodName) prog_14_method_11_code (1 : Nat) (Option.some (Jvm.ClassFile.FieldType.object "PascalHouse$Tree"))) ∈ lw_all := lw_g (lw_at lw_m6 218 rfl) rfl
set_option maxRecDepth 100000 in
theorem q1795 : (Jvm.Cond.methodLink "PascalHouse$Parser" (84 : Nat) ({ cls := "PascalHouse$Tree", name := "add", desc := "(LPascalHouse$Tree;)LPascalHouse$Tree;" } : Jvm.MethodName)) ∈ lw_all := lw_g (lw_at lw_m6 219 rfl) rfl
set_option maxRecDepth 100000 in
theorem q1796 : (Jvm.Cond.instanceMethod ({ cls := "PascalHouse$Tree", name := "add", desc := "(LPascalHouse$Tree;)LPascalHouse$Tree;" } : Jvm.MethodName)) ∈ lw_all := lw_g (lw_at lw_m6 220 rfl) rfl
set_option maxRecDepth 100000 in
theorem q1797 : (Jvm.Cond.selects "PascalHouse$Tree" ({ cls := "PascalHouse$Tree", name := "add", desc := "(LPascalHouse$Tree;)LPascalHouse$Tree;" } : Jvm.MethodName) ({ cls := "PascalHouse$Tree", name := "add", desc := "(LPascalHouse$Tree;)LPascalHouse$Tree;" } : Jvm.MethodName)) ∈ lw_all := lw_g (lw_at lw_m6 221 rfl) rfl
set_option maxRecDepth 100000 in
theorem q1798 : (Jvm.Cond.code ({ cls := "PascalHouse$Tree", name := "add", desc := "(LPascalHouse$Tree;)LPascalHouse$Tree;" } : Jvm.MethodName) prog_21_method_2_code (2 : Nat) (Option.some (Jvm.ClassFile.FieldType.object "PascalHouse$Tree"))) ∈ lw_all := lw_g (lw_at lw_m6 222 rfl) rfl
set_option maxRecDepth 100000 in
theorem q1802 : (Jvm.Cond.methodLink "PascalHouse$Parser" (115 : Nat) ({ cls := "PascalHouse$Parser", name := "block", desc := "()LPascalHouse$Tree;" } : Jvm.MethodName)) ∈ lw_all := lw_g (lw_at lw_m6 226 rfl) rfl
set_option maxRecDepth 100000 in
theorem q1804 : (Jvm.Cond.instanceMethod ({ cls := "PascalHouse$Parser", name := "block", desc := "()LPascalHouse$Tree;" } : Jvm.MethodName)) ∈ lw_all := lw_g (lw_at lw_m6 228 rfl) rfl
set_option maxRecDepth 100000 in
theorem q1805 : (Jvm.Cond.code ({ cls := "PascalHouse$Parser", name := "block", desc := "()LPascalHouse$Tree;" } : Jvm.MethodName) prog_14_method_15_code (4 : Nat) (Option.some (Jvm.ClassFile.FieldType.object "PascalHouse$Tree"))) ∈ lw_all := lw_g (lw_at lw_m6 229 rfl) rfl
set_option maxRecDepth 100000 in
theorem q1806 : (Jvm.Cond.methodLink "PascalHouse$Parser" (123 : Nat) ({ cls := "PascalHouse$Parser", name := "deeper", desc := "()V" } : Jvm.MethodName)) ∈ lw_all := lw_g (lw_at lw_m6 230 rfl) rfl
set_option maxRecDepth 100000 in
theorem q1808 : (Jvm.Cond.instanceMethod ({ cls := "PascalHouse$Parser", name := "deeper", desc := "()V" } : Jvm.MethodName)) ∈ lw_all := lw_g (lw_at lw_m6 232 rfl) rfl
set_option maxRecDepth 100000 in
theorem q1809 : (Jvm.Cond.code ({ cls := "PascalHouse$Parser", name := "deeper", desc := "()V" } : Jvm.MethodName) prog_14_method_10_code (1 : Nat) (Option.none : Option Jvm.ClassFile.FieldType)) ∈ lw_all := lw_g (lw_at lw_m6 233 rfl) rfl
set_option maxRecDepth 100000 in
theorem q1811 : (Jvm.Cond.fieldLink "PascalHouse$Parser" (128 : Nat) "PascalHouse$Sort" "NUMBER" "LPascalHouse$Sort;") ∈ lw_all := lw_g (lw_at lw_m6 235 rfl) rfl
set_option maxRecDepth 100000 in
theorem q1812 : (Jvm.Cond.methodLink "PascalHouse$Parser" (131 : Nat) ({ cls := "PascalHouse$Parser", name := "constants", desc := "()LPascalHouse$Tree;" } : Jvm.MethodName)) ∈ lw_all := lw_g (lw_at lw_m6 236 rfl) rfl
set_option maxRecDepth 100000 in
theorem q1814 : (Jvm.Cond.instanceMethod ({ cls := "PascalHouse$Parser", name := "constants", desc := "()LPascalHouse$Tree;" } : Jvm.MethodName)) ∈ lw_all := lw_g (lw_at lw_m6 238 rfl) rfl
set_option maxRecDepth 100000 in
theorem q1815 : (Jvm.Cond.code ({ cls := "PascalHouse$Parser", name := "constants", desc := "()LPascalHouse$Tree;" } : Jvm.MethodName) prog_14_method_16_code (3 : Nat) (Option.some (Jvm.ClassFile.FieldType.object "PascalHouse$Tree"))) ∈ lw_all := lw_g (lw_at lw_m6 239 rfl) rfl
set_option maxRecDepth 100000 in
theorem q1818 : (Jvm.Cond.methodLink "PascalHouse$Parser" (154 : Nat) ({ cls := "PascalHouse$Parser", name := "constant", desc := "()LPascalHouse$Tree;" } : Jvm.MethodName)) ∈ lw_all := lw_g (lw_at lw_m7 2 rfl) rfl
set_option maxRecDepth 100000 in
theorem q1820 : (Jvm.Cond.instanceMethod ({ cls := "PascalHouse$Parser", name := "constant", desc := "()LPascalHouse$Tree;" } : Jvm.MethodName)) ∈ lw_all := lw_g (lw_at lw_m7 4 rfl) rfl
set_option maxRecDepth 100000 in
theorem q1821 : (Jvm.Cond.code ({ cls := "PascalHouse$Parser", name := "constant", desc := "()LPascalHouse$Tree;" } : Jvm.MethodName) prog_14_method_23_code (3 : Nat) (Option.some (Jvm.ClassFile.FieldType.object "PascalHouse$Tree"))) ∈ lw_all := lw_g (lw_at lw_m7 5 rfl) rfl
set_option maxRecDepth 100000 in
theorem q1822 : (Jvm.Cond.fieldLink "PascalHouse$Parser" (193 : Nat) "PascalHouse$Sort" "STRING" "LPascalHouse$Sort;") ∈ lw_all := lw_g (lw_at lw_m7 6 rfl) rfl
set_option maxRecDepth 100000 in
theorem q1825 : (Jvm.Cond.fieldLink "PascalHouse$Parser" (200 : Nat) "PascalHouse$Sort" "REAL" "LPascalHouse$Sort;") ∈ lw_all := lw_g (lw_at lw_m7 9 rfl) rfl
set_option maxRecDepth 100000 in
theorem q1826 : (Jvm.Cond.methodLink "PascalHouse$Parser" (157 : Nat) ({ cls := "PascalHouse$Parser", name := "isName", desc := "()Z" } : Jvm.MethodName)) ∈ lw_all := lw_g (lw_at lw_m7 10 rfl) rfl
set_option maxRecDepth 100000 in
theorem q1828 : (Jvm.Cond.instanceMethod ({ cls := "PascalHouse$Parser", name := "isName", desc := "()Z" } : Jvm.MethodName)) ∈ lw_all := lw_g (lw_at lw_m7 12 rfl) rfl
set_option maxRecDepth 100000 in
theorem q1829 : (Jvm.Cond.code ({ cls := "PascalHouse$Parser", name := "isName", desc := "()Z" } : Jvm.MethodName) prog_14_method_4_code (1 : Nat) (Option.some Jvm.ClassFile.FieldType.boolean)) ∈ lw_all := lw_g (lw_at lw_m7 13 rfl) rfl
set_option maxRecDepth 100000 in
theorem q1830 : (Jvm.Cond.methodLink "PascalHouse$Parser" (134 : Nat) ({ cls := "PascalHouse$Parser", name := "types", desc := "()LPascalHouse$Tree;" } : Jvm.MethodName)) ∈ lw_all := lw_g (lw_at lw_m7 14 rfl) rfl
set_option maxRecDepth 100000 in
theorem q1832 : (Jvm.Cond.instanceMethod ({ cls := "PascalHouse$Parser", name := "types", desc := "()LPascalHouse$Tree;" } : Jvm.MethodName)) ∈ lw_all := lw_g (lw_at lw_m7 16 rfl) rfl
set_option maxRecDepth 100000 in
theorem q1833 : (Jvm.Cond.code ({ cls := "PascalHouse$Parser", name := "types", desc := "()LPascalHouse$Tree;" } : Jvm.MethodName) prog_14_method_17_code (3 : Nat) (Option.some (Jvm.ClassFile.FieldType.object "PascalHouse$Tree"))) ∈ lw_all := lw_g (lw_at lw_m7 17 rfl) rfl
set_option maxRecDepth 100000 in
theorem q1835 : (Jvm.Cond.methodLink "PascalHouse$Parser" (163 : Nat) ({ cls := "PascalHouse$Parser", name := "type", desc := "()LPascalHouse$Tree;" } : Jvm.MethodName)) ∈ lw_all := lw_g (lw_at lw_m7 19 rfl) rfl
set_option maxRecDepth 100000 in
theorem q1837 : (Jvm.Cond.instanceMethod ({ cls := "PascalHouse$Parser", name := "type", desc := "()LPascalHouse$Tree;" } : Jvm.MethodName)) ∈ lw_all := lw_g (lw_at lw_m7 21 rfl) rfl
set_option maxRecDepth 100000 in
theorem q1838 : (Jvm.Cond.code ({ cls := "PascalHouse$Parser", name := "type", desc := "()LPascalHouse$Tree;" } : Jvm.MethodName) prog_14_method_24_code (2 : Nat) (Option.some (Jvm.ClassFile.FieldType.object "PascalHouse$Tree"))) ∈ lw_all := lw_g (lw_at lw_m7 22 rfl) rfl
set_option maxRecDepth 100000 in
theorem q1840 : (Jvm.Cond.methodLink "PascalHouse$Parser" (175 : Nat) ({ cls := "PascalHouse$Parser", name := "named", desc := "()LPascalHouse$Tree;" } : Jvm.MethodName)) ∈ lw_all := lw_g (lw_at lw_m7 24 rfl) rfl
set_option maxRecDepth 100000 in
theorem q1842 : (Jvm.Cond.instanceMethod ({ cls := "PascalHouse$Parser", name := "named", desc := "()LPascalHouse$Tree;" } : Jvm.MethodName)) ∈ lw_all := lw_g (lw_at lw_m7 26 rfl) rfl
set_option maxRecDepth 100000 in
theorem q1843 : (Jvm.Cond.code ({ cls := "PascalHouse$Parser", name := "named", desc := "()LPascalHouse$Tree;" } : Jvm.MethodName) prog_14_method_12_code (1 : Nat) (Option.some (Jvm.ClassFile.FieldType.object "PascalHouse$Tree"))) ∈ lw_all := lw_g (lw_at lw_m7 27 rfl) rfl
set_option maxRecDepth 100000 in
theorem q1845 : (Jvm.Cond.methodLink "PascalHouse$Parser" (207 : Nat) ({ cls := "PascalHouse$Parser", name := "structure", desc := "()LPascalHouse$Tree;" } : Jvm.MethodName)) ∈ lw_all := lw_g (lw_at lw_m7 29 rfl) rfl
set_option maxRecDepth 100000 in
theorem q1847 : (Jvm.Cond.instanceMethod ({ cls := "PascalHouse$Parser", name := "structure", desc := "()LPascalHouse$Tree;" } : Jvm.MethodName)) ∈ lw_all := lw_g (lw_at lw_m7 31 rfl) rfl
set_option maxRecDepth 100000 in
theorem q1848 : (Jvm.Cond.code ({ cls := "PascalHouse$Parser", name := "structure", desc := "()LPascalHouse$Tree;" } : Jvm.MethodName) prog_14_method_25_code (3 : Nat) (Option.some (Jvm.ClassFile.FieldType.object "PascalHouse$Tree"))) ∈ lw_all := lw_g (lw_at lw_m7 32 rfl) rfl
set_option maxRecDepth 100000 in
theorem q1851 : (Jvm.Cond.methodLink "PascalHouse$Parser" (218 : Nat) ({ cls := "PascalHouse$Parser", name := "simple", desc := "()LPascalHouse$Tree;" } : Jvm.MethodName)) ∈ lw_all := lw_g (lw_at lw_m7 35 rfl) rfl
set_option maxRecDepth 100000 in
theorem q1853 : (Jvm.Cond.instanceMethod ({ cls := "PascalHouse$Parser", name := "simple", desc := "()LPascalHouse$Tree;" } : Jvm.MethodName)) ∈ lw_all := lw_g (lw_at lw_m7 37 rfl) rfl
set_option maxRecDepth 100000 in
theorem q1854 : (Jvm.Cond.code ({ cls := "PascalHouse$Parser", name := "simple", desc := "()LPascalHouse$Tree;" } : Jvm.MethodName) prog_14_method_26_code (3 : Nat) (Option.some (Jvm.ClassFile.FieldType.object "PascalHouse$Tree"))) ∈ lw_all := lw_g (lw_at lw_m7 38 rfl) rfl
set_option maxRecDepth 100000 in
theorem q1859 : (Jvm.Cond.methodLink "PascalHouse$Parser" (227 : Nat) ({ cls := "PascalHouse$Parser", name := "fields", desc := "()LPascalHouse$Tree;" } : Jvm.MethodName)) ∈ lw_all := lw_g (lw_at lw_m7 43 rfl) rfl
set_option maxRecDepth 100000 in
theorem q1861 : (Jvm.Cond.instanceMethod ({ cls := "PascalHouse$Parser", name := "fields", desc := "()LPascalHouse$Tree;" } : Jvm.MethodName)) ∈ lw_all := lw_g (lw_at lw_m7 45 rfl) rfl
set_option maxRecDepth 100000 in
theorem q1862 : (Jvm.Cond.code ({ cls := "PascalHouse$Parser", name := "fields", desc := "()LPascalHouse$Tree;" } : Jvm.MethodName) prog_14_method_27_code (3 : Nat) (Option.some (Jvm.ClassFile.FieldType.object "PascalHouse$Tree"))) ∈ lw_all := lw_g (lw_at lw_m7 46 rfl) rfl
set_option maxRecDepth 100000 in
theorem q1864 : (Jvm.Cond.methodLink "PascalHouse$Parser" (240 : Nat) ({ cls := "PascalHouse$Parser", name := "variants", desc := "()LPascalHouse$Tree;" } : Jvm.MethodName)) ∈ lw_all := lw_g (lw_at lw_m7 48 rfl) rfl
set_option maxRecDepth 100000 in
theorem q1866 : (Jvm.Cond.instanceMethod ({ cls := "PascalHouse$Parser", name := "variants", desc := "()LPascalHouse$Tree;" } : Jvm.MethodName)) ∈ lw_all := lw_g (lw_at lw_m7 50 rfl) rfl
set_option maxRecDepth 100000 in
theorem q1867 : (Jvm.Cond.code ({ cls := "PascalHouse$Parser", name := "variants", desc := "()LPascalHouse$Tree;" } : Jvm.MethodName) prog_14_method_28_code (3 : Nat) (Option.some (Jvm.ClassFile.FieldType.object "PascalHouse$Tree"))) ∈ lw_all := lw_g (lw_at lw_m7 51 rfl) rfl
set_option maxRecDepth 100000 in
theorem q1870 : (Jvm.Cond.methodLink "PascalHouse$Parser" (243 : Nat) ({ cls := "PascalHouse$Parser", name := "choice", desc := "()LPascalHouse$Tree;" } : Jvm.MethodName)) ∈ lw_all := lw_g (lw_at lw_m7 54 rfl) rfl
set_option maxRecDepth 100000 in
theorem q1872 : (Jvm.Cond.instanceMethod ({ cls := "PascalHouse$Parser", name := "choice", desc := "()LPascalHouse$Tree;" } : Jvm.MethodName)) ∈ lw_all := lw_g (lw_at lw_m7 56 rfl) rfl
set_option maxRecDepth 100000 in
theorem q1873 : (Jvm.Cond.code ({ cls := "PascalHouse$Parser", name := "choice", desc := "()LPascalHouse$Tree;" } : Jvm.MethodName) prog_14_method_29_code (3 : Nat) (Option.some (Jvm.ClassFile.FieldType.object "PascalHouse$Tree"))) ∈ lw_all := lw_g (lw_at lw_m7 57 rfl) rfl
set_option maxRecDepth 100000 in
theorem q1874 : (Jvm.Cond.methodLink "PascalHouse$Parser" (167 : Nat) ({ cls := "PascalHouse$Parser", name := "section", desc := "()LPascalHouse$Tree;" } : Jvm.MethodName)) ∈ lw_all := lw_g (lw_at lw_m7 58 rfl) rfl
set_option maxRecDepth 100000 in
theorem q1876 : (Jvm.Cond.instanceMethod ({ cls := "PascalHouse$Parser", name := "section", desc := "()LPascalHouse$Tree;" } : Jvm.MethodName)) ∈ lw_all := lw_g (lw_at lw_m7 60 rfl) rfl
set_option maxRecDepth 100000 in
theorem q1877 : (Jvm.Cond.code ({ cls := "PascalHouse$Parser", name := "section", desc := "()LPascalHouse$Tree;" } : Jvm.MethodName) prog_14_method_19_code (3 : Nat) (Option.some (Jvm.ClassFile.FieldType.object "PascalHouse$Tree"))) ∈ lw_all := lw_g (lw_at lw_m7 61 rfl) rfl
set_option maxRecDepth 100000 in
theorem q1880 : (Jvm.Cond.methodLink "PascalHouse$Parser" (137 : Nat) ({ cls := "PascalHouse$Parser", name := "variables", desc := "()LPascalHouse$Tree;" } : Jvm.MethodName)) ∈ lw_all := lw_g (lw_at lw_m7 64 rfl) rfl
set_option maxRecDepth 100000 in
theorem q1882 : (Jvm.Cond.instanceMethod ({ cls := "PascalHouse$Parser", name := "variables", desc := "()LPascalHouse$Tree;" } : Jvm.MethodName)) ∈ lw_all := lw_g (lw_at lw_m7 66 rfl) rfl
set_option maxRecDepth 100000 in
theorem q1883 : (Jvm.Cond.code ({ cls := "PascalHouse$Parser", name := "variables", desc := "()LPascalHouse$Tree;" } : Jvm.MethodName) prog_14_method_18_code (2 : Nat) (Option.some (Jvm.ClassFile.FieldType.object "PascalHouse$Tree"))) ∈ lw_all := lw_g (lw_at lw_m7 67 rfl) rfl
set_option maxRecDepth 100000 in
theorem q1887 : (Jvm.Cond.methodLink "PascalHouse$Parser" (144 : Nat) ({ cls := "PascalHouse$Parser", name := "routine", desc := "()LPascalHouse$Tree;" } : Jvm.MethodName)) ∈ lw_all := lw_g (lw_at lw_m7 71 rfl) rfl
set_option maxRecDepth 100000 in
theorem q1889 : (Jvm.Cond.instanceMethod ({ cls := "PascalHouse$Parser", name := "routine", desc := "()LPascalHouse$Tree;" } : Jvm.MethodName)) ∈ lw_all := lw_g (lw_at lw_m7 73 rfl) rfl
set_option maxRecDepth 100000 in
theorem q1890 : (Jvm.Cond.code ({ cls := "PascalHouse$Parser", name := "routine", desc := "()LPascalHouse$Tree;" } : Jvm.MethodName) prog_14_method_20_code (3 : Nat) (Option.some (Jvm.ClassFile.FieldType.object "PascalHouse$Tree"))) ∈ lw_all := lw_g (lw_at lw_m7 74 rfl) rfl
set_option maxRecDepth 100000 in
theorem q1891 : (Jvm.Cond.methodLink "PascalHouse$Parser" (172 : Nat) ({ cls := "PascalHouse$Parser", name := "params", desc := "()LPascalHouse$Tree;" } : Jvm.MethodName)) ∈ lw_all := lw_g (lw_at lw_m7 75 rfl) rfl
set_option maxRecDepth 100000 in
theorem q1893 : (Jvm.Cond.instanceMethod ({ cls := "PascalHouse$Parser", name := "params", desc := "()LPascalHouse$Tree;" } : Jvm.MethodName)) ∈ lw_all := lw_g (lw_at lw_m7 77 rfl) rfl
set_option maxRecDepth 100000 in
theorem q1894 : (Jvm.Cond.code ({ cls := "PascalHouse$Parser", name := "params", desc := "()LPascalHouse$Tree;" } : Jvm.MethodName) prog_14_method_21_code (2 : Nat) (Option.some (Jvm.ClassFile.FieldType.object "PascalHouse$Tree"))) ∈ lw_all := lw_g (lw_at lw_m7 78 rfl) rfl
set_option maxRecDepth 100000 in
theorem q1895 : (Jvm.Cond.methodLink "PascalHouse$Parser" (190 : Nat) ({ cls := "PascalHouse$Parser", name := "group", desc := "()LPascalHouse$Tree;" } : Jvm.MethodName)) ∈ lw_all := lw_g (lw_at lw_m7 79 rfl) rfl
set_option maxRecDepth 100000 in
theorem q1897 : (Jvm.Cond.instanceMethod ({ cls := "PascalHouse$Parser", name := "group", desc := "()LPascalHouse$Tree;" } : Jvm.MethodName)) ∈ lw_all := lw_g (lw_at lw_m7 81 rfl) rfl
set_option maxRecDepth 100000 in
theorem q1898 : (Jvm.Cond.code ({ cls := "PascalHouse$Parser", name := "group", desc := "()LPascalHouse$Tree;" } : Jvm.MethodName) prog_14_method_22_code (4 : Nat) (Option.some (Jvm.ClassFile.FieldType.object "PascalHouse$Tree"))) ∈ lw_all := lw_g (lw_at lw_m7 82 rfl) rfl
set_option maxRecDepth 100000 in
theorem q1900 : (Jvm.Cond.methodLink "PascalHouse$Parser" (184 : Nat) ({ cls := "java/lang/String", name := "equals", desc := "(Ljava/lang/Object;)Z" } : Jvm.MethodName)) ∈ lw_all := lw_g (lw_at lw_m7 84 rfl) rfl
set_option maxRecDepth 100000 in
theorem q1901 : (Jvm.Cond.methodLink "PascalHouse$Parser" (147 : Nat) ({ cls := "PascalHouse$Parser", name := "compound", desc := "()LPascalHouse$Tree;" } : Jvm.MethodName)) ∈ lw_all := lw_g (lw_at lw_m7 85 rfl) rfl
set_option maxRecDepth 100000 in
theorem q1903 : (Jvm.Cond.instanceMethod ({ cls := "PascalHouse$Parser", name := "compound", desc := "()LPascalHouse$Tree;" } : Jvm.MethodName)) ∈ lw_all := lw_g (lw_at lw_m7 87 rfl) rfl
set_option maxRecDepth 100000 in
theorem q1904 : (Jvm.Cond.code ({ cls := "PascalHouse$Parser", name := "compound", desc := "()LPascalHouse$Tree;" } : Jvm.MethodName) prog_14_method_30_code (2 : Nat) (Option.some (Jvm.ClassFile.FieldType.object "PascalHouse$Tree"))) ∈ lw_all := lw_g (lw_at lw_m7 88 rfl) rfl
set_option maxRecDepth 100000 in
theorem q1906 : (Jvm.Cond.methodLink "PascalHouse$Parser" (247 : Nat) ({ cls := "PascalHouse$Parser", name := "row", desc := "(LPascalHouse$Tree;)LPascalHouse$Tree;" } : Jvm.MethodName)) ∈ lw_all := lw_g (lw_at lw_m7 90 rfl) rfl
set_option maxRecDepth 100000 in
theorem q1908 : (Jvm.Cond.instanceMethod ({ cls := "PascalHouse$Parser", name := "row", desc := "(LPascalHouse$Tree;)LPascalHouse$Tree;" } : Jvm.MethodName)) ∈ lw_all := lw_g (lw_at lw_m7 92 rfl) rfl
set_option maxRecDepth 100000 in
theorem q1909 : (Jvm.Cond.code ({ cls := "PascalHouse$Parser", name := "row", desc := "(LPascalHouse$Tree;)LPascalHouse$Tree;" } : Jvm.MethodName) prog_14_method_31_code (2 : Nat) (Option.some (Jvm.ClassFile.FieldType.object "PascalHouse$Tree"))) ∈ lw_all := lw_g (lw_at lw_m7 93 rfl) rfl
set_option maxRecDepth 100000 in
theorem q1910 : (Jvm.Cond.methodLink "PascalHouse$Parser" (250 : Nat) ({ cls := "PascalHouse$Parser", name := "statement", desc := "()LPascalHouse$Tree;" } : Jvm.MethodName)) ∈ lw_all := lw_g (lw_at lw_m7 94 rfl) rfl
set_option maxRecDepth 100000 in
theorem q1912 : (Jvm.Cond.instanceMethod ({ cls := "PascalHouse$Parser", name := "statement", desc := "()LPascalHouse$Tree;" } : Jvm.MethodName)) ∈ lw_all := lw_g (lw_at lw_m7 96 rfl) rfl
set_option maxRecDepth 100000 in
theorem q1913 : (Jvm.Cond.code ({ cls := "PascalHouse$Parser", name := "statement", desc := "()LPascalHouse$Tree;" } : Jvm.MethodName) prog_14_method_32_code (2 : Nat) (Option.some (Jvm.ClassFile.FieldType.object "PascalHouse$Tree"))) ∈ lw_all := lw_g (lw_at lw_m7 97 rfl) rfl
set_option maxRecDepth 100000 in
theorem q1914 : (Jvm.Cond.methodLink "PascalHouse$Parser" (253 : Nat) ({ cls := "PascalHouse$Parser", name := "plain", desc := "()LPascalHouse$Tree;" } : Jvm.MethodName)) ∈ lw_all := lw_g (lw_at lw_m7 98 rfl) rfl
set_option maxRecDepth 100000 in
theorem q1916 : (Jvm.Cond.instanceMethod ({ cls := "PascalHouse$Parser", name := "plain", desc := "()LPascalHouse$Tree;" } : Jvm.MethodName)) ∈ lw_all := lw_g (lw_at lw_m7 100 rfl) rfl
set_option maxRecDepth 100000 in
theorem q1917 : (Jvm.Cond.code ({ cls := "PascalHouse$Parser", name := "plain", desc := "()LPascalHouse$Tree;" } : Jvm.MethodName) prog_14_method_33_code (3 : Nat) (Option.some (Jvm.ClassFile.FieldType.object "PascalHouse$Tree"))) ∈ lw_all := lw_g (lw_at lw_m7 101 rfl) rfl
set_option maxRecDepth 100000 in
theorem q1918 : (Jvm.Cond.methodLink "PascalHouse$Parser" (256 : Nat) ({ cls := "PascalHouse$Parser", name := "named0", desc := "()LPascalHouse$Tree;" } : Jvm.MethodName)) ∈ lw_all := lw_g (lw_at lw_m7 102 rfl) rfl
set_option maxRecDepth 100000 in
theorem q1920 : (Jvm.Cond.instanceMethod ({ cls := "PascalHouse$Parser", name := "named0", desc := "()LPascalHouse$Tree;" } : Jvm.MethodName)) ∈ lw_all := lw_g (lw_at lw_m7 104 rfl) rfl
set_option maxRecDepth 100000 in
theorem q1921 : (Jvm.Cond.code ({ cls := "PascalHouse$Parser", name := "named0", desc := "()LPascalHouse$Tree;" } : Jvm.MethodName) prog_14_method_37_code (3 : Nat) (Option.some (Jvm.ClassFile.FieldType.object "PascalHouse$Tree"))) ∈ lw_all := lw_g (lw_at lw_m7 105 rfl) rfl
set_option maxRecDepth 100000 in
theorem q1924 : (Jvm.Cond.methodLink "PascalHouse$Parser" (298 : Nat) ({ cls := "PascalHouse$Parser", name := "variable", desc := "(LPascalHouse$Symbol;)LPascalHouse$Tree;" } : Jvm.MethodName)) ∈ lw_all := lw_g (lw_at lw_m7 108 rfl) rfl
set_option maxRecDepth 100000 in
theorem q1926 : (Jvm.Cond.instanceMethod ({ cls := "PascalHouse$Parser", name := "variable", desc := "(LPascalHouse$Symbol;)LPascalHouse$Tree;" } : Jvm.MethodName)) ∈ lw_all := lw_g (lw_at lw_m7 110 rfl) rfl
set_option maxRecDepth 100000 in
theorem q1927 : (Jvm.Cond.code ({ cls := "PascalHouse$Parser", name := "variable", desc := "(LPascalHouse$Symbol;)LPascalHouse$Tree;" } : Jvm.MethodName) prog_14_method_39_code (5 : Nat) (Option.some (Jvm.ClassFile.FieldType.object "PascalHouse$Tree"))) ∈ lw_all := lw_g (lw_at lw_m7 111 rfl) rfl
set_option maxRecDepth 100000 in
theorem q1928 : (Jvm.Cond.methodLink "PascalHouse$Parser" (261 : Nat) ({ cls := "PascalHouse$Parser", name := "e", desc := "()LPascalHouse$Tree;" } : Jvm.MethodName)) ∈ lw_all := lw_g (lw_at lw_m7 112 rfl) rfl
set_option maxRecDepth 100000 in
theorem q1930 : (Jvm.Cond.instanceMethod ({ cls := "PascalHouse$Parser", name := "e", desc := "()LPascalHouse$Tree;" } : Jvm.MethodName)) ∈ lw_all := lw_g (lw_at lw_m7 114 rfl) rfl
set_option maxRecDepth 100000 in
theorem q1931 : (Jvm.Cond.code ({ cls := "PascalHouse$Parser", name := "e", desc := "()LPascalHouse$Tree;" } : Jvm.MethodName) prog_14_method_41_code (2 : Nat) (Option.some (Jvm.ClassFile.FieldType.object "PascalHouse$Tree"))) ∈ lw_all := lw_g (lw_at lw_m7 115 rfl) rfl
set_option maxRecDepth 100000 in
theorem q1932 : (Jvm.Cond.methodLink "PascalHouse$Parser" (316 : Nat) ({ cls := "PascalHouse$Parser", name := "sum", desc := "()LPascalHouse$Tree;" } : Jvm.MethodName)) ∈ lw_all := lw_g (lw_at lw_m7 116 rfl) rfl
set_option maxRecDepth 100000 in
theorem q1934 : (Jvm.Cond.instanceMethod ({ cls := "PascalHouse$Parser", name := "sum", desc := "()LPascalHouse$Tree;" } : Jvm.MethodName)) ∈ lw_all := lw_g (lw_at lw_m7 118 rfl) rfl
set_option maxRecDepth 100000 in
theorem q1935 : (Jvm.Cond.code ({ cls := "PascalHouse$Parser", name := "sum", desc := "()LPascalHouse$Tree;" } : Jvm.MethodName) prog_14_method_42_code (4 : Nat) (Option.some (Jvm.ClassFile.FieldType.object "PascalHouse$Tree"))) ∈ lw_all := lw_g (lw_at lw_m7 119 rfl) rfl
set_option maxRecDepth 100000 in
theorem q1936 : (Jvm.Cond.methodLink "PascalHouse$Parser" (322 : Nat) ({ cls := "PascalHouse$Parser", name := "term", desc := "()LPascalHouse$Tree;" } : Jvm.MethodName)) ∈ lw_all := lw_g (lw_at lw_m7 120 rfl) rfl
set_option maxRecDepth 100000 in
theorem q1938 : (Jvm.Cond.instanceMethod ({ cls := "PascalHouse$Parser", name := "term", desc := "()LPascalHouse$Tree;" } : Jvm.MethodName)) ∈ lw_all := lw_g (lw_at lw_m7 122 rfl) rfl
set_option maxRecDepth 100000 in
theorem q1939 : (Jvm.Cond.code ({ cls := "PascalHouse$Parser", name := "term", desc := "()LPascalHouse$Tree;" } : Jvm.MethodName) prog_14_method_44_code (4 : Nat) (Option.some (Jvm.ClassFile.FieldType.object "PascalHouse$Tree"))) ∈ lw_all := lw_g (lw_at lw_m7 123 rfl) rfl
set_option maxRecDepth 100000 in
theorem q1940 : (Jvm.Cond.methodLink "PascalHouse$Parser" (337 : Nat) ({ cls := "PascalHouse$Parser", name := "factor", desc := "()LPascalHouse$Tree;" } : Jvm.MethodName)) ∈ lw_all := lw_g (lw_at lw_m7 124 rfl) rfl
set_option maxRecDepth 100000 in
theorem q1942 : (Jvm.Cond.instanceMethod ({ cls := "PascalHouse$Parser", name := "factor", desc := "()LPascalHouse$Tree;" } : Jvm.MethodName)) ∈ lw_all := lw_g (lw_at lw_m7 126 rfl) rfl
set_option maxRecDepth 100000 in
theorem q1943 : (Jvm.Cond.code ({ cls := "PascalHouse$Parser", name := "factor", desc := "()LPascalHouse$Tree;" } : Jvm.MethodName) prog_14_method_45_code (2 : Nat) (Option.some (Jvm.ClassFile.FieldType.object "PascalHouse$Tree"))) ∈ lw_all := lw_g (lw_at lw_m7 127 rfl) rfl
set_option maxRecDepth 100000 in
theorem q1944 : (Jvm.Cond.methodLink "PascalHouse$Parser" (343 : Nat) ({ cls := "PascalHouse$Parser", name := "atom", desc := "()LPascalHouse$Tree;" } : Jvm.MethodName)) ∈ lw_all := lw_g (lw_at lw_m7 128 rfl) rfl
set_option maxRecDepth 100000 in
theorem q1946 : (Jvm.Cond.instanceMethod ({ cls := "PascalHouse$Parser", name := "atom", desc := "()LPascalHouse$Tree;" } : Jvm.MethodName)) ∈ lw_all := lw_g (lw_at lw_m7 130 rfl) rfl
set_option maxRecDepth 100000 in
theorem q1947 : (Jvm.Cond.code ({ cls := "PascalHouse$Parser", name := "atom", desc := "()LPascalHouse$Tree;" } : Jvm.MethodName) prog_14_method_46_code (3 : Nat) (Option.some (Jvm.ClassFile.FieldType.object "PascalHouse$Tree"))) ∈ lw_all := lw_g (lw_at lw_m7 131 rfl) rfl
set_option maxRecDepth 100000 in
theorem q1950 : (Jvm.Cond.methodLink "PascalHouse$Parser" (350 : Nat) ({ cls := "PascalHouse$Parser", name := "make", desc := "()LPascalHouse$Tree;" } : Jvm.MethodName)) ∈ lw_all := lw_g (lw_at lw_m7 134 rfl) rfl
set_option maxRecDepth 100000 in
theorem q1952 : (Jvm.Cond.instanceMethod ({ cls := "PascalHouse$Parser", name := "make", desc := "()LPascalHouse$Tree;" } : Jvm.MethodName)) ∈ lw_all := lw_g (lw_at lw_m7 136 rfl) rfl
set_option maxRecDepth 100000 in
theorem q1953 : (Jvm.Cond.code ({ cls := "PascalHouse$Parser", name := "make", desc := "()LPascalHouse$Tree;" } : Jvm.MethodName) prog_14_method_47_code (4 : Nat) (Option.some (Jvm.ClassFile.FieldType.object "PascalHouse$Tree"))) ∈ lw_all := lw_g (lw_at lw_m7 137 rfl) rfl
set_option maxRecDepth 100000 in
theorem q1954 : (Jvm.Cond.methodLink "PascalHouse$Parser" (340 : Nat) ({ cls := "PascalHouse$Parser", name := "isTimes", desc := "()Z" } : Jvm.MethodName)) ∈ lw_all := lw_g (lw_at lw_m7 138 rfl) rfl
set_option maxRecDepth 100000 in
theorem q1956 : (Jvm.Cond.instanceMethod ({ cls := "PascalHouse$Parser", name := "isTimes", desc := "()Z" } : Jvm.MethodName)) ∈ lw_all := lw_g (lw_at lw_m7 140 rfl) rfl
set_option maxRecDepth 100000 in
theorem q1957 : (Jvm.Cond.code ({ cls := "PascalHouse$Parser", name := "isTimes", desc := "()Z" } : Jvm.MethodName) prog_14_method_43_code (1 : Nat) (Option.some Jvm.ClassFile.FieldType.boolean)) ∈ lw_all := lw_g (lw_at lw_m7 141 rfl) rfl
set_option maxRecDepth 100000 in
theorem q1964 : (Jvm.Cond.methodLink "PascalHouse$Parser" (319 : Nat) ({ cls := "PascalHouse$Parser", name := "isRelation", desc := "()Z" } : Jvm.MethodName)) ∈ lw_all := lw_g (lw_at lw_m7 148 rfl) rfl
set_option maxRecDepth 100000 in
theorem q1966 : (Jvm.Cond.instanceMethod ({ cls := "PascalHouse$Parser", name := "isRelation", desc := "()Z" } : Jvm.MethodName)) ∈ lw_all := lw_g (lw_at lw_m7 150 rfl) rfl
set_option maxRecDepth 100000 in
theorem q1967 : (Jvm.Cond.code ({ cls := "PascalHouse$Parser", name := "isRelation", desc := "()Z" } : Jvm.MethodName) prog_14_method_40_code (1 : Nat) (Option.some Jvm.ClassFile.FieldType.boolean)) ∈ lw_all := lw_g (lw_at lw_m7 151 rfl) rfl
set_option maxRecDepth 100000 in
theorem q1974 : (Jvm.Cond.methodLink "PascalHouse$Parser" (301 : Nat) ({ cls := "PascalHouse$Parser", name := "argument", desc := "()LPascalHouse$Tree;" } : Jvm.MethodName)) ∈ lw_all := lw_g (lw_at lw_m7 158 rfl) rfl
set_option maxRecDepth 100000 in
theorem q1976 : (Jvm.Cond.instanceMethod ({ cls := "PascalHouse$Parser", name := "argument", desc := "()LPascalHouse$Tree;" } : Jvm.MethodName)) ∈ lw_all := lw_g (lw_at lw_m7 160 rfl) rfl
set_option maxRecDepth 100000 in
theorem q1977 : (Jvm.Cond.code ({ cls := "PascalHouse$Parser", name := "argument", desc := "()LPascalHouse$Tree;" } : Jvm.MethodName) prog_14_method_38_code (3 : Nat) (Option.some (Jvm.ClassFile.FieldType.object "PascalHouse$Tree"))) ∈ lw_all := lw_g (lw_at lw_m7 161 rfl) rfl
set_option maxRecDepth 100000 in
theorem q1981 : (Jvm.Cond.methodLink "PascalHouse$Parser" (268 : Nat) ({ cls := "PascalHouse$Parser", name := "caseOf", desc := "(LPascalHouse$Symbol;)LPascalHouse$Tree;" } : Jvm.MethodName)) ∈ lw_all := lw_g (lw_at lw_m7 165 rfl) rfl
set_option maxRecDepth 100000 in
theorem q1983 : (Jvm.Cond.instanceMethod ({ cls := "PascalHouse$Parser", name := "caseOf", desc := "(LPascalHouse$Symbol;)LPascalHouse$Tree;" } : Jvm.MethodName)) ∈ lw_all := lw_g (lw_at lw_m7 167 rfl) rfl
set_option maxRecDepth 100000 in
theorem q1984 : (Jvm.Cond.code ({ cls := "PascalHouse$Parser", name := "caseOf", desc := "(LPascalHouse$Symbol;)LPascalHouse$Tree;" } : Jvm.MethodName) prog_14_method_34_code (5 : Nat) (Option.some (Jvm.ClassFile.FieldType.object "PascalHouse$Tree"))) ∈ lw_all := lw_g (lw_at lw_m7 168 rfl) rfl
set_option maxRecDepth 100000 in
theorem q1990 : (Jvm.Cond.methodLink "PascalHouse$Parser" (282 : Nat) ({ cls := "PascalHouse$Parser", name := "loop", desc := "(LPascalHouse$Symbol;)LPascalHouse$Tree;" } : Jvm.MethodName)) ∈ lw_all := lw_g (lw_at lw_m7 174 rfl) rfl
set_option maxRecDepth 100000 in
theorem q1992 : (Jvm.Cond.instanceMethod ({ cls := "PascalHouse$Parser", name := "loop", desc := "(LPascalHouse$Symbol;)LPascalHouse$Tree;" } : Jvm.MethodName)) ∈ lw_all := lw_g (lw_at lw_m7 176 rfl) rfl
set_option maxRecDepth 100000 in
theorem q1993 : (Jvm.Cond.code ({ cls := "PascalHouse$Parser", name := "loop", desc := "(LPascalHouse$Symbol;)LPascalHouse$Tree;" } : Jvm.MethodName) prog_14_method_35_code (6 : Nat) (Option.some (Jvm.ClassFile.FieldType.object "PascalHouse$Tree"))) ∈ lw_all := lw_g (lw_at lw_m7 177 rfl) rfl
set_option maxRecDepth 100000 in
theorem q1997 : (Jvm.Cond.methodLink "PascalHouse$Parser" (287 : Nat) ({ cls := "PascalHouse$Parser", name := "with", desc := "(ILPascalHouse$Symbol;)LPascalHouse$Tree;" } : Jvm.MethodName)) ∈ lw_all := lw_g (lw_at lw_m7 181 rfl) rfl
set_option maxRecDepth 100000 in
theorem q1999 : (Jvm.Cond.instanceMethod ({ cls := "PascalHouse$Parser", name := "with", desc := "(ILPascalHouse$Symbol;)LPascalHouse$Tree;" } : Jvm.MethodName)) ∈ lw_all := lw_g (lw_at lw_m7 183 rfl) rfl
set_option maxRecDepth 100000 in
theorem q2000 : (Jvm.Cond.code ({ cls := "PascalHouse$Parser", name := "with", desc := "(ILPascalHouse$Symbol;)LPascalHouse$Tree;" } : Jvm.MethodName) prog_14_method_36_code (4 : Nat) (Option.some (Jvm.ClassFile.FieldType.object "PascalHouse$Tree"))) ∈ lw_all := lw_g (lw_at lw_m7 184 rfl) rfl
set_option maxRecDepth 100000 in
theorem q2002 : (Jvm.Cond.fieldLink "PascalHouse$Parser" (120 : Nat) "PascalHouse$Sort" "END" "LPascalHouse$Sort;") ∈ lw_all := lw_g (lw_at lw_m7 186 rfl) rfl
set_option maxRecDepth 100000 in
theorem q2003 : (Jvm.Cond.methodLinkNest "PascalHouse" (214 : Nat) ({ cls := "PascalHouse$Compiler", name := "program", desc := "(LPascalHouse$Tree;)LPascalHouse$Routine;" } : Jvm.MethodName) "PascalHouse") ∈ lw_tbl := lw_at lw_m7 187 rfl
set_option maxRecDepth 100000 in
theorem q2005 : (Jvm.Cond.instanceMethod ({ cls := "PascalHouse$Compiler", name := "program", desc := "(LPascalHouse$Tree;)LPascalHouse$Routine;" } : Jvm.MethodName)) ∈ lw_all := lw_g (lw_at lw_m7 189 rfl) rfl
set_option maxRecDepth 100000 in
theorem q2006 : (Jvm.Cond.code ({ cls := "PascalHouse$Compiler", name := "program", desc := "(LPascalHouse$Tree;)LPascalHouse$Routine;" } : Jvm.MethodName) prog_4_method_25_code (4 : Nat) (Option.some (Jvm.ClassFile.FieldType.object "PascalHouse$Routine"))) ∈ lw_all := lw_g (lw_at lw_m7 190 rfl) rfl
set_option maxRecDepth 100000 in
theorem q2007 : (Jvm.Cond.classLink "PascalHouse$Compiler" (406 : Nat) "PascalHouse$Routine") ∈ lw_all := lw_g (lw_at lw_m7 191 rfl) rfl
set_option maxRecDepth 100000 in
theorem q2008 : (Jvm.Cond.instantiable "PascalHouse$Routine" (16 : Nat)) ∈ lw_all := lw_g (lw_at lw_m7 192 rfl) rfl
set_option maxRecDepth 100000 in
theorem q2009 : (Jvm.Cond.methodLink "PascalHouse$Compiler" (173 : Nat) ({ cls := "PascalHouse$Tree", name := "text", desc := "()Ljava/lang/String;" } : Jvm.MethodName)) ∈ lw_all := lw_g (lw_at lw_m7 193 rfl) rfl
set_option maxRecDepth 100000 in
theorem q2010 : (Jvm.Cond.instanceMethod ({ cls := "PascalHouse$Tree", name := "text", desc := "()Ljava/lang/String;" } : Jvm.MethodName)) ∈ lw_all := lw_g (lw_at lw_m7 194 rfl) rfl
set_option maxRecDepth 100000 in
theorem q2011 : (Jvm.Cond.selects "PascalHouse$Tree" ({ cls := "PascalHouse$Tree", name := "text", desc := "()Ljava/lang/String;" } : Jvm.MethodName) ({ cls := "PascalHouse$Tree", name := "text", desc := "()Ljava/lang/String;" } : Jvm.MethodName)) ∈ lw_all := lw_g (lw_at lw_m7 195 rfl) rfl
set_option maxRecDepth 100000 in
theorem q2012 : (Jvm.Cond.code ({ cls := "PascalHouse$Tree", name := "text", desc := "()Ljava/lang/String;" } : Jvm.MethodName) prog_21_method_5_code (1 : Nat) (Option.some (Jvm.ClassFile.FieldType.object "java/lang/String"))) ∈ lw_all := lw_g (lw_at lw_m7 196 rfl) rfl
set_option maxRecDepth 100000 in
theorem q2013 : (Jvm.Cond.methodLink "PascalHouse$Compiler" (192 : Nat) ({ cls := "PascalHouse$Tree", name := "place", desc := "()I" } : Jvm.MethodName)) ∈ lw_all := lw_g (lw_at lw_m7 197 rfl) rfl
set_option maxRecDepth 100000 in
theorem q2014 : (Jvm.Cond.instanceMethod ({ cls := "PascalHouse$Tree", name := "place", desc := "()I" } : Jvm.MethodName)) ∈ lw_all := lw_g (lw_at lw_m7 198 rfl) rfl
set_option maxRecDepth 100000 in
theorem q2015 : (Jvm.Cond.selects "PascalHouse$Tree" ({ cls := "PascalHouse$Tree", name := "place", desc := "()I" } : Jvm.MethodName) ({ cls := "PascalHouse$Tree", name := "place", desc := "()I" } : Jvm.MethodName)) ∈ lw_all := lw_g (lw_at lw_m7 199 rfl) rfl
set_option maxRecDepth 100000 in
theorem q2016 : (Jvm.Cond.code ({ cls := "PascalHouse$Tree", name := "place", desc := "()I" } : Jvm.MethodName) prog_21_method_4_code (1 : Nat) (Option.some Jvm.ClassFile.FieldType.int)) ∈ lw_all := lw_g (lw_at lw_m7 200 rfl) rfl
set_option maxRecDepth 100000 in
theorem q2017 : (Jvm.Cond.methodLink "PascalHouse$Compiler" (408 : Nat) ({ cls := "PascalHouse$Routine", name := "<init>", desc := "(Ljava/lang/String;ZI)V" } : Jvm.MethodName)) ∈ lw_all := lw_g (lw_at lw_m7 201 rfl) rfl
set_option maxRecDepth 100000 in
theorem q2018 : (Jvm.Cond.instanceMethod ({ cls := "PascalHouse$Routine", name := "<init>", desc := "(Ljava/lang/String;ZI)V" } : Jvm.MethodName)) ∈ lw_all := lw_g (lw_at lw_m7 202 rfl) rfl
set_option maxRecDepth 100000 in
theorem q2019 : (Jvm.Cond.code ({ cls := "PascalHouse$Routine", name := "<init>", desc := "(Ljava/lang/String;ZI)V" } : Jvm.MethodName) prog_16_method_1_code (4 : Nat) (Option.none : Option Jvm.ClassFile.FieldType)) ∈ lw_all := lw_g (lw_at lw_m7 203 rfl) rfl
set_option maxRecDepth 100000 in
theorem q2020 : (Jvm.Cond.methodLink "PascalHouse$Routine" (3 : Nat) ({ cls := "java/lang/Object", name := "<init>", desc := "()V" } : Jvm.MethodName)) ∈ lw_all := lw_g (lw_at lw_m7 204 rfl) rfl
set_option maxRecDepth 100000 in
theorem q2021 : (Jvm.Cond.classLink "PascalHouse$Routine" (9 : Nat) "java/util/ArrayList") ∈ lw_all := lw_g (lw_at lw_m7 205 rfl) rfl
set_option maxRecDepth 100000 in
theorem q2022 : (Jvm.Cond.methodLink "PascalHouse$Routine" (11 : Nat) ({ cls := "java/util/ArrayList", name := "<init>", desc := "(I)V" } : Jvm.MethodName)) ∈ lw_all := lw_g (lw_at lw_m7 206 rfl) rfl
set_option maxRecDepth 100000 in
theorem q2023 : (Jvm.Cond.fieldLink "PascalHouse$Routine" (27 : Nat) "PascalHouse$Routine" "name" "Ljava/lang/String;") ∈ lw_all := lw_g (lw_at lw_m7 207 rfl) rfl
set_option maxRecDepth 100000 in
theorem q2024 : (Jvm.Cond.fieldLink "PascalHouse$Routine" (31 : Nat) "PascalHouse$Routine" "function" "Z") ∈ lw_all := lw_g (lw_at lw_m7 208 rfl) rfl
set_option maxRecDepth 100000 in
theorem q2025 : (Jvm.Cond.fieldLinkNest "PascalHouse$Compiler" (525 : Nat) "PascalHouse$Routine" "function" "Z" "PascalHouse") ∈ lw_tbl := lw_at lw_m7 209 rfl
set_option maxRecDepth 100000 in
theorem q2026 : (Jvm.Cond.fieldLinkNest "PascalHouse$Machine" (392 : Nat) "PascalHouse$Routine" "function" "Z" "PascalHouse") ∈ lw_tbl := lw_at lw_m7 210 rfl
set_option maxRecDepth 100000 in
theorem q2027 : (Jvm.Cond.fieldLink "PascalHouse$Routine" (35 : Nat) "PascalHouse$Routine" "place" "I") ∈ lw_all := lw_g (lw_at lw_m7 211 rfl) rfl
set_option maxRecDepth 100000 in
theorem q2028 : (Jvm.Cond.fieldLinkNest "PascalHouse$Machine" (144 : Nat) "PascalHouse$Routine" "place" "I" "PascalHouse") ∈ lw_tbl := lw_at lw_m7 212 rfl
set_option maxRecDepth 100000 in
theorem q2029 : (Jvm.Cond.fieldLinkNest "PascalHouse$Compiler" (499 : Nat) "PascalHouse$Routine" "place" "I" "PascalHouse") ∈ lw_tbl := lw_at lw_m7 213 rfl
set_option maxRecDepth 100000 in
theorem q2030 : (Jvm.Cond.fieldLink "PascalHouse$Routine" (14 : Nat) "PascalHouse$Routine" "parameters" "Ljava/util/ArrayList;") ∈ lw_all := lw_g (lw_at lw_m7 214 rfl) rfl
set_option maxRecDepth 100000 in
theorem q2031 : (Jvm.Cond.fieldLinkNest "PascalHouse$Machine" (368 : Nat) "PascalHouse$Routine" "parameters" "Ljava/util/ArrayList;" "PascalHouse") ∈ lw_tbl := lw_at lw_m7 215 rfl
set_option maxRecDepth 100000 in
theorem q2032 : (Jvm.Cond.fieldLinkNest "PascalHouse$Compiler" (560 : Nat) "PascalHouse$Routine" "parameters" "Ljava/util/ArrayList;" "PascalHouse") ∈ lw_tbl := lw_at lw_m7 216 rfl
set_option maxRecDepth 100000 in
theorem q2033 : (Jvm.Cond.fieldLink "PascalHouse$Routine" (38 : Nat) "PascalHouse$Routine" "result" "LPascalHouse$Type;") ∈ lw_all := lw_g (lw_at lw_m7 217 rfl) rfl
set_option maxRecDepth 100000 in
theorem q2034 : (Jvm.Cond.fieldLinkNest "PascalHouse$Compiler" (538 : Nat) "PascalHouse$Routine" "result" "LPascalHouse$Type;" "PascalHouse") ∈ lw_tbl := lw_at lw_m7 218 rfl
set_option maxRecDepth 100000 in
theorem q2035 : (Jvm.Cond.fieldLinkNest "PascalHouse" (226 : Nat) "PascalHouse$Routine" "scope" "LPascalHouse$Scope;" "PascalHouse") ∈ lw_tbl := lw_at lw_m7 219 rfl
set_option maxRecDepth 100000 in
theorem q2036 : (Jvm.Cond.fieldLinkNest "PascalHouse$Compiler" (415 : Nat) "PascalHouse$Routine" "scope" "LPascalHouse$Scope;" "PascalHouse") ∈ lw_tbl := lw_at lw_m7 220 rfl
set_option maxRecDepth 100000 in
theorem q2037 : (Jvm.Cond.fieldLinkNest "PascalHouse$Compiler" (447 : Nat) "PascalHouse$Routine" "level" "I" "PascalHouse") ∈ lw_tbl := lw_at lw_m7 221 rfl
set_option maxRecDepth 100000 in
theorem q2038 : (Jvm.Cond.fieldLink "PascalHouse$Routine" (20 : Nat) "PascalHouse$Routine" "entry" "I") ∈ lw_all := lw_g (lw_at lw_m7 222 rfl) rfl
set_option maxRecDepth 100000 in
theorem q2039 : (Jvm.Cond.fieldLinkNest "PascalHouse$Machine" (126 : Nat) "PascalHouse$Routine" "entry" "I" "PascalHouse") ∈ lw_tbl := lw_at lw_m7 223 rfl
set_option maxRecDepth 100000 in
theorem q2040 : (Jvm.Cond.fieldLinkNest "PascalHouse$Compiler" (496 : Nat) "PascalHouse$Routine" "entry" "I" "PascalHouse") ∈ lw_tbl := lw_at lw_m7 224 rfl
set_option maxRecDepth 100000 in
theorem q2041 : (Jvm.Cond.fieldLinkNest "PascalHouse$Machine" (92 : Nat) "PascalHouse$Routine" "size" "I" "PascalHouse") ∈ lw_tbl := lw_at lw_m7 225 rfl
set_option maxRecDepth 100000 in
theorem q2042 : (Jvm.Cond.fieldLinkNest "PascalHouse$Compiler" (451 : Nat) "PascalHouse$Routine" "size" "I" "PascalHouse") ∈ lw_tbl := lw_at lw_m7 226 rfl
set_option maxRecDepth 100000 in
theorem q2043 : (Jvm.Cond.fieldLinkNest "PascalHouse$Compiler" (531 : Nat) "PascalHouse$Routine" "number" "I" "PascalHouse") ∈ lw_tbl := lw_at lw_m7 227 rfl
set_option maxRecDepth 100000 in
theorem q2044 : (Jvm.Cond.fieldLinkNest "PascalHouse$Compiler" (567 : Nat) "PascalHouse$Routine" "offset" "I" "PascalHouse") ∈ lw_tbl := lw_at lw_m7 228 rfl
set_option maxRecDepth 100000 in
theorem q2045 : (Jvm.Cond.fieldLinkNest "PascalHouse$Compiler" (568 : Nat) "PascalHouse$Routine" "outerLevel" "I" "PascalHouse") ∈ lw_tbl := lw_at lw_m7 229 rfl
set_option maxRecDepth 100000 in
theorem q2046 : (Jvm.Cond.fieldLinkNest "PascalHouse$Compiler" (522 : Nat) "PascalHouse$Routine" "formal" "Z" "PascalHouse") ∈ lw_tbl := lw_at lw_m7 230 rfl
set_option maxRecDepth 100000 in
theorem q2047 : (Jvm.Cond.fieldLinkNest "PascalHouse$Compiler" (493 : Nat) "PascalHouse$Routine" "forward" "Z" "PascalHouse") ∈ lw_tbl := lw_at lw_m7 231 rfl
set_option maxRecDepth 100000 in
theorem q2048 : (Jvm.Cond.fieldLinkNest "PascalHouse$Compiler" (540 : Nat) "PascalHouse$Routine" "assigned" "Z" "PascalHouse") ∈ lw_tbl := lw_at lw_m7 232 rfl
set_option maxRecDepth 100000 in
theorem q2049 : (Jvm.Cond.fieldLink "PascalHouse$Routine" (24 : Nat) "PascalHouse$Routine" "files" "Ljava/util/ArrayList;") ∈ lw_all := lw_g (lw_at lw_m7 233 rfl) rfl
set_option maxRecDepth 100000 in
theorem q2050 : (Jvm.Cond.fieldLinkNest "PascalHouse$Machine" (158 : Nat) "PascalHouse$Routine" "files" "Ljava/util/ArrayList;" "PascalHouse") ∈ lw_tbl := lw_at lw_m7 234 rfl
set_option maxRecDepth 100000 in
theorem q2051 : (Jvm.Cond.fieldLinkNest "PascalHouse$Compiler" (458 : Nat) "PascalHouse$Routine" "files" "Ljava/util/ArrayList;" "PascalHouse") ∈ lw_tbl := lw_at lw_m7 235 rfl
set_option maxRecDepth 100000 in
theorem q2085 : (Jvm.Cond.methodLink "PascalHouse$Compiler" (426 : Nat) ({ cls := "java/util/ArrayList", name := "clear", desc := "()V" } : Jvm.MethodName)) ∈ lw_all := lw_g (lw_at lw_m8 29 rfl) rfl
set_option maxRecDepth 100000 in
theorem q2086 : (Jvm.Cond.methodLink "PascalHouse$Compiler" (261 : Nat) ({ cls := "java/lang/String", name := "equals", desc := "(Ljava/lang/Object;)Z" } : Jvm.MethodName)) ∈ lw_all := lw_g (lw_at lw_m8 30 rfl) rfl
set_option maxRecDepth 100000 in
theorem q2087 : (Jvm.Cond.methodLink "PascalHouse$Compiler" (163 : Nat) ({ cls := "PascalHouse$Compiler", name := "fault", desc := "(II)Ljava/lang/IllegalStateException;" } : Jvm.MethodName)) ∈ lw_all := lw_g (lw_at lw_m8 31 rfl) rfl
set_option maxRecDepth 100000 in
theorem q2089 : (Jvm.Cond.instanceMethod ({ cls := "PascalHouse$Compiler", name := "fault", desc := "(II)Ljava/lang/IllegalStateException;" } : Jvm.MethodName)) ∈ lw_all := lw_g (lw_at lw_m8 33 rfl) rfl
set_option maxRecDepth 100000 in
theorem q2090 : (Jvm.Cond.code ({ cls := "PascalHouse$Compiler", name := "fault", desc := "(II)Ljava/lang/IllegalStateException;" } : Jvm.MethodName) prog_4_method_2_code (3 : Nat) (Option.some (Jvm.ClassFile.FieldType.object "java/lang/IllegalStateException"))) ∈ lw_all := lw_g (lw_at lw_m8 34 rfl) rfl
set_option maxRecDepth 100000 in
theorem q2091 : (Jvm.Cond.methodLink "PascalHouse$Compiler" (80 : Nat) ({ cls := "PascalHouse$Faults", name := "at", desc := "(II)Ljava/lang/IllegalStateException;" } : Jvm.MethodName)) ∈ lw_all := lw_g (lw_at lw_m8 35 rfl) rfl
set_option maxRecDepth 100000 in
theorem q2092 : (Jvm.Cond.methodLink "PascalHouse$Compiler" (435 : Nat) ({ cls := "PascalHouse$Compiler", name := "heading", desc := "(LPascalHouse$Tree;LPascalHouse$Tree;)V" } : Jvm.MethodName)) ∈ lw_all := lw_g (lw_at lw_m8 36 rfl) rfl
set_option maxRecDepth 100000 in
theorem q2094 : (Jvm.Cond.instanceMethod ({ cls := "PascalHouse$Compiler", name := "heading", desc := "(LPascalHouse$Tree;LPascalHouse$Tree;)V" } : Jvm.MethodName)) ∈ lw_all := lw_g (lw_at lw_m8 38 rfl) rfl
set_option maxRecDepth 100000 in
theorem q2095 : (Jvm.Cond.code ({ cls := "PascalHouse$Compiler", name := "heading", desc := "(LPascalHouse$Tree;LPascalHouse$Tree;)V" } : Jvm.MethodName) prog_4_method_26_code (6 : Nat) (Option.none : Option Jvm.ClassFile.FieldType)) ∈ lw_all := lw_g (lw_at lw_m8 39 rfl) rfl
set_option maxRecDepth 100000 in
theorem q2098 : (Jvm.Cond.methodLink "PascalHouse$Compiler" (444 : Nat) ({ cls := "PascalHouse$Compiler", name := "place", desc := "(LPascalHouse$Item;LPascalHouse$Routine;)V" } : Jvm.MethodName)) ∈ lw_all := lw_g (lw_at lw_m8 42 rfl) rfl
set_option maxRecDepth 100000 in
theorem q2100 : (Jvm.Cond.instanceMethod ({ cls := "PascalHouse$Compiler", name := "place", desc := "(LPascalHouse$Item;LPascalHouse$Routine;)V" } : Jvm.MethodName)) ∈ lw_all := lw_g (lw_at lw_m8 44 rfl) rfl
set_option maxRecDepth 100000 in
theorem q2101 : (Jvm.Cond.code ({ cls := "PascalHouse$Compiler", name := "place", desc := "(LPascalHouse$Item;LPascalHouse$Routine;)V" } : Jvm.MethodName) prog_4_method_27_code (3 : Nat) (Option.none : Option Jvm.ClassFile.FieldType)) ∈ lw_all := lw_g (lw_at lw_m8 45 rfl) rfl
set_option maxRecDepth 100000 in
theorem q2102 : (Jvm.Cond.constant "PascalHouse$Compiler" (457 : Nat) (1000000 : Int32)) ∈ lw_all := lw_g (lw_at lw_m8 46 rfl) rfl
set_option maxRecDepth 100000 in
theorem q2103 : (Jvm.Cond.methodLink "PascalHouse$Compiler" (303 : Nat) ({ cls := "PascalHouse$Compiler", name := "define", desc := "(LPascalHouse$Scope;LPascalHouse$Item;I)V" } : Jvm.MethodName)) ∈ lw_all := lw_g (lw_at lw_m8 47 rfl) rfl
set_option maxRecDepth 100000 in
theorem q2105 : (Jvm.Cond.instanceMethod ({ cls := "PascalHouse$Compiler", name := "define", desc := "(LPascalHouse$Scope;LPascalHouse$Item;I)V" } : Jvm.MethodName)) ∈ lw_all := lw_g (lw_at lw_m8 49 rfl) rfl
set_option maxRecDepth 100000 in
theorem q2106 : (Jvm.Cond.code ({ cls := "PascalHouse$Compiler", name := "define", desc := "(LPascalHouse$Scope;LPascalHouse$Item;I)V" } : Jvm.MethodName) prog_4_method_6_code (4 : Nat) (Option.none : Option Jvm.ClassFile.FieldType)) ∈ lw_all := lw_g (lw_at lw_m8 50 rfl) rfl
set_option maxRecDepth 100000 in
theorem q2107 : (Jvm.Cond.methodLink "PascalHouse$Compiler" (159 : Nat) ({ cls := "PascalHouse$Scope", name := "own", desc := "(Ljava/lang/String;)LPascalHouse$Item;" } : Jvm.MethodName)) ∈ lw_all := lw_g (lw_at lw_m8 51 rfl) rfl
set_option maxRecDepth 100000 in
theorem q2108 : (Jvm.Cond.instanceMethod ({ cls := "PascalHouse$Scope", name := "own", desc := "(Ljava/lang/String;)LPascalHouse$Item;" } : Jvm.MethodName)) ∈ lw_all := lw_g (lw_at lw_m8 52 rfl) rfl
set_option maxRecDepth 100000 in
theorem q2109 : (Jvm.Cond.selects "PascalHouse$Scope" ({ cls := "PascalHouse$Scope", name := "own", desc := "(Ljava/lang/String;)LPascalHouse$Item;" } : Jvm.MethodName) ({ cls := "PascalHouse$Scope", name := "own", desc := "(Ljava/lang/String;)LPascalHouse$Item;" } : Jvm.MethodName)) ∈ lw_all := lw_g (lw_at lw_m8 53 rfl) rfl
set_option maxRecDepth 100000 in
theorem q2110 : (Jvm.Cond.code ({ cls := "PascalHouse$Scope", name := "own", desc := "(Ljava/lang/String;)LPascalHouse$Item;" } : Jvm.MethodName) prog_18_method_2_code (3 : Nat) (Option.some (Jvm.ClassFile.FieldType.object "PascalHouse$Item"))) ∈ lw_all := lw_g (lw_at lw_m8 54 rfl) rfl
set_option maxRecDepth 100000 in
theorem q2111 : (Jvm.Cond.methodLink "PascalHouse$Scope" (22 : Nat) ({ cls := "java/util/ArrayList", name := "size", desc := "()I" } : Jvm.MethodName)) ∈ lw_all := lw_g (lw_at lw_m8 55 rfl) rfl
set_option maxRecDepth 100000 in
theorem q2112 : (Jvm.Cond.instanceMethod ({ cls := "java/util/ArrayList", name := "size", desc := "()I" } : Jvm.MethodName)) ∈ lw_all := lw_g (lw_at lw_m8 56 rfl) rfl
set_option maxRecDepth 100000 in
theorem q2113 : (Jvm.Cond.selects "java/util/ArrayList" ({ cls := "java/util/ArrayList", name := "size", desc := "()I" } : Jvm.MethodName) ({ cls := "java/util/ArrayList", name := "size", desc := "()I" } : Jvm.MethodName)) ∈ lw_all := lw_g (lw_at lw_m8 57 rfl) rfl
set_option maxRecDepth 100000 in
theorem q2114 : (Jvm.Cond.code ({ cls := "java/util/ArrayList", name := "size", desc := "()I" } : Jvm.MethodName) prog_60_method_8_code (1 : Nat) (Option.some Jvm.ClassFile.FieldType.int)) ∈ lw_all := lw_g (lw_at lw_m8 58 rfl) rfl
set_option maxRecDepth 100000 in
theorem q2115 : (Jvm.Cond.methodLink "PascalHouse$Scope" (26 : Nat) ({ cls := "java/util/ArrayList", name := "get", desc := "(I)Ljava/lang/Object;" } : Jvm.MethodName)) ∈ lw_all := lw_g (lw_at lw_m8 59 rfl) rfl
set_option maxRecDepth 100000 in
theorem q2116 : (Jvm.Cond.instanceMethod ({ cls := "java/util/ArrayList", name := "get", desc := "(I)Ljava/lang/Object;" } : Jvm.MethodName)) ∈ lw_all := lw_g (lw_at lw_m8 60 rfl) rfl
set_option maxRecDepth 100000 in
theorem q2117 : (Jvm.Cond.selects "java/util/ArrayList" ({ cls := "java/util/ArrayList", name := "get", desc := "(I)Ljava/lang/Object;" } : Jvm.MethodName) ({ cls := "java/util/ArrayList", name := "get", desc := "(I)Ljava/lang/Object;" } : Jvm.MethodName)) ∈ lw_all := lw_g (lw_at lw_m8 61 rfl) rfl
set_option maxRecDepth 100000 in
theorem q2118 : (Jvm.Cond.code ({ cls := "java/util/ArrayList", name := "get", desc := "(I)Ljava/lang/Object;" } : Jvm.MethodName) prog_60_method_20_code (2 : Nat) (Option.some (Jvm.ClassFile.FieldType.object "java/lang/Object"))) ∈ lw_all := lw_g (lw_at lw_m8 62 rfl) rfl
set_option maxRecDepth 100000 in
theorem q2119 : (Jvm.Cond.methodLink "java/util/ArrayList" (118 : Nat) ({ cls := "java/util/Objects", name := "checkIndex", desc := "(II)I" } : Jvm.MethodName)) ∈ lw_all := lw_g (lw_at lw_m8 63 rfl) rfl
set_option maxRecDepth 100000 in
theorem q2120 : (Jvm.Cond.static ({ cls := "java/util/Objects", name := "checkIndex", desc := "(II)I" } : Jvm.MethodName)) ∈ lw_all := lw_g (lw_at lw_m8 64 rfl) rfl
set_option maxRecDepth 100000 in
theorem q2121 : (Jvm.Cond.code ({ cls := "java/util/Objects", name := "checkIndex", desc := "(II)I" } : Jvm.MethodName) prog_64_method_17_code (2 : Nat) (Option.some Jvm.ClassFile.FieldType.int)) ∈ lw_all := lw_g (lw_at lw_m8 65 rfl) rfl
set_option maxRecDepth 100000 in
theorem q2122 : (Jvm.Cond.methodLink "java/util/Objects" (105 : Nat) ({ cls := "jdk/internal/util/Preconditions", name := "checkIndex", desc := "(IILjava/util/function/BiFunction;)I" } : Jvm.MethodName)) ∈ lw_all := lw_g (lw_at lw_m8 66 rfl) rfl
set_option maxRecDepth 100000 in
theorem q2123 : (Jvm.Cond.methodLink "java/util/ArrayList" (123 : Nat) ({ cls := "java/util/ArrayList", name := "elementData", desc := "(I)Ljava/lang/Object;" } : Jvm.MethodName)) ∈ lw_all := lw_g (lw_at lw_m8 67 rfl) rfl
set_option maxRecDepth 100000 in
theorem q2124 : (Jvm.Cond.instanceMethod ({ cls := "java/util/ArrayList", name := "elementData", desc := "(I)Ljava/lang/Object;" } : Jvm.MethodName)) ∈ lw_all := lw_g (lw_at lw_m8 68 rfl) rfl
set_option maxRecDepth 100000 in
theorem q2125 : (Jvm.Cond.selects "java/util/ArrayList" ({ cls := "java/util/ArrayList", name := "elementData", desc := "(I)Ljava/lang/Object;" } : Jvm.MethodName) ({ cls := "java/util/ArrayList", name := "elementData", desc := "(I)Ljava/lang/Object;" } : Jvm.MethodName)) ∈ lw_all := lw_g (lw_at lw_m8 69 rfl) rfl
set_option maxRecDepth 100000 in
theorem q2126 : (Jvm.Cond.code ({ cls := "java/util/ArrayList", name := "elementData", desc := "(I)Ljava/lang/Object;" } : Jvm.MethodName) prog_60_method_18_code (2 : Nat) (Option.some (Jvm.ClassFile.FieldType.object "java/lang/Object"))) ∈ lw_all := lw_g (lw_at lw_m8 70 rfl) rfl
set_option maxRecDepth 100000 in
theorem q2127 : (Jvm.Cond.classLink "PascalHouse$Scope" (30 : Nat) "PascalHouse$Item") ∈ lw_all := lw_g (lw_at lw_m8 71 rfl) rfl
set_option maxRecDepth 100000 in
theorem q2128 : (Jvm.Cond.methodLink "PascalHouse$Scope" (36 : Nat) ({ cls := "java/lang/String", name := "equals", desc := "(Ljava/lang/Object;)Z" } : Jvm.MethodName)) ∈ lw_all := lw_g (lw_at lw_m8 72 rfl) rfl
set_option maxRecDepth 100000 in
theorem q2129 : (Jvm.Cond.methodLink "PascalHouse$Compiler" (310 : Nat) ({ cls := "PascalHouse$Tree", name := "kid", desc := "(I)LPascalHouse$Tree;" } : Jvm.MethodName)) ∈ lw_all := lw_g (lw_at lw_m8 73 rfl) rfl
set_option maxRecDepth 100000 in
theorem q2130 : (Jvm.Cond.instanceMethod ({ cls := "PascalHouse$Tree", name := "kid", desc := "(I)LPascalHouse$Tree;" } : Jvm.MethodName)) ∈ lw_all := lw_g (lw_at lw_m8 74 rfl) rfl
set_option maxRecDepth 100000 in
theorem q2131 : (Jvm.Cond.selects "PascalHouse$Tree" ({ cls := "PascalHouse$Tree", name := "kid", desc := "(I)LPascalHouse$Tree;" } : Jvm.MethodName) ({ cls := "PascalHouse$Tree", name := "kid", desc := "(I)LPascalHouse$Tree;" } : Jvm.MethodName)) ∈ lw_all := lw_g (lw_at lw_m8 75 rfl) rfl
set_option maxRecDepth 100000 in
theorem q2132 : (Jvm.Cond.code ({ cls := "PascalHouse$Tree", name := "kid", desc := "(I)LPascalHouse$Tree;" } : Jvm.MethodName) prog_21_method_3_code (4 : Nat) (Option.some (Jvm.ClassFile.FieldType.object "PascalHouse$Tree"))) ∈ lw_all := lw_g (lw_at lw_m8 76 rfl) rfl
set_option maxRecDepth 100000 in
theorem q2133 : (Jvm.Cond.methodLink "PascalHouse$Compiler" (439 : Nat) ({ cls := "PascalHouse$Compiler", name := "block", desc := "(LPascalHouse$Tree;LPascalHouse$Routine;LPascalHouse$Tree;)V" } : Jvm.MethodName)) ∈ lw_all := lw_g (lw_at lw_m8 77 rfl) rfl
set_option maxRecDepth 100000 in
theorem q2135 : (Jvm.Cond.instanceMethod ({ cls := "PascalHouse$Compiler", name := "block", desc := "(LPascalHouse$Tree;LPascalHouse$Routine;LPascalHouse$Tree;)V" } : Jvm.MethodName)) ∈ lw_all := lw_g (lw_at lw_m8 79 rfl) rfl
set_option maxRecDepth 100000 in
theorem q2136 : (Jvm.Cond.code ({ cls := "PascalHouse$Compiler", name := "block", desc := "(LPascalHouse$Tree;LPascalHouse$Routine;LPascalHouse$Tree;)V" } : Jvm.MethodName) prog_4_method_28_code (7 : Nat) (Option.none : Option Jvm.ClassFile.FieldType)) ∈ lw_all := lw_g (lw_at lw_m8 80 rfl) rfl
set_option maxRecDepth 100000 in
theorem q2137 : (Jvm.Cond.classLink "PascalHouse$Compiler" (301 : Nat) "PascalHouse$Block") ∈ lw_all := lw_g (lw_at lw_m8 81 rfl) rfl
set_option maxRecDepth 100000 in
theorem q2138 : (Jvm.Cond.instantiable "PascalHouse$Block" (11 : Nat)) ∈ lw_all := lw_g (lw_at lw_m8 82 rfl) rfl
set_option maxRecDepth 100000 in
theorem q2139 : (Jvm.Cond.methodLink "PascalHouse$Compiler" (461 : Nat) ({ cls := "PascalHouse$Block", name := "<init>", desc := "(LPascalHouse$Block;LPascalHouse$Routine;LPascalHouse$Scope;)V" } : Jvm.MethodName)) ∈ lw_all := lw_g (lw_at lw_m8 83 rfl) rfl
set_option maxRecDepth 100000 in
theorem q2140 : (Jvm.Cond.instanceMethod ({ cls := "PascalHouse$Block", name := "<init>", desc := "(LPascalHouse$Block;LPascalHouse$Routine;LPascalHouse$Scope;)V" } : Jvm.MethodName)) ∈ lw_all := lw_g (lw_at lw_m8 84 rfl) rfl
set_option maxRecDepth 100000 in
theorem q2141 : (Jvm.Cond.code ({ cls := "PascalHouse$Block", name := "<init>", desc := "(LPascalHouse$Block;LPascalHouse$Routine;LPascalHouse$Scope;)V" } : Jvm.MethodName) prog_2_method_1_code (4 : Nat) (Option.none : Option Jvm.ClassFile.FieldType)) ∈ lw_all := lw_g (lw_at lw_m8 85 rfl) rfl
set_option maxRecDepth 100000 in
theorem q2142 : (Jvm.Cond.methodLink "PascalHouse$Block" (3 : Nat) ({ cls := "java/lang/Object", name := "<init>", desc := "()V" } : Jvm.MethodName)) ∈ lw_all := lw_g (lw_at lw_m8 86 rfl) rfl
set_option maxRecDepth 100000 in
theorem q2143 : (Jvm.Cond.classLink "PascalHouse$Block" (9 : Nat) "java/util/ArrayList") ∈ lw_all := lw_g (lw_at lw_m8 87 rfl) rfl
set_option maxRecDepth 100000 in
theorem q2144 : (Jvm.Cond.methodLink "PascalHouse$Block" (11 : Nat) ({ cls := "java/util/ArrayList", name := "<init>", desc := "(I)V" } : Jvm.MethodName)) ∈ lw_all := lw_g (lw_at lw_m8 88 rfl) rfl
set_option maxRecDepth 100000 in
theorem q2145 : (Jvm.Cond.fieldLink "PascalHouse$Block" (34 : Nat) "PascalHouse$Block" "outer" "LPascalHouse$Block;") ∈ lw_all := lw_g (lw_at lw_m8 89 rfl) rfl
set_option maxRecDepth 100000 in
theorem q2146 : (Jvm.Cond.fieldLinkNest "PascalHouse$Compiler" (514 : Nat) "PascalHouse$Block" "outer" "LPascalHouse$Block;" "PascalHouse") ∈ lw_tbl := lw_at lw_m8 90 rfl
set_option maxRecDepth 100000 in
theorem q2147 : (Jvm.Cond.fieldLink "PascalHouse$Block" (38 : Nat) "PascalHouse$Block" "routine" "LPascalHouse$Routine;") ∈ lw_all := lw_g (lw_at lw_m8 91 rfl) rfl
set_option maxRecDepth 100000 in
theorem q2148 : (Jvm.Cond.fieldLinkNest "PascalHouse$Compiler" (516 : Nat) "PascalHouse$Block" "routine" "LPascalHouse$Routine;" "PascalHouse") ∈ lw_tbl := lw_at lw_m8 92 rfl
set_option maxRecDepth 100000 in
theorem q2149 : (Jvm.Cond.fieldLink "PascalHouse$Block" (42 : Nat) "PascalHouse$Block" "scope" "LPascalHouse$Scope;") ∈ lw_all := lw_g (lw_at lw_m8 93 rfl) rfl
set_option maxRecDepth 100000 in
theorem q2150 : (Jvm.Cond.fieldLinkNest "PascalHouse$Compiler" (300 : Nat) "PascalHouse$Block" "scope" "LPascalHouse$Scope;" "PascalHouse") ∈ lw_tbl := lw_at lw_m8 94 rfl
set_option maxRecDepth 100000 in
theorem q2151 : (Jvm.Cond.fieldLink "PascalHouse$Block" (14 : Nat) "PascalHouse$Block" "labels" "Ljava/util/ArrayList;") ∈ lw_all := lw_g (lw_at lw_m8 95 rfl) rfl
set_option maxRecDepth 100000 in
theorem q2152 : (Jvm.Cond.fieldLinkNest "PascalHouse$Compiler" (468 : Nat) "PascalHouse$Block" "labels" "Ljava/util/ArrayList;" "PascalHouse") ∈ lw_tbl := lw_at lw_m8 96 rfl
set_option maxRecDepth 100000 in
theorem q2153 : (Jvm.Cond.fieldLink "PascalHouse$Block" (20 : Nat) "PascalHouse$Block" "leaps" "Ljava/util/ArrayList;") ∈ lw_all := lw_g (lw_at lw_m8 97 rfl) rfl
set_option maxRecDepth 100000 in
theorem q2154 : (Jvm.Cond.fieldLinkNest "PascalHouse$Compiler" (571 : Nat) "PascalHouse$Block" "leaps" "Ljava/util/ArrayList;" "PascalHouse") ∈ lw_tbl := lw_at lw_m8 98 rfl
set_option maxRecDepth 100000 in
theorem q2155 : (Jvm.Cond.fieldLink "PascalHouse$Block" (23 : Nat) "PascalHouse$Block" "rows" "[I") ∈ lw_all := lw_g (lw_at lw_m8 99 rfl) rfl
set_option maxRecDepth 100000 in
theorem q2156 : (Jvm.Cond.fieldLinkNest "PascalHouse$Compiler" (603 : Nat) "PascalHouse$Block" "rows" "[I" "PascalHouse") ∈ lw_tbl := lw_at lw_m8 100 rfl
set_option maxRecDepth 100000 in
theorem q2157 : (Jvm.Cond.fieldLink "PascalHouse$Block" (27 : Nat) "PascalHouse$Block" "statements" "[I") ∈ lw_all := lw_g (lw_at lw_m8 101 rfl) rfl
set_option maxRecDepth 100000 in
theorem q2158 : (Jvm.Cond.fieldLinkNest "PascalHouse$Compiler" (620 : Nat) "PascalHouse$Block" "statements" "[I" "PascalHouse") ∈ lw_tbl := lw_at lw_m8 102 rfl
set_option maxRecDepth 100000 in
theorem q2159 : (Jvm.Cond.fieldLink "PascalHouse$Block" (61 : Nat) "PascalHouse$Block" "rowCount" "I") ∈ lw_all := lw_g (lw_at lw_m8 103 rfl) rfl
set_option maxRecDepth 100000 in
theorem q2160 : (Jvm.Cond.fieldLinkNest "PascalHouse$Compiler" (604 : Nat) "PascalHouse$Block" "rowCount" "I" "PascalHouse") ∈ lw_tbl := lw_at lw_m8 104 rfl
set_option maxRecDepth 100000 in
theorem q2161 : (Jvm.Cond.fieldLink "PascalHouse$Block" (68 : Nat) "PascalHouse$Block" "statementCount" "I") ∈ lw_all := lw_g (lw_at lw_m8 105 rfl) rfl
set_option maxRecDepth 100000 in
theorem q2162 : (Jvm.Cond.fieldLinkNest "PascalHouse$Compiler" (621 : Nat) "PascalHouse$Block" "statementCount" "I" "PascalHouse") ∈ lw_tbl := lw_at lw_m8 106 rfl
set_option maxRecDepth 100000 in
theorem q2163 : (Jvm.Cond.fieldLinkNest "PascalHouse$Compiler" (682 : Nat) "PascalHouse$Block" "temporaries" "I" "PascalHouse") ∈ lw_tbl := lw_at lw_m8 107 rfl
set_option maxRecDepth 100000 in
theorem q2164 : (Jvm.Cond.fieldLink "PascalHouse$Block" (30 : Nat) "PascalHouse$Block" "body" "I") ∈ lw_all := lw_g (lw_at lw_m8 108 rfl) rfl
set_option maxRecDepth 100000 in
theorem q2165 : (Jvm.Cond.fieldLinkNest "PascalHouse$Compiler" (587 : Nat) "PascalHouse$Block" "body" "I" "PascalHouse") ∈ lw_tbl := lw_at lw_m8 109 rfl
set_option maxRecDepth 100000 in
theorem q2189 : (Jvm.Cond.methodLink "PascalHouse$Compiler" (464 : Nat) ({ cls := "PascalHouse$Block", name := "label", desc := "(I)LPascalHouse$Label;" } : Jvm.MethodName)) ∈ lw_all := lw_g (lw_at lw_m8 133 rfl) rfl
set_option maxRecDepth 100000 in
theorem q2190 : (Jvm.Cond.instanceMethod ({ cls := "PascalHouse$Block", name := "label", desc := "(I)LPascalHouse$Label;" } : Jvm.MethodName)) ∈ lw_all := lw_g (lw_at lw_m8 134 rfl) rfl
set_option maxRecDepth 100000 in
theorem q2191 : (Jvm.Cond.selects "PascalHouse$Block" ({ cls := "PascalHouse$Block", name := "label", desc := "(I)LPascalHouse$Label;" } : Jvm.MethodName) ({ cls := "PascalHouse$Block", name := "label", desc := "(I)LPascalHouse$Label;" } : Jvm.MethodName)) ∈ lw_all := lw_g (lw_at lw_m8 135 rfl) rfl
set_option maxRecDepth 100000 in
theorem q2192 : (Jvm.Cond.code ({ cls := "PascalHouse$Block", name := "label", desc := "(I)LPascalHouse$Label;" } : Jvm.MethodName) prog_2_method_2_code (3 : Nat) (Option.some (Jvm.ClassFile.FieldType.object "PascalHouse$Label"))) ∈ lw_all := lw_g (lw_at lw_m8 136 rfl) rfl
set_option maxRecDepth 100000 in
theorem q2193 : (Jvm.Cond.methodLink "PascalHouse$Block" (46 : Nat) ({ cls := "java/util/ArrayList", name := "size", desc := "()I" } : Jvm.MethodName)) ∈ lw_all := lw_g (lw_at lw_m8 137 rfl) rfl
set_option maxRecDepth 100000 in
theorem q2194 : (Jvm.Cond.methodLink "PascalHouse$Block" (50 : Nat) ({ cls := "java/util/ArrayList", name := "get", desc := "(I)Ljava/lang/Object;" } : Jvm.MethodName)) ∈ lw_all := lw_g (lw_at lw_m8 138 rfl) rfl
set_option maxRecDepth 100000 in
theorem q2195 : (Jvm.Cond.classLink "PascalHouse$Block" (54 : Nat) "PascalHouse$Label") ∈ lw_all := lw_g (lw_at lw_m8 139 rfl) rfl
set_option maxRecDepth 100000 in
theorem q2196 : (Jvm.Cond.classLink "PascalHouse$Compiler" (471 : Nat) "PascalHouse$Label") ∈ lw_all := lw_g (lw_at lw_m8 140 rfl) rfl
set_option maxRecDepth 100000 in
theorem q2197 : (Jvm.Cond.instantiable "PascalHouse$Label" (5 : Nat)) ∈ lw_all := lw_g (lw_at lw_m8 141 rfl) rfl
set_option maxRecDepth 100000 in
theorem q2198 : (Jvm.Cond.methodLink "PascalHouse$Compiler" (473 : Nat) ({ cls := "PascalHouse$Code", name := "label", desc := "()I" } : Jvm.MethodName)) ∈ lw_all := lw_g (lw_at lw_m8 142 rfl) rfl
set_option maxRecDepth 100000 in
theorem q2199 : (Jvm.Cond.instanceMethod ({ cls := "PascalHouse$Code", name := "label", desc := "()I" } : Jvm.MethodName)) ∈ lw_all := lw_g (lw_at lw_m8 143 rfl) rfl
set_option maxRecDepth 100000 in
theorem q2200 : (Jvm.Cond.selects "PascalHouse$Code" ({ cls := "PascalHouse$Code", name := "label", desc := "()I" } : Jvm.MethodName) ({ cls := "PascalHouse$Code", name := "label", desc := "()I" } : Jvm.MethodName)) ∈ lw_all := lw_g (lw_at lw_m8 144 rfl) rfl
set_option maxRecDepth 100000 in
theorem q2201 : (Jvm.Cond.code ({ cls := "PascalHouse$Code", name := "label", desc := "()I" } : Jvm.MethodName) prog_3_method_8_code (1 : Nat) (Option.some Jvm.ClassFile.FieldType.int)) ∈ lw_all := lw_g (lw_at lw_m8 145 rfl) rfl
set_option maxRecDepth 100000 in
theorem q2202 : (Jvm.Cond.methodLink "PascalHouse$Code" (75 : Nat) ({ cls := "PascalHouse$Code", name := "longer", desc := "([I)[I" } : Jvm.MethodName)) ∈ lw_all := lw_g (lw_at lw_m8 146 rfl) rfl
set_option maxRecDepth 100000 in
theorem q2203 : (Jvm.Cond.static ({ cls := "PascalHouse$Code", name := "longer", desc := "([I)[I" } : Jvm.MethodName)) ∈ lw_all := lw_g (lw_at lw_m8 147 rfl) rfl
set_option maxRecDepth 100000 in
theorem q2204 : (Jvm.Cond.code ({ cls := "PascalHouse$Code", name := "longer", desc := "([I)[I" } : Jvm.MethodName) prog_3_method_3_code (3 : Nat) (Option.some (Jvm.ClassFile.FieldType.array Jvm.ClassFile.FieldType.int))) ∈ lw_all := lw_g (lw_at lw_m8 148 rfl) rfl
set_option maxRecDepth 100000 in
theorem q2205 : (Jvm.Cond.methodLink "PascalHouse$Compiler" (475 : Nat) ({ cls := "PascalHouse$Label", name := "<init>", desc := "(II)V" } : Jvm.MethodName)) ∈ lw_all := lw_g (lw_at lw_m8 149 rfl) rfl
set_option maxRecDepth 100000 in
theorem q2206 : (Jvm.Cond.instanceMethod ({ cls := "PascalHouse$Label", name := "<init>", desc := "(II)V" } : Jvm.MethodName)) ∈ lw_all := lw_g (lw_at lw_m8 150 rfl) rfl
set_option maxRecDepth 100000 in
theorem q2207 : (Jvm.Cond.code ({ cls := "PascalHouse$Label", name := "<init>", desc := "(II)V" } : Jvm.MethodName) prog_9_method_1_code (3 : Nat) (Option.none : Option Jvm.ClassFile.FieldType)) ∈ lw_all := lw_g (lw_at lw_m8 151 rfl) rfl
set_option maxRecDepth 100000 in
theorem q2208 : (Jvm.Cond.methodLink "PascalHouse$Label" (3 : Nat) ({ cls := "java/lang/Object", name := "<init>", desc := "()V" } : Jvm.MethodName)) ∈ lw_all := lw_g (lw_at lw_m8 152 rfl) rfl
set_option maxRecDepth 100000 in
theorem q2209 : (Jvm.Cond.fieldLink "PascalHouse$Label" (18 : Nat) "PascalHouse$Label" "number" "I") ∈ lw_all := lw_g (lw_at lw_m8 153 rfl) rfl
set_option maxRecDepth 100000 in
theorem q2210 : (Jvm.Cond.fieldLinkNest "PascalHouse$Block" (56 : Nat) "PascalHouse$Label" "number" "I" "PascalHouse") ∈ lw_tbl := lw_at lw_m8 154 rfl
set_option maxRecDepth 100000 in
theorem q2211 : (Jvm.Cond.fieldLink "PascalHouse$Label" (21 : Nat) "PascalHouse$Label" "index" "I") ∈ lw_all := lw_g (lw_at lw_m8 155 rfl) rfl
set_option maxRecDepth 100000 in
theorem q2212 : (Jvm.Cond.fieldLinkNest "PascalHouse$Compiler" (618 : Nat) "PascalHouse$Label" "index" "I" "PascalHouse") ∈ lw_tbl := lw_at lw_m8 156 rfl
set_option maxRecDepth 100000 in
theorem q2213 : (Jvm.Cond.fieldLinkNest "PascalHouse$Compiler" (578 : Nat) "PascalHouse$Label" "marks" "Z" "PascalHouse") ∈ lw_tbl := lw_at lw_m8 157 rfl
set_option maxRecDepth 100000 in
theorem q2214 : (Jvm.Cond.fieldLink "PascalHouse$Label" (9 : Nat) "PascalHouse$Label" "row" "I") ∈ lw_all := lw_g (lw_at lw_m8 158 rfl) rfl
set_option maxRecDepth 100000 in
theorem q2215 : (Jvm.Cond.fieldLinkNest "PascalHouse$Compiler" (584 : Nat) "PascalHouse$Label" "row" "I" "PascalHouse") ∈ lw_tbl := lw_at lw_m8 159 rfl
set_option maxRecDepth 100000 in
theorem q2216 : (Jvm.Cond.fieldLink "PascalHouse$Label" (15 : Nat) "PascalHouse$Label" "statement" "I") ∈ lw_all := lw_g (lw_at lw_m8 160 rfl) rfl
set_option maxRecDepth 100000 in
theorem q2217 : (Jvm.Cond.fieldLinkNest "PascalHouse$Compiler" (594 : Nat) "PascalHouse$Label" "statement" "I" "PascalHouse") ∈ lw_tbl := lw_at lw_m8 161 rfl
set_option maxRecDepth 100000 in
theorem q2229 : (Jvm.Cond.methodLink "PascalHouse$Compiler" (314 : Nat) ({ cls := "PascalHouse$Compiler", name := "constant", desc := "(LPascalHouse$Tree;)V" } : Jvm.MethodName)) ∈ lw_all := lw_g (lw_at lw_m8 173 rfl) rfl
set_option maxRecDepth 100000 in
theorem q2231 : (Jvm.Cond.instanceMethod ({ cls := "PascalHouse$Compiler", name := "constant", desc := "(LPascalHouse$Tree;)V" } : Jvm.MethodName)) ∈ lw_all := lw_g (lw_at lw_m8 175 rfl) rfl
set_option maxRecDepth 100000 in
theorem q2232 : (Jvm.Cond.code ({ cls := "PascalHouse$Compiler", name := "constant", desc := "(LPascalHouse$Tree;)V" } : Jvm.MethodName) prog_4_method_9_code (4 : Nat) (Option.none : Option Jvm.ClassFile.FieldType)) ∈ lw_all := lw_g (lw_at lw_m8 176 rfl) rfl
set_option maxRecDepth 100000 in
theorem q2233 : (Jvm.Cond.fieldLink "PascalHouse$Compiler" (211 : Nat) "PascalHouse$Sort" "NUMBER" "LPascalHouse$Sort;") ∈ lw_all := lw_g (lw_at lw_m8 177 rfl) rfl
set_option maxRecDepth 100000 in
theorem q2234 : (Jvm.Cond.fieldLink "PascalHouse$Compiler" (225 : Nat) "PascalHouse$Sort" "REAL" "LPascalHouse$Sort;") ∈ lw_all := lw_g (lw_at lw_m8 178 rfl) rfl
set_option maxRecDepth 100000 in
theorem q2235 : (Jvm.Cond.fieldLink "PascalHouse$Compiler" (234 : Nat) "PascalHouse$Sort" "STRING" "LPascalHouse$Sort;") ∈ lw_all := lw_g (lw_at lw_m8 179 rfl) rfl
set_option maxRecDepth 100000 in
theorem q2236 : (Jvm.Cond.methodLink "PascalHouse$Compiler" (239 : Nat) ({ cls := "PascalHouse$Code", name := "literal", desc := "(Ljava/lang/String;)I" } : Jvm.MethodName)) ∈ lw_all := lw_g (lw_at lw_m8 180 rfl) rfl
set_option maxRecDepth 100000 in
theorem q2237 : (Jvm.Cond.instanceMethod ({ cls := "PascalHouse$Code", name := "literal", desc := "(Ljava/lang/String;)I" } : Jvm.MethodName)) ∈ lw_all := lw_g (lw_at lw_m8 181 rfl) rfl
set_option maxRecDepth 100000 in
theorem q2238 : (Jvm.Cond.selects "PascalHouse$Code" ({ cls := "PascalHouse$Code", name := "literal", desc := "(Ljava/lang/String;)I" } : Jvm.MethodName) ({ cls := "PascalHouse$Code", name := "literal", desc := "(Ljava/lang/String;)I" } : Jvm.MethodName)) ∈ lw_all := lw_g (lw_at lw_m8 182 rfl) rfl
set_option maxRecDepth 100000 in
theorem q2239 : (Jvm.Cond.code ({ cls := "PascalHouse$Code", name := "literal", desc := "(Ljava/lang/String;)I" } : Jvm.MethodName) prog_3_method_6_code (4 : Nat) (Option.some Jvm.ClassFile.FieldType.int)) ∈ lw_all := lw_g (lw_at lw_m8 183 rfl) rfl
set_option maxRecDepth 100000 in
theorem q2240 : (Jvm.Cond.methodLink "PascalHouse$Code" (79 : Nat) ({ cls := "java/lang/String", name := "length", desc := "()I" } : Jvm.MethodName)) ∈ lw_all := lw_g (lw_at lw_m8 184 rfl) rfl
set_option maxRecDepth 100000 in
theorem q2241 : (Jvm.Cond.methodLink "PascalHouse$Code" (85 : Nat) ({ cls := "java/lang/String", name := "charAt", desc := "(I)C" } : Jvm.MethodName)) ∈ lw_all := lw_g (lw_at lw_m8 185 rfl) rfl
set_option maxRecDepth 100000 in
theorem q2242 : (Jvm.Cond.methodLink "PascalHouse$Compiler" (245 : Nat) ({ cls := "PascalHouse$Compiler", name := "findKind", desc := "(LPascalHouse$Tree;I)LPascalHouse$Item;" } : Jvm.MethodName)) ∈ lw_all := lw_g (lw_at lw_m8 186 rfl) rfl
set_option maxRecDepth 100000 in
theorem q2244 : (Jvm.Cond.instanceMethod ({ cls := "PascalHouse$Compiler", name := "findKind", desc := "(LPascalHouse$Tree;I)LPascalHouse$Item;" } : Jvm.MethodName)) ∈ lw_all := lw_g (lw_at lw_m8 188 rfl) rfl
set_option maxRecDepth 100000 in
theorem q2245 : (Jvm.Cond.code ({ cls := "PascalHouse$Compiler", name := "findKind", desc := "(LPascalHouse$Tree;I)LPascalHouse$Item;" } : Jvm.MethodName) prog_4_method_8_code (4 : Nat) (Option.some (Jvm.ClassFile.FieldType.object "PascalHouse$Item"))) ∈ lw_all := lw_g (lw_at lw_m8 189 rfl) rfl
set_option maxRecDepth 100000 in
theorem q2246 : (Jvm.Cond.methodLink "PascalHouse$Compiler" (195 : Nat) ({ cls := "PascalHouse$Compiler", name := "find", desc := "(LPascalHouse$Tree;)LPascalHouse$Item;" } : Jvm.MethodName)) ∈ lw_all := lw_g (lw_at lw_m8 190 rfl) rfl
set_option maxRecDepth 100000 in
theorem q2248 : (Jvm.Cond.instanceMethod ({ cls := "PascalHouse$Compiler", name := "find", desc := "(LPascalHouse$Tree;)LPascalHouse$Item;" } : Jvm.MethodName)) ∈ lw_all := lw_g (lw_at lw_m8 192 rfl) rfl
set_option maxRecDepth 100000 in
theorem q2249 : (Jvm.Cond.code ({ cls := "PascalHouse$Compiler", name := "find", desc := "(LPascalHouse$Tree;)LPascalHouse$Item;" } : Jvm.MethodName) prog_4_method_7_code (4 : Nat) (Option.some (Jvm.ClassFile.FieldType.object "PascalHouse$Item"))) ∈ lw_all := lw_g (lw_at lw_m8 193 rfl) rfl
set_option maxRecDepth 100000 in
theorem q2250 : (Jvm.Cond.methodLink "PascalHouse$Compiler" (177 : Nat) ({ cls := "PascalHouse$Type", name := "field", desc := "(Ljava/lang/String;)LPascalHouse$Field;" } : Jvm.MethodName)) ∈ lw_all := lw_g (lw_at lw_m8 194 rfl) rfl
set_option maxRecDepth 100000 in
theorem q2251 : (Jvm.Cond.instanceMethod ({ cls := "PascalHouse$Type", name := "field", desc := "(Ljava/lang/String;)LPascalHouse$Field;" } : Jvm.MethodName)) ∈ lw_all := lw_g (lw_at lw_m8 195 rfl) rfl
set_option maxRecDepth 100000 in
theorem q2252 : (Jvm.Cond.selects "PascalHouse$Type" ({ cls := "PascalHouse$Type", name := "field", desc := "(Ljava/lang/String;)LPascalHouse$Field;" } : Jvm.MethodName) ({ cls := "PascalHouse$Type", name := "field", desc := "(Ljava/lang/String;)LPascalHouse$Field;" } : Jvm.MethodName)) ∈ lw_all := lw_g (lw_at lw_m8 196 rfl) rfl
set_option maxRecDepth 100000 in
theorem q2253 : (Jvm.Cond.code ({ cls := "PascalHouse$Type", name := "field", desc := "(Ljava/lang/String;)LPascalHouse$Field;" } : Jvm.MethodName) prog_22_method_13_code (3 : Nat) (Option.some (Jvm.ClassFile.FieldType.object "PascalHouse$Field"))) ∈ lw_all := lw_g (lw_at lw_m8 197 rfl) rfl
set_option maxRecDepth 100000 in
theorem q2254 : (Jvm.Cond.methodLink "PascalHouse$Type" (47 : Nat) ({ cls := "java/util/ArrayList", name := "size", desc := "()I" } : Jvm.MethodName)) ∈ lw_all := lw_g (lw_at lw_m8 198 rfl) rfl
set_option maxRecDepth 100000 in
theorem q2255 : (Jvm.Cond.methodLink "PascalHouse$Type" (51 : Nat) ({ cls := "java/util/ArrayList", name := "get", desc := "(I)Ljava/lang/Object;" } : Jvm.MethodName)) ∈ lw_all := lw_g (lw_at lw_m8 199 rfl) rfl
set_option maxRecDepth 100000 in
theorem q2256 : (Jvm.Cond.classLink "PascalHouse$Type" (55 : Nat) "PascalHouse$Field") ∈ lw_all := lw_g (lw_at lw_m8 200 rfl) rfl
set_option maxRecDepth 100000 in
theorem q2257 : (Jvm.Cond.methodLink "PascalHouse$Type" (61 : Nat) ({ cls := "java/lang/String", name := "equals", desc := "(Ljava/lang/Object;)Z" } : Jvm.MethodName)) ∈ lw_all := lw_g (lw_at lw_m8 201 rfl) rfl
set_option maxRecDepth 100000 in
theorem q2258 : (Jvm.Cond.methodLink "PascalHouse$Compiler" (255 : Nat) ({ cls := "PascalHouse$Type", name := "isNumber", desc := "()Z" } : Jvm.MethodName)) ∈ lw_all := lw_g (lw_at lw_m8 202 rfl) rfl
set_option maxRecDepth 100000 in
theorem q2259 : (Jvm.Cond.instanceMethod ({ cls := "PascalHouse$Type", name := "isNumber", desc := "()Z" } : Jvm.MethodName)) ∈ lw_all := lw_g (lw_at lw_m8 203 rfl) rfl
set_option maxRecDepth 100000 in
theorem q2260 : (Jvm.Cond.selects "PascalHouse$Type" ({ cls := "PascalHouse$Type", name := "isNumber", desc := "()Z" } : Jvm.MethodName) ({ cls := "PascalHouse$Type", name := "isNumber", desc := "()Z" } : Jvm.MethodName)) ∈ lw_all := lw_g (lw_at lw_m8 204 rfl) rfl
set_option maxRecDepth 100000 in
theorem q2261 : (Jvm.Cond.code ({ cls := "PascalHouse$Type", name := "isNumber", desc := "()Z" } : Jvm.MethodName) prog_22_method_7_code (1 : Nat) (Option.some Jvm.ClassFile.FieldType.boolean)) ∈ lw_all := lw_g (lw_at lw_m8 205 rfl) rfl
set_option maxRecDepth 100000 in
theorem q2262 : (Jvm.Cond.methodLink "PascalHouse$Type" (40 : Nat) ({ cls := "PascalHouse$Type", name := "own", desc := "()LPascalHouse$Type;" } : Jvm.MethodName)) ∈ lw_all := lw_g (lw_at lw_m8 206 rfl) rfl
set_option maxRecDepth 100000 in
theorem q2263 : (Jvm.Cond.instanceMethod ({ cls := "PascalHouse$Type", name := "own", desc := "()LPascalHouse$Type;" } : Jvm.MethodName)) ∈ lw_all := lw_g (lw_at lw_m8 207 rfl) rfl
set_option maxRecDepth 100000 in
theorem q2264 : (Jvm.Cond.selects "PascalHouse$Type" ({ cls := "PascalHouse$Type", name := "own", desc := "()LPascalHouse$Type;" } : Jvm.MethodName) ({ cls := "PascalHouse$Type", name := "own", desc := "()LPascalHouse$Type;" } : Jvm.MethodName)) ∈ lw_all := lw_g (lw_at lw_m8 208 rfl) rfl
set_option maxRecDepth 100000 in
theorem q2265 : (Jvm.Cond.code ({ cls := "PascalHouse$Type", name := "own", desc := "()LPascalHouse$Type;" } : Jvm.MethodName) prog_22_method_4_code (1 : Nat) (Option.some (Jvm.ClassFile.FieldType.object "PascalHouse$Type"))) ∈ lw_all := lw_g (lw_at lw_m8 209 rfl) rfl
set_option maxRecDepth 100000 in
theorem q2267 : (Jvm.Cond.methodLink "PascalHouse$Compiler" (477 : Nat) ({ cls := "PascalHouse$Compiler", name := "types", desc := "(LPascalHouse$Tree;LPascalHouse$Scope;)V" } : Jvm.MethodName)) ∈ lw_all := lw_g (lw_at lw_m8 211 rfl) rfl
set_option maxRecDepth 100000 in
theorem q2269 : (Jvm.Cond.instanceMethod ({ cls := "PascalHouse$Compiler", name := "types", desc := "(LPascalHouse$Tree;LPascalHouse$Scope;)V" } : Jvm.MethodName)) ∈ lw_all := lw_g (lw_at lw_m8 213 rfl) rfl
set_option maxRecDepth 100000 in
theorem q2270 : (Jvm.Cond.code ({ cls := "PascalHouse$Compiler", name := "types", desc := "(LPascalHouse$Tree;LPascalHouse$Scope;)V" } : Jvm.MethodName) prog_4_method_29_code (8 : Nat) (Option.none : Option Jvm.ClassFile.FieldType)) ∈ lw_all := lw_g (lw_at lw_m8 214 rfl) rfl
set_option maxRecDepth 100000 in
theorem q2271 : (Jvm.Cond.methodLink "PascalHouse$Compiler" (490 : Nat) ({ cls := "java/util/ArrayList", name := "size", desc := "()I" } : Jvm.MethodName)) ∈ lw_all := lw_g (lw_at lw_m8 215 rfl) rfl
set_option maxRecDepth 100000 in
theorem q2272 : (Jvm.Cond.methodLink "PascalHouse$Compiler" (283 : Nat) ({ cls := "PascalHouse$Compiler", name := "typeOf", desc := "(LPascalHouse$Tree;)LPascalHouse$Type;" } : Jvm.MethodName)) ∈ lw_all := lw_g (lw_at lw_m8 216 rfl) rfl
set_option maxRecDepth 100000 in
theorem q2274 : (Jvm.Cond.instanceMethod ({ cls := "PascalHouse$Compiler", name := "typeOf", desc := "(LPascalHouse$Tree;)LPascalHouse$Type;" } : Jvm.MethodName)) ∈ lw_all := lw_g (lw_at lw_m8 218 rfl) rfl
set_option maxRecDepth 100000 in
theorem q2275 : (Jvm.Cond.code ({ cls := "PascalHouse$Compiler", name := "typeOf", desc := "(LPascalHouse$Tree;)LPascalHouse$Type;" } : Jvm.MethodName) prog_4_method_12_code (3 : Nat) (Option.some (Jvm.ClassFile.FieldType.object "PascalHouse$Type"))) ∈ lw_all := lw_g (lw_at lw_m8 219 rfl) rfl
set_option maxRecDepth 100000 in
theorem q2276 : (Jvm.Cond.methodLink "PascalHouse$Compiler" (265 : Nat) ({ cls := "PascalHouse$Compiler", name := "namedType", desc := "(LPascalHouse$Tree;)LPascalHouse$Type;" } : Jvm.MethodName)) ∈ lw_all := lw_g (lw_at lw_m8 220 rfl) rfl
set_option maxRecDepth 100000 in
theorem q2278 : (Jvm.Cond.instanceMethod ({ cls := "PascalHouse$Compiler", name := "namedType", desc := "(LPascalHouse$Tree;)LPascalHouse$Type;" } : Jvm.MethodName)) ∈ lw_all := lw_g (lw_at lw_m8 222 rfl) rfl
set_option maxRecDepth 100000 in
theorem q2279 : (Jvm.Cond.code ({ cls := "PascalHouse$Compiler", name := "namedType", desc := "(LPascalHouse$Tree;)LPascalHouse$Type;" } : Jvm.MethodName) prog_4_method_11_code (2 : Nat) (Option.some (Jvm.ClassFile.FieldType.object "PascalHouse$Type"))) ∈ lw_all := lw_g (lw_at lw_m8 223 rfl) rfl
set_option maxRecDepth 100000 in
theorem q2280 : (Jvm.Cond.methodLink "PascalHouse$Compiler" (269 : Nat) ({ cls := "PascalHouse$Compiler", name := "enumeration", desc := "(LPascalHouse$Tree;)LPascalHouse$Type;" } : Jvm.MethodName)) ∈ lw_all := lw_g (lw_at lw_m8 224 rfl) rfl
set_option maxRecDepth 100000 in
theorem q2282 : (Jvm.Cond.instanceMethod ({ cls := "PascalHouse$Compiler", name := "enumeration", desc := "(LPascalHouse$Tree;)LPascalHouse$Type;" } : Jvm.MethodName)) ∈ lw_all := lw_g (lw_at lw_m8 226 rfl) rfl
set_option maxRecDepth 100000 in
theorem q2283 : (Jvm.Cond.code ({ cls := "PascalHouse$Compiler", name := "enumeration", desc := "(LPascalHouse$Tree;)LPascalHouse$Type;" } : Jvm.MethodName) prog_4_method_13_code (5 : Nat) (Option.some (Jvm.ClassFile.FieldType.object "PascalHouse$Type"))) ∈ lw_all := lw_g (lw_at lw_m8 227 rfl) rfl
set_option maxRecDepth 100000 in
theorem q2284 : (Jvm.Cond.methodLink "PascalHouse$Compiler" (272 : Nat) ({ cls := "PascalHouse$Compiler", name := "range", desc := "(LPascalHouse$Tree;)LPascalHouse$Type;" } : Jvm.MethodName)) ∈ lw_all := lw_g (lw_at lw_m8 228 rfl) rfl
set_option maxRecDepth 100000 in
theorem q2286 : (Jvm.Cond.instanceMethod ({ cls := "PascalHouse$Compiler", name := "range", desc := "(LPascalHouse$Tree;)LPascalHouse$Type;" } : Jvm.MethodName)) ∈ lw_all := lw_g (lw_at lw_m8 230 rfl) rfl
set_option maxRecDepth 100000 in
theorem q2287 : (Jvm.Cond.code ({ cls := "PascalHouse$Compiler", name := "range", desc := "(LPascalHouse$Tree;)LPascalHouse$Type;" } : Jvm.MethodName) prog_4_method_14_code (5 : Nat) (Option.some (Jvm.ClassFile.FieldType.object "PascalHouse$Type"))) ∈ lw_all := lw_g (lw_at lw_m8 231 rfl) rfl
set_option maxRecDepth 100000 in
theorem q2288 : (Jvm.Cond.methodLink "PascalHouse$Compiler" (318 : Nat) ({ cls := "PascalHouse$Type", name := "isOrdinal", desc := "()Z" } : Jvm.MethodName)) ∈ lw_all := lw_g (lw_at lw_m8 232 rfl) rfl
set_option maxRecDepth 100000 in
theorem q2289 : (Jvm.Cond.instanceMethod ({ cls := "PascalHouse$Type", name := "isOrdinal", desc := "()Z" } : Jvm.MethodName)) ∈ lw_all := lw_g (lw_at lw_m8 233 rfl) rfl
set_option maxRecDepth 100000 in
theorem q2290 : (Jvm.Cond.selects "PascalHouse$Type" ({ cls := "PascalHouse$Type", name := "isOrdinal", desc := "()Z" } : Jvm.MethodName) ({ cls := "PascalHouse$Type", name := "isOrdinal", desc := "()Z" } : Jvm.MethodName)) ∈ lw_all := lw_g (lw_at lw_m8 234 rfl) rfl
set_option maxRecDepth 100000 in
theorem q2291 : (Jvm.Cond.code ({ cls := "PascalHouse$Type", name := "isOrdinal", desc := "()Z" } : Jvm.MethodName) prog_22_method_5_code (1 : Nat) (Option.some Jvm.ClassFile.FieldType.boolean)) ∈ lw_all := lw_g (lw_at lw_m8 235 rfl) rfl
set_option maxRecDepth 100000 in
theorem q2292 : (Jvm.Cond.methodLink "PascalHouse$Compiler" (275 : Nat) ({ cls := "PascalHouse$Compiler", name := "array", desc := "(LPascalHouse$Tree;)LPascalHouse$Type;" } : Jvm.MethodName)) ∈ lw_all := lw_g (lw_at lw_m8 236 rfl) rfl
set_option maxRecDepth 100000 in
theorem q2294 : (Jvm.Cond.instanceMethod ({ cls := "PascalHouse$Compiler", name := "array", desc := "(LPascalHouse$Tree;)LPascalHouse$Type;" } : Jvm.MethodName)) ∈ lw_all := lw_g (lw_at lw_m8 238 rfl) rfl
set_option maxRecDepth 100000 in
theorem q2295 : (Jvm.Cond.code ({ cls := "PascalHouse$Compiler", name := "array", desc := "(LPascalHouse$Tree;)LPascalHouse$Type;" } : Jvm.MethodName) prog_4_method_16_code (10 : Nat) (Option.some (Jvm.ClassFile.FieldType.object "PascalHouse$Type"))) ∈ lw_all := lw_g (lw_at lw_m8 239 rfl) rfl
set_option maxRecDepth 100000 in
theorem q2296 : (Jvm.Cond.methodLink "PascalHouse$Compiler" (328 : Nat) ({ cls := "PascalHouse$Compiler", name := "firstOfSimple", desc := "(LPascalHouse$Tree;)I" } : Jvm.MethodName)) ∈ lw_all := lw_g (lw_at lw_m9 0 rfl) rfl
set_option maxRecDepth 100000 in
theorem q2298 : (Jvm.Cond.instanceMethod ({ cls := "PascalHouse$Compiler", name := "firstOfSimple", desc := "(LPascalHouse$Tree;)I" } : Jvm.MethodName)) ∈ lw_all := lw_g (lw_at lw_m9 2 rfl) rfl
set_option maxRecDepth 100000 in
theorem q2299 : (Jvm.Cond.code ({ cls := "PascalHouse$Compiler", name := "firstOfSimple", desc := "(LPascalHouse$Tree;)I" } : Jvm.MethodName) prog_4_method_15_code (2 : Nat) (Option.some Jvm.ClassFile.FieldType.int)) ∈ lw_all := lw_g (lw_at lw_m9 3 rfl) rfl
set_option maxRecDepth 100000 in
theorem q2300 : (Jvm.Cond.methodLink "PascalHouse$Compiler" (324 : Nat) ({ cls := "PascalHouse$Compiler", name := "firstOfConstant", desc := "(LPascalHouse$Tree;)I" } : Jvm.MethodName)) ∈ lw_all := lw_g (lw_at lw_m9 4 rfl) rfl
set_option maxRecDepth 100000 in
theorem q2302 : (Jvm.Cond.instanceMethod ({ cls := "PascalHouse$Compiler", name := "firstOfConstant", desc := "(LPascalHouse$Tree;)I" } : Jvm.MethodName)) ∈ lw_all := lw_g (lw_at lw_m9 6 rfl) rfl
set_option maxRecDepth 100000 in
theorem q2303 : (Jvm.Cond.code ({ cls := "PascalHouse$Compiler", name := "firstOfConstant", desc := "(LPascalHouse$Tree;)I" } : Jvm.MethodName) prog_4_method_10_code (2 : Nat) (Option.some Jvm.ClassFile.FieldType.int)) ∈ lw_all := lw_g (lw_at lw_m9 7 rfl) rfl
set_option maxRecDepth 100000 in
theorem q2304 : (Jvm.Cond.methodLink "PascalHouse$Compiler" (331 : Nat) ({ cls := "java/util/ArrayList", name := "get", desc := "(I)Ljava/lang/Object;" } : Jvm.MethodName)) ∈ lw_all := lw_g (lw_at lw_m9 8 rfl) rfl
set_option maxRecDepth 100000 in
theorem q2305 : (Jvm.Cond.constantLong "PascalHouse$Compiler" (341 : Nat) (5000 : Int64)) ∈ lw_all := lw_g (lw_at lw_m9 9 rfl) rfl
set_option maxRecDepth 100000 in
theorem q2306 : (Jvm.Cond.methodLink "PascalHouse$Compiler" (278 : Nat) ({ cls := "PascalHouse$Compiler", name := "record", desc := "(LPascalHouse$Tree;)LPascalHouse$Type;" } : Jvm.MethodName)) ∈ lw_all := lw_g (lw_at lw_m9 10 rfl) rfl
set_option maxRecDepth 100000 in
theorem q2308 : (Jvm.Cond.instanceMethod ({ cls := "PascalHouse$Compiler", name := "record", desc := "(LPascalHouse$Tree;)LPascalHouse$Type;" } : Jvm.MethodName)) ∈ lw_all := lw_g (lw_at lw_m9 12 rfl) rfl
set_option maxRecDepth 100000 in
theorem q2309 : (Jvm.Cond.code ({ cls := "PascalHouse$Compiler", name := "record", desc := "(LPascalHouse$Tree;)LPascalHouse$Type;" } : Jvm.MethodName) prog_4_method_20_code (3 : Nat) (Option.some (Jvm.ClassFile.FieldType.object "PascalHouse$Type"))) ∈ lw_all := lw_g (lw_at lw_m9 13 rfl) rfl
set_option maxRecDepth 100000 in
theorem q2310 : (Jvm.Cond.methodLink "PascalHouse$Compiler" (354 : Nat) ({ cls := "PascalHouse$Compiler", name := "fields", desc := "(LPascalHouse$Type;LPascalHouse$Tree;LPascalHouse$Part;I)V" } : Jvm.MethodName)) ∈ lw_all := lw_g (lw_at lw_m9 14 rfl) rfl
set_option maxRecDepth 100000 in
theorem q2312 : (Jvm.Cond.instanceMethod ({ cls := "PascalHouse$Compiler", name := "fields", desc := "(LPascalHouse$Type;LPascalHouse$Tree;LPascalHouse$Part;I)V" } : Jvm.MethodName)) ∈ lw_all := lw_g (lw_at lw_m9 16 rfl) rfl
set_option maxRecDepth 100000 in
theorem q2313 : (Jvm.Cond.code ({ cls := "PascalHouse$Compiler", name := "fields", desc := "(LPascalHouse$Type;LPascalHouse$Tree;LPascalHouse$Part;I)V" } : Jvm.MethodName) prog_4_method_21_code (8 : Nat) (Option.none : Option Jvm.ClassFile.FieldType)) ∈ lw_all := lw_g (lw_at lw_m9 17 rfl) rfl
set_option maxRecDepth 100000 in
theorem q2314 : (Jvm.Cond.methodLink "PascalHouse$Compiler" (358 : Nat) ({ cls := "PascalHouse$Compiler", name := "variants", desc := "(LPascalHouse$Type;LPascalHouse$Tree;LPascalHouse$Part;I)V" } : Jvm.MethodName)) ∈ lw_all := lw_g (lw_at lw_m9 18 rfl) rfl
set_option maxRecDepth 100000 in
theorem q2316 : (Jvm.Cond.instanceMethod ({ cls := "PascalHouse$Compiler", name := "variants", desc := "(LPascalHouse$Type;LPascalHouse$Tree;LPascalHouse$Part;I)V" } : Jvm.MethodName)) ∈ lw_all := lw_g (lw_at lw_m9 20 rfl) rfl
set_option maxRecDepth 100000 in
theorem q2317 : (Jvm.Cond.code ({ cls := "PascalHouse$Compiler", name := "variants", desc := "(LPascalHouse$Type;LPascalHouse$Tree;LPascalHouse$Part;I)V" } : Jvm.MethodName) prog_4_method_24_code (11 : Nat) (Option.none : Option Jvm.ClassFile.FieldType)) ∈ lw_all := lw_g (lw_at lw_m9 21 rfl) rfl
set_option maxRecDepth 100000 in
theorem q2318 : (Jvm.Cond.classLink "PascalHouse$Compiler" (374 : Nat) "PascalHouse$Part") ∈ lw_all := lw_g (lw_at lw_m9 22 rfl) rfl
set_option maxRecDepth 100000 in
theorem q2319 : (Jvm.Cond.instantiable "PascalHouse$Part" (10 : Nat)) ∈ lw_all := lw_g (lw_at lw_m9 23 rfl) rfl
set_option maxRecDepth 100000 in
theorem q2320 : (Jvm.Cond.methodLink "PascalHouse$Compiler" (376 : Nat) ({ cls := "PascalHouse$Part", name := "<init>", desc := "(LPascalHouse$Part;II)V" } : Jvm.MethodName)) ∈ lw_all := lw_g (lw_at lw_m9 24 rfl) rfl
set_option maxRecDepth 100000 in
theorem q2321 : (Jvm.Cond.instanceMethod ({ cls := "PascalHouse$Part", name := "<init>", desc := "(LPascalHouse$Part;II)V" } : Jvm.MethodName)) ∈ lw_all := lw_g (lw_at lw_m9 25 rfl) rfl
set_option maxRecDepth 100000 in
theorem q2322 : (Jvm.Cond.code ({ cls := "PascalHouse$Part", name := "<init>", desc := "(LPascalHouse$Part;II)V" } : Jvm.MethodName) prog_15_method_1_code (4 : Nat) (Option.none : Option Jvm.ClassFile.FieldType)) ∈ lw_all := lw_g (lw_at lw_m9 26 rfl) rfl
set_option maxRecDepth 100000 in
theorem q2323 : (Jvm.Cond.methodLink "PascalHouse$Part" (3 : Nat) ({ cls := "java/lang/Object", name := "<init>", desc := "()V" } : Jvm.MethodName)) ∈ lw_all := lw_g (lw_at lw_m9 27 rfl) rfl
set_option maxRecDepth 100000 in
theorem q2324 : (Jvm.Cond.fieldLink "PascalHouse$Part" (18 : Nat) "PascalHouse$Part" "outer" "LPascalHouse$Part;") ∈ lw_all := lw_g (lw_at lw_m9 28 rfl) rfl
set_option maxRecDepth 100000 in
theorem q2325 : (Jvm.Cond.fieldLinkNest "PascalHouse$Machine" (250 : Nat) "PascalHouse$Part" "outer" "LPascalHouse$Part;" "PascalHouse") ∈ lw_tbl := lw_at lw_m9 29 rfl
set_option maxRecDepth 100000 in
theorem q2326 : (Jvm.Cond.fieldLink "PascalHouse$Part" (22 : Nat) "PascalHouse$Part" "outerChoice" "I") ∈ lw_all := lw_g (lw_at lw_m9 30 rfl) rfl
set_option maxRecDepth 100000 in
theorem q2327 : (Jvm.Cond.fieldLinkNest "PascalHouse$Machine" (254 : Nat) "PascalHouse$Part" "outerChoice" "I" "PascalHouse") ∈ lw_tbl := lw_at lw_m9 31 rfl
set_option maxRecDepth 100000 in
theorem q2328 : (Jvm.Cond.fieldLink "PascalHouse$Part" (26 : Nat) "PascalHouse$Part" "tag" "I") ∈ lw_all := lw_g (lw_at lw_m9 32 rfl) rfl
set_option maxRecDepth 100000 in
theorem q2329 : (Jvm.Cond.fieldLinkNest "PascalHouse$Machine" (257 : Nat) "PascalHouse$Part" "tag" "I" "PascalHouse") ∈ lw_tbl := lw_at lw_m9 33 rfl
set_option maxRecDepth 100000 in
theorem q2330 : (Jvm.Cond.fieldLinkNest "PascalHouse$Machine" (270 : Nat) "PascalHouse$Part" "from" "I" "PascalHouse") ∈ lw_tbl := lw_at lw_m9 34 rfl
set_option maxRecDepth 100000 in
theorem q2331 : (Jvm.Cond.fieldLinkNest "PascalHouse$Compiler" (387 : Nat) "PascalHouse$Part" "from" "I" "PascalHouse") ∈ lw_tbl := lw_at lw_m9 35 rfl
set_option maxRecDepth 100000 in
theorem q2332 : (Jvm.Cond.fieldLinkNest "PascalHouse$Machine" (267 : Nat) "PascalHouse$Part" "to" "I" "PascalHouse") ∈ lw_tbl := lw_at lw_m9 36 rfl
set_option maxRecDepth 100000 in
theorem q2333 : (Jvm.Cond.fieldLinkNest "PascalHouse$Compiler" (403 : Nat) "PascalHouse$Part" "to" "I" "PascalHouse") ∈ lw_tbl := lw_at lw_m9 37 rfl
set_option maxRecDepth 100000 in
theorem q2334 : (Jvm.Cond.fieldLinkNest "PascalHouse$Machine" (260 : Nat) "PascalHouse$Part" "tagged" "Z" "PascalHouse") ∈ lw_tbl := lw_at lw_m9 38 rfl
set_option maxRecDepth 100000 in
theorem q2335 : (Jvm.Cond.fieldLinkNest "PascalHouse$Compiler" (380 : Nat) "PascalHouse$Part" "tagged" "Z" "PascalHouse") ∈ lw_tbl := lw_at lw_m9 39 rfl
set_option maxRecDepth 100000 in
theorem q2336 : (Jvm.Cond.fieldLinkNest "PascalHouse$Compiler" (379 : Nat) "PascalHouse$Part" "type" "LPascalHouse$Type;" "PascalHouse") ∈ lw_tbl := lw_at lw_m9 40 rfl
set_option maxRecDepth 100000 in
theorem q2337 : (Jvm.Cond.fieldLink "PascalHouse$Part" (9 : Nat) "PascalHouse$Part" "constants" "[I") ∈ lw_all := lw_g (lw_at lw_m9 41 rfl) rfl
set_option maxRecDepth 100000 in
theorem q2338 : (Jvm.Cond.fieldLink "PascalHouse$Part" (15 : Nat) "PascalHouse$Part" "choices" "[I") ∈ lw_all := lw_g (lw_at lw_m9 42 rfl) rfl
set_option maxRecDepth 100000 in
theorem q2339 : (Jvm.Cond.fieldLink "PascalHouse$Part" (33 : Nat) "PascalHouse$Part" "many" "I") ∈ lw_all := lw_g (lw_at lw_m9 43 rfl) rfl
set_option maxRecDepth 100000 in
theorem q2361 : (Jvm.Cond.methodLink "PascalHouse$Compiler" (361 : Nat) ({ cls := "PascalHouse$Compiler", name := "field", desc := "(LPascalHouse$Type;LPascalHouse$Tree;LPascalHouse$Type;LPascalHouse$Part;I)LPascalHouse$Field;" } : Jvm.MethodName)) ∈ lw_all := lw_g (lw_at lw_m9 65 rfl) rfl
set_option maxRecDepth 100000 in
theorem q2363 : (Jvm.Cond.instanceMethod ({ cls := "PascalHouse$Compiler", name := "field", desc := "(LPascalHouse$Type;LPascalHouse$Tree;LPascalHouse$Type;LPascalHouse$Part;I)LPascalHouse$Field;" } : Jvm.MethodName)) ∈ lw_all := lw_g (lw_at lw_m9 67 rfl) rfl
set_option maxRecDepth 100000 in
theorem q2364 : (Jvm.Cond.code ({ cls := "PascalHouse$Compiler", name := "field", desc := "(LPascalHouse$Type;LPascalHouse$Tree;LPascalHouse$Type;LPascalHouse$Part;I)LPascalHouse$Field;" } : Jvm.MethodName) prog_4_method_22_code (7 : Nat) (Option.some (Jvm.ClassFile.FieldType.object "PascalHouse$Field"))) ∈ lw_all := lw_g (lw_at lw_m9 68 rfl) rfl
set_option maxRecDepth 100000 in
theorem q2365 : (Jvm.Cond.classLink "PascalHouse$Compiler" (185 : Nat) "PascalHouse$Field") ∈ lw_all := lw_g (lw_at lw_m9 69 rfl) rfl
set_option maxRecDepth 100000 in
theorem q2366 : (Jvm.Cond.instantiable "PascalHouse$Field" (6 : Nat)) ∈ lw_all := lw_g (lw_at lw_m9 70 rfl) rfl
set_option maxRecDepth 100000 in
theorem q2367 : (Jvm.Cond.methodLink "PascalHouse$Compiler" (364 : Nat) ({ cls := "PascalHouse$Field", name := "<init>", desc := "(Ljava/lang/String;LPascalHouse$Type;ILPascalHouse$Part;I)V" } : Jvm.MethodName)) ∈ lw_all := lw_g (lw_at lw_m9 71 rfl) rfl
set_option maxRecDepth 100000 in
theorem q2368 : (Jvm.Cond.instanceMethod ({ cls := "PascalHouse$Field", name := "<init>", desc := "(Ljava/lang/String;LPascalHouse$Type;ILPascalHouse$Part;I)V" } : Jvm.MethodName)) ∈ lw_all := lw_g (lw_at lw_m9 72 rfl) rfl
set_option maxRecDepth 100000 in
theorem q2369 : (Jvm.Cond.code ({ cls := "PascalHouse$Field", name := "<init>", desc := "(Ljava/lang/String;LPascalHouse$Type;ILPascalHouse$Part;I)V" } : Jvm.MethodName) prog_6_method_1_code (6 : Nat) (Option.none : Option Jvm.ClassFile.FieldType)) ∈ lw_all := lw_g (lw_at lw_m9 73 rfl) rfl
set_option maxRecDepth 100000 in
theorem q2370 : (Jvm.Cond.methodLink "PascalHouse$Field" (1 : Nat) ({ cls := "java/lang/Object", name := "<init>", desc := "()V" } : Jvm.MethodName)) ∈ lw_all := lw_g (lw_at lw_m9 74 rfl) rfl
set_option maxRecDepth 100000 in
theorem q2371 : (Jvm.Cond.fieldLink "PascalHouse$Field" (7 : Nat) "PascalHouse$Field" "name" "Ljava/lang/String;") ∈ lw_all := lw_g (lw_at lw_m9 75 rfl) rfl
set_option maxRecDepth 100000 in
theorem q2372 : (Jvm.Cond.fieldLinkNest "PascalHouse$Type" (57 : Nat) "PascalHouse$Field" "name" "Ljava/lang/String;" "PascalHouse") ∈ lw_tbl := lw_at lw_m9 76 rfl
set_option maxRecDepth 100000 in
theorem q2373 : (Jvm.Cond.fieldLink "PascalHouse$Field" (13 : Nat) "PascalHouse$Field" "type" "LPascalHouse$Type;") ∈ lw_all := lw_g (lw_at lw_m9 77 rfl) rfl
set_option maxRecDepth 100000 in
theorem q2374 : (Jvm.Cond.fieldLinkNest "PascalHouse$Compiler" (184 : Nat) "PascalHouse$Field" "type" "LPascalHouse$Type;" "PascalHouse") ∈ lw_tbl := lw_at lw_m9 78 rfl
set_option maxRecDepth 100000 in
theorem q2375 : (Jvm.Cond.fieldLink "PascalHouse$Field" (17 : Nat) "PascalHouse$Field" "offset" "I") ∈ lw_all := lw_g (lw_at lw_m9 79 rfl) rfl
set_option maxRecDepth 100000 in
theorem q2376 : (Jvm.Cond.fieldLinkNest "PascalHouse$Compiler" (731 : Nat) "PascalHouse$Field" "offset" "I" "PascalHouse") ∈ lw_tbl := lw_at lw_m9 80 rfl
set_option maxRecDepth 100000 in
theorem q2377 : (Jvm.Cond.fieldLink "PascalHouse$Field" (25 : Nat) "PascalHouse$Field" "choice" "I") ∈ lw_all := lw_g (lw_at lw_m9 81 rfl) rfl
set_option maxRecDepth 100000 in
theorem q2378 : (Jvm.Cond.fieldLinkNest "PascalHouse$Compiler" (726 : Nat) "PascalHouse$Field" "choice" "I" "PascalHouse") ∈ lw_tbl := lw_at lw_m9 82 rfl
set_option maxRecDepth 100000 in
theorem q2379 : (Jvm.Cond.fieldLink "PascalHouse$Field" (21 : Nat) "PascalHouse$Field" "part" "LPascalHouse$Part;") ∈ lw_all := lw_g (lw_at lw_m9 83 rfl) rfl
set_option maxRecDepth 100000 in
theorem q2380 : (Jvm.Cond.fieldLinkNest "PascalHouse$Compiler" (723 : Nat) "PascalHouse$Field" "part" "LPascalHouse$Part;" "PascalHouse") ∈ lw_tbl := lw_at lw_m9 84 rfl
set_option maxRecDepth 100000 in
theorem q2381 : (Jvm.Cond.fieldLinkNest "PascalHouse$Compiler" (383 : Nat) "PascalHouse$Field" "tagOf" "LPascalHouse$Part;" "PascalHouse") ∈ lw_tbl := lw_at lw_m9 85 rfl
set_option maxRecDepth 100000 in
theorem q2395 : (Jvm.Cond.methodLink "PascalHouse$Compiler" (369 : Nat) ({ cls := "PascalHouse$Compiler", name := "grow", desc := "(LPascalHouse$Type;I)V" } : Jvm.MethodName)) ∈ lw_all := lw_g (lw_at lw_m9 99 rfl) rfl
set_option maxRecDepth 100000 in
theorem q2397 : (Jvm.Cond.instanceMethod ({ cls := "PascalHouse$Compiler", name := "grow", desc := "(LPascalHouse$Type;I)V" } : Jvm.MethodName)) ∈ lw_all := lw_g (lw_at lw_m9 101 rfl) rfl
set_option maxRecDepth 100000 in
theorem q2398 : (Jvm.Cond.code ({ cls := "PascalHouse$Compiler", name := "grow", desc := "(LPascalHouse$Type;I)V" } : Jvm.MethodName) prog_4_method_23_code (3 : Nat) (Option.none : Option Jvm.ClassFile.FieldType)) ∈ lw_all := lw_g (lw_at lw_m9 102 rfl) rfl
set_option maxRecDepth 100000 in
theorem q2399 : (Jvm.Cond.constant "PascalHouse$Compiler" (373 : Nat) (100000 : Int32)) ∈ lw_all := lw_g (lw_at lw_m9 103 rfl) rfl
set_option maxRecDepth 100000 in
theorem q2400 : (Jvm.Cond.methodLink "PascalHouse$Compiler" (393 : Nat) ({ cls := "PascalHouse$Type", name := "own", desc := "()LPascalHouse$Type;" } : Jvm.MethodName)) ∈ lw_all := lw_g (lw_at lw_m9 104 rfl) rfl
set_option maxRecDepth 100000 in
theorem q2401 : (Jvm.Cond.methodLink "PascalHouse$Compiler" (396 : Nat) ({ cls := "PascalHouse$Part", name := "choiceOf", desc := "(J)I" } : Jvm.MethodName)) ∈ lw_all := lw_g (lw_at lw_m9 105 rfl) rfl
set_option maxRecDepth 100000 in
theorem q2402 : (Jvm.Cond.instanceMethod ({ cls := "PascalHouse$Part", name := "choiceOf", desc := "(J)I" } : Jvm.MethodName)) ∈ lw_all := lw_g (lw_at lw_m9 106 rfl) rfl
set_option maxRecDepth 100000 in
theorem q2403 : (Jvm.Cond.selects "PascalHouse$Part" ({ cls := "PascalHouse$Part", name := "choiceOf", desc := "(J)I" } : Jvm.MethodName) ({ cls := "PascalHouse$Part", name := "choiceOf", desc := "(J)I" } : Jvm.MethodName)) ∈ lw_all := lw_g (lw_at lw_m9 107 rfl) rfl
set_option maxRecDepth 100000 in
theorem q2404 : (Jvm.Cond.code ({ cls := "PascalHouse$Part", name := "choiceOf", desc := "(J)I" } : Jvm.MethodName) prog_15_method_2_code (4 : Nat) (Option.some Jvm.ClassFile.FieldType.int)) ∈ lw_all := lw_g (lw_at lw_m9 108 rfl) rfl
set_option maxRecDepth 100000 in
theorem q2405 : (Jvm.Cond.methodLink "PascalHouse$Part" (29 : Nat) ({ cls := "PascalHouse$Part", name := "placeOf", desc := "(J)I" } : Jvm.MethodName)) ∈ lw_all := lw_g (lw_at lw_m9 109 rfl) rfl
set_option maxRecDepth 100000 in
theorem q2407 : (Jvm.Cond.instanceMethod ({ cls := "PascalHouse$Part", name := "placeOf", desc := "(J)I" } : Jvm.MethodName)) ∈ lw_all := lw_g (lw_at lw_m9 111 rfl) rfl
set_option maxRecDepth 100000 in
theorem q2408 : (Jvm.Cond.code ({ cls := "PascalHouse$Part", name := "placeOf", desc := "(J)I" } : Jvm.MethodName) prog_15_method_3_code (6 : Nat) (Option.some Jvm.ClassFile.FieldType.int)) ∈ lw_all := lw_g (lw_at lw_m9 112 rfl) rfl
set_option maxRecDepth 100000 in
theorem q2409 : (Jvm.Cond.methodLink "PascalHouse$Compiler" (400 : Nat) ({ cls := "PascalHouse$Part", name := "add", desc := "(II)V" } : Jvm.MethodName)) ∈ lw_all := lw_g (lw_at lw_m9 113 rfl) rfl
set_option maxRecDepth 100000 in
theorem q2410 : (Jvm.Cond.instanceMethod ({ cls := "PascalHouse$Part", name := "add", desc := "(II)V" } : Jvm.MethodName)) ∈ lw_all := lw_g (lw_at lw_m9 114 rfl) rfl
set_option maxRecDepth 100000 in
theorem q2411 : (Jvm.Cond.selects "PascalHouse$Part" ({ cls := "PascalHouse$Part", name := "add", desc := "(II)V" } : Jvm.MethodName) ({ cls := "PascalHouse$Part", name := "add", desc := "(II)V" } : Jvm.MethodName)) ∈ lw_all := lw_g (lw_at lw_m9 115 rfl) rfl
set_option maxRecDepth 100000 in
theorem q2412 : (Jvm.Cond.code ({ cls := "PascalHouse$Part", name := "add", desc := "(II)V" } : Jvm.MethodName) prog_15_method_4_code (5 : Nat) (Option.none : Option Jvm.ClassFile.FieldType)) ∈ lw_all := lw_g (lw_at lw_m9 116 rfl) rfl
set_option maxRecDepth 100000 in
theorem q2413 : (Jvm.Cond.methodLink "PascalHouse$Part" (36 : Nat) ({ cls := "PascalHouse$Code", name := "longer", desc := "([I)[I" } : Jvm.MethodName)) ∈ lw_all := lw_g (lw_at lw_m9 117 rfl) rfl
set_option maxRecDepth 100000 in
theorem q2414 : (Jvm.Cond.methodLink "PascalHouse$Compiler" (280 : Nat) ({ cls := "PascalHouse$Compiler", name := "set", desc := "(LPascalHouse$Tree;)LPascalHouse$Type;" } : Jvm.MethodName)) ∈ lw_all := lw_g (lw_at lw_m9 118 rfl) rfl
set_option maxRecDepth 100000 in
theorem q2416 : (Jvm.Cond.instanceMethod ({ cls := "PascalHouse$Compiler", name := "set", desc := "(LPascalHouse$Tree;)LPascalHouse$Type;" } : Jvm.MethodName)) ∈ lw_all := lw_g (lw_at lw_m9 120 rfl) rfl
set_option maxRecDepth 100000 in
theorem q2417 : (Jvm.Cond.code ({ cls := "PascalHouse$Compiler", name := "set", desc := "(LPascalHouse$Tree;)LPascalHouse$Type;" } : Jvm.MethodName) prog_4_method_17_code (3 : Nat) (Option.some (Jvm.ClassFile.FieldType.object "PascalHouse$Type"))) ∈ lw_all := lw_g (lw_at lw_m9 121 rfl) rfl
set_option maxRecDepth 100000 in
theorem q2418 : (Jvm.Cond.methodLink "PascalHouse$Compiler" (290 : Nat) ({ cls := "PascalHouse$Compiler", name := "pointer", desc := "(LPascalHouse$Tree;)LPascalHouse$Type;" } : Jvm.MethodName)) ∈ lw_all := lw_g (lw_at lw_m9 122 rfl) rfl
set_option maxRecDepth 100000 in
theorem q2420 : (Jvm.Cond.instanceMethod ({ cls := "PascalHouse$Compiler", name := "pointer", desc := "(LPascalHouse$Tree;)LPascalHouse$Type;" } : Jvm.MethodName)) ∈ lw_all := lw_g (lw_at lw_m9 124 rfl) rfl
set_option maxRecDepth 100000 in
theorem q2421 : (Jvm.Cond.code ({ cls := "PascalHouse$Compiler", name := "pointer", desc := "(LPascalHouse$Tree;)LPascalHouse$Type;" } : Jvm.MethodName) prog_4_method_18_code (3 : Nat) (Option.some (Jvm.ClassFile.FieldType.object "PascalHouse$Type"))) ∈ lw_all := lw_g (lw_at lw_m9 125 rfl) rfl
set_option maxRecDepth 100000 in
theorem q2422 : (Jvm.Cond.methodLink "PascalHouse$Compiler" (350 : Nat) ({ cls := "PascalHouse$Compiler", name := "pointsAt", desc := "(LPascalHouse$Type;LPascalHouse$Type;LPascalHouse$Tree;)V" } : Jvm.MethodName)) ∈ lw_all := lw_g (lw_at lw_m9 126 rfl) rfl
set_option maxRecDepth 100000 in
theorem q2424 : (Jvm.Cond.instanceMethod ({ cls := "PascalHouse$Compiler", name := "pointsAt", desc := "(LPascalHouse$Type;LPascalHouse$Type;LPascalHouse$Tree;)V" } : Jvm.MethodName)) ∈ lw_all := lw_g (lw_at lw_m9 128 rfl) rfl
set_option maxRecDepth 100000 in
theorem q2425 : (Jvm.Cond.code ({ cls := "PascalHouse$Compiler", name := "pointsAt", desc := "(LPascalHouse$Type;LPascalHouse$Type;LPascalHouse$Tree;)V" } : Jvm.MethodName) prog_4_method_19_code (4 : Nat) (Option.none : Option Jvm.ClassFile.FieldType)) ∈ lw_all := lw_g (lw_at lw_m9 129 rfl) rfl
set_option maxRecDepth 100000 in
theorem q2426 : (Jvm.Cond.classLink "PascalHouse$Compiler" (174 : Nat) "PascalHouse$Tree") ∈ lw_all := lw_g (lw_at lw_m9 130 rfl) rfl
set_option maxRecDepth 100000 in
theorem q2427 : (Jvm.Cond.methodLink "PascalHouse$Compiler" (481 : Nat) ({ cls := "PascalHouse$Compiler", name := "variables", desc := "(LPascalHouse$Tree;LPascalHouse$Routine;)V" } : Jvm.MethodName)) ∈ lw_all := lw_g (lw_at lw_m9 131 rfl) rfl
set_option maxRecDepth 100000 in
theorem q2429 : (Jvm.Cond.instanceMethod ({ cls := "PascalHouse$Compiler", name := "variables", desc := "(LPascalHouse$Tree;LPascalHouse$Routine;)V" } : Jvm.MethodName)) ∈ lw_all := lw_g (lw_at lw_m9 133 rfl) rfl
set_option maxRecDepth 100000 in
theorem q2430 : (Jvm.Cond.code ({ cls := "PascalHouse$Compiler", name := "variables", desc := "(LPascalHouse$Tree;LPascalHouse$Routine;)V" } : Jvm.MethodName) prog_4_method_30_code (6 : Nat) (Option.none : Option Jvm.ClassFile.FieldType)) ∈ lw_all := lw_g (lw_at lw_m9 134 rfl) rfl
set_option maxRecDepth 100000 in
theorem q2431 : (Jvm.Cond.methodLink "PascalHouse$Compiler" (485 : Nat) ({ cls := "PascalHouse$Compiler", name := "outside", desc := "(LPascalHouse$Tree;LPascalHouse$Scope;)V" } : Jvm.MethodName)) ∈ lw_all := lw_g (lw_at lw_m9 135 rfl) rfl
set_option maxRecDepth 100000 in
theorem q2433 : (Jvm.Cond.instanceMethod ({ cls := "PascalHouse$Compiler", name := "outside", desc := "(LPascalHouse$Tree;LPascalHouse$Scope;)V" } : Jvm.MethodName)) ∈ lw_all := lw_g (lw_at lw_m9 137 rfl) rfl
set_option maxRecDepth 100000 in
theorem q2434 : (Jvm.Cond.code ({ cls := "PascalHouse$Compiler", name := "outside", desc := "(LPascalHouse$Tree;LPascalHouse$Scope;)V" } : Jvm.MethodName) prog_4_method_31_code (4 : Nat) (Option.none : Option Jvm.ClassFile.FieldType)) ∈ lw_all := lw_g (lw_at lw_m9 138 rfl) rfl
set_option maxRecDepth 100000 in
theorem q2435 : (Jvm.Cond.methodLink "PascalHouse$Compiler" (488 : Nat) ({ cls := "PascalHouse$Compiler", name := "routine", desc := "(LPascalHouse$Tree;LPascalHouse$Routine;)V" } : Jvm.MethodName)) ∈ lw_all := lw_g (lw_at lw_m9 139 rfl) rfl
set_option maxRecDepth 100000 in
theorem q2437 : (Jvm.Cond.instanceMethod ({ cls := "PascalHouse$Compiler", name := "routine", desc := "(LPascalHouse$Tree;LPascalHouse$Routine;)V" } : Jvm.MethodName)) ∈ lw_all := lw_g (lw_at lw_m9 141 rfl) rfl
set_option maxRecDepth 100000 in
theorem q2438 : (Jvm.Cond.code ({ cls := "PascalHouse$Compiler", name := "routine", desc := "(LPascalHouse$Tree;LPascalHouse$Routine;)V" } : Jvm.MethodName) prog_4_method_32_code (11 : Nat) (Option.none : Option Jvm.ClassFile.FieldType)) ∈ lw_all := lw_g (lw_at lw_m9 142 rfl) rfl
set_option maxRecDepth 100000 in
theorem q2439 : (Jvm.Cond.methodLink "PascalHouse$Compiler" (532 : Nat) ({ cls := "PascalHouse$Compiler", name := "parameters", desc := "(LPascalHouse$Tree;LPascalHouse$Routine;)V" } : Jvm.MethodName)) ∈ lw_all := lw_g (lw_at lw_m9 143 rfl) rfl
set_option maxRecDepth 100000 in
theorem q2441 : (Jvm.Cond.instanceMethod ({ cls := "PascalHouse$Compiler", name := "parameters", desc := "(LPascalHouse$Tree;LPascalHouse$Routine;)V" } : Jvm.MethodName)) ∈ lw_all := lw_g (lw_at lw_m9 145 rfl) rfl
set_option maxRecDepth 100000 in
theorem q2442 : (Jvm.Cond.code ({ cls := "PascalHouse$Compiler", name := "parameters", desc := "(LPascalHouse$Tree;LPascalHouse$Routine;)V" } : Jvm.MethodName) prog_4_method_34_code (8 : Nat) (Option.none : Option Jvm.ClassFile.FieldType)) ∈ lw_all := lw_g (lw_at lw_m9 146 rfl) rfl
set_option maxRecDepth 100000 in
theorem q2443 : (Jvm.Cond.methodLink "PascalHouse$Compiler" (546 : Nat) ({ cls := "PascalHouse$Compiler", name := "formal", desc := "(LPascalHouse$Tree;LPascalHouse$Routine;)V" } : Jvm.MethodName)) ∈ lw_all := lw_g (lw_at lw_m9 147 rfl) rfl
set_option maxRecDepth 100000 in
theorem q2445 : (Jvm.Cond.instanceMethod ({ cls := "PascalHouse$Compiler", name := "formal", desc := "(LPascalHouse$Tree;LPascalHouse$Routine;)V" } : Jvm.MethodName)) ∈ lw_all := lw_g (lw_at lw_m9 149 rfl) rfl
set_option maxRecDepth 100000 in
theorem q2446 : (Jvm.Cond.code ({ cls := "PascalHouse$Compiler", name := "formal", desc := "(LPascalHouse$Tree;LPascalHouse$Routine;)V" } : Jvm.MethodName) prog_4_method_36_code (6 : Nat) (Option.none : Option Jvm.ClassFile.FieldType)) ∈ lw_all := lw_g (lw_at lw_m9 150 rfl) rfl
set_option maxRecDepth 100000 in
theorem q2447 : (Jvm.Cond.methodLink "PascalHouse$Compiler" (535 : Nat) ({ cls := "PascalHouse$Compiler", name := "result", desc := "(LPascalHouse$Tree;)LPascalHouse$Type;" } : Jvm.MethodName)) ∈ lw_all := lw_g (lw_at lw_m9 151 rfl) rfl
set_option maxRecDepth 100000 in
theorem q2449 : (Jvm.Cond.instanceMethod ({ cls := "PascalHouse$Compiler", name := "result", desc := "(LPascalHouse$Tree;)LPascalHouse$Type;" } : Jvm.MethodName)) ∈ lw_all := lw_g (lw_at lw_m9 153 rfl) rfl
set_option maxRecDepth 100000 in
theorem q2450 : (Jvm.Cond.code ({ cls := "PascalHouse$Compiler", name := "result", desc := "(LPascalHouse$Tree;)LPascalHouse$Type;" } : Jvm.MethodName) prog_4_method_33_code (3 : Nat) (Option.some (Jvm.ClassFile.FieldType.object "PascalHouse$Type"))) ∈ lw_all := lw_g (lw_at lw_m9 154 rfl) rfl
set_option maxRecDepth 100000 in
theorem q2451 : (Jvm.Cond.methodLink "PascalHouse$Compiler" (543 : Nat) ({ cls := "PascalHouse$Type", name := "isSimple", desc := "()Z" } : Jvm.MethodName)) ∈ lw_all := lw_g (lw_at lw_m9 155 rfl) rfl
set_option maxRecDepth 100000 in
theorem q2452 : (Jvm.Cond.instanceMethod ({ cls := "PascalHouse$Type", name := "isSimple", desc := "()Z" } : Jvm.MethodName)) ∈ lw_all := lw_g (lw_at lw_m9 156 rfl) rfl
set_option maxRecDepth 100000 in
theorem q2453 : (Jvm.Cond.selects "PascalHouse$Type" ({ cls := "PascalHouse$Type", name := "isSimple", desc := "()Z" } : Jvm.MethodName) ({ cls := "PascalHouse$Type", name := "isSimple", desc := "()Z" } : Jvm.MethodName)) ∈ lw_all := lw_g (lw_at lw_m9 157 rfl) rfl
set_option maxRecDepth 100000 in
theorem q2454 : (Jvm.Cond.code ({ cls := "PascalHouse$Type", name := "isSimple", desc := "()Z" } : Jvm.MethodName) prog_22_method_6_code (1 : Nat) (Option.some Jvm.ClassFile.FieldType.boolean)) ∈ lw_all := lw_g (lw_at lw_m9 158 rfl) rfl
set_option maxRecDepth 100000 in
theorem q2455 : (Jvm.Cond.classLink "PascalHouse$Compiler" (548 : Nat) "PascalHouse$Parameter") ∈ lw_all := lw_g (lw_at lw_m9 159 rfl) rfl
set_option maxRecDepth 100000 in
theorem q2456 : (Jvm.Cond.instantiable "PascalHouse$Parameter" (5 : Nat)) ∈ lw_all := lw_g (lw_at lw_m9 160 rfl) rfl
set_option maxRecDepth 100000 in
theorem q2457 : (Jvm.Cond.methodLink "PascalHouse$Compiler" (550 : Nat) ({ cls := "PascalHouse$Parameter", name := "<init>", desc := "(ILPascalHouse$Type;LPascalHouse$Routine;)V" } : Jvm.MethodName)) ∈ lw_all := lw_g (lw_at lw_m9 161 rfl) rfl
set_option maxRecDepth 100000 in
theorem q2458 : (Jvm.Cond.instanceMethod ({ cls := "PascalHouse$Parameter", name := "<init>", desc := "(ILPascalHouse$Type;LPascalHouse$Routine;)V" } : Jvm.MethodName)) ∈ lw_all := lw_g (lw_at lw_m9 162 rfl) rfl
set_option maxRecDepth 100000 in
theorem q2459 : (Jvm.Cond.code ({ cls := "PascalHouse$Parameter", name := "<init>", desc := "(ILPascalHouse$Type;LPascalHouse$Routine;)V" } : Jvm.MethodName) prog_13_method_1_code (4 : Nat) (Option.none : Option Jvm.ClassFile.FieldType)) ∈ lw_all := lw_g (lw_at lw_m9 163 rfl) rfl
set_option maxRecDepth 100000 in
theorem q2460 : (Jvm.Cond.methodLink "PascalHouse$Parameter" (1 : Nat) ({ cls := "java/lang/Object", name := "<init>", desc := "()V" } : Jvm.MethodName)) ∈ lw_all := lw_g (lw_at lw_m9 164 rfl) rfl
set_option maxRecDepth 100000 in
theorem q2461 : (Jvm.Cond.fieldLink "PascalHouse$Parameter" (7 : Nat) "PascalHouse$Parameter" "sort" "I") ∈ lw_all := lw_g (lw_at lw_m9 165 rfl) rfl
set_option maxRecDepth 100000 in
theorem q2462 : (Jvm.Cond.fieldLinkNest "PascalHouse$Routine" (52 : Nat) "PascalHouse$Parameter" "sort" "I" "PascalHouse") ∈ lw_tbl := lw_at lw_m9 166 rfl
set_option maxRecDepth 100000 in
theorem q2463 : (Jvm.Cond.fieldLinkNest "PascalHouse$Machine" (378 : Nat) "PascalHouse$Parameter" "sort" "I" "PascalHouse") ∈ lw_tbl := lw_at lw_m9 167 rfl
set_option maxRecDepth 100000 in
theorem q2464 : (Jvm.Cond.fieldLinkNest "PascalHouse$Compiler" (744 : Nat) "PascalHouse$Parameter" "sort" "I" "PascalHouse") ∈ lw_tbl := lw_at lw_m9 168 rfl
set_option maxRecDepth 100000 in
theorem q2465 : (Jvm.Cond.fieldLink "PascalHouse$Parameter" (13 : Nat) "PascalHouse$Parameter" "type" "LPascalHouse$Type;") ∈ lw_all := lw_g (lw_at lw_m9 169 rfl) rfl
set_option maxRecDepth 100000 in
theorem q2466 : (Jvm.Cond.fieldLinkNest "PascalHouse$Routine" (55 : Nat) "PascalHouse$Parameter" "type" "LPascalHouse$Type;" "PascalHouse") ∈ lw_tbl := lw_at lw_m9 170 rfl
set_option maxRecDepth 100000 in
theorem q2467 : (Jvm.Cond.fieldLinkNest "PascalHouse$Machine" (381 : Nat) "PascalHouse$Parameter" "type" "LPascalHouse$Type;" "PascalHouse") ∈ lw_tbl := lw_at lw_m9 171 rfl
set_option maxRecDepth 100000 in
theorem q2468 : (Jvm.Cond.fieldLinkNest "PascalHouse$Compiler" (746 : Nat) "PascalHouse$Parameter" "type" "LPascalHouse$Type;" "PascalHouse") ∈ lw_tbl := lw_at lw_m9 172 rfl
set_option maxRecDepth 100000 in
theorem q2469 : (Jvm.Cond.fieldLink "PascalHouse$Parameter" (17 : Nat) "PascalHouse$Parameter" "shape" "LPascalHouse$Routine;") ∈ lw_all := lw_g (lw_at lw_m9 173 rfl) rfl
set_option maxRecDepth 100000 in
theorem q2470 : (Jvm.Cond.fieldLinkNest "PascalHouse$Routine" (58 : Nat) "PascalHouse$Parameter" "shape" "LPascalHouse$Routine;" "PascalHouse") ∈ lw_tbl := lw_at lw_m9 174 rfl
set_option maxRecDepth 100000 in
theorem q2471 : (Jvm.Cond.fieldLinkNest "PascalHouse$Compiler" (747 : Nat) "PascalHouse$Parameter" "shape" "LPascalHouse$Routine;" "PascalHouse") ∈ lw_tbl := lw_at lw_m9 175 rfl
set_option maxRecDepth 100000 in
theorem q2472 : (Jvm.Cond.fieldLinkNest "PascalHouse$Compiler" (562 : Nat) "PascalHouse$Parameter" "item" "LPascalHouse$Item;" "PascalHouse") ∈ lw_tbl := lw_at lw_m9 176 rfl
set_option maxRecDepth 100000 in
theorem q2473 : (Jvm.Cond.fieldLinkNest "PascalHouse$Machine" (377 : Nat) "PascalHouse$Parameter" "at" "I" "PascalHouse") ∈ lw_tbl := lw_at lw_m9 177 rfl
set_option maxRecDepth 100000 in
theorem q2474 : (Jvm.Cond.fieldLinkNest "PascalHouse$Compiler" (565 : Nat) "PascalHouse$Parameter" "at" "I" "PascalHouse") ∈ lw_tbl := lw_at lw_m9 178 rfl
set_option maxRecDepth 100000 in
theorem q2486 : (Jvm.Cond.methodLink "PascalHouse$Compiler" (556 : Nat) ({ cls := "PascalHouse$Compiler", name := "parameter", desc := "(LPascalHouse$Routine;LPascalHouse$Parameter;LPascalHouse$Item;LPascalHouse$Tree;I)V" } : Jvm.MethodName)) ∈ lw_all := lw_g (lw_at lw_m9 190 rfl) rfl
set_option maxRecDepth 100000 in
theorem q2488 : (Jvm.Cond.instanceMethod ({ cls := "PascalHouse$Compiler", name := "parameter", desc := "(LPascalHouse$Routine;LPascalHouse$Parameter;LPascalHouse$Item;LPascalHouse$Tree;I)V" } : Jvm.MethodName)) ∈ lw_all := lw_g (lw_at lw_m9 192 rfl) rfl
set_option maxRecDepth 100000 in
theorem q2489 : (Jvm.Cond.code ({ cls := "PascalHouse$Compiler", name := "parameter", desc := "(LPascalHouse$Routine;LPascalHouse$Parameter;LPascalHouse$Item;LPascalHouse$Tree;I)V" } : Jvm.MethodName) prog_4_method_35_code (6 : Nat) (Option.none : Option Jvm.ClassFile.FieldType)) ∈ lw_all := lw_g (lw_at lw_m9 193 rfl) rfl
set_option maxRecDepth 100000 in
theorem q2490 : (Jvm.Cond.methodLink "PascalHouse$Compiler" (502 : Nat) ({ cls := "PascalHouse$Compiler", name := "statement", desc := "(LPascalHouse$Tree;Z)V" } : Jvm.MethodName)) ∈ lw_all := lw_g (lw_at lw_m9 194 rfl) rfl
set_option maxRecDepth 100000 in
theorem q2492 : (Jvm.Cond.instanceMethod ({ cls := "PascalHouse$Compiler", name := "statement", desc := "(LPascalHouse$Tree;Z)V" } : Jvm.MethodName)) ∈ lw_all := lw_g (lw_at lw_m9 196 rfl) rfl
set_option maxRecDepth 100000 in
theorem q2493 : (Jvm.Cond.code ({ cls := "PascalHouse$Compiler", name := "statement", desc := "(LPascalHouse$Tree;Z)V" } : Jvm.MethodName) prog_4_method_41_code (3 : Nat) (Option.none : Option Jvm.ClassFile.FieldType)) ∈ lw_all := lw_g (lw_at lw_m9 197 rfl) rfl
set_option maxRecDepth 100000 in
theorem q2494 : (Jvm.Cond.methodLink "PascalHouse$Compiler" (506 : Nat) ({ cls := "PascalHouse$Code", name := "put", desc := "(IIIII)I" } : Jvm.MethodName)) ∈ lw_all := lw_g (lw_at lw_m9 198 rfl) rfl
set_option maxRecDepth 100000 in
theorem q2495 : (Jvm.Cond.instanceMethod ({ cls := "PascalHouse$Code", name := "put", desc := "(IIIII)I" } : Jvm.MethodName)) ∈ lw_all := lw_g (lw_at lw_m9 199 rfl) rfl
set_option maxRecDepth 100000 in
theorem q2496 : (Jvm.Cond.selects "PascalHouse$Code" ({ cls := "PascalHouse$Code", name := "put", desc := "(IIIII)I" } : Jvm.MethodName) ({ cls := "PascalHouse$Code", name := "put", desc := "(IIIII)I" } : Jvm.MethodName)) ∈ lw_all := lw_g (lw_at lw_m9 200 rfl) rfl
set_option maxRecDepth 100000 in
theorem q2497 : (Jvm.Cond.code ({ cls := "PascalHouse$Code", name := "put", desc := "(IIIII)I" } : Jvm.MethodName) prog_3_method_4_code (6 : Nat) (Option.some Jvm.ClassFile.FieldType.int)) ∈ lw_all := lw_g (lw_at lw_m9 201 rfl) rfl
set_option maxRecDepth 100000 in
theorem q2498 : (Jvm.Cond.methodLink "PascalHouse$Compiler" (611 : Nat) ({ cls := "PascalHouse$Compiler", name := "row", desc := "(LPascalHouse$Tree;Z)V" } : Jvm.MethodName)) ∈ lw_all := lw_g (lw_at lw_m9 202 rfl) rfl
set_option maxRecDepth 100000 in
theorem q2500 : (Jvm.Cond.instanceMethod ({ cls := "PascalHouse$Compiler", name := "row", desc := "(LPascalHouse$Tree;Z)V" } : Jvm.MethodName)) ∈ lw_all := lw_g (lw_at lw_m9 204 rfl) rfl
set_option maxRecDepth 100000 in
theorem q2501 : (Jvm.Cond.code ({ cls := "PascalHouse$Compiler", name := "row", desc := "(LPascalHouse$Tree;Z)V" } : Jvm.MethodName) prog_4_method_39_code (5 : Nat) (Option.none : Option Jvm.ClassFile.FieldType)) ∈ lw_all := lw_g (lw_at lw_m9 205 rfl) rfl
set_option maxRecDepth 100000 in
theorem q2502 : (Jvm.Cond.methodLink "PascalHouse$Compiler" (607 : Nat) ({ cls := "PascalHouse$Compiler", name := "statementIn", desc := "(LPascalHouse$Tree;I)V" } : Jvm.MethodName)) ∈ lw_all := lw_g (lw_at lw_m9 206 rfl) rfl
set_option maxRecDepth 100000 in
theorem q2504 : (Jvm.Cond.instanceMethod ({ cls := "PascalHouse$Compiler", name := "statementIn", desc := "(LPascalHouse$Tree;I)V" } : Jvm.MethodName)) ∈ lw_all := lw_g (lw_at lw_m9 208 rfl) rfl
set_option maxRecDepth 100000 in
theorem q2505 : (Jvm.Cond.code ({ cls := "PascalHouse$Compiler", name := "statementIn", desc := "(LPascalHouse$Tree;I)V" } : Jvm.MethodName) prog_4_method_42_code (4 : Nat) (Option.none : Option Jvm.ClassFile.FieldType)) ∈ lw_all := lw_g (lw_at lw_m9 209 rfl) rfl
set_option maxRecDepth 100000 in
theorem q2506 : (Jvm.Cond.methodLink "PascalHouse$Compiler" (613 : Nat) ({ cls := "PascalHouse$Compiler", name := "plain", desc := "(LPascalHouse$Tree;)V" } : Jvm.MethodName)) ∈ lw_all := lw_g (lw_at lw_m9 210 rfl) rfl
set_option maxRecDepth 100000 in
theorem q2508 : (Jvm.Cond.instanceMethod ({ cls := "PascalHouse$Compiler", name := "plain", desc := "(LPascalHouse$Tree;)V" } : Jvm.MethodName)) ∈ lw_all := lw_g (lw_at lw_m9 212 rfl) rfl
set_option maxRecDepth 100000 in
theorem q2509 : (Jvm.Cond.code ({ cls := "PascalHouse$Compiler", name := "plain", desc := "(LPascalHouse$Tree;)V" } : Jvm.MethodName) prog_4_method_44_code (3 : Nat) (Option.none : Option Jvm.ClassFile.FieldType)) ∈ lw_all := lw_g (lw_at lw_m9 213 rfl) rfl
set_option maxRecDepth 100000 in
theorem q2510 : (Jvm.Cond.methodLink "PascalHouse$Compiler" (624 : Nat) ({ cls := "PascalHouse$Compiler", name := "firstOf", desc := "(LPascalHouse$Tree;)I" } : Jvm.MethodName)) ∈ lw_all := lw_g (lw_at lw_m9 214 rfl) rfl
set_option maxRecDepth 100000 in
theorem q2512 : (Jvm.Cond.instanceMethod ({ cls := "PascalHouse$Compiler", name := "firstOf", desc := "(LPascalHouse$Tree;)I" } : Jvm.MethodName)) ∈ lw_all := lw_g (lw_at lw_m9 216 rfl) rfl
set_option maxRecDepth 100000 in
theorem q2513 : (Jvm.Cond.code ({ cls := "PascalHouse$Compiler", name := "firstOf", desc := "(LPascalHouse$Tree;)I" } : Jvm.MethodName) prog_4_method_40_code (3 : Nat) (Option.some Jvm.ClassFile.FieldType.int)) ∈ lw_all := lw_g (lw_at lw_m9 217 rfl) rfl
set_option maxRecDepth 100000 in
theorem q2514 : (Jvm.Cond.methodLink "PascalHouse$Compiler" (627 : Nat) ({ cls := "PascalHouse$Compiler", name := "branch", desc := "(LPascalHouse$Tree;)V" } : Jvm.MethodName)) ∈ lw_all := lw_g (lw_at lw_m9 218 rfl) rfl
set_option maxRecDepth 100000 in
theorem q2516 : (Jvm.Cond.instanceMethod ({ cls := "PascalHouse$Compiler", name := "branch", desc := "(LPascalHouse$Tree;)V" } : Jvm.MethodName)) ∈ lw_all := lw_g (lw_at lw_m9 220 rfl) rfl
set_option maxRecDepth 100000 in
theorem q2517 : (Jvm.Cond.code ({ cls := "PascalHouse$Compiler", name := "branch", desc := "(LPascalHouse$Tree;)V" } : Jvm.MethodName) prog_4_method_46_code (4 : Nat) (Option.none : Option Jvm.ClassFile.FieldType)) ∈ lw_all := lw_g (lw_at lw_m9 221 rfl) rfl
set_option maxRecDepth 100000 in
theorem q2518 : (Jvm.Cond.methodLink "PascalHouse$Compiler" (636 : Nat) ({ cls := "PascalHouse$Compiler", name := "truth", desc := "(LPascalHouse$Tree;)V" } : Jvm.MethodName)) ∈ lw_all := lw_g (lw_at lw_m9 222 rfl) rfl
set_option maxRecDepth 100000 in
theorem q2520 : (Jvm.Cond.instanceMethod ({ cls := "PascalHouse$Compiler", name := "truth", desc := "(LPascalHouse$Tree;)V" } : Jvm.MethodName)) ∈ lw_all := lw_g (lw_at lw_m9 224 rfl) rfl
set_option maxRecDepth 100000 in
theorem q2521 : (Jvm.Cond.code ({ cls := "PascalHouse$Compiler", name := "truth", desc := "(LPascalHouse$Tree;)V" } : Jvm.MethodName) prog_4_method_45_code (2 : Nat) (Option.none : Option Jvm.ClassFile.FieldType)) ∈ lw_all := lw_g (lw_at lw_m9 225 rfl) rfl
set_option maxRecDepth 100000 in
theorem q2522 : (Jvm.Cond.methodLink "PascalHouse$Compiler" (654 : Nat) ({ cls := "PascalHouse$Compiler", name := "expression", desc := "(LPascalHouse$Tree;)LPascalHouse$Type;" } : Jvm.MethodName)) ∈ lw_all := lw_g (lw_at lw_m9 226 rfl) rfl
set_option maxRecDepth 100000 in
theorem q2524 : (Jvm.Cond.instanceMethod ({ cls := "PascalHouse$Compiler", name := "expression", desc := "(LPascalHouse$Tree;)LPascalHouse$Type;" } : Jvm.MethodName)) ∈ lw_all := lw_g (lw_at lw_m9 228 rfl) rfl
set_option maxRecDepth 100000 in
theorem q2525 : (Jvm.Cond.code ({ cls := "PascalHouse$Compiler", name := "expression", desc := "(LPascalHouse$Tree;)LPascalHouse$Type;" } : Jvm.MethodName) prog_4_method_74_code (2 : Nat) (Option.some (Jvm.ClassFile.FieldType.object "PascalHouse$Type"))) ∈ lw_all := lw_g (lw_at lw_m9 229 rfl) rfl
set_option maxRecDepth 100000 in
theorem q2526 : (Jvm.Cond.methodLink "PascalHouse$Compiler" (796 : Nat) ({ cls := "PascalHouse$Code", name := "real", desc := "(D)I" } : Jvm.MethodName)) ∈ lw_all := lw_g (lw_at lw_m9 230 rfl) rfl
set_option maxRecDepth 100000 in
theorem q2527 : (Jvm.Cond.instanceMethod ({ cls := "PascalHouse$Code", name := "real", desc := "(D)I" } : Jvm.MethodName)) ∈ lw_all := lw_g (lw_at lw_m9 231 rfl) rfl
set_option maxRecDepth 100000 in
theorem q2528 : (Jvm.Cond.selects "PascalHouse$Code" ({ cls := "PascalHouse$Code", name := "real", desc := "(D)I" } : Jvm.MethodName) ({ cls := "PascalHouse$Code", name := "real", desc := "(D)I" } : Jvm.MethodName)) ∈ lw_all := lw_g (lw_at lw_m9 232 rfl) rfl
set_option maxRecDepth 100000 in
theorem q2529 : (Jvm.Cond.code ({ cls := "PascalHouse$Code", name := "real", desc := "(D)I" } : Jvm.MethodName) prog_3_method_5_code (5 : Nat) (Option.some Jvm.ClassFile.FieldType.int)) ∈ lw_all := lw_g (lw_at lw_m9 233 rfl) rfl
set_option maxRecDepth 100000 in
theorem q2530 : (Jvm.Cond.methodLink "PascalHouse$Compiler" (799 : Nat) ({ cls := "PascalHouse$Compiler", name := "string", desc := "(Ljava/lang/String;)LPascalHouse$Type;" } : Jvm.MethodName)) ∈ lw_all := lw_g (lw_at lw_m9 234 rfl) rfl
set_option maxRecDepth 100000 in
theorem q2532 : (Jvm.Cond.instanceMethod ({ cls := "PascalHouse$Compiler", name := "string", desc := "(Ljava/lang/String;)LPascalHouse$Type;" } : Jvm.MethodName)) ∈ lw_all := lw_g (lw_at lw_m9 236 rfl) rfl
set_option maxRecDepth 100000 in
theorem q2533 : (Jvm.Cond.code ({ cls := "PascalHouse$Compiler", name := "string", desc := "(Ljava/lang/String;)LPascalHouse$Type;" } : Jvm.MethodName) prog_4_method_75_code (2 : Nat) (Option.some (Jvm.ClassFile.FieldType.object "PascalHouse$Type"))) ∈ lw_all := lw_g (lw_at lw_m9 237 rfl) rfl
set_option maxRecDepth 100000 in
theorem q2534 : (Jvm.Cond.methodLink "PascalHouse$Compiler" (802 : Nat) ({ cls := "PascalHouse$Compiler", name := "made", desc := "(LPascalHouse$Tree;)LPascalHouse$Type;" } : Jvm.MethodName)) ∈ lw_all := lw_g (lw_at lw_m9 238 rfl) rfl
set_option maxRecDepth 100000 in
theorem q2536 : (Jvm.Cond.instanceMethod ({ cls := "PascalHouse$Compiler", name := "made", desc := "(LPascalHouse$Tree;)LPascalHouse$Type;" } : Jvm.MethodName)) ∈ lw_all := lw_g (lw_at lw_m10 0 rfl) rfl
set_option maxRecDepth 100000 in
theorem q2537 : (Jvm.Cond.code ({ cls := "PascalHouse$Compiler", name := "made", desc := "(LPascalHouse$Tree;)LPascalHouse$Type;" } : Jvm.MethodName) prog_4_method_80_code (5 : Nat) (Option.some (Jvm.ClassFile.FieldType.object "PascalHouse$Type"))) ∈ lw_all := lw_g (lw_at lw_m10 1 rfl) rfl
set_option maxRecDepth 100000 in
theorem q2538 : (Jvm.Cond.methodLink "PascalHouse$Compiler" (827 : Nat) ({ cls := "PascalHouse$Compiler", name := "part", desc := "(LPascalHouse$Tree;LPascalHouse$Type;)LPascalHouse$Type;" } : Jvm.MethodName)) ∈ lw_all := lw_g (lw_at lw_m10 2 rfl) rfl
set_option maxRecDepth 100000 in
theorem q2540 : (Jvm.Cond.instanceMethod ({ cls := "PascalHouse$Compiler", name := "part", desc := "(LPascalHouse$Tree;LPascalHouse$Type;)LPascalHouse$Type;" } : Jvm.MethodName)) ∈ lw_all := lw_g (lw_at lw_m10 4 rfl) rfl
set_option maxRecDepth 100000 in
theorem q2541 : (Jvm.Cond.code ({ cls := "PascalHouse$Compiler", name := "part", desc := "(LPascalHouse$Tree;LPascalHouse$Type;)LPascalHouse$Type;" } : Jvm.MethodName) prog_4_method_81_code (4 : Nat) (Option.some (Jvm.ClassFile.FieldType.object "PascalHouse$Type"))) ∈ lw_all := lw_g (lw_at lw_m10 5 rfl) rfl
set_option maxRecDepth 100000 in
theorem q2542 : (Jvm.Cond.methodLink "PascalHouse$Compiler" (830 : Nat) ({ cls := "PascalHouse$Type", name := "setOf", desc := "()LPascalHouse$Type;" } : Jvm.MethodName)) ∈ lw_all := lw_g (lw_at lw_m10 6 rfl) rfl
set_option maxRecDepth 100000 in
theorem q2543 : (Jvm.Cond.instanceMethod ({ cls := "PascalHouse$Type", name := "setOf", desc := "()LPascalHouse$Type;" } : Jvm.MethodName)) ∈ lw_all := lw_g (lw_at lw_m10 7 rfl) rfl
set_option maxRecDepth 100000 in
theorem q2544 : (Jvm.Cond.selects "PascalHouse$Type" ({ cls := "PascalHouse$Type", name := "setOf", desc := "()LPascalHouse$Type;" } : Jvm.MethodName) ({ cls := "PascalHouse$Type", name := "setOf", desc := "()LPascalHouse$Type;" } : Jvm.MethodName)) ∈ lw_all := lw_g (lw_at lw_m10 8 rfl) rfl
set_option maxRecDepth 100000 in
theorem q2545 : (Jvm.Cond.code ({ cls := "PascalHouse$Type", name := "setOf", desc := "()LPascalHouse$Type;" } : Jvm.MethodName) prog_22_method_14_code (1 : Nat) (Option.some (Jvm.ClassFile.FieldType.object "PascalHouse$Type"))) ∈ lw_all := lw_g (lw_at lw_m10 9 rfl) rfl
set_option maxRecDepth 100000 in
theorem q2546 : (Jvm.Cond.classLink "PascalHouse$Type" (10 : Nat) "PascalHouse$Type") ∈ lw_all := lw_g (lw_at lw_m10 10 rfl) rfl
set_option maxRecDepth 100000 in
theorem q2547 : (Jvm.Cond.methodLink "PascalHouse$Type" (70 : Nat) ({ cls := "PascalHouse$Type", name := "<init>", desc := "(I)V" } : Jvm.MethodName)) ∈ lw_all := lw_g (lw_at lw_m10 11 rfl) rfl
set_option maxRecDepth 100000 in
theorem q2548 : (Jvm.Cond.methodLink "PascalHouse$Type" (71 : Nat) ({ cls := "PascalHouse$Type", name := "of", desc := "(LPascalHouse$Type;)LPascalHouse$Type;" } : Jvm.MethodName)) ∈ lw_all := lw_g (lw_at lw_m10 12 rfl) rfl
set_option maxRecDepth 100000 in
theorem q2549 : (Jvm.Cond.methodLink "PascalHouse$Compiler" (805 : Nat) ({ cls := "PascalHouse$Compiler", name := "applied", desc := "(LPascalHouse$Tree;)LPascalHouse$Type;" } : Jvm.MethodName)) ∈ lw_all := lw_g (lw_at lw_m10 13 rfl) rfl
set_option maxRecDepth 100000 in
theorem q2551 : (Jvm.Cond.instanceMethod ({ cls := "PascalHouse$Compiler", name := "applied", desc := "(LPascalHouse$Tree;)LPascalHouse$Type;" } : Jvm.MethodName)) ∈ lw_all := lw_g (lw_at lw_m10 15 rfl) rfl
set_option maxRecDepth 100000 in
theorem q2552 : (Jvm.Cond.code ({ cls := "PascalHouse$Compiler", name := "applied", desc := "(LPascalHouse$Tree;)LPascalHouse$Type;" } : Jvm.MethodName) prog_4_method_77_code (3 : Nat) (Option.some (Jvm.ClassFile.FieldType.object "PascalHouse$Type"))) ∈ lw_all := lw_g (lw_at lw_m10 16 rfl) rfl
set_option maxRecDepth 100000 in
theorem q2553 : (Jvm.Cond.methodLink "PascalHouse$Compiler" (820 : Nat) ({ cls := "PascalHouse$Compiler", name := "function", desc := "(LPascalHouse$Item;LPascalHouse$Tree;II)LPascalHouse$Type;" } : Jvm.MethodName)) ∈ lw_all := lw_g (lw_at lw_m10 17 rfl) rfl
set_option maxRecDepth 100000 in
theorem q2555 : (Jvm.Cond.instanceMethod ({ cls := "PascalHouse$Compiler", name := "function", desc := "(LPascalHouse$Item;LPascalHouse$Tree;II)LPascalHouse$Type;" } : Jvm.MethodName)) ∈ lw_all := lw_g (lw_at lw_m10 19 rfl) rfl
set_option maxRecDepth 100000 in
theorem q2556 : (Jvm.Cond.code ({ cls := "PascalHouse$Compiler", name := "function", desc := "(LPascalHouse$Item;LPascalHouse$Tree;II)LPascalHouse$Type;" } : Jvm.MethodName) prog_4_method_78_code (9 : Nat) (Option.some (Jvm.ClassFile.FieldType.object "PascalHouse$Type"))) ∈ lw_all := lw_g (lw_at lw_m10 20 rfl) rfl
set_option maxRecDepth 100000 in
theorem q2557 : (Jvm.Cond.methodLink "PascalHouse$Compiler" (754 : Nat) ({ cls := "PascalHouse$Compiler", name := "call", desc := "(LPascalHouse$Routine;LPascalHouse$Tree;II)V" } : Jvm.MethodName)) ∈ lw_all := lw_g (lw_at lw_m10 21 rfl) rfl
set_option maxRecDepth 100000 in
theorem q2559 : (Jvm.Cond.instanceMethod ({ cls := "PascalHouse$Compiler", name := "call", desc := "(LPascalHouse$Routine;LPascalHouse$Tree;II)V" } : Jvm.MethodName)) ∈ lw_all := lw_g (lw_at lw_m10 23 rfl) rfl
set_option maxRecDepth 100000 in
theorem q2560 : (Jvm.Cond.code ({ cls := "PascalHouse$Compiler", name := "call", desc := "(LPascalHouse$Routine;LPascalHouse$Tree;II)V" } : Jvm.MethodName) prog_4_method_64_code (8 : Nat) (Option.none : Option Jvm.ClassFile.FieldType)) ∈ lw_all := lw_g (lw_at lw_m10 24 rfl) rfl
set_option maxRecDepth 100000 in
theorem q2561 : (Jvm.Cond.methodLink "PascalHouse$Compiler" (740 : Nat) ({ cls := "PascalHouse$Compiler", name := "argument", desc := "(LPascalHouse$Parameter;LPascalHouse$Tree;)V" } : Jvm.MethodName)) ∈ lw_all := lw_g (lw_at lw_m10 25 rfl) rfl
set_option maxRecDepth 100000 in
theorem q2563 : (Jvm.Cond.instanceMethod ({ cls := "PascalHouse$Compiler", name := "argument", desc := "(LPascalHouse$Parameter;LPascalHouse$Tree;)V" } : Jvm.MethodName)) ∈ lw_all := lw_g (lw_at lw_m10 27 rfl) rfl
set_option maxRecDepth 100000 in
theorem q2564 : (Jvm.Cond.code ({ cls := "PascalHouse$Compiler", name := "argument", desc := "(LPascalHouse$Parameter;LPascalHouse$Tree;)V" } : Jvm.MethodName) prog_4_method_65_code (4 : Nat) (Option.none : Option Jvm.ClassFile.FieldType)) ∈ lw_all := lw_g (lw_at lw_m10 28 rfl) rfl
set_option maxRecDepth 100000 in
theorem q2565 : (Jvm.Cond.methodLink "PascalHouse$Compiler" (678 : Nat) ({ cls := "PascalHouse$Type", name := "takes", desc := "(LPascalHouse$Type;)Z" } : Jvm.MethodName)) ∈ lw_all := lw_g (lw_at lw_m10 29 rfl) rfl
set_option maxRecDepth 100000 in
theorem q2566 : (Jvm.Cond.instanceMethod ({ cls := "PascalHouse$Type", name := "takes", desc := "(LPascalHouse$Type;)Z" } : Jvm.MethodName)) ∈ lw_all := lw_g (lw_at lw_m10 30 rfl) rfl
set_option maxRecDepth 100000 in
theorem q2567 : (Jvm.Cond.selects "PascalHouse$Type" ({ cls := "PascalHouse$Type", name := "takes", desc := "(LPascalHouse$Type;)Z" } : Jvm.MethodName) ({ cls := "PascalHouse$Type", name := "takes", desc := "(LPascalHouse$Type;)Z" } : Jvm.MethodName)) ∈ lw_all := lw_g (lw_at lw_m10 31 rfl) rfl
set_option maxRecDepth 100000 in
theorem q2568 : (Jvm.Cond.code ({ cls := "PascalHouse$Type", name := "takes", desc := "(LPascalHouse$Type;)Z" } : Jvm.MethodName) prog_22_method_16_code (2 : Nat) (Option.some Jvm.ClassFile.FieldType.boolean)) ∈ lw_all := lw_g (lw_at lw_m10 32 rfl) rfl
set_option maxRecDepth 100000 in
theorem q2569 : (Jvm.Cond.methodLink "PascalHouse$Type" (88 : Nat) ({ cls := "PascalHouse$Type", name := "isLike", desc := "(LPascalHouse$Type;)Z" } : Jvm.MethodName)) ∈ lw_all := lw_g (lw_at lw_m10 33 rfl) rfl
set_option maxRecDepth 100000 in
theorem q2570 : (Jvm.Cond.instanceMethod ({ cls := "PascalHouse$Type", name := "isLike", desc := "(LPascalHouse$Type;)Z" } : Jvm.MethodName)) ∈ lw_all := lw_g (lw_at lw_m10 34 rfl) rfl
set_option maxRecDepth 100000 in
theorem q2571 : (Jvm.Cond.selects "PascalHouse$Type" ({ cls := "PascalHouse$Type", name := "isLike", desc := "(LPascalHouse$Type;)Z" } : Jvm.MethodName) ({ cls := "PascalHouse$Type", name := "isLike", desc := "(LPascalHouse$Type;)Z" } : Jvm.MethodName)) ∈ lw_all := lw_g (lw_at lw_m10 35 rfl) rfl
set_option maxRecDepth 100000 in
theorem q2572 : (Jvm.Cond.code ({ cls := "PascalHouse$Type", name := "isLike", desc := "(LPascalHouse$Type;)Z" } : Jvm.MethodName) prog_22_method_15_code (2 : Nat) (Option.some Jvm.ClassFile.FieldType.boolean)) ∈ lw_all := lw_g (lw_at lw_m10 36 rfl) rfl
set_option maxRecDepth 100000 in
theorem q2573 : (Jvm.Cond.methodLink "PascalHouse$Type" (75 : Nat) ({ cls := "PascalHouse$Type", name := "isPointer", desc := "()Z" } : Jvm.MethodName)) ∈ lw_all := lw_g (lw_at lw_m10 37 rfl) rfl
set_option maxRecDepth 100000 in
theorem q2574 : (Jvm.Cond.instanceMethod ({ cls := "PascalHouse$Type", name := "isPointer", desc := "()Z" } : Jvm.MethodName)) ∈ lw_all := lw_g (lw_at lw_m10 38 rfl) rfl
set_option maxRecDepth 100000 in
theorem q2575 : (Jvm.Cond.selects "PascalHouse$Type" ({ cls := "PascalHouse$Type", name := "isPointer", desc := "()Z" } : Jvm.MethodName) ({ cls := "PascalHouse$Type", name := "isPointer", desc := "()Z" } : Jvm.MethodName)) ∈ lw_all := lw_g (lw_at lw_m10 39 rfl) rfl
set_option maxRecDepth 100000 in
theorem q2576 : (Jvm.Cond.code ({ cls := "PascalHouse$Type", name := "isPointer", desc := "()Z" } : Jvm.MethodName) prog_22_method_9_code (1 : Nat) (Option.some Jvm.ClassFile.FieldType.boolean)) ∈ lw_all := lw_g (lw_at lw_m10 40 rfl) rfl
set_option maxRecDepth 100000 in
theorem q2577 : (Jvm.Cond.methodLink "PascalHouse$Type" (79 : Nat) ({ cls := "PascalHouse$Type", name := "isOrdinal", desc := "()Z" } : Jvm.MethodName)) ∈ lw_all := lw_g (lw_at lw_m10 41 rfl) rfl
set_option maxRecDepth 100000 in
theorem q2578 : (Jvm.Cond.methodLink "PascalHouse$Type" (82 : Nat) ({ cls := "PascalHouse$Type", name := "isSet", desc := "()Z" } : Jvm.MethodName)) ∈ lw_all := lw_g (lw_at lw_m10 42 rfl) rfl
set_option maxRecDepth 100000 in
theorem q2579 : (Jvm.Cond.instanceMethod ({ cls := "PascalHouse$Type", name := "isSet", desc := "()Z" } : Jvm.MethodName)) ∈ lw_all := lw_g (lw_at lw_m10 43 rfl) rfl
set_option maxRecDepth 100000 in
theorem q2580 : (Jvm.Cond.selects "PascalHouse$Type" ({ cls := "PascalHouse$Type", name := "isSet", desc := "()Z" } : Jvm.MethodName) ({ cls := "PascalHouse$Type", name := "isSet", desc := "()Z" } : Jvm.MethodName)) ∈ lw_all := lw_g (lw_at lw_m10 44 rfl) rfl
set_option maxRecDepth 100000 in
theorem q2581 : (Jvm.Cond.code ({ cls := "PascalHouse$Type", name := "isSet", desc := "()Z" } : Jvm.MethodName) prog_22_method_8_code (1 : Nat) (Option.some Jvm.ClassFile.FieldType.boolean)) ∈ lw_all := lw_g (lw_at lw_m10 45 rfl) rfl
set_option maxRecDepth 100000 in
theorem q2582 : (Jvm.Cond.methodLink "PascalHouse$Type" (85 : Nat) ({ cls := "PascalHouse$Type", name := "string", desc := "()I" } : Jvm.MethodName)) ∈ lw_all := lw_g (lw_at lw_m10 46 rfl) rfl
set_option maxRecDepth 100000 in
theorem q2583 : (Jvm.Cond.instanceMethod ({ cls := "PascalHouse$Type", name := "string", desc := "()I" } : Jvm.MethodName)) ∈ lw_all := lw_g (lw_at lw_m10 47 rfl) rfl
set_option maxRecDepth 100000 in
theorem q2584 : (Jvm.Cond.selects "PascalHouse$Type" ({ cls := "PascalHouse$Type", name := "string", desc := "()I" } : Jvm.MethodName) ({ cls := "PascalHouse$Type", name := "string", desc := "()I" } : Jvm.MethodName)) ∈ lw_all := lw_g (lw_at lw_m10 48 rfl) rfl
set_option maxRecDepth 100000 in
theorem q2585 : (Jvm.Cond.code ({ cls := "PascalHouse$Type", name := "string", desc := "()I" } : Jvm.MethodName) prog_22_method_12_code (2 : Nat) (Option.some Jvm.ClassFile.FieldType.int)) ∈ lw_all := lw_g (lw_at lw_m10 49 rfl) rfl
set_option maxRecDepth 100000 in
theorem q2586 : (Jvm.Cond.methodLink "PascalHouse$Compiler" (720 : Nat) ({ cls := "PascalHouse$Compiler", name := "fit", desc := "(LPascalHouse$Type;LPascalHouse$Type;I)V" } : Jvm.MethodName)) ∈ lw_all := lw_g (lw_at lw_m10 50 rfl) rfl
set_option maxRecDepth 100000 in
theorem q2588 : (Jvm.Cond.instanceMethod ({ cls := "PascalHouse$Compiler", name := "fit", desc := "(LPascalHouse$Type;LPascalHouse$Type;I)V" } : Jvm.MethodName)) ∈ lw_all := lw_g (lw_at lw_m10 52 rfl) rfl
set_option maxRecDepth 100000 in
theorem q2589 : (Jvm.Cond.code ({ cls := "PascalHouse$Compiler", name := "fit", desc := "(LPascalHouse$Type;LPascalHouse$Type;I)V" } : Jvm.MethodName) prog_4_method_57_code (4 : Nat) (Option.none : Option Jvm.ClassFile.FieldType)) ∈ lw_all := lw_g (lw_at lw_m10 53 rfl) rfl
set_option maxRecDepth 100000 in
theorem q2590 : (Jvm.Cond.methodLink "PascalHouse$Compiler" (688 : Nat) ({ cls := "PascalHouse$Compiler", name := "variable", desc := "(LPascalHouse$Tree;)LPascalHouse$Type;" } : Jvm.MethodName)) ∈ lw_all := lw_g (lw_at lw_m10 54 rfl) rfl
set_option maxRecDepth 100000 in
theorem q2592 : (Jvm.Cond.instanceMethod ({ cls := "PascalHouse$Compiler", name := "variable", desc := "(LPascalHouse$Tree;)LPascalHouse$Type;" } : Jvm.MethodName)) ∈ lw_all := lw_g (lw_at lw_m10 56 rfl) rfl
set_option maxRecDepth 100000 in
theorem q2593 : (Jvm.Cond.code ({ cls := "PascalHouse$Compiler", name := "variable", desc := "(LPascalHouse$Tree;)LPascalHouse$Type;" } : Jvm.MethodName) prog_4_method_61_code (6 : Nat) (Option.some (Jvm.ClassFile.FieldType.object "PascalHouse$Type"))) ∈ lw_all := lw_g (lw_at lw_m10 57 rfl) rfl
set_option maxRecDepth 100000 in
theorem q2594 : (Jvm.Cond.methodLink "PascalHouse$Compiler" (674 : Nat) ({ cls := "PascalHouse$Compiler", name := "address", desc := "(LPascalHouse$Item;)V" } : Jvm.MethodName)) ∈ lw_all := lw_g (lw_at lw_m10 58 rfl) rfl
set_option maxRecDepth 100000 in
theorem q2596 : (Jvm.Cond.instanceMethod ({ cls := "PascalHouse$Compiler", name := "address", desc := "(LPascalHouse$Item;)V" } : Jvm.MethodName)) ∈ lw_all := lw_g (lw_at lw_m10 60 rfl) rfl
set_option maxRecDepth 100000 in
theorem q2597 : (Jvm.Cond.code ({ cls := "PascalHouse$Compiler", name := "address", desc := "(LPascalHouse$Item;)V" } : Jvm.MethodName) prog_4_method_58_code (2 : Nat) (Option.none : Option Jvm.ClassFile.FieldType)) ∈ lw_all := lw_g (lw_at lw_m10 61 rfl) rfl
set_option maxRecDepth 100000 in
theorem q2598 : (Jvm.Cond.methodLink "PascalHouse$Compiler" (732 : Nat) ({ cls := "PascalHouse$Compiler", name := "fieldOf", desc := "(LPascalHouse$Field;I)LPascalHouse$Type;" } : Jvm.MethodName)) ∈ lw_all := lw_g (lw_at lw_m10 62 rfl) rfl
set_option maxRecDepth 100000 in
theorem q2600 : (Jvm.Cond.instanceMethod ({ cls := "PascalHouse$Compiler", name := "fieldOf", desc := "(LPascalHouse$Field;I)LPascalHouse$Type;" } : Jvm.MethodName)) ∈ lw_all := lw_g (lw_at lw_m10 64 rfl) rfl
set_option maxRecDepth 100000 in
theorem q2601 : (Jvm.Cond.code ({ cls := "PascalHouse$Compiler", name := "fieldOf", desc := "(LPascalHouse$Field;I)LPascalHouse$Type;" } : Jvm.MethodName) prog_4_method_60_code (3 : Nat) (Option.some (Jvm.ClassFile.FieldType.object "PascalHouse$Type"))) ∈ lw_all := lw_g (lw_at lw_m10 65 rfl) rfl
set_option maxRecDepth 100000 in
theorem q2602 : (Jvm.Cond.methodLink "PascalHouse$Compiler" (729 : Nat) ({ cls := "PascalHouse$Compiler", name := "parts", desc := "(LPascalHouse$Part;II)V" } : Jvm.MethodName)) ∈ lw_all := lw_g (lw_at lw_m10 66 rfl) rfl
set_option maxRecDepth 100000 in
theorem q2604 : (Jvm.Cond.instanceMethod ({ cls := "PascalHouse$Compiler", name := "parts", desc := "(LPascalHouse$Part;II)V" } : Jvm.MethodName)) ∈ lw_all := lw_g (lw_at lw_m10 68 rfl) rfl
set_option maxRecDepth 100000 in
theorem q2605 : (Jvm.Cond.code ({ cls := "PascalHouse$Compiler", name := "parts", desc := "(LPascalHouse$Part;II)V" } : Jvm.MethodName) prog_4_method_59_code (4 : Nat) (Option.none : Option Jvm.ClassFile.FieldType)) ∈ lw_all := lw_g (lw_at lw_m10 69 rfl) rfl
set_option maxRecDepth 100000 in
theorem q2606 : (Jvm.Cond.methodLink "PascalHouse$Compiler" (716 : Nat) ({ cls := "PascalHouse$Compiler", name := "partNumber", desc := "(LPascalHouse$Part;)I" } : Jvm.MethodName)) ∈ lw_all := lw_g (lw_at lw_m10 70 rfl) rfl
set_option maxRecDepth 100000 in
theorem q2608 : (Jvm.Cond.instanceMethod ({ cls := "PascalHouse$Compiler", name := "partNumber", desc := "(LPascalHouse$Part;)I" } : Jvm.MethodName)) ∈ lw_all := lw_g (lw_at lw_m10 72 rfl) rfl
set_option maxRecDepth 100000 in
theorem q2609 : (Jvm.Cond.code ({ cls := "PascalHouse$Compiler", name := "partNumber", desc := "(LPascalHouse$Part;)I" } : Jvm.MethodName) prog_4_method_55_code (3 : Nat) (Option.some Jvm.ClassFile.FieldType.int)) ∈ lw_all := lw_g (lw_at lw_m10 73 rfl) rfl
set_option maxRecDepth 100000 in
theorem q2610 : (Jvm.Cond.methodLink "PascalHouse$Compiler" (736 : Nat) ({ cls := "PascalHouse$Compiler", name := "selected", desc := "(LPascalHouse$Type;LPascalHouse$Tree;)LPascalHouse$Type;" } : Jvm.MethodName)) ∈ lw_all := lw_g (lw_at lw_m10 74 rfl) rfl
set_option maxRecDepth 100000 in
theorem q2612 : (Jvm.Cond.instanceMethod ({ cls := "PascalHouse$Compiler", name := "selected", desc := "(LPascalHouse$Type;LPascalHouse$Tree;)LPascalHouse$Type;" } : Jvm.MethodName)) ∈ lw_all := lw_g (lw_at lw_m10 76 rfl) rfl
set_option maxRecDepth 100000 in
theorem q2613 : (Jvm.Cond.code ({ cls := "PascalHouse$Compiler", name := "selected", desc := "(LPascalHouse$Type;LPascalHouse$Tree;)LPascalHouse$Type;" } : Jvm.MethodName) prog_4_method_62_code (4 : Nat) (Option.some (Jvm.ClassFile.FieldType.object "PascalHouse$Type"))) ∈ lw_all := lw_g (lw_at lw_m10 77 rfl) rfl
set_option maxRecDepth 100000 in
theorem q2614 : (Jvm.Cond.methodLink "PascalHouse$Compiler" (708 : Nat) ({ cls := "PascalHouse$Compiler", name := "threaten", desc := "(LPascalHouse$Item;I)V" } : Jvm.MethodName)) ∈ lw_all := lw_g (lw_at lw_m10 78 rfl) rfl
set_option maxRecDepth 100000 in
theorem q2616 : (Jvm.Cond.instanceMethod ({ cls := "PascalHouse$Compiler", name := "threaten", desc := "(LPascalHouse$Item;I)V" } : Jvm.MethodName)) ∈ lw_all := lw_g (lw_at lw_m10 80 rfl) rfl
set_option maxRecDepth 100000 in
theorem q2617 : (Jvm.Cond.code ({ cls := "PascalHouse$Compiler", name := "threaten", desc := "(LPascalHouse$Item;I)V" } : Jvm.MethodName) prog_4_method_52_code (3 : Nat) (Option.none : Option Jvm.ClassFile.FieldType)) ∈ lw_all := lw_g (lw_at lw_m10 81 rfl) rfl
set_option maxRecDepth 100000 in
theorem q2618 : (Jvm.Cond.methodLink "PascalHouse$Compiler" (750 : Nat) ({ cls := "PascalHouse$Routine", name := "isLike", desc := "(LPascalHouse$Routine;)Z" } : Jvm.MethodName)) ∈ lw_all := lw_g (lw_at lw_m10 82 rfl) rfl
set_option maxRecDepth 100000 in
theorem q2619 : (Jvm.Cond.instanceMethod ({ cls := "PascalHouse$Routine", name := "isLike", desc := "(LPascalHouse$Routine;)Z" } : Jvm.MethodName)) ∈ lw_all := lw_g (lw_at lw_m10 83 rfl) rfl
set_option maxRecDepth 100000 in
theorem q2620 : (Jvm.Cond.selects "PascalHouse$Routine" ({ cls := "PascalHouse$Routine", name := "isLike", desc := "(LPascalHouse$Routine;)Z" } : Jvm.MethodName) ({ cls := "PascalHouse$Routine", name := "isLike", desc := "(LPascalHouse$Routine;)Z" } : Jvm.MethodName)) ∈ lw_all := lw_g (lw_at lw_m10 84 rfl) rfl
set_option maxRecDepth 100000 in
theorem q2621 : (Jvm.Cond.code ({ cls := "PascalHouse$Routine", name := "isLike", desc := "(LPascalHouse$Routine;)Z" } : Jvm.MethodName) prog_16_method_2_code (6 : Nat) (Option.some Jvm.ClassFile.FieldType.boolean)) ∈ lw_all := lw_g (lw_at lw_m10 85 rfl) rfl
set_option maxRecDepth 100000 in
theorem q2622 : (Jvm.Cond.methodLink "PascalHouse$Routine" (42 : Nat) ({ cls := "java/util/ArrayList", name := "size", desc := "()I" } : Jvm.MethodName)) ∈ lw_all := lw_g (lw_at lw_m10 86 rfl) rfl
set_option maxRecDepth 100000 in
theorem q2623 : (Jvm.Cond.methodLink "PascalHouse$Routine" (46 : Nat) ({ cls := "java/util/ArrayList", name := "get", desc := "(I)Ljava/lang/Object;" } : Jvm.MethodName)) ∈ lw_all := lw_g (lw_at lw_m10 87 rfl) rfl
set_option maxRecDepth 100000 in
theorem q2624 : (Jvm.Cond.classLink "PascalHouse$Routine" (50 : Nat) "PascalHouse$Parameter") ∈ lw_all := lw_g (lw_at lw_m10 88 rfl) rfl
set_option maxRecDepth 100000 in
theorem q2625 : (Jvm.Cond.methodLink "PascalHouse$Routine" (62 : Nat) ({ cls := "PascalHouse$Routine", name := "isLike", desc := "(LPascalHouse$Routine;)Z" } : Jvm.MethodName)) ∈ lw_all := lw_g (lw_at lw_m10 89 rfl) rfl
set_option maxRecDepth 100000 in
theorem q2626 : (Jvm.Cond.methodLink "PascalHouse$Compiler" (788 : Nat) ({ cls := "PascalHouse$Compiler", name := "own", desc := "(LPascalHouse$Type;)LPascalHouse$Type;" } : Jvm.MethodName)) ∈ lw_all := lw_g (lw_at lw_m10 90 rfl) rfl
set_option maxRecDepth 100000 in
theorem q2627 : (Jvm.Cond.static ({ cls := "PascalHouse$Compiler", name := "own", desc := "(LPascalHouse$Type;)LPascalHouse$Type;" } : Jvm.MethodName)) ∈ lw_all := lw_g (lw_at lw_m10 91 rfl) rfl
set_option maxRecDepth 100000 in
theorem q2628 : (Jvm.Cond.code ({ cls := "PascalHouse$Compiler", name := "own", desc := "(LPascalHouse$Type;)LPascalHouse$Type;" } : Jvm.MethodName) prog_4_method_72_code (1 : Nat) (Option.some (Jvm.ClassFile.FieldType.object "PascalHouse$Type"))) ∈ lw_all := lw_g (lw_at lw_m10 92 rfl) rfl
set_option maxRecDepth 100000 in
theorem q2629 : (Jvm.Cond.methodLink "PascalHouse$Compiler" (777 : Nat) ({ cls := "PascalHouse$Compiler", name := "standard", desc := "(ZI)LPascalHouse$Item;" } : Jvm.MethodName)) ∈ lw_all := lw_g (lw_at lw_m10 93 rfl) rfl
set_option maxRecDepth 100000 in
theorem q2631 : (Jvm.Cond.instanceMethod ({ cls := "PascalHouse$Compiler", name := "standard", desc := "(ZI)LPascalHouse$Item;" } : Jvm.MethodName)) ∈ lw_all := lw_g (lw_at lw_m10 95 rfl) rfl
set_option maxRecDepth 100000 in
theorem q2632 : (Jvm.Cond.code ({ cls := "PascalHouse$Compiler", name := "standard", desc := "(ZI)LPascalHouse$Item;" } : Jvm.MethodName) prog_4_method_68_code (4 : Nat) (Option.some (Jvm.ClassFile.FieldType.object "PascalHouse$Item"))) ∈ lw_all := lw_g (lw_at lw_m10 96 rfl) rfl
set_option maxRecDepth 100000 in
theorem q2633 : (Jvm.Cond.methodLink "PascalHouse$Compiler" (765 : Nat) ({ cls := "PascalHouse$Compiler", name := "file", desc := "(LPascalHouse$Tree;)LPascalHouse$Item;" } : Jvm.MethodName)) ∈ lw_all := lw_g (lw_at lw_m10 97 rfl) rfl
set_option maxRecDepth 100000 in
theorem q2635 : (Jvm.Cond.instanceMethod ({ cls := "PascalHouse$Compiler", name := "file", desc := "(LPascalHouse$Tree;)LPascalHouse$Item;" } : Jvm.MethodName)) ∈ lw_all := lw_g (lw_at lw_m10 99 rfl) rfl
set_option maxRecDepth 100000 in
theorem q2636 : (Jvm.Cond.code ({ cls := "PascalHouse$Compiler", name := "file", desc := "(LPascalHouse$Tree;)LPascalHouse$Item;" } : Jvm.MethodName) prog_4_method_67_code (4 : Nat) (Option.some (Jvm.ClassFile.FieldType.object "PascalHouse$Item"))) ∈ lw_all := lw_g (lw_at lw_m10 100 rfl) rfl
set_option maxRecDepth 100000 in
theorem q2637 : (Jvm.Cond.methodLink "PascalHouse$Compiler" (768 : Nat) ({ cls := "PascalHouse$Type", name := "isText", desc := "()Z" } : Jvm.MethodName)) ∈ lw_all := lw_g (lw_at lw_m10 101 rfl) rfl
set_option maxRecDepth 100000 in
theorem q2638 : (Jvm.Cond.instanceMethod ({ cls := "PascalHouse$Type", name := "isText", desc := "()Z" } : Jvm.MethodName)) ∈ lw_all := lw_g (lw_at lw_m10 102 rfl) rfl
set_option maxRecDepth 100000 in
theorem q2639 : (Jvm.Cond.selects "PascalHouse$Type" ({ cls := "PascalHouse$Type", name := "isText", desc := "()Z" } : Jvm.MethodName) ({ cls := "PascalHouse$Type", name := "isText", desc := "()Z" } : Jvm.MethodName)) ∈ lw_all := lw_g (lw_at lw_m10 103 rfl) rfl
set_option maxRecDepth 100000 in
theorem q2640 : (Jvm.Cond.code ({ cls := "PascalHouse$Type", name := "isText", desc := "()Z" } : Jvm.MethodName) prog_22_method_11_code (1 : Nat) (Option.some Jvm.ClassFile.FieldType.boolean)) ∈ lw_all := lw_g (lw_at lw_m10 104 rfl) rfl
set_option maxRecDepth 100000 in
theorem q2641 : (Jvm.Cond.methodLink "PascalHouse$Compiler" (823 : Nat) ({ cls := "PascalHouse$Compiler", name := "worked", desc := "(ILPascalHouse$Type;I)LPascalHouse$Type;" } : Jvm.MethodName)) ∈ lw_all := lw_g (lw_at lw_m10 105 rfl) rfl
set_option maxRecDepth 100000 in
theorem q2643 : (Jvm.Cond.instanceMethod ({ cls := "PascalHouse$Compiler", name := "worked", desc := "(ILPascalHouse$Type;I)LPascalHouse$Type;" } : Jvm.MethodName)) ∈ lw_all := lw_g (lw_at lw_m10 107 rfl) rfl
set_option maxRecDepth 100000 in
theorem q2644 : (Jvm.Cond.code ({ cls := "PascalHouse$Compiler", name := "worked", desc := "(ILPascalHouse$Type;I)LPascalHouse$Type;" } : Jvm.MethodName) prog_4_method_79_code (5 : Nat) (Option.some (Jvm.ClassFile.FieldType.object "PascalHouse$Type"))) ∈ lw_all := lw_g (lw_at lw_m10 108 rfl) rfl
set_option maxRecDepth 100000 in
theorem q2645 : (Jvm.Cond.methodLink "PascalHouse$Compiler" (808 : Nat) ({ cls := "PascalHouse$Compiler", name := "named", desc := "(LPascalHouse$Tree;)LPascalHouse$Type;" } : Jvm.MethodName)) ∈ lw_all := lw_g (lw_at lw_m10 109 rfl) rfl
set_option maxRecDepth 100000 in
theorem q2647 : (Jvm.Cond.instanceMethod ({ cls := "PascalHouse$Compiler", name := "named", desc := "(LPascalHouse$Tree;)LPascalHouse$Type;" } : Jvm.MethodName)) ∈ lw_all := lw_g (lw_at lw_m10 111 rfl) rfl
set_option maxRecDepth 100000 in
theorem q2648 : (Jvm.Cond.code ({ cls := "PascalHouse$Compiler", name := "named", desc := "(LPascalHouse$Tree;)LPascalHouse$Type;" } : Jvm.MethodName) prog_4_method_76_code (4 : Nat) (Option.some (Jvm.ClassFile.FieldType.object "PascalHouse$Type"))) ∈ lw_all := lw_g (lw_at lw_m10 112 rfl) rfl
set_option maxRecDepth 100000 in
theorem q2649 : (Jvm.Cond.methodLink "PascalHouse$Compiler" (790 : Nat) ({ cls := "PascalHouse$Compiler", name := "load", desc := "(LPascalHouse$Type;I)V" } : Jvm.MethodName)) ∈ lw_all := lw_g (lw_at lw_m10 113 rfl) rfl
set_option maxRecDepth 100000 in
theorem q2651 : (Jvm.Cond.instanceMethod ({ cls := "PascalHouse$Compiler", name := "load", desc := "(LPascalHouse$Type;I)V" } : Jvm.MethodName)) ∈ lw_all := lw_g (lw_at lw_m10 115 rfl) rfl
set_option maxRecDepth 100000 in
theorem q2652 : (Jvm.Cond.code ({ cls := "PascalHouse$Compiler", name := "load", desc := "(LPascalHouse$Type;I)V" } : Jvm.MethodName) prog_4_method_63_code (3 : Nat) (Option.none : Option Jvm.ClassFile.FieldType)) ∈ lw_all := lw_g (lw_at lw_m10 116 rfl) rfl
set_option maxRecDepth 100000 in
theorem q2653 : (Jvm.Cond.methodLink "PascalHouse$Compiler" (811 : Nat) ({ cls := "PascalHouse$Compiler", name := "signed", desc := "(LPascalHouse$Tree;)LPascalHouse$Type;" } : Jvm.MethodName)) ∈ lw_all := lw_g (lw_at lw_m10 117 rfl) rfl
set_option maxRecDepth 100000 in
theorem q2655 : (Jvm.Cond.instanceMethod ({ cls := "PascalHouse$Compiler", name := "signed", desc := "(LPascalHouse$Tree;)LPascalHouse$Type;" } : Jvm.MethodName)) ∈ lw_all := lw_g (lw_at lw_m10 119 rfl) rfl
set_option maxRecDepth 100000 in
theorem q2656 : (Jvm.Cond.code ({ cls := "PascalHouse$Compiler", name := "signed", desc := "(LPascalHouse$Tree;)LPascalHouse$Type;" } : Jvm.MethodName) prog_4_method_82_code (3 : Nat) (Option.some (Jvm.ClassFile.FieldType.object "PascalHouse$Type"))) ∈ lw_all := lw_g (lw_at lw_m10 120 rfl) rfl
set_option maxRecDepth 100000 in
theorem q2657 : (Jvm.Cond.methodLink "PascalHouse$Compiler" (814 : Nat) ({ cls := "PascalHouse$Compiler", name := "sum", desc := "(LPascalHouse$Tree;)LPascalHouse$Type;" } : Jvm.MethodName)) ∈ lw_all := lw_g (lw_at lw_m10 121 rfl) rfl
set_option maxRecDepth 100000 in
theorem q2659 : (Jvm.Cond.instanceMethod ({ cls := "PascalHouse$Compiler", name := "sum", desc := "(LPascalHouse$Tree;)LPascalHouse$Type;" } : Jvm.MethodName)) ∈ lw_all := lw_g (lw_at lw_m10 123 rfl) rfl
set_option maxRecDepth 100000 in
theorem q2660 : (Jvm.Cond.code ({ cls := "PascalHouse$Compiler", name := "sum", desc := "(LPascalHouse$Tree;)LPascalHouse$Type;" } : Jvm.MethodName) prog_4_method_83_code (5 : Nat) (Option.some (Jvm.ClassFile.FieldType.object "PascalHouse$Type"))) ∈ lw_all := lw_g (lw_at lw_m10 124 rfl) rfl
set_option maxRecDepth 100000 in
theorem q2661 : (Jvm.Cond.methodLink "PascalHouse$Compiler" (833 : Nat) ({ cls := "PascalHouse$Compiler", name := "operated", desc := "(LPascalHouse$Tree;LPascalHouse$Type;LPascalHouse$Type;)LPascalHouse$Type;" } : Jvm.MethodName)) ∈ lw_all := lw_g (lw_at lw_m10 125 rfl) rfl
set_option maxRecDepth 100000 in
theorem q2663 : (Jvm.Cond.instanceMethod ({ cls := "PascalHouse$Compiler", name := "operated", desc := "(LPascalHouse$Tree;LPascalHouse$Type;LPascalHouse$Type;)LPascalHouse$Type;" } : Jvm.MethodName)) ∈ lw_all := lw_g (lw_at lw_m10 127 rfl) rfl
set_option maxRecDepth 100000 in
theorem q2664 : (Jvm.Cond.code ({ cls := "PascalHouse$Compiler", name := "operated", desc := "(LPascalHouse$Tree;LPascalHouse$Type;LPascalHouse$Type;)LPascalHouse$Type;" } : Jvm.MethodName) prog_4_method_86_code (8 : Nat) (Option.some (Jvm.ClassFile.FieldType.object "PascalHouse$Type"))) ∈ lw_all := lw_g (lw_at lw_m10 128 rfl) rfl
set_option maxRecDepth 100000 in
theorem q2670 : (Jvm.Cond.methodLink "PascalHouse$Compiler" (847 : Nat) ({ cls := "PascalHouse$Compiler", name := "isMixed", desc := "(LPascalHouse$Type;LPascalHouse$Type;)Z" } : Jvm.MethodName)) ∈ lw_all := lw_g (lw_at lw_m10 134 rfl) rfl
set_option maxRecDepth 100000 in
theorem q2672 : (Jvm.Cond.instanceMethod ({ cls := "PascalHouse$Compiler", name := "isMixed", desc := "(LPascalHouse$Type;LPascalHouse$Type;)Z" } : Jvm.MethodName)) ∈ lw_all := lw_g (lw_at lw_m10 136 rfl) rfl
set_option maxRecDepth 100000 in
theorem q2673 : (Jvm.Cond.code ({ cls := "PascalHouse$Compiler", name := "isMixed", desc := "(LPascalHouse$Type;LPascalHouse$Type;)Z" } : Jvm.MethodName) prog_4_method_84_code (3 : Nat) (Option.some Jvm.ClassFile.FieldType.boolean)) ∈ lw_all := lw_g (lw_at lw_m10 137 rfl) rfl
set_option maxRecDepth 100000 in
theorem q2674 : (Jvm.Cond.methodLink "PascalHouse$Compiler" (851 : Nat) ({ cls := "PascalHouse$Compiler", name := "floats", desc := "(LPascalHouse$Type;LPascalHouse$Type;)V" } : Jvm.MethodName)) ∈ lw_all := lw_g (lw_at lw_m10 138 rfl) rfl
set_option maxRecDepth 100000 in
theorem q2676 : (Jvm.Cond.instanceMethod ({ cls := "PascalHouse$Compiler", name := "floats", desc := "(LPascalHouse$Type;LPascalHouse$Type;)V" } : Jvm.MethodName)) ∈ lw_all := lw_g (lw_at lw_m10 140 rfl) rfl
set_option maxRecDepth 100000 in
theorem q2677 : (Jvm.Cond.code ({ cls := "PascalHouse$Compiler", name := "floats", desc := "(LPascalHouse$Type;LPascalHouse$Type;)V" } : Jvm.MethodName) prog_4_method_85_code (3 : Nat) (Option.none : Option Jvm.ClassFile.FieldType)) ∈ lw_all := lw_g (lw_at lw_m10 141 rfl) rfl
set_option maxRecDepth 100000 in
theorem q2679 : (Jvm.Cond.methodLink "PascalHouse$Compiler" (857 : Nat) ({ cls := "PascalHouse$Type", name := "isSet", desc := "()Z" } : Jvm.MethodName)) ∈ lw_all := lw_g (lw_at lw_m10 143 rfl) rfl
set_option maxRecDepth 100000 in
theorem q2680 : (Jvm.Cond.methodLink "PascalHouse$Compiler" (860 : Nat) ({ cls := "PascalHouse$Type", name := "isLike", desc := "(LPascalHouse$Type;)Z" } : Jvm.MethodName)) ∈ lw_all := lw_g (lw_at lw_m10 144 rfl) rfl
set_option maxRecDepth 100000 in
theorem q2681 : (Jvm.Cond.methodLink "PascalHouse$Compiler" (817 : Nat) ({ cls := "PascalHouse$Compiler", name := "compared", desc := "(LPascalHouse$Tree;)LPascalHouse$Type;" } : Jvm.MethodName)) ∈ lw_all := lw_g (lw_at lw_m10 145 rfl) rfl
set_option maxRecDepth 100000 in
theorem q2683 : (Jvm.Cond.instanceMethod ({ cls := "PascalHouse$Compiler", name := "compared", desc := "(LPascalHouse$Tree;)LPascalHouse$Type;" } : Jvm.MethodName)) ∈ lw_all := lw_g (lw_at lw_m10 147 rfl) rfl
set_option maxRecDepth 100000 in
theorem q2684 : (Jvm.Cond.code ({ cls := "PascalHouse$Compiler", name := "compared", desc := "(LPascalHouse$Tree;)LPascalHouse$Type;" } : Jvm.MethodName) prog_4_method_88_code (8 : Nat) (Option.some (Jvm.ClassFile.FieldType.object "PascalHouse$Type"))) ∈ lw_all := lw_g (lw_at lw_m10 148 rfl) rfl
set_option maxRecDepth 100000 in
theorem q2686 : (Jvm.Cond.methodLink "PascalHouse$Compiler" (874 : Nat) ({ cls := "PascalHouse$Compiler", name := "relation", desc := "(Ljava/lang/String;)I" } : Jvm.MethodName)) ∈ lw_all := lw_g (lw_at lw_m10 150 rfl) rfl
set_option maxRecDepth 100000 in
theorem q2687 : (Jvm.Cond.static ({ cls := "PascalHouse$Compiler", name := "relation", desc := "(Ljava/lang/String;)I" } : Jvm.MethodName)) ∈ lw_all := lw_g (lw_at lw_m10 151 rfl) rfl
set_option maxRecDepth 100000 in
theorem q2688 : (Jvm.Cond.code ({ cls := "PascalHouse$Compiler", name := "relation", desc := "(Ljava/lang/String;)I" } : Jvm.MethodName) prog_4_method_87_code (1 : Nat) (Option.some Jvm.ClassFile.FieldType.int)) ∈ lw_all := lw_g (lw_at lw_m10 152 rfl) rfl
set_option maxRecDepth 100000 in
theorem q2694 : (Jvm.Cond.methodLink "PascalHouse$Compiler" (793 : Nat) ({ cls := "PascalHouse$Type", name := "string", desc := "()I" } : Jvm.MethodName)) ∈ lw_all := lw_g (lw_at lw_m10 158 rfl) rfl
set_option maxRecDepth 100000 in
theorem q2695 : (Jvm.Cond.methodLink "PascalHouse$Compiler" (774 : Nat) ({ cls := "PascalHouse$Type", name := "isPointer", desc := "()Z" } : Jvm.MethodName)) ∈ lw_all := lw_g (lw_at lw_m10 159 rfl) rfl
set_option maxRecDepth 100000 in
theorem q2696 : (Jvm.Cond.methodLink "PascalHouse$Compiler" (657 : Nat) ({ cls := "PascalHouse$Compiler", name := "inner", desc := "(LPascalHouse$Tree;)V" } : Jvm.MethodName)) ∈ lw_all := lw_g (lw_at lw_m10 160 rfl) rfl
set_option maxRecDepth 100000 in
theorem q2698 : (Jvm.Cond.instanceMethod ({ cls := "PascalHouse$Compiler", name := "inner", desc := "(LPascalHouse$Tree;)V" } : Jvm.MethodName)) ∈ lw_all := lw_g (lw_at lw_m10 162 rfl) rfl
set_option maxRecDepth 100000 in
theorem q2699 : (Jvm.Cond.code ({ cls := "PascalHouse$Compiler", name := "inner", desc := "(LPascalHouse$Tree;)V" } : Jvm.MethodName) prog_4_method_43_code (2 : Nat) (Option.none : Option Jvm.ClassFile.FieldType)) ∈ lw_all := lw_g (lw_at lw_m10 163 rfl) rfl
set_option maxRecDepth 100000 in
theorem q2700 : (Jvm.Cond.methodLink "PascalHouse$Compiler" (660 : Nat) ({ cls := "PascalHouse$Code", name := "go", desc := "(II)V" } : Jvm.MethodName)) ∈ lw_all := lw_g (lw_at lw_m10 164 rfl) rfl
set_option maxRecDepth 100000 in
theorem q2701 : (Jvm.Cond.instanceMethod ({ cls := "PascalHouse$Code", name := "go", desc := "(II)V" } : Jvm.MethodName)) ∈ lw_all := lw_g (lw_at lw_m10 165 rfl) rfl
set_option maxRecDepth 100000 in
theorem q2702 : (Jvm.Cond.selects "PascalHouse$Code" ({ cls := "PascalHouse$Code", name := "go", desc := "(II)V" } : Jvm.MethodName) ({ cls := "PascalHouse$Code", name := "go", desc := "(II)V" } : Jvm.MethodName)) ∈ lw_all := lw_g (lw_at lw_m10 166 rfl) rfl
set_option maxRecDepth 100000 in
theorem q2703 : (Jvm.Cond.code ({ cls := "PascalHouse$Code", name := "go", desc := "(II)V" } : Jvm.MethodName) prog_3_method_9_code (3 : Nat) (Option.none : Option Jvm.ClassFile.FieldType)) ∈ lw_all := lw_g (lw_at lw_m10 167 rfl) rfl
set_option maxRecDepth 100000 in
theorem q2704 : (Jvm.Cond.methodLink "PascalHouse$Compiler" (630 : Nat) ({ cls := "PascalHouse$Compiler", name := "cases", desc := "(LPascalHouse$Tree;)V" } : Jvm.MethodName)) ∈ lw_all := lw_g (lw_at lw_m10 168 rfl) rfl
set_option maxRecDepth 100000 in
theorem q2706 : (Jvm.Cond.instanceMethod ({ cls := "PascalHouse$Compiler", name := "cases", desc := "(LPascalHouse$Tree;)V" } : Jvm.MethodName)) ∈ lw_all := lw_g (lw_at lw_m10 170 rfl) rfl
set_option maxRecDepth 100000 in
theorem q2707 : (Jvm.Cond.code ({ cls := "PascalHouse$Compiler", name := "cases", desc := "(LPascalHouse$Tree;)V" } : Jvm.MethodName) prog_4_method_48_code (13 : Nat) (Option.none : Option Jvm.ClassFile.FieldType)) ∈ lw_all := lw_g (lw_at lw_m10 171 rfl) rfl
set_option maxRecDepth 100000 in
theorem q2708 : (Jvm.Cond.methodLink "PascalHouse$Compiler" (665 : Nat) ({ cls := "PascalHouse$Code", name := "when", desc := "(II)V" } : Jvm.MethodName)) ∈ lw_all := lw_g (lw_at lw_m10 172 rfl) rfl
set_option maxRecDepth 100000 in
theorem q2709 : (Jvm.Cond.instanceMethod ({ cls := "PascalHouse$Code", name := "when", desc := "(II)V" } : Jvm.MethodName)) ∈ lw_all := lw_g (lw_at lw_m10 173 rfl) rfl
set_option maxRecDepth 100000 in
theorem q2710 : (Jvm.Cond.selects "PascalHouse$Code" ({ cls := "PascalHouse$Code", name := "when", desc := "(II)V" } : Jvm.MethodName) ({ cls := "PascalHouse$Code", name := "when", desc := "(II)V" } : Jvm.MethodName)) ∈ lw_all := lw_g (lw_at lw_m10 174 rfl) rfl
set_option maxRecDepth 100000 in
theorem q2711 : (Jvm.Cond.code ({ cls := "PascalHouse$Code", name := "when", desc := "(II)V" } : Jvm.MethodName) prog_3_method_7_code (3 : Nat) (Option.none : Option Jvm.ClassFile.FieldType)) ∈ lw_all := lw_g (lw_at lw_m10 175 rfl) rfl
set_option maxRecDepth 100000 in
theorem q2712 : (Jvm.Cond.methodLink "PascalHouse$Compiler" (633 : Nat) ({ cls := "PascalHouse$Compiler", name := "loop", desc := "(LPascalHouse$Tree;)V" } : Jvm.MethodName)) ∈ lw_all := lw_g (lw_at lw_m10 176 rfl) rfl
set_option maxRecDepth 100000 in
theorem q2714 : (Jvm.Cond.instanceMethod ({ cls := "PascalHouse$Compiler", name := "loop", desc := "(LPascalHouse$Tree;)V" } : Jvm.MethodName)) ∈ lw_all := lw_g (lw_at lw_m10 178 rfl) rfl
set_option maxRecDepth 100000 in
theorem q2715 : (Jvm.Cond.code ({ cls := "PascalHouse$Compiler", name := "loop", desc := "(LPascalHouse$Tree;)V" } : Jvm.MethodName) prog_4_method_47_code (4 : Nat) (Option.none : Option Jvm.ClassFile.FieldType)) ∈ lw_all := lw_g (lw_at lw_m10 179 rfl) rfl
set_option maxRecDepth 100000 in
theorem q2716 : (Jvm.Cond.methodLink "PascalHouse$Compiler" (639 : Nat) ({ cls := "PascalHouse$Compiler", name := "counts", desc := "(LPascalHouse$Tree;)V" } : Jvm.MethodName)) ∈ lw_all := lw_g (lw_at lw_m10 180 rfl) rfl
set_option maxRecDepth 100000 in
theorem q2718 : (Jvm.Cond.instanceMethod ({ cls := "PascalHouse$Compiler", name := "counts", desc := "(LPascalHouse$Tree;)V" } : Jvm.MethodName)) ∈ lw_all := lw_g (lw_at lw_m10 182 rfl) rfl
set_option maxRecDepth 100000 in
theorem q2719 : (Jvm.Cond.code ({ cls := "PascalHouse$Compiler", name := "counts", desc := "(LPascalHouse$Tree;)V" } : Jvm.MethodName) prog_4_method_49_code (9 : Nat) (Option.none : Option Jvm.ClassFile.FieldType)) ∈ lw_all := lw_g (lw_at lw_m10 183 rfl) rfl
set_option maxRecDepth 100000 in
theorem q2720 : (Jvm.Cond.methodLink "PascalHouse$Compiler" (642 : Nat) ({ cls := "PascalHouse$Compiler", name := "lays", desc := "(LPascalHouse$Tree;)V" } : Jvm.MethodName)) ∈ lw_all := lw_g (lw_at lw_m10 184 rfl) rfl
set_option maxRecDepth 100000 in
theorem q2722 : (Jvm.Cond.instanceMethod ({ cls := "PascalHouse$Compiler", name := "lays", desc := "(LPascalHouse$Tree;)V" } : Jvm.MethodName)) ∈ lw_all := lw_g (lw_at lw_m10 186 rfl) rfl
set_option maxRecDepth 100000 in
theorem q2723 : (Jvm.Cond.code ({ cls := "PascalHouse$Compiler", name := "lays", desc := "(LPascalHouse$Tree;)V" } : Jvm.MethodName) prog_4_method_50_code (5 : Nat) (Option.none : Option Jvm.ClassFile.FieldType)) ∈ lw_all := lw_g (lw_at lw_m10 187 rfl) rfl
set_option maxRecDepth 100000 in
theorem q2724 : (Jvm.Cond.methodLink "PascalHouse$Compiler" (645 : Nat) ({ cls := "PascalHouse$Compiler", name := "leaves", desc := "(LPascalHouse$Tree;)V" } : Jvm.MethodName)) ∈ lw_all := lw_g (lw_at lw_m10 188 rfl) rfl
set_option maxRecDepth 100000 in
theorem q2726 : (Jvm.Cond.instanceMethod ({ cls := "PascalHouse$Compiler", name := "leaves", desc := "(LPascalHouse$Tree;)V" } : Jvm.MethodName)) ∈ lw_all := lw_g (lw_at lw_m10 190 rfl) rfl
set_option maxRecDepth 100000 in
theorem q2727 : (Jvm.Cond.code ({ cls := "PascalHouse$Compiler", name := "leaves", desc := "(LPascalHouse$Tree;)V" } : Jvm.MethodName) prog_4_method_51_code (5 : Nat) (Option.none : Option Jvm.ClassFile.FieldType)) ∈ lw_all := lw_g (lw_at lw_m10 191 rfl) rfl
set_option maxRecDepth 100000 in
theorem q2728 : (Jvm.Cond.methodLink "PascalHouse$Compiler" (694 : Nat) ({ cls := "PascalHouse$Block", name := "leap", desc := "(LPascalHouse$Label;IZ)LPascalHouse$Leap;" } : Jvm.MethodName)) ∈ lw_all := lw_g (lw_at lw_m10 192 rfl) rfl
set_option maxRecDepth 100000 in
theorem q2729 : (Jvm.Cond.instanceMethod ({ cls := "PascalHouse$Block", name := "leap", desc := "(LPascalHouse$Label;IZ)LPascalHouse$Leap;" } : Jvm.MethodName)) ∈ lw_all := lw_g (lw_at lw_m10 193 rfl) rfl
set_option maxRecDepth 100000 in
theorem q2730 : (Jvm.Cond.selects "PascalHouse$Block" ({ cls := "PascalHouse$Block", name := "leap", desc := "(LPascalHouse$Label;IZ)LPascalHouse$Leap;" } : Jvm.MethodName) ({ cls := "PascalHouse$Block", name := "leap", desc := "(LPascalHouse$Label;IZ)LPascalHouse$Leap;" } : Jvm.MethodName)) ∈ lw_all := lw_g (lw_at lw_m10 194 rfl) rfl
set_option maxRecDepth 100000 in
theorem q2731 : (Jvm.Cond.code ({ cls := "PascalHouse$Block", name := "leap", desc := "(LPascalHouse$Label;IZ)LPascalHouse$Leap;" } : Jvm.MethodName) prog_2_method_4_code (4 : Nat) (Option.some (Jvm.ClassFile.FieldType.object "PascalHouse$Leap"))) ∈ lw_all := lw_g (lw_at lw_m10 195 rfl) rfl
set_option maxRecDepth 100000 in
theorem q2732 : (Jvm.Cond.classLink "PascalHouse$Block" (59 : Nat) "PascalHouse$Leap") ∈ lw_all := lw_g (lw_at lw_m10 196 rfl) rfl
set_option maxRecDepth 100000 in
theorem q2733 : (Jvm.Cond.instantiable "PascalHouse$Leap" (5 : Nat)) ∈ lw_all := lw_g (lw_at lw_m10 197 rfl) rfl
set_option maxRecDepth 100000 in
theorem q2734 : (Jvm.Cond.methodLink "PascalHouse$Block" (64 : Nat) ({ cls := "PascalHouse$Block", name := "first", desc := "([II)[I" } : Jvm.MethodName)) ∈ lw_all := lw_g (lw_at lw_m10 198 rfl) rfl
set_option maxRecDepth 100000 in
theorem q2735 : (Jvm.Cond.static ({ cls := "PascalHouse$Block", name := "first", desc := "([II)[I" } : Jvm.MethodName)) ∈ lw_all := lw_g (lw_at lw_m10 199 rfl) rfl
set_option maxRecDepth 100000 in
theorem q2736 : (Jvm.Cond.code ({ cls := "PascalHouse$Block", name := "first", desc := "([II)[I" } : Jvm.MethodName) prog_2_method_3_code (4 : Nat) (Option.some (Jvm.ClassFile.FieldType.array Jvm.ClassFile.FieldType.int))) ∈ lw_all := lw_g (lw_at lw_m10 200 rfl) rfl
set_option maxRecDepth 100000 in
theorem q2737 : (Jvm.Cond.methodLink "PascalHouse$Block" (71 : Nat) ({ cls := "PascalHouse$Leap", name := "<init>", desc := "(LPascalHouse$Label;IZ[I[I)V" } : Jvm.MethodName)) ∈ lw_all := lw_g (lw_at lw_m10 201 rfl) rfl
set_option maxRecDepth 100000 in
theorem q2738 : (Jvm.Cond.instanceMethod ({ cls := "PascalHouse$Leap", name := "<init>", desc := "(LPascalHouse$Label;IZ[I[I)V" } : Jvm.MethodName)) ∈ lw_all := lw_g (lw_at lw_m10 202 rfl) rfl
set_option maxRecDepth 100000 in
theorem q2739 : (Jvm.Cond.code ({ cls := "PascalHouse$Leap", name := "<init>", desc := "(LPascalHouse$Label;IZ[I[I)V" } : Jvm.MethodName) prog_10_method_1_code (6 : Nat) (Option.none : Option Jvm.ClassFile.FieldType)) ∈ lw_all := lw_g (lw_at lw_m10 203 rfl) rfl
set_option maxRecDepth 100000 in
theorem q2740 : (Jvm.Cond.methodLink "PascalHouse$Leap" (1 : Nat) ({ cls := "java/lang/Object", name := "<init>", desc := "()V" } : Jvm.MethodName)) ∈ lw_all := lw_g (lw_at lw_m10 204 rfl) rfl
set_option maxRecDepth 100000 in
theorem q2741 : (Jvm.Cond.fieldLink "PascalHouse$Leap" (7 : Nat) "PascalHouse$Leap" "label" "LPascalHouse$Label;") ∈ lw_all := lw_g (lw_at lw_m10 205 rfl) rfl
set_option maxRecDepth 100000 in
theorem q2742 : (Jvm.Cond.fieldLinkNest "PascalHouse$Compiler" (575 : Nat) "PascalHouse$Leap" "label" "LPascalHouse$Label;" "PascalHouse") ∈ lw_tbl := lw_at lw_m10 206 rfl
set_option maxRecDepth 100000 in
theorem q2743 : (Jvm.Cond.fieldLink "PascalHouse$Leap" (13 : Nat) "PascalHouse$Leap" "place" "I") ∈ lw_all := lw_g (lw_at lw_m10 207 rfl) rfl
set_option maxRecDepth 100000 in
theorem q2744 : (Jvm.Cond.fieldLinkNest "PascalHouse$Compiler" (602 : Nat) "PascalHouse$Leap" "place" "I" "PascalHouse") ∈ lw_tbl := lw_at lw_m10 208 rfl
set_option maxRecDepth 100000 in
theorem q2745 : (Jvm.Cond.fieldLink "PascalHouse$Leap" (17 : Nat) "PascalHouse$Leap" "foreign" "Z") ∈ lw_all := lw_g (lw_at lw_m10 209 rfl) rfl
set_option maxRecDepth 100000 in
theorem q2746 : (Jvm.Cond.fieldLinkNest "PascalHouse$Compiler" (581 : Nat) "PascalHouse$Leap" "foreign" "Z" "PascalHouse") ∈ lw_tbl := lw_at lw_m10 210 rfl
set_option maxRecDepth 100000 in
theorem q2747 : (Jvm.Cond.fieldLink "PascalHouse$Leap" (21 : Nat) "PascalHouse$Leap" "rows" "[I") ∈ lw_all := lw_g (lw_at lw_m10 211 rfl) rfl
set_option maxRecDepth 100000 in
theorem q2748 : (Jvm.Cond.fieldLinkNest "PascalHouse$Compiler" (600 : Nat) "PascalHouse$Leap" "rows" "[I" "PascalHouse") ∈ lw_tbl := lw_at lw_m10 212 rfl
set_option maxRecDepth 100000 in
theorem q2749 : (Jvm.Cond.fieldLink "PascalHouse$Leap" (25 : Nat) "PascalHouse$Leap" "statements" "[I") ∈ lw_all := lw_g (lw_at lw_m10 213 rfl) rfl
set_option maxRecDepth 100000 in
theorem q2750 : (Jvm.Cond.fieldLinkNest "PascalHouse$Compiler" (590 : Nat) "PascalHouse$Leap" "statements" "[I" "PascalHouse") ∈ lw_tbl := lw_at lw_m10 214 rfl
set_option maxRecDepth 100000 in
theorem q2762 : (Jvm.Cond.methodLink "PascalHouse$Compiler" (648 : Nat) ({ cls := "PascalHouse$Compiler", name := "assigns", desc := "(LPascalHouse$Tree;)V" } : Jvm.MethodName)) ∈ lw_all := lw_g (lw_at lw_m10 226 rfl) rfl
set_option maxRecDepth 100000 in
theorem q2764 : (Jvm.Cond.instanceMethod ({ cls := "PascalHouse$Compiler", name := "assigns", desc := "(LPascalHouse$Tree;)V" } : Jvm.MethodName)) ∈ lw_all := lw_g (lw_at lw_m10 228 rfl) rfl
set_option maxRecDepth 100000 in
theorem q2765 : (Jvm.Cond.code ({ cls := "PascalHouse$Compiler", name := "assigns", desc := "(LPascalHouse$Tree;)V" } : Jvm.MethodName) prog_4_method_54_code (7 : Nat) (Option.none : Option Jvm.ClassFile.FieldType)) ∈ lw_all := lw_g (lw_at lw_m10 229 rfl) rfl
set_option maxRecDepth 100000 in
theorem q2766 : (Jvm.Cond.methodLink "PascalHouse$Compiler" (698 : Nat) ({ cls := "PascalHouse$Compiler", name := "within", desc := "(LPascalHouse$Item;)LPascalHouse$Routine;" } : Jvm.MethodName)) ∈ lw_all := lw_g (lw_at lw_m10 230 rfl) rfl
set_option maxRecDepth 100000 in
theorem q2768 : (Jvm.Cond.instanceMethod ({ cls := "PascalHouse$Compiler", name := "within", desc := "(LPascalHouse$Item;)LPascalHouse$Routine;" } : Jvm.MethodName)) ∈ lw_all := lw_g (lw_at lw_m10 232 rfl) rfl
set_option maxRecDepth 100000 in
theorem q2769 : (Jvm.Cond.code ({ cls := "PascalHouse$Compiler", name := "within", desc := "(LPascalHouse$Item;)LPascalHouse$Routine;" } : Jvm.MethodName) prog_4_method_53_code (3 : Nat) (Option.some (Jvm.ClassFile.FieldType.object "PascalHouse$Routine"))) ∈ lw_all := lw_g (lw_at lw_m10 233 rfl) rfl
set_option maxRecDepth 100000 in
theorem q2770 : (Jvm.Cond.methodLink "PascalHouse$Compiler" (712 : Nat) ({ cls := "PascalHouse$Compiler", name := "store", desc := "(LPascalHouse$Type;LPascalHouse$Type;I)V" } : Jvm.MethodName)) ∈ lw_all := lw_g (lw_at lw_m10 234 rfl) rfl
set_option maxRecDepth 100000 in
theorem q2772 : (Jvm.Cond.instanceMethod ({ cls := "PascalHouse$Compiler", name := "store", desc := "(LPascalHouse$Type;LPascalHouse$Type;I)V" } : Jvm.MethodName)) ∈ lw_all := lw_g (lw_at lw_m10 236 rfl) rfl
set_option maxRecDepth 100000 in
theorem q2773 : (Jvm.Cond.code ({ cls := "PascalHouse$Compiler", name := "store", desc := "(LPascalHouse$Type;LPascalHouse$Type;I)V" } : Jvm.MethodName) prog_4_method_56_code (4 : Nat) (Option.none : Option Jvm.ClassFile.FieldType)) ∈ lw_all := lw_g (lw_at lw_m10 237 rfl) rfl
set_option maxRecDepth 100000 in
theorem q2774 : (Jvm.Cond.methodLink "PascalHouse$Compiler" (651 : Nat) ({ cls := "PascalHouse$Compiler", name := "calls", desc := "(LPascalHouse$Tree;)V" } : Jvm.MethodName)) ∈ lw_all := lw_g (lw_at lw_m10 238 rfl) rfl
set_option maxRecDepth 100000 in
theorem q2776 : (Jvm.Cond.instanceMethod ({ cls := "PascalHouse$Compiler", name := "calls", desc := "(LPascalHouse$Tree;)V" } : Jvm.MethodName)) ∈ lw_all := lw_g (lw_at lw_m11 0 rfl) rfl
set_option maxRecDepth 100000 in
theorem q2777 : (Jvm.Cond.code ({ cls := "PascalHouse$Compiler", name := "calls", desc := "(LPascalHouse$Tree;)V" } : Jvm.MethodName) prog_4_method_66_code (3 : Nat) (Option.none : Option Jvm.ClassFile.FieldType)) ∈ lw_all := lw_g (lw_at lw_m11 1 rfl) rfl
set_option maxRecDepth 100000 in
theorem q2778 : (Jvm.Cond.methodLink "PascalHouse$Compiler" (758 : Nat) ({ cls := "PascalHouse$Compiler", name := "required", desc := "(ILPascalHouse$Tree;)V" } : Jvm.MethodName)) ∈ lw_all := lw_g (lw_at lw_m11 2 rfl) rfl
set_option maxRecDepth 100000 in
theorem q2780 : (Jvm.Cond.instanceMethod ({ cls := "PascalHouse$Compiler", name := "required", desc := "(ILPascalHouse$Tree;)V" } : Jvm.MethodName)) ∈ lw_all := lw_g (lw_at lw_m11 4 rfl) rfl
set_option maxRecDepth 100000 in
theorem q2781 : (Jvm.Cond.code ({ cls := "PascalHouse$Compiler", name := "required", desc := "(ILPascalHouse$Tree;)V" } : Jvm.MethodName) prog_4_method_69_code (6 : Nat) (Option.none : Option Jvm.ClassFile.FieldType)) ∈ lw_all := lw_g (lw_at lw_m11 5 rfl) rfl
set_option maxRecDepth 100000 in
theorem q2782 : (Jvm.Cond.methodLink "PascalHouse$Compiler" (762 : Nat) ({ cls := "PascalHouse$Compiler", name := "transfers", desc := "(ILPascalHouse$Tree;)V" } : Jvm.MethodName)) ∈ lw_all := lw_g (lw_at lw_m11 6 rfl) rfl
set_option maxRecDepth 100000 in
theorem q2784 : (Jvm.Cond.instanceMethod ({ cls := "PascalHouse$Compiler", name := "transfers", desc := "(ILPascalHouse$Tree;)V" } : Jvm.MethodName)) ∈ lw_all := lw_g (lw_at lw_m11 8 rfl) rfl
set_option maxRecDepth 100000 in
theorem q2785 : (Jvm.Cond.code ({ cls := "PascalHouse$Compiler", name := "transfers", desc := "(ILPascalHouse$Tree;)V" } : Jvm.MethodName) prog_4_method_70_code (7 : Nat) (Option.none : Option Jvm.ClassFile.FieldType)) ∈ lw_all := lw_g (lw_at lw_m11 9 rfl) rfl
set_option maxRecDepth 100000 in
theorem q2786 : (Jvm.Cond.methodLink "PascalHouse$Compiler" (781 : Nat) ({ cls := "PascalHouse$Compiler", name := "reads", desc := "(LPascalHouse$Item;LPascalHouse$Tree;I)V" } : Jvm.MethodName)) ∈ lw_all := lw_g (lw_at lw_m11 10 rfl) rfl
set_option maxRecDepth 100000 in
theorem q2788 : (Jvm.Cond.instanceMethod ({ cls := "PascalHouse$Compiler", name := "reads", desc := "(LPascalHouse$Item;LPascalHouse$Tree;I)V" } : Jvm.MethodName)) ∈ lw_all := lw_g (lw_at lw_m11 12 rfl) rfl
set_option maxRecDepth 100000 in
theorem q2789 : (Jvm.Cond.code ({ cls := "PascalHouse$Compiler", name := "reads", desc := "(LPascalHouse$Item;LPascalHouse$Tree;I)V" } : Jvm.MethodName) prog_4_method_71_code (10 : Nat) (Option.none : Option Jvm.ClassFile.FieldType)) ∈ lw_all := lw_g (lw_at lw_m11 13 rfl) rfl
set_option maxRecDepth 100000 in
theorem q2790 : (Jvm.Cond.methodLink "PascalHouse$Compiler" (785 : Nat) ({ cls := "PascalHouse$Compiler", name := "writes", desc := "(LPascalHouse$Item;LPascalHouse$Tree;I)V" } : Jvm.MethodName)) ∈ lw_all := lw_g (lw_at lw_m11 14 rfl) rfl
set_option maxRecDepth 100000 in
theorem q2792 : (Jvm.Cond.instanceMethod ({ cls := "PascalHouse$Compiler", name := "writes", desc := "(LPascalHouse$Item;LPascalHouse$Tree;I)V" } : Jvm.MethodName)) ∈ lw_all := lw_g (lw_at lw_m11 16 rfl) rfl
set_option maxRecDepth 100000 in
theorem q2793 : (Jvm.Cond.code ({ cls := "PascalHouse$Compiler", name := "writes", desc := "(LPascalHouse$Item;LPascalHouse$Tree;I)V" } : Jvm.MethodName) prog_4_method_73_code (11 : Nat) (Option.none : Option Jvm.ClassFile.FieldType)) ∈ lw_all := lw_g (lw_at lw_m11 17 rfl) rfl
set_option maxRecDepth 100000 in
theorem q2794 : (Jvm.Cond.methodLink "PascalHouse$Compiler" (771 : Nat) ({ cls := "PascalHouse$Type", name := "isStructure", desc := "()Z" } : Jvm.MethodName)) ∈ lw_all := lw_g (lw_at lw_m11 18 rfl) rfl
set_option maxRecDepth 100000 in
theorem q2795 : (Jvm.Cond.instanceMethod ({ cls := "PascalHouse$Type", name := "isStructure", desc := "()Z" } : Jvm.MethodName)) ∈ lw_all := lw_g (lw_at lw_m11 19 rfl) rfl
set_option maxRecDepth 100000 in
theorem q2796 : (Jvm.Cond.selects "PascalHouse$Type" ({ cls := "PascalHouse$Type", name := "isStructure", desc := "()Z" } : Jvm.MethodName) ({ cls := "PascalHouse$Type", name := "isStructure", desc := "()Z" } : Jvm.MethodName)) ∈ lw_all := lw_g (lw_at lw_m11 20 rfl) rfl
set_option maxRecDepth 100000 in
theorem q2797 : (Jvm.Cond.code ({ cls := "PascalHouse$Type", name := "isStructure", desc := "()Z" } : Jvm.MethodName) prog_22_method_10_code (1 : Nat) (Option.some Jvm.ClassFile.FieldType.boolean)) ∈ lw_all := lw_g (lw_at lw_m11 21 rfl) rfl
set_option maxRecDepth 100000 in
theorem q2798 : (Jvm.Cond.methodLink "PascalHouse$Compiler" (510 : Nat) ({ cls := "PascalHouse$Compiler", name := "leaps", desc := "(LPascalHouse$Block;)V" } : Jvm.MethodName)) ∈ lw_all := lw_g (lw_at lw_m11 22 rfl) rfl
set_option maxRecDepth 100000 in
theorem q2800 : (Jvm.Cond.instanceMethod ({ cls := "PascalHouse$Compiler", name := "leaps", desc := "(LPascalHouse$Block;)V" } : Jvm.MethodName)) ∈ lw_all := lw_g (lw_at lw_m11 24 rfl) rfl
set_option maxRecDepth 100000 in
theorem q2801 : (Jvm.Cond.code ({ cls := "PascalHouse$Compiler", name := "leaps", desc := "(LPascalHouse$Block;)V" } : Jvm.MethodName) prog_4_method_38_code (5 : Nat) (Option.none : Option Jvm.ClassFile.FieldType)) ∈ lw_all := lw_g (lw_at lw_m11 25 rfl) rfl
set_option maxRecDepth 100000 in
theorem q2802 : (Jvm.Cond.classLink "PascalHouse$Compiler" (573 : Nat) "PascalHouse$Leap") ∈ lw_all := lw_g (lw_at lw_m11 26 rfl) rfl
set_option maxRecDepth 100000 in
theorem q2803 : (Jvm.Cond.methodLink "PascalHouse$Compiler" (596 : Nat) ({ cls := "PascalHouse$Compiler", name := "has", desc := "([II)Z" } : Jvm.MethodName)) ∈ lw_all := lw_g (lw_at lw_m11 27 rfl) rfl
set_option maxRecDepth 100000 in
theorem q2804 : (Jvm.Cond.static ({ cls := "PascalHouse$Compiler", name := "has", desc := "([II)Z" } : Jvm.MethodName)) ∈ lw_all := lw_g (lw_at lw_m11 28 rfl) rfl
set_option maxRecDepth 100000 in
theorem q2805 : (Jvm.Cond.code ({ cls := "PascalHouse$Compiler", name := "has", desc := "([II)Z" } : Jvm.MethodName) prog_4_method_37_code (4 : Nat) (Option.some Jvm.ClassFile.FieldType.boolean)) ∈ lw_all := lw_g (lw_at lw_m11 29 rfl) rfl
set_option maxRecDepth 100000 in
theorem q2806 : (Jvm.Cond.methodLink "PascalHouse" (232 : Nat) ({ cls := "PascalHouse$Tree", name := "text", desc := "()Ljava/lang/String;" } : Jvm.MethodName)) ∈ lw_all := lw_g (lw_at lw_m11 30 rfl) rfl
set_option maxRecDepth 100000 in
theorem q2807 : (Jvm.Cond.methodLink "PascalHouse" (236 : Nat) ({ cls := "PascalHouse$Scope", name := "own", desc := "(Ljava/lang/String;)LPascalHouse$Item;" } : Jvm.MethodName)) ∈ lw_all := lw_g (lw_at lw_m11 31 rfl) rfl
set_option maxRecDepth 100000 in
theorem q2808 : (Jvm.Cond.methodLink "PascalHouseLaw" (28 : Nat) ({ cls := "PascalHouse", name := "place", desc := "()I" } : Jvm.MethodName)) ∈ lw_all := lw_g (lw_at lw_m11 32 rfl) rfl
set_option maxRecDepth 100000 in
theorem q2809 : (Jvm.Cond.instanceMethod ({ cls := "PascalHouse", name := "place", desc := "()I" } : Jvm.MethodName)) ∈ lw_all := lw_g (lw_at lw_m11 33 rfl) rfl
set_option maxRecDepth 100000 in
theorem q2810 : (Jvm.Cond.selects "PascalHouse" ({ cls := "PascalHouse", name := "place", desc := "()I" } : Jvm.MethodName) ({ cls := "PascalHouse", name := "place", desc := "()I" } : Jvm.MethodName)) ∈ lw_all := lw_g (lw_at lw_m11 34 rfl) rfl
set_option maxRecDepth 100000 in
theorem q2811 : (Jvm.Cond.code ({ cls := "PascalHouse", name := "place", desc := "()I" } : Jvm.MethodName) prog_1_method_13_code (1 : Nat) (Option.some Jvm.ClassFile.FieldType.int)) ∈ lw_all := lw_g (lw_at lw_m11 35 rfl) rfl
set_option maxRecDepth 100000 in
theorem q2812 : (Jvm.Cond.methodLink "PascalHouseLaw" (32 : Nat) ({ cls := "PascalHouse", name := "put", desc := "(I)I" } : Jvm.MethodName)) ∈ lw_all := lw_g (lw_at lw_m11 36 rfl) rfl
set_option maxRecDepth 100000 in
theorem q2813 : (Jvm.Cond.instanceMethod ({ cls := "PascalHouse", name := "put", desc := "(I)I" } : Jvm.MethodName)) ∈ lw_all := lw_g (lw_at lw_m11 37 rfl) rfl
set_option maxRecDepth 100000 in
theorem q2814 : (Jvm.Cond.selects "PascalHouse" ({ cls := "PascalHouse", name := "put", desc := "(I)I" } : Jvm.MethodName) ({ cls := "PascalHouse", name := "put", desc := "(I)I" } : Jvm.MethodName)) ∈ lw_all := lw_g (lw_at lw_m11 38 rfl) rfl
set_option maxRecDepth 100000 in
theorem q2815 : (Jvm.Cond.code ({ cls := "PascalHouse", name := "put", desc := "(I)I" } : Jvm.MethodName) prog_1_method_14_code (5 : Nat) (Option.some Jvm.ClassFile.FieldType.int)) ∈ lw_all := lw_g (lw_at lw_m11 39 rfl) rfl
set_option maxRecDepth 100000 in
theorem q2816 : (Jvm.Cond.methodLink "PascalHouseLaw" (37 : Nat) ({ cls := "PascalHouse", name := "run", desc := "(I)I" } : Jvm.MethodName)) ∈ lw_all := lw_g (lw_at lw_m11 40 rfl) rfl
set_option maxRecDepth 100000 in
theorem q2817 : (Jvm.Cond.instanceMethod ({ cls := "PascalHouse", name := "run", desc := "(I)I" } : Jvm.MethodName)) ∈ lw_all := lw_g (lw_at lw_m11 41 rfl) rfl
set_option maxRecDepth 100000 in
theorem q2818 : (Jvm.Cond.selects "PascalHouse" ({ cls := "PascalHouse", name := "run", desc := "(I)I" } : Jvm.MethodName) ({ cls := "PascalHouse", name := "run", desc := "(I)I" } : Jvm.MethodName)) ∈ lw_all := lw_g (lw_at lw_m11 42 rfl) rfl
set_option maxRecDepth 100000 in
theorem q2819 : (Jvm.Cond.code ({ cls := "PascalHouse", name := "run", desc := "(I)I" } : Jvm.MethodName) prog_1_method_15_code (3 : Nat) (Option.some Jvm.ClassFile.FieldType.int)) ∈ lw_all := lw_g (lw_at lw_m11 43 rfl) rfl
set_option maxRecDepth 100000 in
theorem q2820 : (Jvm.Cond.methodLink "PascalHouse" (256 : Nat) ({ cls := "PascalHouse", name := "held", desc := "(I)I" } : Jvm.MethodName)) ∈ lw_all := lw_g (lw_at lw_m11 44 rfl) rfl
set_option maxRecDepth 100000 in
theorem q2821 : (Jvm.Cond.static ({ cls := "PascalHouse", name := "held", desc := "(I)I" } : Jvm.MethodName)) ∈ lw_all := lw_g (lw_at lw_m11 45 rfl) rfl
set_option maxRecDepth 100000 in
theorem q2822 : (Jvm.Cond.code ({ cls := "PascalHouse", name := "held", desc := "(I)I" } : Jvm.MethodName) prog_1_method_16_code (1 : Nat) (Option.some Jvm.ClassFile.FieldType.int)) ∈ lw_all := lw_g (lw_at lw_m11 46 rfl) rfl
set_option maxRecDepth 100000 in
theorem q2823 : (Jvm.Cond.methodLink "PascalHouse" (260 : Nat) ({ cls := "PascalHouse$Machine", name := "begin", desc := "(LPascalHouse$Routine;I)V" } : Jvm.MethodName)) ∈ lw_all := lw_g (lw_at lw_m11 47 rfl) rfl
set_option maxRecDepth 100000 in
theorem q2824 : (Jvm.Cond.instanceMethod ({ cls := "PascalHouse$Machine", name := "begin", desc := "(LPascalHouse$Routine;I)V" } : Jvm.MethodName)) ∈ lw_all := lw_g (lw_at lw_m11 48 rfl) rfl
set_option maxRecDepth 100000 in
theorem q2825 : (Jvm.Cond.selects "PascalHouse$Machine" ({ cls := "PascalHouse$Machine", name := "begin", desc := "(LPascalHouse$Routine;I)V" } : Jvm.MethodName) ({ cls := "PascalHouse$Machine", name := "begin", desc := "(LPascalHouse$Routine;I)V" } : Jvm.MethodName)) ∈ lw_all := lw_g (lw_at lw_m11 49 rfl) rfl
set_option maxRecDepth 100000 in
theorem q2826 : (Jvm.Cond.code ({ cls := "PascalHouse$Machine", name := "begin", desc := "(LPascalHouse$Routine;I)V" } : Jvm.MethodName) prog_11_method_3_code (4 : Nat) (Option.none : Option Jvm.ClassFile.FieldType)) ∈ lw_all := lw_g (lw_at lw_m11 50 rfl) rfl
set_option maxRecDepth 100000 in
theorem q2827 : (Jvm.Cond.methodLink "PascalHouse$Machine" (123 : Nat) ({ cls := "PascalHouse$FileRows", name := "begin", desc := "()V" } : Jvm.MethodName)) ∈ lw_all := lw_g (lw_at lw_m11 51 rfl) rfl
set_option maxRecDepth 100000 in
theorem q2828 : (Jvm.Cond.instanceMethod ({ cls := "PascalHouse$FileRows", name := "begin", desc := "()V" } : Jvm.MethodName)) ∈ lw_all := lw_g (lw_at lw_m11 52 rfl) rfl
set_option maxRecDepth 100000 in
theorem q2829 : (Jvm.Cond.selects "PascalHouse$FileRows" ({ cls := "PascalHouse$FileRows", name := "begin", desc := "()V" } : Jvm.MethodName) ({ cls := "PascalHouse$FileRows", name := "begin", desc := "()V" } : Jvm.MethodName)) ∈ lw_all := lw_g (lw_at lw_m11 53 rfl) rfl
set_option maxRecDepth 100000 in
theorem q2830 : (Jvm.Cond.code ({ cls := "PascalHouse$FileRows", name := "begin", desc := "()V" } : Jvm.MethodName) prog_7_method_2_code (2 : Nat) (Option.none : Option Jvm.ClassFile.FieldType)) ∈ lw_all := lw_g (lw_at lw_m11 54 rfl) rfl
set_option maxRecDepth 100000 in
theorem q2831 : (Jvm.Cond.methodLink "PascalHouse$Machine" (140 : Nat) ({ cls := "PascalHouse$Memory", name := "set", desc := "(IJ)V" } : Jvm.MethodName)) ∈ lw_all := lw_g (lw_at lw_m11 55 rfl) rfl
set_option maxRecDepth 100000 in
theorem q2832 : (Jvm.Cond.instanceMethod ({ cls := "PascalHouse$Memory", name := "set", desc := "(IJ)V" } : Jvm.MethodName)) ∈ lw_all := lw_g (lw_at lw_m11 56 rfl) rfl
set_option maxRecDepth 100000 in
theorem q2833 : (Jvm.Cond.selects "PascalHouse$Memory" ({ cls := "PascalHouse$Memory", name := "set", desc := "(IJ)V" } : Jvm.MethodName) ({ cls := "PascalHouse$Memory", name := "set", desc := "(IJ)V" } : Jvm.MethodName)) ∈ lw_all := lw_g (lw_at lw_m11 57 rfl) rfl
set_option maxRecDepth 100000 in
theorem q2834 : (Jvm.Cond.code ({ cls := "PascalHouse$Memory", name := "set", desc := "(IJ)V" } : Jvm.MethodName) prog_12_method_4_code (4 : Nat) (Option.none : Option Jvm.ClassFile.FieldType)) ∈ lw_all := lw_g (lw_at lw_m11 58 rfl) rfl
set_option maxRecDepth 100000 in
theorem q2835 : (Jvm.Cond.methodLink "PascalHouse$Machine" (147 : Nat) ({ cls := "PascalHouse$Machine", name := "fail", desc := "(II)V" } : Jvm.MethodName)) ∈ lw_all := lw_g (lw_at lw_m11 59 rfl) rfl
set_option maxRecDepth 100000 in
theorem q2837 : (Jvm.Cond.instanceMethod ({ cls := "PascalHouse$Machine", name := "fail", desc := "(II)V" } : Jvm.MethodName)) ∈ lw_all := lw_g (lw_at lw_m11 61 rfl) rfl
set_option maxRecDepth 100000 in
theorem q2838 : (Jvm.Cond.code ({ cls := "PascalHouse$Machine", name := "fail", desc := "(II)V" } : Jvm.MethodName) prog_11_method_2_code (3 : Nat) (Option.none : Option Jvm.ClassFile.FieldType)) ∈ lw_all := lw_g (lw_at lw_m11 62 rfl) rfl
set_option maxRecDepth 100000 in
theorem q2839 : (Jvm.Cond.methodLink "PascalHouse$Machine" (151 : Nat) ({ cls := "PascalHouse$Machine", name := "opens", desc := "(LPascalHouse$Routine;I)V" } : Jvm.MethodName)) ∈ lw_all := lw_g (lw_at lw_m11 63 rfl) rfl
set_option maxRecDepth 100000 in
theorem q2841 : (Jvm.Cond.instanceMethod ({ cls := "PascalHouse$Machine", name := "opens", desc := "(LPascalHouse$Routine;I)V" } : Jvm.MethodName)) ∈ lw_all := lw_g (lw_at lw_m11 65 rfl) rfl
set_option maxRecDepth 100000 in
theorem q2842 : (Jvm.Cond.code ({ cls := "PascalHouse$Machine", name := "opens", desc := "(LPascalHouse$Routine;I)V" } : Jvm.MethodName) prog_11_method_4_code (4 : Nat) (Option.none : Option Jvm.ClassFile.FieldType)) ∈ lw_all := lw_g (lw_at lw_m11 66 rfl) rfl
set_option maxRecDepth 100000 in
theorem q2843 : (Jvm.Cond.methodLink "PascalHouse$Machine" (155 : Nat) ({ cls := "PascalHouse$Memory", name := "forget", desc := "(II)V" } : Jvm.MethodName)) ∈ lw_all := lw_g (lw_at lw_m11 67 rfl) rfl
set_option maxRecDepth 100000 in
theorem q2844 : (Jvm.Cond.instanceMethod ({ cls := "PascalHouse$Memory", name := "forget", desc := "(II)V" } : Jvm.MethodName)) ∈ lw_all := lw_g (lw_at lw_m11 68 rfl) rfl
set_option maxRecDepth 100000 in
theorem q2845 : (Jvm.Cond.selects "PascalHouse$Memory" ({ cls := "PascalHouse$Memory", name := "forget", desc := "(II)V" } : Jvm.MethodName) ({ cls := "PascalHouse$Memory", name := "forget", desc := "(II)V" } : Jvm.MethodName)) ∈ lw_all := lw_g (lw_at lw_m11 69 rfl) rfl
set_option maxRecDepth 100000 in
theorem q2846 : (Jvm.Cond.code ({ cls := "PascalHouse$Memory", name := "forget", desc := "(II)V" } : Jvm.MethodName) prog_12_method_2_code (4 : Nat) (Option.none : Option Jvm.ClassFile.FieldType)) ∈ lw_all := lw_g (lw_at lw_m11 70 rfl) rfl
set_option maxRecDepth 100000 in
theorem q2847 : (Jvm.Cond.methodLink "PascalHouse$Machine" (161 : Nat) ({ cls := "java/util/ArrayList", name := "size", desc := "()I" } : Jvm.MethodName)) ∈ lw_all := lw_g (lw_at lw_m11 71 rfl) rfl
set_option maxRecDepth 100000 in
theorem q2848 : (Jvm.Cond.methodLink "PascalHouse$Machine" (166 : Nat) ({ cls := "java/util/ArrayList", name := "get", desc := "(I)Ljava/lang/Object;" } : Jvm.MethodName)) ∈ lw_all := lw_g (lw_at lw_m11 72 rfl) rfl
set_option maxRecDepth 100000 in
theorem q2849 : (Jvm.Cond.classLink "PascalHouse$Machine" (170 : Nat) "PascalHouse$Item") ∈ lw_all := lw_g (lw_at lw_m11 73 rfl) rfl
set_option maxRecDepth 100000 in
theorem q2850 : (Jvm.Cond.methodLink "PascalHouse$Machine" (179 : Nat) ({ cls := "PascalHouse$FileRows", name := "open", desc := "(ILPascalHouse$Type;)V" } : Jvm.MethodName)) ∈ lw_all := lw_g (lw_at lw_m11 74 rfl) rfl
set_option maxRecDepth 100000 in
theorem q2851 : (Jvm.Cond.instanceMethod ({ cls := "PascalHouse$FileRows", name := "open", desc := "(ILPascalHouse$Type;)V" } : Jvm.MethodName)) ∈ lw_all := lw_g (lw_at lw_m11 75 rfl) rfl
set_option maxRecDepth 100000 in
theorem q2852 : (Jvm.Cond.selects "PascalHouse$FileRows" ({ cls := "PascalHouse$FileRows", name := "open", desc := "(ILPascalHouse$Type;)V" } : Jvm.MethodName) ({ cls := "PascalHouse$FileRows", name := "open", desc := "(ILPascalHouse$Type;)V" } : Jvm.MethodName)) ∈ lw_all := lw_g (lw_at lw_m11 76 rfl) rfl
set_option maxRecDepth 100000 in
theorem q2853 : (Jvm.Cond.code ({ cls := "PascalHouse$FileRows", name := "open", desc := "(ILPascalHouse$Type;)V" } : Jvm.MethodName) prog_7_method_3_code (3 : Nat) (Option.none : Option Jvm.ClassFile.FieldType)) ∈ lw_all := lw_g (lw_at lw_m11 77 rfl) rfl
set_option maxRecDepth 100000 in
theorem q2854 : (Jvm.Cond.methodLink "PascalHouse$FileRows" (66 : Nat) ({ cls := "PascalHouse$Type", name := "isText", desc := "()Z" } : Jvm.MethodName)) ∈ lw_all := lw_g (lw_at lw_m11 78 rfl) rfl
set_option maxRecDepth 100000 in
theorem q2855 : (Jvm.Cond.methodLink "PascalHouse" (266 : Nat) ({ cls := "PascalHouse", name := "opens", desc := "(I)V" } : Jvm.MethodName)) ∈ lw_all := lw_g (lw_at lw_m11 79 rfl) rfl
set_option maxRecDepth 100000 in
theorem q2857 : (Jvm.Cond.instanceMethod ({ cls := "PascalHouse", name := "opens", desc := "(I)V" } : Jvm.MethodName)) ∈ lw_all := lw_g (lw_at lw_m11 81 rfl) rfl
set_option maxRecDepth 100000 in
theorem q2858 : (Jvm.Cond.code ({ cls := "PascalHouse", name := "opens", desc := "(I)V" } : Jvm.MethodName) prog_1_method_17_code (5 : Nat) (Option.none : Option Jvm.ClassFile.FieldType)) ∈ lw_all := lw_g (lw_at lw_m11 82 rfl) rfl
set_option maxRecDepth 100000 in
theorem q2859 : (Jvm.Cond.methodLink "PascalHouse" (278 : Nat) ({ cls := "PascalHouse$FileRows", name := "add", desc := "(II)V" } : Jvm.MethodName)) ∈ lw_all := lw_g (lw_at lw_m11 83 rfl) rfl
set_option maxRecDepth 100000 in
theorem q2860 : (Jvm.Cond.instanceMethod ({ cls := "PascalHouse$FileRows", name := "add", desc := "(II)V" } : Jvm.MethodName)) ∈ lw_all := lw_g (lw_at lw_m11 84 rfl) rfl
set_option maxRecDepth 100000 in
theorem q2861 : (Jvm.Cond.selects "PascalHouse$FileRows" ({ cls := "PascalHouse$FileRows", name := "add", desc := "(II)V" } : Jvm.MethodName) ({ cls := "PascalHouse$FileRows", name := "add", desc := "(II)V" } : Jvm.MethodName)) ∈ lw_all := lw_g (lw_at lw_m11 85 rfl) rfl
set_option maxRecDepth 100000 in
theorem q2862 : (Jvm.Cond.code ({ cls := "PascalHouse$FileRows", name := "add", desc := "(II)V" } : Jvm.MethodName) prog_7_method_7_code (4 : Nat) (Option.none : Option Jvm.ClassFile.FieldType)) ∈ lw_all := lw_g (lw_at lw_m11 86 rfl) rfl
set_option maxRecDepth 100000 in
theorem q2863 : (Jvm.Cond.methodLink "PascalHouse$FileRows" (78 : Nat) ({ cls := "PascalHouse$FileRows", name := "node", desc := "(I)I" } : Jvm.MethodName)) ∈ lw_all := lw_g (lw_at lw_m11 87 rfl) rfl
set_option maxRecDepth 100000 in
theorem q2865 : (Jvm.Cond.instanceMethod ({ cls := "PascalHouse$FileRows", name := "node", desc := "(I)I" } : Jvm.MethodName)) ∈ lw_all := lw_g (lw_at lw_m11 89 rfl) rfl
set_option maxRecDepth 100000 in
theorem q2866 : (Jvm.Cond.code ({ cls := "PascalHouse$FileRows", name := "node", desc := "(I)I" } : Jvm.MethodName) prog_7_method_6_code (3 : Nat) (Option.some Jvm.ClassFile.FieldType.int)) ∈ lw_all := lw_g (lw_at lw_m11 90 rfl) rfl
set_option maxRecDepth 100000 in
theorem q2867 : (Jvm.Cond.methodLink "PascalHouse" (288 : Nat) ({ cls := "PascalHouse$FileRows", name := "reset", desc := "(II)V" } : Jvm.MethodName)) ∈ lw_all := lw_g (lw_at lw_m11 91 rfl) rfl
set_option maxRecDepth 100000 in
theorem q2868 : (Jvm.Cond.instanceMethod ({ cls := "PascalHouse$FileRows", name := "reset", desc := "(II)V" } : Jvm.MethodName)) ∈ lw_all := lw_g (lw_at lw_m11 92 rfl) rfl
set_option maxRecDepth 100000 in
theorem q2869 : (Jvm.Cond.selects "PascalHouse$FileRows" ({ cls := "PascalHouse$FileRows", name := "reset", desc := "(II)V" } : Jvm.MethodName) ({ cls := "PascalHouse$FileRows", name := "reset", desc := "(II)V" } : Jvm.MethodName)) ∈ lw_all := lw_g (lw_at lw_m11 93 rfl) rfl
set_option maxRecDepth 100000 in
theorem q2870 : (Jvm.Cond.code ({ cls := "PascalHouse$FileRows", name := "reset", desc := "(II)V" } : Jvm.MethodName) prog_7_method_13_code (3 : Nat) (Option.none : Option Jvm.ClassFile.FieldType)) ∈ lw_all := lw_g (lw_at lw_m11 94 rfl) rfl
set_option maxRecDepth 100000 in
theorem q2871 : (Jvm.Cond.constantLong "PascalHouse$FileRows" (92 : Nat) (10 : Int64)) ∈ lw_all := lw_g (lw_at lw_m11 95 rfl) rfl
set_option maxRecDepth 100000 in
theorem q2872 : (Jvm.Cond.methodLink "PascalHouse$FileRows" (96 : Nat) ({ cls := "PascalHouse$FileRows", name := "add", desc := "(II)V" } : Jvm.MethodName)) ∈ lw_all := lw_g (lw_at lw_m11 96 rfl) rfl
set_option maxRecDepth 100000 in
theorem q2873 : (Jvm.Cond.methodLink "PascalHouse$FileRows" (99 : Nat) ({ cls := "PascalHouse$FileRows", name := "bring", desc := "(II)V" } : Jvm.MethodName)) ∈ lw_all := lw_g (lw_at lw_m11 97 rfl) rfl
set_option maxRecDepth 100000 in
theorem q2874 : (Jvm.Cond.instanceMethod ({ cls := "PascalHouse$FileRows", name := "bring", desc := "(II)V" } : Jvm.MethodName)) ∈ lw_all := lw_g (lw_at lw_m11 98 rfl) rfl
set_option maxRecDepth 100000 in
theorem q2875 : (Jvm.Cond.selects "PascalHouse$FileRows" ({ cls := "PascalHouse$FileRows", name := "bring", desc := "(II)V" } : Jvm.MethodName) ({ cls := "PascalHouse$FileRows", name := "bring", desc := "(II)V" } : Jvm.MethodName)) ∈ lw_all := lw_g (lw_at lw_m11 99 rfl) rfl
set_option maxRecDepth 100000 in
theorem q2876 : (Jvm.Cond.code ({ cls := "PascalHouse$FileRows", name := "bring", desc := "(II)V" } : Jvm.MethodName) prog_7_method_11_code (6 : Nat) (Option.none : Option Jvm.ClassFile.FieldType)) ∈ lw_all := lw_g (lw_at lw_m11 100 rfl) rfl
set_option maxRecDepth 100000 in
theorem q2877 : (Jvm.Cond.methodLink "PascalHouse$FileRows" (88 : Nat) ({ cls := "PascalHouse$Memory", name := "forget", desc := "(II)V" } : Jvm.MethodName)) ∈ lw_all := lw_g (lw_at lw_m11 101 rfl) rfl
set_option maxRecDepth 100000 in
theorem q2878 : (Jvm.Cond.constantLong "PascalHouse$FileRows" (94 : Nat) (32 : Int64)) ∈ lw_all := lw_g (lw_at lw_m11 102 rfl) rfl
set_option maxRecDepth 100000 in
theorem q2879 : (Jvm.Cond.methodLink "PascalHouse" (291 : Nat) ({ cls := "PascalHouse$FileRows", name := "empty", desc := "(I)V" } : Jvm.MethodName)) ∈ lw_all := lw_g (lw_at lw_m11 103 rfl) rfl
set_option maxRecDepth 100000 in
theorem q2880 : (Jvm.Cond.instanceMethod ({ cls := "PascalHouse$FileRows", name := "empty", desc := "(I)V" } : Jvm.MethodName)) ∈ lw_all := lw_g (lw_at lw_m11 104 rfl) rfl
set_option maxRecDepth 100000 in
theorem q2881 : (Jvm.Cond.selects "PascalHouse$FileRows" ({ cls := "PascalHouse$FileRows", name := "empty", desc := "(I)V" } : Jvm.MethodName) ({ cls := "PascalHouse$FileRows", name := "empty", desc := "(I)V" } : Jvm.MethodName)) ∈ lw_all := lw_g (lw_at lw_m11 105 rfl) rfl
set_option maxRecDepth 100000 in
theorem q2882 : (Jvm.Cond.code ({ cls := "PascalHouse$FileRows", name := "empty", desc := "(I)V" } : Jvm.MethodName) prog_7_method_4_code (2 : Nat) (Option.none : Option Jvm.ClassFile.FieldType)) ∈ lw_all := lw_g (lw_at lw_m11 106 rfl) rfl
set_option maxRecDepth 100000 in
theorem q2883 : (Jvm.Cond.methodLink "PascalHouse" (269 : Nat) ({ cls := "PascalHouse$Machine", name := "go", desc := "()V" } : Jvm.MethodName)) ∈ lw_all := lw_g (lw_at lw_m11 107 rfl) rfl
set_option maxRecDepth 100000 in
theorem q2884 : (Jvm.Cond.instanceMethod ({ cls := "PascalHouse$Machine", name := "go", desc := "()V" } : Jvm.MethodName)) ∈ lw_all := lw_g (lw_at lw_m11 108 rfl) rfl
set_option maxRecDepth 100000 in
theorem q2885 : (Jvm.Cond.selects "PascalHouse$Machine" ({ cls := "PascalHouse$Machine", name := "go", desc := "()V" } : Jvm.MethodName) ({ cls := "PascalHouse$Machine", name := "go", desc := "()V" } : Jvm.MethodName)) ∈ lw_all := lw_g (lw_at lw_m11 109 rfl) rfl
set_option maxRecDepth 100000 in
theorem q2886 : (Jvm.Cond.code ({ cls := "PascalHouse$Machine", name := "go", desc := "()V" } : Jvm.MethodName) prog_11_method_5_code (3 : Nat) (Option.none : Option Jvm.ClassFile.FieldType)) ∈ lw_all := lw_g (lw_at lw_m11 110 rfl) rfl
set_option maxRecDepth 100000 in
theorem q2887 : (Jvm.Cond.methodLink "PascalHouse$Machine" (186 : Nat) ({ cls := "PascalHouse$Machine", name := "data", desc := "(II)V" } : Jvm.MethodName)) ∈ lw_all := lw_g (lw_at lw_m11 111 rfl) rfl
set_option maxRecDepth 100000 in
theorem q2889 : (Jvm.Cond.instanceMethod ({ cls := "PascalHouse$Machine", name := "data", desc := "(II)V" } : Jvm.MethodName)) ∈ lw_all := lw_g (lw_at lw_m11 113 rfl) rfl
set_option maxRecDepth 100000 in
theorem q2890 : (Jvm.Cond.code ({ cls := "PascalHouse$Machine", name := "data", desc := "(II)V" } : Jvm.MethodName) prog_11_method_9_code (6 : Nat) (Option.none : Option Jvm.ClassFile.FieldType)) ∈ lw_all := lw_g (lw_at lw_m11 114 rfl) rfl
set_option maxRecDepth 100000 in
theorem q2891 : (Jvm.Cond.methodLink "PascalHouse$Machine" (207 : Nat) ({ cls := "PascalHouse$Machine", name := "push", desc := "(J)V" } : Jvm.MethodName)) ∈ lw_all := lw_g (lw_at lw_m11 115 rfl) rfl
set_option maxRecDepth 100000 in
theorem q2893 : (Jvm.Cond.instanceMethod ({ cls := "PascalHouse$Machine", name := "push", desc := "(J)V" } : Jvm.MethodName)) ∈ lw_all := lw_g (lw_at lw_m11 117 rfl) rfl
set_option maxRecDepth 100000 in
theorem q2894 : (Jvm.Cond.code ({ cls := "PascalHouse$Machine", name := "push", desc := "(J)V" } : Jvm.MethodName) prog_11_method_6_code (3 : Nat) (Option.none : Option Jvm.ClassFile.FieldType)) ∈ lw_all := lw_g (lw_at lw_m11 118 rfl) rfl
set_option maxRecDepth 100000 in
theorem q2895 : (Jvm.Cond.methodLink "PascalHouse$Machine" (214 : Nat) ({ cls := "PascalHouse$Machine", name := "frameAbove", desc := "(I)I" } : Jvm.MethodName)) ∈ lw_all := lw_g (lw_at lw_m11 119 rfl) rfl
set_option maxRecDepth 100000 in
theorem q2897 : (Jvm.Cond.instanceMethod ({ cls := "PascalHouse$Machine", name := "frameAbove", desc := "(I)I" } : Jvm.MethodName)) ∈ lw_all := lw_g (lw_at lw_m11 121 rfl) rfl
set_option maxRecDepth 100000 in
theorem q2898 : (Jvm.Cond.code ({ cls := "PascalHouse$Machine", name := "frameAbove", desc := "(I)I" } : Jvm.MethodName) prog_11_method_8_code (4 : Nat) (Option.some Jvm.ClassFile.FieldType.int)) ∈ lw_all := lw_g (lw_at lw_m11 122 rfl) rfl
set_option maxRecDepth 100000 in
theorem q2899 : (Jvm.Cond.methodLink "PascalHouse$Machine" (219 : Nat) ({ cls := "PascalHouse$Machine", name := "pop", desc := "()I" } : Jvm.MethodName)) ∈ lw_all := lw_g (lw_at lw_m11 123 rfl) rfl
set_option maxRecDepth 100000 in
theorem q2901 : (Jvm.Cond.instanceMethod ({ cls := "PascalHouse$Machine", name := "pop", desc := "()I" } : Jvm.MethodName)) ∈ lw_all := lw_g (lw_at lw_m11 125 rfl) rfl
set_option maxRecDepth 100000 in
theorem q2902 : (Jvm.Cond.code ({ cls := "PascalHouse$Machine", name := "pop", desc := "()I" } : Jvm.MethodName) prog_11_method_7_code (1 : Nat) (Option.some Jvm.ClassFile.FieldType.int)) ∈ lw_all := lw_g (lw_at lw_m11 126 rfl) rfl
set_option maxRecDepth 100000 in
theorem q2903 : (Jvm.Cond.methodLink "PascalHouse$Machine" (227 : Nat) ({ cls := "PascalHouse$Machine", name := "points", desc := "(I)V" } : Jvm.MethodName)) ∈ lw_all := lw_g (lw_at lw_m11 127 rfl) rfl
set_option maxRecDepth 100000 in
theorem q2905 : (Jvm.Cond.instanceMethod ({ cls := "PascalHouse$Machine", name := "points", desc := "(I)V" } : Jvm.MethodName)) ∈ lw_all := lw_g (lw_at lw_m11 129 rfl) rfl
set_option maxRecDepth 100000 in
theorem q2906 : (Jvm.Cond.code ({ cls := "PascalHouse$Machine", name := "points", desc := "(I)V" } : Jvm.MethodName) prog_11_method_10_code (3 : Nat) (Option.none : Option Jvm.ClassFile.FieldType)) ∈ lw_all := lw_g (lw_at lw_m11 130 rfl) rfl
set_option maxRecDepth 100000 in
theorem q2907 : (Jvm.Cond.classLink "PascalHouse$Machine" (234 : Nat) "PascalHouse$Part") ∈ lw_all := lw_g (lw_at lw_m11 131 rfl) rfl
set_option maxRecDepth 100000 in
theorem q2908 : (Jvm.Cond.methodLink "PascalHouse$Machine" (236 : Nat) ({ cls := "PascalHouse$Machine", name := "looks", desc := "(LPascalHouse$Part;II)V" } : Jvm.MethodName)) ∈ lw_all := lw_g (lw_at lw_m11 132 rfl) rfl
set_option maxRecDepth 100000 in
theorem q2910 : (Jvm.Cond.instanceMethod ({ cls := "PascalHouse$Machine", name := "looks", desc := "(LPascalHouse$Part;II)V" } : Jvm.MethodName)) ∈ lw_all := lw_g (lw_at lw_m11 134 rfl) rfl
set_option maxRecDepth 100000 in
theorem q2911 : (Jvm.Cond.code ({ cls := "PascalHouse$Machine", name := "looks", desc := "(LPascalHouse$Part;II)V" } : Jvm.MethodName) prog_11_method_11_code (6 : Nat) (Option.none : Option Jvm.ClassFile.FieldType)) ∈ lw_all := lw_g (lw_at lw_m11 135 rfl) rfl
set_option maxRecDepth 100000 in
theorem q2912 : (Jvm.Cond.methodLink "PascalHouse$Machine" (263 : Nat) ({ cls := "PascalHouse$Part", name := "choiceOf", desc := "(J)I" } : Jvm.MethodName)) ∈ lw_all := lw_g (lw_at lw_m11 136 rfl) rfl
set_option maxRecDepth 100000 in
theorem q2913 : (Jvm.Cond.methodLink "PascalHouse$Machine" (273 : Nat) ({ cls := "PascalHouse$Machine", name := "takes", desc := "(II)Z" } : Jvm.MethodName)) ∈ lw_all := lw_g (lw_at lw_m11 137 rfl) rfl
set_option maxRecDepth 100000 in
theorem q2915 : (Jvm.Cond.instanceMethod ({ cls := "PascalHouse$Machine", name := "takes", desc := "(II)Z" } : Jvm.MethodName)) ∈ lw_all := lw_g (lw_at lw_m11 139 rfl) rfl
set_option maxRecDepth 100000 in
theorem q2916 : (Jvm.Cond.code ({ cls := "PascalHouse$Machine", name := "takes", desc := "(II)Z" } : Jvm.MethodName) prog_11_method_25_code (3 : Nat) (Option.some Jvm.ClassFile.FieldType.boolean)) ∈ lw_all := lw_g (lw_at lw_m11 140 rfl) rfl
set_option maxRecDepth 100000 in
theorem q2917 : (Jvm.Cond.methodLink "PascalHouse$Machine" (240 : Nat) ({ cls := "PascalHouse$Machine", name := "loads", desc := "(I)V" } : Jvm.MethodName)) ∈ lw_all := lw_g (lw_at lw_m11 141 rfl) rfl
set_option maxRecDepth 100000 in
theorem q2919 : (Jvm.Cond.instanceMethod ({ cls := "PascalHouse$Machine", name := "loads", desc := "(I)V" } : Jvm.MethodName)) ∈ lw_all := lw_g (lw_at lw_m11 143 rfl) rfl
set_option maxRecDepth 100000 in
theorem q2920 : (Jvm.Cond.code ({ cls := "PascalHouse$Machine", name := "loads", desc := "(I)V" } : Jvm.MethodName) prog_11_method_12_code (3 : Nat) (Option.none : Option Jvm.ClassFile.FieldType)) ∈ lw_all := lw_g (lw_at lw_m11 144 rfl) rfl
set_option maxRecDepth 100000 in
theorem q2921 : (Jvm.Cond.methodLink "PascalHouse$Machine" (243 : Nat) ({ cls := "PascalHouse$Machine", name := "stores", desc := "(III)V" } : Jvm.MethodName)) ∈ lw_all := lw_g (lw_at lw_m11 145 rfl) rfl
set_option maxRecDepth 100000 in
theorem q2923 : (Jvm.Cond.instanceMethod ({ cls := "PascalHouse$Machine", name := "stores", desc := "(III)V" } : Jvm.MethodName)) ∈ lw_all := lw_g (lw_at lw_m11 147 rfl) rfl
set_option maxRecDepth 100000 in
theorem q2924 : (Jvm.Cond.code ({ cls := "PascalHouse$Machine", name := "stores", desc := "(III)V" } : Jvm.MethodName) prog_11_method_13_code (8 : Nat) (Option.none : Option Jvm.ClassFile.FieldType)) ∈ lw_all := lw_g (lw_at lw_m11 148 rfl) rfl
set_option maxRecDepth 100000 in
theorem q2925 : (Jvm.Cond.methodLink "PascalHouse$Machine" (279 : Nat) ({ cls := "PascalHouse$Memory", name := "copy", desc := "(III)V" } : Jvm.MethodName)) ∈ lw_all := lw_g (lw_at lw_m11 149 rfl) rfl
set_option maxRecDepth 100000 in
theorem q2926 : (Jvm.Cond.instanceMethod ({ cls := "PascalHouse$Memory", name := "copy", desc := "(III)V" } : Jvm.MethodName)) ∈ lw_all := lw_g (lw_at lw_m11 150 rfl) rfl
set_option maxRecDepth 100000 in
theorem q2927 : (Jvm.Cond.selects "PascalHouse$Memory" ({ cls := "PascalHouse$Memory", name := "copy", desc := "(III)V" } : Jvm.MethodName) ({ cls := "PascalHouse$Memory", name := "copy", desc := "(III)V" } : Jvm.MethodName)) ∈ lw_all := lw_g (lw_at lw_m11 151 rfl) rfl
set_option maxRecDepth 100000 in
theorem q2928 : (Jvm.Cond.code ({ cls := "PascalHouse$Memory", name := "copy", desc := "(III)V" } : Jvm.MethodName) prog_12_method_3_code (5 : Nat) (Option.none : Option Jvm.ClassFile.FieldType)) ∈ lw_all := lw_g (lw_at lw_m11 152 rfl) rfl
set_option maxRecDepth 100000 in
theorem q2929 : (Jvm.Cond.methodLink "PascalHouse$Machine" (189 : Nat) ({ cls := "PascalHouse$Machine", name := "works", desc := "(II)V" } : Jvm.MethodName)) ∈ lw_all := lw_g (lw_at lw_m11 153 rfl) rfl
set_option maxRecDepth 100000 in
theorem q2931 : (Jvm.Cond.instanceMethod ({ cls := "PascalHouse$Machine", name := "works", desc := "(II)V" } : Jvm.MethodName)) ∈ lw_all := lw_g (lw_at lw_m11 155 rfl) rfl
set_option maxRecDepth 100000 in
theorem q2932 : (Jvm.Cond.code ({ cls := "PascalHouse$Machine", name := "works", desc := "(II)V" } : Jvm.MethodName) prog_11_method_16_code (4 : Nat) (Option.none : Option Jvm.ClassFile.FieldType)) ∈ lw_all := lw_g (lw_at lw_m11 156 rfl) rfl
set_option maxRecDepth 100000 in
theorem q2933 : (Jvm.Cond.methodLink "PascalHouse$Machine" (290 : Nat) ({ cls := "PascalHouse$Machine", name := "spans", desc := "(I)V" } : Jvm.MethodName)) ∈ lw_all := lw_g (lw_at lw_m11 157 rfl) rfl
set_option maxRecDepth 100000 in
theorem q2935 : (Jvm.Cond.instanceMethod ({ cls := "PascalHouse$Machine", name := "spans", desc := "(I)V" } : Jvm.MethodName)) ∈ lw_all := lw_g (lw_at lw_m11 159 rfl) rfl
set_option maxRecDepth 100000 in
theorem q2936 : (Jvm.Cond.code ({ cls := "PascalHouse$Machine", name := "spans", desc := "(I)V" } : Jvm.MethodName) prog_11_method_20_code (7 : Nat) (Option.none : Option Jvm.ClassFile.FieldType)) ∈ lw_all := lw_g (lw_at lw_m11 160 rfl) rfl
set_option maxRecDepth 100000 in
theorem q2937 : (Jvm.Cond.constantLong "PascalHouse$Machine" (293 : Nat) (127 : Int64)) ∈ lw_all := lw_g (lw_at lw_m11 161 rfl) rfl
set_option maxRecDepth 100000 in
theorem q2938 : (Jvm.Cond.methodLink "PascalHouse$Machine" (295 : Nat) ({ cls := "PascalHouse$Machine", name := "puts", desc := "(I)V" } : Jvm.MethodName)) ∈ lw_all := lw_g (lw_at lw_m11 162 rfl) rfl
set_option maxRecDepth 100000 in
theorem q2940 : (Jvm.Cond.instanceMethod ({ cls := "PascalHouse$Machine", name := "puts", desc := "(I)V" } : Jvm.MethodName)) ∈ lw_all := lw_g (lw_at lw_m11 164 rfl) rfl
set_option maxRecDepth 100000 in
theorem q2941 : (Jvm.Cond.code ({ cls := "PascalHouse$Machine", name := "puts", desc := "(I)V" } : Jvm.MethodName) prog_11_method_19_code (2 : Nat) (Option.none : Option Jvm.ClassFile.FieldType)) ∈ lw_all := lw_g (lw_at lw_m11 165 rfl) rfl
set_option maxRecDepth 100000 in
theorem q2942 : (Jvm.Cond.methodLink "PascalHouse$Machine" (298 : Nat) ({ cls := "PascalHouse$Machine", name := "ofWholes", desc := "(IJJI)V" } : Jvm.MethodName)) ∈ lw_all := lw_g (lw_at lw_m11 166 rfl) rfl
set_option maxRecDepth 100000 in
theorem q2944 : (Jvm.Cond.instanceMethod ({ cls := "PascalHouse$Machine", name := "ofWholes", desc := "(IJJI)V" } : Jvm.MethodName)) ∈ lw_all := lw_g (lw_at lw_m11 168 rfl) rfl
set_option maxRecDepth 100000 in
theorem q2945 : (Jvm.Cond.code ({ cls := "PascalHouse$Machine", name := "ofWholes", desc := "(IJJI)V" } : Jvm.MethodName) prog_11_method_17_code (7 : Nat) (Option.none : Option Jvm.ClassFile.FieldType)) ∈ lw_all := lw_g (lw_at lw_m11 169 rfl) rfl
set_option maxRecDepth 100000 in
theorem q2946 : (Jvm.Cond.methodLink "PascalHouse$Machine" (312 : Nat) ({ cls := "PascalHouse$Machine", name := "whole", desc := "(JI)V" } : Jvm.MethodName)) ∈ lw_all := lw_g (lw_at lw_m11 170 rfl) rfl
set_option maxRecDepth 100000 in
theorem q2948 : (Jvm.Cond.instanceMethod ({ cls := "PascalHouse$Machine", name := "whole", desc := "(JI)V" } : Jvm.MethodName)) ∈ lw_all := lw_g (lw_at lw_m11 172 rfl) rfl
set_option maxRecDepth 100000 in
theorem q2949 : (Jvm.Cond.code ({ cls := "PascalHouse$Machine", name := "whole", desc := "(JI)V" } : Jvm.MethodName) prog_11_method_14_code (4 : Nat) (Option.none : Option Jvm.ClassFile.FieldType)) ∈ lw_all := lw_g (lw_at lw_m11 173 rfl) rfl
set_option maxRecDepth 100000 in
theorem q2950 : (Jvm.Cond.constantLong "PascalHouse$Machine" (282 : Nat) (2147483647 : Int64)) ∈ lw_all := lw_g (lw_at lw_m11 174 rfl) rfl
set_option maxRecDepth 100000 in
theorem q2951 : (Jvm.Cond.constantLong "PascalHouse$Machine" (284 : Nat) (-2147483647 : Int64)) ∈ lw_all := lw_g (lw_at lw_m11 175 rfl) rfl
set_option maxRecDepth 100000 in
theorem q2952 : (Jvm.Cond.methodLink "PascalHouse$Machine" (302 : Nat) ({ cls := "PascalHouse$Machine", name := "ofFractions", desc := "(IDDI)V" } : Jvm.MethodName)) ∈ lw_all := lw_g (lw_at lw_m11 176 rfl) rfl
set_option maxRecDepth 100000 in
theorem q2954 : (Jvm.Cond.instanceMethod ({ cls := "PascalHouse$Machine", name := "ofFractions", desc := "(IDDI)V" } : Jvm.MethodName)) ∈ lw_all := lw_g (lw_at lw_m11 178 rfl) rfl
set_option maxRecDepth 100000 in
theorem q2955 : (Jvm.Cond.code ({ cls := "PascalHouse$Machine", name := "ofFractions", desc := "(IDDI)V" } : Jvm.MethodName) prog_11_method_18_code (7 : Nat) (Option.none : Option Jvm.ClassFile.FieldType)) ∈ lw_all := lw_g (lw_at lw_m11 179 rfl) rfl
set_option maxRecDepth 100000 in
theorem q2956 : (Jvm.Cond.methodLink "PascalHouse$Machine" (316 : Nat) ({ cls := "PascalHouse$Machine", name := "fraction", desc := "(DI)V" } : Jvm.MethodName)) ∈ lw_all := lw_g (lw_at lw_m11 180 rfl) rfl
set_option maxRecDepth 100000 in
theorem q2958 : (Jvm.Cond.instanceMethod ({ cls := "PascalHouse$Machine", name := "fraction", desc := "(DI)V" } : Jvm.MethodName)) ∈ lw_all := lw_g (lw_at lw_m11 182 rfl) rfl
set_option maxRecDepth 100000 in
theorem q2959 : (Jvm.Cond.code ({ cls := "PascalHouse$Machine", name := "fraction", desc := "(DI)V" } : Jvm.MethodName) prog_11_method_15_code (4 : Nat) (Option.none : Option Jvm.ClassFile.FieldType)) ∈ lw_all := lw_g (lw_at lw_m11 183 rfl) rfl
set_option maxRecDepth 100000 in
theorem q2960 : (Jvm.Cond.methodLinkNest "PascalHouse$Machine" (286 : Nat) ({ cls := "PascalHouse", name := "isFinite", desc := "(D)Z" } : Jvm.MethodName) "PascalHouse") ∈ lw_tbl := lw_at lw_m11 184 rfl
set_option maxRecDepth 100000 in
theorem q2961 : (Jvm.Cond.methodLink "PascalHouse$Machine" (306 : Nat) ({ cls := "PascalHouse$Machine", name := "compares", desc := "(II)V" } : Jvm.MethodName)) ∈ lw_all := lw_g (lw_at lw_m11 185 rfl) rfl
set_option maxRecDepth 100000 in
theorem q2963 : (Jvm.Cond.instanceMethod ({ cls := "PascalHouse$Machine", name := "compares", desc := "(II)V" } : Jvm.MethodName)) ∈ lw_all := lw_g (lw_at lw_m11 187 rfl) rfl
set_option maxRecDepth 100000 in
theorem q2964 : (Jvm.Cond.code ({ cls := "PascalHouse$Machine", name := "compares", desc := "(II)V" } : Jvm.MethodName) prog_11_method_23_code (9 : Nat) (Option.none : Option Jvm.ClassFile.FieldType)) ∈ lw_all := lw_g (lw_at lw_m11 188 rfl) rfl
set_option maxRecDepth 100000 in
theorem q2965 : (Jvm.Cond.methodLink "PascalHouse$Machine" (309 : Nat) ({ cls := "PascalHouse$Machine", name := "ofSets", desc := "(I)V" } : Jvm.MethodName)) ∈ lw_all := lw_g (lw_at lw_m11 189 rfl) rfl
set_option maxRecDepth 100000 in
theorem q2967 : (Jvm.Cond.instanceMethod ({ cls := "PascalHouse$Machine", name := "ofSets", desc := "(I)V" } : Jvm.MethodName)) ∈ lw_all := lw_g (lw_at lw_m11 191 rfl) rfl
set_option maxRecDepth 100000 in
theorem q2968 : (Jvm.Cond.code ({ cls := "PascalHouse$Machine", name := "ofSets", desc := "(I)V" } : Jvm.MethodName) prog_11_method_21_code (6 : Nat) (Option.none : Option Jvm.ClassFile.FieldType)) ∈ lw_all := lw_g (lw_at lw_m11 192 rfl) rfl
set_option maxRecDepth 100000 in
theorem q2969 : (Jvm.Cond.constantLong "PascalHouse$Machine" (320 : Nat) (64 : Int64)) ∈ lw_all := lw_g (lw_at lw_m11 193 rfl) rfl
set_option maxRecDepth 100000 in
theorem q2970 : (Jvm.Cond.constantLong "PascalHouse$Machine" (322 : Nat) (128 : Int64)) ∈ lw_all := lw_g (lw_at lw_m11 194 rfl) rfl
set_option maxRecDepth 100000 in
theorem q2971 : (Jvm.Cond.constantLong "PascalHouse$Machine" (324 : Nat) (-1 : Int64)) ∈ lw_all := lw_g (lw_at lw_m11 195 rfl) rfl
set_option maxRecDepth 100000 in
theorem q2972 : (Jvm.Cond.methodLink "PascalHouse$Machine" (326 : Nat) ({ cls := "PascalHouse$Machine", name := "is", desc := "(II)Z" } : Jvm.MethodName)) ∈ lw_all := lw_g (lw_at lw_m11 196 rfl) rfl
set_option maxRecDepth 100000 in
theorem q2973 : (Jvm.Cond.static ({ cls := "PascalHouse$Machine", name := "is", desc := "(II)Z" } : Jvm.MethodName)) ∈ lw_all := lw_g (lw_at lw_m11 197 rfl) rfl
set_option maxRecDepth 100000 in
theorem q2974 : (Jvm.Cond.code ({ cls := "PascalHouse$Machine", name := "is", desc := "(II)Z" } : Jvm.MethodName) prog_11_method_22_code (2 : Nat) (Option.some Jvm.ClassFile.FieldType.boolean)) ∈ lw_all := lw_g (lw_at lw_m11 198 rfl) rfl
set_option maxRecDepth 100000 in
theorem q2975 : (Jvm.Cond.methodLink "PascalHouse$Machine" (329 : Nat) ({ cls := "PascalHouse$Machine", name := "strings", desc := "(IIII)I" } : Jvm.MethodName)) ∈ lw_all := lw_g (lw_at lw_m11 199 rfl) rfl
set_option maxRecDepth 100000 in
theorem q2977 : (Jvm.Cond.instanceMethod ({ cls := "PascalHouse$Machine", name := "strings", desc := "(IIII)I" } : Jvm.MethodName)) ∈ lw_all := lw_g (lw_at lw_m11 201 rfl) rfl
set_option maxRecDepth 100000 in
theorem q2978 : (Jvm.Cond.code ({ cls := "PascalHouse$Machine", name := "strings", desc := "(IIII)I" } : Jvm.MethodName) prog_11_method_26_code (6 : Nat) (Option.some Jvm.ClassFile.FieldType.int)) ∈ lw_all := lw_g (lw_at lw_m11 202 rfl) rfl
set_option maxRecDepth 100000 in
theorem q2979 : (Jvm.Cond.methodLink "PascalHouse$Machine" (333 : Nat) ({ cls := "PascalHouse$Machine", name := "isWhole", desc := "(II)Z" } : Jvm.MethodName)) ∈ lw_all := lw_g (lw_at lw_m11 203 rfl) rfl
set_option maxRecDepth 100000 in
theorem q2981 : (Jvm.Cond.instanceMethod ({ cls := "PascalHouse$Machine", name := "isWhole", desc := "(II)Z" } : Jvm.MethodName)) ∈ lw_all := lw_g (lw_at lw_m11 205 rfl) rfl
set_option maxRecDepth 100000 in
theorem q2982 : (Jvm.Cond.code ({ cls := "PascalHouse$Machine", name := "isWhole", desc := "(II)Z" } : Jvm.MethodName) prog_11_method_24_code (5 : Nat) (Option.some Jvm.ClassFile.FieldType.boolean)) ∈ lw_all := lw_g (lw_at lw_m11 206 rfl) rfl
set_option maxRecDepth 100000 in
theorem q2983 : (Jvm.Cond.methodLink "PascalHouse$Machine" (192 : Nat) ({ cls := "PascalHouse$Machine", name := "controls", desc := "(II)V" } : Jvm.MethodName)) ∈ lw_all := lw_g (lw_at lw_m11 207 rfl) rfl
set_option maxRecDepth 100000 in
theorem q2985 : (Jvm.Cond.instanceMethod ({ cls := "PascalHouse$Machine", name := "controls", desc := "(II)V" } : Jvm.MethodName)) ∈ lw_all := lw_g (lw_at lw_m11 209 rfl) rfl
set_option maxRecDepth 100000 in
theorem q2986 : (Jvm.Cond.code ({ cls := "PascalHouse$Machine", name := "controls", desc := "(II)V" } : Jvm.MethodName) prog_11_method_27_code (8 : Nat) (Option.none : Option Jvm.ClassFile.FieldType)) ∈ lw_all := lw_g (lw_at lw_m11 210 rfl) rfl
set_option maxRecDepth 100000 in
theorem q2987 : (Jvm.Cond.methodLink "PascalHouse$Machine" (336 : Nat) ({ cls := "PascalHouse$Machine", name := "chooses", desc := "(III)V" } : Jvm.MethodName)) ∈ lw_all := lw_g (lw_at lw_m11 211 rfl) rfl
set_option maxRecDepth 100000 in
theorem q2989 : (Jvm.Cond.instanceMethod ({ cls := "PascalHouse$Machine", name := "chooses", desc := "(III)V" } : Jvm.MethodName)) ∈ lw_all := lw_g (lw_at lw_m11 213 rfl) rfl
set_option maxRecDepth 100000 in
theorem q2990 : (Jvm.Cond.code ({ cls := "PascalHouse$Machine", name := "chooses", desc := "(III)V" } : Jvm.MethodName) prog_11_method_29_code (6 : Nat) (Option.none : Option Jvm.ClassFile.FieldType)) ∈ lw_all := lw_g (lw_at lw_m11 214 rfl) rfl
set_option maxRecDepth 100000 in
theorem q2991 : (Jvm.Cond.methodLink "PascalHouse$Machine" (339 : Nat) ({ cls := "PascalHouse$Machine", name := "begins", desc := "(IIII)V" } : Jvm.MethodName)) ∈ lw_all := lw_g (lw_at lw_m11 215 rfl) rfl
set_option maxRecDepth 100000 in
theorem q2993 : (Jvm.Cond.instanceMethod ({ cls := "PascalHouse$Machine", name := "begins", desc := "(IIII)V" } : Jvm.MethodName)) ∈ lw_all := lw_g (lw_at lw_m11 217 rfl) rfl
set_option maxRecDepth 100000 in
theorem q2994 : (Jvm.Cond.code ({ cls := "PascalHouse$Machine", name := "begins", desc := "(IIII)V" } : Jvm.MethodName) prog_11_method_30_code (13 : Nat) (Option.none : Option Jvm.ClassFile.FieldType)) ∈ lw_all := lw_g (lw_at lw_m11 218 rfl) rfl
set_option maxRecDepth 100000 in
theorem q2995 : (Jvm.Cond.methodLink "PascalHouse$Machine" (343 : Nat) ({ cls := "PascalHouse$Machine", name := "repeats", desc := "(III)V" } : Jvm.MethodName)) ∈ lw_all := lw_g (lw_at lw_m11 219 rfl) rfl
set_option maxRecDepth 100000 in
theorem q2997 : (Jvm.Cond.instanceMethod ({ cls := "PascalHouse$Machine", name := "repeats", desc := "(III)V" } : Jvm.MethodName)) ∈ lw_all := lw_g (lw_at lw_m11 221 rfl) rfl
set_option maxRecDepth 100000 in
theorem q2998 : (Jvm.Cond.code ({ cls := "PascalHouse$Machine", name := "repeats", desc := "(III)V" } : Jvm.MethodName) prog_11_method_31_code (6 : Nat) (Option.none : Option Jvm.ClassFile.FieldType)) ∈ lw_all := lw_g (lw_at lw_m11 222 rfl) rfl
set_option maxRecDepth 100000 in
theorem q2999 : (Jvm.Cond.methodLink "PascalHouse$Machine" (349 : Nat) ({ cls := "PascalHouse$Machine", name := "calls", desc := "(LPascalHouse$Routine;II)V" } : Jvm.MethodName)) ∈ lw_all := lw_g (lw_at lw_m11 223 rfl) rfl
set_option maxRecDepth 100000 in
theorem q3001 : (Jvm.Cond.instanceMethod ({ cls := "PascalHouse$Machine", name := "calls", desc := "(LPascalHouse$Routine;II)V" } : Jvm.MethodName)) ∈ lw_all := lw_g (lw_at lw_m11 225 rfl) rfl
set_option maxRecDepth 100000 in
theorem q3002 : (Jvm.Cond.code ({ cls := "PascalHouse$Machine", name := "calls", desc := "(LPascalHouse$Routine;II)V" } : Jvm.MethodName) prog_11_method_32_code (6 : Nat) (Option.none : Option Jvm.ClassFile.FieldType)) ∈ lw_all := lw_g (lw_at lw_m11 226 rfl) rfl
set_option maxRecDepth 100000 in
theorem q3003 : (Jvm.Cond.classLink "PascalHouse$Machine" (371 : Nat) "PascalHouse$Parameter") ∈ lw_all := lw_g (lw_at lw_m11 227 rfl) rfl
set_option maxRecDepth 100000 in
theorem q3004 : (Jvm.Cond.methodLink "PascalHouse$Machine" (373 : Nat) ({ cls := "PascalHouse$Machine", name := "gives", desc := "(LPascalHouse$Parameter;II)V" } : Jvm.MethodName)) ∈ lw_all := lw_g (lw_at lw_m11 228 rfl) rfl
set_option maxRecDepth 100000 in
theorem q3006 : (Jvm.Cond.instanceMethod ({ cls := "PascalHouse$Machine", name := "gives", desc := "(LPascalHouse$Parameter;II)V" } : Jvm.MethodName)) ∈ lw_all := lw_g (lw_at lw_m11 230 rfl) rfl
set_option maxRecDepth 100000 in
theorem q3007 : (Jvm.Cond.code ({ cls := "PascalHouse$Machine", name := "gives", desc := "(LPascalHouse$Parameter;II)V" } : Jvm.MethodName) prog_11_method_33_code (5 : Nat) (Option.none : Option Jvm.ClassFile.FieldType)) ∈ lw_all := lw_g (lw_at lw_m11 231 rfl) rfl
set_option maxRecDepth 100000 in
theorem q3008 : (Jvm.Cond.methodLink "PascalHouse$Machine" (382 : Nat) ({ cls := "PascalHouse$Type", name := "isStructure", desc := "()Z" } : Jvm.MethodName)) ∈ lw_all := lw_g (lw_at lw_m11 232 rfl) rfl
set_option maxRecDepth 100000 in
theorem q3009 : (Jvm.Cond.methodLink "PascalHouse$Machine" (353 : Nat) ({ cls := "PascalHouse$Machine", name := "returns", desc := "()V" } : Jvm.MethodName)) ∈ lw_all := lw_g (lw_at lw_m11 233 rfl) rfl
set_option maxRecDepth 100000 in
theorem q3011 : (Jvm.Cond.instanceMethod ({ cls := "PascalHouse$Machine", name := "returns", desc := "()V" } : Jvm.MethodName)) ∈ lw_all := lw_g (lw_at lw_m11 235 rfl) rfl
set_option maxRecDepth 100000 in
theorem q3012 : (Jvm.Cond.code ({ cls := "PascalHouse$Machine", name := "returns", desc := "()V" } : Jvm.MethodName) prog_11_method_35_code (5 : Nat) (Option.none : Option Jvm.ClassFile.FieldType)) ∈ lw_all := lw_g (lw_at lw_m11 236 rfl) rfl
set_option maxRecDepth 100000 in
theorem q3013 : (Jvm.Cond.methodLink "PascalHouse$Machine" (395 : Nat) ({ cls := "PascalHouse$Machine", name := "ends", desc := "()V" } : Jvm.MethodName)) ∈ lw_all := lw_g (lw_at lw_m11 237 rfl) rfl
set_option maxRecDepth 100000 in
theorem q3015 : (Jvm.Cond.instanceMethod ({ cls := "PascalHouse$Machine", name := "ends", desc := "()V" } : Jvm.MethodName)) ∈ lw_all := lw_g (lw_at lw_m11 239 rfl) rfl
set_option maxRecDepth 100000 in
theorem q3016 : (Jvm.Cond.code ({ cls := "PascalHouse$Machine", name := "ends", desc := "()V" } : Jvm.MethodName) prog_11_method_34_code (3 : Nat) (Option.none : Option Jvm.ClassFile.FieldType)) ∈ lw_all := lw_g (lw_at lw_m12 0 rfl) rfl
set_option maxRecDepth 100000 in
theorem q3017 : (Jvm.Cond.methodLink "PascalHouse$Machine" (389 : Nat) ({ cls := "PascalHouse$FileRows", name := "empty", desc := "(I)V" } : Jvm.MethodName)) ∈ lw_all := lw_g (lw_at lw_m12 1 rfl) rfl
set_option maxRecDepth 100000 in
theorem q3018 : (Jvm.Cond.methodLink "PascalHouse$Machine" (356 : Nat) ({ cls := "PascalHouse$Machine", name := "leaps", desc := "(II)V" } : Jvm.MethodName)) ∈ lw_all := lw_g (lw_at lw_m12 2 rfl) rfl
set_option maxRecDepth 100000 in
theorem q3020 : (Jvm.Cond.instanceMethod ({ cls := "PascalHouse$Machine", name := "leaps", desc := "(II)V" } : Jvm.MethodName)) ∈ lw_all := lw_g (lw_at lw_m12 4 rfl) rfl
set_option maxRecDepth 100000 in
theorem q3021 : (Jvm.Cond.code ({ cls := "PascalHouse$Machine", name := "leaps", desc := "(II)V" } : Jvm.MethodName) prog_11_method_36_code (3 : Nat) (Option.none : Option Jvm.ClassFile.FieldType)) ∈ lw_all := lw_g (lw_at lw_m12 5 rfl) rfl
set_option maxRecDepth 100000 in
theorem q3022 : (Jvm.Cond.methodLink "PascalHouse$Machine" (359 : Nat) ({ cls := "PascalHouse$Machine", name := "bounds", desc := "(III)V" } : Jvm.MethodName)) ∈ lw_all := lw_g (lw_at lw_m12 6 rfl) rfl
set_option maxRecDepth 100000 in
theorem q3024 : (Jvm.Cond.instanceMethod ({ cls := "PascalHouse$Machine", name := "bounds", desc := "(III)V" } : Jvm.MethodName)) ∈ lw_all := lw_g (lw_at lw_m12 8 rfl) rfl
set_option maxRecDepth 100000 in
theorem q3025 : (Jvm.Cond.code ({ cls := "PascalHouse$Machine", name := "bounds", desc := "(III)V" } : Jvm.MethodName) prog_11_method_28_code (8 : Nat) (Option.none : Option Jvm.ClassFile.FieldType)) ∈ lw_all := lw_g (lw_at lw_m12 9 rfl) rfl
set_option maxRecDepth 100000 in
theorem q3026 : (Jvm.Cond.methodLink "PascalHouse$Machine" (195 : Nat) ({ cls := "PascalHouse$Machine", name := "counts", desc := "(II)V" } : Jvm.MethodName)) ∈ lw_all := lw_g (lw_at lw_m12 10 rfl) rfl
set_option maxRecDepth 100000 in
theorem q3028 : (Jvm.Cond.instanceMethod ({ cls := "PascalHouse$Machine", name := "counts", desc := "(II)V" } : Jvm.MethodName)) ∈ lw_all := lw_g (lw_at lw_m12 12 rfl) rfl
set_option maxRecDepth 100000 in
theorem q3029 : (Jvm.Cond.code ({ cls := "PascalHouse$Machine", name := "counts", desc := "(II)V" } : Jvm.MethodName) prog_11_method_37_code (8 : Nat) (Option.none : Option Jvm.ClassFile.FieldType)) ∈ lw_all := lw_g (lw_at lw_m12 13 rfl) rfl
set_option maxRecDepth 100000 in
theorem q3030 : (Jvm.Cond.methodLink "PascalHouse$Machine" (401 : Nat) ({ cls := "java/lang/Math", name := "sqrt", desc := "(D)D" } : Jvm.MethodName)) ∈ lw_all := lw_g (lw_at lw_m12 14 rfl) rfl
set_option maxRecDepth 100000 in
theorem q3031 : (Jvm.Cond.static ({ cls := "java/lang/Math", name := "sqrt", desc := "(D)D" } : Jvm.MethodName)) ∈ lw_all := lw_g (lw_at lw_m12 15 rfl) rfl
set_option maxRecDepth 100000 in
theorem q3032 : (Jvm.Cond.code ({ cls := "java/lang/Math", name := "sqrt", desc := "(D)D" } : Jvm.MethodName) prog_46_method_13_code (2 : Nat) (Option.some Jvm.ClassFile.FieldType.double)) ∈ lw_all := lw_g (lw_at lw_m12 16 rfl) rfl
set_option maxRecDepth 100000 in
theorem q3033 : (Jvm.Cond.methodLink "java/lang/Math" (43 : Nat) ({ cls := "java/lang/StrictMath", name := "sqrt", desc := "(D)D" } : Jvm.MethodName)) ∈ lw_all := lw_g (lw_at lw_m12 17 rfl) rfl
set_option maxRecDepth 100000 in
theorem q3034 : (Jvm.Cond.static ({ cls := "java/lang/StrictMath", name := "sqrt", desc := "(D)D" } : Jvm.MethodName)) ∈ lw_all := lw_g (lw_at lw_m12 18 rfl) rfl
set_option maxRecDepth 100000 in
theorem q3035 : (Jvm.Cond.code ({ cls := "java/lang/StrictMath", name := "sqrt", desc := "(D)D" } : Jvm.MethodName) prog_49_method_13_code (2 : Nat) (Option.some Jvm.ClassFile.FieldType.double)) ∈ lw_all := lw_g (lw_at lw_m12 19 rfl) rfl
set_option maxRecDepth 100000 in
theorem q3036 : (Jvm.Cond.methodLink "java/lang/StrictMath" (47 : Nat) ({ cls := "java/lang/FdLibm$Sqrt", name := "compute", desc := "(D)D" } : Jvm.MethodName)) ∈ lw_all := lw_g (lw_at lw_m12 20 rfl) rfl
set_option maxRecDepth 100000 in
theorem q3037 : (Jvm.Cond.static ({ cls := "java/lang/FdLibm$Sqrt", name := "compute", desc := "(D)D" } : Jvm.MethodName)) ∈ lw_all := lw_g (lw_at lw_m12 21 rfl) rfl
set_option maxRecDepth 100000 in
theorem q3038 : (Jvm.Cond.code ({ cls := "java/lang/FdLibm$Sqrt", name := "compute", desc := "(D)D" } : Jvm.MethodName) prog_41_method_2_code (16 : Nat) (Option.some Jvm.ClassFile.FieldType.double)) ∈ lw_all := lw_g (lw_at lw_m12 22 rfl) rfl
set_option maxRecDepth 100000 in
theorem q3039 : (Jvm.Cond.constant "java/lang/FdLibm$Sqrt" (12 : Nat) (-2147483648 : Int32)) ∈ lw_all := lw_g (lw_at lw_m12 23 rfl) rfl
set_option maxRecDepth 100000 in
theorem q3040 : (Jvm.Cond.methodLinkNest "java/lang/FdLibm$Sqrt" (13 : Nat) ({ cls := "java/lang/FdLibm", name := "__HI", desc := "(D)I" } : Jvm.MethodName) "java/lang/FdLibm") ∈ lw_tbl := lw_at lw_m12 24 rfl
set_option maxRecDepth 100000 in
theorem q3041 : (Jvm.Cond.static ({ cls := "java/lang/FdLibm", name := "__HI", desc := "(D)I" } : Jvm.MethodName)) ∈ lw_all := lw_g (lw_at lw_m12 25 rfl) rfl
set_option maxRecDepth 100000 in
theorem q3042 : (Jvm.Cond.code ({ cls := "java/lang/FdLibm", name := "__HI", desc := "(D)I" } : Jvm.MethodName) prog_40_method_4_code (4 : Nat) (Option.some Jvm.ClassFile.FieldType.int)) ∈ lw_all := lw_g (lw_at lw_m12 26 rfl) rfl
set_option maxRecDepth 100000 in
theorem q3043 : (Jvm.Cond.methodLink "java/lang/FdLibm" (16 : Nat) ({ cls := "java/lang/Double", name := "doubleToRawLongBits", desc := "(D)J" } : Jvm.MethodName)) ∈ lw_all := lw_g (lw_at lw_m12 27 rfl) rfl
set_option maxRecDepth 100000 in
theorem q3044 : (Jvm.Cond.static ({ cls := "java/lang/Double", name := "doubleToRawLongBits", desc := "(D)J" } : Jvm.MethodName)) ∈ lw_all := lw_g (lw_at lw_m12 28 rfl) rfl
set_option maxRecDepth 100000 in
theorem q3045 : (Jvm.Cond.native ({ cls := "java/lang/Double", name := "doubleToRawLongBits", desc := "(D)J" } : Jvm.MethodName)) ∈ lw_all := lw_g (lw_at lw_m12 29 rfl) rfl
set_option maxRecDepth 100000 in
theorem q3046 : (Jvm.Cond.methodLinkNest "java/lang/FdLibm$Sqrt" (17 : Nat) ({ cls := "java/lang/FdLibm", name := "__LO", desc := "(D)I" } : Jvm.MethodName) "java/lang/FdLibm") ∈ lw_tbl := lw_at lw_m12 30 rfl
set_option maxRecDepth 100000 in
theorem q3047 : (Jvm.Cond.static ({ cls := "java/lang/FdLibm", name := "__LO", desc := "(D)I" } : Jvm.MethodName)) ∈ lw_all := lw_g (lw_at lw_m12 31 rfl) rfl
set_option maxRecDepth 100000 in
theorem q3048 : (Jvm.Cond.code ({ cls := "java/lang/FdLibm", name := "__LO", desc := "(D)I" } : Jvm.MethodName) prog_40_method_2_code (4 : Nat) (Option.some Jvm.ClassFile.FieldType.int)) ∈ lw_all := lw_g (lw_at lw_m12 32 rfl) rfl
set_option maxRecDepth 100000 in
theorem q3049 : (Jvm.Cond.constant "java/lang/FdLibm$Sqrt" (20 : Nat) (2146435072 : Int32)) ∈ lw_all := lw_g (lw_at lw_m12 33 rfl) rfl
set_option maxRecDepth 100000 in
theorem q3050 : (Jvm.Cond.constant "java/lang/FdLibm$Sqrt" (21 : Nat) (1048576 : Int32)) ∈ lw_all := lw_g (lw_at lw_m12 34 rfl) rfl
set_option maxRecDepth 100000 in
theorem q3051 : (Jvm.Cond.constant "java/lang/FdLibm$Sqrt" (22 : Nat) (1048575 : Int32)) ∈ lw_all := lw_g (lw_at lw_m12 35 rfl) rfl
set_option maxRecDepth 100000 in
theorem q3052 : (Jvm.Cond.constant "java/lang/FdLibm$Sqrt" (23 : Nat) (2097152 : Int32)) ∈ lw_all := lw_g (lw_at lw_m12 36 rfl) rfl
set_option maxRecDepth 100000 in
theorem q3053 : (Jvm.Cond.methodLink "java/lang/FdLibm$Sqrt" (24 : Nat) ({ cls := "java/lang/Integer", name := "compareUnsigned", desc := "(II)I" } : Jvm.MethodName)) ∈ lw_all := lw_g (lw_at lw_m12 37 rfl) rfl
set_option maxRecDepth 100000 in
theorem q3054 : (Jvm.Cond.static ({ cls := "java/lang/Integer", name := "compareUnsigned", desc := "(II)I" } : Jvm.MethodName)) ∈ lw_all := lw_g (lw_at lw_m12 38 rfl) rfl
set_option maxRecDepth 100000 in
theorem q3055 : (Jvm.Cond.code ({ cls := "java/lang/Integer", name := "compareUnsigned", desc := "(II)I" } : Jvm.MethodName) prog_43_method_41_code (2 : Nat) (Option.some Jvm.ClassFile.FieldType.int)) ∈ lw_all := lw_g (lw_at lw_m12 39 rfl) rfl
set_option maxRecDepth 100000 in
theorem q3056 : (Jvm.Cond.constant "java/lang/Integer" (127 : Nat) (-2147483648 : Int32)) ∈ lw_all := lw_g (lw_at lw_m12 40 rfl) rfl
set_option maxRecDepth 100000 in
theorem q3057 : (Jvm.Cond.methodLink "java/lang/Integer" (259 : Nat) ({ cls := "java/lang/Integer", name := "compare", desc := "(II)I" } : Jvm.MethodName)) ∈ lw_all := lw_g (lw_at lw_m12 41 rfl) rfl
set_option maxRecDepth 100000 in
theorem q3058 : (Jvm.Cond.static ({ cls := "java/lang/Integer", name := "compare", desc := "(II)I" } : Jvm.MethodName)) ∈ lw_all := lw_g (lw_at lw_m12 42 rfl) rfl
set_option maxRecDepth 100000 in
theorem q3059 : (Jvm.Cond.code ({ cls := "java/lang/Integer", name := "compare", desc := "(II)I" } : Jvm.MethodName) prog_43_method_40_code (2 : Nat) (Option.some Jvm.ClassFile.FieldType.int)) ∈ lw_all := lw_g (lw_at lw_m12 43 rfl) rfl
set_option maxRecDepth 100000 in
theorem q3060 : (Jvm.Cond.constant "java/lang/FdLibm$Sqrt" (32 : Nat) (1071644672 : Int32)) ∈ lw_all := lw_g (lw_at lw_m12 44 rfl) rfl
set_option maxRecDepth 100000 in
theorem q3061 : (Jvm.Cond.methodLinkNest "java/lang/FdLibm$Sqrt" (33 : Nat) ({ cls := "java/lang/FdLibm", name := "__HI_LO", desc := "(II)D" } : Jvm.MethodName) "java/lang/FdLibm") ∈ lw_tbl := lw_at lw_m12 45 rfl
set_option maxRecDepth 100000 in
theorem q3062 : (Jvm.Cond.static ({ cls := "java/lang/FdLibm", name := "__HI_LO", desc := "(II)D" } : Jvm.MethodName)) ∈ lw_all := lw_g (lw_at lw_m12 46 rfl) rfl
set_option maxRecDepth 100000 in
theorem q3063 : (Jvm.Cond.code ({ cls := "java/lang/FdLibm", name := "__HI_LO", desc := "(II)D" } : Jvm.MethodName) prog_40_method_6_code (2 : Nat) (Option.some Jvm.ClassFile.FieldType.double)) ∈ lw_all := lw_g (lw_at lw_m12 47 rfl) rfl
set_option maxRecDepth 100000 in
theorem q3064 : (Jvm.Cond.constantLong "java/lang/FdLibm" (22 : Nat) (4294967295 : Int64)) ∈ lw_all := lw_g (lw_at lw_m12 48 rfl) rfl
set_option maxRecDepth 100000 in
theorem q3065 : (Jvm.Cond.methodLink "java/lang/FdLibm" (24 : Nat) ({ cls := "java/lang/Double", name := "longBitsToDouble", desc := "(J)D" } : Jvm.MethodName)) ∈ lw_all := lw_g (lw_at lw_m12 49 rfl) rfl
set_option maxRecDepth 100000 in
theorem q3066 : (Jvm.Cond.static ({ cls := "java/lang/Double", name := "longBitsToDouble", desc := "(J)D" } : Jvm.MethodName)) ∈ lw_all := lw_g (lw_at lw_m12 50 rfl) rfl
set_option maxRecDepth 100000 in
theorem q3067 : (Jvm.Cond.native ({ cls := "java/lang/Double", name := "longBitsToDouble", desc := "(J)D" } : Jvm.MethodName)) ∈ lw_all := lw_g (lw_at lw_m12 51 rfl) rfl
set_option maxRecDepth 100000 in
theorem q3068 : (Jvm.Cond.methodLink "PascalHouse$Machine" (407 : Nat) ({ cls := "PascalHouse$Machine", name := "cuts", desc := "(DI)V" } : Jvm.MethodName)) ∈ lw_all := lw_g (lw_at lw_m12 52 rfl) rfl
set_option maxRecDepth 100000 in
theorem q3070 : (Jvm.Cond.instanceMethod ({ cls := "PascalHouse$Machine", name := "cuts", desc := "(DI)V" } : Jvm.MethodName)) ∈ lw_all := lw_g (lw_at lw_m12 54 rfl) rfl
set_option maxRecDepth 100000 in
theorem q3071 : (Jvm.Cond.code ({ cls := "PascalHouse$Machine", name := "cuts", desc := "(DI)V" } : Jvm.MethodName) prog_11_method_38_code (4 : Nat) (Option.none : Option Jvm.ClassFile.FieldType)) ∈ lw_all := lw_g (lw_at lw_m12 55 rfl) rfl
set_option maxRecDepth 100000 in
theorem q3072 : (Jvm.Cond.constantDouble "PascalHouse$Machine" (413 : Nat) (4746794007248502784 : UInt64)) ∈ lw_all := lw_g (lw_at lw_m12 56 rfl) rfl
set_option maxRecDepth 100000 in
theorem q3073 : (Jvm.Cond.constantDouble "PascalHouse$Machine" (415 : Nat) (13970166044103278592 : UInt64)) ∈ lw_all := lw_g (lw_at lw_m12 57 rfl) rfl
set_option maxRecDepth 100000 in
theorem q3074 : (Jvm.Cond.constantDouble "PascalHouse$Machine" (410 : Nat) (4602678819172646912 : UInt64)) ∈ lw_all := lw_g (lw_at lw_m12 58 rfl) rfl
set_option maxRecDepth 100000 in
theorem q3075 : (Jvm.Cond.constant "PascalHouse$Machine" (412 : Nat) (2147483647 : Int32)) ∈ lw_all := lw_g (lw_at lw_m12 59 rfl) rfl
set_option maxRecDepth 100000 in
theorem q3076 : (Jvm.Cond.methodLink "PascalHouse$Machine" (198 : Nat) ({ cls := "PascalHouse$Machine", name := "library", desc := "(II)V" } : Jvm.MethodName)) ∈ lw_all := lw_g (lw_at lw_m12 60 rfl) rfl
set_option maxRecDepth 100000 in
theorem q3078 : (Jvm.Cond.instanceMethod ({ cls := "PascalHouse$Machine", name := "library", desc := "(II)V" } : Jvm.MethodName)) ∈ lw_all := lw_g (lw_at lw_m12 62 rfl) rfl
set_option maxRecDepth 100000 in
theorem q3079 : (Jvm.Cond.code ({ cls := "PascalHouse$Machine", name := "library", desc := "(II)V" } : Jvm.MethodName) prog_11_method_39_code (6 : Nat) (Option.none : Option Jvm.ClassFile.FieldType)) ∈ lw_all := lw_g (lw_at lw_m12 63 rfl) rfl
set_option maxRecDepth 100000 in
theorem q3080 : (Jvm.Cond.methodLink "PascalHouse$Machine" (417 : Nat) ({ cls := "PascalHouse$Machine", name := "writes", desc := "(II)V" } : Jvm.MethodName)) ∈ lw_all := lw_g (lw_at lw_m12 64 rfl) rfl
set_option maxRecDepth 100000 in
theorem q3082 : (Jvm.Cond.instanceMethod ({ cls := "PascalHouse$Machine", name := "writes", desc := "(II)V" } : Jvm.MethodName)) ∈ lw_all := lw_g (lw_at lw_m12 66 rfl) rfl
set_option maxRecDepth 100000 in
theorem q3083 : (Jvm.Cond.code ({ cls := "PascalHouse$Machine", name := "writes", desc := "(II)V" } : Jvm.MethodName) prog_11_method_50_code (11 : Nat) (Option.none : Option Jvm.ClassFile.FieldType)) ∈ lw_all := lw_g (lw_at lw_m12 67 rfl) rfl
set_option maxRecDepth 100000 in
theorem q3084 : (Jvm.Cond.methodLink "PascalHouse$Machine" (503 : Nat) ({ cls := "PascalHouse$Machine", name := "letter", desc := "(I)V" } : Jvm.MethodName)) ∈ lw_all := lw_g (lw_at lw_m12 68 rfl) rfl
set_option maxRecDepth 100000 in
theorem q3086 : (Jvm.Cond.instanceMethod ({ cls := "PascalHouse$Machine", name := "letter", desc := "(I)V" } : Jvm.MethodName)) ∈ lw_all := lw_g (lw_at lw_m12 70 rfl) rfl
set_option maxRecDepth 100000 in
theorem q3087 : (Jvm.Cond.code ({ cls := "PascalHouse$Machine", name := "letter", desc := "(I)V" } : Jvm.MethodName) prog_11_method_47_code (2 : Nat) (Option.none : Option Jvm.ClassFile.FieldType)) ∈ lw_all := lw_g (lw_at lw_m12 71 rfl) rfl
set_option maxRecDepth 100000 in
theorem q3088 : (Jvm.Cond.methodLink "PascalHouse$Machine" (508 : Nat) ({ cls := "PascalHouse$Machine", name := "out", desc := "(IIZI)V" } : Jvm.MethodName)) ∈ lw_all := lw_g (lw_at lw_m12 72 rfl) rfl
set_option maxRecDepth 100000 in
theorem q3090 : (Jvm.Cond.instanceMethod ({ cls := "PascalHouse$Machine", name := "out", desc := "(IIZI)V" } : Jvm.MethodName)) ∈ lw_all := lw_g (lw_at lw_m12 74 rfl) rfl
set_option maxRecDepth 100000 in
theorem q3091 : (Jvm.Cond.code ({ cls := "PascalHouse$Machine", name := "out", desc := "(IIZI)V" } : Jvm.MethodName) prog_11_method_52_code (8 : Nat) (Option.none : Option Jvm.ClassFile.FieldType)) ∈ lw_all := lw_g (lw_at lw_m12 75 rfl) rfl
set_option maxRecDepth 100000 in
theorem q3092 : (Jvm.Cond.methodLink "PascalHouse$Machine" (463 : Nat) ({ cls := "PascalHouse$FileRows", name := "hasRoom", desc := "(II)Z" } : Jvm.MethodName)) ∈ lw_all := lw_g (lw_at lw_m12 76 rfl) rfl
set_option maxRecDepth 100000 in
theorem q3093 : (Jvm.Cond.instanceMethod ({ cls := "PascalHouse$FileRows", name := "hasRoom", desc := "(II)Z" } : Jvm.MethodName)) ∈ lw_all := lw_g (lw_at lw_m12 77 rfl) rfl
set_option maxRecDepth 100000 in
theorem q3094 : (Jvm.Cond.selects "PascalHouse$FileRows" ({ cls := "PascalHouse$FileRows", name := "hasRoom", desc := "(II)Z" } : Jvm.MethodName) ({ cls := "PascalHouse$FileRows", name := "hasRoom", desc := "(II)Z" } : Jvm.MethodName)) ∈ lw_all := lw_g (lw_at lw_m12 78 rfl) rfl
set_option maxRecDepth 100000 in
theorem q3095 : (Jvm.Cond.code ({ cls := "PascalHouse$FileRows", name := "hasRoom", desc := "(II)Z" } : Jvm.MethodName) prog_7_method_5_code (3 : Nat) (Option.some Jvm.ClassFile.FieldType.boolean)) ∈ lw_all := lw_g (lw_at lw_m12 79 rfl) rfl
set_option maxRecDepth 100000 in
theorem q3096 : (Jvm.Cond.methodLink "PascalHouse$Machine" (540 : Nat) ({ cls := "PascalHouse$FileRows", name := "add", desc := "(II)V" } : Jvm.MethodName)) ∈ lw_all := lw_g (lw_at lw_m12 80 rfl) rfl
set_option maxRecDepth 100000 in
theorem q3097 : (Jvm.Cond.constantLong "PascalHouse$Machine" (511 : Nat) (8 : Int64)) ∈ lw_all := lw_g (lw_at lw_m12 81 rfl) rfl
set_option maxRecDepth 100000 in
theorem q3098 : (Jvm.Cond.constantLong "PascalHouse$Machine" (513 : Nat) (14 : Int64)) ∈ lw_all := lw_g (lw_at lw_m12 82 rfl) rfl
set_option maxRecDepth 100000 in
theorem q3099 : (Jvm.Cond.constantLong "PascalHouse$Machine" (515 : Nat) (6 : Int64)) ∈ lw_all := lw_g (lw_at lw_m12 83 rfl) rfl
set_option maxRecDepth 100000 in
theorem q3100 : (Jvm.Cond.constantLong "PascalHouse$Machine" (517 : Nat) (100 : Int64)) ∈ lw_all := lw_g (lw_at lw_m12 84 rfl) rfl
set_option maxRecDepth 100000 in
theorem q3101 : (Jvm.Cond.constantLong "PascalHouse$Machine" (506 : Nat) (9 : Int64)) ∈ lw_all := lw_g (lw_at lw_m12 85 rfl) rfl
set_option maxRecDepth 100000 in
theorem q3102 : (Jvm.Cond.methodLink "PascalHouse$Machine" (519 : Nat) ({ cls := "PascalHouse$Machine", name := "digits", desc := "(JI)V" } : Jvm.MethodName)) ∈ lw_all := lw_g (lw_at lw_m12 86 rfl) rfl
set_option maxRecDepth 100000 in
theorem q3104 : (Jvm.Cond.instanceMethod ({ cls := "PascalHouse$Machine", name := "digits", desc := "(JI)V" } : Jvm.MethodName)) ∈ lw_all := lw_g (lw_at lw_m12 88 rfl) rfl
set_option maxRecDepth 100000 in
theorem q3105 : (Jvm.Cond.code ({ cls := "PascalHouse$Machine", name := "digits", desc := "(JI)V" } : Jvm.MethodName) prog_11_method_49_code (7 : Nat) (Option.none : Option Jvm.ClassFile.FieldType)) ∈ lw_all := lw_g (lw_at lw_m12 89 rfl) rfl
set_option maxRecDepth 100000 in
theorem q3106 : (Jvm.Cond.constantLong "PascalHouse$Machine" (479 : Nat) (10 : Int64)) ∈ lw_all := lw_g (lw_at lw_m12 90 rfl) rfl
set_option maxRecDepth 100000 in
theorem q3107 : (Jvm.Cond.methodLink "PascalHouse$Machine" (522 : Nat) ({ cls := "PascalHouse$Machine", name := "fractions", desc := "(DII)V" } : Jvm.MethodName)) ∈ lw_all := lw_g (lw_at lw_m12 91 rfl) rfl
set_option maxRecDepth 100000 in
theorem q3109 : (Jvm.Cond.instanceMethod ({ cls := "PascalHouse$Machine", name := "fractions", desc := "(DII)V" } : Jvm.MethodName)) ∈ lw_all := lw_g (lw_at lw_m12 93 rfl) rfl
set_option maxRecDepth 100000 in
theorem q3110 : (Jvm.Cond.code ({ cls := "PascalHouse$Machine", name := "fractions", desc := "(DII)V" } : Jvm.MethodName) prog_11_method_53_code (15 : Nat) (Option.none : Option Jvm.ClassFile.FieldType)) ∈ lw_all := lw_g (lw_at lw_m12 94 rfl) rfl
set_option maxRecDepth 100000 in
theorem q3111 : (Jvm.Cond.constantDouble "PascalHouse$Machine" (543 : Nat) (4741671816366391296 : UInt64)) ∈ lw_all := lw_g (lw_at lw_m12 95 rfl) rfl
set_option maxRecDepth 100000 in
theorem q3112 : (Jvm.Cond.methodLinkNest "PascalHouse$Machine" (545 : Nat) ({ cls := "PascalHouse", name := "power", desc := "(I)D" } : Jvm.MethodName) "PascalHouse") ∈ lw_tbl := lw_at lw_m12 96 rfl
set_option maxRecDepth 100000 in
theorem q3113 : (Jvm.Cond.constantDouble "PascalHouse$Machine" (549 : Nat) (4621819117588971520 : UInt64)) ∈ lw_all := lw_g (lw_at lw_m12 97 rfl) rfl
set_option maxRecDepth 100000 in
theorem q3116 : (Jvm.Cond.methodLink "PascalHouse$Machine" (530 : Nat) ({ cls := "PascalHouse$Machine", name := "word", desc := "(Ljava/lang/String;)V" } : Jvm.MethodName)) ∈ lw_all := lw_g (lw_at lw_m12 100 rfl) rfl
set_option maxRecDepth 100000 in
theorem q3118 : (Jvm.Cond.instanceMethod ({ cls := "PascalHouse$Machine", name := "word", desc := "(Ljava/lang/String;)V" } : Jvm.MethodName)) ∈ lw_all := lw_g (lw_at lw_m12 102 rfl) rfl
set_option maxRecDepth 100000 in
theorem q3119 : (Jvm.Cond.code ({ cls := "PascalHouse$Machine", name := "word", desc := "(Ljava/lang/String;)V" } : Jvm.MethodName) prog_11_method_48_code (3 : Nat) (Option.none : Option Jvm.ClassFile.FieldType)) ∈ lw_all := lw_g (lw_at lw_m12 103 rfl) rfl
set_option maxRecDepth 100000 in
theorem q3120 : (Jvm.Cond.methodLink "PascalHouse$Machine" (494 : Nat) ({ cls := "java/lang/String", name := "length", desc := "()I" } : Jvm.MethodName)) ∈ lw_all := lw_g (lw_at lw_m12 104 rfl) rfl
set_option maxRecDepth 100000 in
theorem q3121 : (Jvm.Cond.methodLink "PascalHouse$Machine" (499 : Nat) ({ cls := "java/lang/String", name := "charAt", desc := "(I)C" } : Jvm.MethodName)) ∈ lw_all := lw_g (lw_at lw_m12 105 rfl) rfl
set_option maxRecDepth 100000 in
theorem q3122 : (Jvm.Cond.methodLink "PascalHouse$Machine" (534 : Nat) ({ cls := "java/lang/Math", name := "min", desc := "(II)I" } : Jvm.MethodName)) ∈ lw_all := lw_g (lw_at lw_m12 106 rfl) rfl
set_option maxRecDepth 100000 in
theorem q3123 : (Jvm.Cond.methodLink "PascalHouse$Machine" (537 : Nat) ({ cls := "PascalHouse$Machine", name := "string", desc := "(II)Z" } : Jvm.MethodName)) ∈ lw_all := lw_g (lw_at lw_m12 107 rfl) rfl
set_option maxRecDepth 100000 in
theorem q3125 : (Jvm.Cond.instanceMethod ({ cls := "PascalHouse$Machine", name := "string", desc := "(II)Z" } : Jvm.MethodName)) ∈ lw_all := lw_g (lw_at lw_m12 109 rfl) rfl
set_option maxRecDepth 100000 in
theorem q3126 : (Jvm.Cond.code ({ cls := "PascalHouse$Machine", name := "string", desc := "(II)Z" } : Jvm.MethodName) prog_11_method_51_code (4 : Nat) (Option.some Jvm.ClassFile.FieldType.boolean)) ∈ lw_all := lw_g (lw_at lw_m12 110 rfl) rfl
set_option maxRecDepth 100000 in
theorem q3127 : (Jvm.Cond.methodLink "PascalHouse$Machine" (420 : Nat) ({ cls := "PascalHouse$Machine", name := "asks", desc := "(III)V" } : Jvm.MethodName)) ∈ lw_all := lw_g (lw_at lw_m12 111 rfl) rfl
set_option maxRecDepth 100000 in
theorem q3129 : (Jvm.Cond.instanceMethod ({ cls := "PascalHouse$Machine", name := "asks", desc := "(III)V" } : Jvm.MethodName)) ∈ lw_all := lw_g (lw_at lw_m12 113 rfl) rfl
set_option maxRecDepth 100000 in
theorem q3130 : (Jvm.Cond.code ({ cls := "PascalHouse$Machine", name := "asks", desc := "(III)V" } : Jvm.MethodName) prog_11_method_40_code (5 : Nat) (Option.none : Option Jvm.ClassFile.FieldType)) ∈ lw_all := lw_g (lw_at lw_m12 114 rfl) rfl
set_option maxRecDepth 100000 in
theorem q3131 : (Jvm.Cond.methodLink "PascalHouse$Machine" (457 : Nat) ({ cls := "PascalHouse$FileRows", name := "here", desc := "(I)I" } : Jvm.MethodName)) ∈ lw_all := lw_g (lw_at lw_m12 115 rfl) rfl
set_option maxRecDepth 100000 in
theorem q3132 : (Jvm.Cond.instanceMethod ({ cls := "PascalHouse$FileRows", name := "here", desc := "(I)I" } : Jvm.MethodName)) ∈ lw_all := lw_g (lw_at lw_m12 116 rfl) rfl
set_option maxRecDepth 100000 in
theorem q3133 : (Jvm.Cond.selects "PascalHouse$FileRows" ({ cls := "PascalHouse$FileRows", name := "here", desc := "(I)I" } : Jvm.MethodName) ({ cls := "PascalHouse$FileRows", name := "here", desc := "(I)I" } : Jvm.MethodName)) ∈ lw_all := lw_g (lw_at lw_m12 117 rfl) rfl
set_option maxRecDepth 100000 in
theorem q3134 : (Jvm.Cond.code ({ cls := "PascalHouse$FileRows", name := "here", desc := "(I)I" } : Jvm.MethodName) prog_7_method_9_code (2 : Nat) (Option.some Jvm.ClassFile.FieldType.int)) ∈ lw_all := lw_g (lw_at lw_m12 118 rfl) rfl
set_option maxRecDepth 100000 in
theorem q3135 : (Jvm.Cond.methodLink "PascalHouse$Machine" (423 : Nat) ({ cls := "PascalHouse$Machine", name := "makes", desc := "(III)V" } : Jvm.MethodName)) ∈ lw_all := lw_g (lw_at lw_m12 119 rfl) rfl
set_option maxRecDepth 100000 in
theorem q3137 : (Jvm.Cond.instanceMethod ({ cls := "PascalHouse$Machine", name := "makes", desc := "(III)V" } : Jvm.MethodName)) ∈ lw_all := lw_g (lw_at lw_m12 121 rfl) rfl
set_option maxRecDepth 100000 in
theorem q3138 : (Jvm.Cond.code ({ cls := "PascalHouse$Machine", name := "makes", desc := "(III)V" } : Jvm.MethodName) prog_11_method_45_code (5 : Nat) (Option.none : Option Jvm.ClassFile.FieldType)) ∈ lw_all := lw_g (lw_at lw_m12 122 rfl) rfl
set_option maxRecDepth 100000 in
theorem q3139 : (Jvm.Cond.methodLink "PascalHouse$Machine" (426 : Nat) ({ cls := "PascalHouse$Machine", name := "drops", desc := "(I)V" } : Jvm.MethodName)) ∈ lw_all := lw_g (lw_at lw_m12 123 rfl) rfl
set_option maxRecDepth 100000 in
theorem q3141 : (Jvm.Cond.instanceMethod ({ cls := "PascalHouse$Machine", name := "drops", desc := "(I)V" } : Jvm.MethodName)) ∈ lw_all := lw_g (lw_at lw_m12 125 rfl) rfl
set_option maxRecDepth 100000 in
theorem q3142 : (Jvm.Cond.code ({ cls := "PascalHouse$Machine", name := "drops", desc := "(I)V" } : Jvm.MethodName) prog_11_method_46_code (3 : Nat) (Option.none : Option Jvm.ClassFile.FieldType)) ∈ lw_all := lw_g (lw_at lw_m12 126 rfl) rfl
set_option maxRecDepth 100000 in
theorem q3143 : (Jvm.Cond.methodLink "PascalHouse$Machine" (438 : Nat) ({ cls := "PascalHouse$FileRows", name := "reset", desc := "(II)V" } : Jvm.MethodName)) ∈ lw_all := lw_g (lw_at lw_m12 127 rfl) rfl
set_option maxRecDepth 100000 in
theorem q3144 : (Jvm.Cond.methodLink "PascalHouse$Machine" (441 : Nat) ({ cls := "PascalHouse$FileRows", name := "bring", desc := "(II)V" } : Jvm.MethodName)) ∈ lw_all := lw_g (lw_at lw_m12 128 rfl) rfl
set_option maxRecDepth 100000 in
theorem q3145 : (Jvm.Cond.methodLink "PascalHouse$Machine" (444 : Nat) ({ cls := "PascalHouse$FileRows", name := "goOn", desc := "(I)V" } : Jvm.MethodName)) ∈ lw_all := lw_g (lw_at lw_m12 129 rfl) rfl
set_option maxRecDepth 100000 in
theorem q3146 : (Jvm.Cond.instanceMethod ({ cls := "PascalHouse$FileRows", name := "goOn", desc := "(I)V" } : Jvm.MethodName)) ∈ lw_all := lw_g (lw_at lw_m12 130 rfl) rfl
set_option maxRecDepth 100000 in
theorem q3147 : (Jvm.Cond.selects "PascalHouse$FileRows" ({ cls := "PascalHouse$FileRows", name := "goOn", desc := "(I)V" } : Jvm.MethodName) ({ cls := "PascalHouse$FileRows", name := "goOn", desc := "(I)V" } : Jvm.MethodName)) ∈ lw_all := lw_g (lw_at lw_m12 131 rfl) rfl
set_option maxRecDepth 100000 in
theorem q3148 : (Jvm.Cond.code ({ cls := "PascalHouse$FileRows", name := "goOn", desc := "(I)V" } : Jvm.MethodName) prog_7_method_12_code (3 : Nat) (Option.none : Option Jvm.ClassFile.FieldType)) ∈ lw_all := lw_g (lw_at lw_m12 132 rfl) rfl
set_option maxRecDepth 100000 in
theorem q3149 : (Jvm.Cond.methodLink "PascalHouse$Machine" (447 : Nat) ({ cls := "PascalHouse$Machine", name := "adds", desc := "(IIZI)V" } : Jvm.MethodName)) ∈ lw_all := lw_g (lw_at lw_m12 133 rfl) rfl
set_option maxRecDepth 100000 in
theorem q3151 : (Jvm.Cond.instanceMethod ({ cls := "PascalHouse$Machine", name := "adds", desc := "(IIZI)V" } : Jvm.MethodName)) ∈ lw_all := lw_g (lw_at lw_m12 135 rfl) rfl
set_option maxRecDepth 100000 in
theorem q3152 : (Jvm.Cond.code ({ cls := "PascalHouse$Machine", name := "adds", desc := "(IIZI)V" } : Jvm.MethodName) prog_11_method_41_code (5 : Nat) (Option.none : Option Jvm.ClassFile.FieldType)) ∈ lw_all := lw_g (lw_at lw_m12 136 rfl) rfl
set_option maxRecDepth 100000 in
theorem q3153 : (Jvm.Cond.methodLink "PascalHouse$Machine" (466 : Nat) ({ cls := "PascalHouse$FileRows", name := "addBuffer", desc := "(I)V" } : Jvm.MethodName)) ∈ lw_all := lw_g (lw_at lw_m12 137 rfl) rfl
set_option maxRecDepth 100000 in
theorem q3154 : (Jvm.Cond.instanceMethod ({ cls := "PascalHouse$FileRows", name := "addBuffer", desc := "(I)V" } : Jvm.MethodName)) ∈ lw_all := lw_g (lw_at lw_m12 138 rfl) rfl
set_option maxRecDepth 100000 in
theorem q3155 : (Jvm.Cond.selects "PascalHouse$FileRows" ({ cls := "PascalHouse$FileRows", name := "addBuffer", desc := "(I)V" } : Jvm.MethodName) ({ cls := "PascalHouse$FileRows", name := "addBuffer", desc := "(I)V" } : Jvm.MethodName)) ∈ lw_all := lw_g (lw_at lw_m12 139 rfl) rfl
set_option maxRecDepth 100000 in
theorem q3156 : (Jvm.Cond.code ({ cls := "PascalHouse$FileRows", name := "addBuffer", desc := "(I)V" } : Jvm.MethodName) prog_7_method_8_code (4 : Nat) (Option.none : Option Jvm.ClassFile.FieldType)) ∈ lw_all := lw_g (lw_at lw_m12 140 rfl) rfl
set_option maxRecDepth 100000 in
theorem q3157 : (Jvm.Cond.methodLink "PascalHouse$Machine" (451 : Nat) ({ cls := "PascalHouse$Machine", name := "passes", desc := "(II)V" } : Jvm.MethodName)) ∈ lw_all := lw_g (lw_at lw_m12 141 rfl) rfl
set_option maxRecDepth 100000 in
theorem q3159 : (Jvm.Cond.instanceMethod ({ cls := "PascalHouse$Machine", name := "passes", desc := "(II)V" } : Jvm.MethodName)) ∈ lw_all := lw_g (lw_at lw_m12 143 rfl) rfl
set_option maxRecDepth 100000 in
theorem q3160 : (Jvm.Cond.code ({ cls := "PascalHouse$Machine", name := "passes", desc := "(II)V" } : Jvm.MethodName) prog_11_method_42_code (3 : Nat) (Option.none : Option Jvm.ClassFile.FieldType)) ∈ lw_all := lw_g (lw_at lw_m12 144 rfl) rfl
set_option maxRecDepth 100000 in
theorem q3161 : (Jvm.Cond.methodLink "PascalHouse$Machine" (454 : Nat) ({ cls := "PascalHouse$Machine", name := "readsNumber", desc := "(IIII)V" } : Jvm.MethodName)) ∈ lw_all := lw_g (lw_at lw_m12 145 rfl) rfl
set_option maxRecDepth 100000 in
theorem q3163 : (Jvm.Cond.instanceMethod ({ cls := "PascalHouse$Machine", name := "readsNumber", desc := "(IIII)V" } : Jvm.MethodName)) ∈ lw_all := lw_g (lw_at lw_m12 147 rfl) rfl
set_option maxRecDepth 100000 in
theorem q3164 : (Jvm.Cond.code ({ cls := "PascalHouse$Machine", name := "readsNumber", desc := "(IIII)V" } : Jvm.MethodName) prog_11_method_43_code (14 : Nat) (Option.none : Option Jvm.ClassFile.FieldType)) ∈ lw_all := lw_g (lw_at lw_m12 148 rfl) rfl
set_option maxRecDepth 100000 in
theorem q3165 : (Jvm.Cond.methodLink "PascalHouse$Machine" (469 : Nat) ({ cls := "PascalHouse$FileRows", name := "ahead", desc := "(II)I" } : Jvm.MethodName)) ∈ lw_all := lw_g (lw_at lw_m12 149 rfl) rfl
set_option maxRecDepth 100000 in
theorem q3166 : (Jvm.Cond.instanceMethod ({ cls := "PascalHouse$FileRows", name := "ahead", desc := "(II)I" } : Jvm.MethodName)) ∈ lw_all := lw_g (lw_at lw_m12 150 rfl) rfl
set_option maxRecDepth 100000 in
theorem q3167 : (Jvm.Cond.selects "PascalHouse$FileRows" ({ cls := "PascalHouse$FileRows", name := "ahead", desc := "(II)I" } : Jvm.MethodName) ({ cls := "PascalHouse$FileRows", name := "ahead", desc := "(II)I" } : Jvm.MethodName)) ∈ lw_all := lw_g (lw_at lw_m12 151 rfl) rfl
set_option maxRecDepth 100000 in
theorem q3168 : (Jvm.Cond.code ({ cls := "PascalHouse$FileRows", name := "ahead", desc := "(II)I" } : Jvm.MethodName) prog_7_method_10_code (5 : Nat) (Option.some Jvm.ClassFile.FieldType.int)) ∈ lw_all := lw_g (lw_at lw_m12 152 rfl) rfl
set_option maxRecDepth 100000 in
theorem q3169 : (Jvm.Cond.methodLinkNest "PascalHouse$Machine" (473 : Nat) ({ cls := "PascalHouse", name := "isDigit", desc := "(I)Z" } : Jvm.MethodName) "PascalHouse") ∈ lw_tbl := lw_at lw_m12 153 rfl
set_option maxRecDepth 100000 in
theorem q3170 : (Jvm.Cond.constantLong "PascalHouse$Machine" (477 : Nat) (1000000000000000 : Int64)) ∈ lw_all := lw_g (lw_at lw_m12 154 rfl) rfl
set_option maxRecDepth 100000 in
theorem q3171 : (Jvm.Cond.constantLong "PascalHouse$Machine" (481 : Nat) (48 : Int64)) ∈ lw_all := lw_g (lw_at lw_m12 155 rfl) rfl
set_option maxRecDepth 100000 in
theorem q3172 : (Jvm.Cond.methodLink "PascalHouse$Machine" (483 : Nat) ({ cls := "PascalHouse$Machine", name := "pushReal", desc := "(IJIIZI)V" } : Jvm.MethodName)) ∈ lw_all := lw_g (lw_at lw_m12 156 rfl) rfl
set_option maxRecDepth 100000 in
theorem q3174 : (Jvm.Cond.instanceMethod ({ cls := "PascalHouse$Machine", name := "pushReal", desc := "(IJIIZI)V" } : Jvm.MethodName)) ∈ lw_all := lw_g (lw_at lw_m12 158 rfl) rfl
set_option maxRecDepth 100000 in
theorem q3175 : (Jvm.Cond.code ({ cls := "PascalHouse$Machine", name := "pushReal", desc := "(IJIIZI)V" } : Jvm.MethodName) prog_11_method_44_code (16 : Nat) (Option.none : Option Jvm.ClassFile.FieldType)) ∈ lw_all := lw_g (lw_at lw_m12 159 rfl) rfl
set_option maxRecDepth 100000 in
theorem q3176 : (Jvm.Cond.methodLinkNest "PascalHouse$Machine" (487 : Nat) ({ cls := "PascalHouse", name := "realOf", desc := "(JII)D" } : Jvm.MethodName) "PascalHouse") ∈ lw_tbl := lw_at lw_m12 160 rfl
set_option maxRecDepth 100000 in
theorem q3177 : (Jvm.Cond.methodLink "PascalHouse" (272 : Nat) ({ cls := "PascalHouse", name := "keeps", desc := "(I)V" } : Jvm.MethodName)) ∈ lw_all := lw_g (lw_at lw_m12 161 rfl) rfl
set_option maxRecDepth 100000 in
theorem q3179 : (Jvm.Cond.instanceMethod ({ cls := "PascalHouse", name := "keeps", desc := "(I)V" } : Jvm.MethodName)) ∈ lw_all := lw_g (lw_at lw_m12 163 rfl) rfl
set_option maxRecDepth 100000 in
theorem q3180 : (Jvm.Cond.code ({ cls := "PascalHouse", name := "keeps", desc := "(I)V" } : Jvm.MethodName) prog_1_method_18_code (5 : Nat) (Option.none : Option Jvm.ClassFile.FieldType)) ∈ lw_all := lw_g (lw_at lw_m12 164 rfl) rfl
set_option maxRecDepth 100000 in
theorem q3181 : (Jvm.Cond.methodLink "PascalHouseLaw" (41 : Nat) ({ cls := "PascalHouse", name := "where", desc := "()I" } : Jvm.MethodName)) ∈ lw_all := lw_g (lw_at lw_m12 165 rfl) rfl
set_option maxRecDepth 100000 in
theorem q3182 : (Jvm.Cond.instanceMethod ({ cls := "PascalHouse", name := "where", desc := "()I" } : Jvm.MethodName)) ∈ lw_all := lw_g (lw_at lw_m12 166 rfl) rfl
set_option maxRecDepth 100000 in
theorem q3183 : (Jvm.Cond.selects "PascalHouse" ({ cls := "PascalHouse", name := "where", desc := "()I" } : Jvm.MethodName) ({ cls := "PascalHouse", name := "where", desc := "()I" } : Jvm.MethodName)) ∈ lw_all := lw_g (lw_at lw_m12 167 rfl) rfl
set_option maxRecDepth 100000 in
theorem q3184 : (Jvm.Cond.code ({ cls := "PascalHouse", name := "where", desc := "()I" } : Jvm.MethodName) prog_1_method_19_code (1 : Nat) (Option.some Jvm.ClassFile.FieldType.int)) ∈ lw_all := lw_g (lw_at lw_m12 168 rfl) rfl
set_option maxRecDepth 100000 in
theorem q3185 : (Jvm.Cond.methodLink "PascalHouseLaw" (45 : Nat) ({ cls := "PascalHouse", name := "steps", desc := "()I" } : Jvm.MethodName)) ∈ lw_all := lw_g (lw_at lw_m12 169 rfl) rfl
set_option maxRecDepth 100000 in
theorem q3186 : (Jvm.Cond.instanceMethod ({ cls := "PascalHouse", name := "steps", desc := "()I" } : Jvm.MethodName)) ∈ lw_all := lw_g (lw_at lw_m12 170 rfl) rfl
set_option maxRecDepth 100000 in
theorem q3187 : (Jvm.Cond.selects "PascalHouse" ({ cls := "PascalHouse", name := "steps", desc := "()I" } : Jvm.MethodName) ({ cls := "PascalHouse", name := "steps", desc := "()I" } : Jvm.MethodName)) ∈ lw_all := lw_g (lw_at lw_m12 171 rfl) rfl
set_option maxRecDepth 100000 in
theorem q3188 : (Jvm.Cond.code ({ cls := "PascalHouse", name := "steps", desc := "()I" } : Jvm.MethodName) prog_1_method_20_code (1 : Nat) (Option.some Jvm.ClassFile.FieldType.int)) ∈ lw_all := lw_g (lw_at lw_m12 172 rfl) rfl
set_option maxRecDepth 100000 in
theorem q3189 : (Jvm.Cond.methodLink "PascalHouseLaw" (49 : Nat) ({ cls := "PascalHouse", name := "file", desc := "(II)I" } : Jvm.MethodName)) ∈ lw_all := lw_g (lw_at lw_m12 173 rfl) rfl
set_option maxRecDepth 100000 in
theorem q3190 : (Jvm.Cond.instanceMethod ({ cls := "PascalHouse", name := "file", desc := "(II)I" } : Jvm.MethodName)) ∈ lw_all := lw_g (lw_at lw_m12 174 rfl) rfl
set_option maxRecDepth 100000 in
theorem q3191 : (Jvm.Cond.selects "PascalHouse" ({ cls := "PascalHouse", name := "file", desc := "(II)I" } : Jvm.MethodName) ({ cls := "PascalHouse", name := "file", desc := "(II)I" } : Jvm.MethodName)) ∈ lw_all := lw_g (lw_at lw_m12 175 rfl) rfl
set_option maxRecDepth 100000 in
theorem q3192 : (Jvm.Cond.code ({ cls := "PascalHouse", name := "file", desc := "(II)I" } : Jvm.MethodName) prog_1_method_21_code (3 : Nat) (Option.some Jvm.ClassFile.FieldType.int)) ∈ lw_all := lw_g (lw_at lw_m12 176 rfl) rfl
set_option maxRecDepth 100000 in
theorem q3193 : (Jvm.Cond.methodLink "PascalHouseLaw" (54 : Nat) ({ cls := "PascalHouse", name := "about", desc := "(I)I" } : Jvm.MethodName)) ∈ lw_all := lw_g (lw_at lw_m12 177 rfl) rfl
set_option maxRecDepth 100000 in
theorem q3194 : (Jvm.Cond.instanceMethod ({ cls := "PascalHouse", name := "about", desc := "(I)I" } : Jvm.MethodName)) ∈ lw_all := lw_g (lw_at lw_m12 178 rfl) rfl
set_option maxRecDepth 100000 in
theorem q3195 : (Jvm.Cond.selects "PascalHouse" ({ cls := "PascalHouse", name := "about", desc := "(I)I" } : Jvm.MethodName) ({ cls := "PascalHouse", name := "about", desc := "(I)I" } : Jvm.MethodName)) ∈ lw_all := lw_g (lw_at lw_m12 179 rfl) rfl
set_option maxRecDepth 100000 in
theorem q3196 : (Jvm.Cond.code ({ cls := "PascalHouse", name := "about", desc := "(I)I" } : Jvm.MethodName) prog_1_method_22_code (2 : Nat) (Option.some Jvm.ClassFile.FieldType.int)) ∈ lw_all := lw_g (lw_at lw_m12 180 rfl) rfl
set_option maxRecDepth 100000 in
theorem q3197 : (Jvm.Cond.methodLink "PascalHouse" (315 : Nat) ({ cls := "java/util/ArrayList", name := "size", desc := "()I" } : Jvm.MethodName)) ∈ lw_all := lw_g (lw_at lw_m12 181 rfl) rfl
set_option maxRecDepth 100000 in
theorem q3198 : (Jvm.Cond.classLink "PascalHouseLaw" (10 : Nat) "PascalHouseModel") ∈ lw_all := lw_g (lw_at lw_m12 182 rfl) rfl
set_option maxRecDepth 100000 in
theorem q3199 : (Jvm.Cond.instantiable "PascalHouseModel" (131 : Nat)) ∈ lw_all := lw_g (lw_at lw_m12 183 rfl) rfl
set_option maxRecDepth 100000 in
theorem q3200 : (Jvm.Cond.methodLink "PascalHouseLaw" (12 : Nat) ({ cls := "PascalHouseModel", name := "<init>", desc := "()V" } : Jvm.MethodName)) ∈ lw_all := lw_g (lw_at lw_m12 184 rfl) rfl
set_option maxRecDepth 100000 in
theorem q3201 : (Jvm.Cond.instanceMethod ({ cls := "PascalHouseModel", name := "<init>", desc := "()V" } : Jvm.MethodName)) ∈ lw_all := lw_g (lw_at lw_m12 185 rfl) rfl
set_option maxRecDepth 100000 in
theorem q3202 : (Jvm.Cond.code ({ cls := "PascalHouseModel", name := "<init>", desc := "()V" } : Jvm.MethodName) prog_24_method_1_code (1 : Nat) (Option.none : Option Jvm.ClassFile.FieldType)) ∈ lw_all := lw_g (lw_at lw_m12 186 rfl) rfl
set_option maxRecDepth 100000 in
theorem q3203 : (Jvm.Cond.methodLink "PascalHouseModel" (1 : Nat) ({ cls := "java/lang/Object", name := "<init>", desc := "()V" } : Jvm.MethodName)) ∈ lw_all := lw_g (lw_at lw_m12 187 rfl) rfl
set_option maxRecDepth 100000 in
theorem q3204 : (Jvm.Cond.classLink "PascalHouseModel" (94 : Nat) "PascalHouseModel$Type") ∈ lw_all := lw_g (lw_at lw_m12 188 rfl) rfl
set_option maxRecDepth 100000 in
theorem q3206 : (Jvm.Cond.classLink "PascalHouseModel" (100 : Nat) "PascalHouseModel$Symbol") ∈ lw_all := lw_g (lw_at lw_m12 190 rfl) rfl
set_option maxRecDepth 100000 in
theorem q3208 : (Jvm.Cond.instantiable "PascalHouseModel$Type" (8 : Nat)) ∈ lw_all := lw_g (lw_at lw_m12 192 rfl) rfl
set_option maxRecDepth 100000 in
theorem q3209 : (Jvm.Cond.methodLink "PascalHouseModel" (106 : Nat) ({ cls := "PascalHouseModel$Type", name := "<init>", desc := "(I)V" } : Jvm.MethodName)) ∈ lw_all := lw_g (lw_at lw_m12 193 rfl) rfl
set_option maxRecDepth 100000 in
theorem q3210 : (Jvm.Cond.instanceMethod ({ cls := "PascalHouseModel$Type", name := "<init>", desc := "(I)V" } : Jvm.MethodName)) ∈ lw_all := lw_g (lw_at lw_m12 194 rfl) rfl
set_option maxRecDepth 100000 in
theorem q3211 : (Jvm.Cond.code ({ cls := "PascalHouseModel$Type", name := "<init>", desc := "(I)V" } : Jvm.MethodName) prog_29_method_1_code (2 : Nat) (Option.none : Option Jvm.ClassFile.FieldType)) ∈ lw_all := lw_g (lw_at lw_m12 195 rfl) rfl
set_option maxRecDepth 100000 in
theorem q3212 : (Jvm.Cond.methodLink "PascalHouseModel$Type" (3 : Nat) ({ cls := "java/lang/Object", name := "<init>", desc := "()V" } : Jvm.MethodName)) ∈ lw_all := lw_g (lw_at lw_m12 196 rfl) rfl
set_option maxRecDepth 100000 in
theorem q3213 : (Jvm.Cond.fieldLink "PascalHouseModel$Type" (15 : Nat) "PascalHouseModel$Type" "sort" "I") ∈ lw_all := lw_g (lw_at lw_m12 197 rfl) rfl
set_option maxRecDepth 100000 in
theorem q3214 : (Jvm.Cond.fieldLink "PascalHouseModel" (845 : Nat) "PascalHouseModel$Type" "sort" "I") ∈ lw_all := lw_g (lw_at lw_m12 198 rfl) rfl
set_option maxRecDepth 100000 in
theorem q3215 : (Jvm.Cond.fieldLink "PascalHouseModel$Type" (36 : Nat) "PascalHouseModel$Type" "low" "I") ∈ lw_all := lw_g (lw_at lw_m12 199 rfl) rfl
set_option maxRecDepth 100000 in
theorem q3216 : (Jvm.Cond.fieldLink "PascalHouseModel" (591 : Nat) "PascalHouseModel$Type" "low" "I") ∈ lw_all := lw_g (lw_at lw_m12 200 rfl) rfl
set_option maxRecDepth 100000 in
theorem q3217 : (Jvm.Cond.fieldLink "PascalHouseModel$Type" (30 : Nat) "PascalHouseModel$Type" "high" "I") ∈ lw_all := lw_g (lw_at lw_m12 201 rfl) rfl
set_option maxRecDepth 100000 in
theorem q3218 : (Jvm.Cond.fieldLink "PascalHouseModel" (595 : Nat) "PascalHouseModel$Type" "high" "I") ∈ lw_all := lw_g (lw_at lw_m12 202 rfl) rfl
set_option maxRecDepth 100000 in
theorem q3219 : (Jvm.Cond.fieldLink "PascalHouseModel$Type" (19 : Nat) "PascalHouseModel$Type" "host" "LPascalHouseModel$Type;") ∈ lw_all := lw_g (lw_at lw_m12 203 rfl) rfl
set_option maxRecDepth 100000 in
theorem q3220 : (Jvm.Cond.fieldLink "PascalHouseModel" (871 : Nat) "PascalHouseModel$Type" "host" "LPascalHouseModel$Type;") ∈ lw_all := lw_g (lw_at lw_m12 204 rfl) rfl
set_option maxRecDepth 100000 in
theorem q3221 : (Jvm.Cond.fieldLink "PascalHouseModel$Type" (33 : Nat) "PascalHouseModel$Type" "index" "LPascalHouseModel$Type;") ∈ lw_all := lw_g (lw_at lw_m12 205 rfl) rfl
set_option maxRecDepth 100000 in
theorem q3222 : (Jvm.Cond.fieldLink "PascalHouseModel" (864 : Nat) "PascalHouseModel$Type" "index" "LPascalHouseModel$Type;") ∈ lw_all := lw_g (lw_at lw_m12 206 rfl) rfl
set_option maxRecDepth 100000 in
theorem q3223 : (Jvm.Cond.fieldLink "PascalHouseModel$Type" (27 : Nat) "PascalHouseModel$Type" "part" "LPascalHouseModel$Type;") ∈ lw_all := lw_g (lw_at lw_m12 207 rfl) rfl
set_option maxRecDepth 100000 in
theorem q3224 : (Jvm.Cond.fieldLink "PascalHouseModel" (598 : Nat) "PascalHouseModel$Type" "part" "LPascalHouseModel$Type;") ∈ lw_all := lw_g (lw_at lw_m12 208 rfl) rfl
set_option maxRecDepth 100000 in
theorem q3225 : (Jvm.Cond.fieldLink "PascalHouseModel$Type" (9 : Nat) "PascalHouseModel$Type" "cells" "J") ∈ lw_all := lw_g (lw_at lw_m12 209 rfl) rfl
set_option maxRecDepth 100000 in
theorem q3226 : (Jvm.Cond.fieldLink "PascalHouseModel" (603 : Nat) "PascalHouseModel$Type" "cells" "J") ∈ lw_all := lw_g (lw_at lw_m12 210 rfl) rfl
set_option maxRecDepth 100000 in
theorem q3227 : (Jvm.Cond.fieldLink "PascalHouseModel" (852 : Nat) "PascalHouseModel$Type" "fields" "Ljava/util/ArrayList;") ∈ lw_all := lw_g (lw_at lw_m12 211 rfl) rfl
set_option maxRecDepth 100000 in
theorem q3245 : (Jvm.Cond.classLink "PascalHouseModel" (131 : Nat) "java/util/ArrayList") ∈ lw_all := lw_g (lw_at lw_m12 229 rfl) rfl
set_option maxRecDepth 100000 in
theorem q3246 : (Jvm.Cond.methodLink "PascalHouseModel" (133 : Nat) ({ cls := "java/util/ArrayList", name := "<init>", desc := "()V" } : Jvm.MethodName)) ∈ lw_all := lw_g (lw_at lw_m12 230 rfl) rfl
set_option maxRecDepth 100000 in
theorem q3247 : (Jvm.Cond.instanceMethod ({ cls := "java/util/ArrayList", name := "<init>", desc := "()V" } : Jvm.MethodName)) ∈ lw_all := lw_g (lw_at lw_m12 231 rfl) rfl
set_option maxRecDepth 100000 in
theorem q3248 : (Jvm.Cond.code ({ cls := "java/util/ArrayList", name := "<init>", desc := "()V" } : Jvm.MethodName) prog_60_method_2_code (1 : Nat) (Option.none : Option Jvm.ClassFile.FieldType)) ∈ lw_all := lw_g (lw_at lw_m12 232 rfl) rfl
set_option maxRecDepth 100000 in
theorem q3249 : (Jvm.Cond.constant "PascalHouseModel" (194 : Nat) (38000 : Int32)) ∈ lw_all := lw_g (lw_at lw_m12 233 rfl) rfl
set_option maxRecDepth 100000 in
theorem q3250 : (Jvm.Cond.constant "PascalHouseModel" (228 : Nat) (45000 : Int32)) ∈ lw_all := lw_g (lw_at lw_m12 234 rfl) rfl
set_option maxRecDepth 100000 in
theorem q3251 : (Jvm.Cond.fieldLink "PascalHouseModel" (250 : Nat) "PascalHouseModel" "thrown" "I") ∈ lw_all := lw_g (lw_at lw_m12 235 rfl) rfl
set_option maxRecDepth 100000 in
theorem q3252 : (Jvm.Cond.fieldLink "PascalHouseModel" (9 : Nat) "PascalHouseModel" "tape" "[B") ∈ lw_all := lw_g (lw_at lw_m12 236 rfl) rfl
set_option maxRecDepth 100000 in
theorem q3253 : (Jvm.Cond.fieldLink "PascalHouseModel" (253 : Nat) "PascalHouseModel" "taped" "I") ∈ lw_all := lw_g (lw_at lw_m12 237 rfl) rfl
set_option maxRecDepth 100000 in
theorem q3254 : (Jvm.Cond.fieldLink "PascalHouseModel" (13 : Nat) "PascalHouseModel" "input" "[B") ∈ lw_all := lw_g (lw_at lw_m12 238 rfl) rfl
set_option maxRecDepth 100000 in
theorem q3255 : (Jvm.Cond.fieldLink "PascalHouseModel" (256 : Nat) "PascalHouseModel" "given" "I") ∈ lw_all := lw_g (lw_at lw_m12 239 rfl) rfl
set_option maxRecDepth 100000 in
theorem q3256 : (Jvm.Cond.fieldLink "PascalHouseModel" (16 : Nat) "PascalHouseModel" "slots" "[B") ∈ lw_all := lw_g (lw_at lw_m13 0 rfl) rfl
set_option maxRecDepth 100000 in
theorem q3257 : (Jvm.Cond.fieldLink "PascalHouseModel" (19 : Nat) "PascalHouseModel" "slotSize" "[I") ∈ lw_all := lw_g (lw_at lw_m13 1 rfl) rfl
set_option maxRecDepth 100000 in
theorem q3258 : (Jvm.Cond.fieldLink "PascalHouseModel" (23 : Nat) "PascalHouseModel" "text" "[B") ∈ lw_all := lw_g (lw_at lw_m13 2 rfl) rfl
set_option maxRecDepth 100000 in
theorem q3259 : (Jvm.Cond.fieldLink "PascalHouseModel" (266 : Nat) "PascalHouseModel" "size" "I") ∈ lw_all := lw_g (lw_at lw_m13 3 rfl) rfl
set_option maxRecDepth 100000 in
theorem q3260 : (Jvm.Cond.fieldLink "PascalHouseModel" (269 : Nat) "PascalHouseModel" "at" "I") ∈ lw_all := lw_g (lw_at lw_m13 4 rfl) rfl
set_option maxRecDepth 100000 in
theorem q3261 : (Jvm.Cond.fieldLink "PascalHouseModel" (26 : Nat) "PascalHouseModel" "sort" "[I") ∈ lw_all := lw_g (lw_at lw_m13 5 rfl) rfl
set_option maxRecDepth 100000 in
theorem q3262 : (Jvm.Cond.fieldLink "PascalHouseModel" (29 : Nat) "PascalHouseModel" "place" "[I") ∈ lw_all := lw_g (lw_at lw_m13 6 rfl) rfl
set_option maxRecDepth 100000 in
theorem q3263 : (Jvm.Cond.fieldLink "PascalHouseModel" (32 : Nat) "PascalHouseModel" "word" "[I") ∈ lw_all := lw_g (lw_at lw_m13 7 rfl) rfl
set_option maxRecDepth 100000 in
theorem q3264 : (Jvm.Cond.fieldLink "PascalHouseModel" (35 : Nat) "PascalHouseModel" "length" "[I") ∈ lw_all := lw_g (lw_at lw_m13 8 rfl) rfl
set_option maxRecDepth 100000 in
theorem q3265 : (Jvm.Cond.fieldLink "PascalHouseModel" (38 : Nat) "PascalHouseModel" "reals" "[D") ∈ lw_all := lw_g (lw_at lw_m13 9 rfl) rfl
set_option maxRecDepth 100000 in
theorem q3266 : (Jvm.Cond.fieldLink "PascalHouseModel" (378 : Nat) "PascalHouseModel" "symbols" "I") ∈ lw_all := lw_g (lw_at lw_m13 10 rfl) rfl
set_option maxRecDepth 100000 in
theorem q3267 : (Jvm.Cond.fieldLink "PascalHouseModel" (42 : Nat) "PascalHouseModel" "signs" "[B") ∈ lw_all := lw_g (lw_at lw_m13 11 rfl) rfl
set_option maxRecDepth 100000 in
theorem q3268 : (Jvm.Cond.fieldLink "PascalHouseModel" (411 : Nat) "PascalHouseModel" "signMany" "I") ∈ lw_all := lw_g (lw_at lw_m13 12 rfl) rfl
set_option maxRecDepth 100000 in
theorem q3269 : (Jvm.Cond.fieldLink "PascalHouseModel" (45 : Nat) "PascalHouseModel" "letters" "[B") ∈ lw_all := lw_g (lw_at lw_m13 13 rfl) rfl
set_option maxRecDepth 100000 in
theorem q3270 : (Jvm.Cond.fieldLink "PascalHouseModel" (286 : Nat) "PascalHouseModel" "letterMany" "I") ∈ lw_all := lw_g (lw_at lw_m13 14 rfl) rfl
set_option maxRecDepth 100000 in
theorem q3271 : (Jvm.Cond.fieldLink "PascalHouseModel" (48 : Nat) "PascalHouseModel" "nameAt" "[I") ∈ lw_all := lw_g (lw_at lw_m13 15 rfl) rfl
set_option maxRecDepth 100000 in
theorem q3272 : (Jvm.Cond.fieldLink "PascalHouseModel" (51 : Nat) "PascalHouseModel" "nameSize" "[I") ∈ lw_all := lw_g (lw_at lw_m13 16 rfl) rfl
set_option maxRecDepth 100000 in
theorem q3273 : (Jvm.Cond.fieldLink "PascalHouseModel" (54 : Nat) "PascalHouseModel" "nameNext" "[I") ∈ lw_all := lw_g (lw_at lw_m13 17 rfl) rfl
set_option maxRecDepth 100000 in
theorem q3274 : (Jvm.Cond.fieldLink "PascalHouseModel" (57 : Nat) "PascalHouseModel" "heads" "[I") ∈ lw_all := lw_g (lw_at lw_m13 18 rfl) rfl
set_option maxRecDepth 100000 in
theorem q3275 : (Jvm.Cond.fieldLink "PascalHouseModel" (283 : Nat) "PascalHouseModel" "nameMany" "I") ∈ lw_all := lw_g (lw_at lw_m13 19 rfl) rfl
set_option maxRecDepth 100000 in
theorem q3276 : (Jvm.Cond.fieldLink "PascalHouseModel" (60 : Nat) "PascalHouseModel" "spelt" "[B") ∈ lw_all := lw_g (lw_at lw_m13 20 rfl) rfl
set_option maxRecDepth 100000 in
theorem q3277 : (Jvm.Cond.fieldLink "PascalHouseModel" (280 : Nat) "PascalHouseModel" "speltMany" "I") ∈ lw_all := lw_g (lw_at lw_m13 21 rfl) rfl
set_option maxRecDepth 100000 in
theorem q3278 : (Jvm.Cond.fieldLink "PascalHouseModel" (259 : Nat) "PascalHouseModel" "fault" "I") ∈ lw_all := lw_g (lw_at lw_m13 22 rfl) rfl
set_option maxRecDepth 100000 in
theorem q3279 : (Jvm.Cond.fieldLink "PascalHouseModel" (63 : Nat) "PascalHouseModel" "faultAt" "I") ∈ lw_all := lw_g (lw_at lw_m13 23 rfl) rfl
set_option maxRecDepth 100000 in
theorem q3280 : (Jvm.Cond.fieldLink "PascalHouseModel" (67 : Nat) "PascalHouseModel" "kind" "[I") ∈ lw_all := lw_g (lw_at lw_m13 24 rfl) rfl
set_option maxRecDepth 100000 in
theorem q3281 : (Jvm.Cond.fieldLink "PascalHouseModel" (70 : Nat) "PascalHouseModel" "token" "[I") ∈ lw_all := lw_g (lw_at lw_m13 25 rfl) rfl
set_option maxRecDepth 100000 in
theorem q3282 : (Jvm.Cond.fieldLink "PascalHouseModel" (73 : Nat) "PascalHouseModel" "first" "[I") ∈ lw_all := lw_g (lw_at lw_m13 26 rfl) rfl
set_option maxRecDepth 100000 in
theorem q3283 : (Jvm.Cond.fieldLink "PascalHouseModel" (76 : Nat) "PascalHouseModel" "last" "[I") ∈ lw_all := lw_g (lw_at lw_m13 27 rfl) rfl
set_option maxRecDepth 100000 in
theorem q3284 : (Jvm.Cond.fieldLink "PascalHouseModel" (79 : Nat) "PascalHouseModel" "next" "[I") ∈ lw_all := lw_g (lw_at lw_m13 28 rfl) rfl
set_option maxRecDepth 100000 in
theorem q3285 : (Jvm.Cond.fieldLink "PascalHouseModel" (82 : Nat) "PascalHouseModel" "one" "[I") ∈ lw_all := lw_g (lw_at lw_m13 29 rfl) rfl
set_option maxRecDepth 100000 in
theorem q3286 : (Jvm.Cond.fieldLink "PascalHouseModel" (85 : Nat) "PascalHouseModel" "two" "[I") ∈ lw_all := lw_g (lw_at lw_m13 30 rfl) rfl
set_option maxRecDepth 100000 in
theorem q3287 : (Jvm.Cond.fieldLink "PascalHouseModel" (88 : Nat) "PascalHouseModel" "three" "[I") ∈ lw_all := lw_g (lw_at lw_m13 31 rfl) rfl
set_option maxRecDepth 100000 in
theorem q3288 : (Jvm.Cond.fieldLink "PascalHouseModel" (91 : Nat) "PascalHouseModel" "up" "[I") ∈ lw_all := lw_g (lw_at lw_m13 32 rfl) rfl
set_option maxRecDepth 100000 in
theorem q3289 : (Jvm.Cond.fieldLink "PascalHouseModel" (433 : Nat) "PascalHouseModel" "nodes" "I") ∈ lw_all := lw_g (lw_at lw_m13 33 rfl) rfl
set_option maxRecDepth 100000 in
theorem q3290 : (Jvm.Cond.fieldLink "PascalHouseModel" (451 : Nat) "PascalHouseModel" "deep" "I") ∈ lw_all := lw_g (lw_at lw_m13 34 rfl) rfl
set_option maxRecDepth 100000 in
theorem q3291 : (Jvm.Cond.fieldLink "PascalHouseModel" (509 : Nat) "PascalHouseModel" "forward" "I") ∈ lw_all := lw_g (lw_at lw_m13 35 rfl) rfl
set_option maxRecDepth 100000 in
theorem q3292 : (Jvm.Cond.fieldLink "PascalHouseModel" (96 : Nat) "PascalHouseModel" "types" "[LPascalHouseModel$Type;") ∈ lw_all := lw_g (lw_at lw_m13 36 rfl) rfl
set_option maxRecDepth 100000 in
theorem q3293 : (Jvm.Cond.fieldLink "PascalHouseModel" (102 : Nat) "PascalHouseModel" "means" "[LPascalHouseModel$Symbol;") ∈ lw_all := lw_g (lw_at lw_m13 37 rfl) rfl
set_option maxRecDepth 100000 in
theorem q3294 : (Jvm.Cond.fieldLink "PascalHouseModel" (109 : Nat) "PascalHouseModel" "integer" "LPascalHouseModel$Type;") ∈ lw_all := lw_g (lw_at lw_m13 38 rfl) rfl
set_option maxRecDepth 100000 in
theorem q3295 : (Jvm.Cond.fieldLink "PascalHouseModel" (113 : Nat) "PascalHouseModel" "realType" "LPascalHouseModel$Type;") ∈ lw_all := lw_g (lw_at lw_m13 39 rfl) rfl
set_option maxRecDepth 100000 in
theorem q3296 : (Jvm.Cond.fieldLink "PascalHouseModel" (116 : Nat) "PascalHouseModel" "truth" "LPascalHouseModel$Type;") ∈ lw_all := lw_g (lw_at lw_m13 40 rfl) rfl
set_option maxRecDepth 100000 in
theorem q3297 : (Jvm.Cond.fieldLink "PascalHouseModel" (119 : Nat) "PascalHouseModel" "character" "LPascalHouseModel$Type;") ∈ lw_all := lw_g (lw_at lw_m13 41 rfl) rfl
set_option maxRecDepth 100000 in
theorem q3298 : (Jvm.Cond.fieldLink "PascalHouseModel" (122 : Nat) "PascalHouseModel" "textType" "LPascalHouseModel$Type;") ∈ lw_all := lw_g (lw_at lw_m13 42 rfl) rfl
set_option maxRecDepth 100000 in
theorem q3299 : (Jvm.Cond.fieldLink "PascalHouseModel" (125 : Nat) "PascalHouseModel" "nil" "LPascalHouseModel$Type;") ∈ lw_all := lw_g (lw_at lw_m13 43 rfl) rfl
set_option maxRecDepth 100000 in
theorem q3300 : (Jvm.Cond.fieldLink "PascalHouseModel" (128 : Nat) "PascalHouseModel" "noMembers" "LPascalHouseModel$Type;") ∈ lw_all := lw_g (lw_at lw_m13 44 rfl) rfl
set_option maxRecDepth 100000 in
theorem q3301 : (Jvm.Cond.fieldLink "PascalHouseModel" (134 : Nat) "PascalHouseModel" "regions" "Ljava/util/ArrayList;") ∈ lw_all := lw_g (lw_at lw_m13 45 rfl) rfl
set_option maxRecDepth 100000 in
theorem q3302 : (Jvm.Cond.fieldLink "PascalHouseModel" (138 : Nat) "PascalHouseModel" "opens" "[I") ∈ lw_all := lw_g (lw_at lw_m13 46 rfl) rfl
set_option maxRecDepth 100000 in
theorem q3303 : (Jvm.Cond.fieldLink "PascalHouseModel" (805 : Nat) "PascalHouseModel" "withs" "I") ∈ lw_all := lw_g (lw_at lw_m13 47 rfl) rfl
set_option maxRecDepth 100000 in
theorem q3304 : (Jvm.Cond.fieldLink "PascalHouseModel" (563 : Nat) "PascalHouseModel" "opened" "I") ∈ lw_all := lw_g (lw_at lw_m13 48 rfl) rfl
set_option maxRecDepth 100000 in
theorem q3305 : (Jvm.Cond.fieldLink "PascalHouseModel" (141 : Nat) "PascalHouseModel" "scopes" "Ljava/util/ArrayList;") ∈ lw_all := lw_g (lw_at lw_m13 49 rfl) rfl
set_option maxRecDepth 100000 in
theorem q3306 : (Jvm.Cond.fieldLink "PascalHouseModel" (144 : Nat) "PascalHouseModel" "controlled" "Ljava/util/ArrayList;") ∈ lw_all := lw_g (lw_at lw_m13 50 rfl) rfl
set_option maxRecDepth 100000 in
theorem q3307 : (Jvm.Cond.fieldLink "PascalHouseModel" (147 : Nat) "PascalHouseModel" "heading" "Ljava/util/ArrayList;") ∈ lw_all := lw_g (lw_at lw_m13 51 rfl) rfl
set_option maxRecDepth 100000 in
theorem q3308 : (Jvm.Cond.fieldLink "PascalHouseModel" (727 : Nat) "PascalHouseModel" "inputFile" "LPascalHouseModel$Symbol;") ∈ lw_all := lw_g (lw_at lw_m13 52 rfl) rfl
set_option maxRecDepth 100000 in
theorem q3309 : (Jvm.Cond.fieldLink "PascalHouseModel" (731 : Nat) "PascalHouseModel" "outputFile" "LPascalHouseModel$Symbol;") ∈ lw_all := lw_g (lw_at lw_m13 53 rfl) rfl
set_option maxRecDepth 100000 in
theorem q3310 : (Jvm.Cond.fieldLink "PascalHouseModel" (773 : Nat) "PascalHouseModel" "inTypePart" "Z") ∈ lw_all := lw_g (lw_at lw_m13 54 rfl) rfl
set_option maxRecDepth 100000 in
theorem q3311 : (Jvm.Cond.fieldLink "PascalHouseModel" (150 : Nat) "PascalHouseModel" "waiting" "Ljava/util/ArrayList;") ∈ lw_all := lw_g (lw_at lw_m13 55 rfl) rfl
set_option maxRecDepth 100000 in
theorem q3312 : (Jvm.Cond.fieldLink "PascalHouseModel" (153 : Nat) "PascalHouseModel" "waitingNames" "[I") ∈ lw_all := lw_g (lw_at lw_m13 56 rfl) rfl
set_option maxRecDepth 100000 in
theorem q3313 : (Jvm.Cond.fieldLink "PascalHouseModel" (926 : Nat) "PascalHouseModel" "routineMany" "I") ∈ lw_all := lw_g (lw_at lw_m13 57 rfl) rfl
set_option maxRecDepth 100000 in
theorem q3314 : (Jvm.Cond.fieldLink "PascalHouseModel" (737 : Nat) "PascalHouseModel" "programBlock" "I") ∈ lw_all := lw_g (lw_at lw_m13 58 rfl) rfl
set_option maxRecDepth 100000 in
theorem q3315 : (Jvm.Cond.fieldLink "PascalHouseModel" (743 : Nat) "PascalHouseModel" "programCells" "I") ∈ lw_all := lw_g (lw_at lw_m13 59 rfl) rfl
set_option maxRecDepth 100000 in
theorem q3316 : (Jvm.Cond.fieldLink "PascalHouseModel" (717 : Nat) "PascalHouseModel" "programRegion" "Ljava/util/ArrayList;") ∈ lw_all := lw_g (lw_at lw_m13 60 rfl) rfl
set_option maxRecDepth 100000 in
theorem q3317 : (Jvm.Cond.fieldLink "PascalHouseModel" (757 : Nat) "PascalHouseModel" "cType" "LPascalHouseModel$Type;") ∈ lw_all := lw_g (lw_at lw_m13 61 rfl) rfl
set_option maxRecDepth 100000 in
theorem q3318 : (Jvm.Cond.fieldLink "PascalHouseModel" (760 : Nat) "PascalHouseModel" "cValue" "J") ∈ lw_all := lw_g (lw_at lw_m13 62 rfl) rfl
set_option maxRecDepth 100000 in
theorem q3319 : (Jvm.Cond.fieldLink "PascalHouseModel" (763 : Nat) "PascalHouseModel" "cReal" "D") ∈ lw_all := lw_g (lw_at lw_m13 63 rfl) rfl
set_option maxRecDepth 100000 in
theorem q3320 : (Jvm.Cond.fieldLink "PascalHouseModel" (767 : Nat) "PascalHouseModel" "cString" "I") ∈ lw_all := lw_g (lw_at lw_m13 64 rfl) rfl
set_option maxRecDepth 100000 in
theorem q3321 : (Jvm.Cond.fieldLink "PascalHouseModel" (1092 : Nat) "PascalHouseModel" "hasProgram" "Z") ∈ lw_all := lw_g (lw_at lw_m13 65 rfl) rfl
set_option maxRecDepth 100000 in
theorem q3322 : (Jvm.Cond.fieldLink "PascalHouseModel" (1095 : Nat) "PascalHouseModel" "hasRun" "Z") ∈ lw_all := lw_g (lw_at lw_m13 66 rfl) rfl
set_option maxRecDepth 100000 in
theorem q3323 : (Jvm.Cond.fieldLink "PascalHouseModel" (1107 : Nat) "PascalHouseModel" "programName" "I") ∈ lw_all := lw_g (lw_at lw_m13 67 rfl) rfl
set_option maxRecDepth 100000 in
theorem q3324 : (Jvm.Cond.fieldLink "PascalHouseModel" (1110 : Nat) "PascalHouseModel" "head" "I") ∈ lw_all := lw_g (lw_at lw_m13 68 rfl) rfl
set_option maxRecDepth 100000 in
theorem q3325 : (Jvm.Cond.fieldLink "PascalHouseModel" (156 : Nat) "PascalHouseModel" "routineList" "Ljava/util/ArrayList;") ∈ lw_all := lw_g (lw_at lw_m13 69 rfl) rfl
set_option maxRecDepth 100000 in
theorem q3326 : (Jvm.Cond.fieldLink "PascalHouseModel" (159 : Nat) "PascalHouseModel" "cell" "[J") ∈ lw_all := lw_g (lw_at lw_m13 70 rfl) rfl
set_option maxRecDepth 100000 in
theorem q3327 : (Jvm.Cond.fieldLink "PascalHouseModel" (163 : Nat) "PascalHouseModel" "upper" "[J") ∈ lw_all := lw_g (lw_at lw_m13 71 rfl) rfl
set_option maxRecDepth 100000 in
theorem q3328 : (Jvm.Cond.fieldLink "PascalHouseModel" (166 : Nat) "PascalHouseModel" "real" "[D") ∈ lw_all := lw_g (lw_at lw_m13 72 rfl) rfl
set_option maxRecDepth 100000 in
theorem q3329 : (Jvm.Cond.fieldLink "PascalHouseModel" (169 : Nat) "PascalHouseModel" "has" "[Z") ∈ lw_all := lw_g (lw_at lw_m13 73 rfl) rfl
set_option maxRecDepth 100000 in
theorem q3330 : (Jvm.Cond.fieldLink "PascalHouseModel" (1360 : Nat) "PascalHouseModel" "cellTop" "I") ∈ lw_all := lw_g (lw_at lw_m13 74 rfl) rfl
set_option maxRecDepth 100000 in
theorem q3331 : (Jvm.Cond.fieldLink "PascalHouseModel" (1382 : Nat) "PascalHouseModel" "cellMost" "I") ∈ lw_all := lw_g (lw_at lw_m13 75 rfl) rfl
set_option maxRecDepth 100000 in
theorem q3332 : (Jvm.Cond.fieldLink "PascalHouseModel" (1436 : Nat) "PascalHouseModel" "heapTop" "I") ∈ lw_all := lw_g (lw_at lw_m13 76 rfl) rfl
set_option maxRecDepth 100000 in
theorem q3333 : (Jvm.Cond.fieldLink "PascalHouseModel" (173 : Nat) "PascalHouseModel" "blockAt" "[I") ∈ lw_all := lw_g (lw_at lw_m13 77 rfl) rfl
set_option maxRecDepth 100000 in
theorem q3334 : (Jvm.Cond.fieldLink "PascalHouseModel" (176 : Nat) "PascalHouseModel" "isGone" "[Z") ∈ lw_all := lw_g (lw_at lw_m13 78 rfl) rfl
set_option maxRecDepth 100000 in
theorem q3335 : (Jvm.Cond.fieldLink "PascalHouseModel" (1439 : Nat) "PascalHouseModel" "blockMany" "I") ∈ lw_all := lw_g (lw_at lw_m13 79 rfl) rfl
set_option maxRecDepth 100000 in
theorem q3336 : (Jvm.Cond.fieldLink "PascalHouseModel" (1433 : Nat) "PascalHouseModel" "blockAlive" "I") ∈ lw_all := lw_g (lw_at lw_m13 80 rfl) rfl
set_option maxRecDepth 100000 in
theorem q3337 : (Jvm.Cond.fieldLink "PascalHouseModel" (179 : Nat) "PascalHouseModel" "frameBase" "[I") ∈ lw_all := lw_g (lw_at lw_m13 81 rfl) rfl
set_option maxRecDepth 100000 in
theorem q3338 : (Jvm.Cond.fieldLink "PascalHouseModel" (182 : Nat) "PascalHouseModel" "frameOuter" "[I") ∈ lw_all := lw_g (lw_at lw_m13 82 rfl) rfl
set_option maxRecDepth 100000 in
theorem q3339 : (Jvm.Cond.fieldLink "PascalHouseModel" (185 : Nat) "PascalHouseModel" "frameLevel" "[I") ∈ lw_all := lw_g (lw_at lw_m13 83 rfl) rfl
set_option maxRecDepth 100000 in
theorem q3340 : (Jvm.Cond.fieldLink "PascalHouseModel" (188 : Nat) "PascalHouseModel" "frameFiles" "[I") ∈ lw_all := lw_g (lw_at lw_m13 84 rfl) rfl
set_option maxRecDepth 100000 in
theorem q3341 : (Jvm.Cond.fieldLink "PascalHouseModel" (191 : Nat) "PascalHouseModel" "frameWith" "[I") ∈ lw_all := lw_g (lw_at lw_m13 85 rfl) rfl
set_option maxRecDepth 100000 in
theorem q3342 : (Jvm.Cond.fieldLink "PascalHouseModel" (1130 : Nat) "PascalHouseModel" "frame" "I") ∈ lw_all := lw_g (lw_at lw_m13 86 rfl) rfl
set_option maxRecDepth 100000 in
theorem q3343 : (Jvm.Cond.fieldLink "PascalHouseModel" (1357 : Nat) "PascalHouseModel" "frameTop" "I") ∈ lw_all := lw_g (lw_at lw_m13 87 rfl) rfl
set_option maxRecDepth 100000 in
theorem q3344 : (Jvm.Cond.fieldLink "PascalHouseModel" (1376 : Nat) "PascalHouseModel" "frameMost" "I") ∈ lw_all := lw_g (lw_at lw_m13 88 rfl) rfl
set_option maxRecDepth 100000 in
theorem q3345 : (Jvm.Cond.fieldLink "PascalHouseModel" (195 : Nat) "PascalHouseModel" "argument" "[J") ∈ lw_all := lw_g (lw_at lw_m13 89 rfl) rfl
set_option maxRecDepth 100000 in
theorem q3346 : (Jvm.Cond.fieldLink "PascalHouseModel" (198 : Nat) "PascalHouseModel" "argumentUpper" "[J") ∈ lw_all := lw_g (lw_at lw_m13 90 rfl) rfl
set_option maxRecDepth 100000 in
theorem q3347 : (Jvm.Cond.fieldLink "PascalHouseModel" (201 : Nat) "PascalHouseModel" "argumentReal" "[D") ∈ lw_all := lw_g (lw_at lw_m13 91 rfl) rfl
set_option maxRecDepth 100000 in
theorem q3348 : (Jvm.Cond.fieldLink "PascalHouseModel" (1348 : Nat) "PascalHouseModel" "argumentTop" "I") ∈ lw_all := lw_g (lw_at lw_m13 92 rfl) rfl
set_option maxRecDepth 100000 in
theorem q3349 : (Jvm.Cond.fieldLink "PascalHouseModel" (1121 : Nat) "PascalHouseModel" "gone" "Z") ∈ lw_all := lw_g (lw_at lw_m13 93 rfl) rfl
set_option maxRecDepth 100000 in
theorem q3350 : (Jvm.Cond.fieldLink "PascalHouseModel" (1124 : Nat) "PascalHouseModel" "runError" "I") ∈ lw_all := lw_g (lw_at lw_m13 94 rfl) rfl
set_option maxRecDepth 100000 in
theorem q3351 : (Jvm.Cond.fieldLink "PascalHouseModel" (1127 : Nat) "PascalHouseModel" "runAt" "I") ∈ lw_all := lw_g (lw_at lw_m13 95 rfl) rfl
set_option maxRecDepth 100000 in
theorem q3352 : (Jvm.Cond.fieldLink "PascalHouseModel" (1388 : Nat) "PascalHouseModel" "jumpTo" "I") ∈ lw_all := lw_g (lw_at lw_m13 96 rfl) rfl
set_option maxRecDepth 100000 in
theorem q3353 : (Jvm.Cond.fieldLink "PascalHouseModel" (1385 : Nat) "PascalHouseModel" "jumpFrame" "I") ∈ lw_all := lw_g (lw_at lw_m13 97 rfl) rfl
set_option maxRecDepth 100000 in
theorem q3354 : (Jvm.Cond.fieldLink "PascalHouseModel" (1223 : Nat) "PascalHouseModel" "limit" "I") ∈ lw_all := lw_g (lw_at lw_m13 98 rfl) rfl
set_option maxRecDepth 100000 in
theorem q3355 : (Jvm.Cond.fieldLink "PascalHouseModel" (1226 : Nat) "PascalHouseModel" "made" "I") ∈ lw_all := lw_g (lw_at lw_m13 99 rfl) rfl
set_option maxRecDepth 100000 in
theorem q3356 : (Jvm.Cond.fieldLink "PascalHouseModel" (1145 : Nat) "PascalHouseModel" "vL" "J") ∈ lw_all := lw_g (lw_at lw_m13 100 rfl) rfl
set_option maxRecDepth 100000 in
theorem q3357 : (Jvm.Cond.fieldLink "PascalHouseModel" (1148 : Nat) "PascalHouseModel" "vU" "J") ∈ lw_all := lw_g (lw_at lw_m13 101 rfl) rfl
set_option maxRecDepth 100000 in
theorem q3358 : (Jvm.Cond.fieldLink "PascalHouseModel" (1151 : Nat) "PascalHouseModel" "vR" "D") ∈ lw_all := lw_g (lw_at lw_m13 102 rfl) rfl
set_option maxRecDepth 100000 in
theorem q3359 : (Jvm.Cond.fieldLink "PascalHouseModel" (1136 : Nat) "PascalHouseModel" "vA" "I") ∈ lw_all := lw_g (lw_at lw_m13 103 rfl) rfl
set_option maxRecDepth 100000 in
theorem q3360 : (Jvm.Cond.fieldLink "PascalHouseModel" (1236 : Nat) "PascalHouseModel" "fA" "I") ∈ lw_all := lw_g (lw_at lw_m13 104 rfl) rfl
set_option maxRecDepth 100000 in
theorem q3361 : (Jvm.Cond.fieldLink "PascalHouseModel" (204 : Nat) "PascalHouseModel" "fileState" "[I") ∈ lw_all := lw_g (lw_at lw_m13 105 rfl) rfl
set_option maxRecDepth 100000 in
theorem q3362 : (Jvm.Cond.fieldLink "PascalHouseModel" (207 : Nat) "PascalHouseModel" "fileFirst" "[I") ∈ lw_all := lw_g (lw_at lw_m13 106 rfl) rfl
set_option maxRecDepth 100000 in
theorem q3363 : (Jvm.Cond.fieldLink "PascalHouseModel" (210 : Nat) "PascalHouseModel" "fileLast" "[I") ∈ lw_all := lw_g (lw_at lw_m13 107 rfl) rfl
set_option maxRecDepth 100000 in
theorem q3364 : (Jvm.Cond.fieldLink "PascalHouseModel" (213 : Nat) "PascalHouseModel" "filePoint" "[I") ∈ lw_all := lw_g (lw_at lw_m13 108 rfl) rfl
set_option maxRecDepth 100000 in
theorem q3365 : (Jvm.Cond.fieldLink "PascalHouseModel" (216 : Nat) "PascalHouseModel" "fileMany" "[I") ∈ lw_all := lw_g (lw_at lw_m13 109 rfl) rfl
set_option maxRecDepth 100000 in
theorem q3366 : (Jvm.Cond.fieldLink "PascalHouseModel" (219 : Nat) "PascalHouseModel" "fileAt" "[I") ∈ lw_all := lw_g (lw_at lw_m13 110 rfl) rfl
set_option maxRecDepth 100000 in
theorem q3367 : (Jvm.Cond.fieldLink "PascalHouseModel" (222 : Nat) "PascalHouseModel" "fileHead" "[Z") ∈ lw_all := lw_g (lw_at lw_m13 111 rfl) rfl
set_option maxRecDepth 100000 in
theorem q3368 : (Jvm.Cond.fieldLink "PascalHouseModel" (225 : Nat) "PascalHouseModel" "fileType" "[LPascalHouseModel$Type;") ∈ lw_all := lw_g (lw_at lw_m13 112 rfl) rfl
set_option maxRecDepth 100000 in
theorem q3369 : (Jvm.Cond.fieldLink "PascalHouseModel" (1175 : Nat) "PascalHouseModel" "files" "I") ∈ lw_all := lw_g (lw_at lw_m13 113 rfl) rfl
set_option maxRecDepth 100000 in
theorem q3370 : (Jvm.Cond.fieldLink "PascalHouseModel" (1186 : Nat) "PascalHouseModel" "parts" "I") ∈ lw_all := lw_g (lw_at lw_m13 114 rfl) rfl
set_option maxRecDepth 100000 in
theorem q3371 : (Jvm.Cond.fieldLink "PascalHouseModel" (229 : Nat) "PascalHouseModel" "partCell" "[J") ∈ lw_all := lw_g (lw_at lw_m13 115 rfl) rfl
set_option maxRecDepth 100000 in
theorem q3372 : (Jvm.Cond.fieldLink "PascalHouseModel" (232 : Nat) "PascalHouseModel" "partUpper" "[J") ∈ lw_all := lw_g (lw_at lw_m13 116 rfl) rfl
set_option maxRecDepth 100000 in
theorem q3373 : (Jvm.Cond.fieldLink "PascalHouseModel" (235 : Nat) "PascalHouseModel" "partReal" "[D") ∈ lw_all := lw_g (lw_at lw_m13 117 rfl) rfl
set_option maxRecDepth 100000 in
theorem q3374 : (Jvm.Cond.fieldLink "PascalHouseModel" (238 : Nat) "PascalHouseModel" "partHas" "[Z") ∈ lw_all := lw_g (lw_at lw_m13 118 rfl) rfl
set_option maxRecDepth 100000 in
theorem q3375 : (Jvm.Cond.fieldLink "PascalHouseModel" (241 : Nat) "PascalHouseModel" "partNext" "[I") ∈ lw_all := lw_g (lw_at lw_m13 119 rfl) rfl
set_option maxRecDepth 100000 in
theorem q3376 : (Jvm.Cond.fieldLink "PascalHouseModel" (1183 : Nat) "PascalHouseModel" "partFree" "I") ∈ lw_all := lw_g (lw_at lw_m13 120 rfl) rfl
set_option maxRecDepth 100000 in
theorem q3377 : (Jvm.Cond.fieldLink "PascalHouseModel" (1265 : Nat) "PascalHouseModel" "vType" "LPascalHouseModel$Type;") ∈ lw_all := lw_g (lw_at lw_m13 121 rfl) rfl
set_option maxRecDepth 100000 in
theorem q3378 : (Jvm.Cond.fieldLink "PascalHouseModel" (244 : Nat) "PascalHouseModel" "line" "[I") ∈ lw_all := lw_g (lw_at lw_m13 122 rfl) rfl
set_option maxRecDepth 100000 in
theorem q3379 : (Jvm.Cond.fieldLink "PascalHouseModel" (1468 : Nat) "PascalHouseModel" "lineSize" "I") ∈ lw_all := lw_g (lw_at lw_m13 123 rfl) rfl
set_option maxRecDepth 100000 in
theorem q3380 : (Jvm.Cond.fieldLink "PascalHouseModel" (1497 : Nat) "PascalHouseModel" "began" "Z") ∈ lw_all := lw_g (lw_at lw_m13 124 rfl) rfl
set_option maxRecDepth 100000 in
theorem q3381 : (Jvm.Cond.fieldLink "PascalHouseModel" (247 : Nat) "PascalHouseModel" "headFiles" "[I") ∈ lw_all := lw_g (lw_at lw_m13 125 rfl) rfl
set_option maxRecDepth 100000 in
theorem q3645 : (Jvm.Cond.methodLink "PascalHouseLaw" (17 : Nat) ({ cls := "PascalHouseModel", name := "feed", desc := "(IIIII)Z" } : Jvm.MethodName)) ∈ lw_all := lw_g (lw_at lw_m14 149 rfl) rfl
set_option maxRecDepth 100000 in
theorem q3646 : (Jvm.Cond.instanceMethod ({ cls := "PascalHouseModel", name := "feed", desc := "(IIIII)Z" } : Jvm.MethodName)) ∈ lw_all := lw_g (lw_at lw_m14 150 rfl) rfl
set_option maxRecDepth 100000 in
theorem q3647 : (Jvm.Cond.selects "PascalHouseModel" ({ cls := "PascalHouseModel", name := "feed", desc := "(IIIII)Z" } : Jvm.MethodName) ({ cls := "PascalHouseModel", name := "feed", desc := "(IIIII)Z" } : Jvm.MethodName)) ∈ lw_all := lw_g (lw_at lw_m14 151 rfl) rfl
set_option maxRecDepth 100000 in
theorem q3648 : (Jvm.Cond.code ({ cls := "PascalHouseModel", name := "feed", desc := "(IIIII)Z" } : Jvm.MethodName) prog_24_method_3_code (8 : Nat) (Option.some Jvm.ClassFile.FieldType.boolean)) ∈ lw_all := lw_g (lw_at lw_m14 152 rfl) rfl
set_option maxRecDepth 100000 in
theorem q3649 : (Jvm.Cond.methodLink "PascalHouseLaw" (22 : Nat) ({ cls := "PascalHouseModel", name := "end", desc := "(I)Z" } : Jvm.MethodName)) ∈ lw_all := lw_g (lw_at lw_m14 153 rfl) rfl
set_option maxRecDepth 100000 in
theorem q3650 : (Jvm.Cond.instanceMethod ({ cls := "PascalHouseModel", name := "end", desc := "(I)Z" } : Jvm.MethodName)) ∈ lw_all := lw_g (lw_at lw_m14 154 rfl) rfl
set_option maxRecDepth 100000 in
theorem q3651 : (Jvm.Cond.selects "PascalHouseModel" ({ cls := "PascalHouseModel", name := "end", desc := "(I)Z" } : Jvm.MethodName) ({ cls := "PascalHouseModel", name := "end", desc := "(I)Z" } : Jvm.MethodName)) ∈ lw_all := lw_g (lw_at lw_m14 155 rfl) rfl
set_option maxRecDepth 100000 in
theorem q3652 : (Jvm.Cond.code ({ cls := "PascalHouseModel", name := "end", desc := "(I)Z" } : Jvm.MethodName) prog_24_method_4_code (3 : Nat) (Option.some Jvm.ClassFile.FieldType.boolean)) ∈ lw_all := lw_g (lw_at lw_m14 156 rfl) rfl
set_option maxRecDepth 100000 in
theorem q3653 : (Jvm.Cond.methodLink "PascalHouseLaw" (36 : Nat) ({ cls := "PascalHouseModel", name := "put", desc := "(I)I" } : Jvm.MethodName)) ∈ lw_all := lw_g (lw_at lw_m14 157 rfl) rfl
set_option maxRecDepth 100000 in
theorem q3654 : (Jvm.Cond.instanceMethod ({ cls := "PascalHouseModel", name := "put", desc := "(I)I" } : Jvm.MethodName)) ∈ lw_all := lw_g (lw_at lw_m14 158 rfl) rfl
set_option maxRecDepth 100000 in
theorem q3655 : (Jvm.Cond.selects "PascalHouseModel" ({ cls := "PascalHouseModel", name := "put", desc := "(I)I" } : Jvm.MethodName) ({ cls := "PascalHouseModel", name := "put", desc := "(I)I" } : Jvm.MethodName)) ∈ lw_all := lw_g (lw_at lw_m14 159 rfl) rfl
set_option maxRecDepth 100000 in
theorem q3656 : (Jvm.Cond.code ({ cls := "PascalHouseModel", name := "put", desc := "(I)I" } : Jvm.MethodName) prog_24_method_5_code (5 : Nat) (Option.some Jvm.ClassFile.FieldType.int)) ∈ lw_all := lw_g (lw_at lw_m14 160 rfl) rfl
set_option maxRecDepth 100000 in
theorem q3657 : (Jvm.Cond.methodLink "PascalHouseLaw" (27 : Nat) ({ cls := "PascalHouseModel", name := "program", desc := "()I" } : Jvm.MethodName)) ∈ lw_all := lw_g (lw_at lw_m14 161 rfl) rfl
set_option maxRecDepth 100000 in
theorem q3658 : (Jvm.Cond.instanceMethod ({ cls := "PascalHouseModel", name := "program", desc := "()I" } : Jvm.MethodName)) ∈ lw_all := lw_g (lw_at lw_m14 162 rfl) rfl
set_option maxRecDepth 100000 in
theorem q3659 : (Jvm.Cond.selects "PascalHouseModel" ({ cls := "PascalHouseModel", name := "program", desc := "()I" } : Jvm.MethodName) ({ cls := "PascalHouseModel", name := "program", desc := "()I" } : Jvm.MethodName)) ∈ lw_all := lw_g (lw_at lw_m14 163 rfl) rfl
set_option maxRecDepth 100000 in
theorem q3660 : (Jvm.Cond.codeWith ({ cls := "PascalHouseModel", name := "program", desc := "()I" } : Jvm.MethodName) prog_24_method_131_code (3 : Nat) (Option.some Jvm.ClassFile.FieldType.int) [((202 : Nat), (245 : Nat), (248 : Nat), (1119 : Nat))]) ∈ lw_all := lw_g (lw_at lw_m14 164 rfl) rfl
set_option maxRecDepth 100000 in
theorem q3661 : (Jvm.Cond.classLink "PascalHouseModel" (1119 : Nat) "java/lang/IllegalStateException") ∈ lw_all := lw_g (lw_at lw_m14 165 rfl) rfl
set_option maxRecDepth 100000 in
theorem q3662 : (Jvm.Cond.methodLink "PascalHouseModel" (1098 : Nat) ({ cls := "java/lang/Math", name := "min", desc := "(II)I" } : Jvm.MethodName)) ∈ lw_all := lw_g (lw_at lw_m14 166 rfl) rfl
set_option maxRecDepth 100000 in
theorem q3663 : (Jvm.Cond.methodLink "PascalHouseModel" (784 : Nat) ({ cls := "java/util/ArrayList", name := "clear", desc := "()V" } : Jvm.MethodName)) ∈ lw_all := lw_g (lw_at lw_m14 167 rfl) rfl
set_option maxRecDepth 100000 in
theorem q3664 : (Jvm.Cond.methodLink "PascalHouseModel" (1100 : Nat) ({ cls := "PascalHouseModel", name := "blankNames", desc := "()V" } : Jvm.MethodName)) ∈ lw_all := lw_g (lw_at lw_m14 168 rfl) rfl
set_option maxRecDepth 100000 in
theorem q3666 : (Jvm.Cond.instanceMethod ({ cls := "PascalHouseModel", name := "blankNames", desc := "()V" } : Jvm.MethodName)) ∈ lw_all := lw_g (lw_at lw_m14 170 rfl) rfl
set_option maxRecDepth 100000 in
theorem q3667 : (Jvm.Cond.code ({ cls := "PascalHouseModel", name := "blankNames", desc := "()V" } : Jvm.MethodName) prog_24_method_14_code (2 : Nat) (Option.none : Option Jvm.ClassFile.FieldType)) ∈ lw_all := lw_g (lw_at lw_m14 171 rfl) rfl
set_option maxRecDepth 100000 in
theorem q3668 : (Jvm.Cond.methodLink "PascalHouseModel" (370 : Nat) ({ cls := "PascalHouseModel", name := "reserved", desc := "(I)Ljava/lang/String;" } : Jvm.MethodName)) ∈ lw_all := lw_g (lw_at lw_m14 172 rfl) rfl
set_option maxRecDepth 100000 in
theorem q3669 : (Jvm.Cond.static ({ cls := "PascalHouseModel", name := "reserved", desc := "(I)Ljava/lang/String;" } : Jvm.MethodName)) ∈ lw_all := lw_g (lw_at lw_m14 173 rfl) rfl
set_option maxRecDepth 100000 in
theorem q3670 : (Jvm.Cond.code ({ cls := "PascalHouseModel", name := "reserved", desc := "(I)Ljava/lang/String;" } : Jvm.MethodName) prog_24_method_13_code (1 : Nat) (Option.some (Jvm.ClassFile.FieldType.object "java/lang/String"))) ∈ lw_all := lw_g (lw_at lw_m14 174 rfl) rfl
set_option maxRecDepth 100000 in
theorem q3706 : (Jvm.Cond.methodLink "PascalHouseModel" (374 : Nat) ({ cls := "PascalHouseModel", name := "nameOf", desc := "(Ljava/lang/String;)I" } : Jvm.MethodName)) ∈ lw_all := lw_g (lw_at lw_m14 210 rfl) rfl
set_option maxRecDepth 100000 in
theorem q3708 : (Jvm.Cond.instanceMethod ({ cls := "PascalHouseModel", name := "nameOf", desc := "(Ljava/lang/String;)I" } : Jvm.MethodName)) ∈ lw_all := lw_g (lw_at lw_m14 212 rfl) rfl
set_option maxRecDepth 100000 in
theorem q3709 : (Jvm.Cond.code ({ cls := "PascalHouseModel", name := "nameOf", desc := "(Ljava/lang/String;)I" } : Jvm.MethodName) prog_24_method_12_code (3 : Nat) (Option.some Jvm.ClassFile.FieldType.int)) ∈ lw_all := lw_g (lw_at lw_m14 213 rfl) rfl
set_option maxRecDepth 100000 in
theorem q3710 : (Jvm.Cond.methodLink "PascalHouseModel" (289 : Nat) ({ cls := "java/lang/String", name := "length", desc := "()I" } : Jvm.MethodName)) ∈ lw_all := lw_g (lw_at lw_m14 214 rfl) rfl
set_option maxRecDepth 100000 in
theorem q3711 : (Jvm.Cond.methodLink "PascalHouseModel" (294 : Nat) ({ cls := "java/lang/String", name := "charAt", desc := "(I)C" } : Jvm.MethodName)) ∈ lw_all := lw_g (lw_at lw_m14 215 rfl) rfl
set_option maxRecDepth 100000 in
theorem q3712 : (Jvm.Cond.methodLink "PascalHouseModel" (298 : Nat) ({ cls := "PascalHouseModel", name := "named", desc := "()I" } : Jvm.MethodName)) ∈ lw_all := lw_g (lw_at lw_m14 216 rfl) rfl
set_option maxRecDepth 100000 in
theorem q3714 : (Jvm.Cond.instanceMethod ({ cls := "PascalHouseModel", name := "named", desc := "()I" } : Jvm.MethodName)) ∈ lw_all := lw_g (lw_at lw_m14 218 rfl) rfl
set_option maxRecDepth 100000 in
theorem q3715 : (Jvm.Cond.code ({ cls := "PascalHouseModel", name := "named", desc := "()I" } : Jvm.MethodName) prog_24_method_11_code (6 : Nat) (Option.some Jvm.ClassFile.FieldType.int)) ∈ lw_all := lw_g (lw_at lw_m14 219 rfl) rfl
set_option maxRecDepth 100000 in
theorem q3717 : (Jvm.Cond.methodLink "PascalHouseModel" (436 : Nat) ({ cls := "PascalHouseModel", name := "read", desc := "()V" } : Jvm.MethodName)) ∈ lw_all := lw_g (lw_at lw_m14 221 rfl) rfl
set_option maxRecDepth 100000 in
theorem q3719 : (Jvm.Cond.instanceMethod ({ cls := "PascalHouseModel", name := "read", desc := "()V" } : Jvm.MethodName)) ∈ lw_all := lw_g (lw_at lw_m14 223 rfl) rfl
set_option maxRecDepth 100000 in
theorem q3720 : (Jvm.Cond.code ({ cls := "PascalHouseModel", name := "read", desc := "()V" } : Jvm.MethodName) prog_24_method_23_code (5 : Nat) (Option.none : Option Jvm.ClassFile.FieldType)) ∈ lw_all := lw_g (lw_at lw_m14 224 rfl) rfl
set_option maxRecDepth 100000 in
theorem q3721 : (Jvm.Cond.methodLink "PascalHouseModel" (414 : Nat) ({ cls := "PascalHouseModel", name := "skip", desc := "()V" } : Jvm.MethodName)) ∈ lw_all := lw_g (lw_at lw_m14 225 rfl) rfl
set_option maxRecDepth 100000 in
theorem q3723 : (Jvm.Cond.instanceMethod ({ cls := "PascalHouseModel", name := "skip", desc := "()V" } : Jvm.MethodName)) ∈ lw_all := lw_g (lw_at lw_m14 227 rfl) rfl
set_option maxRecDepth 100000 in
theorem q3724 : (Jvm.Cond.code ({ cls := "PascalHouseModel", name := "skip", desc := "()V" } : Jvm.MethodName) prog_24_method_10_code (4 : Nat) (Option.none : Option Jvm.ClassFile.FieldType)) ∈ lw_all := lw_g (lw_at lw_m14 228 rfl) rfl
set_option maxRecDepth 100000 in
theorem q3725 : (Jvm.Cond.methodLink "PascalHouseModel" (272 : Nat) ({ cls := "PascalHouseModel", name := "byteAt", desc := "(I)I" } : Jvm.MethodName)) ∈ lw_all := lw_g (lw_at lw_m14 229 rfl) rfl
set_option maxRecDepth 100000 in
theorem q3727 : (Jvm.Cond.instanceMethod ({ cls := "PascalHouseModel", name := "byteAt", desc := "(I)I" } : Jvm.MethodName)) ∈ lw_all := lw_g (lw_at lw_m14 231 rfl) rfl
set_option maxRecDepth 100000 in
theorem q3728 : (Jvm.Cond.code ({ cls := "PascalHouseModel", name := "byteAt", desc := "(I)I" } : Jvm.MethodName) prog_24_method_7_code (2 : Nat) (Option.some Jvm.ClassFile.FieldType.int)) ∈ lw_all := lw_g (lw_at lw_m14 232 rfl) rfl
set_option maxRecDepth 100000 in
theorem q3729 : (Jvm.Cond.methodLink "PascalHouseModel" (276 : Nat) ({ cls := "PascalHouseModel", name := "stop", desc := "(II)V" } : Jvm.MethodName)) ∈ lw_all := lw_g (lw_at lw_m14 233 rfl) rfl
set_option maxRecDepth 100000 in
theorem q3731 : (Jvm.Cond.instanceMethod ({ cls := "PascalHouseModel", name := "stop", desc := "(II)V" } : Jvm.MethodName)) ∈ lw_all := lw_g (lw_at lw_m14 235 rfl) rfl
set_option maxRecDepth 100000 in
theorem q3732 : (Jvm.Cond.code ({ cls := "PascalHouseModel", name := "stop", desc := "(II)V" } : Jvm.MethodName) prog_24_method_6_code (3 : Nat) (Option.none : Option Jvm.ClassFile.FieldType)) ∈ lw_all := lw_g (lw_at lw_m14 236 rfl) rfl
set_option maxRecDepth 100000 in
theorem q3733 : (Jvm.Cond.fieldLink "PascalHouseModel" (262 : Nat) "PascalHouseModel" "STOP" "Ljava/lang/RuntimeException;") ∈ lw_all := lw_g (lw_at lw_m14 237 rfl) rfl
set_option maxRecDepth 100000 in
theorem q3735 : (Jvm.Cond.methodLink "PascalHouseModel" (399 : Nat) ({ cls := "PascalHouseModel", name := "lay", desc := "(III)V" } : Jvm.MethodName)) ∈ lw_all := lw_g (lw_at lw_m14 239 rfl) rfl
set_option maxRecDepth 100000 in
theorem q3737 : (Jvm.Cond.instanceMethod ({ cls := "PascalHouseModel", name := "lay", desc := "(III)V" } : Jvm.MethodName)) ∈ lw_all := lw_g (lw_at lw_m15 1 rfl) rfl
set_option maxRecDepth 100000 in
theorem q3738 : (Jvm.Cond.code ({ cls := "PascalHouseModel", name := "lay", desc := "(III)V" } : Jvm.MethodName) prog_24_method_15_code (4 : Nat) (Option.none : Option Jvm.ClassFile.FieldType)) ∈ lw_all := lw_g (lw_at lw_m15 2 rfl) rfl
set_option maxRecDepth 100000 in
theorem q3739 : (Jvm.Cond.methodLink "PascalHouseModel" (417 : Nat) ({ cls := "PascalHouseModel", name := "isLetter", desc := "(I)Z" } : Jvm.MethodName)) ∈ lw_all := lw_g (lw_at lw_m15 3 rfl) rfl
set_option maxRecDepth 100000 in
theorem q3740 : (Jvm.Cond.static ({ cls := "PascalHouseModel", name := "isLetter", desc := "(I)Z" } : Jvm.MethodName)) ∈ lw_all := lw_g (lw_at lw_m15 4 rfl) rfl
set_option maxRecDepth 100000 in
theorem q3741 : (Jvm.Cond.code ({ cls := "PascalHouseModel", name := "isLetter", desc := "(I)Z" } : Jvm.MethodName) prog_24_method_9_code (1 : Nat) (Option.some Jvm.ClassFile.FieldType.boolean)) ∈ lw_all := lw_g (lw_at lw_m15 5 rfl) rfl
set_option maxRecDepth 100000 in
theorem q3742 : (Jvm.Cond.methodLink "PascalHouseModel" (383 : Nat) ({ cls := "PascalHouseModel", name := "isDigit", desc := "(I)Z" } : Jvm.MethodName)) ∈ lw_all := lw_g (lw_at lw_m15 6 rfl) rfl
set_option maxRecDepth 100000 in
theorem q3743 : (Jvm.Cond.static ({ cls := "PascalHouseModel", name := "isDigit", desc := "(I)Z" } : Jvm.MethodName)) ∈ lw_all := lw_g (lw_at lw_m15 7 rfl) rfl
set_option maxRecDepth 100000 in
theorem q3744 : (Jvm.Cond.code ({ cls := "PascalHouseModel", name := "isDigit", desc := "(I)Z" } : Jvm.MethodName) prog_24_method_8_code (1 : Nat) (Option.some Jvm.ClassFile.FieldType.boolean)) ∈ lw_all := lw_g (lw_at lw_m15 8 rfl) rfl
set_option maxRecDepth 100000 in
theorem q3745 : (Jvm.Cond.methodLink "PascalHouseModel" (420 : Nat) ({ cls := "PascalHouseModel", name := "number", desc := "(I)V" } : Jvm.MethodName)) ∈ lw_all := lw_g (lw_at lw_m15 9 rfl) rfl
set_option maxRecDepth 100000 in
theorem q3747 : (Jvm.Cond.instanceMethod ({ cls := "PascalHouseModel", name := "number", desc := "(I)V" } : Jvm.MethodName)) ∈ lw_all := lw_g (lw_at lw_m15 11 rfl) rfl
set_option maxRecDepth 100000 in
theorem q3748 : (Jvm.Cond.code ({ cls := "PascalHouseModel", name := "number", desc := "(I)V" } : Jvm.MethodName) prog_24_method_17_code (13 : Nat) (Option.none : Option Jvm.ClassFile.FieldType)) ∈ lw_all := lw_g (lw_at lw_m15 12 rfl) rfl
set_option maxRecDepth 100000 in
theorem q3749 : (Jvm.Cond.constantLong "PascalHouseModel" (387 : Nat) (10000000000000000 : Int64)) ∈ lw_all := lw_g (lw_at lw_m15 13 rfl) rfl
set_option maxRecDepth 100000 in
theorem q3750 : (Jvm.Cond.constantLong "PascalHouseModel" (389 : Nat) (10 : Int64)) ∈ lw_all := lw_g (lw_at lw_m15 14 rfl) rfl
set_option maxRecDepth 100000 in
theorem q3751 : (Jvm.Cond.constantLong "PascalHouseModel" (391 : Nat) (48 : Int64)) ∈ lw_all := lw_g (lw_at lw_m15 15 rfl) rfl
set_option maxRecDepth 100000 in
theorem q3752 : (Jvm.Cond.methodLink "PascalHouseModel" (393 : Nat) ({ cls := "PascalHouseModel", name := "valueOf", desc := "(II)J" } : Jvm.MethodName)) ∈ lw_all := lw_g (lw_at lw_m15 16 rfl) rfl
set_option maxRecDepth 100000 in
theorem q3754 : (Jvm.Cond.instanceMethod ({ cls := "PascalHouseModel", name := "valueOf", desc := "(II)J" } : Jvm.MethodName)) ∈ lw_all := lw_g (lw_at lw_m15 18 rfl) rfl
set_option maxRecDepth 100000 in
theorem q3755 : (Jvm.Cond.code ({ cls := "PascalHouseModel", name := "valueOf", desc := "(II)J" } : Jvm.MethodName) prog_24_method_18_code (6 : Nat) (Option.some Jvm.ClassFile.FieldType.long)) ∈ lw_all := lw_g (lw_at lw_m15 19 rfl) rfl
set_option maxRecDepth 100000 in
theorem q3756 : (Jvm.Cond.constantLong "PascalHouseModel" (397 : Nat) (2147483647 : Int64)) ∈ lw_all := lw_g (lw_at lw_m15 20 rfl) rfl
set_option maxRecDepth 100000 in
theorem q3757 : (Jvm.Cond.methodLink "PascalHouseModel" (403 : Nat) ({ cls := "PascalHouseModel", name := "realOf", desc := "(JIZI)D" } : Jvm.MethodName)) ∈ lw_all := lw_g (lw_at lw_m15 21 rfl) rfl
set_option maxRecDepth 100000 in
theorem q3758 : (Jvm.Cond.static ({ cls := "PascalHouseModel", name := "realOf", desc := "(JIZI)D" } : Jvm.MethodName)) ∈ lw_all := lw_g (lw_at lw_m15 22 rfl) rfl
set_option maxRecDepth 100000 in
theorem q3759 : (Jvm.Cond.code ({ cls := "PascalHouseModel", name := "realOf", desc := "(JIZI)D" } : Jvm.MethodName) prog_24_method_19_code (7 : Nat) (Option.some Jvm.ClassFile.FieldType.double)) ∈ lw_all := lw_g (lw_at lw_m15 23 rfl) rfl
set_option maxRecDepth 100000 in
theorem q3760 : (Jvm.Cond.methodLink "PascalHouseModel" (407 : Nat) ({ cls := "PascalHouseModel", name := "power", desc := "(I)D" } : Jvm.MethodName)) ∈ lw_all := lw_g (lw_at lw_m15 24 rfl) rfl
set_option maxRecDepth 100000 in
theorem q3761 : (Jvm.Cond.static ({ cls := "PascalHouseModel", name := "power", desc := "(I)D" } : Jvm.MethodName)) ∈ lw_all := lw_g (lw_at lw_m15 25 rfl) rfl
set_option maxRecDepth 100000 in
theorem q3762 : (Jvm.Cond.code ({ cls := "PascalHouseModel", name := "power", desc := "(I)D" } : Jvm.MethodName) prog_24_method_16_code (4 : Nat) (Option.some Jvm.ClassFile.FieldType.double)) ∈ lw_all := lw_g (lw_at lw_m15 26 rfl) rfl
set_option maxRecDepth 100000 in
theorem q3763 : (Jvm.Cond.constantDouble "PascalHouseModel" (381 : Nat) (4621819117588971520 : UInt64)) ∈ lw_all := lw_g (lw_at lw_m15 27 rfl) rfl
set_option maxRecDepth 100000 in
theorem q3764 : (Jvm.Cond.methodLink "PascalHouseModel" (423 : Nat) ({ cls := "PascalHouseModel", name := "string", desc := "(I)V" } : Jvm.MethodName)) ∈ lw_all := lw_g (lw_at lw_m15 28 rfl) rfl
set_option maxRecDepth 100000 in
theorem q3766 : (Jvm.Cond.instanceMethod ({ cls := "PascalHouseModel", name := "string", desc := "(I)V" } : Jvm.MethodName)) ∈ lw_all := lw_g (lw_at lw_m15 30 rfl) rfl
set_option maxRecDepth 100000 in
theorem q3767 : (Jvm.Cond.code ({ cls := "PascalHouseModel", name := "string", desc := "(I)V" } : Jvm.MethodName) prog_24_method_20_code (7 : Nat) (Option.none : Option Jvm.ClassFile.FieldType)) ∈ lw_all := lw_g (lw_at lw_m15 31 rfl) rfl
set_option maxRecDepth 100000 in
theorem q3768 : (Jvm.Cond.methodLink "PascalHouseModel" (426 : Nat) ({ cls := "PascalHouseModel", name := "twofold", desc := "(II)I" } : Jvm.MethodName)) ∈ lw_all := lw_g (lw_at lw_m15 32 rfl) rfl
set_option maxRecDepth 100000 in
theorem q3769 : (Jvm.Cond.static ({ cls := "PascalHouseModel", name := "twofold", desc := "(II)I" } : Jvm.MethodName)) ∈ lw_all := lw_g (lw_at lw_m15 33 rfl) rfl
set_option maxRecDepth 100000 in
theorem q3770 : (Jvm.Cond.code ({ cls := "PascalHouseModel", name := "twofold", desc := "(II)I" } : Jvm.MethodName) prog_24_method_22_code (2 : Nat) (Option.some Jvm.ClassFile.FieldType.int)) ∈ lw_all := lw_g (lw_at lw_m15 34 rfl) rfl
set_option maxRecDepth 100000 in
theorem q3771 : (Jvm.Cond.methodLink "PascalHouseModel" (430 : Nat) ({ cls := "PascalHouseModel", name := "alone", desc := "(I)I" } : Jvm.MethodName)) ∈ lw_all := lw_g (lw_at lw_m15 35 rfl) rfl
set_option maxRecDepth 100000 in
theorem q3772 : (Jvm.Cond.static ({ cls := "PascalHouseModel", name := "alone", desc := "(I)I" } : Jvm.MethodName)) ∈ lw_all := lw_g (lw_at lw_m15 36 rfl) rfl
set_option maxRecDepth 100000 in
theorem q3773 : (Jvm.Cond.code ({ cls := "PascalHouseModel", name := "alone", desc := "(I)I" } : Jvm.MethodName) prog_24_method_21_code (1 : Nat) (Option.some Jvm.ClassFile.FieldType.int)) ∈ lw_all := lw_g (lw_at lw_m15 37 rfl) rfl
set_option maxRecDepth 100000 in
theorem q3774 : (Jvm.Cond.methodLink "PascalHouseModel" (1104 : Nat) ({ cls := "PascalHouseModel", name := "parseProgram", desc := "()I" } : Jvm.MethodName)) ∈ lw_all := lw_g (lw_at lw_m15 38 rfl) rfl
set_option maxRecDepth 100000 in
theorem q3776 : (Jvm.Cond.instanceMethod ({ cls := "PascalHouseModel", name := "parseProgram", desc := "()I" } : Jvm.MethodName)) ∈ lw_all := lw_g (lw_at lw_m15 40 rfl) rfl
set_option maxRecDepth 100000 in
theorem q3777 : (Jvm.Cond.code ({ cls := "PascalHouseModel", name := "parseProgram", desc := "()I" } : Jvm.MethodName) prog_24_method_34_code (3 : Nat) (Option.some Jvm.ClassFile.FieldType.int)) ∈ lw_all := lw_g (lw_at lw_m15 41 rfl) rfl
set_option maxRecDepth 100000 in
theorem q3778 : (Jvm.Cond.methodLink "PascalHouseModel" (457 : Nat) ({ cls := "PascalHouseModel", name := "must", desc := "(I)I" } : Jvm.MethodName)) ∈ lw_all := lw_g (lw_at lw_m15 42 rfl) rfl
set_option maxRecDepth 100000 in
theorem q3780 : (Jvm.Cond.instanceMethod ({ cls := "PascalHouseModel", name := "must", desc := "(I)I" } : Jvm.MethodName)) ∈ lw_all := lw_g (lw_at lw_m15 44 rfl) rfl
set_option maxRecDepth 100000 in
theorem q3781 : (Jvm.Cond.code ({ cls := "PascalHouseModel", name := "must", desc := "(I)I" } : Jvm.MethodName) prog_24_method_31_code (2 : Nat) (Option.some Jvm.ClassFile.FieldType.int)) ∈ lw_all := lw_g (lw_at lw_m15 45 rfl) rfl
set_option maxRecDepth 100000 in
theorem q3782 : (Jvm.Cond.methodLink "PascalHouseModel" (439 : Nat) ({ cls := "PascalHouseModel", name := "sees", desc := "(I)Z" } : Jvm.MethodName)) ∈ lw_all := lw_g (lw_at lw_m15 46 rfl) rfl
set_option maxRecDepth 100000 in
theorem q3784 : (Jvm.Cond.instanceMethod ({ cls := "PascalHouseModel", name := "sees", desc := "(I)Z" } : Jvm.MethodName)) ∈ lw_all := lw_g (lw_at lw_m15 48 rfl) rfl
set_option maxRecDepth 100000 in
theorem q3785 : (Jvm.Cond.code ({ cls := "PascalHouseModel", name := "sees", desc := "(I)Z" } : Jvm.MethodName) prog_24_method_27_code (2 : Nat) (Option.some Jvm.ClassFile.FieldType.boolean)) ∈ lw_all := lw_g (lw_at lw_m15 49 rfl) rfl
set_option maxRecDepth 100000 in
theorem q3786 : (Jvm.Cond.methodLink "PascalHouseModel" (448 : Nat) ({ cls := "PascalHouseModel", name := "bad", desc := "()V" } : Jvm.MethodName)) ∈ lw_all := lw_g (lw_at lw_m15 50 rfl) rfl
set_option maxRecDepth 100000 in
theorem q3788 : (Jvm.Cond.instanceMethod ({ cls := "PascalHouseModel", name := "bad", desc := "()V" } : Jvm.MethodName)) ∈ lw_all := lw_g (lw_at lw_m15 52 rfl) rfl
set_option maxRecDepth 100000 in
theorem q3789 : (Jvm.Cond.code ({ cls := "PascalHouseModel", name := "bad", desc := "()V" } : Jvm.MethodName) prog_24_method_30_code (1 : Nat) (Option.none : Option Jvm.ClassFile.FieldType)) ∈ lw_all := lw_g (lw_at lw_m15 53 rfl) rfl
set_option maxRecDepth 100000 in
theorem q3790 : (Jvm.Cond.methodLink "PascalHouseModel" (445 : Nat) ({ cls := "PascalHouseModel", name := "now", desc := "()I" } : Jvm.MethodName)) ∈ lw_all := lw_g (lw_at lw_m15 54 rfl) rfl
set_option maxRecDepth 100000 in
theorem q3792 : (Jvm.Cond.instanceMethod ({ cls := "PascalHouseModel", name := "now", desc := "()I" } : Jvm.MethodName)) ∈ lw_all := lw_g (lw_at lw_m15 56 rfl) rfl
set_option maxRecDepth 100000 in
theorem q3793 : (Jvm.Cond.code ({ cls := "PascalHouseModel", name := "now", desc := "()I" } : Jvm.MethodName) prog_24_method_26_code (1 : Nat) (Option.some Jvm.ClassFile.FieldType.int)) ∈ lw_all := lw_g (lw_at lw_m15 57 rfl) rfl
set_option maxRecDepth 100000 in
theorem q3794 : (Jvm.Cond.methodLink "PascalHouseModel" (442 : Nat) ({ cls := "PascalHouseModel", name := "take", desc := "()I" } : Jvm.MethodName)) ∈ lw_all := lw_g (lw_at lw_m15 58 rfl) rfl
set_option maxRecDepth 100000 in
theorem q3796 : (Jvm.Cond.instanceMethod ({ cls := "PascalHouseModel", name := "take", desc := "()I" } : Jvm.MethodName)) ∈ lw_all := lw_g (lw_at lw_m15 60 rfl) rfl
set_option maxRecDepth 100000 in
theorem q3797 : (Jvm.Cond.code ({ cls := "PascalHouseModel", name := "take", desc := "()I" } : Jvm.MethodName) prog_24_method_28_code (2 : Nat) (Option.some Jvm.ClassFile.FieldType.int)) ∈ lw_all := lw_g (lw_at lw_m15 61 rfl) rfl
set_option maxRecDepth 100000 in
theorem q3798 : (Jvm.Cond.methodLink "PascalHouseModel" (454 : Nat) ({ cls := "PascalHouseModel", name := "node", desc := "(II)I" } : Jvm.MethodName)) ∈ lw_all := lw_g (lw_at lw_m15 62 rfl) rfl
set_option maxRecDepth 100000 in
theorem q3800 : (Jvm.Cond.instanceMethod ({ cls := "PascalHouseModel", name := "node", desc := "(II)I" } : Jvm.MethodName)) ∈ lw_all := lw_g (lw_at lw_m15 64 rfl) rfl
set_option maxRecDepth 100000 in
theorem q3801 : (Jvm.Cond.code ({ cls := "PascalHouseModel", name := "node", desc := "(II)I" } : Jvm.MethodName) prog_24_method_24_code (4 : Nat) (Option.some Jvm.ClassFile.FieldType.int)) ∈ lw_all := lw_g (lw_at lw_m15 65 rfl) rfl
set_option maxRecDepth 100000 in
theorem q3802 : (Jvm.Cond.methodLink "PascalHouseModel" (463 : Nat) ({ cls := "PascalHouseModel", name := "takes", desc := "(I)Z" } : Jvm.MethodName)) ∈ lw_all := lw_g (lw_at lw_m15 66 rfl) rfl
set_option maxRecDepth 100000 in
theorem q3804 : (Jvm.Cond.instanceMethod ({ cls := "PascalHouseModel", name := "takes", desc := "(I)Z" } : Jvm.MethodName)) ∈ lw_all := lw_g (lw_at lw_m15 68 rfl) rfl
set_option maxRecDepth 100000 in
theorem q3805 : (Jvm.Cond.code ({ cls := "PascalHouseModel", name := "takes", desc := "(I)Z" } : Jvm.MethodName) prog_24_method_29_code (2 : Nat) (Option.some Jvm.ClassFile.FieldType.boolean)) ∈ lw_all := lw_g (lw_at lw_m15 69 rfl) rfl
set_option maxRecDepth 100000 in
theorem q3806 : (Jvm.Cond.methodLink "PascalHouseModel" (466 : Nat) ({ cls := "PascalHouseModel", name := "parseNames", desc := "()I" } : Jvm.MethodName)) ∈ lw_all := lw_g (lw_at lw_m15 70 rfl) rfl
set_option maxRecDepth 100000 in
theorem q3808 : (Jvm.Cond.instanceMethod ({ cls := "PascalHouseModel", name := "parseNames", desc := "()I" } : Jvm.MethodName)) ∈ lw_all := lw_g (lw_at lw_m15 72 rfl) rfl
set_option maxRecDepth 100000 in
theorem q3809 : (Jvm.Cond.code ({ cls := "PascalHouseModel", name := "parseNames", desc := "()I" } : Jvm.MethodName) prog_24_method_33_code (3 : Nat) (Option.some Jvm.ClassFile.FieldType.int)) ∈ lw_all := lw_g (lw_at lw_m15 73 rfl) rfl
set_option maxRecDepth 100000 in
theorem q3810 : (Jvm.Cond.methodLink "PascalHouseModel" (460 : Nat) ({ cls := "PascalHouseModel", name := "add", desc := "(II)V" } : Jvm.MethodName)) ∈ lw_all := lw_g (lw_at lw_m15 74 rfl) rfl
set_option maxRecDepth 100000 in
theorem q3812 : (Jvm.Cond.instanceMethod ({ cls := "PascalHouseModel", name := "add", desc := "(II)V" } : Jvm.MethodName)) ∈ lw_all := lw_g (lw_at lw_m15 76 rfl) rfl
set_option maxRecDepth 100000 in
theorem q3813 : (Jvm.Cond.code ({ cls := "PascalHouseModel", name := "add", desc := "(II)V" } : Jvm.MethodName) prog_24_method_25_code (3 : Nat) (Option.none : Option Jvm.ClassFile.FieldType)) ∈ lw_all := lw_g (lw_at lw_m15 77 rfl) rfl
set_option maxRecDepth 100000 in
theorem q3814 : (Jvm.Cond.methodLink "PascalHouseModel" (469 : Nat) ({ cls := "PascalHouseModel", name := "parseBlock", desc := "()I" } : Jvm.MethodName)) ∈ lw_all := lw_g (lw_at lw_m15 78 rfl) rfl
set_option maxRecDepth 100000 in
theorem q3816 : (Jvm.Cond.instanceMethod ({ cls := "PascalHouseModel", name := "parseBlock", desc := "()I" } : Jvm.MethodName)) ∈ lw_all := lw_g (lw_at lw_m15 80 rfl) rfl
set_option maxRecDepth 100000 in
theorem q3817 : (Jvm.Cond.code ({ cls := "PascalHouseModel", name := "parseBlock", desc := "()I" } : Jvm.MethodName) prog_24_method_35_code (8 : Nat) (Option.some Jvm.ClassFile.FieldType.int)) ∈ lw_all := lw_g (lw_at lw_m15 81 rfl) rfl
set_option maxRecDepth 100000 in
theorem q3818 : (Jvm.Cond.methodLink "PascalHouseModel" (472 : Nat) ({ cls := "PascalHouseModel", name := "enter", desc := "()V" } : Jvm.MethodName)) ∈ lw_all := lw_g (lw_at lw_m15 82 rfl) rfl
set_option maxRecDepth 100000 in
theorem q3820 : (Jvm.Cond.instanceMethod ({ cls := "PascalHouseModel", name := "enter", desc := "()V" } : Jvm.MethodName)) ∈ lw_all := lw_g (lw_at lw_m15 84 rfl) rfl
set_option maxRecDepth 100000 in
theorem q3821 : (Jvm.Cond.code ({ cls := "PascalHouseModel", name := "enter", desc := "()V" } : Jvm.MethodName) prog_24_method_32_code (1 : Nat) (Option.none : Option Jvm.ClassFile.FieldType)) ∈ lw_all := lw_g (lw_at lw_m15 85 rfl) rfl
set_option maxRecDepth 100000 in
theorem q3822 : (Jvm.Cond.methodLink "PascalHouseModel" (475 : Nat) ({ cls := "PascalHouseModel", name := "parseConstant", desc := "()I" } : Jvm.MethodName)) ∈ lw_all := lw_g (lw_at lw_m15 86 rfl) rfl
set_option maxRecDepth 100000 in
theorem q3824 : (Jvm.Cond.instanceMethod ({ cls := "PascalHouseModel", name := "parseConstant", desc := "()I" } : Jvm.MethodName)) ∈ lw_all := lw_g (lw_at lw_m15 88 rfl) rfl
set_option maxRecDepth 100000 in
theorem q3825 : (Jvm.Cond.code ({ cls := "PascalHouseModel", name := "parseConstant", desc := "()I" } : Jvm.MethodName) prog_24_method_38_code (2 : Nat) (Option.some Jvm.ClassFile.FieldType.int)) ∈ lw_all := lw_g (lw_at lw_m15 89 rfl) rfl
set_option maxRecDepth 100000 in
theorem q3826 : (Jvm.Cond.methodLink "PascalHouseModel" (478 : Nat) ({ cls := "PascalHouseModel", name := "parseType", desc := "()I" } : Jvm.MethodName)) ∈ lw_all := lw_g (lw_at lw_m15 90 rfl) rfl
set_option maxRecDepth 100000 in
theorem q3828 : (Jvm.Cond.instanceMethod ({ cls := "PascalHouseModel", name := "parseType", desc := "()I" } : Jvm.MethodName)) ∈ lw_all := lw_g (lw_at lw_m15 92 rfl) rfl
set_option maxRecDepth 100000 in
theorem q3829 : (Jvm.Cond.code ({ cls := "PascalHouseModel", name := "parseType", desc := "()I" } : Jvm.MethodName) prog_24_method_39_code (2 : Nat) (Option.some Jvm.ClassFile.FieldType.int)) ∈ lw_all := lw_g (lw_at lw_m15 93 rfl) rfl
set_option maxRecDepth 100000 in
theorem q3830 : (Jvm.Cond.methodLink "PascalHouseModel" (490 : Nat) ({ cls := "PascalHouseModel", name := "parseStructure", desc := "()I" } : Jvm.MethodName)) ∈ lw_all := lw_g (lw_at lw_m15 94 rfl) rfl
set_option maxRecDepth 100000 in
theorem q3832 : (Jvm.Cond.instanceMethod ({ cls := "PascalHouseModel", name := "parseStructure", desc := "()I" } : Jvm.MethodName)) ∈ lw_all := lw_g (lw_at lw_m15 96 rfl) rfl
set_option maxRecDepth 100000 in
theorem q3833 : (Jvm.Cond.code ({ cls := "PascalHouseModel", name := "parseStructure", desc := "()I" } : Jvm.MethodName) prog_24_method_40_code (4 : Nat) (Option.some Jvm.ClassFile.FieldType.int)) ∈ lw_all := lw_g (lw_at lw_m15 97 rfl) rfl
set_option maxRecDepth 100000 in
theorem q3834 : (Jvm.Cond.methodLink "PascalHouseModel" (493 : Nat) ({ cls := "PascalHouseModel", name := "parseSimple", desc := "()I" } : Jvm.MethodName)) ∈ lw_all := lw_g (lw_at lw_m15 98 rfl) rfl
set_option maxRecDepth 100000 in
theorem q3836 : (Jvm.Cond.instanceMethod ({ cls := "PascalHouseModel", name := "parseSimple", desc := "()I" } : Jvm.MethodName)) ∈ lw_all := lw_g (lw_at lw_m15 100 rfl) rfl
set_option maxRecDepth 100000 in
theorem q3837 : (Jvm.Cond.code ({ cls := "PascalHouseModel", name := "parseSimple", desc := "()I" } : Jvm.MethodName) prog_24_method_41_code (5 : Nat) (Option.some Jvm.ClassFile.FieldType.int)) ∈ lw_all := lw_g (lw_at lw_m15 101 rfl) rfl
set_option maxRecDepth 100000 in
theorem q3838 : (Jvm.Cond.methodLink "PascalHouseModel" (499 : Nat) ({ cls := "PascalHouseModel", name := "beginsConstant", desc := "()Z" } : Jvm.MethodName)) ∈ lw_all := lw_g (lw_at lw_m15 102 rfl) rfl
set_option maxRecDepth 100000 in
theorem q3840 : (Jvm.Cond.instanceMethod ({ cls := "PascalHouseModel", name := "beginsConstant", desc := "()Z" } : Jvm.MethodName)) ∈ lw_all := lw_g (lw_at lw_m15 104 rfl) rfl
set_option maxRecDepth 100000 in
theorem q3841 : (Jvm.Cond.code ({ cls := "PascalHouseModel", name := "beginsConstant", desc := "()Z" } : Jvm.MethodName) prog_24_method_37_code (1 : Nat) (Option.some Jvm.ClassFile.FieldType.boolean)) ∈ lw_all := lw_g (lw_at lw_m15 105 rfl) rfl
set_option maxRecDepth 100000 in
theorem q3842 : (Jvm.Cond.methodLink "PascalHouseModel" (496 : Nat) ({ cls := "PascalHouseModel", name := "parseFields", desc := "()I" } : Jvm.MethodName)) ∈ lw_all := lw_g (lw_at lw_m15 106 rfl) rfl
set_option maxRecDepth 100000 in
theorem q3844 : (Jvm.Cond.instanceMethod ({ cls := "PascalHouseModel", name := "parseFields", desc := "()I" } : Jvm.MethodName)) ∈ lw_all := lw_g (lw_at lw_m15 108 rfl) rfl
set_option maxRecDepth 100000 in
theorem q3845 : (Jvm.Cond.code ({ cls := "PascalHouseModel", name := "parseFields", desc := "()I" } : Jvm.MethodName) prog_24_method_42_code (3 : Nat) (Option.some Jvm.ClassFile.FieldType.int)) ∈ lw_all := lw_g (lw_at lw_m15 109 rfl) rfl
set_option maxRecDepth 100000 in
theorem q3846 : (Jvm.Cond.methodLink "PascalHouseModel" (481 : Nat) ({ cls := "PascalHouseModel", name := "parseNamed", desc := "()I" } : Jvm.MethodName)) ∈ lw_all := lw_g (lw_at lw_m15 110 rfl) rfl
set_option maxRecDepth 100000 in
theorem q3848 : (Jvm.Cond.instanceMethod ({ cls := "PascalHouseModel", name := "parseNamed", desc := "()I" } : Jvm.MethodName)) ∈ lw_all := lw_g (lw_at lw_m15 112 rfl) rfl
set_option maxRecDepth 100000 in
theorem q3849 : (Jvm.Cond.code ({ cls := "PascalHouseModel", name := "parseNamed", desc := "()I" } : Jvm.MethodName) prog_24_method_36_code (2 : Nat) (Option.some Jvm.ClassFile.FieldType.int)) ∈ lw_all := lw_g (lw_at lw_m15 113 rfl) rfl
set_option maxRecDepth 100000 in
theorem q3850 : (Jvm.Cond.methodLink "PascalHouseModel" (503 : Nat) ({ cls := "PascalHouseModel", name := "parseVariants", desc := "()I" } : Jvm.MethodName)) ∈ lw_all := lw_g (lw_at lw_m15 114 rfl) rfl
set_option maxRecDepth 100000 in
theorem q3852 : (Jvm.Cond.instanceMethod ({ cls := "PascalHouseModel", name := "parseVariants", desc := "()I" } : Jvm.MethodName)) ∈ lw_all := lw_g (lw_at lw_m15 116 rfl) rfl
set_option maxRecDepth 100000 in
theorem q3853 : (Jvm.Cond.code ({ cls := "PascalHouseModel", name := "parseVariants", desc := "()I" } : Jvm.MethodName) prog_24_method_43_code (5 : Nat) (Option.some Jvm.ClassFile.FieldType.int)) ∈ lw_all := lw_g (lw_at lw_m15 117 rfl) rfl
set_option maxRecDepth 100000 in
theorem q3854 : (Jvm.Cond.methodLink "PascalHouseModel" (484 : Nat) ({ cls := "PascalHouseModel", name := "parseRoutine", desc := "()I" } : Jvm.MethodName)) ∈ lw_all := lw_g (lw_at lw_m15 118 rfl) rfl
set_option maxRecDepth 100000 in
theorem q3856 : (Jvm.Cond.instanceMethod ({ cls := "PascalHouseModel", name := "parseRoutine", desc := "()I" } : Jvm.MethodName)) ∈ lw_all := lw_g (lw_at lw_m15 120 rfl) rfl
set_option maxRecDepth 100000 in
theorem q3857 : (Jvm.Cond.code ({ cls := "PascalHouseModel", name := "parseRoutine", desc := "()I" } : Jvm.MethodName) prog_24_method_44_code (3 : Nat) (Option.some Jvm.ClassFile.FieldType.int)) ∈ lw_all := lw_g (lw_at lw_m15 121 rfl) rfl
set_option maxRecDepth 100000 in
theorem q3858 : (Jvm.Cond.methodLink "PascalHouseModel" (506 : Nat) ({ cls := "PascalHouseModel", name := "parseParams", desc := "()I" } : Jvm.MethodName)) ∈ lw_all := lw_g (lw_at lw_m15 122 rfl) rfl
set_option maxRecDepth 100000 in
theorem q3860 : (Jvm.Cond.instanceMethod ({ cls := "PascalHouseModel", name := "parseParams", desc := "()I" } : Jvm.MethodName)) ∈ lw_all := lw_g (lw_at lw_m15 124 rfl) rfl
set_option maxRecDepth 100000 in
theorem q3861 : (Jvm.Cond.code ({ cls := "PascalHouseModel", name := "parseParams", desc := "()I" } : Jvm.MethodName) prog_24_method_45_code (2 : Nat) (Option.some Jvm.ClassFile.FieldType.int)) ∈ lw_all := lw_g (lw_at lw_m15 125 rfl) rfl
set_option maxRecDepth 100000 in
theorem q3862 : (Jvm.Cond.methodLink "PascalHouseModel" (512 : Nat) ({ cls := "PascalHouseModel", name := "parseGroup", desc := "()I" } : Jvm.MethodName)) ∈ lw_all := lw_g (lw_at lw_m15 126 rfl) rfl
set_option maxRecDepth 100000 in
theorem q3864 : (Jvm.Cond.instanceMethod ({ cls := "PascalHouseModel", name := "parseGroup", desc := "()I" } : Jvm.MethodName)) ∈ lw_all := lw_g (lw_at lw_m15 128 rfl) rfl
set_option maxRecDepth 100000 in
theorem q3865 : (Jvm.Cond.code ({ cls := "PascalHouseModel", name := "parseGroup", desc := "()I" } : Jvm.MethodName) prog_24_method_46_code (2 : Nat) (Option.some Jvm.ClassFile.FieldType.int)) ∈ lw_all := lw_g (lw_at lw_m15 129 rfl) rfl
set_option maxRecDepth 100000 in
theorem q3866 : (Jvm.Cond.methodLink "PascalHouseModel" (487 : Nat) ({ cls := "PascalHouseModel", name := "parseRow", desc := "(I)V" } : Jvm.MethodName)) ∈ lw_all := lw_g (lw_at lw_m15 130 rfl) rfl
set_option maxRecDepth 100000 in
theorem q3868 : (Jvm.Cond.instanceMethod ({ cls := "PascalHouseModel", name := "parseRow", desc := "(I)V" } : Jvm.MethodName)) ∈ lw_all := lw_g (lw_at lw_m15 132 rfl) rfl
set_option maxRecDepth 100000 in
theorem q3869 : (Jvm.Cond.code ({ cls := "PascalHouseModel", name := "parseRow", desc := "(I)V" } : Jvm.MethodName) prog_24_method_47_code (2 : Nat) (Option.none : Option Jvm.ClassFile.FieldType)) ∈ lw_all := lw_g (lw_at lw_m15 133 rfl) rfl
set_option maxRecDepth 100000 in
theorem q3870 : (Jvm.Cond.methodLink "PascalHouseModel" (515 : Nat) ({ cls := "PascalHouseModel", name := "parseStatement", desc := "()I" } : Jvm.MethodName)) ∈ lw_all := lw_g (lw_at lw_m15 134 rfl) rfl
set_option maxRecDepth 100000 in
theorem q3872 : (Jvm.Cond.instanceMethod ({ cls := "PascalHouseModel", name := "parseStatement", desc := "()I" } : Jvm.MethodName)) ∈ lw_all := lw_g (lw_at lw_m15 136 rfl) rfl
set_option maxRecDepth 100000 in
theorem q3873 : (Jvm.Cond.code ({ cls := "PascalHouseModel", name := "parseStatement", desc := "()I" } : Jvm.MethodName) prog_24_method_48_code (5 : Nat) (Option.some Jvm.ClassFile.FieldType.int)) ∈ lw_all := lw_g (lw_at lw_m15 137 rfl) rfl
set_option maxRecDepth 100000 in
theorem q3874 : (Jvm.Cond.methodLink "PascalHouseModel" (518 : Nat) ({ cls := "PascalHouseModel", name := "parseE", desc := "()I" } : Jvm.MethodName)) ∈ lw_all := lw_g (lw_at lw_m15 138 rfl) rfl
set_option maxRecDepth 100000 in
theorem q3876 : (Jvm.Cond.instanceMethod ({ cls := "PascalHouseModel", name := "parseE", desc := "()I" } : Jvm.MethodName)) ∈ lw_all := lw_g (lw_at lw_m15 140 rfl) rfl
set_option maxRecDepth 100000 in
theorem q3877 : (Jvm.Cond.code ({ cls := "PascalHouseModel", name := "parseE", desc := "()I" } : Jvm.MethodName) prog_24_method_55_code (2 : Nat) (Option.some Jvm.ClassFile.FieldType.int)) ∈ lw_all := lw_g (lw_at lw_m15 141 rfl) rfl
set_option maxRecDepth 100000 in
theorem q3878 : (Jvm.Cond.methodLink "PascalHouseModel" (536 : Nat) ({ cls := "PascalHouseModel", name := "parseSum", desc := "()I" } : Jvm.MethodName)) ∈ lw_all := lw_g (lw_at lw_m15 142 rfl) rfl
set_option maxRecDepth 100000 in
theorem q3880 : (Jvm.Cond.instanceMethod ({ cls := "PascalHouseModel", name := "parseSum", desc := "()I" } : Jvm.MethodName)) ∈ lw_all := lw_g (lw_at lw_m15 144 rfl) rfl
set_option maxRecDepth 100000 in
theorem q3881 : (Jvm.Cond.code ({ cls := "PascalHouseModel", name := "parseSum", desc := "()I" } : Jvm.MethodName) prog_24_method_56_code (4 : Nat) (Option.some Jvm.ClassFile.FieldType.int)) ∈ lw_all := lw_g (lw_at lw_m15 145 rfl) rfl
set_option maxRecDepth 100000 in
theorem q3882 : (Jvm.Cond.methodLink "PascalHouseModel" (542 : Nat) ({ cls := "PascalHouseModel", name := "parseTerm", desc := "()I" } : Jvm.MethodName)) ∈ lw_all := lw_g (lw_at lw_m15 146 rfl) rfl
set_option maxRecDepth 100000 in
theorem q3884 : (Jvm.Cond.instanceMethod ({ cls := "PascalHouseModel", name := "parseTerm", desc := "()I" } : Jvm.MethodName)) ∈ lw_all := lw_g (lw_at lw_m15 148 rfl) rfl
set_option maxRecDepth 100000 in
theorem q3885 : (Jvm.Cond.code ({ cls := "PascalHouseModel", name := "parseTerm", desc := "()I" } : Jvm.MethodName) prog_24_method_57_code (4 : Nat) (Option.some Jvm.ClassFile.FieldType.int)) ∈ lw_all := lw_g (lw_at lw_m15 149 rfl) rfl
set_option maxRecDepth 100000 in
theorem q3886 : (Jvm.Cond.methodLink "PascalHouseModel" (545 : Nat) ({ cls := "PascalHouseModel", name := "parseFactor", desc := "()I" } : Jvm.MethodName)) ∈ lw_all := lw_g (lw_at lw_m15 150 rfl) rfl
set_option maxRecDepth 100000 in
theorem q3888 : (Jvm.Cond.instanceMethod ({ cls := "PascalHouseModel", name := "parseFactor", desc := "()I" } : Jvm.MethodName)) ∈ lw_all := lw_g (lw_at lw_m15 152 rfl) rfl
set_option maxRecDepth 100000 in
theorem q3889 : (Jvm.Cond.code ({ cls := "PascalHouseModel", name := "parseFactor", desc := "()I" } : Jvm.MethodName) prog_24_method_58_code (2 : Nat) (Option.some Jvm.ClassFile.FieldType.int)) ∈ lw_all := lw_g (lw_at lw_m15 153 rfl) rfl
set_option maxRecDepth 100000 in
theorem q3890 : (Jvm.Cond.methodLink "PascalHouseModel" (548 : Nat) ({ cls := "PascalHouseModel", name := "parsePart", desc := "()I" } : Jvm.MethodName)) ∈ lw_all := lw_g (lw_at lw_m15 154 rfl) rfl
set_option maxRecDepth 100000 in
theorem q3892 : (Jvm.Cond.instanceMethod ({ cls := "PascalHouseModel", name := "parsePart", desc := "()I" } : Jvm.MethodName)) ∈ lw_all := lw_g (lw_at lw_m15 156 rfl) rfl
set_option maxRecDepth 100000 in
theorem q3893 : (Jvm.Cond.code ({ cls := "PascalHouseModel", name := "parsePart", desc := "()I" } : Jvm.MethodName) prog_24_method_59_code (2 : Nat) (Option.some Jvm.ClassFile.FieldType.int)) ∈ lw_all := lw_g (lw_at lw_m15 157 rfl) rfl
set_option maxRecDepth 100000 in
theorem q3894 : (Jvm.Cond.methodLink "PascalHouseModel" (551 : Nat) ({ cls := "PascalHouseModel", name := "parseNameFactor", desc := "()I" } : Jvm.MethodName)) ∈ lw_all := lw_g (lw_at lw_m15 158 rfl) rfl
set_option maxRecDepth 100000 in
theorem q3896 : (Jvm.Cond.instanceMethod ({ cls := "PascalHouseModel", name := "parseNameFactor", desc := "()I" } : Jvm.MethodName)) ∈ lw_all := lw_g (lw_at lw_m15 160 rfl) rfl
set_option maxRecDepth 100000 in
theorem q3897 : (Jvm.Cond.code ({ cls := "PascalHouseModel", name := "parseNameFactor", desc := "()I" } : Jvm.MethodName) prog_24_method_60_code (3 : Nat) (Option.some Jvm.ClassFile.FieldType.int)) ∈ lw_all := lw_g (lw_at lw_m15 161 rfl) rfl
set_option maxRecDepth 100000 in
theorem q3898 : (Jvm.Cond.methodLink "PascalHouseModel" (533 : Nat) ({ cls := "PascalHouseModel", name := "parseSelectors", desc := "(I)I" } : Jvm.MethodName)) ∈ lw_all := lw_g (lw_at lw_m15 162 rfl) rfl
set_option maxRecDepth 100000 in
theorem q3900 : (Jvm.Cond.instanceMethod ({ cls := "PascalHouseModel", name := "parseSelectors", desc := "(I)I" } : Jvm.MethodName)) ∈ lw_all := lw_g (lw_at lw_m15 164 rfl) rfl
set_option maxRecDepth 100000 in
theorem q3901 : (Jvm.Cond.code ({ cls := "PascalHouseModel", name := "parseSelectors", desc := "(I)I" } : Jvm.MethodName) prog_24_method_53_code (4 : Nat) (Option.some Jvm.ClassFile.FieldType.int)) ∈ lw_all := lw_g (lw_at lw_m15 165 rfl) rfl
set_option maxRecDepth 100000 in
theorem q3902 : (Jvm.Cond.methodLink "PascalHouseModel" (539 : Nat) ({ cls := "PascalHouseModel", name := "seesRelation", desc := "()Z" } : Jvm.MethodName)) ∈ lw_all := lw_g (lw_at lw_m15 166 rfl) rfl
set_option maxRecDepth 100000 in
theorem q3904 : (Jvm.Cond.instanceMethod ({ cls := "PascalHouseModel", name := "seesRelation", desc := "()Z" } : Jvm.MethodName)) ∈ lw_all := lw_g (lw_at lw_m15 168 rfl) rfl
set_option maxRecDepth 100000 in
theorem q3905 : (Jvm.Cond.code ({ cls := "PascalHouseModel", name := "seesRelation", desc := "()Z" } : Jvm.MethodName) prog_24_method_54_code (1 : Nat) (Option.some Jvm.ClassFile.FieldType.boolean)) ∈ lw_all := lw_g (lw_at lw_m15 169 rfl) rfl
set_option maxRecDepth 100000 in
theorem q3906 : (Jvm.Cond.methodLink "PascalHouseModel" (521 : Nat) ({ cls := "PascalHouseModel", name := "parseCase", desc := "()I" } : Jvm.MethodName)) ∈ lw_all := lw_g (lw_at lw_m15 170 rfl) rfl
set_option maxRecDepth 100000 in
theorem q3908 : (Jvm.Cond.instanceMethod ({ cls := "PascalHouseModel", name := "parseCase", desc := "()I" } : Jvm.MethodName)) ∈ lw_all := lw_g (lw_at lw_m15 172 rfl) rfl
set_option maxRecDepth 100000 in
theorem q3909 : (Jvm.Cond.code ({ cls := "PascalHouseModel", name := "parseCase", desc := "()I" } : Jvm.MethodName) prog_24_method_49_code (4 : Nat) (Option.some Jvm.ClassFile.FieldType.int)) ∈ lw_all := lw_g (lw_at lw_m15 173 rfl) rfl
set_option maxRecDepth 100000 in
theorem q3910 : (Jvm.Cond.methodLink "PascalHouseModel" (524 : Nat) ({ cls := "PascalHouseModel", name := "parseVariable", desc := "()I" } : Jvm.MethodName)) ∈ lw_all := lw_g (lw_at lw_m15 174 rfl) rfl
set_option maxRecDepth 100000 in
theorem q3912 : (Jvm.Cond.instanceMethod ({ cls := "PascalHouseModel", name := "parseVariable", desc := "()I" } : Jvm.MethodName)) ∈ lw_all := lw_g (lw_at lw_m15 176 rfl) rfl
set_option maxRecDepth 100000 in
theorem q3913 : (Jvm.Cond.code ({ cls := "PascalHouseModel", name := "parseVariable", desc := "()I" } : Jvm.MethodName) prog_24_method_52_code (1 : Nat) (Option.some Jvm.ClassFile.FieldType.int)) ∈ lw_all := lw_g (lw_at lw_m15 177 rfl) rfl
set_option maxRecDepth 100000 in
theorem q3914 : (Jvm.Cond.methodLink "PascalHouseModel" (527 : Nat) ({ cls := "PascalHouseModel", name := "parseNameStatement", desc := "()I" } : Jvm.MethodName)) ∈ lw_all := lw_g (lw_at lw_m15 178 rfl) rfl
set_option maxRecDepth 100000 in
theorem q3916 : (Jvm.Cond.instanceMethod ({ cls := "PascalHouseModel", name := "parseNameStatement", desc := "()I" } : Jvm.MethodName)) ∈ lw_all := lw_g (lw_at lw_m15 180 rfl) rfl
set_option maxRecDepth 100000 in
theorem q3917 : (Jvm.Cond.code ({ cls := "PascalHouseModel", name := "parseNameStatement", desc := "()I" } : Jvm.MethodName) prog_24_method_50_code (3 : Nat) (Option.some Jvm.ClassFile.FieldType.int)) ∈ lw_all := lw_g (lw_at lw_m15 181 rfl) rfl
set_option maxRecDepth 100000 in
theorem q3918 : (Jvm.Cond.methodLink "PascalHouseModel" (530 : Nat) ({ cls := "PascalHouseModel", name := "parseArgument", desc := "()I" } : Jvm.MethodName)) ∈ lw_all := lw_g (lw_at lw_m15 182 rfl) rfl
set_option maxRecDepth 100000 in
theorem q3920 : (Jvm.Cond.instanceMethod ({ cls := "PascalHouseModel", name := "parseArgument", desc := "()I" } : Jvm.MethodName)) ∈ lw_all := lw_g (lw_at lw_m15 184 rfl) rfl
set_option maxRecDepth 100000 in
theorem q3921 : (Jvm.Cond.code ({ cls := "PascalHouseModel", name := "parseArgument", desc := "()I" } : Jvm.MethodName) prog_24_method_51_code (2 : Nat) (Option.some Jvm.ClassFile.FieldType.int)) ∈ lw_all := lw_g (lw_at lw_m15 185 rfl) rfl
set_option maxRecDepth 100000 in
theorem q3922 : (Jvm.Cond.methodLink "PascalHouseModel" (1113 : Nat) ({ cls := "PascalHouseModel", name := "bringAll", desc := "()V" } : Jvm.MethodName)) ∈ lw_all := lw_g (lw_at lw_m15 186 rfl) rfl
set_option maxRecDepth 100000 in
theorem q3924 : (Jvm.Cond.instanceMethod ({ cls := "PascalHouseModel", name := "bringAll", desc := "()V" } : Jvm.MethodName)) ∈ lw_all := lw_g (lw_at lw_m15 188 rfl) rfl
set_option maxRecDepth 100000 in
theorem q3925 : (Jvm.Cond.code ({ cls := "PascalHouseModel", name := "bringAll", desc := "()V" } : Jvm.MethodName) prog_24_method_71_code (4 : Nat) (Option.none : Option Jvm.ClassFile.FieldType)) ∈ lw_all := lw_g (lw_at lw_m15 189 rfl) rfl
set_option maxRecDepth 100000 in
theorem q3926 : (Jvm.Cond.constant "PascalHouseModel" (590 : Nat) (-2147483647 : Int32)) ∈ lw_all := lw_g (lw_at lw_m15 190 rfl) rfl
set_option maxRecDepth 100000 in
theorem q3927 : (Jvm.Cond.constant "PascalHouseModel" (594 : Nat) (2147483647 : Int32)) ∈ lw_all := lw_g (lw_at lw_m15 191 rfl) rfl
set_option maxRecDepth 100000 in
theorem q3928 : (Jvm.Cond.constantLong "PascalHouseModel" (601 : Nat) (2 : Int64)) ∈ lw_all := lw_g (lw_at lw_m15 192 rfl) rfl
set_option maxRecDepth 100000 in
theorem q3930 : (Jvm.Cond.methodLink "PascalHouseModel" (608 : Nat) ({ cls := "PascalHouseModel", name := "bring", desc := "(Ljava/util/ArrayList;ILjava/lang/String;)LPascalHouseModel$Symbol;" } : Jvm.MethodName)) ∈ lw_all := lw_g (lw_at lw_m15 194 rfl) rfl
set_option maxRecDepth 100000 in
theorem q3932 : (Jvm.Cond.instanceMethod ({ cls := "PascalHouseModel", name := "bring", desc := "(Ljava/util/ArrayList;ILjava/lang/String;)LPascalHouseModel$Symbol;" } : Jvm.MethodName)) ∈ lw_all := lw_g (lw_at lw_m15 196 rfl) rfl
set_option maxRecDepth 100000 in
theorem q3933 : (Jvm.Cond.code ({ cls := "PascalHouseModel", name := "bring", desc := "(Ljava/util/ArrayList;ILjava/lang/String;)LPascalHouseModel$Symbol;" } : Jvm.MethodName) prog_24_method_70_code (5 : Nat) (Option.some (Jvm.ClassFile.FieldType.object "PascalHouseModel$Symbol"))) ∈ lw_all := lw_g (lw_at lw_m15 197 rfl) rfl
set_option maxRecDepth 100000 in
theorem q3934 : (Jvm.Cond.instantiable "PascalHouseModel$Symbol" (28 : Nat)) ∈ lw_all := lw_g (lw_at lw_m15 198 rfl) rfl
set_option maxRecDepth 100000 in
theorem q3935 : (Jvm.Cond.methodLink "PascalHouseModel" (585 : Nat) ({ cls := "PascalHouseModel$Symbol", name := "<init>", desc := "(II)V" } : Jvm.MethodName)) ∈ lw_all := lw_g (lw_at lw_m15 199 rfl) rfl
set_option maxRecDepth 100000 in
theorem q3936 : (Jvm.Cond.instanceMethod ({ cls := "PascalHouseModel$Symbol", name := "<init>", desc := "(II)V" } : Jvm.MethodName)) ∈ lw_all := lw_g (lw_at lw_m15 200 rfl) rfl
set_option maxRecDepth 100000 in
theorem q3937 : (Jvm.Cond.code ({ cls := "PascalHouseModel$Symbol", name := "<init>", desc := "(II)V" } : Jvm.MethodName) prog_28_method_1_code (3 : Nat) (Option.none : Option Jvm.ClassFile.FieldType)) ∈ lw_all := lw_g (lw_at lw_m15 201 rfl) rfl
set_option maxRecDepth 100000 in
theorem q3938 : (Jvm.Cond.methodLink "PascalHouseModel$Symbol" (3 : Nat) ({ cls := "java/lang/Object", name := "<init>", desc := "()V" } : Jvm.MethodName)) ∈ lw_all := lw_g (lw_at lw_m15 202 rfl) rfl
set_option maxRecDepth 100000 in
theorem q3939 : (Jvm.Cond.classLink "PascalHouseModel$Symbol" (9 : Nat) "java/util/ArrayList") ∈ lw_all := lw_g (lw_at lw_m15 203 rfl) rfl
set_option maxRecDepth 100000 in
theorem q3940 : (Jvm.Cond.methodLink "PascalHouseModel$Symbol" (11 : Nat) ({ cls := "java/util/ArrayList", name := "<init>", desc := "()V" } : Jvm.MethodName)) ∈ lw_all := lw_g (lw_at lw_m15 204 rfl) rfl
set_option maxRecDepth 100000 in
theorem q3941 : (Jvm.Cond.fieldLink "PascalHouseModel$Symbol" (22 : Nat) "PascalHouseModel$Symbol" "sort" "I") ∈ lw_all := lw_g (lw_at lw_m15 205 rfl) rfl
set_option maxRecDepth 100000 in
theorem q3942 : (Jvm.Cond.fieldLink "PascalHouseModel" (577 : Nat) "PascalHouseModel$Symbol" "sort" "I") ∈ lw_all := lw_g (lw_at lw_m15 206 rfl) rfl
set_option maxRecDepth 100000 in
theorem q3943 : (Jvm.Cond.fieldLink "PascalHouseModel$Symbol" (25 : Nat) "PascalHouseModel$Symbol" "name" "I") ∈ lw_all := lw_g (lw_at lw_m15 207 rfl) rfl
set_option maxRecDepth 100000 in
theorem q3944 : (Jvm.Cond.fieldLink "PascalHouseModel" (560 : Nat) "PascalHouseModel$Symbol" "name" "I") ∈ lw_all := lw_g (lw_at lw_m15 208 rfl) rfl
set_option maxRecDepth 100000 in
theorem q3945 : (Jvm.Cond.fieldLink "PascalHouseModel" (612 : Nat) "PascalHouseModel$Symbol" "type" "LPascalHouseModel$Type;") ∈ lw_all := lw_g (lw_at lw_m15 209 rfl) rfl
set_option maxRecDepth 100000 in
theorem q3946 : (Jvm.Cond.fieldLink "PascalHouseModel" (624 : Nat) "PascalHouseModel$Symbol" "value" "J") ∈ lw_all := lw_g (lw_at lw_m15 210 rfl) rfl
set_option maxRecDepth 100000 in
theorem q3947 : (Jvm.Cond.fieldLink "PascalHouseModel" (770 : Nat) "PascalHouseModel$Symbol" "real" "D") ∈ lw_all := lw_g (lw_at lw_m15 211 rfl) rfl
set_option maxRecDepth 100000 in
theorem q3948 : (Jvm.Cond.fieldLink "PascalHouseModel" (705 : Nat) "PascalHouseModel$Symbol" "level" "I") ∈ lw_all := lw_g (lw_at lw_m15 212 rfl) rfl
set_option maxRecDepth 100000 in
theorem q3949 : (Jvm.Cond.fieldLink "PascalHouseModel" (713 : Nat) "PascalHouseModel$Symbol" "offset" "I") ∈ lw_all := lw_g (lw_at lw_m15 213 rfl) rfl
set_option maxRecDepth 100000 in
theorem q3950 : (Jvm.Cond.fieldLink "PascalHouseModel" (961 : Nat) "PascalHouseModel$Symbol" "refers" "Z") ∈ lw_all := lw_g (lw_at lw_m15 214 rfl) rfl
set_option maxRecDepth 100000 in
theorem q3951 : (Jvm.Cond.fieldLink "PascalHouseModel" (951 : Nat) "PascalHouseModel$Symbol" "isParameter" "Z") ∈ lw_all := lw_g (lw_at lw_m15 215 rfl) rfl
set_option maxRecDepth 100000 in
theorem q3952 : (Jvm.Cond.fieldLink "PascalHouseModel" (958 : Nat) "PascalHouseModel$Symbol" "isFormal" "Z") ∈ lw_all := lw_g (lw_at lw_m15 216 rfl) rfl
set_option maxRecDepth 100000 in
theorem q3953 : (Jvm.Cond.fieldLink "PascalHouseModel" (787 : Nat) "PascalHouseModel$Symbol" "isOwn" "Z") ∈ lw_all := lw_g (lw_at lw_m15 217 rfl) rfl
set_option maxRecDepth 100000 in
theorem q3954 : (Jvm.Cond.fieldLink "PascalHouseModel" (992 : Nat) "PascalHouseModel$Symbol" "isThreatened" "Z") ∈ lw_all := lw_g (lw_at lw_m15 218 rfl) rfl
set_option maxRecDepth 100000 in
theorem q3955 : (Jvm.Cond.fieldLink "PascalHouseModel" (893 : Nat) "PascalHouseModel$Symbol" "variants" "LPascalHouseModel$Variants;") ∈ lw_all := lw_g (lw_at lw_m15 219 rfl) rfl
set_option maxRecDepth 100000 in
theorem q3956 : (Jvm.Cond.fieldLink "PascalHouseModel" (911 : Nat) "PascalHouseModel$Symbol" "tags" "LPascalHouseModel$Variants;") ∈ lw_all := lw_g (lw_at lw_m15 220 rfl) rfl
set_option maxRecDepth 100000 in
theorem q3957 : (Jvm.Cond.fieldLink "PascalHouseModel" (897 : Nat) "PascalHouseModel$Symbol" "choice" "I") ∈ lw_all := lw_g (lw_at lw_m15 221 rfl) rfl
set_option maxRecDepth 100000 in
theorem q3958 : (Jvm.Cond.fieldLink "PascalHouseModel" (632 : Nat) "PascalHouseModel$Symbol" "there" "I") ∈ lw_all := lw_g (lw_at lw_m15 222 rfl) rfl
set_option maxRecDepth 100000 in
theorem q3959 : (Jvm.Cond.fieldLink "PascalHouseModel" (772 : Nat) "PascalHouseModel$Symbol" "number" "I") ∈ lw_all := lw_g (lw_at lw_m15 223 rfl) rfl
set_option maxRecDepth 100000 in
theorem q3960 : (Jvm.Cond.fieldLink "PascalHouseModel" (635 : Nat) "PascalHouseModel$Symbol" "isFunction" "Z") ∈ lw_all := lw_g (lw_at lw_m15 224 rfl) rfl
set_option maxRecDepth 100000 in
theorem q3961 : (Jvm.Cond.fieldLink "PascalHouseModel" (796 : Nat) "PascalHouseModel$Symbol" "isForward" "Z") ∈ lw_all := lw_g (lw_at lw_m15 225 rfl) rfl
set_option maxRecDepth 100000 in
theorem q3962 : (Jvm.Cond.fieldLink "PascalHouseModel" (799 : Nat) "PascalHouseModel$Symbol" "hasBlock" "Z") ∈ lw_all := lw_g (lw_at lw_m15 226 rfl) rfl
set_option maxRecDepth 100000 in
theorem q3963 : (Jvm.Cond.fieldLink "PascalHouseModel" (946 : Nat) "PascalHouseModel$Symbol" "isAssigned" "Z") ∈ lw_all := lw_g (lw_at lw_m15 227 rfl) rfl
set_option maxRecDepth 100000 in
theorem q3964 : (Jvm.Cond.fieldLink "PascalHouseModel" (940 : Nat) "PascalHouseModel$Symbol" "isOpen" "Z") ∈ lw_all := lw_g (lw_at lw_m15 228 rfl) rfl
set_option maxRecDepth 100000 in
theorem q3965 : (Jvm.Cond.fieldLink "PascalHouseModel$Symbol" (12 : Nat) "PascalHouseModel$Symbol" "parameters" "Ljava/util/ArrayList;") ∈ lw_all := lw_g (lw_at lw_m15 229 rfl) rfl
set_option maxRecDepth 100000 in
theorem q3966 : (Jvm.Cond.fieldLink "PascalHouseModel" (949 : Nat) "PascalHouseModel$Symbol" "parameters" "Ljava/util/ArrayList;") ∈ lw_all := lw_g (lw_at lw_m15 230 rfl) rfl
set_option maxRecDepth 100000 in
theorem q3967 : (Jvm.Cond.fieldLink "PascalHouseModel" (923 : Nat) "PascalHouseModel$Symbol" "region" "Ljava/util/ArrayList;") ∈ lw_all := lw_g (lw_at lw_m15 231 rfl) rfl
set_option maxRecDepth 100000 in
theorem q3968 : (Jvm.Cond.fieldLink "PascalHouseModel$Symbol" (18 : Nat) "PascalHouseModel$Symbol" "block" "I") ∈ lw_all := lw_g (lw_at lw_m15 232 rfl) rfl
set_option maxRecDepth 100000 in
theorem q3969 : (Jvm.Cond.fieldLink "PascalHouseModel" (943 : Nat) "PascalHouseModel$Symbol" "block" "I") ∈ lw_all := lw_g (lw_at lw_m15 233 rfl) rfl
set_option maxRecDepth 100000 in
theorem q3970 : (Jvm.Cond.fieldLink "PascalHouseModel" (587 : Nat) "PascalHouseModel$Symbol" "nameToken" "I") ∈ lw_all := lw_g (lw_at lw_m15 234 rfl) rfl
set_option maxRecDepth 100000 in
theorem q3971 : (Jvm.Cond.fieldLink "PascalHouseModel" (936 : Nat) "PascalHouseModel$Symbol" "cells" "I") ∈ lw_all := lw_g (lw_at lw_m15 235 rfl) rfl
set_option maxRecDepth 100000 in
theorem q3972 : (Jvm.Cond.fieldLink "PascalHouseModel" (937 : Nat) "PascalHouseModel$Symbol" "result" "I") ∈ lw_all := lw_g (lw_at lw_m15 236 rfl) rfl
set_option maxRecDepth 100000 in
theorem q4030 : (Jvm.Cond.methodLink "PascalHouseModel" (579 : Nat) ({ cls := "java/util/ArrayList", name := "add", desc := "(Ljava/lang/Object;)Z" } : Jvm.MethodName)) ∈ lw_all := lw_g (lw_at lw_m16 54 rfl) rfl
set_option maxRecDepth 100000 in
theorem q4038 : (Jvm.Cond.methodLink "PascalHouseModel" (629 : Nat) ({ cls := "PascalHouseModel", name := "thereName", desc := "(I)Ljava/lang/String;" } : Jvm.MethodName)) ∈ lw_all := lw_g (lw_at lw_m16 62 rfl) rfl
set_option maxRecDepth 100000 in
theorem q4039 : (Jvm.Cond.static ({ cls := "PascalHouseModel", name := "thereName", desc := "(I)Ljava/lang/String;" } : Jvm.MethodName)) ∈ lw_all := lw_g (lw_at lw_m16 63 rfl) rfl
set_option maxRecDepth 100000 in
theorem q4040 : (Jvm.Cond.code ({ cls := "PascalHouseModel", name := "thereName", desc := "(I)Ljava/lang/String;" } : Jvm.MethodName) prog_24_method_72_code (1 : Nat) (Option.some (Jvm.ClassFile.FieldType.object "java/lang/String"))) ∈ lw_all := lw_g (lw_at lw_m16 64 rfl) rfl
set_option maxRecDepth 100000 in
theorem q4063 : (Jvm.Cond.methodLink "PascalHouseModel" (639 : Nat) ({ cls := "PascalHouseModel", name := "push", desc := "(Ljava/util/ArrayList;I)V" } : Jvm.MethodName)) ∈ lw_all := lw_g (lw_at lw_m16 87 rfl) rfl
set_option maxRecDepth 100000 in
theorem q4065 : (Jvm.Cond.instanceMethod ({ cls := "PascalHouseModel", name := "push", desc := "(Ljava/util/ArrayList;I)V" } : Jvm.MethodName)) ∈ lw_all := lw_g (lw_at lw_m16 89 rfl) rfl
set_option maxRecDepth 100000 in
theorem q4066 : (Jvm.Cond.code ({ cls := "PascalHouseModel", name := "push", desc := "(Ljava/util/ArrayList;I)V" } : Jvm.MethodName) prog_24_method_65_code (3 : Nat) (Option.none : Option Jvm.ClassFile.FieldType)) ∈ lw_all := lw_g (lw_at lw_m16 90 rfl) rfl
set_option maxRecDepth 100000 in
theorem q4067 : (Jvm.Cond.methodLink "PascalHouseModel" (554 : Nat) ({ cls := "java/util/ArrayList", name := "size", desc := "()I" } : Jvm.MethodName)) ∈ lw_all := lw_g (lw_at lw_m16 91 rfl) rfl
set_option maxRecDepth 100000 in
theorem q4068 : (Jvm.Cond.methodLink "PascalHouseModel" (1116 : Nat) ({ cls := "PascalHouseModel", name := "checkProgram", desc := "(I)V" } : Jvm.MethodName)) ∈ lw_all := lw_g (lw_at lw_m16 92 rfl) rfl
set_option maxRecDepth 100000 in
theorem q4070 : (Jvm.Cond.instanceMethod ({ cls := "PascalHouseModel", name := "checkProgram", desc := "(I)V" } : Jvm.MethodName)) ∈ lw_all := lw_g (lw_at lw_m16 94 rfl) rfl
set_option maxRecDepth 100000 in
theorem q4071 : (Jvm.Cond.code ({ cls := "PascalHouseModel", name := "checkProgram", desc := "(I)V" } : Jvm.MethodName) prog_24_method_77_code (8 : Nat) (Option.none : Option Jvm.ClassFile.FieldType)) ∈ lw_all := lw_g (lw_at lw_m16 95 rfl) rfl
set_option maxRecDepth 100000 in
theorem q4072 : (Jvm.Cond.classLink "PascalHouseModel" (685 : Nat) "PascalHouseModel$Scope") ∈ lw_all := lw_g (lw_at lw_m16 96 rfl) rfl
set_option maxRecDepth 100000 in
theorem q4073 : (Jvm.Cond.instantiable "PascalHouseModel$Scope" (4 : Nat)) ∈ lw_all := lw_g (lw_at lw_m16 97 rfl) rfl
set_option maxRecDepth 100000 in
theorem q4074 : (Jvm.Cond.methodLinkNest "PascalHouseModel" (716 : Nat) ({ cls := "PascalHouseModel$Scope", name := "<init>", desc := "()V" } : Jvm.MethodName) "PascalHouseModel") ∈ lw_tbl := lw_at lw_m16 98 rfl
set_option maxRecDepth 100000 in
theorem q4075 : (Jvm.Cond.instanceMethod ({ cls := "PascalHouseModel$Scope", name := "<init>", desc := "()V" } : Jvm.MethodName)) ∈ lw_all := lw_g (lw_at lw_m16 99 rfl) rfl
set_option maxRecDepth 100000 in
theorem q4076 : (Jvm.Cond.code ({ cls := "PascalHouseModel$Scope", name := "<init>", desc := "()V" } : Jvm.MethodName) prog_27_method_1_code (1 : Nat) (Option.none : Option Jvm.ClassFile.FieldType)) ∈ lw_all := lw_g (lw_at lw_m16 100 rfl) rfl
set_option maxRecDepth 100000 in
theorem q4077 : (Jvm.Cond.methodLink "PascalHouseModel$Scope" (1 : Nat) ({ cls := "java/lang/Object", name := "<init>", desc := "()V" } : Jvm.MethodName)) ∈ lw_all := lw_g (lw_at lw_m16 101 rfl) rfl
set_option maxRecDepth 100000 in
theorem q4078 : (Jvm.Cond.classLink "PascalHouseModel$Scope" (7 : Nat) "java/util/ArrayList") ∈ lw_all := lw_g (lw_at lw_m16 102 rfl) rfl
set_option maxRecDepth 100000 in
theorem q4079 : (Jvm.Cond.methodLink "PascalHouseModel$Scope" (9 : Nat) ({ cls := "java/util/ArrayList", name := "<init>", desc := "()V" } : Jvm.MethodName)) ∈ lw_all := lw_g (lw_at lw_m16 103 rfl) rfl
set_option maxRecDepth 100000 in
theorem q4080 : (Jvm.Cond.fieldLink "PascalHouseModel$Scope" (10 : Nat) "PascalHouseModel$Scope" "labels" "Ljava/util/ArrayList;") ∈ lw_all := lw_g (lw_at lw_m16 104 rfl) rfl
set_option maxRecDepth 100000 in
theorem q4081 : (Jvm.Cond.fieldLink "PascalHouseModel" (687 : Nat) "PascalHouseModel$Scope" "labels" "Ljava/util/ArrayList;") ∈ lw_all := lw_g (lw_at lw_m16 105 rfl) rfl
set_option maxRecDepth 100000 in
theorem q4082 : (Jvm.Cond.fieldLink "PascalHouseModel$Scope" (16 : Nat) "PascalHouseModel$Scope" "jumps" "Ljava/util/ArrayList;") ∈ lw_all := lw_g (lw_at lw_m16 106 rfl) rfl
set_option maxRecDepth 100000 in
theorem q4083 : (Jvm.Cond.fieldLink "PascalHouseModel" (811 : Nat) "PascalHouseModel$Scope" "jumps" "Ljava/util/ArrayList;") ∈ lw_all := lw_g (lw_at lw_m16 107 rfl) rfl
set_option maxRecDepth 100000 in
theorem q4084 : (Jvm.Cond.fieldLink "PascalHouseModel" (711 : Nat) "PascalHouseModel$Scope" "cells" "I") ∈ lw_all := lw_g (lw_at lw_m16 108 rfl) rfl
set_option maxRecDepth 100000 in
theorem q4085 : (Jvm.Cond.fieldLink "PascalHouseModel" (802 : Nat) "PascalHouseModel$Scope" "compound" "I") ∈ lw_all := lw_g (lw_at lw_m16 109 rfl) rfl
set_option maxRecDepth 100000 in
theorem q4095 : (Jvm.Cond.methodLink "PascalHouseModel" (570 : Nat) ({ cls := "PascalHouseModel", name := "refuse", desc := "(II)V" } : Jvm.MethodName)) ∈ lw_all := lw_g (lw_at lw_m16 119 rfl) rfl
set_option maxRecDepth 100000 in
theorem q4097 : (Jvm.Cond.instanceMethod ({ cls := "PascalHouseModel", name := "refuse", desc := "(II)V" } : Jvm.MethodName)) ∈ lw_all := lw_g (lw_at lw_m16 121 rfl) rfl
set_option maxRecDepth 100000 in
theorem q4098 : (Jvm.Cond.code ({ cls := "PascalHouseModel", name := "refuse", desc := "(II)V" } : Jvm.MethodName) prog_24_method_61_code (3 : Nat) (Option.none : Option Jvm.ClassFile.FieldType)) ∈ lw_all := lw_g (lw_at lw_m16 122 rfl) rfl
set_option maxRecDepth 100000 in
theorem q4101 : (Jvm.Cond.methodLink "PascalHouseModel" (723 : Nat) ({ cls := "PascalHouseModel", name := "variable", desc := "(ILPascalHouseModel$Type;)LPascalHouseModel$Symbol;" } : Jvm.MethodName)) ∈ lw_all := lw_g (lw_at lw_m16 125 rfl) rfl
set_option maxRecDepth 100000 in
theorem q4103 : (Jvm.Cond.instanceMethod ({ cls := "PascalHouseModel", name := "variable", desc := "(ILPascalHouseModel$Type;)LPascalHouseModel$Symbol;" } : Jvm.MethodName)) ∈ lw_all := lw_g (lw_at lw_m16 127 rfl) rfl
set_option maxRecDepth 100000 in
theorem q4104 : (Jvm.Cond.code ({ cls := "PascalHouseModel", name := "variable", desc := "(ILPascalHouseModel$Type;)LPascalHouseModel$Symbol;" } : Jvm.MethodName) prog_24_method_76_code (4 : Nat) (Option.some (Jvm.ClassFile.FieldType.object "PascalHouseModel$Symbol"))) ∈ lw_all := lw_g (lw_at lw_m16 128 rfl) rfl
set_option maxRecDepth 100000 in
theorem q4105 : (Jvm.Cond.methodLink "PascalHouseModel" (694 : Nat) ({ cls := "PascalHouseModel", name := "here", desc := "()Ljava/util/ArrayList;" } : Jvm.MethodName)) ∈ lw_all := lw_g (lw_at lw_m16 129 rfl) rfl
set_option maxRecDepth 100000 in
theorem q4107 : (Jvm.Cond.instanceMethod ({ cls := "PascalHouseModel", name := "here", desc := "()Ljava/util/ArrayList;" } : Jvm.MethodName)) ∈ lw_all := lw_g (lw_at lw_m16 131 rfl) rfl
set_option maxRecDepth 100000 in
theorem q4108 : (Jvm.Cond.code ({ cls := "PascalHouseModel", name := "here", desc := "()Ljava/util/ArrayList;" } : Jvm.MethodName) prog_24_method_67_code (1 : Nat) (Option.some (Jvm.ClassFile.FieldType.object "java/util/ArrayList"))) ∈ lw_all := lw_g (lw_at lw_m16 132 rfl) rfl
set_option maxRecDepth 100000 in
theorem q4109 : (Jvm.Cond.methodLink "PascalHouseModel" (556 : Nat) ({ cls := "java/util/ArrayList", name := "get", desc := "(I)Ljava/lang/Object;" } : Jvm.MethodName)) ∈ lw_all := lw_g (lw_at lw_m16 133 rfl) rfl
set_option maxRecDepth 100000 in
theorem q4110 : (Jvm.Cond.methodLink "PascalHouseModel" (698 : Nat) ({ cls := "PascalHouseModel", name := "define", desc := "(IILjava/util/ArrayList;)LPascalHouseModel$Symbol;" } : Jvm.MethodName)) ∈ lw_all := lw_g (lw_at lw_m16 134 rfl) rfl
set_option maxRecDepth 100000 in
theorem q4112 : (Jvm.Cond.instanceMethod ({ cls := "PascalHouseModel", name := "define", desc := "(IILjava/util/ArrayList;)LPascalHouseModel$Symbol;" } : Jvm.MethodName)) ∈ lw_all := lw_g (lw_at lw_m16 136 rfl) rfl
set_option maxRecDepth 100000 in
theorem q4113 : (Jvm.Cond.code ({ cls := "PascalHouseModel", name := "define", desc := "(IILjava/util/ArrayList;)LPascalHouseModel$Symbol;" } : Jvm.MethodName) prog_24_method_68_code (5 : Nat) (Option.some (Jvm.ClassFile.FieldType.object "PascalHouseModel$Symbol"))) ∈ lw_all := lw_g (lw_at lw_m16 137 rfl) rfl
set_option maxRecDepth 100000 in
theorem q4114 : (Jvm.Cond.methodLink "PascalHouseModel" (566 : Nat) ({ cls := "PascalHouseModel", name := "inRegion", desc := "(Ljava/util/ArrayList;I)LPascalHouseModel$Symbol;" } : Jvm.MethodName)) ∈ lw_all := lw_g (lw_at lw_m16 138 rfl) rfl
set_option maxRecDepth 100000 in
theorem q4116 : (Jvm.Cond.instanceMethod ({ cls := "PascalHouseModel", name := "inRegion", desc := "(Ljava/util/ArrayList;I)LPascalHouseModel$Symbol;" } : Jvm.MethodName)) ∈ lw_all := lw_g (lw_at lw_m16 140 rfl) rfl
set_option maxRecDepth 100000 in
theorem q4117 : (Jvm.Cond.code ({ cls := "PascalHouseModel", name := "inRegion", desc := "(Ljava/util/ArrayList;I)LPascalHouseModel$Symbol;" } : Jvm.MethodName) prog_24_method_62_code (4 : Nat) (Option.some (Jvm.ClassFile.FieldType.object "PascalHouseModel$Symbol"))) ∈ lw_all := lw_g (lw_at lw_m16 141 rfl) rfl
set_option maxRecDepth 100000 in
theorem q4118 : (Jvm.Cond.methodLink "PascalHouseModel" (702 : Nat) ({ cls := "PascalHouseModel", name := "level", desc := "()I" } : Jvm.MethodName)) ∈ lw_all := lw_g (lw_at lw_m16 142 rfl) rfl
set_option maxRecDepth 100000 in
theorem q4120 : (Jvm.Cond.instanceMethod ({ cls := "PascalHouseModel", name := "level", desc := "()I" } : Jvm.MethodName)) ∈ lw_all := lw_g (lw_at lw_m16 144 rfl) rfl
set_option maxRecDepth 100000 in
theorem q4121 : (Jvm.Cond.code ({ cls := "PascalHouseModel", name := "level", desc := "()I" } : Jvm.MethodName) prog_24_method_73_code (1 : Nat) (Option.some Jvm.ClassFile.FieldType.int)) ∈ lw_all := lw_g (lw_at lw_m16 145 rfl) rfl
set_option maxRecDepth 100000 in
theorem q4122 : (Jvm.Cond.methodLink "PascalHouseModel" (707 : Nat) ({ cls := "PascalHouseModel", name := "scope", desc := "()LPascalHouseModel$Scope;" } : Jvm.MethodName)) ∈ lw_all := lw_g (lw_at lw_m16 146 rfl) rfl
set_option maxRecDepth 100000 in
theorem q4124 : (Jvm.Cond.instanceMethod ({ cls := "PascalHouseModel", name := "scope", desc := "()LPascalHouseModel$Scope;" } : Jvm.MethodName)) ∈ lw_all := lw_g (lw_at lw_m16 148 rfl) rfl
set_option maxRecDepth 100000 in
theorem q4125 : (Jvm.Cond.code ({ cls := "PascalHouseModel", name := "scope", desc := "()LPascalHouseModel$Scope;" } : Jvm.MethodName) prog_24_method_74_code (1 : Nat) (Option.some (Jvm.ClassFile.FieldType.object "PascalHouseModel$Scope"))) ∈ lw_all := lw_g (lw_at lw_m16 149 rfl) rfl
set_option maxRecDepth 100000 in
theorem q4126 : (Jvm.Cond.methodLink "PascalHouseModel" (734 : Nat) ({ cls := "PascalHouseModel", name := "child", desc := "(II)I" } : Jvm.MethodName)) ∈ lw_all := lw_g (lw_at lw_m16 150 rfl) rfl
set_option maxRecDepth 100000 in
theorem q4128 : (Jvm.Cond.instanceMethod ({ cls := "PascalHouseModel", name := "child", desc := "(II)I" } : Jvm.MethodName)) ∈ lw_all := lw_g (lw_at lw_m16 152 rfl) rfl
set_option maxRecDepth 100000 in
theorem q4129 : (Jvm.Cond.code ({ cls := "PascalHouseModel", name := "child", desc := "(II)I" } : Jvm.MethodName) prog_24_method_69_code (5 : Nat) (Option.some Jvm.ClassFile.FieldType.int)) ∈ lw_all := lw_g (lw_at lw_m16 153 rfl) rfl
set_option maxRecDepth 100000 in
theorem q4130 : (Jvm.Cond.methodLink "PascalHouseModel" (740 : Nat) ({ cls := "PascalHouseModel", name := "checkBlock", desc := "(II)V" } : Jvm.MethodName)) ∈ lw_all := lw_g (lw_at lw_m16 154 rfl) rfl
set_option maxRecDepth 100000 in
theorem q4132 : (Jvm.Cond.instanceMethod ({ cls := "PascalHouseModel", name := "checkBlock", desc := "(II)V" } : Jvm.MethodName)) ∈ lw_all := lw_g (lw_at lw_m16 156 rfl) rfl
set_option maxRecDepth 100000 in
theorem q4133 : (Jvm.Cond.code ({ cls := "PascalHouseModel", name := "checkBlock", desc := "(II)V" } : Jvm.MethodName) prog_24_method_78_code (12 : Nat) (Option.none : Option Jvm.ClassFile.FieldType)) ∈ lw_all := lw_g (lw_at lw_m16 157 rfl) rfl
set_option maxRecDepth 100000 in
theorem q4134 : (Jvm.Cond.methodLink "PascalHouseModel" (749 : Nat) ({ cls := "PascalHouseModel", name := "labelIn", desc := "(LPascalHouseModel$Scope;I)LPascalHouseModel$Label;" } : Jvm.MethodName)) ∈ lw_all := lw_g (lw_at lw_m16 158 rfl) rfl
set_option maxRecDepth 100000 in
theorem q4136 : (Jvm.Cond.instanceMethod ({ cls := "PascalHouseModel", name := "labelIn", desc := "(LPascalHouseModel$Scope;I)LPascalHouseModel$Label;" } : Jvm.MethodName)) ∈ lw_all := lw_g (lw_at lw_m16 160 rfl) rfl
set_option maxRecDepth 100000 in
theorem q4137 : (Jvm.Cond.code ({ cls := "PascalHouseModel", name := "labelIn", desc := "(LPascalHouseModel$Scope;I)LPascalHouseModel$Label;" } : Jvm.MethodName) prog_24_method_75_code (4 : Nat) (Option.some (Jvm.ClassFile.FieldType.object "PascalHouseModel$Label"))) ∈ lw_all := lw_g (lw_at lw_m16 161 rfl) rfl
set_option maxRecDepth 100000 in
theorem q4138 : (Jvm.Cond.classLink "PascalHouseModel" (690 : Nat) "PascalHouseModel$Label") ∈ lw_all := lw_g (lw_at lw_m16 162 rfl) rfl
set_option maxRecDepth 100000 in
theorem q4139 : (Jvm.Cond.instantiable "PascalHouseModel$Label" (2 : Nat)) ∈ lw_all := lw_g (lw_at lw_m16 163 rfl) rfl
set_option maxRecDepth 100000 in
theorem q4140 : (Jvm.Cond.methodLink "PascalHouseModel" (753 : Nat) ({ cls := "PascalHouseModel$Label", name := "<init>", desc := "(I)V" } : Jvm.MethodName)) ∈ lw_all := lw_g (lw_at lw_m16 164 rfl) rfl
set_option maxRecDepth 100000 in
theorem q4141 : (Jvm.Cond.instanceMethod ({ cls := "PascalHouseModel$Label", name := "<init>", desc := "(I)V" } : Jvm.MethodName)) ∈ lw_all := lw_g (lw_at lw_m16 165 rfl) rfl
set_option maxRecDepth 100000 in
theorem q4142 : (Jvm.Cond.code ({ cls := "PascalHouseModel$Label", name := "<init>", desc := "(I)V" } : Jvm.MethodName) prog_26_method_1_code (2 : Nat) (Option.none : Option Jvm.ClassFile.FieldType)) ∈ lw_all := lw_g (lw_at lw_m16 166 rfl) rfl
set_option maxRecDepth 100000 in
theorem q4143 : (Jvm.Cond.methodLink "PascalHouseModel$Label" (3 : Nat) ({ cls := "java/lang/Object", name := "<init>", desc := "()V" } : Jvm.MethodName)) ∈ lw_all := lw_g (lw_at lw_m16 167 rfl) rfl
set_option maxRecDepth 100000 in
theorem q4144 : (Jvm.Cond.fieldLink "PascalHouseModel$Label" (15 : Nat) "PascalHouseModel$Label" "number" "I") ∈ lw_all := lw_g (lw_at lw_m16 168 rfl) rfl
set_option maxRecDepth 100000 in
theorem q4145 : (Jvm.Cond.fieldLink "PascalHouseModel" (692 : Nat) "PascalHouseModel$Label" "number" "I") ∈ lw_all := lw_g (lw_at lw_m16 169 rfl) rfl
set_option maxRecDepth 100000 in
theorem q4146 : (Jvm.Cond.fieldLink "PascalHouseModel$Label" (9 : Nat) "PascalHouseModel$Label" "statement" "I") ∈ lw_all := lw_g (lw_at lw_m16 170 rfl) rfl
set_option maxRecDepth 100000 in
theorem q4147 : (Jvm.Cond.fieldLink "PascalHouseModel" (826 : Nat) "PascalHouseModel$Label" "statement" "I") ∈ lw_all := lw_g (lw_at lw_m16 171 rfl) rfl
set_option maxRecDepth 100000 in
theorem q4153 : (Jvm.Cond.methodLink "PascalHouseModel" (754 : Nat) ({ cls := "PascalHouseModel", name := "constant", desc := "(I)V" } : Jvm.MethodName)) ∈ lw_all := lw_g (lw_at lw_m16 177 rfl) rfl
set_option maxRecDepth 100000 in
theorem q4155 : (Jvm.Cond.instanceMethod ({ cls := "PascalHouseModel", name := "constant", desc := "(I)V" } : Jvm.MethodName)) ∈ lw_all := lw_g (lw_at lw_m16 179 rfl) rfl
set_option maxRecDepth 100000 in
theorem q4156 : (Jvm.Cond.code ({ cls := "PascalHouseModel", name := "constant", desc := "(I)V" } : Jvm.MethodName) prog_24_method_82_code (4 : Nat) (Option.none : Option Jvm.ClassFile.FieldType)) ∈ lw_all := lw_g (lw_at lw_m16 180 rfl) rfl
set_option maxRecDepth 100000 in
theorem q4157 : (Jvm.Cond.methodLink "PascalHouseModel" (838 : Nat) ({ cls := "PascalHouseModel", name := "findOf", desc := "(II)LPascalHouseModel$Symbol;" } : Jvm.MethodName)) ∈ lw_all := lw_g (lw_at lw_m16 181 rfl) rfl
set_option maxRecDepth 100000 in
theorem q4159 : (Jvm.Cond.instanceMethod ({ cls := "PascalHouseModel", name := "findOf", desc := "(II)LPascalHouseModel$Symbol;" } : Jvm.MethodName)) ∈ lw_all := lw_g (lw_at lw_m16 183 rfl) rfl
set_option maxRecDepth 100000 in
theorem q4160 : (Jvm.Cond.code ({ cls := "PascalHouseModel", name := "findOf", desc := "(II)LPascalHouseModel$Symbol;" } : Jvm.MethodName) prog_24_method_64_code (4 : Nat) (Option.some (Jvm.ClassFile.FieldType.object "PascalHouseModel$Symbol"))) ∈ lw_all := lw_g (lw_at lw_m16 184 rfl) rfl
set_option maxRecDepth 100000 in
theorem q4161 : (Jvm.Cond.methodLink "PascalHouseModel" (573 : Nat) ({ cls := "PascalHouseModel", name := "find", desc := "(I)LPascalHouseModel$Symbol;" } : Jvm.MethodName)) ∈ lw_all := lw_g (lw_at lw_m16 185 rfl) rfl
set_option maxRecDepth 100000 in
theorem q4163 : (Jvm.Cond.instanceMethod ({ cls := "PascalHouseModel", name := "find", desc := "(I)LPascalHouseModel$Symbol;" } : Jvm.MethodName)) ∈ lw_all := lw_g (lw_at lw_m16 187 rfl) rfl
set_option maxRecDepth 100000 in
theorem q4164 : (Jvm.Cond.code ({ cls := "PascalHouseModel", name := "find", desc := "(I)LPascalHouseModel$Symbol;" } : Jvm.MethodName) prog_24_method_63_code (4 : Nat) (Option.some (Jvm.ClassFile.FieldType.object "PascalHouseModel$Symbol"))) ∈ lw_all := lw_g (lw_at lw_m16 188 rfl) rfl
set_option maxRecDepth 100000 in
theorem q4165 : (Jvm.Cond.methodLink "PascalHouseModel" (842 : Nat) ({ cls := "PascalHouseModel$Type", name := "isNumber", desc := "()Z" } : Jvm.MethodName)) ∈ lw_all := lw_g (lw_at lw_m16 189 rfl) rfl
set_option maxRecDepth 100000 in
theorem q4166 : (Jvm.Cond.instanceMethod ({ cls := "PascalHouseModel$Type", name := "isNumber", desc := "()Z" } : Jvm.MethodName)) ∈ lw_all := lw_g (lw_at lw_m16 190 rfl) rfl
set_option maxRecDepth 100000 in
theorem q4167 : (Jvm.Cond.selects "PascalHouseModel$Type" ({ cls := "PascalHouseModel$Type", name := "isNumber", desc := "()Z" } : Jvm.MethodName) ({ cls := "PascalHouseModel$Type", name := "isNumber", desc := "()Z" } : Jvm.MethodName)) ∈ lw_all := lw_g (lw_at lw_m16 191 rfl) rfl
set_option maxRecDepth 100000 in
theorem q4168 : (Jvm.Cond.code ({ cls := "PascalHouseModel$Type", name := "isNumber", desc := "()Z" } : Jvm.MethodName) prog_29_method_4_code (1 : Nat) (Option.some Jvm.ClassFile.FieldType.boolean)) ∈ lw_all := lw_g (lw_at lw_m16 192 rfl) rfl
set_option maxRecDepth 100000 in
theorem q4169 : (Jvm.Cond.methodLink "PascalHouseModel$Type" (23 : Nat) ({ cls := "PascalHouseModel$Type", name := "own", desc := "()LPascalHouseModel$Type;" } : Jvm.MethodName)) ∈ lw_all := lw_g (lw_at lw_m16 193 rfl) rfl
set_option maxRecDepth 100000 in
theorem q4170 : (Jvm.Cond.instanceMethod ({ cls := "PascalHouseModel$Type", name := "own", desc := "()LPascalHouseModel$Type;" } : Jvm.MethodName)) ∈ lw_all := lw_g (lw_at lw_m16 194 rfl) rfl
set_option maxRecDepth 100000 in
theorem q4171 : (Jvm.Cond.selects "PascalHouseModel$Type" ({ cls := "PascalHouseModel$Type", name := "own", desc := "()LPascalHouseModel$Type;" } : Jvm.MethodName) ({ cls := "PascalHouseModel$Type", name := "own", desc := "()LPascalHouseModel$Type;" } : Jvm.MethodName)) ∈ lw_all := lw_g (lw_at lw_m16 195 rfl) rfl
set_option maxRecDepth 100000 in
theorem q4172 : (Jvm.Cond.code ({ cls := "PascalHouseModel$Type", name := "own", desc := "()LPascalHouseModel$Type;" } : Jvm.MethodName) prog_29_method_2_code (1 : Nat) (Option.some (Jvm.ClassFile.FieldType.object "PascalHouseModel$Type"))) ∈ lw_all := lw_g (lw_at lw_m16 196 rfl) rfl
set_option maxRecDepth 100000 in
theorem q4173 : (Jvm.Cond.methodLink "PascalHouseModel" (776 : Nat) ({ cls := "PascalHouseModel", name := "typeOf", desc := "(I)LPascalHouseModel$Type;" } : Jvm.MethodName)) ∈ lw_all := lw_g (lw_at lw_m16 197 rfl) rfl
set_option maxRecDepth 100000 in
theorem q4175 : (Jvm.Cond.instanceMethod ({ cls := "PascalHouseModel", name := "typeOf", desc := "(I)LPascalHouseModel$Type;" } : Jvm.MethodName)) ∈ lw_all := lw_g (lw_at lw_m16 199 rfl) rfl
set_option maxRecDepth 100000 in
theorem q4176 : (Jvm.Cond.code ({ cls := "PascalHouseModel", name := "typeOf", desc := "(I)LPascalHouseModel$Type;" } : Jvm.MethodName) prog_24_method_84_code (5 : Nat) (Option.some (Jvm.ClassFile.FieldType.object "PascalHouseModel$Type"))) ∈ lw_all := lw_g (lw_at lw_m16 200 rfl) rfl
set_option maxRecDepth 100000 in
theorem q4177 : (Jvm.Cond.methodLink "PascalHouseModel" (780 : Nat) ({ cls := "PascalHouseModel", name := "point", desc := "(LPascalHouseModel$Type;I)V" } : Jvm.MethodName)) ∈ lw_all := lw_g (lw_at lw_m16 201 rfl) rfl
set_option maxRecDepth 100000 in
theorem q4179 : (Jvm.Cond.instanceMethod ({ cls := "PascalHouseModel", name := "point", desc := "(LPascalHouseModel$Type;I)V" } : Jvm.MethodName)) ∈ lw_all := lw_g (lw_at lw_m16 203 rfl) rfl
set_option maxRecDepth 100000 in
theorem q4180 : (Jvm.Cond.code ({ cls := "PascalHouseModel", name := "point", desc := "(LPascalHouseModel$Type;I)V" } : Jvm.MethodName) prog_24_method_83_code (4 : Nat) (Option.none : Option Jvm.ClassFile.FieldType)) ∈ lw_all := lw_g (lw_at lw_m16 204 rfl) rfl
set_option maxRecDepth 100000 in
theorem q4181 : (Jvm.Cond.methodLink "PascalHouseModel" (846 : Nat) ({ cls := "PascalHouseModel", name := "rangeOf", desc := "(I)LPascalHouseModel$Type;" } : Jvm.MethodName)) ∈ lw_all := lw_g (lw_at lw_m16 205 rfl) rfl
set_option maxRecDepth 100000 in
theorem q4183 : (Jvm.Cond.instanceMethod ({ cls := "PascalHouseModel", name := "rangeOf", desc := "(I)LPascalHouseModel$Type;" } : Jvm.MethodName)) ∈ lw_all := lw_g (lw_at lw_m16 207 rfl) rfl
set_option maxRecDepth 100000 in
theorem q4184 : (Jvm.Cond.code ({ cls := "PascalHouseModel", name := "rangeOf", desc := "(I)LPascalHouseModel$Type;" } : Jvm.MethodName) prog_24_method_85_code (6 : Nat) (Option.some (Jvm.ClassFile.FieldType.object "PascalHouseModel$Type"))) ∈ lw_all := lw_g (lw_at lw_m16 208 rfl) rfl
set_option maxRecDepth 100000 in
theorem q4185 : (Jvm.Cond.methodLink "PascalHouseModel" (861 : Nat) ({ cls := "PascalHouseModel$Type", name := "isOrdinal", desc := "()Z" } : Jvm.MethodName)) ∈ lw_all := lw_g (lw_at lw_m16 209 rfl) rfl
set_option maxRecDepth 100000 in
theorem q4186 : (Jvm.Cond.instanceMethod ({ cls := "PascalHouseModel$Type", name := "isOrdinal", desc := "()Z" } : Jvm.MethodName)) ∈ lw_all := lw_g (lw_at lw_m16 210 rfl) rfl
set_option maxRecDepth 100000 in
theorem q4187 : (Jvm.Cond.selects "PascalHouseModel$Type" ({ cls := "PascalHouseModel$Type", name := "isOrdinal", desc := "()Z" } : Jvm.MethodName) ({ cls := "PascalHouseModel$Type", name := "isOrdinal", desc := "()Z" } : Jvm.MethodName)) ∈ lw_all := lw_g (lw_at lw_m16 211 rfl) rfl
set_option maxRecDepth 100000 in
theorem q4188 : (Jvm.Cond.code ({ cls := "PascalHouseModel$Type", name := "isOrdinal", desc := "()Z" } : Jvm.MethodName) prog_29_method_3_code (1 : Nat) (Option.some Jvm.ClassFile.FieldType.boolean)) ∈ lw_all := lw_g (lw_at lw_m16 212 rfl) rfl
set_option maxRecDepth 100000 in
theorem q4189 : (Jvm.Cond.methodLink "PascalHouseModel" (867 : Nat) ({ cls := "PascalHouseModel$Type", name := "own", desc := "()LPascalHouseModel$Type;" } : Jvm.MethodName)) ∈ lw_all := lw_g (lw_at lw_m16 213 rfl) rfl
set_option maxRecDepth 100000 in
theorem q4190 : (Jvm.Cond.methodLink "PascalHouseModel" (849 : Nat) ({ cls := "PascalHouseModel", name := "arrayOf", desc := "(I)LPascalHouseModel$Type;" } : Jvm.MethodName)) ∈ lw_all := lw_g (lw_at lw_m16 214 rfl) rfl
set_option maxRecDepth 100000 in
theorem q4192 : (Jvm.Cond.instanceMethod ({ cls := "PascalHouseModel", name := "arrayOf", desc := "(I)LPascalHouseModel$Type;" } : Jvm.MethodName)) ∈ lw_all := lw_g (lw_at lw_m16 216 rfl) rfl
set_option maxRecDepth 100000 in
theorem q4193 : (Jvm.Cond.code ({ cls := "PascalHouseModel", name := "arrayOf", desc := "(I)LPascalHouseModel$Type;" } : Jvm.MethodName) prog_24_method_86_code (6 : Nat) (Option.some (Jvm.ClassFile.FieldType.object "PascalHouseModel$Type"))) ∈ lw_all := lw_g (lw_at lw_m16 217 rfl) rfl
set_option maxRecDepth 100000 in
theorem q4194 : (Jvm.Cond.methodLink "PascalHouseModel" (874 : Nat) ({ cls := "PascalHouseModel$Type", name := "values", desc := "()J" } : Jvm.MethodName)) ∈ lw_all := lw_g (lw_at lw_m16 218 rfl) rfl
set_option maxRecDepth 100000 in
theorem q4195 : (Jvm.Cond.instanceMethod ({ cls := "PascalHouseModel$Type", name := "values", desc := "()J" } : Jvm.MethodName)) ∈ lw_all := lw_g (lw_at lw_m16 219 rfl) rfl
set_option maxRecDepth 100000 in
theorem q4196 : (Jvm.Cond.selects "PascalHouseModel$Type" ({ cls := "PascalHouseModel$Type", name := "values", desc := "()J" } : Jvm.MethodName) ({ cls := "PascalHouseModel$Type", name := "values", desc := "()J" } : Jvm.MethodName)) ∈ lw_all := lw_g (lw_at lw_m16 220 rfl) rfl
set_option maxRecDepth 100000 in
theorem q4197 : (Jvm.Cond.code ({ cls := "PascalHouseModel$Type", name := "values", desc := "()J" } : Jvm.MethodName) prog_29_method_8_code (1 : Nat) (Option.some Jvm.ClassFile.FieldType.long)) ∈ lw_all := lw_g (lw_at lw_m16 221 rfl) rfl
set_option maxRecDepth 100000 in
theorem q4198 : (Jvm.Cond.constantLong "PascalHouseModel" (859 : Nat) (5000 : Int64)) ∈ lw_all := lw_g (lw_at lw_m16 222 rfl) rfl
set_option maxRecDepth 100000 in
theorem q4199 : (Jvm.Cond.methodLink "PascalHouseModel" (855 : Nat) ({ cls := "PascalHouseModel", name := "fieldsOf", desc := "(ILPascalHouseModel$Type;LPascalHouseModel$Variants;I)V" } : Jvm.MethodName)) ∈ lw_all := lw_g (lw_at lw_m16 223 rfl) rfl
set_option maxRecDepth 100000 in
theorem q4201 : (Jvm.Cond.instanceMethod ({ cls := "PascalHouseModel", name := "fieldsOf", desc := "(ILPascalHouseModel$Type;LPascalHouseModel$Variants;I)V" } : Jvm.MethodName)) ∈ lw_all := lw_g (lw_at lw_m16 225 rfl) rfl
set_option maxRecDepth 100000 in
theorem q4202 : (Jvm.Cond.code ({ cls := "PascalHouseModel", name := "fieldsOf", desc := "(ILPascalHouseModel$Type;LPascalHouseModel$Variants;I)V" } : Jvm.MethodName) prog_24_method_87_code (8 : Nat) (Option.none : Option Jvm.ClassFile.FieldType)) ∈ lw_all := lw_g (lw_at lw_m16 226 rfl) rfl
set_option maxRecDepth 100000 in
theorem q4203 : (Jvm.Cond.methodLink "PascalHouseModel" (878 : Nat) ({ cls := "PascalHouseModel", name := "variantsOf", desc := "(ILPascalHouseModel$Type;LPascalHouseModel$Variants;I)V" } : Jvm.MethodName)) ∈ lw_all := lw_g (lw_at lw_m16 227 rfl) rfl
set_option maxRecDepth 100000 in
theorem q4205 : (Jvm.Cond.instanceMethod ({ cls := "PascalHouseModel", name := "variantsOf", desc := "(ILPascalHouseModel$Type;LPascalHouseModel$Variants;I)V" } : Jvm.MethodName)) ∈ lw_all := lw_g (lw_at lw_m16 229 rfl) rfl
set_option maxRecDepth 100000 in
theorem q4206 : (Jvm.Cond.code ({ cls := "PascalHouseModel", name := "variantsOf", desc := "(ILPascalHouseModel$Type;LPascalHouseModel$Variants;I)V" } : Jvm.MethodName) prog_24_method_89_code (12 : Nat) (Option.none : Option Jvm.ClassFile.FieldType)) ∈ lw_all := lw_g (lw_at lw_m16 230 rfl) rfl
set_option maxRecDepth 100000 in
theorem q4207 : (Jvm.Cond.classLink "PascalHouseModel" (900 : Nat) "PascalHouseModel$Variants") ∈ lw_all := lw_g (lw_at lw_m16 231 rfl) rfl
set_option maxRecDepth 100000 in
theorem q4208 : (Jvm.Cond.instantiable "PascalHouseModel$Variants" (9 : Nat)) ∈ lw_all := lw_g (lw_at lw_m16 232 rfl) rfl
set_option maxRecDepth 100000 in
theorem q4209 : (Jvm.Cond.methodLink "PascalHouseModel" (902 : Nat) ({ cls := "PascalHouseModel$Variants", name := "<init>", desc := "(LPascalHouseModel$Variants;II)V" } : Jvm.MethodName)) ∈ lw_all := lw_g (lw_at lw_m16 233 rfl) rfl
set_option maxRecDepth 100000 in
theorem q4210 : (Jvm.Cond.instanceMethod ({ cls := "PascalHouseModel$Variants", name := "<init>", desc := "(LPascalHouseModel$Variants;II)V" } : Jvm.MethodName)) ∈ lw_all := lw_g (lw_at lw_m16 234 rfl) rfl
set_option maxRecDepth 100000 in
theorem q4211 : (Jvm.Cond.code ({ cls := "PascalHouseModel$Variants", name := "<init>", desc := "(LPascalHouseModel$Variants;II)V" } : Jvm.MethodName) prog_30_method_1_code (4 : Nat) (Option.none : Option Jvm.ClassFile.FieldType)) ∈ lw_all := lw_g (lw_at lw_m16 235 rfl) rfl
set_option maxRecDepth 100000 in
theorem q4212 : (Jvm.Cond.methodLink "PascalHouseModel$Variants" (3 : Nat) ({ cls := "java/lang/Object", name := "<init>", desc := "()V" } : Jvm.MethodName)) ∈ lw_all := lw_g (lw_at lw_m16 236 rfl) rfl
set_option maxRecDepth 100000 in
theorem q4213 : (Jvm.Cond.fieldLink "PascalHouseModel$Variants" (9 : Nat) "PascalHouseModel$Variants" "outer" "LPascalHouseModel$Variants;") ∈ lw_all := lw_g (lw_at lw_m16 237 rfl) rfl
set_option maxRecDepth 100000 in
theorem q4214 : (Jvm.Cond.fieldLink "PascalHouseModel" (1213 : Nat) "PascalHouseModel$Variants" "outer" "LPascalHouseModel$Variants;") ∈ lw_all := lw_g (lw_at lw_m16 238 rfl) rfl
set_option maxRecDepth 100000 in
theorem q4215 : (Jvm.Cond.fieldLink "PascalHouseModel$Variants" (15 : Nat) "PascalHouseModel$Variants" "outerChoice" "I") ∈ lw_all := lw_g (lw_at lw_m16 239 rfl) rfl
set_option maxRecDepth 100000 in
theorem q4216 : (Jvm.Cond.fieldLink "PascalHouseModel" (1216 : Nat) "PascalHouseModel$Variants" "outerChoice" "I") ∈ lw_all := lw_g (lw_at lw_m17 0 rfl) rfl
set_option maxRecDepth 100000 in
theorem q4217 : (Jvm.Cond.fieldLink "PascalHouseModel" (908 : Nat) "PascalHouseModel$Variants" "hasTag" "Z") ∈ lw_all := lw_g (lw_at lw_m17 1 rfl) rfl
set_option maxRecDepth 100000 in
theorem q4218 : (Jvm.Cond.fieldLink "PascalHouseModel" (905 : Nat) "PascalHouseModel$Variants" "tag" "I") ∈ lw_all := lw_g (lw_at lw_m17 2 rfl) rfl
set_option maxRecDepth 100000 in
theorem q4219 : (Jvm.Cond.fieldLink "PascalHouseModel" (914 : Nat) "PascalHouseModel$Variants" "from" "I") ∈ lw_all := lw_g (lw_at lw_m17 3 rfl) rfl
set_option maxRecDepth 100000 in
theorem q4220 : (Jvm.Cond.fieldLink "PascalHouseModel" (921 : Nat) "PascalHouseModel$Variants" "to" "I") ∈ lw_all := lw_g (lw_at lw_m17 4 rfl) rfl
set_option maxRecDepth 100000 in
theorem q4221 : (Jvm.Cond.fieldLink "PascalHouseModel$Variants" (19 : Nat) "PascalHouseModel$Variants" "constants" "[I") ∈ lw_all := lw_g (lw_at lw_m17 5 rfl) rfl
set_option maxRecDepth 100000 in
theorem q4222 : (Jvm.Cond.fieldLink "PascalHouseModel$Variants" (23 : Nat) "PascalHouseModel$Variants" "choices" "[I") ∈ lw_all := lw_g (lw_at lw_m17 6 rfl) rfl
set_option maxRecDepth 100000 in
theorem q4223 : (Jvm.Cond.fieldLink "PascalHouseModel$Variants" (26 : Nat) "PascalHouseModel$Variants" "many" "I") ∈ lw_all := lw_g (lw_at lw_m17 7 rfl) rfl
set_option maxRecDepth 100000 in
theorem q4243 : (Jvm.Cond.constantLong "PascalHouseModel" (885 : Nat) (1000000000 : Int64)) ∈ lw_all := lw_g (lw_at lw_m17 27 rfl) rfl
set_option maxRecDepth 100000 in
theorem q4244 : (Jvm.Cond.methodLink "PascalHouseModel" (887 : Nat) ({ cls := "java/lang/Math", name := "min", desc := "(JJ)J" } : Jvm.MethodName)) ∈ lw_all := lw_g (lw_at lw_m17 28 rfl) rfl
set_option maxRecDepth 100000 in
theorem q4245 : (Jvm.Cond.static ({ cls := "java/lang/Math", name := "min", desc := "(JJ)J" } : Jvm.MethodName)) ∈ lw_all := lw_g (lw_at lw_m17 29 rfl) rfl
set_option maxRecDepth 100000 in
theorem q4246 : (Jvm.Cond.code ({ cls := "java/lang/Math", name := "min", desc := "(JJ)J" } : Jvm.MethodName) prog_46_method_70_code (4 : Nat) (Option.some Jvm.ClassFile.FieldType.long)) ∈ lw_all := lw_g (lw_at lw_m17 30 rfl) rfl
set_option maxRecDepth 100000 in
theorem q4247 : (Jvm.Cond.methodLink "PascalHouseModel" (881 : Nat) ({ cls := "PascalHouseModel", name := "field", desc := "(ILPascalHouseModel$Type;LPascalHouseModel$Type;LPascalHouseModel$Variants;I)LPascalHouseModel$Symbol;" } : Jvm.MethodName)) ∈ lw_all := lw_g (lw_at lw_m17 31 rfl) rfl
set_option maxRecDepth 100000 in
theorem q4249 : (Jvm.Cond.instanceMethod ({ cls := "PascalHouseModel", name := "field", desc := "(ILPascalHouseModel$Type;LPascalHouseModel$Type;LPascalHouseModel$Variants;I)LPascalHouseModel$Symbol;" } : Jvm.MethodName)) ∈ lw_all := lw_g (lw_at lw_m17 33 rfl) rfl
set_option maxRecDepth 100000 in
theorem q4250 : (Jvm.Cond.code ({ cls := "PascalHouseModel", name := "field", desc := "(ILPascalHouseModel$Type;LPascalHouseModel$Type;LPascalHouseModel$Variants;I)LPascalHouseModel$Symbol;" } : Jvm.MethodName) prog_24_method_88_code (7 : Nat) (Option.some (Jvm.ClassFile.FieldType.object "PascalHouseModel$Symbol"))) ∈ lw_all := lw_g (lw_at lw_m17 34 rfl) rfl
set_option maxRecDepth 100000 in
theorem q4251 : (Jvm.Cond.methodLink "PascalHouseModel" (917 : Nat) ({ cls := "PascalHouseModel$Variants", name := "choiceOf", desc := "(I)I" } : Jvm.MethodName)) ∈ lw_all := lw_g (lw_at lw_m17 35 rfl) rfl
set_option maxRecDepth 100000 in
theorem q4252 : (Jvm.Cond.instanceMethod ({ cls := "PascalHouseModel$Variants", name := "choiceOf", desc := "(I)I" } : Jvm.MethodName)) ∈ lw_all := lw_g (lw_at lw_m17 36 rfl) rfl
set_option maxRecDepth 100000 in
theorem q4253 : (Jvm.Cond.selects "PascalHouseModel$Variants" ({ cls := "PascalHouseModel$Variants", name := "choiceOf", desc := "(I)I" } : Jvm.MethodName) ({ cls := "PascalHouseModel$Variants", name := "choiceOf", desc := "(I)I" } : Jvm.MethodName)) ∈ lw_all := lw_g (lw_at lw_m17 37 rfl) rfl
set_option maxRecDepth 100000 in
theorem q4254 : (Jvm.Cond.code ({ cls := "PascalHouseModel$Variants", name := "choiceOf", desc := "(I)I" } : Jvm.MethodName) prog_30_method_3_code (3 : Nat) (Option.some Jvm.ClassFile.FieldType.int)) ∈ lw_all := lw_g (lw_at lw_m17 38 rfl) rfl
set_option maxRecDepth 100000 in
theorem q4255 : (Jvm.Cond.methodLink "PascalHouseModel$Variants" (29 : Nat) ({ cls := "PascalHouseModel$Variants", name := "below", desc := "(I)I" } : Jvm.MethodName)) ∈ lw_all := lw_g (lw_at lw_m17 39 rfl) rfl
set_option maxRecDepth 100000 in
theorem q4257 : (Jvm.Cond.instanceMethod ({ cls := "PascalHouseModel$Variants", name := "below", desc := "(I)I" } : Jvm.MethodName)) ∈ lw_all := lw_g (lw_at lw_m17 41 rfl) rfl
set_option maxRecDepth 100000 in
theorem q4258 : (Jvm.Cond.code ({ cls := "PascalHouseModel$Variants", name := "below", desc := "(I)I" } : Jvm.MethodName) prog_30_method_2_code (5 : Nat) (Option.some Jvm.ClassFile.FieldType.int)) ∈ lw_all := lw_g (lw_at lw_m17 42 rfl) rfl
set_option maxRecDepth 100000 in
theorem q4259 : (Jvm.Cond.methodLink "PascalHouseModel" (920 : Nat) ({ cls := "PascalHouseModel$Variants", name := "add", desc := "(II)V" } : Jvm.MethodName)) ∈ lw_all := lw_g (lw_at lw_m17 43 rfl) rfl
set_option maxRecDepth 100000 in
theorem q4260 : (Jvm.Cond.instanceMethod ({ cls := "PascalHouseModel$Variants", name := "add", desc := "(II)V" } : Jvm.MethodName)) ∈ lw_all := lw_g (lw_at lw_m17 44 rfl) rfl
set_option maxRecDepth 100000 in
theorem q4261 : (Jvm.Cond.selects "PascalHouseModel$Variants" ({ cls := "PascalHouseModel$Variants", name := "add", desc := "(II)V" } : Jvm.MethodName) ({ cls := "PascalHouseModel$Variants", name := "add", desc := "(II)V" } : Jvm.MethodName)) ∈ lw_all := lw_g (lw_at lw_m17 45 rfl) rfl
set_option maxRecDepth 100000 in
theorem q4262 : (Jvm.Cond.code ({ cls := "PascalHouseModel$Variants", name := "add", desc := "(II)V" } : Jvm.MethodName) prog_30_method_4_code (5 : Nat) (Option.none : Option Jvm.ClassFile.FieldType)) ∈ lw_all := lw_g (lw_at lw_m17 46 rfl) rfl
set_option maxRecDepth 100000 in
theorem q4263 : (Jvm.Cond.methodLink "PascalHouseModel" (790 : Nat) ({ cls := "PascalHouseModel", name := "checkHead", desc := "(I)V" } : Jvm.MethodName)) ∈ lw_all := lw_g (lw_at lw_m17 47 rfl) rfl
set_option maxRecDepth 100000 in
theorem q4265 : (Jvm.Cond.instanceMethod ({ cls := "PascalHouseModel", name := "checkHead", desc := "(I)V" } : Jvm.MethodName)) ∈ lw_all := lw_g (lw_at lw_m17 49 rfl) rfl
set_option maxRecDepth 100000 in
theorem q4266 : (Jvm.Cond.code ({ cls := "PascalHouseModel", name := "checkHead", desc := "(I)V" } : Jvm.MethodName) prog_24_method_79_code (5 : Nat) (Option.none : Option Jvm.ClassFile.FieldType)) ∈ lw_all := lw_g (lw_at lw_m17 50 rfl) rfl
set_option maxRecDepth 100000 in
theorem q4267 : (Jvm.Cond.methodLink "PascalHouseModel" (820 : Nat) ({ cls := "java/util/ArrayList", name := "set", desc := "(ILjava/lang/Object;)Ljava/lang/Object;" } : Jvm.MethodName)) ∈ lw_all := lw_g (lw_at lw_m17 51 rfl) rfl
set_option maxRecDepth 100000 in
theorem q4268 : (Jvm.Cond.instanceMethod ({ cls := "java/util/ArrayList", name := "set", desc := "(ILjava/lang/Object;)Ljava/lang/Object;" } : Jvm.MethodName)) ∈ lw_all := lw_g (lw_at lw_m17 52 rfl) rfl
set_option maxRecDepth 100000 in
theorem q4269 : (Jvm.Cond.selects "java/util/ArrayList" ({ cls := "java/util/ArrayList", name := "set", desc := "(ILjava/lang/Object;)Ljava/lang/Object;" } : Jvm.MethodName) ({ cls := "java/util/ArrayList", name := "set", desc := "(ILjava/lang/Object;)Ljava/lang/Object;" } : Jvm.MethodName)) ∈ lw_all := lw_g (lw_at lw_m17 53 rfl) rfl
set_option maxRecDepth 100000 in
theorem q4270 : (Jvm.Cond.code ({ cls := "java/util/ArrayList", name := "set", desc := "(ILjava/lang/Object;)Ljava/lang/Object;" } : Jvm.MethodName) prog_60_method_23_code (4 : Nat) (Option.some (Jvm.ClassFile.FieldType.object "java/lang/Object"))) ∈ lw_all := lw_g (lw_at lw_m17 54 rfl) rfl
set_option maxRecDepth 100000 in
theorem q4271 : (Jvm.Cond.methodLink "PascalHouseModel" (793 : Nat) ({ cls := "PascalHouseModel", name := "checkRoutine", desc := "(I)V" } : Jvm.MethodName)) ∈ lw_all := lw_g (lw_at lw_m17 55 rfl) rfl
set_option maxRecDepth 100000 in
theorem q4273 : (Jvm.Cond.instanceMethod ({ cls := "PascalHouseModel", name := "checkRoutine", desc := "(I)V" } : Jvm.MethodName)) ∈ lw_all := lw_g (lw_at lw_m17 57 rfl) rfl
set_option maxRecDepth 100000 in
theorem q4274 : (Jvm.Cond.code ({ cls := "PascalHouseModel", name := "checkRoutine", desc := "(I)V" } : Jvm.MethodName) prog_24_method_90_code (9 : Nat) (Option.none : Option Jvm.ClassFile.FieldType)) ∈ lw_all := lw_g (lw_at lw_m17 58 rfl) rfl
set_option maxRecDepth 100000 in
theorem q4275 : (Jvm.Cond.methodLink "PascalHouseModel" (929 : Nat) ({ cls := "PascalHouseModel", name := "parameters", desc := "(ILPascalHouseModel$Symbol;I)V" } : Jvm.MethodName)) ∈ lw_all := lw_g (lw_at lw_m17 59 rfl) rfl
set_option maxRecDepth 100000 in
theorem q4277 : (Jvm.Cond.instanceMethod ({ cls := "PascalHouseModel", name := "parameters", desc := "(ILPascalHouseModel$Symbol;I)V" } : Jvm.MethodName)) ∈ lw_all := lw_g (lw_at lw_m17 61 rfl) rfl
set_option maxRecDepth 100000 in
theorem q4278 : (Jvm.Cond.code ({ cls := "PascalHouseModel", name := "parameters", desc := "(ILPascalHouseModel$Symbol;I)V" } : Jvm.MethodName) prog_24_method_93_code (9 : Nat) (Option.none : Option Jvm.ClassFile.FieldType)) ∈ lw_all := lw_g (lw_at lw_m17 62 rfl) rfl
set_option maxRecDepth 100000 in
theorem q4279 : (Jvm.Cond.methodLink "PascalHouseModel" (933 : Nat) ({ cls := "PascalHouseModel", name := "resultOf", desc := "(I)LPascalHouseModel$Type;" } : Jvm.MethodName)) ∈ lw_all := lw_g (lw_at lw_m17 63 rfl) rfl
set_option maxRecDepth 100000 in
theorem q4281 : (Jvm.Cond.instanceMethod ({ cls := "PascalHouseModel", name := "resultOf", desc := "(I)LPascalHouseModel$Type;" } : Jvm.MethodName)) ∈ lw_all := lw_g (lw_at lw_m17 65 rfl) rfl
set_option maxRecDepth 100000 in
theorem q4282 : (Jvm.Cond.code ({ cls := "PascalHouseModel", name := "resultOf", desc := "(I)LPascalHouseModel$Type;" } : Jvm.MethodName) prog_24_method_91_code (3 : Nat) (Option.some (Jvm.ClassFile.FieldType.object "PascalHouseModel$Type"))) ∈ lw_all := lw_g (lw_at lw_m17 66 rfl) rfl
set_option maxRecDepth 100000 in
theorem q4283 : (Jvm.Cond.methodLink "PascalHouseModel" (746 : Nat) ({ cls := "PascalHouseModel", name := "pop", desc := "()Ljava/util/ArrayList;" } : Jvm.MethodName)) ∈ lw_all := lw_g (lw_at lw_m17 67 rfl) rfl
set_option maxRecDepth 100000 in
theorem q4285 : (Jvm.Cond.instanceMethod ({ cls := "PascalHouseModel", name := "pop", desc := "()Ljava/util/ArrayList;" } : Jvm.MethodName)) ∈ lw_all := lw_g (lw_at lw_m17 69 rfl) rfl
set_option maxRecDepth 100000 in
theorem q4286 : (Jvm.Cond.code ({ cls := "PascalHouseModel", name := "pop", desc := "()Ljava/util/ArrayList;" } : Jvm.MethodName) prog_24_method_66_code (1 : Nat) (Option.some (Jvm.ClassFile.FieldType.object "java/util/ArrayList"))) ∈ lw_all := lw_g (lw_at lw_m17 70 rfl) rfl
set_option maxRecDepth 100000 in
theorem q4287 : (Jvm.Cond.methodLink "PascalHouseModel" (582 : Nat) ({ cls := "java/util/ArrayList", name := "remove", desc := "(I)Ljava/lang/Object;" } : Jvm.MethodName)) ∈ lw_all := lw_g (lw_at lw_m17 71 rfl) rfl
set_option maxRecDepth 100000 in
theorem q4288 : (Jvm.Cond.instanceMethod ({ cls := "java/util/ArrayList", name := "remove", desc := "(I)Ljava/lang/Object;" } : Jvm.MethodName)) ∈ lw_all := lw_g (lw_at lw_m17 72 rfl) rfl
set_option maxRecDepth 100000 in
theorem q4289 : (Jvm.Cond.selects "java/util/ArrayList" ({ cls := "java/util/ArrayList", name := "remove", desc := "(I)Ljava/lang/Object;" } : Jvm.MethodName) ({ cls := "java/util/ArrayList", name := "remove", desc := "(I)Ljava/lang/Object;" } : Jvm.MethodName)) ∈ lw_all := lw_g (lw_at lw_m17 73 rfl) rfl
set_option maxRecDepth 100000 in
theorem q4290 : (Jvm.Cond.code ({ cls := "java/util/ArrayList", name := "remove", desc := "(I)Ljava/lang/Object;" } : Jvm.MethodName) prog_60_method_29_code (4 : Nat) (Option.some (Jvm.ClassFile.FieldType.object "java/lang/Object"))) ∈ lw_all := lw_g (lw_at lw_m17 74 rfl) rfl
set_option maxRecDepth 100000 in
theorem q4291 : (Jvm.Cond.methodLink "java/util/ArrayList" (144 : Nat) ({ cls := "java/util/ArrayList", name := "fastRemove", desc := "([Ljava/lang/Object;I)V" } : Jvm.MethodName)) ∈ lw_all := lw_g (lw_at lw_m17 75 rfl) rfl
set_option maxRecDepth 100000 in
theorem q4293 : (Jvm.Cond.instanceMethod ({ cls := "java/util/ArrayList", name := "fastRemove", desc := "([Ljava/lang/Object;I)V" } : Jvm.MethodName)) ∈ lw_all := lw_g (lw_at lw_m17 77 rfl) rfl
set_option maxRecDepth 100000 in
theorem q4294 : (Jvm.Cond.code ({ cls := "java/util/ArrayList", name := "fastRemove", desc := "([Ljava/lang/Object;I)V" } : Jvm.MethodName) prog_60_method_39_code (4 : Nat) (Option.none : Option Jvm.ClassFile.FieldType)) ∈ lw_all := lw_g (lw_at lw_m17 78 rfl) rfl
set_option maxRecDepth 100000 in
theorem q4295 : (Jvm.Cond.methodLink "java/util/ArrayList" (112 : Nat) ({ cls := "java/lang/System", name := "arraycopy", desc := "(Ljava/lang/Object;ILjava/lang/Object;II)V" } : Jvm.MethodName)) ∈ lw_all := lw_g (lw_at lw_m17 79 rfl) rfl
set_option maxRecDepth 100000 in
theorem q4296 : (Jvm.Cond.methodLink "PascalHouseModel" (954 : Nat) ({ cls := "PascalHouseModel", name := "parameter", desc := "(IILPascalHouseModel$Symbol;I)LPascalHouseModel$Symbol;" } : Jvm.MethodName)) ∈ lw_all := lw_g (lw_at lw_m17 80 rfl) rfl
set_option maxRecDepth 100000 in
theorem q4298 : (Jvm.Cond.instanceMethod ({ cls := "PascalHouseModel", name := "parameter", desc := "(IILPascalHouseModel$Symbol;I)LPascalHouseModel$Symbol;" } : Jvm.MethodName)) ∈ lw_all := lw_g (lw_at lw_m17 82 rfl) rfl
set_option maxRecDepth 100000 in
theorem q4299 : (Jvm.Cond.code ({ cls := "PascalHouseModel", name := "parameter", desc := "(IILPascalHouseModel$Symbol;I)LPascalHouseModel$Symbol;" } : Jvm.MethodName) prog_24_method_92_code (6 : Nat) (Option.some (Jvm.ClassFile.FieldType.object "PascalHouseModel$Symbol"))) ∈ lw_all := lw_g (lw_at lw_m17 83 rfl) rfl
set_option maxRecDepth 100000 in
theorem q4300 : (Jvm.Cond.methodLink "PascalHouseModel" (808 : Nat) ({ cls := "PascalHouseModel", name := "checkStatement", desc := "(I)V" } : Jvm.MethodName)) ∈ lw_all := lw_g (lw_at lw_m17 84 rfl) rfl
set_option maxRecDepth 100000 in
theorem q4302 : (Jvm.Cond.instanceMethod ({ cls := "PascalHouseModel", name := "checkStatement", desc := "(I)V" } : Jvm.MethodName)) ∈ lw_all := lw_g (lw_at lw_m17 86 rfl) rfl
set_option maxRecDepth 100000 in
theorem q4303 : (Jvm.Cond.code ({ cls := "PascalHouseModel", name := "checkStatement", desc := "(I)V" } : Jvm.MethodName) prog_24_method_95_code (3 : Nat) (Option.none : Option Jvm.ClassFile.FieldType)) ∈ lw_all := lw_g (lw_at lw_m17 87 rfl) rfl
set_option maxRecDepth 100000 in
theorem q4304 : (Jvm.Cond.methodLink "PascalHouseModel" (968 : Nat) ({ cls := "PascalHouseModel", name := "condition", desc := "(II)V" } : Jvm.MethodName)) ∈ lw_all := lw_g (lw_at lw_m17 88 rfl) rfl
set_option maxRecDepth 100000 in
theorem q4306 : (Jvm.Cond.instanceMethod ({ cls := "PascalHouseModel", name := "condition", desc := "(II)V" } : Jvm.MethodName)) ∈ lw_all := lw_g (lw_at lw_m17 90 rfl) rfl
set_option maxRecDepth 100000 in
theorem q4307 : (Jvm.Cond.code ({ cls := "PascalHouseModel", name := "condition", desc := "(II)V" } : Jvm.MethodName) prog_24_method_96_code (3 : Nat) (Option.none : Option Jvm.ClassFile.FieldType)) ∈ lw_all := lw_g (lw_at lw_m17 91 rfl) rfl
set_option maxRecDepth 100000 in
theorem q4308 : (Jvm.Cond.methodLink "PascalHouseModel" (989 : Nat) ({ cls := "PascalHouseModel", name := "checkE", desc := "(I)LPascalHouseModel$Type;" } : Jvm.MethodName)) ∈ lw_all := lw_g (lw_at lw_m17 92 rfl) rfl
set_option maxRecDepth 100000 in
theorem q4310 : (Jvm.Cond.instanceMethod ({ cls := "PascalHouseModel", name := "checkE", desc := "(I)LPascalHouseModel$Type;" } : Jvm.MethodName)) ∈ lw_all := lw_g (lw_at lw_m17 94 rfl) rfl
set_option maxRecDepth 100000 in
theorem q4311 : (Jvm.Cond.code ({ cls := "PascalHouseModel", name := "checkE", desc := "(I)LPascalHouseModel$Type;" } : Jvm.MethodName) prog_24_method_121_code (4 : Nat) (Option.some (Jvm.ClassFile.FieldType.object "PascalHouseModel$Type"))) ∈ lw_all := lw_g (lw_at lw_m17 95 rfl) rfl
set_option maxRecDepth 100000 in
theorem q4312 : (Jvm.Cond.methodLink "PascalHouseModel" (1059 : Nat) ({ cls := "PascalHouseModel", name := "checkSum", desc := "(I)LPascalHouseModel$Type;" } : Jvm.MethodName)) ∈ lw_all := lw_g (lw_at lw_m17 96 rfl) rfl
set_option maxRecDepth 100000 in
theorem q4314 : (Jvm.Cond.instanceMethod ({ cls := "PascalHouseModel", name := "checkSum", desc := "(I)LPascalHouseModel$Type;" } : Jvm.MethodName)) ∈ lw_all := lw_g (lw_at lw_m17 98 rfl) rfl
set_option maxRecDepth 100000 in
theorem q4315 : (Jvm.Cond.code ({ cls := "PascalHouseModel", name := "checkSum", desc := "(I)LPascalHouseModel$Type;" } : Jvm.MethodName) prog_24_method_123_code (4 : Nat) (Option.some (Jvm.ClassFile.FieldType.object "PascalHouseModel$Type"))) ∈ lw_all := lw_g (lw_at lw_m17 99 rfl) rfl
set_option maxRecDepth 100000 in
theorem q4316 : (Jvm.Cond.methodLink "PascalHouseModel" (1066 : Nat) ({ cls := "PascalHouseModel", name := "checkTerm", desc := "(I)LPascalHouseModel$Type;" } : Jvm.MethodName)) ∈ lw_all := lw_g (lw_at lw_m17 100 rfl) rfl
set_option maxRecDepth 100000 in
theorem q4318 : (Jvm.Cond.instanceMethod ({ cls := "PascalHouseModel", name := "checkTerm", desc := "(I)LPascalHouseModel$Type;" } : Jvm.MethodName)) ∈ lw_all := lw_g (lw_at lw_m17 102 rfl) rfl
set_option maxRecDepth 100000 in
theorem q4319 : (Jvm.Cond.code ({ cls := "PascalHouseModel", name := "checkTerm", desc := "(I)LPascalHouseModel$Type;" } : Jvm.MethodName) prog_24_method_124_code (4 : Nat) (Option.some (Jvm.ClassFile.FieldType.object "PascalHouseModel$Type"))) ∈ lw_all := lw_g (lw_at lw_m17 103 rfl) rfl
set_option maxRecDepth 100000 in
theorem q4320 : (Jvm.Cond.methodLink "PascalHouseModel" (1073 : Nat) ({ cls := "PascalHouseModel", name := "checkFactor", desc := "(I)LPascalHouseModel$Type;" } : Jvm.MethodName)) ∈ lw_all := lw_g (lw_at lw_m17 104 rfl) rfl
set_option maxRecDepth 100000 in
theorem q4322 : (Jvm.Cond.instanceMethod ({ cls := "PascalHouseModel", name := "checkFactor", desc := "(I)LPascalHouseModel$Type;" } : Jvm.MethodName)) ∈ lw_all := lw_g (lw_at lw_m17 106 rfl) rfl
set_option maxRecDepth 100000 in
theorem q4323 : (Jvm.Cond.code ({ cls := "PascalHouseModel", name := "checkFactor", desc := "(I)LPascalHouseModel$Type;" } : Jvm.MethodName) prog_24_method_126_code (2 : Nat) (Option.some (Jvm.ClassFile.FieldType.object "PascalHouseModel$Type"))) ∈ lw_all := lw_g (lw_at lw_m17 107 rfl) rfl
set_option maxRecDepth 100000 in
theorem q4324 : (Jvm.Cond.methodLink "PascalHouseModel" (1076 : Nat) ({ cls := "PascalHouseModel", name := "factorType", desc := "(I)LPascalHouseModel$Type;" } : Jvm.MethodName)) ∈ lw_all := lw_g (lw_at lw_m17 108 rfl) rfl
set_option maxRecDepth 100000 in
theorem q4326 : (Jvm.Cond.instanceMethod ({ cls := "PascalHouseModel", name := "factorType", desc := "(I)LPascalHouseModel$Type;" } : Jvm.MethodName)) ∈ lw_all := lw_g (lw_at lw_m17 110 rfl) rfl
set_option maxRecDepth 100000 in
theorem q4327 : (Jvm.Cond.code ({ cls := "PascalHouseModel", name := "factorType", desc := "(I)LPascalHouseModel$Type;" } : Jvm.MethodName) prog_24_method_127_code (3 : Nat) (Option.some (Jvm.ClassFile.FieldType.object "PascalHouseModel$Type"))) ∈ lw_all := lw_g (lw_at lw_m17 111 rfl) rfl
set_option maxRecDepth 100000 in
theorem q4328 : (Jvm.Cond.methodLink "PascalHouseModel" (1079 : Nat) ({ cls := "PascalHouseModel", name := "setType", desc := "(I)LPascalHouseModel$Type;" } : Jvm.MethodName)) ∈ lw_all := lw_g (lw_at lw_m17 112 rfl) rfl
set_option maxRecDepth 100000 in
theorem q4330 : (Jvm.Cond.instanceMethod ({ cls := "PascalHouseModel", name := "setType", desc := "(I)LPascalHouseModel$Type;" } : Jvm.MethodName)) ∈ lw_all := lw_g (lw_at lw_m17 114 rfl) rfl
set_option maxRecDepth 100000 in
theorem q4331 : (Jvm.Cond.code ({ cls := "PascalHouseModel", name := "setType", desc := "(I)LPascalHouseModel$Type;" } : Jvm.MethodName) prog_24_method_128_code (6 : Nat) (Option.some (Jvm.ClassFile.FieldType.object "PascalHouseModel$Type"))) ∈ lw_all := lw_g (lw_at lw_m17 115 rfl) rfl
set_option maxRecDepth 100000 in
theorem q4332 : (Jvm.Cond.methodLink "PascalHouseModel" (1082 : Nat) ({ cls := "PascalHouseModel", name := "callType", desc := "(I)LPascalHouseModel$Type;" } : Jvm.MethodName)) ∈ lw_all := lw_g (lw_at lw_m17 116 rfl) rfl
set_option maxRecDepth 100000 in
theorem q4334 : (Jvm.Cond.instanceMethod ({ cls := "PascalHouseModel", name := "callType", desc := "(I)LPascalHouseModel$Type;" } : Jvm.MethodName)) ∈ lw_all := lw_g (lw_at lw_m17 118 rfl) rfl
set_option maxRecDepth 100000 in
theorem q4335 : (Jvm.Cond.code ({ cls := "PascalHouseModel", name := "callType", desc := "(I)LPascalHouseModel$Type;" } : Jvm.MethodName) prog_24_method_129_code (6 : Nat) (Option.some (Jvm.ClassFile.FieldType.object "PascalHouseModel$Type"))) ∈ lw_all := lw_g (lw_at lw_m17 119 rfl) rfl
set_option maxRecDepth 100000 in
theorem q4336 : (Jvm.Cond.methodLink "PascalHouseModel" (1088 : Nat) ({ cls := "PascalHouseModel", name := "functionThere", desc := "(ILPascalHouseModel$Symbol;I)LPascalHouseModel$Type;" } : Jvm.MethodName)) ∈ lw_all := lw_g (lw_at lw_m17 120 rfl) rfl
set_option maxRecDepth 100000 in
theorem q4338 : (Jvm.Cond.instanceMethod ({ cls := "PascalHouseModel", name := "functionThere", desc := "(ILPascalHouseModel$Symbol;I)LPascalHouseModel$Type;" } : Jvm.MethodName)) ∈ lw_all := lw_g (lw_at lw_m17 122 rfl) rfl
set_option maxRecDepth 100000 in
theorem q4339 : (Jvm.Cond.code ({ cls := "PascalHouseModel", name := "functionThere", desc := "(ILPascalHouseModel$Symbol;I)LPascalHouseModel$Type;" } : Jvm.MethodName) prog_24_method_116_code (8 : Nat) (Option.some (Jvm.ClassFile.FieldType.object "PascalHouseModel$Type"))) ∈ lw_all := lw_g (lw_at lw_m17 123 rfl) rfl
set_option maxRecDepth 100000 in
theorem q4340 : (Jvm.Cond.methodLink "PascalHouseModel" (1037 : Nat) ({ cls := "PascalHouseModel", name := "fileArgument", desc := "(I)LPascalHouseModel$Symbol;" } : Jvm.MethodName)) ∈ lw_all := lw_g (lw_at lw_m17 124 rfl) rfl
set_option maxRecDepth 100000 in
theorem q4342 : (Jvm.Cond.instanceMethod ({ cls := "PascalHouseModel", name := "fileArgument", desc := "(I)LPascalHouseModel$Symbol;" } : Jvm.MethodName)) ∈ lw_all := lw_g (lw_at lw_m17 126 rfl) rfl
set_option maxRecDepth 100000 in
theorem q4343 : (Jvm.Cond.code ({ cls := "PascalHouseModel", name := "fileArgument", desc := "(I)LPascalHouseModel$Symbol;" } : Jvm.MethodName) prog_24_method_111_code (3 : Nat) (Option.some (Jvm.ClassFile.FieldType.object "PascalHouseModel$Symbol"))) ∈ lw_all := lw_g (lw_at lw_m17 127 rfl) rfl
set_option maxRecDepth 100000 in
theorem q4344 : (Jvm.Cond.methodLink "PascalHouseModel" (1031 : Nat) ({ cls := "PascalHouseModel", name := "fileOf", desc := "(I)LPascalHouseModel$Symbol;" } : Jvm.MethodName)) ∈ lw_all := lw_g (lw_at lw_m17 128 rfl) rfl
set_option maxRecDepth 100000 in
theorem q4346 : (Jvm.Cond.instanceMethod ({ cls := "PascalHouseModel", name := "fileOf", desc := "(I)LPascalHouseModel$Symbol;" } : Jvm.MethodName)) ∈ lw_all := lw_g (lw_at lw_m17 130 rfl) rfl
set_option maxRecDepth 100000 in
theorem q4347 : (Jvm.Cond.code ({ cls := "PascalHouseModel", name := "fileOf", desc := "(I)LPascalHouseModel$Symbol;" } : Jvm.MethodName) prog_24_method_110_code (5 : Nat) (Option.some (Jvm.ClassFile.FieldType.object "PascalHouseModel$Symbol"))) ∈ lw_all := lw_g (lw_at lw_m17 131 rfl) rfl
set_option maxRecDepth 100000 in
theorem q4348 : (Jvm.Cond.methodLink "PascalHouseModel" (1022 : Nat) ({ cls := "PascalHouseModel", name := "loneVariable", desc := "(I)I" } : Jvm.MethodName)) ∈ lw_all := lw_g (lw_at lw_m17 132 rfl) rfl
set_option maxRecDepth 100000 in
theorem q4350 : (Jvm.Cond.instanceMethod ({ cls := "PascalHouseModel", name := "loneVariable", desc := "(I)I" } : Jvm.MethodName)) ∈ lw_all := lw_g (lw_at lw_m17 134 rfl) rfl
set_option maxRecDepth 100000 in
theorem q4351 : (Jvm.Cond.code ({ cls := "PascalHouseModel", name := "loneVariable", desc := "(I)I" } : Jvm.MethodName) prog_24_method_106_code (4 : Nat) (Option.some Jvm.ClassFile.FieldType.int)) ∈ lw_all := lw_g (lw_at lw_m17 135 rfl) rfl
set_option maxRecDepth 100000 in
theorem q4352 : (Jvm.Cond.methodLink "PascalHouseModel" (1040 : Nat) ({ cls := "PascalHouseModel$Type", name := "isText", desc := "()Z" } : Jvm.MethodName)) ∈ lw_all := lw_g (lw_at lw_m17 136 rfl) rfl
set_option maxRecDepth 100000 in
theorem q4353 : (Jvm.Cond.instanceMethod ({ cls := "PascalHouseModel$Type", name := "isText", desc := "()Z" } : Jvm.MethodName)) ∈ lw_all := lw_g (lw_at lw_m17 137 rfl) rfl
set_option maxRecDepth 100000 in
theorem q4354 : (Jvm.Cond.selects "PascalHouseModel$Type" ({ cls := "PascalHouseModel$Type", name := "isText", desc := "()Z" } : Jvm.MethodName) ({ cls := "PascalHouseModel$Type", name := "isText", desc := "()Z" } : Jvm.MethodName)) ∈ lw_all := lw_g (lw_at lw_m17 138 rfl) rfl
set_option maxRecDepth 100000 in
theorem q4355 : (Jvm.Cond.code ({ cls := "PascalHouseModel$Type", name := "isText", desc := "()Z" } : Jvm.MethodName) prog_29_method_5_code (1 : Nat) (Option.some Jvm.ClassFile.FieldType.boolean)) ∈ lw_all := lw_g (lw_at lw_m17 139 rfl) rfl
set_option maxRecDepth 100000 in
theorem q4356 : (Jvm.Cond.methodLink "PascalHouseModel" (1017 : Nat) ({ cls := "PascalHouseModel", name := "argument", desc := "(ILPascalHouseModel$Symbol;)V" } : Jvm.MethodName)) ∈ lw_all := lw_g (lw_at lw_m17 140 rfl) rfl
set_option maxRecDepth 100000 in
theorem q4358 : (Jvm.Cond.instanceMethod ({ cls := "PascalHouseModel", name := "argument", desc := "(ILPascalHouseModel$Symbol;)V" } : Jvm.MethodName)) ∈ lw_all := lw_g (lw_at lw_m17 142 rfl) rfl
set_option maxRecDepth 100000 in
theorem q4359 : (Jvm.Cond.code ({ cls := "PascalHouseModel", name := "argument", desc := "(ILPascalHouseModel$Symbol;)V" } : Jvm.MethodName) prog_24_method_109_code (5 : Nat) (Option.none : Option Jvm.ClassFile.FieldType)) ∈ lw_all := lw_g (lw_at lw_m17 143 rfl) rfl
set_option maxRecDepth 100000 in
theorem q4360 : (Jvm.Cond.methodLink "PascalHouseModel" (964 : Nat) ({ cls := "PascalHouseModel", name := "areCongruous", desc := "(LPascalHouseModel$Symbol;LPascalHouseModel$Symbol;)Z" } : Jvm.MethodName)) ∈ lw_all := lw_g (lw_at lw_m17 144 rfl) rfl
set_option maxRecDepth 100000 in
theorem q4361 : (Jvm.Cond.static ({ cls := "PascalHouseModel", name := "areCongruous", desc := "(LPascalHouseModel$Symbol;LPascalHouseModel$Symbol;)Z" } : Jvm.MethodName)) ∈ lw_all := lw_g (lw_at lw_m17 145 rfl) rfl
set_option maxRecDepth 100000 in
theorem q4362 : (Jvm.Cond.code ({ cls := "PascalHouseModel", name := "areCongruous", desc := "(LPascalHouseModel$Symbol;LPascalHouseModel$Symbol;)Z" } : Jvm.MethodName) prog_24_method_94_code (5 : Nat) (Option.some Jvm.ClassFile.FieldType.boolean)) ∈ lw_all := lw_g (lw_at lw_m17 146 rfl) rfl
set_option maxRecDepth 100000 in
theorem q4363 : (Jvm.Cond.methodLink "PascalHouseModel" (1028 : Nat) ({ cls := "PascalHouseModel", name := "target", desc := "(I)LPascalHouseModel$Type;" } : Jvm.MethodName)) ∈ lw_all := lw_g (lw_at lw_m17 147 rfl) rfl
set_option maxRecDepth 100000 in
theorem q4365 : (Jvm.Cond.instanceMethod ({ cls := "PascalHouseModel", name := "target", desc := "(I)LPascalHouseModel$Type;" } : Jvm.MethodName)) ∈ lw_all := lw_g (lw_at lw_m17 149 rfl) rfl
set_option maxRecDepth 100000 in
theorem q4366 : (Jvm.Cond.code ({ cls := "PascalHouseModel", name := "target", desc := "(I)LPascalHouseModel$Type;" } : Jvm.MethodName) prog_24_method_108_code (4 : Nat) (Option.some (Jvm.ClassFile.FieldType.object "PascalHouseModel$Type"))) ∈ lw_all := lw_g (lw_at lw_m17 150 rfl) rfl
set_option maxRecDepth 100000 in
theorem q4367 : (Jvm.Cond.methodLink "PascalHouseModel" (1003 : Nat) ({ cls := "PascalHouseModel", name := "checkVariable", desc := "(I)LPascalHouseModel$Type;" } : Jvm.MethodName)) ∈ lw_all := lw_g (lw_at lw_m17 151 rfl) rfl
set_option maxRecDepth 100000 in
theorem q4369 : (Jvm.Cond.instanceMethod ({ cls := "PascalHouseModel", name := "checkVariable", desc := "(I)LPascalHouseModel$Type;" } : Jvm.MethodName)) ∈ lw_all := lw_g (lw_at lw_m17 153 rfl) rfl
set_option maxRecDepth 100000 in
theorem q4370 : (Jvm.Cond.code ({ cls := "PascalHouseModel", name := "checkVariable", desc := "(I)LPascalHouseModel$Type;" } : Jvm.MethodName) prog_24_method_117_code (6 : Nat) (Option.some (Jvm.ClassFile.FieldType.object "PascalHouseModel$Type"))) ∈ lw_all := lw_g (lw_at lw_m17 154 rfl) rfl
set_option maxRecDepth 100000 in
theorem q4371 : (Jvm.Cond.methodLink "PascalHouseModel" (999 : Nat) ({ cls := "PascalHouseModel", name := "fits", desc := "(LPascalHouseModel$Type;LPascalHouseModel$Type;)Z" } : Jvm.MethodName)) ∈ lw_all := lw_g (lw_at lw_m17 155 rfl) rfl
set_option maxRecDepth 100000 in
theorem q4373 : (Jvm.Cond.instanceMethod ({ cls := "PascalHouseModel", name := "fits", desc := "(LPascalHouseModel$Type;LPascalHouseModel$Type;)Z" } : Jvm.MethodName)) ∈ lw_all := lw_g (lw_at lw_m17 157 rfl) rfl
set_option maxRecDepth 100000 in
theorem q4374 : (Jvm.Cond.code ({ cls := "PascalHouseModel", name := "fits", desc := "(LPascalHouseModel$Type;LPascalHouseModel$Type;)Z" } : Jvm.MethodName) prog_24_method_120_code (3 : Nat) (Option.some Jvm.ClassFile.FieldType.boolean)) ∈ lw_all := lw_g (lw_at lw_m17 158 rfl) rfl
set_option maxRecDepth 100000 in
theorem q4375 : (Jvm.Cond.methodLink "PascalHouseModel" (1056 : Nat) ({ cls := "PascalHouseModel", name := "areCompatible", desc := "(LPascalHouseModel$Type;LPascalHouseModel$Type;)Z" } : Jvm.MethodName)) ∈ lw_all := lw_g (lw_at lw_m17 159 rfl) rfl
set_option maxRecDepth 100000 in
theorem q4376 : (Jvm.Cond.static ({ cls := "PascalHouseModel", name := "areCompatible", desc := "(LPascalHouseModel$Type;LPascalHouseModel$Type;)Z" } : Jvm.MethodName)) ∈ lw_all := lw_g (lw_at lw_m17 160 rfl) rfl
set_option maxRecDepth 100000 in
theorem q4377 : (Jvm.Cond.code ({ cls := "PascalHouseModel", name := "areCompatible", desc := "(LPascalHouseModel$Type;LPascalHouseModel$Type;)Z" } : Jvm.MethodName) prog_24_method_119_code (2 : Nat) (Option.some Jvm.ClassFile.FieldType.boolean)) ∈ lw_all := lw_g (lw_at lw_m17 161 rfl) rfl
set_option maxRecDepth 100000 in
theorem q4378 : (Jvm.Cond.methodLink "PascalHouseModel" (1053 : Nat) ({ cls := "PascalHouseModel", name := "areSets", desc := "(LPascalHouseModel$Type;LPascalHouseModel$Type;)Z" } : Jvm.MethodName)) ∈ lw_all := lw_g (lw_at lw_m17 162 rfl) rfl
set_option maxRecDepth 100000 in
theorem q4379 : (Jvm.Cond.static ({ cls := "PascalHouseModel", name := "areSets", desc := "(LPascalHouseModel$Type;LPascalHouseModel$Type;)Z" } : Jvm.MethodName)) ∈ lw_all := lw_g (lw_at lw_m17 163 rfl) rfl
set_option maxRecDepth 100000 in
theorem q4380 : (Jvm.Cond.code ({ cls := "PascalHouseModel", name := "areSets", desc := "(LPascalHouseModel$Type;LPascalHouseModel$Type;)Z" } : Jvm.MethodName) prog_24_method_118_code (2 : Nat) (Option.some Jvm.ClassFile.FieldType.boolean)) ∈ lw_all := lw_g (lw_at lw_m17 164 rfl) rfl
set_option maxRecDepth 100000 in
theorem q4381 : (Jvm.Cond.methodLink "PascalHouseModel" (1050 : Nat) ({ cls := "PascalHouseModel$Type", name := "characters", desc := "()I" } : Jvm.MethodName)) ∈ lw_all := lw_g (lw_at lw_m17 165 rfl) rfl
set_option maxRecDepth 100000 in
theorem q4382 : (Jvm.Cond.instanceMethod ({ cls := "PascalHouseModel$Type", name := "characters", desc := "()I" } : Jvm.MethodName)) ∈ lw_all := lw_g (lw_at lw_m17 166 rfl) rfl
set_option maxRecDepth 100000 in
theorem q4383 : (Jvm.Cond.selects "PascalHouseModel$Type" ({ cls := "PascalHouseModel$Type", name := "characters", desc := "()I" } : Jvm.MethodName) ({ cls := "PascalHouseModel$Type", name := "characters", desc := "()I" } : Jvm.MethodName)) ∈ lw_all := lw_g (lw_at lw_m17 167 rfl) rfl
set_option maxRecDepth 100000 in
theorem q4384 : (Jvm.Cond.code ({ cls := "PascalHouseModel$Type", name := "characters", desc := "()I" } : Jvm.MethodName) prog_29_method_7_code (2 : Nat) (Option.some Jvm.ClassFile.FieldType.int)) ∈ lw_all := lw_g (lw_at lw_m17 168 rfl) rfl
set_option maxRecDepth 100000 in
theorem q4385 : (Jvm.Cond.methodLink "PascalHouseModel" (1025 : Nat) ({ cls := "PascalHouseModel", name := "isTag", desc := "(I)Z" } : Jvm.MethodName)) ∈ lw_all := lw_g (lw_at lw_m17 169 rfl) rfl
set_option maxRecDepth 100000 in
theorem q4387 : (Jvm.Cond.instanceMethod ({ cls := "PascalHouseModel", name := "isTag", desc := "(I)Z" } : Jvm.MethodName)) ∈ lw_all := lw_g (lw_at lw_m17 171 rfl) rfl
set_option maxRecDepth 100000 in
theorem q4388 : (Jvm.Cond.code ({ cls := "PascalHouseModel", name := "isTag", desc := "(I)Z" } : Jvm.MethodName) prog_24_method_107_code (2 : Nat) (Option.some Jvm.ClassFile.FieldType.boolean)) ∈ lw_all := lw_g (lw_at lw_m17 172 rfl) rfl
set_option maxRecDepth 100000 in
theorem q4389 : (Jvm.Cond.methodLink "PascalHouseModel" (1009 : Nat) ({ cls := "PascalHouseModel", name := "threaten", desc := "(LPascalHouseModel$Symbol;I)V" } : Jvm.MethodName)) ∈ lw_all := lw_g (lw_at lw_m17 173 rfl) rfl
set_option maxRecDepth 100000 in
theorem q4391 : (Jvm.Cond.instanceMethod ({ cls := "PascalHouseModel", name := "threaten", desc := "(LPascalHouseModel$Symbol;I)V" } : Jvm.MethodName)) ∈ lw_all := lw_g (lw_at lw_m17 175 rfl) rfl
set_option maxRecDepth 100000 in
theorem q4392 : (Jvm.Cond.code ({ cls := "PascalHouseModel", name := "threaten", desc := "(LPascalHouseModel$Symbol;I)V" } : Jvm.MethodName) prog_24_method_102_code (3 : Nat) (Option.none : Option Jvm.ClassFile.FieldType)) ∈ lw_all := lw_g (lw_at lw_m17 176 rfl) rfl
set_option maxRecDepth 100000 in
theorem q4393 : (Jvm.Cond.methodLink "PascalHouseModel" (995 : Nat) ({ cls := "PascalHouseModel", name := "isControlled", desc := "(LPascalHouseModel$Symbol;)Z" } : Jvm.MethodName)) ∈ lw_all := lw_g (lw_at lw_m17 177 rfl) rfl
set_option maxRecDepth 100000 in
theorem q4395 : (Jvm.Cond.instanceMethod ({ cls := "PascalHouseModel", name := "isControlled", desc := "(LPascalHouseModel$Symbol;)Z" } : Jvm.MethodName)) ∈ lw_all := lw_g (lw_at lw_m17 179 rfl) rfl
set_option maxRecDepth 100000 in
theorem q4396 : (Jvm.Cond.code ({ cls := "PascalHouseModel", name := "isControlled", desc := "(LPascalHouseModel$Symbol;)Z" } : Jvm.MethodName) prog_24_method_101_code (4 : Nat) (Option.some Jvm.ClassFile.FieldType.boolean)) ∈ lw_all := lw_g (lw_at lw_m17 180 rfl) rfl
set_option maxRecDepth 100000 in
theorem q4397 : (Jvm.Cond.methodLink "PascalHouseModel" (1085 : Nat) ({ cls := "PascalHouseModel", name := "nameType", desc := "(I)LPascalHouseModel$Type;" } : Jvm.MethodName)) ∈ lw_all := lw_g (lw_at lw_m17 181 rfl) rfl
set_option maxRecDepth 100000 in
theorem q4399 : (Jvm.Cond.instanceMethod ({ cls := "PascalHouseModel", name := "nameType", desc := "(I)LPascalHouseModel$Type;" } : Jvm.MethodName)) ∈ lw_all := lw_g (lw_at lw_m17 183 rfl) rfl
set_option maxRecDepth 100000 in
theorem q4400 : (Jvm.Cond.code ({ cls := "PascalHouseModel", name := "nameType", desc := "(I)LPascalHouseModel$Type;" } : Jvm.MethodName) prog_24_method_130_code (3 : Nat) (Option.some (Jvm.ClassFile.FieldType.object "PascalHouseModel$Type"))) ∈ lw_all := lw_g (lw_at lw_m17 184 rfl) rfl
set_option maxRecDepth 100000 in
theorem q4401 : (Jvm.Cond.methodLink "PascalHouseModel" (1069 : Nat) ({ cls := "PascalHouseModel", name := "joined", desc := "(LPascalHouseModel$Type;LPascalHouseModel$Type;I)LPascalHouseModel$Type;" } : Jvm.MethodName)) ∈ lw_all := lw_g (lw_at lw_m17 185 rfl) rfl
set_option maxRecDepth 100000 in
theorem q4403 : (Jvm.Cond.instanceMethod ({ cls := "PascalHouseModel", name := "joined", desc := "(LPascalHouseModel$Type;LPascalHouseModel$Type;I)LPascalHouseModel$Type;" } : Jvm.MethodName)) ∈ lw_all := lw_g (lw_at lw_m17 187 rfl) rfl
set_option maxRecDepth 100000 in
theorem q4404 : (Jvm.Cond.code ({ cls := "PascalHouseModel", name := "joined", desc := "(LPascalHouseModel$Type;LPascalHouseModel$Type;I)LPascalHouseModel$Type;" } : Jvm.MethodName) prog_24_method_125_code (6 : Nat) (Option.some (Jvm.ClassFile.FieldType.object "PascalHouseModel$Type"))) ∈ lw_all := lw_g (lw_at lw_m17 188 rfl) rfl
set_option maxRecDepth 100000 in
theorem q4405 : (Jvm.Cond.methodLink "PascalHouseModel" (1062 : Nat) ({ cls := "PascalHouseModel", name := "areRelated", desc := "(LPascalHouseModel$Type;LPascalHouseModel$Type;I)Z" } : Jvm.MethodName)) ∈ lw_all := lw_g (lw_at lw_m17 189 rfl) rfl
set_option maxRecDepth 100000 in
theorem q4407 : (Jvm.Cond.instanceMethod ({ cls := "PascalHouseModel", name := "areRelated", desc := "(LPascalHouseModel$Type;LPascalHouseModel$Type;I)Z" } : Jvm.MethodName)) ∈ lw_all := lw_g (lw_at lw_m17 191 rfl) rfl
set_option maxRecDepth 100000 in
theorem q4408 : (Jvm.Cond.code ({ cls := "PascalHouseModel", name := "areRelated", desc := "(LPascalHouseModel$Type;LPascalHouseModel$Type;I)Z" } : Jvm.MethodName) prog_24_method_122_code (6 : Nat) (Option.some Jvm.ClassFile.FieldType.boolean)) ∈ lw_all := lw_g (lw_at lw_m17 192 rfl) rfl
set_option maxRecDepth 100000 in
theorem q4409 : (Jvm.Cond.methodLink "PascalHouseModel" (971 : Nat) ({ cls := "PascalHouseModel", name := "checkCase", desc := "(I)V" } : Jvm.MethodName)) ∈ lw_all := lw_g (lw_at lw_m17 193 rfl) rfl
set_option maxRecDepth 100000 in
theorem q4411 : (Jvm.Cond.instanceMethod ({ cls := "PascalHouseModel", name := "checkCase", desc := "(I)V" } : Jvm.MethodName)) ∈ lw_all := lw_g (lw_at lw_m17 195 rfl) rfl
set_option maxRecDepth 100000 in
theorem q4412 : (Jvm.Cond.code ({ cls := "PascalHouseModel", name := "checkCase", desc := "(I)V" } : Jvm.MethodName) prog_24_method_97_code (7 : Nat) (Option.none : Option Jvm.ClassFile.FieldType)) ∈ lw_all := lw_g (lw_at lw_m17 196 rfl) rfl
set_option maxRecDepth 100000 in
theorem q4413 : (Jvm.Cond.methodLink "PascalHouseModel" (974 : Nat) ({ cls := "PascalHouseModel", name := "checkFor", desc := "(I)V" } : Jvm.MethodName)) ∈ lw_all := lw_g (lw_at lw_m17 197 rfl) rfl
set_option maxRecDepth 100000 in
theorem q4415 : (Jvm.Cond.instanceMethod ({ cls := "PascalHouseModel", name := "checkFor", desc := "(I)V" } : Jvm.MethodName)) ∈ lw_all := lw_g (lw_at lw_m17 199 rfl) rfl
set_option maxRecDepth 100000 in
theorem q4416 : (Jvm.Cond.code ({ cls := "PascalHouseModel", name := "checkFor", desc := "(I)V" } : Jvm.MethodName) prog_24_method_98_code (5 : Nat) (Option.none : Option Jvm.ClassFile.FieldType)) ∈ lw_all := lw_g (lw_at lw_m17 200 rfl) rfl
set_option maxRecDepth 100000 in
theorem q4417 : (Jvm.Cond.methodLink "PascalHouseModel" (977 : Nat) ({ cls := "PascalHouseModel", name := "checkWith", desc := "(I)V" } : Jvm.MethodName)) ∈ lw_all := lw_g (lw_at lw_m17 201 rfl) rfl
set_option maxRecDepth 100000 in
theorem q4419 : (Jvm.Cond.instanceMethod ({ cls := "PascalHouseModel", name := "checkWith", desc := "(I)V" } : Jvm.MethodName)) ∈ lw_all := lw_g (lw_at lw_m17 203 rfl) rfl
set_option maxRecDepth 100000 in
theorem q4420 : (Jvm.Cond.code ({ cls := "PascalHouseModel", name := "checkWith", desc := "(I)V" } : Jvm.MethodName) prog_24_method_99_code (5 : Nat) (Option.none : Option Jvm.ClassFile.FieldType)) ∈ lw_all := lw_g (lw_at lw_m17 204 rfl) rfl
set_option maxRecDepth 100000 in
theorem q4421 : (Jvm.Cond.methodLink "PascalHouseModel" (980 : Nat) ({ cls := "PascalHouseModel", name := "checkGoto", desc := "(I)V" } : Jvm.MethodName)) ∈ lw_all := lw_g (lw_at lw_m17 205 rfl) rfl
set_option maxRecDepth 100000 in
theorem q4423 : (Jvm.Cond.instanceMethod ({ cls := "PascalHouseModel", name := "checkGoto", desc := "(I)V" } : Jvm.MethodName)) ∈ lw_all := lw_g (lw_at lw_m17 207 rfl) rfl
set_option maxRecDepth 100000 in
theorem q4424 : (Jvm.Cond.code ({ cls := "PascalHouseModel", name := "checkGoto", desc := "(I)V" } : Jvm.MethodName) prog_24_method_100_code (5 : Nat) (Option.none : Option Jvm.ClassFile.FieldType)) ∈ lw_all := lw_g (lw_at lw_m17 208 rfl) rfl
set_option maxRecDepth 100000 in
theorem q4425 : (Jvm.Cond.classLink "PascalHouseModel" (814 : Nat) "PascalHouseModel$Jump") ∈ lw_all := lw_g (lw_at lw_m17 209 rfl) rfl
set_option maxRecDepth 100000 in
theorem q4426 : (Jvm.Cond.instantiable "PascalHouseModel$Jump" (3 : Nat)) ∈ lw_all := lw_g (lw_at lw_m17 210 rfl) rfl
set_option maxRecDepth 100000 in
theorem q4427 : (Jvm.Cond.methodLink "PascalHouseModel" (1006 : Nat) ({ cls := "PascalHouseModel$Jump", name := "<init>", desc := "(ILPascalHouseModel$Label;Z)V" } : Jvm.MethodName)) ∈ lw_all := lw_g (lw_at lw_m17 211 rfl) rfl
set_option maxRecDepth 100000 in
theorem q4428 : (Jvm.Cond.instanceMethod ({ cls := "PascalHouseModel$Jump", name := "<init>", desc := "(ILPascalHouseModel$Label;Z)V" } : Jvm.MethodName)) ∈ lw_all := lw_g (lw_at lw_m17 212 rfl) rfl
set_option maxRecDepth 100000 in
theorem q4429 : (Jvm.Cond.code ({ cls := "PascalHouseModel$Jump", name := "<init>", desc := "(ILPascalHouseModel$Label;Z)V" } : Jvm.MethodName) prog_25_method_1_code (4 : Nat) (Option.none : Option Jvm.ClassFile.FieldType)) ∈ lw_all := lw_g (lw_at lw_m17 213 rfl) rfl
set_option maxRecDepth 100000 in
theorem q4430 : (Jvm.Cond.methodLink "PascalHouseModel$Jump" (1 : Nat) ({ cls := "java/lang/Object", name := "<init>", desc := "()V" } : Jvm.MethodName)) ∈ lw_all := lw_g (lw_at lw_m17 214 rfl) rfl
set_option maxRecDepth 100000 in
theorem q4431 : (Jvm.Cond.fieldLink "PascalHouseModel$Jump" (7 : Nat) "PascalHouseModel$Jump" "node" "I") ∈ lw_all := lw_g (lw_at lw_m17 215 rfl) rfl
set_option maxRecDepth 100000 in
theorem q4432 : (Jvm.Cond.fieldLink "PascalHouseModel" (829 : Nat) "PascalHouseModel$Jump" "node" "I") ∈ lw_all := lw_g (lw_at lw_m17 216 rfl) rfl
set_option maxRecDepth 100000 in
theorem q4433 : (Jvm.Cond.fieldLink "PascalHouseModel$Jump" (13 : Nat) "PascalHouseModel$Jump" "label" "LPascalHouseModel$Label;") ∈ lw_all := lw_g (lw_at lw_m17 217 rfl) rfl
set_option maxRecDepth 100000 in
theorem q4434 : (Jvm.Cond.fieldLink "PascalHouseModel" (823 : Nat) "PascalHouseModel$Jump" "label" "LPascalHouseModel$Label;") ∈ lw_all := lw_g (lw_at lw_m17 218 rfl) rfl
set_option maxRecDepth 100000 in
theorem q4435 : (Jvm.Cond.fieldLink "PascalHouseModel$Jump" (17 : Nat) "PascalHouseModel$Jump" "fromWithin" "Z") ∈ lw_all := lw_g (lw_at lw_m17 219 rfl) rfl
set_option maxRecDepth 100000 in
theorem q4436 : (Jvm.Cond.fieldLink "PascalHouseModel" (831 : Nat) "PascalHouseModel$Jump" "fromWithin" "Z") ∈ lw_all := lw_g (lw_at lw_m17 220 rfl) rfl
set_option maxRecDepth 100000 in
theorem q4444 : (Jvm.Cond.methodLink "PascalHouseModel" (983 : Nat) ({ cls := "PascalHouseModel", name := "checkAssign", desc := "(I)V" } : Jvm.MethodName)) ∈ lw_all := lw_g (lw_at lw_m17 228 rfl) rfl
set_option maxRecDepth 100000 in
theorem q4446 : (Jvm.Cond.instanceMethod ({ cls := "PascalHouseModel", name := "checkAssign", desc := "(I)V" } : Jvm.MethodName)) ∈ lw_all := lw_g (lw_at lw_m17 230 rfl) rfl
set_option maxRecDepth 100000 in
theorem q4447 : (Jvm.Cond.code ({ cls := "PascalHouseModel", name := "checkAssign", desc := "(I)V" } : Jvm.MethodName) prog_24_method_103_code (6 : Nat) (Option.none : Option Jvm.ClassFile.FieldType)) ∈ lw_all := lw_g (lw_at lw_m17 231 rfl) rfl
set_option maxRecDepth 100000 in
theorem q4448 : (Jvm.Cond.methodLink "PascalHouseModel" (986 : Nat) ({ cls := "PascalHouseModel", name := "checkCall", desc := "(I)V" } : Jvm.MethodName)) ∈ lw_all := lw_g (lw_at lw_m17 232 rfl) rfl
set_option maxRecDepth 100000 in
theorem q4450 : (Jvm.Cond.instanceMethod ({ cls := "PascalHouseModel", name := "checkCall", desc := "(I)V" } : Jvm.MethodName)) ∈ lw_all := lw_g (lw_at lw_m17 234 rfl) rfl
set_option maxRecDepth 100000 in
theorem q4451 : (Jvm.Cond.code ({ cls := "PascalHouseModel", name := "checkCall", desc := "(I)V" } : Jvm.MethodName) prog_24_method_104_code (6 : Nat) (Option.none : Option Jvm.ClassFile.FieldType)) ∈ lw_all := lw_g (lw_at lw_m17 235 rfl) rfl
set_option maxRecDepth 100000 in
theorem q4452 : (Jvm.Cond.methodLink "PascalHouseModel" (1013 : Nat) ({ cls := "PascalHouseModel", name := "checkThere", desc := "(ILPascalHouseModel$Symbol;)V" } : Jvm.MethodName)) ∈ lw_all := lw_g (lw_at lw_m17 236 rfl) rfl
set_option maxRecDepth 100000 in
theorem q4454 : (Jvm.Cond.instanceMethod ({ cls := "PascalHouseModel", name := "checkThere", desc := "(ILPascalHouseModel$Symbol;)V" } : Jvm.MethodName)) ∈ lw_all := lw_g (lw_at lw_m17 238 rfl) rfl
set_option maxRecDepth 100000 in
theorem q4455 : (Jvm.Cond.code ({ cls := "PascalHouseModel", name := "checkThere", desc := "(ILPascalHouseModel$Symbol;)V" } : Jvm.MethodName) prog_24_method_112_code (6 : Nat) (Option.none : Option Jvm.ClassFile.FieldType)) ∈ lw_all := lw_g (lw_at lw_m17 239 rfl) rfl
set_option maxRecDepth 100000 in
theorem q4456 : (Jvm.Cond.methodLink "PascalHouseModel" (1034 : Nat) ({ cls := "PascalHouseModel", name := "checkTransfer", desc := "(II)V" } : Jvm.MethodName)) ∈ lw_all := lw_g (lw_at lw_m18 0 rfl) rfl
set_option maxRecDepth 100000 in
theorem q4458 : (Jvm.Cond.instanceMethod ({ cls := "PascalHouseModel", name := "checkTransfer", desc := "(II)V" } : Jvm.MethodName)) ∈ lw_all := lw_g (lw_at lw_m18 2 rfl) rfl
set_option maxRecDepth 100000 in
theorem q4459 : (Jvm.Cond.code ({ cls := "PascalHouseModel", name := "checkTransfer", desc := "(II)V" } : Jvm.MethodName) prog_24_method_113_code (8 : Nat) (Option.none : Option Jvm.ClassFile.FieldType)) ∈ lw_all := lw_g (lw_at lw_m18 3 rfl) rfl
set_option maxRecDepth 100000 in
theorem q4460 : (Jvm.Cond.methodLink "PascalHouseModel" (1019 : Nat) ({ cls := "PascalHouseModel", name := "colon", desc := "(I)V" } : Jvm.MethodName)) ∈ lw_all := lw_g (lw_at lw_m18 4 rfl) rfl
set_option maxRecDepth 100000 in
theorem q4462 : (Jvm.Cond.instanceMethod ({ cls := "PascalHouseModel", name := "colon", desc := "(I)V" } : Jvm.MethodName)) ∈ lw_all := lw_g (lw_at lw_m18 6 rfl) rfl
set_option maxRecDepth 100000 in
theorem q4463 : (Jvm.Cond.code ({ cls := "PascalHouseModel", name := "colon", desc := "(I)V" } : Jvm.MethodName) prog_24_method_105_code (2 : Nat) (Option.none : Option Jvm.ClassFile.FieldType)) ∈ lw_all := lw_g (lw_at lw_m18 7 rfl) rfl
set_option maxRecDepth 100000 in
theorem q4464 : (Jvm.Cond.methodLink "PascalHouseModel" (1043 : Nat) ({ cls := "PascalHouseModel", name := "checkRead", desc := "(ILPascalHouseModel$Type;)V" } : Jvm.MethodName)) ∈ lw_all := lw_g (lw_at lw_m18 8 rfl) rfl
set_option maxRecDepth 100000 in
theorem q4466 : (Jvm.Cond.instanceMethod ({ cls := "PascalHouseModel", name := "checkRead", desc := "(ILPascalHouseModel$Type;)V" } : Jvm.MethodName)) ∈ lw_all := lw_g (lw_at lw_m18 10 rfl) rfl
set_option maxRecDepth 100000 in
theorem q4467 : (Jvm.Cond.code ({ cls := "PascalHouseModel", name := "checkRead", desc := "(ILPascalHouseModel$Type;)V" } : Jvm.MethodName) prog_24_method_114_code (7 : Nat) (Option.none : Option Jvm.ClassFile.FieldType)) ∈ lw_all := lw_g (lw_at lw_m18 11 rfl) rfl
set_option maxRecDepth 100000 in
theorem q4468 : (Jvm.Cond.methodLink "PascalHouseModel" (1047 : Nat) ({ cls := "PascalHouseModel", name := "checkWrite", desc := "(ILPascalHouseModel$Type;)V" } : Jvm.MethodName)) ∈ lw_all := lw_g (lw_at lw_m18 12 rfl) rfl
set_option maxRecDepth 100000 in
theorem q4470 : (Jvm.Cond.instanceMethod ({ cls := "PascalHouseModel", name := "checkWrite", desc := "(ILPascalHouseModel$Type;)V" } : Jvm.MethodName)) ∈ lw_all := lw_g (lw_at lw_m18 14 rfl) rfl
set_option maxRecDepth 100000 in
theorem q4471 : (Jvm.Cond.code ({ cls := "PascalHouseModel", name := "checkWrite", desc := "(ILPascalHouseModel$Type;)V" } : Jvm.MethodName) prog_24_method_115_code (6 : Nat) (Option.none : Option Jvm.ClassFile.FieldType)) ∈ lw_all := lw_g (lw_at lw_m18 15 rfl) rfl
set_option maxRecDepth 100000 in
theorem q4472 : (Jvm.Cond.methodLink "PascalHouseModel" (816 : Nat) ({ cls := "PascalHouseModel", name := "checkJump", desc := "(LPascalHouseModel$Scope;LPascalHouseModel$Jump;)V" } : Jvm.MethodName)) ∈ lw_all := lw_g (lw_at lw_m18 16 rfl) rfl
set_option maxRecDepth 100000 in
theorem q4474 : (Jvm.Cond.instanceMethod ({ cls := "PascalHouseModel", name := "checkJump", desc := "(LPascalHouseModel$Scope;LPascalHouseModel$Jump;)V" } : Jvm.MethodName)) ∈ lw_all := lw_g (lw_at lw_m18 18 rfl) rfl
set_option maxRecDepth 100000 in
theorem q4475 : (Jvm.Cond.code ({ cls := "PascalHouseModel", name := "checkJump", desc := "(LPascalHouseModel$Scope;LPascalHouseModel$Jump;)V" } : Jvm.MethodName) prog_24_method_81_code (7 : Nat) (Option.none : Option Jvm.ClassFile.FieldType)) ∈ lw_all := lw_g (lw_at lw_m18 19 rfl) rfl
set_option maxRecDepth 100000 in
theorem q4476 : (Jvm.Cond.methodLink "PascalHouseModel" (834 : Nat) ({ cls := "PascalHouseModel", name := "isWithin", desc := "(II)Z" } : Jvm.MethodName)) ∈ lw_all := lw_g (lw_at lw_m18 20 rfl) rfl
set_option maxRecDepth 100000 in
theorem q4478 : (Jvm.Cond.instanceMethod ({ cls := "PascalHouseModel", name := "isWithin", desc := "(II)Z" } : Jvm.MethodName)) ∈ lw_all := lw_g (lw_at lw_m18 22 rfl) rfl
set_option maxRecDepth 100000 in
theorem q4479 : (Jvm.Cond.code ({ cls := "PascalHouseModel", name := "isWithin", desc := "(II)Z" } : Jvm.MethodName) prog_24_method_80_code (4 : Nat) (Option.some Jvm.ClassFile.FieldType.boolean)) ∈ lw_all := lw_g (lw_at lw_m18 23 rfl) rfl
set_option maxRecDepth 100000 in
theorem q4480 : (Jvm.Cond.methodLink "PascalHouseLaw" (31 : Nat) ({ cls := "PascalHouseModel", name := "place", desc := "()I" } : Jvm.MethodName)) ∈ lw_all := lw_g (lw_at lw_m18 24 rfl) rfl
set_option maxRecDepth 100000 in
theorem q4481 : (Jvm.Cond.instanceMethod ({ cls := "PascalHouseModel", name := "place", desc := "()I" } : Jvm.MethodName)) ∈ lw_all := lw_g (lw_at lw_m18 25 rfl) rfl
set_option maxRecDepth 100000 in
theorem q4482 : (Jvm.Cond.selects "PascalHouseModel" ({ cls := "PascalHouseModel", name := "place", desc := "()I" } : Jvm.MethodName) ({ cls := "PascalHouseModel", name := "place", desc := "()I" } : Jvm.MethodName)) ∈ lw_all := lw_g (lw_at lw_m18 26 rfl) rfl
set_option maxRecDepth 100000 in
theorem q4483 : (Jvm.Cond.code ({ cls := "PascalHouseModel", name := "place", desc := "()I" } : Jvm.MethodName) prog_24_method_132_code (1 : Nat) (Option.some Jvm.ClassFile.FieldType.int)) ∈ lw_all := lw_g (lw_at lw_m18 27 rfl) rfl
set_option maxRecDepth 100000 in
theorem q4484 : (Jvm.Cond.methodLink "PascalHouseLaw" (40 : Nat) ({ cls := "PascalHouseModel", name := "run", desc := "(I)I" } : Jvm.MethodName)) ∈ lw_all := lw_g (lw_at lw_m18 28 rfl) rfl
set_option maxRecDepth 100000 in
theorem q4485 : (Jvm.Cond.instanceMethod ({ cls := "PascalHouseModel", name := "run", desc := "(I)I" } : Jvm.MethodName)) ∈ lw_all := lw_g (lw_at lw_m18 29 rfl) rfl
set_option maxRecDepth 100000 in
theorem q4486 : (Jvm.Cond.selects "PascalHouseModel" ({ cls := "PascalHouseModel", name := "run", desc := "(I)I" } : Jvm.MethodName) ({ cls := "PascalHouseModel", name := "run", desc := "(I)I" } : Jvm.MethodName)) ∈ lw_all := lw_g (lw_at lw_m18 30 rfl) rfl
set_option maxRecDepth 100000 in
theorem q4487 : (Jvm.Cond.code ({ cls := "PascalHouseModel", name := "run", desc := "(I)I" } : Jvm.MethodName) prog_24_method_202_code (5 : Nat) (Option.some Jvm.ClassFile.FieldType.int)) ∈ lw_all := lw_g (lw_at lw_m18 31 rfl) rfl
set_option maxRecDepth 100000 in
theorem q4488 : (Jvm.Cond.methodLink "PascalHouseModel" (1154 : Nat) ({ cls := "java/lang/Math", name := "max", desc := "(II)I" } : Jvm.MethodName)) ∈ lw_all := lw_g (lw_at lw_m18 32 rfl) rfl
set_option maxRecDepth 100000 in
theorem q4489 : (Jvm.Cond.constant "PascalHouseModel" (1496 : Nat) (44999 : Int32)) ∈ lw_all := lw_g (lw_at lw_m18 33 rfl) rfl
set_option maxRecDepth 100000 in
theorem q4490 : (Jvm.Cond.methodLink "PascalHouseModel" (1142 : Nat) ({ cls := "PascalHouseModel", name := "error", desc := "(II)V" } : Jvm.MethodName)) ∈ lw_all := lw_g (lw_at lw_m18 34 rfl) rfl
set_option maxRecDepth 100000 in
theorem q4492 : (Jvm.Cond.instanceMethod ({ cls := "PascalHouseModel", name := "error", desc := "(II)V" } : Jvm.MethodName)) ∈ lw_all := lw_g (lw_at lw_m18 36 rfl) rfl
set_option maxRecDepth 100000 in
theorem q4493 : (Jvm.Cond.code ({ cls := "PascalHouseModel", name := "error", desc := "(II)V" } : Jvm.MethodName) prog_24_method_133_code (3 : Nat) (Option.none : Option Jvm.ClassFile.FieldType)) ∈ lw_all := lw_g (lw_at lw_m18 37 rfl) rfl
set_option maxRecDepth 100000 in
theorem q4494 : (Jvm.Cond.methodLink "PascalHouseModel" (1178 : Nat) ({ cls := "PascalHouseModel", name := "blank", desc := "(II)V" } : Jvm.MethodName)) ∈ lw_all := lw_g (lw_at lw_m18 38 rfl) rfl
set_option maxRecDepth 100000 in
theorem q4496 : (Jvm.Cond.instanceMethod ({ cls := "PascalHouseModel", name := "blank", desc := "(II)V" } : Jvm.MethodName)) ∈ lw_all := lw_g (lw_at lw_m18 40 rfl) rfl
set_option maxRecDepth 100000 in
theorem q4497 : (Jvm.Cond.code ({ cls := "PascalHouseModel", name := "blank", desc := "(II)V" } : Jvm.MethodName) prog_24_method_136_code (4 : Nat) (Option.none : Option Jvm.ClassFile.FieldType)) ∈ lw_all := lw_g (lw_at lw_m18 41 rfl) rfl
set_option maxRecDepth 100000 in
theorem q4498 : (Jvm.Cond.methodLink "PascalHouseModel" (1379 : Nat) ({ cls := "PascalHouseModel", name := "newFile", desc := "(ILPascalHouseModel$Type;)V" } : Jvm.MethodName)) ∈ lw_all := lw_g (lw_at lw_m18 42 rfl) rfl
set_option maxRecDepth 100000 in
theorem q4500 : (Jvm.Cond.instanceMethod ({ cls := "PascalHouseModel", name := "newFile", desc := "(ILPascalHouseModel$Type;)V" } : Jvm.MethodName)) ∈ lw_all := lw_g (lw_at lw_m18 44 rfl) rfl
set_option maxRecDepth 100000 in
theorem q4501 : (Jvm.Cond.code ({ cls := "PascalHouseModel", name := "newFile", desc := "(ILPascalHouseModel$Type;)V" } : Jvm.MethodName) prog_24_method_144_code (3 : Nat) (Option.none : Option Jvm.ClassFile.FieldType)) ∈ lw_all := lw_g (lw_at lw_m18 45 rfl) rfl
set_option maxRecDepth 100000 in
theorem q4502 : (Jvm.Cond.methodLink "PascalHouseModel" (1304 : Nat) ({ cls := "PascalHouseModel", name := "fileOfRun", desc := "(LPascalHouseModel$Symbol;)I" } : Jvm.MethodName)) ∈ lw_all := lw_g (lw_at lw_m18 46 rfl) rfl
set_option maxRecDepth 100000 in
theorem q4504 : (Jvm.Cond.instanceMethod ({ cls := "PascalHouseModel", name := "fileOfRun", desc := "(LPascalHouseModel$Symbol;)I" } : Jvm.MethodName)) ∈ lw_all := lw_g (lw_at lw_m18 48 rfl) rfl
set_option maxRecDepth 100000 in
theorem q4505 : (Jvm.Cond.code ({ cls := "PascalHouseModel", name := "fileOfRun", desc := "(LPascalHouseModel$Symbol;)I" } : Jvm.MethodName) prog_24_method_173_code (2 : Nat) (Option.some Jvm.ClassFile.FieldType.int)) ∈ lw_all := lw_g (lw_at lw_m18 49 rfl) rfl
set_option maxRecDepth 100000 in
theorem q4506 : (Jvm.Cond.methodLink "PascalHouseModel" (1229 : Nat) ({ cls := "PascalHouseModel", name := "addressOf", desc := "(LPascalHouseModel$Symbol;)I" } : Jvm.MethodName)) ∈ lw_all := lw_g (lw_at lw_m18 50 rfl) rfl
set_option maxRecDepth 100000 in
theorem q4508 : (Jvm.Cond.instanceMethod ({ cls := "PascalHouseModel", name := "addressOf", desc := "(LPascalHouseModel$Symbol;)I" } : Jvm.MethodName)) ∈ lw_all := lw_g (lw_at lw_m18 52 rfl) rfl
set_option maxRecDepth 100000 in
theorem q4509 : (Jvm.Cond.code ({ cls := "PascalHouseModel", name := "addressOf", desc := "(LPascalHouseModel$Symbol;)I" } : Jvm.MethodName) prog_24_method_135_code (3 : Nat) (Option.some Jvm.ClassFile.FieldType.int)) ∈ lw_all := lw_g (lw_at lw_m18 53 rfl) rfl
set_option maxRecDepth 100000 in
theorem q4510 : (Jvm.Cond.methodLink "PascalHouseModel" (1133 : Nat) ({ cls := "PascalHouseModel", name := "frameOf", desc := "(I)I" } : Jvm.MethodName)) ∈ lw_all := lw_g (lw_at lw_m18 54 rfl) rfl
set_option maxRecDepth 100000 in
theorem q4512 : (Jvm.Cond.instanceMethod ({ cls := "PascalHouseModel", name := "frameOf", desc := "(I)I" } : Jvm.MethodName)) ∈ lw_all := lw_g (lw_at lw_m18 56 rfl) rfl
set_option maxRecDepth 100000 in
theorem q4513 : (Jvm.Cond.code ({ cls := "PascalHouseModel", name := "frameOf", desc := "(I)I" } : Jvm.MethodName) prog_24_method_134_code (3 : Nat) (Option.some Jvm.ClassFile.FieldType.int)) ∈ lw_all := lw_g (lw_at lw_m18 57 rfl) rfl
set_option maxRecDepth 100000 in
theorem q4514 : (Jvm.Cond.methodLink "PascalHouseModel" (1198 : Nat) ({ cls := "PascalHouseModel", name := "linkByte", desc := "(II)V" } : Jvm.MethodName)) ∈ lw_all := lw_g (lw_at lw_m18 58 rfl) rfl
set_option maxRecDepth 100000 in
theorem q4516 : (Jvm.Cond.instanceMethod ({ cls := "PascalHouseModel", name := "linkByte", desc := "(II)V" } : Jvm.MethodName)) ∈ lw_all := lw_g (lw_at lw_m18 60 rfl) rfl
set_option maxRecDepth 100000 in
theorem q4517 : (Jvm.Cond.code ({ cls := "PascalHouseModel", name := "linkByte", desc := "(II)V" } : Jvm.MethodName) prog_24_method_148_code (4 : Nat) (Option.none : Option Jvm.ClassFile.FieldType)) ∈ lw_all := lw_g (lw_at lw_m18 61 rfl) rfl
set_option maxRecDepth 100000 in
theorem q4518 : (Jvm.Cond.methodLink "PascalHouseModel" (1189 : Nat) ({ cls := "PascalHouseModel", name := "link", desc := "(I)I" } : Jvm.MethodName)) ∈ lw_all := lw_g (lw_at lw_m18 62 rfl) rfl
set_option maxRecDepth 100000 in
theorem q4520 : (Jvm.Cond.instanceMethod ({ cls := "PascalHouseModel", name := "link", desc := "(I)I" } : Jvm.MethodName)) ∈ lw_all := lw_g (lw_at lw_m18 64 rfl) rfl
set_option maxRecDepth 100000 in
theorem q4521 : (Jvm.Cond.code ({ cls := "PascalHouseModel", name := "link", desc := "(I)I" } : Jvm.MethodName) prog_24_method_147_code (3 : Nat) (Option.some Jvm.ClassFile.FieldType.int)) ∈ lw_all := lw_g (lw_at lw_m18 65 rfl) rfl
set_option maxRecDepth 100000 in
theorem q4522 : (Jvm.Cond.methodLink "PascalHouseModel" (1421 : Nat) ({ cls := "PascalHouseModel", name := "reset", desc := "(II)V" } : Jvm.MethodName)) ∈ lw_all := lw_g (lw_at lw_m18 66 rfl) rfl
set_option maxRecDepth 100000 in
theorem q4524 : (Jvm.Cond.instanceMethod ({ cls := "PascalHouseModel", name := "reset", desc := "(II)V" } : Jvm.MethodName)) ∈ lw_all := lw_g (lw_at lw_m18 68 rfl) rfl
set_option maxRecDepth 100000 in
theorem q4525 : (Jvm.Cond.code ({ cls := "PascalHouseModel", name := "reset", desc := "(II)V" } : Jvm.MethodName) prog_24_method_152_code (3 : Nat) (Option.none : Option Jvm.ClassFile.FieldType)) ∈ lw_all := lw_g (lw_at lw_m18 69 rfl) rfl
set_option maxRecDepth 100000 in
theorem q4526 : (Jvm.Cond.methodLink "PascalHouseModel" (1201 : Nat) ({ cls := "PascalHouseModel", name := "bringBuffer", desc := "(I)V" } : Jvm.MethodName)) ∈ lw_all := lw_g (lw_at lw_m18 70 rfl) rfl
set_option maxRecDepth 100000 in
theorem q4528 : (Jvm.Cond.instanceMethod ({ cls := "PascalHouseModel", name := "bringBuffer", desc := "(I)V" } : Jvm.MethodName)) ∈ lw_all := lw_g (lw_at lw_m18 72 rfl) rfl
set_option maxRecDepth 100000 in
theorem q4529 : (Jvm.Cond.code ({ cls := "PascalHouseModel", name := "bringBuffer", desc := "(I)V" } : Jvm.MethodName) prog_24_method_150_code (6 : Nat) (Option.none : Option Jvm.ClassFile.FieldType)) ∈ lw_all := lw_g (lw_at lw_m18 73 rfl) rfl
set_option maxRecDepth 100000 in
theorem q4530 : (Jvm.Cond.constantLong "PascalHouseModel" (1192 : Nat) (32 : Int64)) ∈ lw_all := lw_g (lw_at lw_m18 74 rfl) rfl
set_option maxRecDepth 100000 in
theorem q4531 : (Jvm.Cond.methodLink "PascalHouseModel" (1423 : Nat) ({ cls := "PascalHouseModel", name := "rewrite", desc := "(I)V" } : Jvm.MethodName)) ∈ lw_all := lw_g (lw_at lw_m18 75 rfl) rfl
set_option maxRecDepth 100000 in
theorem q4533 : (Jvm.Cond.instanceMethod ({ cls := "PascalHouseModel", name := "rewrite", desc := "(I)V" } : Jvm.MethodName)) ∈ lw_all := lw_g (lw_at lw_m18 77 rfl) rfl
set_option maxRecDepth 100000 in
theorem q4534 : (Jvm.Cond.code ({ cls := "PascalHouseModel", name := "rewrite", desc := "(I)V" } : Jvm.MethodName) prog_24_method_153_code (2 : Nat) (Option.none : Option Jvm.ClassFile.FieldType)) ∈ lw_all := lw_g (lw_at lw_m18 78 rfl) rfl
set_option maxRecDepth 100000 in
theorem q4535 : (Jvm.Cond.methodLink "PascalHouseModel" (1204 : Nat) ({ cls := "PascalHouseModel", name := "empty", desc := "(I)V" } : Jvm.MethodName)) ∈ lw_all := lw_g (lw_at lw_m18 79 rfl) rfl
set_option maxRecDepth 100000 in
theorem q4537 : (Jvm.Cond.instanceMethod ({ cls := "PascalHouseModel", name := "empty", desc := "(I)V" } : Jvm.MethodName)) ∈ lw_all := lw_g (lw_at lw_m18 81 rfl) rfl
set_option maxRecDepth 100000 in
theorem q4538 : (Jvm.Cond.code ({ cls := "PascalHouseModel", name := "empty", desc := "(I)V" } : Jvm.MethodName) prog_24_method_146_code (4 : Nat) (Option.none : Option Jvm.ClassFile.FieldType)) ∈ lw_all := lw_g (lw_at lw_m18 82 rfl) rfl
set_option maxRecDepth 100000 in
theorem q4539 : (Jvm.Cond.methodLink "PascalHouseModel" (1370 : Nat) ({ cls := "PascalHouseModel", name := "execute", desc := "(I)V" } : Jvm.MethodName)) ∈ lw_all := lw_g (lw_at lw_m18 83 rfl) rfl
set_option maxRecDepth 100000 in
theorem q4541 : (Jvm.Cond.instanceMethod ({ cls := "PascalHouseModel", name := "execute", desc := "(I)V" } : Jvm.MethodName)) ∈ lw_all := lw_g (lw_at lw_m18 85 rfl) rfl
set_option maxRecDepth 100000 in
theorem q4542 : (Jvm.Cond.code ({ cls := "PascalHouseModel", name := "execute", desc := "(I)V" } : Jvm.MethodName) prog_24_method_180_code (15 : Nat) (Option.none : Option Jvm.ClassFile.FieldType)) ∈ lw_all := lw_g (lw_at lw_m18 86 rfl) rfl
set_option maxRecDepth 100000 in
theorem q4543 : (Jvm.Cond.methodLink "PascalHouseModel" (1233 : Nat) ({ cls := "PascalHouseModel", name := "evaluate", desc := "(I)V" } : Jvm.MethodName)) ∈ lw_all := lw_g (lw_at lw_m18 87 rfl) rfl
set_option maxRecDepth 100000 in
theorem q4545 : (Jvm.Cond.instanceMethod ({ cls := "PascalHouseModel", name := "evaluate", desc := "(I)V" } : Jvm.MethodName)) ∈ lw_all := lw_g (lw_at lw_m18 89 rfl) rfl
set_option maxRecDepth 100000 in
theorem q4546 : (Jvm.Cond.code ({ cls := "PascalHouseModel", name := "evaluate", desc := "(I)V" } : Jvm.MethodName) prog_24_method_158_code (26 : Nat) (Option.none : Option Jvm.ClassFile.FieldType)) ∈ lw_all := lw_g (lw_at lw_m18 90 rfl) rfl
set_option maxRecDepth 100000 in
theorem q4547 : (Jvm.Cond.methodLink "PascalHouseModel" (1239 : Nat) ({ cls := "PascalHouseModel", name := "members", desc := "(I)V" } : Jvm.MethodName)) ∈ lw_all := lw_g (lw_at lw_m18 91 rfl) rfl
set_option maxRecDepth 100000 in
theorem q4549 : (Jvm.Cond.instanceMethod ({ cls := "PascalHouseModel", name := "members", desc := "(I)V" } : Jvm.MethodName)) ∈ lw_all := lw_g (lw_at lw_m18 93 rfl) rfl
set_option maxRecDepth 100000 in
theorem q4550 : (Jvm.Cond.code ({ cls := "PascalHouseModel", name := "members", desc := "(I)V" } : Jvm.MethodName) prog_24_method_169_code (12 : Nat) (Option.none : Option Jvm.ClassFile.FieldType)) ∈ lw_all := lw_g (lw_at lw_m18 94 rfl) rfl
set_option maxRecDepth 100000 in
theorem q4551 : (Jvm.Cond.constantLong "PascalHouseModel" (1302 : Nat) (127 : Int64)) ∈ lw_all := lw_g (lw_at lw_m18 95 rfl) rfl
set_option maxRecDepth 100000 in
theorem q4552 : (Jvm.Cond.methodLink "PascalHouseModel" (1157 : Nat) ({ cls := "PascalHouseModel", name := "lowerBits", desc := "(II)J" } : Jvm.MethodName)) ∈ lw_all := lw_g (lw_at lw_m18 96 rfl) rfl
set_option maxRecDepth 100000 in
theorem q4553 : (Jvm.Cond.static ({ cls := "PascalHouseModel", name := "lowerBits", desc := "(II)J" } : Jvm.MethodName)) ∈ lw_all := lw_g (lw_at lw_m18 97 rfl) rfl
set_option maxRecDepth 100000 in
theorem q4554 : (Jvm.Cond.code ({ cls := "PascalHouseModel", name := "lowerBits", desc := "(II)J" } : Jvm.MethodName) prog_24_method_140_code (5 : Nat) (Option.some Jvm.ClassFile.FieldType.long)) ∈ lw_all := lw_g (lw_at lw_m18 98 rfl) rfl
set_option maxRecDepth 100000 in
theorem q4555 : (Jvm.Cond.methodLink "PascalHouseModel" (1162 : Nat) ({ cls := "PascalHouseModel", name := "upperBits", desc := "(II)J" } : Jvm.MethodName)) ∈ lw_all := lw_g (lw_at lw_m18 99 rfl) rfl
set_option maxRecDepth 100000 in
theorem q4556 : (Jvm.Cond.static ({ cls := "PascalHouseModel", name := "upperBits", desc := "(II)J" } : Jvm.MethodName)) ∈ lw_all := lw_g (lw_at lw_m18 100 rfl) rfl
set_option maxRecDepth 100000 in
theorem q4557 : (Jvm.Cond.code ({ cls := "PascalHouseModel", name := "upperBits", desc := "(II)J" } : Jvm.MethodName) prog_24_method_141_code (5 : Nat) (Option.some Jvm.ClassFile.FieldType.long)) ∈ lw_all := lw_g (lw_at lw_m18 101 rfl) rfl
set_option maxRecDepth 100000 in
theorem q4558 : (Jvm.Cond.methodLink "PascalHouseModel" (1242 : Nat) ({ cls := "PascalHouseModel", name := "there", desc := "(III)V" } : Jvm.MethodName)) ∈ lw_all := lw_g (lw_at lw_m18 102 rfl) rfl
set_option maxRecDepth 100000 in
theorem q4560 : (Jvm.Cond.instanceMethod ({ cls := "PascalHouseModel", name := "there", desc := "(III)V" } : Jvm.MethodName)) ∈ lw_all := lw_g (lw_at lw_m18 104 rfl) rfl
set_option maxRecDepth 100000 in
theorem q4561 : (Jvm.Cond.code ({ cls := "PascalHouseModel", name := "there", desc := "(III)V" } : Jvm.MethodName) prog_24_method_170_code (6 : Nat) (Option.none : Option Jvm.ClassFile.FieldType)) ∈ lw_all := lw_g (lw_at lw_m18 105 rfl) rfl
set_option maxRecDepth 100000 in
theorem q4562 : (Jvm.Cond.methodLink "PascalHouseModel" (1307 : Nat) ({ cls := "java/lang/Math", name := "abs", desc := "(J)J" } : Jvm.MethodName)) ∈ lw_all := lw_g (lw_at lw_m18 106 rfl) rfl
set_option maxRecDepth 100000 in
theorem q4563 : (Jvm.Cond.static ({ cls := "java/lang/Math", name := "abs", desc := "(J)J" } : Jvm.MethodName)) ∈ lw_all := lw_g (lw_at lw_m18 107 rfl) rfl
set_option maxRecDepth 100000 in
theorem q4564 : (Jvm.Cond.code ({ cls := "java/lang/Math", name := "abs", desc := "(J)J" } : Jvm.MethodName) prog_46_method_61_code (2 : Nat) (Option.some Jvm.ClassFile.FieldType.long)) ∈ lw_all := lw_g (lw_at lw_m18 108 rfl) rfl
set_option maxRecDepth 100000 in
theorem q4565 : (Jvm.Cond.methodLink "PascalHouseModel" (1310 : Nat) ({ cls := "java/lang/Math", name := "abs", desc := "(D)D" } : Jvm.MethodName)) ∈ lw_all := lw_g (lw_at lw_m18 109 rfl) rfl
set_option maxRecDepth 100000 in
theorem q4566 : (Jvm.Cond.static ({ cls := "java/lang/Math", name := "abs", desc := "(D)D" } : Jvm.MethodName)) ∈ lw_all := lw_g (lw_at lw_m18 110 rfl) rfl
set_option maxRecDepth 100000 in
theorem q4567 : (Jvm.Cond.code ({ cls := "java/lang/Math", name := "abs", desc := "(D)D" } : Jvm.MethodName) prog_46_method_64_code (2 : Nat) (Option.some Jvm.ClassFile.FieldType.double)) ∈ lw_all := lw_g (lw_at lw_m18 111 rfl) rfl
set_option maxRecDepth 100000 in
theorem q4571 : (Jvm.Cond.methodLink "PascalHouseModel" (1283 : Nat) ({ cls := "PascalHouseModel", name := "isFinite", desc := "(D)Z" } : Jvm.MethodName)) ∈ lw_all := lw_g (lw_at lw_m18 115 rfl) rfl
set_option maxRecDepth 100000 in
theorem q4572 : (Jvm.Cond.static ({ cls := "PascalHouseModel", name := "isFinite", desc := "(D)Z" } : Jvm.MethodName)) ∈ lw_all := lw_g (lw_at lw_m18 116 rfl) rfl
set_option maxRecDepth 100000 in
theorem q4573 : (Jvm.Cond.code ({ cls := "PascalHouseModel", name := "isFinite", desc := "(D)Z" } : Jvm.MethodName) prog_24_method_161_code (2 : Nat) (Option.some Jvm.ClassFile.FieldType.boolean)) ∈ lw_all := lw_g (lw_at lw_m18 117 rfl) rfl
set_option maxRecDepth 100000 in
theorem q4574 : (Jvm.Cond.constantDouble "PascalHouseModel" (1275 : Nat) (18442240474082181119 : UInt64)) ∈ lw_all := lw_g (lw_at lw_m18 118 rfl) rfl
set_option maxRecDepth 100000 in
theorem q4575 : (Jvm.Cond.constantDouble "PascalHouseModel" (1277 : Nat) (9218868437227405311 : UInt64)) ∈ lw_all := lw_g (lw_at lw_m18 119 rfl) rfl
set_option maxRecDepth 100000 in
theorem q4576 : (Jvm.Cond.methodLink "PascalHouseModel" (1313 : Nat) ({ cls := "PascalHouseModel", name := "rootOf", desc := "(D)D" } : Jvm.MethodName)) ∈ lw_all := lw_g (lw_at lw_m18 120 rfl) rfl
set_option maxRecDepth 100000 in
theorem q4577 : (Jvm.Cond.static ({ cls := "PascalHouseModel", name := "rootOf", desc := "(D)D" } : Jvm.MethodName)) ∈ lw_all := lw_g (lw_at lw_m18 121 rfl) rfl
set_option maxRecDepth 100000 in
theorem q4578 : (Jvm.Cond.code ({ cls := "PascalHouseModel", name := "rootOf", desc := "(D)D" } : Jvm.MethodName) prog_24_method_172_code (25 : Nat) (Option.some Jvm.ClassFile.FieldType.double)) ∈ lw_all := lw_g (lw_at lw_m18 122 rfl) rfl
set_option maxRecDepth 100000 in
theorem q4579 : (Jvm.Cond.methodLink "PascalHouseModel" (1326 : Nat) ({ cls := "java/lang/Double", name := "doubleToLongBits", desc := "(D)J" } : Jvm.MethodName)) ∈ lw_all := lw_g (lw_at lw_m18 123 rfl) rfl
set_option maxRecDepth 100000 in
theorem q4580 : (Jvm.Cond.static ({ cls := "java/lang/Double", name := "doubleToLongBits", desc := "(D)J" } : Jvm.MethodName)) ∈ lw_all := lw_g (lw_at lw_m18 124 rfl) rfl
set_option maxRecDepth 100000 in
theorem q4581 : (Jvm.Cond.code ({ cls := "java/lang/Double", name := "doubleToLongBits", desc := "(D)J" } : Jvm.MethodName) prog_37_method_23_code (2 : Nat) (Option.some Jvm.ClassFile.FieldType.long)) ∈ lw_all := lw_g (lw_at lw_m18 125 rfl) rfl
set_option maxRecDepth 100000 in
theorem q4582 : (Jvm.Cond.methodLink "java/lang/Double" (122 : Nat) ({ cls := "java/lang/Double", name := "isNaN", desc := "(D)Z" } : Jvm.MethodName)) ∈ lw_all := lw_g (lw_at lw_m18 126 rfl) rfl
set_option maxRecDepth 100000 in
theorem q4583 : (Jvm.Cond.static ({ cls := "java/lang/Double", name := "isNaN", desc := "(D)Z" } : Jvm.MethodName)) ∈ lw_all := lw_g (lw_at lw_m18 127 rfl) rfl
set_option maxRecDepth 100000 in
theorem q4584 : (Jvm.Cond.code ({ cls := "java/lang/Double", name := "isNaN", desc := "(D)Z" } : Jvm.MethodName) prog_37_method_6_code (2 : Nat) (Option.some Jvm.ClassFile.FieldType.boolean)) ∈ lw_all := lw_g (lw_at lw_m18 128 rfl) rfl
set_option maxRecDepth 100000 in
theorem q4585 : (Jvm.Cond.methodLink "java/lang/Double" (134 : Nat) ({ cls := "java/lang/Double", name := "doubleToRawLongBits", desc := "(D)J" } : Jvm.MethodName)) ∈ lw_all := lw_g (lw_at lw_m18 129 rfl) rfl
set_option maxRecDepth 100000 in
theorem q4586 : (Jvm.Cond.constantLong "java/lang/Double" (137 : Nat) (9221120237041090560 : Int64)) ∈ lw_all := lw_g (lw_at lw_m18 130 rfl) rfl
set_option maxRecDepth 100000 in
theorem q4587 : (Jvm.Cond.constantLong "PascalHouseModel" (1332 : Nat) (2047 : Int64)) ∈ lw_all := lw_g (lw_at lw_m18 131 rfl) rfl
set_option maxRecDepth 100000 in
theorem q4588 : (Jvm.Cond.constantLong "PascalHouseModel" (1334 : Nat) (4503599627370495 : Int64)) ∈ lw_all := lw_g (lw_at lw_m18 132 rfl) rfl
set_option maxRecDepth 100000 in
theorem q4589 : (Jvm.Cond.constantLong "PascalHouseModel" (1336 : Nat) (4503599627370496 : Int64)) ∈ lw_all := lw_g (lw_at lw_m18 133 rfl) rfl
set_option maxRecDepth 100000 in
theorem q4590 : (Jvm.Cond.constantLong "PascalHouseModel" (1338 : Nat) (3 : Int64)) ∈ lw_all := lw_g (lw_at lw_m18 134 rfl) rfl
set_option maxRecDepth 100000 in
theorem q4591 : (Jvm.Cond.methodLink "PascalHouseModel" (1340 : Nat) ({ cls := "java/lang/Long", name := "numberOfLeadingZeros", desc := "(J)I" } : Jvm.MethodName)) ∈ lw_all := lw_g (lw_at lw_m18 135 rfl) rfl
set_option maxRecDepth 100000 in
theorem q4592 : (Jvm.Cond.static ({ cls := "java/lang/Long", name := "numberOfLeadingZeros", desc := "(J)I" } : Jvm.MethodName)) ∈ lw_all := lw_g (lw_at lw_m18 136 rfl) rfl
set_option maxRecDepth 100000 in
theorem q4593 : (Jvm.Cond.code ({ cls := "java/lang/Long", name := "numberOfLeadingZeros", desc := "(J)I" } : Jvm.MethodName) prog_45_method_48_code (3 : Nat) (Option.some Jvm.ClassFile.FieldType.int)) ∈ lw_all := lw_g (lw_at lw_m18 137 rfl) rfl
set_option maxRecDepth 100000 in
theorem q4594 : (Jvm.Cond.methodLink "java/lang/Long" (308 : Nat) ({ cls := "java/lang/Integer", name := "numberOfLeadingZeros", desc := "(I)I" } : Jvm.MethodName)) ∈ lw_all := lw_g (lw_at lw_m18 138 rfl) rfl
set_option maxRecDepth 100000 in
theorem q4595 : (Jvm.Cond.static ({ cls := "java/lang/Integer", name := "numberOfLeadingZeros", desc := "(I)I" } : Jvm.MethodName)) ∈ lw_all := lw_g (lw_at lw_m18 139 rfl) rfl
set_option maxRecDepth 100000 in
theorem q4596 : (Jvm.Cond.code ({ cls := "java/lang/Integer", name := "numberOfLeadingZeros", desc := "(I)I" } : Jvm.MethodName) prog_43_method_47_code (2 : Nat) (Option.some Jvm.ClassFile.FieldType.int)) ∈ lw_all := lw_g (lw_at lw_m18 140 rfl) rfl
set_option maxRecDepth 100000 in
theorem q4597 : (Jvm.Cond.constant "java/lang/Integer" (264 : Nat) (65536 : Int32)) ∈ lw_all := lw_g (lw_at lw_m18 141 rfl) rfl
set_option maxRecDepth 100000 in
theorem q4598 : (Jvm.Cond.constantDouble "PascalHouseModel" (1346 : Nat) (4611686018427387904 : UInt64)) ∈ lw_all := lw_g (lw_at lw_m18 142 rfl) rfl
set_option maxRecDepth 100000 in
theorem q4599 : (Jvm.Cond.methodLink "PascalHouseModel" (1316 : Nat) ({ cls := "PascalHouseModel", name := "cut", desc := "(DI)V" } : Jvm.MethodName)) ∈ lw_all := lw_g (lw_at lw_m18 143 rfl) rfl
set_option maxRecDepth 100000 in
theorem q4601 : (Jvm.Cond.instanceMethod ({ cls := "PascalHouseModel", name := "cut", desc := "(DI)V" } : Jvm.MethodName)) ∈ lw_all := lw_g (lw_at lw_m18 145 rfl) rfl
set_option maxRecDepth 100000 in
theorem q4602 : (Jvm.Cond.code ({ cls := "PascalHouseModel", name := "cut", desc := "(DI)V" } : Jvm.MethodName) prog_24_method_171_code (4 : Nat) (Option.none : Option Jvm.ClassFile.FieldType)) ∈ lw_all := lw_g (lw_at lw_m18 146 rfl) rfl
set_option maxRecDepth 100000 in
theorem q4603 : (Jvm.Cond.constantDouble "PascalHouseModel" (1322 : Nat) (4746794007248502784 : UInt64)) ∈ lw_all := lw_g (lw_at lw_m18 147 rfl) rfl
set_option maxRecDepth 100000 in
theorem q4604 : (Jvm.Cond.constantDouble "PascalHouseModel" (1324 : Nat) (13970166044103278592 : UInt64)) ∈ lw_all := lw_g (lw_at lw_m18 148 rfl) rfl
set_option maxRecDepth 100000 in
theorem q4605 : (Jvm.Cond.constantDouble "PascalHouseModel" (1320 : Nat) (4602678819172646912 : UInt64)) ∈ lw_all := lw_g (lw_at lw_m18 149 rfl) rfl
set_option maxRecDepth 100000 in
theorem q4606 : (Jvm.Cond.constantLong "PascalHouseModel" (1160 : Nat) (-1 : Int64)) ∈ lw_all := lw_g (lw_at lw_m18 150 rfl) rfl
set_option maxRecDepth 100000 in
theorem q4607 : (Jvm.Cond.methodLink "PascalHouseModel" (1244 : Nat) ({ cls := "PascalHouseModel", name := "call", desc := "(LPascalHouseModel$Symbol;IZI)V" } : Jvm.MethodName)) ∈ lw_all := lw_g (lw_at lw_m18 151 rfl) rfl
set_option maxRecDepth 100000 in
theorem q4609 : (Jvm.Cond.instanceMethod ({ cls := "PascalHouseModel", name := "call", desc := "(LPascalHouseModel$Symbol;IZI)V" } : Jvm.MethodName)) ∈ lw_all := lw_g (lw_at lw_m18 153 rfl) rfl
set_option maxRecDepth 100000 in
theorem q4610 : (Jvm.Cond.code ({ cls := "PascalHouseModel", name := "call", desc := "(LPascalHouseModel$Symbol;IZI)V" } : Jvm.MethodName) prog_24_method_174_code (13 : Nat) (Option.none : Option Jvm.ClassFile.FieldType)) ∈ lw_all := lw_g (lw_at lw_m18 154 rfl) rfl
set_option maxRecDepth 100000 in
theorem q4611 : (Jvm.Cond.methodLink "PascalHouseModel" (1351 : Nat) ({ cls := "PascalHouseModel", name := "giveRoutine", desc := "(LPascalHouseModel$Symbol;I)V" } : Jvm.MethodName)) ∈ lw_all := lw_g (lw_at lw_m18 155 rfl) rfl
set_option maxRecDepth 100000 in
theorem q4613 : (Jvm.Cond.instanceMethod ({ cls := "PascalHouseModel", name := "giveRoutine", desc := "(LPascalHouseModel$Symbol;I)V" } : Jvm.MethodName)) ∈ lw_all := lw_g (lw_at lw_m18 157 rfl) rfl
set_option maxRecDepth 100000 in
theorem q4614 : (Jvm.Cond.code ({ cls := "PascalHouseModel", name := "giveRoutine", desc := "(LPascalHouseModel$Symbol;I)V" } : Jvm.MethodName) prog_24_method_177_code (4 : Nat) (Option.none : Option Jvm.ClassFile.FieldType)) ∈ lw_all := lw_g (lw_at lw_m18 158 rfl) rfl
set_option maxRecDepth 100000 in
theorem q4615 : (Jvm.Cond.methodLink "PascalHouseModel" (1248 : Nat) ({ cls := "PascalHouseModel", name := "find1", desc := "(I)V" } : Jvm.MethodName)) ∈ lw_all := lw_g (lw_at lw_m18 159 rfl) rfl
set_option maxRecDepth 100000 in
theorem q4617 : (Jvm.Cond.instanceMethod ({ cls := "PascalHouseModel", name := "find1", desc := "(I)V" } : Jvm.MethodName)) ∈ lw_all := lw_g (lw_at lw_m18 161 rfl) rfl
set_option maxRecDepth 100000 in
theorem q4618 : (Jvm.Cond.code ({ cls := "PascalHouseModel", name := "find1", desc := "(I)V" } : Jvm.MethodName) prog_24_method_157_code (6 : Nat) (Option.none : Option Jvm.ClassFile.FieldType)) ∈ lw_all := lw_g (lw_at lw_m18 162 rfl) rfl
set_option maxRecDepth 100000 in
theorem q4619 : (Jvm.Cond.methodLink "PascalHouseModel" (1219 : Nat) ({ cls := "PascalHouseModel", name := "activate", desc := "(LPascalHouseModel$Variants;III)V" } : Jvm.MethodName)) ∈ lw_all := lw_g (lw_at lw_m18 163 rfl) rfl
set_option maxRecDepth 100000 in
theorem q4621 : (Jvm.Cond.instanceMethod ({ cls := "PascalHouseModel", name := "activate", desc := "(LPascalHouseModel$Variants;III)V" } : Jvm.MethodName)) ∈ lw_all := lw_g (lw_at lw_m18 165 rfl) rfl
set_option maxRecDepth 100000 in
theorem q4622 : (Jvm.Cond.code ({ cls := "PascalHouseModel", name := "activate", desc := "(LPascalHouseModel$Variants;III)V" } : Jvm.MethodName) prog_24_method_156_code (7 : Nat) (Option.none : Option Jvm.ClassFile.FieldType)) ∈ lw_all := lw_g (lw_at lw_m18 166 rfl) rfl
set_option maxRecDepth 100000 in
theorem q4623 : (Jvm.Cond.methodLink "PascalHouseModel" (1354 : Nat) ({ cls := "PascalHouseModel", name := "giveValue", desc := "(ILPascalHouseModel$Symbol;I)V" } : Jvm.MethodName)) ∈ lw_all := lw_g (lw_at lw_m18 167 rfl) rfl
set_option maxRecDepth 100000 in
theorem q4625 : (Jvm.Cond.instanceMethod ({ cls := "PascalHouseModel", name := "giveValue", desc := "(ILPascalHouseModel$Symbol;I)V" } : Jvm.MethodName)) ∈ lw_all := lw_g (lw_at lw_m18 169 rfl) rfl
set_option maxRecDepth 100000 in
theorem q4626 : (Jvm.Cond.code ({ cls := "PascalHouseModel", name := "giveValue", desc := "(ILPascalHouseModel$Symbol;I)V" } : Jvm.MethodName) prog_24_method_178_code (4 : Nat) (Option.none : Option Jvm.ClassFile.FieldType)) ∈ lw_all := lw_g (lw_at lw_m18 170 rfl) rfl
set_option maxRecDepth 100000 in
theorem q4627 : (Jvm.Cond.methodLink "PascalHouseModel" (1139 : Nat) ({ cls := "PascalHouseModel$Type", name := "isKept", desc := "()Z" } : Jvm.MethodName)) ∈ lw_all := lw_g (lw_at lw_m18 171 rfl) rfl
set_option maxRecDepth 100000 in
theorem q4628 : (Jvm.Cond.instanceMethod ({ cls := "PascalHouseModel$Type", name := "isKept", desc := "()Z" } : Jvm.MethodName)) ∈ lw_all := lw_g (lw_at lw_m18 172 rfl) rfl
set_option maxRecDepth 100000 in
theorem q4629 : (Jvm.Cond.selects "PascalHouseModel$Type" ({ cls := "PascalHouseModel$Type", name := "isKept", desc := "()Z" } : Jvm.MethodName) ({ cls := "PascalHouseModel$Type", name := "isKept", desc := "()Z" } : Jvm.MethodName)) ∈ lw_all := lw_g (lw_at lw_m18 173 rfl) rfl
set_option maxRecDepth 100000 in
theorem q4630 : (Jvm.Cond.code ({ cls := "PascalHouseModel$Type", name := "isKept", desc := "()Z" } : Jvm.MethodName) prog_29_method_6_code (1 : Nat) (Option.some Jvm.ClassFile.FieldType.boolean)) ∈ lw_all := lw_g (lw_at lw_m18 174 rfl) rfl
set_option maxRecDepth 100000 in
theorem q4631 : (Jvm.Cond.methodLink "PascalHouseModel" (1168 : Nat) ({ cls := "PascalHouseModel", name := "suit", desc := "(LPascalHouseModel$Type;LPascalHouseModel$Type;I)V" } : Jvm.MethodName)) ∈ lw_all := lw_g (lw_at lw_m18 175 rfl) rfl
set_option maxRecDepth 100000 in
theorem q4633 : (Jvm.Cond.instanceMethod ({ cls := "PascalHouseModel", name := "suit", desc := "(LPascalHouseModel$Type;LPascalHouseModel$Type;I)V" } : Jvm.MethodName)) ∈ lw_all := lw_g (lw_at lw_m18 177 rfl) rfl
set_option maxRecDepth 100000 in
theorem q4634 : (Jvm.Cond.code ({ cls := "PascalHouseModel", name := "suit", desc := "(LPascalHouseModel$Type;LPascalHouseModel$Type;I)V" } : Jvm.MethodName) prog_24_method_142_code (4 : Nat) (Option.none : Option Jvm.ClassFile.FieldType)) ∈ lw_all := lw_g (lw_at lw_m18 178 rfl) rfl
set_option maxRecDepth 100000 in
theorem q4635 : (Jvm.Cond.methodLink "PascalHouseModel" (1363 : Nat) ({ cls := "PascalHouseModel", name := "enterRoutine", desc := "(LPascalHouseModel$Symbol;I)V" } : Jvm.MethodName)) ∈ lw_all := lw_g (lw_at lw_m18 179 rfl) rfl
set_option maxRecDepth 100000 in
theorem q4637 : (Jvm.Cond.instanceMethod ({ cls := "PascalHouseModel", name := "enterRoutine", desc := "(LPascalHouseModel$Symbol;I)V" } : Jvm.MethodName)) ∈ lw_all := lw_g (lw_at lw_m18 181 rfl) rfl
set_option maxRecDepth 100000 in
theorem q4638 : (Jvm.Cond.code ({ cls := "PascalHouseModel", name := "enterRoutine", desc := "(LPascalHouseModel$Symbol;I)V" } : Jvm.MethodName) prog_24_method_175_code (7 : Nat) (Option.none : Option Jvm.ClassFile.FieldType)) ∈ lw_all := lw_g (lw_at lw_m18 182 rfl) rfl
set_option maxRecDepth 100000 in
theorem q4639 : (Jvm.Cond.methodLink "PascalHouseModel" (1366 : Nat) ({ cls := "PascalHouseModel", name := "receive", desc := "(LPascalHouseModel$Symbol;II)V" } : Jvm.MethodName)) ∈ lw_all := lw_g (lw_at lw_m18 183 rfl) rfl
set_option maxRecDepth 100000 in
theorem q4641 : (Jvm.Cond.instanceMethod ({ cls := "PascalHouseModel", name := "receive", desc := "(LPascalHouseModel$Symbol;II)V" } : Jvm.MethodName)) ∈ lw_all := lw_g (lw_at lw_m18 185 rfl) rfl
set_option maxRecDepth 100000 in
theorem q4642 : (Jvm.Cond.code ({ cls := "PascalHouseModel", name := "receive", desc := "(LPascalHouseModel$Symbol;II)V" } : Jvm.MethodName) prog_24_method_179_code (5 : Nat) (Option.none : Option Jvm.ClassFile.FieldType)) ∈ lw_all := lw_g (lw_at lw_m18 186 rfl) rfl
set_option maxRecDepth 100000 in
theorem q4643 : (Jvm.Cond.methodLink "PascalHouseModel" (1165 : Nat) ({ cls := "PascalHouseModel", name := "copy", desc := "(III)V" } : Jvm.MethodName)) ∈ lw_all := lw_g (lw_at lw_m18 187 rfl) rfl
set_option maxRecDepth 100000 in
theorem q4645 : (Jvm.Cond.instanceMethod ({ cls := "PascalHouseModel", name := "copy", desc := "(III)V" } : Jvm.MethodName)) ∈ lw_all := lw_g (lw_at lw_m18 189 rfl) rfl
set_option maxRecDepth 100000 in
theorem q4646 : (Jvm.Cond.code ({ cls := "PascalHouseModel", name := "copy", desc := "(III)V" } : Jvm.MethodName) prog_24_method_139_code (6 : Nat) (Option.none : Option Jvm.ClassFile.FieldType)) ∈ lw_all := lw_g (lw_at lw_m18 190 rfl) rfl
set_option maxRecDepth 100000 in
theorem q4647 : (Jvm.Cond.methodLink "PascalHouseModel" (1373 : Nat) ({ cls := "PascalHouseModel", name := "leaveRoutine", desc := "(III)V" } : Jvm.MethodName)) ∈ lw_all := lw_g (lw_at lw_m18 191 rfl) rfl
set_option maxRecDepth 100000 in
theorem q4649 : (Jvm.Cond.instanceMethod ({ cls := "PascalHouseModel", name := "leaveRoutine", desc := "(III)V" } : Jvm.MethodName)) ∈ lw_all := lw_g (lw_at lw_m18 193 rfl) rfl
set_option maxRecDepth 100000 in
theorem q4650 : (Jvm.Cond.code ({ cls := "PascalHouseModel", name := "leaveRoutine", desc := "(III)V" } : Jvm.MethodName) prog_24_method_176_code (4 : Nat) (Option.none : Option Jvm.ClassFile.FieldType)) ∈ lw_all := lw_g (lw_at lw_m18 194 rfl) rfl
set_option maxRecDepth 100000 in
theorem q4651 : (Jvm.Cond.methodLink "PascalHouseModel" (1251 : Nat) ({ cls := "PascalHouseModel", name := "load", desc := "(ILPascalHouseModel$Type;I)V" } : Jvm.MethodName)) ∈ lw_all := lw_g (lw_at lw_m18 195 rfl) rfl
set_option maxRecDepth 100000 in
theorem q4653 : (Jvm.Cond.instanceMethod ({ cls := "PascalHouseModel", name := "load", desc := "(ILPascalHouseModel$Type;I)V" } : Jvm.MethodName)) ∈ lw_all := lw_g (lw_at lw_m18 197 rfl) rfl
set_option maxRecDepth 100000 in
theorem q4654 : (Jvm.Cond.code ({ cls := "PascalHouseModel", name := "load", desc := "(ILPascalHouseModel$Type;I)V" } : Jvm.MethodName) prog_24_method_137_code (4 : Nat) (Option.none : Option Jvm.ClassFile.FieldType)) ∈ lw_all := lw_g (lw_at lw_m18 198 rfl) rfl
set_option maxRecDepth 100000 in
theorem q4655 : (Jvm.Cond.methodLink "PascalHouseModel" (1255 : Nat) ({ cls := "PascalHouseModel", name := "meant", desc := "(I)V" } : Jvm.MethodName)) ∈ lw_all := lw_g (lw_at lw_m18 199 rfl) rfl
set_option maxRecDepth 100000 in
theorem q4657 : (Jvm.Cond.instanceMethod ({ cls := "PascalHouseModel", name := "meant", desc := "(I)V" } : Jvm.MethodName)) ∈ lw_all := lw_g (lw_at lw_m18 201 rfl) rfl
set_option maxRecDepth 100000 in
theorem q4658 : (Jvm.Cond.code ({ cls := "PascalHouseModel", name := "meant", desc := "(I)V" } : Jvm.MethodName) prog_24_method_159_code (3 : Nat) (Option.none : Option Jvm.ClassFile.FieldType)) ∈ lw_all := lw_g (lw_at lw_m18 202 rfl) rfl
set_option maxRecDepth 100000 in
theorem q4659 : (Jvm.Cond.methodLink "PascalHouseModel" (1258 : Nat) ({ cls := "PascalHouseModel", name := "factor", desc := "(I)V" } : Jvm.MethodName)) ∈ lw_all := lw_g (lw_at lw_m18 203 rfl) rfl
set_option maxRecDepth 100000 in
theorem q4661 : (Jvm.Cond.instanceMethod ({ cls := "PascalHouseModel", name := "factor", desc := "(I)V" } : Jvm.MethodName)) ∈ lw_all := lw_g (lw_at lw_m18 205 rfl) rfl
set_option maxRecDepth 100000 in
theorem q4662 : (Jvm.Cond.code ({ cls := "PascalHouseModel", name := "factor", desc := "(I)V" } : Jvm.MethodName) prog_24_method_168_code (3 : Nat) (Option.none : Option Jvm.ClassFile.FieldType)) ∈ lw_all := lw_g (lw_at lw_m18 206 rfl) rfl
set_option maxRecDepth 100000 in
theorem q4663 : (Jvm.Cond.methodLink "PascalHouseModel" (1261 : Nat) ({ cls := "PascalHouseModel", name := "operate", desc := "(JJDLPascalHouseModel$Type;LPascalHouseModel$Type;I)V" } : Jvm.MethodName)) ∈ lw_all := lw_g (lw_at lw_m18 207 rfl) rfl
set_option maxRecDepth 100000 in
theorem q4665 : (Jvm.Cond.instanceMethod ({ cls := "PascalHouseModel", name := "operate", desc := "(JJDLPascalHouseModel$Type;LPascalHouseModel$Type;I)V" } : Jvm.MethodName)) ∈ lw_all := lw_g (lw_at lw_m18 209 rfl) rfl
set_option maxRecDepth 100000 in
theorem q4666 : (Jvm.Cond.code ({ cls := "PascalHouseModel", name := "operate", desc := "(JJDLPascalHouseModel$Type;LPascalHouseModel$Type;I)V" } : Jvm.MethodName) prog_24_method_162_code (16 : Nat) (Option.none : Option Jvm.ClassFile.FieldType)) ∈ lw_all := lw_g (lw_at lw_m18 210 rfl) rfl
set_option maxRecDepth 100000 in
theorem q4667 : (Jvm.Cond.methodLink "PascalHouseModel" (1279 : Nat) ({ cls := "PascalHouseModel", name := "whole", desc := "(JJI)V" } : Jvm.MethodName)) ∈ lw_all := lw_g (lw_at lw_m18 211 rfl) rfl
set_option maxRecDepth 100000 in
theorem q4669 : (Jvm.Cond.instanceMethod ({ cls := "PascalHouseModel", name := "whole", desc := "(JJI)V" } : Jvm.MethodName)) ∈ lw_all := lw_g (lw_at lw_m18 213 rfl) rfl
set_option maxRecDepth 100000 in
theorem q4670 : (Jvm.Cond.code ({ cls := "PascalHouseModel", name := "whole", desc := "(JJI)V" } : Jvm.MethodName) prog_24_method_163_code (7 : Nat) (Option.none : Option Jvm.ClassFile.FieldType)) ∈ lw_all := lw_g (lw_at lw_m18 214 rfl) rfl
set_option maxRecDepth 100000 in
theorem q4671 : (Jvm.Cond.constantLong "PascalHouseModel" (1287 : Nat) (-2147483647 : Int64)) ∈ lw_all := lw_g (lw_at lw_m18 215 rfl) rfl
set_option maxRecDepth 100000 in
theorem q4672 : (Jvm.Cond.methodLink "PascalHouseModel" (1268 : Nat) ({ cls := "PascalHouseModel", name := "negate", desc := "()V" } : Jvm.MethodName)) ∈ lw_all := lw_g (lw_at lw_m18 216 rfl) rfl
set_option maxRecDepth 100000 in
theorem q4674 : (Jvm.Cond.instanceMethod ({ cls := "PascalHouseModel", name := "negate", desc := "()V" } : Jvm.MethodName)) ∈ lw_all := lw_g (lw_at lw_m18 218 rfl) rfl
set_option maxRecDepth 100000 in
theorem q4675 : (Jvm.Cond.code ({ cls := "PascalHouseModel", name := "negate", desc := "()V" } : Jvm.MethodName) prog_24_method_160_code (1 : Nat) (Option.none : Option Jvm.ClassFile.FieldType)) ∈ lw_all := lw_g (lw_at lw_m18 219 rfl) rfl
set_option maxRecDepth 100000 in
theorem q4676 : (Jvm.Cond.methodLink "PascalHouseModel" (1271 : Nat) ({ cls := "PascalHouseModel", name := "relate", desc := "(JJDILPascalHouseModel$Type;LPascalHouseModel$Type;I)V" } : Jvm.MethodName)) ∈ lw_all := lw_g (lw_at lw_m18 220 rfl) rfl
set_option maxRecDepth 100000 in
theorem q4678 : (Jvm.Cond.instanceMethod ({ cls := "PascalHouseModel", name := "relate", desc := "(JJDILPascalHouseModel$Type;LPascalHouseModel$Type;I)V" } : Jvm.MethodName)) ∈ lw_all := lw_g (lw_at lw_m18 222 rfl) rfl
set_option maxRecDepth 100000 in
theorem q4679 : (Jvm.Cond.code ({ cls := "PascalHouseModel", name := "relate", desc := "(JJDILPascalHouseModel$Type;LPascalHouseModel$Type;I)V" } : Jvm.MethodName) prog_24_method_166_code (18 : Nat) (Option.none : Option Jvm.ClassFile.FieldType)) ∈ lw_all := lw_g (lw_at lw_m18 223 rfl) rfl
set_option maxRecDepth 100000 in
theorem q4680 : (Jvm.Cond.constantLong "PascalHouseModel" (1289 : Nat) (128 : Int64)) ∈ lw_all := lw_g (lw_at lw_m18 224 rfl) rfl
set_option maxRecDepth 100000 in
theorem q4681 : (Jvm.Cond.constantLong "PascalHouseModel" (1291 : Nat) (64 : Int64)) ∈ lw_all := lw_g (lw_at lw_m18 225 rfl) rfl
set_option maxRecDepth 100000 in
theorem q4682 : (Jvm.Cond.methodLink "PascalHouseModel" (1293 : Nat) ({ cls := "PascalHouseModel", name := "isWhole", desc := "(II)Z" } : Jvm.MethodName)) ∈ lw_all := lw_g (lw_at lw_m18 226 rfl) rfl
set_option maxRecDepth 100000 in
theorem q4684 : (Jvm.Cond.instanceMethod ({ cls := "PascalHouseModel", name := "isWhole", desc := "(II)Z" } : Jvm.MethodName)) ∈ lw_all := lw_g (lw_at lw_m18 228 rfl) rfl
set_option maxRecDepth 100000 in
theorem q4685 : (Jvm.Cond.code ({ cls := "PascalHouseModel", name := "isWhole", desc := "(II)Z" } : Jvm.MethodName) prog_24_method_165_code (5 : Nat) (Option.some Jvm.ClassFile.FieldType.boolean)) ∈ lw_all := lw_g (lw_at lw_m18 229 rfl) rfl
set_option maxRecDepth 100000 in
theorem q4686 : (Jvm.Cond.methodLink "PascalHouseModel" (1296 : Nat) ({ cls := "PascalHouseModel", name := "signAt", desc := "(II)I" } : Jvm.MethodName)) ∈ lw_all := lw_g (lw_at lw_m18 230 rfl) rfl
set_option maxRecDepth 100000 in
theorem q4688 : (Jvm.Cond.instanceMethod ({ cls := "PascalHouseModel", name := "signAt", desc := "(II)I" } : Jvm.MethodName)) ∈ lw_all := lw_g (lw_at lw_m18 232 rfl) rfl
set_option maxRecDepth 100000 in
theorem q4689 : (Jvm.Cond.code ({ cls := "PascalHouseModel", name := "signAt", desc := "(II)I" } : Jvm.MethodName) prog_24_method_164_code (3 : Nat) (Option.some Jvm.ClassFile.FieldType.int)) ∈ lw_all := lw_g (lw_at lw_m18 233 rfl) rfl
set_option maxRecDepth 100000 in
theorem q4690 : (Jvm.Cond.methodLink "PascalHouseModel" (1299 : Nat) ({ cls := "PascalHouseModel", name := "holds", desc := "(II)Z" } : Jvm.MethodName)) ∈ lw_all := lw_g (lw_at lw_m18 234 rfl) rfl
set_option maxRecDepth 100000 in
theorem q4691 : (Jvm.Cond.static ({ cls := "PascalHouseModel", name := "holds", desc := "(II)Z" } : Jvm.MethodName)) ∈ lw_all := lw_g (lw_at lw_m18 235 rfl) rfl
set_option maxRecDepth 100000 in
theorem q4692 : (Jvm.Cond.code ({ cls := "PascalHouseModel", name := "holds", desc := "(II)Z" } : Jvm.MethodName) prog_24_method_167_code (2 : Nat) (Option.some Jvm.ClassFile.FieldType.boolean)) ∈ lw_all := lw_g (lw_at lw_m18 236 rfl) rfl
set_option maxRecDepth 100000 in
theorem q4693 : (Jvm.Cond.methodLink "PascalHouseModel" (1391 : Nat) ({ cls := "PascalHouseModel", name := "itemOf", desc := "(I)I" } : Jvm.MethodName)) ∈ lw_all := lw_g (lw_at lw_m18 237 rfl) rfl
set_option maxRecDepth 100000 in
theorem q4695 : (Jvm.Cond.instanceMethod ({ cls := "PascalHouseModel", name := "itemOf", desc := "(I)I" } : Jvm.MethodName)) ∈ lw_all := lw_g (lw_at lw_m18 239 rfl) rfl
set_option maxRecDepth 100000 in
theorem q4696 : (Jvm.Cond.code ({ cls := "PascalHouseModel", name := "itemOf", desc := "(I)I" } : Jvm.MethodName) prog_24_method_181_code (4 : Nat) (Option.some Jvm.ClassFile.FieldType.int)) ∈ lw_all := lw_g (lw_at lw_m19 0 rfl) rfl
set_option maxRecDepth 100000 in
theorem q4697 : (Jvm.Cond.methodLink "PascalHouseModel" (1394 : Nat) ({ cls := "PascalHouseModel", name := "bounds", desc := "(IJJ)V" } : Jvm.MethodName)) ∈ lw_all := lw_g (lw_at lw_m19 1 rfl) rfl
set_option maxRecDepth 100000 in
theorem q4699 : (Jvm.Cond.instanceMethod ({ cls := "PascalHouseModel", name := "bounds", desc := "(IJJ)V" } : Jvm.MethodName)) ∈ lw_all := lw_g (lw_at lw_m19 3 rfl) rfl
set_option maxRecDepth 100000 in
theorem q4700 : (Jvm.Cond.code ({ cls := "PascalHouseModel", name := "bounds", desc := "(IJJ)V" } : Jvm.MethodName) prog_24_method_183_code (8 : Nat) (Option.none : Option Jvm.ClassFile.FieldType)) ∈ lw_all := lw_g (lw_at lw_m19 4 rfl) rfl
set_option maxRecDepth 100000 in
theorem q4701 : (Jvm.Cond.methodLink "PascalHouseModel" (1398 : Nat) ({ cls := "PascalHouseModel", name := "openAll", desc := "(I)I" } : Jvm.MethodName)) ∈ lw_all := lw_g (lw_at lw_m19 5 rfl) rfl
set_option maxRecDepth 100000 in
theorem q4703 : (Jvm.Cond.instanceMethod ({ cls := "PascalHouseModel", name := "openAll", desc := "(I)I" } : Jvm.MethodName)) ∈ lw_all := lw_g (lw_at lw_m19 7 rfl) rfl
set_option maxRecDepth 100000 in
theorem q4704 : (Jvm.Cond.code ({ cls := "PascalHouseModel", name := "openAll", desc := "(I)I" } : Jvm.MethodName) prog_24_method_182_code (3 : Nat) (Option.some Jvm.ClassFile.FieldType.int)) ∈ lw_all := lw_g (lw_at lw_m19 8 rfl) rfl
set_option maxRecDepth 100000 in
theorem q4705 : (Jvm.Cond.methodLink "PascalHouseModel" (1401 : Nat) ({ cls := "PascalHouseModel", name := "assign", desc := "(I)V" } : Jvm.MethodName)) ∈ lw_all := lw_g (lw_at lw_m19 9 rfl) rfl
set_option maxRecDepth 100000 in
theorem q4707 : (Jvm.Cond.instanceMethod ({ cls := "PascalHouseModel", name := "assign", desc := "(I)V" } : Jvm.MethodName)) ∈ lw_all := lw_g (lw_at lw_m19 11 rfl) rfl
set_option maxRecDepth 100000 in
theorem q4708 : (Jvm.Cond.code ({ cls := "PascalHouseModel", name := "assign", desc := "(I)V" } : Jvm.MethodName) prog_24_method_184_code (11 : Nat) (Option.none : Option Jvm.ClassFile.FieldType)) ∈ lw_all := lw_g (lw_at lw_m19 12 rfl) rfl
set_option maxRecDepth 100000 in
theorem q4709 : (Jvm.Cond.methodLink "PascalHouseModel" (1407 : Nat) ({ cls := "PascalHouseModel", name := "tagged", desc := "(I)LPascalHouseModel$Variants;" } : Jvm.MethodName)) ∈ lw_all := lw_g (lw_at lw_m19 13 rfl) rfl
set_option maxRecDepth 100000 in
theorem q4711 : (Jvm.Cond.instanceMethod ({ cls := "PascalHouseModel", name := "tagged", desc := "(I)LPascalHouseModel$Variants;" } : Jvm.MethodName)) ∈ lw_all := lw_g (lw_at lw_m19 15 rfl) rfl
set_option maxRecDepth 100000 in
theorem q4712 : (Jvm.Cond.code ({ cls := "PascalHouseModel", name := "tagged", desc := "(I)LPascalHouseModel$Variants;" } : Jvm.MethodName) prog_24_method_185_code (3 : Nat) (Option.some (Jvm.ClassFile.FieldType.object "PascalHouseModel$Variants"))) ∈ lw_all := lw_g (lw_at lw_m19 16 rfl) rfl
set_option maxRecDepth 100000 in
theorem q4713 : (Jvm.Cond.methodLink "PascalHouseModel" (1411 : Nat) ({ cls := "PascalHouseModel", name := "store", desc := "(ILPascalHouseModel$Type;LPascalHouseModel$Type;I)V" } : Jvm.MethodName)) ∈ lw_all := lw_g (lw_at lw_m19 17 rfl) rfl
set_option maxRecDepth 100000 in
theorem q4715 : (Jvm.Cond.instanceMethod ({ cls := "PascalHouseModel", name := "store", desc := "(ILPascalHouseModel$Type;LPascalHouseModel$Type;I)V" } : Jvm.MethodName)) ∈ lw_all := lw_g (lw_at lw_m19 19 rfl) rfl
set_option maxRecDepth 100000 in
theorem q4716 : (Jvm.Cond.code ({ cls := "PascalHouseModel", name := "store", desc := "(ILPascalHouseModel$Type;LPascalHouseModel$Type;I)V" } : Jvm.MethodName) prog_24_method_143_code (5 : Nat) (Option.none : Option Jvm.ClassFile.FieldType)) ∈ lw_all := lw_g (lw_at lw_m19 20 rfl) rfl
set_option maxRecDepth 100000 in
theorem q4717 : (Jvm.Cond.methodLink "PascalHouseModel" (1172 : Nat) ({ cls := "PascalHouseModel", name := "keep", desc := "(I)V" } : Jvm.MethodName)) ∈ lw_all := lw_g (lw_at lw_m19 21 rfl) rfl
set_option maxRecDepth 100000 in
theorem q4719 : (Jvm.Cond.instanceMethod ({ cls := "PascalHouseModel", name := "keep", desc := "(I)V" } : Jvm.MethodName)) ∈ lw_all := lw_g (lw_at lw_m19 23 rfl) rfl
set_option maxRecDepth 100000 in
theorem q4720 : (Jvm.Cond.code ({ cls := "PascalHouseModel", name := "keep", desc := "(I)V" } : Jvm.MethodName) prog_24_method_138_code (2 : Nat) (Option.none : Option Jvm.ClassFile.FieldType)) ∈ lw_all := lw_g (lw_at lw_m19 24 rfl) rfl
set_option maxRecDepth 100000 in
theorem q4721 : (Jvm.Cond.methodLink "PascalHouseModel" (1404 : Nat) ({ cls := "PascalHouseModel", name := "work", desc := "(II)V" } : Jvm.MethodName)) ∈ lw_all := lw_g (lw_at lw_m19 25 rfl) rfl
set_option maxRecDepth 100000 in
theorem q4723 : (Jvm.Cond.instanceMethod ({ cls := "PascalHouseModel", name := "work", desc := "(II)V" } : Jvm.MethodName)) ∈ lw_all := lw_g (lw_at lw_m19 27 rfl) rfl
set_option maxRecDepth 100000 in
theorem q4724 : (Jvm.Cond.code ({ cls := "PascalHouseModel", name := "work", desc := "(II)V" } : Jvm.MethodName) prog_24_method_186_code (5 : Nat) (Option.none : Option Jvm.ClassFile.FieldType)) ∈ lw_all := lw_g (lw_at lw_m19 28 rfl) rfl
set_option maxRecDepth 100000 in
theorem q4725 : (Jvm.Cond.methodLink "PascalHouseModel" (1415 : Nat) ({ cls := "PascalHouseModel", name := "readAll", desc := "(II)V" } : Jvm.MethodName)) ∈ lw_all := lw_g (lw_at lw_m19 29 rfl) rfl
set_option maxRecDepth 100000 in
theorem q4727 : (Jvm.Cond.instanceMethod ({ cls := "PascalHouseModel", name := "readAll", desc := "(II)V" } : Jvm.MethodName)) ∈ lw_all := lw_g (lw_at lw_m19 31 rfl) rfl
set_option maxRecDepth 100000 in
theorem q4728 : (Jvm.Cond.code ({ cls := "PascalHouseModel", name := "readAll", desc := "(II)V" } : Jvm.MethodName) prog_24_method_188_code (10 : Nat) (Option.none : Option Jvm.ClassFile.FieldType)) ∈ lw_all := lw_g (lw_at lw_m19 32 rfl) rfl
set_option maxRecDepth 100000 in
theorem q4729 : (Jvm.Cond.methodLink "PascalHouseModel" (1442 : Nat) ({ cls := "PascalHouseModel", name := "readNumber", desc := "(IILPascalHouseModel$Type;II)V" } : Jvm.MethodName)) ∈ lw_all := lw_g (lw_at lw_m19 33 rfl) rfl
set_option maxRecDepth 100000 in
theorem q4731 : (Jvm.Cond.instanceMethod ({ cls := "PascalHouseModel", name := "readNumber", desc := "(IILPascalHouseModel$Type;II)V" } : Jvm.MethodName)) ∈ lw_all := lw_g (lw_at lw_m19 35 rfl) rfl
set_option maxRecDepth 100000 in
theorem q4732 : (Jvm.Cond.code ({ cls := "PascalHouseModel", name := "readNumber", desc := "(IILPascalHouseModel$Type;II)V" } : Jvm.MethodName) prog_24_method_192_code (20 : Nat) (Option.none : Option Jvm.ClassFile.FieldType)) ∈ lw_all := lw_g (lw_at lw_m19 36 rfl) rfl
set_option maxRecDepth 100000 in
theorem q4733 : (Jvm.Cond.methodLink "PascalHouseModel" (1450 : Nat) ({ cls := "PascalHouseModel", name := "signHere", desc := "(I)I" } : Jvm.MethodName)) ∈ lw_all := lw_g (lw_at lw_m19 37 rfl) rfl
set_option maxRecDepth 100000 in
theorem q4735 : (Jvm.Cond.instanceMethod ({ cls := "PascalHouseModel", name := "signHere", desc := "(I)I" } : Jvm.MethodName)) ∈ lw_all := lw_g (lw_at lw_m19 39 rfl) rfl
set_option maxRecDepth 100000 in
theorem q4736 : (Jvm.Cond.code ({ cls := "PascalHouseModel", name := "signHere", desc := "(I)I" } : Jvm.MethodName) prog_24_method_190_code (2 : Nat) (Option.some Jvm.ClassFile.FieldType.int)) ∈ lw_all := lw_g (lw_at lw_m19 40 rfl) rfl
set_option maxRecDepth 100000 in
theorem q4737 : (Jvm.Cond.methodLink "PascalHouseModel" (1207 : Nat) ({ cls := "PascalHouseModel", name := "goOn", desc := "(I)V" } : Jvm.MethodName)) ∈ lw_all := lw_g (lw_at lw_m19 41 rfl) rfl
set_option maxRecDepth 100000 in
theorem q4739 : (Jvm.Cond.instanceMethod ({ cls := "PascalHouseModel", name := "goOn", desc := "(I)V" } : Jvm.MethodName)) ∈ lw_all := lw_g (lw_at lw_m19 43 rfl) rfl
set_option maxRecDepth 100000 in
theorem q4740 : (Jvm.Cond.code ({ cls := "PascalHouseModel", name := "goOn", desc := "(I)V" } : Jvm.MethodName) prog_24_method_151_code (4 : Nat) (Option.none : Option Jvm.ClassFile.FieldType)) ∈ lw_all := lw_g (lw_at lw_m19 44 rfl) rfl
set_option maxRecDepth 100000 in
theorem q4741 : (Jvm.Cond.methodLink "PascalHouseModel" (1194 : Nat) ({ cls := "PascalHouseModel", name := "weight", desc := "(LPascalHouseModel$Type;)I" } : Jvm.MethodName)) ∈ lw_all := lw_g (lw_at lw_m19 45 rfl) rfl
set_option maxRecDepth 100000 in
theorem q4742 : (Jvm.Cond.static ({ cls := "PascalHouseModel", name := "weight", desc := "(LPascalHouseModel$Type;)I" } : Jvm.MethodName)) ∈ lw_all := lw_g (lw_at lw_m19 46 rfl) rfl
set_option maxRecDepth 100000 in
theorem q4743 : (Jvm.Cond.code ({ cls := "PascalHouseModel", name := "weight", desc := "(LPascalHouseModel$Type;)I" } : Jvm.MethodName) prog_24_method_145_code (1 : Nat) (Option.some Jvm.ClassFile.FieldType.int)) ∈ lw_all := lw_g (lw_at lw_m19 47 rfl) rfl
set_option maxRecDepth 100000 in
theorem q4744 : (Jvm.Cond.methodLink "PascalHouseModel" (1181 : Nat) ({ cls := "java/lang/Math", name := "max", desc := "(JJ)J" } : Jvm.MethodName)) ∈ lw_all := lw_g (lw_at lw_m19 48 rfl) rfl
set_option maxRecDepth 100000 in
theorem q4745 : (Jvm.Cond.static ({ cls := "java/lang/Math", name := "max", desc := "(JJ)J" } : Jvm.MethodName)) ∈ lw_all := lw_g (lw_at lw_m19 49 rfl) rfl
set_option maxRecDepth 100000 in
theorem q4746 : (Jvm.Cond.code ({ cls := "java/lang/Math", name := "max", desc := "(JJ)J" } : Jvm.MethodName) prog_46_method_66_code (4 : Nat) (Option.some Jvm.ClassFile.FieldType.long)) ∈ lw_all := lw_g (lw_at lw_m19 50 rfl) rfl
set_option maxRecDepth 100000 in
theorem q4747 : (Jvm.Cond.methodLink "PascalHouseModel" (1453 : Nat) ({ cls := "PascalHouseModel", name := "signBehind", desc := "(I)I" } : Jvm.MethodName)) ∈ lw_all := lw_g (lw_at lw_m19 51 rfl) rfl
set_option maxRecDepth 100000 in
theorem q4749 : (Jvm.Cond.instanceMethod ({ cls := "PascalHouseModel", name := "signBehind", desc := "(I)I" } : Jvm.MethodName)) ∈ lw_all := lw_g (lw_at lw_m19 53 rfl) rfl
set_option maxRecDepth 100000 in
theorem q4750 : (Jvm.Cond.code ({ cls := "PascalHouseModel", name := "signBehind", desc := "(I)I" } : Jvm.MethodName) prog_24_method_191_code (2 : Nat) (Option.some Jvm.ClassFile.FieldType.int)) ∈ lw_all := lw_g (lw_at lw_m19 54 rfl) rfl
set_option maxRecDepth 100000 in
theorem q4751 : (Jvm.Cond.constantLong "PascalHouseModel" (1456 : Nat) (100000000000000000 : Int64)) ∈ lw_all := lw_g (lw_at lw_m19 55 rfl) rfl
set_option maxRecDepth 100000 in
theorem q4752 : (Jvm.Cond.methodLink "PascalHouseModel" (1446 : Nat) ({ cls := "PascalHouseModel", name := "readPart", desc := "(IILPascalHouseModel$Type;I)V" } : Jvm.MethodName)) ∈ lw_all := lw_g (lw_at lw_m19 56 rfl) rfl
set_option maxRecDepth 100000 in
theorem q4754 : (Jvm.Cond.instanceMethod ({ cls := "PascalHouseModel", name := "readPart", desc := "(IILPascalHouseModel$Type;I)V" } : Jvm.MethodName)) ∈ lw_all := lw_g (lw_at lw_m19 58 rfl) rfl
set_option maxRecDepth 100000 in
theorem q4755 : (Jvm.Cond.code ({ cls := "PascalHouseModel", name := "readPart", desc := "(IILPascalHouseModel$Type;I)V" } : Jvm.MethodName) prog_24_method_189_code (6 : Nat) (Option.none : Option Jvm.ClassFile.FieldType)) ∈ lw_all := lw_g (lw_at lw_m19 59 rfl) rfl
set_option maxRecDepth 100000 in
theorem q4756 : (Jvm.Cond.methodLink "PascalHouseModel" (1418 : Nat) ({ cls := "PascalHouseModel", name := "writeAll", desc := "(II)V" } : Jvm.MethodName)) ∈ lw_all := lw_g (lw_at lw_m19 60 rfl) rfl
set_option maxRecDepth 100000 in
theorem q4758 : (Jvm.Cond.instanceMethod ({ cls := "PascalHouseModel", name := "writeAll", desc := "(II)V" } : Jvm.MethodName)) ∈ lw_all := lw_g (lw_at lw_m19 62 rfl) rfl
set_option maxRecDepth 100000 in
theorem q4759 : (Jvm.Cond.code ({ cls := "PascalHouseModel", name := "writeAll", desc := "(II)V" } : Jvm.MethodName) prog_24_method_193_code (6 : Nat) (Option.none : Option Jvm.ClassFile.FieldType)) ∈ lw_all := lw_g (lw_at lw_m19 63 rfl) rfl
set_option maxRecDepth 100000 in
theorem q4760 : (Jvm.Cond.methodLink "PascalHouseModel" (1458 : Nat) ({ cls := "PascalHouseModel", name := "writeText", desc := "(III)V" } : Jvm.MethodName)) ∈ lw_all := lw_g (lw_at lw_m19 64 rfl) rfl
set_option maxRecDepth 100000 in
theorem q4762 : (Jvm.Cond.instanceMethod ({ cls := "PascalHouseModel", name := "writeText", desc := "(III)V" } : Jvm.MethodName)) ∈ lw_all := lw_g (lw_at lw_m19 66 rfl) rfl
set_option maxRecDepth 100000 in
theorem q4763 : (Jvm.Cond.code ({ cls := "PascalHouseModel", name := "writeText", desc := "(III)V" } : Jvm.MethodName) prog_24_method_195_code (17 : Nat) (Option.none : Option Jvm.ClassFile.FieldType)) ∈ lw_all := lw_g (lw_at lw_m19 67 rfl) rfl
set_option maxRecDepth 100000 in
theorem q4764 : (Jvm.Cond.constantLong "PascalHouseModel" (1464 : Nat) (100 : Int64)) ∈ lw_all := lw_g (lw_at lw_m19 68 rfl) rfl
set_option maxRecDepth 100000 in
theorem q4765 : (Jvm.Cond.constantLong "PascalHouseModel" (1466 : Nat) (9 : Int64)) ∈ lw_all := lw_g (lw_at lw_m19 69 rfl) rfl
set_option maxRecDepth 100000 in
theorem q4766 : (Jvm.Cond.methodLink "PascalHouseModel" (1471 : Nat) ({ cls := "PascalHouseModel", name := "layOut", desc := "(IIIIZI)V" } : Jvm.MethodName)) ∈ lw_all := lw_g (lw_at lw_m19 70 rfl) rfl
set_option maxRecDepth 100000 in
theorem q4768 : (Jvm.Cond.instanceMethod ({ cls := "PascalHouseModel", name := "layOut", desc := "(IIIIZI)V" } : Jvm.MethodName)) ∈ lw_all := lw_g (lw_at lw_m19 72 rfl) rfl
set_option maxRecDepth 100000 in
theorem q4769 : (Jvm.Cond.code ({ cls := "PascalHouseModel", name := "layOut", desc := "(IIIIZI)V" } : Jvm.MethodName) prog_24_method_196_code (10 : Nat) (Option.none : Option Jvm.ClassFile.FieldType)) ∈ lw_all := lw_g (lw_at lw_m19 73 rfl) rfl
set_option maxRecDepth 100000 in
theorem q4770 : (Jvm.Cond.methodLink "PascalHouseModel" (1210 : Nat) ({ cls := "PascalHouseModel", name := "hasRoom", desc := "(II)Z" } : Jvm.MethodName)) ∈ lw_all := lw_g (lw_at lw_m19 74 rfl) rfl
set_option maxRecDepth 100000 in
theorem q4772 : (Jvm.Cond.instanceMethod ({ cls := "PascalHouseModel", name := "hasRoom", desc := "(II)Z" } : Jvm.MethodName)) ∈ lw_all := lw_g (lw_at lw_m19 76 rfl) rfl
set_option maxRecDepth 100000 in
theorem q4773 : (Jvm.Cond.code ({ cls := "PascalHouseModel", name := "hasRoom", desc := "(II)Z" } : Jvm.MethodName) prog_24_method_149_code (3 : Nat) (Option.some Jvm.ClassFile.FieldType.boolean)) ∈ lw_all := lw_g (lw_at lw_m19 77 rfl) rfl
set_option maxRecDepth 100000 in
theorem q4774 : (Jvm.Cond.methodLink "PascalHouseModel" (1475 : Nat) ({ cls := "PascalHouseModel", name := "spellReal", desc := "(DII)V" } : Jvm.MethodName)) ∈ lw_all := lw_g (lw_at lw_m19 78 rfl) rfl
set_option maxRecDepth 100000 in
theorem q4776 : (Jvm.Cond.instanceMethod ({ cls := "PascalHouseModel", name := "spellReal", desc := "(DII)V" } : Jvm.MethodName)) ∈ lw_all := lw_g (lw_at lw_m19 80 rfl) rfl
set_option maxRecDepth 100000 in
theorem q4777 : (Jvm.Cond.code ({ cls := "PascalHouseModel", name := "spellReal", desc := "(DII)V" } : Jvm.MethodName) prog_24_method_201_code (15 : Nat) (Option.none : Option Jvm.ClassFile.FieldType)) ∈ lw_all := lw_g (lw_at lw_m19 81 rfl) rfl
set_option maxRecDepth 100000 in
theorem q4778 : (Jvm.Cond.constantDouble "PascalHouseModel" (1494 : Nat) (4741671816366391296 : UInt64)) ∈ lw_all := lw_g (lw_at lw_m19 82 rfl) rfl
set_option maxRecDepth 100000 in
theorem q4779 : (Jvm.Cond.methodLink "PascalHouseModel" (1487 : Nat) ({ cls := "PascalHouseModel", name := "say", desc := "(I)V" } : Jvm.MethodName)) ∈ lw_all := lw_g (lw_at lw_m19 83 rfl) rfl
set_option maxRecDepth 100000 in
theorem q4781 : (Jvm.Cond.instanceMethod ({ cls := "PascalHouseModel", name := "say", desc := "(I)V" } : Jvm.MethodName)) ∈ lw_all := lw_g (lw_at lw_m19 85 rfl) rfl
set_option maxRecDepth 100000 in
theorem q4782 : (Jvm.Cond.code ({ cls := "PascalHouseModel", name := "say", desc := "(I)V" } : Jvm.MethodName) prog_24_method_197_code (2 : Nat) (Option.none : Option Jvm.ClassFile.FieldType)) ∈ lw_all := lw_g (lw_at lw_m19 86 rfl) rfl
set_option maxRecDepth 100000 in
theorem q4783 : (Jvm.Cond.methodLink "PascalHouseModel" (1490 : Nat) ({ cls := "PascalHouseModel", name := "spellDigits", desc := "(JI)V" } : Jvm.MethodName)) ∈ lw_all := lw_g (lw_at lw_m19 87 rfl) rfl
set_option maxRecDepth 100000 in
theorem q4785 : (Jvm.Cond.instanceMethod ({ cls := "PascalHouseModel", name := "spellDigits", desc := "(JI)V" } : Jvm.MethodName)) ∈ lw_all := lw_g (lw_at lw_m19 89 rfl) rfl
set_option maxRecDepth 100000 in
theorem q4786 : (Jvm.Cond.code ({ cls := "PascalHouseModel", name := "spellDigits", desc := "(JI)V" } : Jvm.MethodName) prog_24_method_199_code (7 : Nat) (Option.none : Option Jvm.ClassFile.FieldType)) ∈ lw_all := lw_g (lw_at lw_m19 90 rfl) rfl
set_option maxRecDepth 100000 in
theorem q4787 : (Jvm.Cond.methodLink "PascalHouseModel" (1479 : Nat) ({ cls := "PascalHouseModel", name := "spellWhole", desc := "(J)V" } : Jvm.MethodName)) ∈ lw_all := lw_g (lw_at lw_m19 91 rfl) rfl
set_option maxRecDepth 100000 in
theorem q4789 : (Jvm.Cond.instanceMethod ({ cls := "PascalHouseModel", name := "spellWhole", desc := "(J)V" } : Jvm.MethodName)) ∈ lw_all := lw_g (lw_at lw_m19 93 rfl) rfl
set_option maxRecDepth 100000 in
theorem q4790 : (Jvm.Cond.code ({ cls := "PascalHouseModel", name := "spellWhole", desc := "(J)V" } : Jvm.MethodName) prog_24_method_200_code (3 : Nat) (Option.none : Option Jvm.ClassFile.FieldType)) ∈ lw_all := lw_g (lw_at lw_m19 94 rfl) rfl
set_option maxRecDepth 100000 in
theorem q4791 : (Jvm.Cond.methodLink "PascalHouseModel" (1483 : Nat) ({ cls := "PascalHouseModel", name := "spellWord", desc := "(Ljava/lang/String;)V" } : Jvm.MethodName)) ∈ lw_all := lw_g (lw_at lw_m19 95 rfl) rfl
set_option maxRecDepth 100000 in
theorem q4793 : (Jvm.Cond.instanceMethod ({ cls := "PascalHouseModel", name := "spellWord", desc := "(Ljava/lang/String;)V" } : Jvm.MethodName)) ∈ lw_all := lw_g (lw_at lw_m19 97 rfl) rfl
set_option maxRecDepth 100000 in
theorem q4794 : (Jvm.Cond.code ({ cls := "PascalHouseModel", name := "spellWord", desc := "(Ljava/lang/String;)V" } : Jvm.MethodName) prog_24_method_198_code (3 : Nat) (Option.none : Option Jvm.ClassFile.FieldType)) ∈ lw_all := lw_g (lw_at lw_m19 98 rfl) rfl
set_option maxRecDepth 100000 in
theorem q4795 : (Jvm.Cond.methodLink "PascalHouseModel" (1461 : Nat) ({ cls := "PascalHouseModel", name := "writePart", desc := "(III)V" } : Jvm.MethodName)) ∈ lw_all := lw_g (lw_at lw_m19 99 rfl) rfl
set_option maxRecDepth 100000 in
theorem q4797 : (Jvm.Cond.instanceMethod ({ cls := "PascalHouseModel", name := "writePart", desc := "(III)V" } : Jvm.MethodName)) ∈ lw_all := lw_g (lw_at lw_m19 101 rfl) rfl
set_option maxRecDepth 100000 in
theorem q4798 : (Jvm.Cond.code ({ cls := "PascalHouseModel", name := "writePart", desc := "(III)V" } : Jvm.MethodName) prog_24_method_194_code (4 : Nat) (Option.none : Option Jvm.ClassFile.FieldType)) ∈ lw_all := lw_g (lw_at lw_m19 102 rfl) rfl
set_option maxRecDepth 100000 in
theorem q4799 : (Jvm.Cond.methodLink "PascalHouseModel" (1427 : Nat) ({ cls := "PascalHouseModel", name := "putBuffer", desc := "(II)V" } : Jvm.MethodName)) ∈ lw_all := lw_g (lw_at lw_m19 103 rfl) rfl
set_option maxRecDepth 100000 in
theorem q4801 : (Jvm.Cond.instanceMethod ({ cls := "PascalHouseModel", name := "putBuffer", desc := "(II)V" } : Jvm.MethodName)) ∈ lw_all := lw_g (lw_at lw_m19 105 rfl) rfl
set_option maxRecDepth 100000 in
theorem q4802 : (Jvm.Cond.code ({ cls := "PascalHouseModel", name := "putBuffer", desc := "(II)V" } : Jvm.MethodName) prog_24_method_155_code (7 : Nat) (Option.none : Option Jvm.ClassFile.FieldType)) ∈ lw_all := lw_g (lw_at lw_m19 106 rfl) rfl
set_option maxRecDepth 100000 in
theorem q4803 : (Jvm.Cond.methodLink "PascalHouseModel" (1425 : Nat) ({ cls := "PascalHouseModel", name := "get", desc := "(II)V" } : Jvm.MethodName)) ∈ lw_all := lw_g (lw_at lw_m19 107 rfl) rfl
set_option maxRecDepth 100000 in
theorem q4805 : (Jvm.Cond.instanceMethod ({ cls := "PascalHouseModel", name := "get", desc := "(II)V" } : Jvm.MethodName)) ∈ lw_all := lw_g (lw_at lw_m19 109 rfl) rfl
set_option maxRecDepth 100000 in
theorem q4806 : (Jvm.Cond.code ({ cls := "PascalHouseModel", name := "get", desc := "(II)V" } : Jvm.MethodName) prog_24_method_154_code (3 : Nat) (Option.none : Option Jvm.ClassFile.FieldType)) ∈ lw_all := lw_g (lw_at lw_m19 110 rfl) rfl
set_option maxRecDepth 100000 in
theorem q4807 : (Jvm.Cond.methodLink "PascalHouseModel" (1430 : Nat) ({ cls := "PascalHouseModel", name := "make", desc := "(II)V" } : Jvm.MethodName)) ∈ lw_all := lw_g (lw_at lw_m19 111 rfl) rfl
set_option maxRecDepth 100000 in
theorem q4809 : (Jvm.Cond.instanceMethod ({ cls := "PascalHouseModel", name := "make", desc := "(II)V" } : Jvm.MethodName)) ∈ lw_all := lw_g (lw_at lw_m19 113 rfl) rfl
set_option maxRecDepth 100000 in
theorem q4810 : (Jvm.Cond.code ({ cls := "PascalHouseModel", name := "make", desc := "(II)V" } : Jvm.MethodName) prog_24_method_187_code (4 : Nat) (Option.none : Option Jvm.ClassFile.FieldType)) ∈ lw_all := lw_g (lw_at lw_m19 114 rfl) rfl
set_option maxRecDepth 100000 in
theorem q4811 : (Jvm.Cond.methodLink "PascalHouseLaw" (44 : Nat) ({ cls := "PascalHouseModel", name := "where", desc := "()I" } : Jvm.MethodName)) ∈ lw_all := lw_g (lw_at lw_m19 115 rfl) rfl
set_option maxRecDepth 100000 in
theorem q4812 : (Jvm.Cond.instanceMethod ({ cls := "PascalHouseModel", name := "where", desc := "()I" } : Jvm.MethodName)) ∈ lw_all := lw_g (lw_at lw_m19 116 rfl) rfl
set_option maxRecDepth 100000 in
theorem q4813 : (Jvm.Cond.selects "PascalHouseModel" ({ cls := "PascalHouseModel", name := "where", desc := "()I" } : Jvm.MethodName) ({ cls := "PascalHouseModel", name := "where", desc := "()I" } : Jvm.MethodName)) ∈ lw_all := lw_g (lw_at lw_m19 117 rfl) rfl
set_option maxRecDepth 100000 in
theorem q4814 : (Jvm.Cond.code ({ cls := "PascalHouseModel", name := "where", desc := "()I" } : Jvm.MethodName) prog_24_method_203_code (1 : Nat) (Option.some Jvm.ClassFile.FieldType.int)) ∈ lw_all := lw_g (lw_at lw_m19 118 rfl) rfl
set_option maxRecDepth 100000 in
theorem q4815 : (Jvm.Cond.methodLink "PascalHouseLaw" (48 : Nat) ({ cls := "PascalHouseModel", name := "steps", desc := "()I" } : Jvm.MethodName)) ∈ lw_all := lw_g (lw_at lw_m19 119 rfl) rfl
set_option maxRecDepth 100000 in
theorem q4816 : (Jvm.Cond.instanceMethod ({ cls := "PascalHouseModel", name := "steps", desc := "()I" } : Jvm.MethodName)) ∈ lw_all := lw_g (lw_at lw_m19 120 rfl) rfl
set_option maxRecDepth 100000 in
theorem q4817 : (Jvm.Cond.selects "PascalHouseModel" ({ cls := "PascalHouseModel", name := "steps", desc := "()I" } : Jvm.MethodName) ({ cls := "PascalHouseModel", name := "steps", desc := "()I" } : Jvm.MethodName)) ∈ lw_all := lw_g (lw_at lw_m19 121 rfl) rfl
set_option maxRecDepth 100000 in
theorem q4818 : (Jvm.Cond.code ({ cls := "PascalHouseModel", name := "steps", desc := "()I" } : Jvm.MethodName) prog_24_method_204_code (1 : Nat) (Option.some Jvm.ClassFile.FieldType.int)) ∈ lw_all := lw_g (lw_at lw_m19 122 rfl) rfl
set_option maxRecDepth 100000 in
theorem q4819 : (Jvm.Cond.methodLink "PascalHouseLaw" (53 : Nat) ({ cls := "PascalHouseModel", name := "file", desc := "(II)I" } : Jvm.MethodName)) ∈ lw_all := lw_g (lw_at lw_m19 123 rfl) rfl
set_option maxRecDepth 100000 in
theorem q4820 : (Jvm.Cond.instanceMethod ({ cls := "PascalHouseModel", name := "file", desc := "(II)I" } : Jvm.MethodName)) ∈ lw_all := lw_g (lw_at lw_m19 124 rfl) rfl
set_option maxRecDepth 100000 in
theorem q4821 : (Jvm.Cond.selects "PascalHouseModel" ({ cls := "PascalHouseModel", name := "file", desc := "(II)I" } : Jvm.MethodName) ({ cls := "PascalHouseModel", name := "file", desc := "(II)I" } : Jvm.MethodName)) ∈ lw_all := lw_g (lw_at lw_m19 125 rfl) rfl
set_option maxRecDepth 100000 in
theorem q4822 : (Jvm.Cond.code ({ cls := "PascalHouseModel", name := "file", desc := "(II)I" } : Jvm.MethodName) prog_24_method_205_code (6 : Nat) (Option.some Jvm.ClassFile.FieldType.int)) ∈ lw_all := lw_g (lw_at lw_m19 126 rfl) rfl
set_option maxRecDepth 100000 in
theorem q4823 : (Jvm.Cond.methodLink "PascalHouseLaw" (57 : Nat) ({ cls := "PascalHouseModel", name := "about", desc := "(I)I" } : Jvm.MethodName)) ∈ lw_all := lw_g (lw_at lw_m19 127 rfl) rfl
set_option maxRecDepth 100000 in
theorem q4824 : (Jvm.Cond.instanceMethod ({ cls := "PascalHouseModel", name := "about", desc := "(I)I" } : Jvm.MethodName)) ∈ lw_all := lw_g (lw_at lw_m19 128 rfl) rfl
set_option maxRecDepth 100000 in
theorem q4825 : (Jvm.Cond.selects "PascalHouseModel" ({ cls := "PascalHouseModel", name := "about", desc := "(I)I" } : Jvm.MethodName) ({ cls := "PascalHouseModel", name := "about", desc := "(I)I" } : Jvm.MethodName)) ∈ lw_all := lw_g (lw_at lw_m19 129 rfl) rfl
set_option maxRecDepth 100000 in
theorem q4826 : (Jvm.Cond.code ({ cls := "PascalHouseModel", name := "about", desc := "(I)I" } : Jvm.MethodName) prog_24_method_206_code (2 : Nat) (Option.some Jvm.ClassFile.FieldType.int)) ∈ lw_all := lw_g (lw_at lw_m19 130 rfl) rfl
set_option maxRecDepth 100000 in
theorem q4827 : (Jvm.Cond.sameMethod "java/lang/AbstractStringBuilder" "java/lang/AbstractStringBuilder" "append" "(C)Ljava/lang/AbstractStringBuilder;") ∈ lw_all := lw_g (lw_at lw_m19 131 rfl) rfl
set_option maxRecDepth 100000 in
theorem q4831 : (Jvm.Cond.sameMethod "java/lang/AbstractStringBuilder" "java/lang/AbstractStringBuilder" "setLength" "(I)V") ∈ lw_all := lw_g (lw_at lw_m19 135 rfl) rfl
set_option maxRecDepth 100000 in
theorem q4833 : (Jvm.Cond.selects "java/lang/StringBuilder" ({ cls := "java/lang/StringBuilder", name := "length", desc := "()I" } : Jvm.MethodName) ({ cls := "java/lang/StringBuilder", name := "length", desc := "()I" } : Jvm.MethodName)) ∈ lw_all := lw_g (lw_at lw_m19 137 rfl) rfl
set_option maxRecDepth 100000 in
theorem q4849 : (Jvm.Cond.selects "[Ljava/lang/Object;" ({ cls := "java/lang/Object", name := "getClass", desc := "()Ljava/lang/Class;" } : Jvm.MethodName) ({ cls := "java/lang/Object", name := "getClass", desc := "()Ljava/lang/Class;" } : Jvm.MethodName)) ∈ lw_all := lw_g (lw_at lw_m19 153 rfl) rfl
set_option maxRecDepth 100000 in
theorem q4850 : (Jvm.Cond.declares ({ cls := "java/lang/Object", name := "getClass", desc := "()Ljava/lang/Class;" } : Jvm.MethodName)) ∈ lw_tbl := lw_at lw_m19 154 rfl
