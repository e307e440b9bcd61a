theorem k_0 : (Jvm.Cond.initialized "CallLedgerLaw") ∈ lw_tbl := List.mem_of_getElem? (i := 37) (by decide +kernel)
theorem k_1 : (Jvm.Cond.initialized "CallLedger") ∈ lw_tbl := List.mem_of_getElem? (i := 38) (by decide +kernel)
theorem k_2 : (Jvm.Cond.initialized "CallLedger$Book") ∈ lw_tbl := List.mem_of_getElem? (i := 39) (by decide +kernel)
theorem k_3 : (Jvm.Cond.initialized "java/util/AbstractCollection") ∈ lw_tbl := List.mem_of_getElem? (i := 40) (by decide +kernel)
theorem k_4 : (Jvm.Cond.initialized "java/util/AbstractList") ∈ lw_tbl := List.mem_of_getElem? (i := 41) (by decide +kernel)
theorem k_5 : (Jvm.Cond.initialized "java/util/ArrayList") ∈ lw_tbl := List.mem_of_getElem? (i := 42) (by decide +kernel)
theorem k_6 : (Jvm.Cond.initialized "CallLedger$Table") ∈ lw_tbl := List.mem_of_getElem? (i := 43) (by decide +kernel)
theorem k_7 : (Jvm.Cond.initialized "CallLedger$Journal") ∈ lw_tbl := List.mem_of_getElem? (i := 44) (by decide +kernel)
theorem k_8 : (Jvm.Cond.initialized "java/lang/Enum") ∈ lw_tbl := List.mem_of_getElem? (i := 45) (by decide +kernel)
theorem k_9 : (Jvm.Cond.initialized "CallLedger$Instruction") ∈ lw_tbl := List.mem_of_getElem? (i := 46) (by decide +kernel)
theorem k_10 : (Jvm.Cond.initialized "CallLedger$Run") ∈ lw_tbl := List.mem_of_getElem? (i := 47) (by decide +kernel)
theorem k_11 : (Jvm.Cond.initialized "CallLedgerModel") ∈ lw_tbl := List.mem_of_getElem? (i := 48) (by decide +kernel)
theorem k_12 : (Jvm.Cond.initialized "java/lang/Throwable") ∈ lw_tbl := List.mem_of_getElem? (i := 49) (by decide +kernel)
theorem k_13 : (Jvm.Cond.initialized "java/lang/Exception") ∈ lw_tbl := List.mem_of_getElem? (i := 50) (by decide +kernel)
theorem k_14 : (Jvm.Cond.initialized "java/lang/RuntimeException") ∈ lw_tbl := List.mem_of_getElem? (i := 51) (by decide +kernel)
theorem k_15 : (Jvm.Cond.initialized "java/lang/IllegalArgumentException") ∈ lw_tbl := List.mem_of_getElem? (i := 52) (by decide +kernel)
theorem k_16 : (Jvm.Cond.initialized "java/util/ArrayList$Itr") ∈ lw_tbl := List.mem_of_getElem? (i := 53) (by decide +kernel)
theorem k_17 : (Jvm.Cond.initialized "CallLedger$Account") ∈ lw_tbl := List.mem_of_getElem? (i := 54) (by decide +kernel)
theorem k_18 : (Jvm.Cond.initialized "jdk/internal/util/ArraysSupport") ∈ lw_tbl := List.mem_of_getElem? (i := 55) (by decide +kernel)
theorem k_19 : (Jvm.Cond.initialized "java/lang/Math") ∈ lw_tbl := List.mem_of_getElem? (i := 56) (by decide +kernel)
theorem k_20 : (Jvm.Cond.initialized "java/util/Arrays") ∈ lw_tbl := List.mem_of_getElem? (i := 57) (by decide +kernel)
theorem k_21 : (Jvm.Cond.initialized "java/lang/System") ∈ lw_tbl := List.mem_of_getElem? (i := 58) (by decide +kernel)
theorem k_22 : (Jvm.Cond.initialized "java/lang/IndexOutOfBoundsException") ∈ lw_tbl := List.mem_of_getElem? (i := 59) (by decide +kernel)
theorem k_23 : (Jvm.Cond.initialized "java/lang/ArrayIndexOutOfBoundsException") ∈ lw_tbl := List.mem_of_getElem? (i := 60) (by decide +kernel)
theorem k_24 : (Jvm.Cond.initialized "java/lang/String") ∈ lw_tbl := List.mem_of_getElem? (i := 61) (by decide +kernel)
theorem k_25 : (Jvm.Cond.initialized "java/util/Objects") ∈ lw_tbl := List.mem_of_getElem? (i := 62) (by decide +kernel)
theorem k_26 : (Jvm.Cond.initialized "jdk/internal/util/Preconditions") ∈ lw_tbl := List.mem_of_getElem? (i := 63) (by decide +kernel)
theorem k_27 : (Jvm.Cond.initialized "java/lang/IllegalStateException") ∈ lw_tbl := List.mem_of_getElem? (i := 64) (by decide +kernel)
theorem k_28 : (Jvm.Cond.classLink "CallLedgerLaw" (8 : Nat) "CallLedger") ∈ lw_tbl := List.mem_of_getElem? (i := 65) (by decide +kernel)
theorem k_29 : (Jvm.Cond.instantiable "CallLedger" (7 : Nat)) ∈ lw_tbl := List.mem_of_getElem? (i := 66) (by decide +kernel)
theorem k_30 : (Jvm.Cond.methodLink "CallLedgerLaw" (39 : Nat) ({ cls := "CallLedger", name := "<init>", desc := "()V" } : Jvm.MethodName)) ∈ lw_tbl := List.mem_of_getElem? (i := 67) (by decide +kernel)
theorem k_31 : (Jvm.Cond.instanceMethod ({ cls := "CallLedger", name := "<init>", desc := "()V" } : Jvm.MethodName)) ∈ lw_tbl := List.mem_of_getElem? (i := 68) (by decide +kernel)
theorem k_32 : (Jvm.Cond.code ({ cls := "CallLedger", name := "<init>", desc := "()V" } : Jvm.MethodName) prog_1_method_1_code (2 : Nat) (Option.none : Option FieldType)) ∈ lw_tbl := List.mem_of_getElem? (i := 69) (by decide +kernel)
theorem k_33 : (Jvm.Cond.methodLink "CallLedger" (1 : Nat) ({ cls := "java/lang/Object", name := "<init>", desc := "()V" } : Jvm.MethodName)) ∈ lw_tbl := List.mem_of_getElem? (i := 70) (by decide +kernel)
theorem k_34 : (Jvm.Cond.instanceMethod ({ cls := "java/lang/Object", name := "<init>", desc := "()V" } : Jvm.MethodName)) ∈ lw_tbl := List.mem_of_getElem? (i := 71) (by decide +kernel)
theorem k_35 : (Jvm.Cond.code ({ cls := "java/lang/Object", name := "<init>", desc := "()V" } : Jvm.MethodName) object_method_1_code (1 : Nat) (Option.none : Option FieldType)) ∈ lw_tbl := List.mem_of_getElem? (i := 72) (by decide +kernel)
theorem k_36 : (Jvm.Cond.classLink "CallLedger" (7 : Nat) "CallLedger$Book") ∈ lw_tbl := List.mem_of_getElem? (i := 73) (by decide +kernel)
theorem k_37 : (Jvm.Cond.instantiable "CallLedger$Book" (5 : Nat)) ∈ lw_tbl := List.mem_of_getElem? (i := 74) (by decide +kernel)
theorem k_38 : (Jvm.Cond.methodLinkNest "CallLedger" (9 : Nat) ({ cls := "CallLedger$Book", name := "<init>", desc := "()V" } : Jvm.MethodName) "CallLedger") ∈ lw_tbl := List.mem_of_getElem? (i := 75) (by decide +kernel)
theorem k_39 : (Jvm.Cond.instanceMethod ({ cls := "CallLedger$Book", name := "<init>", desc := "()V" } : Jvm.MethodName)) ∈ lw_tbl := List.mem_of_getElem? (i := 76) (by decide +kernel)
theorem k_40 : (Jvm.Cond.code ({ cls := "CallLedger$Book", name := "<init>", desc := "()V" } : Jvm.MethodName) prog_3_method_1_code (1 : Nat) (Option.none : Option FieldType)) ∈ lw_tbl := List.mem_of_getElem? (i := 77) (by decide +kernel)
theorem k_41 : (Jvm.Cond.methodLink "CallLedger$Book" (3 : Nat) ({ cls := "java/lang/Object", name := "<init>", desc := "()V" } : Jvm.MethodName)) ∈ lw_tbl := List.mem_of_getElem? (i := 78) (by decide +kernel)
theorem k_42 : (Jvm.Cond.classLink "CallLedger$Book" (9 : Nat) "java/util/ArrayList") ∈ lw_tbl := List.mem_of_getElem? (i := 79) (by decide +kernel)
theorem k_43 : (Jvm.Cond.instantiable "java/util/ArrayList" (3 : Nat)) ∈ lw_tbl := List.mem_of_getElem? (i := 80) (by decide +kernel)
theorem k_44 : (Jvm.Cond.methodLink "CallLedger$Book" (11 : Nat) ({ cls := "java/util/ArrayList", name := "<init>", desc := "()V" } : Jvm.MethodName)) ∈ lw_tbl := List.mem_of_getElem? (i := 81) (by decide +kernel)
theorem k_45 : (Jvm.Cond.instanceMethod ({ cls := "java/util/ArrayList", name := "<init>", desc := "()V" } : Jvm.MethodName)) ∈ lw_tbl := List.mem_of_getElem? (i := 82) (by decide +kernel)
theorem k_46 : (Jvm.Cond.code ({ cls := "java/util/ArrayList", name := "<init>", desc := "()V" } : Jvm.MethodName) prog_26_method_2_code (1 : Nat) (Option.none : Option FieldType)) ∈ lw_tbl := List.mem_of_getElem? (i := 83) (by decide +kernel)
theorem k_47 : (Jvm.Cond.methodLink "java/util/ArrayList" (1 : Nat) ({ cls := "java/util/AbstractList", name := "<init>", desc := "()V" } : Jvm.MethodName)) ∈ lw_tbl := List.mem_of_getElem? (i := 84) (by decide +kernel)
theorem k_48 : (Jvm.Cond.instanceMethod ({ cls := "java/util/AbstractList", name := "<init>", desc := "()V" } : Jvm.MethodName)) ∈ lw_tbl := List.mem_of_getElem? (i := 85) (by decide +kernel)
theorem k_49 : (Jvm.Cond.code ({ cls := "java/util/AbstractList", name := "<init>", desc := "()V" } : Jvm.MethodName) prog_25_method_1_code (1 : Nat) (Option.none : Option FieldType)) ∈ lw_tbl := List.mem_of_getElem? (i := 86) (by decide +kernel)
theorem k_50 : (Jvm.Cond.methodLink "java/util/AbstractList" (1 : Nat) ({ cls := "java/util/AbstractCollection", name := "<init>", desc := "()V" } : Jvm.MethodName)) ∈ lw_tbl := List.mem_of_getElem? (i := 87) (by decide +kernel)
theorem k_51 : (Jvm.Cond.instanceMethod ({ cls := "java/util/AbstractCollection", name := "<init>", desc := "()V" } : Jvm.MethodName)) ∈ lw_tbl := List.mem_of_getElem? (i := 88) (by decide +kernel)
theorem k_52 : (Jvm.Cond.code ({ cls := "java/util/AbstractCollection", name := "<init>", desc := "()V" } : Jvm.MethodName) prog_24_method_1_code (1 : Nat) (Option.none : Option FieldType)) ∈ lw_tbl := List.mem_of_getElem? (i := 89) (by decide +kernel)
theorem k_53 : (Jvm.Cond.methodLink "java/util/AbstractCollection" (1 : Nat) ({ cls := "java/lang/Object", name := "<init>", desc := "()V" } : Jvm.MethodName)) ∈ lw_tbl := List.mem_of_getElem? (i := 90) (by decide +kernel)
theorem k_54 : (Jvm.Cond.fieldLink "java/util/ArrayList" (39 : Nat) "java/util/ArrayList" "DEFAULTCAPACITY_EMPTY_ELEMENTDATA" "[Ljava/lang/Object;") ∈ lw_tbl := List.mem_of_getElem? (i := 91) (by decide +kernel)
theorem k_55 : (Jvm.Cond.laysStatic "java/util/ArrayList" "DEFAULTCAPACITY_EMPTY_ELEMENTDATA" "[Ljava/lang/Object;") ∈ lw_tbl := List.mem_of_getElem? (i := 92) (by decide +kernel)
theorem k_56 : (Jvm.Cond.fieldLink "java/util/ArrayList" (9 : Nat) "java/util/ArrayList" "elementData" "[Ljava/lang/Object;") ∈ lw_tbl := List.mem_of_getElem? (i := 93) (by decide +kernel)
theorem k_57 : (Jvm.Cond.fieldLink "java/util/ArrayList$Itr" (37 : Nat) "java/util/ArrayList" "elementData" "[Ljava/lang/Object;") ∈ lw_tbl := List.mem_of_getElem? (i := 94) (by decide +kernel)
theorem k_58 : (Jvm.Cond.fieldLinkNest "java/util/ArrayList$Itr" (28 : Nat) "java/util/ArrayList" "size" "I" "java/util/ArrayList") ∈ lw_tbl := List.mem_of_getElem? (i := 95) (by decide +kernel)
theorem k_59 : (Jvm.Cond.fieldLink "java/util/ArrayList" (48 : Nat) "java/util/ArrayList" "size" "I") ∈ lw_tbl := List.mem_of_getElem? (i := 96) (by decide +kernel)
theorem k_60 : (Jvm.Cond.fieldLink "java/util/AbstractList" (7 : Nat) "java/util/AbstractList" "modCount" "I") ∈ lw_tbl := List.mem_of_getElem? (i := 97) (by decide +kernel)
theorem k_61 : (Jvm.Cond.fieldLink "java/util/ArrayList$Itr" (17 : Nat) "java/util/ArrayList" "modCount" "I") ∈ lw_tbl := List.mem_of_getElem? (i := 98) (by decide +kernel)
theorem k_62 : (Jvm.Cond.sameField "java/util/ArrayList" "java/util/AbstractList" "modCount" "I") ∈ lw_tbl := List.mem_of_getElem? (i := 99) (by decide +kernel)
theorem k_63 : (Jvm.Cond.fieldLink "java/util/ArrayList" (63 : Nat) "java/util/ArrayList" "modCount" "I") ∈ lw_tbl := List.mem_of_getElem? (i := 100) (by decide +kernel)
theorem k_64 : (Jvm.Cond.lays "java/util/ArrayList" "java/util/ArrayList" "elementData" "[Ljava/lang/Object;") ∈ lw_tbl := List.mem_of_getElem? (i := 101) (by decide +kernel)
theorem k_65 : (Jvm.Cond.soleField "java/util/ArrayList" "elementData") ∈ lw_tbl := List.mem_of_getElem? (i := 102) (by decide +kernel)
theorem k_66 : (Jvm.Cond.lays "java/util/ArrayList" "java/util/ArrayList" "size" "I") ∈ lw_tbl := List.mem_of_getElem? (i := 103) (by decide +kernel)
theorem k_67 : (Jvm.Cond.soleField "java/util/ArrayList" "size") ∈ lw_tbl := List.mem_of_getElem? (i := 104) (by decide +kernel)
theorem k_68 : (Jvm.Cond.lays "java/util/ArrayList" "java/util/AbstractList" "modCount" "I") ∈ lw_tbl := List.mem_of_getElem? (i := 105) (by decide +kernel)
theorem k_69 : (Jvm.Cond.soleField "java/util/AbstractList" "modCount") ∈ lw_tbl := List.mem_of_getElem? (i := 106) (by decide +kernel)
theorem k_70 : (Jvm.Cond.superclass "java/util/ArrayList" "java/util/AbstractList") ∈ lw_tbl := List.mem_of_getElem? (i := 107) (by decide +kernel)
theorem k_71 : (Jvm.Cond.classLink "CallLedger$Book" (18 : Nat) "CallLedger$Table") ∈ lw_tbl := List.mem_of_getElem? (i := 108) (by decide +kernel)
theorem k_72 : (Jvm.Cond.instantiable "CallLedger$Table" (5 : Nat)) ∈ lw_tbl := List.mem_of_getElem? (i := 109) (by decide +kernel)
theorem k_73 : (Jvm.Cond.methodLinkNest "CallLedger$Book" (20 : Nat) ({ cls := "CallLedger$Table", name := "<init>", desc := "()V" } : Jvm.MethodName) "CallLedger") ∈ lw_tbl := List.mem_of_getElem? (i := 110) (by decide +kernel)
theorem k_74 : (Jvm.Cond.instanceMethod ({ cls := "CallLedger$Table", name := "<init>", desc := "()V" } : Jvm.MethodName)) ∈ lw_tbl := List.mem_of_getElem? (i := 111) (by decide +kernel)
theorem k_75 : (Jvm.Cond.code ({ cls := "CallLedger$Table", name := "<init>", desc := "()V" } : Jvm.MethodName) prog_7_method_1_code (1 : Nat) (Option.none : Option FieldType)) ∈ lw_tbl := List.mem_of_getElem? (i := 112) (by decide +kernel)
theorem k_76 : (Jvm.Cond.methodLink "CallLedger$Table" (3 : Nat) ({ cls := "java/lang/Object", name := "<init>", desc := "()V" } : Jvm.MethodName)) ∈ lw_tbl := List.mem_of_getElem? (i := 113) (by decide +kernel)
theorem k_77 : (Jvm.Cond.fieldLink "CallLedger$Table" (11 : Nat) "CallLedger$Table" "keys" "[J") ∈ lw_tbl := List.mem_of_getElem? (i := 114) (by decide +kernel)
theorem k_78 : (Jvm.Cond.fieldLink "CallLedger$Table" (15 : Nat) "CallLedger$Table" "values" "[I") ∈ lw_tbl := List.mem_of_getElem? (i := 115) (by decide +kernel)
theorem k_79 : (Jvm.Cond.fieldLink "CallLedger$Table" (19 : Nat) "CallLedger$Table" "marks" "[B") ∈ lw_tbl := List.mem_of_getElem? (i := 116) (by decide +kernel)
theorem k_80 : (Jvm.Cond.fieldLink "CallLedger$Table" (36 : Nat) "CallLedger$Table" "many" "I") ∈ lw_tbl := List.mem_of_getElem? (i := 117) (by decide +kernel)
theorem k_81 : (Jvm.Cond.fieldLinkNest "CallLedger$Run" (91 : Nat) "CallLedger$Table" "many" "I" "CallLedger") ∈ lw_tbl := List.mem_of_getElem? (i := 118) (by decide +kernel)
theorem k_82 : (Jvm.Cond.fieldLinkNest "CallLedger" (162 : Nat) "CallLedger$Table" "many" "I" "CallLedger") ∈ lw_tbl := List.mem_of_getElem? (i := 119) (by decide +kernel)
theorem k_83 : (Jvm.Cond.fieldLink "CallLedger$Table" (32 : Nat) "CallLedger$Table" "marked" "I") ∈ lw_tbl := List.mem_of_getElem? (i := 120) (by decide +kernel)
theorem k_84 : (Jvm.Cond.laysFinal "CallLedger$Table" "CallLedger$Table" "keys" "[J") ∈ lw_tbl := List.mem_of_getElem? (i := 121) (by decide +kernel)
theorem k_85 : (Jvm.Cond.soleField "CallLedger$Table" "keys") ∈ lw_tbl := List.mem_of_getElem? (i := 122) (by decide +kernel)
theorem k_86 : (Jvm.Cond.laysFinal "CallLedger$Table" "CallLedger$Table" "values" "[I") ∈ lw_tbl := List.mem_of_getElem? (i := 123) (by decide +kernel)
theorem k_87 : (Jvm.Cond.soleField "CallLedger$Table" "values") ∈ lw_tbl := List.mem_of_getElem? (i := 124) (by decide +kernel)
theorem k_88 : (Jvm.Cond.laysFinal "CallLedger$Table" "CallLedger$Table" "marks" "[B") ∈ lw_tbl := List.mem_of_getElem? (i := 125) (by decide +kernel)
theorem k_89 : (Jvm.Cond.soleField "CallLedger$Table" "marks") ∈ lw_tbl := List.mem_of_getElem? (i := 126) (by decide +kernel)
theorem k_90 : (Jvm.Cond.lays "CallLedger$Table" "CallLedger$Table" "many" "I") ∈ lw_tbl := List.mem_of_getElem? (i := 127) (by decide +kernel)
theorem k_91 : (Jvm.Cond.soleField "CallLedger$Table" "many") ∈ lw_tbl := List.mem_of_getElem? (i := 128) (by decide +kernel)
theorem k_92 : (Jvm.Cond.lays "CallLedger$Table" "CallLedger$Table" "marked" "I") ∈ lw_tbl := List.mem_of_getElem? (i := 129) (by decide +kernel)
theorem k_93 : (Jvm.Cond.soleField "CallLedger$Table" "marked") ∈ lw_tbl := List.mem_of_getElem? (i := 130) (by decide +kernel)
theorem k_94 : (Jvm.Cond.superclass "CallLedger$Table" "java/lang/Object") ∈ lw_tbl := List.mem_of_getElem? (i := 131) (by decide +kernel)
theorem k_95 : (Jvm.Cond.arrayClass FieldType.long) ∈ lw_tbl := List.mem_of_getElem? (i := 132) (by decide +kernel)
theorem k_96 : (Jvm.Cond.arrayClass FieldType.int) ∈ lw_tbl := List.mem_of_getElem? (i := 133) (by decide +kernel)
theorem k_97 : (Jvm.Cond.arrayClass FieldType.byte) ∈ lw_tbl := List.mem_of_getElem? (i := 134) (by decide +kernel)
theorem k_98 : (Jvm.Cond.classLink "CallLedger$Book" (25 : Nat) "CallLedger$Journal") ∈ lw_tbl := List.mem_of_getElem? (i := 135) (by decide +kernel)
theorem k_99 : (Jvm.Cond.instantiable "CallLedger$Journal" (5 : Nat)) ∈ lw_tbl := List.mem_of_getElem? (i := 136) (by decide +kernel)
theorem k_100 : (Jvm.Cond.methodLinkNest "CallLedger$Book" (27 : Nat) ({ cls := "CallLedger$Journal", name := "<init>", desc := "()V" } : Jvm.MethodName) "CallLedger") ∈ lw_tbl := List.mem_of_getElem? (i := 137) (by decide +kernel)
theorem k_101 : (Jvm.Cond.instanceMethod ({ cls := "CallLedger$Journal", name := "<init>", desc := "()V" } : Jvm.MethodName)) ∈ lw_tbl := List.mem_of_getElem? (i := 138) (by decide +kernel)
theorem k_102 : (Jvm.Cond.code ({ cls := "CallLedger$Journal", name := "<init>", desc := "()V" } : Jvm.MethodName) prog_5_method_1_code (1 : Nat) (Option.none : Option FieldType)) ∈ lw_tbl := List.mem_of_getElem? (i := 139) (by decide +kernel)
theorem k_103 : (Jvm.Cond.methodLink "CallLedger$Journal" (1 : Nat) ({ cls := "java/lang/Object", name := "<init>", desc := "()V" } : Jvm.MethodName)) ∈ lw_tbl := List.mem_of_getElem? (i := 140) (by decide +kernel)
theorem k_104 : (Jvm.Cond.fieldLink "CallLedger$Journal" (9 : Nat) "CallLedger$Journal" "accounts" "[B") ∈ lw_tbl := List.mem_of_getElem? (i := 141) (by decide +kernel)
theorem k_105 : (Jvm.Cond.fieldLinkNest "CallLedger$Book" (92 : Nat) "CallLedger$Journal" "accounts" "[B" "CallLedger") ∈ lw_tbl := List.mem_of_getElem? (i := 142) (by decide +kernel)
theorem k_106 : (Jvm.Cond.fieldLink "CallLedger$Journal" (13 : Nat) "CallLedger$Journal" "stored" "[Z") ∈ lw_tbl := List.mem_of_getElem? (i := 143) (by decide +kernel)
theorem k_107 : (Jvm.Cond.fieldLinkNest "CallLedger$Book" (89 : Nat) "CallLedger$Journal" "stored" "[Z" "CallLedger") ∈ lw_tbl := List.mem_of_getElem? (i := 144) (by decide +kernel)
theorem k_108 : (Jvm.Cond.fieldLink "CallLedger$Journal" (17 : Nat) "CallLedger$Journal" "keys" "[I") ∈ lw_tbl := List.mem_of_getElem? (i := 145) (by decide +kernel)
theorem k_109 : (Jvm.Cond.fieldLinkNest "CallLedger$Book" (95 : Nat) "CallLedger$Journal" "keys" "[I" "CallLedger") ∈ lw_tbl := List.mem_of_getElem? (i := 146) (by decide +kernel)
theorem k_110 : (Jvm.Cond.fieldLink "CallLedger$Journal" (21 : Nat) "CallLedger$Journal" "values" "[I") ∈ lw_tbl := List.mem_of_getElem? (i := 147) (by decide +kernel)
theorem k_111 : (Jvm.Cond.fieldLinkNest "CallLedger$Book" (98 : Nat) "CallLedger$Journal" "values" "[I" "CallLedger") ∈ lw_tbl := List.mem_of_getElem? (i := 148) (by decide +kernel)
theorem k_112 : (Jvm.Cond.fieldLink "CallLedger$Journal" (24 : Nat) "CallLedger$Journal" "size" "I") ∈ lw_tbl := List.mem_of_getElem? (i := 149) (by decide +kernel)
theorem k_113 : (Jvm.Cond.fieldLinkNest "CallLedger" (124 : Nat) "CallLedger$Journal" "size" "I" "CallLedger") ∈ lw_tbl := List.mem_of_getElem? (i := 150) (by decide +kernel)
theorem k_114 : (Jvm.Cond.fieldLinkNest "CallLedger$Book" (87 : Nat) "CallLedger$Journal" "size" "I" "CallLedger") ∈ lw_tbl := List.mem_of_getElem? (i := 151) (by decide +kernel)
theorem k_115 : (Jvm.Cond.fieldLinkNest "CallLedger$Run" (189 : Nat) "CallLedger$Journal" "size" "I" "CallLedger") ∈ lw_tbl := List.mem_of_getElem? (i := 152) (by decide +kernel)
theorem k_116 : (Jvm.Cond.laysFinal "CallLedger$Journal" "CallLedger$Journal" "accounts" "[B") ∈ lw_tbl := List.mem_of_getElem? (i := 153) (by decide +kernel)
theorem k_117 : (Jvm.Cond.soleField "CallLedger$Journal" "accounts") ∈ lw_tbl := List.mem_of_getElem? (i := 154) (by decide +kernel)
theorem k_118 : (Jvm.Cond.laysFinal "CallLedger$Journal" "CallLedger$Journal" "stored" "[Z") ∈ lw_tbl := List.mem_of_getElem? (i := 155) (by decide +kernel)
theorem k_119 : (Jvm.Cond.soleField "CallLedger$Journal" "stored") ∈ lw_tbl := List.mem_of_getElem? (i := 156) (by decide +kernel)
theorem k_120 : (Jvm.Cond.laysFinal "CallLedger$Journal" "CallLedger$Journal" "keys" "[I") ∈ lw_tbl := List.mem_of_getElem? (i := 157) (by decide +kernel)
theorem k_121 : (Jvm.Cond.soleField "CallLedger$Journal" "keys") ∈ lw_tbl := List.mem_of_getElem? (i := 158) (by decide +kernel)
theorem k_122 : (Jvm.Cond.laysFinal "CallLedger$Journal" "CallLedger$Journal" "values" "[I") ∈ lw_tbl := List.mem_of_getElem? (i := 159) (by decide +kernel)
theorem k_123 : (Jvm.Cond.soleField "CallLedger$Journal" "values") ∈ lw_tbl := List.mem_of_getElem? (i := 160) (by decide +kernel)
theorem k_124 : (Jvm.Cond.lays "CallLedger$Journal" "CallLedger$Journal" "size" "I") ∈ lw_tbl := List.mem_of_getElem? (i := 161) (by decide +kernel)
theorem k_125 : (Jvm.Cond.soleField "CallLedger$Journal" "size") ∈ lw_tbl := List.mem_of_getElem? (i := 162) (by decide +kernel)
theorem k_126 : (Jvm.Cond.superclass "CallLedger$Journal" "java/lang/Object") ∈ lw_tbl := List.mem_of_getElem? (i := 163) (by decide +kernel)
theorem k_127 : (Jvm.Cond.arrayClass FieldType.boolean) ∈ lw_tbl := List.mem_of_getElem? (i := 164) (by decide +kernel)
theorem k_128 : (Jvm.Cond.fieldLink "CallLedger$Book" (12 : Nat) "CallLedger$Book" "accounts" "Ljava/util/List;") ∈ lw_tbl := List.mem_of_getElem? (i := 165) (by decide +kernel)
theorem k_129 : (Jvm.Cond.fieldLinkNest "CallLedger" (50 : Nat) "CallLedger$Book" "accounts" "Ljava/util/List;" "CallLedger") ∈ lw_tbl := List.mem_of_getElem? (i := 166) (by decide +kernel)
theorem k_130 : (Jvm.Cond.fieldLinkNest "CallLedger$Run" (168 : Nat) "CallLedger$Book" "accounts" "Ljava/util/List;" "CallLedger") ∈ lw_tbl := List.mem_of_getElem? (i := 167) (by decide +kernel)
theorem k_131 : (Jvm.Cond.fieldLink "CallLedger$Book" (21 : Nat) "CallLedger$Book" "storage" "LCallLedger$Table;") ∈ lw_tbl := List.mem_of_getElem? (i := 168) (by decide +kernel)
theorem k_132 : (Jvm.Cond.fieldLinkNest "CallLedger$Run" (87 : Nat) "CallLedger$Book" "storage" "LCallLedger$Table;" "CallLedger") ∈ lw_tbl := List.mem_of_getElem? (i := 169) (by decide +kernel)
theorem k_133 : (Jvm.Cond.fieldLinkNest "CallLedger" (158 : Nat) "CallLedger$Book" "storage" "LCallLedger$Table;" "CallLedger") ∈ lw_tbl := List.mem_of_getElem? (i := 170) (by decide +kernel)
theorem k_134 : (Jvm.Cond.fieldLink "CallLedger$Book" (28 : Nat) "CallLedger$Book" "journal" "LCallLedger$Journal;") ∈ lw_tbl := List.mem_of_getElem? (i := 171) (by decide +kernel)
theorem k_135 : (Jvm.Cond.fieldLinkNest "CallLedger" (120 : Nat) "CallLedger$Book" "journal" "LCallLedger$Journal;" "CallLedger") ∈ lw_tbl := List.mem_of_getElem? (i := 172) (by decide +kernel)
theorem k_136 : (Jvm.Cond.fieldLinkNest "CallLedger$Run" (185 : Nat) "CallLedger$Book" "journal" "LCallLedger$Journal;" "CallLedger") ∈ lw_tbl := List.mem_of_getElem? (i := 173) (by decide +kernel)
theorem k_137 : (Jvm.Cond.fieldLink "CallLedger$Book" (32 : Nat) "CallLedger$Book" "log" "[I") ∈ lw_tbl := List.mem_of_getElem? (i := 174) (by decide +kernel)
theorem k_138 : (Jvm.Cond.fieldLinkNest "CallLedger" (170 : Nat) "CallLedger$Book" "log" "[I" "CallLedger") ∈ lw_tbl := List.mem_of_getElem? (i := 175) (by decide +kernel)
theorem k_139 : (Jvm.Cond.fieldLink "CallLedger$Book" (84 : Nat) "CallLedger$Book" "logged" "I") ∈ lw_tbl := List.mem_of_getElem? (i := 176) (by decide +kernel)
theorem k_140 : (Jvm.Cond.fieldLinkNest "CallLedger" (165 : Nat) "CallLedger$Book" "logged" "I" "CallLedger") ∈ lw_tbl := List.mem_of_getElem? (i := 177) (by decide +kernel)
theorem k_141 : (Jvm.Cond.fieldLinkNest "CallLedger$Run" (194 : Nat) "CallLedger$Book" "logged" "I" "CallLedger") ∈ lw_tbl := List.mem_of_getElem? (i := 178) (by decide +kernel)
theorem k_142 : (Jvm.Cond.laysFinal "CallLedger$Book" "CallLedger$Book" "accounts" "Ljava/util/List;") ∈ lw_tbl := List.mem_of_getElem? (i := 179) (by decide +kernel)
theorem k_143 : (Jvm.Cond.soleField "CallLedger$Book" "accounts") ∈ lw_tbl := List.mem_of_getElem? (i := 180) (by decide +kernel)
theorem k_144 : (Jvm.Cond.laysFinal "CallLedger$Book" "CallLedger$Book" "storage" "LCallLedger$Table;") ∈ lw_tbl := List.mem_of_getElem? (i := 181) (by decide +kernel)
theorem k_145 : (Jvm.Cond.soleField "CallLedger$Book" "storage") ∈ lw_tbl := List.mem_of_getElem? (i := 182) (by decide +kernel)
theorem k_146 : (Jvm.Cond.laysFinal "CallLedger$Book" "CallLedger$Book" "journal" "LCallLedger$Journal;") ∈ lw_tbl := List.mem_of_getElem? (i := 183) (by decide +kernel)
theorem k_147 : (Jvm.Cond.soleField "CallLedger$Book" "journal") ∈ lw_tbl := List.mem_of_getElem? (i := 184) (by decide +kernel)
theorem k_148 : (Jvm.Cond.laysFinal "CallLedger$Book" "CallLedger$Book" "log" "[I") ∈ lw_tbl := List.mem_of_getElem? (i := 185) (by decide +kernel)
theorem k_149 : (Jvm.Cond.soleField "CallLedger$Book" "log") ∈ lw_tbl := List.mem_of_getElem? (i := 186) (by decide +kernel)
theorem k_150 : (Jvm.Cond.lays "CallLedger$Book" "CallLedger$Book" "logged" "I") ∈ lw_tbl := List.mem_of_getElem? (i := 187) (by decide +kernel)
theorem k_151 : (Jvm.Cond.soleField "CallLedger$Book" "logged") ∈ lw_tbl := List.mem_of_getElem? (i := 188) (by decide +kernel)
theorem k_152 : (Jvm.Cond.superclass "CallLedger$Book" "java/lang/Object") ∈ lw_tbl := List.mem_of_getElem? (i := 189) (by decide +kernel)
theorem k_153 : (Jvm.Cond.methodLink "CallLedger" (16 : Nat) ({ cls := "CallLedger$Instruction", name := "values", desc := "()[LCallLedger$Instruction;" } : Jvm.MethodName)) ∈ lw_tbl := List.mem_of_getElem? (i := 190) (by decide +kernel)
theorem k_154 : (Jvm.Cond.static ({ cls := "CallLedger$Instruction", name := "values", desc := "()[LCallLedger$Instruction;" } : Jvm.MethodName)) ∈ lw_tbl := List.mem_of_getElem? (i := 191) (by decide +kernel)
theorem k_155 : (Jvm.Cond.code ({ cls := "CallLedger$Instruction", name := "values", desc := "()[LCallLedger$Instruction;" } : Jvm.MethodName) prog_4_method_1_code (0 : Nat) (Option.some (FieldType.array (FieldType.object "CallLedger$Instruction")))) ∈ lw_tbl := List.mem_of_getElem? (i := 192) (by decide +kernel)
theorem k_156 : (Jvm.Cond.fieldLink "CallLedger$Instruction" (96 : Nat) "CallLedger$Instruction" "$VALUES" "[LCallLedger$Instruction;") ∈ lw_tbl := List.mem_of_getElem? (i := 193) (by decide +kernel)
theorem k_157 : (Jvm.Cond.laysStatic "CallLedger$Instruction" "$VALUES" "[LCallLedger$Instruction;") ∈ lw_tbl := List.mem_of_getElem? (i := 194) (by decide +kernel)
theorem k_158 : (Jvm.Cond.methodLink "CallLedger$Instruction" (100 : Nat) ({ cls := "[LCallLedger$Instruction;", name := "clone", desc := "()Ljava/lang/Object;" } : Jvm.MethodName)) ∈ lw_tbl := List.mem_of_getElem? (i := 195) (by decide +kernel)
theorem k_159 : (Jvm.Cond.sameMethod "[LCallLedger$Instruction;" "java/lang/Object" "clone" "()Ljava/lang/Object;") ∈ lw_tbl := List.mem_of_getElem? (i := 196) (by decide +kernel)
theorem k_160 : (Jvm.Cond.native ({ cls := "java/lang/Object", name := "clone", desc := "()Ljava/lang/Object;" } : Jvm.MethodName)) ∈ lw_tbl := List.mem_of_getElem? (i := 197) (by decide +kernel)
theorem k_161 : (Jvm.Cond.instanceMethod ({ cls := "java/lang/Object", name := "clone", desc := "()Ljava/lang/Object;" } : Jvm.MethodName)) ∈ lw_tbl := List.mem_of_getElem? (i := 198) (by decide +kernel)
theorem k_162 : (Jvm.Cond.selects "[LCallLedger$Instruction;" ({ cls := "[LCallLedger$Instruction;", name := "clone", desc := "()Ljava/lang/Object;" } : Jvm.MethodName) ({ cls := "java/lang/Object", name := "clone", desc := "()Ljava/lang/Object;" } : Jvm.MethodName)) ∈ lw_tbl := List.mem_of_getElem? (i := 199) (by decide +kernel)
theorem k_163 : (Jvm.Cond.castable "[LCallLedger$Instruction;" "java/lang/Cloneable") ∈ lw_tbl := List.mem_of_getElem? (i := 200) (by decide +kernel)
theorem k_164 : (Jvm.Cond.arrayOver (FieldType.object "CallLedger$Instruction")) ∈ lw_tbl := List.mem_of_getElem? (i := 201) (by decide +kernel)
theorem k_165 : (Jvm.Cond.classLink "CallLedger$Instruction" (101 : Nat) "[LCallLedger$Instruction;") ∈ lw_tbl := List.mem_of_getElem? (i := 202) (by decide +kernel)
theorem k_166 : (Jvm.Cond.classLink "CallLedger" (26 : Nat) "CallLedger$Run") ∈ lw_tbl := List.mem_of_getElem? (i := 203) (by decide +kernel)
theorem k_167 : (Jvm.Cond.arrayOver (FieldType.object "CallLedger$Run")) ∈ lw_tbl := List.mem_of_getElem? (i := 204) (by decide +kernel)
theorem k_168 : (Jvm.Cond.instantiable "CallLedger$Run" (14 : Nat)) ∈ lw_tbl := List.mem_of_getElem? (i := 205) (by decide +kernel)
theorem k_169 : (Jvm.Cond.methodLink "CallLedger" (36 : Nat) ({ cls := "CallLedger$Run", name := "<init>", desc := "(LCallLedger$Book;[LCallLedger$Instruction;[LCallLedger$Run;I)V" } : Jvm.MethodName)) ∈ lw_tbl := List.mem_of_getElem? (i := 206) (by decide +kernel)
theorem k_170 : (Jvm.Cond.instanceMethod ({ cls := "CallLedger$Run", name := "<init>", desc := "(LCallLedger$Book;[LCallLedger$Instruction;[LCallLedger$Run;I)V" } : Jvm.MethodName)) ∈ lw_tbl := List.mem_of_getElem? (i := 207) (by decide +kernel)
theorem k_171 : (Jvm.Cond.code ({ cls := "CallLedger$Run", name := "<init>", desc := "(LCallLedger$Book;[LCallLedger$Instruction;[LCallLedger$Run;I)V" } : Jvm.MethodName) prog_6_method_1_code (5 : Nat) (Option.none : Option FieldType)) ∈ lw_tbl := List.mem_of_getElem? (i := 208) (by decide +kernel)
theorem k_172 : (Jvm.Cond.methodLink "CallLedger$Run" (3 : Nat) ({ cls := "java/lang/Object", name := "<init>", desc := "()V" } : Jvm.MethodName)) ∈ lw_tbl := List.mem_of_getElem? (i := 209) (by decide +kernel)
theorem k_173 : (Jvm.Cond.fieldLink "CallLedger$Run" (22 : Nat) "CallLedger$Run" "book" "LCallLedger$Book;") ∈ lw_tbl := List.mem_of_getElem? (i := 210) (by decide +kernel)
theorem k_174 : (Jvm.Cond.fieldLink "CallLedger$Run" (26 : Nat) "CallLedger$Run" "all" "[LCallLedger$Instruction;") ∈ lw_tbl := List.mem_of_getElem? (i := 211) (by decide +kernel)
theorem k_175 : (Jvm.Cond.fieldLink "CallLedger$Run" (30 : Nat) "CallLedger$Run" "runs" "[LCallLedger$Run;") ∈ lw_tbl := List.mem_of_getElem? (i := 212) (by decide +kernel)
theorem k_176 : (Jvm.Cond.fieldLink "CallLedger$Run" (34 : Nat) "CallLedger$Run" "depth" "I") ∈ lw_tbl := List.mem_of_getElem? (i := 213) (by decide +kernel)
theorem k_177 : (Jvm.Cond.fieldLink "CallLedger$Run" (37 : Nat) "CallLedger$Run" "self" "I") ∈ lw_tbl := List.mem_of_getElem? (i := 214) (by decide +kernel)
theorem k_178 : (Jvm.Cond.fieldLink "CallLedger$Run" (40 : Nat) "CallLedger$Run" "caller" "I") ∈ lw_tbl := List.mem_of_getElem? (i := 215) (by decide +kernel)
theorem k_179 : (Jvm.Cond.fieldLink "CallLedger$Run" (43 : Nat) "CallLedger$Run" "value" "I") ∈ lw_tbl := List.mem_of_getElem? (i := 216) (by decide +kernel)
theorem k_180 : (Jvm.Cond.fieldLink "CallLedger$Run" (9 : Nat) "CallLedger$Run" "arguments" "[I") ∈ lw_tbl := List.mem_of_getElem? (i := 217) (by decide +kernel)
theorem k_181 : (Jvm.Cond.fieldLinkNest "CallLedger" (131 : Nat) "CallLedger$Run" "arguments" "[I" "CallLedger") ∈ lw_tbl := List.mem_of_getElem? (i := 218) (by decide +kernel)
theorem k_182 : (Jvm.Cond.fieldLink "CallLedger$Run" (15 : Nat) "CallLedger$Run" "stack" "[I") ∈ lw_tbl := List.mem_of_getElem? (i := 219) (by decide +kernel)
theorem k_183 : (Jvm.Cond.fieldLink "CallLedger$Run" (46 : Nat) "CallLedger$Run" "top" "I") ∈ lw_tbl := List.mem_of_getElem? (i := 220) (by decide +kernel)
theorem k_184 : (Jvm.Cond.fieldLink "CallLedger$Run" (49 : Nat) "CallLedger$Run" "place" "I") ∈ lw_tbl := List.mem_of_getElem? (i := 221) (by decide +kernel)
theorem k_185 : (Jvm.Cond.fieldLink "CallLedger$Run" (52 : Nat) "CallLedger$Run" "gas" "I") ∈ lw_tbl := List.mem_of_getElem? (i := 222) (by decide +kernel)
theorem k_186 : (Jvm.Cond.fieldLinkNest "CallLedger" (141 : Nat) "CallLedger$Run" "gas" "I" "CallLedger") ∈ lw_tbl := List.mem_of_getElem? (i := 223) (by decide +kernel)
theorem k_187 : (Jvm.Cond.fieldLink "CallLedger$Run" (55 : Nat) "CallLedger$Run" "result" "I") ∈ lw_tbl := List.mem_of_getElem? (i := 224) (by decide +kernel)
theorem k_188 : (Jvm.Cond.fieldLinkNest "CallLedger" (147 : Nat) "CallLedger$Run" "result" "I" "CallLedger") ∈ lw_tbl := List.mem_of_getElem? (i := 225) (by decide +kernel)
theorem k_189 : (Jvm.Cond.fieldLink "CallLedger$Run" (18 : Nat) "CallLedger$Run" "end" "I") ∈ lw_tbl := List.mem_of_getElem? (i := 226) (by decide +kernel)
theorem k_190 : (Jvm.Cond.fieldLinkNest "CallLedger" (151 : Nat) "CallLedger$Run" "end" "I" "CallLedger") ∈ lw_tbl := List.mem_of_getElem? (i := 227) (by decide +kernel)
theorem k_191 : (Jvm.Cond.laysFinal "CallLedger$Run" "CallLedger$Run" "book" "LCallLedger$Book;") ∈ lw_tbl := List.mem_of_getElem? (i := 228) (by decide +kernel)
theorem k_192 : (Jvm.Cond.soleField "CallLedger$Run" "book") ∈ lw_tbl := List.mem_of_getElem? (i := 229) (by decide +kernel)
theorem k_193 : (Jvm.Cond.laysFinal "CallLedger$Run" "CallLedger$Run" "all" "[LCallLedger$Instruction;") ∈ lw_tbl := List.mem_of_getElem? (i := 230) (by decide +kernel)
theorem k_194 : (Jvm.Cond.soleField "CallLedger$Run" "all") ∈ lw_tbl := List.mem_of_getElem? (i := 231) (by decide +kernel)
theorem k_195 : (Jvm.Cond.laysFinal "CallLedger$Run" "CallLedger$Run" "runs" "[LCallLedger$Run;") ∈ lw_tbl := List.mem_of_getElem? (i := 232) (by decide +kernel)
theorem k_196 : (Jvm.Cond.soleField "CallLedger$Run" "runs") ∈ lw_tbl := List.mem_of_getElem? (i := 233) (by decide +kernel)
theorem k_197 : (Jvm.Cond.laysFinal "CallLedger$Run" "CallLedger$Run" "depth" "I") ∈ lw_tbl := List.mem_of_getElem? (i := 234) (by decide +kernel)
theorem k_198 : (Jvm.Cond.soleField "CallLedger$Run" "depth") ∈ lw_tbl := List.mem_of_getElem? (i := 235) (by decide +kernel)
theorem k_199 : (Jvm.Cond.lays "CallLedger$Run" "CallLedger$Run" "self" "I") ∈ lw_tbl := List.mem_of_getElem? (i := 236) (by decide +kernel)
theorem k_200 : (Jvm.Cond.soleField "CallLedger$Run" "self") ∈ lw_tbl := List.mem_of_getElem? (i := 237) (by decide +kernel)
theorem k_201 : (Jvm.Cond.lays "CallLedger$Run" "CallLedger$Run" "caller" "I") ∈ lw_tbl := List.mem_of_getElem? (i := 238) (by decide +kernel)
theorem k_202 : (Jvm.Cond.soleField "CallLedger$Run" "caller") ∈ lw_tbl := List.mem_of_getElem? (i := 239) (by decide +kernel)
theorem k_203 : (Jvm.Cond.lays "CallLedger$Run" "CallLedger$Run" "value" "I") ∈ lw_tbl := List.mem_of_getElem? (i := 240) (by decide +kernel)
theorem k_204 : (Jvm.Cond.soleField "CallLedger$Run" "value") ∈ lw_tbl := List.mem_of_getElem? (i := 241) (by decide +kernel)
theorem k_205 : (Jvm.Cond.laysFinal "CallLedger$Run" "CallLedger$Run" "arguments" "[I") ∈ lw_tbl := List.mem_of_getElem? (i := 242) (by decide +kernel)
theorem k_206 : (Jvm.Cond.soleField "CallLedger$Run" "arguments") ∈ lw_tbl := List.mem_of_getElem? (i := 243) (by decide +kernel)
theorem k_207 : (Jvm.Cond.laysFinal "CallLedger$Run" "CallLedger$Run" "stack" "[I") ∈ lw_tbl := List.mem_of_getElem? (i := 244) (by decide +kernel)
theorem k_208 : (Jvm.Cond.soleField "CallLedger$Run" "stack") ∈ lw_tbl := List.mem_of_getElem? (i := 245) (by decide +kernel)
theorem k_209 : (Jvm.Cond.lays "CallLedger$Run" "CallLedger$Run" "top" "I") ∈ lw_tbl := List.mem_of_getElem? (i := 246) (by decide +kernel)
theorem k_210 : (Jvm.Cond.soleField "CallLedger$Run" "top") ∈ lw_tbl := List.mem_of_getElem? (i := 247) (by decide +kernel)
theorem k_211 : (Jvm.Cond.lays "CallLedger$Run" "CallLedger$Run" "place" "I") ∈ lw_tbl := List.mem_of_getElem? (i := 248) (by decide +kernel)
theorem k_212 : (Jvm.Cond.soleField "CallLedger$Run" "place") ∈ lw_tbl := List.mem_of_getElem? (i := 249) (by decide +kernel)
theorem k_213 : (Jvm.Cond.lays "CallLedger$Run" "CallLedger$Run" "gas" "I") ∈ lw_tbl := List.mem_of_getElem? (i := 250) (by decide +kernel)
theorem k_214 : (Jvm.Cond.soleField "CallLedger$Run" "gas") ∈ lw_tbl := List.mem_of_getElem? (i := 251) (by decide +kernel)
theorem k_215 : (Jvm.Cond.lays "CallLedger$Run" "CallLedger$Run" "result" "I") ∈ lw_tbl := List.mem_of_getElem? (i := 252) (by decide +kernel)
theorem k_216 : (Jvm.Cond.soleField "CallLedger$Run" "result") ∈ lw_tbl := List.mem_of_getElem? (i := 253) (by decide +kernel)
theorem k_217 : (Jvm.Cond.lays "CallLedger$Run" "CallLedger$Run" "end" "I") ∈ lw_tbl := List.mem_of_getElem? (i := 254) (by decide +kernel)
theorem k_218 : (Jvm.Cond.soleField "CallLedger$Run" "end") ∈ lw_tbl := List.mem_of_getElem? (i := 255) (by decide +kernel)
theorem k_219 : (Jvm.Cond.superclass "CallLedger$Run" "java/lang/Object") ∈ lw_tbl := List.mem_of_getElem? (i := 256) (by decide +kernel)
theorem k_220 : (Jvm.Cond.fieldLink "CallLedger" (10 : Nat) "CallLedger" "book" "LCallLedger$Book;") ∈ lw_tbl := List.mem_of_getElem? (i := 257) (by decide +kernel)
theorem k_221 : (Jvm.Cond.fieldLink "CallLedger" (22 : Nat) "CallLedger" "instructions" "[LCallLedger$Instruction;") ∈ lw_tbl := List.mem_of_getElem? (i := 258) (by decide +kernel)
theorem k_222 : (Jvm.Cond.fieldLink "CallLedger" (28 : Nat) "CallLedger" "runs" "[LCallLedger$Run;") ∈ lw_tbl := List.mem_of_getElem? (i := 259) (by decide +kernel)
theorem k_223 : (Jvm.Cond.fieldLink "CallLedger" (32 : Nat) "CallLedger" "arguments" "[I") ∈ lw_tbl := List.mem_of_getElem? (i := 260) (by decide +kernel)
theorem k_224 : (Jvm.Cond.fieldLink "CallLedger" (114 : Nat) "CallLedger" "many" "I") ∈ lw_tbl := List.mem_of_getElem? (i := 261) (by decide +kernel)
theorem k_225 : (Jvm.Cond.fieldLink "CallLedger" (144 : Nat) "CallLedger" "used" "I") ∈ lw_tbl := List.mem_of_getElem? (i := 262) (by decide +kernel)
theorem k_226 : (Jvm.Cond.fieldLink "CallLedger" (150 : Nat) "CallLedger" "result" "I") ∈ lw_tbl := List.mem_of_getElem? (i := 263) (by decide +kernel)
theorem k_227 : (Jvm.Cond.laysFinal "CallLedger" "CallLedger" "book" "LCallLedger$Book;") ∈ lw_tbl := List.mem_of_getElem? (i := 264) (by decide +kernel)
theorem k_228 : (Jvm.Cond.soleField "CallLedger" "book") ∈ lw_tbl := List.mem_of_getElem? (i := 265) (by decide +kernel)
theorem k_229 : (Jvm.Cond.laysFinal "CallLedger" "CallLedger" "instructions" "[LCallLedger$Instruction;") ∈ lw_tbl := List.mem_of_getElem? (i := 266) (by decide +kernel)
theorem k_230 : (Jvm.Cond.soleField "CallLedger" "instructions") ∈ lw_tbl := List.mem_of_getElem? (i := 267) (by decide +kernel)
theorem k_231 : (Jvm.Cond.laysFinal "CallLedger" "CallLedger" "runs" "[LCallLedger$Run;") ∈ lw_tbl := List.mem_of_getElem? (i := 268) (by decide +kernel)
theorem k_232 : (Jvm.Cond.soleField "CallLedger" "runs") ∈ lw_tbl := List.mem_of_getElem? (i := 269) (by decide +kernel)
theorem k_233 : (Jvm.Cond.laysFinal "CallLedger" "CallLedger" "arguments" "[I") ∈ lw_tbl := List.mem_of_getElem? (i := 270) (by decide +kernel)
theorem k_234 : (Jvm.Cond.soleField "CallLedger" "arguments") ∈ lw_tbl := List.mem_of_getElem? (i := 271) (by decide +kernel)
theorem k_235 : (Jvm.Cond.lays "CallLedger" "CallLedger" "many" "I") ∈ lw_tbl := List.mem_of_getElem? (i := 272) (by decide +kernel)
theorem k_236 : (Jvm.Cond.soleField "CallLedger" "many") ∈ lw_tbl := List.mem_of_getElem? (i := 273) (by decide +kernel)
theorem k_237 : (Jvm.Cond.lays "CallLedger" "CallLedger" "used" "I") ∈ lw_tbl := List.mem_of_getElem? (i := 274) (by decide +kernel)
theorem k_238 : (Jvm.Cond.soleField "CallLedger" "used") ∈ lw_tbl := List.mem_of_getElem? (i := 275) (by decide +kernel)
theorem k_239 : (Jvm.Cond.lays "CallLedger" "CallLedger" "result" "I") ∈ lw_tbl := List.mem_of_getElem? (i := 276) (by decide +kernel)
theorem k_240 : (Jvm.Cond.soleField "CallLedger" "result") ∈ lw_tbl := List.mem_of_getElem? (i := 277) (by decide +kernel)
theorem k_241 : (Jvm.Cond.superclass "CallLedger" "java/lang/Object") ∈ lw_tbl := List.mem_of_getElem? (i := 278) (by decide +kernel)
theorem k_242 : (Jvm.Cond.methodLink "CallLedgerLaw" (60 : Nat) ({ cls := "CallLedger", name := "argument", desc := "(I)I" } : Jvm.MethodName)) ∈ lw_tbl := List.mem_of_getElem? (i := 279) (by decide +kernel)
theorem k_243 : (Jvm.Cond.instanceMethod ({ cls := "CallLedger", name := "argument", desc := "(I)I" } : Jvm.MethodName)) ∈ lw_tbl := List.mem_of_getElem? (i := 280) (by decide +kernel)
theorem k_244 : (Jvm.Cond.selects "CallLedger" ({ cls := "CallLedger", name := "argument", desc := "(I)I" } : Jvm.MethodName) ({ cls := "CallLedger", name := "argument", desc := "(I)I" } : Jvm.MethodName)) ∈ lw_tbl := List.mem_of_getElem? (i := 281) (by decide +kernel)
theorem k_245 : (Jvm.Cond.code ({ cls := "CallLedger", name := "argument", desc := "(I)I" } : Jvm.MethodName) prog_1_method_8_code (2 : Nat) (Option.some FieldType.int)) ∈ lw_tbl := List.mem_of_getElem? (i := 282) (by decide +kernel)
theorem k_246 : (Jvm.Cond.methodLink "CallLedgerLaw" (68 : Nat) ({ cls := "CallLedger", name := "used", desc := "()I" } : Jvm.MethodName)) ∈ lw_tbl := List.mem_of_getElem? (i := 283) (by decide +kernel)
theorem k_247 : (Jvm.Cond.instanceMethod ({ cls := "CallLedger", name := "used", desc := "()I" } : Jvm.MethodName)) ∈ lw_tbl := List.mem_of_getElem? (i := 284) (by decide +kernel)
theorem k_248 : (Jvm.Cond.selects "CallLedger" ({ cls := "CallLedger", name := "used", desc := "()I" } : Jvm.MethodName) ({ cls := "CallLedger", name := "used", desc := "()I" } : Jvm.MethodName)) ∈ lw_tbl := List.mem_of_getElem? (i := 285) (by decide +kernel)
theorem k_249 : (Jvm.Cond.code ({ cls := "CallLedger", name := "used", desc := "()I" } : Jvm.MethodName) prog_1_method_10_code (1 : Nat) (Option.some FieldType.int)) ∈ lw_tbl := List.mem_of_getElem? (i := 286) (by decide +kernel)
theorem k_250 : (Jvm.Cond.methodLink "CallLedgerLaw" (72 : Nat) ({ cls := "CallLedger", name := "result", desc := "()I" } : Jvm.MethodName)) ∈ lw_tbl := List.mem_of_getElem? (i := 287) (by decide +kernel)
theorem k_251 : (Jvm.Cond.instanceMethod ({ cls := "CallLedger", name := "result", desc := "()I" } : Jvm.MethodName)) ∈ lw_tbl := List.mem_of_getElem? (i := 288) (by decide +kernel)
theorem k_252 : (Jvm.Cond.selects "CallLedger" ({ cls := "CallLedger", name := "result", desc := "()I" } : Jvm.MethodName) ({ cls := "CallLedger", name := "result", desc := "()I" } : Jvm.MethodName)) ∈ lw_tbl := List.mem_of_getElem? (i := 289) (by decide +kernel)
theorem k_253 : (Jvm.Cond.code ({ cls := "CallLedger", name := "result", desc := "()I" } : Jvm.MethodName) prog_1_method_11_code (1 : Nat) (Option.some FieldType.int)) ∈ lw_tbl := List.mem_of_getElem? (i := 290) (by decide +kernel)
theorem k_254 : (Jvm.Cond.methodLink "CallLedgerLaw" (82 : Nat) ({ cls := "CallLedger", name := "keys", desc := "()I" } : Jvm.MethodName)) ∈ lw_tbl := List.mem_of_getElem? (i := 291) (by decide +kernel)
theorem k_255 : (Jvm.Cond.instanceMethod ({ cls := "CallLedger", name := "keys", desc := "()I" } : Jvm.MethodName)) ∈ lw_tbl := List.mem_of_getElem? (i := 292) (by decide +kernel)
theorem k_256 : (Jvm.Cond.selects "CallLedger" ({ cls := "CallLedger", name := "keys", desc := "()I" } : Jvm.MethodName) ({ cls := "CallLedger", name := "keys", desc := "()I" } : Jvm.MethodName)) ∈ lw_tbl := List.mem_of_getElem? (i := 293) (by decide +kernel)
theorem k_257 : (Jvm.Cond.code ({ cls := "CallLedger", name := "keys", desc := "()I" } : Jvm.MethodName) prog_1_method_14_code (1 : Nat) (Option.some FieldType.int)) ∈ lw_tbl := List.mem_of_getElem? (i := 294) (by decide +kernel)
theorem k_258 : (Jvm.Cond.methodLink "CallLedgerLaw" (86 : Nat) ({ cls := "CallLedger", name := "logged", desc := "()I" } : Jvm.MethodName)) ∈ lw_tbl := List.mem_of_getElem? (i := 295) (by decide +kernel)
theorem k_259 : (Jvm.Cond.instanceMethod ({ cls := "CallLedger", name := "logged", desc := "()I" } : Jvm.MethodName)) ∈ lw_tbl := List.mem_of_getElem? (i := 296) (by decide +kernel)
theorem k_260 : (Jvm.Cond.selects "CallLedger" ({ cls := "CallLedger", name := "logged", desc := "()I" } : Jvm.MethodName) ({ cls := "CallLedger", name := "logged", desc := "()I" } : Jvm.MethodName)) ∈ lw_tbl := List.mem_of_getElem? (i := 297) (by decide +kernel)
theorem k_261 : (Jvm.Cond.code ({ cls := "CallLedger", name := "logged", desc := "()I" } : Jvm.MethodName) prog_1_method_15_code (1 : Nat) (Option.some FieldType.int)) ∈ lw_tbl := List.mem_of_getElem? (i := 298) (by decide +kernel)
theorem k_262 : (Jvm.Cond.methodLink "CallLedgerLaw" (93 : Nat) ({ cls := "CallLedger", name := "supply", desc := "()I" } : Jvm.MethodName)) ∈ lw_tbl := List.mem_of_getElem? (i := 299) (by decide +kernel)
theorem k_263 : (Jvm.Cond.instanceMethod ({ cls := "CallLedger", name := "supply", desc := "()I" } : Jvm.MethodName)) ∈ lw_tbl := List.mem_of_getElem? (i := 300) (by decide +kernel)
theorem k_264 : (Jvm.Cond.selects "CallLedger" ({ cls := "CallLedger", name := "supply", desc := "()I" } : Jvm.MethodName) ({ cls := "CallLedger", name := "supply", desc := "()I" } : Jvm.MethodName)) ∈ lw_tbl := List.mem_of_getElem? (i := 301) (by decide +kernel)
theorem k_265 : (Jvm.Cond.code ({ cls := "CallLedger", name := "supply", desc := "()I" } : Jvm.MethodName) prog_1_method_17_code (4 : Nat) (Option.some FieldType.int)) ∈ lw_tbl := List.mem_of_getElem? (i := 302) (by decide +kernel)
theorem k_266 : (Jvm.Cond.interfaceEntry "CallLedger" (173 : Nat)) ∈ lw_tbl := List.mem_of_getElem? (i := 303) (by decide +kernel)
theorem k_267 : (Jvm.Cond.methodLink "CallLedger" (173 : Nat) ({ cls := "java/util/List", name := "iterator", desc := "()Ljava/util/Iterator;" } : Jvm.MethodName)) ∈ lw_tbl := List.mem_of_getElem? (i := 304) (by decide +kernel)
theorem k_268 : (Jvm.Cond.interfaceMethod "java/util/List" "java/util/List" "iterator" "()Ljava/util/Iterator;") ∈ lw_tbl := List.mem_of_getElem? (i := 305) (by decide +kernel)
theorem k_269 : (Jvm.Cond.declares ({ cls := "java/util/List", name := "iterator", desc := "()Ljava/util/Iterator;" } : Jvm.MethodName)) ∈ lw_tbl := List.mem_of_getElem? (i := 306) (by decide +kernel)
theorem k_270 : (Jvm.Cond.castable "java/util/ArrayList" "java/util/List") ∈ lw_tbl := List.mem_of_getElem? (i := 307) (by decide +kernel)
theorem k_271 : (Jvm.Cond.selects "java/util/ArrayList" ({ cls := "java/util/List", name := "iterator", desc := "()Ljava/util/Iterator;" } : Jvm.MethodName) ({ cls := "java/util/ArrayList", name := "iterator", desc := "()Ljava/util/Iterator;" } : Jvm.MethodName)) ∈ lw_tbl := List.mem_of_getElem? (i := 308) (by decide +kernel)
theorem k_272 : (Jvm.Cond.unhidden "java/util/ArrayList" "iterator" "()Ljava/util/Iterator;") ∈ lw_tbl := List.mem_of_getElem? (i := 309) (by decide +kernel)
theorem k_273 : (Jvm.Cond.instanceMethod ({ cls := "java/util/ArrayList", name := "iterator", desc := "()Ljava/util/Iterator;" } : Jvm.MethodName)) ∈ lw_tbl := List.mem_of_getElem? (i := 310) (by decide +kernel)
theorem k_274 : (Jvm.Cond.publicMethod ({ cls := "java/util/ArrayList", name := "iterator", desc := "()Ljava/util/Iterator;" } : Jvm.MethodName)) ∈ lw_tbl := List.mem_of_getElem? (i := 311) (by decide +kernel)
theorem k_275 : (Jvm.Cond.code ({ cls := "java/util/ArrayList", name := "iterator", desc := "()Ljava/util/Iterator;" } : Jvm.MethodName) prog_26_method_55_code (1 : Nat) (Option.some (FieldType.object "java/util/Iterator"))) ∈ lw_tbl := List.mem_of_getElem? (i := 312) (by decide +kernel)
theorem k_276 : (Jvm.Cond.classLink "java/util/ArrayList" (267 : Nat) "java/util/ArrayList$Itr") ∈ lw_tbl := List.mem_of_getElem? (i := 313) (by decide +kernel)
theorem k_277 : (Jvm.Cond.instantiable "java/util/ArrayList$Itr" (4 : Nat)) ∈ lw_tbl := List.mem_of_getElem? (i := 314) (by decide +kernel)
theorem k_278 : (Jvm.Cond.methodLink "java/util/ArrayList" (269 : Nat) ({ cls := "java/util/ArrayList$Itr", name := "<init>", desc := "(Ljava/util/ArrayList;)V" } : Jvm.MethodName)) ∈ lw_tbl := List.mem_of_getElem? (i := 315) (by decide +kernel)
theorem k_279 : (Jvm.Cond.instanceMethod ({ cls := "java/util/ArrayList$Itr", name := "<init>", desc := "(Ljava/util/ArrayList;)V" } : Jvm.MethodName)) ∈ lw_tbl := List.mem_of_getElem? (i := 316) (by decide +kernel)
theorem k_280 : (Jvm.Cond.code ({ cls := "java/util/ArrayList$Itr", name := "<init>", desc := "(Ljava/util/ArrayList;)V" } : Jvm.MethodName) prog_27_method_1_code (2 : Nat) (Option.none : Option FieldType)) ∈ lw_tbl := List.mem_of_getElem? (i := 317) (by decide +kernel)
theorem k_281 : (Jvm.Cond.methodLink "java/util/ArrayList$Itr" (7 : Nat) ({ cls := "java/lang/Object", name := "<init>", desc := "()V" } : Jvm.MethodName)) ∈ lw_tbl := List.mem_of_getElem? (i := 318) (by decide +kernel)
theorem k_282 : (Jvm.Cond.fieldLink "java/util/ArrayList$Itr" (25 : Nat) "java/util/ArrayList$Itr" "cursor" "I") ∈ lw_tbl := List.mem_of_getElem? (i := 319) (by decide +kernel)
theorem k_283 : (Jvm.Cond.fieldLink "java/util/ArrayList$Itr" (13 : Nat) "java/util/ArrayList$Itr" "lastRet" "I") ∈ lw_tbl := List.mem_of_getElem? (i := 320) (by decide +kernel)
theorem k_284 : (Jvm.Cond.fieldLink "java/util/ArrayList$Itr" (22 : Nat) "java/util/ArrayList$Itr" "expectedModCount" "I") ∈ lw_tbl := List.mem_of_getElem? (i := 321) (by decide +kernel)
theorem k_285 : (Jvm.Cond.fieldLink "java/util/ArrayList$Itr" (1 : Nat) "java/util/ArrayList$Itr" "this$0" "Ljava/util/ArrayList;") ∈ lw_tbl := List.mem_of_getElem? (i := 322) (by decide +kernel)
theorem k_286 : (Jvm.Cond.lays "java/util/ArrayList$Itr" "java/util/ArrayList$Itr" "cursor" "I") ∈ lw_tbl := List.mem_of_getElem? (i := 323) (by decide +kernel)
theorem k_287 : (Jvm.Cond.soleField "java/util/ArrayList$Itr" "cursor") ∈ lw_tbl := List.mem_of_getElem? (i := 324) (by decide +kernel)
theorem k_288 : (Jvm.Cond.lays "java/util/ArrayList$Itr" "java/util/ArrayList$Itr" "lastRet" "I") ∈ lw_tbl := List.mem_of_getElem? (i := 325) (by decide +kernel)
theorem k_289 : (Jvm.Cond.soleField "java/util/ArrayList$Itr" "lastRet") ∈ lw_tbl := List.mem_of_getElem? (i := 326) (by decide +kernel)
theorem k_290 : (Jvm.Cond.lays "java/util/ArrayList$Itr" "java/util/ArrayList$Itr" "expectedModCount" "I") ∈ lw_tbl := List.mem_of_getElem? (i := 327) (by decide +kernel)
theorem k_291 : (Jvm.Cond.soleField "java/util/ArrayList$Itr" "expectedModCount") ∈ lw_tbl := List.mem_of_getElem? (i := 328) (by decide +kernel)
theorem k_292 : (Jvm.Cond.laysFinal "java/util/ArrayList$Itr" "java/util/ArrayList$Itr" "this$0" "Ljava/util/ArrayList;") ∈ lw_tbl := List.mem_of_getElem? (i := 329) (by decide +kernel)
theorem k_293 : (Jvm.Cond.soleField "java/util/ArrayList$Itr" "this$0") ∈ lw_tbl := List.mem_of_getElem? (i := 330) (by decide +kernel)
theorem k_294 : (Jvm.Cond.superclass "java/util/ArrayList$Itr" "java/lang/Object") ∈ lw_tbl := List.mem_of_getElem? (i := 331) (by decide +kernel)
theorem k_295 : (Jvm.Cond.interfaceEntry "CallLedger" (177 : Nat)) ∈ lw_tbl := List.mem_of_getElem? (i := 332) (by decide +kernel)
theorem k_296 : (Jvm.Cond.methodLink "CallLedger" (177 : Nat) ({ cls := "java/util/Iterator", name := "hasNext", desc := "()Z" } : Jvm.MethodName)) ∈ lw_tbl := List.mem_of_getElem? (i := 333) (by decide +kernel)
theorem k_297 : (Jvm.Cond.interfaceMethod "java/util/Iterator" "java/util/Iterator" "hasNext" "()Z") ∈ lw_tbl := List.mem_of_getElem? (i := 334) (by decide +kernel)
theorem k_298 : (Jvm.Cond.declares ({ cls := "java/util/Iterator", name := "hasNext", desc := "()Z" } : Jvm.MethodName)) ∈ lw_tbl := List.mem_of_getElem? (i := 335) (by decide +kernel)
theorem k_299 : (Jvm.Cond.castable "java/util/ArrayList$Itr" "java/util/Iterator") ∈ lw_tbl := List.mem_of_getElem? (i := 336) (by decide +kernel)
theorem k_300 : (Jvm.Cond.selects "java/util/ArrayList$Itr" ({ cls := "java/util/Iterator", name := "hasNext", desc := "()Z" } : Jvm.MethodName) ({ cls := "java/util/ArrayList$Itr", name := "hasNext", desc := "()Z" } : Jvm.MethodName)) ∈ lw_tbl := List.mem_of_getElem? (i := 337) (by decide +kernel)
theorem k_301 : (Jvm.Cond.unhidden "java/util/ArrayList$Itr" "hasNext" "()Z") ∈ lw_tbl := List.mem_of_getElem? (i := 338) (by decide +kernel)
theorem k_302 : (Jvm.Cond.instanceMethod ({ cls := "java/util/ArrayList$Itr", name := "hasNext", desc := "()Z" } : Jvm.MethodName)) ∈ lw_tbl := List.mem_of_getElem? (i := 339) (by decide +kernel)
theorem k_303 : (Jvm.Cond.publicMethod ({ cls := "java/util/ArrayList$Itr", name := "hasNext", desc := "()Z" } : Jvm.MethodName)) ∈ lw_tbl := List.mem_of_getElem? (i := 340) (by decide +kernel)
theorem k_304 : (Jvm.Cond.code ({ cls := "java/util/ArrayList$Itr", name := "hasNext", desc := "()Z" } : Jvm.MethodName) prog_27_method_2_code (1 : Nat) (Option.some FieldType.boolean)) ∈ lw_tbl := List.mem_of_getElem? (i := 341) (by decide +kernel)
theorem k_305 : (Jvm.Cond.interfaceEntry "CallLedger" (183 : Nat)) ∈ lw_tbl := List.mem_of_getElem? (i := 342) (by decide +kernel)
theorem k_306 : (Jvm.Cond.methodLink "CallLedger" (183 : Nat) ({ cls := "java/util/Iterator", name := "next", desc := "()Ljava/lang/Object;" } : Jvm.MethodName)) ∈ lw_tbl := List.mem_of_getElem? (i := 343) (by decide +kernel)
theorem k_307 : (Jvm.Cond.interfaceMethod "java/util/Iterator" "java/util/Iterator" "next" "()Ljava/lang/Object;") ∈ lw_tbl := List.mem_of_getElem? (i := 344) (by decide +kernel)
theorem k_308 : (Jvm.Cond.declares ({ cls := "java/util/Iterator", name := "next", desc := "()Ljava/lang/Object;" } : Jvm.MethodName)) ∈ lw_tbl := List.mem_of_getElem? (i := 345) (by decide +kernel)
theorem k_309 : (Jvm.Cond.selects "java/util/ArrayList$Itr" ({ cls := "java/util/Iterator", name := "next", desc := "()Ljava/lang/Object;" } : Jvm.MethodName) ({ cls := "java/util/ArrayList$Itr", name := "next", desc := "()Ljava/lang/Object;" } : Jvm.MethodName)) ∈ lw_tbl := List.mem_of_getElem? (i := 346) (by decide +kernel)
theorem k_310 : (Jvm.Cond.unhidden "java/util/ArrayList$Itr" "next" "()Ljava/lang/Object;") ∈ lw_tbl := List.mem_of_getElem? (i := 347) (by decide +kernel)
theorem k_311 : (Jvm.Cond.instanceMethod ({ cls := "java/util/ArrayList$Itr", name := "next", desc := "()Ljava/lang/Object;" } : Jvm.MethodName)) ∈ lw_tbl := List.mem_of_getElem? (i := 348) (by decide +kernel)
theorem k_312 : (Jvm.Cond.publicMethod ({ cls := "java/util/ArrayList$Itr", name := "next", desc := "()Ljava/lang/Object;" } : Jvm.MethodName)) ∈ lw_tbl := List.mem_of_getElem? (i := 349) (by decide +kernel)
theorem k_313 : (Jvm.Cond.code ({ cls := "java/util/ArrayList$Itr", name := "next", desc := "()Ljava/lang/Object;" } : Jvm.MethodName) prog_27_method_3_code (3 : Nat) (Option.some (FieldType.object "java/lang/Object"))) ∈ lw_tbl := List.mem_of_getElem? (i := 350) (by decide +kernel)
theorem k_314 : (Jvm.Cond.methodLink "java/util/ArrayList$Itr" (31 : Nat) ({ cls := "java/util/ArrayList$Itr", name := "checkForComodification", desc := "()V" } : Jvm.MethodName)) ∈ lw_tbl := List.mem_of_getElem? (i := 351) (by decide +kernel)
theorem k_315 : (Jvm.Cond.instanceMethod ({ cls := "java/util/ArrayList$Itr", name := "checkForComodification", desc := "()V" } : Jvm.MethodName)) ∈ lw_tbl := List.mem_of_getElem? (i := 352) (by decide +kernel)
theorem k_316 : (Jvm.Cond.selects "java/util/ArrayList$Itr" ({ cls := "java/util/ArrayList$Itr", name := "checkForComodification", desc := "()V" } : Jvm.MethodName) ({ cls := "java/util/ArrayList$Itr", name := "checkForComodification", desc := "()V" } : Jvm.MethodName)) ∈ lw_tbl := List.mem_of_getElem? (i := 353) (by decide +kernel)
theorem k_317 : (Jvm.Cond.code ({ cls := "java/util/ArrayList$Itr", name := "checkForComodification", desc := "()V" } : Jvm.MethodName) prog_27_method_6_code (1 : Nat) (Option.none : Option FieldType)) ∈ lw_tbl := List.mem_of_getElem? (i := 354) (by decide +kernel)
theorem k_318 : (Jvm.Cond.classLink "CallLedger" (60 : Nat) "CallLedger$Account") ∈ lw_tbl := List.mem_of_getElem? (i := 355) (by decide +kernel)
theorem k_319 : (Jvm.Cond.methodLink "CallLedgerLaw" (43 : Nat) ({ cls := "CallLedgerLaw", name := "open", desc := "(LCallLedger;I[J)I" } : Jvm.MethodName)) ∈ lw_tbl := List.mem_of_getElem? (i := 356) (by decide +kernel)
theorem k_320 : (Jvm.Cond.static ({ cls := "CallLedgerLaw", name := "open", desc := "(LCallLedger;I[J)I" } : Jvm.MethodName)) ∈ lw_tbl := List.mem_of_getElem? (i := 357) (by decide +kernel)
theorem k_321 : (Jvm.Cond.codeWith ({ cls := "CallLedgerLaw", name := "open", desc := "(LCallLedger;I[J)I" } : Jvm.MethodName) method_3_code (4 : Nat) (Option.some FieldType.int) [((0 : Nat), (9 : Nat), (12 : Nat), (13 : Nat))]) ∈ lw_tbl := List.mem_of_getElem? (i := 358) (by decide +kernel)
theorem k_322 : (Jvm.Cond.classLink "CallLedgerLaw" (13 : Nat) "java/lang/IllegalArgumentException") ∈ lw_tbl := List.mem_of_getElem? (i := 359) (by decide +kernel)
theorem k_323 : (Jvm.Cond.methodLink "CallLedgerLaw" (7 : Nat) ({ cls := "CallLedger", name := "open", desc := "(I)I" } : Jvm.MethodName)) ∈ lw_tbl := List.mem_of_getElem? (i := 360) (by decide +kernel)
theorem k_324 : (Jvm.Cond.instanceMethod ({ cls := "CallLedger", name := "open", desc := "(I)I" } : Jvm.MethodName)) ∈ lw_tbl := List.mem_of_getElem? (i := 361) (by decide +kernel)
theorem k_325 : (Jvm.Cond.selects "CallLedger" ({ cls := "CallLedger", name := "open", desc := "(I)I" } : Jvm.MethodName) ({ cls := "CallLedger", name := "open", desc := "(I)I" } : Jvm.MethodName)) ∈ lw_tbl := List.mem_of_getElem? (i := 362) (by decide +kernel)
theorem k_326 : (Jvm.Cond.code ({ cls := "CallLedger", name := "open", desc := "(I)I" } : Jvm.MethodName) prog_1_method_5_code (2 : Nat) (Option.some FieldType.int)) ∈ lw_tbl := List.mem_of_getElem? (i := 363) (by decide +kernel)
theorem k_327 : (Jvm.Cond.methodLink "CallLedger" (76 : Nat) ({ cls := "CallLedger", name := "fits", desc := "(Z)V" } : Jvm.MethodName)) ∈ lw_tbl := List.mem_of_getElem? (i := 364) (by decide +kernel)
theorem k_328 : (Jvm.Cond.static ({ cls := "CallLedger", name := "fits", desc := "(Z)V" } : Jvm.MethodName)) ∈ lw_tbl := List.mem_of_getElem? (i := 365) (by decide +kernel)
theorem k_329 : (Jvm.Cond.code ({ cls := "CallLedger", name := "fits", desc := "(Z)V" } : Jvm.MethodName) prog_1_method_3_code (1 : Nat) (Option.none : Option FieldType)) ∈ lw_tbl := List.mem_of_getElem? (i := 366) (by decide +kernel)
theorem k_330 : (Jvm.Cond.classLink "CallLedger" (62 : Nat) "java/lang/IllegalArgumentException") ∈ lw_tbl := List.mem_of_getElem? (i := 367) (by decide +kernel)
theorem k_331 : (Jvm.Cond.instantiable "java/lang/IllegalArgumentException" (6 : Nat)) ∈ lw_tbl := List.mem_of_getElem? (i := 368) (by decide +kernel)
theorem k_332 : (Jvm.Cond.castable "java/lang/IllegalArgumentException" "java/lang/IllegalArgumentException") ∈ lw_tbl := List.mem_of_getElem? (i := 369) (by decide +kernel)
theorem k_333 : (Jvm.Cond.declares ({ cls := "java/lang/RuntimeException", name := "<init>", desc := "()V" } : Jvm.MethodName)) ∈ lw_tbl := List.mem_of_getElem? (i := 370) (by decide +kernel)
theorem k_334 : (Jvm.Cond.declares ({ cls := "java/lang/RuntimeException", name := "<init>", desc := "(Ljava/lang/String;)V" } : Jvm.MethodName)) ∈ lw_tbl := List.mem_of_getElem? (i := 371) (by decide +kernel)
theorem k_335 : (Jvm.Cond.declares ({ cls := "java/lang/Exception", name := "<init>", desc := "()V" } : Jvm.MethodName)) ∈ lw_tbl := List.mem_of_getElem? (i := 372) (by decide +kernel)
theorem k_336 : (Jvm.Cond.declares ({ cls := "java/lang/Exception", name := "<init>", desc := "(Ljava/lang/String;)V" } : Jvm.MethodName)) ∈ lw_tbl := List.mem_of_getElem? (i := 373) (by decide +kernel)
theorem k_337 : (Jvm.Cond.declares ({ cls := "java/lang/Throwable", name := "<init>", desc := "()V" } : Jvm.MethodName)) ∈ lw_tbl := List.mem_of_getElem? (i := 374) (by decide +kernel)
theorem k_338 : (Jvm.Cond.declares ({ cls := "java/lang/Throwable", name := "<init>", desc := "(Ljava/lang/String;)V" } : Jvm.MethodName)) ∈ lw_tbl := List.mem_of_getElem? (i := 375) (by decide +kernel)
theorem k_339 : (Jvm.Cond.selects "java/lang/IllegalArgumentException" ({ cls := "java/lang/Throwable", name := "fillInStackTrace", desc := "(I)Ljava/lang/Throwable;" } : Jvm.MethodName) ({ cls := "java/lang/Throwable", name := "fillInStackTrace", desc := "(I)Ljava/lang/Throwable;" } : Jvm.MethodName)) ∈ lw_tbl := List.mem_of_getElem? (i := 376) (by decide +kernel)
theorem k_340 : (Jvm.Cond.selects "java/lang/IllegalArgumentException" ({ cls := "java/lang/Throwable", name := "fillInStackTrace", desc := "()Ljava/lang/Throwable;" } : Jvm.MethodName) ({ cls := "java/lang/Throwable", name := "fillInStackTrace", desc := "()Ljava/lang/Throwable;" } : Jvm.MethodName)) ∈ lw_tbl := List.mem_of_getElem? (i := 377) (by decide +kernel)
theorem k_341 : (Jvm.Cond.lays "java/lang/IllegalArgumentException" "java/lang/Throwable" "cause" "Ljava/lang/Throwable;") ∈ lw_tbl := List.mem_of_getElem? (i := 378) (by decide +kernel)
theorem k_342 : (Jvm.Cond.lays "java/lang/Throwable" "java/lang/Throwable" "cause" "Ljava/lang/Throwable;") ∈ lw_tbl := List.mem_of_getElem? (i := 379) (by decide +kernel)
theorem k_343 : (Jvm.Cond.lays "java/lang/IllegalArgumentException" "java/lang/Throwable" "stackTrace" "[Ljava/lang/StackTraceElement;") ∈ lw_tbl := List.mem_of_getElem? (i := 380) (by decide +kernel)
theorem k_344 : (Jvm.Cond.lays "java/lang/Throwable" "java/lang/Throwable" "stackTrace" "[Ljava/lang/StackTraceElement;") ∈ lw_tbl := List.mem_of_getElem? (i := 381) (by decide +kernel)
theorem k_345 : (Jvm.Cond.lays "java/lang/IllegalArgumentException" "java/lang/Throwable" "suppressedExceptions" "Ljava/util/List;") ∈ lw_tbl := List.mem_of_getElem? (i := 382) (by decide +kernel)
theorem k_346 : (Jvm.Cond.lays "java/lang/Throwable" "java/lang/Throwable" "suppressedExceptions" "Ljava/util/List;") ∈ lw_tbl := List.mem_of_getElem? (i := 383) (by decide +kernel)
theorem k_347 : (Jvm.Cond.lays "java/lang/IllegalArgumentException" "java/lang/Throwable" "detailMessage" "Ljava/lang/String;") ∈ lw_tbl := List.mem_of_getElem? (i := 384) (by decide +kernel)
theorem k_348 : (Jvm.Cond.lays "java/lang/Throwable" "java/lang/Throwable" "detailMessage" "Ljava/lang/String;") ∈ lw_tbl := List.mem_of_getElem? (i := 385) (by decide +kernel)
theorem k_349 : (Jvm.Cond.lays "java/lang/IllegalArgumentException" "java/lang/Throwable" "backtrace" "Ljava/lang/Object;") ∈ lw_tbl := List.mem_of_getElem? (i := 386) (by decide +kernel)
theorem k_350 : (Jvm.Cond.lays "java/lang/Throwable" "java/lang/Throwable" "backtrace" "Ljava/lang/Object;") ∈ lw_tbl := List.mem_of_getElem? (i := 387) (by decide +kernel)
theorem k_351 : (Jvm.Cond.fieldLink "java/lang/Throwable" (198 : Nat) "java/lang/Throwable" "backtrace" "Ljava/lang/Object;") ∈ lw_tbl := List.mem_of_getElem? (i := 388) (by decide +kernel)
theorem k_352 : (Jvm.Cond.superclass "java/lang/Throwable" "java/lang/Object") ∈ lw_tbl := List.mem_of_getElem? (i := 389) (by decide +kernel)
theorem k_353 : (Jvm.Cond.instanceMethod ({ cls := "java/lang/Throwable", name := "<init>", desc := "()V" } : Jvm.MethodName)) ∈ lw_tbl := List.mem_of_getElem? (i := 390) (by decide +kernel)
theorem k_354 : (Jvm.Cond.code ({ cls := "java/lang/Throwable", name := "<init>", desc := "()V" } : Jvm.MethodName) prog_23_method_1_code (1 : Nat) (Option.none : Option FieldType)) ∈ lw_tbl := List.mem_of_getElem? (i := 391) (by decide +kernel)
theorem k_355 : (Jvm.Cond.methodLink "java/lang/Throwable" (1 : Nat) ({ cls := "java/lang/Object", name := "<init>", desc := "()V" } : Jvm.MethodName)) ∈ lw_tbl := List.mem_of_getElem? (i := 392) (by decide +kernel)
theorem k_356 : (Jvm.Cond.fieldLink "java/lang/Throwable" (13 : Nat) "java/lang/Throwable" "UNASSIGNED_STACK" "[Ljava/lang/StackTraceElement;") ∈ lw_tbl := List.mem_of_getElem? (i := 393) (by decide +kernel)
theorem k_357 : (Jvm.Cond.laysStatic "java/lang/Throwable" "UNASSIGNED_STACK" "[Ljava/lang/StackTraceElement;") ∈ lw_tbl := List.mem_of_getElem? (i := 394) (by decide +kernel)
theorem k_358 : (Jvm.Cond.fieldLink "java/lang/Throwable" (20 : Nat) "java/lang/Throwable" "SUPPRESSED_SENTINEL" "Ljava/util/List;") ∈ lw_tbl := List.mem_of_getElem? (i := 395) (by decide +kernel)
theorem k_359 : (Jvm.Cond.laysStatic "java/lang/Throwable" "SUPPRESSED_SENTINEL" "Ljava/util/List;") ∈ lw_tbl := List.mem_of_getElem? (i := 396) (by decide +kernel)
theorem k_360 : (Jvm.Cond.methodLink "java/lang/Throwable" (27 : Nat) ({ cls := "java/lang/Throwable", name := "fillInStackTrace", desc := "()Ljava/lang/Throwable;" } : Jvm.MethodName)) ∈ lw_tbl := List.mem_of_getElem? (i := 397) (by decide +kernel)
theorem k_361 : (Jvm.Cond.instanceMethod ({ cls := "java/lang/Throwable", name := "fillInStackTrace", desc := "()Ljava/lang/Throwable;" } : Jvm.MethodName)) ∈ lw_tbl := List.mem_of_getElem? (i := 398) (by decide +kernel)
theorem k_362 : (Jvm.Cond.sameMethod "java/lang/Throwable" "java/lang/Throwable" "fillInStackTrace" "()Ljava/lang/Throwable;") ∈ lw_tbl := List.mem_of_getElem? (i := 399) (by decide +kernel)
theorem k_363 : (Jvm.Cond.selects "java/lang/ArrayIndexOutOfBoundsException" ({ cls := "java/lang/Throwable", name := "fillInStackTrace", desc := "()Ljava/lang/Throwable;" } : Jvm.MethodName) ({ cls := "java/lang/Throwable", name := "fillInStackTrace", desc := "()Ljava/lang/Throwable;" } : Jvm.MethodName)) ∈ lw_tbl := List.mem_of_getElem? (i := 400) (by decide +kernel)
theorem k_364 : (Jvm.Cond.selects "java/lang/IllegalStateException" ({ cls := "java/lang/Throwable", name := "fillInStackTrace", desc := "()Ljava/lang/Throwable;" } : Jvm.MethodName) ({ cls := "java/lang/Throwable", name := "fillInStackTrace", desc := "()Ljava/lang/Throwable;" } : Jvm.MethodName)) ∈ lw_tbl := List.mem_of_getElem? (i := 401) (by decide +kernel)
theorem k_365 : (Jvm.Cond.selects "java/lang/IndexOutOfBoundsException" ({ cls := "java/lang/Throwable", name := "fillInStackTrace", desc := "()Ljava/lang/Throwable;" } : Jvm.MethodName) ({ cls := "java/lang/Throwable", name := "fillInStackTrace", desc := "()Ljava/lang/Throwable;" } : Jvm.MethodName)) ∈ lw_tbl := List.mem_of_getElem? (i := 402) (by decide +kernel)
theorem k_366 : (Jvm.Cond.codeSync ({ cls := "java/lang/Throwable", name := "fillInStackTrace", desc := "()Ljava/lang/Throwable;" } : Jvm.MethodName) prog_23_method_18_code (1 : Nat) (Option.some (FieldType.object "java/lang/Throwable"))) ∈ lw_tbl := List.mem_of_getElem? (i := 403) (by decide +kernel)
theorem k_367 : (Jvm.Cond.methodLink "java/lang/Throwable" (202 : Nat) ({ cls := "java/lang/Throwable", name := "fillInStackTrace", desc := "(I)Ljava/lang/Throwable;" } : Jvm.MethodName)) ∈ lw_tbl := List.mem_of_getElem? (i := 404) (by decide +kernel)
theorem k_368 : (Jvm.Cond.privateMethod ({ cls := "java/lang/Throwable", name := "fillInStackTrace", desc := "(I)Ljava/lang/Throwable;" } : Jvm.MethodName)) ∈ lw_tbl := List.mem_of_getElem? (i := 405) (by decide +kernel)
theorem k_369 : (Jvm.Cond.instanceMethod ({ cls := "java/lang/Throwable", name := "fillInStackTrace", desc := "(I)Ljava/lang/Throwable;" } : Jvm.MethodName)) ∈ lw_tbl := List.mem_of_getElem? (i := 406) (by decide +kernel)
theorem k_370 : (Jvm.Cond.instantiable "java/lang/Throwable" (6 : Nat)) ∈ lw_tbl := List.mem_of_getElem? (i := 407) (by decide +kernel)
theorem k_371 : (Jvm.Cond.native ({ cls := "java/lang/Throwable", name := "fillInStackTrace", desc := "(I)Ljava/lang/Throwable;" } : Jvm.MethodName)) ∈ lw_tbl := List.mem_of_getElem? (i := 408) (by decide +kernel)
theorem k_372 : (Jvm.Cond.stringRef "CallLedger" (64 : Nat) "out of its range") ∈ lw_tbl := List.mem_of_getElem? (i := 409) (by decide +kernel)
theorem k_373 : (Jvm.Cond.methodLink "CallLedger" (66 : Nat) ({ cls := "java/lang/IllegalArgumentException", name := "<init>", desc := "(Ljava/lang/String;)V" } : Jvm.MethodName)) ∈ lw_tbl := List.mem_of_getElem? (i := 410) (by decide +kernel)
theorem k_374 : (Jvm.Cond.instanceMethod ({ cls := "java/lang/IllegalArgumentException", name := "<init>", desc := "(Ljava/lang/String;)V" } : Jvm.MethodName)) ∈ lw_tbl := List.mem_of_getElem? (i := 411) (by decide +kernel)
theorem k_375 : (Jvm.Cond.code ({ cls := "java/lang/IllegalArgumentException", name := "<init>", desc := "(Ljava/lang/String;)V" } : Jvm.MethodName) prog_15_method_2_code (2 : Nat) (Option.none : Option FieldType)) ∈ lw_tbl := List.mem_of_getElem? (i := 412) (by decide +kernel)
theorem k_376 : (Jvm.Cond.methodLink "java/lang/IllegalArgumentException" (7 : Nat) ({ cls := "java/lang/RuntimeException", name := "<init>", desc := "(Ljava/lang/String;)V" } : Jvm.MethodName)) ∈ lw_tbl := List.mem_of_getElem? (i := 413) (by decide +kernel)
theorem k_377 : (Jvm.Cond.instanceMethod ({ cls := "java/lang/RuntimeException", name := "<init>", desc := "(Ljava/lang/String;)V" } : Jvm.MethodName)) ∈ lw_tbl := List.mem_of_getElem? (i := 414) (by decide +kernel)
theorem k_378 : (Jvm.Cond.code ({ cls := "java/lang/RuntimeException", name := "<init>", desc := "(Ljava/lang/String;)V" } : Jvm.MethodName) prog_20_method_2_code (2 : Nat) (Option.none : Option FieldType)) ∈ lw_tbl := List.mem_of_getElem? (i := 415) (by decide +kernel)
theorem k_379 : (Jvm.Cond.methodLink "java/lang/RuntimeException" (7 : Nat) ({ cls := "java/lang/Exception", name := "<init>", desc := "(Ljava/lang/String;)V" } : Jvm.MethodName)) ∈ lw_tbl := List.mem_of_getElem? (i := 416) (by decide +kernel)
theorem k_380 : (Jvm.Cond.instanceMethod ({ cls := "java/lang/Exception", name := "<init>", desc := "(Ljava/lang/String;)V" } : Jvm.MethodName)) ∈ lw_tbl := List.mem_of_getElem? (i := 417) (by decide +kernel)
theorem k_381 : (Jvm.Cond.code ({ cls := "java/lang/Exception", name := "<init>", desc := "(Ljava/lang/String;)V" } : Jvm.MethodName) prog_14_method_2_code (2 : Nat) (Option.none : Option FieldType)) ∈ lw_tbl := List.mem_of_getElem? (i := 418) (by decide +kernel)
theorem k_382 : (Jvm.Cond.methodLink "java/lang/Exception" (7 : Nat) ({ cls := "java/lang/Throwable", name := "<init>", desc := "(Ljava/lang/String;)V" } : Jvm.MethodName)) ∈ lw_tbl := List.mem_of_getElem? (i := 419) (by decide +kernel)
theorem k_383 : (Jvm.Cond.instanceMethod ({ cls := "java/lang/Throwable", name := "<init>", desc := "(Ljava/lang/String;)V" } : Jvm.MethodName)) ∈ lw_tbl := List.mem_of_getElem? (i := 420) (by decide +kernel)
theorem k_384 : (Jvm.Cond.code ({ cls := "java/lang/Throwable", name := "<init>", desc := "(Ljava/lang/String;)V" } : Jvm.MethodName) prog_23_method_2_code (2 : Nat) (Option.none : Option FieldType)) ∈ lw_tbl := List.mem_of_getElem? (i := 421) (by decide +kernel)
theorem k_385 : (Jvm.Cond.fieldLink "java/lang/Throwable" (198 : Nat) "java/lang/Throwable" "backtrace" "Ljava/lang/Object;") ∈ lw_tbl := List.mem_of_getElem? (i := 422) (by decide +kernel)
theorem k_386 : (Jvm.Cond.fieldLink "java/lang/Throwable" (31 : Nat) "java/lang/Throwable" "detailMessage" "Ljava/lang/String;") ∈ lw_tbl := List.mem_of_getElem? (i := 423) (by decide +kernel)
theorem k_387 : (Jvm.Cond.fieldLink "java/lang/Throwable" (7 : Nat) "java/lang/Throwable" "cause" "Ljava/lang/Throwable;") ∈ lw_tbl := List.mem_of_getElem? (i := 424) (by decide +kernel)
theorem k_388 : (Jvm.Cond.fieldLink "java/lang/Throwable" (17 : Nat) "java/lang/Throwable" "stackTrace" "[Ljava/lang/StackTraceElement;") ∈ lw_tbl := List.mem_of_getElem? (i := 425) (by decide +kernel)
theorem k_389 : (Jvm.Cond.fieldLink "java/lang/Throwable" (24 : Nat) "java/lang/Throwable" "suppressedExceptions" "Ljava/util/List;") ∈ lw_tbl := List.mem_of_getElem? (i := 426) (by decide +kernel)
theorem k_390 : (Jvm.Cond.soleField "java/lang/Throwable" "backtrace") ∈ lw_tbl := List.mem_of_getElem? (i := 427) (by decide +kernel)
theorem k_391 : (Jvm.Cond.soleField "java/lang/Throwable" "detailMessage") ∈ lw_tbl := List.mem_of_getElem? (i := 428) (by decide +kernel)
theorem k_392 : (Jvm.Cond.soleField "java/lang/Throwable" "cause") ∈ lw_tbl := List.mem_of_getElem? (i := 429) (by decide +kernel)
theorem k_393 : (Jvm.Cond.soleField "java/lang/Throwable" "stackTrace") ∈ lw_tbl := List.mem_of_getElem? (i := 430) (by decide +kernel)
theorem k_394 : (Jvm.Cond.lays "java/lang/IllegalArgumentException" "java/lang/Throwable" "depth" "I") ∈ lw_tbl := List.mem_of_getElem? (i := 431) (by decide +kernel)
theorem k_395 : (Jvm.Cond.soleField "java/lang/Throwable" "depth") ∈ lw_tbl := List.mem_of_getElem? (i := 432) (by decide +kernel)
theorem k_396 : (Jvm.Cond.soleField "java/lang/Throwable" "suppressedExceptions") ∈ lw_tbl := List.mem_of_getElem? (i := 433) (by decide +kernel)
theorem k_397 : (Jvm.Cond.superclass "java/lang/IllegalArgumentException" "java/lang/RuntimeException") ∈ lw_tbl := List.mem_of_getElem? (i := 434) (by decide +kernel)
theorem k_398 : (Jvm.Cond.interfaceEntry "CallLedger" (80 : Nat)) ∈ lw_tbl := List.mem_of_getElem? (i := 435) (by decide +kernel)
theorem k_399 : (Jvm.Cond.methodLink "CallLedger" (80 : Nat) ({ cls := "java/util/List", name := "size", desc := "()I" } : Jvm.MethodName)) ∈ lw_tbl := List.mem_of_getElem? (i := 436) (by decide +kernel)
theorem k_400 : (Jvm.Cond.interfaceMethod "java/util/List" "java/util/List" "size" "()I") ∈ lw_tbl := List.mem_of_getElem? (i := 437) (by decide +kernel)
theorem k_401 : (Jvm.Cond.declares ({ cls := "java/util/List", name := "size", desc := "()I" } : Jvm.MethodName)) ∈ lw_tbl := List.mem_of_getElem? (i := 438) (by decide +kernel)
theorem k_402 : (Jvm.Cond.selects "java/util/ArrayList" ({ cls := "java/util/List", name := "size", desc := "()I" } : Jvm.MethodName) ({ cls := "java/util/ArrayList", name := "size", desc := "()I" } : Jvm.MethodName)) ∈ lw_tbl := List.mem_of_getElem? (i := 439) (by decide +kernel)
theorem k_403 : (Jvm.Cond.unhidden "java/util/ArrayList" "size" "()I") ∈ lw_tbl := List.mem_of_getElem? (i := 440) (by decide +kernel)
theorem k_404 : (Jvm.Cond.instanceMethod ({ cls := "java/util/ArrayList", name := "size", desc := "()I" } : Jvm.MethodName)) ∈ lw_tbl := List.mem_of_getElem? (i := 441) (by decide +kernel)
theorem k_405 : (Jvm.Cond.publicMethod ({ cls := "java/util/ArrayList", name := "size", desc := "()I" } : Jvm.MethodName)) ∈ lw_tbl := List.mem_of_getElem? (i := 442) (by decide +kernel)
theorem k_406 : (Jvm.Cond.code ({ cls := "java/util/ArrayList", name := "size", desc := "()I" } : Jvm.MethodName) prog_26_method_8_code (1 : Nat) (Option.some FieldType.int)) ∈ lw_tbl := List.mem_of_getElem? (i := 443) (by decide +kernel)
theorem k_407 : (Jvm.Cond.methodLink "CallLedger" (84 : Nat) ({ cls := "CallLedger", name := "supply", desc := "()I" } : Jvm.MethodName)) ∈ lw_tbl := List.mem_of_getElem? (i := 444) (by decide +kernel)
theorem k_408 : (Jvm.Cond.constantLong "CallLedger" (87 : Nat) (2147483647 : Int64)) ∈ lw_tbl := List.mem_of_getElem? (i := 445) (by decide +kernel)
theorem k_409 : (Jvm.Cond.instantiable "CallLedger$Account" (4 : Nat)) ∈ lw_tbl := List.mem_of_getElem? (i := 446) (by decide +kernel)
theorem k_410 : (Jvm.Cond.methodLink "CallLedger" (89 : Nat) ({ cls := "CallLedger$Account", name := "<init>", desc := "(I)V" } : Jvm.MethodName)) ∈ lw_tbl := List.mem_of_getElem? (i := 447) (by decide +kernel)
theorem k_411 : (Jvm.Cond.instanceMethod ({ cls := "CallLedger$Account", name := "<init>", desc := "(I)V" } : Jvm.MethodName)) ∈ lw_tbl := List.mem_of_getElem? (i := 448) (by decide +kernel)
theorem k_412 : (Jvm.Cond.code ({ cls := "CallLedger$Account", name := "<init>", desc := "(I)V" } : Jvm.MethodName) prog_2_method_1_code (2 : Nat) (Option.none : Option FieldType)) ∈ lw_tbl := List.mem_of_getElem? (i := 449) (by decide +kernel)
theorem k_413 : (Jvm.Cond.methodLink "CallLedger$Account" (3 : Nat) ({ cls := "java/lang/Object", name := "<init>", desc := "()V" } : Jvm.MethodName)) ∈ lw_tbl := List.mem_of_getElem? (i := 450) (by decide +kernel)
theorem k_414 : (Jvm.Cond.fieldLink "CallLedger$Account" (15 : Nat) "CallLedger$Account" "balance" "I") ∈ lw_tbl := List.mem_of_getElem? (i := 451) (by decide +kernel)
theorem k_415 : (Jvm.Cond.fieldLinkNest "CallLedger$Book" (52 : Nat) "CallLedger$Account" "balance" "I" "CallLedger") ∈ lw_tbl := List.mem_of_getElem? (i := 452) (by decide +kernel)
theorem k_416 : (Jvm.Cond.fieldLinkNest "CallLedger" (117 : Nat) "CallLedger$Account" "balance" "I" "CallLedger") ∈ lw_tbl := List.mem_of_getElem? (i := 453) (by decide +kernel)
theorem k_417 : (Jvm.Cond.fieldLink "CallLedger$Account" (9 : Nat) "CallLedger$Account" "words" "[I") ∈ lw_tbl := List.mem_of_getElem? (i := 454) (by decide +kernel)
theorem k_418 : (Jvm.Cond.fieldLinkNest "CallLedger" (107 : Nat) "CallLedger$Account" "words" "[I" "CallLedger") ∈ lw_tbl := List.mem_of_getElem? (i := 455) (by decide +kernel)
theorem k_419 : (Jvm.Cond.fieldLinkNest "CallLedger$Run" (150 : Nat) "CallLedger$Account" "words" "[I" "CallLedger") ∈ lw_tbl := List.mem_of_getElem? (i := 456) (by decide +kernel)
theorem k_420 : (Jvm.Cond.fieldLink "CallLedger$Account" (23 : Nat) "CallLedger$Account" "size" "I") ∈ lw_tbl := List.mem_of_getElem? (i := 457) (by decide +kernel)
theorem k_421 : (Jvm.Cond.fieldLinkNest "CallLedger" (104 : Nat) "CallLedger$Account" "size" "I" "CallLedger") ∈ lw_tbl := List.mem_of_getElem? (i := 458) (by decide +kernel)
theorem k_422 : (Jvm.Cond.fieldLink "CallLedger$Account" (19 : Nat) "CallLedger$Account" "sealed" "Z") ∈ lw_tbl := List.mem_of_getElem? (i := 459) (by decide +kernel)
theorem k_423 : (Jvm.Cond.fieldLinkNest "CallLedger" (67 : Nat) "CallLedger$Account" "sealed" "Z" "CallLedger") ∈ lw_tbl := List.mem_of_getElem? (i := 460) (by decide +kernel)
theorem k_424 : (Jvm.Cond.lays "CallLedger$Account" "CallLedger$Account" "balance" "I") ∈ lw_tbl := List.mem_of_getElem? (i := 461) (by decide +kernel)
theorem k_425 : (Jvm.Cond.soleField "CallLedger$Account" "balance") ∈ lw_tbl := List.mem_of_getElem? (i := 462) (by decide +kernel)
theorem k_426 : (Jvm.Cond.laysFinal "CallLedger$Account" "CallLedger$Account" "words" "[I") ∈ lw_tbl := List.mem_of_getElem? (i := 463) (by decide +kernel)
theorem k_427 : (Jvm.Cond.soleField "CallLedger$Account" "words") ∈ lw_tbl := List.mem_of_getElem? (i := 464) (by decide +kernel)
theorem k_428 : (Jvm.Cond.lays "CallLedger$Account" "CallLedger$Account" "size" "I") ∈ lw_tbl := List.mem_of_getElem? (i := 465) (by decide +kernel)
theorem k_429 : (Jvm.Cond.soleField "CallLedger$Account" "size") ∈ lw_tbl := List.mem_of_getElem? (i := 466) (by decide +kernel)
theorem k_430 : (Jvm.Cond.lays "CallLedger$Account" "CallLedger$Account" "sealed" "Z") ∈ lw_tbl := List.mem_of_getElem? (i := 467) (by decide +kernel)
theorem k_431 : (Jvm.Cond.soleField "CallLedger$Account" "sealed") ∈ lw_tbl := List.mem_of_getElem? (i := 468) (by decide +kernel)
theorem k_432 : (Jvm.Cond.superclass "CallLedger$Account" "java/lang/Object") ∈ lw_tbl := List.mem_of_getElem? (i := 469) (by decide +kernel)
theorem k_433 : (Jvm.Cond.interfaceEntry "CallLedger" (92 : Nat)) ∈ lw_tbl := List.mem_of_getElem? (i := 470) (by decide +kernel)
theorem k_434 : (Jvm.Cond.methodLink "CallLedger" (92 : Nat) ({ cls := "java/util/List", name := "add", desc := "(Ljava/lang/Object;)Z" } : Jvm.MethodName)) ∈ lw_tbl := List.mem_of_getElem? (i := 471) (by decide +kernel)
theorem k_435 : (Jvm.Cond.interfaceMethod "java/util/List" "java/util/List" "add" "(Ljava/lang/Object;)Z") ∈ lw_tbl := List.mem_of_getElem? (i := 472) (by decide +kernel)
theorem k_436 : (Jvm.Cond.declares ({ cls := "java/util/List", name := "add", desc := "(Ljava/lang/Object;)Z" } : Jvm.MethodName)) ∈ lw_tbl := List.mem_of_getElem? (i := 473) (by decide +kernel)
theorem k_437 : (Jvm.Cond.selects "java/util/ArrayList" ({ cls := "java/util/List", name := "add", desc := "(Ljava/lang/Object;)Z" } : Jvm.MethodName) ({ cls := "java/util/ArrayList", name := "add", desc := "(Ljava/lang/Object;)Z" } : Jvm.MethodName)) ∈ lw_tbl := List.mem_of_getElem? (i := 474) (by decide +kernel)
theorem k_438 : (Jvm.Cond.unhidden "java/util/ArrayList" "add" "(Ljava/lang/Object;)Z") ∈ lw_tbl := List.mem_of_getElem? (i := 475) (by decide +kernel)
theorem k_439 : (Jvm.Cond.instanceMethod ({ cls := "java/util/ArrayList", name := "add", desc := "(Ljava/lang/Object;)Z" } : Jvm.MethodName)) ∈ lw_tbl := List.mem_of_getElem? (i := 476) (by decide +kernel)
theorem k_440 : (Jvm.Cond.publicMethod ({ cls := "java/util/ArrayList", name := "add", desc := "(Ljava/lang/Object;)Z" } : Jvm.MethodName)) ∈ lw_tbl := List.mem_of_getElem? (i := 477) (by decide +kernel)
theorem k_441 : (Jvm.Cond.code ({ cls := "java/util/ArrayList", name := "add", desc := "(Ljava/lang/Object;)Z" } : Jvm.MethodName) prog_26_method_25_code (2 : Nat) (Option.some FieldType.boolean)) ∈ lw_tbl := List.mem_of_getElem? (i := 478) (by decide +kernel)
theorem k_442 : (Jvm.Cond.methodLink "java/util/ArrayList" (131 : Nat) ({ cls := "java/util/ArrayList", name := "add", desc := "(Ljava/lang/Object;[Ljava/lang/Object;I)V" } : Jvm.MethodName)) ∈ lw_tbl := List.mem_of_getElem? (i := 479) (by decide +kernel)
theorem k_443 : (Jvm.Cond.privateMethod ({ cls := "java/util/ArrayList", name := "add", desc := "(Ljava/lang/Object;[Ljava/lang/Object;I)V" } : Jvm.MethodName)) ∈ lw_tbl := List.mem_of_getElem? (i := 480) (by decide +kernel)
theorem k_444 : (Jvm.Cond.instanceMethod ({ cls := "java/util/ArrayList", name := "add", desc := "(Ljava/lang/Object;[Ljava/lang/Object;I)V" } : Jvm.MethodName)) ∈ lw_tbl := List.mem_of_getElem? (i := 481) (by decide +kernel)
theorem k_445 : (Jvm.Cond.code ({ cls := "java/util/ArrayList", name := "add", desc := "(Ljava/lang/Object;[Ljava/lang/Object;I)V" } : Jvm.MethodName) prog_26_method_24_code (4 : Nat) (Option.none : Option FieldType)) ∈ lw_tbl := List.mem_of_getElem? (i := 482) (by decide +kernel)
theorem k_446 : (Jvm.Cond.methodLink "java/util/ArrayList" (129 : Nat) ({ cls := "java/util/ArrayList", name := "grow", desc := "()[Ljava/lang/Object;" } : Jvm.MethodName)) ∈ lw_tbl := List.mem_of_getElem? (i := 483) (by decide +kernel)
theorem k_447 : (Jvm.Cond.privateMethod ({ cls := "java/util/ArrayList", name := "grow", desc := "()[Ljava/lang/Object;" } : Jvm.MethodName)) ∈ lw_tbl := List.mem_of_getElem? (i := 484) (by decide +kernel)
theorem k_448 : (Jvm.Cond.instanceMethod ({ cls := "java/util/ArrayList", name := "grow", desc := "()[Ljava/lang/Object;" } : Jvm.MethodName)) ∈ lw_tbl := List.mem_of_getElem? (i := 485) (by decide +kernel)
theorem k_449 : (Jvm.Cond.code ({ cls := "java/util/ArrayList", name := "grow", desc := "()[Ljava/lang/Object;" } : Jvm.MethodName) prog_26_method_7_code (1 : Nat) (Option.some (FieldType.array (FieldType.object "java/lang/Object")))) ∈ lw_tbl := List.mem_of_getElem? (i := 486) (by decide +kernel)
theorem k_450 : (Jvm.Cond.methodLink "java/util/ArrayList" (69 : Nat) ({ cls := "java/util/ArrayList", name := "grow", desc := "(I)[Ljava/lang/Object;" } : Jvm.MethodName)) ∈ lw_tbl := List.mem_of_getElem? (i := 487) (by decide +kernel)
theorem k_451 : (Jvm.Cond.privateMethod ({ cls := "java/util/ArrayList", name := "grow", desc := "(I)[Ljava/lang/Object;" } : Jvm.MethodName)) ∈ lw_tbl := List.mem_of_getElem? (i := 488) (by decide +kernel)
theorem k_452 : (Jvm.Cond.instanceMethod ({ cls := "java/util/ArrayList", name := "grow", desc := "(I)[Ljava/lang/Object;" } : Jvm.MethodName)) ∈ lw_tbl := List.mem_of_getElem? (i := 489) (by decide +kernel)
theorem k_453 : (Jvm.Cond.code ({ cls := "java/util/ArrayList", name := "grow", desc := "(I)[Ljava/lang/Object;" } : Jvm.MethodName) prog_26_method_6_code (4 : Nat) (Option.some (FieldType.array (FieldType.object "java/lang/Object")))) ∈ lw_tbl := List.mem_of_getElem? (i := 490) (by decide +kernel)
theorem k_454 : (Jvm.Cond.methodLink "java/util/ArrayList" (73 : Nat) ({ cls := "jdk/internal/util/ArraysSupport", name := "newLength", desc := "(III)I" } : Jvm.MethodName)) ∈ lw_tbl := List.mem_of_getElem? (i := 491) (by decide +kernel)
theorem k_455 : (Jvm.Cond.static ({ cls := "jdk/internal/util/ArraysSupport", name := "newLength", desc := "(III)I" } : Jvm.MethodName)) ∈ lw_tbl := List.mem_of_getElem? (i := 492) (by decide +kernel)
theorem k_456 : (Jvm.Cond.code ({ cls := "jdk/internal/util/ArraysSupport", name := "newLength", desc := "(III)I" } : Jvm.MethodName) prog_35_method_27_code (4 : Nat) (Option.some FieldType.int)) ∈ lw_tbl := List.mem_of_getElem? (i := 493) (by decide +kernel)
theorem k_457 : (Jvm.Cond.methodLink "jdk/internal/util/ArraysSupport" (194 : Nat) ({ cls := "java/lang/Math", name := "max", desc := "(II)I" } : Jvm.MethodName)) ∈ lw_tbl := List.mem_of_getElem? (i := 494) (by decide +kernel)
theorem k_458 : (Jvm.Cond.static ({ cls := "java/lang/Math", name := "max", desc := "(II)I" } : Jvm.MethodName)) ∈ lw_tbl := List.mem_of_getElem? (i := 495) (by decide +kernel)
theorem k_459 : (Jvm.Cond.code ({ cls := "java/lang/Math", name := "max", desc := "(II)I" } : Jvm.MethodName) prog_19_method_65_code (2 : Nat) (Option.some FieldType.int)) ∈ lw_tbl := List.mem_of_getElem? (i := 496) (by decide +kernel)
theorem k_460 : (Jvm.Cond.constant "jdk/internal/util/ArraysSupport" (200 : Nat) (2147483639 : Int32)) ∈ lw_tbl := List.mem_of_getElem? (i := 497) (by decide +kernel)
theorem k_461 : (Jvm.Cond.methodLink "jdk/internal/util/ArraysSupport" (201 : Nat) ({ cls := "jdk/internal/util/ArraysSupport", name := "hugeLength", desc := "(II)I" } : Jvm.MethodName)) ∈ lw_tbl := List.mem_of_getElem? (i := 498) (by decide +kernel)
theorem k_462 : (Jvm.Cond.static ({ cls := "jdk/internal/util/ArraysSupport", name := "hugeLength", desc := "(II)I" } : Jvm.MethodName)) ∈ lw_tbl := List.mem_of_getElem? (i := 499) (by decide +kernel)
theorem k_463 : (Jvm.Cond.code ({ cls := "jdk/internal/util/ArraysSupport", name := "hugeLength", desc := "(II)I" } : Jvm.MethodName) prog_35_method_28_code (3 : Nat) (Option.some FieldType.int)) ∈ lw_tbl := List.mem_of_getElem? (i := 500) (by decide +kernel)
theorem k_464 : (Jvm.Cond.methodLink "java/util/ArrayList" (66 : Nat) ({ cls := "java/util/Arrays", name := "copyOf", desc := "([Ljava/lang/Object;I)[Ljava/lang/Object;" } : Jvm.MethodName)) ∈ lw_tbl := List.mem_of_getElem? (i := 501) (by decide +kernel)
theorem k_465 : (Jvm.Cond.static ({ cls := "java/util/Arrays", name := "copyOf", desc := "([Ljava/lang/Object;I)[Ljava/lang/Object;" } : Jvm.MethodName)) ∈ lw_tbl := List.mem_of_getElem? (i := 502) (by decide +kernel)
theorem k_466 : (Jvm.Cond.code ({ cls := "java/util/Arrays", name := "copyOf", desc := "([Ljava/lang/Object;I)[Ljava/lang/Object;" } : Jvm.MethodName) prog_28_method_119_code (2 : Nat) (Option.some (FieldType.array (FieldType.object "java/lang/Object")))) ∈ lw_tbl := List.mem_of_getElem? (i := 503) (by decide +kernel)
theorem k_467 : (Jvm.Cond.methodLink "java/util/Arrays" (86 : Nat) ({ cls := "java/lang/Object", name := "getClass", desc := "()Ljava/lang/Class;" } : Jvm.MethodName)) ∈ lw_tbl := List.mem_of_getElem? (i := 504) (by decide +kernel)
theorem k_468 : (Jvm.Cond.instanceMethod ({ cls := "java/lang/Object", name := "getClass", desc := "()Ljava/lang/Class;" } : Jvm.MethodName)) ∈ lw_tbl := List.mem_of_getElem? (i := 505) (by decide +kernel)
theorem k_469 : (Jvm.Cond.sameMethod "java/lang/Object" "java/lang/Object" "getClass" "()Ljava/lang/Class;") ∈ lw_tbl := List.mem_of_getElem? (i := 506) (by decide +kernel)
theorem k_470 : (Jvm.Cond.selects "CallLedger" ({ cls := "java/lang/Object", name := "getClass", desc := "()Ljava/lang/Class;" } : Jvm.MethodName) ({ cls := "java/lang/Object", name := "getClass", desc := "()Ljava/lang/Class;" } : Jvm.MethodName)) ∈ lw_tbl := List.mem_of_getElem? (i := 507) (by decide +kernel)
theorem k_471 : (Jvm.Cond.selects "CallLedger$Account" ({ cls := "java/lang/Object", name := "getClass", desc := "()Ljava/lang/Class;" } : Jvm.MethodName) ({ cls := "java/lang/Object", name := "getClass", desc := "()Ljava/lang/Class;" } : Jvm.MethodName)) ∈ lw_tbl := List.mem_of_getElem? (i := 508) (by decide +kernel)
theorem k_472 : (Jvm.Cond.selects "CallLedger$Book" ({ cls := "java/lang/Object", name := "getClass", desc := "()Ljava/lang/Class;" } : Jvm.MethodName) ({ cls := "java/lang/Object", name := "getClass", desc := "()Ljava/lang/Class;" } : Jvm.MethodName)) ∈ lw_tbl := List.mem_of_getElem? (i := 509) (by decide +kernel)
theorem k_473 : (Jvm.Cond.selects "CallLedger$Instruction" ({ cls := "java/lang/Object", name := "getClass", desc := "()Ljava/lang/Class;" } : Jvm.MethodName) ({ cls := "java/lang/Object", name := "getClass", desc := "()Ljava/lang/Class;" } : Jvm.MethodName)) ∈ lw_tbl := List.mem_of_getElem? (i := 510) (by decide +kernel)
theorem k_474 : (Jvm.Cond.selects "CallLedger$Journal" ({ cls := "java/lang/Object", name := "getClass", desc := "()Ljava/lang/Class;" } : Jvm.MethodName) ({ cls := "java/lang/Object", name := "getClass", desc := "()Ljava/lang/Class;" } : Jvm.MethodName)) ∈ lw_tbl := List.mem_of_getElem? (i := 511) (by decide +kernel)
theorem k_475 : (Jvm.Cond.selects "CallLedger$Run" ({ cls := "java/lang/Object", name := "getClass", desc := "()Ljava/lang/Class;" } : Jvm.MethodName) ({ cls := "java/lang/Object", name := "getClass", desc := "()Ljava/lang/Class;" } : Jvm.MethodName)) ∈ lw_tbl := List.mem_of_getElem? (i := 512) (by decide +kernel)
theorem k_476 : (Jvm.Cond.selects "CallLedger$Table" ({ cls := "java/lang/Object", name := "getClass", desc := "()Ljava/lang/Class;" } : Jvm.MethodName) ({ cls := "java/lang/Object", name := "getClass", desc := "()Ljava/lang/Class;" } : Jvm.MethodName)) ∈ lw_tbl := List.mem_of_getElem? (i := 513) (by decide +kernel)
theorem k_477 : (Jvm.Cond.selects "CallLedgerModel" ({ cls := "java/lang/Object", name := "getClass", desc := "()Ljava/lang/Class;" } : Jvm.MethodName) ({ cls := "java/lang/Object", name := "getClass", desc := "()Ljava/lang/Class;" } : Jvm.MethodName)) ∈ lw_tbl := List.mem_of_getElem? (i := 514) (by decide +kernel)
theorem k_478 : (Jvm.Cond.selects "java/lang/ArrayIndexOutOfBoundsException" ({ cls := "java/lang/Object", name := "getClass", desc := "()Ljava/lang/Class;" } : Jvm.MethodName) ({ cls := "java/lang/Object", name := "getClass", desc := "()Ljava/lang/Class;" } : Jvm.MethodName)) ∈ lw_tbl := List.mem_of_getElem? (i := 515) (by decide +kernel)
theorem k_479 : (Jvm.Cond.selects "java/lang/IllegalArgumentException" ({ cls := "java/lang/Object", name := "getClass", desc := "()Ljava/lang/Class;" } : Jvm.MethodName) ({ cls := "java/lang/Object", name := "getClass", desc := "()Ljava/lang/Class;" } : Jvm.MethodName)) ∈ lw_tbl := List.mem_of_getElem? (i := 516) (by decide +kernel)
theorem k_480 : (Jvm.Cond.selects "java/lang/IllegalStateException" ({ cls := "java/lang/Object", name := "getClass", desc := "()Ljava/lang/Class;" } : Jvm.MethodName) ({ cls := "java/lang/Object", name := "getClass", desc := "()Ljava/lang/Class;" } : Jvm.MethodName)) ∈ lw_tbl := List.mem_of_getElem? (i := 517) (by decide +kernel)
theorem k_481 : (Jvm.Cond.selects "java/lang/IndexOutOfBoundsException" ({ cls := "java/lang/Object", name := "getClass", desc := "()Ljava/lang/Class;" } : Jvm.MethodName) ({ cls := "java/lang/Object", name := "getClass", desc := "()Ljava/lang/Class;" } : Jvm.MethodName)) ∈ lw_tbl := List.mem_of_getElem? (i := 518) (by decide +kernel)
theorem k_482 : (Jvm.Cond.selects "java/util/ArrayList" ({ cls := "java/lang/Object", name := "getClass", desc := "()Ljava/lang/Class;" } : Jvm.MethodName) ({ cls := "java/lang/Object", name := "getClass", desc := "()Ljava/lang/Class;" } : Jvm.MethodName)) ∈ lw_tbl := List.mem_of_getElem? (i := 519) (by decide +kernel)
theorem k_483 : (Jvm.Cond.selects "java/util/ArrayList$Itr" ({ cls := "java/lang/Object", name := "getClass", desc := "()Ljava/lang/Class;" } : Jvm.MethodName) ({ cls := "java/lang/Object", name := "getClass", desc := "()Ljava/lang/Class;" } : Jvm.MethodName)) ∈ lw_tbl := List.mem_of_getElem? (i := 520) (by decide +kernel)
theorem k_484 : (Jvm.Cond.native ({ cls := "java/lang/Object", name := "getClass", desc := "()Ljava/lang/Class;" } : Jvm.MethodName)) ∈ lw_tbl := List.mem_of_getElem? (i := 521) (by decide +kernel)
theorem k_485 : (Jvm.Cond.methodLink "java/util/Arrays" (300 : Nat) ({ cls := "java/util/Arrays", name := "copyOf", desc := "([Ljava/lang/Object;ILjava/lang/Class;)[Ljava/lang/Object;" } : Jvm.MethodName)) ∈ lw_tbl := List.mem_of_getElem? (i := 522) (by decide +kernel)
theorem k_486 : (Jvm.Cond.static ({ cls := "java/util/Arrays", name := "copyOf", desc := "([Ljava/lang/Object;ILjava/lang/Class;)[Ljava/lang/Object;" } : Jvm.MethodName)) ∈ lw_tbl := List.mem_of_getElem? (i := 523) (by decide +kernel)
theorem k_487 : (Jvm.Cond.code ({ cls := "java/util/Arrays", name := "copyOf", desc := "([Ljava/lang/Object;ILjava/lang/Class;)[Ljava/lang/Object;" } : Jvm.MethodName) prog_28_method_120_code (4 : Nat) (Option.some (FieldType.array (FieldType.object "java/lang/Object")))) ∈ lw_tbl := List.mem_of_getElem? (i := 524) (by decide +kernel)
theorem k_488 : (Jvm.Cond.classLink "java/util/Arrays" (110 : Nat) "[Ljava/lang/Object;") ∈ lw_tbl := List.mem_of_getElem? (i := 525) (by decide +kernel)
theorem k_489 : (Jvm.Cond.arrayOver (FieldType.object "java/lang/Object")) ∈ lw_tbl := List.mem_of_getElem? (i := 526) (by decide +kernel)
theorem k_490 : (Jvm.Cond.classLink "java/util/Arrays" (2 : Nat) "java/lang/Object") ∈ lw_tbl := List.mem_of_getElem? (i := 527) (by decide +kernel)
theorem k_491 : (Jvm.Cond.methodLink "java/util/Arrays" (304 : Nat) ({ cls := "java/lang/Math", name := "min", desc := "(II)I" } : Jvm.MethodName)) ∈ lw_tbl := List.mem_of_getElem? (i := 528) (by decide +kernel)
theorem k_492 : (Jvm.Cond.static ({ cls := "java/lang/Math", name := "min", desc := "(II)I" } : Jvm.MethodName)) ∈ lw_tbl := List.mem_of_getElem? (i := 529) (by decide +kernel)
theorem k_493 : (Jvm.Cond.code ({ cls := "java/lang/Math", name := "min", desc := "(II)I" } : Jvm.MethodName) prog_19_method_69_code (2 : Nat) (Option.some FieldType.int)) ∈ lw_tbl := List.mem_of_getElem? (i := 530) (by decide +kernel)
theorem k_494 : (Jvm.Cond.methodLink "java/util/Arrays" (150 : Nat) ({ cls := "java/lang/System", name := "arraycopy", desc := "(Ljava/lang/Object;ILjava/lang/Object;II)V" } : Jvm.MethodName)) ∈ lw_tbl := List.mem_of_getElem? (i := 531) (by decide +kernel)
theorem k_495 : (Jvm.Cond.static ({ cls := "java/lang/System", name := "arraycopy", desc := "(Ljava/lang/Object;ILjava/lang/Object;II)V" } : Jvm.MethodName)) ∈ lw_tbl := List.mem_of_getElem? (i := 532) (by decide +kernel)
theorem k_496 : (Jvm.Cond.native ({ cls := "java/lang/System", name := "arraycopy", desc := "(Ljava/lang/Object;ILjava/lang/Object;II)V" } : Jvm.MethodName)) ∈ lw_tbl := List.mem_of_getElem? (i := 533) (by decide +kernel)
theorem k_497 : (Jvm.Cond.methodLink "java/util/ArrayList" (79 : Nat) ({ cls := "java/lang/Math", name := "max", desc := "(II)I" } : Jvm.MethodName)) ∈ lw_tbl := List.mem_of_getElem? (i := 534) (by decide +kernel)
theorem k_498 : (Jvm.Cond.classLink "java/util/ArrayList" (7 : Nat) "java/lang/Object") ∈ lw_tbl := List.mem_of_getElem? (i := 535) (by decide +kernel)
theorem k_499 : (Jvm.Cond.methodLink "CallLedgerLaw" (53 : Nat) ({ cls := "CallLedgerLaw", name := "code", desc := "(LCallLedger;II[J)I" } : Jvm.MethodName)) ∈ lw_tbl := List.mem_of_getElem? (i := 536) (by decide +kernel)
theorem k_500 : (Jvm.Cond.static ({ cls := "CallLedgerLaw", name := "code", desc := "(LCallLedger;II[J)I" } : Jvm.MethodName)) ∈ lw_tbl := List.mem_of_getElem? (i := 537) (by decide +kernel)
theorem k_501 : (Jvm.Cond.codeWith ({ cls := "CallLedgerLaw", name := "code", desc := "(LCallLedger;II[J)I" } : Jvm.MethodName) method_4_code (5 : Nat) (Option.some FieldType.int) [((0 : Nat), (10 : Nat), (13 : Nat), (19 : Nat)), ((0 : Nat), (10 : Nat), (17 : Nat), (21 : Nat))]) ∈ lw_tbl := List.mem_of_getElem? (i := 538) (by decide +kernel)
theorem k_502 : (Jvm.Cond.classLink "CallLedgerLaw" (19 : Nat) "java/lang/IndexOutOfBoundsException") ∈ lw_tbl := List.mem_of_getElem? (i := 539) (by decide +kernel)
theorem k_503 : (Jvm.Cond.instantiable "java/lang/ArrayIndexOutOfBoundsException" (6 : Nat)) ∈ lw_tbl := List.mem_of_getElem? (i := 540) (by decide +kernel)
theorem k_504 : (Jvm.Cond.instanceMethod ({ cls := "java/lang/ArrayIndexOutOfBoundsException", name := "<init>", desc := "(Ljava/lang/String;)V" } : Jvm.MethodName)) ∈ lw_tbl := List.mem_of_getElem? (i := 541) (by decide +kernel)
theorem k_505 : (Jvm.Cond.code ({ cls := "java/lang/ArrayIndexOutOfBoundsException", name := "<init>", desc := "(Ljava/lang/String;)V" } : Jvm.MethodName) prog_11_method_2_code (2 : Nat) (Option.none : Option FieldType)) ∈ lw_tbl := List.mem_of_getElem? (i := 542) (by decide +kernel)
theorem k_506 : (Jvm.Cond.methodLink "java/lang/ArrayIndexOutOfBoundsException" (7 : Nat) ({ cls := "java/lang/IndexOutOfBoundsException", name := "<init>", desc := "(Ljava/lang/String;)V" } : Jvm.MethodName)) ∈ lw_tbl := List.mem_of_getElem? (i := 543) (by decide +kernel)
theorem k_507 : (Jvm.Cond.instanceMethod ({ cls := "java/lang/IndexOutOfBoundsException", name := "<init>", desc := "(Ljava/lang/String;)V" } : Jvm.MethodName)) ∈ lw_tbl := List.mem_of_getElem? (i := 544) (by decide +kernel)
theorem k_508 : (Jvm.Cond.code ({ cls := "java/lang/IndexOutOfBoundsException", name := "<init>", desc := "(Ljava/lang/String;)V" } : Jvm.MethodName) prog_17_method_2_code (2 : Nat) (Option.none : Option FieldType)) ∈ lw_tbl := List.mem_of_getElem? (i := 545) (by decide +kernel)
theorem k_509 : (Jvm.Cond.methodLink "java/lang/IndexOutOfBoundsException" (7 : Nat) ({ cls := "java/lang/RuntimeException", name := "<init>", desc := "(Ljava/lang/String;)V" } : Jvm.MethodName)) ∈ lw_tbl := List.mem_of_getElem? (i := 546) (by decide +kernel)
theorem k_510 : (Jvm.Cond.lays "java/lang/ArrayIndexOutOfBoundsException" "java/lang/Throwable" "backtrace" "Ljava/lang/Object;") ∈ lw_tbl := List.mem_of_getElem? (i := 547) (by decide +kernel)
theorem k_511 : (Jvm.Cond.lays "java/lang/ArrayIndexOutOfBoundsException" "java/lang/Throwable" "detailMessage" "Ljava/lang/String;") ∈ lw_tbl := List.mem_of_getElem? (i := 548) (by decide +kernel)
theorem k_512 : (Jvm.Cond.lays "java/lang/ArrayIndexOutOfBoundsException" "java/lang/Throwable" "cause" "Ljava/lang/Throwable;") ∈ lw_tbl := List.mem_of_getElem? (i := 549) (by decide +kernel)
theorem k_513 : (Jvm.Cond.lays "java/lang/ArrayIndexOutOfBoundsException" "java/lang/Throwable" "stackTrace" "[Ljava/lang/StackTraceElement;") ∈ lw_tbl := List.mem_of_getElem? (i := 550) (by decide +kernel)
theorem k_514 : (Jvm.Cond.lays "java/lang/ArrayIndexOutOfBoundsException" "java/lang/Throwable" "depth" "I") ∈ lw_tbl := List.mem_of_getElem? (i := 551) (by decide +kernel)
theorem k_515 : (Jvm.Cond.lays "java/lang/ArrayIndexOutOfBoundsException" "java/lang/Throwable" "suppressedExceptions" "Ljava/util/List;") ∈ lw_tbl := List.mem_of_getElem? (i := 552) (by decide +kernel)
theorem k_516 : (Jvm.Cond.superclass "java/lang/ArrayIndexOutOfBoundsException" "java/lang/IndexOutOfBoundsException") ∈ lw_tbl := List.mem_of_getElem? (i := 553) (by decide +kernel)
theorem k_517 : (Jvm.Cond.castable "java/lang/ArrayIndexOutOfBoundsException" "java/lang/ArrayIndexOutOfBoundsException") ∈ lw_tbl := List.mem_of_getElem? (i := 554) (by decide +kernel)
theorem k_518 : (Jvm.Cond.declares ({ cls := "java/lang/IndexOutOfBoundsException", name := "<init>", desc := "()V" } : Jvm.MethodName)) ∈ lw_tbl := List.mem_of_getElem? (i := 555) (by decide +kernel)
theorem k_519 : (Jvm.Cond.declares ({ cls := "java/lang/IndexOutOfBoundsException", name := "<init>", desc := "(Ljava/lang/String;)V" } : Jvm.MethodName)) ∈ lw_tbl := List.mem_of_getElem? (i := 556) (by decide +kernel)
theorem k_520 : (Jvm.Cond.selects "java/lang/ArrayIndexOutOfBoundsException" ({ cls := "java/lang/Throwable", name := "fillInStackTrace", desc := "(I)Ljava/lang/Throwable;" } : Jvm.MethodName) ({ cls := "java/lang/Throwable", name := "fillInStackTrace", desc := "(I)Ljava/lang/Throwable;" } : Jvm.MethodName)) ∈ lw_tbl := List.mem_of_getElem? (i := 557) (by decide +kernel)
theorem k_521 : (Jvm.Cond.instantiable "java/lang/String" (4 : Nat)) ∈ lw_tbl := List.mem_of_getElem? (i := 558) (by decide +kernel)
theorem k_522 : (Jvm.Cond.laysFinal "java/lang/String" "java/lang/String" "value" "[B") ∈ lw_tbl := List.mem_of_getElem? (i := 559) (by decide +kernel)
theorem k_523 : (Jvm.Cond.soleField "java/lang/String" "value") ∈ lw_tbl := List.mem_of_getElem? (i := 560) (by decide +kernel)
theorem k_524 : (Jvm.Cond.laysFinal "java/lang/String" "java/lang/String" "coder" "B") ∈ lw_tbl := List.mem_of_getElem? (i := 561) (by decide +kernel)
theorem k_525 : (Jvm.Cond.soleField "java/lang/String" "coder") ∈ lw_tbl := List.mem_of_getElem? (i := 562) (by decide +kernel)
theorem k_526 : (Jvm.Cond.classLink "CallLedgerLaw" (21 : Nat) "java/lang/IllegalStateException") ∈ lw_tbl := List.mem_of_getElem? (i := 563) (by decide +kernel)
theorem k_527 : (Jvm.Cond.methodLink "CallLedgerLaw" (15 : Nat) ({ cls := "CallLedger", name := "code", desc := "(II)I" } : Jvm.MethodName)) ∈ lw_tbl := List.mem_of_getElem? (i := 564) (by decide +kernel)
theorem k_528 : (Jvm.Cond.instanceMethod ({ cls := "CallLedger", name := "code", desc := "(II)I" } : Jvm.MethodName)) ∈ lw_tbl := List.mem_of_getElem? (i := 565) (by decide +kernel)
theorem k_529 : (Jvm.Cond.selects "CallLedger" ({ cls := "CallLedger", name := "code", desc := "(II)I" } : Jvm.MethodName) ({ cls := "CallLedger", name := "code", desc := "(II)I" } : Jvm.MethodName)) ∈ lw_tbl := List.mem_of_getElem? (i := 566) (by decide +kernel)
theorem k_530 : (Jvm.Cond.code ({ cls := "CallLedger", name := "code", desc := "(II)I" } : Jvm.MethodName) prog_1_method_6_code (4 : Nat) (Option.some FieldType.int)) ∈ lw_tbl := List.mem_of_getElem? (i := 567) (by decide +kernel)
theorem k_531 : (Jvm.Cond.methodLink "CallLedger" (96 : Nat) ({ cls := "CallLedger", name := "account", desc := "(I)LCallLedger$Account;" } : Jvm.MethodName)) ∈ lw_tbl := List.mem_of_getElem? (i := 568) (by decide +kernel)
theorem k_532 : (Jvm.Cond.privateMethod ({ cls := "CallLedger", name := "account", desc := "(I)LCallLedger$Account;" } : Jvm.MethodName)) ∈ lw_tbl := List.mem_of_getElem? (i := 569) (by decide +kernel)
theorem k_533 : (Jvm.Cond.instanceMethod ({ cls := "CallLedger", name := "account", desc := "(I)LCallLedger$Account;" } : Jvm.MethodName)) ∈ lw_tbl := List.mem_of_getElem? (i := 570) (by decide +kernel)
theorem k_534 : (Jvm.Cond.code ({ cls := "CallLedger", name := "account", desc := "(I)LCallLedger$Account;" } : Jvm.MethodName) prog_1_method_2_code (2 : Nat) (Option.some (FieldType.object "CallLedger$Account"))) ∈ lw_tbl := List.mem_of_getElem? (i := 571) (by decide +kernel)
theorem k_535 : (Jvm.Cond.methodLink "CallLedger" (39 : Nat) ({ cls := "CallLedger$Book", name := "has", desc := "(I)Z" } : Jvm.MethodName)) ∈ lw_tbl := List.mem_of_getElem? (i := 572) (by decide +kernel)
theorem k_536 : (Jvm.Cond.instanceMethod ({ cls := "CallLedger$Book", name := "has", desc := "(I)Z" } : Jvm.MethodName)) ∈ lw_tbl := List.mem_of_getElem? (i := 573) (by decide +kernel)
theorem k_537 : (Jvm.Cond.selects "CallLedger$Book" ({ cls := "CallLedger$Book", name := "has", desc := "(I)Z" } : Jvm.MethodName) ({ cls := "CallLedger$Book", name := "has", desc := "(I)Z" } : Jvm.MethodName)) ∈ lw_tbl := List.mem_of_getElem? (i := 574) (by decide +kernel)
theorem k_538 : (Jvm.Cond.code ({ cls := "CallLedger$Book", name := "has", desc := "(I)Z" } : Jvm.MethodName) prog_3_method_2_code (2 : Nat) (Option.some FieldType.boolean)) ∈ lw_tbl := List.mem_of_getElem? (i := 575) (by decide +kernel)
theorem k_539 : (Jvm.Cond.interfaceEntry "CallLedger$Book" (36 : Nat)) ∈ lw_tbl := List.mem_of_getElem? (i := 576) (by decide +kernel)
theorem k_540 : (Jvm.Cond.methodLink "CallLedger$Book" (36 : Nat) ({ cls := "java/util/List", name := "size", desc := "()I" } : Jvm.MethodName)) ∈ lw_tbl := List.mem_of_getElem? (i := 577) (by decide +kernel)
theorem k_541 : (Jvm.Cond.classLink "CallLedger" (43 : Nat) "java/lang/IndexOutOfBoundsException") ∈ lw_tbl := List.mem_of_getElem? (i := 578) (by decide +kernel)
theorem k_542 : (Jvm.Cond.instantiable "java/lang/IndexOutOfBoundsException" (6 : Nat)) ∈ lw_tbl := List.mem_of_getElem? (i := 579) (by decide +kernel)
theorem k_543 : (Jvm.Cond.castable "java/lang/IndexOutOfBoundsException" "java/lang/IndexOutOfBoundsException") ∈ lw_tbl := List.mem_of_getElem? (i := 580) (by decide +kernel)
theorem k_544 : (Jvm.Cond.selects "java/lang/IndexOutOfBoundsException" ({ cls := "java/lang/Throwable", name := "fillInStackTrace", desc := "(I)Ljava/lang/Throwable;" } : Jvm.MethodName) ({ cls := "java/lang/Throwable", name := "fillInStackTrace", desc := "(I)Ljava/lang/Throwable;" } : Jvm.MethodName)) ∈ lw_tbl := List.mem_of_getElem? (i := 581) (by decide +kernel)
theorem k_545 : (Jvm.Cond.lays "java/lang/IndexOutOfBoundsException" "java/lang/Throwable" "cause" "Ljava/lang/Throwable;") ∈ lw_tbl := List.mem_of_getElem? (i := 582) (by decide +kernel)
theorem k_546 : (Jvm.Cond.lays "java/lang/IndexOutOfBoundsException" "java/lang/Throwable" "stackTrace" "[Ljava/lang/StackTraceElement;") ∈ lw_tbl := List.mem_of_getElem? (i := 583) (by decide +kernel)
theorem k_547 : (Jvm.Cond.lays "java/lang/IndexOutOfBoundsException" "java/lang/Throwable" "suppressedExceptions" "Ljava/util/List;") ∈ lw_tbl := List.mem_of_getElem? (i := 584) (by decide +kernel)
theorem k_548 : (Jvm.Cond.lays "java/lang/IndexOutOfBoundsException" "java/lang/Throwable" "detailMessage" "Ljava/lang/String;") ∈ lw_tbl := List.mem_of_getElem? (i := 585) (by decide +kernel)
theorem k_549 : (Jvm.Cond.lays "java/lang/IndexOutOfBoundsException" "java/lang/Throwable" "backtrace" "Ljava/lang/Object;") ∈ lw_tbl := List.mem_of_getElem? (i := 586) (by decide +kernel)
theorem k_550 : (Jvm.Cond.stringRef "CallLedger" (45 : Nat) "there is no such account") ∈ lw_tbl := List.mem_of_getElem? (i := 587) (by decide +kernel)
theorem k_551 : (Jvm.Cond.methodLink "CallLedger" (47 : Nat) ({ cls := "java/lang/IndexOutOfBoundsException", name := "<init>", desc := "(Ljava/lang/String;)V" } : Jvm.MethodName)) ∈ lw_tbl := List.mem_of_getElem? (i := 588) (by decide +kernel)
theorem k_552 : (Jvm.Cond.lays "java/lang/IndexOutOfBoundsException" "java/lang/Throwable" "depth" "I") ∈ lw_tbl := List.mem_of_getElem? (i := 589) (by decide +kernel)
theorem k_553 : (Jvm.Cond.superclass "java/lang/IndexOutOfBoundsException" "java/lang/RuntimeException") ∈ lw_tbl := List.mem_of_getElem? (i := 590) (by decide +kernel)
theorem k_554 : (Jvm.Cond.interfaceEntry "CallLedger" (54 : Nat)) ∈ lw_tbl := List.mem_of_getElem? (i := 591) (by decide +kernel)
theorem k_555 : (Jvm.Cond.methodLink "CallLedger" (54 : Nat) ({ cls := "java/util/List", name := "get", desc := "(I)Ljava/lang/Object;" } : Jvm.MethodName)) ∈ lw_tbl := List.mem_of_getElem? (i := 592) (by decide +kernel)
theorem k_556 : (Jvm.Cond.interfaceMethod "java/util/List" "java/util/List" "get" "(I)Ljava/lang/Object;") ∈ lw_tbl := List.mem_of_getElem? (i := 593) (by decide +kernel)
theorem k_557 : (Jvm.Cond.declares ({ cls := "java/util/List", name := "get", desc := "(I)Ljava/lang/Object;" } : Jvm.MethodName)) ∈ lw_tbl := List.mem_of_getElem? (i := 594) (by decide +kernel)
theorem k_558 : (Jvm.Cond.selects "java/util/ArrayList" ({ cls := "java/util/List", name := "get", desc := "(I)Ljava/lang/Object;" } : Jvm.MethodName) ({ cls := "java/util/ArrayList", name := "get", desc := "(I)Ljava/lang/Object;" } : Jvm.MethodName)) ∈ lw_tbl := List.mem_of_getElem? (i := 595) (by decide +kernel)
theorem k_559 : (Jvm.Cond.unhidden "java/util/ArrayList" "get" "(I)Ljava/lang/Object;") ∈ lw_tbl := List.mem_of_getElem? (i := 596) (by decide +kernel)
theorem k_560 : (Jvm.Cond.instanceMethod ({ cls := "java/util/ArrayList", name := "get", desc := "(I)Ljava/lang/Object;" } : Jvm.MethodName)) ∈ lw_tbl := List.mem_of_getElem? (i := 597) (by decide +kernel)
theorem k_561 : (Jvm.Cond.publicMethod ({ cls := "java/util/ArrayList", name := "get", desc := "(I)Ljava/lang/Object;" } : Jvm.MethodName)) ∈ lw_tbl := List.mem_of_getElem? (i := 598) (by decide +kernel)
theorem k_562 : (Jvm.Cond.code ({ cls := "java/util/ArrayList", name := "get", desc := "(I)Ljava/lang/Object;" } : Jvm.MethodName) prog_26_method_20_code (2 : Nat) (Option.some (FieldType.object "java/lang/Object"))) ∈ lw_tbl := List.mem_of_getElem? (i := 599) (by decide +kernel)
theorem k_563 : (Jvm.Cond.methodLink "java/util/ArrayList" (118 : Nat) ({ cls := "java/util/Objects", name := "checkIndex", desc := "(II)I" } : Jvm.MethodName)) ∈ lw_tbl := List.mem_of_getElem? (i := 600) (by decide +kernel)
theorem k_564 : (Jvm.Cond.static ({ cls := "java/util/Objects", name := "checkIndex", desc := "(II)I" } : Jvm.MethodName)) ∈ lw_tbl := List.mem_of_getElem? (i := 601) (by decide +kernel)
theorem k_565 : (Jvm.Cond.code ({ cls := "java/util/Objects", name := "checkIndex", desc := "(II)I" } : Jvm.MethodName) prog_32_method_17_code (2 : Nat) (Option.some FieldType.int)) ∈ lw_tbl := List.mem_of_getElem? (i := 602) (by decide +kernel)
theorem k_566 : (Jvm.Cond.methodLink "java/util/Objects" (105 : Nat) ({ cls := "jdk/internal/util/Preconditions", name := "checkIndex", desc := "(IILjava/util/function/BiFunction;)I" } : Jvm.MethodName)) ∈ lw_tbl := List.mem_of_getElem? (i := 603) (by decide +kernel)
theorem k_567 : (Jvm.Cond.static ({ cls := "jdk/internal/util/Preconditions", name := "checkIndex", desc := "(IILjava/util/function/BiFunction;)I" } : Jvm.MethodName)) ∈ lw_tbl := List.mem_of_getElem? (i := 604) (by decide +kernel)
theorem k_568 : (Jvm.Cond.code ({ cls := "jdk/internal/util/Preconditions", name := "checkIndex", desc := "(IILjava/util/function/BiFunction;)I" } : Jvm.MethodName) prog_36_method_11_code (3 : Nat) (Option.some FieldType.int)) ∈ lw_tbl := List.mem_of_getElem? (i := 605) (by decide +kernel)
theorem k_569 : (Jvm.Cond.methodLink "java/util/ArrayList" (123 : Nat) ({ cls := "java/util/ArrayList", name := "elementData", desc := "(I)Ljava/lang/Object;" } : Jvm.MethodName)) ∈ lw_tbl := List.mem_of_getElem? (i := 606) (by decide +kernel)
theorem k_570 : (Jvm.Cond.instanceMethod ({ cls := "java/util/ArrayList", name := "elementData", desc := "(I)Ljava/lang/Object;" } : Jvm.MethodName)) ∈ lw_tbl := List.mem_of_getElem? (i := 607) (by decide +kernel)
theorem k_571 : (Jvm.Cond.selects "java/util/ArrayList" ({ cls := "java/util/ArrayList", name := "elementData", desc := "(I)Ljava/lang/Object;" } : Jvm.MethodName) ({ cls := "java/util/ArrayList", name := "elementData", desc := "(I)Ljava/lang/Object;" } : Jvm.MethodName)) ∈ lw_tbl := List.mem_of_getElem? (i := 608) (by decide +kernel)
theorem k_572 : (Jvm.Cond.code ({ cls := "java/util/ArrayList", name := "elementData", desc := "(I)Ljava/lang/Object;" } : Jvm.MethodName) prog_26_method_18_code (2 : Nat) (Option.some (FieldType.object "java/lang/Object"))) ∈ lw_tbl := List.mem_of_getElem? (i := 609) (by decide +kernel)
theorem k_573 : (Jvm.Cond.methodLink "CallLedger" (100 : Nat) ({ cls := "CallLedger", name := "isOpen", desc := "(LCallLedger$Account;)V" } : Jvm.MethodName)) ∈ lw_tbl := List.mem_of_getElem? (i := 610) (by decide +kernel)
theorem k_574 : (Jvm.Cond.static ({ cls := "CallLedger", name := "isOpen", desc := "(LCallLedger$Account;)V" } : Jvm.MethodName)) ∈ lw_tbl := List.mem_of_getElem? (i := 611) (by decide +kernel)
theorem k_575 : (Jvm.Cond.code ({ cls := "CallLedger", name := "isOpen", desc := "(LCallLedger$Account;)V" } : Jvm.MethodName) prog_1_method_4_code (1 : Nat) (Option.none : Option FieldType)) ∈ lw_tbl := List.mem_of_getElem? (i := 612) (by decide +kernel)
theorem k_576 : (Jvm.Cond.classLink "CallLedger" (71 : Nat) "java/lang/IllegalStateException") ∈ lw_tbl := List.mem_of_getElem? (i := 613) (by decide +kernel)
theorem k_577 : (Jvm.Cond.instantiable "java/lang/IllegalStateException" (6 : Nat)) ∈ lw_tbl := List.mem_of_getElem? (i := 614) (by decide +kernel)
theorem k_578 : (Jvm.Cond.castable "java/lang/IllegalStateException" "java/lang/IllegalStateException") ∈ lw_tbl := List.mem_of_getElem? (i := 615) (by decide +kernel)
theorem k_579 : (Jvm.Cond.selects "java/lang/IllegalStateException" ({ cls := "java/lang/Throwable", name := "fillInStackTrace", desc := "(I)Ljava/lang/Throwable;" } : Jvm.MethodName) ({ cls := "java/lang/Throwable", name := "fillInStackTrace", desc := "(I)Ljava/lang/Throwable;" } : Jvm.MethodName)) ∈ lw_tbl := List.mem_of_getElem? (i := 616) (by decide +kernel)
theorem k_580 : (Jvm.Cond.lays "java/lang/IllegalStateException" "java/lang/Throwable" "cause" "Ljava/lang/Throwable;") ∈ lw_tbl := List.mem_of_getElem? (i := 617) (by decide +kernel)
theorem k_581 : (Jvm.Cond.lays "java/lang/IllegalStateException" "java/lang/Throwable" "stackTrace" "[Ljava/lang/StackTraceElement;") ∈ lw_tbl := List.mem_of_getElem? (i := 618) (by decide +kernel)
theorem k_582 : (Jvm.Cond.lays "java/lang/IllegalStateException" "java/lang/Throwable" "suppressedExceptions" "Ljava/util/List;") ∈ lw_tbl := List.mem_of_getElem? (i := 619) (by decide +kernel)
theorem k_583 : (Jvm.Cond.lays "java/lang/IllegalStateException" "java/lang/Throwable" "detailMessage" "Ljava/lang/String;") ∈ lw_tbl := List.mem_of_getElem? (i := 620) (by decide +kernel)
theorem k_584 : (Jvm.Cond.lays "java/lang/IllegalStateException" "java/lang/Throwable" "backtrace" "Ljava/lang/Object;") ∈ lw_tbl := List.mem_of_getElem? (i := 621) (by decide +kernel)
theorem k_585 : (Jvm.Cond.stringRef "CallLedger" (73 : Nat) "it is sealed") ∈ lw_tbl := List.mem_of_getElem? (i := 622) (by decide +kernel)
theorem k_586 : (Jvm.Cond.methodLink "CallLedger" (75 : Nat) ({ cls := "java/lang/IllegalStateException", name := "<init>", desc := "(Ljava/lang/String;)V" } : Jvm.MethodName)) ∈ lw_tbl := List.mem_of_getElem? (i := 623) (by decide +kernel)
theorem k_587 : (Jvm.Cond.instanceMethod ({ cls := "java/lang/IllegalStateException", name := "<init>", desc := "(Ljava/lang/String;)V" } : Jvm.MethodName)) ∈ lw_tbl := List.mem_of_getElem? (i := 624) (by decide +kernel)
theorem k_588 : (Jvm.Cond.code ({ cls := "java/lang/IllegalStateException", name := "<init>", desc := "(Ljava/lang/String;)V" } : Jvm.MethodName) prog_16_method_2_code (2 : Nat) (Option.none : Option FieldType)) ∈ lw_tbl := List.mem_of_getElem? (i := 625) (by decide +kernel)
theorem k_589 : (Jvm.Cond.methodLink "java/lang/IllegalStateException" (7 : Nat) ({ cls := "java/lang/RuntimeException", name := "<init>", desc := "(Ljava/lang/String;)V" } : Jvm.MethodName)) ∈ lw_tbl := List.mem_of_getElem? (i := 626) (by decide +kernel)
theorem k_590 : (Jvm.Cond.lays "java/lang/IllegalStateException" "java/lang/Throwable" "depth" "I") ∈ lw_tbl := List.mem_of_getElem? (i := 627) (by decide +kernel)
theorem k_591 : (Jvm.Cond.superclass "java/lang/IllegalStateException" "java/lang/RuntimeException") ∈ lw_tbl := List.mem_of_getElem? (i := 628) (by decide +kernel)
theorem k_592 : (Jvm.Cond.methodLink "CallLedgerLaw" (57 : Nat) ({ cls := "CallLedgerLaw", name := "seal", desc := "(LCallLedger;I[J)I" } : Jvm.MethodName)) ∈ lw_tbl := List.mem_of_getElem? (i := 629) (by decide +kernel)
theorem k_593 : (Jvm.Cond.static ({ cls := "CallLedgerLaw", name := "seal", desc := "(LCallLedger;I[J)I" } : Jvm.MethodName)) ∈ lw_tbl := List.mem_of_getElem? (i := 630) (by decide +kernel)
theorem k_594 : (Jvm.Cond.codeWith ({ cls := "CallLedgerLaw", name := "seal", desc := "(LCallLedger;I[J)I" } : Jvm.MethodName) method_5_code (4 : Nat) (Option.some FieldType.int) [((0 : Nat), (9 : Nat), (12 : Nat), (19 : Nat)), ((0 : Nat), (9 : Nat), (15 : Nat), (21 : Nat))]) ∈ lw_tbl := List.mem_of_getElem? (i := 631) (by decide +kernel)
theorem k_595 : (Jvm.Cond.methodLink "CallLedgerLaw" (23 : Nat) ({ cls := "CallLedger", name := "seal", desc := "(I)I" } : Jvm.MethodName)) ∈ lw_tbl := List.mem_of_getElem? (i := 632) (by decide +kernel)
theorem k_596 : (Jvm.Cond.instanceMethod ({ cls := "CallLedger", name := "seal", desc := "(I)I" } : Jvm.MethodName)) ∈ lw_tbl := List.mem_of_getElem? (i := 633) (by decide +kernel)
theorem k_597 : (Jvm.Cond.selects "CallLedger" ({ cls := "CallLedger", name := "seal", desc := "(I)I" } : Jvm.MethodName) ({ cls := "CallLedger", name := "seal", desc := "(I)I" } : Jvm.MethodName)) ∈ lw_tbl := List.mem_of_getElem? (i := 634) (by decide +kernel)
theorem k_598 : (Jvm.Cond.code ({ cls := "CallLedger", name := "seal", desc := "(I)I" } : Jvm.MethodName) prog_1_method_7_code (5 : Nat) (Option.some FieldType.int)) ∈ lw_tbl := List.mem_of_getElem? (i := 635) (by decide +kernel)
theorem k_599 : (Jvm.Cond.methodLink "CallLedger" (110 : Nat) ({ cls := "CallLedger$Instruction", name := "takes", desc := "(II)Z" } : Jvm.MethodName)) ∈ lw_tbl := List.mem_of_getElem? (i := 636) (by decide +kernel)
theorem k_600 : (Jvm.Cond.instanceMethod ({ cls := "CallLedger$Instruction", name := "takes", desc := "(II)Z" } : Jvm.MethodName)) ∈ lw_tbl := List.mem_of_getElem? (i := 637) (by decide +kernel)
theorem k_601 : (Jvm.Cond.selects "CallLedger$Instruction" ({ cls := "CallLedger$Instruction", name := "takes", desc := "(II)Z" } : Jvm.MethodName) ({ cls := "CallLedger$Instruction", name := "takes", desc := "(II)Z" } : Jvm.MethodName)) ∈ lw_tbl := List.mem_of_getElem? (i := 638) (by decide +kernel)
theorem k_602 : (Jvm.Cond.code ({ cls := "CallLedger$Instruction", name := "takes", desc := "(II)Z" } : Jvm.MethodName) prog_4_method_4_code (3 : Nat) (Option.some FieldType.boolean)) ∈ lw_tbl := List.mem_of_getElem? (i := 639) (by decide +kernel)
theorem k_603 : (Jvm.Cond.methodLink "CallLedger$Instruction" (125 : Nat) ({ cls := "CallLedger$Instruction", name := "ordinal", desc := "()I" } : Jvm.MethodName)) ∈ lw_tbl := List.mem_of_getElem? (i := 640) (by decide +kernel)
theorem k_604 : (Jvm.Cond.sameMethod "CallLedger$Instruction" "java/lang/Enum" "ordinal" "()I") ∈ lw_tbl := List.mem_of_getElem? (i := 641) (by decide +kernel)
theorem k_605 : (Jvm.Cond.declares ({ cls := "java/lang/Enum", name := "ordinal", desc := "()I" } : Jvm.MethodName)) ∈ lw_tbl := List.mem_of_getElem? (i := 642) (by decide +kernel)
theorem k_606 : (Jvm.Cond.selects "CallLedger$Instruction" ({ cls := "CallLedger$Instruction", name := "ordinal", desc := "()I" } : Jvm.MethodName) ({ cls := "java/lang/Enum", name := "ordinal", desc := "()I" } : Jvm.MethodName)) ∈ lw_tbl := List.mem_of_getElem? (i := 643) (by decide +kernel)
theorem k_607 : (Jvm.Cond.instanceMethod ({ cls := "java/lang/Enum", name := "ordinal", desc := "()I" } : Jvm.MethodName)) ∈ lw_tbl := List.mem_of_getElem? (i := 644) (by decide +kernel)
theorem k_608 : (Jvm.Cond.code ({ cls := "java/lang/Enum", name := "ordinal", desc := "()I" } : Jvm.MethodName) prog_13_method_2_code (1 : Nat) (Option.some FieldType.int)) ∈ lw_tbl := List.mem_of_getElem? (i := 645) (by decide +kernel)
theorem k_609 : (Jvm.Cond.methodLink "CallLedgerLaw" (64 : Nat) ({ cls := "CallLedgerLaw", name := "transact", desc := "(LCallLedger;IIII[J)I" } : Jvm.MethodName)) ∈ lw_tbl := List.mem_of_getElem? (i := 646) (by decide +kernel)
theorem k_610 : (Jvm.Cond.static ({ cls := "CallLedgerLaw", name := "transact", desc := "(LCallLedger;IIII[J)I" } : Jvm.MethodName)) ∈ lw_tbl := List.mem_of_getElem? (i := 647) (by decide +kernel)
theorem k_611 : (Jvm.Cond.codeWith ({ cls := "CallLedgerLaw", name := "transact", desc := "(LCallLedger;IIII[J)I" } : Jvm.MethodName) method_6_code (7 : Nat) (Option.some FieldType.int) [((0 : Nat), (14 : Nat), (17 : Nat), (19 : Nat)), ((0 : Nat), (14 : Nat), (21 : Nat), (13 : Nat))]) ∈ lw_tbl := List.mem_of_getElem? (i := 648) (by decide +kernel)
theorem k_612 : (Jvm.Cond.methodLink "CallLedgerLaw" (26 : Nat) ({ cls := "CallLedger", name := "transact", desc := "(IIII)I" } : Jvm.MethodName)) ∈ lw_tbl := List.mem_of_getElem? (i := 649) (by decide +kernel)
theorem k_613 : (Jvm.Cond.instanceMethod ({ cls := "CallLedger", name := "transact", desc := "(IIII)I" } : Jvm.MethodName)) ∈ lw_tbl := List.mem_of_getElem? (i := 650) (by decide +kernel)
theorem k_614 : (Jvm.Cond.selects "CallLedger" ({ cls := "CallLedger", name := "transact", desc := "(IIII)I" } : Jvm.MethodName) ({ cls := "CallLedger", name := "transact", desc := "(IIII)I" } : Jvm.MethodName)) ∈ lw_tbl := List.mem_of_getElem? (i := 651) (by decide +kernel)
theorem k_615 : (Jvm.Cond.code ({ cls := "CallLedger", name := "transact", desc := "(IIII)I" } : Jvm.MethodName) prog_1_method_9_code (8 : Nat) (Option.some FieldType.int)) ∈ lw_tbl := List.mem_of_getElem? (i := 652) (by decide +kernel)
theorem k_616 : (Jvm.Cond.methodLink "CallLedger" (127 : Nat) ({ cls := "CallLedger$Run", name := "begin", desc := "(III)V" } : Jvm.MethodName)) ∈ lw_tbl := List.mem_of_getElem? (i := 653) (by decide +kernel)
theorem k_617 : (Jvm.Cond.instanceMethod ({ cls := "CallLedger$Run", name := "begin", desc := "(III)V" } : Jvm.MethodName)) ∈ lw_tbl := List.mem_of_getElem? (i := 654) (by decide +kernel)
theorem k_618 : (Jvm.Cond.selects "CallLedger$Run" ({ cls := "CallLedger$Run", name := "begin", desc := "(III)V" } : Jvm.MethodName) ({ cls := "CallLedger$Run", name := "begin", desc := "(III)V" } : Jvm.MethodName)) ∈ lw_tbl := List.mem_of_getElem? (i := 655) (by decide +kernel)
theorem k_619 : (Jvm.Cond.code ({ cls := "CallLedger$Run", name := "begin", desc := "(III)V" } : Jvm.MethodName) prog_6_method_2_code (5 : Nat) (Option.none : Option FieldType)) ∈ lw_tbl := List.mem_of_getElem? (i := 656) (by decide +kernel)
theorem k_620 : (Jvm.Cond.methodLink "CallLedger" (132 : Nat) ({ cls := "java/lang/System", name := "arraycopy", desc := "(Ljava/lang/Object;ILjava/lang/Object;II)V" } : Jvm.MethodName)) ∈ lw_tbl := List.mem_of_getElem? (i := 657) (by decide +kernel)
theorem k_621 : (Jvm.Cond.methodLink "CallLedger" (138 : Nat) ({ cls := "CallLedger$Run", name := "plays", desc := "(I)Z" } : Jvm.MethodName)) ∈ lw_tbl := List.mem_of_getElem? (i := 658) (by decide +kernel)
theorem k_622 : (Jvm.Cond.instanceMethod ({ cls := "CallLedger$Run", name := "plays", desc := "(I)Z" } : Jvm.MethodName)) ∈ lw_tbl := List.mem_of_getElem? (i := 659) (by decide +kernel)
theorem k_623 : (Jvm.Cond.selects "CallLedger$Run" ({ cls := "CallLedger$Run", name := "plays", desc := "(I)Z" } : Jvm.MethodName) ({ cls := "CallLedger$Run", name := "plays", desc := "(I)Z" } : Jvm.MethodName)) ∈ lw_tbl := List.mem_of_getElem? (i := 660) (by decide +kernel)
theorem k_624 : (Jvm.Cond.codeWith ({ cls := "CallLedger$Run", name := "plays", desc := "(I)Z" } : Jvm.MethodName) prog_6_method_15_code (5 : Nat) (Option.some FieldType.boolean) [((43 : Nat), (47 : Nat), (50 : Nat), (58 : Nat))]) ∈ lw_tbl := List.mem_of_getElem? (i := 661) (by decide +kernel)
theorem k_625 : (Jvm.Cond.classLink "CallLedger$Run" (58 : Nat) "java/lang/IllegalStateException") ∈ lw_tbl := List.mem_of_getElem? (i := 662) (by decide +kernel)
theorem k_626 : (Jvm.Cond.methodLink "CallLedger$Run" (197 : Nat) ({ cls := "CallLedger$Book", name := "move", desc := "(III)V" } : Jvm.MethodName)) ∈ lw_tbl := List.mem_of_getElem? (i := 663) (by decide +kernel)
theorem k_627 : (Jvm.Cond.instanceMethod ({ cls := "CallLedger$Book", name := "move", desc := "(III)V" } : Jvm.MethodName)) ∈ lw_tbl := List.mem_of_getElem? (i := 664) (by decide +kernel)
theorem k_628 : (Jvm.Cond.selects "CallLedger$Book" ({ cls := "CallLedger$Book", name := "move", desc := "(III)V" } : Jvm.MethodName) ({ cls := "CallLedger$Book", name := "move", desc := "(III)V" } : Jvm.MethodName)) ∈ lw_tbl := List.mem_of_getElem? (i := 665) (by decide +kernel)
theorem k_629 : (Jvm.Cond.code ({ cls := "CallLedger$Book", name := "move", desc := "(III)V" } : Jvm.MethodName) prog_3_method_9_code (4 : Nat) (Option.none : Option FieldType)) ∈ lw_tbl := List.mem_of_getElem? (i := 666) (by decide +kernel)
theorem k_630 : (Jvm.Cond.methodLink "CallLedger$Book" (80 : Nat) ({ cls := "CallLedger$Book", name := "pay", desc := "(II)V" } : Jvm.MethodName)) ∈ lw_tbl := List.mem_of_getElem? (i := 667) (by decide +kernel)
theorem k_631 : (Jvm.Cond.instanceMethod ({ cls := "CallLedger$Book", name := "pay", desc := "(II)V" } : Jvm.MethodName)) ∈ lw_tbl := List.mem_of_getElem? (i := 668) (by decide +kernel)
theorem k_632 : (Jvm.Cond.selects "CallLedger$Book" ({ cls := "CallLedger$Book", name := "pay", desc := "(II)V" } : Jvm.MethodName) ({ cls := "CallLedger$Book", name := "pay", desc := "(II)V" } : Jvm.MethodName)) ∈ lw_tbl := List.mem_of_getElem? (i := 669) (by decide +kernel)
theorem k_633 : (Jvm.Cond.code ({ cls := "CallLedger$Book", name := "pay", desc := "(II)V" } : Jvm.MethodName) prog_3_method_8_code (4 : Nat) (Option.none : Option FieldType)) ∈ lw_tbl := List.mem_of_getElem? (i := 670) (by decide +kernel)
theorem k_634 : (Jvm.Cond.interfaceEntry "CallLedger$Book" (46 : Nat)) ∈ lw_tbl := List.mem_of_getElem? (i := 671) (by decide +kernel)
theorem k_635 : (Jvm.Cond.methodLink "CallLedger$Book" (46 : Nat) ({ cls := "java/util/List", name := "get", desc := "(I)Ljava/lang/Object;" } : Jvm.MethodName)) ∈ lw_tbl := List.mem_of_getElem? (i := 672) (by decide +kernel)
theorem k_636 : (Jvm.Cond.classLink "CallLedger$Book" (50 : Nat) "CallLedger$Account") ∈ lw_tbl := List.mem_of_getElem? (i := 673) (by decide +kernel)
theorem k_637 : (Jvm.Cond.methodLink "CallLedger$Book" (73 : Nat) ({ cls := "CallLedger$Journal", name := "add", desc := "(IZII)V" } : Jvm.MethodName)) ∈ lw_tbl := List.mem_of_getElem? (i := 674) (by decide +kernel)
theorem k_638 : (Jvm.Cond.instanceMethod ({ cls := "CallLedger$Journal", name := "add", desc := "(IZII)V" } : Jvm.MethodName)) ∈ lw_tbl := List.mem_of_getElem? (i := 675) (by decide +kernel)
theorem k_639 : (Jvm.Cond.selects "CallLedger$Journal" ({ cls := "CallLedger$Journal", name := "add", desc := "(IZII)V" } : Jvm.MethodName) ({ cls := "CallLedger$Journal", name := "add", desc := "(IZII)V" } : Jvm.MethodName)) ∈ lw_tbl := List.mem_of_getElem? (i := 676) (by decide +kernel)
theorem k_640 : (Jvm.Cond.code ({ cls := "CallLedger$Journal", name := "add", desc := "(IZII)V" } : Jvm.MethodName) prog_5_method_2_code (5 : Nat) (Option.none : Option FieldType)) ∈ lw_tbl := List.mem_of_getElem? (i := 677) (by decide +kernel)
theorem k_641 : (Jvm.Cond.methodLink "CallLedger$Run" (200 : Nat) ({ cls := "CallLedger$Run", name := "goOn", desc := "()V" } : Jvm.MethodName)) ∈ lw_tbl := List.mem_of_getElem? (i := 678) (by decide +kernel)
theorem k_642 : (Jvm.Cond.privateMethod ({ cls := "CallLedger$Run", name := "goOn", desc := "()V" } : Jvm.MethodName)) ∈ lw_tbl := List.mem_of_getElem? (i := 679) (by decide +kernel)
theorem k_643 : (Jvm.Cond.instanceMethod ({ cls := "CallLedger$Run", name := "goOn", desc := "()V" } : Jvm.MethodName)) ∈ lw_tbl := List.mem_of_getElem? (i := 680) (by decide +kernel)
theorem k_644 : (Jvm.Cond.code ({ cls := "CallLedger$Run", name := "goOn", desc := "()V" } : Jvm.MethodName) prog_6_method_14_code (2 : Nat) (Option.none : Option FieldType)) ∈ lw_tbl := List.mem_of_getElem? (i := 681) (by decide +kernel)
theorem k_645 : (Jvm.Cond.interfaceEntry "CallLedger$Run" (172 : Nat)) ∈ lw_tbl := List.mem_of_getElem? (i := 682) (by decide +kernel)
theorem k_646 : (Jvm.Cond.methodLink "CallLedger$Run" (172 : Nat) ({ cls := "java/util/List", name := "get", desc := "(I)Ljava/lang/Object;" } : Jvm.MethodName)) ∈ lw_tbl := List.mem_of_getElem? (i := 683) (by decide +kernel)
theorem k_647 : (Jvm.Cond.classLink "CallLedger$Run" (151 : Nat) "CallLedger$Account") ∈ lw_tbl := List.mem_of_getElem? (i := 684) (by decide +kernel)
theorem k_648 : (Jvm.Cond.methodLink "CallLedger$Run" (178 : Nat) ({ cls := "CallLedger$Account", name := "length", desc := "()I" } : Jvm.MethodName)) ∈ lw_tbl := List.mem_of_getElem? (i := 685) (by decide +kernel)
theorem k_649 : (Jvm.Cond.instanceMethod ({ cls := "CallLedger$Account", name := "length", desc := "()I" } : Jvm.MethodName)) ∈ lw_tbl := List.mem_of_getElem? (i := 686) (by decide +kernel)
theorem k_650 : (Jvm.Cond.selects "CallLedger$Account" ({ cls := "CallLedger$Account", name := "length", desc := "()I" } : Jvm.MethodName) ({ cls := "CallLedger$Account", name := "length", desc := "()I" } : Jvm.MethodName)) ∈ lw_tbl := List.mem_of_getElem? (i := 687) (by decide +kernel)
theorem k_651 : (Jvm.Cond.code ({ cls := "CallLedger$Account", name := "length", desc := "()I" } : Jvm.MethodName) prog_2_method_2_code (1 : Nat) (Option.some FieldType.int)) ∈ lw_tbl := List.mem_of_getElem? (i := 688) (by decide +kernel)
theorem k_652 : (Jvm.Cond.methodLink "CallLedger$Run" (132 : Nat) ({ cls := "CallLedger$Run", name := "ends", desc := "(II)V" } : Jvm.MethodName)) ∈ lw_tbl := List.mem_of_getElem? (i := 689) (by decide +kernel)
theorem k_653 : (Jvm.Cond.privateMethod ({ cls := "CallLedger$Run", name := "ends", desc := "(II)V" } : Jvm.MethodName)) ∈ lw_tbl := List.mem_of_getElem? (i := 690) (by decide +kernel)
theorem k_654 : (Jvm.Cond.instanceMethod ({ cls := "CallLedger$Run", name := "ends", desc := "(II)V" } : Jvm.MethodName)) ∈ lw_tbl := List.mem_of_getElem? (i := 691) (by decide +kernel)
theorem k_655 : (Jvm.Cond.code ({ cls := "CallLedger$Run", name := "ends", desc := "(II)V" } : Jvm.MethodName) prog_6_method_8_code (3 : Nat) (Option.none : Option FieldType)) ∈ lw_tbl := List.mem_of_getElem? (i := 692) (by decide +kernel)
theorem k_656 : (Jvm.Cond.methodLink "CallLedger$Run" (181 : Nat) ({ cls := "CallLedger$Run", name := "step", desc := "(LCallLedger$Account;)V" } : Jvm.MethodName)) ∈ lw_tbl := List.mem_of_getElem? (i := 693) (by decide +kernel)
theorem k_657 : (Jvm.Cond.privateMethod ({ cls := "CallLedger$Run", name := "step", desc := "(LCallLedger$Account;)V" } : Jvm.MethodName)) ∈ lw_tbl := List.mem_of_getElem? (i := 694) (by decide +kernel)
theorem k_658 : (Jvm.Cond.instanceMethod ({ cls := "CallLedger$Run", name := "step", desc := "(LCallLedger$Account;)V" } : Jvm.MethodName)) ∈ lw_tbl := List.mem_of_getElem? (i := 695) (by decide +kernel)
theorem k_659 : (Jvm.Cond.code ({ cls := "CallLedger$Run", name := "step", desc := "(LCallLedger$Account;)V" } : Jvm.MethodName) prog_6_method_13_code (5 : Nat) (Option.none : Option FieldType)) ∈ lw_tbl := List.mem_of_getElem? (i := 696) (by decide +kernel)
theorem k_660 : (Jvm.Cond.methodLink "CallLedger$Run" (155 : Nat) ({ cls := "CallLedger$Run", name := "price", desc := "(LCallLedger$Instruction;)I" } : Jvm.MethodName)) ∈ lw_tbl := List.mem_of_getElem? (i := 697) (by decide +kernel)
theorem k_661 : (Jvm.Cond.privateMethod ({ cls := "CallLedger$Run", name := "price", desc := "(LCallLedger$Instruction;)I" } : Jvm.MethodName)) ∈ lw_tbl := List.mem_of_getElem? (i := 698) (by decide +kernel)
theorem k_662 : (Jvm.Cond.instanceMethod ({ cls := "CallLedger$Run", name := "price", desc := "(LCallLedger$Instruction;)I" } : Jvm.MethodName)) ∈ lw_tbl := List.mem_of_getElem? (i := 699) (by decide +kernel)
theorem k_663 : (Jvm.Cond.code ({ cls := "CallLedger$Run", name := "price", desc := "(LCallLedger$Instruction;)I" } : Jvm.MethodName) prog_6_method_7_code (3 : Nat) (Option.some FieldType.int)) ∈ lw_tbl := List.mem_of_getElem? (i := 700) (by decide +kernel)
theorem k_664 : (Jvm.Cond.fieldLink "CallLedger$Run" (65 : Nat) "CallLedger$Instruction" "CALL" "LCallLedger$Instruction;") ∈ lw_tbl := List.mem_of_getElem? (i := 701) (by decide +kernel)
theorem k_665 : (Jvm.Cond.laysStatic "CallLedger$Instruction" "CALL" "LCallLedger$Instruction;") ∈ lw_tbl := List.mem_of_getElem? (i := 702) (by decide +kernel)
theorem k_666 : (Jvm.Cond.methodLink "CallLedger$Run" (71 : Nat) ({ cls := "CallLedger$Run", name := "peek", desc := "(I)I" } : Jvm.MethodName)) ∈ lw_tbl := List.mem_of_getElem? (i := 703) (by decide +kernel)
theorem k_667 : (Jvm.Cond.privateMethod ({ cls := "CallLedger$Run", name := "peek", desc := "(I)I" } : Jvm.MethodName)) ∈ lw_tbl := List.mem_of_getElem? (i := 704) (by decide +kernel)
theorem k_668 : (Jvm.Cond.instanceMethod ({ cls := "CallLedger$Run", name := "peek", desc := "(I)I" } : Jvm.MethodName)) ∈ lw_tbl := List.mem_of_getElem? (i := 705) (by decide +kernel)
theorem k_669 : (Jvm.Cond.code ({ cls := "CallLedger$Run", name := "peek", desc := "(I)I" } : Jvm.MethodName) prog_6_method_5_code (2 : Nat) (Option.some FieldType.int)) ∈ lw_tbl := List.mem_of_getElem? (i := 706) (by decide +kernel)
theorem k_670 : (Jvm.Cond.fieldLink "CallLedger$Run" (78 : Nat) "CallLedger$Instruction" "STORE" "LCallLedger$Instruction;") ∈ lw_tbl := List.mem_of_getElem? (i := 707) (by decide +kernel)
theorem k_671 : (Jvm.Cond.laysStatic "CallLedger$Instruction" "STORE" "LCallLedger$Instruction;") ∈ lw_tbl := List.mem_of_getElem? (i := 708) (by decide +kernel)
theorem k_672 : (Jvm.Cond.methodLink "CallLedger$Run" (81 : Nat) ({ cls := "CallLedger$Book", name := "stored", desc := "(II)I" } : Jvm.MethodName)) ∈ lw_tbl := List.mem_of_getElem? (i := 709) (by decide +kernel)
theorem k_673 : (Jvm.Cond.instanceMethod ({ cls := "CallLedger$Book", name := "stored", desc := "(II)I" } : Jvm.MethodName)) ∈ lw_tbl := List.mem_of_getElem? (i := 710) (by decide +kernel)
theorem k_674 : (Jvm.Cond.selects "CallLedger$Book" ({ cls := "CallLedger$Book", name := "stored", desc := "(II)I" } : Jvm.MethodName) ({ cls := "CallLedger$Book", name := "stored", desc := "(II)I" } : Jvm.MethodName)) ∈ lw_tbl := List.mem_of_getElem? (i := 711) (by decide +kernel)
theorem k_675 : (Jvm.Cond.code ({ cls := "CallLedger$Book", name := "stored", desc := "(II)I" } : Jvm.MethodName) prog_3_method_5_code (3 : Nat) (Option.some FieldType.int)) ∈ lw_tbl := List.mem_of_getElem? (i := 712) (by decide +kernel)
theorem k_676 : (Jvm.Cond.methodLink "CallLedger$Book" (58 : Nat) ({ cls := "CallLedger$Book", name := "place", desc := "(II)J" } : Jvm.MethodName)) ∈ lw_tbl := List.mem_of_getElem? (i := 713) (by decide +kernel)
theorem k_677 : (Jvm.Cond.static ({ cls := "CallLedger$Book", name := "place", desc := "(II)J" } : Jvm.MethodName)) ∈ lw_tbl := List.mem_of_getElem? (i := 714) (by decide +kernel)
theorem k_678 : (Jvm.Cond.code ({ cls := "CallLedger$Book", name := "place", desc := "(II)J" } : Jvm.MethodName) prog_3_method_4_code (2 : Nat) (Option.some FieldType.long)) ∈ lw_tbl := List.mem_of_getElem? (i := 715) (by decide +kernel)
theorem k_679 : (Jvm.Cond.constantLong "CallLedger$Book" (56 : Nat) (4294967295 : Int64)) ∈ lw_tbl := List.mem_of_getElem? (i := 716) (by decide +kernel)
theorem k_680 : (Jvm.Cond.methodLink "CallLedger$Book" (62 : Nat) ({ cls := "CallLedger$Table", name := "get", desc := "(J)I" } : Jvm.MethodName)) ∈ lw_tbl := List.mem_of_getElem? (i := 717) (by decide +kernel)
theorem k_681 : (Jvm.Cond.instanceMethod ({ cls := "CallLedger$Table", name := "get", desc := "(J)I" } : Jvm.MethodName)) ∈ lw_tbl := List.mem_of_getElem? (i := 718) (by decide +kernel)
theorem k_682 : (Jvm.Cond.selects "CallLedger$Table" ({ cls := "CallLedger$Table", name := "get", desc := "(J)I" } : Jvm.MethodName) ({ cls := "CallLedger$Table", name := "get", desc := "(J)I" } : Jvm.MethodName)) ∈ lw_tbl := List.mem_of_getElem? (i := 719) (by decide +kernel)
theorem k_683 : (Jvm.Cond.code ({ cls := "CallLedger$Table", name := "get", desc := "(J)I" } : Jvm.MethodName) prog_7_method_4_code (4 : Nat) (Option.some FieldType.int)) ∈ lw_tbl := List.mem_of_getElem? (i := 720) (by decide +kernel)
theorem k_684 : (Jvm.Cond.methodLink "CallLedger$Table" (29 : Nat) ({ cls := "CallLedger$Table", name := "find", desc := "(J)I" } : Jvm.MethodName)) ∈ lw_tbl := List.mem_of_getElem? (i := 721) (by decide +kernel)
theorem k_685 : (Jvm.Cond.privateMethod ({ cls := "CallLedger$Table", name := "find", desc := "(J)I" } : Jvm.MethodName)) ∈ lw_tbl := List.mem_of_getElem? (i := 722) (by decide +kernel)
theorem k_686 : (Jvm.Cond.instanceMethod ({ cls := "CallLedger$Table", name := "find", desc := "(J)I" } : Jvm.MethodName)) ∈ lw_tbl := List.mem_of_getElem? (i := 723) (by decide +kernel)
theorem k_687 : (Jvm.Cond.code ({ cls := "CallLedger$Table", name := "find", desc := "(J)I" } : Jvm.MethodName) prog_7_method_3_code (4 : Nat) (Option.some FieldType.int)) ∈ lw_tbl := List.mem_of_getElem? (i := 724) (by decide +kernel)
theorem k_688 : (Jvm.Cond.methodLink "CallLedger$Table" (25 : Nat) ({ cls := "CallLedger$Table", name := "place", desc := "(J)I" } : Jvm.MethodName)) ∈ lw_tbl := List.mem_of_getElem? (i := 725) (by decide +kernel)
theorem k_689 : (Jvm.Cond.static ({ cls := "CallLedger$Table", name := "place", desc := "(J)I" } : Jvm.MethodName)) ∈ lw_tbl := List.mem_of_getElem? (i := 726) (by decide +kernel)
theorem k_690 : (Jvm.Cond.code ({ cls := "CallLedger$Table", name := "place", desc := "(J)I" } : Jvm.MethodName) prog_7_method_2_code (4 : Nat) (Option.some FieldType.int)) ∈ lw_tbl := List.mem_of_getElem? (i := 727) (by decide +kernel)
theorem k_691 : (Jvm.Cond.constantLong "CallLedger$Table" (23 : Nat) (-7046029254386353131 : Int64)) ∈ lw_tbl := List.mem_of_getElem? (i := 728) (by decide +kernel)
theorem k_692 : (Jvm.Cond.methodLink "CallLedger$Run" (96 : Nat) ({ cls := "CallLedger$Run", name := "trap", desc := "(I)V" } : Jvm.MethodName)) ∈ lw_tbl := List.mem_of_getElem? (i := 729) (by decide +kernel)
theorem k_693 : (Jvm.Cond.privateMethod ({ cls := "CallLedger$Run", name := "trap", desc := "(I)V" } : Jvm.MethodName)) ∈ lw_tbl := List.mem_of_getElem? (i := 730) (by decide +kernel)
theorem k_694 : (Jvm.Cond.instanceMethod ({ cls := "CallLedger$Run", name := "trap", desc := "(I)V" } : Jvm.MethodName)) ∈ lw_tbl := List.mem_of_getElem? (i := 731) (by decide +kernel)
theorem k_695 : (Jvm.Cond.code ({ cls := "CallLedger$Run", name := "trap", desc := "(I)V" } : Jvm.MethodName) prog_6_method_6_code (2 : Nat) (Option.none : Option FieldType)) ∈ lw_tbl := List.mem_of_getElem? (i := 732) (by decide +kernel)
theorem k_696 : (Jvm.Cond.stringRef "CallLedger$Run" (60 : Nat) "a trap") ∈ lw_tbl := List.mem_of_getElem? (i := 733) (by decide +kernel)
theorem k_697 : (Jvm.Cond.methodLink "CallLedger$Run" (62 : Nat) ({ cls := "java/lang/IllegalStateException", name := "<init>", desc := "(Ljava/lang/String;)V" } : Jvm.MethodName)) ∈ lw_tbl := List.mem_of_getElem? (i := 734) (by decide +kernel)
theorem k_698 : (Jvm.Cond.methodLink "CallLedger$Run" (158 : Nat) ({ cls := "CallLedger$Instruction", name := "needed", desc := "(I)I" } : Jvm.MethodName)) ∈ lw_tbl := List.mem_of_getElem? (i := 735) (by decide +kernel)
theorem k_699 : (Jvm.Cond.instanceMethod ({ cls := "CallLedger$Instruction", name := "needed", desc := "(I)I" } : Jvm.MethodName)) ∈ lw_tbl := List.mem_of_getElem? (i := 736) (by decide +kernel)
theorem k_700 : (Jvm.Cond.selects "CallLedger$Instruction" ({ cls := "CallLedger$Instruction", name := "needed", desc := "(I)I" } : Jvm.MethodName) ({ cls := "CallLedger$Instruction", name := "needed", desc := "(I)I" } : Jvm.MethodName)) ∈ lw_tbl := List.mem_of_getElem? (i := 737) (by decide +kernel)
theorem k_701 : (Jvm.Cond.code ({ cls := "CallLedger$Instruction", name := "needed", desc := "(I)I" } : Jvm.MethodName) prog_4_method_5_code (2 : Nat) (Option.some FieldType.int)) ∈ lw_tbl := List.mem_of_getElem? (i := 738) (by decide +kernel)
theorem k_702 : (Jvm.Cond.methodLink "CallLedger$Run" (164 : Nat) ({ cls := "CallLedger$Run", name := "act", desc := "(LCallLedger$Instruction;I)V" } : Jvm.MethodName)) ∈ lw_tbl := List.mem_of_getElem? (i := 739) (by decide +kernel)
theorem k_703 : (Jvm.Cond.privateMethod ({ cls := "CallLedger$Run", name := "act", desc := "(LCallLedger$Instruction;I)V" } : Jvm.MethodName)) ∈ lw_tbl := List.mem_of_getElem? (i := 740) (by decide +kernel)
theorem k_704 : (Jvm.Cond.instanceMethod ({ cls := "CallLedger$Run", name := "act", desc := "(LCallLedger$Instruction;I)V" } : Jvm.MethodName)) ∈ lw_tbl := List.mem_of_getElem? (i := 741) (by decide +kernel)
theorem k_705 : (Jvm.Cond.code ({ cls := "CallLedger$Run", name := "act", desc := "(LCallLedger$Instruction;I)V" } : Jvm.MethodName) prog_6_method_12_code (4 : Nat) (Option.none : Option FieldType)) ∈ lw_tbl := List.mem_of_getElem? (i := 742) (by decide +kernel)
theorem k_706 : (Jvm.Cond.methodLink "CallLedger$Run" (129 : Nat) ({ cls := "CallLedger$Instruction", name := "ordinal", desc := "()I" } : Jvm.MethodName)) ∈ lw_tbl := List.mem_of_getElem? (i := 743) (by decide +kernel)
theorem k_707 : (Jvm.Cond.methodLink "CallLedger$Run" (115 : Nat) ({ cls := "CallLedger$Run", name := "push", desc := "(I)V" } : Jvm.MethodName)) ∈ lw_tbl := List.mem_of_getElem? (i := 744) (by decide +kernel)
theorem k_708 : (Jvm.Cond.privateMethod ({ cls := "CallLedger$Run", name := "push", desc := "(I)V" } : Jvm.MethodName)) ∈ lw_tbl := List.mem_of_getElem? (i := 745) (by decide +kernel)
theorem k_709 : (Jvm.Cond.instanceMethod ({ cls := "CallLedger$Run", name := "push", desc := "(I)V" } : Jvm.MethodName)) ∈ lw_tbl := List.mem_of_getElem? (i := 746) (by decide +kernel)
theorem k_710 : (Jvm.Cond.code ({ cls := "CallLedger$Run", name := "push", desc := "(I)V" } : Jvm.MethodName) prog_6_method_4_code (2 : Nat) (Option.none : Option FieldType)) ∈ lw_tbl := List.mem_of_getElem? (i := 747) (by decide +kernel)
theorem k_711 : (Jvm.Cond.methodLink "CallLedger$Run" (136 : Nat) ({ cls := "CallLedger$Run", name := "swap", desc := "(I)V" } : Jvm.MethodName)) ∈ lw_tbl := List.mem_of_getElem? (i := 748) (by decide +kernel)
theorem k_712 : (Jvm.Cond.privateMethod ({ cls := "CallLedger$Run", name := "swap", desc := "(I)V" } : Jvm.MethodName)) ∈ lw_tbl := List.mem_of_getElem? (i := 749) (by decide +kernel)
theorem k_713 : (Jvm.Cond.instanceMethod ({ cls := "CallLedger$Run", name := "swap", desc := "(I)V" } : Jvm.MethodName)) ∈ lw_tbl := List.mem_of_getElem? (i := 750) (by decide +kernel)
theorem k_714 : (Jvm.Cond.code ({ cls := "CallLedger$Run", name := "swap", desc := "(I)V" } : Jvm.MethodName) prog_6_method_9_code (3 : Nat) (Option.none : Option FieldType)) ∈ lw_tbl := List.mem_of_getElem? (i := 751) (by decide +kernel)
theorem k_715 : (Jvm.Cond.methodLink "CallLedger$Run" (104 : Nat) ({ cls := "CallLedger$Run", name := "pop", desc := "()I" } : Jvm.MethodName)) ∈ lw_tbl := List.mem_of_getElem? (i := 752) (by decide +kernel)
theorem k_716 : (Jvm.Cond.privateMethod ({ cls := "CallLedger$Run", name := "pop", desc := "()I" } : Jvm.MethodName)) ∈ lw_tbl := List.mem_of_getElem? (i := 753) (by decide +kernel)
theorem k_717 : (Jvm.Cond.instanceMethod ({ cls := "CallLedger$Run", name := "pop", desc := "()I" } : Jvm.MethodName)) ∈ lw_tbl := List.mem_of_getElem? (i := 754) (by decide +kernel)
theorem k_718 : (Jvm.Cond.code ({ cls := "CallLedger$Run", name := "pop", desc := "()I" } : Jvm.MethodName) prog_6_method_3_code (1 : Nat) (Option.some FieldType.int)) ∈ lw_tbl := List.mem_of_getElem? (i := 755) (by decide +kernel)
theorem k_719 : (Jvm.Cond.methodLink "CallLedger$Run" (139 : Nat) ({ cls := "CallLedger$Run", name := "store", desc := "()V" } : Jvm.MethodName)) ∈ lw_tbl := List.mem_of_getElem? (i := 756) (by decide +kernel)
theorem k_720 : (Jvm.Cond.privateMethod ({ cls := "CallLedger$Run", name := "store", desc := "()V" } : Jvm.MethodName)) ∈ lw_tbl := List.mem_of_getElem? (i := 757) (by decide +kernel)
theorem k_721 : (Jvm.Cond.instanceMethod ({ cls := "CallLedger$Run", name := "store", desc := "()V" } : Jvm.MethodName)) ∈ lw_tbl := List.mem_of_getElem? (i := 758) (by decide +kernel)
theorem k_722 : (Jvm.Cond.code ({ cls := "CallLedger$Run", name := "store", desc := "()V" } : Jvm.MethodName) prog_6_method_10_code (3 : Nat) (Option.none : Option FieldType)) ∈ lw_tbl := List.mem_of_getElem? (i := 759) (by decide +kernel)
theorem k_723 : (Jvm.Cond.methodLink "CallLedger$Run" (100 : Nat) ({ cls := "CallLedger$Book", name := "store", desc := "(III)V" } : Jvm.MethodName)) ∈ lw_tbl := List.mem_of_getElem? (i := 760) (by decide +kernel)
theorem k_724 : (Jvm.Cond.instanceMethod ({ cls := "CallLedger$Book", name := "store", desc := "(III)V" } : Jvm.MethodName)) ∈ lw_tbl := List.mem_of_getElem? (i := 761) (by decide +kernel)
theorem k_725 : (Jvm.Cond.selects "CallLedger$Book" ({ cls := "CallLedger$Book", name := "store", desc := "(III)V" } : Jvm.MethodName) ({ cls := "CallLedger$Book", name := "store", desc := "(III)V" } : Jvm.MethodName)) ∈ lw_tbl := List.mem_of_getElem? (i := 762) (by decide +kernel)
theorem k_726 : (Jvm.Cond.code ({ cls := "CallLedger$Book", name := "store", desc := "(III)V" } : Jvm.MethodName) prog_3_method_7_code (4 : Nat) (Option.none : Option FieldType)) ∈ lw_tbl := List.mem_of_getElem? (i := 763) (by decide +kernel)
theorem k_727 : (Jvm.Cond.methodLink "CallLedger$Book" (69 : Nat) ({ cls := "CallLedger$Book", name := "stored", desc := "(II)I" } : Jvm.MethodName)) ∈ lw_tbl := List.mem_of_getElem? (i := 764) (by decide +kernel)
theorem k_728 : (Jvm.Cond.methodLink "CallLedger$Book" (77 : Nat) ({ cls := "CallLedger$Book", name := "set", desc := "(III)V" } : Jvm.MethodName)) ∈ lw_tbl := List.mem_of_getElem? (i := 765) (by decide +kernel)
theorem k_729 : (Jvm.Cond.privateMethod ({ cls := "CallLedger$Book", name := "set", desc := "(III)V" } : Jvm.MethodName)) ∈ lw_tbl := List.mem_of_getElem? (i := 766) (by decide +kernel)
theorem k_730 : (Jvm.Cond.instanceMethod ({ cls := "CallLedger$Book", name := "set", desc := "(III)V" } : Jvm.MethodName)) ∈ lw_tbl := List.mem_of_getElem? (i := 767) (by decide +kernel)
theorem k_731 : (Jvm.Cond.code ({ cls := "CallLedger$Book", name := "set", desc := "(III)V" } : Jvm.MethodName) prog_3_method_6_code (4 : Nat) (Option.none : Option FieldType)) ∈ lw_tbl := List.mem_of_getElem? (i := 768) (by decide +kernel)
theorem k_732 : (Jvm.Cond.methodLink "CallLedger$Book" (65 : Nat) ({ cls := "CallLedger$Table", name := "set", desc := "(JI)V" } : Jvm.MethodName)) ∈ lw_tbl := List.mem_of_getElem? (i := 769) (by decide +kernel)
theorem k_733 : (Jvm.Cond.instanceMethod ({ cls := "CallLedger$Table", name := "set", desc := "(JI)V" } : Jvm.MethodName)) ∈ lw_tbl := List.mem_of_getElem? (i := 770) (by decide +kernel)
theorem k_734 : (Jvm.Cond.selects "CallLedger$Table" ({ cls := "CallLedger$Table", name := "set", desc := "(JI)V" } : Jvm.MethodName) ({ cls := "CallLedger$Table", name := "set", desc := "(JI)V" } : Jvm.MethodName)) ∈ lw_tbl := List.mem_of_getElem? (i := 771) (by decide +kernel)
theorem k_735 : (Jvm.Cond.code ({ cls := "CallLedger$Table", name := "set", desc := "(JI)V" } : Jvm.MethodName) prog_7_method_7_code (5 : Nat) (Option.none : Option FieldType)) ∈ lw_tbl := List.mem_of_getElem? (i := 772) (by decide +kernel)
theorem k_736 : (Jvm.Cond.methodLink "CallLedger$Table" (43 : Nat) ({ cls := "CallLedger$Table", name := "sweep", desc := "()V" } : Jvm.MethodName)) ∈ lw_tbl := List.mem_of_getElem? (i := 773) (by decide +kernel)
theorem k_737 : (Jvm.Cond.privateMethod ({ cls := "CallLedger$Table", name := "sweep", desc := "()V" } : Jvm.MethodName)) ∈ lw_tbl := List.mem_of_getElem? (i := 774) (by decide +kernel)
theorem k_738 : (Jvm.Cond.instanceMethod ({ cls := "CallLedger$Table", name := "sweep", desc := "()V" } : Jvm.MethodName)) ∈ lw_tbl := List.mem_of_getElem? (i := 775) (by decide +kernel)
theorem k_739 : (Jvm.Cond.code ({ cls := "CallLedger$Table", name := "sweep", desc := "()V" } : Jvm.MethodName) prog_7_method_6_code (5 : Nat) (Option.none : Option FieldType)) ∈ lw_tbl := List.mem_of_getElem? (i := 776) (by decide +kernel)
theorem k_740 : (Jvm.Cond.methodLink "CallLedger$Table" (39 : Nat) ({ cls := "CallLedger$Table", name := "add", desc := "(JI)V" } : Jvm.MethodName)) ∈ lw_tbl := List.mem_of_getElem? (i := 777) (by decide +kernel)
theorem k_741 : (Jvm.Cond.privateMethod ({ cls := "CallLedger$Table", name := "add", desc := "(JI)V" } : Jvm.MethodName)) ∈ lw_tbl := List.mem_of_getElem? (i := 778) (by decide +kernel)
theorem k_742 : (Jvm.Cond.instanceMethod ({ cls := "CallLedger$Table", name := "add", desc := "(JI)V" } : Jvm.MethodName)) ∈ lw_tbl := List.mem_of_getElem? (i := 779) (by decide +kernel)
theorem k_743 : (Jvm.Cond.code ({ cls := "CallLedger$Table", name := "add", desc := "(JI)V" } : Jvm.MethodName) prog_7_method_5_code (5 : Nat) (Option.none : Option FieldType)) ∈ lw_tbl := List.mem_of_getElem? (i := 780) (by decide +kernel)
theorem k_744 : (Jvm.Cond.methodLink "CallLedger$Run" (112 : Nat) ({ cls := "CallLedger$Book", name := "balance", desc := "(I)I" } : Jvm.MethodName)) ∈ lw_tbl := List.mem_of_getElem? (i := 781) (by decide +kernel)
theorem k_745 : (Jvm.Cond.instanceMethod ({ cls := "CallLedger$Book", name := "balance", desc := "(I)I" } : Jvm.MethodName)) ∈ lw_tbl := List.mem_of_getElem? (i := 782) (by decide +kernel)
theorem k_746 : (Jvm.Cond.selects "CallLedger$Book" ({ cls := "CallLedger$Book", name := "balance", desc := "(I)I" } : Jvm.MethodName) ({ cls := "CallLedger$Book", name := "balance", desc := "(I)I" } : Jvm.MethodName)) ∈ lw_tbl := List.mem_of_getElem? (i := 783) (by decide +kernel)
theorem k_747 : (Jvm.Cond.code ({ cls := "CallLedger$Book", name := "balance", desc := "(I)I" } : Jvm.MethodName) prog_3_method_3_code (2 : Nat) (Option.some FieldType.int)) ∈ lw_tbl := List.mem_of_getElem? (i := 784) (by decide +kernel)
theorem k_748 : (Jvm.Cond.methodLink "CallLedger$Book" (42 : Nat) ({ cls := "CallLedger$Book", name := "has", desc := "(I)Z" } : Jvm.MethodName)) ∈ lw_tbl := List.mem_of_getElem? (i := 785) (by decide +kernel)
theorem k_749 : (Jvm.Cond.methodLink "CallLedger$Run" (141 : Nat) ({ cls := "CallLedger$Book", name := "write", desc := "(I)V" } : Jvm.MethodName)) ∈ lw_tbl := List.mem_of_getElem? (i := 786) (by decide +kernel)
theorem k_750 : (Jvm.Cond.instanceMethod ({ cls := "CallLedger$Book", name := "write", desc := "(I)V" } : Jvm.MethodName)) ∈ lw_tbl := List.mem_of_getElem? (i := 787) (by decide +kernel)
theorem k_751 : (Jvm.Cond.selects "CallLedger$Book" ({ cls := "CallLedger$Book", name := "write", desc := "(I)V" } : Jvm.MethodName) ({ cls := "CallLedger$Book", name := "write", desc := "(I)V" } : Jvm.MethodName)) ∈ lw_tbl := List.mem_of_getElem? (i := 788) (by decide +kernel)
theorem k_752 : (Jvm.Cond.code ({ cls := "CallLedger$Book", name := "write", desc := "(I)V" } : Jvm.MethodName) prog_3_method_10_code (2 : Nat) (Option.none : Option FieldType)) ∈ lw_tbl := List.mem_of_getElem? (i := 789) (by decide +kernel)
theorem k_753 : (Jvm.Cond.methodLink "CallLedger$Run" (144 : Nat) ({ cls := "CallLedger$Run", name := "call", desc := "(I)V" } : Jvm.MethodName)) ∈ lw_tbl := List.mem_of_getElem? (i := 790) (by decide +kernel)
theorem k_754 : (Jvm.Cond.privateMethod ({ cls := "CallLedger$Run", name := "call", desc := "(I)V" } : Jvm.MethodName)) ∈ lw_tbl := List.mem_of_getElem? (i := 791) (by decide +kernel)
theorem k_755 : (Jvm.Cond.instanceMethod ({ cls := "CallLedger$Run", name := "call", desc := "(I)V" } : Jvm.MethodName)) ∈ lw_tbl := List.mem_of_getElem? (i := 792) (by decide +kernel)
theorem k_756 : (Jvm.Cond.code ({ cls := "CallLedger$Run", name := "call", desc := "(I)V" } : Jvm.MethodName) prog_6_method_11_code (8 : Nat) (Option.none : Option FieldType)) ∈ lw_tbl := List.mem_of_getElem? (i := 793) (by decide +kernel)
theorem k_757 : (Jvm.Cond.methodLink "CallLedger$Run" (108 : Nat) ({ cls := "CallLedger$Book", name := "has", desc := "(I)Z" } : Jvm.MethodName)) ∈ lw_tbl := List.mem_of_getElem? (i := 794) (by decide +kernel)
theorem k_758 : (Jvm.Cond.methodLink "CallLedger$Run" (118 : Nat) ({ cls := "java/lang/Math", name := "min", desc := "(II)I" } : Jvm.MethodName)) ∈ lw_tbl := List.mem_of_getElem? (i := 795) (by decide +kernel)
theorem k_759 : (Jvm.Cond.methodLink "CallLedger$Run" (123 : Nat) ({ cls := "CallLedger$Run", name := "begin", desc := "(III)V" } : Jvm.MethodName)) ∈ lw_tbl := List.mem_of_getElem? (i := 796) (by decide +kernel)
theorem k_760 : (Jvm.Cond.methodLink "CallLedger$Run" (126 : Nat) ({ cls := "CallLedger$Run", name := "plays", desc := "(I)Z" } : Jvm.MethodName)) ∈ lw_tbl := List.mem_of_getElem? (i := 797) (by decide +kernel)
theorem k_761 : (Jvm.Cond.methodLink "CallLedger$Run" (147 : Nat) ({ cls := "CallLedger$Instruction", name := "of", desc := "(II)I" } : Jvm.MethodName)) ∈ lw_tbl := List.mem_of_getElem? (i := 798) (by decide +kernel)
theorem k_762 : (Jvm.Cond.instanceMethod ({ cls := "CallLedger$Instruction", name := "of", desc := "(II)I" } : Jvm.MethodName)) ∈ lw_tbl := List.mem_of_getElem? (i := 799) (by decide +kernel)
theorem k_763 : (Jvm.Cond.selects "CallLedger$Instruction" ({ cls := "CallLedger$Instruction", name := "of", desc := "(II)I" } : Jvm.MethodName) ({ cls := "CallLedger$Instruction", name := "of", desc := "(II)I" } : Jvm.MethodName)) ∈ lw_tbl := List.mem_of_getElem? (i := 800) (by decide +kernel)
theorem k_764 : (Jvm.Cond.code ({ cls := "CallLedger$Instruction", name := "of", desc := "(II)I" } : Jvm.MethodName) prog_4_method_6_code (3 : Nat) (Option.some FieldType.int)) ∈ lw_tbl := List.mem_of_getElem? (i := 801) (by decide +kernel)
theorem k_765 : (Jvm.Cond.methodLink "CallLedger$Run" (203 : Nat) ({ cls := "CallLedger$Book", name := "undo", desc := "(II)V" } : Jvm.MethodName)) ∈ lw_tbl := List.mem_of_getElem? (i := 802) (by decide +kernel)
theorem k_766 : (Jvm.Cond.instanceMethod ({ cls := "CallLedger$Book", name := "undo", desc := "(II)V" } : Jvm.MethodName)) ∈ lw_tbl := List.mem_of_getElem? (i := 803) (by decide +kernel)
theorem k_767 : (Jvm.Cond.selects "CallLedger$Book" ({ cls := "CallLedger$Book", name := "undo", desc := "(II)V" } : Jvm.MethodName) ({ cls := "CallLedger$Book", name := "undo", desc := "(II)V" } : Jvm.MethodName)) ∈ lw_tbl := List.mem_of_getElem? (i := 804) (by decide +kernel)
theorem k_768 : (Jvm.Cond.code ({ cls := "CallLedger$Book", name := "undo", desc := "(II)V" } : Jvm.MethodName) prog_3_method_11_code (4 : Nat) (Option.none : Option FieldType)) ∈ lw_tbl := List.mem_of_getElem? (i := 805) (by decide +kernel)
theorem k_769 : (Jvm.Cond.methodLink "CallLedgerLaw" (76 : Nat) ({ cls := "CallLedgerLaw", name := "balance", desc := "(LCallLedger;I[J)I" } : Jvm.MethodName)) ∈ lw_tbl := List.mem_of_getElem? (i := 806) (by decide +kernel)
theorem k_770 : (Jvm.Cond.static ({ cls := "CallLedgerLaw", name := "balance", desc := "(LCallLedger;I[J)I" } : Jvm.MethodName)) ∈ lw_tbl := List.mem_of_getElem? (i := 807) (by decide +kernel)
theorem k_771 : (Jvm.Cond.codeWith ({ cls := "CallLedgerLaw", name := "balance", desc := "(LCallLedger;I[J)I" } : Jvm.MethodName) method_7_code (4 : Nat) (Option.some FieldType.int) [((0 : Nat), (9 : Nat), (12 : Nat), (19 : Nat))]) ∈ lw_tbl := List.mem_of_getElem? (i := 808) (by decide +kernel)
theorem k_772 : (Jvm.Cond.methodLink "CallLedgerLaw" (30 : Nat) ({ cls := "CallLedger", name := "balance", desc := "(I)I" } : Jvm.MethodName)) ∈ lw_tbl := List.mem_of_getElem? (i := 809) (by decide +kernel)
theorem k_773 : (Jvm.Cond.instanceMethod ({ cls := "CallLedger", name := "balance", desc := "(I)I" } : Jvm.MethodName)) ∈ lw_tbl := List.mem_of_getElem? (i := 810) (by decide +kernel)
theorem k_774 : (Jvm.Cond.selects "CallLedger" ({ cls := "CallLedger", name := "balance", desc := "(I)I" } : Jvm.MethodName) ({ cls := "CallLedger", name := "balance", desc := "(I)I" } : Jvm.MethodName)) ∈ lw_tbl := List.mem_of_getElem? (i := 811) (by decide +kernel)
theorem k_775 : (Jvm.Cond.code ({ cls := "CallLedger", name := "balance", desc := "(I)I" } : Jvm.MethodName) prog_1_method_12_code (2 : Nat) (Option.some FieldType.int)) ∈ lw_tbl := List.mem_of_getElem? (i := 812) (by decide +kernel)
theorem k_776 : (Jvm.Cond.methodLink "CallLedgerLaw" (79 : Nat) ({ cls := "CallLedgerLaw", name := "storage", desc := "(LCallLedger;II[J)I" } : Jvm.MethodName)) ∈ lw_tbl := List.mem_of_getElem? (i := 813) (by decide +kernel)
theorem k_777 : (Jvm.Cond.static ({ cls := "CallLedgerLaw", name := "storage", desc := "(LCallLedger;II[J)I" } : Jvm.MethodName)) ∈ lw_tbl := List.mem_of_getElem? (i := 814) (by decide +kernel)
theorem k_778 : (Jvm.Cond.codeWith ({ cls := "CallLedgerLaw", name := "storage", desc := "(LCallLedger;II[J)I" } : Jvm.MethodName) method_8_code (5 : Nat) (Option.some FieldType.int) [((0 : Nat), (10 : Nat), (13 : Nat), (19 : Nat))]) ∈ lw_tbl := List.mem_of_getElem? (i := 815) (by decide +kernel)
theorem k_779 : (Jvm.Cond.methodLink "CallLedgerLaw" (33 : Nat) ({ cls := "CallLedger", name := "storage", desc := "(II)I" } : Jvm.MethodName)) ∈ lw_tbl := List.mem_of_getElem? (i := 816) (by decide +kernel)
theorem k_780 : (Jvm.Cond.instanceMethod ({ cls := "CallLedger", name := "storage", desc := "(II)I" } : Jvm.MethodName)) ∈ lw_tbl := List.mem_of_getElem? (i := 817) (by decide +kernel)
theorem k_781 : (Jvm.Cond.selects "CallLedger" ({ cls := "CallLedger", name := "storage", desc := "(II)I" } : Jvm.MethodName) ({ cls := "CallLedger", name := "storage", desc := "(II)I" } : Jvm.MethodName)) ∈ lw_tbl := List.mem_of_getElem? (i := 818) (by decide +kernel)
theorem k_782 : (Jvm.Cond.code ({ cls := "CallLedger", name := "storage", desc := "(II)I" } : Jvm.MethodName) prog_1_method_13_code (3 : Nat) (Option.some FieldType.int)) ∈ lw_tbl := List.mem_of_getElem? (i := 819) (by decide +kernel)
theorem k_783 : (Jvm.Cond.methodLink "CallLedger" (154 : Nat) ({ cls := "CallLedger$Book", name := "stored", desc := "(II)I" } : Jvm.MethodName)) ∈ lw_tbl := List.mem_of_getElem? (i := 820) (by decide +kernel)
theorem k_784 : (Jvm.Cond.methodLink "CallLedgerLaw" (90 : Nat) ({ cls := "CallLedgerLaw", name := "log", desc := "(LCallLedger;I[J)I" } : Jvm.MethodName)) ∈ lw_tbl := List.mem_of_getElem? (i := 821) (by decide +kernel)
theorem k_785 : (Jvm.Cond.static ({ cls := "CallLedgerLaw", name := "log", desc := "(LCallLedger;I[J)I" } : Jvm.MethodName)) ∈ lw_tbl := List.mem_of_getElem? (i := 822) (by decide +kernel)
theorem k_786 : (Jvm.Cond.codeWith ({ cls := "CallLedgerLaw", name := "log", desc := "(LCallLedger;I[J)I" } : Jvm.MethodName) method_9_code (4 : Nat) (Option.some FieldType.int) [((0 : Nat), (9 : Nat), (12 : Nat), (19 : Nat))]) ∈ lw_tbl := List.mem_of_getElem? (i := 823) (by decide +kernel)
theorem k_787 : (Jvm.Cond.methodLink "CallLedgerLaw" (36 : Nat) ({ cls := "CallLedger", name := "log", desc := "(I)I" } : Jvm.MethodName)) ∈ lw_tbl := List.mem_of_getElem? (i := 824) (by decide +kernel)
theorem k_788 : (Jvm.Cond.instanceMethod ({ cls := "CallLedger", name := "log", desc := "(I)I" } : Jvm.MethodName)) ∈ lw_tbl := List.mem_of_getElem? (i := 825) (by decide +kernel)
theorem k_789 : (Jvm.Cond.selects "CallLedger" ({ cls := "CallLedger", name := "log", desc := "(I)I" } : Jvm.MethodName) ({ cls := "CallLedger", name := "log", desc := "(I)I" } : Jvm.MethodName)) ∈ lw_tbl := List.mem_of_getElem? (i := 826) (by decide +kernel)
theorem k_790 : (Jvm.Cond.code ({ cls := "CallLedger", name := "log", desc := "(I)I" } : Jvm.MethodName) prog_1_method_16_code (2 : Nat) (Option.some FieldType.int)) ∈ lw_tbl := List.mem_of_getElem? (i := 827) (by decide +kernel)
theorem k_791 : (Jvm.Cond.stringRef "CallLedger" (168 : Nat) "there is none") ∈ lw_tbl := List.mem_of_getElem? (i := 828) (by decide +kernel)
theorem k_792 : (Jvm.Cond.classLink "CallLedgerLaw" (40 : Nat) "CallLedgerModel") ∈ lw_tbl := List.mem_of_getElem? (i := 829) (by decide +kernel)
theorem k_793 : (Jvm.Cond.instantiable "CallLedgerModel" (34 : Nat)) ∈ lw_tbl := List.mem_of_getElem? (i := 830) (by decide +kernel)
theorem k_794 : (Jvm.Cond.methodLink "CallLedgerLaw" (42 : Nat) ({ cls := "CallLedgerModel", name := "<init>", desc := "()V" } : Jvm.MethodName)) ∈ lw_tbl := List.mem_of_getElem? (i := 831) (by decide +kernel)
theorem k_795 : (Jvm.Cond.instanceMethod ({ cls := "CallLedgerModel", name := "<init>", desc := "()V" } : Jvm.MethodName)) ∈ lw_tbl := List.mem_of_getElem? (i := 832) (by decide +kernel)
theorem k_796 : (Jvm.Cond.code ({ cls := "CallLedgerModel", name := "<init>", desc := "()V" } : Jvm.MethodName) prog_9_method_1_code (1 : Nat) (Option.none : Option FieldType)) ∈ lw_tbl := List.mem_of_getElem? (i := 833) (by decide +kernel)
theorem k_797 : (Jvm.Cond.methodLink "CallLedgerModel" (1 : Nat) ({ cls := "java/lang/Object", name := "<init>", desc := "()V" } : Jvm.MethodName)) ∈ lw_tbl := List.mem_of_getElem? (i := 834) (by decide +kernel)
theorem k_798 : (Jvm.Cond.fieldLink "CallLedgerModel" (83 : Nat) "CallLedgerModel" "thrown" "I") ∈ lw_tbl := List.mem_of_getElem? (i := 835) (by decide +kernel)
theorem k_799 : (Jvm.Cond.fieldLink "CallLedgerModel" (87 : Nat) "CallLedgerModel" "accounts" "I") ∈ lw_tbl := List.mem_of_getElem? (i := 836) (by decide +kernel)
theorem k_800 : (Jvm.Cond.fieldLink "CallLedgerModel" (7 : Nat) "CallLedgerModel" "balances" "[I") ∈ lw_tbl := List.mem_of_getElem? (i := 837) (by decide +kernel)
theorem k_801 : (Jvm.Cond.fieldLink "CallLedgerModel" (13 : Nat) "CallLedgerModel" "codes" "[I") ∈ lw_tbl := List.mem_of_getElem? (i := 838) (by decide +kernel)
theorem k_802 : (Jvm.Cond.fieldLink "CallLedgerModel" (16 : Nat) "CallLedgerModel" "lengths" "[I") ∈ lw_tbl := List.mem_of_getElem? (i := 839) (by decide +kernel)
theorem k_803 : (Jvm.Cond.fieldLink "CallLedgerModel" (19 : Nat) "CallLedgerModel" "sealed0" "[Z") ∈ lw_tbl := List.mem_of_getElem? (i := 840) (by decide +kernel)
theorem k_804 : (Jvm.Cond.fieldLink "CallLedgerModel" (23 : Nat) "CallLedgerModel" "keyAccounts" "[I") ∈ lw_tbl := List.mem_of_getElem? (i := 841) (by decide +kernel)
theorem k_805 : (Jvm.Cond.fieldLink "CallLedgerModel" (26 : Nat) "CallLedgerModel" "keyNames" "[I") ∈ lw_tbl := List.mem_of_getElem? (i := 842) (by decide +kernel)
theorem k_806 : (Jvm.Cond.fieldLink "CallLedgerModel" (29 : Nat) "CallLedgerModel" "keyValues" "[I") ∈ lw_tbl := List.mem_of_getElem? (i := 843) (by decide +kernel)
theorem k_807 : (Jvm.Cond.fieldLink "CallLedgerModel" (107 : Nat) "CallLedgerModel" "keys" "I") ∈ lw_tbl := List.mem_of_getElem? (i := 844) (by decide +kernel)
theorem k_808 : (Jvm.Cond.fieldLink "CallLedgerModel" (32 : Nat) "CallLedgerModel" "log" "[I") ∈ lw_tbl := List.mem_of_getElem? (i := 845) (by decide +kernel)
theorem k_809 : (Jvm.Cond.fieldLink "CallLedgerModel" (117 : Nat) "CallLedgerModel" "logged" "I") ∈ lw_tbl := List.mem_of_getElem? (i := 846) (by decide +kernel)
theorem k_810 : (Jvm.Cond.fieldLink "CallLedgerModel" (35 : Nat) "CallLedgerModel" "oldBalances" "[I") ∈ lw_tbl := List.mem_of_getElem? (i := 847) (by decide +kernel)
theorem k_811 : (Jvm.Cond.fieldLink "CallLedgerModel" (38 : Nat) "CallLedgerModel" "oldAccounts" "[I") ∈ lw_tbl := List.mem_of_getElem? (i := 848) (by decide +kernel)
theorem k_812 : (Jvm.Cond.fieldLink "CallLedgerModel" (41 : Nat) "CallLedgerModel" "oldNames" "[I") ∈ lw_tbl := List.mem_of_getElem? (i := 849) (by decide +kernel)
theorem k_813 : (Jvm.Cond.fieldLink "CallLedgerModel" (44 : Nat) "CallLedgerModel" "oldValues" "[I") ∈ lw_tbl := List.mem_of_getElem? (i := 850) (by decide +kernel)
theorem k_814 : (Jvm.Cond.fieldLink "CallLedgerModel" (47 : Nat) "CallLedgerModel" "oldKeys" "[I") ∈ lw_tbl := List.mem_of_getElem? (i := 851) (by decide +kernel)
theorem k_815 : (Jvm.Cond.fieldLink "CallLedgerModel" (50 : Nat) "CallLedgerModel" "oldLogged" "[I") ∈ lw_tbl := List.mem_of_getElem? (i := 852) (by decide +kernel)
theorem k_816 : (Jvm.Cond.fieldLink "CallLedgerModel" (126 : Nat) "CallLedgerModel" "depth" "I") ∈ lw_tbl := List.mem_of_getElem? (i := 853) (by decide +kernel)
theorem k_817 : (Jvm.Cond.fieldLink "CallLedgerModel" (53 : Nat) "CallLedgerModel" "stacks" "[I") ∈ lw_tbl := List.mem_of_getElem? (i := 854) (by decide +kernel)
theorem k_818 : (Jvm.Cond.fieldLink "CallLedgerModel" (56 : Nat) "CallLedgerModel" "heights" "[I") ∈ lw_tbl := List.mem_of_getElem? (i := 855) (by decide +kernel)
theorem k_819 : (Jvm.Cond.fieldLink "CallLedgerModel" (59 : Nat) "CallLedgerModel" "places" "[I") ∈ lw_tbl := List.mem_of_getElem? (i := 856) (by decide +kernel)
theorem k_820 : (Jvm.Cond.fieldLink "CallLedgerModel" (62 : Nat) "CallLedgerModel" "givens" "[I") ∈ lw_tbl := List.mem_of_getElem? (i := 857) (by decide +kernel)
theorem k_821 : (Jvm.Cond.fieldLink "CallLedgerModel" (65 : Nat) "CallLedgerModel" "givenCounts" "[I") ∈ lw_tbl := List.mem_of_getElem? (i := 858) (by decide +kernel)
theorem k_822 : (Jvm.Cond.fieldLink "CallLedgerModel" (68 : Nat) "CallLedgerModel" "callers" "[I") ∈ lw_tbl := List.mem_of_getElem? (i := 859) (by decide +kernel)
theorem k_823 : (Jvm.Cond.fieldLink "CallLedgerModel" (71 : Nat) "CallLedgerModel" "values" "[I") ∈ lw_tbl := List.mem_of_getElem? (i := 860) (by decide +kernel)
theorem k_824 : (Jvm.Cond.fieldLink "CallLedgerModel" (74 : Nat) "CallLedgerModel" "gases" "[I") ∈ lw_tbl := List.mem_of_getElem? (i := 861) (by decide +kernel)
theorem k_825 : (Jvm.Cond.fieldLink "CallLedgerModel" (77 : Nat) "CallLedgerModel" "runAccounts" "[I") ∈ lw_tbl := List.mem_of_getElem? (i := 862) (by decide +kernel)
theorem k_826 : (Jvm.Cond.fieldLink "CallLedgerModel" (80 : Nat) "CallLedgerModel" "arguments" "[I") ∈ lw_tbl := List.mem_of_getElem? (i := 863) (by decide +kernel)
theorem k_827 : (Jvm.Cond.fieldLink "CallLedgerModel" (104 : Nat) "CallLedgerModel" "argumentCount" "I") ∈ lw_tbl := List.mem_of_getElem? (i := 864) (by decide +kernel)
theorem k_828 : (Jvm.Cond.fieldLink "CallLedgerModel" (132 : Nat) "CallLedgerModel" "ended" "I") ∈ lw_tbl := List.mem_of_getElem? (i := 865) (by decide +kernel)
theorem k_829 : (Jvm.Cond.fieldLink "CallLedgerModel" (123 : Nat) "CallLedgerModel" "result" "I") ∈ lw_tbl := List.mem_of_getElem? (i := 866) (by decide +kernel)
theorem k_830 : (Jvm.Cond.fieldLink "CallLedgerModel" (135 : Nat) "CallLedgerModel" "left" "I") ∈ lw_tbl := List.mem_of_getElem? (i := 867) (by decide +kernel)
theorem k_831 : (Jvm.Cond.fieldLink "CallLedgerModel" (120 : Nat) "CallLedgerModel" "used" "I") ∈ lw_tbl := List.mem_of_getElem? (i := 868) (by decide +kernel)
theorem k_832 : (Jvm.Cond.lays "CallLedgerModel" "CallLedgerModel" "thrown" "I") ∈ lw_tbl := List.mem_of_getElem? (i := 869) (by decide +kernel)
theorem k_833 : (Jvm.Cond.soleField "CallLedgerModel" "thrown") ∈ lw_tbl := List.mem_of_getElem? (i := 870) (by decide +kernel)
theorem k_834 : (Jvm.Cond.lays "CallLedgerModel" "CallLedgerModel" "accounts" "I") ∈ lw_tbl := List.mem_of_getElem? (i := 871) (by decide +kernel)
theorem k_835 : (Jvm.Cond.soleField "CallLedgerModel" "accounts") ∈ lw_tbl := List.mem_of_getElem? (i := 872) (by decide +kernel)
theorem k_836 : (Jvm.Cond.laysFinal "CallLedgerModel" "CallLedgerModel" "balances" "[I") ∈ lw_tbl := List.mem_of_getElem? (i := 873) (by decide +kernel)
theorem k_837 : (Jvm.Cond.soleField "CallLedgerModel" "balances") ∈ lw_tbl := List.mem_of_getElem? (i := 874) (by decide +kernel)
theorem k_838 : (Jvm.Cond.laysFinal "CallLedgerModel" "CallLedgerModel" "codes" "[I") ∈ lw_tbl := List.mem_of_getElem? (i := 875) (by decide +kernel)
theorem k_839 : (Jvm.Cond.soleField "CallLedgerModel" "codes") ∈ lw_tbl := List.mem_of_getElem? (i := 876) (by decide +kernel)
theorem k_840 : (Jvm.Cond.laysFinal "CallLedgerModel" "CallLedgerModel" "lengths" "[I") ∈ lw_tbl := List.mem_of_getElem? (i := 877) (by decide +kernel)
theorem k_841 : (Jvm.Cond.soleField "CallLedgerModel" "lengths") ∈ lw_tbl := List.mem_of_getElem? (i := 878) (by decide +kernel)
theorem k_842 : (Jvm.Cond.laysFinal "CallLedgerModel" "CallLedgerModel" "sealed0" "[Z") ∈ lw_tbl := List.mem_of_getElem? (i := 879) (by decide +kernel)
theorem k_843 : (Jvm.Cond.soleField "CallLedgerModel" "sealed0") ∈ lw_tbl := List.mem_of_getElem? (i := 880) (by decide +kernel)
theorem k_844 : (Jvm.Cond.laysFinal "CallLedgerModel" "CallLedgerModel" "keyAccounts" "[I") ∈ lw_tbl := List.mem_of_getElem? (i := 881) (by decide +kernel)
theorem k_845 : (Jvm.Cond.soleField "CallLedgerModel" "keyAccounts") ∈ lw_tbl := List.mem_of_getElem? (i := 882) (by decide +kernel)
theorem k_846 : (Jvm.Cond.laysFinal "CallLedgerModel" "CallLedgerModel" "keyNames" "[I") ∈ lw_tbl := List.mem_of_getElem? (i := 883) (by decide +kernel)
theorem k_847 : (Jvm.Cond.soleField "CallLedgerModel" "keyNames") ∈ lw_tbl := List.mem_of_getElem? (i := 884) (by decide +kernel)
theorem k_848 : (Jvm.Cond.laysFinal "CallLedgerModel" "CallLedgerModel" "keyValues" "[I") ∈ lw_tbl := List.mem_of_getElem? (i := 885) (by decide +kernel)
theorem k_849 : (Jvm.Cond.soleField "CallLedgerModel" "keyValues") ∈ lw_tbl := List.mem_of_getElem? (i := 886) (by decide +kernel)
theorem k_850 : (Jvm.Cond.lays "CallLedgerModel" "CallLedgerModel" "keys" "I") ∈ lw_tbl := List.mem_of_getElem? (i := 887) (by decide +kernel)
theorem k_851 : (Jvm.Cond.soleField "CallLedgerModel" "keys") ∈ lw_tbl := List.mem_of_getElem? (i := 888) (by decide +kernel)
theorem k_852 : (Jvm.Cond.laysFinal "CallLedgerModel" "CallLedgerModel" "log" "[I") ∈ lw_tbl := List.mem_of_getElem? (i := 889) (by decide +kernel)
theorem k_853 : (Jvm.Cond.soleField "CallLedgerModel" "log") ∈ lw_tbl := List.mem_of_getElem? (i := 890) (by decide +kernel)
theorem k_854 : (Jvm.Cond.lays "CallLedgerModel" "CallLedgerModel" "logged" "I") ∈ lw_tbl := List.mem_of_getElem? (i := 891) (by decide +kernel)
theorem k_855 : (Jvm.Cond.soleField "CallLedgerModel" "logged") ∈ lw_tbl := List.mem_of_getElem? (i := 892) (by decide +kernel)
theorem k_856 : (Jvm.Cond.laysFinal "CallLedgerModel" "CallLedgerModel" "oldBalances" "[I") ∈ lw_tbl := List.mem_of_getElem? (i := 893) (by decide +kernel)
theorem k_857 : (Jvm.Cond.soleField "CallLedgerModel" "oldBalances") ∈ lw_tbl := List.mem_of_getElem? (i := 894) (by decide +kernel)
theorem k_858 : (Jvm.Cond.laysFinal "CallLedgerModel" "CallLedgerModel" "oldAccounts" "[I") ∈ lw_tbl := List.mem_of_getElem? (i := 895) (by decide +kernel)
theorem k_859 : (Jvm.Cond.soleField "CallLedgerModel" "oldAccounts") ∈ lw_tbl := List.mem_of_getElem? (i := 896) (by decide +kernel)
theorem k_860 : (Jvm.Cond.laysFinal "CallLedgerModel" "CallLedgerModel" "oldNames" "[I") ∈ lw_tbl := List.mem_of_getElem? (i := 897) (by decide +kernel)
theorem k_861 : (Jvm.Cond.soleField "CallLedgerModel" "oldNames") ∈ lw_tbl := List.mem_of_getElem? (i := 898) (by decide +kernel)
theorem k_862 : (Jvm.Cond.laysFinal "CallLedgerModel" "CallLedgerModel" "oldValues" "[I") ∈ lw_tbl := List.mem_of_getElem? (i := 899) (by decide +kernel)
theorem k_863 : (Jvm.Cond.soleField "CallLedgerModel" "oldValues") ∈ lw_tbl := List.mem_of_getElem? (i := 900) (by decide +kernel)
theorem k_864 : (Jvm.Cond.laysFinal "CallLedgerModel" "CallLedgerModel" "oldKeys" "[I") ∈ lw_tbl := List.mem_of_getElem? (i := 901) (by decide +kernel)
theorem k_865 : (Jvm.Cond.soleField "CallLedgerModel" "oldKeys") ∈ lw_tbl := List.mem_of_getElem? (i := 902) (by decide +kernel)
theorem k_866 : (Jvm.Cond.laysFinal "CallLedgerModel" "CallLedgerModel" "oldLogged" "[I") ∈ lw_tbl := List.mem_of_getElem? (i := 903) (by decide +kernel)
theorem k_867 : (Jvm.Cond.soleField "CallLedgerModel" "oldLogged") ∈ lw_tbl := List.mem_of_getElem? (i := 904) (by decide +kernel)
theorem k_868 : (Jvm.Cond.lays "CallLedgerModel" "CallLedgerModel" "depth" "I") ∈ lw_tbl := List.mem_of_getElem? (i := 905) (by decide +kernel)
theorem k_869 : (Jvm.Cond.soleField "CallLedgerModel" "depth") ∈ lw_tbl := List.mem_of_getElem? (i := 906) (by decide +kernel)
theorem k_870 : (Jvm.Cond.laysFinal "CallLedgerModel" "CallLedgerModel" "stacks" "[I") ∈ lw_tbl := List.mem_of_getElem? (i := 907) (by decide +kernel)
theorem k_871 : (Jvm.Cond.soleField "CallLedgerModel" "stacks") ∈ lw_tbl := List.mem_of_getElem? (i := 908) (by decide +kernel)
theorem k_872 : (Jvm.Cond.laysFinal "CallLedgerModel" "CallLedgerModel" "heights" "[I") ∈ lw_tbl := List.mem_of_getElem? (i := 909) (by decide +kernel)
theorem k_873 : (Jvm.Cond.soleField "CallLedgerModel" "heights") ∈ lw_tbl := List.mem_of_getElem? (i := 910) (by decide +kernel)
theorem k_874 : (Jvm.Cond.laysFinal "CallLedgerModel" "CallLedgerModel" "places" "[I") ∈ lw_tbl := List.mem_of_getElem? (i := 911) (by decide +kernel)
theorem k_875 : (Jvm.Cond.soleField "CallLedgerModel" "places") ∈ lw_tbl := List.mem_of_getElem? (i := 912) (by decide +kernel)
theorem k_876 : (Jvm.Cond.laysFinal "CallLedgerModel" "CallLedgerModel" "givens" "[I") ∈ lw_tbl := List.mem_of_getElem? (i := 913) (by decide +kernel)
theorem k_877 : (Jvm.Cond.soleField "CallLedgerModel" "givens") ∈ lw_tbl := List.mem_of_getElem? (i := 914) (by decide +kernel)
theorem k_878 : (Jvm.Cond.laysFinal "CallLedgerModel" "CallLedgerModel" "givenCounts" "[I") ∈ lw_tbl := List.mem_of_getElem? (i := 915) (by decide +kernel)
theorem k_879 : (Jvm.Cond.soleField "CallLedgerModel" "givenCounts") ∈ lw_tbl := List.mem_of_getElem? (i := 916) (by decide +kernel)
theorem k_880 : (Jvm.Cond.laysFinal "CallLedgerModel" "CallLedgerModel" "callers" "[I") ∈ lw_tbl := List.mem_of_getElem? (i := 917) (by decide +kernel)
theorem k_881 : (Jvm.Cond.soleField "CallLedgerModel" "callers") ∈ lw_tbl := List.mem_of_getElem? (i := 918) (by decide +kernel)
theorem k_882 : (Jvm.Cond.laysFinal "CallLedgerModel" "CallLedgerModel" "values" "[I") ∈ lw_tbl := List.mem_of_getElem? (i := 919) (by decide +kernel)
theorem k_883 : (Jvm.Cond.soleField "CallLedgerModel" "values") ∈ lw_tbl := List.mem_of_getElem? (i := 920) (by decide +kernel)
theorem k_884 : (Jvm.Cond.laysFinal "CallLedgerModel" "CallLedgerModel" "gases" "[I") ∈ lw_tbl := List.mem_of_getElem? (i := 921) (by decide +kernel)
theorem k_885 : (Jvm.Cond.soleField "CallLedgerModel" "gases") ∈ lw_tbl := List.mem_of_getElem? (i := 922) (by decide +kernel)
theorem k_886 : (Jvm.Cond.laysFinal "CallLedgerModel" "CallLedgerModel" "runAccounts" "[I") ∈ lw_tbl := List.mem_of_getElem? (i := 923) (by decide +kernel)
theorem k_887 : (Jvm.Cond.soleField "CallLedgerModel" "runAccounts") ∈ lw_tbl := List.mem_of_getElem? (i := 924) (by decide +kernel)
theorem k_888 : (Jvm.Cond.laysFinal "CallLedgerModel" "CallLedgerModel" "arguments" "[I") ∈ lw_tbl := List.mem_of_getElem? (i := 925) (by decide +kernel)
theorem k_889 : (Jvm.Cond.soleField "CallLedgerModel" "arguments") ∈ lw_tbl := List.mem_of_getElem? (i := 926) (by decide +kernel)
theorem k_890 : (Jvm.Cond.lays "CallLedgerModel" "CallLedgerModel" "argumentCount" "I") ∈ lw_tbl := List.mem_of_getElem? (i := 927) (by decide +kernel)
theorem k_891 : (Jvm.Cond.soleField "CallLedgerModel" "argumentCount") ∈ lw_tbl := List.mem_of_getElem? (i := 928) (by decide +kernel)
theorem k_892 : (Jvm.Cond.lays "CallLedgerModel" "CallLedgerModel" "ended" "I") ∈ lw_tbl := List.mem_of_getElem? (i := 929) (by decide +kernel)
theorem k_893 : (Jvm.Cond.soleField "CallLedgerModel" "ended") ∈ lw_tbl := List.mem_of_getElem? (i := 930) (by decide +kernel)
theorem k_894 : (Jvm.Cond.lays "CallLedgerModel" "CallLedgerModel" "result" "I") ∈ lw_tbl := List.mem_of_getElem? (i := 931) (by decide +kernel)
theorem k_895 : (Jvm.Cond.soleField "CallLedgerModel" "result") ∈ lw_tbl := List.mem_of_getElem? (i := 932) (by decide +kernel)
theorem k_896 : (Jvm.Cond.lays "CallLedgerModel" "CallLedgerModel" "left" "I") ∈ lw_tbl := List.mem_of_getElem? (i := 933) (by decide +kernel)
theorem k_897 : (Jvm.Cond.soleField "CallLedgerModel" "left") ∈ lw_tbl := List.mem_of_getElem? (i := 934) (by decide +kernel)
theorem k_898 : (Jvm.Cond.lays "CallLedgerModel" "CallLedgerModel" "used" "I") ∈ lw_tbl := List.mem_of_getElem? (i := 935) (by decide +kernel)
theorem k_899 : (Jvm.Cond.soleField "CallLedgerModel" "used") ∈ lw_tbl := List.mem_of_getElem? (i := 936) (by decide +kernel)
theorem k_900 : (Jvm.Cond.superclass "CallLedgerModel" "java/lang/Object") ∈ lw_tbl := List.mem_of_getElem? (i := 937) (by decide +kernel)
theorem k_901 : (Jvm.Cond.methodLink "CallLedgerLaw" (49 : Nat) ({ cls := "CallLedgerModel", name := "thrown", desc := "()I" } : Jvm.MethodName)) ∈ lw_tbl := List.mem_of_getElem? (i := 938) (by decide +kernel)
theorem k_902 : (Jvm.Cond.instanceMethod ({ cls := "CallLedgerModel", name := "thrown", desc := "()I" } : Jvm.MethodName)) ∈ lw_tbl := List.mem_of_getElem? (i := 939) (by decide +kernel)
theorem k_903 : (Jvm.Cond.selects "CallLedgerModel" ({ cls := "CallLedgerModel", name := "thrown", desc := "()I" } : Jvm.MethodName) ({ cls := "CallLedgerModel", name := "thrown", desc := "()I" } : Jvm.MethodName)) ∈ lw_tbl := List.mem_of_getElem? (i := 940) (by decide +kernel)
theorem k_904 : (Jvm.Cond.code ({ cls := "CallLedgerModel", name := "thrown", desc := "()I" } : Jvm.MethodName) prog_9_method_2_code (1 : Nat) (Option.some FieldType.int)) ∈ lw_tbl := List.mem_of_getElem? (i := 941) (by decide +kernel)
theorem k_905 : (Jvm.Cond.methodLink "CallLedgerLaw" (96 : Nat) ({ cls := "CallLedgerModel", name := "supply", desc := "()I" } : Jvm.MethodName)) ∈ lw_tbl := List.mem_of_getElem? (i := 942) (by decide +kernel)
theorem k_906 : (Jvm.Cond.instanceMethod ({ cls := "CallLedgerModel", name := "supply", desc := "()I" } : Jvm.MethodName)) ∈ lw_tbl := List.mem_of_getElem? (i := 943) (by decide +kernel)
theorem k_907 : (Jvm.Cond.selects "CallLedgerModel" ({ cls := "CallLedgerModel", name := "supply", desc := "()I" } : Jvm.MethodName) ({ cls := "CallLedgerModel", name := "supply", desc := "()I" } : Jvm.MethodName)) ∈ lw_tbl := List.mem_of_getElem? (i := 944) (by decide +kernel)
theorem k_908 : (Jvm.Cond.code ({ cls := "CallLedgerModel", name := "supply", desc := "()I" } : Jvm.MethodName) prog_9_method_4_code (3 : Nat) (Option.some FieldType.int)) ∈ lw_tbl := List.mem_of_getElem? (i := 945) (by decide +kernel)
theorem k_909 : (Jvm.Cond.methodLink "CallLedgerLaw" (48 : Nat) ({ cls := "CallLedgerModel", name := "open", desc := "(I)I" } : Jvm.MethodName)) ∈ lw_tbl := List.mem_of_getElem? (i := 946) (by decide +kernel)
theorem k_910 : (Jvm.Cond.instanceMethod ({ cls := "CallLedgerModel", name := "open", desc := "(I)I" } : Jvm.MethodName)) ∈ lw_tbl := List.mem_of_getElem? (i := 947) (by decide +kernel)
theorem k_911 : (Jvm.Cond.selects "CallLedgerModel" ({ cls := "CallLedgerModel", name := "open", desc := "(I)I" } : Jvm.MethodName) ({ cls := "CallLedgerModel", name := "open", desc := "(I)I" } : Jvm.MethodName)) ∈ lw_tbl := List.mem_of_getElem? (i := 948) (by decide +kernel)
theorem k_912 : (Jvm.Cond.code ({ cls := "CallLedgerModel", name := "open", desc := "(I)I" } : Jvm.MethodName) prog_9_method_5_code (3 : Nat) (Option.some FieldType.int)) ∈ lw_tbl := List.mem_of_getElem? (i := 949) (by decide +kernel)
theorem k_913 : (Jvm.Cond.methodLink "CallLedgerModel" (90 : Nat) ({ cls := "CallLedgerModel", name := "supply", desc := "()I" } : Jvm.MethodName)) ∈ lw_tbl := List.mem_of_getElem? (i := 950) (by decide +kernel)
theorem k_914 : (Jvm.Cond.constantLong "CallLedgerModel" (94 : Nat) (2147483647 : Int64)) ∈ lw_tbl := List.mem_of_getElem? (i := 951) (by decide +kernel)
theorem k_915 : (Jvm.Cond.methodLink "CallLedgerLaw" (56 : Nat) ({ cls := "CallLedgerModel", name := "code", desc := "(II)I" } : Jvm.MethodName)) ∈ lw_tbl := List.mem_of_getElem? (i := 952) (by decide +kernel)
theorem k_916 : (Jvm.Cond.instanceMethod ({ cls := "CallLedgerModel", name := "code", desc := "(II)I" } : Jvm.MethodName)) ∈ lw_tbl := List.mem_of_getElem? (i := 953) (by decide +kernel)
theorem k_917 : (Jvm.Cond.selects "CallLedgerModel" ({ cls := "CallLedgerModel", name := "code", desc := "(II)I" } : Jvm.MethodName) ({ cls := "CallLedgerModel", name := "code", desc := "(II)I" } : Jvm.MethodName)) ∈ lw_tbl := List.mem_of_getElem? (i := 954) (by decide +kernel)
theorem k_918 : (Jvm.Cond.code ({ cls := "CallLedgerModel", name := "code", desc := "(II)I" } : Jvm.MethodName) prog_9_method_6_code (3 : Nat) (Option.some FieldType.int)) ∈ lw_tbl := List.mem_of_getElem? (i := 955) (by decide +kernel)
theorem k_919 : (Jvm.Cond.methodLink "CallLedgerModel" (96 : Nat) ({ cls := "CallLedgerModel", name := "noAccount", desc := "(I)Z" } : Jvm.MethodName)) ∈ lw_tbl := List.mem_of_getElem? (i := 956) (by decide +kernel)
theorem k_920 : (Jvm.Cond.privateMethod ({ cls := "CallLedgerModel", name := "noAccount", desc := "(I)Z" } : Jvm.MethodName)) ∈ lw_tbl := List.mem_of_getElem? (i := 957) (by decide +kernel)
theorem k_921 : (Jvm.Cond.instanceMethod ({ cls := "CallLedgerModel", name := "noAccount", desc := "(I)Z" } : Jvm.MethodName)) ∈ lw_tbl := List.mem_of_getElem? (i := 958) (by decide +kernel)
theorem k_922 : (Jvm.Cond.code ({ cls := "CallLedgerModel", name := "noAccount", desc := "(I)Z" } : Jvm.MethodName) prog_9_method_3_code (2 : Nat) (Option.some FieldType.boolean)) ∈ lw_tbl := List.mem_of_getElem? (i := 959) (by decide +kernel)
theorem k_923 : (Jvm.Cond.methodLink "CallLedgerLaw" (59 : Nat) ({ cls := "CallLedgerModel", name := "seal", desc := "(I)I" } : Jvm.MethodName)) ∈ lw_tbl := List.mem_of_getElem? (i := 960) (by decide +kernel)
theorem k_924 : (Jvm.Cond.instanceMethod ({ cls := "CallLedgerModel", name := "seal", desc := "(I)I" } : Jvm.MethodName)) ∈ lw_tbl := List.mem_of_getElem? (i := 961) (by decide +kernel)
theorem k_925 : (Jvm.Cond.selects "CallLedgerModel" ({ cls := "CallLedgerModel", name := "seal", desc := "(I)I" } : Jvm.MethodName) ({ cls := "CallLedgerModel", name := "seal", desc := "(I)I" } : Jvm.MethodName)) ∈ lw_tbl := List.mem_of_getElem? (i := 962) (by decide +kernel)
theorem k_926 : (Jvm.Cond.code ({ cls := "CallLedgerModel", name := "seal", desc := "(I)I" } : Jvm.MethodName) prog_9_method_8_code (3 : Nat) (Option.some FieldType.int)) ∈ lw_tbl := List.mem_of_getElem? (i := 963) (by decide +kernel)
theorem k_927 : (Jvm.Cond.methodLink "CallLedgerModel" (100 : Nat) ({ cls := "CallLedgerModel", name := "isGood", desc := "(II)Z" } : Jvm.MethodName)) ∈ lw_tbl := List.mem_of_getElem? (i := 964) (by decide +kernel)
theorem k_928 : (Jvm.Cond.static ({ cls := "CallLedgerModel", name := "isGood", desc := "(II)Z" } : Jvm.MethodName)) ∈ lw_tbl := List.mem_of_getElem? (i := 965) (by decide +kernel)
theorem k_929 : (Jvm.Cond.code ({ cls := "CallLedgerModel", name := "isGood", desc := "(II)Z" } : Jvm.MethodName) prog_9_method_7_code (4 : Nat) (Option.some FieldType.boolean)) ∈ lw_tbl := List.mem_of_getElem? (i := 966) (by decide +kernel)
theorem k_930 : (Jvm.Cond.methodLink "CallLedgerLaw" (63 : Nat) ({ cls := "CallLedgerModel", name := "argument", desc := "(I)I" } : Jvm.MethodName)) ∈ lw_tbl := List.mem_of_getElem? (i := 967) (by decide +kernel)
theorem k_931 : (Jvm.Cond.instanceMethod ({ cls := "CallLedgerModel", name := "argument", desc := "(I)I" } : Jvm.MethodName)) ∈ lw_tbl := List.mem_of_getElem? (i := 968) (by decide +kernel)
theorem k_932 : (Jvm.Cond.selects "CallLedgerModel" ({ cls := "CallLedgerModel", name := "argument", desc := "(I)I" } : Jvm.MethodName) ({ cls := "CallLedgerModel", name := "argument", desc := "(I)I" } : Jvm.MethodName)) ∈ lw_tbl := List.mem_of_getElem? (i := 969) (by decide +kernel)
theorem k_933 : (Jvm.Cond.code ({ cls := "CallLedgerModel", name := "argument", desc := "(I)I" } : Jvm.MethodName) prog_9_method_9_code (2 : Nat) (Option.some FieldType.int)) ∈ lw_tbl := List.mem_of_getElem? (i := 970) (by decide +kernel)
theorem k_934 : (Jvm.Cond.methodLink "CallLedgerLaw" (78 : Nat) ({ cls := "CallLedgerModel", name := "balance", desc := "(I)I" } : Jvm.MethodName)) ∈ lw_tbl := List.mem_of_getElem? (i := 971) (by decide +kernel)
theorem k_935 : (Jvm.Cond.instanceMethod ({ cls := "CallLedgerModel", name := "balance", desc := "(I)I" } : Jvm.MethodName)) ∈ lw_tbl := List.mem_of_getElem? (i := 972) (by decide +kernel)
theorem k_936 : (Jvm.Cond.selects "CallLedgerModel" ({ cls := "CallLedgerModel", name := "balance", desc := "(I)I" } : Jvm.MethodName) ({ cls := "CallLedgerModel", name := "balance", desc := "(I)I" } : Jvm.MethodName)) ∈ lw_tbl := List.mem_of_getElem? (i := 973) (by decide +kernel)
theorem k_937 : (Jvm.Cond.code ({ cls := "CallLedgerModel", name := "balance", desc := "(I)I" } : Jvm.MethodName) prog_9_method_10_code (2 : Nat) (Option.some FieldType.int)) ∈ lw_tbl := List.mem_of_getElem? (i := 974) (by decide +kernel)
theorem k_938 : (Jvm.Cond.methodLink "CallLedgerLaw" (81 : Nat) ({ cls := "CallLedgerModel", name := "storage", desc := "(II)I" } : Jvm.MethodName)) ∈ lw_tbl := List.mem_of_getElem? (i := 975) (by decide +kernel)
theorem k_939 : (Jvm.Cond.instanceMethod ({ cls := "CallLedgerModel", name := "storage", desc := "(II)I" } : Jvm.MethodName)) ∈ lw_tbl := List.mem_of_getElem? (i := 976) (by decide +kernel)
theorem k_940 : (Jvm.Cond.selects "CallLedgerModel" ({ cls := "CallLedgerModel", name := "storage", desc := "(II)I" } : Jvm.MethodName) ({ cls := "CallLedgerModel", name := "storage", desc := "(II)I" } : Jvm.MethodName)) ∈ lw_tbl := List.mem_of_getElem? (i := 977) (by decide +kernel)
theorem k_941 : (Jvm.Cond.code ({ cls := "CallLedgerModel", name := "storage", desc := "(II)I" } : Jvm.MethodName) prog_9_method_14_code (3 : Nat) (Option.some FieldType.int)) ∈ lw_tbl := List.mem_of_getElem? (i := 978) (by decide +kernel)
theorem k_942 : (Jvm.Cond.methodLink "CallLedgerModel" (114 : Nat) ({ cls := "CallLedgerModel", name := "stored", desc := "(II)I" } : Jvm.MethodName)) ∈ lw_tbl := List.mem_of_getElem? (i := 979) (by decide +kernel)
theorem k_943 : (Jvm.Cond.privateMethod ({ cls := "CallLedgerModel", name := "stored", desc := "(II)I" } : Jvm.MethodName)) ∈ lw_tbl := List.mem_of_getElem? (i := 980) (by decide +kernel)
theorem k_944 : (Jvm.Cond.instanceMethod ({ cls := "CallLedgerModel", name := "stored", desc := "(II)I" } : Jvm.MethodName)) ∈ lw_tbl := List.mem_of_getElem? (i := 981) (by decide +kernel)
theorem k_945 : (Jvm.Cond.code ({ cls := "CallLedgerModel", name := "stored", desc := "(II)I" } : Jvm.MethodName) prog_9_method_12_code (4 : Nat) (Option.some FieldType.int)) ∈ lw_tbl := List.mem_of_getElem? (i := 982) (by decide +kernel)
theorem k_946 : (Jvm.Cond.methodLink "CallLedgerModel" (110 : Nat) ({ cls := "CallLedgerModel", name := "keyOf", desc := "(II)I" } : Jvm.MethodName)) ∈ lw_tbl := List.mem_of_getElem? (i := 983) (by decide +kernel)
theorem k_947 : (Jvm.Cond.privateMethod ({ cls := "CallLedgerModel", name := "keyOf", desc := "(II)I" } : Jvm.MethodName)) ∈ lw_tbl := List.mem_of_getElem? (i := 984) (by decide +kernel)
theorem k_948 : (Jvm.Cond.instanceMethod ({ cls := "CallLedgerModel", name := "keyOf", desc := "(II)I" } : Jvm.MethodName)) ∈ lw_tbl := List.mem_of_getElem? (i := 985) (by decide +kernel)
theorem k_949 : (Jvm.Cond.code ({ cls := "CallLedgerModel", name := "keyOf", desc := "(II)I" } : Jvm.MethodName) prog_9_method_11_code (4 : Nat) (Option.some FieldType.int)) ∈ lw_tbl := List.mem_of_getElem? (i := 986) (by decide +kernel)
theorem k_950 : (Jvm.Cond.methodLink "CallLedgerLaw" (85 : Nat) ({ cls := "CallLedgerModel", name := "keys", desc := "()I" } : Jvm.MethodName)) ∈ lw_tbl := List.mem_of_getElem? (i := 987) (by decide +kernel)
theorem k_951 : (Jvm.Cond.instanceMethod ({ cls := "CallLedgerModel", name := "keys", desc := "()I" } : Jvm.MethodName)) ∈ lw_tbl := List.mem_of_getElem? (i := 988) (by decide +kernel)
theorem k_952 : (Jvm.Cond.selects "CallLedgerModel" ({ cls := "CallLedgerModel", name := "keys", desc := "()I" } : Jvm.MethodName) ({ cls := "CallLedgerModel", name := "keys", desc := "()I" } : Jvm.MethodName)) ∈ lw_tbl := List.mem_of_getElem? (i := 989) (by decide +kernel)
theorem k_953 : (Jvm.Cond.code ({ cls := "CallLedgerModel", name := "keys", desc := "()I" } : Jvm.MethodName) prog_9_method_15_code (1 : Nat) (Option.some FieldType.int)) ∈ lw_tbl := List.mem_of_getElem? (i := 990) (by decide +kernel)
theorem k_954 : (Jvm.Cond.methodLink "CallLedgerLaw" (89 : Nat) ({ cls := "CallLedgerModel", name := "logged", desc := "()I" } : Jvm.MethodName)) ∈ lw_tbl := List.mem_of_getElem? (i := 991) (by decide +kernel)
theorem k_955 : (Jvm.Cond.instanceMethod ({ cls := "CallLedgerModel", name := "logged", desc := "()I" } : Jvm.MethodName)) ∈ lw_tbl := List.mem_of_getElem? (i := 992) (by decide +kernel)
theorem k_956 : (Jvm.Cond.selects "CallLedgerModel" ({ cls := "CallLedgerModel", name := "logged", desc := "()I" } : Jvm.MethodName) ({ cls := "CallLedgerModel", name := "logged", desc := "()I" } : Jvm.MethodName)) ∈ lw_tbl := List.mem_of_getElem? (i := 993) (by decide +kernel)
theorem k_957 : (Jvm.Cond.code ({ cls := "CallLedgerModel", name := "logged", desc := "()I" } : Jvm.MethodName) prog_9_method_16_code (1 : Nat) (Option.some FieldType.int)) ∈ lw_tbl := List.mem_of_getElem? (i := 994) (by decide +kernel)
theorem k_958 : (Jvm.Cond.methodLink "CallLedgerLaw" (92 : Nat) ({ cls := "CallLedgerModel", name := "log", desc := "(I)I" } : Jvm.MethodName)) ∈ lw_tbl := List.mem_of_getElem? (i := 995) (by decide +kernel)
theorem k_959 : (Jvm.Cond.instanceMethod ({ cls := "CallLedgerModel", name := "log", desc := "(I)I" } : Jvm.MethodName)) ∈ lw_tbl := List.mem_of_getElem? (i := 996) (by decide +kernel)
theorem k_960 : (Jvm.Cond.selects "CallLedgerModel" ({ cls := "CallLedgerModel", name := "log", desc := "(I)I" } : Jvm.MethodName) ({ cls := "CallLedgerModel", name := "log", desc := "(I)I" } : Jvm.MethodName)) ∈ lw_tbl := List.mem_of_getElem? (i := 997) (by decide +kernel)
theorem k_961 : (Jvm.Cond.code ({ cls := "CallLedgerModel", name := "log", desc := "(I)I" } : Jvm.MethodName) prog_9_method_17_code (2 : Nat) (Option.some FieldType.int)) ∈ lw_tbl := List.mem_of_getElem? (i := 998) (by decide +kernel)
theorem k_962 : (Jvm.Cond.methodLink "CallLedgerLaw" (71 : Nat) ({ cls := "CallLedgerModel", name := "used", desc := "()I" } : Jvm.MethodName)) ∈ lw_tbl := List.mem_of_getElem? (i := 999) (by decide +kernel)
theorem k_963 : (Jvm.Cond.instanceMethod ({ cls := "CallLedgerModel", name := "used", desc := "()I" } : Jvm.MethodName)) ∈ lw_tbl := List.mem_of_getElem? (i := 1000) (by decide +kernel)
theorem k_964 : (Jvm.Cond.selects "CallLedgerModel" ({ cls := "CallLedgerModel", name := "used", desc := "()I" } : Jvm.MethodName) ({ cls := "CallLedgerModel", name := "used", desc := "()I" } : Jvm.MethodName)) ∈ lw_tbl := List.mem_of_getElem? (i := 1001) (by decide +kernel)
theorem k_965 : (Jvm.Cond.code ({ cls := "CallLedgerModel", name := "used", desc := "()I" } : Jvm.MethodName) prog_9_method_18_code (1 : Nat) (Option.some FieldType.int)) ∈ lw_tbl := List.mem_of_getElem? (i := 1002) (by decide +kernel)
theorem k_966 : (Jvm.Cond.methodLink "CallLedgerLaw" (75 : Nat) ({ cls := "CallLedgerModel", name := "result", desc := "()I" } : Jvm.MethodName)) ∈ lw_tbl := List.mem_of_getElem? (i := 1003) (by decide +kernel)
theorem k_967 : (Jvm.Cond.instanceMethod ({ cls := "CallLedgerModel", name := "result", desc := "()I" } : Jvm.MethodName)) ∈ lw_tbl := List.mem_of_getElem? (i := 1004) (by decide +kernel)
theorem k_968 : (Jvm.Cond.selects "CallLedgerModel" ({ cls := "CallLedgerModel", name := "result", desc := "()I" } : Jvm.MethodName) ({ cls := "CallLedgerModel", name := "result", desc := "()I" } : Jvm.MethodName)) ∈ lw_tbl := List.mem_of_getElem? (i := 1005) (by decide +kernel)
theorem k_969 : (Jvm.Cond.code ({ cls := "CallLedgerModel", name := "result", desc := "()I" } : Jvm.MethodName) prog_9_method_19_code (1 : Nat) (Option.some FieldType.int)) ∈ lw_tbl := List.mem_of_getElem? (i := 1006) (by decide +kernel)
theorem k_970 : (Jvm.Cond.methodLink "CallLedgerLaw" (67 : Nat) ({ cls := "CallLedgerModel", name := "transact", desc := "(IIII)I" } : Jvm.MethodName)) ∈ lw_tbl := List.mem_of_getElem? (i := 1007) (by decide +kernel)
theorem k_971 : (Jvm.Cond.instanceMethod ({ cls := "CallLedgerModel", name := "transact", desc := "(IIII)I" } : Jvm.MethodName)) ∈ lw_tbl := List.mem_of_getElem? (i := 1008) (by decide +kernel)
theorem k_972 : (Jvm.Cond.selects "CallLedgerModel" ({ cls := "CallLedgerModel", name := "transact", desc := "(IIII)I" } : Jvm.MethodName) ({ cls := "CallLedgerModel", name := "transact", desc := "(IIII)I" } : Jvm.MethodName)) ∈ lw_tbl := List.mem_of_getElem? (i := 1009) (by decide +kernel)
theorem k_973 : (Jvm.Cond.code ({ cls := "CallLedgerModel", name := "transact", desc := "(IIII)I" } : Jvm.MethodName) prog_9_method_36_code (6 : Nat) (Option.some FieldType.int)) ∈ lw_tbl := List.mem_of_getElem? (i := 1010) (by decide +kernel)
theorem k_974 : (Jvm.Cond.methodLink "CallLedgerModel" (152 : Nat) ({ cls := "CallLedgerModel", name := "begin", desc := "(IIII)V" } : Jvm.MethodName)) ∈ lw_tbl := List.mem_of_getElem? (i := 1011) (by decide +kernel)
theorem k_975 : (Jvm.Cond.privateMethod ({ cls := "CallLedgerModel", name := "begin", desc := "(IIII)V" } : Jvm.MethodName)) ∈ lw_tbl := List.mem_of_getElem? (i := 1012) (by decide +kernel)
theorem k_976 : (Jvm.Cond.instanceMethod ({ cls := "CallLedgerModel", name := "begin", desc := "(IIII)V" } : Jvm.MethodName)) ∈ lw_tbl := List.mem_of_getElem? (i := 1013) (by decide +kernel)
theorem k_977 : (Jvm.Cond.code ({ cls := "CallLedgerModel", name := "begin", desc := "(IIII)V" } : Jvm.MethodName) prog_9_method_20_code (6 : Nat) (Option.none : Option FieldType)) ∈ lw_tbl := List.mem_of_getElem? (i := 1014) (by decide +kernel)
theorem k_978 : (Jvm.Cond.methodLink "CallLedgerModel" (189 : Nat) ({ cls := "CallLedgerModel", name := "step", desc := "()V" } : Jvm.MethodName)) ∈ lw_tbl := List.mem_of_getElem? (i := 1015) (by decide +kernel)
theorem k_979 : (Jvm.Cond.privateMethod ({ cls := "CallLedgerModel", name := "step", desc := "()V" } : Jvm.MethodName)) ∈ lw_tbl := List.mem_of_getElem? (i := 1016) (by decide +kernel)
theorem k_980 : (Jvm.Cond.instanceMethod ({ cls := "CallLedgerModel", name := "step", desc := "()V" } : Jvm.MethodName)) ∈ lw_tbl := List.mem_of_getElem? (i := 1017) (by decide +kernel)
theorem k_981 : (Jvm.Cond.code ({ cls := "CallLedgerModel", name := "step", desc := "()V" } : Jvm.MethodName) prog_9_method_35_code (7 : Nat) (Option.none : Option FieldType)) ∈ lw_tbl := List.mem_of_getElem? (i := 1018) (by decide +kernel)
theorem k_982 : (Jvm.Cond.methodLink "CallLedgerModel" (163 : Nat) ({ cls := "CallLedgerModel", name := "end", desc := "(II)V" } : Jvm.MethodName)) ∈ lw_tbl := List.mem_of_getElem? (i := 1019) (by decide +kernel)
theorem k_983 : (Jvm.Cond.privateMethod ({ cls := "CallLedgerModel", name := "end", desc := "(II)V" } : Jvm.MethodName)) ∈ lw_tbl := List.mem_of_getElem? (i := 1020) (by decide +kernel)
theorem k_984 : (Jvm.Cond.instanceMethod ({ cls := "CallLedgerModel", name := "end", desc := "(II)V" } : Jvm.MethodName)) ∈ lw_tbl := List.mem_of_getElem? (i := 1021) (by decide +kernel)
theorem k_985 : (Jvm.Cond.code ({ cls := "CallLedgerModel", name := "end", desc := "(II)V" } : Jvm.MethodName) prog_9_method_25_code (5 : Nat) (Option.none : Option FieldType)) ∈ lw_tbl := List.mem_of_getElem? (i := 1022) (by decide +kernel)
theorem k_986 : (Jvm.Cond.methodLink "CallLedgerModel" (129 : Nat) ({ cls := "CallLedgerModel", name := "undo", desc := "()V" } : Jvm.MethodName)) ∈ lw_tbl := List.mem_of_getElem? (i := 1023) (by decide +kernel)
theorem k_987 : (Jvm.Cond.privateMethod ({ cls := "CallLedgerModel", name := "undo", desc := "()V" } : Jvm.MethodName)) ∈ lw_tbl := List.mem_of_getElem? (i := 1024) (by decide +kernel)
theorem k_988 : (Jvm.Cond.instanceMethod ({ cls := "CallLedgerModel", name := "undo", desc := "()V" } : Jvm.MethodName)) ∈ lw_tbl := List.mem_of_getElem? (i := 1025) (by decide +kernel)
theorem k_989 : (Jvm.Cond.code ({ cls := "CallLedgerModel", name := "undo", desc := "()V" } : Jvm.MethodName) prog_9_method_21_code (2 : Nat) (Option.none : Option FieldType)) ∈ lw_tbl := List.mem_of_getElem? (i := 1026) (by decide +kernel)
theorem k_990 : (Jvm.Cond.methodLink "CallLedgerModel" (138 : Nat) ({ cls := "CallLedgerModel", name := "push", desc := "(I)V" } : Jvm.MethodName)) ∈ lw_tbl := List.mem_of_getElem? (i := 1027) (by decide +kernel)
theorem k_991 : (Jvm.Cond.privateMethod ({ cls := "CallLedgerModel", name := "push", desc := "(I)V" } : Jvm.MethodName)) ∈ lw_tbl := List.mem_of_getElem? (i := 1028) (by decide +kernel)
theorem k_992 : (Jvm.Cond.instanceMethod ({ cls := "CallLedgerModel", name := "push", desc := "(I)V" } : Jvm.MethodName)) ∈ lw_tbl := List.mem_of_getElem? (i := 1029) (by decide +kernel)
theorem k_993 : (Jvm.Cond.code ({ cls := "CallLedgerModel", name := "push", desc := "(I)V" } : Jvm.MethodName) prog_9_method_22_code (2 : Nat) (Option.none : Option FieldType)) ∈ lw_tbl := List.mem_of_getElem? (i := 1030) (by decide +kernel)
theorem k_994 : (Jvm.Cond.methodLink "CallLedgerModel" (177 : Nat) ({ cls := "CallLedgerModel", name := "price", desc := "(I)I" } : Jvm.MethodName)) ∈ lw_tbl := List.mem_of_getElem? (i := 1031) (by decide +kernel)
theorem k_995 : (Jvm.Cond.privateMethod ({ cls := "CallLedgerModel", name := "price", desc := "(I)I" } : Jvm.MethodName)) ∈ lw_tbl := List.mem_of_getElem? (i := 1032) (by decide +kernel)
theorem k_996 : (Jvm.Cond.instanceMethod ({ cls := "CallLedgerModel", name := "price", desc := "(I)I" } : Jvm.MethodName)) ∈ lw_tbl := List.mem_of_getElem? (i := 1033) (by decide +kernel)
theorem k_997 : (Jvm.Cond.code ({ cls := "CallLedgerModel", name := "price", desc := "(I)I" } : Jvm.MethodName) prog_9_method_27_code (4 : Nat) (Option.some FieldType.int)) ∈ lw_tbl := List.mem_of_getElem? (i := 1034) (by decide +kernel)
theorem k_998 : (Jvm.Cond.methodLink "CallLedgerModel" (142 : Nat) ({ cls := "CallLedgerModel", name := "below", desc := "(I)I" } : Jvm.MethodName)) ∈ lw_tbl := List.mem_of_getElem? (i := 1035) (by decide +kernel)
theorem k_999 : (Jvm.Cond.privateMethod ({ cls := "CallLedgerModel", name := "below", desc := "(I)I" } : Jvm.MethodName)) ∈ lw_tbl := List.mem_of_getElem? (i := 1036) (by decide +kernel)
theorem k_1000 : (Jvm.Cond.instanceMethod ({ cls := "CallLedgerModel", name := "below", desc := "(I)I" } : Jvm.MethodName)) ∈ lw_tbl := List.mem_of_getElem? (i := 1037) (by decide +kernel)
theorem k_1001 : (Jvm.Cond.code ({ cls := "CallLedgerModel", name := "below", desc := "(I)I" } : Jvm.MethodName) prog_9_method_24_code (2 : Nat) (Option.some FieldType.int)) ∈ lw_tbl := List.mem_of_getElem? (i := 1038) (by decide +kernel)
theorem k_1002 : (Jvm.Cond.methodLink "CallLedgerModel" (146 : Nat) ({ cls := "CallLedgerModel", name := "priceOf", desc := "(I)I" } : Jvm.MethodName)) ∈ lw_tbl := List.mem_of_getElem? (i := 1039) (by decide +kernel)
theorem k_1003 : (Jvm.Cond.static ({ cls := "CallLedgerModel", name := "priceOf", desc := "(I)I" } : Jvm.MethodName)) ∈ lw_tbl := List.mem_of_getElem? (i := 1040) (by decide +kernel)
theorem k_1004 : (Jvm.Cond.code ({ cls := "CallLedgerModel", name := "priceOf", desc := "(I)I" } : Jvm.MethodName) prog_9_method_26_code (1 : Nat) (Option.some FieldType.int)) ∈ lw_tbl := List.mem_of_getElem? (i := 1041) (by decide +kernel)
theorem k_1005 : (Jvm.Cond.methodLink "CallLedgerModel" (180 : Nat) ({ cls := "CallLedgerModel", name := "needs", desc := "(II)I" } : Jvm.MethodName)) ∈ lw_tbl := List.mem_of_getElem? (i := 1042) (by decide +kernel)
theorem k_1006 : (Jvm.Cond.static ({ cls := "CallLedgerModel", name := "needs", desc := "(II)I" } : Jvm.MethodName)) ∈ lw_tbl := List.mem_of_getElem? (i := 1043) (by decide +kernel)
theorem k_1007 : (Jvm.Cond.code ({ cls := "CallLedgerModel", name := "needs", desc := "(II)I" } : Jvm.MethodName) prog_9_method_28_code (2 : Nat) (Option.some FieldType.int)) ∈ lw_tbl := List.mem_of_getElem? (i := 1044) (by decide +kernel)
theorem k_1008 : (Jvm.Cond.methodLink "CallLedgerModel" (183 : Nat) ({ cls := "CallLedgerModel", name := "leaves", desc := "(II)I" } : Jvm.MethodName)) ∈ lw_tbl := List.mem_of_getElem? (i := 1045) (by decide +kernel)
theorem k_1009 : (Jvm.Cond.static ({ cls := "CallLedgerModel", name := "leaves", desc := "(II)I" } : Jvm.MethodName)) ∈ lw_tbl := List.mem_of_getElem? (i := 1046) (by decide +kernel)
theorem k_1010 : (Jvm.Cond.code ({ cls := "CallLedgerModel", name := "leaves", desc := "(II)I" } : Jvm.MethodName) prog_9_method_29_code (2 : Nat) (Option.some FieldType.int)) ∈ lw_tbl := List.mem_of_getElem? (i := 1047) (by decide +kernel)
theorem k_1011 : (Jvm.Cond.methodLink "CallLedgerModel" (186 : Nat) ({ cls := "CallLedgerModel", name := "act", desc := "(II)V" } : Jvm.MethodName)) ∈ lw_tbl := List.mem_of_getElem? (i := 1048) (by decide +kernel)
theorem k_1012 : (Jvm.Cond.privateMethod ({ cls := "CallLedgerModel", name := "act", desc := "(II)V" } : Jvm.MethodName)) ∈ lw_tbl := List.mem_of_getElem? (i := 1049) (by decide +kernel)
theorem k_1013 : (Jvm.Cond.instanceMethod ({ cls := "CallLedgerModel", name := "act", desc := "(II)V" } : Jvm.MethodName)) ∈ lw_tbl := List.mem_of_getElem? (i := 1050) (by decide +kernel)
theorem k_1014 : (Jvm.Cond.code ({ cls := "CallLedgerModel", name := "act", desc := "(II)V" } : Jvm.MethodName) prog_9_method_34_code (5 : Nat) (Option.none : Option FieldType)) ∈ lw_tbl := List.mem_of_getElem? (i := 1051) (by decide +kernel)
theorem k_1015 : (Jvm.Cond.methodLink "CallLedgerModel" (149 : Nat) ({ cls := "CallLedgerModel", name := "pop", desc := "()I" } : Jvm.MethodName)) ∈ lw_tbl := List.mem_of_getElem? (i := 1052) (by decide +kernel)
theorem k_1016 : (Jvm.Cond.privateMethod ({ cls := "CallLedgerModel", name := "pop", desc := "()I" } : Jvm.MethodName)) ∈ lw_tbl := List.mem_of_getElem? (i := 1053) (by decide +kernel)
theorem k_1017 : (Jvm.Cond.instanceMethod ({ cls := "CallLedgerModel", name := "pop", desc := "()I" } : Jvm.MethodName)) ∈ lw_tbl := List.mem_of_getElem? (i := 1054) (by decide +kernel)
theorem k_1018 : (Jvm.Cond.code ({ cls := "CallLedgerModel", name := "pop", desc := "()I" } : Jvm.MethodName) prog_9_method_23_code (1 : Nat) (Option.some FieldType.int)) ∈ lw_tbl := List.mem_of_getElem? (i := 1055) (by decide +kernel)
theorem k_1019 : (Jvm.Cond.methodLink "CallLedgerModel" (167 : Nat) ({ cls := "CallLedgerModel", name := "call", desc := "(I)V" } : Jvm.MethodName)) ∈ lw_tbl := List.mem_of_getElem? (i := 1056) (by decide +kernel)
theorem k_1020 : (Jvm.Cond.privateMethod ({ cls := "CallLedgerModel", name := "call", desc := "(I)V" } : Jvm.MethodName)) ∈ lw_tbl := List.mem_of_getElem? (i := 1057) (by decide +kernel)
theorem k_1021 : (Jvm.Cond.instanceMethod ({ cls := "CallLedgerModel", name := "call", desc := "(I)V" } : Jvm.MethodName)) ∈ lw_tbl := List.mem_of_getElem? (i := 1058) (by decide +kernel)
theorem k_1022 : (Jvm.Cond.code ({ cls := "CallLedgerModel", name := "call", desc := "(I)V" } : Jvm.MethodName) prog_9_method_31_code (9 : Nat) (Option.none : Option FieldType)) ∈ lw_tbl := List.mem_of_getElem? (i := 1059) (by decide +kernel)
theorem k_1023 : (Jvm.Cond.methodLink "CallLedgerModel" (170 : Nat) ({ cls := "CallLedgerModel", name := "store", desc := "(III)V" } : Jvm.MethodName)) ∈ lw_tbl := List.mem_of_getElem? (i := 1060) (by decide +kernel)
theorem k_1024 : (Jvm.Cond.privateMethod ({ cls := "CallLedgerModel", name := "store", desc := "(III)V" } : Jvm.MethodName)) ∈ lw_tbl := List.mem_of_getElem? (i := 1061) (by decide +kernel)
theorem k_1025 : (Jvm.Cond.instanceMethod ({ cls := "CallLedgerModel", name := "store", desc := "(III)V" } : Jvm.MethodName)) ∈ lw_tbl := List.mem_of_getElem? (i := 1062) (by decide +kernel)
theorem k_1026 : (Jvm.Cond.code ({ cls := "CallLedgerModel", name := "store", desc := "(III)V" } : Jvm.MethodName) prog_9_method_13_code (5 : Nat) (Option.none : Option FieldType)) ∈ lw_tbl := List.mem_of_getElem? (i := 1063) (by decide +kernel)
theorem k_1027 : (Jvm.Cond.methodLink "CallLedgerModel" (174 : Nat) ({ cls := "CallLedgerModel", name := "simple", desc := "(II)V" } : Jvm.MethodName)) ∈ lw_tbl := List.mem_of_getElem? (i := 1064) (by decide +kernel)
theorem k_1028 : (Jvm.Cond.privateMethod ({ cls := "CallLedgerModel", name := "simple", desc := "(II)V" } : Jvm.MethodName)) ∈ lw_tbl := List.mem_of_getElem? (i := 1065) (by decide +kernel)
theorem k_1029 : (Jvm.Cond.instanceMethod ({ cls := "CallLedgerModel", name := "simple", desc := "(II)V" } : Jvm.MethodName)) ∈ lw_tbl := List.mem_of_getElem? (i := 1066) (by decide +kernel)
theorem k_1030 : (Jvm.Cond.code ({ cls := "CallLedgerModel", name := "simple", desc := "(II)V" } : Jvm.MethodName) prog_9_method_33_code (5 : Nat) (Option.none : Option FieldType)) ∈ lw_tbl := List.mem_of_getElem? (i := 1067) (by decide +kernel)
theorem k_1031 : (Jvm.Cond.methodLink "CallLedgerModel" (156 : Nat) ({ cls := "CallLedgerModel", name := "swap", desc := "(I)V" } : Jvm.MethodName)) ∈ lw_tbl := List.mem_of_getElem? (i := 1068) (by decide +kernel)
theorem k_1032 : (Jvm.Cond.privateMethod ({ cls := "CallLedgerModel", name := "swap", desc := "(I)V" } : Jvm.MethodName)) ∈ lw_tbl := List.mem_of_getElem? (i := 1069) (by decide +kernel)
theorem k_1033 : (Jvm.Cond.instanceMethod ({ cls := "CallLedgerModel", name := "swap", desc := "(I)V" } : Jvm.MethodName)) ∈ lw_tbl := List.mem_of_getElem? (i := 1070) (by decide +kernel)
theorem k_1034 : (Jvm.Cond.code ({ cls := "CallLedgerModel", name := "swap", desc := "(I)V" } : Jvm.MethodName) prog_9_method_32_code (4 : Nat) (Option.none : Option FieldType)) ∈ lw_tbl := List.mem_of_getElem? (i := 1071) (by decide +kernel)
theorem k_1035 : (Jvm.Cond.methodLink "CallLedgerModel" (159 : Nat) ({ cls := "CallLedgerModel", name := "made", desc := "(III)I" } : Jvm.MethodName)) ∈ lw_tbl := List.mem_of_getElem? (i := 1072) (by decide +kernel)
theorem k_1036 : (Jvm.Cond.static ({ cls := "CallLedgerModel", name := "made", desc := "(III)I" } : Jvm.MethodName)) ∈ lw_tbl := List.mem_of_getElem? (i := 1073) (by decide +kernel)
theorem k_1037 : (Jvm.Cond.code ({ cls := "CallLedgerModel", name := "made", desc := "(III)I" } : Jvm.MethodName) prog_9_method_30_code (3 : Nat) (Option.some FieldType.int)) ∈ lw_tbl := List.mem_of_getElem? (i := 1074) (by decide +kernel)
theorem k_1038 : (Jvm.Cond.sameMethod "java/lang/Throwable" "java/lang/Throwable" "fillInStackTrace" "(I)Ljava/lang/Throwable;") ∈ lw_tbl := List.mem_of_getElem? (i := 1075) (by decide +kernel)
theorem k_1039 : (Jvm.Cond.castable "java/lang/ArrayIndexOutOfBoundsException" "java/lang/IndexOutOfBoundsException") ∈ lw_tbl := List.mem_of_getElem? (i := 1076) (by decide +kernel)
theorem k_1040 : (Jvm.Cond.castable "CallLedger$Account" "CallLedger$Account") ∈ lw_tbl := List.mem_of_getElem? (i := 1077) (by decide +kernel)
theorem k_1041 : (Jvm.Cond.sameMethod "[Ljava/lang/Object;" "java/lang/Object" "getClass" "()Ljava/lang/Class;") ∈ lw_tbl := List.mem_of_getElem? (i := 1078) (by decide +kernel)
theorem k_1042 : (Jvm.Cond.selects "[Ljava/lang/Object;" ({ cls := "java/lang/Object", name := "getClass", desc := "()Ljava/lang/Class;" } : Jvm.MethodName) ({ cls := "java/lang/Object", name := "getClass", desc := "()Ljava/lang/Class;" } : Jvm.MethodName)) ∈ lw_tbl := List.mem_of_getElem? (i := 1079) (by decide +kernel)
theorem k_1043 : (Jvm.Cond.declares ({ cls := "java/lang/Object", name := "getClass", desc := "()Ljava/lang/Class;" } : Jvm.MethodName)) ∈ lw_tbl := List.mem_of_getElem? (i := 1080) (by decide +kernel)
theorem k_1044 : (Jvm.Cond.castable "CallLedger" "java/lang/Object") ∈ lw_tbl := List.mem_of_getElem? (i := 1081) (by decide +kernel)
theorem k_1045 : (Jvm.Cond.castable "CallLedger$Book" "java/lang/Object") ∈ lw_tbl := List.mem_of_getElem? (i := 1082) (by decide +kernel)
theorem k_1046 : (Jvm.Cond.castable "CallLedger$Table" "java/lang/Object") ∈ lw_tbl := List.mem_of_getElem? (i := 1083) (by decide +kernel)
theorem k_1047 : (Jvm.Cond.castable "CallLedger$Journal" "java/lang/Object") ∈ lw_tbl := List.mem_of_getElem? (i := 1084) (by decide +kernel)
theorem k_1048 : (Jvm.Cond.castable "CallLedger$Run" "java/lang/Object") ∈ lw_tbl := List.mem_of_getElem? (i := 1085) (by decide +kernel)
theorem k_1049 : (Jvm.Cond.castable "CallLedgerModel" "java/lang/Object") ∈ lw_tbl := List.mem_of_getElem? (i := 1086) (by decide +kernel)
theorem k_1050 : (Jvm.Cond.castable "CallLedger$Account" "java/lang/Object") ∈ lw_tbl := List.mem_of_getElem? (i := 1087) (by decide +kernel)
theorem k_1051 : (Jvm.Cond.castable "CallLedger$Instruction" "java/lang/Object") ∈ lw_tbl := List.mem_of_getElem? (i := 1088) (by decide +kernel)
theorem k_1052 : (Jvm.Cond.castable "java/lang/String" "java/lang/Object") ∈ lw_tbl := List.mem_of_getElem? (i := 1089) (by decide +kernel)
theorem k_1053 : (Jvm.Cond.fieldLink "java/lang/Enum" (7 : Nat) "java/lang/Enum" "ordinal" "I") ∈ lw_tbl := List.mem_of_getElem? (i := 1090) (by decide +kernel)
theorem k_1054 : (Jvm.Cond.fieldLinkNest "CallLedger$Run" (75 : Nat) "CallLedger$Instruction" "price" "I" "CallLedger") ∈ lw_tbl := List.mem_of_getElem? (i := 1091) (by decide +kernel)
theorem k_1055 : (Jvm.Cond.fieldLink "CallLedger$Instruction" (115 : Nat) "CallLedger$Instruction" "needs" "I") ∈ lw_tbl := List.mem_of_getElem? (i := 1092) (by decide +kernel)
theorem k_1056 : (Jvm.Cond.fieldLinkNest "CallLedger$Run" (161 : Nat) "CallLedger$Instruction" "more" "I" "CallLedger") ∈ lw_tbl := List.mem_of_getElem? (i := 1093) (by decide +kernel)
theorem k_1057 : (Jvm.Cond.laysStatic "CallLedger$Instruction" "END" "LCallLedger$Instruction;") ∈ lw_tbl := List.mem_of_getElem? (i := 1094) (by decide +kernel)
theorem k_1058 : (Jvm.Cond.laysStatic "CallLedger$Instruction" "PUSH" "LCallLedger$Instruction;") ∈ lw_tbl := List.mem_of_getElem? (i := 1095) (by decide +kernel)
theorem k_1059 : (Jvm.Cond.laysStatic "CallLedger$Instruction" "POP" "LCallLedger$Instruction;") ∈ lw_tbl := List.mem_of_getElem? (i := 1096) (by decide +kernel)
theorem k_1060 : (Jvm.Cond.laysStatic "CallLedger$Instruction" "COPY" "LCallLedger$Instruction;") ∈ lw_tbl := List.mem_of_getElem? (i := 1097) (by decide +kernel)
theorem k_1061 : (Jvm.Cond.laysStatic "CallLedger$Instruction" "SWAP" "LCallLedger$Instruction;") ∈ lw_tbl := List.mem_of_getElem? (i := 1098) (by decide +kernel)
theorem k_1062 : (Jvm.Cond.laysStatic "CallLedger$Instruction" "ADD" "LCallLedger$Instruction;") ∈ lw_tbl := List.mem_of_getElem? (i := 1099) (by decide +kernel)
theorem k_1063 : (Jvm.Cond.laysStatic "CallLedger$Instruction" "SUB" "LCallLedger$Instruction;") ∈ lw_tbl := List.mem_of_getElem? (i := 1100) (by decide +kernel)
theorem k_1064 : (Jvm.Cond.laysStatic "CallLedger$Instruction" "MUL" "LCallLedger$Instruction;") ∈ lw_tbl := List.mem_of_getElem? (i := 1101) (by decide +kernel)
theorem k_1065 : (Jvm.Cond.laysStatic "CallLedger$Instruction" "DIV" "LCallLedger$Instruction;") ∈ lw_tbl := List.mem_of_getElem? (i := 1102) (by decide +kernel)
theorem k_1066 : (Jvm.Cond.laysStatic "CallLedger$Instruction" "REM" "LCallLedger$Instruction;") ∈ lw_tbl := List.mem_of_getElem? (i := 1103) (by decide +kernel)
theorem k_1067 : (Jvm.Cond.laysStatic "CallLedger$Instruction" "LESS" "LCallLedger$Instruction;") ∈ lw_tbl := List.mem_of_getElem? (i := 1104) (by decide +kernel)
theorem k_1068 : (Jvm.Cond.laysStatic "CallLedger$Instruction" "SAME" "LCallLedger$Instruction;") ∈ lw_tbl := List.mem_of_getElem? (i := 1105) (by decide +kernel)
theorem k_1069 : (Jvm.Cond.laysStatic "CallLedger$Instruction" "NOT" "LCallLedger$Instruction;") ∈ lw_tbl := List.mem_of_getElem? (i := 1106) (by decide +kernel)
theorem k_1070 : (Jvm.Cond.laysStatic "CallLedger$Instruction" "AND" "LCallLedger$Instruction;") ∈ lw_tbl := List.mem_of_getElem? (i := 1107) (by decide +kernel)
theorem k_1071 : (Jvm.Cond.laysStatic "CallLedger$Instruction" "OR" "LCallLedger$Instruction;") ∈ lw_tbl := List.mem_of_getElem? (i := 1108) (by decide +kernel)
theorem k_1072 : (Jvm.Cond.laysStatic "CallLedger$Instruction" "XOR" "LCallLedger$Instruction;") ∈ lw_tbl := List.mem_of_getElem? (i := 1109) (by decide +kernel)
theorem k_1073 : (Jvm.Cond.laysStatic "CallLedger$Instruction" "JUMP" "LCallLedger$Instruction;") ∈ lw_tbl := List.mem_of_getElem? (i := 1110) (by decide +kernel)
theorem k_1074 : (Jvm.Cond.laysStatic "CallLedger$Instruction" "JUMP_IF" "LCallLedger$Instruction;") ∈ lw_tbl := List.mem_of_getElem? (i := 1111) (by decide +kernel)
theorem k_1075 : (Jvm.Cond.laysStatic "CallLedger$Instruction" "LOAD" "LCallLedger$Instruction;") ∈ lw_tbl := List.mem_of_getElem? (i := 1112) (by decide +kernel)
theorem k_1076 : (Jvm.Cond.laysStatic "CallLedger$Instruction" "ARGUMENT" "LCallLedger$Instruction;") ∈ lw_tbl := List.mem_of_getElem? (i := 1113) (by decide +kernel)
theorem k_1077 : (Jvm.Cond.laysStatic "CallLedger$Instruction" "CALLER" "LCallLedger$Instruction;") ∈ lw_tbl := List.mem_of_getElem? (i := 1114) (by decide +kernel)
theorem k_1078 : (Jvm.Cond.laysStatic "CallLedger$Instruction" "VALUE" "LCallLedger$Instruction;") ∈ lw_tbl := List.mem_of_getElem? (i := 1115) (by decide +kernel)
theorem k_1079 : (Jvm.Cond.laysStatic "CallLedger$Instruction" "SELF" "LCallLedger$Instruction;") ∈ lw_tbl := List.mem_of_getElem? (i := 1116) (by decide +kernel)
theorem k_1080 : (Jvm.Cond.laysStatic "CallLedger$Instruction" "BALANCE" "LCallLedger$Instruction;") ∈ lw_tbl := List.mem_of_getElem? (i := 1117) (by decide +kernel)
theorem k_1081 : (Jvm.Cond.laysStatic "CallLedger$Instruction" "LOG" "LCallLedger$Instruction;") ∈ lw_tbl := List.mem_of_getElem? (i := 1118) (by decide +kernel)
theorem k_1082 : (Jvm.Cond.laysStatic "CallLedger$Instruction" "RETURN" "LCallLedger$Instruction;") ∈ lw_tbl := List.mem_of_getElem? (i := 1119) (by decide +kernel)
theorem k_1083 : (Jvm.Cond.laysStatic "CallLedger$Instruction" "GAS" "LCallLedger$Instruction;") ∈ lw_tbl := List.mem_of_getElem? (i := 1120) (by decide +kernel)
theorem k_1084 : (Jvm.Cond.laysStatic "CallLedger$Instruction" "REVERT" "LCallLedger$Instruction;") ∈ lw_tbl := List.mem_of_getElem? (i := 1121) (by decide +kernel)
theorem ks_0 : Cond.selects "java/lang/Throwable" (⟨"java/lang/Throwable", "fillInStackTrace", "(I)Ljava/lang/Throwable;"⟩ : MethodName) (⟨"java/lang/Throwable", "fillInStackTrace", "(I)Ljava/lang/Throwable;"⟩ : MethodName) ∈ lw_tbl := List.mem_of_getElem? (i := 0) (by decide +kernel)
theorem ks_1 : Cond.selects "java/util/ArrayList" (⟨"java/util/ArrayList", "add", "(Ljava/lang/Object;[Ljava/lang/Object;I)V"⟩ : MethodName) (⟨"java/util/ArrayList", "add", "(Ljava/lang/Object;[Ljava/lang/Object;I)V"⟩ : MethodName) ∈ lw_tbl := List.mem_of_getElem? (i := 1) (by decide +kernel)
theorem ks_2 : Cond.selects "java/util/ArrayList" (⟨"java/util/ArrayList", "grow", "()[Ljava/lang/Object;"⟩ : MethodName) (⟨"java/util/ArrayList", "grow", "()[Ljava/lang/Object;"⟩ : MethodName) ∈ lw_tbl := List.mem_of_getElem? (i := 2) (by decide +kernel)
theorem ks_3 : Cond.selects "java/util/ArrayList" (⟨"java/util/ArrayList", "grow", "(I)[Ljava/lang/Object;"⟩ : MethodName) (⟨"java/util/ArrayList", "grow", "(I)[Ljava/lang/Object;"⟩ : MethodName) ∈ lw_tbl := List.mem_of_getElem? (i := 3) (by decide +kernel)
theorem ks_4 : Cond.selects "CallLedger" (⟨"CallLedger", "account", "(I)LCallLedger$Account;"⟩ : MethodName) (⟨"CallLedger", "account", "(I)LCallLedger$Account;"⟩ : MethodName) ∈ lw_tbl := List.mem_of_getElem? (i := 4) (by decide +kernel)
theorem ks_5 : Cond.selects "CallLedger$Run" (⟨"CallLedger$Run", "goOn", "()V"⟩ : MethodName) (⟨"CallLedger$Run", "goOn", "()V"⟩ : MethodName) ∈ lw_tbl := List.mem_of_getElem? (i := 5) (by decide +kernel)
theorem ks_6 : Cond.selects "CallLedger$Run" (⟨"CallLedger$Run", "ends", "(II)V"⟩ : MethodName) (⟨"CallLedger$Run", "ends", "(II)V"⟩ : MethodName) ∈ lw_tbl := List.mem_of_getElem? (i := 6) (by decide +kernel)
theorem ks_7 : Cond.selects "CallLedger$Run" (⟨"CallLedger$Run", "step", "(LCallLedger$Account;)V"⟩ : MethodName) (⟨"CallLedger$Run", "step", "(LCallLedger$Account;)V"⟩ : MethodName) ∈ lw_tbl := List.mem_of_getElem? (i := 7) (by decide +kernel)
theorem ks_8 : Cond.selects "CallLedger$Run" (⟨"CallLedger$Run", "price", "(LCallLedger$Instruction;)I"⟩ : MethodName) (⟨"CallLedger$Run", "price", "(LCallLedger$Instruction;)I"⟩ : MethodName) ∈ lw_tbl := List.mem_of_getElem? (i := 8) (by decide +kernel)
theorem ks_9 : Cond.selects "CallLedger$Run" (⟨"CallLedger$Run", "peek", "(I)I"⟩ : MethodName) (⟨"CallLedger$Run", "peek", "(I)I"⟩ : MethodName) ∈ lw_tbl := List.mem_of_getElem? (i := 9) (by decide +kernel)
theorem ks_10 : Cond.selects "CallLedger$Table" (⟨"CallLedger$Table", "find", "(J)I"⟩ : MethodName) (⟨"CallLedger$Table", "find", "(J)I"⟩ : MethodName) ∈ lw_tbl := List.mem_of_getElem? (i := 10) (by decide +kernel)
theorem ks_11 : Cond.selects "CallLedger$Run" (⟨"CallLedger$Run", "trap", "(I)V"⟩ : MethodName) (⟨"CallLedger$Run", "trap", "(I)V"⟩ : MethodName) ∈ lw_tbl := List.mem_of_getElem? (i := 11) (by decide +kernel)
theorem ks_12 : Cond.selects "CallLedger$Run" (⟨"CallLedger$Run", "act", "(LCallLedger$Instruction;I)V"⟩ : MethodName) (⟨"CallLedger$Run", "act", "(LCallLedger$Instruction;I)V"⟩ : MethodName) ∈ lw_tbl := List.mem_of_getElem? (i := 12) (by decide +kernel)
theorem ks_13 : Cond.selects "CallLedger$Run" (⟨"CallLedger$Run", "push", "(I)V"⟩ : MethodName) (⟨"CallLedger$Run", "push", "(I)V"⟩ : MethodName) ∈ lw_tbl := List.mem_of_getElem? (i := 13) (by decide +kernel)
theorem ks_14 : Cond.selects "CallLedger$Run" (⟨"CallLedger$Run", "swap", "(I)V"⟩ : MethodName) (⟨"CallLedger$Run", "swap", "(I)V"⟩ : MethodName) ∈ lw_tbl := List.mem_of_getElem? (i := 14) (by decide +kernel)
theorem ks_15 : Cond.selects "CallLedger$Run" (⟨"CallLedger$Run", "pop", "()I"⟩ : MethodName) (⟨"CallLedger$Run", "pop", "()I"⟩ : MethodName) ∈ lw_tbl := List.mem_of_getElem? (i := 15) (by decide +kernel)
theorem ks_16 : Cond.selects "CallLedger$Run" (⟨"CallLedger$Run", "store", "()V"⟩ : MethodName) (⟨"CallLedger$Run", "store", "()V"⟩ : MethodName) ∈ lw_tbl := List.mem_of_getElem? (i := 16) (by decide +kernel)
theorem ks_17 : Cond.selects "CallLedger$Book" (⟨"CallLedger$Book", "set", "(III)V"⟩ : MethodName) (⟨"CallLedger$Book", "set", "(III)V"⟩ : MethodName) ∈ lw_tbl := List.mem_of_getElem? (i := 17) (by decide +kernel)
theorem ks_18 : Cond.selects "CallLedger$Table" (⟨"CallLedger$Table", "sweep", "()V"⟩ : MethodName) (⟨"CallLedger$Table", "sweep", "()V"⟩ : MethodName) ∈ lw_tbl := List.mem_of_getElem? (i := 18) (by decide +kernel)
theorem ks_19 : Cond.selects "CallLedger$Table" (⟨"CallLedger$Table", "add", "(JI)V"⟩ : MethodName) (⟨"CallLedger$Table", "add", "(JI)V"⟩ : MethodName) ∈ lw_tbl := List.mem_of_getElem? (i := 19) (by decide +kernel)
theorem ks_20 : Cond.selects "CallLedger$Run" (⟨"CallLedger$Run", "call", "(I)V"⟩ : MethodName) (⟨"CallLedger$Run", "call", "(I)V"⟩ : MethodName) ∈ lw_tbl := List.mem_of_getElem? (i := 20) (by decide +kernel)
theorem ks_21 : Cond.selects "CallLedgerModel" (⟨"CallLedgerModel", "noAccount", "(I)Z"⟩ : MethodName) (⟨"CallLedgerModel", "noAccount", "(I)Z"⟩ : MethodName) ∈ lw_tbl := List.mem_of_getElem? (i := 21) (by decide +kernel)
theorem ks_22 : Cond.selects "CallLedgerModel" (⟨"CallLedgerModel", "stored", "(II)I"⟩ : MethodName) (⟨"CallLedgerModel", "stored", "(II)I"⟩ : MethodName) ∈ lw_tbl := List.mem_of_getElem? (i := 22) (by decide +kernel)
theorem ks_23 : Cond.selects "CallLedgerModel" (⟨"CallLedgerModel", "keyOf", "(II)I"⟩ : MethodName) (⟨"CallLedgerModel", "keyOf", "(II)I"⟩ : MethodName) ∈ lw_tbl := List.mem_of_getElem? (i := 23) (by decide +kernel)
theorem ks_24 : Cond.selects "CallLedgerModel" (⟨"CallLedgerModel", "begin", "(IIII)V"⟩ : MethodName) (⟨"CallLedgerModel", "begin", "(IIII)V"⟩ : MethodName) ∈ lw_tbl := List.mem_of_getElem? (i := 24) (by decide +kernel)
theorem ks_25 : Cond.selects "CallLedgerModel" (⟨"CallLedgerModel", "step", "()V"⟩ : MethodName) (⟨"CallLedgerModel", "step", "()V"⟩ : MethodName) ∈ lw_tbl := List.mem_of_getElem? (i := 25) (by decide +kernel)
theorem ks_26 : Cond.selects "CallLedgerModel" (⟨"CallLedgerModel", "end", "(II)V"⟩ : MethodName) (⟨"CallLedgerModel", "end", "(II)V"⟩ : MethodName) ∈ lw_tbl := List.mem_of_getElem? (i := 26) (by decide +kernel)
theorem ks_27 : Cond.selects "CallLedgerModel" (⟨"CallLedgerModel", "undo", "()V"⟩ : MethodName) (⟨"CallLedgerModel", "undo", "()V"⟩ : MethodName) ∈ lw_tbl := List.mem_of_getElem? (i := 27) (by decide +kernel)
theorem ks_28 : Cond.selects "CallLedgerModel" (⟨"CallLedgerModel", "push", "(I)V"⟩ : MethodName) (⟨"CallLedgerModel", "push", "(I)V"⟩ : MethodName) ∈ lw_tbl := List.mem_of_getElem? (i := 28) (by decide +kernel)
theorem ks_29 : Cond.selects "CallLedgerModel" (⟨"CallLedgerModel", "price", "(I)I"⟩ : MethodName) (⟨"CallLedgerModel", "price", "(I)I"⟩ : MethodName) ∈ lw_tbl := List.mem_of_getElem? (i := 29) (by decide +kernel)
theorem ks_30 : Cond.selects "CallLedgerModel" (⟨"CallLedgerModel", "below", "(I)I"⟩ : MethodName) (⟨"CallLedgerModel", "below", "(I)I"⟩ : MethodName) ∈ lw_tbl := List.mem_of_getElem? (i := 30) (by decide +kernel)
theorem ks_31 : Cond.selects "CallLedgerModel" (⟨"CallLedgerModel", "act", "(II)V"⟩ : MethodName) (⟨"CallLedgerModel", "act", "(II)V"⟩ : MethodName) ∈ lw_tbl := List.mem_of_getElem? (i := 31) (by decide +kernel)
theorem ks_32 : Cond.selects "CallLedgerModel" (⟨"CallLedgerModel", "pop", "()I"⟩ : MethodName) (⟨"CallLedgerModel", "pop", "()I"⟩ : MethodName) ∈ lw_tbl := List.mem_of_getElem? (i := 32) (by decide +kernel)
theorem ks_33 : Cond.selects "CallLedgerModel" (⟨"CallLedgerModel", "call", "(I)V"⟩ : MethodName) (⟨"CallLedgerModel", "call", "(I)V"⟩ : MethodName) ∈ lw_tbl := List.mem_of_getElem? (i := 33) (by decide +kernel)
theorem ks_34 : Cond.selects "CallLedgerModel" (⟨"CallLedgerModel", "store", "(III)V"⟩ : MethodName) (⟨"CallLedgerModel", "store", "(III)V"⟩ : MethodName) ∈ lw_tbl := List.mem_of_getElem? (i := 34) (by decide +kernel)
theorem ks_35 : Cond.selects "CallLedgerModel" (⟨"CallLedgerModel", "simple", "(II)V"⟩ : MethodName) (⟨"CallLedgerModel", "simple", "(II)V"⟩ : MethodName) ∈ lw_tbl := List.mem_of_getElem? (i := 35) (by decide +kernel)
theorem ks_36 : Cond.selects "CallLedgerModel" (⟨"CallLedgerModel", "swap", "(I)V"⟩ : MethodName) (⟨"CallLedgerModel", "swap", "(I)V"⟩ : MethodName) ∈ lw_tbl := List.mem_of_getElem? (i := 36) (by decide +kernel)
theorem fk_0_0 : x_dk (x_F 0 0).2.2.1 = 2 := by decide +kernel
theorem fk_0_1 : x_dk (x_F 0 1).2.2.1 = 2 := by decide +kernel
theorem fk_0_2 : x_dk (x_F 0 2).2.2.1 = 2 := by decide +kernel
theorem fk_0_3 : x_dk (x_F 0 3).2.2.1 = 2 := by decide +kernel
theorem fk_0_4 : x_dk (x_F 0 4).2.2.1 = 0 := by decide +kernel
theorem fk_0_5 : x_dk (x_F 0 5).2.2.1 = 0 := by decide +kernel
theorem fk_0_6 : x_dk (x_F 0 6).2.2.1 = 0 := by decide +kernel
theorem fk_1_0 : x_dk (x_F 1 0).2.2.1 = 2 := by decide +kernel
theorem fk_1_1 : x_dk (x_F 1 1).2.2.1 = 2 := by decide +kernel
theorem fk_1_2 : x_dk (x_F 1 2).2.2.1 = 2 := by decide +kernel
theorem fk_1_3 : x_dk (x_F 1 3).2.2.1 = 2 := by decide +kernel
theorem fk_1_4 : x_dk (x_F 1 4).2.2.1 = 0 := by decide +kernel
theorem fk_2_0 : x_dk (x_F 2 0).2.2.1 = 2 := by decide +kernel
theorem fk_2_1 : x_dk (x_F 2 1).2.2.1 = 0 := by decide +kernel
theorem fk_2_2 : x_dk (x_F 2 2).2.2.1 = 0 := by decide +kernel
theorem fk_3_0 : x_dk (x_F 3 0).2.2.1 = 2 := by decide +kernel
theorem fk_3_1 : x_dk (x_F 3 1).2.2.1 = 2 := by decide +kernel
theorem fk_3_2 : x_dk (x_F 3 2).2.2.1 = 2 := by decide +kernel
theorem fk_3_3 : x_dk (x_F 3 3).2.2.1 = 0 := by decide +kernel
theorem fk_3_4 : x_dk (x_F 3 4).2.2.1 = 0 := by decide +kernel
theorem fk_4_0 : x_dk (x_F 4 0).2.2.1 = 2 := by decide +kernel
theorem fk_4_1 : x_dk (x_F 4 1).2.2.1 = 2 := by decide +kernel
theorem fk_4_2 : x_dk (x_F 4 2).2.2.1 = 2 := by decide +kernel
theorem fk_4_3 : x_dk (x_F 4 3).2.2.1 = 2 := by decide +kernel
theorem fk_4_4 : x_dk (x_F 4 4).2.2.1 = 0 := by decide +kernel
theorem fk_5_0 : x_dk (x_F 5 0).2.2.1 = 2 := by decide +kernel
theorem fk_5_1 : x_dk (x_F 5 1).2.2.1 = 2 := by decide +kernel
theorem fk_5_2 : x_dk (x_F 5 2).2.2.1 = 2 := by decide +kernel
theorem fk_5_3 : x_dk (x_F 5 3).2.2.1 = 0 := by decide +kernel
theorem fk_5_4 : x_dk (x_F 5 4).2.2.1 = 0 := by decide +kernel
theorem fk_5_5 : x_dk (x_F 5 5).2.2.1 = 0 := by decide +kernel
theorem fk_5_6 : x_dk (x_F 5 6).2.2.1 = 0 := by decide +kernel
theorem fk_5_7 : x_dk (x_F 5 7).2.2.1 = 2 := by decide +kernel
theorem fk_5_8 : x_dk (x_F 5 8).2.2.1 = 2 := by decide +kernel
theorem fk_5_9 : x_dk (x_F 5 9).2.2.1 = 0 := by decide +kernel
theorem fk_5_10 : x_dk (x_F 5 10).2.2.1 = 0 := by decide +kernel
theorem fk_5_11 : x_dk (x_F 5 11).2.2.1 = 0 := by decide +kernel
theorem fk_5_12 : x_dk (x_F 5 12).2.2.1 = 0 := by decide +kernel
theorem fk_5_13 : x_dk (x_F 5 13).2.2.1 = 0 := by decide +kernel
theorem fk_6_0 : x_dk (x_F 6 0).2.2.1 = 0 := by decide +kernel
theorem fk_6_1 : x_dk (x_F 6 1).2.2.1 = 0 := by decide +kernel
theorem fk_6_2 : x_dk (x_F 6 2).2.2.1 = 0 := by decide +kernel
theorem fk_6_3 : x_dk (x_F 6 3).2.2.1 = 2 := by decide +kernel
theorem fk_7_0 : x_dk (x_F 7 0).2.2.1 = 0 := by decide +kernel
theorem fk_7_1 : x_dk (x_F 7 1).2.2.1 = 2 := by decide +kernel
theorem fk_7_2 : x_dk (x_F 7 2).2.2.1 = 0 := by decide +kernel
theorem fk_7_3 : x_dk (x_F 7 3).2.2.1 = 0 := by decide +kernel
theorem fk_8_0 : x_dk (x_F 8 0).2.2.1 = 0 := by decide +kernel
theorem fk_8_1 : x_dk (x_F 8 1).2.2.1 = 0 := by decide +kernel
theorem fk_8_2 : x_dk (x_F 8 2).2.2.1 = 2 := by decide +kernel
theorem fk_8_3 : x_dk (x_F 8 3).2.2.1 = 2 := by decide +kernel
theorem fk_8_4 : x_dk (x_F 8 4).2.2.1 = 2 := by decide +kernel
theorem fk_8_5 : x_dk (x_F 8 5).2.2.1 = 2 := by decide +kernel
theorem fk_8_6 : x_dk (x_F 8 6).2.2.1 = 2 := by decide +kernel
theorem fk_8_7 : x_dk (x_F 8 7).2.2.1 = 2 := by decide +kernel
theorem fk_8_8 : x_dk (x_F 8 8).2.2.1 = 2 := by decide +kernel
theorem fk_8_9 : x_dk (x_F 8 9).2.2.1 = 0 := by decide +kernel
theorem fk_8_10 : x_dk (x_F 8 10).2.2.1 = 2 := by decide +kernel
theorem fk_8_11 : x_dk (x_F 8 11).2.2.1 = 0 := by decide +kernel
theorem fk_8_12 : x_dk (x_F 8 12).2.2.1 = 2 := by decide +kernel
theorem fk_8_13 : x_dk (x_F 8 13).2.2.1 = 2 := by decide +kernel
theorem fk_8_14 : x_dk (x_F 8 14).2.2.1 = 2 := by decide +kernel
theorem fk_8_15 : x_dk (x_F 8 15).2.2.1 = 2 := by decide +kernel
theorem fk_8_16 : x_dk (x_F 8 16).2.2.1 = 2 := by decide +kernel
theorem fk_8_17 : x_dk (x_F 8 17).2.2.1 = 2 := by decide +kernel
theorem fk_8_18 : x_dk (x_F 8 18).2.2.1 = 0 := by decide +kernel
theorem fk_8_19 : x_dk (x_F 8 19).2.2.1 = 2 := by decide +kernel
theorem fk_8_20 : x_dk (x_F 8 20).2.2.1 = 2 := by decide +kernel
theorem fk_8_21 : x_dk (x_F 8 21).2.2.1 = 2 := by decide +kernel
theorem fk_8_22 : x_dk (x_F 8 22).2.2.1 = 2 := by decide +kernel
theorem fk_8_23 : x_dk (x_F 8 23).2.2.1 = 2 := by decide +kernel
theorem fk_8_24 : x_dk (x_F 8 24).2.2.1 = 2 := by decide +kernel
theorem fk_8_25 : x_dk (x_F 8 25).2.2.1 = 2 := by decide +kernel
theorem fk_8_26 : x_dk (x_F 8 26).2.2.1 = 2 := by decide +kernel
theorem fk_8_27 : x_dk (x_F 8 27).2.2.1 = 2 := by decide +kernel
theorem fk_8_28 : x_dk (x_F 8 28).2.2.1 = 2 := by decide +kernel
theorem fk_8_29 : x_dk (x_F 8 29).2.2.1 = 0 := by decide +kernel
theorem fk_8_30 : x_dk (x_F 8 30).2.2.1 = 0 := by decide +kernel
theorem fk_8_31 : x_dk (x_F 8 31).2.2.1 = 0 := by decide +kernel
theorem fk_8_32 : x_dk (x_F 8 32).2.2.1 = 0 := by decide +kernel
theorem fk_8_33 : x_dk (x_F 8 33).2.2.1 = 0 := by decide +kernel
abbrev y_AL_add1 : MethodName := ⟨"java/util/ArrayList", "add", "(Ljava/lang/Object;)Z"⟩
theorem q_AL_add1 : x_yok y_AL_add1 1 := by unfold x_yok; decide +kernel
abbrev y_AL_add3 : MethodName := ⟨"java/util/ArrayList", "add", "(Ljava/lang/Object;[Ljava/lang/Object;I)V"⟩
theorem q_AL_add3 : x_yok y_AL_add3 3 := by unfold x_yok; decide +kernel
abbrev y_AL_elementData : MethodName := ⟨"java/util/ArrayList", "elementData", "(I)Ljava/lang/Object;"⟩
theorem q_AL_elementData : x_yok y_AL_elementData 1 := by unfold x_yok; decide +kernel
abbrev y_AL_get : MethodName := ⟨"java/util/ArrayList", "get", "(I)Ljava/lang/Object;"⟩
theorem q_AL_get : x_yok y_AL_get 1 := by unfold x_yok; decide +kernel
abbrev y_AL_grow0 : MethodName := ⟨"java/util/ArrayList", "grow", "()[Ljava/lang/Object;"⟩
theorem q_AL_grow0 : x_yok y_AL_grow0 0 := by unfold x_yok; decide +kernel
abbrev y_AL_grow1 : MethodName := ⟨"java/util/ArrayList", "grow", "(I)[Ljava/lang/Object;"⟩
theorem q_AL_grow1 : x_yok y_AL_grow1 1 := by unfold x_yok; decide +kernel
abbrev y_AL_init : MethodName := ⟨"java/util/ArrayList", "<init>", "()V"⟩
theorem q_AL_init : x_yok y_AL_init 0 := by unfold x_yok; decide +kernel
abbrev y_AL_iterator : MethodName := ⟨"java/util/ArrayList", "iterator", "()Ljava/util/Iterator;"⟩
theorem q_AL_iterator : x_yok y_AL_iterator 0 := by unfold x_yok; decide +kernel
abbrev y_AL_size : MethodName := ⟨"java/util/ArrayList", "size", "()I"⟩
theorem q_AL_size : x_yok y_AL_size 0 := by unfold x_yok; decide +kernel
abbrev y_AS_hugeLength : MethodName := ⟨"jdk/internal/util/ArraysSupport", "hugeLength", "(II)I"⟩
theorem q_AS_hugeLength : x_yok y_AS_hugeLength 2 := by unfold x_yok; decide +kernel
abbrev y_AS_newLength : MethodName := ⟨"jdk/internal/util/ArraysSupport", "newLength", "(III)I"⟩
theorem q_AS_newLength : x_yok y_AS_newLength 3 := by unfold x_yok; decide +kernel
abbrev y_AbstractCollection_init : MethodName := ⟨"java/util/AbstractCollection", "<init>", "()V"⟩
theorem q_AbstractCollection_init : x_yok y_AbstractCollection_init 0 := by unfold x_yok; decide +kernel
abbrev y_AbstractList_init : MethodName := ⟨"java/util/AbstractList", "<init>", "()V"⟩
theorem q_AbstractList_init : x_yok y_AbstractList_init 0 := by unfold x_yok; decide +kernel
abbrev y_Acc_init : MethodName := ⟨"CallLedger$Account", "<init>", "(I)V"⟩
theorem q_Acc_init : x_yok y_Acc_init 1 := by unfold x_yok; decide +kernel
abbrev y_Acc_length : MethodName := ⟨"CallLedger$Account", "length", "()I"⟩
theorem q_Acc_length : x_yok y_Acc_length 0 := by unfold x_yok; decide +kernel
abbrev y_Arr_copyOf2 : MethodName := ⟨"java/util/Arrays", "copyOf", "([Ljava/lang/Object;I)[Ljava/lang/Object;"⟩
theorem q_Arr_copyOf2 : x_yok y_Arr_copyOf2 2 := by unfold x_yok; decide +kernel
abbrev y_Arr_copyOf3 : MethodName := ⟨"java/util/Arrays", "copyOf", "([Ljava/lang/Object;ILjava/lang/Class;)[Ljava/lang/Object;"⟩
theorem q_Arr_copyOf3 : x_yok y_Arr_copyOf3 3 := by unfold x_yok; decide +kernel
abbrev y_ArrayIndexOutOfBoundsException_init : MethodName := ⟨"java/lang/ArrayIndexOutOfBoundsException", "<init>", "(Ljava/lang/String;)V"⟩
theorem q_ArrayIndexOutOfBoundsException_init : x_yok y_ArrayIndexOutOfBoundsException_init 1 := by unfold x_yok; decide +kernel
abbrev y_Book_balance : MethodName := ⟨"CallLedger$Book", "balance", "(I)I"⟩
theorem q_Book_balance : x_yok y_Book_balance 1 := by unfold x_yok; decide +kernel
abbrev y_Book_has : MethodName := ⟨"CallLedger$Book", "has", "(I)Z"⟩
theorem q_Book_has : x_yok y_Book_has 1 := by unfold x_yok; decide +kernel
abbrev y_Book_init : MethodName := ⟨"CallLedger$Book", "<init>", "()V"⟩
theorem q_Book_init : x_yok y_Book_init 0 := by unfold x_yok; decide +kernel
abbrev y_Book_move : MethodName := ⟨"CallLedger$Book", "move", "(III)V"⟩
theorem q_Book_move : x_yok y_Book_move 3 := by unfold x_yok; decide +kernel
abbrev y_Book_pay : MethodName := ⟨"CallLedger$Book", "pay", "(II)V"⟩
theorem q_Book_pay : x_yok y_Book_pay 2 := by unfold x_yok; decide +kernel
abbrev y_Book_place : MethodName := ⟨"CallLedger$Book", "place", "(II)J"⟩
theorem q_Book_place : x_yok y_Book_place 2 := by unfold x_yok; decide +kernel
abbrev y_Book_set : MethodName := ⟨"CallLedger$Book", "set", "(III)V"⟩
theorem q_Book_set : x_yok y_Book_set 3 := by unfold x_yok; decide +kernel
abbrev y_Book_store : MethodName := ⟨"CallLedger$Book", "store", "(III)V"⟩
theorem q_Book_store : x_yok y_Book_store 3 := by unfold x_yok; decide +kernel
abbrev y_Book_stored : MethodName := ⟨"CallLedger$Book", "stored", "(II)I"⟩
theorem q_Book_stored : x_yok y_Book_stored 2 := by unfold x_yok; decide +kernel
abbrev y_Book_undo : MethodName := ⟨"CallLedger$Book", "undo", "(II)V"⟩
theorem q_Book_undo : x_yok y_Book_undo 2 := by unfold x_yok; decide +kernel
abbrev y_Book_write : MethodName := ⟨"CallLedger$Book", "write", "(I)V"⟩
theorem q_Book_write : x_yok y_Book_write 1 := by unfold x_yok; decide +kernel
abbrev y_Enum_ordinal : MethodName := ⟨"java/lang/Enum", "ordinal", "()I"⟩
theorem q_Enum_ordinal : x_yok y_Enum_ordinal 0 := by unfold x_yok; decide +kernel
abbrev y_Exception_init : MethodName := ⟨"java/lang/Exception", "<init>", "(Ljava/lang/String;)V"⟩
theorem q_Exception_init : x_yok y_Exception_init 1 := by unfold x_yok; decide +kernel
abbrev y_IllegalArgumentException_init : MethodName := ⟨"java/lang/IllegalArgumentException", "<init>", "(Ljava/lang/String;)V"⟩
theorem q_IllegalArgumentException_init : x_yok y_IllegalArgumentException_init 1 := by unfold x_yok; decide +kernel
abbrev y_IllegalStateException_init : MethodName := ⟨"java/lang/IllegalStateException", "<init>", "(Ljava/lang/String;)V"⟩
theorem q_IllegalStateException_init : x_yok y_IllegalStateException_init 1 := by unfold x_yok; decide +kernel
abbrev y_IndexOutOfBoundsException_init : MethodName := ⟨"java/lang/IndexOutOfBoundsException", "<init>", "(Ljava/lang/String;)V"⟩
theorem q_IndexOutOfBoundsException_init : x_yok y_IndexOutOfBoundsException_init 1 := by unfold x_yok; decide +kernel
abbrev y_Ins_needed : MethodName := ⟨"CallLedger$Instruction", "needed", "(I)I"⟩
theorem q_Ins_needed : x_yok y_Ins_needed 1 := by unfold x_yok; decide +kernel
abbrev y_Ins_of : MethodName := ⟨"CallLedger$Instruction", "of", "(II)I"⟩
theorem q_Ins_of : x_yok y_Ins_of 2 := by unfold x_yok; decide +kernel
abbrev y_Ins_takes : MethodName := ⟨"CallLedger$Instruction", "takes", "(II)Z"⟩
theorem q_Ins_takes : x_yok y_Ins_takes 2 := by unfold x_yok; decide +kernel
abbrev y_Ins_values : MethodName := ⟨"CallLedger$Instruction", "values", "()[LCallLedger$Instruction;"⟩
theorem q_Ins_values : x_yok y_Ins_values 0 := by unfold x_yok; decide +kernel
abbrev y_Itr_checkForComodification : MethodName := ⟨"java/util/ArrayList$Itr", "checkForComodification", "()V"⟩
theorem q_Itr_checkForComodification : x_yok y_Itr_checkForComodification 0 := by unfold x_yok; decide +kernel
abbrev y_Itr_hasNext : MethodName := ⟨"java/util/ArrayList$Itr", "hasNext", "()Z"⟩
theorem q_Itr_hasNext : x_yok y_Itr_hasNext 0 := by unfold x_yok; decide +kernel
abbrev y_Itr_init : MethodName := ⟨"java/util/ArrayList$Itr", "<init>", "(Ljava/util/ArrayList;)V"⟩
theorem q_Itr_init : x_yok y_Itr_init 1 := by unfold x_yok; decide +kernel
abbrev y_Itr_next : MethodName := ⟨"java/util/ArrayList$Itr", "next", "()Ljava/lang/Object;"⟩
theorem q_Itr_next : x_yok y_Itr_next 0 := by unfold x_yok; decide +kernel
abbrev y_Jou_add : MethodName := ⟨"CallLedger$Journal", "add", "(IZII)V"⟩
theorem q_Jou_add : x_yok y_Jou_add 4 := by unfold x_yok; decide +kernel
abbrev y_Jou_init : MethodName := ⟨"CallLedger$Journal", "<init>", "()V"⟩
theorem q_Jou_init : x_yok y_Jou_init 0 := by unfold x_yok; decide +kernel
abbrev y_Law_balance : MethodName := ⟨"CallLedgerLaw", "balance", "(LCallLedger;I[J)I"⟩
theorem q_Law_balance : x_yok y_Law_balance 3 := by unfold x_yok; decide +kernel
abbrev y_Law_code : MethodName := ⟨"CallLedgerLaw", "code", "(LCallLedger;II[J)I"⟩
theorem q_Law_code : x_yok y_Law_code 4 := by unfold x_yok; decide +kernel
abbrev y_Law_log : MethodName := ⟨"CallLedgerLaw", "log", "(LCallLedger;I[J)I"⟩
theorem q_Law_log : x_yok y_Law_log 3 := by unfold x_yok; decide +kernel
abbrev y_Law_open : MethodName := ⟨"CallLedgerLaw", "open", "(LCallLedger;I[J)I"⟩
theorem q_Law_open : x_yok y_Law_open 3 := by unfold x_yok; decide +kernel
abbrev y_Law_seal : MethodName := ⟨"CallLedgerLaw", "seal", "(LCallLedger;I[J)I"⟩
theorem q_Law_seal : x_yok y_Law_seal 3 := by unfold x_yok; decide +kernel
abbrev y_Law_storage : MethodName := ⟨"CallLedgerLaw", "storage", "(LCallLedger;II[J)I"⟩
theorem q_Law_storage : x_yok y_Law_storage 4 := by unfold x_yok; decide +kernel
abbrev y_Law_transact : MethodName := ⟨"CallLedgerLaw", "transact", "(LCallLedger;IIII[J)I"⟩
theorem q_Law_transact : x_yok y_Law_transact 6 := by unfold x_yok; decide +kernel
abbrev y_Led_account : MethodName := ⟨"CallLedger", "account", "(I)LCallLedger$Account;"⟩
theorem q_Led_account : x_yok y_Led_account 1 := by unfold x_yok; decide +kernel
abbrev y_Led_argument : MethodName := ⟨"CallLedger", "argument", "(I)I"⟩
theorem q_Led_argument : x_yok y_Led_argument 1 := by unfold x_yok; decide +kernel
abbrev y_Led_balance : MethodName := ⟨"CallLedger", "balance", "(I)I"⟩
theorem q_Led_balance : x_yok y_Led_balance 1 := by unfold x_yok; decide +kernel
abbrev y_Led_code : MethodName := ⟨"CallLedger", "code", "(II)I"⟩
theorem q_Led_code : x_yok y_Led_code 2 := by unfold x_yok; decide +kernel
abbrev y_Led_fits : MethodName := ⟨"CallLedger", "fits", "(Z)V"⟩
theorem q_Led_fits : x_yok y_Led_fits 1 := by unfold x_yok; decide +kernel
abbrev y_Led_init : MethodName := ⟨"CallLedger", "<init>", "()V"⟩
theorem q_Led_init : x_yok y_Led_init 0 := by unfold x_yok; decide +kernel
abbrev y_Led_isOpen : MethodName := ⟨"CallLedger", "isOpen", "(LCallLedger$Account;)V"⟩
theorem q_Led_isOpen : x_yok y_Led_isOpen 1 := by unfold x_yok; decide +kernel
abbrev y_Led_keys : MethodName := ⟨"CallLedger", "keys", "()I"⟩
theorem q_Led_keys : x_yok y_Led_keys 0 := by unfold x_yok; decide +kernel
abbrev y_Led_log : MethodName := ⟨"CallLedger", "log", "(I)I"⟩
theorem q_Led_log : x_yok y_Led_log 1 := by unfold x_yok; decide +kernel
abbrev y_Led_logged : MethodName := ⟨"CallLedger", "logged", "()I"⟩
theorem q_Led_logged : x_yok y_Led_logged 0 := by unfold x_yok; decide +kernel
abbrev y_Led_open : MethodName := ⟨"CallLedger", "open", "(I)I"⟩
theorem q_Led_open : x_yok y_Led_open 1 := by unfold x_yok; decide +kernel
abbrev y_Led_result : MethodName := ⟨"CallLedger", "result", "()I"⟩
theorem q_Led_result : x_yok y_Led_result 0 := by unfold x_yok; decide +kernel
abbrev y_Led_seal : MethodName := ⟨"CallLedger", "seal", "(I)I"⟩
theorem q_Led_seal : x_yok y_Led_seal 1 := by unfold x_yok; decide +kernel
abbrev y_Led_storage : MethodName := ⟨"CallLedger", "storage", "(II)I"⟩
theorem q_Led_storage : x_yok y_Led_storage 2 := by unfold x_yok; decide +kernel
abbrev y_Led_supply : MethodName := ⟨"CallLedger", "supply", "()I"⟩
theorem q_Led_supply : x_yok y_Led_supply 0 := by unfold x_yok; decide +kernel
abbrev y_Led_transact : MethodName := ⟨"CallLedger", "transact", "(IIII)I"⟩
theorem q_Led_transact : x_yok y_Led_transact 4 := by unfold x_yok; decide +kernel
abbrev y_Led_used : MethodName := ⟨"CallLedger", "used", "()I"⟩
theorem q_Led_used : x_yok y_Led_used 0 := by unfold x_yok; decide +kernel
abbrev y_Math_max : MethodName := ⟨"java/lang/Math", "max", "(II)I"⟩
theorem q_Math_max : x_yok y_Math_max 2 := by unfold x_yok; decide +kernel
abbrev y_Math_min : MethodName := ⟨"java/lang/Math", "min", "(II)I"⟩
theorem q_Math_min : x_yok y_Math_min 2 := by unfold x_yok; decide +kernel
abbrev y_Mod_act : MethodName := ⟨"CallLedgerModel", "act", "(II)V"⟩
theorem q_Mod_act : x_yok y_Mod_act 2 := by unfold x_yok; decide +kernel
abbrev y_Mod_argument : MethodName := ⟨"CallLedgerModel", "argument", "(I)I"⟩
theorem q_Mod_argument : x_yok y_Mod_argument 1 := by unfold x_yok; decide +kernel
abbrev y_Mod_balance : MethodName := ⟨"CallLedgerModel", "balance", "(I)I"⟩
theorem q_Mod_balance : x_yok y_Mod_balance 1 := by unfold x_yok; decide +kernel
abbrev y_Mod_begin : MethodName := ⟨"CallLedgerModel", "begin", "(IIII)V"⟩
theorem q_Mod_begin : x_yok y_Mod_begin 4 := by unfold x_yok; decide +kernel
abbrev y_Mod_below : MethodName := ⟨"CallLedgerModel", "below", "(I)I"⟩
theorem q_Mod_below : x_yok y_Mod_below 1 := by unfold x_yok; decide +kernel
abbrev y_Mod_call : MethodName := ⟨"CallLedgerModel", "call", "(I)V"⟩
theorem q_Mod_call : x_yok y_Mod_call 1 := by unfold x_yok; decide +kernel
abbrev y_Mod_code : MethodName := ⟨"CallLedgerModel", "code", "(II)I"⟩
theorem q_Mod_code : x_yok y_Mod_code 2 := by unfold x_yok; decide +kernel
abbrev y_Mod_end : MethodName := ⟨"CallLedgerModel", "end", "(II)V"⟩
theorem q_Mod_end : x_yok y_Mod_end 2 := by unfold x_yok; decide +kernel
abbrev y_Mod_init : MethodName := ⟨"CallLedgerModel", "<init>", "()V"⟩
theorem q_Mod_init : x_yok y_Mod_init 0 := by unfold x_yok; decide +kernel
abbrev y_Mod_isGood : MethodName := ⟨"CallLedgerModel", "isGood", "(II)Z"⟩
theorem q_Mod_isGood : x_yok y_Mod_isGood 2 := by unfold x_yok; decide +kernel
abbrev y_Mod_keyOf : MethodName := ⟨"CallLedgerModel", "keyOf", "(II)I"⟩
theorem q_Mod_keyOf : x_yok y_Mod_keyOf 2 := by unfold x_yok; decide +kernel
abbrev y_Mod_keys : MethodName := ⟨"CallLedgerModel", "keys", "()I"⟩
theorem q_Mod_keys : x_yok y_Mod_keys 0 := by unfold x_yok; decide +kernel
abbrev y_Mod_leaves : MethodName := ⟨"CallLedgerModel", "leaves", "(II)I"⟩
theorem q_Mod_leaves : x_yok y_Mod_leaves 2 := by unfold x_yok; decide +kernel
abbrev y_Mod_log : MethodName := ⟨"CallLedgerModel", "log", "(I)I"⟩
theorem q_Mod_log : x_yok y_Mod_log 1 := by unfold x_yok; decide +kernel
abbrev y_Mod_logged : MethodName := ⟨"CallLedgerModel", "logged", "()I"⟩
theorem q_Mod_logged : x_yok y_Mod_logged 0 := by unfold x_yok; decide +kernel
abbrev y_Mod_made : MethodName := ⟨"CallLedgerModel", "made", "(III)I"⟩
theorem q_Mod_made : x_yok y_Mod_made 3 := by unfold x_yok; decide +kernel
abbrev y_Mod_needs : MethodName := ⟨"CallLedgerModel", "needs", "(II)I"⟩
theorem q_Mod_needs : x_yok y_Mod_needs 2 := by unfold x_yok; decide +kernel
abbrev y_Mod_noAccount : MethodName := ⟨"CallLedgerModel", "noAccount", "(I)Z"⟩
theorem q_Mod_noAccount : x_yok y_Mod_noAccount 1 := by unfold x_yok; decide +kernel
abbrev y_Mod_open : MethodName := ⟨"CallLedgerModel", "open", "(I)I"⟩
theorem q_Mod_open : x_yok y_Mod_open 1 := by unfold x_yok; decide +kernel
abbrev y_Mod_pop : MethodName := ⟨"CallLedgerModel", "pop", "()I"⟩
theorem q_Mod_pop : x_yok y_Mod_pop 0 := by unfold x_yok; decide +kernel
abbrev y_Mod_price : MethodName := ⟨"CallLedgerModel", "price", "(I)I"⟩
theorem q_Mod_price : x_yok y_Mod_price 1 := by unfold x_yok; decide +kernel
abbrev y_Mod_priceOf : MethodName := ⟨"CallLedgerModel", "priceOf", "(I)I"⟩
theorem q_Mod_priceOf : x_yok y_Mod_priceOf 1 := by unfold x_yok; decide +kernel
abbrev y_Mod_push : MethodName := ⟨"CallLedgerModel", "push", "(I)V"⟩
theorem q_Mod_push : x_yok y_Mod_push 1 := by unfold x_yok; decide +kernel
abbrev y_Mod_result : MethodName := ⟨"CallLedgerModel", "result", "()I"⟩
theorem q_Mod_result : x_yok y_Mod_result 0 := by unfold x_yok; decide +kernel
abbrev y_Mod_seal : MethodName := ⟨"CallLedgerModel", "seal", "(I)I"⟩
theorem q_Mod_seal : x_yok y_Mod_seal 1 := by unfold x_yok; decide +kernel
abbrev y_Mod_simple : MethodName := ⟨"CallLedgerModel", "simple", "(II)V"⟩
theorem q_Mod_simple : x_yok y_Mod_simple 2 := by unfold x_yok; decide +kernel
abbrev y_Mod_step : MethodName := ⟨"CallLedgerModel", "step", "()V"⟩
theorem q_Mod_step : x_yok y_Mod_step 0 := by unfold x_yok; decide +kernel
abbrev y_Mod_storage : MethodName := ⟨"CallLedgerModel", "storage", "(II)I"⟩
theorem q_Mod_storage : x_yok y_Mod_storage 2 := by unfold x_yok; decide +kernel
abbrev y_Mod_store : MethodName := ⟨"CallLedgerModel", "store", "(III)V"⟩
theorem q_Mod_store : x_yok y_Mod_store 3 := by unfold x_yok; decide +kernel
abbrev y_Mod_stored : MethodName := ⟨"CallLedgerModel", "stored", "(II)I"⟩
theorem q_Mod_stored : x_yok y_Mod_stored 2 := by unfold x_yok; decide +kernel
abbrev y_Mod_supply : MethodName := ⟨"CallLedgerModel", "supply", "()I"⟩
theorem q_Mod_supply : x_yok y_Mod_supply 0 := by unfold x_yok; decide +kernel
abbrev y_Mod_swap : MethodName := ⟨"CallLedgerModel", "swap", "(I)V"⟩
theorem q_Mod_swap : x_yok y_Mod_swap 1 := by unfold x_yok; decide +kernel
abbrev y_Mod_thrown : MethodName := ⟨"CallLedgerModel", "thrown", "()I"⟩
theorem q_Mod_thrown : x_yok y_Mod_thrown 0 := by unfold x_yok; decide +kernel
abbrev y_Mod_transact : MethodName := ⟨"CallLedgerModel", "transact", "(IIII)I"⟩
theorem q_Mod_transact : x_yok y_Mod_transact 4 := by unfold x_yok; decide +kernel
abbrev y_Mod_undo : MethodName := ⟨"CallLedgerModel", "undo", "()V"⟩
theorem q_Mod_undo : x_yok y_Mod_undo 0 := by unfold x_yok; decide +kernel
abbrev y_Mod_used : MethodName := ⟨"CallLedgerModel", "used", "()I"⟩
theorem q_Mod_used : x_yok y_Mod_used 0 := by unfold x_yok; decide +kernel
abbrev y_Obj_checkIndex : MethodName := ⟨"java/util/Objects", "checkIndex", "(II)I"⟩
theorem q_Obj_checkIndex : x_yok y_Obj_checkIndex 2 := by unfold x_yok; decide +kernel
abbrev y_Pre_checkIndex : MethodName := ⟨"jdk/internal/util/Preconditions", "checkIndex", "(IILjava/util/function/BiFunction;)I"⟩
theorem q_Pre_checkIndex : x_yok y_Pre_checkIndex 3 := by unfold x_yok; decide +kernel
abbrev y_Run_act : MethodName := ⟨"CallLedger$Run", "act", "(LCallLedger$Instruction;I)V"⟩
theorem q_Run_act : x_yok y_Run_act 2 := by unfold x_yok; decide +kernel
abbrev y_Run_begin : MethodName := ⟨"CallLedger$Run", "begin", "(III)V"⟩
theorem q_Run_begin : x_yok y_Run_begin 3 := by unfold x_yok; decide +kernel
abbrev y_Run_call : MethodName := ⟨"CallLedger$Run", "call", "(I)V"⟩
theorem q_Run_call : x_yok y_Run_call 1 := by unfold x_yok; decide +kernel
abbrev y_Run_ends : MethodName := ⟨"CallLedger$Run", "ends", "(II)V"⟩
theorem q_Run_ends : x_yok y_Run_ends 2 := by unfold x_yok; decide +kernel
abbrev y_Run_goOn : MethodName := ⟨"CallLedger$Run", "goOn", "()V"⟩
theorem q_Run_goOn : x_yok y_Run_goOn 0 := by unfold x_yok; decide +kernel
abbrev y_Run_init : MethodName := ⟨"CallLedger$Run", "<init>", "(LCallLedger$Book;[LCallLedger$Instruction;[LCallLedger$Run;I)V"⟩
theorem q_Run_init : x_yok y_Run_init 4 := by unfold x_yok; decide +kernel
abbrev y_Run_peek : MethodName := ⟨"CallLedger$Run", "peek", "(I)I"⟩
theorem q_Run_peek : x_yok y_Run_peek 1 := by unfold x_yok; decide +kernel
abbrev y_Run_plays : MethodName := ⟨"CallLedger$Run", "plays", "(I)Z"⟩
theorem q_Run_plays : x_yok y_Run_plays 1 := by unfold x_yok; decide +kernel
abbrev y_Run_pop : MethodName := ⟨"CallLedger$Run", "pop", "()I"⟩
theorem q_Run_pop : x_yok y_Run_pop 0 := by unfold x_yok; decide +kernel
abbrev y_Run_price : MethodName := ⟨"CallLedger$Run", "price", "(LCallLedger$Instruction;)I"⟩
theorem q_Run_price : x_yok y_Run_price 1 := by unfold x_yok; decide +kernel
abbrev y_Run_push : MethodName := ⟨"CallLedger$Run", "push", "(I)V"⟩
theorem q_Run_push : x_yok y_Run_push 1 := by unfold x_yok; decide +kernel
abbrev y_Run_step : MethodName := ⟨"CallLedger$Run", "step", "(LCallLedger$Account;)V"⟩
theorem q_Run_step : x_yok y_Run_step 1 := by unfold x_yok; decide +kernel
abbrev y_Run_store : MethodName := ⟨"CallLedger$Run", "store", "()V"⟩
theorem q_Run_store : x_yok y_Run_store 0 := by unfold x_yok; decide +kernel
abbrev y_Run_swap : MethodName := ⟨"CallLedger$Run", "swap", "(I)V"⟩
theorem q_Run_swap : x_yok y_Run_swap 1 := by unfold x_yok; decide +kernel
abbrev y_Run_trap : MethodName := ⟨"CallLedger$Run", "trap", "(I)V"⟩
theorem q_Run_trap : x_yok y_Run_trap 1 := by unfold x_yok; decide +kernel
abbrev y_RuntimeException_init : MethodName := ⟨"java/lang/RuntimeException", "<init>", "(Ljava/lang/String;)V"⟩
theorem q_RuntimeException_init : x_yok y_RuntimeException_init 1 := by unfold x_yok; decide +kernel
abbrev y_Tab_add : MethodName := ⟨"CallLedger$Table", "add", "(JI)V"⟩
theorem q_Tab_add : x_yok y_Tab_add 2 := by unfold x_yok; decide +kernel
abbrev y_Tab_find : MethodName := ⟨"CallLedger$Table", "find", "(J)I"⟩
theorem q_Tab_find : x_yok y_Tab_find 1 := by unfold x_yok; decide +kernel
abbrev y_Tab_get : MethodName := ⟨"CallLedger$Table", "get", "(J)I"⟩
theorem q_Tab_get : x_yok y_Tab_get 1 := by unfold x_yok; decide +kernel
abbrev y_Tab_init : MethodName := ⟨"CallLedger$Table", "<init>", "()V"⟩
theorem q_Tab_init : x_yok y_Tab_init 0 := by unfold x_yok; decide +kernel
abbrev y_Tab_place : MethodName := ⟨"CallLedger$Table", "place", "(J)I"⟩
theorem q_Tab_place : x_yok y_Tab_place 1 := by unfold x_yok; decide +kernel
abbrev y_Tab_set : MethodName := ⟨"CallLedger$Table", "set", "(JI)V"⟩
theorem q_Tab_set : x_yok y_Tab_set 2 := by unfold x_yok; decide +kernel
abbrev y_Tab_sweep : MethodName := ⟨"CallLedger$Table", "sweep", "()V"⟩
theorem q_Tab_sweep : x_yok y_Tab_sweep 0 := by unfold x_yok; decide +kernel
