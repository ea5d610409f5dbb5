set_option maxRecDepth 100000
theorem q94 : (Jvm.Cond.initialized "PromiseTailorLaw") ∈ lw_all := lw_g (lw_at lw_m1 0 rfl) rfl
theorem q95 : (Jvm.Cond.initialized "PromiseTailor") ∈ lw_all := lw_g (lw_at lw_m1 1 rfl) rfl
theorem q96 : (Jvm.Cond.initialized "PromiseTailor$Text") ∈ lw_all := lw_g (lw_at lw_m1 2 rfl) rfl
theorem q97 : (Jvm.Cond.initialized "PromiseTailor$Town") ∈ lw_all := lw_g (lw_at lw_m1 3 rfl) rfl
theorem q98 : (Jvm.Cond.initialized "java/util/AbstractCollection") ∈ lw_all := lw_g (lw_at lw_m1 4 rfl) rfl
theorem q99 : (Jvm.Cond.initialized "java/util/AbstractList") ∈ lw_all := lw_g (lw_at lw_m1 5 rfl) rfl
theorem q100 : (Jvm.Cond.initialized "java/util/ArrayList") ∈ lw_all := lw_g (lw_at lw_m1 6 rfl) rfl
theorem q101 : (Jvm.Cond.initialized "PromiseTailor$Book") ∈ lw_all := lw_g (lw_at lw_m1 7 rfl) rfl
theorem q102 : (Jvm.Cond.initialized "PromiseTailor$Sheet") ∈ lw_all := lw_g (lw_at lw_m1 8 rfl) rfl
theorem q103 : (Jvm.Cond.initialized "PromiseTailorModel") ∈ lw_all := lw_g (lw_at lw_m1 9 rfl) rfl
theorem q104 : (Jvm.Cond.initialized "java/lang/Throwable") ∈ lw_all := lw_g (lw_at lw_m1 10 rfl) rfl
theorem q105 : (Jvm.Cond.initialized "java/lang/Exception") ∈ lw_all := lw_g (lw_at lw_m1 11 rfl) rfl
theorem q106 : (Jvm.Cond.initialized "PromiseTailor$Torn") ∈ lw_all := lw_g (lw_at lw_m1 12 rfl) rfl
theorem q107 : (Jvm.Cond.initialized "java/lang/String") ∈ lw_all := lw_g (lw_at lw_m1 13 rfl) rfl
theorem q108 : (Jvm.Cond.initialized "java/lang/StringLatin1") ∈ lw_all := lw_g (lw_at lw_m1 14 rfl) rfl
theorem q109 : (Jvm.Cond.initialized "java/lang/Math") ∈ lw_all := lw_g (lw_at lw_m1 15 rfl) rfl
theorem q110 : (Jvm.Cond.initialized "java/lang/StringUTF16") ∈ lw_all := lw_g (lw_at lw_m1 16 rfl) rfl
theorem q111 : (Jvm.Cond.initialized "jdk/internal/util/Preconditions") ∈ lw_all := lw_g (lw_at lw_m1 17 rfl) rfl
theorem q112 : (Jvm.Cond.initialized "java/lang/Character") ∈ lw_all := lw_g (lw_at lw_m1 18 rfl) rfl
theorem q113 : (Jvm.Cond.initialized "PromiseTailor$Promise") ∈ lw_all := lw_g (lw_at lw_m1 19 rfl) rfl
theorem q114 : (Jvm.Cond.initialized "PromiseTailor$Person") ∈ lw_all := lw_g (lw_at lw_m1 20 rfl) rfl
theorem q115 : (Jvm.Cond.initialized "jdk/internal/util/ArraysSupport") ∈ lw_all := lw_g (lw_at lw_m1 21 rfl) rfl
theorem q116 : (Jvm.Cond.initialized "java/util/Arrays") ∈ lw_all := lw_g (lw_at lw_m1 22 rfl) rfl
theorem q117 : (Jvm.Cond.initialized "java/lang/System") ∈ lw_all := lw_g (lw_at lw_m1 23 rfl) rfl
theorem q118 : (Jvm.Cond.initialized "java/util/Objects") ∈ lw_all := lw_g (lw_at lw_m1 24 rfl) rfl
theorem q119 : (Jvm.Cond.initialized "java/lang/Integer") ∈ lw_all := lw_g (lw_at lw_m1 25 rfl) rfl
theorem q120 : (Jvm.Cond.initialized "java/lang/RuntimeException") ∈ lw_all := lw_g (lw_at lw_m1 26 rfl) rfl
theorem q121 : (Jvm.Cond.initialized "java/lang/NegativeArraySizeException") ∈ lw_all := lw_g (lw_at lw_m1 27 rfl) rfl
theorem q122 : (Jvm.Cond.initialized "java/lang/ClassCastException") ∈ lw_all := lw_g (lw_at lw_m1 28 rfl) rfl
theorem q123 : (Jvm.Cond.initialized "java/lang/IndexOutOfBoundsException") ∈ lw_all := lw_g (lw_at lw_m1 29 rfl) rfl
theorem q124 : (Jvm.Cond.initialized "java/lang/ArrayIndexOutOfBoundsException") ∈ lw_all := lw_g (lw_at lw_m1 30 rfl) rfl
theorem q125 : (Jvm.Cond.classLink "PromiseTailorLaw" (7 : Nat) "PromiseTailor") ∈ lw_all := lw_g (lw_at lw_m1 31 rfl) rfl
theorem q126 : (Jvm.Cond.instantiable "PromiseTailor" (24 : Nat)) ∈ lw_all := lw_g (lw_at lw_m1 32 rfl) rfl
theorem q127 : (Jvm.Cond.methodLink "PromiseTailorLaw" (9 : Nat) ({ cls := "PromiseTailor", name := "<init>", desc := "()V" } : Jvm.MethodName)) ∈ lw_all := lw_g (lw_at lw_m1 33 rfl) rfl
theorem q128 : (Jvm.Cond.instanceMethod ({ cls := "PromiseTailor", name := "<init>", desc := "()V" } : Jvm.MethodName)) ∈ lw_all := lw_g (lw_at lw_m1 34 rfl) rfl
theorem q129 : (Jvm.Cond.code ({ cls := "PromiseTailor", name := "<init>", desc := "()V" } : Jvm.MethodName) prog_1_method_1_code (1 : Nat) (Option.none : Option Jvm.ClassFile.FieldType)) ∈ lw_all := lw_g (lw_at lw_m1 35 rfl) rfl
theorem q130 : (Jvm.Cond.methodLink "PromiseTailor" (5 : Nat) ({ cls := "java/lang/Object", name := "<init>", desc := "()V" } : Jvm.MethodName)) ∈ lw_all := lw_g (lw_at lw_m1 36 rfl) rfl
theorem q131 : (Jvm.Cond.instanceMethod ({ cls := "java/lang/Object", name := "<init>", desc := "()V" } : Jvm.MethodName)) ∈ lw_all := lw_g (lw_at lw_m1 37 rfl) rfl
theorem q132 : (Jvm.Cond.code ({ cls := "java/lang/Object", name := "<init>", desc := "()V" } : Jvm.MethodName) object_method_1_code (1 : Nat) (Option.none : Option Jvm.ClassFile.FieldType)) ∈ lw_all := lw_g (lw_at lw_m1 38 rfl) rfl
theorem q133 : (Jvm.Cond.classLink "PromiseTailor" (11 : Nat) "PromiseTailor$Town") ∈ lw_all := lw_g (lw_at lw_m1 39 rfl) rfl
theorem q134 : (Jvm.Cond.instantiable "PromiseTailor$Town" (7 : Nat)) ∈ lw_all := lw_g (lw_at lw_m1 40 rfl) rfl
theorem q135 : (Jvm.Cond.methodLink "PromiseTailor" (13 : Nat) ({ cls := "PromiseTailor$Town", name := "<init>", desc := "()V" } : Jvm.MethodName)) ∈ lw_all := lw_g (lw_at lw_m1 41 rfl) rfl
theorem q136 : (Jvm.Cond.instanceMethod ({ cls := "PromiseTailor$Town", name := "<init>", desc := "()V" } : Jvm.MethodName)) ∈ lw_all := lw_g (lw_at lw_m1 42 rfl) rfl
theorem q137 : (Jvm.Cond.code ({ cls := "PromiseTailor$Town", name := "<init>", desc := "()V" } : Jvm.MethodName) prog_11_method_1_code (1 : Nat) (Option.none : Option Jvm.ClassFile.FieldType)) ∈ lw_all := lw_g (lw_at lw_m1 43 rfl) rfl
theorem q138 : (Jvm.Cond.methodLink "PromiseTailor$Town" (3 : Nat) ({ cls := "PromiseTailor$Text", name := "<init>", desc := "(II)V" } : Jvm.MethodName)) ∈ lw_all := lw_g (lw_at lw_m1 44 rfl) rfl
theorem q139 : (Jvm.Cond.instanceMethod ({ cls := "PromiseTailor$Text", name := "<init>", desc := "(II)V" } : Jvm.MethodName)) ∈ lw_all := lw_g (lw_at lw_m1 45 rfl) rfl
theorem q140 : (Jvm.Cond.code ({ cls := "PromiseTailor$Text", name := "<init>", desc := "(II)V" } : Jvm.MethodName) prog_9_method_1_code (3 : Nat) (Option.none : Option Jvm.ClassFile.FieldType)) ∈ lw_all := lw_g (lw_at lw_m1 46 rfl) rfl
theorem q141 : (Jvm.Cond.methodLink "PromiseTailor$Text" (3 : Nat) ({ cls := "java/lang/Object", name := "<init>", desc := "()V" } : Jvm.MethodName)) ∈ lw_all := lw_g (lw_at lw_m1 47 rfl) rfl
theorem q142 : (Jvm.Cond.classLink "PromiseTailor$Text" (9 : Nat) "java/util/ArrayList") ∈ lw_all := lw_g (lw_at lw_m1 48 rfl) rfl
theorem q143 : (Jvm.Cond.instantiable "java/util/ArrayList" (3 : Nat)) ∈ lw_all := lw_g (lw_at lw_m1 49 rfl) rfl
theorem q144 : (Jvm.Cond.methodLink "PromiseTailor$Text" (11 : Nat) ({ cls := "java/util/ArrayList", name := "<init>", desc := "()V" } : Jvm.MethodName)) ∈ lw_all := lw_g (lw_at lw_m1 50 rfl) rfl
theorem q145 : (Jvm.Cond.instanceMethod ({ cls := "java/util/ArrayList", name := "<init>", desc := "()V" } : Jvm.MethodName)) ∈ lw_all := lw_g (lw_at lw_m1 51 rfl) rfl
theorem q146 : (Jvm.Cond.code ({ cls := "java/util/ArrayList", name := "<init>", desc := "()V" } : Jvm.MethodName) prog_37_method_2_code (1 : Nat) (Option.none : Option Jvm.ClassFile.FieldType)) ∈ lw_all := lw_g (lw_at lw_m1 52 rfl) rfl
theorem q147 : (Jvm.Cond.methodLink "java/util/ArrayList" (1 : Nat) ({ cls := "java/util/AbstractList", name := "<init>", desc := "()V" } : Jvm.MethodName)) ∈ lw_all := lw_g (lw_at lw_m1 53 rfl) rfl
theorem q148 : (Jvm.Cond.instanceMethod ({ cls := "java/util/AbstractList", name := "<init>", desc := "()V" } : Jvm.MethodName)) ∈ lw_all := lw_g (lw_at lw_m1 54 rfl) rfl
theorem q149 : (Jvm.Cond.code ({ cls := "java/util/AbstractList", name := "<init>", desc := "()V" } : Jvm.MethodName) prog_36_method_1_code (1 : Nat) (Option.none : Option Jvm.ClassFile.FieldType)) ∈ lw_all := lw_g (lw_at lw_m1 55 rfl) rfl
theorem q150 : (Jvm.Cond.methodLink "java/util/AbstractList" (1 : Nat) ({ cls := "java/util/AbstractCollection", name := "<init>", desc := "()V" } : Jvm.MethodName)) ∈ lw_all := lw_g (lw_at lw_m1 56 rfl) rfl
theorem q151 : (Jvm.Cond.instanceMethod ({ cls := "java/util/AbstractCollection", name := "<init>", desc := "()V" } : Jvm.MethodName)) ∈ lw_all := lw_g (lw_at lw_m1 57 rfl) rfl
theorem q152 : (Jvm.Cond.code ({ cls := "java/util/AbstractCollection", name := "<init>", desc := "()V" } : Jvm.MethodName) prog_35_method_1_code (1 : Nat) (Option.none : Option Jvm.ClassFile.FieldType)) ∈ lw_all := lw_g (lw_at lw_m1 58 rfl) rfl
theorem q153 : (Jvm.Cond.methodLink "java/util/AbstractCollection" (1 : Nat) ({ cls := "java/lang/Object", name := "<init>", desc := "()V" } : Jvm.MethodName)) ∈ lw_all := lw_g (lw_at lw_m1 59 rfl) rfl
theorem q154 : (Jvm.Cond.fieldLink "java/util/ArrayList" (39 : Nat) "java/util/ArrayList" "DEFAULTCAPACITY_EMPTY_ELEMENTDATA" "[Ljava/lang/Object;") ∈ lw_all := lw_g (lw_at lw_m1 60 rfl) rfl
theorem q155 : (Jvm.Cond.laysStatic "java/util/ArrayList" "DEFAULTCAPACITY_EMPTY_ELEMENTDATA" "[Ljava/lang/Object;") ∈ lw_tbl := lw_at lw_m1 61 rfl
theorem q156 : (Jvm.Cond.fieldLink "java/util/ArrayList" (9 : Nat) "java/util/ArrayList" "elementData" "[Ljava/lang/Object;") ∈ lw_all := lw_g (lw_at lw_m1 62 rfl) rfl
theorem q157 : (Jvm.Cond.fieldLink "java/util/ArrayList" (48 : Nat) "java/util/ArrayList" "size" "I") ∈ lw_all := lw_g (lw_at lw_m1 63 rfl) rfl
theorem q158 : (Jvm.Cond.fieldLink "java/util/AbstractList" (7 : Nat) "java/util/AbstractList" "modCount" "I") ∈ lw_all := lw_g (lw_at lw_m1 64 rfl) rfl
theorem q159 : (Jvm.Cond.fieldLink "java/util/ArrayList" (63 : Nat) "java/util/ArrayList" "modCount" "I") ∈ lw_all := lw_g (lw_at lw_m1 65 rfl) rfl
theorem q160 : (Jvm.Cond.sameField "java/util/ArrayList" "java/util/AbstractList" "modCount" "I") ∈ lw_all := lw_g (lw_at lw_m1 66 rfl) rfl
theorem q161 : (Jvm.Cond.lays "java/util/ArrayList" "java/util/ArrayList" "elementData" "[Ljava/lang/Object;") ∈ lw_all := lw_g (lw_at lw_m1 67 rfl) rfl
theorem q162 : (Jvm.Cond.soleField "java/util/ArrayList" "elementData") ∈ lw_all := lw_g (lw_at lw_m1 68 rfl) rfl
theorem q163 : (Jvm.Cond.lays "java/util/ArrayList" "java/util/ArrayList" "size" "I") ∈ lw_all := lw_g (lw_at lw_m1 69 rfl) rfl
theorem q164 : (Jvm.Cond.soleField "java/util/ArrayList" "size") ∈ lw_all := lw_g (lw_at lw_m1 70 rfl) rfl
theorem q165 : (Jvm.Cond.lays "java/util/ArrayList" "java/util/AbstractList" "modCount" "I") ∈ lw_all := lw_g (lw_at lw_m1 71 rfl) rfl
theorem q166 : (Jvm.Cond.soleField "java/util/AbstractList" "modCount") ∈ lw_all := lw_g (lw_at lw_m1 72 rfl) rfl
theorem q167 : (Jvm.Cond.superclass "java/util/ArrayList" "java/util/AbstractList") ∈ lw_all := lw_g (lw_at lw_m1 73 rfl) rfl
theorem q168 : (Jvm.Cond.fieldLink "PromiseTailor$Text" (18 : Nat) "PromiseTailor$Text" "bytes" "[B") ∈ lw_all := lw_g (lw_at lw_m1 74 rfl) rfl
theorem q169 : (Jvm.Cond.fieldLink "PromiseTailor$Text" (22 : Nat) "PromiseTailor$Text" "most" "I") ∈ lw_all := lw_g (lw_at lw_m1 75 rfl) rfl
theorem q170 : (Jvm.Cond.fieldLink "PromiseTailor$Text" (26 : Nat) "PromiseTailor$Text" "typed" "I") ∈ lw_all := lw_g (lw_at lw_m1 76 rfl) rfl
theorem q171 : (Jvm.Cond.fieldLink "PromiseTailor$Text" (33 : Nat) "PromiseTailor$Text" "at" "I") ∈ lw_all := lw_g (lw_at lw_m1 77 rfl) rfl
theorem q172 : (Jvm.Cond.fieldLink "PromiseTailor$Text" (29 : Nat) "PromiseTailor$Text" "fresh" "Z") ∈ lw_all := lw_g (lw_at lw_m1 78 rfl) rfl
theorem q173 : (Jvm.Cond.fieldLink "PromiseTailor$Text" (77 : Nat) "PromiseTailor$Text" "fault" "I") ∈ lw_all := lw_g (lw_at lw_m1 79 rfl) rfl
theorem q174 : (Jvm.Cond.fieldLink "PromiseTailor$Text" (12 : Nat) "PromiseTailor$Text" "all" "Ljava/util/ArrayList;") ∈ lw_all := lw_g (lw_at lw_m1 80 rfl) rfl
theorem q175 : (Jvm.Cond.fieldLink "PromiseTailor" (133 : Nat) "PromiseTailor$Town" "all" "Ljava/util/ArrayList;") ∈ lw_all := lw_g (lw_at lw_m1 81 rfl) rfl
theorem q176 : (Jvm.Cond.sameField "PromiseTailor$Town" "PromiseTailor$Text" "all" "Ljava/util/ArrayList;") ∈ lw_all := lw_g (lw_at lw_m1 82 rfl) rfl
theorem q177 : (Jvm.Cond.fieldLink "PromiseTailor" (150 : Nat) "PromiseTailor$Book" "all" "Ljava/util/ArrayList;") ∈ lw_all := lw_g (lw_at lw_m1 83 rfl) rfl
theorem q178 : (Jvm.Cond.sameField "PromiseTailor$Book" "PromiseTailor$Text" "all" "Ljava/util/ArrayList;") ∈ lw_all := lw_g (lw_at lw_m1 84 rfl) rfl
theorem q179 : (Jvm.Cond.laysFinal "PromiseTailor$Town" "PromiseTailor$Text" "bytes" "[B") ∈ lw_all := lw_g (lw_at lw_m1 85 rfl) rfl
theorem q180 : (Jvm.Cond.soleField "PromiseTailor$Text" "bytes") ∈ lw_all := lw_g (lw_at lw_m1 86 rfl) rfl
theorem q181 : (Jvm.Cond.laysFinal "PromiseTailor$Town" "PromiseTailor$Text" "most" "I") ∈ lw_all := lw_g (lw_at lw_m1 87 rfl) rfl
theorem q182 : (Jvm.Cond.soleField "PromiseTailor$Text" "most") ∈ lw_all := lw_g (lw_at lw_m1 88 rfl) rfl
theorem q183 : (Jvm.Cond.lays "PromiseTailor$Town" "PromiseTailor$Text" "typed" "I") ∈ lw_all := lw_g (lw_at lw_m1 89 rfl) rfl
theorem q184 : (Jvm.Cond.soleField "PromiseTailor$Text" "typed") ∈ lw_all := lw_g (lw_at lw_m1 90 rfl) rfl
theorem q185 : (Jvm.Cond.lays "PromiseTailor$Town" "PromiseTailor$Text" "at" "I") ∈ lw_all := lw_g (lw_at lw_m1 91 rfl) rfl
theorem q186 : (Jvm.Cond.soleField "PromiseTailor$Text" "at") ∈ lw_all := lw_g (lw_at lw_m1 92 rfl) rfl
theorem q187 : (Jvm.Cond.lays "PromiseTailor$Town" "PromiseTailor$Text" "fresh" "Z") ∈ lw_all := lw_g (lw_at lw_m1 93 rfl) rfl
theorem q188 : (Jvm.Cond.soleField "PromiseTailor$Text" "fresh") ∈ lw_all := lw_g (lw_at lw_m1 94 rfl) rfl
theorem q189 : (Jvm.Cond.lays "PromiseTailor$Town" "PromiseTailor$Text" "fault" "I") ∈ lw_all := lw_g (lw_at lw_m1 95 rfl) rfl
theorem q190 : (Jvm.Cond.soleField "PromiseTailor$Text" "fault") ∈ lw_all := lw_g (lw_at lw_m1 96 rfl) rfl
theorem q191 : (Jvm.Cond.laysFinal "PromiseTailor$Town" "PromiseTailor$Text" "all" "Ljava/util/ArrayList;") ∈ lw_all := lw_g (lw_at lw_m1 97 rfl) rfl
theorem q192 : (Jvm.Cond.soleField "PromiseTailor$Text" "all") ∈ lw_all := lw_g (lw_at lw_m1 98 rfl) rfl
theorem q193 : (Jvm.Cond.superclass "PromiseTailor$Town" "PromiseTailor$Text") ∈ lw_all := lw_g (lw_at lw_m1 99 rfl) rfl
theorem q194 : (Jvm.Cond.arrayClass Jvm.ClassFile.FieldType.byte) ∈ lw_all := lw_g (lw_at lw_m1 100 rfl) rfl
theorem q195 : (Jvm.Cond.classLink "PromiseTailor" (20 : Nat) "PromiseTailor$Book") ∈ lw_all := lw_g (lw_at lw_m1 101 rfl) rfl
theorem q196 : (Jvm.Cond.instantiable "PromiseTailor$Book" (7 : Nat)) ∈ lw_all := lw_g (lw_at lw_m1 102 rfl) rfl
theorem q197 : (Jvm.Cond.methodLink "PromiseTailor" (22 : Nat) ({ cls := "PromiseTailor$Book", name := "<init>", desc := "()V" } : Jvm.MethodName)) ∈ lw_all := lw_g (lw_at lw_m1 103 rfl) rfl
theorem q198 : (Jvm.Cond.instanceMethod ({ cls := "PromiseTailor$Book", name := "<init>", desc := "()V" } : Jvm.MethodName)) ∈ lw_all := lw_g (lw_at lw_m1 104 rfl) rfl
theorem q199 : (Jvm.Cond.code ({ cls := "PromiseTailor$Book", name := "<init>", desc := "()V" } : Jvm.MethodName) prog_3_method_1_code (1 : Nat) (Option.none : Option Jvm.ClassFile.FieldType)) ∈ lw_all := lw_g (lw_at lw_m1 105 rfl) rfl
theorem q200 : (Jvm.Cond.methodLink "PromiseTailor$Book" (3 : Nat) ({ cls := "PromiseTailor$Text", name := "<init>", desc := "(II)V" } : Jvm.MethodName)) ∈ lw_all := lw_g (lw_at lw_m1 106 rfl) rfl
theorem q201 : (Jvm.Cond.laysFinal "PromiseTailor$Book" "PromiseTailor$Text" "bytes" "[B") ∈ lw_all := lw_g (lw_at lw_m1 107 rfl) rfl
theorem q202 : (Jvm.Cond.laysFinal "PromiseTailor$Book" "PromiseTailor$Text" "most" "I") ∈ lw_all := lw_g (lw_at lw_m1 108 rfl) rfl
theorem q203 : (Jvm.Cond.lays "PromiseTailor$Book" "PromiseTailor$Text" "typed" "I") ∈ lw_all := lw_g (lw_at lw_m1 109 rfl) rfl
theorem q204 : (Jvm.Cond.lays "PromiseTailor$Book" "PromiseTailor$Text" "at" "I") ∈ lw_all := lw_g (lw_at lw_m1 110 rfl) rfl
theorem q205 : (Jvm.Cond.lays "PromiseTailor$Book" "PromiseTailor$Text" "fresh" "Z") ∈ lw_all := lw_g (lw_at lw_m1 111 rfl) rfl
theorem q206 : (Jvm.Cond.lays "PromiseTailor$Book" "PromiseTailor$Text" "fault" "I") ∈ lw_all := lw_g (lw_at lw_m1 112 rfl) rfl
theorem q207 : (Jvm.Cond.laysFinal "PromiseTailor$Book" "PromiseTailor$Text" "all" "Ljava/util/ArrayList;") ∈ lw_all := lw_g (lw_at lw_m1 113 rfl) rfl
theorem q208 : (Jvm.Cond.superclass "PromiseTailor$Book" "PromiseTailor$Text") ∈ lw_all := lw_g (lw_at lw_m1 114 rfl) rfl
theorem q209 : (Jvm.Cond.classLink "PromiseTailor" (27 : Nat) "java/util/ArrayList") ∈ lw_all := lw_g (lw_at lw_m1 115 rfl) rfl
theorem q210 : (Jvm.Cond.methodLink "PromiseTailor" (29 : Nat) ({ cls := "java/util/ArrayList", name := "<init>", desc := "()V" } : Jvm.MethodName)) ∈ lw_all := lw_g (lw_at lw_m1 116 rfl) rfl
theorem q211 : (Jvm.Cond.classLink "PromiseTailor" (50 : Nat) "[[I") ∈ lw_all := lw_g (lw_at lw_m1 117 rfl) rfl
theorem q212 : (Jvm.Cond.arrayOver (Jvm.ClassFile.FieldType.array Jvm.ClassFile.FieldType.int)) ∈ lw_tbl := lw_at lw_m1 118 rfl
theorem q213 : (Jvm.Cond.classLink "PromiseTailor" (74 : Nat) "[I") ∈ lw_all := lw_g (lw_at lw_m1 119 rfl) rfl
theorem q214 : (Jvm.Cond.classLink "PromiseTailor" (81 : Nat) "PromiseTailor$Sheet") ∈ lw_all := lw_g (lw_at lw_m1 120 rfl) rfl
theorem q215 : (Jvm.Cond.arrayOver (Jvm.ClassFile.FieldType.object "PromiseTailor$Sheet")) ∈ lw_tbl := lw_at lw_m1 121 rfl
theorem q216 : (Jvm.Cond.instantiable "PromiseTailor$Sheet" (1 : Nat)) ∈ lw_all := lw_g (lw_at lw_m1 122 rfl) rfl
theorem q217 : (Jvm.Cond.methodLinkNest "PromiseTailor" (83 : Nat) ({ cls := "PromiseTailor$Sheet", name := "<init>", desc := "()V" } : Jvm.MethodName) "PromiseTailor") ∈ lw_tbl := lw_at lw_m1 123 rfl
theorem q218 : (Jvm.Cond.instanceMethod ({ cls := "PromiseTailor$Sheet", name := "<init>", desc := "()V" } : Jvm.MethodName)) ∈ lw_all := lw_g (lw_at lw_m1 124 rfl) rfl
theorem q219 : (Jvm.Cond.code ({ cls := "PromiseTailor$Sheet", name := "<init>", desc := "()V" } : Jvm.MethodName) prog_6_method_1_code (1 : Nat) (Option.none : Option Jvm.ClassFile.FieldType)) ∈ lw_all := lw_g (lw_at lw_m1 125 rfl) rfl
theorem q220 : (Jvm.Cond.methodLink "PromiseTailor$Sheet" (1 : Nat) ({ cls := "java/lang/Object", name := "<init>", desc := "()V" } : Jvm.MethodName)) ∈ lw_all := lw_g (lw_at lw_m1 126 rfl) rfl
theorem q221 : (Jvm.Cond.fieldLink "PromiseTailor$Sheet" (7 : Nat) "PromiseTailor$Sheet" "row" "Ljava/lang/Object;") ∈ lw_all := lw_g (lw_at lw_m1 127 rfl) rfl
theorem q222 : (Jvm.Cond.fieldLinkNest "PromiseTailor" (184 : Nat) "PromiseTailor$Sheet" "row" "Ljava/lang/Object;" "PromiseTailor") ∈ lw_tbl := lw_at lw_m1 128 rfl
theorem q223 : (Jvm.Cond.lays "PromiseTailor$Sheet" "PromiseTailor$Sheet" "row" "Ljava/lang/Object;") ∈ lw_all := lw_g (lw_at lw_m1 129 rfl) rfl
theorem q224 : (Jvm.Cond.soleField "PromiseTailor$Sheet" "row") ∈ lw_all := lw_g (lw_at lw_m1 130 rfl) rfl
theorem q225 : (Jvm.Cond.superclass "PromiseTailor$Sheet" "java/lang/Object") ∈ lw_all := lw_g (lw_at lw_m1 131 rfl) rfl
theorem q226 : (Jvm.Cond.arrayClass Jvm.ClassFile.FieldType.int) ∈ lw_all := lw_g (lw_at lw_m1 132 rfl) rfl
theorem q227 : (Jvm.Cond.fieldLink "PromiseTailor" (90 : Nat) "PromiseTailor" "latest" "I") ∈ lw_all := lw_g (lw_at lw_m1 133 rfl) rfl
theorem q228 : (Jvm.Cond.fieldLink "PromiseTailor" (14 : Nat) "PromiseTailor" "town" "LPromiseTailor$Town;") ∈ lw_all := lw_g (lw_at lw_m1 134 rfl) rfl
theorem q229 : (Jvm.Cond.fieldLink "PromiseTailor" (23 : Nat) "PromiseTailor" "book" "LPromiseTailor$Book;") ∈ lw_all := lw_g (lw_at lw_m1 135 rfl) rfl
theorem q230 : (Jvm.Cond.fieldLink "PromiseTailor" (30 : Nat) "PromiseTailor" "keepings" "Ljava/util/ArrayList;") ∈ lw_all := lw_g (lw_at lw_m1 136 rfl) rfl
theorem q231 : (Jvm.Cond.fieldLink "PromiseTailor" (34 : Nat) "PromiseTailor" "lies" "Ljava/util/ArrayList;") ∈ lw_all := lw_g (lw_at lw_m1 137 rfl) rfl
theorem q232 : (Jvm.Cond.fieldLink "PromiseTailor" (37 : Nat) "PromiseTailor" "lettings" "Ljava/util/ArrayList;") ∈ lw_all := lw_g (lw_at lw_m1 138 rfl) rfl
theorem q233 : (Jvm.Cond.fieldLink "PromiseTailor" (40 : Nat) "PromiseTailor" "coats" "[I") ∈ lw_all := lw_g (lw_at lw_m1 139 rfl) rfl
theorem q234 : (Jvm.Cond.fieldLink "PromiseTailor" (44 : Nat) "PromiseTailor" "torn" "[I") ∈ lw_all := lw_g (lw_at lw_m1 140 rfl) rfl
theorem q235 : (Jvm.Cond.fieldLink "PromiseTailor" (47 : Nat) "PromiseTailor" "states" "[I") ∈ lw_all := lw_g (lw_at lw_m1 141 rfl) rfl
theorem q236 : (Jvm.Cond.fieldLink "PromiseTailor" (52 : Nat) "PromiseTailor" "coatsBy" "[[I") ∈ lw_all := lw_g (lw_at lw_m1 142 rfl) rfl
theorem q237 : (Jvm.Cond.fieldLink "PromiseTailor" (55 : Nat) "PromiseTailor" "tornBy" "[[I") ∈ lw_all := lw_g (lw_at lw_m1 143 rfl) rfl
theorem q238 : (Jvm.Cond.fieldLink "PromiseTailor" (58 : Nat) "PromiseTailor" "statesBy" "[[I") ∈ lw_all := lw_g (lw_at lw_m1 144 rfl) rfl
theorem q239 : (Jvm.Cond.fieldLink "PromiseTailor" (246 : Nat) "PromiseTailor" "goneKeepings" "I") ∈ lw_all := lw_g (lw_at lw_m1 145 rfl) rfl
theorem q240 : (Jvm.Cond.fieldLink "PromiseTailor" (262 : Nat) "PromiseTailor" "goneLies" "I") ∈ lw_all := lw_g (lw_at lw_m1 146 rfl) rfl
theorem q241 : (Jvm.Cond.fieldLink "PromiseTailor" (61 : Nat) "PromiseTailor" "oddDay" "I") ∈ lw_all := lw_g (lw_at lw_m1 147 rfl) rfl
theorem q242 : (Jvm.Cond.fieldLink "PromiseTailor" (256 : Nat) "PromiseTailor" "oddPromise" "I") ∈ lw_all := lw_g (lw_at lw_m1 148 rfl) rfl
theorem q243 : (Jvm.Cond.fieldLink "PromiseTailor" (65 : Nat) "PromiseTailor" "oddPerson" "I") ∈ lw_all := lw_g (lw_at lw_m1 149 rfl) rfl
theorem q244 : (Jvm.Cond.fieldLink "PromiseTailor" (231 : Nat) "PromiseTailor" "oddGreat" "I") ∈ lw_all := lw_g (lw_at lw_m1 150 rfl) rfl
theorem q245 : (Jvm.Cond.fieldLink "PromiseTailor" (68 : Nat) "PromiseTailor" "seen" "Ljava/util/ArrayList;") ∈ lw_all := lw_g (lw_at lw_m1 151 rfl) rfl
theorem q246 : (Jvm.Cond.fieldLink "PromiseTailor" (71 : Nat) "PromiseTailor" "had" "[[I") ∈ lw_all := lw_g (lw_at lw_m1 152 rfl) rfl
theorem q247 : (Jvm.Cond.fieldLink "PromiseTailor" (372 : Nat) "PromiseTailor" "drawn" "I") ∈ lw_all := lw_g (lw_at lw_m1 153 rfl) rfl
theorem q248 : (Jvm.Cond.fieldLink "PromiseTailor" (75 : Nat) "PromiseTailor" "aside" "[[I") ∈ lw_all := lw_g (lw_at lw_m1 154 rfl) rfl
theorem q249 : (Jvm.Cond.fieldLink "PromiseTailor" (78 : Nat) "PromiseTailor" "spare" "[[I") ∈ lw_all := lw_g (lw_at lw_m1 155 rfl) rfl
theorem q250 : (Jvm.Cond.fieldLink "PromiseTailor" (84 : Nat) "PromiseTailor" "sheets" "[LPromiseTailor$Sheet;") ∈ lw_all := lw_g (lw_at lw_m1 156 rfl) rfl
theorem q251 : (Jvm.Cond.lays "PromiseTailor" "PromiseTailor" "latest" "I") ∈ lw_all := lw_g (lw_at lw_m1 157 rfl) rfl
theorem q252 : (Jvm.Cond.soleField "PromiseTailor" "latest") ∈ lw_all := lw_g (lw_at lw_m1 158 rfl) rfl
theorem q253 : (Jvm.Cond.laysFinal "PromiseTailor" "PromiseTailor" "town" "LPromiseTailor$Town;") ∈ lw_all := lw_g (lw_at lw_m1 159 rfl) rfl
theorem q254 : (Jvm.Cond.soleField "PromiseTailor" "town") ∈ lw_all := lw_g (lw_at lw_m1 160 rfl) rfl
theorem q255 : (Jvm.Cond.laysFinal "PromiseTailor" "PromiseTailor" "book" "LPromiseTailor$Book;") ∈ lw_all := lw_g (lw_at lw_m1 161 rfl) rfl
theorem q256 : (Jvm.Cond.soleField "PromiseTailor" "book") ∈ lw_all := lw_g (lw_at lw_m1 162 rfl) rfl
theorem q257 : (Jvm.Cond.laysFinal "PromiseTailor" "PromiseTailor" "keepings" "Ljava/util/ArrayList;") ∈ lw_all := lw_g (lw_at lw_m1 163 rfl) rfl
theorem q258 : (Jvm.Cond.soleField "PromiseTailor" "keepings") ∈ lw_all := lw_g (lw_at lw_m1 164 rfl) rfl
theorem q259 : (Jvm.Cond.laysFinal "PromiseTailor" "PromiseTailor" "lies" "Ljava/util/ArrayList;") ∈ lw_all := lw_g (lw_at lw_m1 165 rfl) rfl
theorem q260 : (Jvm.Cond.soleField "PromiseTailor" "lies") ∈ lw_all := lw_g (lw_at lw_m1 166 rfl) rfl
theorem q261 : (Jvm.Cond.laysFinal "PromiseTailor" "PromiseTailor" "lettings" "Ljava/util/ArrayList;") ∈ lw_all := lw_g (lw_at lw_m1 167 rfl) rfl
theorem q262 : (Jvm.Cond.soleField "PromiseTailor" "lettings") ∈ lw_all := lw_g (lw_at lw_m1 168 rfl) rfl
theorem q263 : (Jvm.Cond.laysFinal "PromiseTailor" "PromiseTailor" "coats" "[I") ∈ lw_all := lw_g (lw_at lw_m1 169 rfl) rfl
theorem q264 : (Jvm.Cond.soleField "PromiseTailor" "coats") ∈ lw_all := lw_g (lw_at lw_m1 170 rfl) rfl
theorem q265 : (Jvm.Cond.laysFinal "PromiseTailor" "PromiseTailor" "torn" "[I") ∈ lw_all := lw_g (lw_at lw_m1 171 rfl) rfl
theorem q266 : (Jvm.Cond.soleField "PromiseTailor" "torn") ∈ lw_all := lw_g (lw_at lw_m1 172 rfl) rfl
theorem q267 : (Jvm.Cond.laysFinal "PromiseTailor" "PromiseTailor" "states" "[I") ∈ lw_all := lw_g (lw_at lw_m1 173 rfl) rfl
theorem q268 : (Jvm.Cond.soleField "PromiseTailor" "states") ∈ lw_all := lw_g (lw_at lw_m1 174 rfl) rfl
theorem q269 : (Jvm.Cond.laysFinal "PromiseTailor" "PromiseTailor" "coatsBy" "[[I") ∈ lw_all := lw_g (lw_at lw_m1 175 rfl) rfl
theorem q270 : (Jvm.Cond.soleField "PromiseTailor" "coatsBy") ∈ lw_all := lw_g (lw_at lw_m1 176 rfl) rfl
theorem q271 : (Jvm.Cond.laysFinal "PromiseTailor" "PromiseTailor" "tornBy" "[[I") ∈ lw_all := lw_g (lw_at lw_m1 177 rfl) rfl
theorem q272 : (Jvm.Cond.soleField "PromiseTailor" "tornBy") ∈ lw_all := lw_g (lw_at lw_m1 178 rfl) rfl
theorem q273 : (Jvm.Cond.laysFinal "PromiseTailor" "PromiseTailor" "statesBy" "[[I") ∈ lw_all := lw_g (lw_at lw_m1 179 rfl) rfl
theorem q274 : (Jvm.Cond.soleField "PromiseTailor" "statesBy") ∈ lw_all := lw_g (lw_at lw_m1 180 rfl) rfl
theorem q275 : (Jvm.Cond.lays "PromiseTailor" "PromiseTailor" "goneKeepings" "I") ∈ lw_all := lw_g (lw_at lw_m1 181 rfl) rfl
theorem q276 : (Jvm.Cond.soleField "PromiseTailor" "goneKeepings") ∈ lw_all := lw_g (lw_at lw_m1 182 rfl) rfl
theorem q277 : (Jvm.Cond.lays "PromiseTailor" "PromiseTailor" "goneLies" "I") ∈ lw_all := lw_g (lw_at lw_m1 183 rfl) rfl
theorem q278 : (Jvm.Cond.soleField "PromiseTailor" "goneLies") ∈ lw_all := lw_g (lw_at lw_m1 184 rfl) rfl
theorem q279 : (Jvm.Cond.lays "PromiseTailor" "PromiseTailor" "oddDay" "I") ∈ lw_all := lw_g (lw_at lw_m1 185 rfl) rfl
theorem q280 : (Jvm.Cond.soleField "PromiseTailor" "oddDay") ∈ lw_all := lw_g (lw_at lw_m1 186 rfl) rfl
theorem q281 : (Jvm.Cond.lays "PromiseTailor" "PromiseTailor" "oddPromise" "I") ∈ lw_all := lw_g (lw_at lw_m1 187 rfl) rfl
theorem q282 : (Jvm.Cond.soleField "PromiseTailor" "oddPromise") ∈ lw_all := lw_g (lw_at lw_m1 188 rfl) rfl
theorem q283 : (Jvm.Cond.lays "PromiseTailor" "PromiseTailor" "oddPerson" "I") ∈ lw_all := lw_g (lw_at lw_m1 189 rfl) rfl
theorem q284 : (Jvm.Cond.soleField "PromiseTailor" "oddPerson") ∈ lw_all := lw_g (lw_at lw_m1 190 rfl) rfl
theorem q285 : (Jvm.Cond.lays "PromiseTailor" "PromiseTailor" "oddGreat" "I") ∈ lw_all := lw_g (lw_at lw_m1 191 rfl) rfl
theorem q286 : (Jvm.Cond.soleField "PromiseTailor" "oddGreat") ∈ lw_all := lw_g (lw_at lw_m1 192 rfl) rfl
theorem q287 : (Jvm.Cond.laysFinal "PromiseTailor" "PromiseTailor" "seen" "Ljava/util/ArrayList;") ∈ lw_all := lw_g (lw_at lw_m1 193 rfl) rfl
theorem q288 : (Jvm.Cond.soleField "PromiseTailor" "seen") ∈ lw_all := lw_g (lw_at lw_m1 194 rfl) rfl
theorem q289 : (Jvm.Cond.laysFinal "PromiseTailor" "PromiseTailor" "had" "[[I") ∈ lw_all := lw_g (lw_at lw_m1 195 rfl) rfl
theorem q290 : (Jvm.Cond.soleField "PromiseTailor" "had") ∈ lw_all := lw_g (lw_at lw_m1 196 rfl) rfl
theorem q291 : (Jvm.Cond.lays "PromiseTailor" "PromiseTailor" "drawn" "I") ∈ lw_all := lw_g (lw_at lw_m1 197 rfl) rfl
theorem q292 : (Jvm.Cond.soleField "PromiseTailor" "drawn") ∈ lw_all := lw_g (lw_at lw_m1 198 rfl) rfl
theorem q293 : (Jvm.Cond.laysFinal "PromiseTailor" "PromiseTailor" "aside" "[[I") ∈ lw_all := lw_g (lw_at lw_m1 199 rfl) rfl
theorem q294 : (Jvm.Cond.soleField "PromiseTailor" "aside") ∈ lw_all := lw_g (lw_at lw_m1 200 rfl) rfl
theorem q295 : (Jvm.Cond.laysFinal "PromiseTailor" "PromiseTailor" "spare" "[[I") ∈ lw_all := lw_g (lw_at lw_m1 201 rfl) rfl
theorem q296 : (Jvm.Cond.soleField "PromiseTailor" "spare") ∈ lw_all := lw_g (lw_at lw_m1 202 rfl) rfl
theorem q297 : (Jvm.Cond.laysFinal "PromiseTailor" "PromiseTailor" "sheets" "[LPromiseTailor$Sheet;") ∈ lw_all := lw_g (lw_at lw_m1 203 rfl) rfl
theorem q298 : (Jvm.Cond.soleField "PromiseTailor" "sheets") ∈ lw_all := lw_g (lw_at lw_m1 204 rfl) rfl
theorem q299 : (Jvm.Cond.superclass "PromiseTailor" "java/lang/Object") ∈ lw_all := lw_g (lw_at lw_m1 205 rfl) rfl
theorem q300 : (Jvm.Cond.methodLink "PromiseTailorLaw" (13 : Nat) ({ cls := "PromiseTailor", name := "type", desc := "(II)I" } : Jvm.MethodName)) ∈ lw_all := lw_g (lw_at lw_m1 206 rfl) rfl
theorem q301 : (Jvm.Cond.instanceMethod ({ cls := "PromiseTailor", name := "type", desc := "(II)I" } : Jvm.MethodName)) ∈ lw_all := lw_g (lw_at lw_m1 207 rfl) rfl
theorem q302 : (Jvm.Cond.selects "PromiseTailor" ({ cls := "PromiseTailor", name := "type", desc := "(II)I" } : Jvm.MethodName) ({ cls := "PromiseTailor", name := "type", desc := "(II)I" } : Jvm.MethodName)) ∈ lw_all := lw_g (lw_at lw_m1 208 rfl) rfl
theorem q303 : (Jvm.Cond.code ({ cls := "PromiseTailor", name := "type", desc := "(II)I" } : Jvm.MethodName) prog_1_method_10_code (3 : Nat) (Option.some Jvm.ClassFile.FieldType.int)) ∈ lw_all := lw_g (lw_at lw_m1 209 rfl) rfl
theorem q304 : (Jvm.Cond.methodLink "PromiseTailor" (100 : Nat) ({ cls := "PromiseTailor", name := "isTwo", desc := "(I)Z" } : Jvm.MethodName)) ∈ lw_all := lw_g (lw_at lw_m1 210 rfl) rfl
theorem q305 : (Jvm.Cond.static ({ cls := "PromiseTailor", name := "isTwo", desc := "(I)Z" } : Jvm.MethodName)) ∈ lw_all := lw_g (lw_at lw_m1 211 rfl) rfl
theorem q306 : (Jvm.Cond.code ({ cls := "PromiseTailor", name := "isTwo", desc := "(I)Z" } : Jvm.MethodName) prog_1_method_6_code (1 : Nat) (Option.some Jvm.ClassFile.FieldType.boolean)) ∈ lw_all := lw_g (lw_at lw_m1 212 rfl) rfl
theorem q307 : (Jvm.Cond.methodLink "PromiseTailor" (94 : Nat) ({ cls := "PromiseTailor", name := "in", desc := "(JJJ)Z" } : Jvm.MethodName)) ∈ lw_all := lw_g (lw_at lw_m1 213 rfl) rfl
theorem q308 : (Jvm.Cond.static ({ cls := "PromiseTailor", name := "in", desc := "(JJJ)Z" } : Jvm.MethodName)) ∈ lw_all := lw_g (lw_at lw_m1 214 rfl) rfl
theorem q309 : (Jvm.Cond.code ({ cls := "PromiseTailor", name := "in", desc := "(JJJ)Z" } : Jvm.MethodName) prog_1_method_2_code (6 : Nat) (Option.some Jvm.ClassFile.FieldType.boolean)) ∈ lw_all := lw_g (lw_at lw_m1 215 rfl) rfl
theorem q310 : (Jvm.Cond.constantLong "PromiseTailor" (104 : Nat) (255 : Int64)) ∈ lw_all := lw_g (lw_at lw_m1 216 rfl) rfl
theorem q311 : (Jvm.Cond.methodLink "PromiseTailor" (106 : Nat) ({ cls := "PromiseTailor", name := "text", desc := "(I)LPromiseTailor$Text;" } : Jvm.MethodName)) ∈ lw_all := lw_g (lw_at lw_m1 217 rfl) rfl
theorem q312 : (Jvm.Cond.privateMethod ({ cls := "PromiseTailor", name := "text", desc := "(I)LPromiseTailor$Text;" } : Jvm.MethodName)) ∈ lw_tbl := lw_at lw_m1 218 rfl
theorem q313 : (Jvm.Cond.instanceMethod ({ cls := "PromiseTailor", name := "text", desc := "(I)LPromiseTailor$Text;" } : Jvm.MethodName)) ∈ lw_all := lw_g (lw_at lw_m1 219 rfl) rfl
theorem q314 : (Jvm.Cond.code ({ cls := "PromiseTailor", name := "text", desc := "(I)LPromiseTailor$Text;" } : Jvm.MethodName) prog_1_method_9_code (2 : Nat) (Option.some (Jvm.ClassFile.FieldType.object "PromiseTailor$Text"))) ∈ lw_all := lw_g (lw_at lw_m1 220 rfl) rfl
theorem q315 : (Jvm.Cond.methodLink "PromiseTailor" (110 : Nat) ({ cls := "PromiseTailor$Text", name := "type", desc := "(I)I" } : Jvm.MethodName)) ∈ lw_all := lw_g (lw_at lw_m1 221 rfl) rfl
theorem q316 : (Jvm.Cond.instanceMethod ({ cls := "PromiseTailor$Text", name := "type", desc := "(I)I" } : Jvm.MethodName)) ∈ lw_all := lw_g (lw_at lw_m1 222 rfl) rfl
theorem q317 : (Jvm.Cond.sameMethod "PromiseTailor$Text" "PromiseTailor$Text" "type" "(I)I") ∈ lw_all := lw_g (lw_at lw_m1 223 rfl) rfl
theorem q318 : (Jvm.Cond.selects "PromiseTailor$Book" ({ cls := "PromiseTailor$Text", name := "type", desc := "(I)I" } : Jvm.MethodName) ({ cls := "PromiseTailor$Text", name := "type", desc := "(I)I" } : Jvm.MethodName)) ∈ lw_all := lw_g (lw_at lw_m1 224 rfl) rfl
theorem q319 : (Jvm.Cond.selects "PromiseTailor$Town" ({ cls := "PromiseTailor$Text", name := "type", desc := "(I)I" } : Jvm.MethodName) ({ cls := "PromiseTailor$Text", name := "type", desc := "(I)I" } : Jvm.MethodName)) ∈ lw_all := lw_g (lw_at lw_m1 225 rfl) rfl
theorem q320 : (Jvm.Cond.code ({ cls := "PromiseTailor$Text", name := "type", desc := "(I)I" } : Jvm.MethodName) prog_9_method_3_code (2 : Nat) (Option.some Jvm.ClassFile.FieldType.int)) ∈ lw_all := lw_g (lw_at lw_m1 226 rfl) rfl
theorem q321 : (Jvm.Cond.methodLink "PromiseTailorLaw" (18 : Nat) ({ cls := "PromiseTailor", name := "wipe", desc := "(I)I" } : Jvm.MethodName)) ∈ lw_all := lw_g (lw_at lw_m1 227 rfl) rfl
theorem q322 : (Jvm.Cond.instanceMethod ({ cls := "PromiseTailor", name := "wipe", desc := "(I)I" } : Jvm.MethodName)) ∈ lw_all := lw_g (lw_at lw_m1 228 rfl) rfl
theorem q323 : (Jvm.Cond.selects "PromiseTailor" ({ cls := "PromiseTailor", name := "wipe", desc := "(I)I" } : Jvm.MethodName) ({ cls := "PromiseTailor", name := "wipe", desc := "(I)I" } : Jvm.MethodName)) ∈ lw_all := lw_g (lw_at lw_m1 229 rfl) rfl
theorem q324 : (Jvm.Cond.code ({ cls := "PromiseTailor", name := "wipe", desc := "(I)I" } : Jvm.MethodName) prog_1_method_11_code (2 : Nat) (Option.some Jvm.ClassFile.FieldType.int)) ∈ lw_all := lw_g (lw_at lw_m1 230 rfl) rfl
theorem q325 : (Jvm.Cond.methodLink "PromiseTailor" (116 : Nat) ({ cls := "PromiseTailor$Text", name := "wipe", desc := "()I" } : Jvm.MethodName)) ∈ lw_all := lw_g (lw_at lw_m1 231 rfl) rfl
theorem q326 : (Jvm.Cond.instanceMethod ({ cls := "PromiseTailor$Text", name := "wipe", desc := "()I" } : Jvm.MethodName)) ∈ lw_all := lw_g (lw_at lw_m1 232 rfl) rfl
theorem q327 : (Jvm.Cond.sameMethod "PromiseTailor$Text" "PromiseTailor$Text" "wipe" "()I") ∈ lw_all := lw_g (lw_at lw_m1 233 rfl) rfl
theorem q328 : (Jvm.Cond.selects "PromiseTailor$Book" ({ cls := "PromiseTailor$Text", name := "wipe", desc := "()I" } : Jvm.MethodName) ({ cls := "PromiseTailor$Text", name := "wipe", desc := "()I" } : Jvm.MethodName)) ∈ lw_all := lw_g (lw_at lw_m1 234 rfl) rfl
theorem q329 : (Jvm.Cond.selects "PromiseTailor$Town" ({ cls := "PromiseTailor$Text", name := "wipe", desc := "()I" } : Jvm.MethodName) ({ cls := "PromiseTailor$Text", name := "wipe", desc := "()I" } : Jvm.MethodName)) ∈ lw_all := lw_g (lw_at lw_m1 235 rfl) rfl
theorem q330 : (Jvm.Cond.code ({ cls := "PromiseTailor$Text", name := "wipe", desc := "()I" } : Jvm.MethodName) prog_9_method_4_code (2 : Nat) (Option.some Jvm.ClassFile.FieldType.int)) ∈ lw_all := lw_g (lw_at lw_m1 236 rfl) rfl
theorem q331 : (Jvm.Cond.methodLink "PromiseTailorLaw" (23 : Nat) ({ cls := "PromiseTailor", name := "undo", desc := "(I)I" } : Jvm.MethodName)) ∈ lw_all := lw_g (lw_at lw_m1 237 rfl) rfl
theorem q332 : (Jvm.Cond.instanceMethod ({ cls := "PromiseTailor", name := "undo", desc := "(I)I" } : Jvm.MethodName)) ∈ lw_all := lw_g (lw_at lw_m1 238 rfl) rfl
theorem q333 : (Jvm.Cond.selects "PromiseTailor" ({ cls := "PromiseTailor", name := "undo", desc := "(I)I" } : Jvm.MethodName) ({ cls := "PromiseTailor", name := "undo", desc := "(I)I" } : Jvm.MethodName)) ∈ lw_all := lw_g (lw_at lw_m1 239 rfl) rfl
theorem q334 : (Jvm.Cond.code ({ cls := "PromiseTailor", name := "undo", desc := "(I)I" } : Jvm.MethodName) prog_1_method_12_code (2 : Nat) (Option.some Jvm.ClassFile.FieldType.int)) ∈ lw_all := lw_g (lw_at lw_m2 0 rfl) rfl
theorem q335 : (Jvm.Cond.methodLink "PromiseTailor" (120 : Nat) ({ cls := "PromiseTailor$Text", name := "undo", desc := "()I" } : Jvm.MethodName)) ∈ lw_all := lw_g (lw_at lw_m2 1 rfl) rfl
theorem q336 : (Jvm.Cond.instanceMethod ({ cls := "PromiseTailor$Text", name := "undo", desc := "()I" } : Jvm.MethodName)) ∈ lw_all := lw_g (lw_at lw_m2 2 rfl) rfl
theorem q337 : (Jvm.Cond.sameMethod "PromiseTailor$Text" "PromiseTailor$Text" "undo" "()I") ∈ lw_all := lw_g (lw_at lw_m2 3 rfl) rfl
theorem q338 : (Jvm.Cond.selects "PromiseTailor$Book" ({ cls := "PromiseTailor$Text", name := "undo", desc := "()I" } : Jvm.MethodName) ({ cls := "PromiseTailor$Text", name := "undo", desc := "()I" } : Jvm.MethodName)) ∈ lw_all := lw_g (lw_at lw_m2 4 rfl) rfl
theorem q339 : (Jvm.Cond.selects "PromiseTailor$Town" ({ cls := "PromiseTailor$Text", name := "undo", desc := "()I" } : Jvm.MethodName) ({ cls := "PromiseTailor$Text", name := "undo", desc := "()I" } : Jvm.MethodName)) ∈ lw_all := lw_g (lw_at lw_m2 5 rfl) rfl
theorem q340 : (Jvm.Cond.code ({ cls := "PromiseTailor$Text", name := "undo", desc := "()I" } : Jvm.MethodName) prog_9_method_5_code (1 : Nat) (Option.some Jvm.ClassFile.FieldType.int)) ∈ lw_all := lw_g (lw_at lw_m2 6 rfl) rfl
theorem q341 : (Jvm.Cond.methodLink "PromiseTailorLaw" (27 : Nat) ({ cls := "PromiseTailor", name := "fault", desc := "(I)I" } : Jvm.MethodName)) ∈ lw_all := lw_g (lw_at lw_m2 7 rfl) rfl
theorem q342 : (Jvm.Cond.instanceMethod ({ cls := "PromiseTailor", name := "fault", desc := "(I)I" } : Jvm.MethodName)) ∈ lw_all := lw_g (lw_at lw_m2 8 rfl) rfl
theorem q343 : (Jvm.Cond.selects "PromiseTailor" ({ cls := "PromiseTailor", name := "fault", desc := "(I)I" } : Jvm.MethodName) ({ cls := "PromiseTailor", name := "fault", desc := "(I)I" } : Jvm.MethodName)) ∈ lw_all := lw_g (lw_at lw_m2 9 rfl) rfl
theorem q344 : (Jvm.Cond.code ({ cls := "PromiseTailor", name := "fault", desc := "(I)I" } : Jvm.MethodName) prog_1_method_13_code (2 : Nat) (Option.some Jvm.ClassFile.FieldType.int)) ∈ lw_all := lw_g (lw_at lw_m2 10 rfl) rfl
theorem q345 : (Jvm.Cond.methodLink "PromiseTailor" (123 : Nat) ({ cls := "PromiseTailor$Text", name := "read", desc := "()I" } : Jvm.MethodName)) ∈ lw_all := lw_g (lw_at lw_m2 11 rfl) rfl
theorem q346 : (Jvm.Cond.instanceMethod ({ cls := "PromiseTailor$Text", name := "read", desc := "()I" } : Jvm.MethodName)) ∈ lw_all := lw_g (lw_at lw_m2 12 rfl) rfl
theorem q347 : (Jvm.Cond.sameMethod "PromiseTailor$Text" "PromiseTailor$Text" "read" "()I") ∈ lw_all := lw_g (lw_at lw_m2 13 rfl) rfl
theorem q348 : (Jvm.Cond.selects "PromiseTailor$Book" ({ cls := "PromiseTailor$Text", name := "read", desc := "()I" } : Jvm.MethodName) ({ cls := "PromiseTailor$Text", name := "read", desc := "()I" } : Jvm.MethodName)) ∈ lw_all := lw_g (lw_at lw_m2 14 rfl) rfl
theorem q349 : (Jvm.Cond.selects "PromiseTailor$Town" ({ cls := "PromiseTailor$Text", name := "read", desc := "()I" } : Jvm.MethodName) ({ cls := "PromiseTailor$Text", name := "read", desc := "()I" } : Jvm.MethodName)) ∈ lw_all := lw_g (lw_at lw_m2 15 rfl) rfl
theorem q350 : (Jvm.Cond.code ({ cls := "PromiseTailor$Text", name := "read", desc := "()I" } : Jvm.MethodName) prog_9_method_10_code (1 : Nat) (Option.some Jvm.ClassFile.FieldType.int)) ∈ lw_all := lw_g (lw_at lw_m2 16 rfl) rfl
theorem q351 : (Jvm.Cond.methodLink "PromiseTailor$Text" (74 : Nat) ({ cls := "PromiseTailor$Text", name := "reads", desc := "()I" } : Jvm.MethodName)) ∈ lw_all := lw_g (lw_at lw_m2 17 rfl) rfl
theorem q352 : (Jvm.Cond.privateMethod ({ cls := "PromiseTailor$Text", name := "reads", desc := "()I" } : Jvm.MethodName)) ∈ lw_tbl := lw_at lw_m2 18 rfl
theorem q353 : (Jvm.Cond.instanceMethod ({ cls := "PromiseTailor$Text", name := "reads", desc := "()I" } : Jvm.MethodName)) ∈ lw_all := lw_g (lw_at lw_m2 19 rfl) rfl
theorem q354 : (Jvm.Cond.codeWith ({ cls := "PromiseTailor$Text", name := "reads", desc := "()I" } : Jvm.MethodName) prog_9_method_9_code (2 : Nat) (Option.some Jvm.ClassFile.FieldType.int) [((12 : Nat), (49 : Nat), (50 : Nat), (42 : Nat))]) ∈ lw_all := lw_g (lw_at lw_m2 20 rfl) rfl
theorem q355 : (Jvm.Cond.classLink "PromiseTailor$Text" (42 : Nat) "PromiseTailor$Torn") ∈ lw_all := lw_g (lw_at lw_m2 21 rfl) rfl
theorem q356 : (Jvm.Cond.methodLink "PromiseTailor$Text" (59 : Nat) ({ cls := "java/util/ArrayList", name := "clear", desc := "()V" } : Jvm.MethodName)) ∈ lw_all := lw_g (lw_at lw_m2 22 rfl) rfl
theorem q357 : (Jvm.Cond.instanceMethod ({ cls := "java/util/ArrayList", name := "clear", desc := "()V" } : Jvm.MethodName)) ∈ lw_all := lw_g (lw_at lw_m2 23 rfl) rfl
theorem q358 : (Jvm.Cond.selects "java/util/ArrayList" ({ cls := "java/util/ArrayList", name := "clear", desc := "()V" } : Jvm.MethodName) ({ cls := "java/util/ArrayList", name := "clear", desc := "()V" } : Jvm.MethodName)) ∈ lw_all := lw_g (lw_at lw_m2 24 rfl) rfl
theorem q359 : (Jvm.Cond.code ({ cls := "java/util/ArrayList", name := "clear", desc := "()V" } : Jvm.MethodName) prog_37_method_40_code (4 : Nat) (Option.none : Option Jvm.ClassFile.FieldType)) ∈ lw_all := lw_g (lw_at lw_m2 25 rfl) rfl
theorem q360 : (Jvm.Cond.methodLink "PromiseTailor$Text" (62 : Nat) ({ cls := "PromiseTailor$Text", name := "next", desc := "()V" } : Jvm.MethodName)) ∈ lw_all := lw_g (lw_at lw_m2 26 rfl) rfl
theorem q361 : (Jvm.Cond.privateMethod ({ cls := "PromiseTailor$Text", name := "next", desc := "()V" } : Jvm.MethodName)) ∈ lw_tbl := lw_at lw_m2 27 rfl
theorem q362 : (Jvm.Cond.instanceMethod ({ cls := "PromiseTailor$Text", name := "next", desc := "()V" } : Jvm.MethodName)) ∈ lw_all := lw_g (lw_at lw_m2 28 rfl) rfl
theorem q363 : (Jvm.Cond.code ({ cls := "PromiseTailor$Text", name := "next", desc := "()V" } : Jvm.MethodName) prog_9_method_8_code (1 : Nat) (Option.none : Option Jvm.ClassFile.FieldType)) ∈ lw_all := lw_g (lw_at lw_m2 29 rfl) rfl
theorem q364 : (Jvm.Cond.methodLink "PromiseTailor$Text" (47 : Nat) ({ cls := "java/util/ArrayList", name := "size", desc := "()I" } : Jvm.MethodName)) ∈ lw_all := lw_g (lw_at lw_m2 30 rfl) rfl
theorem q365 : (Jvm.Cond.instanceMethod ({ cls := "java/util/ArrayList", name := "size", desc := "()I" } : Jvm.MethodName)) ∈ lw_all := lw_g (lw_at lw_m2 31 rfl) rfl
theorem q366 : (Jvm.Cond.selects "java/util/ArrayList" ({ cls := "java/util/ArrayList", name := "size", desc := "()I" } : Jvm.MethodName) ({ cls := "java/util/ArrayList", name := "size", desc := "()I" } : Jvm.MethodName)) ∈ lw_all := lw_g (lw_at lw_m2 32 rfl) rfl
theorem q367 : (Jvm.Cond.code ({ cls := "java/util/ArrayList", name := "size", desc := "()I" } : Jvm.MethodName) prog_37_method_8_code (1 : Nat) (Option.some Jvm.ClassFile.FieldType.int)) ∈ lw_all := lw_g (lw_at lw_m2 33 rfl) rfl
theorem q368 : (Jvm.Cond.instantiable "PromiseTailor$Torn" (7 : Nat)) ∈ lw_all := lw_g (lw_at lw_m2 34 rfl) rfl
theorem q369 : (Jvm.Cond.castable "PromiseTailor$Torn" "PromiseTailor$Torn") ∈ lw_tbl := lw_at lw_m2 35 rfl
theorem q370 : (Jvm.Cond.declares ({ cls := "java/lang/Exception", name := "<init>", desc := "()V" } : Jvm.MethodName)) ∈ lw_tbl := lw_at lw_m2 36 rfl
theorem q371 : (Jvm.Cond.declares ({ cls := "java/lang/Exception", name := "<init>", desc := "(Ljava/lang/String;)V" } : Jvm.MethodName)) ∈ lw_tbl := lw_at lw_m2 37 rfl
theorem q372 : (Jvm.Cond.declares ({ cls := "java/lang/Throwable", name := "<init>", desc := "()V" } : Jvm.MethodName)) ∈ lw_tbl := lw_at lw_m2 38 rfl
theorem q373 : (Jvm.Cond.declares ({ cls := "java/lang/Throwable", name := "<init>", desc := "(Ljava/lang/String;)V" } : Jvm.MethodName)) ∈ lw_tbl := lw_at lw_m2 39 rfl
theorem q374 : (Jvm.Cond.selects "PromiseTailor$Torn" ({ cls := "java/lang/Throwable", name := "fillInStackTrace", desc := "(I)Ljava/lang/Throwable;" } : Jvm.MethodName) ({ cls := "java/lang/Throwable", name := "fillInStackTrace", desc := "(I)Ljava/lang/Throwable;" } : Jvm.MethodName)) ∈ lw_all := lw_g (lw_at lw_m2 40 rfl) rfl
theorem q375 : (Jvm.Cond.selects "PromiseTailor$Torn" ({ cls := "java/lang/Throwable", name := "fillInStackTrace", desc := "()Ljava/lang/Throwable;" } : Jvm.MethodName) ({ cls := "java/lang/Throwable", name := "fillInStackTrace", desc := "()Ljava/lang/Throwable;" } : Jvm.MethodName)) ∈ lw_all := lw_g (lw_at lw_m2 41 rfl) rfl
theorem q376 : (Jvm.Cond.lays "PromiseTailor$Torn" "java/lang/Throwable" "cause" "Ljava/lang/Throwable;") ∈ lw_all := lw_g (lw_at lw_m2 42 rfl) rfl
theorem q377 : (Jvm.Cond.lays "java/lang/Throwable" "java/lang/Throwable" "cause" "Ljava/lang/Throwable;") ∈ lw_all := lw_g (lw_at lw_m2 43 rfl) rfl
theorem q378 : (Jvm.Cond.lays "PromiseTailor$Torn" "java/lang/Throwable" "stackTrace" "[Ljava/lang/StackTraceElement;") ∈ lw_all := lw_g (lw_at lw_m2 44 rfl) rfl
theorem q379 : (Jvm.Cond.lays "java/lang/Throwable" "java/lang/Throwable" "stackTrace" "[Ljava/lang/StackTraceElement;") ∈ lw_all := lw_g (lw_at lw_m2 45 rfl) rfl
theorem q380 : (Jvm.Cond.lays "PromiseTailor$Torn" "java/lang/Throwable" "suppressedExceptions" "Ljava/util/List;") ∈ lw_all := lw_g (lw_at lw_m2 46 rfl) rfl
theorem q381 : (Jvm.Cond.lays "java/lang/Throwable" "java/lang/Throwable" "suppressedExceptions" "Ljava/util/List;") ∈ lw_all := lw_g (lw_at lw_m2 47 rfl) rfl
theorem q382 : (Jvm.Cond.lays "PromiseTailor$Torn" "java/lang/Throwable" "detailMessage" "Ljava/lang/String;") ∈ lw_all := lw_g (lw_at lw_m2 48 rfl) rfl
theorem q383 : (Jvm.Cond.lays "java/lang/Throwable" "java/lang/Throwable" "detailMessage" "Ljava/lang/String;") ∈ lw_all := lw_g (lw_at lw_m2 49 rfl) rfl
theorem q384 : (Jvm.Cond.lays "PromiseTailor$Torn" "java/lang/Throwable" "backtrace" "Ljava/lang/Object;") ∈ lw_all := lw_g (lw_at lw_m2 50 rfl) rfl
theorem q385 : (Jvm.Cond.lays "java/lang/Throwable" "java/lang/Throwable" "backtrace" "Ljava/lang/Object;") ∈ lw_all := lw_g (lw_at lw_m2 51 rfl) rfl
theorem q386 : (Jvm.Cond.fieldLink "java/lang/Throwable" (198 : Nat) "java/lang/Throwable" "backtrace" "Ljava/lang/Object;") ∈ lw_all := lw_g (lw_at lw_m2 52 rfl) rfl
theorem q387 : (Jvm.Cond.superclass "java/lang/Throwable" "java/lang/Object") ∈ lw_all := lw_g (lw_at lw_m2 53 rfl) rfl
theorem q388 : (Jvm.Cond.instanceMethod ({ cls := "java/lang/Throwable", name := "<init>", desc := "()V" } : Jvm.MethodName)) ∈ lw_all := lw_g (lw_at lw_m2 54 rfl) rfl
theorem q389 : (Jvm.Cond.code ({ cls := "java/lang/Throwable", name := "<init>", desc := "()V" } : Jvm.MethodName) prog_32_method_1_code (1 : Nat) (Option.none : Option Jvm.ClassFile.FieldType)) ∈ lw_all := lw_g (lw_at lw_m2 55 rfl) rfl
theorem q390 : (Jvm.Cond.methodLink "java/lang/Throwable" (1 : Nat) ({ cls := "java/lang/Object", name := "<init>", desc := "()V" } : Jvm.MethodName)) ∈ lw_all := lw_g (lw_at lw_m2 56 rfl) rfl
theorem q391 : (Jvm.Cond.fieldLink "java/lang/Throwable" (13 : Nat) "java/lang/Throwable" "UNASSIGNED_STACK" "[Ljava/lang/StackTraceElement;") ∈ lw_all := lw_g (lw_at lw_m2 57 rfl) rfl
theorem q392 : (Jvm.Cond.laysStatic "java/lang/Throwable" "UNASSIGNED_STACK" "[Ljava/lang/StackTraceElement;") ∈ lw_tbl := lw_at lw_m2 58 rfl
theorem q393 : (Jvm.Cond.fieldLink "java/lang/Throwable" (20 : Nat) "java/lang/Throwable" "SUPPRESSED_SENTINEL" "Ljava/util/List;") ∈ lw_all := lw_g (lw_at lw_m2 59 rfl) rfl
theorem q394 : (Jvm.Cond.laysStatic "java/lang/Throwable" "SUPPRESSED_SENTINEL" "Ljava/util/List;") ∈ lw_tbl := lw_at lw_m2 60 rfl
theorem q395 : (Jvm.Cond.methodLink "java/lang/Throwable" (27 : Nat) ({ cls := "java/lang/Throwable", name := "fillInStackTrace", desc := "()Ljava/lang/Throwable;" } : Jvm.MethodName)) ∈ lw_all := lw_g (lw_at lw_m2 61 rfl) rfl
theorem q396 : (Jvm.Cond.instanceMethod ({ cls := "java/lang/Throwable", name := "fillInStackTrace", desc := "()Ljava/lang/Throwable;" } : Jvm.MethodName)) ∈ lw_all := lw_g (lw_at lw_m2 62 rfl) rfl
theorem q397 : (Jvm.Cond.sameMethod "java/lang/Throwable" "java/lang/Throwable" "fillInStackTrace" "()Ljava/lang/Throwable;") ∈ lw_all := lw_g (lw_at lw_m2 63 rfl) rfl
theorem q398 : (Jvm.Cond.selects "java/lang/ArrayIndexOutOfBoundsException" ({ cls := "java/lang/Throwable", name := "fillInStackTrace", desc := "()Ljava/lang/Throwable;" } : Jvm.MethodName) ({ cls := "java/lang/Throwable", name := "fillInStackTrace", desc := "()Ljava/lang/Throwable;" } : Jvm.MethodName)) ∈ lw_all := lw_g (lw_at lw_m2 64 rfl) rfl
theorem q399 : (Jvm.Cond.selects "java/lang/ClassCastException" ({ cls := "java/lang/Throwable", name := "fillInStackTrace", desc := "()Ljava/lang/Throwable;" } : Jvm.MethodName) ({ cls := "java/lang/Throwable", name := "fillInStackTrace", desc := "()Ljava/lang/Throwable;" } : Jvm.MethodName)) ∈ lw_all := lw_g (lw_at lw_m2 65 rfl) rfl
theorem q400 : (Jvm.Cond.selects "java/lang/NegativeArraySizeException" ({ cls := "java/lang/Throwable", name := "fillInStackTrace", desc := "()Ljava/lang/Throwable;" } : Jvm.MethodName) ({ cls := "java/lang/Throwable", name := "fillInStackTrace", desc := "()Ljava/lang/Throwable;" } : Jvm.MethodName)) ∈ lw_all := lw_g (lw_at lw_m2 66 rfl) rfl
theorem q401 : (Jvm.Cond.codeSync ({ cls := "java/lang/Throwable", name := "fillInStackTrace", desc := "()Ljava/lang/Throwable;" } : Jvm.MethodName) prog_32_method_18_code (1 : Nat) (Option.some (Jvm.ClassFile.FieldType.object "java/lang/Throwable"))) ∈ lw_all := lw_g (lw_at lw_m2 67 rfl) rfl
theorem q402 : (Jvm.Cond.methodLink "java/lang/Throwable" (202 : Nat) ({ cls := "java/lang/Throwable", name := "fillInStackTrace", desc := "(I)Ljava/lang/Throwable;" } : Jvm.MethodName)) ∈ lw_all := lw_g (lw_at lw_m2 68 rfl) rfl
theorem q403 : (Jvm.Cond.privateMethod ({ cls := "java/lang/Throwable", name := "fillInStackTrace", desc := "(I)Ljava/lang/Throwable;" } : Jvm.MethodName)) ∈ lw_tbl := lw_at lw_m2 69 rfl
theorem q404 : (Jvm.Cond.instanceMethod ({ cls := "java/lang/Throwable", name := "fillInStackTrace", desc := "(I)Ljava/lang/Throwable;" } : Jvm.MethodName)) ∈ lw_all := lw_g (lw_at lw_m2 70 rfl) rfl
theorem q405 : (Jvm.Cond.instantiable "java/lang/Throwable" (6 : Nat)) ∈ lw_all := lw_g (lw_at lw_m2 71 rfl) rfl
theorem q406 : (Jvm.Cond.native ({ cls := "java/lang/Throwable", name := "fillInStackTrace", desc := "(I)Ljava/lang/Throwable;" } : Jvm.MethodName)) ∈ lw_all := lw_g (lw_at lw_m2 72 rfl) rfl
theorem q407 : (Jvm.Cond.methodLink "PromiseTailor$Text" (44 : Nat) ({ cls := "PromiseTailor$Torn", name := "<init>", desc := "(I)V" } : Jvm.MethodName)) ∈ lw_all := lw_g (lw_at lw_m2 73 rfl) rfl
theorem q408 : (Jvm.Cond.instanceMethod ({ cls := "PromiseTailor$Torn", name := "<init>", desc := "(I)V" } : Jvm.MethodName)) ∈ lw_all := lw_g (lw_at lw_m2 74 rfl) rfl
theorem q409 : (Jvm.Cond.code ({ cls := "PromiseTailor$Torn", name := "<init>", desc := "(I)V" } : Jvm.MethodName) prog_10_method_1_code (2 : Nat) (Option.none : Option Jvm.ClassFile.FieldType)) ∈ lw_all := lw_g (lw_at lw_m2 75 rfl) rfl
theorem q410 : (Jvm.Cond.methodLink "PromiseTailor$Torn" (1 : Nat) ({ cls := "java/lang/Exception", name := "<init>", desc := "(Ljava/lang/String;Ljava/lang/Throwable;ZZ)V" } : Jvm.MethodName)) ∈ lw_all := lw_g (lw_at lw_m2 76 rfl) rfl
theorem q411 : (Jvm.Cond.instanceMethod ({ cls := "java/lang/Exception", name := "<init>", desc := "(Ljava/lang/String;Ljava/lang/Throwable;ZZ)V" } : Jvm.MethodName)) ∈ lw_all := lw_g (lw_at lw_m2 77 rfl) rfl
theorem q412 : (Jvm.Cond.code ({ cls := "java/lang/Exception", name := "<init>", desc := "(Ljava/lang/String;Ljava/lang/Throwable;ZZ)V" } : Jvm.MethodName) prog_21_method_5_code (5 : Nat) (Option.none : Option Jvm.ClassFile.FieldType)) ∈ lw_all := lw_g (lw_at lw_m2 78 rfl) rfl
theorem q413 : (Jvm.Cond.methodLink "java/lang/Exception" (16 : Nat) ({ cls := "java/lang/Throwable", name := "<init>", desc := "(Ljava/lang/String;Ljava/lang/Throwable;ZZ)V" } : Jvm.MethodName)) ∈ lw_all := lw_g (lw_at lw_m2 79 rfl) rfl
theorem q414 : (Jvm.Cond.instanceMethod ({ cls := "java/lang/Throwable", name := "<init>", desc := "(Ljava/lang/String;Ljava/lang/Throwable;ZZ)V" } : Jvm.MethodName)) ∈ lw_all := lw_g (lw_at lw_m2 80 rfl) rfl
theorem q415 : (Jvm.Cond.code ({ cls := "java/lang/Throwable", name := "<init>", desc := "(Ljava/lang/String;Ljava/lang/Throwable;ZZ)V" } : Jvm.MethodName) prog_32_method_5_code (5 : Nat) (Option.none : Option Jvm.ClassFile.FieldType)) ∈ lw_all := lw_g (lw_at lw_m2 81 rfl) rfl
theorem q416 : (Jvm.Cond.fieldLink "PromiseTailor$Torn" (7 : Nat) "PromiseTailor$Torn" "place" "I") ∈ lw_all := lw_g (lw_at lw_m2 82 rfl) rfl
theorem q417 : (Jvm.Cond.fieldLinkNest "PromiseTailor$Text" (71 : Nat) "PromiseTailor$Torn" "place" "I" "PromiseTailor") ∈ lw_tbl := lw_at lw_m2 83 rfl
theorem q418 : (Jvm.Cond.fieldLink "java/lang/Throwable" (198 : Nat) "java/lang/Throwable" "backtrace" "Ljava/lang/Object;") ∈ lw_all := lw_g (lw_at lw_m2 84 rfl) rfl
theorem q419 : (Jvm.Cond.fieldLink "java/lang/Throwable" (31 : Nat) "java/lang/Throwable" "detailMessage" "Ljava/lang/String;") ∈ lw_all := lw_g (lw_at lw_m2 85 rfl) rfl
theorem q420 : (Jvm.Cond.fieldLink "java/lang/Throwable" (7 : Nat) "java/lang/Throwable" "cause" "Ljava/lang/Throwable;") ∈ lw_all := lw_g (lw_at lw_m2 86 rfl) rfl
theorem q421 : (Jvm.Cond.fieldLink "java/lang/Throwable" (17 : Nat) "java/lang/Throwable" "stackTrace" "[Ljava/lang/StackTraceElement;") ∈ lw_all := lw_g (lw_at lw_m2 87 rfl) rfl
theorem q422 : (Jvm.Cond.fieldLink "java/lang/Throwable" (24 : Nat) "java/lang/Throwable" "suppressedExceptions" "Ljava/util/List;") ∈ lw_all := lw_g (lw_at lw_m2 88 rfl) rfl
theorem q423 : (Jvm.Cond.laysFinal "PromiseTailor$Torn" "PromiseTailor$Torn" "place" "I") ∈ lw_all := lw_g (lw_at lw_m2 89 rfl) rfl
theorem q424 : (Jvm.Cond.soleField "PromiseTailor$Torn" "place") ∈ lw_all := lw_g (lw_at lw_m2 90 rfl) rfl
theorem q425 : (Jvm.Cond.soleField "java/lang/Throwable" "backtrace") ∈ lw_all := lw_g (lw_at lw_m2 91 rfl) rfl
theorem q426 : (Jvm.Cond.soleField "java/lang/Throwable" "detailMessage") ∈ lw_all := lw_g (lw_at lw_m2 92 rfl) rfl
theorem q427 : (Jvm.Cond.soleField "java/lang/Throwable" "cause") ∈ lw_all := lw_g (lw_at lw_m2 93 rfl) rfl
theorem q428 : (Jvm.Cond.soleField "java/lang/Throwable" "stackTrace") ∈ lw_all := lw_g (lw_at lw_m2 94 rfl) rfl
theorem q429 : (Jvm.Cond.lays "PromiseTailor$Torn" "java/lang/Throwable" "depth" "I") ∈ lw_all := lw_g (lw_at lw_m2 95 rfl) rfl
theorem q430 : (Jvm.Cond.soleField "java/lang/Throwable" "depth") ∈ lw_all := lw_g (lw_at lw_m2 96 rfl) rfl
theorem q431 : (Jvm.Cond.soleField "java/lang/Throwable" "suppressedExceptions") ∈ lw_all := lw_g (lw_at lw_m2 97 rfl) rfl
theorem q432 : (Jvm.Cond.superclass "PromiseTailor$Torn" "java/lang/Exception") ∈ lw_all := lw_g (lw_at lw_m2 98 rfl) rfl
theorem q433 : (Jvm.Cond.methodLink "PromiseTailor$Text" (51 : Nat) ({ cls := "PromiseTailor$Text", name := "part", desc := "()Ljava/lang/Object;" } : Jvm.MethodName)) ∈ lw_all := lw_g (lw_at lw_m2 99 rfl) rfl
theorem q434 : (Jvm.Cond.declares ({ cls := "PromiseTailor$Text", name := "part", desc := "()Ljava/lang/Object;" } : Jvm.MethodName)) ∈ lw_tbl := lw_at lw_m2 100 rfl
theorem q435 : (Jvm.Cond.sameMethod "PromiseTailor$Text" "PromiseTailor$Text" "part" "()Ljava/lang/Object;") ∈ lw_all := lw_g (lw_at lw_m2 101 rfl) rfl
theorem q436 : (Jvm.Cond.selects "PromiseTailor$Book" ({ cls := "PromiseTailor$Text", name := "part", desc := "()Ljava/lang/Object;" } : Jvm.MethodName) ({ cls := "PromiseTailor$Book", name := "part", desc := "()Ljava/lang/Object;" } : Jvm.MethodName)) ∈ lw_all := lw_g (lw_at lw_m2 102 rfl) rfl
theorem q437 : (Jvm.Cond.instanceMethod ({ cls := "PromiseTailor$Book", name := "part", desc := "()Ljava/lang/Object;" } : Jvm.MethodName)) ∈ lw_all := lw_g (lw_at lw_m2 103 rfl) rfl
theorem q438 : (Jvm.Cond.code ({ cls := "PromiseTailor$Book", name := "part", desc := "()Ljava/lang/Object;" } : Jvm.MethodName) prog_3_method_3_code (1 : Nat) (Option.some (Jvm.ClassFile.FieldType.object "java/lang/Object"))) ∈ lw_all := lw_g (lw_at lw_m2 104 rfl) rfl
theorem q439 : (Jvm.Cond.methodLink "PromiseTailor$Book" (26 : Nat) ({ cls := "PromiseTailor$Book", name := "part", desc := "()LPromiseTailor$Promise;" } : Jvm.MethodName)) ∈ lw_all := lw_g (lw_at lw_m2 105 rfl) rfl
theorem q440 : (Jvm.Cond.instanceMethod ({ cls := "PromiseTailor$Book", name := "part", desc := "()LPromiseTailor$Promise;" } : Jvm.MethodName)) ∈ lw_all := lw_g (lw_at lw_m2 106 rfl) rfl
theorem q441 : (Jvm.Cond.selects "PromiseTailor$Book" ({ cls := "PromiseTailor$Book", name := "part", desc := "()LPromiseTailor$Promise;" } : Jvm.MethodName) ({ cls := "PromiseTailor$Book", name := "part", desc := "()LPromiseTailor$Promise;" } : Jvm.MethodName)) ∈ lw_all := lw_g (lw_at lw_m2 107 rfl) rfl
theorem q442 : (Jvm.Cond.code ({ cls := "PromiseTailor$Book", name := "part", desc := "()LPromiseTailor$Promise;" } : Jvm.MethodName) prog_3_method_2_code (4 : Nat) (Option.some (Jvm.ClassFile.FieldType.object "PromiseTailor$Promise"))) ∈ lw_all := lw_g (lw_at lw_m2 108 rfl) rfl
theorem q443 : (Jvm.Cond.stringRef "PromiseTailor$Book" (9 : Nat) "abcdefgh") ∈ lw_tbl := lw_at lw_m2 109 rfl
theorem q444 : (Jvm.Cond.methodLink "PromiseTailor$Book" (11 : Nat) ({ cls := "PromiseTailor$Book", name := "passes", desc := "(Ljava/lang/String;)I" } : Jvm.MethodName)) ∈ lw_all := lw_g (lw_at lw_m2 110 rfl) rfl
theorem q445 : (Jvm.Cond.sameMethod "PromiseTailor$Book" "PromiseTailor$Text" "passes" "(Ljava/lang/String;)I") ∈ lw_all := lw_g (lw_at lw_m2 111 rfl) rfl
theorem q446 : (Jvm.Cond.declares ({ cls := "PromiseTailor$Text", name := "passes", desc := "(Ljava/lang/String;)I" } : Jvm.MethodName)) ∈ lw_tbl := lw_at lw_m2 112 rfl
theorem q447 : (Jvm.Cond.selects "PromiseTailor$Book" ({ cls := "PromiseTailor$Book", name := "passes", desc := "(Ljava/lang/String;)I" } : Jvm.MethodName) ({ cls := "PromiseTailor$Text", name := "passes", desc := "(Ljava/lang/String;)I" } : Jvm.MethodName)) ∈ lw_all := lw_g (lw_at lw_m2 113 rfl) rfl
theorem q448 : (Jvm.Cond.instanceMethod ({ cls := "PromiseTailor$Text", name := "passes", desc := "(Ljava/lang/String;)I" } : Jvm.MethodName)) ∈ lw_all := lw_g (lw_at lw_m2 114 rfl) rfl
theorem q449 : (Jvm.Cond.code ({ cls := "PromiseTailor$Text", name := "passes", desc := "(Ljava/lang/String;)I" } : Jvm.MethodName) prog_9_method_7_code (3 : Nat) (Option.some Jvm.ClassFile.FieldType.int)) ∈ lw_all := lw_g (lw_at lw_m2 115 rfl) rfl
theorem q450 : (Jvm.Cond.methodLink "PromiseTailor$Text" (36 : Nat) ({ cls := "java/lang/String", name := "indexOf", desc := "(I)I" } : Jvm.MethodName)) ∈ lw_all := lw_g (lw_at lw_m2 116 rfl) rfl
theorem q451 : (Jvm.Cond.instanceMethod ({ cls := "java/lang/String", name := "indexOf", desc := "(I)I" } : Jvm.MethodName)) ∈ lw_all := lw_g (lw_at lw_m2 117 rfl) rfl
theorem q452 : (Jvm.Cond.selects "java/lang/String" ({ cls := "java/lang/String", name := "indexOf", desc := "(I)I" } : Jvm.MethodName) ({ cls := "java/lang/String", name := "indexOf", desc := "(I)I" } : Jvm.MethodName)) ∈ lw_all := lw_g (lw_at lw_m2 118 rfl) rfl
theorem q453 : (Jvm.Cond.code ({ cls := "java/lang/String", name := "indexOf", desc := "(I)I" } : Jvm.MethodName) prog_28_method_79_code (2 : Nat) (Option.some Jvm.ClassFile.FieldType.int)) ∈ lw_all := lw_g (lw_at lw_m2 119 rfl) rfl
theorem q454 : (Jvm.Cond.methodLink "java/lang/String" (633 : Nat) ({ cls := "java/lang/String", name := "indexOf", desc := "(II)I" } : Jvm.MethodName)) ∈ lw_all := lw_g (lw_at lw_m2 120 rfl) rfl
theorem q455 : (Jvm.Cond.instanceMethod ({ cls := "java/lang/String", name := "indexOf", desc := "(II)I" } : Jvm.MethodName)) ∈ lw_all := lw_g (lw_at lw_m2 121 rfl) rfl
theorem q456 : (Jvm.Cond.selects "java/lang/String" ({ cls := "java/lang/String", name := "indexOf", desc := "(II)I" } : Jvm.MethodName) ({ cls := "java/lang/String", name := "indexOf", desc := "(II)I" } : Jvm.MethodName)) ∈ lw_all := lw_g (lw_at lw_m2 122 rfl) rfl
theorem q457 : (Jvm.Cond.code ({ cls := "java/lang/String", name := "indexOf", desc := "(II)I" } : Jvm.MethodName) prog_28_method_80_code (3 : Nat) (Option.some Jvm.ClassFile.FieldType.int)) ∈ lw_all := lw_g (lw_at lw_m2 123 rfl) rfl
theorem q458 : (Jvm.Cond.methodLink "java/lang/String" (492 : Nat) ({ cls := "java/lang/String", name := "isLatin1", desc := "()Z" } : Jvm.MethodName)) ∈ lw_all := lw_g (lw_at lw_m2 124 rfl) rfl
theorem q459 : (Jvm.Cond.instanceMethod ({ cls := "java/lang/String", name := "isLatin1", desc := "()Z" } : Jvm.MethodName)) ∈ lw_all := lw_g (lw_at lw_m2 125 rfl) rfl
theorem q460 : (Jvm.Cond.selects "java/lang/String" ({ cls := "java/lang/String", name := "isLatin1", desc := "()Z" } : Jvm.MethodName) ({ cls := "java/lang/String", name := "isLatin1", desc := "()Z" } : Jvm.MethodName)) ∈ lw_all := lw_g (lw_at lw_m2 126 rfl) rfl
theorem q461 : (Jvm.Cond.code ({ cls := "java/lang/String", name := "isLatin1", desc := "()Z" } : Jvm.MethodName) prog_28_method_154_code (1 : Nat) (Option.some Jvm.ClassFile.FieldType.boolean)) ∈ lw_all := lw_g (lw_at lw_m2 127 rfl) rfl
theorem q462 : (Jvm.Cond.fieldLink "java/lang/String" (38 : Nat) "java/lang/String" "COMPACT_STRINGS" "Z") ∈ lw_all := lw_g (lw_at lw_m2 128 rfl) rfl
theorem q463 : (Jvm.Cond.laysStatic "java/lang/String" "COMPACT_STRINGS" "Z") ∈ lw_tbl := lw_at lw_m2 129 rfl
theorem q464 : (Jvm.Cond.methodLink "java/lang/String" (505 : Nat) ({ cls := "java/lang/String", name := "length", desc := "()I" } : Jvm.MethodName)) ∈ lw_all := lw_g (lw_at lw_m2 130 rfl) rfl
theorem q465 : (Jvm.Cond.instanceMethod ({ cls := "java/lang/String", name := "length", desc := "()I" } : Jvm.MethodName)) ∈ lw_all := lw_g (lw_at lw_m2 131 rfl) rfl
theorem q466 : (Jvm.Cond.selects "java/lang/String" ({ cls := "java/lang/String", name := "length", desc := "()I" } : Jvm.MethodName) ({ cls := "java/lang/String", name := "length", desc := "()I" } : Jvm.MethodName)) ∈ lw_all := lw_g (lw_at lw_m2 132 rfl) rfl
theorem q467 : (Jvm.Cond.code ({ cls := "java/lang/String", name := "length", desc := "()I" } : Jvm.MethodName) prog_28_method_54_code (1 : Nat) (Option.some Jvm.ClassFile.FieldType.int)) ∈ lw_all := lw_g (lw_at lw_m2 133 rfl) rfl
theorem q468 : (Jvm.Cond.methodLink "java/lang/String" (335 : Nat) ({ cls := "java/lang/String", name := "coder", desc := "()B" } : Jvm.MethodName)) ∈ lw_all := lw_g (lw_at lw_m2 134 rfl) rfl
theorem q469 : (Jvm.Cond.instanceMethod ({ cls := "java/lang/String", name := "coder", desc := "()B" } : Jvm.MethodName)) ∈ lw_all := lw_g (lw_at lw_m2 135 rfl) rfl
theorem q470 : (Jvm.Cond.selects "java/lang/String" ({ cls := "java/lang/String", name := "coder", desc := "()B" } : Jvm.MethodName) ({ cls := "java/lang/String", name := "coder", desc := "()B" } : Jvm.MethodName)) ∈ lw_all := lw_g (lw_at lw_m2 136 rfl) rfl
theorem q471 : (Jvm.Cond.code ({ cls := "java/lang/String", name := "coder", desc := "()B" } : Jvm.MethodName) prog_28_method_152_code (1 : Nat) (Option.some Jvm.ClassFile.FieldType.byte)) ∈ lw_all := lw_g (lw_at lw_m2 137 rfl) rfl
theorem q472 : (Jvm.Cond.methodLink "java/lang/String" (637 : Nat) ({ cls := "java/lang/StringLatin1", name := "indexOf", desc := "([BIII)I" } : Jvm.MethodName)) ∈ lw_all := lw_g (lw_at lw_m2 138 rfl) rfl
theorem q473 : (Jvm.Cond.static ({ cls := "java/lang/StringLatin1", name := "indexOf", desc := "([BIII)I" } : Jvm.MethodName)) ∈ lw_all := lw_g (lw_at lw_m2 139 rfl) rfl
theorem q474 : (Jvm.Cond.code ({ cls := "java/lang/StringLatin1", name := "indexOf", desc := "([BIII)I" } : Jvm.MethodName) prog_29_method_22_code (4 : Nat) (Option.some Jvm.ClassFile.FieldType.int)) ∈ lw_all := lw_g (lw_at lw_m2 140 rfl) rfl
theorem q475 : (Jvm.Cond.methodLink "java/lang/StringLatin1" (88 : Nat) ({ cls := "java/lang/StringLatin1", name := "canEncode", desc := "(I)Z" } : Jvm.MethodName)) ∈ lw_all := lw_g (lw_at lw_m2 141 rfl) rfl
theorem q476 : (Jvm.Cond.static ({ cls := "java/lang/StringLatin1", name := "canEncode", desc := "(I)Z" } : Jvm.MethodName)) ∈ lw_all := lw_g (lw_at lw_m2 142 rfl) rfl
theorem q477 : (Jvm.Cond.code ({ cls := "java/lang/StringLatin1", name := "canEncode", desc := "(I)Z" } : Jvm.MethodName) prog_29_method_4_code (1 : Nat) (Option.some Jvm.ClassFile.FieldType.boolean)) ∈ lw_all := lw_g (lw_at lw_m2 143 rfl) rfl
theorem q478 : (Jvm.Cond.methodLink "java/lang/StringLatin1" (92 : Nat) ({ cls := "java/lang/Math", name := "max", desc := "(II)I" } : Jvm.MethodName)) ∈ lw_all := lw_g (lw_at lw_m2 144 rfl) rfl
theorem q479 : (Jvm.Cond.static ({ cls := "java/lang/Math", name := "max", desc := "(II)I" } : Jvm.MethodName)) ∈ lw_all := lw_g (lw_at lw_m2 145 rfl) rfl
theorem q480 : (Jvm.Cond.code ({ cls := "java/lang/Math", name := "max", desc := "(II)I" } : Jvm.MethodName) prog_25_method_65_code (2 : Nat) (Option.some Jvm.ClassFile.FieldType.int)) ∈ lw_all := lw_g (lw_at lw_m2 146 rfl) rfl
theorem q481 : (Jvm.Cond.methodLink "java/lang/StringLatin1" (38 : Nat) ({ cls := "java/lang/Math", name := "min", desc := "(II)I" } : Jvm.MethodName)) ∈ lw_all := lw_g (lw_at lw_m2 147 rfl) rfl
theorem q482 : (Jvm.Cond.static ({ cls := "java/lang/Math", name := "min", desc := "(II)I" } : Jvm.MethodName)) ∈ lw_all := lw_g (lw_at lw_m2 148 rfl) rfl
theorem q483 : (Jvm.Cond.code ({ cls := "java/lang/Math", name := "min", desc := "(II)I" } : Jvm.MethodName) prog_25_method_69_code (2 : Nat) (Option.some Jvm.ClassFile.FieldType.int)) ∈ lw_all := lw_g (lw_at lw_m2 149 rfl) rfl
theorem q484 : (Jvm.Cond.methodLink "java/lang/StringLatin1" (95 : Nat) ({ cls := "java/lang/StringLatin1", name := "indexOfChar", desc := "([BIII)I" } : Jvm.MethodName)) ∈ lw_all := lw_g (lw_at lw_m2 150 rfl) rfl
theorem q485 : (Jvm.Cond.static ({ cls := "java/lang/StringLatin1", name := "indexOfChar", desc := "([BIII)I" } : Jvm.MethodName)) ∈ lw_all := lw_g (lw_at lw_m2 151 rfl) rfl
theorem q486 : (Jvm.Cond.code ({ cls := "java/lang/StringLatin1", name := "indexOfChar", desc := "([BIII)I" } : Jvm.MethodName) prog_29_method_23_code (6 : Nat) (Option.some Jvm.ClassFile.FieldType.int)) ∈ lw_all := lw_g (lw_at lw_m2 152 rfl) rfl
theorem q487 : (Jvm.Cond.methodLink "java/lang/String" (640 : Nat) ({ cls := "java/lang/StringUTF16", name := "indexOf", desc := "([BIII)I" } : Jvm.MethodName)) ∈ lw_all := lw_g (lw_at lw_m2 153 rfl) rfl
theorem q488 : (Jvm.Cond.static ({ cls := "java/lang/StringUTF16", name := "indexOf", desc := "([BIII)I" } : Jvm.MethodName)) ∈ lw_all := lw_g (lw_at lw_m2 154 rfl) rfl
theorem q489 : (Jvm.Cond.code ({ cls := "java/lang/StringUTF16", name := "indexOf", desc := "([BIII)I" } : Jvm.MethodName) prog_30_method_40_code (4 : Nat) (Option.some Jvm.ClassFile.FieldType.int)) ∈ lw_all := lw_g (lw_at lw_m2 155 rfl) rfl
theorem q490 : (Jvm.Cond.methodLink "java/lang/StringUTF16" (224 : Nat) ({ cls := "java/lang/Math", name := "max", desc := "(II)I" } : Jvm.MethodName)) ∈ lw_all := lw_g (lw_at lw_m2 156 rfl) rfl
theorem q491 : (Jvm.Cond.methodLink "java/lang/StringUTF16" (183 : Nat) ({ cls := "java/lang/Math", name := "min", desc := "(II)I" } : Jvm.MethodName)) ∈ lw_all := lw_g (lw_at lw_m2 157 rfl) rfl
theorem q492 : (Jvm.Cond.constant "java/lang/StringUTF16" (227 : Nat) (65536 : Int32)) ∈ lw_all := lw_g (lw_at lw_m2 158 rfl) rfl
theorem q493 : (Jvm.Cond.methodLink "java/lang/StringUTF16" (228 : Nat) ({ cls := "java/lang/StringUTF16", name := "indexOfChar", desc := "([BIII)I" } : Jvm.MethodName)) ∈ lw_all := lw_g (lw_at lw_m2 159 rfl) rfl
theorem q494 : (Jvm.Cond.static ({ cls := "java/lang/StringUTF16", name := "indexOfChar", desc := "([BIII)I" } : Jvm.MethodName)) ∈ lw_all := lw_g (lw_at lw_m2 160 rfl) rfl
theorem q495 : (Jvm.Cond.code ({ cls := "java/lang/StringUTF16", name := "indexOfChar", desc := "([BIII)I" } : Jvm.MethodName) prog_30_method_47_code (4 : Nat) (Option.some Jvm.ClassFile.FieldType.int)) ∈ lw_all := lw_g (lw_at lw_m2 161 rfl) rfl
theorem q496 : (Jvm.Cond.methodLink "java/lang/StringUTF16" (96 : Nat) ({ cls := "java/lang/StringUTF16", name := "checkBoundsBeginEnd", desc := "(II[B)V" } : Jvm.MethodName)) ∈ lw_all := lw_g (lw_at lw_m2 162 rfl) rfl
theorem q497 : (Jvm.Cond.static ({ cls := "java/lang/StringUTF16", name := "checkBoundsBeginEnd", desc := "(II[B)V" } : Jvm.MethodName)) ∈ lw_all := lw_g (lw_at lw_m2 163 rfl) rfl
theorem q498 : (Jvm.Cond.code ({ cls := "java/lang/StringUTF16", name := "checkBoundsBeginEnd", desc := "(II[B)V" } : Jvm.MethodName) prog_30_method_93_code (3 : Nat) (Option.none : Option Jvm.ClassFile.FieldType)) ∈ lw_all := lw_g (lw_at lw_m2 164 rfl) rfl
theorem q499 : (Jvm.Cond.methodLink "java/lang/StringUTF16" (48 : Nat) ({ cls := "java/lang/StringUTF16", name := "length", desc := "([B)I" } : Jvm.MethodName)) ∈ lw_all := lw_g (lw_at lw_m2 165 rfl) rfl
theorem q500 : (Jvm.Cond.static ({ cls := "java/lang/StringUTF16", name := "length", desc := "([B)I" } : Jvm.MethodName)) ∈ lw_all := lw_g (lw_at lw_m2 166 rfl) rfl
theorem q501 : (Jvm.Cond.code ({ cls := "java/lang/StringUTF16", name := "length", desc := "([B)I" } : Jvm.MethodName) prog_30_method_6_code (1 : Nat) (Option.some Jvm.ClassFile.FieldType.int)) ∈ lw_all := lw_g (lw_at lw_m2 167 rfl) rfl
theorem q502 : (Jvm.Cond.methodLink "java/lang/StringUTF16" (241 : Nat) ({ cls := "java/lang/String", name := "checkBoundsBeginEnd", desc := "(III)V" } : Jvm.MethodName)) ∈ lw_all := lw_g (lw_at lw_m2 168 rfl) rfl
theorem q503 : (Jvm.Cond.static ({ cls := "java/lang/String", name := "checkBoundsBeginEnd", desc := "(III)V" } : Jvm.MethodName)) ∈ lw_all := lw_g (lw_at lw_m2 169 rfl) rfl
theorem q504 : (Jvm.Cond.code ({ cls := "java/lang/String", name := "checkBoundsBeginEnd", desc := "(III)V" } : Jvm.MethodName) prog_28_method_158_code (3 : Nat) (Option.none : Option Jvm.ClassFile.FieldType)) ∈ lw_all := lw_g (lw_at lw_m2 170 rfl) rfl
theorem q505 : (Jvm.Cond.fieldLink "java/lang/String" (1053 : Nat) "jdk/internal/util/Preconditions" "SIOOBE_FORMATTER" "Ljava/util/function/BiFunction;") ∈ lw_all := lw_g (lw_at lw_m2 171 rfl) rfl
theorem q506 : (Jvm.Cond.laysStatic "jdk/internal/util/Preconditions" "SIOOBE_FORMATTER" "Ljava/util/function/BiFunction;") ∈ lw_tbl := lw_at lw_m2 172 rfl
theorem q507 : (Jvm.Cond.methodLink "java/lang/String" (1062 : Nat) ({ cls := "jdk/internal/util/Preconditions", name := "checkFromToIndex", desc := "(IIILjava/util/function/BiFunction;)I" } : Jvm.MethodName)) ∈ lw_all := lw_g (lw_at lw_m2 173 rfl) rfl
theorem q508 : (Jvm.Cond.static ({ cls := "jdk/internal/util/Preconditions", name := "checkFromToIndex", desc := "(IIILjava/util/function/BiFunction;)I" } : Jvm.MethodName)) ∈ lw_all := lw_g (lw_at lw_m2 174 rfl) rfl
theorem q509 : (Jvm.Cond.code ({ cls := "jdk/internal/util/Preconditions", name := "checkFromToIndex", desc := "(IIILjava/util/function/BiFunction;)I" } : Jvm.MethodName) prog_45_method_12_code (4 : Nat) (Option.some Jvm.ClassFile.FieldType.int)) ∈ lw_all := lw_g (lw_at lw_m2 175 rfl) rfl
theorem q510 : (Jvm.Cond.methodLink "java/lang/StringUTF16" (244 : Nat) ({ cls := "java/lang/StringUTF16", name := "indexOfCharUnsafe", desc := "([BIII)I" } : Jvm.MethodName)) ∈ lw_all := lw_g (lw_at lw_m2 176 rfl) rfl
theorem q511 : (Jvm.Cond.static ({ cls := "java/lang/StringUTF16", name := "indexOfCharUnsafe", desc := "([BIII)I" } : Jvm.MethodName)) ∈ lw_all := lw_g (lw_at lw_m2 177 rfl) rfl
theorem q512 : (Jvm.Cond.code ({ cls := "java/lang/StringUTF16", name := "indexOfCharUnsafe", desc := "([BIII)I" } : Jvm.MethodName) prog_30_method_48_code (5 : Nat) (Option.some Jvm.ClassFile.FieldType.int)) ∈ lw_all := lw_g (lw_at lw_m2 178 rfl) rfl
theorem q513 : (Jvm.Cond.methodLink "java/lang/StringUTF16" (71 : Nat) ({ cls := "java/lang/StringUTF16", name := "getChar", desc := "([BI)C" } : Jvm.MethodName)) ∈ lw_all := lw_g (lw_at lw_m2 179 rfl) rfl
theorem q514 : (Jvm.Cond.static ({ cls := "java/lang/StringUTF16", name := "getChar", desc := "([BI)C" } : Jvm.MethodName)) ∈ lw_all := lw_g (lw_at lw_m2 180 rfl) rfl
theorem q515 : (Jvm.Cond.code ({ cls := "java/lang/StringUTF16", name := "getChar", desc := "([BI)C" } : Jvm.MethodName) prog_30_method_5_code (2 : Nat) (Option.some Jvm.ClassFile.FieldType.char)) ∈ lw_all := lw_g (lw_at lw_m2 181 rfl) rfl
theorem q516 : (Jvm.Cond.fieldLink "java/lang/StringUTF16" (44 : Nat) "java/lang/StringUTF16" "$assertionsDisabled" "Z") ∈ lw_all := lw_g (lw_at lw_m2 182 rfl) rfl
theorem q517 : (Jvm.Cond.laysStatic "java/lang/StringUTF16" "$assertionsDisabled" "Z") ∈ lw_tbl := lw_at lw_m2 183 rfl
theorem q518 : (Jvm.Cond.fieldLink "java/lang/StringUTF16" (59 : Nat) "java/lang/StringUTF16" "HI_BYTE_SHIFT" "I") ∈ lw_all := lw_g (lw_at lw_m2 184 rfl) rfl
theorem q519 : (Jvm.Cond.laysStatic "java/lang/StringUTF16" "HI_BYTE_SHIFT" "I") ∈ lw_tbl := lw_at lw_m2 185 rfl
theorem q520 : (Jvm.Cond.fieldLink "java/lang/StringUTF16" (63 : Nat) "java/lang/StringUTF16" "LO_BYTE_SHIFT" "I") ∈ lw_all := lw_g (lw_at lw_m2 186 rfl) rfl
theorem q521 : (Jvm.Cond.laysStatic "java/lang/StringUTF16" "LO_BYTE_SHIFT" "I") ∈ lw_tbl := lw_at lw_m2 187 rfl
theorem q522 : (Jvm.Cond.methodLink "java/lang/StringUTF16" (232 : Nat) ({ cls := "java/lang/StringUTF16", name := "indexOfSupplementary", desc := "([BIII)I" } : Jvm.MethodName)) ∈ lw_all := lw_g (lw_at lw_m2 188 rfl) rfl
theorem q523 : (Jvm.Cond.static ({ cls := "java/lang/StringUTF16", name := "indexOfSupplementary", desc := "([BIII)I" } : Jvm.MethodName)) ∈ lw_all := lw_g (lw_at lw_m2 189 rfl) rfl
theorem q524 : (Jvm.Cond.code ({ cls := "java/lang/StringUTF16", name := "indexOfSupplementary", desc := "([BIII)I" } : Jvm.MethodName) prog_30_method_49_code (7 : Nat) (Option.some Jvm.ClassFile.FieldType.int)) ∈ lw_all := lw_g (lw_at lw_m2 190 rfl) rfl
theorem q525 : (Jvm.Cond.methodLink "java/lang/StringUTF16" (164 : Nat) ({ cls := "java/lang/Character", name := "isValidCodePoint", desc := "(I)Z" } : Jvm.MethodName)) ∈ lw_all := lw_g (lw_at lw_m2 191 rfl) rfl
theorem q526 : (Jvm.Cond.static ({ cls := "java/lang/Character", name := "isValidCodePoint", desc := "(I)Z" } : Jvm.MethodName)) ∈ lw_all := lw_g (lw_at lw_m2 192 rfl) rfl
theorem q527 : (Jvm.Cond.code ({ cls := "java/lang/Character", name := "isValidCodePoint", desc := "(I)Z" } : Jvm.MethodName) prog_17_method_11_code (2 : Nat) (Option.some Jvm.ClassFile.FieldType.boolean)) ∈ lw_all := lw_g (lw_at lw_m2 193 rfl) rfl
theorem q528 : (Jvm.Cond.methodLink "java/lang/StringUTF16" (157 : Nat) ({ cls := "java/lang/Character", name := "highSurrogate", desc := "(I)C" } : Jvm.MethodName)) ∈ lw_all := lw_g (lw_at lw_m2 194 rfl) rfl
theorem q529 : (Jvm.Cond.static ({ cls := "java/lang/Character", name := "highSurrogate", desc := "(I)C" } : Jvm.MethodName)) ∈ lw_all := lw_g (lw_at lw_m2 195 rfl) rfl
theorem q530 : (Jvm.Cond.code ({ cls := "java/lang/Character", name := "highSurrogate", desc := "(I)C" } : Jvm.MethodName) prog_17_method_28_code (1 : Nat) (Option.some Jvm.ClassFile.FieldType.char)) ∈ lw_all := lw_g (lw_at lw_m2 196 rfl) rfl
theorem q531 : (Jvm.Cond.constant "java/lang/Character" (110 : Nat) (55232 : Int32)) ∈ lw_all := lw_g (lw_at lw_m2 197 rfl) rfl
theorem q532 : (Jvm.Cond.methodLink "java/lang/StringUTF16" (161 : Nat) ({ cls := "java/lang/Character", name := "lowSurrogate", desc := "(I)C" } : Jvm.MethodName)) ∈ lw_all := lw_g (lw_at lw_m2 198 rfl) rfl
theorem q533 : (Jvm.Cond.static ({ cls := "java/lang/Character", name := "lowSurrogate", desc := "(I)C" } : Jvm.MethodName)) ∈ lw_all := lw_g (lw_at lw_m2 199 rfl) rfl
theorem q534 : (Jvm.Cond.code ({ cls := "java/lang/Character", name := "lowSurrogate", desc := "(I)C" } : Jvm.MethodName) prog_17_method_29_code (1 : Nat) (Option.some Jvm.ClassFile.FieldType.char)) ∈ lw_all := lw_g (lw_at lw_m2 200 rfl) rfl
theorem q535 : (Jvm.Cond.constant "java/lang/Character" (76 : Nat) (56320 : Int32)) ∈ lw_all := lw_g (lw_at lw_m2 201 rfl) rfl
theorem q536 : (Jvm.Cond.stringRef "PromiseTailor$Book" (17 : Nat) "123456789") ∈ lw_tbl := lw_at lw_m2 202 rfl
theorem q537 : (Jvm.Cond.stringRef "PromiseTailor$Book" (19 : Nat) "abcdefghijklmnopqrstuvwx") ∈ lw_tbl := lw_at lw_m2 203 rfl
theorem q538 : (Jvm.Cond.classLink "PromiseTailor$Book" (21 : Nat) "PromiseTailor$Promise") ∈ lw_all := lw_g (lw_at lw_m2 204 rfl) rfl
theorem q539 : (Jvm.Cond.instantiable "PromiseTailor$Promise" (4 : Nat)) ∈ lw_all := lw_g (lw_at lw_m2 205 rfl) rfl
theorem q540 : (Jvm.Cond.methodLink "PromiseTailor$Book" (23 : Nat) ({ cls := "PromiseTailor$Promise", name := "<init>", desc := "(IIII)V" } : Jvm.MethodName)) ∈ lw_all := lw_g (lw_at lw_m2 206 rfl) rfl
theorem q541 : (Jvm.Cond.instanceMethod ({ cls := "PromiseTailor$Promise", name := "<init>", desc := "(IIII)V" } : Jvm.MethodName)) ∈ lw_all := lw_g (lw_at lw_m2 207 rfl) rfl
theorem q542 : (Jvm.Cond.code ({ cls := "PromiseTailor$Promise", name := "<init>", desc := "(IIII)V" } : Jvm.MethodName) prog_5_method_1_code (5 : Nat) (Option.none : Option Jvm.ClassFile.FieldType)) ∈ lw_all := lw_g (lw_at lw_m2 208 rfl) rfl
theorem q543 : (Jvm.Cond.methodLink "PromiseTailor$Promise" (1 : Nat) ({ cls := "java/lang/Object", name := "<init>", desc := "()V" } : Jvm.MethodName)) ∈ lw_all := lw_g (lw_at lw_m2 209 rfl) rfl
theorem q544 : (Jvm.Cond.fieldLink "PromiseTailor$Promise" (7 : Nat) "PromiseTailor$Promise" "whose" "I") ∈ lw_all := lw_g (lw_at lw_m2 210 rfl) rfl
theorem q545 : (Jvm.Cond.fieldLinkNest "PromiseTailor" (212 : Nat) "PromiseTailor$Promise" "whose" "I" "PromiseTailor") ∈ lw_tbl := lw_at lw_m2 211 rfl
theorem q546 : (Jvm.Cond.fieldLink "PromiseTailor$Promise" (13 : Nat) "PromiseTailor$Promise" "great" "I") ∈ lw_all := lw_g (lw_at lw_m2 212 rfl) rfl
theorem q547 : (Jvm.Cond.fieldLinkNest "PromiseTailor" (219 : Nat) "PromiseTailor$Promise" "great" "I" "PromiseTailor") ∈ lw_tbl := lw_at lw_m2 213 rfl
theorem q548 : (Jvm.Cond.fieldLink "PromiseTailor$Promise" (16 : Nat) "PromiseTailor$Promise" "made" "I") ∈ lw_all := lw_g (lw_at lw_m2 214 rfl) rfl
theorem q549 : (Jvm.Cond.fieldLinkNest "PromiseTailor" (209 : Nat) "PromiseTailor$Promise" "made" "I" "PromiseTailor") ∈ lw_tbl := lw_at lw_m2 215 rfl
theorem q550 : (Jvm.Cond.fieldLink "PromiseTailor$Promise" (19 : Nat) "PromiseTailor$Promise" "due" "I") ∈ lw_all := lw_g (lw_at lw_m2 216 rfl) rfl
theorem q551 : (Jvm.Cond.fieldLinkNest "PromiseTailor" (236 : Nat) "PromiseTailor$Promise" "due" "I" "PromiseTailor") ∈ lw_tbl := lw_at lw_m2 217 rfl
theorem q552 : (Jvm.Cond.laysFinal "PromiseTailor$Promise" "PromiseTailor$Promise" "whose" "I") ∈ lw_all := lw_g (lw_at lw_m2 218 rfl) rfl
theorem q553 : (Jvm.Cond.soleField "PromiseTailor$Promise" "whose") ∈ lw_all := lw_g (lw_at lw_m2 219 rfl) rfl
theorem q554 : (Jvm.Cond.laysFinal "PromiseTailor$Promise" "PromiseTailor$Promise" "great" "I") ∈ lw_all := lw_g (lw_at lw_m2 220 rfl) rfl
theorem q555 : (Jvm.Cond.soleField "PromiseTailor$Promise" "great") ∈ lw_all := lw_g (lw_at lw_m2 221 rfl) rfl
theorem q556 : (Jvm.Cond.laysFinal "PromiseTailor$Promise" "PromiseTailor$Promise" "made" "I") ∈ lw_all := lw_g (lw_at lw_m2 222 rfl) rfl
theorem q557 : (Jvm.Cond.soleField "PromiseTailor$Promise" "made") ∈ lw_all := lw_g (lw_at lw_m2 223 rfl) rfl
theorem q558 : (Jvm.Cond.lays "PromiseTailor$Promise" "PromiseTailor$Promise" "due" "I") ∈ lw_all := lw_g (lw_at lw_m2 224 rfl) rfl
theorem q559 : (Jvm.Cond.soleField "PromiseTailor$Promise" "due") ∈ lw_all := lw_g (lw_at lw_m2 225 rfl) rfl
theorem q560 : (Jvm.Cond.superclass "PromiseTailor$Promise" "java/lang/Object") ∈ lw_all := lw_g (lw_at lw_m2 226 rfl) rfl
theorem q561 : (Jvm.Cond.selects "PromiseTailor$Town" ({ cls := "PromiseTailor$Text", name := "part", desc := "()Ljava/lang/Object;" } : Jvm.MethodName) ({ cls := "PromiseTailor$Town", name := "part", desc := "()Ljava/lang/Object;" } : Jvm.MethodName)) ∈ lw_all := lw_g (lw_at lw_m2 227 rfl) rfl
theorem q562 : (Jvm.Cond.instanceMethod ({ cls := "PromiseTailor$Town", name := "part", desc := "()Ljava/lang/Object;" } : Jvm.MethodName)) ∈ lw_all := lw_g (lw_at lw_m2 228 rfl) rfl
theorem q563 : (Jvm.Cond.code ({ cls := "PromiseTailor$Town", name := "part", desc := "()Ljava/lang/Object;" } : Jvm.MethodName) prog_11_method_3_code (1 : Nat) (Option.some (Jvm.ClassFile.FieldType.object "java/lang/Object"))) ∈ lw_all := lw_g (lw_at lw_m2 229 rfl) rfl
theorem q564 : (Jvm.Cond.methodLink "PromiseTailor$Town" (28 : Nat) ({ cls := "PromiseTailor$Town", name := "part", desc := "()LPromiseTailor$Person;" } : Jvm.MethodName)) ∈ lw_all := lw_g (lw_at lw_m2 230 rfl) rfl
theorem q565 : (Jvm.Cond.instanceMethod ({ cls := "PromiseTailor$Town", name := "part", desc := "()LPromiseTailor$Person;" } : Jvm.MethodName)) ∈ lw_all := lw_g (lw_at lw_m2 231 rfl) rfl
theorem q566 : (Jvm.Cond.selects "PromiseTailor$Town" ({ cls := "PromiseTailor$Town", name := "part", desc := "()LPromiseTailor$Person;" } : Jvm.MethodName) ({ cls := "PromiseTailor$Town", name := "part", desc := "()LPromiseTailor$Person;" } : Jvm.MethodName)) ∈ lw_all := lw_g (lw_at lw_m2 232 rfl) rfl
theorem q567 : (Jvm.Cond.code ({ cls := "PromiseTailor$Town", name := "part", desc := "()LPromiseTailor$Person;" } : Jvm.MethodName) prog_11_method_2_code (2 : Nat) (Option.some (Jvm.ClassFile.FieldType.object "PromiseTailor$Person"))) ∈ lw_all := lw_g (lw_at lw_m2 233 rfl) rfl
theorem q568 : (Jvm.Cond.fieldLinkNest "PromiseTailor$Town" (9 : Nat) "PromiseTailor" "SORT" "[LPromiseTailor$Sort;" "PromiseTailor") ∈ lw_tbl := lw_at lw_m2 234 rfl
theorem q569 : (Jvm.Cond.laysStatic "PromiseTailor" "SORT" "[LPromiseTailor$Sort;") ∈ lw_tbl := lw_at lw_m2 235 rfl
theorem q570 : (Jvm.Cond.stringRef "PromiseTailor$Town" (13 : Nat) "msa") ∈ lw_tbl := lw_at lw_m2 236 rfl
theorem q571 : (Jvm.Cond.methodLink "PromiseTailor$Town" (15 : Nat) ({ cls := "PromiseTailor$Town", name := "passes", desc := "(Ljava/lang/String;)I" } : Jvm.MethodName)) ∈ lw_all := lw_g (lw_at lw_m2 237 rfl) rfl
theorem q572 : (Jvm.Cond.sameMethod "PromiseTailor$Town" "PromiseTailor$Text" "passes" "(Ljava/lang/String;)I") ∈ lw_all := lw_g (lw_at lw_m2 238 rfl) rfl
theorem q573 : (Jvm.Cond.selects "PromiseTailor$Town" ({ cls := "PromiseTailor$Town", name := "passes", desc := "(Ljava/lang/String;)I" } : Jvm.MethodName) ({ cls := "PromiseTailor$Text", name := "passes", desc := "(Ljava/lang/String;)I" } : Jvm.MethodName)) ∈ lw_all := lw_g (lw_at lw_m2 239 rfl) rfl
theorem q574 : (Jvm.Cond.classLink "PromiseTailor$Town" (21 : Nat) "PromiseTailor$Person") ∈ lw_all := lw_g (lw_at lw_m3 0 rfl) rfl
theorem q575 : (Jvm.Cond.instantiable "PromiseTailor$Person" (2 : Nat)) ∈ lw_all := lw_g (lw_at lw_m3 1 rfl) rfl
theorem q576 : (Jvm.Cond.stringRef "PromiseTailor$Town" (23 : Nat) "0123456789") ∈ lw_tbl := lw_at lw_m3 2 rfl
theorem q577 : (Jvm.Cond.methodLink "PromiseTailor$Town" (25 : Nat) ({ cls := "PromiseTailor$Person", name := "<init>", desc := "(LPromiseTailor$Sort;I)V" } : Jvm.MethodName)) ∈ lw_all := lw_g (lw_at lw_m3 3 rfl) rfl
theorem q578 : (Jvm.Cond.instanceMethod ({ cls := "PromiseTailor$Person", name := "<init>", desc := "(LPromiseTailor$Sort;I)V" } : Jvm.MethodName)) ∈ lw_all := lw_g (lw_at lw_m3 4 rfl) rfl
theorem q579 : (Jvm.Cond.code ({ cls := "PromiseTailor$Person", name := "<init>", desc := "(LPromiseTailor$Sort;I)V" } : Jvm.MethodName) prog_4_method_1_code (3 : Nat) (Option.none : Option Jvm.ClassFile.FieldType)) ∈ lw_all := lw_g (lw_at lw_m3 5 rfl) rfl
theorem q580 : (Jvm.Cond.methodLink "PromiseTailor$Person" (1 : Nat) ({ cls := "java/lang/Object", name := "<init>", desc := "()V" } : Jvm.MethodName)) ∈ lw_all := lw_g (lw_at lw_m3 6 rfl) rfl
theorem q581 : (Jvm.Cond.fieldLink "PromiseTailor$Person" (7 : Nat) "PromiseTailor$Person" "sort" "LPromiseTailor$Sort;") ∈ lw_all := lw_g (lw_at lw_m3 7 rfl) rfl
theorem q582 : (Jvm.Cond.fieldLinkNest "PromiseTailor" (215 : Nat) "PromiseTailor$Person" "sort" "LPromiseTailor$Sort;" "PromiseTailor") ∈ lw_tbl := lw_at lw_m3 8 rfl
theorem q583 : (Jvm.Cond.fieldLink "PromiseTailor$Person" (13 : Nat) "PromiseTailor$Person" "size" "I") ∈ lw_all := lw_g (lw_at lw_m3 9 rfl) rfl
theorem q584 : (Jvm.Cond.fieldLinkNest "PromiseTailor" (234 : Nat) "PromiseTailor$Person" "size" "I" "PromiseTailor") ∈ lw_tbl := lw_at lw_m3 10 rfl
theorem q585 : (Jvm.Cond.lays "PromiseTailor$Person" "PromiseTailor$Person" "sort" "LPromiseTailor$Sort;") ∈ lw_all := lw_g (lw_at lw_m3 11 rfl) rfl
theorem q586 : (Jvm.Cond.soleField "PromiseTailor$Person" "sort") ∈ lw_all := lw_g (lw_at lw_m3 12 rfl) rfl
theorem q587 : (Jvm.Cond.lays "PromiseTailor$Person" "PromiseTailor$Person" "size" "I") ∈ lw_all := lw_g (lw_at lw_m3 13 rfl) rfl
theorem q588 : (Jvm.Cond.soleField "PromiseTailor$Person" "size") ∈ lw_all := lw_g (lw_at lw_m3 14 rfl) rfl
theorem q589 : (Jvm.Cond.superclass "PromiseTailor$Person" "java/lang/Object") ∈ lw_all := lw_g (lw_at lw_m3 15 rfl) rfl
theorem q590 : (Jvm.Cond.methodLink "PromiseTailor$Text" (55 : Nat) ({ cls := "java/util/ArrayList", name := "add", desc := "(Ljava/lang/Object;)Z" } : Jvm.MethodName)) ∈ lw_all := lw_g (lw_at lw_m3 16 rfl) rfl
theorem q591 : (Jvm.Cond.instanceMethod ({ cls := "java/util/ArrayList", name := "add", desc := "(Ljava/lang/Object;)Z" } : Jvm.MethodName)) ∈ lw_all := lw_g (lw_at lw_m3 17 rfl) rfl
theorem q592 : (Jvm.Cond.selects "java/util/ArrayList" ({ cls := "java/util/ArrayList", name := "add", desc := "(Ljava/lang/Object;)Z" } : Jvm.MethodName) ({ cls := "java/util/ArrayList", name := "add", desc := "(Ljava/lang/Object;)Z" } : Jvm.MethodName)) ∈ lw_all := lw_g (lw_at lw_m3 18 rfl) rfl
theorem q593 : (Jvm.Cond.code ({ cls := "java/util/ArrayList", name := "add", desc := "(Ljava/lang/Object;)Z" } : Jvm.MethodName) prog_37_method_25_code (2 : Nat) (Option.some Jvm.ClassFile.FieldType.boolean)) ∈ lw_all := lw_g (lw_at lw_m3 19 rfl) rfl
theorem q594 : (Jvm.Cond.methodLink "java/util/ArrayList" (131 : Nat) ({ cls := "java/util/ArrayList", name := "add", desc := "(Ljava/lang/Object;[Ljava/lang/Object;I)V" } : Jvm.MethodName)) ∈ lw_all := lw_g (lw_at lw_m3 20 rfl) rfl
theorem q595 : (Jvm.Cond.privateMethod ({ cls := "java/util/ArrayList", name := "add", desc := "(Ljava/lang/Object;[Ljava/lang/Object;I)V" } : Jvm.MethodName)) ∈ lw_tbl := lw_at lw_m3 21 rfl
theorem q596 : (Jvm.Cond.instanceMethod ({ cls := "java/util/ArrayList", name := "add", desc := "(Ljava/lang/Object;[Ljava/lang/Object;I)V" } : Jvm.MethodName)) ∈ lw_all := lw_g (lw_at lw_m3 22 rfl) rfl
theorem q597 : (Jvm.Cond.code ({ cls := "java/util/ArrayList", name := "add", desc := "(Ljava/lang/Object;[Ljava/lang/Object;I)V" } : Jvm.MethodName) prog_37_method_24_code (4 : Nat) (Option.none : Option Jvm.ClassFile.FieldType)) ∈ lw_all := lw_g (lw_at lw_m3 23 rfl) rfl
theorem q598 : (Jvm.Cond.methodLink "java/util/ArrayList" (129 : Nat) ({ cls := "java/util/ArrayList", name := "grow", desc := "()[Ljava/lang/Object;" } : Jvm.MethodName)) ∈ lw_all := lw_g (lw_at lw_m3 24 rfl) rfl
theorem q599 : (Jvm.Cond.privateMethod ({ cls := "java/util/ArrayList", name := "grow", desc := "()[Ljava/lang/Object;" } : Jvm.MethodName)) ∈ lw_tbl := lw_at lw_m3 25 rfl
theorem q600 : (Jvm.Cond.instanceMethod ({ cls := "java/util/ArrayList", name := "grow", desc := "()[Ljava/lang/Object;" } : Jvm.MethodName)) ∈ lw_all := lw_g (lw_at lw_m3 26 rfl) rfl
theorem q601 : (Jvm.Cond.code ({ cls := "java/util/ArrayList", name := "grow", desc := "()[Ljava/lang/Object;" } : Jvm.MethodName) prog_37_method_7_code (1 : Nat) (Option.some (Jvm.ClassFile.FieldType.array (Jvm.ClassFile.FieldType.object "java/lang/Object")))) ∈ lw_all := lw_g (lw_at lw_m3 27 rfl) rfl
theorem q602 : (Jvm.Cond.methodLink "java/util/ArrayList" (69 : Nat) ({ cls := "java/util/ArrayList", name := "grow", desc := "(I)[Ljava/lang/Object;" } : Jvm.MethodName)) ∈ lw_all := lw_g (lw_at lw_m3 28 rfl) rfl
theorem q603 : (Jvm.Cond.privateMethod ({ cls := "java/util/ArrayList", name := "grow", desc := "(I)[Ljava/lang/Object;" } : Jvm.MethodName)) ∈ lw_tbl := lw_at lw_m3 29 rfl
theorem q604 : (Jvm.Cond.instanceMethod ({ cls := "java/util/ArrayList", name := "grow", desc := "(I)[Ljava/lang/Object;" } : Jvm.MethodName)) ∈ lw_all := lw_g (lw_at lw_m3 30 rfl) rfl
theorem q605 : (Jvm.Cond.code ({ cls := "java/util/ArrayList", name := "grow", desc := "(I)[Ljava/lang/Object;" } : Jvm.MethodName) prog_37_method_6_code (4 : Nat) (Option.some (Jvm.ClassFile.FieldType.array (Jvm.ClassFile.FieldType.object "java/lang/Object")))) ∈ lw_all := lw_g (lw_at lw_m3 31 rfl) rfl
theorem q606 : (Jvm.Cond.methodLink "java/util/ArrayList" (73 : Nat) ({ cls := "jdk/internal/util/ArraysSupport", name := "newLength", desc := "(III)I" } : Jvm.MethodName)) ∈ lw_all := lw_g (lw_at lw_m3 32 rfl) rfl
theorem q607 : (Jvm.Cond.static ({ cls := "jdk/internal/util/ArraysSupport", name := "newLength", desc := "(III)I" } : Jvm.MethodName)) ∈ lw_all := lw_g (lw_at lw_m3 33 rfl) rfl
theorem q608 : (Jvm.Cond.code ({ cls := "jdk/internal/util/ArraysSupport", name := "newLength", desc := "(III)I" } : Jvm.MethodName) prog_44_method_27_code (4 : Nat) (Option.some Jvm.ClassFile.FieldType.int)) ∈ lw_all := lw_g (lw_at lw_m3 34 rfl) rfl
theorem q609 : (Jvm.Cond.methodLink "jdk/internal/util/ArraysSupport" (194 : Nat) ({ cls := "java/lang/Math", name := "max", desc := "(II)I" } : Jvm.MethodName)) ∈ lw_all := lw_g (lw_at lw_m3 35 rfl) rfl
theorem q610 : (Jvm.Cond.constant "jdk/internal/util/ArraysSupport" (200 : Nat) (2147483639 : Int32)) ∈ lw_all := lw_g (lw_at lw_m3 36 rfl) rfl
theorem q611 : (Jvm.Cond.methodLink "jdk/internal/util/ArraysSupport" (201 : Nat) ({ cls := "jdk/internal/util/ArraysSupport", name := "hugeLength", desc := "(II)I" } : Jvm.MethodName)) ∈ lw_all := lw_g (lw_at lw_m3 37 rfl) rfl
theorem q612 : (Jvm.Cond.static ({ cls := "jdk/internal/util/ArraysSupport", name := "hugeLength", desc := "(II)I" } : Jvm.MethodName)) ∈ lw_all := lw_g (lw_at lw_m3 38 rfl) rfl
theorem q613 : (Jvm.Cond.code ({ cls := "jdk/internal/util/ArraysSupport", name := "hugeLength", desc := "(II)I" } : Jvm.MethodName) prog_44_method_28_code (3 : Nat) (Option.some Jvm.ClassFile.FieldType.int)) ∈ lw_all := lw_g (lw_at lw_m3 39 rfl) rfl
theorem q614 : (Jvm.Cond.methodLink "java/util/ArrayList" (66 : Nat) ({ cls := "java/util/Arrays", name := "copyOf", desc := "([Ljava/lang/Object;I)[Ljava/lang/Object;" } : Jvm.MethodName)) ∈ lw_all := lw_g (lw_at lw_m3 40 rfl) rfl
theorem q615 : (Jvm.Cond.static ({ cls := "java/util/Arrays", name := "copyOf", desc := "([Ljava/lang/Object;I)[Ljava/lang/Object;" } : Jvm.MethodName)) ∈ lw_all := lw_g (lw_at lw_m3 41 rfl) rfl
theorem q616 : (Jvm.Cond.code ({ cls := "java/util/Arrays", name := "copyOf", desc := "([Ljava/lang/Object;I)[Ljava/lang/Object;" } : Jvm.MethodName) prog_38_method_119_code (2 : Nat) (Option.some (Jvm.ClassFile.FieldType.array (Jvm.ClassFile.FieldType.object "java/lang/Object")))) ∈ lw_all := lw_g (lw_at lw_m3 42 rfl) rfl
theorem q617 : (Jvm.Cond.methodLink "java/util/Arrays" (86 : Nat) ({ cls := "java/lang/Object", name := "getClass", desc := "()Ljava/lang/Class;" } : Jvm.MethodName)) ∈ lw_all := lw_g (lw_at lw_m3 43 rfl) rfl
theorem q618 : (Jvm.Cond.instanceMethod ({ cls := "java/lang/Object", name := "getClass", desc := "()Ljava/lang/Class;" } : Jvm.MethodName)) ∈ lw_all := lw_g (lw_at lw_m3 44 rfl) rfl
theorem q619 : (Jvm.Cond.sameMethod "java/lang/Object" "java/lang/Object" "getClass" "()Ljava/lang/Class;") ∈ lw_all := lw_g (lw_at lw_m3 45 rfl) rfl
theorem q620 : (Jvm.Cond.selects "PromiseTailor" ({ cls := "java/lang/Object", name := "getClass", desc := "()Ljava/lang/Class;" } : Jvm.MethodName) ({ cls := "java/lang/Object", name := "getClass", desc := "()Ljava/lang/Class;" } : Jvm.MethodName)) ∈ lw_all := lw_g (lw_at lw_m3 46 rfl) rfl
theorem q621 : (Jvm.Cond.selects "PromiseTailor$Alderman" ({ cls := "java/lang/Object", name := "getClass", desc := "()Ljava/lang/Class;" } : Jvm.MethodName) ({ cls := "java/lang/Object", name := "getClass", desc := "()Ljava/lang/Class;" } : Jvm.MethodName)) ∈ lw_all := lw_g (lw_at lw_m3 47 rfl) rfl
theorem q622 : (Jvm.Cond.selects "PromiseTailor$Book" ({ cls := "java/lang/Object", name := "getClass", desc := "()Ljava/lang/Class;" } : Jvm.MethodName) ({ cls := "java/lang/Object", name := "getClass", desc := "()Ljava/lang/Class;" } : Jvm.MethodName)) ∈ lw_all := lw_g (lw_at lw_m3 48 rfl) rfl
theorem q623 : (Jvm.Cond.selects "PromiseTailor$Person" ({ cls := "java/lang/Object", name := "getClass", desc := "()Ljava/lang/Class;" } : Jvm.MethodName) ({ cls := "java/lang/Object", name := "getClass", desc := "()Ljava/lang/Class;" } : Jvm.MethodName)) ∈ lw_all := lw_g (lw_at lw_m3 49 rfl) rfl
theorem q624 : (Jvm.Cond.selects "PromiseTailor$Promise" ({ cls := "java/lang/Object", name := "getClass", desc := "()Ljava/lang/Class;" } : Jvm.MethodName) ({ cls := "java/lang/Object", name := "getClass", desc := "()Ljava/lang/Class;" } : Jvm.MethodName)) ∈ lw_all := lw_g (lw_at lw_m3 50 rfl) rfl
theorem q625 : (Jvm.Cond.selects "PromiseTailor$Sheet" ({ cls := "java/lang/Object", name := "getClass", desc := "()Ljava/lang/Class;" } : Jvm.MethodName) ({ cls := "java/lang/Object", name := "getClass", desc := "()Ljava/lang/Class;" } : Jvm.MethodName)) ∈ lw_all := lw_g (lw_at lw_m3 51 rfl) rfl
theorem q626 : (Jvm.Cond.selects "PromiseTailor$Sort" ({ cls := "java/lang/Object", name := "getClass", desc := "()Ljava/lang/Class;" } : Jvm.MethodName) ({ cls := "java/lang/Object", name := "getClass", desc := "()Ljava/lang/Class;" } : Jvm.MethodName)) ∈ lw_all := lw_g (lw_at lw_m3 52 rfl) rfl
theorem q627 : (Jvm.Cond.selects "PromiseTailor$Suitor" ({ cls := "java/lang/Object", name := "getClass", desc := "()Ljava/lang/Class;" } : Jvm.MethodName) ({ cls := "java/lang/Object", name := "getClass", desc := "()Ljava/lang/Class;" } : Jvm.MethodName)) ∈ lw_all := lw_g (lw_at lw_m3 53 rfl) rfl
theorem q628 : (Jvm.Cond.selects "PromiseTailor$Torn" ({ cls := "java/lang/Object", name := "getClass", desc := "()Ljava/lang/Class;" } : Jvm.MethodName) ({ cls := "java/lang/Object", name := "getClass", desc := "()Ljava/lang/Class;" } : Jvm.MethodName)) ∈ lw_all := lw_g (lw_at lw_m3 54 rfl) rfl
theorem q629 : (Jvm.Cond.selects "PromiseTailor$Town" ({ cls := "java/lang/Object", name := "getClass", desc := "()Ljava/lang/Class;" } : Jvm.MethodName) ({ cls := "java/lang/Object", name := "getClass", desc := "()Ljava/lang/Class;" } : Jvm.MethodName)) ∈ lw_all := lw_g (lw_at lw_m3 55 rfl) rfl
theorem q630 : (Jvm.Cond.selects "PromiseTailorModel" ({ cls := "java/lang/Object", name := "getClass", desc := "()Ljava/lang/Class;" } : Jvm.MethodName) ({ cls := "java/lang/Object", name := "getClass", desc := "()Ljava/lang/Class;" } : Jvm.MethodName)) ∈ lw_all := lw_g (lw_at lw_m3 56 rfl) rfl
theorem q631 : (Jvm.Cond.selects "java/lang/ArrayIndexOutOfBoundsException" ({ cls := "java/lang/Object", name := "getClass", desc := "()Ljava/lang/Class;" } : Jvm.MethodName) ({ cls := "java/lang/Object", name := "getClass", desc := "()Ljava/lang/Class;" } : Jvm.MethodName)) ∈ lw_all := lw_g (lw_at lw_m3 57 rfl) rfl
theorem q632 : (Jvm.Cond.selects "java/lang/ClassCastException" ({ cls := "java/lang/Object", name := "getClass", desc := "()Ljava/lang/Class;" } : Jvm.MethodName) ({ cls := "java/lang/Object", name := "getClass", desc := "()Ljava/lang/Class;" } : Jvm.MethodName)) ∈ lw_all := lw_g (lw_at lw_m3 58 rfl) rfl
theorem q633 : (Jvm.Cond.selects "java/lang/NegativeArraySizeException" ({ cls := "java/lang/Object", name := "getClass", desc := "()Ljava/lang/Class;" } : Jvm.MethodName) ({ cls := "java/lang/Object", name := "getClass", desc := "()Ljava/lang/Class;" } : Jvm.MethodName)) ∈ lw_all := lw_g (lw_at lw_m3 59 rfl) rfl
theorem q634 : (Jvm.Cond.selects "java/util/ArrayList" ({ cls := "java/lang/Object", name := "getClass", desc := "()Ljava/lang/Class;" } : Jvm.MethodName) ({ cls := "java/lang/Object", name := "getClass", desc := "()Ljava/lang/Class;" } : Jvm.MethodName)) ∈ lw_all := lw_g (lw_at lw_m3 60 rfl) rfl
theorem q635 : (Jvm.Cond.native ({ cls := "java/lang/Object", name := "getClass", desc := "()Ljava/lang/Class;" } : Jvm.MethodName)) ∈ lw_all := lw_g (lw_at lw_m3 61 rfl) rfl
theorem q636 : (Jvm.Cond.methodLink "java/util/Arrays" (300 : Nat) ({ cls := "java/util/Arrays", name := "copyOf", desc := "([Ljava/lang/Object;ILjava/lang/Class;)[Ljava/lang/Object;" } : Jvm.MethodName)) ∈ lw_all := lw_g (lw_at lw_m3 62 rfl) rfl
theorem q637 : (Jvm.Cond.static ({ cls := "java/util/Arrays", name := "copyOf", desc := "([Ljava/lang/Object;ILjava/lang/Class;)[Ljava/lang/Object;" } : Jvm.MethodName)) ∈ lw_all := lw_g (lw_at lw_m3 63 rfl) rfl
theorem q638 : (Jvm.Cond.code ({ cls := "java/util/Arrays", name := "copyOf", desc := "([Ljava/lang/Object;ILjava/lang/Class;)[Ljava/lang/Object;" } : Jvm.MethodName) prog_38_method_120_code (4 : Nat) (Option.some (Jvm.ClassFile.FieldType.array (Jvm.ClassFile.FieldType.object "java/lang/Object")))) ∈ lw_all := lw_g (lw_at lw_m3 64 rfl) rfl
theorem q639 : (Jvm.Cond.classLink "java/util/Arrays" (110 : Nat) "[Ljava/lang/Object;") ∈ lw_all := lw_g (lw_at lw_m3 65 rfl) rfl
theorem q640 : (Jvm.Cond.arrayOver (Jvm.ClassFile.FieldType.object "java/lang/Object")) ∈ lw_tbl := lw_at lw_m3 66 rfl
theorem q641 : (Jvm.Cond.classLink "java/util/Arrays" (2 : Nat) "java/lang/Object") ∈ lw_all := lw_g (lw_at lw_m3 67 rfl) rfl
theorem q642 : (Jvm.Cond.methodLink "java/util/Arrays" (304 : Nat) ({ cls := "java/lang/Math", name := "min", desc := "(II)I" } : Jvm.MethodName)) ∈ lw_all := lw_g (lw_at lw_m3 68 rfl) rfl
theorem q643 : (Jvm.Cond.methodLink "java/util/Arrays" (150 : Nat) ({ cls := "java/lang/System", name := "arraycopy", desc := "(Ljava/lang/Object;ILjava/lang/Object;II)V" } : Jvm.MethodName)) ∈ lw_all := lw_g (lw_at lw_m3 69 rfl) rfl
theorem q644 : (Jvm.Cond.static ({ cls := "java/lang/System", name := "arraycopy", desc := "(Ljava/lang/Object;ILjava/lang/Object;II)V" } : Jvm.MethodName)) ∈ lw_all := lw_g (lw_at lw_m3 70 rfl) rfl
theorem q645 : (Jvm.Cond.native ({ cls := "java/lang/System", name := "arraycopy", desc := "(Ljava/lang/Object;ILjava/lang/Object;II)V" } : Jvm.MethodName)) ∈ lw_all := lw_g (lw_at lw_m3 71 rfl) rfl
theorem q646 : (Jvm.Cond.methodLink "java/util/ArrayList" (79 : Nat) ({ cls := "java/lang/Math", name := "max", desc := "(II)I" } : Jvm.MethodName)) ∈ lw_all := lw_g (lw_at lw_m3 72 rfl) rfl
theorem q647 : (Jvm.Cond.classLink "java/util/ArrayList" (7 : Nat) "java/lang/Object") ∈ lw_all := lw_g (lw_at lw_m3 73 rfl) rfl
theorem q648 : (Jvm.Cond.stringRef "PromiseTailor$Text" (65 : Nat) ";") ∈ lw_tbl := lw_at lw_m3 74 rfl
theorem q649 : (Jvm.Cond.methodLink "PromiseTailor$Text" (67 : Nat) ({ cls := "PromiseTailor$Text", name := "passes", desc := "(Ljava/lang/String;)I" } : Jvm.MethodName)) ∈ lw_all := lw_g (lw_at lw_m3 75 rfl) rfl
theorem q650 : (Jvm.Cond.methodLink "PromiseTailorLaw" (31 : Nat) ({ cls := "PromiseTailor", name := "person", desc := "(II)I" } : Jvm.MethodName)) ∈ lw_all := lw_g (lw_at lw_m3 76 rfl) rfl
theorem q651 : (Jvm.Cond.instanceMethod ({ cls := "PromiseTailor", name := "person", desc := "(II)I" } : Jvm.MethodName)) ∈ lw_all := lw_g (lw_at lw_m3 77 rfl) rfl
theorem q652 : (Jvm.Cond.selects "PromiseTailor" ({ cls := "PromiseTailor", name := "person", desc := "(II)I" } : Jvm.MethodName) ({ cls := "PromiseTailor", name := "person", desc := "(II)I" } : Jvm.MethodName)) ∈ lw_all := lw_g (lw_at lw_m3 78 rfl) rfl
theorem q653 : (Jvm.Cond.code ({ cls := "PromiseTailor", name := "person", desc := "(II)I" } : Jvm.MethodName) prog_1_method_16_code (3 : Nat) (Option.some Jvm.ClassFile.FieldType.int)) ∈ lw_all := lw_g (lw_at lw_m3 79 rfl) rfl
theorem q654 : (Jvm.Cond.methodLink "PromiseTailor" (130 : Nat) ({ cls := "PromiseTailor", name := "isPerson", desc := "(I)Z" } : Jvm.MethodName)) ∈ lw_all := lw_g (lw_at lw_m3 80 rfl) rfl
theorem q655 : (Jvm.Cond.privateMethod ({ cls := "PromiseTailor", name := "isPerson", desc := "(I)Z" } : Jvm.MethodName)) ∈ lw_tbl := lw_at lw_m3 81 rfl
theorem q656 : (Jvm.Cond.instanceMethod ({ cls := "PromiseTailor", name := "isPerson", desc := "(I)Z" } : Jvm.MethodName)) ∈ lw_all := lw_g (lw_at lw_m3 82 rfl) rfl
theorem q657 : (Jvm.Cond.code ({ cls := "PromiseTailor", name := "isPerson", desc := "(I)Z" } : Jvm.MethodName) prog_1_method_14_code (2 : Nat) (Option.some Jvm.ClassFile.FieldType.boolean)) ∈ lw_all := lw_g (lw_at lw_m3 83 rfl) rfl
theorem q658 : (Jvm.Cond.methodLink "PromiseTailor" (126 : Nat) ({ cls := "PromiseTailor$Town", name := "many", desc := "()I" } : Jvm.MethodName)) ∈ lw_all := lw_g (lw_at lw_m3 84 rfl) rfl
theorem q659 : (Jvm.Cond.sameMethod "PromiseTailor$Town" "PromiseTailor$Text" "many" "()I") ∈ lw_all := lw_g (lw_at lw_m3 85 rfl) rfl
theorem q660 : (Jvm.Cond.declares ({ cls := "PromiseTailor$Text", name := "many", desc := "()I" } : Jvm.MethodName)) ∈ lw_tbl := lw_at lw_m3 86 rfl
theorem q661 : (Jvm.Cond.selects "PromiseTailor$Town" ({ cls := "PromiseTailor$Town", name := "many", desc := "()I" } : Jvm.MethodName) ({ cls := "PromiseTailor$Text", name := "many", desc := "()I" } : Jvm.MethodName)) ∈ lw_all := lw_g (lw_at lw_m3 87 rfl) rfl
theorem q662 : (Jvm.Cond.instanceMethod ({ cls := "PromiseTailor$Text", name := "many", desc := "()I" } : Jvm.MethodName)) ∈ lw_all := lw_g (lw_at lw_m3 88 rfl) rfl
theorem q663 : (Jvm.Cond.code ({ cls := "PromiseTailor$Text", name := "many", desc := "()I" } : Jvm.MethodName) prog_9_method_11_code (1 : Nat) (Option.some Jvm.ClassFile.FieldType.int)) ∈ lw_all := lw_g (lw_at lw_m3 89 rfl) rfl
theorem q664 : (Jvm.Cond.methodLink "PromiseTailor$Text" (80 : Nat) ({ cls := "PromiseTailor$Text", name := "read", desc := "()I" } : Jvm.MethodName)) ∈ lw_all := lw_g (lw_at lw_m3 90 rfl) rfl
theorem q665 : (Jvm.Cond.methodLink "PromiseTailor" (136 : Nat) ({ cls := "java/util/ArrayList", name := "get", desc := "(I)Ljava/lang/Object;" } : Jvm.MethodName)) ∈ lw_all := lw_g (lw_at lw_m3 91 rfl) rfl
theorem q666 : (Jvm.Cond.instanceMethod ({ cls := "java/util/ArrayList", name := "get", desc := "(I)Ljava/lang/Object;" } : Jvm.MethodName)) ∈ lw_all := lw_g (lw_at lw_m3 92 rfl) rfl
theorem q667 : (Jvm.Cond.selects "java/util/ArrayList" ({ cls := "java/util/ArrayList", name := "get", desc := "(I)Ljava/lang/Object;" } : Jvm.MethodName) ({ cls := "java/util/ArrayList", name := "get", desc := "(I)Ljava/lang/Object;" } : Jvm.MethodName)) ∈ lw_all := lw_g (lw_at lw_m3 93 rfl) rfl
theorem q668 : (Jvm.Cond.code ({ cls := "java/util/ArrayList", name := "get", desc := "(I)Ljava/lang/Object;" } : Jvm.MethodName) prog_37_method_20_code (2 : Nat) (Option.some (Jvm.ClassFile.FieldType.object "java/lang/Object"))) ∈ lw_all := lw_g (lw_at lw_m3 94 rfl) rfl
theorem q669 : (Jvm.Cond.methodLink "java/util/ArrayList" (118 : Nat) ({ cls := "java/util/Objects", name := "checkIndex", desc := "(II)I" } : Jvm.MethodName)) ∈ lw_all := lw_g (lw_at lw_m3 95 rfl) rfl
theorem q670 : (Jvm.Cond.static ({ cls := "java/util/Objects", name := "checkIndex", desc := "(II)I" } : Jvm.MethodName)) ∈ lw_all := lw_g (lw_at lw_m3 96 rfl) rfl
theorem q671 : (Jvm.Cond.code ({ cls := "java/util/Objects", name := "checkIndex", desc := "(II)I" } : Jvm.MethodName) prog_41_method_17_code (2 : Nat) (Option.some Jvm.ClassFile.FieldType.int)) ∈ lw_all := lw_g (lw_at lw_m3 97 rfl) rfl
theorem q672 : (Jvm.Cond.methodLink "java/util/Objects" (105 : Nat) ({ cls := "jdk/internal/util/Preconditions", name := "checkIndex", desc := "(IILjava/util/function/BiFunction;)I" } : Jvm.MethodName)) ∈ lw_all := lw_g (lw_at lw_m3 98 rfl) rfl
theorem q673 : (Jvm.Cond.static ({ cls := "jdk/internal/util/Preconditions", name := "checkIndex", desc := "(IILjava/util/function/BiFunction;)I" } : Jvm.MethodName)) ∈ lw_all := lw_g (lw_at lw_m3 99 rfl) rfl
theorem q674 : (Jvm.Cond.code ({ cls := "jdk/internal/util/Preconditions", name := "checkIndex", desc := "(IILjava/util/function/BiFunction;)I" } : Jvm.MethodName) prog_45_method_11_code (3 : Nat) (Option.some Jvm.ClassFile.FieldType.int)) ∈ lw_all := lw_g (lw_at lw_m3 100 rfl) rfl
theorem q675 : (Jvm.Cond.methodLink "java/util/ArrayList" (123 : Nat) ({ cls := "java/util/ArrayList", name := "elementData", desc := "(I)Ljava/lang/Object;" } : Jvm.MethodName)) ∈ lw_all := lw_g (lw_at lw_m3 101 rfl) rfl
theorem q676 : (Jvm.Cond.instanceMethod ({ cls := "java/util/ArrayList", name := "elementData", desc := "(I)Ljava/lang/Object;" } : Jvm.MethodName)) ∈ lw_all := lw_g (lw_at lw_m3 102 rfl) rfl
theorem q677 : (Jvm.Cond.selects "java/util/ArrayList" ({ cls := "java/util/ArrayList", name := "elementData", desc := "(I)Ljava/lang/Object;" } : Jvm.MethodName) ({ cls := "java/util/ArrayList", name := "elementData", desc := "(I)Ljava/lang/Object;" } : Jvm.MethodName)) ∈ lw_all := lw_g (lw_at lw_m3 103 rfl) rfl
theorem q678 : (Jvm.Cond.code ({ cls := "java/util/ArrayList", name := "elementData", desc := "(I)Ljava/lang/Object;" } : Jvm.MethodName) prog_37_method_18_code (2 : Nat) (Option.some (Jvm.ClassFile.FieldType.object "java/lang/Object"))) ∈ lw_all := lw_g (lw_at lw_m3 104 rfl) rfl
theorem q679 : (Jvm.Cond.classLink "PromiseTailor" (140 : Nat) "PromiseTailor$Person") ∈ lw_all := lw_g (lw_at lw_m3 105 rfl) rfl
theorem q680 : (Jvm.Cond.methodLink "PromiseTailor" (142 : Nat) ({ cls := "PromiseTailor$Person", name := "by", desc := "(I)I" } : Jvm.MethodName)) ∈ lw_all := lw_g (lw_at lw_m3 106 rfl) rfl
theorem q681 : (Jvm.Cond.instanceMethod ({ cls := "PromiseTailor$Person", name := "by", desc := "(I)I" } : Jvm.MethodName)) ∈ lw_all := lw_g (lw_at lw_m3 107 rfl) rfl
theorem q682 : (Jvm.Cond.selects "PromiseTailor$Person" ({ cls := "PromiseTailor$Person", name := "by", desc := "(I)I" } : Jvm.MethodName) ({ cls := "PromiseTailor$Person", name := "by", desc := "(I)I" } : Jvm.MethodName)) ∈ lw_all := lw_g (lw_at lw_m3 108 rfl) rfl
theorem q683 : (Jvm.Cond.code ({ cls := "PromiseTailor$Person", name := "by", desc := "(I)I" } : Jvm.MethodName) prog_4_method_2_code (2 : Nat) (Option.some Jvm.ClassFile.FieldType.int)) ∈ lw_all := lw_g (lw_at lw_m3 109 rfl) rfl
theorem q684 : (Jvm.Cond.methodLink "PromiseTailor$Person" (17 : Nat) ({ cls := "PromiseTailor$Sort", name := "number", desc := "()I" } : Jvm.MethodName)) ∈ lw_all := lw_g (lw_at lw_m3 110 rfl) rfl
theorem q685 : (Jvm.Cond.instanceMethod ({ cls := "PromiseTailor$Sort", name := "number", desc := "()I" } : Jvm.MethodName)) ∈ lw_all := lw_g (lw_at lw_m3 111 rfl) rfl
theorem q686 : (Jvm.Cond.selects "PromiseTailor$Sort" ({ cls := "PromiseTailor$Sort", name := "number", desc := "()I" } : Jvm.MethodName) ({ cls := "PromiseTailor$Sort", name := "number", desc := "()I" } : Jvm.MethodName)) ∈ lw_all := lw_g (lw_at lw_m3 112 rfl) rfl
theorem q687 : (Jvm.Cond.sameMethod "PromiseTailor$Sort" "PromiseTailor$Sort" "number" "()I") ∈ lw_all := lw_g (lw_at lw_m3 113 rfl) rfl
theorem q688 : (Jvm.Cond.selects "PromiseTailor$Alderman" ({ cls := "PromiseTailor$Sort", name := "number", desc := "()I" } : Jvm.MethodName) ({ cls := "PromiseTailor$Alderman", name := "number", desc := "()I" } : Jvm.MethodName)) ∈ lw_all := lw_g (lw_at lw_m3 114 rfl) rfl
theorem q689 : (Jvm.Cond.instanceMethod ({ cls := "PromiseTailor$Alderman", name := "number", desc := "()I" } : Jvm.MethodName)) ∈ lw_all := lw_g (lw_at lw_m3 115 rfl) rfl
theorem q690 : (Jvm.Cond.code ({ cls := "PromiseTailor$Alderman", name := "number", desc := "()I" } : Jvm.MethodName) prog_2_method_2_code (1 : Nat) (Option.some Jvm.ClassFile.FieldType.int)) ∈ lw_all := lw_g (lw_at lw_m3 116 rfl) rfl
theorem q691 : (Jvm.Cond.methodLink "PromiseTailor$Alderman" (7 : Nat) ({ cls := "PromiseTailor$Sort", name := "number", desc := "()I" } : Jvm.MethodName)) ∈ lw_all := lw_g (lw_at lw_m3 117 rfl) rfl
theorem q692 : (Jvm.Cond.superclass "PromiseTailor$Alderman" "PromiseTailor$Sort") ∈ lw_all := lw_g (lw_at lw_m3 118 rfl) rfl
theorem q693 : (Jvm.Cond.code ({ cls := "PromiseTailor$Sort", name := "number", desc := "()I" } : Jvm.MethodName) prog_7_method_2_code (1 : Nat) (Option.some Jvm.ClassFile.FieldType.int)) ∈ lw_all := lw_g (lw_at lw_m3 119 rfl) rfl
theorem q694 : (Jvm.Cond.selects "PromiseTailor$Suitor" ({ cls := "PromiseTailor$Sort", name := "number", desc := "()I" } : Jvm.MethodName) ({ cls := "PromiseTailor$Suitor", name := "number", desc := "()I" } : Jvm.MethodName)) ∈ lw_all := lw_g (lw_at lw_m3 120 rfl) rfl
theorem q695 : (Jvm.Cond.instanceMethod ({ cls := "PromiseTailor$Suitor", name := "number", desc := "()I" } : Jvm.MethodName)) ∈ lw_all := lw_g (lw_at lw_m3 121 rfl) rfl
theorem q696 : (Jvm.Cond.code ({ cls := "PromiseTailor$Suitor", name := "number", desc := "()I" } : Jvm.MethodName) prog_8_method_2_code (1 : Nat) (Option.some Jvm.ClassFile.FieldType.int)) ∈ lw_all := lw_g (lw_at lw_m3 122 rfl) rfl
theorem q697 : (Jvm.Cond.methodLink "PromiseTailor$Suitor" (7 : Nat) ({ cls := "PromiseTailor$Sort", name := "number", desc := "()I" } : Jvm.MethodName)) ∈ lw_all := lw_g (lw_at lw_m3 123 rfl) rfl
theorem q698 : (Jvm.Cond.superclass "PromiseTailor$Suitor" "PromiseTailor$Sort") ∈ lw_all := lw_g (lw_at lw_m3 124 rfl) rfl
theorem q699 : (Jvm.Cond.methodLink "PromiseTailorLaw" (35 : Nat) ({ cls := "PromiseTailor", name := "promise", desc := "(II)I" } : Jvm.MethodName)) ∈ lw_all := lw_g (lw_at lw_m3 125 rfl) rfl
theorem q700 : (Jvm.Cond.instanceMethod ({ cls := "PromiseTailor", name := "promise", desc := "(II)I" } : Jvm.MethodName)) ∈ lw_all := lw_g (lw_at lw_m3 126 rfl) rfl
theorem q701 : (Jvm.Cond.selects "PromiseTailor" ({ cls := "PromiseTailor", name := "promise", desc := "(II)I" } : Jvm.MethodName) ({ cls := "PromiseTailor", name := "promise", desc := "(II)I" } : Jvm.MethodName)) ∈ lw_all := lw_g (lw_at lw_m3 127 rfl) rfl
theorem q702 : (Jvm.Cond.code ({ cls := "PromiseTailor", name := "promise", desc := "(II)I" } : Jvm.MethodName) prog_1_method_17_code (3 : Nat) (Option.some Jvm.ClassFile.FieldType.int)) ∈ lw_all := lw_g (lw_at lw_m3 128 rfl) rfl
theorem q703 : (Jvm.Cond.methodLink "PromiseTailor" (145 : Nat) ({ cls := "PromiseTailor", name := "isPromise", desc := "(I)Z" } : Jvm.MethodName)) ∈ lw_all := lw_g (lw_at lw_m3 129 rfl) rfl
theorem q704 : (Jvm.Cond.privateMethod ({ cls := "PromiseTailor", name := "isPromise", desc := "(I)Z" } : Jvm.MethodName)) ∈ lw_tbl := lw_at lw_m3 130 rfl
theorem q705 : (Jvm.Cond.instanceMethod ({ cls := "PromiseTailor", name := "isPromise", desc := "(I)Z" } : Jvm.MethodName)) ∈ lw_all := lw_g (lw_at lw_m3 131 rfl) rfl
theorem q706 : (Jvm.Cond.code ({ cls := "PromiseTailor", name := "isPromise", desc := "(I)Z" } : Jvm.MethodName) prog_1_method_15_code (2 : Nat) (Option.some Jvm.ClassFile.FieldType.boolean)) ∈ lw_all := lw_g (lw_at lw_m3 132 rfl) rfl
theorem q707 : (Jvm.Cond.methodLink "PromiseTailor" (129 : Nat) ({ cls := "PromiseTailor$Book", name := "many", desc := "()I" } : Jvm.MethodName)) ∈ lw_all := lw_g (lw_at lw_m3 133 rfl) rfl
theorem q708 : (Jvm.Cond.sameMethod "PromiseTailor$Book" "PromiseTailor$Text" "many" "()I") ∈ lw_all := lw_g (lw_at lw_m3 134 rfl) rfl
theorem q709 : (Jvm.Cond.selects "PromiseTailor$Book" ({ cls := "PromiseTailor$Book", name := "many", desc := "()I" } : Jvm.MethodName) ({ cls := "PromiseTailor$Text", name := "many", desc := "()I" } : Jvm.MethodName)) ∈ lw_all := lw_g (lw_at lw_m3 135 rfl) rfl
theorem q710 : (Jvm.Cond.constantLong "PromiseTailor" (148 : Nat) (3 : Int64)) ∈ lw_all := lw_g (lw_at lw_m3 136 rfl) rfl
theorem q711 : (Jvm.Cond.classLink "PromiseTailor" (151 : Nat) "PromiseTailor$Promise") ∈ lw_all := lw_g (lw_at lw_m3 137 rfl) rfl
theorem q712 : (Jvm.Cond.methodLink "PromiseTailor" (153 : Nat) ({ cls := "PromiseTailor$Promise", name := "by", desc := "(I)I" } : Jvm.MethodName)) ∈ lw_all := lw_g (lw_at lw_m3 138 rfl) rfl
theorem q713 : (Jvm.Cond.instanceMethod ({ cls := "PromiseTailor$Promise", name := "by", desc := "(I)I" } : Jvm.MethodName)) ∈ lw_all := lw_g (lw_at lw_m3 139 rfl) rfl
theorem q714 : (Jvm.Cond.selects "PromiseTailor$Promise" ({ cls := "PromiseTailor$Promise", name := "by", desc := "(I)I" } : Jvm.MethodName) ({ cls := "PromiseTailor$Promise", name := "by", desc := "(I)I" } : Jvm.MethodName)) ∈ lw_all := lw_g (lw_at lw_m3 140 rfl) rfl
theorem q715 : (Jvm.Cond.code ({ cls := "PromiseTailor$Promise", name := "by", desc := "(I)I" } : Jvm.MethodName) prog_5_method_2_code (2 : Nat) (Option.some Jvm.ClassFile.FieldType.int)) ∈ lw_all := lw_g (lw_at lw_m3 141 rfl) rfl
theorem q716 : (Jvm.Cond.methodLink "PromiseTailorLaw" (39 : Nat) ({ cls := "PromiseTailor", name := "keeping", desc := "(II)I" } : Jvm.MethodName)) ∈ lw_all := lw_g (lw_at lw_m3 142 rfl) rfl
theorem q717 : (Jvm.Cond.instanceMethod ({ cls := "PromiseTailor", name := "keeping", desc := "(II)I" } : Jvm.MethodName)) ∈ lw_all := lw_g (lw_at lw_m3 143 rfl) rfl
theorem q718 : (Jvm.Cond.selects "PromiseTailor" ({ cls := "PromiseTailor", name := "keeping", desc := "(II)I" } : Jvm.MethodName) ({ cls := "PromiseTailor", name := "keeping", desc := "(II)I" } : Jvm.MethodName)) ∈ lw_all := lw_g (lw_at lw_m3 144 rfl) rfl
theorem q719 : (Jvm.Cond.code ({ cls := "PromiseTailor", name := "keeping", desc := "(II)I" } : Jvm.MethodName) prog_1_method_18_code (3 : Nat) (Option.some Jvm.ClassFile.FieldType.int)) ∈ lw_all := lw_g (lw_at lw_m3 145 rfl) rfl
theorem q720 : (Jvm.Cond.methodLink "PromiseTailor" (154 : Nat) ({ cls := "PromiseTailor", name := "isDay", desc := "(I)Z" } : Jvm.MethodName)) ∈ lw_all := lw_g (lw_at lw_m3 146 rfl) rfl
theorem q721 : (Jvm.Cond.static ({ cls := "PromiseTailor", name := "isDay", desc := "(I)Z" } : Jvm.MethodName)) ∈ lw_all := lw_g (lw_at lw_m3 147 rfl) rfl
theorem q722 : (Jvm.Cond.code ({ cls := "PromiseTailor", name := "isDay", desc := "(I)Z" } : Jvm.MethodName) prog_1_method_8_code (1 : Nat) (Option.some Jvm.ClassFile.FieldType.boolean)) ∈ lw_all := lw_g (lw_at lw_m3 148 rfl) rfl
theorem q723 : (Jvm.Cond.constantLong "PromiseTailor" (98 : Nat) (23 : Int64)) ∈ lw_all := lw_g (lw_at lw_m3 149 rfl) rfl
theorem q724 : (Jvm.Cond.constantLong "PromiseTailor" (157 : Nat) (9 : Int64)) ∈ lw_all := lw_g (lw_at lw_m3 150 rfl) rfl
theorem q725 : (Jvm.Cond.methodLink "PromiseTailor" (159 : Nat) ({ cls := "java/util/ArrayList", name := "size", desc := "()I" } : Jvm.MethodName)) ∈ lw_all := lw_g (lw_at lw_m3 151 rfl) rfl
theorem q726 : (Jvm.Cond.methodLink "PromiseTailor" (162 : Nat) ({ cls := "java/util/ArrayList", name := "add", desc := "(Ljava/lang/Object;)Z" } : Jvm.MethodName)) ∈ lw_all := lw_g (lw_at lw_m3 152 rfl) rfl
theorem q727 : (Jvm.Cond.methodLink "PromiseTailorLaw" (43 : Nat) ({ cls := "PromiseTailor", name := "lie", desc := "(III)I" } : Jvm.MethodName)) ∈ lw_all := lw_g (lw_at lw_m3 153 rfl) rfl
theorem q728 : (Jvm.Cond.instanceMethod ({ cls := "PromiseTailor", name := "lie", desc := "(III)I" } : Jvm.MethodName)) ∈ lw_all := lw_g (lw_at lw_m3 154 rfl) rfl
theorem q729 : (Jvm.Cond.selects "PromiseTailor" ({ cls := "PromiseTailor", name := "lie", desc := "(III)I" } : Jvm.MethodName) ({ cls := "PromiseTailor", name := "lie", desc := "(III)I" } : Jvm.MethodName)) ∈ lw_all := lw_g (lw_at lw_m3 155 rfl) rfl
theorem q730 : (Jvm.Cond.code ({ cls := "PromiseTailor", name := "lie", desc := "(III)I" } : Jvm.MethodName) prog_1_method_20_code (4 : Nat) (Option.some Jvm.ClassFile.FieldType.int)) ∈ lw_all := lw_g (lw_at lw_m3 156 rfl) rfl
theorem q731 : (Jvm.Cond.methodLink "PromiseTailor" (168 : Nat) ({ cls := "PromiseTailor", name := "more", desc := "(Ljava/util/ArrayList;IIII)I" } : Jvm.MethodName)) ∈ lw_all := lw_g (lw_at lw_m3 157 rfl) rfl
theorem q732 : (Jvm.Cond.static ({ cls := "PromiseTailor", name := "more", desc := "(Ljava/util/ArrayList;IIII)I" } : Jvm.MethodName)) ∈ lw_all := lw_g (lw_at lw_m3 158 rfl) rfl
theorem q733 : (Jvm.Cond.code ({ cls := "PromiseTailor", name := "more", desc := "(Ljava/util/ArrayList;IIII)I" } : Jvm.MethodName) prog_1_method_19_code (5 : Nat) (Option.some Jvm.ClassFile.FieldType.int)) ∈ lw_all := lw_g (lw_at lw_m3 159 rfl) rfl
theorem q734 : (Jvm.Cond.constantLong "PromiseTailor" (166 : Nat) (7 : Int64)) ∈ lw_all := lw_g (lw_at lw_m3 160 rfl) rfl
theorem q735 : (Jvm.Cond.methodLink "PromiseTailorLaw" (48 : Nat) ({ cls := "PromiseTailor", name := "letting", desc := "(III)I" } : Jvm.MethodName)) ∈ lw_all := lw_g (lw_at lw_m3 161 rfl) rfl
theorem q736 : (Jvm.Cond.instanceMethod ({ cls := "PromiseTailor", name := "letting", desc := "(III)I" } : Jvm.MethodName)) ∈ lw_all := lw_g (lw_at lw_m3 162 rfl) rfl
theorem q737 : (Jvm.Cond.selects "PromiseTailor" ({ cls := "PromiseTailor", name := "letting", desc := "(III)I" } : Jvm.MethodName) ({ cls := "PromiseTailor", name := "letting", desc := "(III)I" } : Jvm.MethodName)) ∈ lw_all := lw_g (lw_at lw_m3 163 rfl) rfl
theorem q738 : (Jvm.Cond.code ({ cls := "PromiseTailor", name := "letting", desc := "(III)I" } : Jvm.MethodName) prog_1_method_21_code (4 : Nat) (Option.some Jvm.ClassFile.FieldType.int)) ∈ lw_all := lw_g (lw_at lw_m3 164 rfl) rfl
theorem q739 : (Jvm.Cond.methodLink "PromiseTailorLaw" (52 : Nat) ({ cls := "PromiseTailor", name := "back", desc := "(I)I" } : Jvm.MethodName)) ∈ lw_all := lw_g (lw_at lw_m3 165 rfl) rfl
theorem q740 : (Jvm.Cond.instanceMethod ({ cls := "PromiseTailor", name := "back", desc := "(I)I" } : Jvm.MethodName)) ∈ lw_all := lw_g (lw_at lw_m3 166 rfl) rfl
theorem q741 : (Jvm.Cond.selects "PromiseTailor" ({ cls := "PromiseTailor", name := "back", desc := "(I)I" } : Jvm.MethodName) ({ cls := "PromiseTailor", name := "back", desc := "(I)I" } : Jvm.MethodName)) ∈ lw_all := lw_g (lw_at lw_m3 167 rfl) rfl
theorem q742 : (Jvm.Cond.code ({ cls := "PromiseTailor", name := "back", desc := "(I)I" } : Jvm.MethodName) prog_1_method_22_code (3 : Nat) (Option.some Jvm.ClassFile.FieldType.int)) ∈ lw_all := lw_g (lw_at lw_m3 168 rfl) rfl
theorem q743 : (Jvm.Cond.constantLong "PromiseTailor" (172 : Nat) (2 : Int64)) ∈ lw_all := lw_g (lw_at lw_m3 169 rfl) rfl
theorem q744 : (Jvm.Cond.methodLink "PromiseTailor" (174 : Nat) ({ cls := "java/util/ArrayList", name := "isEmpty", desc := "()Z" } : Jvm.MethodName)) ∈ lw_all := lw_g (lw_at lw_m3 170 rfl) rfl
theorem q745 : (Jvm.Cond.instanceMethod ({ cls := "java/util/ArrayList", name := "isEmpty", desc := "()Z" } : Jvm.MethodName)) ∈ lw_all := lw_g (lw_at lw_m3 171 rfl) rfl
theorem q746 : (Jvm.Cond.selects "java/util/ArrayList" ({ cls := "java/util/ArrayList", name := "isEmpty", desc := "()Z" } : Jvm.MethodName) ({ cls := "java/util/ArrayList", name := "isEmpty", desc := "()Z" } : Jvm.MethodName)) ∈ lw_all := lw_g (lw_at lw_m3 172 rfl) rfl
theorem q747 : (Jvm.Cond.code ({ cls := "java/util/ArrayList", name := "isEmpty", desc := "()Z" } : Jvm.MethodName) prog_37_method_9_code (1 : Nat) (Option.some Jvm.ClassFile.FieldType.boolean)) ∈ lw_all := lw_g (lw_at lw_m3 173 rfl) rfl
theorem q748 : (Jvm.Cond.methodLink "PromiseTailor" (178 : Nat) ({ cls := "java/util/ArrayList", name := "remove", desc := "(I)Ljava/lang/Object;" } : Jvm.MethodName)) ∈ lw_all := lw_g (lw_at lw_m3 174 rfl) rfl
theorem q749 : (Jvm.Cond.instanceMethod ({ cls := "java/util/ArrayList", name := "remove", desc := "(I)Ljava/lang/Object;" } : Jvm.MethodName)) ∈ lw_all := lw_g (lw_at lw_m3 175 rfl) rfl
theorem q750 : (Jvm.Cond.selects "java/util/ArrayList" ({ cls := "java/util/ArrayList", name := "remove", desc := "(I)Ljava/lang/Object;" } : Jvm.MethodName) ({ cls := "java/util/ArrayList", name := "remove", desc := "(I)Ljava/lang/Object;" } : Jvm.MethodName)) ∈ lw_all := lw_g (lw_at lw_m3 176 rfl) rfl
theorem q751 : (Jvm.Cond.code ({ cls := "java/util/ArrayList", name := "remove", desc := "(I)Ljava/lang/Object;" } : Jvm.MethodName) prog_37_method_29_code (4 : Nat) (Option.some (Jvm.ClassFile.FieldType.object "java/lang/Object"))) ∈ lw_all := lw_g (lw_at lw_m3 177 rfl) rfl
theorem q752 : (Jvm.Cond.methodLink "java/util/ArrayList" (144 : Nat) ({ cls := "java/util/ArrayList", name := "fastRemove", desc := "([Ljava/lang/Object;I)V" } : Jvm.MethodName)) ∈ lw_all := lw_g (lw_at lw_m3 178 rfl) rfl
theorem q753 : (Jvm.Cond.privateMethod ({ cls := "java/util/ArrayList", name := "fastRemove", desc := "([Ljava/lang/Object;I)V" } : Jvm.MethodName)) ∈ lw_tbl := lw_at lw_m3 179 rfl
theorem q754 : (Jvm.Cond.instanceMethod ({ cls := "java/util/ArrayList", name := "fastRemove", desc := "([Ljava/lang/Object;I)V" } : Jvm.MethodName)) ∈ lw_all := lw_g (lw_at lw_m3 180 rfl) rfl
theorem q755 : (Jvm.Cond.code ({ cls := "java/util/ArrayList", name := "fastRemove", desc := "([Ljava/lang/Object;I)V" } : Jvm.MethodName) prog_37_method_39_code (4 : Nat) (Option.none : Option Jvm.ClassFile.FieldType)) ∈ lw_all := lw_g (lw_at lw_m3 181 rfl) rfl
theorem q756 : (Jvm.Cond.methodLink "java/util/ArrayList" (112 : Nat) ({ cls := "java/lang/System", name := "arraycopy", desc := "(Ljava/lang/Object;ILjava/lang/Object;II)V" } : Jvm.MethodName)) ∈ lw_all := lw_g (lw_at lw_m3 182 rfl) rfl
theorem q757 : (Jvm.Cond.methodLink "PromiseTailorLaw" (56 : Nat) ({ cls := "PromiseTailor", name := "read", desc := "(I)I" } : Jvm.MethodName)) ∈ lw_all := lw_g (lw_at lw_m3 183 rfl) rfl
theorem q758 : (Jvm.Cond.instanceMethod ({ cls := "PromiseTailor", name := "read", desc := "(I)I" } : Jvm.MethodName)) ∈ lw_all := lw_g (lw_at lw_m3 184 rfl) rfl
theorem q759 : (Jvm.Cond.selects "PromiseTailor" ({ cls := "PromiseTailor", name := "read", desc := "(I)I" } : Jvm.MethodName) ({ cls := "PromiseTailor", name := "read", desc := "(I)I" } : Jvm.MethodName)) ∈ lw_all := lw_g (lw_at lw_m3 185 rfl) rfl
theorem q760 : (Jvm.Cond.code ({ cls := "PromiseTailor", name := "read", desc := "(I)I" } : Jvm.MethodName) prog_1_method_23_code (4 : Nat) (Option.some Jvm.ClassFile.FieldType.int)) ∈ lw_all := lw_g (lw_at lw_m3 186 rfl) rfl
theorem q761 : (Jvm.Cond.methodLink "PromiseTailor" (181 : Nat) ({ cls := "PromiseTailor", name := "isSheet", desc := "(I)Z" } : Jvm.MethodName)) ∈ lw_all := lw_g (lw_at lw_m3 187 rfl) rfl
theorem q762 : (Jvm.Cond.static ({ cls := "PromiseTailor", name := "isSheet", desc := "(I)Z" } : Jvm.MethodName)) ∈ lw_all := lw_g (lw_at lw_m3 188 rfl) rfl
theorem q763 : (Jvm.Cond.code ({ cls := "PromiseTailor", name := "isSheet", desc := "(I)Z" } : Jvm.MethodName) prog_1_method_74_code (1 : Nat) (Option.some Jvm.ClassFile.FieldType.boolean)) ∈ lw_all := lw_g (lw_at lw_m3 189 rfl) rfl
theorem q764 : (Jvm.Cond.methodLink "PromiseTailor" (188 : Nat) ({ cls := "PromiseTailor", name := "met", desc := "(I)I" } : Jvm.MethodName)) ∈ lw_all := lw_g (lw_at lw_m3 190 rfl) rfl
theorem q765 : (Jvm.Cond.privateMethod ({ cls := "PromiseTailor", name := "met", desc := "(I)I" } : Jvm.MethodName)) ∈ lw_tbl := lw_at lw_m3 191 rfl
theorem q766 : (Jvm.Cond.instanceMethod ({ cls := "PromiseTailor", name := "met", desc := "(I)I" } : Jvm.MethodName)) ∈ lw_all := lw_g (lw_at lw_m3 192 rfl) rfl
theorem q767 : (Jvm.Cond.code ({ cls := "PromiseTailor", name := "met", desc := "(I)I" } : Jvm.MethodName) prog_1_method_4_code (2 : Nat) (Option.some Jvm.ClassFile.FieldType.int)) ∈ lw_all := lw_g (lw_at lw_m3 193 rfl) rfl
theorem q768 : (Jvm.Cond.methodLink "PromiseTailor" (191 : Nat) ({ cls := "PromiseTailor$Sheet", name := "size", desc := "()I" } : Jvm.MethodName)) ∈ lw_all := lw_g (lw_at lw_m3 194 rfl) rfl
theorem q769 : (Jvm.Cond.instanceMethod ({ cls := "PromiseTailor$Sheet", name := "size", desc := "()I" } : Jvm.MethodName)) ∈ lw_all := lw_g (lw_at lw_m3 195 rfl) rfl
theorem q770 : (Jvm.Cond.selects "PromiseTailor$Sheet" ({ cls := "PromiseTailor$Sheet", name := "size", desc := "()I" } : Jvm.MethodName) ({ cls := "PromiseTailor$Sheet", name := "size", desc := "()I" } : Jvm.MethodName)) ∈ lw_all := lw_g (lw_at lw_m3 196 rfl) rfl
theorem q771 : (Jvm.Cond.code ({ cls := "PromiseTailor$Sheet", name := "size", desc := "()I" } : Jvm.MethodName) prog_6_method_3_code (1 : Nat) (Option.some Jvm.ClassFile.FieldType.int)) ∈ lw_all := lw_g (lw_at lw_m3 197 rfl) rfl
theorem q772 : (Jvm.Cond.methodLink "PromiseTailor$Sheet" (17 : Nat) ({ cls := "PromiseTailor$Sheet", name := "type", desc := "()I" } : Jvm.MethodName)) ∈ lw_all := lw_g (lw_at lw_m3 198 rfl) rfl
theorem q773 : (Jvm.Cond.instanceMethod ({ cls := "PromiseTailor$Sheet", name := "type", desc := "()I" } : Jvm.MethodName)) ∈ lw_all := lw_g (lw_at lw_m3 199 rfl) rfl
theorem q774 : (Jvm.Cond.selects "PromiseTailor$Sheet" ({ cls := "PromiseTailor$Sheet", name := "type", desc := "()I" } : Jvm.MethodName) ({ cls := "PromiseTailor$Sheet", name := "type", desc := "()I" } : Jvm.MethodName)) ∈ lw_all := lw_g (lw_at lw_m3 200 rfl) rfl
theorem q775 : (Jvm.Cond.code ({ cls := "PromiseTailor$Sheet", name := "type", desc := "()I" } : Jvm.MethodName) prog_6_method_2_code (1 : Nat) (Option.some Jvm.ClassFile.FieldType.int)) ∈ lw_all := lw_g (lw_at lw_m3 201 rfl) rfl
theorem q776 : (Jvm.Cond.classLink "PromiseTailor$Sheet" (13 : Nat) "[B") ∈ lw_all := lw_g (lw_at lw_m3 202 rfl) rfl
theorem q777 : (Jvm.Cond.classLink "PromiseTailor$Sheet" (15 : Nat) "[S") ∈ lw_all := lw_g (lw_at lw_m3 203 rfl) rfl
theorem q778 : (Jvm.Cond.classLink "PromiseTailor$Sheet" (21 : Nat) "[I") ∈ lw_all := lw_g (lw_at lw_m3 204 rfl) rfl
theorem q779 : (Jvm.Cond.methodLink "PromiseTailor" (192 : Nat) ({ cls := "PromiseTailor$Sheet", name := "type", desc := "()I" } : Jvm.MethodName)) ∈ lw_all := lw_g (lw_at lw_m3 205 rfl) rfl
theorem q780 : (Jvm.Cond.methodLink "PromiseTailor" (194 : Nat) ({ cls := "PromiseTailor$Sheet", name := "item", desc := "(II)I" } : Jvm.MethodName)) ∈ lw_all := lw_g (lw_at lw_m3 206 rfl) rfl
theorem q781 : (Jvm.Cond.instanceMethod ({ cls := "PromiseTailor$Sheet", name := "item", desc := "(II)I" } : Jvm.MethodName)) ∈ lw_all := lw_g (lw_at lw_m3 207 rfl) rfl
theorem q782 : (Jvm.Cond.selects "PromiseTailor$Sheet" ({ cls := "PromiseTailor$Sheet", name := "item", desc := "(II)I" } : Jvm.MethodName) ({ cls := "PromiseTailor$Sheet", name := "item", desc := "(II)I" } : Jvm.MethodName)) ∈ lw_all := lw_g (lw_at lw_m3 208 rfl) rfl
theorem q783 : (Jvm.Cond.code ({ cls := "PromiseTailor$Sheet", name := "item", desc := "(II)I" } : Jvm.MethodName) prog_6_method_4_code (3 : Nat) (Option.some Jvm.ClassFile.FieldType.int)) ∈ lw_all := lw_g (lw_at lw_m3 209 rfl) rfl
theorem q784 : (Jvm.Cond.methodLink "PromiseTailor" (198 : Nat) ({ cls := "PromiseTailor", name := "keeping", desc := "(II)I" } : Jvm.MethodName)) ∈ lw_all := lw_g (lw_at lw_m3 210 rfl) rfl
theorem q785 : (Jvm.Cond.methodLink "PromiseTailorLaw" (60 : Nat) ({ cls := "PromiseTailor", name := "coat", desc := "(III)I" } : Jvm.MethodName)) ∈ lw_all := lw_g (lw_at lw_m3 211 rfl) rfl
theorem q786 : (Jvm.Cond.instanceMethod ({ cls := "PromiseTailor", name := "coat", desc := "(III)I" } : Jvm.MethodName)) ∈ lw_all := lw_g (lw_at lw_m3 212 rfl) rfl
theorem q787 : (Jvm.Cond.selects "PromiseTailor" ({ cls := "PromiseTailor", name := "coat", desc := "(III)I" } : Jvm.MethodName) ({ cls := "PromiseTailor", name := "coat", desc := "(III)I" } : Jvm.MethodName)) ∈ lw_all := lw_g (lw_at lw_m3 213 rfl) rfl
theorem q788 : (Jvm.Cond.code ({ cls := "PromiseTailor", name := "coat", desc := "(III)I" } : Jvm.MethodName) prog_1_method_32_code (4 : Nat) (Option.some Jvm.ClassFile.FieldType.int)) ∈ lw_all := lw_g (lw_at lw_m3 214 rfl) rfl
theorem q789 : (Jvm.Cond.methodLink "PromiseTailor" (277 : Nat) ({ cls := "PromiseTailor", name := "find", desc := "()V" } : Jvm.MethodName)) ∈ lw_all := lw_g (lw_at lw_m3 215 rfl) rfl
theorem q790 : (Jvm.Cond.privateMethod ({ cls := "PromiseTailor", name := "find", desc := "()V" } : Jvm.MethodName)) ∈ lw_tbl := lw_at lw_m3 216 rfl
theorem q791 : (Jvm.Cond.instanceMethod ({ cls := "PromiseTailor", name := "find", desc := "()V" } : Jvm.MethodName)) ∈ lw_all := lw_g (lw_at lw_m3 217 rfl) rfl
theorem q792 : (Jvm.Cond.code ({ cls := "PromiseTailor", name := "find", desc := "()V" } : Jvm.MethodName) prog_1_method_29_code (2 : Nat) (Option.none : Option Jvm.ClassFile.FieldType)) ∈ lw_all := lw_g (lw_at lw_m3 218 rfl) rfl
theorem q793 : (Jvm.Cond.methodLink "PromiseTailor" (271 : Nat) ({ cls := "PromiseTailor", name := "passes", desc := "(I)V" } : Jvm.MethodName)) ∈ lw_all := lw_g (lw_at lw_m3 219 rfl) rfl
theorem q794 : (Jvm.Cond.privateMethod ({ cls := "PromiseTailor", name := "passes", desc := "(I)V" } : Jvm.MethodName)) ∈ lw_tbl := lw_at lw_m3 220 rfl
theorem q795 : (Jvm.Cond.instanceMethod ({ cls := "PromiseTailor", name := "passes", desc := "(I)V" } : Jvm.MethodName)) ∈ lw_all := lw_g (lw_at lw_m3 221 rfl) rfl
theorem q796 : (Jvm.Cond.code ({ cls := "PromiseTailor", name := "passes", desc := "(I)V" } : Jvm.MethodName) prog_1_method_28_code (4 : Nat) (Option.none : Option Jvm.ClassFile.FieldType)) ∈ lw_all := lw_g (lw_at lw_m3 222 rfl) rfl
theorem q797 : (Jvm.Cond.methodLink "PromiseTailor" (242 : Nat) ({ cls := "PromiseTailor", name := "makes", desc := "(I)V" } : Jvm.MethodName)) ∈ lw_all := lw_g (lw_at lw_m3 223 rfl) rfl
theorem q798 : (Jvm.Cond.privateMethod ({ cls := "PromiseTailor", name := "makes", desc := "(I)V" } : Jvm.MethodName)) ∈ lw_tbl := lw_at lw_m3 224 rfl
theorem q799 : (Jvm.Cond.instanceMethod ({ cls := "PromiseTailor", name := "makes", desc := "(I)V" } : Jvm.MethodName)) ∈ lw_all := lw_g (lw_at lw_m3 225 rfl) rfl
theorem q800 : (Jvm.Cond.code ({ cls := "PromiseTailor", name := "makes", desc := "(I)V" } : Jvm.MethodName) prog_1_method_25_code (4 : Nat) (Option.none : Option Jvm.ClassFile.FieldType)) ∈ lw_all := lw_g (lw_at lw_m3 226 rfl) rfl
theorem q801 : (Jvm.Cond.methodLink "PromiseTailor" (222 : Nat) ({ cls := "PromiseTailor$Sort", name := "longer", desc := "(I)I" } : Jvm.MethodName)) ∈ lw_all := lw_g (lw_at lw_m3 227 rfl) rfl
theorem q802 : (Jvm.Cond.instanceMethod ({ cls := "PromiseTailor$Sort", name := "longer", desc := "(I)I" } : Jvm.MethodName)) ∈ lw_all := lw_g (lw_at lw_m3 228 rfl) rfl
theorem q803 : (Jvm.Cond.selects "PromiseTailor$Sort" ({ cls := "PromiseTailor$Sort", name := "longer", desc := "(I)I" } : Jvm.MethodName) ({ cls := "PromiseTailor$Sort", name := "longer", desc := "(I)I" } : Jvm.MethodName)) ∈ lw_all := lw_g (lw_at lw_m3 229 rfl) rfl
theorem q804 : (Jvm.Cond.sameMethod "PromiseTailor$Sort" "PromiseTailor$Sort" "longer" "(I)I") ∈ lw_all := lw_g (lw_at lw_m3 230 rfl) rfl
theorem q805 : (Jvm.Cond.selects "PromiseTailor$Alderman" ({ cls := "PromiseTailor$Sort", name := "longer", desc := "(I)I" } : Jvm.MethodName) ({ cls := "PromiseTailor$Alderman", name := "longer", desc := "(I)I" } : Jvm.MethodName)) ∈ lw_all := lw_g (lw_at lw_m3 231 rfl) rfl
theorem q806 : (Jvm.Cond.instanceMethod ({ cls := "PromiseTailor$Alderman", name := "longer", desc := "(I)I" } : Jvm.MethodName)) ∈ lw_all := lw_g (lw_at lw_m3 232 rfl) rfl
theorem q807 : (Jvm.Cond.code ({ cls := "PromiseTailor$Alderman", name := "longer", desc := "(I)I" } : Jvm.MethodName) prog_2_method_3_code (2 : Nat) (Option.some Jvm.ClassFile.FieldType.int)) ∈ lw_all := lw_g (lw_at lw_m3 233 rfl) rfl
theorem q808 : (Jvm.Cond.selects "PromiseTailor$Suitor" ({ cls := "PromiseTailor$Sort", name := "longer", desc := "(I)I" } : Jvm.MethodName) ({ cls := "PromiseTailor$Suitor", name := "longer", desc := "(I)I" } : Jvm.MethodName)) ∈ lw_all := lw_g (lw_at lw_m3 234 rfl) rfl
theorem q809 : (Jvm.Cond.instanceMethod ({ cls := "PromiseTailor$Suitor", name := "longer", desc := "(I)I" } : Jvm.MethodName)) ∈ lw_all := lw_g (lw_at lw_m3 235 rfl) rfl
theorem q810 : (Jvm.Cond.code ({ cls := "PromiseTailor$Suitor", name := "longer", desc := "(I)I" } : Jvm.MethodName) prog_8_method_3_code (2 : Nat) (Option.some Jvm.ClassFile.FieldType.int)) ∈ lw_all := lw_g (lw_at lw_m3 236 rfl) rfl
theorem q811 : (Jvm.Cond.code ({ cls := "PromiseTailor$Sort", name := "longer", desc := "(I)I" } : Jvm.MethodName) prog_7_method_3_code (2 : Nat) (Option.some Jvm.ClassFile.FieldType.int)) ∈ lw_all := lw_g (lw_at lw_m3 237 rfl) rfl
theorem q812 : (Jvm.Cond.methodLink "PromiseTailor" (227 : Nat) ({ cls := "PromiseTailor", name := "cuts", desc := "(II)V" } : Jvm.MethodName)) ∈ lw_all := lw_g (lw_at lw_m3 238 rfl) rfl
theorem q813 : (Jvm.Cond.privateMethod ({ cls := "PromiseTailor", name := "cuts", desc := "(II)V" } : Jvm.MethodName)) ∈ lw_tbl := lw_at lw_m3 239 rfl
theorem q814 : (Jvm.Cond.instanceMethod ({ cls := "PromiseTailor", name := "cuts", desc := "(II)V" } : Jvm.MethodName)) ∈ lw_all := lw_g (lw_at lw_m4 0 rfl) rfl
theorem q815 : (Jvm.Cond.code ({ cls := "PromiseTailor", name := "cuts", desc := "(II)V" } : Jvm.MethodName) prog_1_method_24_code (3 : Nat) (Option.none : Option Jvm.ClassFile.FieldType)) ∈ lw_all := lw_g (lw_at lw_m4 1 rfl) rfl
theorem q816 : (Jvm.Cond.methodLink "PromiseTailor" (201 : Nat) ({ cls := "java/lang/Math", name := "max", desc := "(II)I" } : Jvm.MethodName)) ∈ lw_all := lw_g (lw_at lw_m4 2 rfl) rfl
theorem q817 : (Jvm.Cond.methodLink "PromiseTailor" (206 : Nat) ({ cls := "java/lang/Math", name := "min", desc := "(II)I" } : Jvm.MethodName)) ∈ lw_all := lw_g (lw_at lw_m4 3 rfl) rfl
theorem q818 : (Jvm.Cond.methodLink "PromiseTailor" (249 : Nat) ({ cls := "PromiseTailor", name := "isIn", desc := "(II)Z" } : Jvm.MethodName)) ∈ lw_all := lw_g (lw_at lw_m4 4 rfl) rfl
theorem q819 : (Jvm.Cond.static ({ cls := "PromiseTailor", name := "isIn", desc := "(II)Z" } : Jvm.MethodName)) ∈ lw_all := lw_g (lw_at lw_m4 5 rfl) rfl
theorem q820 : (Jvm.Cond.code ({ cls := "PromiseTailor", name := "isIn", desc := "(II)Z" } : Jvm.MethodName) prog_1_method_7_code (2 : Nat) (Option.some Jvm.ClassFile.FieldType.boolean)) ∈ lw_all := lw_g (lw_at lw_m4 6 rfl) rfl
theorem q821 : (Jvm.Cond.methodLink "PromiseTailor" (253 : Nat) ({ cls := "PromiseTailor", name := "keeps", desc := "(I)V" } : Jvm.MethodName)) ∈ lw_all := lw_g (lw_at lw_m4 7 rfl) rfl
theorem q822 : (Jvm.Cond.privateMethod ({ cls := "PromiseTailor", name := "keeps", desc := "(I)V" } : Jvm.MethodName)) ∈ lw_tbl := lw_at lw_m4 8 rfl
theorem q823 : (Jvm.Cond.instanceMethod ({ cls := "PromiseTailor", name := "keeps", desc := "(I)V" } : Jvm.MethodName)) ∈ lw_all := lw_g (lw_at lw_m4 9 rfl) rfl
theorem q824 : (Jvm.Cond.code ({ cls := "PromiseTailor", name := "keeps", desc := "(I)V" } : Jvm.MethodName) prog_1_method_26_code (4 : Nat) (Option.none : Option Jvm.ClassFile.FieldType)) ∈ lw_all := lw_g (lw_at lw_m4 10 rfl) rfl
theorem q825 : (Jvm.Cond.methodLink "PromiseTailor" (259 : Nat) ({ cls := "PromiseTailor", name := "breaks", desc := "(I)V" } : Jvm.MethodName)) ∈ lw_all := lw_g (lw_at lw_m4 11 rfl) rfl
theorem q826 : (Jvm.Cond.privateMethod ({ cls := "PromiseTailor", name := "breaks", desc := "(I)V" } : Jvm.MethodName)) ∈ lw_tbl := lw_at lw_m4 12 rfl
theorem q827 : (Jvm.Cond.instanceMethod ({ cls := "PromiseTailor", name := "breaks", desc := "(I)V" } : Jvm.MethodName)) ∈ lw_all := lw_g (lw_at lw_m4 13 rfl) rfl
theorem q828 : (Jvm.Cond.code ({ cls := "PromiseTailor", name := "breaks", desc := "(I)V" } : Jvm.MethodName) prog_1_method_27_code (4 : Nat) (Option.none : Option Jvm.ClassFile.FieldType)) ∈ lw_all := lw_g (lw_at lw_m4 14 rfl) rfl
theorem q829 : (Jvm.Cond.methodLink "PromiseTailor" (239 : Nat) ({ cls := "PromiseTailor$Sort", name := "shorter", desc := "(I)I" } : Jvm.MethodName)) ∈ lw_all := lw_g (lw_at lw_m4 15 rfl) rfl
theorem q830 : (Jvm.Cond.instanceMethod ({ cls := "PromiseTailor$Sort", name := "shorter", desc := "(I)I" } : Jvm.MethodName)) ∈ lw_all := lw_g (lw_at lw_m4 16 rfl) rfl
theorem q831 : (Jvm.Cond.selects "PromiseTailor$Sort" ({ cls := "PromiseTailor$Sort", name := "shorter", desc := "(I)I" } : Jvm.MethodName) ({ cls := "PromiseTailor$Sort", name := "shorter", desc := "(I)I" } : Jvm.MethodName)) ∈ lw_all := lw_g (lw_at lw_m4 17 rfl) rfl
theorem q832 : (Jvm.Cond.sameMethod "PromiseTailor$Sort" "PromiseTailor$Sort" "shorter" "(I)I") ∈ lw_all := lw_g (lw_at lw_m4 18 rfl) rfl
theorem q833 : (Jvm.Cond.selects "PromiseTailor$Alderman" ({ cls := "PromiseTailor$Sort", name := "shorter", desc := "(I)I" } : Jvm.MethodName) ({ cls := "PromiseTailor$Alderman", name := "shorter", desc := "(I)I" } : Jvm.MethodName)) ∈ lw_all := lw_g (lw_at lw_m4 19 rfl) rfl
theorem q834 : (Jvm.Cond.instanceMethod ({ cls := "PromiseTailor$Alderman", name := "shorter", desc := "(I)I" } : Jvm.MethodName)) ∈ lw_all := lw_g (lw_at lw_m4 20 rfl) rfl
theorem q835 : (Jvm.Cond.code ({ cls := "PromiseTailor$Alderman", name := "shorter", desc := "(I)I" } : Jvm.MethodName) prog_2_method_4_code (2 : Nat) (Option.some Jvm.ClassFile.FieldType.int)) ∈ lw_all := lw_g (lw_at lw_m4 21 rfl) rfl
theorem q836 : (Jvm.Cond.methodLink "PromiseTailor$Alderman" (11 : Nat) ({ cls := "PromiseTailor$Sort", name := "shorter", desc := "(I)I" } : Jvm.MethodName)) ∈ lw_all := lw_g (lw_at lw_m4 22 rfl) rfl
theorem q837 : (Jvm.Cond.code ({ cls := "PromiseTailor$Sort", name := "shorter", desc := "(I)I" } : Jvm.MethodName) prog_7_method_4_code (2 : Nat) (Option.some Jvm.ClassFile.FieldType.int)) ∈ lw_all := lw_g (lw_at lw_m4 23 rfl) rfl
theorem q838 : (Jvm.Cond.methodLink "PromiseTailor$Sort" (7 : Nat) ({ cls := "PromiseTailor$Sort", name := "longer", desc := "(I)I" } : Jvm.MethodName)) ∈ lw_all := lw_g (lw_at lw_m4 24 rfl) rfl
theorem q839 : (Jvm.Cond.selects "PromiseTailor$Suitor" ({ cls := "PromiseTailor$Sort", name := "shorter", desc := "(I)I" } : Jvm.MethodName) ({ cls := "PromiseTailor$Sort", name := "shorter", desc := "(I)I" } : Jvm.MethodName)) ∈ lw_all := lw_g (lw_at lw_m4 25 rfl) rfl
theorem q840 : (Jvm.Cond.methodLink "PromiseTailor" (265 : Nat) ({ cls := "java/lang/System", name := "arraycopy", desc := "(Ljava/lang/Object;ILjava/lang/Object;II)V" } : Jvm.MethodName)) ∈ lw_all := lw_g (lw_at lw_m4 26 rfl) rfl
theorem q841 : (Jvm.Cond.methodLink "PromiseTailor" (280 : Nat) ({ cls := "PromiseTailor", name := "coatBy", desc := "(III)I" } : Jvm.MethodName)) ∈ lw_all := lw_g (lw_at lw_m4 27 rfl) rfl
theorem q842 : (Jvm.Cond.privateMethod ({ cls := "PromiseTailor", name := "coatBy", desc := "(III)I" } : Jvm.MethodName)) ∈ lw_tbl := lw_at lw_m4 28 rfl
theorem q843 : (Jvm.Cond.instanceMethod ({ cls := "PromiseTailor", name := "coatBy", desc := "(III)I" } : Jvm.MethodName)) ∈ lw_all := lw_g (lw_at lw_m4 29 rfl) rfl
theorem q844 : (Jvm.Cond.code ({ cls := "PromiseTailor", name := "coatBy", desc := "(III)I" } : Jvm.MethodName) prog_1_method_31_code (4 : Nat) (Option.some Jvm.ClassFile.FieldType.int)) ∈ lw_all := lw_g (lw_at lw_m4 30 rfl) rfl
theorem q845 : (Jvm.Cond.methodLink "PromiseTailor" (274 : Nat) ({ cls := "PromiseTailor", name := "isFit", desc := "(II)Z" } : Jvm.MethodName)) ∈ lw_all := lw_g (lw_at lw_m4 31 rfl) rfl
theorem q846 : (Jvm.Cond.privateMethod ({ cls := "PromiseTailor", name := "isFit", desc := "(II)Z" } : Jvm.MethodName)) ∈ lw_tbl := lw_at lw_m4 32 rfl
theorem q847 : (Jvm.Cond.instanceMethod ({ cls := "PromiseTailor", name := "isFit", desc := "(II)Z" } : Jvm.MethodName)) ∈ lw_all := lw_g (lw_at lw_m4 33 rfl) rfl
theorem q848 : (Jvm.Cond.code ({ cls := "PromiseTailor", name := "isFit", desc := "(II)Z" } : Jvm.MethodName) prog_1_method_30_code (3 : Nat) (Option.some Jvm.ClassFile.FieldType.boolean)) ∈ lw_all := lw_g (lw_at lw_m4 34 rfl) rfl
theorem q849 : (Jvm.Cond.methodLink "PromiseTailorLaw" (64 : Nat) ({ cls := "PromiseTailor", name := "stands", desc := "(II)I" } : Jvm.MethodName)) ∈ lw_all := lw_g (lw_at lw_m4 35 rfl) rfl
theorem q850 : (Jvm.Cond.instanceMethod ({ cls := "PromiseTailor", name := "stands", desc := "(II)I" } : Jvm.MethodName)) ∈ lw_all := lw_g (lw_at lw_m4 36 rfl) rfl
theorem q851 : (Jvm.Cond.selects "PromiseTailor" ({ cls := "PromiseTailor", name := "stands", desc := "(II)I" } : Jvm.MethodName) ({ cls := "PromiseTailor", name := "stands", desc := "(II)I" } : Jvm.MethodName)) ∈ lw_all := lw_g (lw_at lw_m4 37 rfl) rfl
theorem q852 : (Jvm.Cond.code ({ cls := "PromiseTailor", name := "stands", desc := "(II)I" } : Jvm.MethodName) prog_1_method_33_code (3 : Nat) (Option.some Jvm.ClassFile.FieldType.int)) ∈ lw_all := lw_g (lw_at lw_m4 38 rfl) rfl
theorem q853 : (Jvm.Cond.methodLink "PromiseTailorLaw" (68 : Nat) ({ cls := "PromiseTailor", name := "neat", desc := "(I)I" } : Jvm.MethodName)) ∈ lw_all := lw_g (lw_at lw_m4 39 rfl) rfl
theorem q854 : (Jvm.Cond.instanceMethod ({ cls := "PromiseTailor", name := "neat", desc := "(I)I" } : Jvm.MethodName)) ∈ lw_all := lw_g (lw_at lw_m4 40 rfl) rfl
theorem q855 : (Jvm.Cond.selects "PromiseTailor" ({ cls := "PromiseTailor", name := "neat", desc := "(I)I" } : Jvm.MethodName) ({ cls := "PromiseTailor", name := "neat", desc := "(I)I" } : Jvm.MethodName)) ∈ lw_all := lw_g (lw_at lw_m4 41 rfl) rfl
theorem q856 : (Jvm.Cond.code ({ cls := "PromiseTailor", name := "neat", desc := "(I)I" } : Jvm.MethodName) prog_1_method_35_code (2 : Nat) (Option.some Jvm.ClassFile.FieldType.int)) ∈ lw_all := lw_g (lw_at lw_m4 42 rfl) rfl
theorem q857 : (Jvm.Cond.methodLink "PromiseTailor" (284 : Nat) ({ cls := "PromiseTailor", name := "neatBy", desc := "(I)I" } : Jvm.MethodName)) ∈ lw_all := lw_g (lw_at lw_m4 43 rfl) rfl
theorem q858 : (Jvm.Cond.privateMethod ({ cls := "PromiseTailor", name := "neatBy", desc := "(I)I" } : Jvm.MethodName)) ∈ lw_tbl := lw_at lw_m4 44 rfl
theorem q859 : (Jvm.Cond.instanceMethod ({ cls := "PromiseTailor", name := "neatBy", desc := "(I)I" } : Jvm.MethodName)) ∈ lw_all := lw_g (lw_at lw_m4 45 rfl) rfl
theorem q860 : (Jvm.Cond.code ({ cls := "PromiseTailor", name := "neatBy", desc := "(I)I" } : Jvm.MethodName) prog_1_method_34_code (4 : Nat) (Option.some Jvm.ClassFile.FieldType.int)) ∈ lw_all := lw_g (lw_at lw_m4 46 rfl) rfl
theorem q861 : (Jvm.Cond.methodLink "PromiseTailorLaw" (72 : Nat) ({ cls := "PromiseTailor", name := "naked", desc := "(I)I" } : Jvm.MethodName)) ∈ lw_all := lw_g (lw_at lw_m4 47 rfl) rfl
theorem q862 : (Jvm.Cond.instanceMethod ({ cls := "PromiseTailor", name := "naked", desc := "(I)I" } : Jvm.MethodName)) ∈ lw_all := lw_g (lw_at lw_m4 48 rfl) rfl
theorem q863 : (Jvm.Cond.selects "PromiseTailor" ({ cls := "PromiseTailor", name := "naked", desc := "(I)I" } : Jvm.MethodName) ({ cls := "PromiseTailor", name := "naked", desc := "(I)I" } : Jvm.MethodName)) ∈ lw_all := lw_g (lw_at lw_m4 49 rfl) rfl
theorem q864 : (Jvm.Cond.code ({ cls := "PromiseTailor", name := "naked", desc := "(I)I" } : Jvm.MethodName) prog_1_method_37_code (2 : Nat) (Option.some Jvm.ClassFile.FieldType.int)) ∈ lw_all := lw_g (lw_at lw_m4 50 rfl) rfl
theorem q865 : (Jvm.Cond.methodLink "PromiseTailor" (287 : Nat) ({ cls := "PromiseTailor", name := "nakedBy", desc := "(I)I" } : Jvm.MethodName)) ∈ lw_all := lw_g (lw_at lw_m4 51 rfl) rfl
theorem q866 : (Jvm.Cond.privateMethod ({ cls := "PromiseTailor", name := "nakedBy", desc := "(I)I" } : Jvm.MethodName)) ∈ lw_tbl := lw_at lw_m4 52 rfl
theorem q867 : (Jvm.Cond.instanceMethod ({ cls := "PromiseTailor", name := "nakedBy", desc := "(I)I" } : Jvm.MethodName)) ∈ lw_all := lw_g (lw_at lw_m4 53 rfl) rfl
theorem q868 : (Jvm.Cond.code ({ cls := "PromiseTailor", name := "nakedBy", desc := "(I)I" } : Jvm.MethodName) prog_1_method_36_code (4 : Nat) (Option.some Jvm.ClassFile.FieldType.int)) ∈ lw_all := lw_g (lw_at lw_m4 54 rfl) rfl
theorem q869 : (Jvm.Cond.methodLink "PromiseTailorLaw" (76 : Nat) ({ cls := "PromiseTailor", name := "longest", desc := "(I)I" } : Jvm.MethodName)) ∈ lw_all := lw_g (lw_at lw_m4 55 rfl) rfl
theorem q870 : (Jvm.Cond.instanceMethod ({ cls := "PromiseTailor", name := "longest", desc := "(I)I" } : Jvm.MethodName)) ∈ lw_all := lw_g (lw_at lw_m4 56 rfl) rfl
theorem q871 : (Jvm.Cond.selects "PromiseTailor" ({ cls := "PromiseTailor", name := "longest", desc := "(I)I" } : Jvm.MethodName) ({ cls := "PromiseTailor", name := "longest", desc := "(I)I" } : Jvm.MethodName)) ∈ lw_all := lw_g (lw_at lw_m4 57 rfl) rfl
theorem q872 : (Jvm.Cond.code ({ cls := "PromiseTailor", name := "longest", desc := "(I)I" } : Jvm.MethodName) prog_1_method_39_code (2 : Nat) (Option.some Jvm.ClassFile.FieldType.int)) ∈ lw_all := lw_g (lw_at lw_m4 58 rfl) rfl
theorem q873 : (Jvm.Cond.methodLink "PromiseTailor" (290 : Nat) ({ cls := "PromiseTailor", name := "longestBy", desc := "(I)I" } : Jvm.MethodName)) ∈ lw_all := lw_g (lw_at lw_m4 59 rfl) rfl
theorem q874 : (Jvm.Cond.privateMethod ({ cls := "PromiseTailor", name := "longestBy", desc := "(I)I" } : Jvm.MethodName)) ∈ lw_tbl := lw_at lw_m4 60 rfl
theorem q875 : (Jvm.Cond.instanceMethod ({ cls := "PromiseTailor", name := "longestBy", desc := "(I)I" } : Jvm.MethodName)) ∈ lw_all := lw_g (lw_at lw_m4 61 rfl) rfl
theorem q876 : (Jvm.Cond.code ({ cls := "PromiseTailor", name := "longestBy", desc := "(I)I" } : Jvm.MethodName) prog_1_method_38_code (4 : Nat) (Option.some Jvm.ClassFile.FieldType.int)) ∈ lw_all := lw_g (lw_at lw_m4 62 rfl) rfl
theorem q877 : (Jvm.Cond.methodLink "PromiseTailorLaw" (80 : Nat) ({ cls := "PromiseTailor", name := "splits", desc := "()I" } : Jvm.MethodName)) ∈ lw_all := lw_g (lw_at lw_m4 63 rfl) rfl
theorem q878 : (Jvm.Cond.instanceMethod ({ cls := "PromiseTailor", name := "splits", desc := "()I" } : Jvm.MethodName)) ∈ lw_all := lw_g (lw_at lw_m4 64 rfl) rfl
theorem q879 : (Jvm.Cond.selects "PromiseTailor" ({ cls := "PromiseTailor", name := "splits", desc := "()I" } : Jvm.MethodName) ({ cls := "PromiseTailor", name := "splits", desc := "()I" } : Jvm.MethodName)) ∈ lw_all := lw_g (lw_at lw_m4 65 rfl) rfl
theorem q880 : (Jvm.Cond.code ({ cls := "PromiseTailor", name := "splits", desc := "()I" } : Jvm.MethodName) prog_1_method_41_code (1 : Nat) (Option.some Jvm.ClassFile.FieldType.int)) ∈ lw_all := lw_g (lw_at lw_m4 66 rfl) rfl
theorem q881 : (Jvm.Cond.methodLink "PromiseTailor" (293 : Nat) ({ cls := "PromiseTailor", name := "allSplits", desc := "()I" } : Jvm.MethodName)) ∈ lw_all := lw_g (lw_at lw_m4 67 rfl) rfl
theorem q882 : (Jvm.Cond.privateMethod ({ cls := "PromiseTailor", name := "allSplits", desc := "()I" } : Jvm.MethodName)) ∈ lw_tbl := lw_at lw_m4 68 rfl
theorem q883 : (Jvm.Cond.instanceMethod ({ cls := "PromiseTailor", name := "allSplits", desc := "()I" } : Jvm.MethodName)) ∈ lw_all := lw_g (lw_at lw_m4 69 rfl) rfl
theorem q884 : (Jvm.Cond.code ({ cls := "PromiseTailor", name := "allSplits", desc := "()I" } : Jvm.MethodName) prog_1_method_40_code (3 : Nat) (Option.some Jvm.ClassFile.FieldType.int)) ∈ lw_all := lw_g (lw_at lw_m4 70 rfl) rfl
theorem q885 : (Jvm.Cond.methodLink "PromiseTailorLaw" (85 : Nat) ({ cls := "PromiseTailor", name := "best", desc := "()I" } : Jvm.MethodName)) ∈ lw_all := lw_g (lw_at lw_m4 71 rfl) rfl
theorem q886 : (Jvm.Cond.instanceMethod ({ cls := "PromiseTailor", name := "best", desc := "()I" } : Jvm.MethodName)) ∈ lw_all := lw_g (lw_at lw_m4 72 rfl) rfl
theorem q887 : (Jvm.Cond.selects "PromiseTailor" ({ cls := "PromiseTailor", name := "best", desc := "()I" } : Jvm.MethodName) ({ cls := "PromiseTailor", name := "best", desc := "()I" } : Jvm.MethodName)) ∈ lw_all := lw_g (lw_at lw_m4 73 rfl) rfl
theorem q888 : (Jvm.Cond.code ({ cls := "PromiseTailor", name := "best", desc := "()I" } : Jvm.MethodName) prog_1_method_44_code (1 : Nat) (Option.some Jvm.ClassFile.FieldType.int)) ∈ lw_all := lw_g (lw_at lw_m4 74 rfl) rfl
theorem q889 : (Jvm.Cond.methodLink "PromiseTailor" (302 : Nat) ({ cls := "PromiseTailor", name := "bestNow", desc := "()I" } : Jvm.MethodName)) ∈ lw_all := lw_g (lw_at lw_m4 75 rfl) rfl
theorem q890 : (Jvm.Cond.privateMethod ({ cls := "PromiseTailor", name := "bestNow", desc := "()I" } : Jvm.MethodName)) ∈ lw_tbl := lw_at lw_m4 76 rfl
theorem q891 : (Jvm.Cond.instanceMethod ({ cls := "PromiseTailor", name := "bestNow", desc := "()I" } : Jvm.MethodName)) ∈ lw_all := lw_g (lw_at lw_m4 77 rfl) rfl
theorem q892 : (Jvm.Cond.code ({ cls := "PromiseTailor", name := "bestNow", desc := "()I" } : Jvm.MethodName) prog_1_method_43_code (3 : Nat) (Option.some Jvm.ClassFile.FieldType.int)) ∈ lw_all := lw_g (lw_at lw_m4 78 rfl) rfl
theorem q893 : (Jvm.Cond.methodLink "PromiseTailor" (299 : Nat) ({ cls := "PromiseTailor", name := "fitsIn", desc := "(I)I" } : Jvm.MethodName)) ∈ lw_all := lw_g (lw_at lw_m4 79 rfl) rfl
theorem q894 : (Jvm.Cond.privateMethod ({ cls := "PromiseTailor", name := "fitsIn", desc := "(I)I" } : Jvm.MethodName)) ∈ lw_tbl := lw_at lw_m4 80 rfl
theorem q895 : (Jvm.Cond.instanceMethod ({ cls := "PromiseTailor", name := "fitsIn", desc := "(I)I" } : Jvm.MethodName)) ∈ lw_all := lw_g (lw_at lw_m4 81 rfl) rfl
theorem q896 : (Jvm.Cond.code ({ cls := "PromiseTailor", name := "fitsIn", desc := "(I)I" } : Jvm.MethodName) prog_1_method_42_code (2 : Nat) (Option.some Jvm.ClassFile.FieldType.int)) ∈ lw_all := lw_g (lw_at lw_m4 82 rfl) rfl
theorem q897 : (Jvm.Cond.methodLink "PromiseTailor" (296 : Nat) ({ cls := "java/lang/Integer", name := "bitCount", desc := "(I)I" } : Jvm.MethodName)) ∈ lw_all := lw_g (lw_at lw_m4 83 rfl) rfl
theorem q898 : (Jvm.Cond.static ({ cls := "java/lang/Integer", name := "bitCount", desc := "(I)I" } : Jvm.MethodName)) ∈ lw_all := lw_g (lw_at lw_m4 84 rfl) rfl
theorem q899 : (Jvm.Cond.code ({ cls := "java/lang/Integer", name := "bitCount", desc := "(I)I" } : Jvm.MethodName) prog_23_method_49_code (1 : Nat) (Option.some Jvm.ClassFile.FieldType.int)) ∈ lw_all := lw_g (lw_at lw_m4 85 rfl) rfl
theorem q900 : (Jvm.Cond.constant "java/lang/Integer" (265 : Nat) (1431655765 : Int32)) ∈ lw_all := lw_g (lw_at lw_m4 86 rfl) rfl
theorem q901 : (Jvm.Cond.constant "java/lang/Integer" (266 : Nat) (858993459 : Int32)) ∈ lw_all := lw_g (lw_at lw_m4 87 rfl) rfl
theorem q902 : (Jvm.Cond.constant "java/lang/Integer" (267 : Nat) (252645135 : Int32)) ∈ lw_all := lw_g (lw_at lw_m4 88 rfl) rfl
theorem q903 : (Jvm.Cond.methodLink "PromiseTailorLaw" (89 : Nat) ({ cls := "PromiseTailor", name := "swear", desc := "(II)I" } : Jvm.MethodName)) ∈ lw_all := lw_g (lw_at lw_m4 89 rfl) rfl
theorem q904 : (Jvm.Cond.instanceMethod ({ cls := "PromiseTailor", name := "swear", desc := "(II)I" } : Jvm.MethodName)) ∈ lw_all := lw_g (lw_at lw_m4 90 rfl) rfl
theorem q905 : (Jvm.Cond.selects "PromiseTailor" ({ cls := "PromiseTailor", name := "swear", desc := "(II)I" } : Jvm.MethodName) ({ cls := "PromiseTailor", name := "swear", desc := "(II)I" } : Jvm.MethodName)) ∈ lw_all := lw_g (lw_at lw_m4 91 rfl) rfl
theorem q906 : (Jvm.Cond.code ({ cls := "PromiseTailor", name := "swear", desc := "(II)I" } : Jvm.MethodName) prog_1_method_46_code (3 : Nat) (Option.some Jvm.ClassFile.FieldType.int)) ∈ lw_all := lw_g (lw_at lw_m4 92 rfl) rfl
theorem q907 : (Jvm.Cond.methodLink "PromiseTailor" (305 : Nat) ({ cls := "PromiseTailor", name := "swearOf", desc := "(II)I" } : Jvm.MethodName)) ∈ lw_all := lw_g (lw_at lw_m4 93 rfl) rfl
theorem q908 : (Jvm.Cond.privateMethod ({ cls := "PromiseTailor", name := "swearOf", desc := "(II)I" } : Jvm.MethodName)) ∈ lw_tbl := lw_at lw_m4 94 rfl
theorem q909 : (Jvm.Cond.instanceMethod ({ cls := "PromiseTailor", name := "swearOf", desc := "(II)I" } : Jvm.MethodName)) ∈ lw_all := lw_g (lw_at lw_m4 95 rfl) rfl
theorem q910 : (Jvm.Cond.codeWith ({ cls := "PromiseTailor", name := "swearOf", desc := "(II)I" } : Jvm.MethodName) prog_1_method_45_code (5 : Nat) (Option.some Jvm.ClassFile.FieldType.int) [((0 : Nat), (37 : Nat), (66 : Nat), (0 : Nat)), ((44 : Nat), (59 : Nat), (66 : Nat), (0 : Nat)), ((66 : Nat), (68 : Nat), (66 : Nat), (0 : Nat))]) ∈ lw_all := lw_g (lw_at lw_m4 96 rfl) rfl
theorem q911 : (Jvm.Cond.methodLink "PromiseTailorLaw" (93 : Nat) ({ cls := "PromiseTailor", name := "keep", desc := "(II)I" } : Jvm.MethodName)) ∈ lw_all := lw_g (lw_at lw_m4 97 rfl) rfl
theorem q912 : (Jvm.Cond.instanceMethod ({ cls := "PromiseTailor", name := "keep", desc := "(II)I" } : Jvm.MethodName)) ∈ lw_all := lw_g (lw_at lw_m4 98 rfl) rfl
theorem q913 : (Jvm.Cond.selects "PromiseTailor" ({ cls := "PromiseTailor", name := "keep", desc := "(II)I" } : Jvm.MethodName) ({ cls := "PromiseTailor", name := "keep", desc := "(II)I" } : Jvm.MethodName)) ∈ lw_all := lw_g (lw_at lw_m4 99 rfl) rfl
theorem q914 : (Jvm.Cond.code ({ cls := "PromiseTailor", name := "keep", desc := "(II)I" } : Jvm.MethodName) prog_1_method_48_code (3 : Nat) (Option.some Jvm.ClassFile.FieldType.int)) ∈ lw_all := lw_g (lw_at lw_m4 100 rfl) rfl
theorem q915 : (Jvm.Cond.methodLink "PromiseTailor" (308 : Nat) ({ cls := "PromiseTailor", name := "keepOf", desc := "(II)I" } : Jvm.MethodName)) ∈ lw_all := lw_g (lw_at lw_m4 101 rfl) rfl
theorem q916 : (Jvm.Cond.privateMethod ({ cls := "PromiseTailor", name := "keepOf", desc := "(II)I" } : Jvm.MethodName)) ∈ lw_tbl := lw_at lw_m4 102 rfl
theorem q917 : (Jvm.Cond.instanceMethod ({ cls := "PromiseTailor", name := "keepOf", desc := "(II)I" } : Jvm.MethodName)) ∈ lw_all := lw_g (lw_at lw_m4 103 rfl) rfl
theorem q918 : (Jvm.Cond.codeWith ({ cls := "PromiseTailor", name := "keepOf", desc := "(II)I" } : Jvm.MethodName) prog_1_method_47_code (6 : Nat) (Option.some Jvm.ClassFile.FieldType.int) [((5 : Nat), (73 : Nat), (81 : Nat), (0 : Nat)), ((81 : Nat), (83 : Nat), (81 : Nat), (0 : Nat))]) ∈ lw_all := lw_g (lw_at lw_m4 104 rfl) rfl
theorem q919 : (Jvm.Cond.methodLink "PromiseTailorLaw" (97 : Nat) ({ cls := "PromiseTailor", name := "due", desc := "(II)I" } : Jvm.MethodName)) ∈ lw_all := lw_g (lw_at lw_m4 105 rfl) rfl
theorem q920 : (Jvm.Cond.instanceMethod ({ cls := "PromiseTailor", name := "due", desc := "(II)I" } : Jvm.MethodName)) ∈ lw_all := lw_g (lw_at lw_m4 106 rfl) rfl
theorem q921 : (Jvm.Cond.selects "PromiseTailor" ({ cls := "PromiseTailor", name := "due", desc := "(II)I" } : Jvm.MethodName) ({ cls := "PromiseTailor", name := "due", desc := "(II)I" } : Jvm.MethodName)) ∈ lw_all := lw_g (lw_at lw_m4 107 rfl) rfl
theorem q922 : (Jvm.Cond.code ({ cls := "PromiseTailor", name := "due", desc := "(II)I" } : Jvm.MethodName) prog_1_method_50_code (3 : Nat) (Option.some Jvm.ClassFile.FieldType.int)) ∈ lw_all := lw_g (lw_at lw_m4 108 rfl) rfl
theorem q923 : (Jvm.Cond.methodLink "PromiseTailor" (311 : Nat) ({ cls := "PromiseTailor", name := "dueOf", desc := "(II)I" } : Jvm.MethodName)) ∈ lw_all := lw_g (lw_at lw_m4 109 rfl) rfl
theorem q924 : (Jvm.Cond.privateMethod ({ cls := "PromiseTailor", name := "dueOf", desc := "(II)I" } : Jvm.MethodName)) ∈ lw_tbl := lw_at lw_m4 110 rfl
theorem q925 : (Jvm.Cond.instanceMethod ({ cls := "PromiseTailor", name := "dueOf", desc := "(II)I" } : Jvm.MethodName)) ∈ lw_all := lw_g (lw_at lw_m4 111 rfl) rfl
theorem q926 : (Jvm.Cond.codeWith ({ cls := "PromiseTailor", name := "dueOf", desc := "(II)I" } : Jvm.MethodName) prog_1_method_49_code (8 : Nat) (Option.some Jvm.ClassFile.FieldType.int) [((29 : Nat), (84 : Nat), (93 : Nat), (0 : Nat)), ((93 : Nat), (95 : Nat), (93 : Nat), (0 : Nat))]) ∈ lw_all := lw_g (lw_at lw_m4 112 rfl) rfl
theorem q927 : (Jvm.Cond.methodLink "PromiseTailorLaw" (101 : Nat) ({ cls := "PromiseTailor", name := "hush", desc := "(I)I" } : Jvm.MethodName)) ∈ lw_all := lw_g (lw_at lw_m4 113 rfl) rfl
theorem q928 : (Jvm.Cond.instanceMethod ({ cls := "PromiseTailor", name := "hush", desc := "(I)I" } : Jvm.MethodName)) ∈ lw_all := lw_g (lw_at lw_m4 114 rfl) rfl
theorem q929 : (Jvm.Cond.selects "PromiseTailor" ({ cls := "PromiseTailor", name := "hush", desc := "(I)I" } : Jvm.MethodName) ({ cls := "PromiseTailor", name := "hush", desc := "(I)I" } : Jvm.MethodName)) ∈ lw_all := lw_g (lw_at lw_m4 115 rfl) rfl
theorem q930 : (Jvm.Cond.code ({ cls := "PromiseTailor", name := "hush", desc := "(I)I" } : Jvm.MethodName) prog_1_method_53_code (2 : Nat) (Option.some Jvm.ClassFile.FieldType.int)) ∈ lw_all := lw_g (lw_at lw_m4 116 rfl) rfl
theorem q931 : (Jvm.Cond.constantLong "PromiseTailor" (317 : Nat) (-1 : Int64)) ∈ lw_all := lw_g (lw_at lw_m4 117 rfl) rfl
theorem q932 : (Jvm.Cond.methodLink "PromiseTailor" (319 : Nat) ({ cls := "PromiseTailor", name := "hushBy", desc := "(I)I" } : Jvm.MethodName)) ∈ lw_all := lw_g (lw_at lw_m4 118 rfl) rfl
theorem q933 : (Jvm.Cond.privateMethod ({ cls := "PromiseTailor", name := "hushBy", desc := "(I)I" } : Jvm.MethodName)) ∈ lw_tbl := lw_at lw_m4 119 rfl
theorem q934 : (Jvm.Cond.instanceMethod ({ cls := "PromiseTailor", name := "hushBy", desc := "(I)I" } : Jvm.MethodName)) ∈ lw_all := lw_g (lw_at lw_m4 120 rfl) rfl
theorem q935 : (Jvm.Cond.code ({ cls := "PromiseTailor", name := "hushBy", desc := "(I)I" } : Jvm.MethodName) prog_1_method_52_code (5 : Nat) (Option.some Jvm.ClassFile.FieldType.int)) ∈ lw_all := lw_g (lw_at lw_m4 121 rfl) rfl
theorem q936 : (Jvm.Cond.methodLink "PromiseTailor" (314 : Nat) ({ cls := "PromiseTailor", name := "isHushed", desc := "(I)Z" } : Jvm.MethodName)) ∈ lw_all := lw_g (lw_at lw_m4 122 rfl) rfl
theorem q937 : (Jvm.Cond.privateMethod ({ cls := "PromiseTailor", name := "isHushed", desc := "(I)Z" } : Jvm.MethodName)) ∈ lw_tbl := lw_at lw_m4 123 rfl
theorem q938 : (Jvm.Cond.instanceMethod ({ cls := "PromiseTailor", name := "isHushed", desc := "(I)Z" } : Jvm.MethodName)) ∈ lw_all := lw_g (lw_at lw_m4 124 rfl) rfl
theorem q939 : (Jvm.Cond.codeWith ({ cls := "PromiseTailor", name := "isHushed", desc := "(I)Z" } : Jvm.MethodName) prog_1_method_51_code (4 : Nat) (Option.some Jvm.ClassFile.FieldType.boolean) [((5 : Nat), (24 : Nat), (31 : Nat), (0 : Nat))]) ∈ lw_all := lw_g (lw_at lw_m4 125 rfl) rfl
theorem q940 : (Jvm.Cond.methodLink "PromiseTailorLaw" (105 : Nat) ({ cls := "PromiseTailor", name := "seen", desc := "(III)I" } : Jvm.MethodName)) ∈ lw_all := lw_g (lw_at lw_m4 126 rfl) rfl
theorem q941 : (Jvm.Cond.instanceMethod ({ cls := "PromiseTailor", name := "seen", desc := "(III)I" } : Jvm.MethodName)) ∈ lw_all := lw_g (lw_at lw_m4 127 rfl) rfl
theorem q942 : (Jvm.Cond.selects "PromiseTailor" ({ cls := "PromiseTailor", name := "seen", desc := "(III)I" } : Jvm.MethodName) ({ cls := "PromiseTailor", name := "seen", desc := "(III)I" } : Jvm.MethodName)) ∈ lw_all := lw_g (lw_at lw_m4 128 rfl) rfl
theorem q943 : (Jvm.Cond.code ({ cls := "PromiseTailor", name := "seen", desc := "(III)I" } : Jvm.MethodName) prog_1_method_54_code (4 : Nat) (Option.some Jvm.ClassFile.FieldType.int)) ∈ lw_all := lw_g (lw_at lw_m4 129 rfl) rfl
theorem q944 : (Jvm.Cond.constantLong "PromiseTailor" (322 : Nat) (99 : Int64)) ∈ lw_all := lw_g (lw_at lw_m4 130 rfl) rfl
theorem q945 : (Jvm.Cond.methodLink "PromiseTailorLaw" (109 : Nat) ({ cls := "PromiseTailor", name := "forget", desc := "()I" } : Jvm.MethodName)) ∈ lw_all := lw_g (lw_at lw_m4 131 rfl) rfl
theorem q946 : (Jvm.Cond.instanceMethod ({ cls := "PromiseTailor", name := "forget", desc := "()I" } : Jvm.MethodName)) ∈ lw_all := lw_g (lw_at lw_m4 132 rfl) rfl
theorem q947 : (Jvm.Cond.selects "PromiseTailor" ({ cls := "PromiseTailor", name := "forget", desc := "()I" } : Jvm.MethodName) ({ cls := "PromiseTailor", name := "forget", desc := "()I" } : Jvm.MethodName)) ∈ lw_all := lw_g (lw_at lw_m4 133 rfl) rfl
theorem q948 : (Jvm.Cond.code ({ cls := "PromiseTailor", name := "forget", desc := "()I" } : Jvm.MethodName) prog_1_method_55_code (2 : Nat) (Option.some Jvm.ClassFile.FieldType.int)) ∈ lw_all := lw_g (lw_at lw_m4 134 rfl) rfl
theorem q949 : (Jvm.Cond.methodLink "PromiseTailor" (324 : Nat) ({ cls := "java/util/ArrayList", name := "clear", desc := "()V" } : Jvm.MethodName)) ∈ lw_all := lw_g (lw_at lw_m4 135 rfl) rfl
theorem q950 : (Jvm.Cond.methodLink "PromiseTailorLaw" (113 : Nat) ({ cls := "PromiseTailor", name := "never", desc := "()I" } : Jvm.MethodName)) ∈ lw_all := lw_g (lw_at lw_m4 136 rfl) rfl
theorem q951 : (Jvm.Cond.instanceMethod ({ cls := "PromiseTailor", name := "never", desc := "()I" } : Jvm.MethodName)) ∈ lw_all := lw_g (lw_at lw_m4 137 rfl) rfl
theorem q952 : (Jvm.Cond.selects "PromiseTailor" ({ cls := "PromiseTailor", name := "never", desc := "()I" } : Jvm.MethodName) ({ cls := "PromiseTailor", name := "never", desc := "()I" } : Jvm.MethodName)) ∈ lw_all := lw_g (lw_at lw_m4 138 rfl) rfl
theorem q953 : (Jvm.Cond.code ({ cls := "PromiseTailor", name := "never", desc := "()I" } : Jvm.MethodName) prog_1_method_58_code (1 : Nat) (Option.some Jvm.ClassFile.FieldType.int)) ∈ lw_all := lw_g (lw_at lw_m4 139 rfl) rfl
theorem q954 : (Jvm.Cond.methodLink "PromiseTailor" (330 : Nat) ({ cls := "PromiseTailor", name := "neverNow", desc := "()I" } : Jvm.MethodName)) ∈ lw_all := lw_g (lw_at lw_m4 140 rfl) rfl
theorem q955 : (Jvm.Cond.privateMethod ({ cls := "PromiseTailor", name := "neverNow", desc := "()I" } : Jvm.MethodName)) ∈ lw_tbl := lw_at lw_m4 141 rfl
theorem q956 : (Jvm.Cond.instanceMethod ({ cls := "PromiseTailor", name := "neverNow", desc := "()I" } : Jvm.MethodName)) ∈ lw_all := lw_g (lw_at lw_m4 142 rfl) rfl
theorem q957 : (Jvm.Cond.codeWith ({ cls := "PromiseTailor", name := "neverNow", desc := "()I" } : Jvm.MethodName) prog_1_method_57_code (4 : Nat) (Option.some Jvm.ClassFile.FieldType.int) [((2 : Nat), (45 : Nat), (53 : Nat), (0 : Nat))]) ∈ lw_all := lw_g (lw_at lw_m4 143 rfl) rfl
theorem q958 : (Jvm.Cond.methodLink "PromiseTailor" (327 : Nat) ({ cls := "PromiseTailor", name := "isSeen", desc := "()Z" } : Jvm.MethodName)) ∈ lw_all := lw_g (lw_at lw_m4 144 rfl) rfl
theorem q959 : (Jvm.Cond.privateMethod ({ cls := "PromiseTailor", name := "isSeen", desc := "()Z" } : Jvm.MethodName)) ∈ lw_tbl := lw_at lw_m4 145 rfl
theorem q960 : (Jvm.Cond.instanceMethod ({ cls := "PromiseTailor", name := "isSeen", desc := "()Z" } : Jvm.MethodName)) ∈ lw_all := lw_g (lw_at lw_m4 146 rfl) rfl
theorem q961 : (Jvm.Cond.code ({ cls := "PromiseTailor", name := "isSeen", desc := "()Z" } : Jvm.MethodName) prog_1_method_56_code (4 : Nat) (Option.some Jvm.ClassFile.FieldType.boolean)) ∈ lw_all := lw_g (lw_at lw_m4 147 rfl) rfl
theorem q962 : (Jvm.Cond.methodLink "PromiseTailorLaw" (117 : Nat) ({ cls := "PromiseTailor", name := "was", desc := "(II)I" } : Jvm.MethodName)) ∈ lw_all := lw_g (lw_at lw_m4 148 rfl) rfl
theorem q963 : (Jvm.Cond.instanceMethod ({ cls := "PromiseTailor", name := "was", desc := "(II)I" } : Jvm.MethodName)) ∈ lw_all := lw_g (lw_at lw_m4 149 rfl) rfl
theorem q964 : (Jvm.Cond.selects "PromiseTailor" ({ cls := "PromiseTailor", name := "was", desc := "(II)I" } : Jvm.MethodName) ({ cls := "PromiseTailor", name := "was", desc := "(II)I" } : Jvm.MethodName)) ∈ lw_all := lw_g (lw_at lw_m4 150 rfl) rfl
theorem q965 : (Jvm.Cond.code ({ cls := "PromiseTailor", name := "was", desc := "(II)I" } : Jvm.MethodName) prog_1_method_62_code (3 : Nat) (Option.some Jvm.ClassFile.FieldType.int)) ∈ lw_all := lw_g (lw_at lw_m4 151 rfl) rfl
theorem q966 : (Jvm.Cond.methodLink "PromiseTailor" (344 : Nat) ({ cls := "PromiseTailor", name := "wasOf", desc := "(II)I" } : Jvm.MethodName)) ∈ lw_all := lw_g (lw_at lw_m4 152 rfl) rfl
theorem q967 : (Jvm.Cond.privateMethod ({ cls := "PromiseTailor", name := "wasOf", desc := "(II)I" } : Jvm.MethodName)) ∈ lw_tbl := lw_at lw_m4 153 rfl
theorem q968 : (Jvm.Cond.instanceMethod ({ cls := "PromiseTailor", name := "wasOf", desc := "(II)I" } : Jvm.MethodName)) ∈ lw_all := lw_g (lw_at lw_m4 154 rfl) rfl
theorem q969 : (Jvm.Cond.code ({ cls := "PromiseTailor", name := "wasOf", desc := "(II)I" } : Jvm.MethodName) prog_1_method_61_code (3 : Nat) (Option.some Jvm.ClassFile.FieldType.int)) ∈ lw_all := lw_g (lw_at lw_m4 155 rfl) rfl
theorem q970 : (Jvm.Cond.methodLink "PromiseTailor" (337 : Nat) ({ cls := "PromiseTailor", name := "sizesOf", desc := "(I)I" } : Jvm.MethodName)) ∈ lw_all := lw_g (lw_at lw_m4 156 rfl) rfl
theorem q971 : (Jvm.Cond.privateMethod ({ cls := "PromiseTailor", name := "sizesOf", desc := "(I)I" } : Jvm.MethodName)) ∈ lw_tbl := lw_at lw_m4 157 rfl
theorem q972 : (Jvm.Cond.instanceMethod ({ cls := "PromiseTailor", name := "sizesOf", desc := "(I)I" } : Jvm.MethodName)) ∈ lw_all := lw_g (lw_at lw_m4 158 rfl) rfl
theorem q973 : (Jvm.Cond.codeWith ({ cls := "PromiseTailor", name := "sizesOf", desc := "(I)I" } : Jvm.MethodName) prog_1_method_59_code (7 : Nat) (Option.some Jvm.ClassFile.FieldType.int) [((23 : Nat), (109 : Nat), (117 : Nat), (0 : Nat)), ((117 : Nat), (119 : Nat), (117 : Nat), (0 : Nat))]) ∈ lw_all := lw_g (lw_at lw_m4 159 rfl) rfl
theorem q974 : (Jvm.Cond.methodLink "PromiseTailor" (340 : Nat) ({ cls := "PromiseTailor", name := "sortBy", desc := "(LPromiseTailor$Person;)I" } : Jvm.MethodName)) ∈ lw_all := lw_g (lw_at lw_m4 160 rfl) rfl
theorem q975 : (Jvm.Cond.privateMethod ({ cls := "PromiseTailor", name := "sortBy", desc := "(LPromiseTailor$Person;)I" } : Jvm.MethodName)) ∈ lw_tbl := lw_at lw_m4 161 rfl
theorem q976 : (Jvm.Cond.instanceMethod ({ cls := "PromiseTailor", name := "sortBy", desc := "(LPromiseTailor$Person;)I" } : Jvm.MethodName)) ∈ lw_all := lw_g (lw_at lw_m4 162 rfl) rfl
theorem q977 : (Jvm.Cond.codeWith ({ cls := "PromiseTailor", name := "sortBy", desc := "(LPromiseTailor$Person;)I" } : Jvm.MethodName) prog_1_method_60_code (6 : Nat) (Option.some Jvm.ClassFile.FieldType.int) [((7 : Nat), (50 : Nat), (58 : Nat), (0 : Nat)), ((58 : Nat), (60 : Nat), (58 : Nat), (0 : Nat))]) ∈ lw_all := lw_g (lw_at lw_m4 163 rfl) rfl
theorem q978 : (Jvm.Cond.fieldLink "PromiseTailor" (333 : Nat) "PromiseTailor" "SORT" "[LPromiseTailor$Sort;") ∈ lw_all := lw_g (lw_at lw_m4 164 rfl) rfl
theorem q979 : (Jvm.Cond.methodLink "PromiseTailorLaw" (121 : Nat) ({ cls := "PromiseTailor", name := "ask", desc := "(I)I" } : Jvm.MethodName)) ∈ lw_all := lw_g (lw_at lw_m4 165 rfl) rfl
theorem q980 : (Jvm.Cond.instanceMethod ({ cls := "PromiseTailor", name := "ask", desc := "(I)I" } : Jvm.MethodName)) ∈ lw_all := lw_g (lw_at lw_m4 166 rfl) rfl
theorem q981 : (Jvm.Cond.selects "PromiseTailor" ({ cls := "PromiseTailor", name := "ask", desc := "(I)I" } : Jvm.MethodName) ({ cls := "PromiseTailor", name := "ask", desc := "(I)I" } : Jvm.MethodName)) ∈ lw_all := lw_g (lw_at lw_m4 167 rfl) rfl
theorem q982 : (Jvm.Cond.code ({ cls := "PromiseTailor", name := "ask", desc := "(I)I" } : Jvm.MethodName) prog_1_method_65_code (2 : Nat) (Option.some Jvm.ClassFile.FieldType.int)) ∈ lw_all := lw_g (lw_at lw_m4 168 rfl) rfl
theorem q983 : (Jvm.Cond.methodLink "PromiseTailor" (350 : Nat) ({ cls := "PromiseTailor", name := "askOf", desc := "(I)I" } : Jvm.MethodName)) ∈ lw_all := lw_g (lw_at lw_m4 169 rfl) rfl
theorem q984 : (Jvm.Cond.privateMethod ({ cls := "PromiseTailor", name := "askOf", desc := "(I)I" } : Jvm.MethodName)) ∈ lw_tbl := lw_at lw_m4 170 rfl
theorem q985 : (Jvm.Cond.instanceMethod ({ cls := "PromiseTailor", name := "askOf", desc := "(I)I" } : Jvm.MethodName)) ∈ lw_all := lw_g (lw_at lw_m4 171 rfl) rfl
theorem q986 : (Jvm.Cond.code ({ cls := "PromiseTailor", name := "askOf", desc := "(I)I" } : Jvm.MethodName) prog_1_method_64_code (5 : Nat) (Option.some Jvm.ClassFile.FieldType.int)) ∈ lw_all := lw_g (lw_at lw_m4 172 rfl) rfl
theorem q987 : (Jvm.Cond.methodLink "PromiseTailor" (347 : Nat) ({ cls := "PromiseTailor", name := "alike", desc := "(II)I" } : Jvm.MethodName)) ∈ lw_all := lw_g (lw_at lw_m4 173 rfl) rfl
theorem q988 : (Jvm.Cond.privateMethod ({ cls := "PromiseTailor", name := "alike", desc := "(II)I" } : Jvm.MethodName)) ∈ lw_tbl := lw_at lw_m4 174 rfl
theorem q989 : (Jvm.Cond.instanceMethod ({ cls := "PromiseTailor", name := "alike", desc := "(II)I" } : Jvm.MethodName)) ∈ lw_all := lw_g (lw_at lw_m4 175 rfl) rfl
theorem q990 : (Jvm.Cond.code ({ cls := "PromiseTailor", name := "alike", desc := "(II)I" } : Jvm.MethodName) prog_1_method_63_code (7 : Nat) (Option.some Jvm.ClassFile.FieldType.int)) ∈ lw_all := lw_g (lw_at lw_m4 176 rfl) rfl
theorem q991 : (Jvm.Cond.methodLink "PromiseTailorLaw" (125 : Nat) ({ cls := "PromiseTailor", name := "word", desc := "(IIII)J" } : Jvm.MethodName)) ∈ lw_all := lw_g (lw_at lw_m4 177 rfl) rfl
theorem q992 : (Jvm.Cond.instanceMethod ({ cls := "PromiseTailor", name := "word", desc := "(IIII)J" } : Jvm.MethodName)) ∈ lw_all := lw_g (lw_at lw_m4 178 rfl) rfl
theorem q993 : (Jvm.Cond.selects "PromiseTailor" ({ cls := "PromiseTailor", name := "word", desc := "(IIII)J" } : Jvm.MethodName) ({ cls := "PromiseTailor", name := "word", desc := "(IIII)J" } : Jvm.MethodName)) ∈ lw_all := lw_g (lw_at lw_m4 179 rfl) rfl
theorem q994 : (Jvm.Cond.code ({ cls := "PromiseTailor", name := "word", desc := "(IIII)J" } : Jvm.MethodName) prog_1_method_69_code (5 : Nat) (Option.some Jvm.ClassFile.FieldType.long)) ∈ lw_all := lw_g (lw_at lw_m4 180 rfl) rfl
theorem q995 : (Jvm.Cond.constantLong "PromiseTailor" (361 : Nat) (16 : Int64)) ∈ lw_all := lw_g (lw_at lw_m4 181 rfl) rfl
theorem q996 : (Jvm.Cond.methodLink "PromiseTailor" (363 : Nat) ({ cls := "PromiseTailor", name := "wordOf", desc := "(IIII)J" } : Jvm.MethodName)) ∈ lw_all := lw_g (lw_at lw_m4 182 rfl) rfl
theorem q997 : (Jvm.Cond.privateMethod ({ cls := "PromiseTailor", name := "wordOf", desc := "(IIII)J" } : Jvm.MethodName)) ∈ lw_tbl := lw_at lw_m4 183 rfl
theorem q998 : (Jvm.Cond.instanceMethod ({ cls := "PromiseTailor", name := "wordOf", desc := "(IIII)J" } : Jvm.MethodName)) ∈ lw_all := lw_g (lw_at lw_m4 184 rfl) rfl
theorem q999 : (Jvm.Cond.codeWith ({ cls := "PromiseTailor", name := "wordOf", desc := "(IIII)J" } : Jvm.MethodName) prog_1_method_68_code (12 : Nat) (Option.some Jvm.ClassFile.FieldType.long) [((12 : Nat), (110 : Nat), (118 : Nat), (0 : Nat)), ((118 : Nat), (120 : Nat), (118 : Nat), (0 : Nat))]) ∈ lw_all := lw_g (lw_at lw_m4 185 rfl) rfl
theorem q1000 : (Jvm.Cond.methodLink "PromiseTailor" (357 : Nat) ({ cls := "PromiseTailor", name := "part", desc := "(JJI)J" } : Jvm.MethodName)) ∈ lw_all := lw_g (lw_at lw_m4 186 rfl) rfl
theorem q1001 : (Jvm.Cond.static ({ cls := "PromiseTailor", name := "part", desc := "(JJI)J" } : Jvm.MethodName)) ∈ lw_all := lw_g (lw_at lw_m4 187 rfl) rfl
theorem q1002 : (Jvm.Cond.code ({ cls := "PromiseTailor", name := "part", desc := "(JJI)J" } : Jvm.MethodName) prog_1_method_67_code (5 : Nat) (Option.some Jvm.ClassFile.FieldType.long)) ∈ lw_all := lw_g (lw_at lw_m4 188 rfl) rfl
theorem q1003 : (Jvm.Cond.methodLink "PromiseTailor" (353 : Nat) ({ cls := "PromiseTailor", name := "divisor", desc := "(JJ)J" } : Jvm.MethodName)) ∈ lw_all := lw_g (lw_at lw_m4 189 rfl) rfl
theorem q1004 : (Jvm.Cond.static ({ cls := "PromiseTailor", name := "divisor", desc := "(JJ)J" } : Jvm.MethodName)) ∈ lw_all := lw_g (lw_at lw_m4 190 rfl) rfl
theorem q1005 : (Jvm.Cond.code ({ cls := "PromiseTailor", name := "divisor", desc := "(JJ)J" } : Jvm.MethodName) prog_1_method_66_code (4 : Nat) (Option.some Jvm.ClassFile.FieldType.long)) ∈ lw_all := lw_g (lw_at lw_m4 191 rfl) rfl
theorem q1006 : (Jvm.Cond.methodLink "PromiseTailor" (367 : Nat) ({ cls := "PromiseTailor", name := "no", desc := "(I)J" } : Jvm.MethodName)) ∈ lw_all := lw_g (lw_at lw_m4 192 rfl) rfl
theorem q1007 : (Jvm.Cond.static ({ cls := "PromiseTailor", name := "no", desc := "(I)J" } : Jvm.MethodName)) ∈ lw_all := lw_g (lw_at lw_m4 193 rfl) rfl
theorem q1008 : (Jvm.Cond.code ({ cls := "PromiseTailor", name := "no", desc := "(I)J" } : Jvm.MethodName) prog_1_method_3_code (1 : Nat) (Option.some Jvm.ClassFile.FieldType.long)) ∈ lw_all := lw_g (lw_at lw_m4 194 rfl) rfl
theorem q1009 : (Jvm.Cond.constantLong "PromiseTailor" (88 : Nat) (-9223372036854775808 : Int64)) ∈ lw_all := lw_g (lw_at lw_m4 195 rfl) rfl
theorem q1010 : (Jvm.Cond.methodLink "PromiseTailorLaw" (130 : Nat) ({ cls := "PromiseTailor", name := "year", desc := "(III)I" } : Jvm.MethodName)) ∈ lw_all := lw_g (lw_at lw_m4 196 rfl) rfl
theorem q1011 : (Jvm.Cond.instanceMethod ({ cls := "PromiseTailor", name := "year", desc := "(III)I" } : Jvm.MethodName)) ∈ lw_all := lw_g (lw_at lw_m4 197 rfl) rfl
theorem q1012 : (Jvm.Cond.selects "PromiseTailor" ({ cls := "PromiseTailor", name := "year", desc := "(III)I" } : Jvm.MethodName) ({ cls := "PromiseTailor", name := "year", desc := "(III)I" } : Jvm.MethodName)) ∈ lw_all := lw_g (lw_at lw_m4 198 rfl) rfl
theorem q1013 : (Jvm.Cond.code ({ cls := "PromiseTailor", name := "year", desc := "(III)I" } : Jvm.MethodName) prog_1_method_73_code (4 : Nat) (Option.some Jvm.ClassFile.FieldType.int)) ∈ lw_all := lw_g (lw_at lw_m4 199 rfl) rfl
theorem q1014 : (Jvm.Cond.constantLong "PromiseTailor" (381 : Nat) (8 : Int64)) ∈ lw_all := lw_g (lw_at lw_m4 200 rfl) rfl
theorem q1015 : (Jvm.Cond.methodLink "PromiseTailor" (383 : Nat) ({ cls := "PromiseTailor", name := "yearOf", desc := "(III)I" } : Jvm.MethodName)) ∈ lw_all := lw_g (lw_at lw_m4 201 rfl) rfl
theorem q1016 : (Jvm.Cond.privateMethod ({ cls := "PromiseTailor", name := "yearOf", desc := "(III)I" } : Jvm.MethodName)) ∈ lw_tbl := lw_at lw_m4 202 rfl
theorem q1017 : (Jvm.Cond.instanceMethod ({ cls := "PromiseTailor", name := "yearOf", desc := "(III)I" } : Jvm.MethodName)) ∈ lw_all := lw_g (lw_at lw_m4 203 rfl) rfl
theorem q1018 : (Jvm.Cond.codeWith ({ cls := "PromiseTailor", name := "yearOf", desc := "(III)I" } : Jvm.MethodName) prog_1_method_72_code (9 : Nat) (Option.some Jvm.ClassFile.FieldType.int) [((56 : Nat), (154 : Nat), (195 : Nat), (0 : Nat)), ((195 : Nat), (197 : Nat), (195 : Nat), (0 : Nat))]) ∈ lw_all := lw_g (lw_at lw_m4 204 rfl) rfl
theorem q1019 : (Jvm.Cond.methodLink "PromiseTailor" (375 : Nat) ({ cls := "PromiseTailor", name := "lot", desc := "(I)I" } : Jvm.MethodName)) ∈ lw_all := lw_g (lw_at lw_m4 205 rfl) rfl
theorem q1020 : (Jvm.Cond.privateMethod ({ cls := "PromiseTailor", name := "lot", desc := "(I)I" } : Jvm.MethodName)) ∈ lw_tbl := lw_at lw_m4 206 rfl
theorem q1021 : (Jvm.Cond.instanceMethod ({ cls := "PromiseTailor", name := "lot", desc := "(I)I" } : Jvm.MethodName)) ∈ lw_all := lw_g (lw_at lw_m4 207 rfl) rfl
theorem q1022 : (Jvm.Cond.code ({ cls := "PromiseTailor", name := "lot", desc := "(I)I" } : Jvm.MethodName) prog_1_method_70_code (2 : Nat) (Option.some Jvm.ClassFile.FieldType.int)) ∈ lw_all := lw_g (lw_at lw_m4 208 rfl) rfl
theorem q1023 : (Jvm.Cond.constant "PromiseTailor" (371 : Nat) (1103515245 : Int32)) ∈ lw_all := lw_g (lw_at lw_m4 209 rfl) rfl
theorem q1024 : (Jvm.Cond.methodLink "PromiseTailor" (378 : Nat) ({ cls := "PromiseTailor", name := "broken", desc := "()I" } : Jvm.MethodName)) ∈ lw_all := lw_g (lw_at lw_m4 210 rfl) rfl
theorem q1025 : (Jvm.Cond.privateMethod ({ cls := "PromiseTailor", name := "broken", desc := "()I" } : Jvm.MethodName)) ∈ lw_tbl := lw_at lw_m4 211 rfl
theorem q1026 : (Jvm.Cond.instanceMethod ({ cls := "PromiseTailor", name := "broken", desc := "()I" } : Jvm.MethodName)) ∈ lw_all := lw_g (lw_at lw_m4 212 rfl) rfl
theorem q1027 : (Jvm.Cond.code ({ cls := "PromiseTailor", name := "broken", desc := "()I" } : Jvm.MethodName) prog_1_method_71_code (3 : Nat) (Option.some Jvm.ClassFile.FieldType.int)) ∈ lw_all := lw_g (lw_at lw_m4 213 rfl) rfl
theorem q1028 : (Jvm.Cond.methodLink "PromiseTailorLaw" (134 : Nat) ({ cls := "PromiseTailor", name := "sheet", desc := "(III)I" } : Jvm.MethodName)) ∈ lw_all := lw_g (lw_at lw_m4 214 rfl) rfl
theorem q1029 : (Jvm.Cond.instanceMethod ({ cls := "PromiseTailor", name := "sheet", desc := "(III)I" } : Jvm.MethodName)) ∈ lw_all := lw_g (lw_at lw_m4 215 rfl) rfl
theorem q1030 : (Jvm.Cond.selects "PromiseTailor" ({ cls := "PromiseTailor", name := "sheet", desc := "(III)I" } : Jvm.MethodName) ({ cls := "PromiseTailor", name := "sheet", desc := "(III)I" } : Jvm.MethodName)) ∈ lw_all := lw_g (lw_at lw_m4 216 rfl) rfl
theorem q1031 : (Jvm.Cond.codeWith ({ cls := "PromiseTailor", name := "sheet", desc := "(III)I" } : Jvm.MethodName) prog_1_method_76_code (5 : Nat) (Option.some Jvm.ClassFile.FieldType.int) [((28 : Nat), (43 : Nat), (44 : Nat), (390 : Nat))]) ∈ lw_all := lw_g (lw_at lw_m4 217 rfl) rfl
theorem q1032 : (Jvm.Cond.classLink "PromiseTailor" (390 : Nat) "java/lang/NegativeArraySizeException") ∈ lw_all := lw_g (lw_at lw_m4 218 rfl) rfl
theorem q1033 : (Jvm.Cond.instantiable "java/lang/NegativeArraySizeException" (6 : Nat)) ∈ lw_all := lw_g (lw_at lw_m4 219 rfl) rfl
theorem q1034 : (Jvm.Cond.instanceMethod ({ cls := "java/lang/NegativeArraySizeException", name := "<init>", desc := "(Ljava/lang/String;)V" } : Jvm.MethodName)) ∈ lw_all := lw_g (lw_at lw_m4 220 rfl) rfl
theorem q1035 : (Jvm.Cond.code ({ cls := "java/lang/NegativeArraySizeException", name := "<init>", desc := "(Ljava/lang/String;)V" } : Jvm.MethodName) prog_26_method_2_code (2 : Nat) (Option.none : Option Jvm.ClassFile.FieldType)) ∈ lw_all := lw_g (lw_at lw_m4 221 rfl) rfl
theorem q1036 : (Jvm.Cond.methodLink "java/lang/NegativeArraySizeException" (7 : Nat) ({ cls := "java/lang/RuntimeException", name := "<init>", desc := "(Ljava/lang/String;)V" } : Jvm.MethodName)) ∈ lw_all := lw_g (lw_at lw_m4 222 rfl) rfl
theorem q1037 : (Jvm.Cond.instanceMethod ({ cls := "java/lang/RuntimeException", name := "<init>", desc := "(Ljava/lang/String;)V" } : Jvm.MethodName)) ∈ lw_all := lw_g (lw_at lw_m4 223 rfl) rfl
theorem q1038 : (Jvm.Cond.code ({ cls := "java/lang/RuntimeException", name := "<init>", desc := "(Ljava/lang/String;)V" } : Jvm.MethodName) prog_27_method_2_code (2 : Nat) (Option.none : Option Jvm.ClassFile.FieldType)) ∈ lw_all := lw_g (lw_at lw_m4 224 rfl) rfl
theorem q1039 : (Jvm.Cond.methodLink "java/lang/RuntimeException" (7 : Nat) ({ cls := "java/lang/Exception", name := "<init>", desc := "(Ljava/lang/String;)V" } : Jvm.MethodName)) ∈ lw_all := lw_g (lw_at lw_m4 225 rfl) rfl
theorem q1040 : (Jvm.Cond.instanceMethod ({ cls := "java/lang/Exception", name := "<init>", desc := "(Ljava/lang/String;)V" } : Jvm.MethodName)) ∈ lw_all := lw_g (lw_at lw_m4 226 rfl) rfl
theorem q1041 : (Jvm.Cond.code ({ cls := "java/lang/Exception", name := "<init>", desc := "(Ljava/lang/String;)V" } : Jvm.MethodName) prog_21_method_2_code (2 : Nat) (Option.none : Option Jvm.ClassFile.FieldType)) ∈ lw_all := lw_g (lw_at lw_m4 227 rfl) rfl
theorem q1042 : (Jvm.Cond.methodLink "java/lang/Exception" (7 : Nat) ({ cls := "java/lang/Throwable", name := "<init>", desc := "(Ljava/lang/String;)V" } : Jvm.MethodName)) ∈ lw_all := lw_g (lw_at lw_m4 228 rfl) rfl
theorem q1043 : (Jvm.Cond.instanceMethod ({ cls := "java/lang/Throwable", name := "<init>", desc := "(Ljava/lang/String;)V" } : Jvm.MethodName)) ∈ lw_all := lw_g (lw_at lw_m4 229 rfl) rfl
theorem q1044 : (Jvm.Cond.code ({ cls := "java/lang/Throwable", name := "<init>", desc := "(Ljava/lang/String;)V" } : Jvm.MethodName) prog_32_method_2_code (2 : Nat) (Option.none : Option Jvm.ClassFile.FieldType)) ∈ lw_all := lw_g (lw_at lw_m4 230 rfl) rfl
theorem q1045 : (Jvm.Cond.lays "java/lang/NegativeArraySizeException" "java/lang/Throwable" "backtrace" "Ljava/lang/Object;") ∈ lw_all := lw_g (lw_at lw_m4 231 rfl) rfl
theorem q1046 : (Jvm.Cond.lays "java/lang/NegativeArraySizeException" "java/lang/Throwable" "detailMessage" "Ljava/lang/String;") ∈ lw_all := lw_g (lw_at lw_m4 232 rfl) rfl
theorem q1047 : (Jvm.Cond.lays "java/lang/NegativeArraySizeException" "java/lang/Throwable" "cause" "Ljava/lang/Throwable;") ∈ lw_all := lw_g (lw_at lw_m4 233 rfl) rfl
theorem q1048 : (Jvm.Cond.lays "java/lang/NegativeArraySizeException" "java/lang/Throwable" "stackTrace" "[Ljava/lang/StackTraceElement;") ∈ lw_all := lw_g (lw_at lw_m4 234 rfl) rfl
theorem q1049 : (Jvm.Cond.lays "java/lang/NegativeArraySizeException" "java/lang/Throwable" "depth" "I") ∈ lw_all := lw_g (lw_at lw_m4 235 rfl) rfl
theorem q1050 : (Jvm.Cond.lays "java/lang/NegativeArraySizeException" "java/lang/Throwable" "suppressedExceptions" "Ljava/util/List;") ∈ lw_all := lw_g (lw_at lw_m4 236 rfl) rfl
theorem q1051 : (Jvm.Cond.superclass "java/lang/NegativeArraySizeException" "java/lang/RuntimeException") ∈ lw_all := lw_g (lw_at lw_m4 237 rfl) rfl
theorem q1052 : (Jvm.Cond.castable "java/lang/NegativeArraySizeException" "java/lang/NegativeArraySizeException") ∈ lw_tbl := lw_at lw_m4 238 rfl
theorem q1053 : (Jvm.Cond.declares ({ cls := "java/lang/RuntimeException", name := "<init>", desc := "()V" } : Jvm.MethodName)) ∈ lw_tbl := lw_at lw_m4 239 rfl
theorem q1054 : (Jvm.Cond.declares ({ cls := "java/lang/RuntimeException", name := "<init>", desc := "(Ljava/lang/String;)V" } : Jvm.MethodName)) ∈ lw_tbl := lw_at lw_m5 0 rfl
theorem q1055 : (Jvm.Cond.selects "java/lang/NegativeArraySizeException" ({ cls := "java/lang/Throwable", name := "fillInStackTrace", desc := "(I)Ljava/lang/Throwable;" } : Jvm.MethodName) ({ cls := "java/lang/Throwable", name := "fillInStackTrace", desc := "(I)Ljava/lang/Throwable;" } : Jvm.MethodName)) ∈ lw_all := lw_g (lw_at lw_m5 1 rfl) rfl
theorem q1056 : (Jvm.Cond.instantiable "java/lang/String" (4 : Nat)) ∈ lw_all := lw_g (lw_at lw_m5 2 rfl) rfl
theorem q1057 : (Jvm.Cond.laysFinal "java/lang/String" "java/lang/String" "value" "[B") ∈ lw_all := lw_g (lw_at lw_m5 3 rfl) rfl
theorem q1058 : (Jvm.Cond.soleField "java/lang/String" "value") ∈ lw_all := lw_g (lw_at lw_m5 4 rfl) rfl
theorem q1059 : (Jvm.Cond.laysFinal "java/lang/String" "java/lang/String" "coder" "B") ∈ lw_all := lw_g (lw_at lw_m5 5 rfl) rfl
theorem q1060 : (Jvm.Cond.soleField "java/lang/String" "coder") ∈ lw_all := lw_g (lw_at lw_m5 6 rfl) rfl
theorem q1061 : (Jvm.Cond.methodLink "PromiseTailor" (386 : Nat) ({ cls := "PromiseTailor", name := "rowOf", desc := "(II)Ljava/lang/Object;" } : Jvm.MethodName)) ∈ lw_all := lw_g (lw_at lw_m5 7 rfl) rfl
theorem q1062 : (Jvm.Cond.static ({ cls := "PromiseTailor", name := "rowOf", desc := "(II)Ljava/lang/Object;" } : Jvm.MethodName)) ∈ lw_all := lw_g (lw_at lw_m5 8 rfl) rfl
theorem q1063 : (Jvm.Cond.code ({ cls := "PromiseTailor", name := "rowOf", desc := "(II)Ljava/lang/Object;" } : Jvm.MethodName) prog_1_method_75_code (2 : Nat) (Option.some (Jvm.ClassFile.FieldType.object "java/lang/Object"))) ∈ lw_all := lw_g (lw_at lw_m5 9 rfl) rfl
theorem q1064 : (Jvm.Cond.arrayClass Jvm.ClassFile.FieldType.short) ∈ lw_all := lw_g (lw_at lw_m5 10 rfl) rfl
theorem q1065 : (Jvm.Cond.methodLink "PromiseTailorLaw" (138 : Nat) ({ cls := "PromiseTailor", name := "lose", desc := "(I)I" } : Jvm.MethodName)) ∈ lw_all := lw_g (lw_at lw_m5 11 rfl) rfl
theorem q1066 : (Jvm.Cond.instanceMethod ({ cls := "PromiseTailor", name := "lose", desc := "(I)I" } : Jvm.MethodName)) ∈ lw_all := lw_g (lw_at lw_m5 12 rfl) rfl
theorem q1067 : (Jvm.Cond.selects "PromiseTailor" ({ cls := "PromiseTailor", name := "lose", desc := "(I)I" } : Jvm.MethodName) ({ cls := "PromiseTailor", name := "lose", desc := "(I)I" } : Jvm.MethodName)) ∈ lw_all := lw_g (lw_at lw_m5 13 rfl) rfl
theorem q1068 : (Jvm.Cond.code ({ cls := "PromiseTailor", name := "lose", desc := "(I)I" } : Jvm.MethodName) prog_1_method_77_code (3 : Nat) (Option.some Jvm.ClassFile.FieldType.int)) ∈ lw_all := lw_g (lw_at lw_m5 14 rfl) rfl
theorem q1069 : (Jvm.Cond.methodLink "PromiseTailorLaw" (142 : Nat) ({ cls := "PromiseTailor", name := "put", desc := "(IIII)I" } : Jvm.MethodName)) ∈ lw_all := lw_g (lw_at lw_m5 15 rfl) rfl
theorem q1070 : (Jvm.Cond.instanceMethod ({ cls := "PromiseTailor", name := "put", desc := "(IIII)I" } : Jvm.MethodName)) ∈ lw_all := lw_g (lw_at lw_m5 16 rfl) rfl
theorem q1071 : (Jvm.Cond.selects "PromiseTailor" ({ cls := "PromiseTailor", name := "put", desc := "(IIII)I" } : Jvm.MethodName) ({ cls := "PromiseTailor", name := "put", desc := "(IIII)I" } : Jvm.MethodName)) ∈ lw_all := lw_g (lw_at lw_m5 17 rfl) rfl
theorem q1072 : (Jvm.Cond.codeWith ({ cls := "PromiseTailor", name := "put", desc := "(IIII)I" } : Jvm.MethodName) prog_1_method_78_code (6 : Nat) (Option.some Jvm.ClassFile.FieldType.int) [((40 : Nat), (54 : Nat), (55 : Nat), (396 : Nat)), ((40 : Nat), (54 : Nat), (63 : Nat), (398 : Nat))]) ∈ lw_all := lw_g (lw_at lw_m5 18 rfl) rfl
theorem q1073 : (Jvm.Cond.classLink "PromiseTailor" (396 : Nat) "java/lang/ClassCastException") ∈ lw_all := lw_g (lw_at lw_m5 19 rfl) rfl
theorem q1074 : (Jvm.Cond.instantiable "java/lang/ClassCastException" (6 : Nat)) ∈ lw_all := lw_g (lw_at lw_m5 20 rfl) rfl
theorem q1075 : (Jvm.Cond.instanceMethod ({ cls := "java/lang/ClassCastException", name := "<init>", desc := "(Ljava/lang/String;)V" } : Jvm.MethodName)) ∈ lw_all := lw_g (lw_at lw_m5 21 rfl) rfl
theorem q1076 : (Jvm.Cond.code ({ cls := "java/lang/ClassCastException", name := "<init>", desc := "(Ljava/lang/String;)V" } : Jvm.MethodName) prog_18_method_2_code (2 : Nat) (Option.none : Option Jvm.ClassFile.FieldType)) ∈ lw_all := lw_g (lw_at lw_m5 22 rfl) rfl
theorem q1077 : (Jvm.Cond.methodLink "java/lang/ClassCastException" (7 : Nat) ({ cls := "java/lang/RuntimeException", name := "<init>", desc := "(Ljava/lang/String;)V" } : Jvm.MethodName)) ∈ lw_all := lw_g (lw_at lw_m5 23 rfl) rfl
theorem q1078 : (Jvm.Cond.lays "java/lang/ClassCastException" "java/lang/Throwable" "backtrace" "Ljava/lang/Object;") ∈ lw_all := lw_g (lw_at lw_m5 24 rfl) rfl
theorem q1079 : (Jvm.Cond.lays "java/lang/ClassCastException" "java/lang/Throwable" "detailMessage" "Ljava/lang/String;") ∈ lw_all := lw_g (lw_at lw_m5 25 rfl) rfl
theorem q1080 : (Jvm.Cond.lays "java/lang/ClassCastException" "java/lang/Throwable" "cause" "Ljava/lang/Throwable;") ∈ lw_all := lw_g (lw_at lw_m5 26 rfl) rfl
theorem q1081 : (Jvm.Cond.lays "java/lang/ClassCastException" "java/lang/Throwable" "stackTrace" "[Ljava/lang/StackTraceElement;") ∈ lw_all := lw_g (lw_at lw_m5 27 rfl) rfl
theorem q1082 : (Jvm.Cond.lays "java/lang/ClassCastException" "java/lang/Throwable" "depth" "I") ∈ lw_all := lw_g (lw_at lw_m5 28 rfl) rfl
theorem q1083 : (Jvm.Cond.lays "java/lang/ClassCastException" "java/lang/Throwable" "suppressedExceptions" "Ljava/util/List;") ∈ lw_all := lw_g (lw_at lw_m5 29 rfl) rfl
theorem q1084 : (Jvm.Cond.superclass "java/lang/ClassCastException" "java/lang/RuntimeException") ∈ lw_all := lw_g (lw_at lw_m5 30 rfl) rfl
theorem q1085 : (Jvm.Cond.castable "java/lang/ClassCastException" "java/lang/ClassCastException") ∈ lw_tbl := lw_at lw_m5 31 rfl
theorem q1086 : (Jvm.Cond.selects "java/lang/ClassCastException" ({ cls := "java/lang/Throwable", name := "fillInStackTrace", desc := "(I)Ljava/lang/Throwable;" } : Jvm.MethodName) ({ cls := "java/lang/Throwable", name := "fillInStackTrace", desc := "(I)Ljava/lang/Throwable;" } : Jvm.MethodName)) ∈ lw_all := lw_g (lw_at lw_m5 32 rfl) rfl
theorem q1087 : (Jvm.Cond.classLink "PromiseTailor" (398 : Nat) "java/lang/ArrayIndexOutOfBoundsException") ∈ lw_all := lw_g (lw_at lw_m5 33 rfl) rfl
theorem q1088 : (Jvm.Cond.instantiable "java/lang/ArrayIndexOutOfBoundsException" (6 : Nat)) ∈ lw_all := lw_g (lw_at lw_m5 34 rfl) rfl
theorem q1089 : (Jvm.Cond.instanceMethod ({ cls := "java/lang/ArrayIndexOutOfBoundsException", name := "<init>", desc := "(Ljava/lang/String;)V" } : Jvm.MethodName)) ∈ lw_all := lw_g (lw_at lw_m5 35 rfl) rfl
theorem q1090 : (Jvm.Cond.code ({ cls := "java/lang/ArrayIndexOutOfBoundsException", name := "<init>", desc := "(Ljava/lang/String;)V" } : Jvm.MethodName) prog_15_method_2_code (2 : Nat) (Option.none : Option Jvm.ClassFile.FieldType)) ∈ lw_all := lw_g (lw_at lw_m5 36 rfl) rfl
theorem q1091 : (Jvm.Cond.methodLink "java/lang/ArrayIndexOutOfBoundsException" (7 : Nat) ({ cls := "java/lang/IndexOutOfBoundsException", name := "<init>", desc := "(Ljava/lang/String;)V" } : Jvm.MethodName)) ∈ lw_all := lw_g (lw_at lw_m5 37 rfl) rfl
theorem q1092 : (Jvm.Cond.instanceMethod ({ cls := "java/lang/IndexOutOfBoundsException", name := "<init>", desc := "(Ljava/lang/String;)V" } : Jvm.MethodName)) ∈ lw_all := lw_g (lw_at lw_m5 38 rfl) rfl
theorem q1093 : (Jvm.Cond.code ({ cls := "java/lang/IndexOutOfBoundsException", name := "<init>", desc := "(Ljava/lang/String;)V" } : Jvm.MethodName) prog_22_method_2_code (2 : Nat) (Option.none : Option Jvm.ClassFile.FieldType)) ∈ lw_all := lw_g (lw_at lw_m5 39 rfl) rfl
theorem q1094 : (Jvm.Cond.methodLink "java/lang/IndexOutOfBoundsException" (7 : Nat) ({ cls := "java/lang/RuntimeException", name := "<init>", desc := "(Ljava/lang/String;)V" } : Jvm.MethodName)) ∈ lw_all := lw_g (lw_at lw_m5 40 rfl) rfl
theorem q1095 : (Jvm.Cond.lays "java/lang/ArrayIndexOutOfBoundsException" "java/lang/Throwable" "backtrace" "Ljava/lang/Object;") ∈ lw_all := lw_g (lw_at lw_m5 41 rfl) rfl
theorem q1096 : (Jvm.Cond.lays "java/lang/ArrayIndexOutOfBoundsException" "java/lang/Throwable" "detailMessage" "Ljava/lang/String;") ∈ lw_all := lw_g (lw_at lw_m5 42 rfl) rfl
theorem q1097 : (Jvm.Cond.lays "java/lang/ArrayIndexOutOfBoundsException" "java/lang/Throwable" "cause" "Ljava/lang/Throwable;") ∈ lw_all := lw_g (lw_at lw_m5 43 rfl) rfl
theorem q1098 : (Jvm.Cond.lays "java/lang/ArrayIndexOutOfBoundsException" "java/lang/Throwable" "stackTrace" "[Ljava/lang/StackTraceElement;") ∈ lw_all := lw_g (lw_at lw_m5 44 rfl) rfl
theorem q1099 : (Jvm.Cond.lays "java/lang/ArrayIndexOutOfBoundsException" "java/lang/Throwable" "depth" "I") ∈ lw_all := lw_g (lw_at lw_m5 45 rfl) rfl
theorem q1100 : (Jvm.Cond.lays "java/lang/ArrayIndexOutOfBoundsException" "java/lang/Throwable" "suppressedExceptions" "Ljava/util/List;") ∈ lw_all := lw_g (lw_at lw_m5 46 rfl) rfl
theorem q1101 : (Jvm.Cond.superclass "java/lang/ArrayIndexOutOfBoundsException" "java/lang/IndexOutOfBoundsException") ∈ lw_all := lw_g (lw_at lw_m5 47 rfl) rfl
theorem q1102 : (Jvm.Cond.castable "java/lang/ArrayIndexOutOfBoundsException" "java/lang/ArrayIndexOutOfBoundsException") ∈ lw_tbl := lw_at lw_m5 48 rfl
theorem q1103 : (Jvm.Cond.declares ({ cls := "java/lang/IndexOutOfBoundsException", name := "<init>", desc := "()V" } : Jvm.MethodName)) ∈ lw_tbl := lw_at lw_m5 49 rfl
theorem q1104 : (Jvm.Cond.declares ({ cls := "java/lang/IndexOutOfBoundsException", name := "<init>", desc := "(Ljava/lang/String;)V" } : Jvm.MethodName)) ∈ lw_tbl := lw_at lw_m5 50 rfl
theorem q1105 : (Jvm.Cond.selects "java/lang/ArrayIndexOutOfBoundsException" ({ cls := "java/lang/Throwable", name := "fillInStackTrace", desc := "(I)Ljava/lang/Throwable;" } : Jvm.MethodName) ({ cls := "java/lang/Throwable", name := "fillInStackTrace", desc := "(I)Ljava/lang/Throwable;" } : Jvm.MethodName)) ∈ lw_all := lw_g (lw_at lw_m5 51 rfl) rfl
theorem q1106 : (Jvm.Cond.methodLink "PromiseTailor" (392 : Nat) ({ cls := "PromiseTailor$Sheet", name := "lay", desc := "(III)V" } : Jvm.MethodName)) ∈ lw_all := lw_g (lw_at lw_m5 52 rfl) rfl
theorem q1107 : (Jvm.Cond.instanceMethod ({ cls := "PromiseTailor$Sheet", name := "lay", desc := "(III)V" } : Jvm.MethodName)) ∈ lw_all := lw_g (lw_at lw_m5 53 rfl) rfl
theorem q1108 : (Jvm.Cond.selects "PromiseTailor$Sheet" ({ cls := "PromiseTailor$Sheet", name := "lay", desc := "(III)V" } : Jvm.MethodName) ({ cls := "PromiseTailor$Sheet", name := "lay", desc := "(III)V" } : Jvm.MethodName)) ∈ lw_all := lw_g (lw_at lw_m5 54 rfl) rfl
theorem q1109 : (Jvm.Cond.code ({ cls := "PromiseTailor$Sheet", name := "lay", desc := "(III)V" } : Jvm.MethodName) prog_6_method_5_code (4 : Nat) (Option.none : Option Jvm.ClassFile.FieldType)) ∈ lw_all := lw_g (lw_at lw_m5 55 rfl) rfl
theorem q1110 : (Jvm.Cond.methodLink "PromiseTailorLaw" (147 : Nat) ({ cls := "PromiseTailor", name := "get", desc := "(III)I" } : Jvm.MethodName)) ∈ lw_all := lw_g (lw_at lw_m5 56 rfl) rfl
theorem q1111 : (Jvm.Cond.instanceMethod ({ cls := "PromiseTailor", name := "get", desc := "(III)I" } : Jvm.MethodName)) ∈ lw_all := lw_g (lw_at lw_m5 57 rfl) rfl
theorem q1112 : (Jvm.Cond.selects "PromiseTailor" ({ cls := "PromiseTailor", name := "get", desc := "(III)I" } : Jvm.MethodName) ({ cls := "PromiseTailor", name := "get", desc := "(III)I" } : Jvm.MethodName)) ∈ lw_all := lw_g (lw_at lw_m5 58 rfl) rfl
theorem q1113 : (Jvm.Cond.codeWith ({ cls := "PromiseTailor", name := "get", desc := "(III)I" } : Jvm.MethodName) prog_1_method_79_code (5 : Nat) (Option.some Jvm.ClassFile.FieldType.int) [((40 : Nat), (51 : Nat), (52 : Nat), (396 : Nat)), ((40 : Nat), (51 : Nat), (60 : Nat), (398 : Nat))]) ∈ lw_all := lw_g (lw_at lw_m5 59 rfl) rfl
theorem q1114 : (Jvm.Cond.constant "PromiseTailor" (93 : Nat) (-2147483648 : Int32)) ∈ lw_all := lw_g (lw_at lw_m5 60 rfl) rfl
theorem q1115 : (Jvm.Cond.methodLink "PromiseTailor" (400 : Nat) ({ cls := "PromiseTailor", name := "lowest", desc := "(I)I" } : Jvm.MethodName)) ∈ lw_all := lw_g (lw_at lw_m5 61 rfl) rfl
theorem q1116 : (Jvm.Cond.privateMethod ({ cls := "PromiseTailor", name := "lowest", desc := "(I)I" } : Jvm.MethodName)) ∈ lw_tbl := lw_at lw_m5 62 rfl
theorem q1117 : (Jvm.Cond.instanceMethod ({ cls := "PromiseTailor", name := "lowest", desc := "(I)I" } : Jvm.MethodName)) ∈ lw_all := lw_g (lw_at lw_m5 63 rfl) rfl
theorem q1118 : (Jvm.Cond.code ({ cls := "PromiseTailor", name := "lowest", desc := "(I)I" } : Jvm.MethodName) prog_1_method_5_code (2 : Nat) (Option.some Jvm.ClassFile.FieldType.int)) ∈ lw_all := lw_g (lw_at lw_m5 64 rfl) rfl
theorem q1119 : (Jvm.Cond.methodLink "PromiseTailorLaw" (151 : Nat) ({ cls := "PromiseTailor", name := "copy", desc := "(IIIII)I" } : Jvm.MethodName)) ∈ lw_all := lw_g (lw_at lw_m5 65 rfl) rfl
theorem q1120 : (Jvm.Cond.instanceMethod ({ cls := "PromiseTailor", name := "copy", desc := "(IIIII)I" } : Jvm.MethodName)) ∈ lw_all := lw_g (lw_at lw_m5 66 rfl) rfl
theorem q1121 : (Jvm.Cond.selects "PromiseTailor" ({ cls := "PromiseTailor", name := "copy", desc := "(IIIII)I" } : Jvm.MethodName) ({ cls := "PromiseTailor", name := "copy", desc := "(IIIII)I" } : Jvm.MethodName)) ∈ lw_all := lw_g (lw_at lw_m5 67 rfl) rfl
theorem q1122 : (Jvm.Cond.codeWith ({ cls := "PromiseTailor", name := "copy", desc := "(IIIII)I" } : Jvm.MethodName) prog_1_method_80_code (7 : Nat) (Option.some Jvm.ClassFile.FieldType.int) [((74 : Nat), (101 : Nat), (102 : Nat), (403 : Nat))]) ∈ lw_all := lw_g (lw_at lw_m5 68 rfl) rfl
theorem q1123 : (Jvm.Cond.classLink "PromiseTailor" (403 : Nat) "java/lang/IndexOutOfBoundsException") ∈ lw_all := lw_g (lw_at lw_m5 69 rfl) rfl
theorem q1124 : (Jvm.Cond.methodLink "PromiseTailorLaw" (156 : Nat) ({ cls := "PromiseTailor", name := "write", desc := "(II)I" } : Jvm.MethodName)) ∈ lw_all := lw_g (lw_at lw_m5 70 rfl) rfl
theorem q1125 : (Jvm.Cond.instanceMethod ({ cls := "PromiseTailor", name := "write", desc := "(II)I" } : Jvm.MethodName)) ∈ lw_all := lw_g (lw_at lw_m5 71 rfl) rfl
theorem q1126 : (Jvm.Cond.selects "PromiseTailor" ({ cls := "PromiseTailor", name := "write", desc := "(II)I" } : Jvm.MethodName) ({ cls := "PromiseTailor", name := "write", desc := "(II)I" } : Jvm.MethodName)) ∈ lw_all := lw_g (lw_at lw_m5 72 rfl) rfl
theorem q1127 : (Jvm.Cond.code ({ cls := "PromiseTailor", name := "write", desc := "(II)I" } : Jvm.MethodName) prog_1_method_81_code (6 : Nat) (Option.some Jvm.ClassFile.FieldType.int)) ∈ lw_all := lw_g (lw_at lw_m5 73 rfl) rfl
theorem q1128 : (Jvm.Cond.methodLink "PromiseTailorLaw" (160 : Nat) ({ cls := "PromiseTailor", name := "count", desc := "(I)I" } : Jvm.MethodName)) ∈ lw_all := lw_g (lw_at lw_m5 74 rfl) rfl
theorem q1129 : (Jvm.Cond.instanceMethod ({ cls := "PromiseTailor", name := "count", desc := "(I)I" } : Jvm.MethodName)) ∈ lw_all := lw_g (lw_at lw_m5 75 rfl) rfl
theorem q1130 : (Jvm.Cond.selects "PromiseTailor" ({ cls := "PromiseTailor", name := "count", desc := "(I)I" } : Jvm.MethodName) ({ cls := "PromiseTailor", name := "count", desc := "(I)I" } : Jvm.MethodName)) ∈ lw_all := lw_g (lw_at lw_m5 76 rfl) rfl
theorem q1131 : (Jvm.Cond.code ({ cls := "PromiseTailor", name := "count", desc := "(I)I" } : Jvm.MethodName) prog_1_method_82_code (2 : Nat) (Option.some Jvm.ClassFile.FieldType.int)) ∈ lw_all := lw_g (lw_at lw_m5 77 rfl) rfl
theorem q1132 : (Jvm.Cond.methodLink "PromiseTailor" (405 : Nat) ({ cls := "PromiseTailor$Text", name := "many", desc := "()I" } : Jvm.MethodName)) ∈ lw_all := lw_g (lw_at lw_m5 78 rfl) rfl
theorem q1133 : (Jvm.Cond.methodLink "PromiseTailor" (406 : Nat) ({ cls := "PromiseTailor$Text", name := "length", desc := "()I" } : Jvm.MethodName)) ∈ lw_all := lw_g (lw_at lw_m5 79 rfl) rfl
theorem q1134 : (Jvm.Cond.instanceMethod ({ cls := "PromiseTailor$Text", name := "length", desc := "()I" } : Jvm.MethodName)) ∈ lw_all := lw_g (lw_at lw_m5 80 rfl) rfl
theorem q1135 : (Jvm.Cond.sameMethod "PromiseTailor$Text" "PromiseTailor$Text" "length" "()I") ∈ lw_all := lw_g (lw_at lw_m5 81 rfl) rfl
theorem q1136 : (Jvm.Cond.selects "PromiseTailor$Book" ({ cls := "PromiseTailor$Text", name := "length", desc := "()I" } : Jvm.MethodName) ({ cls := "PromiseTailor$Text", name := "length", desc := "()I" } : Jvm.MethodName)) ∈ lw_all := lw_g (lw_at lw_m5 82 rfl) rfl
theorem q1137 : (Jvm.Cond.selects "PromiseTailor$Town" ({ cls := "PromiseTailor$Text", name := "length", desc := "()I" } : Jvm.MethodName) ({ cls := "PromiseTailor$Text", name := "length", desc := "()I" } : Jvm.MethodName)) ∈ lw_all := lw_g (lw_at lw_m5 83 rfl) rfl
theorem q1138 : (Jvm.Cond.code ({ cls := "PromiseTailor$Text", name := "length", desc := "()I" } : Jvm.MethodName) prog_9_method_6_code (1 : Nat) (Option.some Jvm.ClassFile.FieldType.int)) ∈ lw_all := lw_g (lw_at lw_m5 84 rfl) rfl
theorem q1139 : (Jvm.Cond.methodLink "PromiseTailorLaw" (164 : Nat) ({ cls := "PromiseTailor", name := "digest", desc := "()J" } : Jvm.MethodName)) ∈ lw_all := lw_g (lw_at lw_m5 85 rfl) rfl
theorem q1140 : (Jvm.Cond.instanceMethod ({ cls := "PromiseTailor", name := "digest", desc := "()J" } : Jvm.MethodName)) ∈ lw_all := lw_g (lw_at lw_m5 86 rfl) rfl
theorem q1141 : (Jvm.Cond.selects "PromiseTailor" ({ cls := "PromiseTailor", name := "digest", desc := "()J" } : Jvm.MethodName) ({ cls := "PromiseTailor", name := "digest", desc := "()J" } : Jvm.MethodName)) ∈ lw_all := lw_g (lw_at lw_m5 87 rfl) rfl
theorem q1142 : (Jvm.Cond.code ({ cls := "PromiseTailor", name := "digest", desc := "()J" } : Jvm.MethodName) prog_1_method_86_code (4 : Nat) (Option.some Jvm.ClassFile.FieldType.long)) ∈ lw_all := lw_g (lw_at lw_m5 88 rfl) rfl
theorem q1143 : (Jvm.Cond.constantLong "PromiseTailor" (415 : Nat) (17 : Int64)) ∈ lw_all := lw_g (lw_at lw_m5 89 rfl) rfl
theorem q1144 : (Jvm.Cond.constantLong "PromiseTailor" (409 : Nat) (31 : Int64)) ∈ lw_all := lw_g (lw_at lw_m5 90 rfl) rfl
theorem q1145 : (Jvm.Cond.methodLink "PromiseTailor" (417 : Nat) ({ cls := "PromiseTailor", name := "count", desc := "(I)I" } : Jvm.MethodName)) ∈ lw_all := lw_g (lw_at lw_m5 91 rfl) rfl
theorem q1146 : (Jvm.Cond.methodLink "PromiseTailor" (420 : Nat) ({ cls := "PromiseTailor", name := "tellsPromise", desc := "(JI)J" } : Jvm.MethodName)) ∈ lw_all := lw_g (lw_at lw_m5 92 rfl) rfl
theorem q1147 : (Jvm.Cond.privateMethod ({ cls := "PromiseTailor", name := "tellsPromise", desc := "(JI)J" } : Jvm.MethodName)) ∈ lw_tbl := lw_at lw_m5 93 rfl
theorem q1148 : (Jvm.Cond.instanceMethod ({ cls := "PromiseTailor", name := "tellsPromise", desc := "(JI)J" } : Jvm.MethodName)) ∈ lw_all := lw_g (lw_at lw_m5 94 rfl) rfl
theorem q1149 : (Jvm.Cond.code ({ cls := "PromiseTailor", name := "tellsPromise", desc := "(JI)J" } : Jvm.MethodName) prog_1_method_83_code (7 : Nat) (Option.some Jvm.ClassFile.FieldType.long)) ∈ lw_all := lw_g (lw_at lw_m5 95 rfl) rfl
theorem q1150 : (Jvm.Cond.methodLink "PromiseTailor" (424 : Nat) ({ cls := "PromiseTailor", name := "tellsPerson", desc := "(JI)J" } : Jvm.MethodName)) ∈ lw_all := lw_g (lw_at lw_m5 96 rfl) rfl
theorem q1151 : (Jvm.Cond.privateMethod ({ cls := "PromiseTailor", name := "tellsPerson", desc := "(JI)J" } : Jvm.MethodName)) ∈ lw_tbl := lw_at lw_m5 97 rfl
theorem q1152 : (Jvm.Cond.instanceMethod ({ cls := "PromiseTailor", name := "tellsPerson", desc := "(JI)J" } : Jvm.MethodName)) ∈ lw_all := lw_g (lw_at lw_m5 98 rfl) rfl
theorem q1153 : (Jvm.Cond.code ({ cls := "PromiseTailor", name := "tellsPerson", desc := "(JI)J" } : Jvm.MethodName) prog_1_method_85_code (7 : Nat) (Option.some Jvm.ClassFile.FieldType.long)) ∈ lw_all := lw_g (lw_at lw_m5 99 rfl) rfl
theorem q1154 : (Jvm.Cond.methodLink "PromiseTailor" (411 : Nat) ({ cls := "PromiseTailor", name := "tellsDay", desc := "(JII)J" } : Jvm.MethodName)) ∈ lw_all := lw_g (lw_at lw_m5 100 rfl) rfl
theorem q1155 : (Jvm.Cond.privateMethod ({ cls := "PromiseTailor", name := "tellsDay", desc := "(JII)J" } : Jvm.MethodName)) ∈ lw_tbl := lw_at lw_m5 101 rfl
theorem q1156 : (Jvm.Cond.instanceMethod ({ cls := "PromiseTailor", name := "tellsDay", desc := "(JII)J" } : Jvm.MethodName)) ∈ lw_all := lw_g (lw_at lw_m5 102 rfl) rfl
theorem q1157 : (Jvm.Cond.code ({ cls := "PromiseTailor", name := "tellsDay", desc := "(JII)J" } : Jvm.MethodName) prog_1_method_84_code (8 : Nat) (Option.some Jvm.ClassFile.FieldType.long)) ∈ lw_all := lw_g (lw_at lw_m5 103 rfl) rfl
theorem q1158 : (Jvm.Cond.classLink "PromiseTailorLaw" (10 : Nat) "PromiseTailorModel") ∈ lw_all := lw_g (lw_at lw_m5 104 rfl) rfl
theorem q1159 : (Jvm.Cond.instantiable "PromiseTailorModel" (45 : Nat)) ∈ lw_all := lw_g (lw_at lw_m5 105 rfl) rfl
theorem q1160 : (Jvm.Cond.methodLink "PromiseTailorLaw" (12 : Nat) ({ cls := "PromiseTailorModel", name := "<init>", desc := "()V" } : Jvm.MethodName)) ∈ lw_all := lw_g (lw_at lw_m5 106 rfl) rfl
theorem q1161 : (Jvm.Cond.instanceMethod ({ cls := "PromiseTailorModel", name := "<init>", desc := "()V" } : Jvm.MethodName)) ∈ lw_all := lw_g (lw_at lw_m5 107 rfl) rfl
theorem q1162 : (Jvm.Cond.code ({ cls := "PromiseTailorModel", name := "<init>", desc := "()V" } : Jvm.MethodName) prog_13_method_1_code (1 : Nat) (Option.none : Option Jvm.ClassFile.FieldType)) ∈ lw_all := lw_g (lw_at lw_m5 108 rfl) rfl
theorem q1163 : (Jvm.Cond.methodLink "PromiseTailorModel" (1 : Nat) ({ cls := "java/lang/Object", name := "<init>", desc := "()V" } : Jvm.MethodName)) ∈ lw_all := lw_g (lw_at lw_m5 109 rfl) rfl
theorem q1164 : (Jvm.Cond.fieldLink "PromiseTailorModel" (7 : Nat) "PromiseTailorModel" "typed" "[I") ∈ lw_all := lw_g (lw_at lw_m5 110 rfl) rfl
theorem q1165 : (Jvm.Cond.fieldLink "PromiseTailorModel" (13 : Nat) "PromiseTailorModel" "texts" "[I") ∈ lw_all := lw_g (lw_at lw_m5 111 rfl) rfl
theorem q1166 : (Jvm.Cond.fieldLink "PromiseTailorModel" (127 : Nat) "PromiseTailorModel" "people" "I") ∈ lw_all := lw_g (lw_at lw_m5 112 rfl) rfl
theorem q1167 : (Jvm.Cond.fieldLink "PromiseTailorModel" (16 : Nat) "PromiseTailorModel" "sorts" "[I") ∈ lw_all := lw_g (lw_at lw_m5 113 rfl) rfl
theorem q1168 : (Jvm.Cond.fieldLink "PromiseTailorModel" (19 : Nat) "PromiseTailorModel" "measures" "[I") ∈ lw_all := lw_g (lw_at lw_m5 114 rfl) rfl
theorem q1169 : (Jvm.Cond.fieldLink "PromiseTailorModel" (131 : Nat) "PromiseTailorModel" "promises" "I") ∈ lw_all := lw_g (lw_at lw_m5 115 rfl) rfl
theorem q1170 : (Jvm.Cond.fieldLink "PromiseTailorModel" (22 : Nat) "PromiseTailorModel" "whose" "[I") ∈ lw_all := lw_g (lw_at lw_m5 116 rfl) rfl
theorem q1171 : (Jvm.Cond.fieldLink "PromiseTailorModel" (25 : Nat) "PromiseTailorModel" "greats" "[I") ∈ lw_all := lw_g (lw_at lw_m5 117 rfl) rfl
theorem q1172 : (Jvm.Cond.fieldLink "PromiseTailorModel" (28 : Nat) "PromiseTailorModel" "mades" "[I") ∈ lw_all := lw_g (lw_at lw_m5 118 rfl) rfl
theorem q1173 : (Jvm.Cond.fieldLink "PromiseTailorModel" (31 : Nat) "PromiseTailorModel" "dues" "[I") ∈ lw_all := lw_g (lw_at lw_m5 119 rfl) rfl
theorem q1174 : (Jvm.Cond.fieldLink "PromiseTailorModel" (165 : Nat) "PromiseTailorModel" "keepings" "I") ∈ lw_all := lw_g (lw_at lw_m5 120 rfl) rfl
theorem q1175 : (Jvm.Cond.fieldLink "PromiseTailorModel" (34 : Nat) "PromiseTailorModel" "keepDay" "[I") ∈ lw_all := lw_g (lw_at lw_m5 121 rfl) rfl
theorem q1176 : (Jvm.Cond.fieldLink "PromiseTailorModel" (37 : Nat) "PromiseTailorModel" "keepOf" "[I") ∈ lw_all := lw_g (lw_at lw_m5 122 rfl) rfl
theorem q1177 : (Jvm.Cond.fieldLink "PromiseTailorModel" (171 : Nat) "PromiseTailorModel" "lies" "I") ∈ lw_all := lw_g (lw_at lw_m5 123 rfl) rfl
theorem q1178 : (Jvm.Cond.fieldLink "PromiseTailorModel" (40 : Nat) "PromiseTailorModel" "lieDay" "[I") ∈ lw_all := lw_g (lw_at lw_m5 124 rfl) rfl
theorem q1179 : (Jvm.Cond.fieldLink "PromiseTailorModel" (43 : Nat) "PromiseTailorModel" "lieWho" "[I") ∈ lw_all := lw_g (lw_at lw_m5 125 rfl) rfl
theorem q1180 : (Jvm.Cond.fieldLink "PromiseTailorModel" (46 : Nat) "PromiseTailorModel" "lieMuch" "[I") ∈ lw_all := lw_g (lw_at lw_m5 126 rfl) rfl
theorem q1181 : (Jvm.Cond.fieldLink "PromiseTailorModel" (174 : Nat) "PromiseTailorModel" "lettings" "I") ∈ lw_all := lw_g (lw_at lw_m5 127 rfl) rfl
theorem q1182 : (Jvm.Cond.fieldLink "PromiseTailorModel" (49 : Nat) "PromiseTailorModel" "letDay" "[I") ∈ lw_all := lw_g (lw_at lw_m5 128 rfl) rfl
theorem q1183 : (Jvm.Cond.fieldLink "PromiseTailorModel" (52 : Nat) "PromiseTailorModel" "letWho" "[I") ∈ lw_all := lw_g (lw_at lw_m5 129 rfl) rfl
theorem q1184 : (Jvm.Cond.fieldLink "PromiseTailorModel" (55 : Nat) "PromiseTailorModel" "letMuch" "[I") ∈ lw_all := lw_g (lw_at lw_m5 130 rfl) rfl
theorem q1185 : (Jvm.Cond.fieldLink "PromiseTailorModel" (186 : Nat) "PromiseTailorModel" "promisesNow" "I") ∈ lw_all := lw_g (lw_at lw_m5 131 rfl) rfl
theorem q1186 : (Jvm.Cond.fieldLink "PromiseTailorModel" (189 : Nat) "PromiseTailorModel" "keepsNow" "I") ∈ lw_all := lw_g (lw_at lw_m5 132 rfl) rfl
theorem q1187 : (Jvm.Cond.fieldLink "PromiseTailorModel" (58 : Nat) "PromiseTailorModel" "dayNow" "[I") ∈ lw_all := lw_g (lw_at lw_m5 133 rfl) rfl
theorem q1188 : (Jvm.Cond.fieldLink "PromiseTailorModel" (61 : Nat) "PromiseTailorModel" "ofNow" "[I") ∈ lw_all := lw_g (lw_at lw_m5 134 rfl) rfl
theorem q1189 : (Jvm.Cond.fieldLink "PromiseTailorModel" (192 : Nat) "PromiseTailorModel" "notKeeps" "I") ∈ lw_all := lw_g (lw_at lw_m5 135 rfl) rfl
theorem q1190 : (Jvm.Cond.fieldLink "PromiseTailorModel" (195 : Nat) "PromiseTailorModel" "notLies" "I") ∈ lw_all := lw_g (lw_at lw_m5 136 rfl) rfl
theorem q1191 : (Jvm.Cond.fieldLink "PromiseTailorModel" (64 : Nat) "PromiseTailorModel" "coats" "[I") ∈ lw_all := lw_g (lw_at lw_m5 137 rfl) rfl
theorem q1192 : (Jvm.Cond.fieldLink "PromiseTailorModel" (67 : Nat) "PromiseTailorModel" "tears" "[I") ∈ lw_all := lw_g (lw_at lw_m5 138 rfl) rfl
theorem q1193 : (Jvm.Cond.fieldLink "PromiseTailorModel" (70 : Nat) "PromiseTailorModel" "states" "[I") ∈ lw_all := lw_g (lw_at lw_m5 139 rfl) rfl
theorem q1194 : (Jvm.Cond.fieldLink "PromiseTailorModel" (73 : Nat) "PromiseTailorModel" "coatAt" "[I") ∈ lw_all := lw_g (lw_at lw_m5 140 rfl) rfl
theorem q1195 : (Jvm.Cond.fieldLink "PromiseTailorModel" (76 : Nat) "PromiseTailorModel" "tearAt" "[I") ∈ lw_all := lw_g (lw_at lw_m5 141 rfl) rfl
theorem q1196 : (Jvm.Cond.fieldLink "PromiseTailorModel" (79 : Nat) "PromiseTailorModel" "stateAt" "[I") ∈ lw_all := lw_g (lw_at lw_m5 142 rfl) rfl
theorem q1197 : (Jvm.Cond.fieldLink "PromiseTailorModel" (82 : Nat) "PromiseTailorModel" "planRow" "[I") ∈ lw_all := lw_g (lw_at lw_m5 143 rfl) rfl
theorem q1198 : (Jvm.Cond.fieldLink "PromiseTailorModel" (287 : Nat) "PromiseTailorModel" "seens" "I") ∈ lw_all := lw_g (lw_at lw_m5 144 rfl) rfl
theorem q1199 : (Jvm.Cond.fieldLink "PromiseTailorModel" (85 : Nat) "PromiseTailorModel" "seenDay" "[I") ∈ lw_all := lw_g (lw_at lw_m5 145 rfl) rfl
theorem q1200 : (Jvm.Cond.fieldLink "PromiseTailorModel" (88 : Nat) "PromiseTailorModel" "seenWho" "[I") ∈ lw_all := lw_g (lw_at lw_m5 146 rfl) rfl
theorem q1201 : (Jvm.Cond.fieldLink "PromiseTailorModel" (91 : Nat) "PromiseTailorModel" "seenMuch" "[I") ∈ lw_all := lw_g (lw_at lw_m5 147 rfl) rfl
theorem q1202 : (Jvm.Cond.fieldLink "PromiseTailorModel" (94 : Nat) "PromiseTailorModel" "coatBy" "[I") ∈ lw_all := lw_g (lw_at lw_m5 148 rfl) rfl
theorem q1203 : (Jvm.Cond.fieldLink "PromiseTailorModel" (97 : Nat) "PromiseTailorModel" "isThere" "[Z") ∈ lw_all := lw_g (lw_at lw_m5 149 rfl) rfl
theorem q1204 : (Jvm.Cond.fieldLink "PromiseTailorModel" (101 : Nat) "PromiseTailorModel" "forms" "[I") ∈ lw_all := lw_g (lw_at lw_m5 150 rfl) rfl
theorem q1205 : (Jvm.Cond.fieldLink "PromiseTailorModel" (104 : Nat) "PromiseTailorModel" "sizes" "[I") ∈ lw_all := lw_g (lw_at lw_m5 151 rfl) rfl
theorem q1206 : (Jvm.Cond.fieldLink "PromiseTailorModel" (107 : Nat) "PromiseTailorModel" "items" "[I") ∈ lw_all := lw_g (lw_at lw_m5 152 rfl) rfl
theorem q1207 : (Jvm.Cond.fieldLink "PromiseTailorModel" (110 : Nat) "PromiseTailorModel" "moved" "[I") ∈ lw_all := lw_g (lw_at lw_m5 153 rfl) rfl
theorem q1208 : (Jvm.Cond.fieldLink "PromiseTailorModel" (322 : Nat) "PromiseTailorModel" "finding" "I") ∈ lw_all := lw_g (lw_at lw_m5 154 rfl) rfl
theorem q1209 : (Jvm.Cond.laysFinal "PromiseTailorModel" "PromiseTailorModel" "typed" "[I") ∈ lw_all := lw_g (lw_at lw_m5 155 rfl) rfl
theorem q1210 : (Jvm.Cond.soleField "PromiseTailorModel" "typed") ∈ lw_all := lw_g (lw_at lw_m5 156 rfl) rfl
theorem q1211 : (Jvm.Cond.laysFinal "PromiseTailorModel" "PromiseTailorModel" "texts" "[I") ∈ lw_all := lw_g (lw_at lw_m5 157 rfl) rfl
theorem q1212 : (Jvm.Cond.soleField "PromiseTailorModel" "texts") ∈ lw_all := lw_g (lw_at lw_m5 158 rfl) rfl
theorem q1213 : (Jvm.Cond.lays "PromiseTailorModel" "PromiseTailorModel" "people" "I") ∈ lw_all := lw_g (lw_at lw_m5 159 rfl) rfl
theorem q1214 : (Jvm.Cond.soleField "PromiseTailorModel" "people") ∈ lw_all := lw_g (lw_at lw_m5 160 rfl) rfl
theorem q1215 : (Jvm.Cond.laysFinal "PromiseTailorModel" "PromiseTailorModel" "sorts" "[I") ∈ lw_all := lw_g (lw_at lw_m5 161 rfl) rfl
theorem q1216 : (Jvm.Cond.soleField "PromiseTailorModel" "sorts") ∈ lw_all := lw_g (lw_at lw_m5 162 rfl) rfl
theorem q1217 : (Jvm.Cond.laysFinal "PromiseTailorModel" "PromiseTailorModel" "measures" "[I") ∈ lw_all := lw_g (lw_at lw_m5 163 rfl) rfl
theorem q1218 : (Jvm.Cond.soleField "PromiseTailorModel" "measures") ∈ lw_all := lw_g (lw_at lw_m5 164 rfl) rfl
theorem q1219 : (Jvm.Cond.lays "PromiseTailorModel" "PromiseTailorModel" "promises" "I") ∈ lw_all := lw_g (lw_at lw_m5 165 rfl) rfl
theorem q1220 : (Jvm.Cond.soleField "PromiseTailorModel" "promises") ∈ lw_all := lw_g (lw_at lw_m5 166 rfl) rfl
theorem q1221 : (Jvm.Cond.laysFinal "PromiseTailorModel" "PromiseTailorModel" "whose" "[I") ∈ lw_all := lw_g (lw_at lw_m5 167 rfl) rfl
theorem q1222 : (Jvm.Cond.soleField "PromiseTailorModel" "whose") ∈ lw_all := lw_g (lw_at lw_m5 168 rfl) rfl
theorem q1223 : (Jvm.Cond.laysFinal "PromiseTailorModel" "PromiseTailorModel" "greats" "[I") ∈ lw_all := lw_g (lw_at lw_m5 169 rfl) rfl
theorem q1224 : (Jvm.Cond.soleField "PromiseTailorModel" "greats") ∈ lw_all := lw_g (lw_at lw_m5 170 rfl) rfl
theorem q1225 : (Jvm.Cond.laysFinal "PromiseTailorModel" "PromiseTailorModel" "mades" "[I") ∈ lw_all := lw_g (lw_at lw_m5 171 rfl) rfl
theorem q1226 : (Jvm.Cond.soleField "PromiseTailorModel" "mades") ∈ lw_all := lw_g (lw_at lw_m5 172 rfl) rfl
theorem q1227 : (Jvm.Cond.laysFinal "PromiseTailorModel" "PromiseTailorModel" "dues" "[I") ∈ lw_all := lw_g (lw_at lw_m5 173 rfl) rfl
theorem q1228 : (Jvm.Cond.soleField "PromiseTailorModel" "dues") ∈ lw_all := lw_g (lw_at lw_m5 174 rfl) rfl
theorem q1229 : (Jvm.Cond.lays "PromiseTailorModel" "PromiseTailorModel" "keepings" "I") ∈ lw_all := lw_g (lw_at lw_m5 175 rfl) rfl
theorem q1230 : (Jvm.Cond.soleField "PromiseTailorModel" "keepings") ∈ lw_all := lw_g (lw_at lw_m5 176 rfl) rfl
theorem q1231 : (Jvm.Cond.laysFinal "PromiseTailorModel" "PromiseTailorModel" "keepDay" "[I") ∈ lw_all := lw_g (lw_at lw_m5 177 rfl) rfl
theorem q1232 : (Jvm.Cond.soleField "PromiseTailorModel" "keepDay") ∈ lw_all := lw_g (lw_at lw_m5 178 rfl) rfl
theorem q1233 : (Jvm.Cond.laysFinal "PromiseTailorModel" "PromiseTailorModel" "keepOf" "[I") ∈ lw_all := lw_g (lw_at lw_m5 179 rfl) rfl
theorem q1234 : (Jvm.Cond.soleField "PromiseTailorModel" "keepOf") ∈ lw_all := lw_g (lw_at lw_m5 180 rfl) rfl
theorem q1235 : (Jvm.Cond.lays "PromiseTailorModel" "PromiseTailorModel" "lies" "I") ∈ lw_all := lw_g (lw_at lw_m5 181 rfl) rfl
theorem q1236 : (Jvm.Cond.soleField "PromiseTailorModel" "lies") ∈ lw_all := lw_g (lw_at lw_m5 182 rfl) rfl
theorem q1237 : (Jvm.Cond.laysFinal "PromiseTailorModel" "PromiseTailorModel" "lieDay" "[I") ∈ lw_all := lw_g (lw_at lw_m5 183 rfl) rfl
theorem q1238 : (Jvm.Cond.soleField "PromiseTailorModel" "lieDay") ∈ lw_all := lw_g (lw_at lw_m5 184 rfl) rfl
theorem q1239 : (Jvm.Cond.laysFinal "PromiseTailorModel" "PromiseTailorModel" "lieWho" "[I") ∈ lw_all := lw_g (lw_at lw_m5 185 rfl) rfl
theorem q1240 : (Jvm.Cond.soleField "PromiseTailorModel" "lieWho") ∈ lw_all := lw_g (lw_at lw_m5 186 rfl) rfl
theorem q1241 : (Jvm.Cond.laysFinal "PromiseTailorModel" "PromiseTailorModel" "lieMuch" "[I") ∈ lw_all := lw_g (lw_at lw_m5 187 rfl) rfl
theorem q1242 : (Jvm.Cond.soleField "PromiseTailorModel" "lieMuch") ∈ lw_all := lw_g (lw_at lw_m5 188 rfl) rfl
theorem q1243 : (Jvm.Cond.lays "PromiseTailorModel" "PromiseTailorModel" "lettings" "I") ∈ lw_all := lw_g (lw_at lw_m5 189 rfl) rfl
theorem q1244 : (Jvm.Cond.soleField "PromiseTailorModel" "lettings") ∈ lw_all := lw_g (lw_at lw_m5 190 rfl) rfl
theorem q1245 : (Jvm.Cond.laysFinal "PromiseTailorModel" "PromiseTailorModel" "letDay" "[I") ∈ lw_all := lw_g (lw_at lw_m5 191 rfl) rfl
theorem q1246 : (Jvm.Cond.soleField "PromiseTailorModel" "letDay") ∈ lw_all := lw_g (lw_at lw_m5 192 rfl) rfl
theorem q1247 : (Jvm.Cond.laysFinal "PromiseTailorModel" "PromiseTailorModel" "letWho" "[I") ∈ lw_all := lw_g (lw_at lw_m5 193 rfl) rfl
theorem q1248 : (Jvm.Cond.soleField "PromiseTailorModel" "letWho") ∈ lw_all := lw_g (lw_at lw_m5 194 rfl) rfl
theorem q1249 : (Jvm.Cond.laysFinal "PromiseTailorModel" "PromiseTailorModel" "letMuch" "[I") ∈ lw_all := lw_g (lw_at lw_m5 195 rfl) rfl
theorem q1250 : (Jvm.Cond.soleField "PromiseTailorModel" "letMuch") ∈ lw_all := lw_g (lw_at lw_m5 196 rfl) rfl
theorem q1251 : (Jvm.Cond.lays "PromiseTailorModel" "PromiseTailorModel" "promisesNow" "I") ∈ lw_all := lw_g (lw_at lw_m5 197 rfl) rfl
theorem q1252 : (Jvm.Cond.soleField "PromiseTailorModel" "promisesNow") ∈ lw_all := lw_g (lw_at lw_m5 198 rfl) rfl
theorem q1253 : (Jvm.Cond.lays "PromiseTailorModel" "PromiseTailorModel" "keepsNow" "I") ∈ lw_all := lw_g (lw_at lw_m5 199 rfl) rfl
theorem q1254 : (Jvm.Cond.soleField "PromiseTailorModel" "keepsNow") ∈ lw_all := lw_g (lw_at lw_m5 200 rfl) rfl
theorem q1255 : (Jvm.Cond.laysFinal "PromiseTailorModel" "PromiseTailorModel" "dayNow" "[I") ∈ lw_all := lw_g (lw_at lw_m5 201 rfl) rfl
theorem q1256 : (Jvm.Cond.soleField "PromiseTailorModel" "dayNow") ∈ lw_all := lw_g (lw_at lw_m5 202 rfl) rfl
theorem q1257 : (Jvm.Cond.laysFinal "PromiseTailorModel" "PromiseTailorModel" "ofNow" "[I") ∈ lw_all := lw_g (lw_at lw_m5 203 rfl) rfl
theorem q1258 : (Jvm.Cond.soleField "PromiseTailorModel" "ofNow") ∈ lw_all := lw_g (lw_at lw_m5 204 rfl) rfl
theorem q1259 : (Jvm.Cond.lays "PromiseTailorModel" "PromiseTailorModel" "notKeeps" "I") ∈ lw_all := lw_g (lw_at lw_m5 205 rfl) rfl
theorem q1260 : (Jvm.Cond.soleField "PromiseTailorModel" "notKeeps") ∈ lw_all := lw_g (lw_at lw_m5 206 rfl) rfl
theorem q1261 : (Jvm.Cond.lays "PromiseTailorModel" "PromiseTailorModel" "notLies" "I") ∈ lw_all := lw_g (lw_at lw_m5 207 rfl) rfl
theorem q1262 : (Jvm.Cond.soleField "PromiseTailorModel" "notLies") ∈ lw_all := lw_g (lw_at lw_m5 208 rfl) rfl
theorem q1263 : (Jvm.Cond.laysFinal "PromiseTailorModel" "PromiseTailorModel" "coats" "[I") ∈ lw_all := lw_g (lw_at lw_m5 209 rfl) rfl
theorem q1264 : (Jvm.Cond.soleField "PromiseTailorModel" "coats") ∈ lw_all := lw_g (lw_at lw_m5 210 rfl) rfl
theorem q1265 : (Jvm.Cond.laysFinal "PromiseTailorModel" "PromiseTailorModel" "tears" "[I") ∈ lw_all := lw_g (lw_at lw_m5 211 rfl) rfl
theorem q1266 : (Jvm.Cond.soleField "PromiseTailorModel" "tears") ∈ lw_all := lw_g (lw_at lw_m5 212 rfl) rfl
theorem q1267 : (Jvm.Cond.laysFinal "PromiseTailorModel" "PromiseTailorModel" "states" "[I") ∈ lw_all := lw_g (lw_at lw_m5 213 rfl) rfl
theorem q1268 : (Jvm.Cond.soleField "PromiseTailorModel" "states") ∈ lw_all := lw_g (lw_at lw_m5 214 rfl) rfl
theorem q1269 : (Jvm.Cond.laysFinal "PromiseTailorModel" "PromiseTailorModel" "coatAt" "[I") ∈ lw_all := lw_g (lw_at lw_m5 215 rfl) rfl
theorem q1270 : (Jvm.Cond.soleField "PromiseTailorModel" "coatAt") ∈ lw_all := lw_g (lw_at lw_m5 216 rfl) rfl
theorem q1271 : (Jvm.Cond.laysFinal "PromiseTailorModel" "PromiseTailorModel" "tearAt" "[I") ∈ lw_all := lw_g (lw_at lw_m5 217 rfl) rfl
theorem q1272 : (Jvm.Cond.soleField "PromiseTailorModel" "tearAt") ∈ lw_all := lw_g (lw_at lw_m5 218 rfl) rfl
theorem q1273 : (Jvm.Cond.laysFinal "PromiseTailorModel" "PromiseTailorModel" "stateAt" "[I") ∈ lw_all := lw_g (lw_at lw_m5 219 rfl) rfl
theorem q1274 : (Jvm.Cond.soleField "PromiseTailorModel" "stateAt") ∈ lw_all := lw_g (lw_at lw_m5 220 rfl) rfl
theorem q1275 : (Jvm.Cond.laysFinal "PromiseTailorModel" "PromiseTailorModel" "planRow" "[I") ∈ lw_all := lw_g (lw_at lw_m5 221 rfl) rfl
theorem q1276 : (Jvm.Cond.soleField "PromiseTailorModel" "planRow") ∈ lw_all := lw_g (lw_at lw_m5 222 rfl) rfl
theorem q1277 : (Jvm.Cond.lays "PromiseTailorModel" "PromiseTailorModel" "seens" "I") ∈ lw_all := lw_g (lw_at lw_m5 223 rfl) rfl
theorem q1278 : (Jvm.Cond.soleField "PromiseTailorModel" "seens") ∈ lw_all := lw_g (lw_at lw_m5 224 rfl) rfl
theorem q1279 : (Jvm.Cond.laysFinal "PromiseTailorModel" "PromiseTailorModel" "seenDay" "[I") ∈ lw_all := lw_g (lw_at lw_m5 225 rfl) rfl
theorem q1280 : (Jvm.Cond.soleField "PromiseTailorModel" "seenDay") ∈ lw_all := lw_g (lw_at lw_m5 226 rfl) rfl
theorem q1281 : (Jvm.Cond.laysFinal "PromiseTailorModel" "PromiseTailorModel" "seenWho" "[I") ∈ lw_all := lw_g (lw_at lw_m5 227 rfl) rfl
theorem q1282 : (Jvm.Cond.soleField "PromiseTailorModel" "seenWho") ∈ lw_all := lw_g (lw_at lw_m5 228 rfl) rfl
theorem q1283 : (Jvm.Cond.laysFinal "PromiseTailorModel" "PromiseTailorModel" "seenMuch" "[I") ∈ lw_all := lw_g (lw_at lw_m5 229 rfl) rfl
theorem q1284 : (Jvm.Cond.soleField "PromiseTailorModel" "seenMuch") ∈ lw_all := lw_g (lw_at lw_m5 230 rfl) rfl
theorem q1285 : (Jvm.Cond.laysFinal "PromiseTailorModel" "PromiseTailorModel" "coatBy" "[I") ∈ lw_all := lw_g (lw_at lw_m5 231 rfl) rfl
theorem q1286 : (Jvm.Cond.soleField "PromiseTailorModel" "coatBy") ∈ lw_all := lw_g (lw_at lw_m5 232 rfl) rfl
theorem q1287 : (Jvm.Cond.laysFinal "PromiseTailorModel" "PromiseTailorModel" "isThere" "[Z") ∈ lw_all := lw_g (lw_at lw_m5 233 rfl) rfl
theorem q1288 : (Jvm.Cond.soleField "PromiseTailorModel" "isThere") ∈ lw_all := lw_g (lw_at lw_m5 234 rfl) rfl
theorem q1289 : (Jvm.Cond.laysFinal "PromiseTailorModel" "PromiseTailorModel" "forms" "[I") ∈ lw_all := lw_g (lw_at lw_m5 235 rfl) rfl
theorem q1290 : (Jvm.Cond.soleField "PromiseTailorModel" "forms") ∈ lw_all := lw_g (lw_at lw_m5 236 rfl) rfl
theorem q1291 : (Jvm.Cond.laysFinal "PromiseTailorModel" "PromiseTailorModel" "sizes" "[I") ∈ lw_all := lw_g (lw_at lw_m5 237 rfl) rfl
theorem q1292 : (Jvm.Cond.soleField "PromiseTailorModel" "sizes") ∈ lw_all := lw_g (lw_at lw_m5 238 rfl) rfl
theorem q1293 : (Jvm.Cond.laysFinal "PromiseTailorModel" "PromiseTailorModel" "items" "[I") ∈ lw_all := lw_g (lw_at lw_m5 239 rfl) rfl
theorem q1294 : (Jvm.Cond.soleField "PromiseTailorModel" "items") ∈ lw_all := lw_g (lw_at lw_m6 0 rfl) rfl
theorem q1295 : (Jvm.Cond.laysFinal "PromiseTailorModel" "PromiseTailorModel" "moved" "[I") ∈ lw_all := lw_g (lw_at lw_m6 1 rfl) rfl
theorem q1296 : (Jvm.Cond.soleField "PromiseTailorModel" "moved") ∈ lw_all := lw_g (lw_at lw_m6 2 rfl) rfl
theorem q1297 : (Jvm.Cond.lays "PromiseTailorModel" "PromiseTailorModel" "finding" "I") ∈ lw_all := lw_g (lw_at lw_m6 3 rfl) rfl
theorem q1298 : (Jvm.Cond.soleField "PromiseTailorModel" "finding") ∈ lw_all := lw_g (lw_at lw_m6 4 rfl) rfl
theorem q1299 : (Jvm.Cond.superclass "PromiseTailorModel" "java/lang/Object") ∈ lw_all := lw_g (lw_at lw_m6 5 rfl) rfl
theorem q1300 : (Jvm.Cond.arrayClass Jvm.ClassFile.FieldType.boolean) ∈ lw_all := lw_g (lw_at lw_m6 6 rfl) rfl
theorem q1301 : (Jvm.Cond.methodLink "PromiseTailorLaw" (17 : Nat) ({ cls := "PromiseTailorModel", name := "type", desc := "(II)I" } : Jvm.MethodName)) ∈ lw_all := lw_g (lw_at lw_m6 7 rfl) rfl
theorem q1302 : (Jvm.Cond.instanceMethod ({ cls := "PromiseTailorModel", name := "type", desc := "(II)I" } : Jvm.MethodName)) ∈ lw_all := lw_g (lw_at lw_m6 8 rfl) rfl
theorem q1303 : (Jvm.Cond.selects "PromiseTailorModel" ({ cls := "PromiseTailorModel", name := "type", desc := "(II)I" } : Jvm.MethodName) ({ cls := "PromiseTailorModel", name := "type", desc := "(II)I" } : Jvm.MethodName)) ∈ lw_all := lw_g (lw_at lw_m6 9 rfl) rfl
theorem q1304 : (Jvm.Cond.code ({ cls := "PromiseTailorModel", name := "type", desc := "(II)I" } : Jvm.MethodName) prog_13_method_10_code (3 : Nat) (Option.some Jvm.ClassFile.FieldType.int)) ∈ lw_all := lw_g (lw_at lw_m6 10 rfl) rfl
theorem q1305 : (Jvm.Cond.methodLink "PromiseTailorModel" (119 : Nat) ({ cls := "PromiseTailorModel", name := "isText", desc := "(I)Z" } : Jvm.MethodName)) ∈ lw_all := lw_g (lw_at lw_m6 11 rfl) rfl
theorem q1306 : (Jvm.Cond.static ({ cls := "PromiseTailorModel", name := "isText", desc := "(I)Z" } : Jvm.MethodName)) ∈ lw_all := lw_g (lw_at lw_m6 12 rfl) rfl
theorem q1307 : (Jvm.Cond.code ({ cls := "PromiseTailorModel", name := "isText", desc := "(I)Z" } : Jvm.MethodName) prog_13_method_7_code (1 : Nat) (Option.some Jvm.ClassFile.FieldType.boolean)) ∈ lw_all := lw_g (lw_at lw_m6 13 rfl) rfl
theorem q1308 : (Jvm.Cond.methodLink "PromiseTailorModel" (115 : Nat) ({ cls := "PromiseTailorModel", name := "in", desc := "(III)Z" } : Jvm.MethodName)) ∈ lw_all := lw_g (lw_at lw_m6 14 rfl) rfl
theorem q1309 : (Jvm.Cond.static ({ cls := "PromiseTailorModel", name := "in", desc := "(III)Z" } : Jvm.MethodName)) ∈ lw_all := lw_g (lw_at lw_m6 15 rfl) rfl
theorem q1310 : (Jvm.Cond.code ({ cls := "PromiseTailorModel", name := "in", desc := "(III)Z" } : Jvm.MethodName) prog_13_method_3_code (3 : Nat) (Option.some Jvm.ClassFile.FieldType.boolean)) ∈ lw_all := lw_g (lw_at lw_m6 16 rfl) rfl
theorem q1311 : (Jvm.Cond.methodLink "PromiseTailorLaw" (22 : Nat) ({ cls := "PromiseTailorModel", name := "wipe", desc := "(I)I" } : Jvm.MethodName)) ∈ lw_all := lw_g (lw_at lw_m6 17 rfl) rfl
theorem q1312 : (Jvm.Cond.instanceMethod ({ cls := "PromiseTailorModel", name := "wipe", desc := "(I)I" } : Jvm.MethodName)) ∈ lw_all := lw_g (lw_at lw_m6 18 rfl) rfl
theorem q1313 : (Jvm.Cond.selects "PromiseTailorModel" ({ cls := "PromiseTailorModel", name := "wipe", desc := "(I)I" } : Jvm.MethodName) ({ cls := "PromiseTailorModel", name := "wipe", desc := "(I)I" } : Jvm.MethodName)) ∈ lw_all := lw_g (lw_at lw_m6 19 rfl) rfl
theorem q1314 : (Jvm.Cond.code ({ cls := "PromiseTailorModel", name := "wipe", desc := "(I)I" } : Jvm.MethodName) prog_13_method_11_code (3 : Nat) (Option.some Jvm.ClassFile.FieldType.int)) ∈ lw_all := lw_g (lw_at lw_m6 20 rfl) rfl
theorem q1315 : (Jvm.Cond.methodLink "PromiseTailorLaw" (26 : Nat) ({ cls := "PromiseTailorModel", name := "undo", desc := "(I)I" } : Jvm.MethodName)) ∈ lw_all := lw_g (lw_at lw_m6 21 rfl) rfl
theorem q1316 : (Jvm.Cond.instanceMethod ({ cls := "PromiseTailorModel", name := "undo", desc := "(I)I" } : Jvm.MethodName)) ∈ lw_all := lw_g (lw_at lw_m6 22 rfl) rfl
theorem q1317 : (Jvm.Cond.selects "PromiseTailorModel" ({ cls := "PromiseTailorModel", name := "undo", desc := "(I)I" } : Jvm.MethodName) ({ cls := "PromiseTailorModel", name := "undo", desc := "(I)I" } : Jvm.MethodName)) ∈ lw_all := lw_g (lw_at lw_m6 23 rfl) rfl
theorem q1318 : (Jvm.Cond.code ({ cls := "PromiseTailorModel", name := "undo", desc := "(I)I" } : Jvm.MethodName) prog_13_method_12_code (2 : Nat) (Option.some Jvm.ClassFile.FieldType.int)) ∈ lw_all := lw_g (lw_at lw_m6 24 rfl) rfl
theorem q1319 : (Jvm.Cond.methodLink "PromiseTailorLaw" (30 : Nat) ({ cls := "PromiseTailorModel", name := "fault", desc := "(I)I" } : Jvm.MethodName)) ∈ lw_all := lw_g (lw_at lw_m6 25 rfl) rfl
theorem q1320 : (Jvm.Cond.instanceMethod ({ cls := "PromiseTailorModel", name := "fault", desc := "(I)I" } : Jvm.MethodName)) ∈ lw_all := lw_g (lw_at lw_m6 26 rfl) rfl
theorem q1321 : (Jvm.Cond.selects "PromiseTailorModel" ({ cls := "PromiseTailorModel", name := "fault", desc := "(I)I" } : Jvm.MethodName) ({ cls := "PromiseTailorModel", name := "fault", desc := "(I)I" } : Jvm.MethodName)) ∈ lw_all := lw_g (lw_at lw_m6 27 rfl) rfl
theorem q1322 : (Jvm.Cond.code ({ cls := "PromiseTailorModel", name := "fault", desc := "(I)I" } : Jvm.MethodName) prog_13_method_19_code (2 : Nat) (Option.some Jvm.ClassFile.FieldType.int)) ∈ lw_all := lw_g (lw_at lw_m6 28 rfl) rfl
theorem q1323 : (Jvm.Cond.methodLink "PromiseTailorModel" (144 : Nat) ({ cls := "PromiseTailorModel", name := "faultOf", desc := "(I)I" } : Jvm.MethodName)) ∈ lw_all := lw_g (lw_at lw_m6 29 rfl) rfl
theorem q1324 : (Jvm.Cond.privateMethod ({ cls := "PromiseTailorModel", name := "faultOf", desc := "(I)I" } : Jvm.MethodName)) ∈ lw_tbl := lw_at lw_m6 30 rfl
theorem q1325 : (Jvm.Cond.instanceMethod ({ cls := "PromiseTailorModel", name := "faultOf", desc := "(I)I" } : Jvm.MethodName)) ∈ lw_all := lw_g (lw_at lw_m6 31 rfl) rfl
theorem q1326 : (Jvm.Cond.code ({ cls := "PromiseTailorModel", name := "faultOf", desc := "(I)I" } : Jvm.MethodName) prog_13_method_17_code (4 : Nat) (Option.some Jvm.ClassFile.FieldType.int)) ∈ lw_all := lw_g (lw_at lw_m6 32 rfl) rfl
theorem q1327 : (Jvm.Cond.methodLink "PromiseTailorModel" (140 : Nat) ({ cls := "PromiseTailorModel", name := "readsParts", desc := "(I)I" } : Jvm.MethodName)) ∈ lw_all := lw_g (lw_at lw_m6 33 rfl) rfl
theorem q1328 : (Jvm.Cond.privateMethod ({ cls := "PromiseTailorModel", name := "readsParts", desc := "(I)I" } : Jvm.MethodName)) ∈ lw_tbl := lw_at lw_m6 34 rfl
theorem q1329 : (Jvm.Cond.instanceMethod ({ cls := "PromiseTailorModel", name := "readsParts", desc := "(I)I" } : Jvm.MethodName)) ∈ lw_all := lw_g (lw_at lw_m6 35 rfl) rfl
theorem q1330 : (Jvm.Cond.code ({ cls := "PromiseTailorModel", name := "readsParts", desc := "(I)I" } : Jvm.MethodName) prog_13_method_16_code (6 : Nat) (Option.some Jvm.ClassFile.FieldType.int)) ∈ lw_all := lw_g (lw_at lw_m6 36 rfl) rfl
theorem q1331 : (Jvm.Cond.methodLink "PromiseTailorModel" (134 : Nat) ({ cls := "PromiseTailorModel", name := "readsPerson", desc := "(II)I" } : Jvm.MethodName)) ∈ lw_all := lw_g (lw_at lw_m6 37 rfl) rfl
theorem q1332 : (Jvm.Cond.privateMethod ({ cls := "PromiseTailorModel", name := "readsPerson", desc := "(II)I" } : Jvm.MethodName)) ∈ lw_tbl := lw_at lw_m6 38 rfl
theorem q1333 : (Jvm.Cond.instanceMethod ({ cls := "PromiseTailorModel", name := "readsPerson", desc := "(II)I" } : Jvm.MethodName)) ∈ lw_all := lw_g (lw_at lw_m6 39 rfl) rfl
theorem q1334 : (Jvm.Cond.code ({ cls := "PromiseTailorModel", name := "readsPerson", desc := "(II)I" } : Jvm.MethodName) prog_13_method_14_code (6 : Nat) (Option.some Jvm.ClassFile.FieldType.int)) ∈ lw_all := lw_g (lw_at lw_m6 40 rfl) rfl
theorem q1335 : (Jvm.Cond.methodLink "PromiseTailorModel" (123 : Nat) ({ cls := "PromiseTailorModel", name := "byteAt", desc := "(II)I" } : Jvm.MethodName)) ∈ lw_all := lw_g (lw_at lw_m6 41 rfl) rfl
theorem q1336 : (Jvm.Cond.privateMethod ({ cls := "PromiseTailorModel", name := "byteAt", desc := "(II)I" } : Jvm.MethodName)) ∈ lw_tbl := lw_at lw_m6 42 rfl
theorem q1337 : (Jvm.Cond.instanceMethod ({ cls := "PromiseTailorModel", name := "byteAt", desc := "(II)I" } : Jvm.MethodName)) ∈ lw_all := lw_g (lw_at lw_m6 43 rfl) rfl
theorem q1338 : (Jvm.Cond.code ({ cls := "PromiseTailorModel", name := "byteAt", desc := "(II)I" } : Jvm.MethodName) prog_13_method_13_code (3 : Nat) (Option.some Jvm.ClassFile.FieldType.int)) ∈ lw_all := lw_g (lw_at lw_m6 44 rfl) rfl
theorem q1339 : (Jvm.Cond.methodLink "PromiseTailorModel" (137 : Nat) ({ cls := "PromiseTailorModel", name := "readsPromise", desc := "(II)I" } : Jvm.MethodName)) ∈ lw_all := lw_g (lw_at lw_m6 45 rfl) rfl
theorem q1340 : (Jvm.Cond.privateMethod ({ cls := "PromiseTailorModel", name := "readsPromise", desc := "(II)I" } : Jvm.MethodName)) ∈ lw_tbl := lw_at lw_m6 46 rfl
theorem q1341 : (Jvm.Cond.instanceMethod ({ cls := "PromiseTailorModel", name := "readsPromise", desc := "(II)I" } : Jvm.MethodName)) ∈ lw_all := lw_g (lw_at lw_m6 47 rfl) rfl
theorem q1342 : (Jvm.Cond.code ({ cls := "PromiseTailorModel", name := "readsPromise", desc := "(II)I" } : Jvm.MethodName) prog_13_method_15_code (7 : Nat) (Option.some Jvm.ClassFile.FieldType.int)) ∈ lw_all := lw_g (lw_at lw_m6 48 rfl) rfl
theorem q1343 : (Jvm.Cond.methodLink "PromiseTailorLaw" (34 : Nat) ({ cls := "PromiseTailorModel", name := "person", desc := "(II)I" } : Jvm.MethodName)) ∈ lw_all := lw_g (lw_at lw_m6 49 rfl) rfl
theorem q1344 : (Jvm.Cond.instanceMethod ({ cls := "PromiseTailorModel", name := "person", desc := "(II)I" } : Jvm.MethodName)) ∈ lw_all := lw_g (lw_at lw_m6 50 rfl) rfl
theorem q1345 : (Jvm.Cond.selects "PromiseTailorModel" ({ cls := "PromiseTailorModel", name := "person", desc := "(II)I" } : Jvm.MethodName) ({ cls := "PromiseTailorModel", name := "person", desc := "(II)I" } : Jvm.MethodName)) ∈ lw_all := lw_g (lw_at lw_m6 51 rfl) rfl
theorem q1346 : (Jvm.Cond.code ({ cls := "PromiseTailorModel", name := "person", desc := "(II)I" } : Jvm.MethodName) prog_13_method_23_code (3 : Nat) (Option.some Jvm.ClassFile.FieldType.int)) ∈ lw_all := lw_g (lw_at lw_m6 52 rfl) rfl
theorem q1347 : (Jvm.Cond.methodLink "PromiseTailorModel" (150 : Nat) ({ cls := "PromiseTailorModel", name := "isPerson", desc := "(I)Z" } : Jvm.MethodName)) ∈ lw_all := lw_g (lw_at lw_m6 53 rfl) rfl
theorem q1348 : (Jvm.Cond.privateMethod ({ cls := "PromiseTailorModel", name := "isPerson", desc := "(I)Z" } : Jvm.MethodName)) ∈ lw_tbl := lw_at lw_m6 54 rfl
theorem q1349 : (Jvm.Cond.instanceMethod ({ cls := "PromiseTailorModel", name := "isPerson", desc := "(I)Z" } : Jvm.MethodName)) ∈ lw_all := lw_g (lw_at lw_m6 55 rfl) rfl
theorem q1350 : (Jvm.Cond.code ({ cls := "PromiseTailorModel", name := "isPerson", desc := "(I)Z" } : Jvm.MethodName) prog_13_method_20_code (2 : Nat) (Option.some Jvm.ClassFile.FieldType.boolean)) ∈ lw_all := lw_g (lw_at lw_m6 56 rfl) rfl
theorem q1351 : (Jvm.Cond.methodLink "PromiseTailorModel" (147 : Nat) ({ cls := "PromiseTailorModel", name := "reads", desc := "()V" } : Jvm.MethodName)) ∈ lw_all := lw_g (lw_at lw_m6 57 rfl) rfl
theorem q1352 : (Jvm.Cond.privateMethod ({ cls := "PromiseTailorModel", name := "reads", desc := "()V" } : Jvm.MethodName)) ∈ lw_tbl := lw_at lw_m6 58 rfl
theorem q1353 : (Jvm.Cond.instanceMethod ({ cls := "PromiseTailorModel", name := "reads", desc := "()V" } : Jvm.MethodName)) ∈ lw_all := lw_g (lw_at lw_m6 59 rfl) rfl
theorem q1354 : (Jvm.Cond.code ({ cls := "PromiseTailorModel", name := "reads", desc := "()V" } : Jvm.MethodName) prog_13_method_18_code (2 : Nat) (Option.none : Option Jvm.ClassFile.FieldType)) ∈ lw_all := lw_g (lw_at lw_m6 60 rfl) rfl
theorem q1355 : (Jvm.Cond.methodLink "PromiseTailorModel" (153 : Nat) ({ cls := "PromiseTailorModel", name := "personOf", desc := "(II)I" } : Jvm.MethodName)) ∈ lw_all := lw_g (lw_at lw_m6 61 rfl) rfl
theorem q1356 : (Jvm.Cond.privateMethod ({ cls := "PromiseTailorModel", name := "personOf", desc := "(II)I" } : Jvm.MethodName)) ∈ lw_tbl := lw_at lw_m6 62 rfl
theorem q1357 : (Jvm.Cond.instanceMethod ({ cls := "PromiseTailorModel", name := "personOf", desc := "(II)I" } : Jvm.MethodName)) ∈ lw_all := lw_g (lw_at lw_m6 63 rfl) rfl
theorem q1358 : (Jvm.Cond.code ({ cls := "PromiseTailorModel", name := "personOf", desc := "(II)I" } : Jvm.MethodName) prog_13_method_22_code (3 : Nat) (Option.some Jvm.ClassFile.FieldType.int)) ∈ lw_all := lw_g (lw_at lw_m6 64 rfl) rfl
theorem q1359 : (Jvm.Cond.methodLink "PromiseTailorLaw" (38 : Nat) ({ cls := "PromiseTailorModel", name := "promise", desc := "(II)I" } : Jvm.MethodName)) ∈ lw_all := lw_g (lw_at lw_m6 65 rfl) rfl
theorem q1360 : (Jvm.Cond.instanceMethod ({ cls := "PromiseTailorModel", name := "promise", desc := "(II)I" } : Jvm.MethodName)) ∈ lw_all := lw_g (lw_at lw_m6 66 rfl) rfl
theorem q1361 : (Jvm.Cond.selects "PromiseTailorModel" ({ cls := "PromiseTailorModel", name := "promise", desc := "(II)I" } : Jvm.MethodName) ({ cls := "PromiseTailorModel", name := "promise", desc := "(II)I" } : Jvm.MethodName)) ∈ lw_all := lw_g (lw_at lw_m6 67 rfl) rfl
theorem q1362 : (Jvm.Cond.code ({ cls := "PromiseTailorModel", name := "promise", desc := "(II)I" } : Jvm.MethodName) prog_13_method_25_code (3 : Nat) (Option.some Jvm.ClassFile.FieldType.int)) ∈ lw_all := lw_g (lw_at lw_m6 68 rfl) rfl
theorem q1363 : (Jvm.Cond.methodLink "PromiseTailorModel" (156 : Nat) ({ cls := "PromiseTailorModel", name := "isPromise", desc := "(I)Z" } : Jvm.MethodName)) ∈ lw_all := lw_g (lw_at lw_m6 69 rfl) rfl
theorem q1364 : (Jvm.Cond.privateMethod ({ cls := "PromiseTailorModel", name := "isPromise", desc := "(I)Z" } : Jvm.MethodName)) ∈ lw_tbl := lw_at lw_m6 70 rfl
theorem q1365 : (Jvm.Cond.instanceMethod ({ cls := "PromiseTailorModel", name := "isPromise", desc := "(I)Z" } : Jvm.MethodName)) ∈ lw_all := lw_g (lw_at lw_m6 71 rfl) rfl
theorem q1366 : (Jvm.Cond.code ({ cls := "PromiseTailorModel", name := "isPromise", desc := "(I)Z" } : Jvm.MethodName) prog_13_method_21_code (2 : Nat) (Option.some Jvm.ClassFile.FieldType.boolean)) ∈ lw_all := lw_g (lw_at lw_m6 72 rfl) rfl
theorem q1367 : (Jvm.Cond.methodLink "PromiseTailorModel" (159 : Nat) ({ cls := "PromiseTailorModel", name := "promiseOf", desc := "(II)I" } : Jvm.MethodName)) ∈ lw_all := lw_g (lw_at lw_m6 73 rfl) rfl
theorem q1368 : (Jvm.Cond.privateMethod ({ cls := "PromiseTailorModel", name := "promiseOf", desc := "(II)I" } : Jvm.MethodName)) ∈ lw_tbl := lw_at lw_m6 74 rfl
theorem q1369 : (Jvm.Cond.instanceMethod ({ cls := "PromiseTailorModel", name := "promiseOf", desc := "(II)I" } : Jvm.MethodName)) ∈ lw_all := lw_g (lw_at lw_m6 75 rfl) rfl
theorem q1370 : (Jvm.Cond.code ({ cls := "PromiseTailorModel", name := "promiseOf", desc := "(II)I" } : Jvm.MethodName) prog_13_method_24_code (3 : Nat) (Option.some Jvm.ClassFile.FieldType.int)) ∈ lw_all := lw_g (lw_at lw_m6 76 rfl) rfl
theorem q1371 : (Jvm.Cond.methodLink "PromiseTailorLaw" (42 : Nat) ({ cls := "PromiseTailorModel", name := "keeping", desc := "(II)I" } : Jvm.MethodName)) ∈ lw_all := lw_g (lw_at lw_m6 77 rfl) rfl
theorem q1372 : (Jvm.Cond.instanceMethod ({ cls := "PromiseTailorModel", name := "keeping", desc := "(II)I" } : Jvm.MethodName)) ∈ lw_all := lw_g (lw_at lw_m6 78 rfl) rfl
theorem q1373 : (Jvm.Cond.selects "PromiseTailorModel" ({ cls := "PromiseTailorModel", name := "keeping", desc := "(II)I" } : Jvm.MethodName) ({ cls := "PromiseTailorModel", name := "keeping", desc := "(II)I" } : Jvm.MethodName)) ∈ lw_all := lw_g (lw_at lw_m6 79 rfl) rfl
theorem q1374 : (Jvm.Cond.code ({ cls := "PromiseTailorModel", name := "keeping", desc := "(II)I" } : Jvm.MethodName) prog_13_method_26_code (3 : Nat) (Option.some Jvm.ClassFile.FieldType.int)) ∈ lw_all := lw_g (lw_at lw_m6 80 rfl) rfl
theorem q1375 : (Jvm.Cond.methodLink "PromiseTailorModel" (162 : Nat) ({ cls := "PromiseTailorModel", name := "isDay", desc := "(I)Z" } : Jvm.MethodName)) ∈ lw_all := lw_g (lw_at lw_m6 81 rfl) rfl
theorem q1376 : (Jvm.Cond.static ({ cls := "PromiseTailorModel", name := "isDay", desc := "(I)Z" } : Jvm.MethodName)) ∈ lw_all := lw_g (lw_at lw_m6 82 rfl) rfl
theorem q1377 : (Jvm.Cond.code ({ cls := "PromiseTailorModel", name := "isDay", desc := "(I)Z" } : Jvm.MethodName) prog_13_method_8_code (1 : Nat) (Option.some Jvm.ClassFile.FieldType.boolean)) ∈ lw_all := lw_g (lw_at lw_m6 83 rfl) rfl
theorem q1378 : (Jvm.Cond.methodLink "PromiseTailorLaw" (47 : Nat) ({ cls := "PromiseTailorModel", name := "lie", desc := "(III)I" } : Jvm.MethodName)) ∈ lw_all := lw_g (lw_at lw_m6 84 rfl) rfl
theorem q1379 : (Jvm.Cond.instanceMethod ({ cls := "PromiseTailorModel", name := "lie", desc := "(III)I" } : Jvm.MethodName)) ∈ lw_all := lw_g (lw_at lw_m6 85 rfl) rfl
theorem q1380 : (Jvm.Cond.selects "PromiseTailorModel" ({ cls := "PromiseTailorModel", name := "lie", desc := "(III)I" } : Jvm.MethodName) ({ cls := "PromiseTailorModel", name := "lie", desc := "(III)I" } : Jvm.MethodName)) ∈ lw_all := lw_g (lw_at lw_m6 86 rfl) rfl
theorem q1381 : (Jvm.Cond.code ({ cls := "PromiseTailorModel", name := "lie", desc := "(III)I" } : Jvm.MethodName) prog_13_method_27_code (4 : Nat) (Option.some Jvm.ClassFile.FieldType.int)) ∈ lw_all := lw_g (lw_at lw_m6 87 rfl) rfl
theorem q1382 : (Jvm.Cond.methodLink "PromiseTailorModel" (168 : Nat) ({ cls := "PromiseTailorModel", name := "isEight", desc := "(I)Z" } : Jvm.MethodName)) ∈ lw_all := lw_g (lw_at lw_m6 88 rfl) rfl
theorem q1383 : (Jvm.Cond.static ({ cls := "PromiseTailorModel", name := "isEight", desc := "(I)Z" } : Jvm.MethodName)) ∈ lw_all := lw_g (lw_at lw_m6 89 rfl) rfl
theorem q1384 : (Jvm.Cond.code ({ cls := "PromiseTailorModel", name := "isEight", desc := "(I)Z" } : Jvm.MethodName) prog_13_method_9_code (1 : Nat) (Option.some Jvm.ClassFile.FieldType.boolean)) ∈ lw_all := lw_g (lw_at lw_m6 90 rfl) rfl
theorem q1385 : (Jvm.Cond.methodLink "PromiseTailorLaw" (51 : Nat) ({ cls := "PromiseTailorModel", name := "letting", desc := "(III)I" } : Jvm.MethodName)) ∈ lw_all := lw_g (lw_at lw_m6 91 rfl) rfl
theorem q1386 : (Jvm.Cond.instanceMethod ({ cls := "PromiseTailorModel", name := "letting", desc := "(III)I" } : Jvm.MethodName)) ∈ lw_all := lw_g (lw_at lw_m6 92 rfl) rfl
theorem q1387 : (Jvm.Cond.selects "PromiseTailorModel" ({ cls := "PromiseTailorModel", name := "letting", desc := "(III)I" } : Jvm.MethodName) ({ cls := "PromiseTailorModel", name := "letting", desc := "(III)I" } : Jvm.MethodName)) ∈ lw_all := lw_g (lw_at lw_m6 93 rfl) rfl
theorem q1388 : (Jvm.Cond.code ({ cls := "PromiseTailorModel", name := "letting", desc := "(III)I" } : Jvm.MethodName) prog_13_method_28_code (4 : Nat) (Option.some Jvm.ClassFile.FieldType.int)) ∈ lw_all := lw_g (lw_at lw_m6 94 rfl) rfl
theorem q1389 : (Jvm.Cond.methodLink "PromiseTailorLaw" (55 : Nat) ({ cls := "PromiseTailorModel", name := "back", desc := "(I)I" } : Jvm.MethodName)) ∈ lw_all := lw_g (lw_at lw_m6 95 rfl) rfl
theorem q1390 : (Jvm.Cond.instanceMethod ({ cls := "PromiseTailorModel", name := "back", desc := "(I)I" } : Jvm.MethodName)) ∈ lw_all := lw_g (lw_at lw_m6 96 rfl) rfl
theorem q1391 : (Jvm.Cond.selects "PromiseTailorModel" ({ cls := "PromiseTailorModel", name := "back", desc := "(I)I" } : Jvm.MethodName) ({ cls := "PromiseTailorModel", name := "back", desc := "(I)I" } : Jvm.MethodName)) ∈ lw_all := lw_g (lw_at lw_m6 97 rfl) rfl
theorem q1392 : (Jvm.Cond.code ({ cls := "PromiseTailorModel", name := "back", desc := "(I)I" } : Jvm.MethodName) prog_13_method_29_code (3 : Nat) (Option.some Jvm.ClassFile.FieldType.int)) ∈ lw_all := lw_g (lw_at lw_m6 98 rfl) rfl
theorem q1393 : (Jvm.Cond.methodLink "PromiseTailorLaw" (59 : Nat) ({ cls := "PromiseTailorModel", name := "read", desc := "(I)I" } : Jvm.MethodName)) ∈ lw_all := lw_g (lw_at lw_m6 99 rfl) rfl
theorem q1394 : (Jvm.Cond.instanceMethod ({ cls := "PromiseTailorModel", name := "read", desc := "(I)I" } : Jvm.MethodName)) ∈ lw_all := lw_g (lw_at lw_m6 100 rfl) rfl
theorem q1395 : (Jvm.Cond.selects "PromiseTailorModel" ({ cls := "PromiseTailorModel", name := "read", desc := "(I)I" } : Jvm.MethodName) ({ cls := "PromiseTailorModel", name := "read", desc := "(I)I" } : Jvm.MethodName)) ∈ lw_all := lw_g (lw_at lw_m6 101 rfl) rfl
theorem q1396 : (Jvm.Cond.code ({ cls := "PromiseTailorModel", name := "read", desc := "(I)I" } : Jvm.MethodName) prog_13_method_30_code (3 : Nat) (Option.some Jvm.ClassFile.FieldType.int)) ∈ lw_all := lw_g (lw_at lw_m6 102 rfl) rfl
theorem q1397 : (Jvm.Cond.methodLink "PromiseTailorModel" (177 : Nat) ({ cls := "PromiseTailorModel", name := "isSheet", desc := "(I)Z" } : Jvm.MethodName)) ∈ lw_all := lw_g (lw_at lw_m6 103 rfl) rfl
theorem q1398 : (Jvm.Cond.static ({ cls := "PromiseTailorModel", name := "isSheet", desc := "(I)Z" } : Jvm.MethodName)) ∈ lw_all := lw_g (lw_at lw_m6 104 rfl) rfl
theorem q1399 : (Jvm.Cond.code ({ cls := "PromiseTailorModel", name := "isSheet", desc := "(I)Z" } : Jvm.MethodName) prog_13_method_84_code (1 : Nat) (Option.some Jvm.ClassFile.FieldType.boolean)) ∈ lw_all := lw_g (lw_at lw_m6 105 rfl) rfl
theorem q1400 : (Jvm.Cond.methodLink "PromiseTailorModel" (180 : Nat) ({ cls := "PromiseTailorModel", name := "meets", desc := "(I)I" } : Jvm.MethodName)) ∈ lw_all := lw_g (lw_at lw_m6 106 rfl) rfl
theorem q1401 : (Jvm.Cond.privateMethod ({ cls := "PromiseTailorModel", name := "meets", desc := "(I)I" } : Jvm.MethodName)) ∈ lw_tbl := lw_at lw_m6 107 rfl
theorem q1402 : (Jvm.Cond.instanceMethod ({ cls := "PromiseTailorModel", name := "meets", desc := "(I)I" } : Jvm.MethodName)) ∈ lw_all := lw_g (lw_at lw_m6 108 rfl) rfl
theorem q1403 : (Jvm.Cond.code ({ cls := "PromiseTailorModel", name := "meets", desc := "(I)I" } : Jvm.MethodName) prog_13_method_83_code (2 : Nat) (Option.some Jvm.ClassFile.FieldType.int)) ∈ lw_all := lw_g (lw_at lw_m6 109 rfl) rfl
theorem q1404 : (Jvm.Cond.methodLink "PromiseTailorModel" (183 : Nat) ({ cls := "PromiseTailorModel", name := "keeping", desc := "(II)I" } : Jvm.MethodName)) ∈ lw_all := lw_g (lw_at lw_m6 110 rfl) rfl
theorem q1405 : (Jvm.Cond.methodLink "PromiseTailorLaw" (63 : Nat) ({ cls := "PromiseTailorModel", name := "coat", desc := "(III)I" } : Jvm.MethodName)) ∈ lw_all := lw_g (lw_at lw_m6 111 rfl) rfl
theorem q1406 : (Jvm.Cond.instanceMethod ({ cls := "PromiseTailorModel", name := "coat", desc := "(III)I" } : Jvm.MethodName)) ∈ lw_all := lw_g (lw_at lw_m6 112 rfl) rfl
theorem q1407 : (Jvm.Cond.selects "PromiseTailorModel" ({ cls := "PromiseTailorModel", name := "coat", desc := "(III)I" } : Jvm.MethodName) ({ cls := "PromiseTailorModel", name := "coat", desc := "(III)I" } : Jvm.MethodName)) ∈ lw_all := lw_g (lw_at lw_m6 113 rfl) rfl
theorem q1408 : (Jvm.Cond.code ({ cls := "PromiseTailorModel", name := "coat", desc := "(III)I" } : Jvm.MethodName) prog_13_method_44_code (4 : Nat) (Option.some Jvm.ClassFile.FieldType.int)) ∈ lw_all := lw_g (lw_at lw_m6 114 rfl) rfl
theorem q1409 : (Jvm.Cond.methodLink "PromiseTailorModel" (237 : Nat) ({ cls := "PromiseTailorModel", name := "coatOf", desc := "(III)I" } : Jvm.MethodName)) ∈ lw_all := lw_g (lw_at lw_m6 115 rfl) rfl
theorem q1410 : (Jvm.Cond.privateMethod ({ cls := "PromiseTailorModel", name := "coatOf", desc := "(III)I" } : Jvm.MethodName)) ∈ lw_tbl := lw_at lw_m6 116 rfl
theorem q1411 : (Jvm.Cond.instanceMethod ({ cls := "PromiseTailorModel", name := "coatOf", desc := "(III)I" } : Jvm.MethodName)) ∈ lw_all := lw_g (lw_at lw_m6 117 rfl) rfl
theorem q1412 : (Jvm.Cond.code ({ cls := "PromiseTailorModel", name := "coatOf", desc := "(III)I" } : Jvm.MethodName) prog_13_method_43_code (4 : Nat) (Option.some Jvm.ClassFile.FieldType.int)) ∈ lw_all := lw_g (lw_at lw_m6 118 rfl) rfl
theorem q1413 : (Jvm.Cond.methodLink "PromiseTailorModel" (234 : Nat) ({ cls := "PromiseTailorModel", name := "runsTold", desc := "()V" } : Jvm.MethodName)) ∈ lw_all := lw_g (lw_at lw_m6 119 rfl) rfl
theorem q1414 : (Jvm.Cond.privateMethod ({ cls := "PromiseTailorModel", name := "runsTold", desc := "()V" } : Jvm.MethodName)) ∈ lw_tbl := lw_at lw_m6 120 rfl
theorem q1415 : (Jvm.Cond.instanceMethod ({ cls := "PromiseTailorModel", name := "runsTold", desc := "()V" } : Jvm.MethodName)) ∈ lw_all := lw_g (lw_at lw_m6 121 rfl) rfl
theorem q1416 : (Jvm.Cond.code ({ cls := "PromiseTailorModel", name := "runsTold", desc := "()V" } : Jvm.MethodName) prog_13_method_40_code (1 : Nat) (Option.none : Option Jvm.ClassFile.FieldType)) ∈ lw_all := lw_g (lw_at lw_m6 122 rfl) rfl
theorem q1417 : (Jvm.Cond.methodLink "PromiseTailorModel" (225 : Nat) ({ cls := "PromiseTailorModel", name := "asTold", desc := "()V" } : Jvm.MethodName)) ∈ lw_all := lw_g (lw_at lw_m6 123 rfl) rfl
theorem q1418 : (Jvm.Cond.privateMethod ({ cls := "PromiseTailorModel", name := "asTold", desc := "()V" } : Jvm.MethodName)) ∈ lw_tbl := lw_at lw_m6 124 rfl
theorem q1419 : (Jvm.Cond.instanceMethod ({ cls := "PromiseTailorModel", name := "asTold", desc := "()V" } : Jvm.MethodName)) ∈ lw_all := lw_g (lw_at lw_m6 125 rfl) rfl
theorem q1420 : (Jvm.Cond.code ({ cls := "PromiseTailorModel", name := "asTold", desc := "()V" } : Jvm.MethodName) prog_13_method_31_code (2 : Nat) (Option.none : Option Jvm.ClassFile.FieldType)) ∈ lw_all := lw_g (lw_at lw_m6 126 rfl) rfl
theorem q1421 : (Jvm.Cond.methodLink "PromiseTailorModel" (228 : Nat) ({ cls := "PromiseTailorModel", name := "runs", desc := "()V" } : Jvm.MethodName)) ∈ lw_all := lw_g (lw_at lw_m6 127 rfl) rfl
theorem q1422 : (Jvm.Cond.privateMethod ({ cls := "PromiseTailorModel", name := "runs", desc := "()V" } : Jvm.MethodName)) ∈ lw_tbl := lw_at lw_m6 128 rfl
theorem q1423 : (Jvm.Cond.instanceMethod ({ cls := "PromiseTailorModel", name := "runs", desc := "()V" } : Jvm.MethodName)) ∈ lw_all := lw_g (lw_at lw_m6 129 rfl) rfl
theorem q1424 : (Jvm.Cond.code ({ cls := "PromiseTailorModel", name := "runs", desc := "()V" } : Jvm.MethodName) prog_13_method_39_code (2 : Nat) (Option.none : Option Jvm.ClassFile.FieldType)) ∈ lw_all := lw_g (lw_at lw_m6 130 rfl) rfl
theorem q1425 : (Jvm.Cond.methodLink "PromiseTailorModel" (222 : Nat) ({ cls := "PromiseTailorModel", name := "goesBy", desc := "(I)V" } : Jvm.MethodName)) ∈ lw_all := lw_g (lw_at lw_m6 131 rfl) rfl
theorem q1426 : (Jvm.Cond.privateMethod ({ cls := "PromiseTailorModel", name := "goesBy", desc := "(I)V" } : Jvm.MethodName)) ∈ lw_tbl := lw_at lw_m6 132 rfl
theorem q1427 : (Jvm.Cond.instanceMethod ({ cls := "PromiseTailorModel", name := "goesBy", desc := "(I)V" } : Jvm.MethodName)) ∈ lw_all := lw_g (lw_at lw_m6 133 rfl) rfl
theorem q1428 : (Jvm.Cond.code ({ cls := "PromiseTailorModel", name := "goesBy", desc := "(I)V" } : Jvm.MethodName) prog_13_method_38_code (3 : Nat) (Option.none : Option Jvm.ClassFile.FieldType)) ∈ lw_all := lw_g (lw_at lw_m6 134 rfl) rfl
theorem q1429 : (Jvm.Cond.methodLink "PromiseTailorModel" (213 : Nat) ({ cls := "PromiseTailorModel", name := "makes", desc := "(I)V" } : Jvm.MethodName)) ∈ lw_all := lw_g (lw_at lw_m6 135 rfl) rfl
theorem q1430 : (Jvm.Cond.privateMethod ({ cls := "PromiseTailorModel", name := "makes", desc := "(I)V" } : Jvm.MethodName)) ∈ lw_tbl := lw_at lw_m6 136 rfl
theorem q1431 : (Jvm.Cond.instanceMethod ({ cls := "PromiseTailorModel", name := "makes", desc := "(I)V" } : Jvm.MethodName)) ∈ lw_all := lw_g (lw_at lw_m6 137 rfl) rfl
theorem q1432 : (Jvm.Cond.code ({ cls := "PromiseTailorModel", name := "makes", desc := "(I)V" } : Jvm.MethodName) prog_13_method_34_code (3 : Nat) (Option.none : Option Jvm.ClassFile.FieldType)) ∈ lw_all := lw_g (lw_at lw_m6 138 rfl) rfl
theorem q1433 : (Jvm.Cond.methodLink "PromiseTailorModel" (198 : Nat) ({ cls := "PromiseTailorModel", name := "lengthOf", desc := "(I)I" } : Jvm.MethodName)) ∈ lw_all := lw_g (lw_at lw_m6 139 rfl) rfl
theorem q1434 : (Jvm.Cond.privateMethod ({ cls := "PromiseTailorModel", name := "lengthOf", desc := "(I)I" } : Jvm.MethodName)) ∈ lw_tbl := lw_at lw_m6 140 rfl
theorem q1435 : (Jvm.Cond.instanceMethod ({ cls := "PromiseTailorModel", name := "lengthOf", desc := "(I)I" } : Jvm.MethodName)) ∈ lw_all := lw_g (lw_at lw_m6 141 rfl) rfl
theorem q1436 : (Jvm.Cond.code ({ cls := "PromiseTailorModel", name := "lengthOf", desc := "(I)I" } : Jvm.MethodName) prog_13_method_33_code (3 : Nat) (Option.some Jvm.ClassFile.FieldType.int)) ∈ lw_all := lw_g (lw_at lw_m6 142 rfl) rfl
theorem q1437 : (Jvm.Cond.methodLink "PromiseTailorModel" (201 : Nat) ({ cls := "PromiseTailorModel", name := "changes", desc := "(II)V" } : Jvm.MethodName)) ∈ lw_all := lw_g (lw_at lw_m6 143 rfl) rfl
theorem q1438 : (Jvm.Cond.privateMethod ({ cls := "PromiseTailorModel", name := "changes", desc := "(II)V" } : Jvm.MethodName)) ∈ lw_tbl := lw_at lw_m6 144 rfl
theorem q1439 : (Jvm.Cond.instanceMethod ({ cls := "PromiseTailorModel", name := "changes", desc := "(II)V" } : Jvm.MethodName)) ∈ lw_all := lw_g (lw_at lw_m6 145 rfl) rfl
theorem q1440 : (Jvm.Cond.code ({ cls := "PromiseTailorModel", name := "changes", desc := "(II)V" } : Jvm.MethodName) prog_13_method_32_code (4 : Nat) (Option.none : Option Jvm.ClassFile.FieldType)) ∈ lw_all := lw_g (lw_at lw_m6 146 rfl) rfl
theorem q1441 : (Jvm.Cond.methodLink "PromiseTailorModel" (216 : Nat) ({ cls := "PromiseTailorModel", name := "keepsOn", desc := "(I)V" } : Jvm.MethodName)) ∈ lw_all := lw_g (lw_at lw_m6 147 rfl) rfl
theorem q1442 : (Jvm.Cond.privateMethod ({ cls := "PromiseTailorModel", name := "keepsOn", desc := "(I)V" } : Jvm.MethodName)) ∈ lw_tbl := lw_at lw_m6 148 rfl
theorem q1443 : (Jvm.Cond.instanceMethod ({ cls := "PromiseTailorModel", name := "keepsOn", desc := "(I)V" } : Jvm.MethodName)) ∈ lw_all := lw_g (lw_at lw_m6 149 rfl) rfl
theorem q1444 : (Jvm.Cond.code ({ cls := "PromiseTailorModel", name := "keepsOn", desc := "(I)V" } : Jvm.MethodName) prog_13_method_36_code (4 : Nat) (Option.none : Option Jvm.ClassFile.FieldType)) ∈ lw_all := lw_g (lw_at lw_m6 150 rfl) rfl
theorem q1445 : (Jvm.Cond.methodLink "PromiseTailorModel" (205 : Nat) ({ cls := "PromiseTailorModel", name := "isIn", desc := "(II)Z" } : Jvm.MethodName)) ∈ lw_all := lw_g (lw_at lw_m6 151 rfl) rfl
theorem q1446 : (Jvm.Cond.static ({ cls := "PromiseTailorModel", name := "isIn", desc := "(II)Z" } : Jvm.MethodName)) ∈ lw_all := lw_g (lw_at lw_m6 152 rfl) rfl
theorem q1447 : (Jvm.Cond.code ({ cls := "PromiseTailorModel", name := "isIn", desc := "(II)Z" } : Jvm.MethodName) prog_13_method_4_code (2 : Nat) (Option.some Jvm.ClassFile.FieldType.boolean)) ∈ lw_all := lw_g (lw_at lw_m6 153 rfl) rfl
theorem q1448 : (Jvm.Cond.methodLink "PromiseTailorModel" (209 : Nat) ({ cls := "PromiseTailorModel", name := "isKept", desc := "(I)V" } : Jvm.MethodName)) ∈ lw_all := lw_g (lw_at lw_m6 154 rfl) rfl
theorem q1449 : (Jvm.Cond.privateMethod ({ cls := "PromiseTailorModel", name := "isKept", desc := "(I)V" } : Jvm.MethodName)) ∈ lw_tbl := lw_at lw_m6 155 rfl
theorem q1450 : (Jvm.Cond.instanceMethod ({ cls := "PromiseTailorModel", name := "isKept", desc := "(I)V" } : Jvm.MethodName)) ∈ lw_all := lw_g (lw_at lw_m6 156 rfl) rfl
theorem q1451 : (Jvm.Cond.code ({ cls := "PromiseTailorModel", name := "isKept", desc := "(I)V" } : Jvm.MethodName) prog_13_method_35_code (5 : Nat) (Option.none : Option Jvm.ClassFile.FieldType)) ∈ lw_all := lw_g (lw_at lw_m6 157 rfl) rfl
theorem q1452 : (Jvm.Cond.methodLink "PromiseTailorModel" (219 : Nat) ({ cls := "PromiseTailorModel", name := "breaks", desc := "(I)V" } : Jvm.MethodName)) ∈ lw_all := lw_g (lw_at lw_m6 158 rfl) rfl
theorem q1453 : (Jvm.Cond.privateMethod ({ cls := "PromiseTailorModel", name := "breaks", desc := "(I)V" } : Jvm.MethodName)) ∈ lw_tbl := lw_at lw_m6 159 rfl
theorem q1454 : (Jvm.Cond.instanceMethod ({ cls := "PromiseTailorModel", name := "breaks", desc := "(I)V" } : Jvm.MethodName)) ∈ lw_all := lw_g (lw_at lw_m6 160 rfl) rfl
theorem q1455 : (Jvm.Cond.code ({ cls := "PromiseTailorModel", name := "breaks", desc := "(I)V" } : Jvm.MethodName) prog_13_method_37_code (4 : Nat) (Option.none : Option Jvm.ClassFile.FieldType)) ∈ lw_all := lw_g (lw_at lw_m6 161 rfl) rfl
theorem q1456 : (Jvm.Cond.methodLink "PromiseTailorModel" (231 : Nat) ({ cls := "PromiseTailorModel", name := "fitsOn", desc := "(II)Z" } : Jvm.MethodName)) ∈ lw_all := lw_g (lw_at lw_m6 162 rfl) rfl
theorem q1457 : (Jvm.Cond.privateMethod ({ cls := "PromiseTailorModel", name := "fitsOn", desc := "(II)Z" } : Jvm.MethodName)) ∈ lw_tbl := lw_at lw_m6 163 rfl
theorem q1458 : (Jvm.Cond.instanceMethod ({ cls := "PromiseTailorModel", name := "fitsOn", desc := "(II)Z" } : Jvm.MethodName)) ∈ lw_all := lw_g (lw_at lw_m6 164 rfl) rfl
theorem q1459 : (Jvm.Cond.code ({ cls := "PromiseTailorModel", name := "fitsOn", desc := "(II)Z" } : Jvm.MethodName) prog_13_method_41_code (3 : Nat) (Option.some Jvm.ClassFile.FieldType.boolean)) ∈ lw_all := lw_g (lw_at lw_m6 165 rfl) rfl
theorem q1460 : (Jvm.Cond.methodLink "PromiseTailorLaw" (67 : Nat) ({ cls := "PromiseTailorModel", name := "stands", desc := "(II)I" } : Jvm.MethodName)) ∈ lw_all := lw_g (lw_at lw_m6 166 rfl) rfl
theorem q1461 : (Jvm.Cond.instanceMethod ({ cls := "PromiseTailorModel", name := "stands", desc := "(II)I" } : Jvm.MethodName)) ∈ lw_all := lw_g (lw_at lw_m6 167 rfl) rfl
theorem q1462 : (Jvm.Cond.selects "PromiseTailorModel" ({ cls := "PromiseTailorModel", name := "stands", desc := "(II)I" } : Jvm.MethodName) ({ cls := "PromiseTailorModel", name := "stands", desc := "(II)I" } : Jvm.MethodName)) ∈ lw_all := lw_g (lw_at lw_m6 168 rfl) rfl
theorem q1463 : (Jvm.Cond.code ({ cls := "PromiseTailorModel", name := "stands", desc := "(II)I" } : Jvm.MethodName) prog_13_method_46_code (3 : Nat) (Option.some Jvm.ClassFile.FieldType.int)) ∈ lw_all := lw_g (lw_at lw_m6 169 rfl) rfl
theorem q1464 : (Jvm.Cond.methodLink "PromiseTailorModel" (241 : Nat) ({ cls := "PromiseTailorModel", name := "standsOf", desc := "(II)I" } : Jvm.MethodName)) ∈ lw_all := lw_g (lw_at lw_m6 170 rfl) rfl
theorem q1465 : (Jvm.Cond.privateMethod ({ cls := "PromiseTailorModel", name := "standsOf", desc := "(II)I" } : Jvm.MethodName)) ∈ lw_tbl := lw_at lw_m6 171 rfl
theorem q1466 : (Jvm.Cond.instanceMethod ({ cls := "PromiseTailorModel", name := "standsOf", desc := "(II)I" } : Jvm.MethodName)) ∈ lw_all := lw_g (lw_at lw_m6 172 rfl) rfl
theorem q1467 : (Jvm.Cond.code ({ cls := "PromiseTailorModel", name := "standsOf", desc := "(II)I" } : Jvm.MethodName) prog_13_method_45_code (3 : Nat) (Option.some Jvm.ClassFile.FieldType.int)) ∈ lw_all := lw_g (lw_at lw_m6 173 rfl) rfl
theorem q1468 : (Jvm.Cond.methodLink "PromiseTailorLaw" (71 : Nat) ({ cls := "PromiseTailorModel", name := "neat", desc := "(I)I" } : Jvm.MethodName)) ∈ lw_all := lw_g (lw_at lw_m6 174 rfl) rfl
theorem q1469 : (Jvm.Cond.instanceMethod ({ cls := "PromiseTailorModel", name := "neat", desc := "(I)I" } : Jvm.MethodName)) ∈ lw_all := lw_g (lw_at lw_m6 175 rfl) rfl
theorem q1470 : (Jvm.Cond.selects "PromiseTailorModel" ({ cls := "PromiseTailorModel", name := "neat", desc := "(I)I" } : Jvm.MethodName) ({ cls := "PromiseTailorModel", name := "neat", desc := "(I)I" } : Jvm.MethodName)) ∈ lw_all := lw_g (lw_at lw_m6 176 rfl) rfl
theorem q1471 : (Jvm.Cond.code ({ cls := "PromiseTailorModel", name := "neat", desc := "(I)I" } : Jvm.MethodName) prog_13_method_48_code (2 : Nat) (Option.some Jvm.ClassFile.FieldType.int)) ∈ lw_all := lw_g (lw_at lw_m6 177 rfl) rfl
theorem q1472 : (Jvm.Cond.methodLink "PromiseTailorModel" (244 : Nat) ({ cls := "PromiseTailorModel", name := "neatOf", desc := "(I)I" } : Jvm.MethodName)) ∈ lw_all := lw_g (lw_at lw_m6 178 rfl) rfl
theorem q1473 : (Jvm.Cond.privateMethod ({ cls := "PromiseTailorModel", name := "neatOf", desc := "(I)I" } : Jvm.MethodName)) ∈ lw_tbl := lw_at lw_m6 179 rfl
theorem q1474 : (Jvm.Cond.instanceMethod ({ cls := "PromiseTailorModel", name := "neatOf", desc := "(I)I" } : Jvm.MethodName)) ∈ lw_all := lw_g (lw_at lw_m6 180 rfl) rfl
theorem q1475 : (Jvm.Cond.code ({ cls := "PromiseTailorModel", name := "neatOf", desc := "(I)I" } : Jvm.MethodName) prog_13_method_47_code (4 : Nat) (Option.some Jvm.ClassFile.FieldType.int)) ∈ lw_all := lw_g (lw_at lw_m6 181 rfl) rfl
theorem q1476 : (Jvm.Cond.methodLink "PromiseTailorLaw" (75 : Nat) ({ cls := "PromiseTailorModel", name := "naked", desc := "(I)I" } : Jvm.MethodName)) ∈ lw_all := lw_g (lw_at lw_m6 182 rfl) rfl
theorem q1477 : (Jvm.Cond.instanceMethod ({ cls := "PromiseTailorModel", name := "naked", desc := "(I)I" } : Jvm.MethodName)) ∈ lw_all := lw_g (lw_at lw_m6 183 rfl) rfl
theorem q1478 : (Jvm.Cond.selects "PromiseTailorModel" ({ cls := "PromiseTailorModel", name := "naked", desc := "(I)I" } : Jvm.MethodName) ({ cls := "PromiseTailorModel", name := "naked", desc := "(I)I" } : Jvm.MethodName)) ∈ lw_all := lw_g (lw_at lw_m6 184 rfl) rfl
theorem q1479 : (Jvm.Cond.code ({ cls := "PromiseTailorModel", name := "naked", desc := "(I)I" } : Jvm.MethodName) prog_13_method_51_code (2 : Nat) (Option.some Jvm.ClassFile.FieldType.int)) ∈ lw_all := lw_g (lw_at lw_m6 185 rfl) rfl
theorem q1480 : (Jvm.Cond.methodLink "PromiseTailorModel" (250 : Nat) ({ cls := "PromiseTailorModel", name := "nakedOf", desc := "(I)I" } : Jvm.MethodName)) ∈ lw_all := lw_g (lw_at lw_m6 186 rfl) rfl
theorem q1481 : (Jvm.Cond.privateMethod ({ cls := "PromiseTailorModel", name := "nakedOf", desc := "(I)I" } : Jvm.MethodName)) ∈ lw_tbl := lw_at lw_m6 187 rfl
theorem q1482 : (Jvm.Cond.instanceMethod ({ cls := "PromiseTailorModel", name := "nakedOf", desc := "(I)I" } : Jvm.MethodName)) ∈ lw_all := lw_g (lw_at lw_m6 188 rfl) rfl
theorem q1483 : (Jvm.Cond.code ({ cls := "PromiseTailorModel", name := "nakedOf", desc := "(I)I" } : Jvm.MethodName) prog_13_method_50_code (2 : Nat) (Option.some Jvm.ClassFile.FieldType.int)) ∈ lw_all := lw_g (lw_at lw_m6 189 rfl) rfl
theorem q1484 : (Jvm.Cond.methodLink "PromiseTailorModel" (247 : Nat) ({ cls := "PromiseTailorModel", name := "nakedNow", desc := "(I)I" } : Jvm.MethodName)) ∈ lw_all := lw_g (lw_at lw_m6 190 rfl) rfl
theorem q1485 : (Jvm.Cond.privateMethod ({ cls := "PromiseTailorModel", name := "nakedNow", desc := "(I)I" } : Jvm.MethodName)) ∈ lw_tbl := lw_at lw_m6 191 rfl
theorem q1486 : (Jvm.Cond.instanceMethod ({ cls := "PromiseTailorModel", name := "nakedNow", desc := "(I)I" } : Jvm.MethodName)) ∈ lw_all := lw_g (lw_at lw_m6 192 rfl) rfl
theorem q1487 : (Jvm.Cond.code ({ cls := "PromiseTailorModel", name := "nakedNow", desc := "(I)I" } : Jvm.MethodName) prog_13_method_49_code (4 : Nat) (Option.some Jvm.ClassFile.FieldType.int)) ∈ lw_all := lw_g (lw_at lw_m6 193 rfl) rfl
theorem q1488 : (Jvm.Cond.methodLink "PromiseTailorLaw" (79 : Nat) ({ cls := "PromiseTailorModel", name := "longest", desc := "(I)I" } : Jvm.MethodName)) ∈ lw_all := lw_g (lw_at lw_m6 194 rfl) rfl
theorem q1489 : (Jvm.Cond.instanceMethod ({ cls := "PromiseTailorModel", name := "longest", desc := "(I)I" } : Jvm.MethodName)) ∈ lw_all := lw_g (lw_at lw_m6 195 rfl) rfl
theorem q1490 : (Jvm.Cond.selects "PromiseTailorModel" ({ cls := "PromiseTailorModel", name := "longest", desc := "(I)I" } : Jvm.MethodName) ({ cls := "PromiseTailorModel", name := "longest", desc := "(I)I" } : Jvm.MethodName)) ∈ lw_all := lw_g (lw_at lw_m6 196 rfl) rfl
theorem q1491 : (Jvm.Cond.code ({ cls := "PromiseTailorModel", name := "longest", desc := "(I)I" } : Jvm.MethodName) prog_13_method_53_code (2 : Nat) (Option.some Jvm.ClassFile.FieldType.int)) ∈ lw_all := lw_g (lw_at lw_m6 197 rfl) rfl
theorem q1492 : (Jvm.Cond.methodLink "PromiseTailorModel" (253 : Nat) ({ cls := "PromiseTailorModel", name := "longestOf", desc := "(I)I" } : Jvm.MethodName)) ∈ lw_all := lw_g (lw_at lw_m6 198 rfl) rfl
theorem q1493 : (Jvm.Cond.privateMethod ({ cls := "PromiseTailorModel", name := "longestOf", desc := "(I)I" } : Jvm.MethodName)) ∈ lw_tbl := lw_at lw_m6 199 rfl
theorem q1494 : (Jvm.Cond.instanceMethod ({ cls := "PromiseTailorModel", name := "longestOf", desc := "(I)I" } : Jvm.MethodName)) ∈ lw_all := lw_g (lw_at lw_m6 200 rfl) rfl
theorem q1495 : (Jvm.Cond.code ({ cls := "PromiseTailorModel", name := "longestOf", desc := "(I)I" } : Jvm.MethodName) prog_13_method_52_code (4 : Nat) (Option.some Jvm.ClassFile.FieldType.int)) ∈ lw_all := lw_g (lw_at lw_m6 201 rfl) rfl
theorem q1496 : (Jvm.Cond.methodLink "PromiseTailorLaw" (84 : Nat) ({ cls := "PromiseTailorModel", name := "splits", desc := "()I" } : Jvm.MethodName)) ∈ lw_all := lw_g (lw_at lw_m6 202 rfl) rfl
theorem q1497 : (Jvm.Cond.instanceMethod ({ cls := "PromiseTailorModel", name := "splits", desc := "()I" } : Jvm.MethodName)) ∈ lw_all := lw_g (lw_at lw_m6 203 rfl) rfl
theorem q1498 : (Jvm.Cond.selects "PromiseTailorModel" ({ cls := "PromiseTailorModel", name := "splits", desc := "()I" } : Jvm.MethodName) ({ cls := "PromiseTailorModel", name := "splits", desc := "()I" } : Jvm.MethodName)) ∈ lw_all := lw_g (lw_at lw_m6 204 rfl) rfl
theorem q1499 : (Jvm.Cond.code ({ cls := "PromiseTailorModel", name := "splits", desc := "()I" } : Jvm.MethodName) prog_13_method_56_code (1 : Nat) (Option.some Jvm.ClassFile.FieldType.int)) ∈ lw_all := lw_g (lw_at lw_m6 205 rfl) rfl
theorem q1500 : (Jvm.Cond.methodLink "PromiseTailorModel" (260 : Nat) ({ cls := "PromiseTailorModel", name := "splitsOf", desc := "()I" } : Jvm.MethodName)) ∈ lw_all := lw_g (lw_at lw_m6 206 rfl) rfl
theorem q1501 : (Jvm.Cond.privateMethod ({ cls := "PromiseTailorModel", name := "splitsOf", desc := "()I" } : Jvm.MethodName)) ∈ lw_tbl := lw_at lw_m6 207 rfl
theorem q1502 : (Jvm.Cond.instanceMethod ({ cls := "PromiseTailorModel", name := "splitsOf", desc := "()I" } : Jvm.MethodName)) ∈ lw_all := lw_g (lw_at lw_m6 208 rfl) rfl
theorem q1503 : (Jvm.Cond.code ({ cls := "PromiseTailorModel", name := "splitsOf", desc := "()I" } : Jvm.MethodName) prog_13_method_55_code (1 : Nat) (Option.some Jvm.ClassFile.FieldType.int)) ∈ lw_all := lw_g (lw_at lw_m6 209 rfl) rfl
theorem q1504 : (Jvm.Cond.methodLink "PromiseTailorModel" (256 : Nat) ({ cls := "PromiseTailorModel", name := "tearsAll", desc := "()I" } : Jvm.MethodName)) ∈ lw_all := lw_g (lw_at lw_m6 210 rfl) rfl
theorem q1505 : (Jvm.Cond.privateMethod ({ cls := "PromiseTailorModel", name := "tearsAll", desc := "()I" } : Jvm.MethodName)) ∈ lw_tbl := lw_at lw_m6 211 rfl
theorem q1506 : (Jvm.Cond.instanceMethod ({ cls := "PromiseTailorModel", name := "tearsAll", desc := "()I" } : Jvm.MethodName)) ∈ lw_all := lw_g (lw_at lw_m6 212 rfl) rfl
theorem q1507 : (Jvm.Cond.code ({ cls := "PromiseTailorModel", name := "tearsAll", desc := "()I" } : Jvm.MethodName) prog_13_method_54_code (3 : Nat) (Option.some Jvm.ClassFile.FieldType.int)) ∈ lw_all := lw_g (lw_at lw_m6 213 rfl) rfl
theorem q1508 : (Jvm.Cond.methodLink "PromiseTailorLaw" (88 : Nat) ({ cls := "PromiseTailorModel", name := "best", desc := "()I" } : Jvm.MethodName)) ∈ lw_all := lw_g (lw_at lw_m6 214 rfl) rfl
theorem q1509 : (Jvm.Cond.instanceMethod ({ cls := "PromiseTailorModel", name := "best", desc := "()I" } : Jvm.MethodName)) ∈ lw_all := lw_g (lw_at lw_m6 215 rfl) rfl
theorem q1510 : (Jvm.Cond.selects "PromiseTailorModel" ({ cls := "PromiseTailorModel", name := "best", desc := "()I" } : Jvm.MethodName) ({ cls := "PromiseTailorModel", name := "best", desc := "()I" } : Jvm.MethodName)) ∈ lw_all := lw_g (lw_at lw_m6 216 rfl) rfl
theorem q1511 : (Jvm.Cond.code ({ cls := "PromiseTailorModel", name := "best", desc := "()I" } : Jvm.MethodName) prog_13_method_58_code (1 : Nat) (Option.some Jvm.ClassFile.FieldType.int)) ∈ lw_all := lw_g (lw_at lw_m6 217 rfl) rfl
theorem q1512 : (Jvm.Cond.methodLink "PromiseTailorModel" (266 : Nat) ({ cls := "PromiseTailorModel", name := "bestNow", desc := "()I" } : Jvm.MethodName)) ∈ lw_all := lw_g (lw_at lw_m6 218 rfl) rfl
theorem q1513 : (Jvm.Cond.privateMethod ({ cls := "PromiseTailorModel", name := "bestNow", desc := "()I" } : Jvm.MethodName)) ∈ lw_tbl := lw_at lw_m6 219 rfl
theorem q1514 : (Jvm.Cond.instanceMethod ({ cls := "PromiseTailorModel", name := "bestNow", desc := "()I" } : Jvm.MethodName)) ∈ lw_all := lw_g (lw_at lw_m6 220 rfl) rfl
theorem q1515 : (Jvm.Cond.code ({ cls := "PromiseTailorModel", name := "bestNow", desc := "()I" } : Jvm.MethodName) prog_13_method_57_code (3 : Nat) (Option.some Jvm.ClassFile.FieldType.int)) ∈ lw_all := lw_g (lw_at lw_m6 221 rfl) rfl
theorem q1516 : (Jvm.Cond.methodLink "PromiseTailorModel" (263 : Nat) ({ cls := "PromiseTailorModel", name := "fitMany", desc := "(I)I" } : Jvm.MethodName)) ∈ lw_all := lw_g (lw_at lw_m6 222 rfl) rfl
theorem q1517 : (Jvm.Cond.privateMethod ({ cls := "PromiseTailorModel", name := "fitMany", desc := "(I)I" } : Jvm.MethodName)) ∈ lw_tbl := lw_at lw_m6 223 rfl
theorem q1518 : (Jvm.Cond.instanceMethod ({ cls := "PromiseTailorModel", name := "fitMany", desc := "(I)I" } : Jvm.MethodName)) ∈ lw_all := lw_g (lw_at lw_m6 224 rfl) rfl
theorem q1519 : (Jvm.Cond.code ({ cls := "PromiseTailorModel", name := "fitMany", desc := "(I)I" } : Jvm.MethodName) prog_13_method_42_code (4 : Nat) (Option.some Jvm.ClassFile.FieldType.int)) ∈ lw_all := lw_g (lw_at lw_m6 225 rfl) rfl
theorem q1520 : (Jvm.Cond.methodLink "PromiseTailorLaw" (92 : Nat) ({ cls := "PromiseTailorModel", name := "swear", desc := "(II)I" } : Jvm.MethodName)) ∈ lw_all := lw_g (lw_at lw_m6 226 rfl) rfl
theorem q1521 : (Jvm.Cond.instanceMethod ({ cls := "PromiseTailorModel", name := "swear", desc := "(II)I" } : Jvm.MethodName)) ∈ lw_all := lw_g (lw_at lw_m6 227 rfl) rfl
theorem q1522 : (Jvm.Cond.selects "PromiseTailorModel" ({ cls := "PromiseTailorModel", name := "swear", desc := "(II)I" } : Jvm.MethodName) ({ cls := "PromiseTailorModel", name := "swear", desc := "(II)I" } : Jvm.MethodName)) ∈ lw_all := lw_g (lw_at lw_m6 228 rfl) rfl
theorem q1523 : (Jvm.Cond.code ({ cls := "PromiseTailorModel", name := "swear", desc := "(II)I" } : Jvm.MethodName) prog_13_method_60_code (3 : Nat) (Option.some Jvm.ClassFile.FieldType.int)) ∈ lw_all := lw_g (lw_at lw_m6 229 rfl) rfl
theorem q1524 : (Jvm.Cond.methodLink "PromiseTailorModel" (269 : Nat) ({ cls := "PromiseTailorModel", name := "swearOf", desc := "(II)I" } : Jvm.MethodName)) ∈ lw_all := lw_g (lw_at lw_m6 230 rfl) rfl
theorem q1525 : (Jvm.Cond.privateMethod ({ cls := "PromiseTailorModel", name := "swearOf", desc := "(II)I" } : Jvm.MethodName)) ∈ lw_tbl := lw_at lw_m6 231 rfl
theorem q1526 : (Jvm.Cond.instanceMethod ({ cls := "PromiseTailorModel", name := "swearOf", desc := "(II)I" } : Jvm.MethodName)) ∈ lw_all := lw_g (lw_at lw_m6 232 rfl) rfl
theorem q1527 : (Jvm.Cond.code ({ cls := "PromiseTailorModel", name := "swearOf", desc := "(II)I" } : Jvm.MethodName) prog_13_method_59_code (6 : Nat) (Option.some Jvm.ClassFile.FieldType.int)) ∈ lw_all := lw_g (lw_at lw_m6 233 rfl) rfl
theorem q1528 : (Jvm.Cond.methodLink "PromiseTailorLaw" (96 : Nat) ({ cls := "PromiseTailorModel", name := "keep", desc := "(II)I" } : Jvm.MethodName)) ∈ lw_all := lw_g (lw_at lw_m6 234 rfl) rfl
theorem q1529 : (Jvm.Cond.instanceMethod ({ cls := "PromiseTailorModel", name := "keep", desc := "(II)I" } : Jvm.MethodName)) ∈ lw_all := lw_g (lw_at lw_m6 235 rfl) rfl
theorem q1530 : (Jvm.Cond.selects "PromiseTailorModel" ({ cls := "PromiseTailorModel", name := "keep", desc := "(II)I" } : Jvm.MethodName) ({ cls := "PromiseTailorModel", name := "keep", desc := "(II)I" } : Jvm.MethodName)) ∈ lw_all := lw_g (lw_at lw_m6 236 rfl) rfl
theorem q1531 : (Jvm.Cond.code ({ cls := "PromiseTailorModel", name := "keep", desc := "(II)I" } : Jvm.MethodName) prog_13_method_62_code (3 : Nat) (Option.some Jvm.ClassFile.FieldType.int)) ∈ lw_all := lw_g (lw_at lw_m6 237 rfl) rfl
theorem q1532 : (Jvm.Cond.methodLink "PromiseTailorModel" (272 : Nat) ({ cls := "PromiseTailorModel", name := "keepBest", desc := "(II)I" } : Jvm.MethodName)) ∈ lw_all := lw_g (lw_at lw_m6 238 rfl) rfl
theorem q1533 : (Jvm.Cond.privateMethod ({ cls := "PromiseTailorModel", name := "keepBest", desc := "(II)I" } : Jvm.MethodName)) ∈ lw_tbl := lw_at lw_m6 239 rfl
theorem q1534 : (Jvm.Cond.instanceMethod ({ cls := "PromiseTailorModel", name := "keepBest", desc := "(II)I" } : Jvm.MethodName)) ∈ lw_all := lw_g (lw_at lw_m7 0 rfl) rfl
theorem q1535 : (Jvm.Cond.code ({ cls := "PromiseTailorModel", name := "keepBest", desc := "(II)I" } : Jvm.MethodName) prog_13_method_61_code (7 : Nat) (Option.some Jvm.ClassFile.FieldType.int)) ∈ lw_all := lw_g (lw_at lw_m7 1 rfl) rfl
theorem q1536 : (Jvm.Cond.methodLink "PromiseTailorLaw" (100 : Nat) ({ cls := "PromiseTailorModel", name := "due", desc := "(II)I" } : Jvm.MethodName)) ∈ lw_all := lw_g (lw_at lw_m7 2 rfl) rfl
theorem q1537 : (Jvm.Cond.instanceMethod ({ cls := "PromiseTailorModel", name := "due", desc := "(II)I" } : Jvm.MethodName)) ∈ lw_all := lw_g (lw_at lw_m7 3 rfl) rfl
theorem q1538 : (Jvm.Cond.selects "PromiseTailorModel" ({ cls := "PromiseTailorModel", name := "due", desc := "(II)I" } : Jvm.MethodName) ({ cls := "PromiseTailorModel", name := "due", desc := "(II)I" } : Jvm.MethodName)) ∈ lw_all := lw_g (lw_at lw_m7 4 rfl) rfl
theorem q1539 : (Jvm.Cond.code ({ cls := "PromiseTailorModel", name := "due", desc := "(II)I" } : Jvm.MethodName) prog_13_method_64_code (3 : Nat) (Option.some Jvm.ClassFile.FieldType.int)) ∈ lw_all := lw_g (lw_at lw_m7 5 rfl) rfl
theorem q1540 : (Jvm.Cond.methodLink "PromiseTailorModel" (275 : Nat) ({ cls := "PromiseTailorModel", name := "dueOf", desc := "(II)I" } : Jvm.MethodName)) ∈ lw_all := lw_g (lw_at lw_m7 6 rfl) rfl
theorem q1541 : (Jvm.Cond.privateMethod ({ cls := "PromiseTailorModel", name := "dueOf", desc := "(II)I" } : Jvm.MethodName)) ∈ lw_tbl := lw_at lw_m7 7 rfl
theorem q1542 : (Jvm.Cond.instanceMethod ({ cls := "PromiseTailorModel", name := "dueOf", desc := "(II)I" } : Jvm.MethodName)) ∈ lw_all := lw_g (lw_at lw_m7 8 rfl) rfl
theorem q1543 : (Jvm.Cond.code ({ cls := "PromiseTailorModel", name := "dueOf", desc := "(II)I" } : Jvm.MethodName) prog_13_method_63_code (8 : Nat) (Option.some Jvm.ClassFile.FieldType.int)) ∈ lw_all := lw_g (lw_at lw_m7 9 rfl) rfl
theorem q1544 : (Jvm.Cond.methodLink "PromiseTailorLaw" (104 : Nat) ({ cls := "PromiseTailorModel", name := "hush", desc := "(I)I" } : Jvm.MethodName)) ∈ lw_all := lw_g (lw_at lw_m7 10 rfl) rfl
theorem q1545 : (Jvm.Cond.instanceMethod ({ cls := "PromiseTailorModel", name := "hush", desc := "(I)I" } : Jvm.MethodName)) ∈ lw_all := lw_g (lw_at lw_m7 11 rfl) rfl
theorem q1546 : (Jvm.Cond.selects "PromiseTailorModel" ({ cls := "PromiseTailorModel", name := "hush", desc := "(I)I" } : Jvm.MethodName) ({ cls := "PromiseTailorModel", name := "hush", desc := "(I)I" } : Jvm.MethodName)) ∈ lw_all := lw_g (lw_at lw_m7 12 rfl) rfl
theorem q1547 : (Jvm.Cond.code ({ cls := "PromiseTailorModel", name := "hush", desc := "(I)I" } : Jvm.MethodName) prog_13_method_68_code (2 : Nat) (Option.some Jvm.ClassFile.FieldType.int)) ∈ lw_all := lw_g (lw_at lw_m7 13 rfl) rfl
theorem q1548 : (Jvm.Cond.methodLink "PromiseTailorModel" (281 : Nat) ({ cls := "PromiseTailorModel", name := "hushBy", desc := "()I" } : Jvm.MethodName)) ∈ lw_all := lw_g (lw_at lw_m7 14 rfl) rfl
theorem q1549 : (Jvm.Cond.privateMethod ({ cls := "PromiseTailorModel", name := "hushBy", desc := "()I" } : Jvm.MethodName)) ∈ lw_tbl := lw_at lw_m7 15 rfl
theorem q1550 : (Jvm.Cond.instanceMethod ({ cls := "PromiseTailorModel", name := "hushBy", desc := "()I" } : Jvm.MethodName)) ∈ lw_all := lw_g (lw_at lw_m7 16 rfl) rfl
theorem q1551 : (Jvm.Cond.code ({ cls := "PromiseTailorModel", name := "hushBy", desc := "()I" } : Jvm.MethodName) prog_13_method_66_code (3 : Nat) (Option.some Jvm.ClassFile.FieldType.int)) ∈ lw_all := lw_g (lw_at lw_m7 17 rfl) rfl
theorem q1552 : (Jvm.Cond.methodLink "PromiseTailorModel" (278 : Nat) ({ cls := "PromiseTailorModel", name := "isHushed", desc := "(I)Z" } : Jvm.MethodName)) ∈ lw_all := lw_g (lw_at lw_m7 18 rfl) rfl
theorem q1553 : (Jvm.Cond.privateMethod ({ cls := "PromiseTailorModel", name := "isHushed", desc := "(I)Z" } : Jvm.MethodName)) ∈ lw_tbl := lw_at lw_m7 19 rfl
theorem q1554 : (Jvm.Cond.instanceMethod ({ cls := "PromiseTailorModel", name := "isHushed", desc := "(I)Z" } : Jvm.MethodName)) ∈ lw_all := lw_g (lw_at lw_m7 20 rfl) rfl
theorem q1555 : (Jvm.Cond.code ({ cls := "PromiseTailorModel", name := "isHushed", desc := "(I)Z" } : Jvm.MethodName) prog_13_method_65_code (2 : Nat) (Option.some Jvm.ClassFile.FieldType.boolean)) ∈ lw_all := lw_g (lw_at lw_m7 21 rfl) rfl
theorem q1556 : (Jvm.Cond.methodLink "PromiseTailorModel" (284 : Nat) ({ cls := "PromiseTailorModel", name := "ofRow", desc := "(II)I" } : Jvm.MethodName)) ∈ lw_all := lw_g (lw_at lw_m7 22 rfl) rfl
theorem q1557 : (Jvm.Cond.privateMethod ({ cls := "PromiseTailorModel", name := "ofRow", desc := "(II)I" } : Jvm.MethodName)) ∈ lw_tbl := lw_at lw_m7 23 rfl
theorem q1558 : (Jvm.Cond.instanceMethod ({ cls := "PromiseTailorModel", name := "ofRow", desc := "(II)I" } : Jvm.MethodName)) ∈ lw_all := lw_g (lw_at lw_m7 24 rfl) rfl
theorem q1559 : (Jvm.Cond.code ({ cls := "PromiseTailorModel", name := "ofRow", desc := "(II)I" } : Jvm.MethodName) prog_13_method_67_code (3 : Nat) (Option.some Jvm.ClassFile.FieldType.int)) ∈ lw_all := lw_g (lw_at lw_m7 25 rfl) rfl
theorem q1560 : (Jvm.Cond.methodLink "PromiseTailorLaw" (108 : Nat) ({ cls := "PromiseTailorModel", name := "seen", desc := "(III)I" } : Jvm.MethodName)) ∈ lw_all := lw_g (lw_at lw_m7 26 rfl) rfl
theorem q1561 : (Jvm.Cond.instanceMethod ({ cls := "PromiseTailorModel", name := "seen", desc := "(III)I" } : Jvm.MethodName)) ∈ lw_all := lw_g (lw_at lw_m7 27 rfl) rfl
theorem q1562 : (Jvm.Cond.selects "PromiseTailorModel" ({ cls := "PromiseTailorModel", name := "seen", desc := "(III)I" } : Jvm.MethodName) ({ cls := "PromiseTailorModel", name := "seen", desc := "(III)I" } : Jvm.MethodName)) ∈ lw_all := lw_g (lw_at lw_m7 28 rfl) rfl
theorem q1563 : (Jvm.Cond.code ({ cls := "PromiseTailorModel", name := "seen", desc := "(III)I" } : Jvm.MethodName) prog_13_method_69_code (4 : Nat) (Option.some Jvm.ClassFile.FieldType.int)) ∈ lw_all := lw_g (lw_at lw_m7 29 rfl) rfl
theorem q1564 : (Jvm.Cond.methodLink "PromiseTailorLaw" (112 : Nat) ({ cls := "PromiseTailorModel", name := "forget", desc := "()I" } : Jvm.MethodName)) ∈ lw_all := lw_g (lw_at lw_m7 30 rfl) rfl
theorem q1565 : (Jvm.Cond.instanceMethod ({ cls := "PromiseTailorModel", name := "forget", desc := "()I" } : Jvm.MethodName)) ∈ lw_all := lw_g (lw_at lw_m7 31 rfl) rfl
theorem q1566 : (Jvm.Cond.selects "PromiseTailorModel" ({ cls := "PromiseTailorModel", name := "forget", desc := "()I" } : Jvm.MethodName) ({ cls := "PromiseTailorModel", name := "forget", desc := "()I" } : Jvm.MethodName)) ∈ lw_all := lw_g (lw_at lw_m7 32 rfl) rfl
theorem q1567 : (Jvm.Cond.code ({ cls := "PromiseTailorModel", name := "forget", desc := "()I" } : Jvm.MethodName) prog_13_method_70_code (2 : Nat) (Option.some Jvm.ClassFile.FieldType.int)) ∈ lw_all := lw_g (lw_at lw_m7 33 rfl) rfl
theorem q1568 : (Jvm.Cond.methodLink "PromiseTailorLaw" (116 : Nat) ({ cls := "PromiseTailorModel", name := "never", desc := "()I" } : Jvm.MethodName)) ∈ lw_all := lw_g (lw_at lw_m7 34 rfl) rfl
theorem q1569 : (Jvm.Cond.instanceMethod ({ cls := "PromiseTailorModel", name := "never", desc := "()I" } : Jvm.MethodName)) ∈ lw_all := lw_g (lw_at lw_m7 35 rfl) rfl
theorem q1570 : (Jvm.Cond.selects "PromiseTailorModel" ({ cls := "PromiseTailorModel", name := "never", desc := "()I" } : Jvm.MethodName) ({ cls := "PromiseTailorModel", name := "never", desc := "()I" } : Jvm.MethodName)) ∈ lw_all := lw_g (lw_at lw_m7 36 rfl) rfl
theorem q1571 : (Jvm.Cond.code ({ cls := "PromiseTailorModel", name := "never", desc := "()I" } : Jvm.MethodName) prog_13_method_73_code (1 : Nat) (Option.some Jvm.ClassFile.FieldType.int)) ∈ lw_all := lw_g (lw_at lw_m7 37 rfl) rfl
theorem q1572 : (Jvm.Cond.methodLink "PromiseTailorModel" (294 : Nat) ({ cls := "PromiseTailorModel", name := "neverNow", desc := "()I" } : Jvm.MethodName)) ∈ lw_all := lw_g (lw_at lw_m7 38 rfl) rfl
theorem q1573 : (Jvm.Cond.privateMethod ({ cls := "PromiseTailorModel", name := "neverNow", desc := "()I" } : Jvm.MethodName)) ∈ lw_tbl := lw_at lw_m7 39 rfl
theorem q1574 : (Jvm.Cond.instanceMethod ({ cls := "PromiseTailorModel", name := "neverNow", desc := "()I" } : Jvm.MethodName)) ∈ lw_all := lw_g (lw_at lw_m7 40 rfl) rfl
theorem q1575 : (Jvm.Cond.code ({ cls := "PromiseTailorModel", name := "neverNow", desc := "()I" } : Jvm.MethodName) prog_13_method_72_code (3 : Nat) (Option.some Jvm.ClassFile.FieldType.int)) ∈ lw_all := lw_g (lw_at lw_m7 41 rfl) rfl
theorem q1576 : (Jvm.Cond.methodLink "PromiseTailorModel" (290 : Nat) ({ cls := "PromiseTailorModel", name := "isSeen", desc := "()Z" } : Jvm.MethodName)) ∈ lw_all := lw_g (lw_at lw_m7 42 rfl) rfl
theorem q1577 : (Jvm.Cond.privateMethod ({ cls := "PromiseTailorModel", name := "isSeen", desc := "()Z" } : Jvm.MethodName)) ∈ lw_tbl := lw_at lw_m7 43 rfl
theorem q1578 : (Jvm.Cond.instanceMethod ({ cls := "PromiseTailorModel", name := "isSeen", desc := "()Z" } : Jvm.MethodName)) ∈ lw_all := lw_g (lw_at lw_m7 44 rfl) rfl
theorem q1579 : (Jvm.Cond.code ({ cls := "PromiseTailorModel", name := "isSeen", desc := "()Z" } : Jvm.MethodName) prog_13_method_71_code (3 : Nat) (Option.some Jvm.ClassFile.FieldType.boolean)) ∈ lw_all := lw_g (lw_at lw_m7 45 rfl) rfl
theorem q1580 : (Jvm.Cond.methodLink "PromiseTailorLaw" (120 : Nat) ({ cls := "PromiseTailorModel", name := "was", desc := "(II)I" } : Jvm.MethodName)) ∈ lw_all := lw_g (lw_at lw_m7 46 rfl) rfl
theorem q1581 : (Jvm.Cond.instanceMethod ({ cls := "PromiseTailorModel", name := "was", desc := "(II)I" } : Jvm.MethodName)) ∈ lw_all := lw_g (lw_at lw_m7 47 rfl) rfl
theorem q1582 : (Jvm.Cond.selects "PromiseTailorModel" ({ cls := "PromiseTailorModel", name := "was", desc := "(II)I" } : Jvm.MethodName) ({ cls := "PromiseTailorModel", name := "was", desc := "(II)I" } : Jvm.MethodName)) ∈ lw_all := lw_g (lw_at lw_m7 48 rfl) rfl
theorem q1583 : (Jvm.Cond.code ({ cls := "PromiseTailorModel", name := "was", desc := "(II)I" } : Jvm.MethodName) prog_13_method_76_code (3 : Nat) (Option.some Jvm.ClassFile.FieldType.int)) ∈ lw_all := lw_g (lw_at lw_m7 49 rfl) rfl
theorem q1584 : (Jvm.Cond.methodLink "PromiseTailorModel" (297 : Nat) ({ cls := "PromiseTailorModel", name := "sizesBy", desc := "(I)I" } : Jvm.MethodName)) ∈ lw_all := lw_g (lw_at lw_m7 50 rfl) rfl
theorem q1585 : (Jvm.Cond.privateMethod ({ cls := "PromiseTailorModel", name := "sizesBy", desc := "(I)I" } : Jvm.MethodName)) ∈ lw_tbl := lw_at lw_m7 51 rfl
theorem q1586 : (Jvm.Cond.instanceMethod ({ cls := "PromiseTailorModel", name := "sizesBy", desc := "(I)I" } : Jvm.MethodName)) ∈ lw_all := lw_g (lw_at lw_m7 52 rfl) rfl
theorem q1587 : (Jvm.Cond.code ({ cls := "PromiseTailorModel", name := "sizesBy", desc := "(I)I" } : Jvm.MethodName) prog_13_method_74_code (6 : Nat) (Option.some Jvm.ClassFile.FieldType.int)) ∈ lw_all := lw_g (lw_at lw_m7 53 rfl) rfl
theorem q1588 : (Jvm.Cond.methodLink "PromiseTailorModel" (300 : Nat) ({ cls := "PromiseTailorModel", name := "sortsBy", desc := "(I)I" } : Jvm.MethodName)) ∈ lw_all := lw_g (lw_at lw_m7 54 rfl) rfl
theorem q1589 : (Jvm.Cond.privateMethod ({ cls := "PromiseTailorModel", name := "sortsBy", desc := "(I)I" } : Jvm.MethodName)) ∈ lw_tbl := lw_at lw_m7 55 rfl
theorem q1590 : (Jvm.Cond.instanceMethod ({ cls := "PromiseTailorModel", name := "sortsBy", desc := "(I)I" } : Jvm.MethodName)) ∈ lw_all := lw_g (lw_at lw_m7 56 rfl) rfl
theorem q1591 : (Jvm.Cond.code ({ cls := "PromiseTailorModel", name := "sortsBy", desc := "(I)I" } : Jvm.MethodName) prog_13_method_75_code (5 : Nat) (Option.some Jvm.ClassFile.FieldType.int)) ∈ lw_all := lw_g (lw_at lw_m7 57 rfl) rfl
theorem q1592 : (Jvm.Cond.methodLink "PromiseTailorLaw" (124 : Nat) ({ cls := "PromiseTailorModel", name := "ask", desc := "(I)I" } : Jvm.MethodName)) ∈ lw_all := lw_g (lw_at lw_m7 58 rfl) rfl
theorem q1593 : (Jvm.Cond.instanceMethod ({ cls := "PromiseTailorModel", name := "ask", desc := "(I)I" } : Jvm.MethodName)) ∈ lw_all := lw_g (lw_at lw_m7 59 rfl) rfl
theorem q1594 : (Jvm.Cond.selects "PromiseTailorModel" ({ cls := "PromiseTailorModel", name := "ask", desc := "(I)I" } : Jvm.MethodName) ({ cls := "PromiseTailorModel", name := "ask", desc := "(I)I" } : Jvm.MethodName)) ∈ lw_all := lw_g (lw_at lw_m7 60 rfl) rfl
theorem q1595 : (Jvm.Cond.code ({ cls := "PromiseTailorModel", name := "ask", desc := "(I)I" } : Jvm.MethodName) prog_13_method_78_code (2 : Nat) (Option.some Jvm.ClassFile.FieldType.int)) ∈ lw_all := lw_g (lw_at lw_m7 61 rfl) rfl
theorem q1596 : (Jvm.Cond.methodLink "PromiseTailorModel" (303 : Nat) ({ cls := "PromiseTailorModel", name := "askOf", desc := "(I)I" } : Jvm.MethodName)) ∈ lw_all := lw_g (lw_at lw_m7 62 rfl) rfl
theorem q1597 : (Jvm.Cond.privateMethod ({ cls := "PromiseTailorModel", name := "askOf", desc := "(I)I" } : Jvm.MethodName)) ∈ lw_tbl := lw_at lw_m7 63 rfl
theorem q1598 : (Jvm.Cond.instanceMethod ({ cls := "PromiseTailorModel", name := "askOf", desc := "(I)I" } : Jvm.MethodName)) ∈ lw_all := lw_g (lw_at lw_m7 64 rfl) rfl
theorem q1599 : (Jvm.Cond.code ({ cls := "PromiseTailorModel", name := "askOf", desc := "(I)I" } : Jvm.MethodName) prog_13_method_77_code (10 : Nat) (Option.some Jvm.ClassFile.FieldType.int)) ∈ lw_all := lw_g (lw_at lw_m7 65 rfl) rfl
theorem q1600 : (Jvm.Cond.methodLink "PromiseTailorLaw" (129 : Nat) ({ cls := "PromiseTailorModel", name := "word", desc := "(IIII)J" } : Jvm.MethodName)) ∈ lw_all := lw_g (lw_at lw_m7 66 rfl) rfl
theorem q1601 : (Jvm.Cond.instanceMethod ({ cls := "PromiseTailorModel", name := "word", desc := "(IIII)J" } : Jvm.MethodName)) ∈ lw_all := lw_g (lw_at lw_m7 67 rfl) rfl
theorem q1602 : (Jvm.Cond.selects "PromiseTailorModel" ({ cls := "PromiseTailorModel", name := "word", desc := "(IIII)J" } : Jvm.MethodName) ({ cls := "PromiseTailorModel", name := "word", desc := "(IIII)J" } : Jvm.MethodName)) ∈ lw_all := lw_g (lw_at lw_m7 68 rfl) rfl
theorem q1603 : (Jvm.Cond.code ({ cls := "PromiseTailorModel", name := "word", desc := "(IIII)J" } : Jvm.MethodName) prog_13_method_80_code (5 : Nat) (Option.some Jvm.ClassFile.FieldType.long)) ∈ lw_all := lw_g (lw_at lw_m7 69 rfl) rfl
theorem q1604 : (Jvm.Cond.methodLink "PromiseTailorModel" (310 : Nat) ({ cls := "PromiseTailorModel", name := "wordOf", desc := "(IIII)J" } : Jvm.MethodName)) ∈ lw_all := lw_g (lw_at lw_m7 70 rfl) rfl
theorem q1605 : (Jvm.Cond.privateMethod ({ cls := "PromiseTailorModel", name := "wordOf", desc := "(IIII)J" } : Jvm.MethodName)) ∈ lw_tbl := lw_at lw_m7 71 rfl
theorem q1606 : (Jvm.Cond.instanceMethod ({ cls := "PromiseTailorModel", name := "wordOf", desc := "(IIII)J" } : Jvm.MethodName)) ∈ lw_all := lw_g (lw_at lw_m7 72 rfl) rfl
theorem q1607 : (Jvm.Cond.code ({ cls := "PromiseTailorModel", name := "wordOf", desc := "(IIII)J" } : Jvm.MethodName) prog_13_method_79_code (11 : Nat) (Option.some Jvm.ClassFile.FieldType.long)) ∈ lw_all := lw_g (lw_at lw_m7 73 rfl) rfl
theorem q1608 : (Jvm.Cond.methodLink "PromiseTailorModel" (306 : Nat) ({ cls := "PromiseTailorModel", name := "lowest", desc := "(JJI)J" } : Jvm.MethodName)) ∈ lw_all := lw_g (lw_at lw_m7 74 rfl) rfl
theorem q1609 : (Jvm.Cond.static ({ cls := "PromiseTailorModel", name := "lowest", desc := "(JJI)J" } : Jvm.MethodName)) ∈ lw_all := lw_g (lw_at lw_m7 75 rfl) rfl
theorem q1610 : (Jvm.Cond.code ({ cls := "PromiseTailorModel", name := "lowest", desc := "(JJI)J" } : Jvm.MethodName) prog_13_method_6_code (11 : Nat) (Option.some Jvm.ClassFile.FieldType.long)) ∈ lw_all := lw_g (lw_at lw_m7 76 rfl) rfl
theorem q1611 : (Jvm.Cond.methodLink "PromiseTailorModel" (314 : Nat) ({ cls := "PromiseTailorModel", name := "no", desc := "(I)J" } : Jvm.MethodName)) ∈ lw_all := lw_g (lw_at lw_m7 77 rfl) rfl
theorem q1612 : (Jvm.Cond.static ({ cls := "PromiseTailorModel", name := "no", desc := "(I)J" } : Jvm.MethodName)) ∈ lw_all := lw_g (lw_at lw_m7 78 rfl) rfl
theorem q1613 : (Jvm.Cond.code ({ cls := "PromiseTailorModel", name := "no", desc := "(I)J" } : Jvm.MethodName) prog_13_method_5_code (1 : Nat) (Option.some Jvm.ClassFile.FieldType.long)) ∈ lw_all := lw_g (lw_at lw_m7 79 rfl) rfl
theorem q1614 : (Jvm.Cond.constantLong "PromiseTailorModel" (113 : Nat) (-9223372036854775808 : Int64)) ∈ lw_all := lw_g (lw_at lw_m7 80 rfl) rfl
theorem q1615 : (Jvm.Cond.methodLink "PromiseTailorLaw" (133 : Nat) ({ cls := "PromiseTailorModel", name := "year", desc := "(III)I" } : Jvm.MethodName)) ∈ lw_all := lw_g (lw_at lw_m7 81 rfl) rfl
theorem q1616 : (Jvm.Cond.instanceMethod ({ cls := "PromiseTailorModel", name := "year", desc := "(III)I" } : Jvm.MethodName)) ∈ lw_all := lw_g (lw_at lw_m7 82 rfl) rfl
theorem q1617 : (Jvm.Cond.selects "PromiseTailorModel" ({ cls := "PromiseTailorModel", name := "year", desc := "(III)I" } : Jvm.MethodName) ({ cls := "PromiseTailorModel", name := "year", desc := "(III)I" } : Jvm.MethodName)) ∈ lw_all := lw_g (lw_at lw_m7 83 rfl) rfl
theorem q1618 : (Jvm.Cond.code ({ cls := "PromiseTailorModel", name := "year", desc := "(III)I" } : Jvm.MethodName) prog_13_method_82_code (4 : Nat) (Option.some Jvm.ClassFile.FieldType.int)) ∈ lw_all := lw_g (lw_at lw_m7 84 rfl) rfl
theorem q1619 : (Jvm.Cond.methodLink "PromiseTailorModel" (319 : Nat) ({ cls := "PromiseTailorModel", name := "yearOf", desc := "(III)I" } : Jvm.MethodName)) ∈ lw_all := lw_g (lw_at lw_m7 85 rfl) rfl
theorem q1620 : (Jvm.Cond.privateMethod ({ cls := "PromiseTailorModel", name := "yearOf", desc := "(III)I" } : Jvm.MethodName)) ∈ lw_tbl := lw_at lw_m7 86 rfl
theorem q1621 : (Jvm.Cond.instanceMethod ({ cls := "PromiseTailorModel", name := "yearOf", desc := "(III)I" } : Jvm.MethodName)) ∈ lw_all := lw_g (lw_at lw_m7 87 rfl) rfl
theorem q1622 : (Jvm.Cond.code ({ cls := "PromiseTailorModel", name := "yearOf", desc := "(III)I" } : Jvm.MethodName) prog_13_method_81_code (7 : Nat) (Option.some Jvm.ClassFile.FieldType.int)) ∈ lw_all := lw_g (lw_at lw_m7 88 rfl) rfl
theorem q1623 : (Jvm.Cond.constant "PromiseTailorModel" (318 : Nat) (1103515245 : Int32)) ∈ lw_all := lw_g (lw_at lw_m7 89 rfl) rfl
theorem q1624 : (Jvm.Cond.methodLink "PromiseTailorLaw" (137 : Nat) ({ cls := "PromiseTailorModel", name := "sheet", desc := "(III)I" } : Jvm.MethodName)) ∈ lw_all := lw_g (lw_at lw_m7 90 rfl) rfl
theorem q1625 : (Jvm.Cond.instanceMethod ({ cls := "PromiseTailorModel", name := "sheet", desc := "(III)I" } : Jvm.MethodName)) ∈ lw_all := lw_g (lw_at lw_m7 91 rfl) rfl
theorem q1626 : (Jvm.Cond.selects "PromiseTailorModel" ({ cls := "PromiseTailorModel", name := "sheet", desc := "(III)I" } : Jvm.MethodName) ({ cls := "PromiseTailorModel", name := "sheet", desc := "(III)I" } : Jvm.MethodName)) ∈ lw_all := lw_g (lw_at lw_m7 92 rfl) rfl
theorem q1627 : (Jvm.Cond.code ({ cls := "PromiseTailorModel", name := "sheet", desc := "(III)I" } : Jvm.MethodName) prog_13_method_85_code (5 : Nat) (Option.some Jvm.ClassFile.FieldType.int)) ∈ lw_all := lw_g (lw_at lw_m7 93 rfl) rfl
theorem q1628 : (Jvm.Cond.methodLink "PromiseTailorLaw" (141 : Nat) ({ cls := "PromiseTailorModel", name := "lose", desc := "(I)I" } : Jvm.MethodName)) ∈ lw_all := lw_g (lw_at lw_m7 94 rfl) rfl
theorem q1629 : (Jvm.Cond.instanceMethod ({ cls := "PromiseTailorModel", name := "lose", desc := "(I)I" } : Jvm.MethodName)) ∈ lw_all := lw_g (lw_at lw_m7 95 rfl) rfl
theorem q1630 : (Jvm.Cond.selects "PromiseTailorModel" ({ cls := "PromiseTailorModel", name := "lose", desc := "(I)I" } : Jvm.MethodName) ({ cls := "PromiseTailorModel", name := "lose", desc := "(I)I" } : Jvm.MethodName)) ∈ lw_all := lw_g (lw_at lw_m7 96 rfl) rfl
theorem q1631 : (Jvm.Cond.code ({ cls := "PromiseTailorModel", name := "lose", desc := "(I)I" } : Jvm.MethodName) prog_13_method_86_code (2 : Nat) (Option.some Jvm.ClassFile.FieldType.int)) ∈ lw_all := lw_g (lw_at lw_m7 97 rfl) rfl
theorem q1632 : (Jvm.Cond.methodLink "PromiseTailorLaw" (146 : Nat) ({ cls := "PromiseTailorModel", name := "put", desc := "(IIII)I" } : Jvm.MethodName)) ∈ lw_all := lw_g (lw_at lw_m7 98 rfl) rfl
theorem q1633 : (Jvm.Cond.instanceMethod ({ cls := "PromiseTailorModel", name := "put", desc := "(IIII)I" } : Jvm.MethodName)) ∈ lw_all := lw_g (lw_at lw_m7 99 rfl) rfl
theorem q1634 : (Jvm.Cond.selects "PromiseTailorModel" ({ cls := "PromiseTailorModel", name := "put", desc := "(IIII)I" } : Jvm.MethodName) ({ cls := "PromiseTailorModel", name := "put", desc := "(IIII)I" } : Jvm.MethodName)) ∈ lw_all := lw_g (lw_at lw_m7 100 rfl) rfl
theorem q1635 : (Jvm.Cond.code ({ cls := "PromiseTailorModel", name := "put", desc := "(IIII)I" } : Jvm.MethodName) prog_13_method_89_code (6 : Nat) (Option.some Jvm.ClassFile.FieldType.int)) ∈ lw_all := lw_g (lw_at lw_m7 101 rfl) rfl
theorem q1636 : (Jvm.Cond.methodLink "PromiseTailorModel" (325 : Nat) ({ cls := "PromiseTailorModel", name := "lacks", desc := "(III)I" } : Jvm.MethodName)) ∈ lw_all := lw_g (lw_at lw_m7 102 rfl) rfl
theorem q1637 : (Jvm.Cond.privateMethod ({ cls := "PromiseTailorModel", name := "lacks", desc := "(III)I" } : Jvm.MethodName)) ∈ lw_tbl := lw_at lw_m7 103 rfl
theorem q1638 : (Jvm.Cond.instanceMethod ({ cls := "PromiseTailorModel", name := "lacks", desc := "(III)I" } : Jvm.MethodName)) ∈ lw_all := lw_g (lw_at lw_m7 104 rfl) rfl
theorem q1639 : (Jvm.Cond.code ({ cls := "PromiseTailorModel", name := "lacks", desc := "(III)I" } : Jvm.MethodName) prog_13_method_87_code (4 : Nat) (Option.some Jvm.ClassFile.FieldType.int)) ∈ lw_all := lw_g (lw_at lw_m7 105 rfl) rfl
theorem q1640 : (Jvm.Cond.methodLink "PromiseTailorModel" (328 : Nat) ({ cls := "PromiseTailorModel", name := "lays", desc := "(III)V" } : Jvm.MethodName)) ∈ lw_all := lw_g (lw_at lw_m7 106 rfl) rfl
theorem q1641 : (Jvm.Cond.privateMethod ({ cls := "PromiseTailorModel", name := "lays", desc := "(III)V" } : Jvm.MethodName)) ∈ lw_tbl := lw_at lw_m7 107 rfl
theorem q1642 : (Jvm.Cond.instanceMethod ({ cls := "PromiseTailorModel", name := "lays", desc := "(III)V" } : Jvm.MethodName)) ∈ lw_all := lw_g (lw_at lw_m7 108 rfl) rfl
theorem q1643 : (Jvm.Cond.code ({ cls := "PromiseTailorModel", name := "lays", desc := "(III)V" } : Jvm.MethodName) prog_13_method_88_code (4 : Nat) (Option.none : Option Jvm.ClassFile.FieldType)) ∈ lw_all := lw_g (lw_at lw_m7 109 rfl) rfl
theorem q1644 : (Jvm.Cond.methodLink "PromiseTailorLaw" (150 : Nat) ({ cls := "PromiseTailorModel", name := "get", desc := "(III)I" } : Jvm.MethodName)) ∈ lw_all := lw_g (lw_at lw_m7 110 rfl) rfl
theorem q1645 : (Jvm.Cond.instanceMethod ({ cls := "PromiseTailorModel", name := "get", desc := "(III)I" } : Jvm.MethodName)) ∈ lw_all := lw_g (lw_at lw_m7 111 rfl) rfl
theorem q1646 : (Jvm.Cond.selects "PromiseTailorModel" ({ cls := "PromiseTailorModel", name := "get", desc := "(III)I" } : Jvm.MethodName) ({ cls := "PromiseTailorModel", name := "get", desc := "(III)I" } : Jvm.MethodName)) ∈ lw_all := lw_g (lw_at lw_m7 112 rfl) rfl
theorem q1647 : (Jvm.Cond.code ({ cls := "PromiseTailorModel", name := "get", desc := "(III)I" } : Jvm.MethodName) prog_13_method_90_code (5 : Nat) (Option.some Jvm.ClassFile.FieldType.int)) ∈ lw_all := lw_g (lw_at lw_m7 113 rfl) rfl
theorem q1648 : (Jvm.Cond.constant "PromiseTailorModel" (332 : Nat) (-2147483648 : Int32)) ∈ lw_all := lw_g (lw_at lw_m7 114 rfl) rfl
theorem q1649 : (Jvm.Cond.methodLink "PromiseTailorLaw" (155 : Nat) ({ cls := "PromiseTailorModel", name := "copy", desc := "(IIIII)I" } : Jvm.MethodName)) ∈ lw_all := lw_g (lw_at lw_m7 115 rfl) rfl
theorem q1650 : (Jvm.Cond.instanceMethod ({ cls := "PromiseTailorModel", name := "copy", desc := "(IIIII)I" } : Jvm.MethodName)) ∈ lw_all := lw_g (lw_at lw_m7 116 rfl) rfl
theorem q1651 : (Jvm.Cond.selects "PromiseTailorModel" ({ cls := "PromiseTailorModel", name := "copy", desc := "(IIIII)I" } : Jvm.MethodName) ({ cls := "PromiseTailorModel", name := "copy", desc := "(IIIII)I" } : Jvm.MethodName)) ∈ lw_all := lw_g (lw_at lw_m7 117 rfl) rfl
theorem q1652 : (Jvm.Cond.code ({ cls := "PromiseTailorModel", name := "copy", desc := "(IIIII)I" } : Jvm.MethodName) prog_13_method_91_code (7 : Nat) (Option.some Jvm.ClassFile.FieldType.int)) ∈ lw_all := lw_g (lw_at lw_m7 118 rfl) rfl
theorem q1653 : (Jvm.Cond.methodLink "PromiseTailorLaw" (159 : Nat) ({ cls := "PromiseTailorModel", name := "write", desc := "(II)I" } : Jvm.MethodName)) ∈ lw_all := lw_g (lw_at lw_m7 119 rfl) rfl
theorem q1654 : (Jvm.Cond.instanceMethod ({ cls := "PromiseTailorModel", name := "write", desc := "(II)I" } : Jvm.MethodName)) ∈ lw_all := lw_g (lw_at lw_m7 120 rfl) rfl
theorem q1655 : (Jvm.Cond.selects "PromiseTailorModel" ({ cls := "PromiseTailorModel", name := "write", desc := "(II)I" } : Jvm.MethodName) ({ cls := "PromiseTailorModel", name := "write", desc := "(II)I" } : Jvm.MethodName)) ∈ lw_all := lw_g (lw_at lw_m7 121 rfl) rfl
theorem q1656 : (Jvm.Cond.code ({ cls := "PromiseTailorModel", name := "write", desc := "(II)I" } : Jvm.MethodName) prog_13_method_92_code (4 : Nat) (Option.some Jvm.ClassFile.FieldType.int)) ∈ lw_all := lw_g (lw_at lw_m7 122 rfl) rfl
theorem q1657 : (Jvm.Cond.methodLink "PromiseTailorLaw" (163 : Nat) ({ cls := "PromiseTailorModel", name := "count", desc := "(I)I" } : Jvm.MethodName)) ∈ lw_all := lw_g (lw_at lw_m7 123 rfl) rfl
theorem q1658 : (Jvm.Cond.instanceMethod ({ cls := "PromiseTailorModel", name := "count", desc := "(I)I" } : Jvm.MethodName)) ∈ lw_all := lw_g (lw_at lw_m7 124 rfl) rfl
theorem q1659 : (Jvm.Cond.selects "PromiseTailorModel" ({ cls := "PromiseTailorModel", name := "count", desc := "(I)I" } : Jvm.MethodName) ({ cls := "PromiseTailorModel", name := "count", desc := "(I)I" } : Jvm.MethodName)) ∈ lw_all := lw_g (lw_at lw_m7 125 rfl) rfl
theorem q1660 : (Jvm.Cond.code ({ cls := "PromiseTailorModel", name := "count", desc := "(I)I" } : Jvm.MethodName) prog_13_method_94_code (2 : Nat) (Option.some Jvm.ClassFile.FieldType.int)) ∈ lw_all := lw_g (lw_at lw_m7 126 rfl) rfl
theorem q1661 : (Jvm.Cond.methodLink "PromiseTailorModel" (333 : Nat) ({ cls := "PromiseTailorModel", name := "sumOf", desc := "(I)I" } : Jvm.MethodName)) ∈ lw_all := lw_g (lw_at lw_m7 127 rfl) rfl
theorem q1662 : (Jvm.Cond.privateMethod ({ cls := "PromiseTailorModel", name := "sumOf", desc := "(I)I" } : Jvm.MethodName)) ∈ lw_tbl := lw_at lw_m7 128 rfl
theorem q1663 : (Jvm.Cond.instanceMethod ({ cls := "PromiseTailorModel", name := "sumOf", desc := "(I)I" } : Jvm.MethodName)) ∈ lw_all := lw_g (lw_at lw_m7 129 rfl) rfl
theorem q1664 : (Jvm.Cond.code ({ cls := "PromiseTailorModel", name := "sumOf", desc := "(I)I" } : Jvm.MethodName) prog_13_method_93_code (2 : Nat) (Option.some Jvm.ClassFile.FieldType.int)) ∈ lw_all := lw_g (lw_at lw_m7 130 rfl) rfl
theorem q1665 : (Jvm.Cond.methodLink "PromiseTailorLaw" (168 : Nat) ({ cls := "PromiseTailorModel", name := "digest", desc := "()J" } : Jvm.MethodName)) ∈ lw_all := lw_g (lw_at lw_m7 131 rfl) rfl
theorem q1666 : (Jvm.Cond.instanceMethod ({ cls := "PromiseTailorModel", name := "digest", desc := "()J" } : Jvm.MethodName)) ∈ lw_all := lw_g (lw_at lw_m7 132 rfl) rfl
theorem q1667 : (Jvm.Cond.selects "PromiseTailorModel" ({ cls := "PromiseTailorModel", name := "digest", desc := "()J" } : Jvm.MethodName) ({ cls := "PromiseTailorModel", name := "digest", desc := "()J" } : Jvm.MethodName)) ∈ lw_all := lw_g (lw_at lw_m7 133 rfl) rfl
theorem q1668 : (Jvm.Cond.code ({ cls := "PromiseTailorModel", name := "digest", desc := "()J" } : Jvm.MethodName) prog_13_method_98_code (4 : Nat) (Option.some Jvm.ClassFile.FieldType.long)) ∈ lw_all := lw_g (lw_at lw_m7 134 rfl) rfl
theorem q1669 : (Jvm.Cond.constantLong "PromiseTailorModel" (342 : Nat) (17 : Int64)) ∈ lw_all := lw_g (lw_at lw_m7 135 rfl) rfl
theorem q1670 : (Jvm.Cond.constantLong "PromiseTailorModel" (336 : Nat) (31 : Int64)) ∈ lw_all := lw_g (lw_at lw_m7 136 rfl) rfl
theorem q1671 : (Jvm.Cond.methodLink "PromiseTailorModel" (344 : Nat) ({ cls := "PromiseTailorModel", name := "count", desc := "(I)I" } : Jvm.MethodName)) ∈ lw_all := lw_g (lw_at lw_m7 137 rfl) rfl
theorem q1672 : (Jvm.Cond.methodLink "PromiseTailorModel" (347 : Nat) ({ cls := "PromiseTailorModel", name := "promiseDigest", desc := "(JI)J" } : Jvm.MethodName)) ∈ lw_all := lw_g (lw_at lw_m7 138 rfl) rfl
theorem q1673 : (Jvm.Cond.privateMethod ({ cls := "PromiseTailorModel", name := "promiseDigest", desc := "(JI)J" } : Jvm.MethodName)) ∈ lw_tbl := lw_at lw_m7 139 rfl
theorem q1674 : (Jvm.Cond.instanceMethod ({ cls := "PromiseTailorModel", name := "promiseDigest", desc := "(JI)J" } : Jvm.MethodName)) ∈ lw_all := lw_g (lw_at lw_m7 140 rfl) rfl
theorem q1675 : (Jvm.Cond.code ({ cls := "PromiseTailorModel", name := "promiseDigest", desc := "(JI)J" } : Jvm.MethodName) prog_13_method_95_code (7 : Nat) (Option.some Jvm.ClassFile.FieldType.long)) ∈ lw_all := lw_g (lw_at lw_m7 141 rfl) rfl
theorem q1676 : (Jvm.Cond.methodLink "PromiseTailorModel" (351 : Nat) ({ cls := "PromiseTailorModel", name := "personDigest", desc := "(JI)J" } : Jvm.MethodName)) ∈ lw_all := lw_g (lw_at lw_m7 142 rfl) rfl
theorem q1677 : (Jvm.Cond.privateMethod ({ cls := "PromiseTailorModel", name := "personDigest", desc := "(JI)J" } : Jvm.MethodName)) ∈ lw_tbl := lw_at lw_m7 143 rfl
theorem q1678 : (Jvm.Cond.instanceMethod ({ cls := "PromiseTailorModel", name := "personDigest", desc := "(JI)J" } : Jvm.MethodName)) ∈ lw_all := lw_g (lw_at lw_m7 144 rfl) rfl
theorem q1679 : (Jvm.Cond.code ({ cls := "PromiseTailorModel", name := "personDigest", desc := "(JI)J" } : Jvm.MethodName) prog_13_method_97_code (6 : Nat) (Option.some Jvm.ClassFile.FieldType.long)) ∈ lw_all := lw_g (lw_at lw_m7 145 rfl) rfl
theorem q1680 : (Jvm.Cond.methodLink "PromiseTailorModel" (338 : Nat) ({ cls := "PromiseTailorModel", name := "coatDigest", desc := "(JII)J" } : Jvm.MethodName)) ∈ lw_all := lw_g (lw_at lw_m7 146 rfl) rfl
theorem q1681 : (Jvm.Cond.privateMethod ({ cls := "PromiseTailorModel", name := "coatDigest", desc := "(JII)J" } : Jvm.MethodName)) ∈ lw_tbl := lw_at lw_m7 147 rfl
theorem q1682 : (Jvm.Cond.instanceMethod ({ cls := "PromiseTailorModel", name := "coatDigest", desc := "(JII)J" } : Jvm.MethodName)) ∈ lw_all := lw_g (lw_at lw_m7 148 rfl) rfl
theorem q1683 : (Jvm.Cond.code ({ cls := "PromiseTailorModel", name := "coatDigest", desc := "(JII)J" } : Jvm.MethodName) prog_13_method_96_code (8 : Nat) (Option.some Jvm.ClassFile.FieldType.long)) ∈ lw_all := lw_g (lw_at lw_m7 149 rfl) rfl
theorem q1684 : (Jvm.Cond.sameMethod "PromiseTailor$Text" "PromiseTailor$Text" "reads" "()I") ∈ lw_all := lw_g (lw_at lw_m7 150 rfl) rfl
theorem q1685 : (Jvm.Cond.sameMethod "PromiseTailor$Text" "PromiseTailor$Text" "next" "()V") ∈ lw_all := lw_g (lw_at lw_m7 151 rfl) rfl
theorem q1686 : (Jvm.Cond.sameMethod "java/lang/Throwable" "java/lang/Throwable" "fillInStackTrace" "(I)Ljava/lang/Throwable;") ∈ lw_all := lw_g (lw_at lw_m7 152 rfl) rfl
theorem q1687 : (Jvm.Cond.sameMethod "PromiseTailor$Text" "PromiseTailor$Text" "passes" "(Ljava/lang/String;)I") ∈ lw_all := lw_g (lw_at lw_m7 153 rfl) rfl
theorem q1688 : (Jvm.Cond.selects "PromiseTailor$Book" ({ cls := "PromiseTailor$Text", name := "passes", desc := "(Ljava/lang/String;)I" } : Jvm.MethodName) ({ cls := "PromiseTailor$Text", name := "passes", desc := "(Ljava/lang/String;)I" } : Jvm.MethodName)) ∈ lw_all := lw_g (lw_at lw_m7 154 rfl) rfl
theorem q1689 : (Jvm.Cond.selects "PromiseTailor$Town" ({ cls := "PromiseTailor$Text", name := "passes", desc := "(Ljava/lang/String;)I" } : Jvm.MethodName) ({ cls := "PromiseTailor$Text", name := "passes", desc := "(Ljava/lang/String;)I" } : Jvm.MethodName)) ∈ lw_all := lw_g (lw_at lw_m7 155 rfl) rfl
theorem q1690 : (Jvm.Cond.sameMethod "PromiseTailor$Text" "PromiseTailor$Text" "many" "()I") ∈ lw_all := lw_g (lw_at lw_m7 156 rfl) rfl
theorem q1691 : (Jvm.Cond.selects "PromiseTailor$Book" ({ cls := "PromiseTailor$Text", name := "many", desc := "()I" } : Jvm.MethodName) ({ cls := "PromiseTailor$Text", name := "many", desc := "()I" } : Jvm.MethodName)) ∈ lw_all := lw_g (lw_at lw_m7 157 rfl) rfl
theorem q1692 : (Jvm.Cond.selects "PromiseTailor$Town" ({ cls := "PromiseTailor$Text", name := "many", desc := "()I" } : Jvm.MethodName) ({ cls := "PromiseTailor$Text", name := "many", desc := "()I" } : Jvm.MethodName)) ∈ lw_all := lw_g (lw_at lw_m7 158 rfl) rfl
theorem q1693 : (Jvm.Cond.initialized "java/lang/Object") ∈ lw_all := lw_g (lw_at lw_m7 159 rfl) rfl
theorem q1694 : (Jvm.Cond.initialized "PromiseTailor$Alderman") ∈ lw_all := lw_g (lw_at lw_m7 160 rfl) rfl
theorem q1695 : (Jvm.Cond.initialized "PromiseTailor$Sort") ∈ lw_all := lw_g (lw_at lw_m7 161 rfl) rfl
theorem q1696 : (Jvm.Cond.initialized "PromiseTailor$Suitor") ∈ lw_all := lw_g (lw_at lw_m7 162 rfl) rfl
theorem q1697 : (Jvm.Cond.castable "java/lang/ArrayIndexOutOfBoundsException" "java/lang/IndexOutOfBoundsException") ∈ lw_tbl := lw_at lw_m7 163 rfl
theorem q1698 : (Jvm.Cond.castable "PromiseTailor$Sheet" "java/lang/Object") ∈ lw_tbl := lw_at lw_m7 164 rfl
theorem q1699 : (Jvm.Cond.castable "PromiseTailor$Sort" "java/lang/Object") ∈ lw_tbl := lw_at lw_m7 165 rfl
theorem q1700 : (Jvm.Cond.castable "PromiseTailor" "java/lang/Object") ∈ lw_tbl := lw_at lw_m7 166 rfl
theorem q1701 : (Jvm.Cond.castable "PromiseTailor$Town" "java/lang/Object") ∈ lw_tbl := lw_at lw_m7 167 rfl
theorem q1702 : (Jvm.Cond.castable "java/util/ArrayList" "java/lang/Object") ∈ lw_tbl := lw_at lw_m7 168 rfl
theorem q1703 : (Jvm.Cond.castable "PromiseTailor$Book" "java/lang/Object") ∈ lw_tbl := lw_at lw_m7 169 rfl
theorem q1704 : (Jvm.Cond.castable "PromiseTailorModel" "java/lang/Object") ∈ lw_tbl := lw_at lw_m7 170 rfl
theorem q1705 : (Jvm.Cond.castable "PromiseTailor$Torn" "java/lang/Object") ∈ lw_tbl := lw_at lw_m7 171 rfl
theorem q1706 : (Jvm.Cond.castable "PromiseTailor$Promise" "java/lang/Object") ∈ lw_tbl := lw_at lw_m7 172 rfl
theorem q1707 : (Jvm.Cond.castable "PromiseTailor$Suitor" "java/lang/Object") ∈ lw_tbl := lw_at lw_m7 173 rfl
theorem q1708 : (Jvm.Cond.castable "PromiseTailor$Alderman" "java/lang/Object") ∈ lw_tbl := lw_at lw_m7 174 rfl
theorem q1709 : (Jvm.Cond.castable "PromiseTailor$Person" "java/lang/Object") ∈ lw_tbl := lw_at lw_m7 175 rfl
theorem q1710 : (Jvm.Cond.castable "java/lang/NegativeArraySizeException" "java/lang/Object") ∈ lw_tbl := lw_at lw_m7 176 rfl
theorem q1711 : (Jvm.Cond.castable "java/lang/ClassCastException" "java/lang/Object") ∈ lw_tbl := lw_at lw_m7 177 rfl
theorem q1712 : (Jvm.Cond.castable "java/lang/ArrayIndexOutOfBoundsException" "java/lang/Object") ∈ lw_tbl := lw_at lw_m7 178 rfl
theorem q1713 : (Jvm.Cond.castable "java/lang/Throwable" "java/lang/Object") ∈ lw_tbl := lw_at lw_m7 179 rfl
theorem q1714 : (Jvm.Cond.castable "java/lang/String" "java/lang/Object") ∈ lw_tbl := lw_at lw_m7 180 rfl
theorem q1715 : (Jvm.Cond.sameMethod "[Ljava/lang/Object;" "java/lang/Object" "getClass" "()Ljava/lang/Class;") ∈ lw_all := lw_g (lw_at lw_m7 181 rfl) rfl
theorem q1716 : (Jvm.Cond.selects "[Ljava/lang/Object;" ({ cls := "java/lang/Object", name := "getClass", desc := "()Ljava/lang/Class;" } : Jvm.MethodName) ({ cls := "java/lang/Object", name := "getClass", desc := "()Ljava/lang/Class;" } : Jvm.MethodName)) ∈ lw_all := lw_g (lw_at lw_m7 182 rfl) rfl
theorem q1717 : (Jvm.Cond.declares ({ cls := "java/lang/Object", name := "getClass", desc := "()Ljava/lang/Class;" } : Jvm.MethodName)) ∈ lw_tbl := lw_at lw_m7 183 rfl
theorem q1718 : (Jvm.Cond.castable "[B" "java/lang/Object") ∈ lw_tbl := lw_at lw_m7 184 rfl
theorem q1719 : (Jvm.Cond.castable "[[I" "java/lang/Object") ∈ lw_tbl := lw_at lw_m7 185 rfl
theorem q1720 : (Jvm.Cond.castable "[LPromiseTailor$Sheet;" "java/lang/Object") ∈ lw_tbl := lw_at lw_m7 186 rfl
theorem q1721 : (Jvm.Cond.castable "[I" "java/lang/Object") ∈ lw_tbl := lw_at lw_m7 187 rfl
theorem q1722 : (Jvm.Cond.castable "[Ljava/lang/Object;" "java/lang/Object") ∈ lw_tbl := lw_at lw_m7 188 rfl
theorem q1723 : (Jvm.Cond.castable "[S" "java/lang/Object") ∈ lw_tbl := lw_at lw_m7 189 rfl
theorem q1724 : (Jvm.Cond.castable "[Z" "java/lang/Object") ∈ lw_tbl := lw_at lw_m7 190 rfl
theorem q1725 : (Jvm.Cond.castable "[LPromiseTailor$Sort;" "java/lang/Object") ∈ lw_tbl := lw_at lw_m7 191 rfl
theorem q1726 : (Jvm.Cond.fieldLink "java/lang/String" (15 : Nat) "java/lang/String" "coder" "B") ∈ lw_all := lw_g (lw_at lw_m7 192 rfl) rfl
theorem q1727 : (Jvm.Cond.fieldLink "java/lang/String" (9 : Nat) "java/lang/String" "value" "[B") ∈ lw_all := lw_g (lw_at lw_m7 193 rfl) rfl
