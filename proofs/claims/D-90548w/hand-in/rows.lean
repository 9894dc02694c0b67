section
/-! the tables' words (PART A of the skeleton, a starting text), and one list TB of the good ones -/
/-- a private method of a class that the tables say can be made, by its rows of tables_1 -/
def lw_okq (q : MethodName × Nat) : Prop := (q.1.cls ≠ "java/lang/invoke/MethodHandle" ∧ q.1.cls ≠ "java/lang/invoke/VarHandle") ∧ Cond.instantiable q.1.cls q.2 ∈ tables_1 ∧ Cond.privateMethod q.1 ∈ tables_1 ∧ Cond.instanceMethod q.1 ∈ tables_1
theorem lw_p0 : lw_okq (⟨"java/lang/Throwable", "fillInStackTrace", "(I)Ljava/lang/Throwable;"⟩, 6) := ⟨⟨by decide +kernel, by decide +kernel⟩, List.mem_of_getElem? (i := 64) (by decide +kernel), List.mem_of_getElem? (i := 62) (by decide +kernel), List.mem_of_getElem? (i := 63) (by decide +kernel)⟩
def lw_privs_1 : List (MethodName × Nat) := [(⟨"java/lang/Throwable", "fillInStackTrace", "(I)Ljava/lang/Throwable;"⟩, 6)]
theorem lw_r1 : ∀ q ∈ lw_privs_1, lw_okq q := List.forall_mem_cons.mpr ⟨lw_p0, fun _ h => absurd h List.not_mem_nil⟩
def lw_privs : List (MethodName × Nat) := lw_privs_1
def lw_tbl : List Cond := k2_sels lw_privs ++ tables_1
theorem lw_privs_ok : ∀ q ∈ lw_privs, lw_okq q := lw_r1
def TB : List Jvm.Cond := lw_tbl.filter goodWord
theorem tb_sub : ∀ w ∈ TB, w ∈ lw_tbl := fun w hw => (List.mem_filter.mp hw).1
theorem tb_good : ∀ w ∈ TB, (w.onTables && w.keeps) = true ∨ ∃ ty, w = .arrayClass ty := fun w hw => good_of_word (List.mem_filter.mp hw).2
theorem tb_mem {w : Jvm.Cond} (i : Nat) (h : lw_tbl[i]? = some w) (hg : goodWord w = true) : w ∈ TB := List.mem_filter.mpr ⟨List.mem_of_getElem? h, hg⟩
theorem tl_mem {w : Jvm.Cond} (i : Nat) (h : lw_tbl[i]? = some w) : w ∈ lw_tbl := List.mem_of_getElem? h
abbrev b_mAbs : ByteArray := prog_5_method_61_code
abbrev y_mAbs : MethodName := ⟨"java/lang/Math", "abs", "(J)J"⟩
abbrev b_mAddI : ByteArray := prog_5_method_24_code
abbrev y_mAddI : MethodName := ⟨"java/lang/Math", "addExact", "(II)I"⟩
abbrev b_mAddJ : ByteArray := prog_5_method_25_code
abbrev y_mAddJ : MethodName := ⟨"java/lang/Math", "addExact", "(JJ)J"⟩
abbrev b_mSubI : ByteArray := prog_5_method_26_code
abbrev y_mSubI : MethodName := ⟨"java/lang/Math", "subtractExact", "(II)I"⟩
abbrev b_mSubJ : ByteArray := prog_5_method_27_code
abbrev y_mSubJ : MethodName := ⟨"java/lang/Math", "subtractExact", "(JJ)J"⟩
abbrev b_mMulI : ByteArray := prog_5_method_28_code
abbrev y_mMulI : MethodName := ⟨"java/lang/Math", "multiplyExact", "(II)I"⟩
abbrev b_mMulJ : ByteArray := prog_5_method_30_code
abbrev y_mMulJ : MethodName := ⟨"java/lang/Math", "multiplyExact", "(JJ)J"⟩
abbrev b_mToI : ByteArray := prog_5_method_43_code
abbrev y_mToI : MethodName := ⟨"java/lang/Math", "toIntExact", "(J)I"⟩
abbrev b_mNeg : ByteArray := prog_5_method_42_code
abbrev y_mNeg : MethodName := ⟨"java/lang/Math", "negateExact", "(J)J"⟩
abbrev b_mFdJ : ByteArray := prog_5_method_49_code
abbrev y_mFdJ : MethodName := ⟨"java/lang/Math", "floorDiv", "(JJ)J"⟩
abbrev b_mFmJ : ByteArray := prog_5_method_52_code
abbrev y_mFmJ : MethodName := ⟨"java/lang/Math", "floorMod", "(JJ)J"⟩
abbrev b_mFdI : ByteArray := prog_5_method_47_code
abbrev y_mFdI : MethodName := ⟨"java/lang/Math", "floorDiv", "(II)I"⟩
abbrev b_mFmI : ByteArray := prog_5_method_50_code
abbrev y_mFmI : MethodName := ⟨"java/lang/Math", "floorMod", "(II)I"⟩
abbrev b_mHigh : ByteArray := prog_5_method_45_code
abbrev y_mHigh : MethodName := ⟨"java/lang/Math", "multiplyHigh", "(JJ)J"⟩
abbrev b_mFull : ByteArray := prog_5_method_44_code
abbrev y_mFull : MethodName := ⟨"java/lang/Math", "multiplyFull", "(II)J"⟩
abbrev b_mMax : ByteArray := prog_5_method_66_code
abbrev y_mMax : MethodName := ⟨"java/lang/Math", "max", "(JJ)J"⟩
abbrev b_mMin : ByteArray := prog_5_method_70_code
abbrev y_mMin : MethodName := ⟨"java/lang/Math", "min", "(JJ)J"⟩
abbrev b_dInit : ByteArray := prog_1_method_1_code
abbrev y_dInit : MethodName := ⟨"MathDrill", "<init>", "()V"⟩
abbrev b_dOver : ByteArray := prog_1_method_2_code
abbrev y_dOver : MethodName := ⟨"MathDrill", "over", "()Z"⟩
abbrev b_dAddI : ByteArray := prog_1_method_3_code
abbrev y_dAddI : MethodName := ⟨"MathDrill", "add", "(II)I"⟩
abbrev b_dAddJ : ByteArray := prog_1_method_4_code
abbrev y_dAddJ : MethodName := ⟨"MathDrill", "add", "(JJ)J"⟩
abbrev b_dSubI : ByteArray := prog_1_method_5_code
abbrev y_dSubI : MethodName := ⟨"MathDrill", "subtract", "(II)I"⟩
abbrev b_dSubJ : ByteArray := prog_1_method_6_code
abbrev y_dSubJ : MethodName := ⟨"MathDrill", "subtract", "(JJ)J"⟩
abbrev b_dMulI : ByteArray := prog_1_method_7_code
abbrev y_dMulI : MethodName := ⟨"MathDrill", "multiply", "(II)I"⟩
abbrev b_dMulJ : ByteArray := prog_1_method_8_code
abbrev y_dMulJ : MethodName := ⟨"MathDrill", "multiply", "(JJ)J"⟩
abbrev b_dNar : ByteArray := prog_1_method_9_code
abbrev y_dNar : MethodName := ⟨"MathDrill", "narrow", "(J)I"⟩
abbrev b_dNeg : ByteArray := prog_1_method_10_code
abbrev y_dNeg : MethodName := ⟨"MathDrill", "negate", "(J)J"⟩
abbrev b_dQuoJ : ByteArray := prog_1_method_11_code
abbrev y_dQuoJ : MethodName := ⟨"MathDrill", "quotient", "(JJ)J"⟩
abbrev b_dResJ : ByteArray := prog_1_method_12_code
abbrev y_dResJ : MethodName := ⟨"MathDrill", "rest", "(JJ)J"⟩
abbrev b_dQuoI : ByteArray := prog_1_method_13_code
abbrev y_dQuoI : MethodName := ⟨"MathDrill", "quotient", "(II)I"⟩
abbrev b_dResI : ByteArray := prog_1_method_14_code
abbrev y_dResI : MethodName := ⟨"MathDrill", "rest", "(II)I"⟩
abbrev b_dHigh : ByteArray := prog_1_method_15_code
abbrev y_dHigh : MethodName := ⟨"MathDrill", "high", "(JJ)J"⟩
abbrev b_dFull : ByteArray := prog_1_method_16_code
abbrev y_dFull : MethodName := ⟨"MathDrill", "full", "(II)J"⟩
abbrev b_dLar : ByteArray := prog_1_method_17_code
abbrev y_dLar : MethodName := ⟨"MathDrill", "largest", "(JJ)J"⟩
abbrev b_lOf : ByteArray := method_2_code
abbrev y_lOf : MethodName := ⟨"MathDrillLaw", "of", "(J)[I"⟩
abbrev b_lPlus : ByteArray := method_3_code
abbrev y_lPlus : MethodName := ⟨"MathDrillLaw", "plus", "([I[I)[I"⟩
abbrev b_lMin : ByteArray := method_4_code
abbrev y_lMin : MethodName := ⟨"MathDrillLaw", "minus", "([I)[I"⟩
abbrev b_lTim : ByteArray := method_5_code
abbrev y_lTim : MethodName := ⟨"MathDrillLaw", "times", "([I[I)[I"⟩
abbrev b_lLow : ByteArray := method_6_code
abbrev y_lLow : MethodName := ⟨"MathDrillLaw", "low", "([I)J"⟩
abbrev b_lHigh : ByteArray := method_7_code
abbrev y_lHigh : MethodName := ⟨"MathDrillLaw", "high", "([I)J"⟩
abbrev b_lFits : ByteArray := method_8_code
abbrev y_lFits : MethodName := ⟨"MathDrillLaw", "fits", "([I)Z"⟩
abbrev b_lTold : ByteArray := method_9_code
abbrev y_lTold : MethodName := ⟨"MathDrillLaw", "told", "(LMathDrill;J[I)Z"⟩
abbrev b_lTolI : ByteArray := method_10_code
abbrev y_lTolI : MethodName := ⟨"MathDrillLaw", "toldInt", "(LMathDrill;IJ)Z"⟩
abbrev b_lPart : ByteArray := method_11_code
abbrev y_lPart : MethodName := ⟨"MathDrillLaw", "parts", "(JJJJ)Z"⟩
theorem tb_0 : (Jvm.Cond.initialized "MathDrillLaw") ∈ TB := tb_mem 1 (by rfl) (by rfl)
theorem tb_1 : (Jvm.Cond.initialized "MathDrill") ∈ TB := tb_mem 2 (by rfl) (by rfl)
theorem tb_2 : (Jvm.Cond.initialized "java/lang/Math") ∈ TB := tb_mem 3 (by rfl) (by rfl)
theorem tb_3 : (Jvm.Cond.initialized "java/lang/Throwable") ∈ TB := tb_mem 4 (by rfl) (by rfl)
theorem tb_4 : (Jvm.Cond.initialized "java/lang/Exception") ∈ TB := tb_mem 5 (by rfl) (by rfl)
theorem tb_5 : (Jvm.Cond.initialized "java/lang/RuntimeException") ∈ TB := tb_mem 6 (by rfl) (by rfl)
theorem tb_6 : (Jvm.Cond.initialized "java/lang/ArithmeticException") ∈ TB := tb_mem 7 (by rfl) (by rfl)
theorem tb_7 : (Jvm.Cond.classLink "MathDrillLaw" (31 : Nat) "MathDrill") ∈ TB := tb_mem 8 (by rfl) (by rfl)
theorem tb_8 : (Jvm.Cond.instantiable "MathDrill" (1 : Nat)) ∈ TB := tb_mem 9 (by rfl) (by rfl)
theorem tb_9 : (Jvm.Cond.methodLink "MathDrillLaw" (45 : Nat) y_dInit) ∈ TB := tb_mem 10 (by rfl) (by rfl)
theorem tb_10 : (Jvm.Cond.instanceMethod y_dInit) ∈ TB := tb_mem 11 (by rfl) (by rfl)
theorem tb_11 : (Jvm.Cond.code y_dInit prog_1_method_1_code (1 : Nat) (Option.none : Option Jvm.ClassFile.FieldType)) ∈ TB := tb_mem 12 (by rfl) (by rfl)
theorem tb_12 : (Jvm.Cond.methodLink "MathDrill" (1 : Nat) ({ cls := "java/lang/Object", name := "<init>", desc := "()V" } : Jvm.MethodName)) ∈ TB := tb_mem 13 (by rfl) (by rfl)
theorem tb_13 : (Jvm.Cond.instanceMethod ({ cls := "java/lang/Object", name := "<init>", desc := "()V" } : Jvm.MethodName)) ∈ TB := tb_mem 14 (by rfl) (by rfl)
theorem tb_14 : (Jvm.Cond.code ({ cls := "java/lang/Object", name := "<init>", desc := "()V" } : Jvm.MethodName) object_method_1_code (1 : Nat) (Option.none : Option Jvm.ClassFile.FieldType)) ∈ TB := tb_mem 15 (by rfl) (by rfl)
theorem tb_15 : (Jvm.Cond.fieldLink "MathDrill" (7 : Nat) "MathDrill" "over" "Z") ∈ TB := tb_mem 16 (by rfl) (by rfl)
theorem tb_16 : (Jvm.Cond.lays "MathDrill" "MathDrill" "over" "Z") ∈ TB := tb_mem 17 (by rfl) (by rfl)
theorem tb_17 : (Jvm.Cond.soleField "MathDrill" "over") ∈ TB := tb_mem 18 (by rfl) (by rfl)
theorem tb_18 : (Jvm.Cond.superclass "MathDrill" "java/lang/Object") ∈ TB := tb_mem 19 (by rfl) (by rfl)
theorem tb_19 : (Jvm.Cond.methodLink "MathDrillLaw" (54 : Nat) y_dAddI) ∈ TB := tb_mem 20 (by rfl) (by rfl)
theorem tb_20 : (Jvm.Cond.instanceMethod y_dAddI) ∈ TB := tb_mem 21 (by rfl) (by rfl)
theorem tb_21 : (Jvm.Cond.selects "MathDrill" y_dAddI y_dAddI) ∈ TB := tb_mem 22 (by rfl) (by rfl)
theorem tb_22 : (Jvm.Cond.codeWith y_dAddI prog_1_method_3_code (4 : Nat) (Option.some Jvm.ClassFile.FieldType.int) [((5 : Nat), (10 : Nat), (11 : Nat), (19 : Nat))]) ∈ TB := tb_mem 23 (by rfl) (by rfl)
theorem tb_23 : (Jvm.Cond.classLink "MathDrill" (19 : Nat) "java/lang/ArithmeticException") ∈ TB := tb_mem 24 (by rfl) (by rfl)
theorem tb_24 : (Jvm.Cond.methodLink "MathDrill" (13 : Nat) y_mAddI) ∈ TB := tb_mem 25 (by rfl) (by rfl)
theorem tb_25 : (Jvm.Cond.static y_mAddI) ∈ TB := tb_mem 26 (by rfl) (by rfl)
theorem tb_26 : (Jvm.Cond.code y_mAddI prog_5_method_24_code (3 : Nat) (Option.some Jvm.ClassFile.FieldType.int)) ∈ TB := tb_mem 27 (by rfl) (by rfl)
theorem tb_27 : (Jvm.Cond.classLink "java/lang/Math" (109 : Nat) "java/lang/ArithmeticException") ∈ TB := tb_mem 28 (by rfl) (by rfl)
theorem tb_28 : (Jvm.Cond.instantiable "java/lang/ArithmeticException" (6 : Nat)) ∈ TB := tb_mem 29 (by rfl) (by rfl)
theorem tl_29 : (Jvm.Cond.castable "java/lang/ArithmeticException" "java/lang/ArithmeticException") ∈ lw_tbl := tl_mem 30 (by rfl)
theorem tl_30 : (Jvm.Cond.declares ({ cls := "java/lang/RuntimeException", name := "<init>", desc := "()V" } : Jvm.MethodName)) ∈ lw_tbl := tl_mem 31 (by rfl)
theorem tl_31 : (Jvm.Cond.declares ({ cls := "java/lang/RuntimeException", name := "<init>", desc := "(Ljava/lang/String;)V" } : Jvm.MethodName)) ∈ lw_tbl := tl_mem 32 (by rfl)
theorem tl_32 : (Jvm.Cond.declares ({ cls := "java/lang/Exception", name := "<init>", desc := "()V" } : Jvm.MethodName)) ∈ lw_tbl := tl_mem 33 (by rfl)
theorem tl_33 : (Jvm.Cond.declares ({ cls := "java/lang/Exception", name := "<init>", desc := "(Ljava/lang/String;)V" } : Jvm.MethodName)) ∈ lw_tbl := tl_mem 34 (by rfl)
theorem tl_34 : (Jvm.Cond.declares ({ cls := "java/lang/Throwable", name := "<init>", desc := "()V" } : Jvm.MethodName)) ∈ lw_tbl := tl_mem 35 (by rfl)
theorem tl_35 : (Jvm.Cond.declares ({ cls := "java/lang/Throwable", name := "<init>", desc := "(Ljava/lang/String;)V" } : Jvm.MethodName)) ∈ lw_tbl := tl_mem 36 (by rfl)
theorem tb_36 : (Jvm.Cond.selects "java/lang/ArithmeticException" ({ cls := "java/lang/Throwable", name := "fillInStackTrace", desc := "(I)Ljava/lang/Throwable;" } : Jvm.MethodName) ({ cls := "java/lang/Throwable", name := "fillInStackTrace", desc := "(I)Ljava/lang/Throwable;" } : Jvm.MethodName)) ∈ TB := tb_mem 37 (by rfl) (by rfl)
theorem tb_37 : (Jvm.Cond.selects "java/lang/ArithmeticException" ({ cls := "java/lang/Throwable", name := "fillInStackTrace", desc := "()Ljava/lang/Throwable;" } : Jvm.MethodName) ({ cls := "java/lang/Throwable", name := "fillInStackTrace", desc := "()Ljava/lang/Throwable;" } : Jvm.MethodName)) ∈ TB := tb_mem 38 (by rfl) (by rfl)
theorem tb_38 : (Jvm.Cond.lays "java/lang/ArithmeticException" "java/lang/Throwable" "cause" "Ljava/lang/Throwable;") ∈ TB := tb_mem 39 (by rfl) (by rfl)
theorem tb_39 : (Jvm.Cond.lays "java/lang/Throwable" "java/lang/Throwable" "cause" "Ljava/lang/Throwable;") ∈ TB := tb_mem 40 (by rfl) (by rfl)
theorem tb_40 : (Jvm.Cond.lays "java/lang/ArithmeticException" "java/lang/Throwable" "stackTrace" "[Ljava/lang/StackTraceElement;") ∈ TB := tb_mem 41 (by rfl) (by rfl)
theorem tb_41 : (Jvm.Cond.lays "java/lang/Throwable" "java/lang/Throwable" "stackTrace" "[Ljava/lang/StackTraceElement;") ∈ TB := tb_mem 42 (by rfl) (by rfl)
theorem tb_42 : (Jvm.Cond.lays "java/lang/ArithmeticException" "java/lang/Throwable" "suppressedExceptions" "Ljava/util/List;") ∈ TB := tb_mem 43 (by rfl) (by rfl)
theorem tb_43 : (Jvm.Cond.lays "java/lang/Throwable" "java/lang/Throwable" "suppressedExceptions" "Ljava/util/List;") ∈ TB := tb_mem 44 (by rfl) (by rfl)
theorem tb_44 : (Jvm.Cond.lays "java/lang/ArithmeticException" "java/lang/Throwable" "detailMessage" "Ljava/lang/String;") ∈ TB := tb_mem 45 (by rfl) (by rfl)
theorem tb_45 : (Jvm.Cond.lays "java/lang/Throwable" "java/lang/Throwable" "detailMessage" "Ljava/lang/String;") ∈ TB := tb_mem 46 (by rfl) (by rfl)
theorem tb_46 : (Jvm.Cond.lays "java/lang/ArithmeticException" "java/lang/Throwable" "backtrace" "Ljava/lang/Object;") ∈ TB := tb_mem 47 (by rfl) (by rfl)
theorem tb_47 : (Jvm.Cond.lays "java/lang/Throwable" "java/lang/Throwable" "backtrace" "Ljava/lang/Object;") ∈ TB := tb_mem 48 (by rfl) (by rfl)
theorem tb_48 : (Jvm.Cond.fieldLink "java/lang/Throwable" (198 : Nat) "java/lang/Throwable" "backtrace" "Ljava/lang/Object;") ∈ TB := tb_mem 49 (by rfl) (by rfl)
theorem tb_49 : (Jvm.Cond.superclass "java/lang/Throwable" "java/lang/Object") ∈ TB := tb_mem 50 (by rfl) (by rfl)
theorem tb_50 : (Jvm.Cond.instanceMethod ({ cls := "java/lang/Throwable", name := "<init>", desc := "()V" } : Jvm.MethodName)) ∈ TB := tb_mem 51 (by rfl) (by rfl)
theorem tb_51 : (Jvm.Cond.code ({ cls := "java/lang/Throwable", name := "<init>", desc := "()V" } : Jvm.MethodName) prog_8_method_1_code (1 : Nat) (Option.none : Option Jvm.ClassFile.FieldType)) ∈ TB := tb_mem 52 (by rfl) (by rfl)
theorem tb_52 : (Jvm.Cond.methodLink "java/lang/Throwable" (1 : Nat) ({ cls := "java/lang/Object", name := "<init>", desc := "()V" } : Jvm.MethodName)) ∈ TB := tb_mem 53 (by rfl) (by rfl)
theorem tb_53 : (Jvm.Cond.fieldLink "java/lang/Throwable" (13 : Nat) "java/lang/Throwable" "UNASSIGNED_STACK" "[Ljava/lang/StackTraceElement;") ∈ TB := tb_mem 54 (by rfl) (by rfl)
theorem tl_54 : (Jvm.Cond.laysStatic "java/lang/Throwable" "UNASSIGNED_STACK" "[Ljava/lang/StackTraceElement;") ∈ lw_tbl := tl_mem 55 (by rfl)
theorem tb_55 : (Jvm.Cond.fieldLink "java/lang/Throwable" (20 : Nat) "java/lang/Throwable" "SUPPRESSED_SENTINEL" "Ljava/util/List;") ∈ TB := tb_mem 56 (by rfl) (by rfl)
theorem tl_56 : (Jvm.Cond.laysStatic "java/lang/Throwable" "SUPPRESSED_SENTINEL" "Ljava/util/List;") ∈ lw_tbl := tl_mem 57 (by rfl)
theorem tb_57 : (Jvm.Cond.methodLink "java/lang/Throwable" (27 : Nat) ({ cls := "java/lang/Throwable", name := "fillInStackTrace", desc := "()Ljava/lang/Throwable;" } : Jvm.MethodName)) ∈ TB := tb_mem 58 (by rfl) (by rfl)
theorem tb_58 : (Jvm.Cond.instanceMethod ({ cls := "java/lang/Throwable", name := "fillInStackTrace", desc := "()Ljava/lang/Throwable;" } : Jvm.MethodName)) ∈ TB := tb_mem 59 (by rfl) (by rfl)
theorem tb_59 : (Jvm.Cond.sameMethod "java/lang/Throwable" "java/lang/Throwable" "fillInStackTrace" "()Ljava/lang/Throwable;") ∈ TB := tb_mem 60 (by rfl) (by rfl)
theorem tb_60 : (Jvm.Cond.codeSync ({ cls := "java/lang/Throwable", name := "fillInStackTrace", desc := "()Ljava/lang/Throwable;" } : Jvm.MethodName) prog_8_method_18_code (1 : Nat) (Option.some (Jvm.ClassFile.FieldType.object "java/lang/Throwable"))) ∈ TB := tb_mem 61 (by rfl) (by rfl)
theorem tb_61 : (Jvm.Cond.methodLink "java/lang/Throwable" (202 : Nat) ({ cls := "java/lang/Throwable", name := "fillInStackTrace", desc := "(I)Ljava/lang/Throwable;" } : Jvm.MethodName)) ∈ TB := tb_mem 62 (by rfl) (by rfl)
theorem tl_62 : (Jvm.Cond.privateMethod ({ cls := "java/lang/Throwable", name := "fillInStackTrace", desc := "(I)Ljava/lang/Throwable;" } : Jvm.MethodName)) ∈ lw_tbl := tl_mem 63 (by rfl)
theorem tb_63 : (Jvm.Cond.instanceMethod ({ cls := "java/lang/Throwable", name := "fillInStackTrace", desc := "(I)Ljava/lang/Throwable;" } : Jvm.MethodName)) ∈ TB := tb_mem 64 (by rfl) (by rfl)
theorem tb_64 : (Jvm.Cond.instantiable "java/lang/Throwable" (6 : Nat)) ∈ TB := tb_mem 65 (by rfl) (by rfl)
theorem tb_65 : (Jvm.Cond.native ({ cls := "java/lang/Throwable", name := "fillInStackTrace", desc := "(I)Ljava/lang/Throwable;" } : Jvm.MethodName)) ∈ TB := tb_mem 66 (by rfl) (by rfl)
theorem tl_66 : (Jvm.Cond.stringRef "java/lang/Math" (111 : Nat) "integer overflow") ∈ lw_tbl := tl_mem 67 (by rfl)
theorem tb_67 : (Jvm.Cond.methodLink "java/lang/Math" (113 : Nat) ({ cls := "java/lang/ArithmeticException", name := "<init>", desc := "(Ljava/lang/String;)V" } : Jvm.MethodName)) ∈ TB := tb_mem 68 (by rfl) (by rfl)
theorem tb_68 : (Jvm.Cond.instanceMethod ({ cls := "java/lang/ArithmeticException", name := "<init>", desc := "(Ljava/lang/String;)V" } : Jvm.MethodName)) ∈ TB := tb_mem 69 (by rfl) (by rfl)
theorem tb_69 : (Jvm.Cond.code ({ cls := "java/lang/ArithmeticException", name := "<init>", desc := "(Ljava/lang/String;)V" } : Jvm.MethodName) prog_3_method_2_code (2 : Nat) (Option.none : Option Jvm.ClassFile.FieldType)) ∈ TB := tb_mem 70 (by rfl) (by rfl)
theorem tb_70 : (Jvm.Cond.methodLink "java/lang/ArithmeticException" (7 : Nat) ({ cls := "java/lang/RuntimeException", name := "<init>", desc := "(Ljava/lang/String;)V" } : Jvm.MethodName)) ∈ TB := tb_mem 71 (by rfl) (by rfl)
theorem tb_71 : (Jvm.Cond.instanceMethod ({ cls := "java/lang/RuntimeException", name := "<init>", desc := "(Ljava/lang/String;)V" } : Jvm.MethodName)) ∈ TB := tb_mem 72 (by rfl) (by rfl)
theorem tb_72 : (Jvm.Cond.code ({ cls := "java/lang/RuntimeException", name := "<init>", desc := "(Ljava/lang/String;)V" } : Jvm.MethodName) prog_6_method_2_code (2 : Nat) (Option.none : Option Jvm.ClassFile.FieldType)) ∈ TB := tb_mem 73 (by rfl) (by rfl)
theorem tb_73 : (Jvm.Cond.methodLink "java/lang/RuntimeException" (7 : Nat) ({ cls := "java/lang/Exception", name := "<init>", desc := "(Ljava/lang/String;)V" } : Jvm.MethodName)) ∈ TB := tb_mem 74 (by rfl) (by rfl)
theorem tb_74 : (Jvm.Cond.instanceMethod ({ cls := "java/lang/Exception", name := "<init>", desc := "(Ljava/lang/String;)V" } : Jvm.MethodName)) ∈ TB := tb_mem 75 (by rfl) (by rfl)
theorem tb_75 : (Jvm.Cond.code ({ cls := "java/lang/Exception", name := "<init>", desc := "(Ljava/lang/String;)V" } : Jvm.MethodName) prog_4_method_2_code (2 : Nat) (Option.none : Option Jvm.ClassFile.FieldType)) ∈ TB := tb_mem 76 (by rfl) (by rfl)
theorem tb_76 : (Jvm.Cond.methodLink "java/lang/Exception" (7 : Nat) ({ cls := "java/lang/Throwable", name := "<init>", desc := "(Ljava/lang/String;)V" } : Jvm.MethodName)) ∈ TB := tb_mem 77 (by rfl) (by rfl)
theorem tb_77 : (Jvm.Cond.instanceMethod ({ cls := "java/lang/Throwable", name := "<init>", desc := "(Ljava/lang/String;)V" } : Jvm.MethodName)) ∈ TB := tb_mem 78 (by rfl) (by rfl)
theorem tb_78 : (Jvm.Cond.code ({ cls := "java/lang/Throwable", name := "<init>", desc := "(Ljava/lang/String;)V" } : Jvm.MethodName) prog_8_method_2_code (2 : Nat) (Option.none : Option Jvm.ClassFile.FieldType)) ∈ TB := tb_mem 79 (by rfl) (by rfl)
theorem tb_79 : (Jvm.Cond.fieldLink "java/lang/Throwable" (198 : Nat) "java/lang/Throwable" "backtrace" "Ljava/lang/Object;") ∈ TB := tb_mem 80 (by rfl) (by rfl)
theorem tb_80 : (Jvm.Cond.fieldLink "java/lang/Throwable" (31 : Nat) "java/lang/Throwable" "detailMessage" "Ljava/lang/String;") ∈ TB := tb_mem 81 (by rfl) (by rfl)
theorem tb_81 : (Jvm.Cond.fieldLink "java/lang/Throwable" (7 : Nat) "java/lang/Throwable" "cause" "Ljava/lang/Throwable;") ∈ TB := tb_mem 82 (by rfl) (by rfl)
theorem tb_82 : (Jvm.Cond.fieldLink "java/lang/Throwable" (17 : Nat) "java/lang/Throwable" "stackTrace" "[Ljava/lang/StackTraceElement;") ∈ TB := tb_mem 83 (by rfl) (by rfl)
theorem tb_83 : (Jvm.Cond.fieldLink "java/lang/Throwable" (24 : Nat) "java/lang/Throwable" "suppressedExceptions" "Ljava/util/List;") ∈ TB := tb_mem 84 (by rfl) (by rfl)
theorem tb_84 : (Jvm.Cond.soleField "java/lang/Throwable" "backtrace") ∈ TB := tb_mem 85 (by rfl) (by rfl)
theorem tb_85 : (Jvm.Cond.soleField "java/lang/Throwable" "detailMessage") ∈ TB := tb_mem 86 (by rfl) (by rfl)
theorem tb_86 : (Jvm.Cond.soleField "java/lang/Throwable" "cause") ∈ TB := tb_mem 87 (by rfl) (by rfl)
theorem tb_87 : (Jvm.Cond.soleField "java/lang/Throwable" "stackTrace") ∈ TB := tb_mem 88 (by rfl) (by rfl)
theorem tb_88 : (Jvm.Cond.lays "java/lang/ArithmeticException" "java/lang/Throwable" "depth" "I") ∈ TB := tb_mem 89 (by rfl) (by rfl)
theorem tb_89 : (Jvm.Cond.soleField "java/lang/Throwable" "depth") ∈ TB := tb_mem 90 (by rfl) (by rfl)
theorem tb_90 : (Jvm.Cond.soleField "java/lang/Throwable" "suppressedExceptions") ∈ TB := tb_mem 91 (by rfl) (by rfl)
theorem tb_91 : (Jvm.Cond.superclass "java/lang/ArithmeticException" "java/lang/RuntimeException") ∈ TB := tb_mem 92 (by rfl) (by rfl)
theorem tb_92 : (Jvm.Cond.arrayClass Jvm.ClassFile.FieldType.byte) ∈ TB := tb_mem 93 (by rfl) (by rfl)
theorem tb_93 : (Jvm.Cond.methodLink "MathDrillLaw" (46 : Nat) y_dAddJ) ∈ TB := tb_mem 94 (by rfl) (by rfl)
theorem tb_94 : (Jvm.Cond.instanceMethod y_dAddJ) ∈ TB := tb_mem 95 (by rfl) (by rfl)
theorem tb_95 : (Jvm.Cond.selects "MathDrill" y_dAddJ y_dAddJ) ∈ TB := tb_mem 96 (by rfl) (by rfl)
theorem tb_96 : (Jvm.Cond.codeWith y_dAddJ prog_1_method_4_code (6 : Nat) (Option.some Jvm.ClassFile.FieldType.long) [((5 : Nat), (10 : Nat), (11 : Nat), (19 : Nat))]) ∈ TB := tb_mem 97 (by rfl) (by rfl)
theorem tb_97 : (Jvm.Cond.methodLink "MathDrill" (21 : Nat) y_mAddJ) ∈ TB := tb_mem 98 (by rfl) (by rfl)
theorem tb_98 : (Jvm.Cond.static y_mAddJ) ∈ TB := tb_mem 99 (by rfl) (by rfl)
theorem tb_99 : (Jvm.Cond.code y_mAddJ prog_5_method_25_code (6 : Nat) (Option.some Jvm.ClassFile.FieldType.long)) ∈ TB := tb_mem 100 (by rfl) (by rfl)
theorem tl_100 : (Jvm.Cond.stringRef "java/lang/Math" (116 : Nat) "long overflow") ∈ lw_tbl := tl_mem 101 (by rfl)
theorem tb_101 : (Jvm.Cond.methodLink "MathDrillLaw" (68 : Nat) y_dSubI) ∈ TB := tb_mem 102 (by rfl) (by rfl)
theorem tb_102 : (Jvm.Cond.instanceMethod y_dSubI) ∈ TB := tb_mem 103 (by rfl) (by rfl)
theorem tb_103 : (Jvm.Cond.selects "MathDrill" y_dSubI y_dSubI) ∈ TB := tb_mem 104 (by rfl) (by rfl)
theorem tb_104 : (Jvm.Cond.codeWith y_dSubI prog_1_method_5_code (4 : Nat) (Option.some Jvm.ClassFile.FieldType.int) [((5 : Nat), (10 : Nat), (11 : Nat), (19 : Nat))]) ∈ TB := tb_mem 105 (by rfl) (by rfl)
theorem tb_105 : (Jvm.Cond.methodLink "MathDrill" (24 : Nat) y_mSubI) ∈ TB := tb_mem 106 (by rfl) (by rfl)
theorem tb_106 : (Jvm.Cond.static y_mSubI) ∈ TB := tb_mem 107 (by rfl) (by rfl)
theorem tb_107 : (Jvm.Cond.code y_mSubI prog_5_method_26_code (3 : Nat) (Option.some Jvm.ClassFile.FieldType.int)) ∈ TB := tb_mem 108 (by rfl) (by rfl)
theorem tb_108 : (Jvm.Cond.methodLink "MathDrillLaw" (61 : Nat) y_dSubJ) ∈ TB := tb_mem 109 (by rfl) (by rfl)
theorem tb_109 : (Jvm.Cond.instanceMethod y_dSubJ) ∈ TB := tb_mem 110 (by rfl) (by rfl)
theorem tb_110 : (Jvm.Cond.selects "MathDrill" y_dSubJ y_dSubJ) ∈ TB := tb_mem 111 (by rfl) (by rfl)
theorem tb_111 : (Jvm.Cond.codeWith y_dSubJ prog_1_method_6_code (6 : Nat) (Option.some Jvm.ClassFile.FieldType.long) [((5 : Nat), (10 : Nat), (11 : Nat), (19 : Nat))]) ∈ TB := tb_mem 112 (by rfl) (by rfl)
theorem tb_112 : (Jvm.Cond.methodLink "MathDrill" (27 : Nat) y_mSubJ) ∈ TB := tb_mem 113 (by rfl) (by rfl)
theorem tb_113 : (Jvm.Cond.static y_mSubJ) ∈ TB := tb_mem 114 (by rfl) (by rfl)
theorem tb_114 : (Jvm.Cond.code y_mSubJ prog_5_method_27_code (6 : Nat) (Option.some Jvm.ClassFile.FieldType.long)) ∈ TB := tb_mem 115 (by rfl) (by rfl)
theorem tb_115 : (Jvm.Cond.methodLink "MathDrillLaw" (73 : Nat) y_dMulI) ∈ TB := tb_mem 116 (by rfl) (by rfl)
theorem tb_116 : (Jvm.Cond.instanceMethod y_dMulI) ∈ TB := tb_mem 117 (by rfl) (by rfl)
theorem tb_117 : (Jvm.Cond.selects "MathDrill" y_dMulI y_dMulI) ∈ TB := tb_mem 118 (by rfl) (by rfl)
theorem tb_118 : (Jvm.Cond.codeWith y_dMulI prog_1_method_7_code (4 : Nat) (Option.some Jvm.ClassFile.FieldType.int) [((5 : Nat), (10 : Nat), (11 : Nat), (19 : Nat))]) ∈ TB := tb_mem 119 (by rfl) (by rfl)
theorem tb_119 : (Jvm.Cond.methodLink "MathDrill" (29 : Nat) y_mMulI) ∈ TB := tb_mem 120 (by rfl) (by rfl)
theorem tb_120 : (Jvm.Cond.static y_mMulI) ∈ TB := tb_mem 121 (by rfl) (by rfl)
theorem tb_121 : (Jvm.Cond.code y_mMulI prog_5_method_28_code (4 : Nat) (Option.some Jvm.ClassFile.FieldType.int)) ∈ TB := tb_mem 122 (by rfl) (by rfl)
theorem tb_122 : (Jvm.Cond.methodLink "MathDrillLaw" (70 : Nat) y_dMulJ) ∈ TB := tb_mem 123 (by rfl) (by rfl)
theorem tb_123 : (Jvm.Cond.instanceMethod y_dMulJ) ∈ TB := tb_mem 124 (by rfl) (by rfl)
theorem tb_124 : (Jvm.Cond.selects "MathDrill" y_dMulJ y_dMulJ) ∈ TB := tb_mem 125 (by rfl) (by rfl)
theorem tb_125 : (Jvm.Cond.codeWith y_dMulJ prog_1_method_8_code (6 : Nat) (Option.some Jvm.ClassFile.FieldType.long) [((5 : Nat), (10 : Nat), (11 : Nat), (19 : Nat))]) ∈ TB := tb_mem 126 (by rfl) (by rfl)
theorem tb_126 : (Jvm.Cond.methodLink "MathDrill" (32 : Nat) y_mMulJ) ∈ TB := tb_mem 127 (by rfl) (by rfl)
theorem tb_127 : (Jvm.Cond.static y_mMulJ) ∈ TB := tb_mem 128 (by rfl) (by rfl)
theorem tb_128 : (Jvm.Cond.code y_mMulJ prog_5_method_30_code (10 : Nat) (Option.some Jvm.ClassFile.FieldType.long)) ∈ TB := tb_mem 129 (by rfl) (by rfl)
theorem tb_129 : (Jvm.Cond.methodLink "java/lang/Math" (122 : Nat) y_mAbs) ∈ TB := tb_mem 130 (by rfl) (by rfl)
theorem tb_130 : (Jvm.Cond.static y_mAbs) ∈ TB := tb_mem 131 (by rfl) (by rfl)
theorem tb_131 : (Jvm.Cond.code y_mAbs prog_5_method_61_code (2 : Nat) (Option.some Jvm.ClassFile.FieldType.long)) ∈ TB := tb_mem 132 (by rfl) (by rfl)
theorem tb_132 : (Jvm.Cond.constantLong "java/lang/Math" (128 : Nat) (-9223372036854775808 : Int64)) ∈ TB := tb_mem 133 (by rfl) (by rfl)
theorem tb_133 : (Jvm.Cond.constantLong "java/lang/Math" (130 : Nat) (-1 : Int64)) ∈ TB := tb_mem 134 (by rfl) (by rfl)
theorem tb_134 : (Jvm.Cond.methodLink "MathDrillLaw" (79 : Nat) y_dNar) ∈ TB := tb_mem 135 (by rfl) (by rfl)
theorem tb_135 : (Jvm.Cond.instanceMethod y_dNar) ∈ TB := tb_mem 136 (by rfl) (by rfl)
theorem tb_136 : (Jvm.Cond.selects "MathDrill" y_dNar y_dNar) ∈ TB := tb_mem 137 (by rfl) (by rfl)
theorem tb_137 : (Jvm.Cond.codeWith y_dNar prog_1_method_9_code (4 : Nat) (Option.some Jvm.ClassFile.FieldType.int) [((5 : Nat), (9 : Nat), (10 : Nat), (19 : Nat))]) ∈ TB := tb_mem 138 (by rfl) (by rfl)
theorem tb_138 : (Jvm.Cond.methodLink "MathDrill" (34 : Nat) y_mToI) ∈ TB := tb_mem 139 (by rfl) (by rfl)
theorem tb_139 : (Jvm.Cond.static y_mToI) ∈ TB := tb_mem 140 (by rfl) (by rfl)
theorem tb_140 : (Jvm.Cond.code y_mToI prog_5_method_43_code (2 : Nat) (Option.some Jvm.ClassFile.FieldType.int)) ∈ TB := tb_mem 141 (by rfl) (by rfl)
theorem tb_141 : (Jvm.Cond.methodLink "MathDrillLaw" (75 : Nat) y_dNeg) ∈ TB := tb_mem 142 (by rfl) (by rfl)
theorem tb_142 : (Jvm.Cond.instanceMethod y_dNeg) ∈ TB := tb_mem 143 (by rfl) (by rfl)
theorem tb_143 : (Jvm.Cond.selects "MathDrill" y_dNeg y_dNeg) ∈ TB := tb_mem 144 (by rfl) (by rfl)
theorem tb_144 : (Jvm.Cond.codeWith y_dNeg prog_1_method_10_code (4 : Nat) (Option.some Jvm.ClassFile.FieldType.long) [((5 : Nat), (9 : Nat), (10 : Nat), (19 : Nat))]) ∈ TB := tb_mem 145 (by rfl) (by rfl)
theorem tb_145 : (Jvm.Cond.methodLink "MathDrill" (38 : Nat) y_mNeg) ∈ TB := tb_mem 146 (by rfl) (by rfl)
theorem tb_146 : (Jvm.Cond.static y_mNeg) ∈ TB := tb_mem 147 (by rfl) (by rfl)
theorem tb_147 : (Jvm.Cond.code y_mNeg prog_5_method_42_code (2 : Nat) (Option.some Jvm.ClassFile.FieldType.long)) ∈ TB := tb_mem 148 (by rfl) (by rfl)
theorem tb_148 : (Jvm.Cond.methodLink "MathDrillLaw" (83 : Nat) y_dQuoJ) ∈ TB := tb_mem 149 (by rfl) (by rfl)
theorem tb_149 : (Jvm.Cond.instanceMethod y_dQuoJ) ∈ TB := tb_mem 150 (by rfl) (by rfl)
theorem tb_150 : (Jvm.Cond.selects "MathDrill" y_dQuoJ y_dQuoJ) ∈ TB := tb_mem 151 (by rfl) (by rfl)
theorem tb_151 : (Jvm.Cond.code y_dQuoJ prog_1_method_11_code (5 : Nat) (Option.some Jvm.ClassFile.FieldType.long)) ∈ TB := tb_mem 152 (by rfl) (by rfl)
theorem tb_152 : (Jvm.Cond.methodLink "MathDrill" (42 : Nat) y_mFdJ) ∈ TB := tb_mem 153 (by rfl) (by rfl)
theorem tb_153 : (Jvm.Cond.static y_mFdJ) ∈ TB := tb_mem 154 (by rfl) (by rfl)
theorem tb_154 : (Jvm.Cond.code y_mFdJ prog_5_method_49_code (6 : Nat) (Option.some Jvm.ClassFile.FieldType.long)) ∈ TB := tb_mem 155 (by rfl) (by rfl)
theorem tb_155 : (Jvm.Cond.methodLink "MathDrillLaw" (86 : Nat) y_dResJ) ∈ TB := tb_mem 156 (by rfl) (by rfl)
theorem tb_156 : (Jvm.Cond.instanceMethod y_dResJ) ∈ TB := tb_mem 157 (by rfl) (by rfl)
theorem tb_157 : (Jvm.Cond.selects "MathDrill" y_dResJ y_dResJ) ∈ TB := tb_mem 158 (by rfl) (by rfl)
theorem tb_158 : (Jvm.Cond.code y_dResJ prog_1_method_12_code (5 : Nat) (Option.some Jvm.ClassFile.FieldType.long)) ∈ TB := tb_mem 159 (by rfl) (by rfl)
theorem tb_159 : (Jvm.Cond.methodLink "MathDrill" (45 : Nat) y_mFmJ) ∈ TB := tb_mem 160 (by rfl) (by rfl)
theorem tb_160 : (Jvm.Cond.static y_mFmJ) ∈ TB := tb_mem 161 (by rfl) (by rfl)
theorem tb_161 : (Jvm.Cond.code y_mFmJ prog_5_method_52_code (6 : Nat) (Option.some Jvm.ClassFile.FieldType.long)) ∈ TB := tb_mem 162 (by rfl) (by rfl)
theorem tb_162 : (Jvm.Cond.methodLink "MathDrillLaw" (96 : Nat) y_dQuoI) ∈ TB := tb_mem 163 (by rfl) (by rfl)
theorem tb_163 : (Jvm.Cond.instanceMethod y_dQuoI) ∈ TB := tb_mem 164 (by rfl) (by rfl)
theorem tb_164 : (Jvm.Cond.selects "MathDrill" y_dQuoI y_dQuoI) ∈ TB := tb_mem 165 (by rfl) (by rfl)
theorem tb_165 : (Jvm.Cond.code y_dQuoI prog_1_method_13_code (3 : Nat) (Option.some Jvm.ClassFile.FieldType.int)) ∈ TB := tb_mem 166 (by rfl) (by rfl)
theorem tb_166 : (Jvm.Cond.methodLink "MathDrill" (48 : Nat) y_mFdI) ∈ TB := tb_mem 167 (by rfl) (by rfl)
theorem tb_167 : (Jvm.Cond.static y_mFdI) ∈ TB := tb_mem 168 (by rfl) (by rfl)
theorem tb_168 : (Jvm.Cond.code y_mFdI prog_5_method_47_code (3 : Nat) (Option.some Jvm.ClassFile.FieldType.int)) ∈ TB := tb_mem 169 (by rfl) (by rfl)
theorem tb_169 : (Jvm.Cond.methodLink "MathDrillLaw" (98 : Nat) y_dResI) ∈ TB := tb_mem 170 (by rfl) (by rfl)
theorem tb_170 : (Jvm.Cond.instanceMethod y_dResI) ∈ TB := tb_mem 171 (by rfl) (by rfl)
theorem tb_171 : (Jvm.Cond.selects "MathDrill" y_dResI y_dResI) ∈ TB := tb_mem 172 (by rfl) (by rfl)
theorem tb_172 : (Jvm.Cond.code y_dResI prog_1_method_14_code (3 : Nat) (Option.some Jvm.ClassFile.FieldType.int)) ∈ TB := tb_mem 173 (by rfl) (by rfl)
theorem tb_173 : (Jvm.Cond.methodLink "MathDrill" (50 : Nat) y_mFmI) ∈ TB := tb_mem 174 (by rfl) (by rfl)
theorem tb_174 : (Jvm.Cond.static y_mFmI) ∈ TB := tb_mem 175 (by rfl) (by rfl)
theorem tb_175 : (Jvm.Cond.code y_mFmI prog_5_method_50_code (3 : Nat) (Option.some Jvm.ClassFile.FieldType.int)) ∈ TB := tb_mem 176 (by rfl) (by rfl)
theorem tb_176 : (Jvm.Cond.methodLink "MathDrillLaw" (100 : Nat) y_dHigh) ∈ TB := tb_mem 177 (by rfl) (by rfl)
theorem tb_177 : (Jvm.Cond.instanceMethod y_dHigh) ∈ TB := tb_mem 178 (by rfl) (by rfl)
theorem tb_178 : (Jvm.Cond.selects "MathDrill" y_dHigh y_dHigh) ∈ TB := tb_mem 179 (by rfl) (by rfl)
theorem tb_179 : (Jvm.Cond.code y_dHigh prog_1_method_15_code (5 : Nat) (Option.some Jvm.ClassFile.FieldType.long)) ∈ TB := tb_mem 180 (by rfl) (by rfl)
theorem tb_180 : (Jvm.Cond.methodLink "MathDrill" (52 : Nat) y_mHigh) ∈ TB := tb_mem 181 (by rfl) (by rfl)
theorem tb_181 : (Jvm.Cond.static y_mHigh) ∈ TB := tb_mem 182 (by rfl) (by rfl)
theorem tb_182 : (Jvm.Cond.code y_mHigh prog_5_method_45_code (20 : Nat) (Option.some Jvm.ClassFile.FieldType.long)) ∈ TB := tb_mem 183 (by rfl) (by rfl)
theorem tb_183 : (Jvm.Cond.constantLong "java/lang/Math" (138 : Nat) (4294967295 : Int64)) ∈ TB := tb_mem 184 (by rfl) (by rfl)
theorem tb_184 : (Jvm.Cond.methodLink "MathDrillLaw" (102 : Nat) y_dFull) ∈ TB := tb_mem 185 (by rfl) (by rfl)
theorem tb_185 : (Jvm.Cond.instanceMethod y_dFull) ∈ TB := tb_mem 186 (by rfl) (by rfl)
theorem tb_186 : (Jvm.Cond.selects "MathDrill" y_dFull y_dFull) ∈ TB := tb_mem 187 (by rfl) (by rfl)
theorem tb_187 : (Jvm.Cond.code y_dFull prog_1_method_16_code (3 : Nat) (Option.some Jvm.ClassFile.FieldType.long)) ∈ TB := tb_mem 188 (by rfl) (by rfl)
theorem tb_188 : (Jvm.Cond.methodLink "MathDrill" (55 : Nat) y_mFull) ∈ TB := tb_mem 189 (by rfl) (by rfl)
theorem tb_189 : (Jvm.Cond.static y_mFull) ∈ TB := tb_mem 190 (by rfl) (by rfl)
theorem tb_190 : (Jvm.Cond.code y_mFull prog_5_method_44_code (2 : Nat) (Option.some Jvm.ClassFile.FieldType.long)) ∈ TB := tb_mem 191 (by rfl) (by rfl)
theorem tb_191 : (Jvm.Cond.methodLink "MathDrillLaw" (106 : Nat) y_dLar) ∈ TB := tb_mem 192 (by rfl) (by rfl)
theorem tb_192 : (Jvm.Cond.instanceMethod y_dLar) ∈ TB := tb_mem 193 (by rfl) (by rfl)
theorem tb_193 : (Jvm.Cond.selects "MathDrill" y_dLar y_dLar) ∈ TB := tb_mem 194 (by rfl) (by rfl)
theorem tb_194 : (Jvm.Cond.code y_dLar prog_1_method_17_code (5 : Nat) (Option.some Jvm.ClassFile.FieldType.long)) ∈ TB := tb_mem 195 (by rfl) (by rfl)
theorem tb_195 : (Jvm.Cond.methodLink "MathDrill" (59 : Nat) y_mMax) ∈ TB := tb_mem 196 (by rfl) (by rfl)
theorem tb_196 : (Jvm.Cond.static y_mMax) ∈ TB := tb_mem 197 (by rfl) (by rfl)
theorem tb_197 : (Jvm.Cond.code y_mMax prog_5_method_66_code (4 : Nat) (Option.some Jvm.ClassFile.FieldType.long)) ∈ TB := tb_mem 198 (by rfl) (by rfl)
theorem tb_198 : (Jvm.Cond.methodLink "MathDrill" (62 : Nat) y_mMin) ∈ TB := tb_mem 199 (by rfl) (by rfl)
theorem tb_199 : (Jvm.Cond.static y_mMin) ∈ TB := tb_mem 200 (by rfl) (by rfl)
theorem tb_200 : (Jvm.Cond.code y_mMin prog_5_method_70_code (4 : Nat) (Option.some Jvm.ClassFile.FieldType.long)) ∈ TB := tb_mem 201 (by rfl) (by rfl)
theorem tb_201 : (Jvm.Cond.methodLink "MathDrill" (65 : Nat) y_mAbs) ∈ TB := tb_mem 202 (by rfl) (by rfl)
theorem tb_202 : (Jvm.Cond.methodLink "MathDrillLaw" (9 : Nat) y_lOf) ∈ TB := tb_mem 203 (by rfl) (by rfl)
theorem tb_203 : (Jvm.Cond.static y_lOf) ∈ TB := tb_mem 204 (by rfl) (by rfl)
theorem tb_204 : (Jvm.Cond.code y_lOf method_2_code (2 : Nat) (Option.some (Jvm.ClassFile.FieldType.array Jvm.ClassFile.FieldType.int))) ∈ TB := tb_mem 205 (by rfl) (by rfl)
theorem tb_205 : (Jvm.Cond.arrayClass Jvm.ClassFile.FieldType.int) ∈ TB := tb_mem 206 (by rfl) (by rfl)
theorem tb_206 : (Jvm.Cond.methodLink "MathDrillLaw" (15 : Nat) y_lPlus) ∈ TB := tb_mem 207 (by rfl) (by rfl)
theorem tb_207 : (Jvm.Cond.static y_lPlus) ∈ TB := tb_mem 208 (by rfl) (by rfl)
theorem tb_208 : (Jvm.Cond.code y_lPlus method_3_code (6 : Nat) (Option.some (Jvm.ClassFile.FieldType.array Jvm.ClassFile.FieldType.int))) ∈ TB := tb_mem 209 (by rfl) (by rfl)
theorem tb_209 : (Jvm.Cond.constantLong "MathDrillLaw" (7 : Nat) (4294967295 : Int64)) ∈ TB := tb_mem 210 (by rfl) (by rfl)
theorem tb_210 : (Jvm.Cond.methodLink "MathDrillLaw" (64 : Nat) y_lMin) ∈ TB := tb_mem 211 (by rfl) (by rfl)
theorem tb_211 : (Jvm.Cond.static y_lMin) ∈ TB := tb_mem 212 (by rfl) (by rfl)
theorem tb_212 : (Jvm.Cond.code y_lMin method_4_code (3 : Nat) (Option.some (Jvm.ClassFile.FieldType.array Jvm.ClassFile.FieldType.int))) ∈ TB := tb_mem 213 (by rfl) (by rfl)
theorem tb_213 : (Jvm.Cond.methodLink "MathDrillLaw" (36 : Nat) y_lTim) ∈ TB := tb_mem 214 (by rfl) (by rfl)
theorem tb_214 : (Jvm.Cond.static y_lTim) ∈ TB := tb_mem 215 (by rfl) (by rfl)
theorem tb_215 : (Jvm.Cond.code y_lTim method_5_code (7 : Nat) (Option.some (Jvm.ClassFile.FieldType.array Jvm.ClassFile.FieldType.int))) ∈ TB := tb_mem 216 (by rfl) (by rfl)
theorem tb_216 : (Jvm.Cond.methodLink "MathDrillLaw" (23 : Nat) y_lLow) ∈ TB := tb_mem 217 (by rfl) (by rfl)
theorem tb_217 : (Jvm.Cond.static y_lLow) ∈ TB := tb_mem 218 (by rfl) (by rfl)
theorem tb_218 : (Jvm.Cond.code y_lLow method_6_code (1 : Nat) (Option.some Jvm.ClassFile.FieldType.long)) ∈ TB := tb_mem 219 (by rfl) (by rfl)
theorem tb_219 : (Jvm.Cond.methodLink "MathDrillLaw" (19 : Nat) y_lHigh) ∈ TB := tb_mem 220 (by rfl) (by rfl)
theorem tb_220 : (Jvm.Cond.static y_lHigh) ∈ TB := tb_mem 221 (by rfl) (by rfl)
theorem tb_221 : (Jvm.Cond.code y_lHigh method_7_code (1 : Nat) (Option.some Jvm.ClassFile.FieldType.long)) ∈ TB := tb_mem 222 (by rfl) (by rfl)
theorem tb_222 : (Jvm.Cond.methodLink "MathDrillLaw" (50 : Nat) y_lTold) ∈ TB := tb_mem 223 (by rfl) (by rfl)
theorem tb_223 : (Jvm.Cond.static y_lTold) ∈ TB := tb_mem 224 (by rfl) (by rfl)
theorem tb_224 : (Jvm.Cond.code y_lTold method_9_code (4 : Nat) (Option.some Jvm.ClassFile.FieldType.boolean)) ∈ TB := tb_mem 225 (by rfl) (by rfl)
theorem tb_225 : (Jvm.Cond.methodLink "MathDrillLaw" (26 : Nat) y_lFits) ∈ TB := tb_mem 226 (by rfl) (by rfl)
theorem tb_226 : (Jvm.Cond.static y_lFits) ∈ TB := tb_mem 227 (by rfl) (by rfl)
theorem tb_227 : (Jvm.Cond.code y_lFits method_8_code (1 : Nat) (Option.some Jvm.ClassFile.FieldType.boolean)) ∈ TB := tb_mem 228 (by rfl) (by rfl)
theorem tb_228 : (Jvm.Cond.methodLink "MathDrillLaw" (30 : Nat) y_dOver) ∈ TB := tb_mem 229 (by rfl) (by rfl)
theorem tb_229 : (Jvm.Cond.instanceMethod y_dOver) ∈ TB := tb_mem 230 (by rfl) (by rfl)
theorem tb_230 : (Jvm.Cond.selects "MathDrill" y_dOver y_dOver) ∈ TB := tb_mem 231 (by rfl) (by rfl)
theorem tb_231 : (Jvm.Cond.code y_dOver prog_1_method_2_code (1 : Nat) (Option.some Jvm.ClassFile.FieldType.boolean)) ∈ TB := tb_mem 232 (by rfl) (by rfl)
theorem tb_232 : (Jvm.Cond.methodLink "MathDrillLaw" (57 : Nat) y_lTolI) ∈ TB := tb_mem 233 (by rfl) (by rfl)
theorem tb_233 : (Jvm.Cond.static y_lTolI) ∈ TB := tb_mem 234 (by rfl) (by rfl)
theorem tb_234 : (Jvm.Cond.code y_lTolI method_10_code (4 : Nat) (Option.some Jvm.ClassFile.FieldType.boolean)) ∈ TB := tb_mem 235 (by rfl) (by rfl)
theorem tb_235 : (Jvm.Cond.methodLink "MathDrillLaw" (89 : Nat) y_lPart) ∈ TB := tb_mem 236 (by rfl) (by rfl)
theorem tb_236 : (Jvm.Cond.static y_lPart) ∈ TB := tb_mem 237 (by rfl) (by rfl)
theorem tb_237 : (Jvm.Cond.code y_lPart method_11_code (9 : Nat) (Option.some Jvm.ClassFile.FieldType.boolean)) ∈ TB := tb_mem 238 (by rfl) (by rfl)
theorem tb_238 : (Jvm.Cond.constantLong "MathDrillLaw" (41 : Nat) (-9223372036854775808 : Int64)) ∈ TB := tb_mem 239 (by rfl) (by rfl)
theorem tb_239 : (Jvm.Cond.constantLong "MathDrillLaw" (43 : Nat) (-1 : Int64)) ∈ TB := tb_mem 240 (by rfl) (by rfl)
theorem tb_240 : (Jvm.Cond.constant "MathDrillLaw" (95 : Nat) (-2147483648 : Int32)) ∈ TB := tb_mem 241 (by rfl) (by rfl)
theorem tb_241 : (Jvm.Cond.sameMethod "java/lang/Throwable" "java/lang/Throwable" "fillInStackTrace" "(I)Ljava/lang/Throwable;") ∈ TB := tb_mem 242 (by rfl) (by rfl)
end
section
/-! rows of this proof: a contract that ends in a throw; a call of such a method inside a try range (the catch type is resolved or not); virtual calls of methods with a handler table -/
def tx_Met (l : Launch) (y : MethodName) (ws : List Jvm.Cond) (rm : Room) (Pc : Array Value → State → Prop) (Qc : Array Value → State → Addr → State → Prop) (mc ms : Nat) : Prop :=
  MetFree l y (headSpec ws rm) Pc (fun _ _ _ _ _ => True) (fun a st o t => ∃ x, o = .threw x ∧ Qc a st x t ∧ st.WarmedH t.vm ∧ st.sameButNew ({ t with vm := st.vm } : State) [] mc ms)
def tx_MQ (below : List Frame) (Qc : Array Value → State → Addr → State → Prop) (a : Array Value) (s : State) (mc ms : Nat) : State → Prop := fun t =>
  ∃ x, t.status = .running ∧ Ended t below (.threw x) ∧ Qc a s x t ∧ s.WarmedH t.vm ∧ s.sameButNew ({ t with vm := s.vm } : State) [] mc ms
section TXA
variable {l : Launch}
theorem tx_ofW {y : MethodName} {ws ws' : List Jvm.Cond} {rm : Room} {Pc : Array Value → State → Prop} {Qc : Array Value → State → Addr → State → Prop} {mc ms : Nat} {cc : ByteArray} {maxL : Nat} {ret : Option FieldType}
    (hy : plainFor y = true) (hw : ws = Jvm.Cond.code y cc maxL ret :: ws')
    (body : ∀ p e s m args below meth c s₁, BodyLoose p l y (headSpec ws rm) cc maxL ret e s m args below meth c s₁ → c.maxLocals = maxL → Pc args s →
      W p l e (headSpec ws rm).room s m args below meth c s.heap [] 0 0 (tx_MQ below Qc args s mc ms) (entryFrame m args maxL)) : tx_Met l y ws rm Pc Qc mc ms := by
  refine MetFree.of_bodySF (code := cc) (maxLocals := maxL) (ret := ret) hy ?_ ?_
  · intro args s m h hn
    obtain ⟨meth, c, h1, h2, h3, h4, h5, h6, -, -⟩ := Cond.code_spec hn (atoms_spec (ws := ws) h _ (by rw [hw]; exact List.mem_cons_self))
    exact ⟨meth, c, h1, h2, h3, h4, h5, h6⟩
  · intro p e s m args below meth c s₁ B hml hP _
    have hh0 : s₁.heap = s.heap := by rw [B.state]; rfl
    obtain ⟨t, a1, x, b1, b2, b3⟩ := body p e s m args below meth c s₁ B hml hP s₁ hh0 (Stand.of_body B)
    exact ⟨t, .threw x, a1, b1, b2, x, rfl, b3⟩
end TXA
section TXB
variable {p : Program} {l : Launch} {e : Env} {R : Room} {s : State} {m : MethodId} {args : Array Value} {below : List Frame} {meth : Method} {c : Code} {T : State} {locs : List Loc} {cells slots : Nat} {H : Heap} {Q : State → Prop}
/-- the handler is found: its catch type is resolved, or links -/
theorem tx_catch (X : Stand p l e R s m args below meth c T locs cells slots) {own name : String} {index hpc : Nat} (hown : s.vm.findClass own = some m.cls) (hlink : (Jvm.Cond.classLink own index name).before args s = true)
    {x0 : ExceptionTableEntry} (htab : c.exceptionTable.toList = [x0]) (hidx : x0.catchType = index) (hhp : x0.handlerPc = hpc) (h0 : index ≠ 0)
    {a : Addr} {cell : Cell} {cT : ClassId} {ks : Class} (hcell : T.heap[a]? = some cell) (hobj : ∀ k, cell.vm ≠ .statics k) (hks : s.vm.classes[cell.cls]? = some ks) (hcT : s.vm.findClass name = some cT) (hasg : s.vm.assignable cell.cls cT = true)
    {g : JFrame} (hg : g.method = m) (hcov : covers x0 g.pc = true) :
    ∃ vm', Stand p l e R s m args below meth c (T.setVm vm') locs cells slots ∧
      ∀ target, Steps p.tables e below ((T.setVm vm').setTop { g with pc := hpc, stack := [.ref a] }) target → Steps p.tables e below ((T.setTop g).pushFrame (.throwing a)) target := by
  have hpl : e.platform.magicAccessors = ({} : Platform).magicAccessors := by rw [X.admits.platform]
  obtain ⟨c', hc', hcl⟩ := Cond.classLink_spec hown hlink e.platform hpl
  cases hcT.symm.trans hc'
  obtain ⟨dk, _, _, kt, hd, _, _, _, _, hkt, _, hopen⟩ := hcl.here
  have hcl₀ := X.warmed.classLinks hcl
  have hW' : s.WarmedH (T.vm.noted m.cls index (.cls cT)) := X.warmed.noted hd hopen (State.rightAt_cls hcl)
  obtain ⟨ks', hks', -⟩ := hW'.alike.2.2 _ _ hks
  obtain ⟨kt', hkt', -⟩ := hW'.alike.2.2 _ _ hkt
  have hsz : (T.vm.noted m.cls index (.cls cT)).classes.size ≤ T.vm.classes.size := by simp
  have has' : (T.vm.noted m.cls index (.cls cT)).assignable cell.cls cT = true := by rw [hW'.alike.assignable]; exact hasg
  refine ⟨_, X.noted hW', fun target hrest => ?_⟩
  subst hg
  subst hhp
  have h : At T g.method c below := X.here
  obtain ⟨hgo, hw⟩ := h.throwing a
  refine Steps.head hgo hw ?_
  rw [stepThread_throwing (frames_entered h.top _)]
  obtain ⟨ha, ht⟩ := (resolveClass_links e.toSetting hcl₀).op (op := VmOp.resolveClass g.method.cls index) rfl
  have hvm : ((T.setTop g).pushFrame (.throwing a)).vm = T.vm := Stand.throwing_vm T g a
  have hhp2 : ((T.setTop g).pushFrame (.throwing a)).heap = T.heap := Stand.throwing_heap T g a
  have key : (stepThrowing e ((T.setTop g).pushFrame (.throwing a)) a (.java g :: T.frames.tail)).Is ((((T.setTop g).pushFrame (.throwing a)).setVm (T.vm.noted g.method.cls index (.cls cT))).setFrames (.java { g with pc := x0.handlerPc, stack := [.ref a] } :: T.frames.tail)) [] := by
    simp only [stepThrowing, searchFrame, vmDo]
    generalize hr : Sem.go _ e false [] ((T.setTop g).pushFrame (.throwing a)) = res
    obtain ⟨as, rfl, ha2⟩ := Sem.eq_ok_of hr (a := Handler.found x0.handlerPc) (s' := ((T.setTop g).pushFrame (.throwing a)).setVm (T.vm.noted g.method.cls index (.cls cT))) (acts' := []) (by
      have hm2 : ((T.setTop g).pushFrame (.throwing a)).vm.method? g.method = some meth := by rw [hvm]; exact X.method'
      simp only [wp_bind', W.findHandler_eq hm2 X.code, htab]
      simp only [covers] at hcov
      rw [← hidx] at ha ht h0 hsz hks' hkt' has' ⊢
      simp [findHandler.go, hcov, h0, hvm, hhp2, ha, ht, hsz, hcell, hobj, hks', hkt', has', VmOp.dirties, VmOp.acts])
    exact ⟨rfl, ha2⟩
  rw [key.1]
  obtain ⟨g₀, hg0⟩ := Option.isSome_iff_exists.mp h.top
  obtain ⟨r, hr⟩ := State.topJava?_eq_some.mp hg0
  have hr' : (T.setVm (T.vm.noted g.method.cls index (.cls cT))).frames = .java g₀ :: r := hr
  rw [State.setTop_of_frames _ hr'] at hrest
  have e1 : (((T.setTop g).pushFrame (.throwing a)).setVm (T.vm.noted g.method.cls index (.cls cT))).setFrames (.java { g with pc := x0.handlerPc, stack := [.ref a] } :: T.frames.tail) = (T.setVm (T.vm.noted g.method.cls index (.cls cT))).setFrames (.java { g with pc := x0.handlerPc, stack := [.ref a] } :: r) := by
    rw [State.pushFrame, State.setTop_of_frames _ hr, State.setFrames_setFrames, hr]
    show ((T.setFrames _).setFrames _).setVm _ = _
    rw [State.setFrames_setFrames]
    rfl
  rw [e1]
  exact hrest
end TXB
end
section
/-! rows of this proof, 2 -/
theorem tx_same {s t : State} {k n : Nat} (h : s.sameButNew ({ t with vm := s.vm } : State) [] k n) : s.heap.size ≤ t.heap.size ∧ ∀ q : Nat, q < s.heap.size → t.heap[q]? = s.heap[q]? := by
  obtain ⟨-, h2, -, -, -, h6⟩ := h
  refine ⟨h2, fun q hq => ?_⟩
  have hc : s.heap[q]? = some s.heap[q] := Array.getElem?_eq_getElem hq
  obtain ⟨c', e1, e2, e3, e4⟩ := h6 q _ hc
  have e5 : c'.slots = s.heap[q].slots := Array.ext_getElem? (fun i => e4 i (by simp))
  rw [hc]
  have e6 : t.heap[q]? = some c' := e1
  rw [e6, e2, e5]
section TXC
variable {p : Program} {l : Launch} {e : Env} {R : Room} {s : State} {m : MethodId} {args : Array Value} {below : List Frame} {meth : Method} {c : Code} {locs : List Loc} {cells slots : Nat} {H : Heap} {Q : State → Prop}
  {Ts ws : List Jvm.Cond} {cc bytes : ByteArray} {nL maxL index n mc ms : Nat} {own : String} {y : MethodName} {ret : Option FieldType} {rm : Room} {Pc : Array Value → State → Prop} {As rest : List Value} {g : JFrame}
/-- a static call in a try range, of a method that throws: it goes on at the handler, the exception alone on the stack; old cells are as they were -/
theorem tx_runS {Qc : Array Value → State → Addr → State → Prop} (S : CallFix p m c cc nL s args Ts own) (hM : tx_Met l y ws rm Pc Qc mc ms) (cw : CallB R s args own index y bytes maxL ret ws rm mc ms n ∧ (Jvm.Cond.static y).before args s = true) (hp : PreS s H Pc As)
    (hg : g.method = m) (hn : As.length = n) (hsize : g.locals.size = nL) (hstack : g.stack = As.reverse ++ rest) (hW : 2 * g.monitorRoom + (rest.map fun v => v.category).sum ≤ 8) (hdg : decode cc g.pc = .ok (.invokestatic index, 3)) (hf : cells + mc ≤ R.cells ∧ slots + ms ≤ R.slots)
    {name : String} {hix hpc : Nat} (hlink : (Jvm.Cond.classLink own hix name).before args s = true) {x0 : ExceptionTableEntry} (htab : c.exceptionTable.toList = [x0]) (hidx : x0.catchType = hix) (hhp : x0.handlerPc = hpc) (h0 : hix ≠ 0) (hcov : covers x0 g.pc = true)
    (hthr : ∀ st x t, s.vm.Alike st.vm → Qc As.toArray st x t → ∃ cell : Cell, t.heap[x]? = some cell ∧ cell.vm.isStatics = false ∧ s.vm.findClass name = some cell.cls ∧ s.vm.assignable cell.cls cell.cls = true)
    (kk : ∀ (x : Addr) (H' : Heap), H.size ≤ H'.size → (∀ q : Nat, q < H.size → H'[q]? = H[q]?) → W p l e R s m args below meth c H' locs (cells + mc) (slots + ms) Q { g with pc := hpc, stack := [.ref x] }) : W p l e R s m args below meth c H locs cells slots Q g := by
  obtain ⟨⟨hrc, hrs, hfr, hlo, hws, hcw, hcode, hini, hy, hlen, hl⟩, hstt⟩ := cw
  obtain ⟨hx, hb, hml, ho, -⟩ := S
  intro T hT X
  obtain ⟨mk, hnamed⟩ := Cond.code_named hcode
  obtain ⟨methM, cM, hmethM, -, -, -, -, -, -, hsigM⟩ := Cond.code_spec hnamed hcode
  have hstatic : methM.isStatic = true := Cond.static_spec hnamed hmethM hstt
  obtain ⟨kP, hkP, -⟩ := className_of_methodNamed hnamed
  have hinitP : kP.init = .initialized := Cond.initialized_spec (findClass_of_methodNamed hnamed) hkP hini
  obtain ⟨vm₁, X₁, hstep₁⟩ := X.invokestatic hx ho hl hnamed hmethM hstatic hkP hinitP hy (g := g) hg (argsL := As) (rest := rest) (hn.trans (hlen _ hsigM)) hstack (by rw [hb]; exact hdg)
  have hT1 : (T.setVm vm₁).heap = H := hT
  generalize T.setVm vm₁ = U at X₁ hstep₁ hT1
  have hsize2 : ({ g with stack := rest } : JFrame).locals.size = c.maxLocals := hsize.trans hml.symm
  have hcodeU : (Jvm.Cond.code y bytes maxL ret).before As.toArray U = true := hws _ hcw _ _ X₁.warmed
  have hnU := X₁.named hnamed
  obtain ⟨methY, cY, hmY, hcY, -, hlY, -, -, -, -⟩ := Cond.code_spec hnU hcodeU
  obtain ⟨kY, hkY, -⟩ := className_of_methodNamed hnU
  have hiU : (Jvm.Cond.initialized y.cls).before As.toArray U = true := word_at X₁.warmed (Or.inl (by first | rfl | simp [Cond.onTables, Cond.keeps, Cond.steady])) hini
  have hinitY : kY.init = .initialized := Cond.initialized_spec (findClass_of_methodNamed hnU) hkY hiU
  have h : At U ({ g with stack := rest } : JFrame).method c below := by show At U g.method c below; rw [hg]; exact X₁.here
  have hdg2 : decode c.code ({ g with stack := rest } : JFrame).pc = .ok (.invokestatic index, 3) := by rw [hb]; exact hdg
  have happ : (headSpec ws rm).appliesLoose y e.platform (U.calling { g with stack := rest } mk As.toArray) = true :=
    Spec.appliesLoose_calling (g := { g with stack := rest }) h hdg2 hnU hkY hinitY
      (X₁.room_calling (g := { g with stack := rest }) (R' := (headSpec ws rm).room) hsize2 hmY hcY hfr (by rw [hlY]; show 2 * g.monitorRoom + (rest.map fun v => v.category).sum + (maxL + 11) + rm.locals ≤ R.locals; omega) (by rw [show (headSpec ws rm).room.cells = mc from hrc]; exact hf.1) (by rw [show (headSpec ws rm).room.slots = ms from hrs]; exact hf.2)) (atoms_intro fun w hw => hws w hw _ _ X₁.warmed)
  obtain ⟨mid, hmid⟩ := h.above
  have hfr2 : (U.setTop { g with stack := rest }).frames = (.java { g with stack := rest } :: mid) ++ below := by rw [State.frames_setTop' _ h.top, hmid]; rfl
  obtain ⟨o, s₂, hsteps, -, hend, hq⟩ := Steps.callFree hM p X₁.admits X₁.cas X₁.clock (acts := []) hfr2 happ (hp.1 _ _ _ _ (hp.2 U hT1 X₁.warmed)) trivial
  obtain ⟨x, rfl, hq1, hW2, hsame⟩ := hq
  rw [State.frames_setTop' _ h.top, X₁.tail] at hend
  have hq1' : Qc As.toArray (U.calling { g with stack := rest } mk As.toArray) x s₂ := hq1
  have hW2' : (U.calling { g with stack := rest } mk As.toArray).WarmedH s₂.vm := hW2
  have hsame' : (U.calling { g with stack := rest } mk As.toArray).sameButNew ({ s₂ with vm := (U.calling { g with stack := rest } mk As.toArray).vm } : State) [] mc ms := hsame
  obtain ⟨T', X', -, hsm, ht⟩ := X₁.outOfThrown (g := { g with stack := rest }) hg hend hW2' hsame'
  have hh2 : s₂.heap = T'.heap := by rw [ht]; exact Stand.throwing_heap _ _ _
  obtain ⟨cell, hce, hob, hfc, has⟩ := hthr (U.calling { g with stack := rest } mk As.toArray) x s₂ X₁.warmed.alike hq1'
  obtain ⟨ks, hks⟩ := Vm.classAt_of_findClass hfc
  obtain ⟨vm', X'', st⟩ := tx_catch X' ho hlink htab hidx hhp h0 (by rw [← hh2]; exact hce) (fun k hk => by rw [hk] at hob; cases hob) hks hfc has (g := { g with stack := rest }) hg hcov
  have hext := tx_same hsame'
  have hU0 : (U.calling { g with stack := rest } mk As.toArray).heap = H := hT1
  rw [hU0, hh2] at hext
  rw [List.append_nil] at X''
  obtain ⟨t, a1, b1⟩ := kk x T'.heap hext.1 hext.2 (T'.setVm vm') rfl X''
  refine ⟨t, hstep₁ _ (fun acts => ?_), b1⟩
  rw [doInvoke_state]
  refine hsteps.trans ?_
  rw [ht]
  exact st t a1
end TXC
section TXD
variable {p : Program} {l : Launch} {e : Env} {R : Room} {s : State} {m : MethodId} {args : Array Value} {below : List Frame} {meth : Method} {c : Code} {locs : List Loc} {cells slots : Nat} {H : Heap} {Q : State → Prop}
/-- a virtual call of a method with a handler table, that returns -/
theorem tx_callVW {T : State} (X : Stand p l e R s m args below meth c T locs cells slots) (hexec : p.tables.exec = Jvm.exec) {own C : String} {index : Nat} {y : MethodName} {bytes : ByteArray} {maxL : Nat} {ret : Option FieldType} {hh : List (Nat × Nat × Nat × Nat)}
    (hown : s.vm.findClass own = some m.cls) (hlink : (Jvm.Cond.methodLink own index y).before args s = true) (hinst : (Jvm.Cond.instanceMethod y).before args s = true) (hsel : (Jvm.Cond.selects C y y).before args s = true)
    (hcode : (Jvm.Cond.codeWith y bytes maxL ret hh).before args s = true) (hy : y.cls ≠ "java/lang/invoke/MethodHandle" ∧ y.cls ≠ "java/lang/invoke/VarHandle")
    {W : Nat} {Pre : Pt → Array Value → Prop} {Post : Pt → Array Value → Option Value → Pt → Prop} (hK : Back l R p e below s args y 3 W Pre Post)
    {b : Addr} {cellB : Cell} (hcell : T.heap[b]? = some cellB) (hobj : cellB.vm.isStatics = false) (hcls : s.vm.findClass C = some cellB.cls)
    {g : JFrame} (hg : g.method = m) (hsize : g.locals.size = c.maxLocals) {argsL rest : List Value} (hlen : ∀ sig, parseMethodDescriptor y.desc = some sig → argsL.length = sig.parameters.length)
    (hstack : g.stack = argsL.reverse ++ .ref b :: rest) (hW : 2 * g.monitorRoom + (rest.map fun v => v.category).sum ≤ W) (hdg : decode c.code g.pc = .ok (.invokevirtual index, 3))
    (hpre : ∀ vm₁, s.WarmedH vm₁ → Pre ⟨T.setVm vm₁, locs, cells, slots⟩ (Value.ref b :: argsL).toArray) :
    ∃ (v : Option Value) (vm₁ : Vm) (B : Pt), s.WarmedH vm₁ ∧ Stand p l e R s m args below meth c B.U B.locs B.cells B.slots ∧ Post ⟨T.setVm vm₁, locs, cells, slots⟩ (Value.ref b :: argsL).toArray v B ∧
      ∀ target, Steps p.tables e below (B.U.setTop { g with pc := g.pc + 3, stack := v.toList ++ rest }) target → Steps p.tables e below (T.setTop g) target := by
  obtain ⟨mk, methM, hnamed, hmethM, hstM, habM⟩ := Cond.instanceMethod_spec hinst
  obtain ⟨mk', methM', cM, hnamed', hmethM', -, -, -, -, -, -, hsigM⟩ := Cond.codeWith_spec hcode
  cases hnamed.symm.trans hnamed'
  cases hmethM.symm.trans hmethM'
  obtain ⟨c2, r2, m2, q1, q2, q3, q4, kP, hkP, hkPi⟩ := Cond.selects_spec hsel
  cases hcls.symm.trans q1
  cases (State.methodFound?_of_named hnamed hy).symm.trans q2
  cases hnamed.symm.trans q3
  have hselP : selectMethod e.platform s.vm cellB.cls mk = .method mk := by rw [Launch.admits_selectMethod X.admits]; exact q4
  obtain ⟨vm₁, X₁, hstep₁⟩ := X.invokevirtual hexec hown hlink hnamed hmethM hstM hkP hkPi hy (a := b) (cell := cellB) hcell
    (fun z h => by rw [h] at hobj; cases hobj) hselP hmethM habM hkP hkPi (g := g) hg (argsL := argsL) (rest := rest) (hlen _ hsigM) hstack hdg
  obtain ⟨v, B, X', hpost, hsteps⟩ := hK m meth c ⟨T.setVm vm₁, locs, cells, slots⟩ { g with stack := rest } (.invokevirtual index) mk (Value.ref b :: argsL).toArray X₁ hg hsize hdg hW (X₁.named hnamed) (hpre vm₁ X₁.warmed)
  exact ⟨v, vm₁, B, X₁.warmed, X', hpost, fun target h => hstep₁ _ fun acts => by rw [doInvoke_state]; exact hsteps.trans h⟩
theorem tx_runVW {y : MethodName} {bytes cc : ByteArray} {maxL nL mc ms index : Nat} {ret : Option FieldType} {hh : List (Nat × Nat × Nat × Nat)} {ws : List Jvm.Cond} {rm : Room} {Pc : Array Value → State → Prop} {Qc : Array Value → State → Outcome → State → Prop} {free : Addr → Prop} {Ts : List Jvm.Cond} {own C : String} {b : Addr} {As rest : List Value} {g : JFrame}
    (S : CallFix p m c cc nL s args Ts own) (hM : Met l y ws rm Pc Qc mc ms free)
    (hrc : rm.cells = mc) (hrs : rm.slots = ms) (hfr : rm.frames + 1 ≤ R.frames) (hlo : 8 + (maxL + 11) + rm.locals ≤ R.locals) (hws : ∀ w ∈ ws, ∀ (a' : Array Value) (U : State), s.WarmedH U.vm → w.before a' U = true) (hcw : Jvm.Cond.codeWith y bytes maxL ret hh ∈ ws)
    (hlink : (Jvm.Cond.methodLink own index y).before args s = true) (hinst : (Jvm.Cond.instanceMethod y).before args s = true) (hsel : (Jvm.Cond.selects C y y).before args s = true) (hcode : (Jvm.Cond.codeWith y bytes maxL ret hh).before args s = true) (hini : (Jvm.Cond.initialized y.cls).before args s = true)
    (hy : y.cls ≠ "java/lang/invoke/MethodHandle" ∧ y.cls ≠ "java/lang/invoke/VarHandle" ∧ (parseMethodDescriptor y.desc).map (fun d => d.parameters.length) = some As.length)
    (hp : PreV s H C b Pc As) (hg : g.method = m) (hsize : g.locals.size = nL) (hstack : g.stack = As.reverse ++ .ref b :: rest) (hW : 2 * g.monitorRoom + (rest.map fun v => v.category).sum ≤ 8) (hdg : decode cc g.pc = .ok (.invokevirtual index, 3)) (hf : cells + mc ≤ R.cells ∧ slots + ms ≤ R.slots) :
    va_Run p l e R s m args below meth c H locs cells slots mc ms g rest (Qc (Value.ref b :: As).toArray) (free) := by
  have hK : Back l R p e below s args y 3 8 (PreOf R mc ms Pc) (PostOf Qc mc ms free) := va_backW (hh := hh) (bytes := bytes) (maxL := maxL) (ret := ret) hM hp.1 hrc hrs hfr hlo hws hcw (fun a' U hW => word_at hW (Or.inl (by first | rfl | simp [Cond.onTables, Cond.keeps, Cond.steady])) hini)
  obtain ⟨hx, hb, hml, ho, -⟩ := S
  obtain ⟨-, ⟨cellB, hcB, hoB, hclB⟩, hPc⟩ := hp
  intro T hT X
  obtain ⟨v, vm₁, ⟨U', l2, c2, s2⟩, hW₁, X', ⟨g', mk, t, L, e1, e2, hq, h1, hL, h2, h3⟩, st⟩ := tx_callVW X hx (C := C) (hh := hh) (bytes := bytes) (maxL := maxL) (ret := ret) ho hlink hinst hsel hcode ⟨hy.1, hy.2.1⟩ hK (by rw [hT]; exact hcB) hoB hclB hg (hsize.trans hml.symm) (argsL := As) (rest := rest) (fun sig h => by have h2 := hy.2.2; rw [h] at h2; exact (Option.some.inj h2).symm) hstack hW (by rw [hb]; exact hdg)
    (fun vm₁ hW₁ => ⟨hf.1, hf.2, hPc (T.setVm vm₁) hT hW₁⟩)
  dsimp only [Pt.U, Pt.locs, Pt.cells, Pt.slots] at X' e1 e2 h1 h2 h3 st
  subst h1; subst h2; subst h3
  exact ⟨v, (T.setVm vm₁).calling g' mk (Value.ref b :: As).toArray, t, U', L, hT, X', hL, e1, e2, hq, st⟩
end TXD
end
section
/-! what a throw needs of the state: the words that don't ride with the tables, two statics of Throwable, two String constants -/
def tx_AE : String := "java/lang/ArithmeticException"
def tx_names : List String := ["java/lang/RuntimeException", "java/lang/Exception"]
def tx_face : List Jvm.Cond := [.castable tx_AE tx_AE, .declares ⟨"java/lang/RuntimeException", "<init>", "(Ljava/lang/String;)V"⟩, .declares ⟨"java/lang/Exception", "<init>", "(Ljava/lang/String;)V"⟩, .declares ⟨"java/lang/Throwable", "<init>", "(Ljava/lang/String;)V"⟩]
def tx_stat : List Jvm.Cond := [.laysStatic Bundle.tN "UNASSIGNED_STACK" Bundle.steD, .laysStatic Bundle.tN "SUPPRESSED_SENTINEL" Bundle.listD]
def tx_refs : List Jvm.Cond := [.isRef (.static Bundle.tN "UNASSIGNED_STACK" Bundle.steD), .isRef (.static Bundle.tN "SUPPRESSED_SENTINEL" Bundle.listD)]
def tx_T (U : State) : Prop := (∀ w ∈ tx_face, w.before #[] U = true) ∧ (∀ w ∈ tx_stat, w.before #[] U = true) ∧ (∀ w ∈ tx_refs, w.before #[] U = true) ∧ (∃ q, vk_R "java/lang/Math" 111 "integer overflow" q U) ∧ ∃ q, vk_R "java/lang/Math" 116 "long overflow" q U
/-- every static cell of s is there in U as it was -/
def tx_St (s : State) (H : Heap) : Prop := ∀ (a : Nat) (cell : Cell), s.heap[a]? = some cell → cell.vm.isStatics = true → H[a]? = some cell
theorem tx_face_moved {s U : State} (hW : s.WarmedH U.vm) (h : ∀ w ∈ tx_face, w.before #[] s = true) : ∀ w ∈ tx_face, w.before #[] U = true := by
  intro w hw
  have h1 : w.before #[] (s.setVm U.vm) = true := Cond.before_shiftedFace (State.Shifted.of_warmed hW) w (by
    simp only [tx_face, List.mem_cons, List.not_mem_nil, or_false] at hw
    rcases hw with rfl | rfl | rfl | rfl <;> rfl) (h w hw)
  rw [Cond.onTables_vm (A' := #[]) (U' := U) U.vm w (by
    simp only [tx_face, List.mem_cons, List.not_mem_nil, or_false] at hw
    rcases hw with rfl | rfl | rfl | rfl <;> rfl)] at h1
  rwa [State.setVm_self] at h1
theorem tx_lays_moved {s U : State} (hvm : s.vm.Alike U.vm) (hst : tx_St s U.heap) {O n d : String} (h : (Jvm.Cond.laysStatic O n d).before #[] s = true) : (Jvm.Cond.laysStatic O n d).before #[] U = true := by
  obtain ⟨c, k, i, f, a, cell, hc, hi, hst', ha, hcell, hs, hcls, hlt, hty⟩ := Cond.laysStatic_spec h
  obtain ⟨k', hi', hek⟩ := State.fieldFound?_setVm hvm hi
  exact Cond.laysStatic_of (s := U) (by rw [hvm.findClass]; exact hc) hi' hst' (by rw [hek]; exact ha) (hst a cell hcell hs) hs hcls hlt (by rw [hek]; exact hty)
theorem tx_ref_moved {s U : State} (hvm : s.vm.Alike U.vm) (hst : tx_St s U.heap) {O n d : String} (hl : (Jvm.Cond.laysStatic O n d).before #[] s = true) (h : (Jvm.Cond.isRef (.static O n d)).before #[] s = true) : (Jvm.Cond.isRef (.static O n d)).before #[] U = true := by
  obtain ⟨c, k, i, f, a, cell, hc, hi, hst', ha, hcell, hs, hcls, hlt, hty⟩ := Cond.laysStatic_spec hl
  obtain ⟨k', hi', hek⟩ := State.fieldFound?_setVm hvm hi
  have hi'' : U.fieldFound? O n d = some (c, k', i, f) := hi'
  have ha' : k'.statics = some a := by rw [hek]; exact ha
  have hcell' := hst a cell hcell hs
  have e1 : (Term.static O n d).eval #[] s none [] s = cell.slots[f.slot]? := by simp [Term.eval, State.fieldNamed?, hi, hst', ha, hcell, hs]
  have e2 : (Term.static O n d).eval #[] U none [] U = cell.slots[f.slot]? := by simp [Term.eval, State.fieldNamed?, hi'', hst', ha', hcell', hs]
  simp only [Cond.before, Cond.holds, Cond.value, e1] at h
  simp only [Cond.before, Cond.holds, Cond.value, e2]
  exact h
theorem tx_T.moved {s U : State} (hW : s.WarmedH U.vm) (hst : tx_St s U.heap) (h : tx_T s) : tx_T U := by
  obtain ⟨h1, h2, h3, ⟨q1, h4⟩, q2, h5⟩ := h
  refine ⟨tx_face_moved hW h1, ?_, ?_, ⟨q1, h4.warm hW⟩, q2, h5.warm hW⟩
  · intro w hw
    have hw' := hw
    simp only [tx_stat, List.mem_cons, List.not_mem_nil, or_false] at hw
    rcases hw with rfl | rfl <;> exact tx_lays_moved hW.alike hst (h2 _ hw')
  · intro w hw
    have hw' := hw
    simp only [tx_refs, List.mem_cons, List.not_mem_nil, or_false] at hw
    rcases hw with rfl | rfl
    · exact tx_ref_moved hW.alike hst (h2 _ (by simp [tx_stat])) (h3 _ hw')
    · exact tx_ref_moved hW.alike hst (h2 _ (by simp [tx_stat])) (h3 _ hw')
theorem tx_T.calling {U : State} {g : JFrame} {mk : MethodId} {a : Array Value} (h : tx_T U) : tx_T (U.calling g mk a) := tx_T.moved (s := U) (U := U.calling g mk a) (State.WarmedH.refl U) (fun _ _ h _ => h) h
/-- all the words of a throw of an ArithmeticException by Math, out of TB and the state's own -/
theorem tx_own {s : State} {args : Array Value} (hT : ∀ w ∈ TB, w.before args s = true) (h : tx_T s) : ∀ w ∈ Bundle.ownAtoms "java/lang/Math" 113 tx_AE tx_names, w.before args s = true := by
  have key : ∀ w ∈ Bundle.ownAtoms "java/lang/Math" 113 tx_AE tx_names, w ∈ TB ∨ w ∈ tx_face ∨ w ∈ tx_stat ∨ w ∈ tx_refs := by
    have : (Bundle.ownAtoms "java/lang/Math" 113 tx_AE tx_names).all (fun w => decide (w ∈ TB ∨ w ∈ tx_face ∨ w ∈ tx_stat ∨ w ∈ tx_refs)) = true := by decide +kernel
    intro w hw
    exact of_decide_eq_true (List.all_eq_true.mp this w hw)
  intro w hw
  rcases key w hw with h1 | h1 | h1 | h1
  · exact hT w h1
  · have h2 := h.1 w h1
    simp only [tx_face, List.mem_cons, List.not_mem_nil, or_false] at h1
    rcases h1 with rfl | rfl | rfl | rfl <;> exact h2
  · have h2 := h.2.1 w h1
    simp only [tx_stat, List.mem_cons, List.not_mem_nil, or_false] at h1
    rcases h1 with rfl | rfl <;> exact h2
  · have h2 := h.2.2.1 w h1
    simp only [tx_refs, List.mem_cons, List.not_mem_nil, or_false] at h1
    rcases h1 with rfl | rfl <;> exact h2
/-- what is left of a throw for the caller: the exception's class -/
def tx_QA (_ : Array Value) (st : State) (x : Addr) (t : State) : Prop := ∃ cell : Cell, t.heap[x]? = some cell ∧ cell.vm.isStatics = false ∧ st.vm.findClass tx_AE = some cell.cls ∧ st.vm.assignable cell.cls cell.cls = true
section TXE
variable {p : Program} {l : Launch} {e : Env} {R : Room} {s : State} {m : MethodId} {args : Array Value} {below : List Frame} {meth : Method} {c : Code}
/-- new ArithmeticException(text), thrown: from 'new' on -/
theorem tx_thrown {cc : ByteArray} (hfl : l.flags = pinnedFlags ++ [noTraceFlag]) (hx : p.tables.exec = Jvm.exec) (hb : c.code = cc) (hno : c.exceptionTable.isEmpty = true) (hlocks : meth.locks = false) (hT : ∀ w ∈ TB, w.before args s = true) (hth : tx_T s) (hown : s.vm.findClass "java/lang/Math" = some m.cls)
    {pc idx : Nat} {ls : Array Slot} {tx : String} (hsz : ls.size = c.maxLocals) (hZ : ∃ q, vk_R "java/lang/Math" idx tx q s)
    (d1 : decode cc pc = .ok (.new 109, 3)) (d2 : decode cc (pc + 3) = .ok (.dup, 1)) (d3 : decode cc (pc + 4) = .ok (.ldc idx, 2)) (d4 : decode cc (pc + 6) = .ok (.invokespecial 113, 3)) (d5 : decode cc (pc + 9) = .ok (.athrow, 1))
    (hR : 1 ≤ R.cells ∧ 6 ≤ R.slots ∧ 6 ≤ R.frames ∧ 82 ≤ R.locals) : W p l e R s m args below meth c s.heap [] 0 0 (tx_MQ below tx_QA args s 1 6) (F0 m pc ls []) := by
  obtain ⟨q, hZ⟩ := hZ
  refine W.newc hx hb hown (hT _ tb_27) (hT _ tb_28) (hT _ tb_6) rfl d1 (by omega) (by omega) (fun cC kC h1 h2 h3 h4 => ?_)
  refine lv_dup hx hb d2 rfl ?_
  refine va_ldcS hx hb hown hZ d3 ?_
  intro T hTh X
  have hcell : T.heap[s.heap.size]? = some (freshCell cC kC) := by rw [hTh]; simp [freshCell]
  have ho : ∀ x ∈ c.exceptionTable.toList, covers x (pc + 6 + 3) = false := by
    have h0 : c.exceptionTable = #[] := by simpa using hno
    rw [h0]; intro x hx; cases hx
  obtain ⟨U, hst, hrun, hend, hW, hsame, ce, hce, hO⟩ := X.ctorThrowS hx (Launch.traces_off hfl X.admits) (own := "java/lang/Math") (cls := tx_AE) (names := tx_names) (ic := 113) hown (by decide +kernel) (by decide +kernel) (tx_own hT hth) (fun x hx => by cases hx)
    (a := s.heap.size) (cX := cC) (kX := kC) h1 h2 hcell (Nat.le_refl _) (msg := .ref q) rfl (g := F0 m (pc + 6) ls [.ref q, .ref s.heap.size, .ref s.heap.size]) rfl hsz rfl rfl (rest := []) rfl (by rw [hb]; exact d4) (by rw [hb]; exact d5) ho
    (by show 2 + 3 < R.frames; omega) (by show 2 * 0 + (1 + 0) + (13 * (2 + 1) + 42) ≤ R.locals; omega) hlocks
  refine ⟨U, hst, s.heap.size, hrun, hend, ⟨ce, hce, by rw [hO.vm]; rfl, hO.cls, hO.self⟩, hW, ?_⟩
  exact hsame.mono (by omega) (by omega)
end TXE
end
section
/-! int arrays of four places; calls that answer a number, a fresh array; the object -/
def ax_A (U : State) (H : Heap) (a : Nat) (f : Nat → Int32) : Prop := ∃ cA : ClassId, ArrOfT U cA .int ∧ H[a]? = some (arrV cA 4 (fun j => .int (f j)))
def ax_X (H H' : Heap) : Prop := H.size ≤ H'.size ∧ ∀ q : Nat, q < H.size → H'[q]? = H[q]?
theorem ax_X.rf {H : Heap} : ax_X H H := ⟨Nat.le_refl _, fun _ _ => rfl⟩
theorem ax_X.trans {H H1 H2 : Heap} (h : ax_X H H1) (h2 : ax_X H1 H2) : ax_X H H2 := ⟨Nat.le_trans h.1 h2.1, fun q hq => (h2.2 q (Nat.lt_of_lt_of_le hq h.1)).trans (h.2 q hq)⟩
theorem ax_X.put {H0 H H1 : Heap} {a : Nat} (h : ax_X H0 H) (hn : H0.size ≤ a) (hz : H1.size = H.size) (ho : ∀ q : Nat, q ≠ a → H1[q]? = H[q]?) : ax_X H0 H1 :=
  ⟨by rw [hz]; exact h.1, fun q hq => (ho q (by omega)).trans (h.2 q hq)⟩
theorem ax_A.lt {U : State} {H : Heap} {a : Nat} {f : Nat → Int32} (h : ax_A U H a f) : a < H.size := by
  obtain ⟨cA, -, h2⟩ := h
  exact (Array.getElem?_eq_some_iff.mp h2).1
theorem ax_A.ext {U : State} {H H' : Heap} {a : Nat} {f : Nat → Int32} (h : ax_A U H a f) (hE : ax_X H H') : ax_A U H' a f := by
  have hl := h.lt
  obtain ⟨cA, h1, h2⟩ := h
  exact ⟨cA, h1, by rw [hE.2 a hl]; exact h2⟩
theorem ax_A.kept {U : State} {H H' : Heap} {a : Nat} {f : Nat → Int32} (h : ax_A U H a f) (hE : H'[a]? = H[a]?) : ax_A U H' a f := by
  obtain ⟨cA, h1, h2⟩ := h
  exact ⟨cA, h1, by rw [hE]; exact h2⟩
theorem ax_A.moved {u U : State} {H : Heap} {a : Nat} {f : Nat → Int32} (hvm : u.vm.Alike U.vm) (h : ax_A u H a f) : ax_A U H a f := by
  obtain ⟨cA, h1, h2⟩ := h
  exact ⟨cA, arrOfT_moved hvm h1, h2⟩
section AXR
variable {p : Program} {l : Launch} {e : Env} {R : Room} {s : State} {m : MethodId} {args : Array Value} {below : List Frame} {meth : Method} {c : Code} {locs : List Loc} {cells slots : Nat} {H : Heap} {Q : State → Prop}
variable {cc : ByteArray} {pc : Nat} {ls : Array Slot} {rest : List Value} {a : Nat} {f : Nat → Int32}
theorem ax_ld (hexec : p.tables.exec = Jvm.exec) (hb : c.code = cc) (hA : ax_A s H a f) {j : Int32} (i : Nat) (hj : j = nI i) (hi : i < 4) (hdg : decode cc pc = .ok (.iaload, 1))
    (k : W p l e R s m args below meth c H locs cells slots Q (F0 m (pc + 1) ls (.int (f i) :: rest))) : W p l e R s m args below meth c H locs cells slots Q (F0 m pc ls (.int j :: .ref a :: rest)) := by
  subst hj
  obtain ⟨cA, h1, h2⟩ := hA
  have hcl : (nI i).toNatClampNeg = i := nI_clamp (by omega)
  have hin := nI_in hi (by decide : 4 < 2 ^ 31)
  exact W.iald (v := .int (f i)) hexec hb h2 (h1 4 _) (fun q => by cases q) (by rw [arrV_size]; exact hin) (by rw [hcl, arrV_read _ _ hi]) rfl rfl hdg k
theorem ax_st (hexec : p.tables.exec = Jvm.exec) (hb : c.code = cc) (hA : ax_A s H a f) (hn : s.heap.size ≤ a) {j x : Int32} (i : Nat) (hj : j = nI i) (hi : i < 4) (hdg : decode cc pc = .ok (.iastore, 1))
    (k : ∀ H' : Heap, ax_A s H' a (upd f i x) → H'.size = H.size → (∀ q : Nat, q ≠ a → H'[q]? = H[q]?) → W p l e R s m args below meth c H' locs cells slots Q (F0 m (pc + 1) ls rest)) : W p l e R s m args below meth c H locs cells slots Q (F0 m pc ls (.int x :: .int j :: .ref a :: rest)) := by
  subst hj
  obtain ⟨cA, h1, h2⟩ := hA
  have hcl : (nI i).toNatClampNeg = i := nI_clamp (by omega)
  have hin := nI_in hi (by decide : 4 < 2 ^ 31)
  refine W.iast hexec hb h2 (h1 4 _) (fun q => by cases q) (by rw [arrV_size]; exact hin) rfl rfl hdg (fun H' e1 e2 e3 => ?_)
  refine W.forget (fun q hq => ?_) (k H' ⟨cA, h1, ?_⟩ e2 e3)
  · rw [List.mem_singleton.mp hq]; exact hn
  · rw [e1, arrV_store, hcl]
    congr 2
    funext q
    by_cases hq : q = i
    · subst hq; simp [updV, upd]
    · simp [updV, upd, hq]
theorem ax_new (hexec : p.tables.exec = Jvm.exec) (hb : c.code = cc) (harr : (Jvm.Cond.arrayClass .int).before args s = true) (hdg : decode cc pc = .ok (.newarray .int, 2)) (hcells : cells + 1 ≤ R.cells) (hslots : slots + 4 ≤ R.slots)
    (k : ∀ (q : Nat) (H' : Heap), q = H.size → ax_A s H' q (fun _ => 0) → ax_X H H' → W p l e R s m args below meth c H' locs (cells + 1) (slots + 4) Q (F0 m (pc + 2) ls (.ref q :: rest))) : W p l e R s m args below meth c H locs cells slots Q (F0 m pc ls (.int 4 :: rest)) := by
  refine W.newaK (atype := .int) hexec hb harr rfl hdg (n := 4) (N := 4) (rest := rest) rfl (by decide) (by decide) (by decide) hcells hslots (h := H.size) rfl (fun H' cA e1 e2 e3 hAr => ?_)
  exact k H.size H' rfl ⟨cA, hAr, e1⟩ ⟨by omega, e3⟩
end AXR
/-- a method's answer: a number, the heap as it was -/
def qx_L (post : Int64 → Prop) : Array Value → State → Outcome → State → Prop := fun _ st o t => ∃ r, o = .returned (some (.long r)) ∧ post r ∧ t.heap = st.heap
def qx_I (post : Int32 → Prop) : Array Value → State → Outcome → State → Prop := fun _ st o t => ∃ r, o = .returned (some (.int r)) ∧ post r ∧ t.heap = st.heap
/-- a method's answer: a fresh array -/
def qx_A (post : (Nat → Int32) → Prop) : Array Value → State → Outcome → State → Prop := fun _ st o t => ∃ (r : Nat) (f : Nat → Int32), o = .returned (some (.ref r)) ∧ post f ∧ ax_A t t.heap r f ∧ st.heap.size ≤ r ∧ ax_X st.heap t.heap
section QXR
variable {p : Program} {l : Launch} {e : Env} {R : Room} {s : State} {m : MethodId} {args : Array Value} {below : List Frame} {meth : Method} {c : Code} {locs : List Loc} {cells slots : Nat} {H : Heap} {Q : State → Prop}
variable {pc mc ms : Nat} {ls : Array Slot} {rest st0 : List Value} {a : Array Value}
theorem qx_callL {post : Int64 → Prop} (hr : va_Run p l e R s m args below meth c H locs cells slots 0 0 (F0 m pc ls st0) rest (qx_L post a) (fun _ => False)) (kk : ∀ r, post r → W p l e R s m args below meth c H locs cells slots Q (F0 m (pc + 3) ls (.long r :: rest))) : W p l e R s m args below meth c H locs cells slots Q (F0 m pc ls st0) := by
  intro T hT X
  obtain ⟨v, st₀, t, T', L, h0, X', hL, e1, -, ⟨r, hv, hp, hh⟩, st⟩ := hr T hT X
  cases hv
  obtain ⟨t2, a1, b1⟩ := kk r hp T' (by rw [e1, hh, h0]) (Stand.forget X' (fun q h => (hL q h).elim))
  exact ⟨t2, st t2 a1, b1⟩
theorem qx_callI {post : Int32 → Prop} (hr : va_Run p l e R s m args below meth c H locs cells slots 0 0 (F0 m pc ls st0) rest (qx_I post a) (fun _ => False)) (kk : ∀ r, post r → W p l e R s m args below meth c H locs cells slots Q (F0 m (pc + 3) ls (.int r :: rest))) : W p l e R s m args below meth c H locs cells slots Q (F0 m pc ls st0) := by
  intro T hT X
  obtain ⟨v, st₀, t, T', L, h0, X', hL, e1, -, ⟨r, hv, hp, hh⟩, st⟩ := hr T hT X
  cases hv
  obtain ⟨t2, a1, b1⟩ := kk r hp T' (by rw [e1, hh, h0]) (Stand.forget X' (fun q h => (hL q h).elim))
  exact ⟨t2, st t2 a1, b1⟩
end QXR
section QXB
variable {p : Program} {l : Launch} {e : Env} {R : Room} {s : State} {m : MethodId} {args : Array Value} {below : List Frame} {meth : Method} {c : Code} {locs : List Loc} {cells slots : Nat} {H : Heap} {Q : State → Prop}
variable {pc mc ms : Nat} {ls : Array Slot} {rest st0 : List Value} {a : Array Value}
/-- a call's run, with the tables behind it -/
theorem qx_callA {post : (Nat → Int32) → Prop} (hr : va_Run p l e R s m args below meth c H locs cells slots mc ms (F0 m pc ls st0) rest (qx_A post a) (fun _ => False)) (kk : ∀ (r : Nat) (f : Nat → Int32) (H' : Heap), post f → ax_A s H' r f → H.size ≤ r → ax_X H H' → W p l e R s m args below meth c H' locs (cells + mc) (slots + ms) Q (F0 m (pc + 3) ls (.ref r :: rest))) : W p l e R s m args below meth c H locs cells slots Q (F0 m pc ls st0) := by
  intro T hT X
  obtain ⟨v, st₀, t, T', L, h0, X', hL, e1, e2, ⟨r, f, hv, hp, hA, hz, hE⟩, st⟩ := hr T hT X
  cases hv
  rw [h0] at hz hE
  have hal : t.vm.Alike s.vm := by rw [← e2]; exact X'.warmed.alike.symm
  obtain ⟨t2, a1, b1⟩ := kk r f T'.heap hp (by rw [e1]; exact hA.moved hal) hz (by rw [e1]; exact hE) T' rfl (Stand.forget X' (fun q h => (hL q h).elim))
  exact ⟨t2, st t2 a1, b1⟩
end QXB
/-! the words of a call out of TB -/
theorem gi_S {big : List Jvm.Cond} {own : String} {idx : Nat} {y : MethodName} {w0 : Jvm.Cond} (hb : ∀ w ∈ TB, w ∈ big) (h1 : Jvm.Cond.methodLink own idx y ∈ TB) (h2 : Jvm.Cond.static y ∈ TB) (h3 : Jvm.Cond.initialized y.cls ∈ TB) (h4 : w0 ∈ TB) : GoodIn big (va_wsS own idx y (w0 :: TB)) := by
  intro w hw
  have h : w ∈ TB := by
    simp only [va_wsS, List.cons_append, List.nil_append, List.mem_cons] at hw
    rcases hw with rfl | rfl | rfl | rfl | h
    · exact h1
    · exact h2
    · exact h3
    · exact h4
    · exact h
  exact ⟨hb w h, tb_good w h⟩
theorem gi_V {big : List Jvm.Cond} {own C : String} {idx : Nat} {y : MethodName} {w0 : Jvm.Cond} (hb : ∀ w ∈ TB, w ∈ big) (h1 : Jvm.Cond.methodLink own idx y ∈ TB) (h2 : Jvm.Cond.instanceMethod y ∈ TB) (h3 : Jvm.Cond.selects C y y ∈ TB) (h5 : Jvm.Cond.initialized C ∈ TB) (h4 : w0 ∈ TB) : GoodIn big (wsV own idx C y (w0 :: TB)) := by
  intro w hw
  have h : w ∈ TB := by
    simp only [wsV, List.cons_append, List.nil_append, List.mem_cons] at hw
    rcases hw with rfl | rfl | rfl | rfl | rfl | h
    · exact h1
    · exact h2
    · exact h3
    · exact h5
    · exact h4
    · exact h
  exact ⟨hb w h, tb_good w h⟩
theorem gi_0 {big : List Jvm.Cond} {w0 : Jvm.Cond} (hb : ∀ w ∈ TB, w ∈ big) (h4 : w0 ∈ TB) : GoodIn big (w0 :: TB) := by
  intro w hw
  have h : w ∈ TB := by
    simp only [List.mem_cons] at hw
    rcases hw with rfl | h
    · exact h4
    · exact h
  exact ⟨hb w h, tb_good w h⟩
theorem gi_pay {s : State} {args : Array Value} {w0 : Jvm.Cond} (hT : ∀ w ∈ TB, w.before args s = true) (h4 : w0 ∈ TB) : ∀ w ∈ (w0 :: TB), ∀ (a' : Array Value) (U : State), s.WarmedH U.vm → w.before a' U = true := pay_in hT (gi_0 (fun _ h => h) h4)
/-! the object: class MathDrill, one field -/
def R_MD : String := "MathDrill"
def F_MD : u_T := fun k => match k with
  | _ => ("MathDrill", "over", "Z", false)
def t_MD : Nat → FieldType := fun k => match k with
  | _ => .boolean
abbrev clD : List vw_C := [(R_MD, F_MD, 1)]
theorem n_MD : ∀ a, a < 1 → ∀ b, b < 1 → a ≠ b → (F_MD a).2.1 ≠ (F_MD b).2.1 := by decide +kernel
theorem t_MD_ok : ∀ k, k < 1 → parseFieldDescriptor (F_MD k).2.2.1 = some (t_MD k) := by decide +kernel
theorem in_MD : ∀ w ∈ u_ws R_MD F_MD 1, w ∈ TB := by
  have h : (u_ws R_MD F_MD 1).all (fun w => decide (w ∈ TB)) = true := by decide +kernel
  intro w hw
  exact of_decide_eq_true (List.all_eq_true.mp h w hw)
/-- the object at x holds v -/
def ox_O (D : va_G) (U : State) (H : Heap) (x : Nat) (v : Int32) : Prop := va_P D clD [(x, .inr (0, [.int v]))] H ∧ va_K D clD [] U
theorem ox_O.lt {D : va_G} {U : State} {H : Heap} {x : Nat} {v : Int32} (h : ox_O D U H x v) : x < H.size := (h.1 0 _ rfl).lt
theorem ox_O.kept {D : va_G} {U : State} {H H' : Heap} {x : Nat} {v : Int32} (h : ox_O D U H x v) (hE : H'[x]? = H[x]?) : ox_O D U H' x v :=
  ⟨h.1.kept (fun k q hk => by
    have hz : k < 1 := (List.getElem?_eq_some_iff.mp hk).1
    rw [show k = 0 by omega] at hk
    cases hk
    exact hE), h.2⟩
theorem ox_O.ext {D : va_G} {U : State} {H H' : Heap} {x : Nat} {v : Int32} (h : ox_O D U H x v) (hE : ax_X H H') : ox_O D U H' x v := h.kept (hE.2 x h.lt)
theorem ox_O.moved {D : va_G} {u U : State} {H : Heap} {x : Nat} {v : Int32} (hvm : u.vm.Alike U.vm) (h : ox_O D u H x v) : ox_O D U H x v := ⟨h.1, va_K.moved hvm h.2⟩
theorem ox_O.recv {D : va_G} {U : State} {H : Heap} {x : Nat} {v : Int32} (h : ox_O D U H x v) : ∃ cell : Cell, H[x]? = some cell ∧ cell.vm.isStatics = false ∧ U.vm.findClass "MathDrill" = some cell.cls := va_recv h.2 h.1 (ci := 0) (q := (R_MD, F_MD, 1)) rfl (q0 := 0) rfl
theorem ox_D {x : Nat} {e : va_E} : va_D (fun q => q = x) [(x, e)] := by
  refine ⟨fun i j p q hi hj _ => ?_, fun k q hk => ?_⟩
  · have h1 : i < 1 := (List.getElem?_eq_some_iff.mp hi).1
    have h2 : j < 1 := (List.getElem?_eq_some_iff.mp hj).1
    omega
  · have hz : k < 1 := (List.getElem?_eq_some_iff.mp hk).1
    rw [show k = 0 by omega] at hk
    cases hk
    rfl
/-- the statics are as they were, where only the object has been written -/
theorem ox_St {D : va_G} {s : State} {H : Heap} {x : Nat} {v : Int32} {locs : List Loc} (h : ox_O D s s.heap x v) (hS : va_S (fun q => q = x) s.heap H locs) : tx_St s H := by
  intro a cell hc hs
  obtain ⟨cx, h1, h2, -⟩ := h.recv
  rw [hS.2.1 a (Array.getElem?_eq_some_iff.mp hc).1 (fun e => by
    subst e
    cases hc.symm.trans h1
    rw [hs] at h2
    cases h2)]
  exact hc
theorem ox_Sext {s : State} {H H' : Heap} {x : Nat} {locs : List Loc} (hS : va_S (fun q => q = x) s.heap H locs) (hE : ax_X H H') : va_S (fun q => q = x) s.heap H' locs :=
  ⟨Nat.le_trans hS.1 hE.1, fun q h1 h2 => (hE.2 q (Nat.lt_of_lt_of_le h1 hS.1)).trans (hS.2.1 q h1 h2), hS.2.2⟩
/-- answers of the methods that write the object -/
def qx_MJ (D : va_G) (x : Nat) (post : Int64 → Int32 → Prop) : Array Value → State → Outcome → State → Prop := fun _ st o t => ∃ (r : Int64) (v : Int32), o = .returned (some (.long r)) ∧ post r v ∧ ox_O D t t.heap x v ∧ va_F (fun q => q = x) st t
def qx_MI (D : va_G) (x : Nat) (post : Int32 → Int32 → Prop) : Array Value → State → Outcome → State → Prop := fun _ st o t => ∃ (r : Int32) (v : Int32), o = .returned (some (.int r)) ∧ post r v ∧ ox_O D t t.heap x v ∧ va_F (fun q => q = x) st t
section QXM
variable {p : Program} {l : Launch} {e : Env} {R : Room} {s : State} {m : MethodId} {args : Array Value} {below : List Frame} {meth : Method} {c : Code} {locs : List Loc} {cells slots : Nat} {H : Heap} {Q : State → Prop}
variable {pc mc ms x : Nat} {ls : Array Slot} {rest st0 : List Value} {a : Array Value} {D : va_G}
theorem qx_callMJ {post : Int64 → Int32 → Prop} (hr : va_Run p l e R s m args below meth c H locs cells slots mc ms (F0 m pc ls st0) rest (qx_MJ D x post a) (fun q => q = x)) (hn : s.heap.size ≤ x)
    (kk : ∀ (r : Int64) (v : Int32) (H' : Heap), post r v → ox_O D s H' x v → H.size ≤ H'.size → (∀ q : Nat, q < H.size → q ≠ x → H'[q]? = H[q]?) → W p l e R s m args below meth c H' locs (cells + mc) (slots + ms) Q (F0 m (pc + 3) ls (.long r :: rest))) : W p l e R s m args below meth c H locs cells slots Q (F0 m pc ls st0) := by
  intro T hT X
  obtain ⟨v, st₀, t, T', L, h0, X', hL, e1, e2, ⟨r, ov, hv, hp, hO, hz, hk⟩, st⟩ := hr T hT X
  cases hv
  rw [h0] at hz hk
  have hal : t.vm.Alike s.vm := by rw [← e2]; exact X'.warmed.alike.symm
  obtain ⟨t2, a1, b1⟩ := kk r ov T'.heap hp (by rw [e1]; exact hO.moved hal) (by rw [e1]; exact hz) (fun q h1 h2 => by rw [e1]; exact hk q h1 h2) T' rfl (Stand.forget X' (fun q h => by have e3 : q.base = x := hL q h; rw [e3]; exact hn))
  exact ⟨t2, st t2 a1, b1⟩
theorem qx_callMI {post : Int32 → Int32 → Prop} (hr : va_Run p l e R s m args below meth c H locs cells slots mc ms (F0 m pc ls st0) rest (qx_MI D x post a) (fun q => q = x)) (hn : s.heap.size ≤ x)
    (kk : ∀ (r : Int32) (v : Int32) (H' : Heap), post r v → ox_O D s H' x v → H.size ≤ H'.size → (∀ q : Nat, q < H.size → q ≠ x → H'[q]? = H[q]?) → W p l e R s m args below meth c H' locs (cells + mc) (slots + ms) Q (F0 m (pc + 3) ls (.int r :: rest))) : W p l e R s m args below meth c H locs cells slots Q (F0 m pc ls st0) := by
  intro T hT X
  obtain ⟨v, st₀, t, T', L, h0, X', hL, e1, e2, ⟨r, ov, hv, hp, hO, hz, hk⟩, st⟩ := hr T hT X
  cases hv
  rw [h0] at hz hk
  have hal : t.vm.Alike s.vm := by rw [← e2]; exact X'.warmed.alike.symm
  obtain ⟨t2, a1, b1⟩ := kk r ov T'.heap hp (by rw [e1]; exact hO.moved hal) (by rw [e1]; exact hz) (fun q h1 h2 => by rw [e1]; exact hk q h1 h2) T' rfl (Stand.forget X' (fun q h => by have e3 : q.base = x := hL q h; rw [e3]; exact hn))
  exact ⟨t2, st t2 a1, b1⟩
end QXM
end
section
/-! decode rows of all methods but the law's own body -/
theorem d_mAbs_0 : decode b_mAbs 0 = .ok (.lload_n 0, 1) := by decide +kernel
theorem d_mAbs_1 : decode b_mAbs 1 = .ok (.lconst 0, 1) := by decide +kernel
theorem d_mAbs_2 : decode b_mAbs 2 = .ok (.lcmp, 1) := by decide +kernel
theorem d_mAbs_3 : decode b_mAbs 3 = .ok (.ifCond .ge 8, 3) := by decide +kernel
theorem d_mAbs_6 : decode b_mAbs 6 = .ok (.lload_n 0, 1) := by decide +kernel
theorem d_mAbs_7 : decode b_mAbs 7 = .ok (.lneg, 1) := by decide +kernel
theorem d_mAbs_8 : decode b_mAbs 8 = .ok (.goto 4, 3) := by decide +kernel
theorem d_mAbs_11 : decode b_mAbs 11 = .ok (.lload_n 0, 1) := by decide +kernel
theorem d_mAbs_12 : decode b_mAbs 12 = .ok (.lreturn, 1) := by decide +kernel
theorem d_mAddI_0 : decode b_mAddI 0 = .ok (.iload_n 0, 1) := by decide +kernel
theorem d_mAddI_1 : decode b_mAddI 1 = .ok (.iload_n 1, 1) := by decide +kernel
theorem d_mAddI_2 : decode b_mAddI 2 = .ok (.iadd, 1) := by decide +kernel
theorem d_mAddI_3 : decode b_mAddI 3 = .ok (.istore_n 2, 1) := by decide +kernel
theorem d_mAddI_4 : decode b_mAddI 4 = .ok (.iload_n 0, 1) := by decide +kernel
theorem d_mAddI_5 : decode b_mAddI 5 = .ok (.iload_n 2, 1) := by decide +kernel
theorem d_mAddI_6 : decode b_mAddI 6 = .ok (.ixor, 1) := by decide +kernel
theorem d_mAddI_7 : decode b_mAddI 7 = .ok (.iload_n 1, 1) := by decide +kernel
theorem d_mAddI_8 : decode b_mAddI 8 = .ok (.iload_n 2, 1) := by decide +kernel
theorem d_mAddI_9 : decode b_mAddI 9 = .ok (.ixor, 1) := by decide +kernel
theorem d_mAddI_10 : decode b_mAddI 10 = .ok (.iand, 1) := by decide +kernel
theorem d_mAddI_11 : decode b_mAddI 11 = .ok (.ifCond .ge 13, 3) := by decide +kernel
theorem d_mAddI_14 : decode b_mAddI 14 = .ok (.new 109, 3) := by decide +kernel
theorem d_mAddI_17 : decode b_mAddI 17 = .ok (.dup, 1) := by decide +kernel
theorem d_mAddI_18 : decode b_mAddI 18 = .ok (.ldc 111, 2) := by decide +kernel
theorem d_mAddI_20 : decode b_mAddI 20 = .ok (.invokespecial 113, 3) := by decide +kernel
theorem d_mAddI_23 : decode b_mAddI 23 = .ok (.athrow, 1) := by decide +kernel
theorem d_mAddI_24 : decode b_mAddI 24 = .ok (.iload_n 2, 1) := by decide +kernel
theorem d_mAddI_25 : decode b_mAddI 25 = .ok (.ireturn, 1) := by decide +kernel
theorem d_mAddJ_0 : decode b_mAddJ 0 = .ok (.lload_n 0, 1) := by decide +kernel
theorem d_mAddJ_1 : decode b_mAddJ 1 = .ok (.lload_n 2, 1) := by decide +kernel
theorem d_mAddJ_2 : decode b_mAddJ 2 = .ok (.ladd, 1) := by decide +kernel
theorem d_mAddJ_3 : decode b_mAddJ 3 = .ok (.lstore 4, 2) := by decide +kernel
theorem d_mAddJ_5 : decode b_mAddJ 5 = .ok (.lload_n 0, 1) := by decide +kernel
theorem d_mAddJ_6 : decode b_mAddJ 6 = .ok (.lload 4, 2) := by decide +kernel
theorem d_mAddJ_8 : decode b_mAddJ 8 = .ok (.lxor, 1) := by decide +kernel
theorem d_mAddJ_9 : decode b_mAddJ 9 = .ok (.lload_n 2, 1) := by decide +kernel
theorem d_mAddJ_10 : decode b_mAddJ 10 = .ok (.lload 4, 2) := by decide +kernel
theorem d_mAddJ_12 : decode b_mAddJ 12 = .ok (.lxor, 1) := by decide +kernel
theorem d_mAddJ_13 : decode b_mAddJ 13 = .ok (.land, 1) := by decide +kernel
theorem d_mAddJ_14 : decode b_mAddJ 14 = .ok (.lconst 0, 1) := by decide +kernel
theorem d_mAddJ_15 : decode b_mAddJ 15 = .ok (.lcmp, 1) := by decide +kernel
theorem d_mAddJ_16 : decode b_mAddJ 16 = .ok (.ifCond .ge 13, 3) := by decide +kernel
theorem d_mAddJ_19 : decode b_mAddJ 19 = .ok (.new 109, 3) := by decide +kernel
theorem d_mAddJ_22 : decode b_mAddJ 22 = .ok (.dup, 1) := by decide +kernel
theorem d_mAddJ_23 : decode b_mAddJ 23 = .ok (.ldc 116, 2) := by decide +kernel
theorem d_mAddJ_25 : decode b_mAddJ 25 = .ok (.invokespecial 113, 3) := by decide +kernel
theorem d_mAddJ_28 : decode b_mAddJ 28 = .ok (.athrow, 1) := by decide +kernel
theorem d_mAddJ_29 : decode b_mAddJ 29 = .ok (.lload 4, 2) := by decide +kernel
theorem d_mAddJ_31 : decode b_mAddJ 31 = .ok (.lreturn, 1) := by decide +kernel
theorem d_mSubI_0 : decode b_mSubI 0 = .ok (.iload_n 0, 1) := by decide +kernel
theorem d_mSubI_1 : decode b_mSubI 1 = .ok (.iload_n 1, 1) := by decide +kernel
theorem d_mSubI_2 : decode b_mSubI 2 = .ok (.isub, 1) := by decide +kernel
theorem d_mSubI_3 : decode b_mSubI 3 = .ok (.istore_n 2, 1) := by decide +kernel
theorem d_mSubI_4 : decode b_mSubI 4 = .ok (.iload_n 0, 1) := by decide +kernel
theorem d_mSubI_5 : decode b_mSubI 5 = .ok (.iload_n 1, 1) := by decide +kernel
theorem d_mSubI_6 : decode b_mSubI 6 = .ok (.ixor, 1) := by decide +kernel
theorem d_mSubI_7 : decode b_mSubI 7 = .ok (.iload_n 0, 1) := by decide +kernel
theorem d_mSubI_8 : decode b_mSubI 8 = .ok (.iload_n 2, 1) := by decide +kernel
theorem d_mSubI_9 : decode b_mSubI 9 = .ok (.ixor, 1) := by decide +kernel
theorem d_mSubI_10 : decode b_mSubI 10 = .ok (.iand, 1) := by decide +kernel
theorem d_mSubI_11 : decode b_mSubI 11 = .ok (.ifCond .ge 13, 3) := by decide +kernel
theorem d_mSubI_14 : decode b_mSubI 14 = .ok (.new 109, 3) := by decide +kernel
theorem d_mSubI_17 : decode b_mSubI 17 = .ok (.dup, 1) := by decide +kernel
theorem d_mSubI_18 : decode b_mSubI 18 = .ok (.ldc 111, 2) := by decide +kernel
theorem d_mSubI_20 : decode b_mSubI 20 = .ok (.invokespecial 113, 3) := by decide +kernel
theorem d_mSubI_23 : decode b_mSubI 23 = .ok (.athrow, 1) := by decide +kernel
theorem d_mSubI_24 : decode b_mSubI 24 = .ok (.iload_n 2, 1) := by decide +kernel
theorem d_mSubI_25 : decode b_mSubI 25 = .ok (.ireturn, 1) := by decide +kernel
theorem d_mSubJ_0 : decode b_mSubJ 0 = .ok (.lload_n 0, 1) := by decide +kernel
theorem d_mSubJ_1 : decode b_mSubJ 1 = .ok (.lload_n 2, 1) := by decide +kernel
theorem d_mSubJ_2 : decode b_mSubJ 2 = .ok (.lsub, 1) := by decide +kernel
theorem d_mSubJ_3 : decode b_mSubJ 3 = .ok (.lstore 4, 2) := by decide +kernel
theorem d_mSubJ_5 : decode b_mSubJ 5 = .ok (.lload_n 0, 1) := by decide +kernel
theorem d_mSubJ_6 : decode b_mSubJ 6 = .ok (.lload_n 2, 1) := by decide +kernel
theorem d_mSubJ_7 : decode b_mSubJ 7 = .ok (.lxor, 1) := by decide +kernel
theorem d_mSubJ_8 : decode b_mSubJ 8 = .ok (.lload_n 0, 1) := by decide +kernel
theorem d_mSubJ_9 : decode b_mSubJ 9 = .ok (.lload 4, 2) := by decide +kernel
theorem d_mSubJ_11 : decode b_mSubJ 11 = .ok (.lxor, 1) := by decide +kernel
theorem d_mSubJ_12 : decode b_mSubJ 12 = .ok (.land, 1) := by decide +kernel
theorem d_mSubJ_13 : decode b_mSubJ 13 = .ok (.lconst 0, 1) := by decide +kernel
theorem d_mSubJ_14 : decode b_mSubJ 14 = .ok (.lcmp, 1) := by decide +kernel
theorem d_mSubJ_15 : decode b_mSubJ 15 = .ok (.ifCond .ge 13, 3) := by decide +kernel
theorem d_mSubJ_18 : decode b_mSubJ 18 = .ok (.new 109, 3) := by decide +kernel
theorem d_mSubJ_21 : decode b_mSubJ 21 = .ok (.dup, 1) := by decide +kernel
theorem d_mSubJ_22 : decode b_mSubJ 22 = .ok (.ldc 116, 2) := by decide +kernel
theorem d_mSubJ_24 : decode b_mSubJ 24 = .ok (.invokespecial 113, 3) := by decide +kernel
theorem d_mSubJ_27 : decode b_mSubJ 27 = .ok (.athrow, 1) := by decide +kernel
theorem d_mSubJ_28 : decode b_mSubJ 28 = .ok (.lload 4, 2) := by decide +kernel
theorem d_mSubJ_30 : decode b_mSubJ 30 = .ok (.lreturn, 1) := by decide +kernel
theorem d_mMulI_0 : decode b_mMulI 0 = .ok (.iload_n 0, 1) := by decide +kernel
theorem d_mMulI_1 : decode b_mMulI 1 = .ok (.i2l, 1) := by decide +kernel
theorem d_mMulI_2 : decode b_mMulI 2 = .ok (.iload_n 1, 1) := by decide +kernel
theorem d_mMulI_3 : decode b_mMulI 3 = .ok (.i2l, 1) := by decide +kernel
theorem d_mMulI_4 : decode b_mMulI 4 = .ok (.lmul, 1) := by decide +kernel
theorem d_mMulI_5 : decode b_mMulI 5 = .ok (.lstore_n 2, 1) := by decide +kernel
theorem d_mMulI_6 : decode b_mMulI 6 = .ok (.lload_n 2, 1) := by decide +kernel
theorem d_mMulI_7 : decode b_mMulI 7 = .ok (.l2i, 1) := by decide +kernel
theorem d_mMulI_8 : decode b_mMulI 8 = .ok (.i2l, 1) := by decide +kernel
theorem d_mMulI_9 : decode b_mMulI 9 = .ok (.lload_n 2, 1) := by decide +kernel
theorem d_mMulI_10 : decode b_mMulI 10 = .ok (.lcmp, 1) := by decide +kernel
theorem d_mMulI_11 : decode b_mMulI 11 = .ok (.ifCond .eq 13, 3) := by decide +kernel
theorem d_mMulI_14 : decode b_mMulI 14 = .ok (.new 109, 3) := by decide +kernel
theorem d_mMulI_17 : decode b_mMulI 17 = .ok (.dup, 1) := by decide +kernel
theorem d_mMulI_18 : decode b_mMulI 18 = .ok (.ldc 111, 2) := by decide +kernel
theorem d_mMulI_20 : decode b_mMulI 20 = .ok (.invokespecial 113, 3) := by decide +kernel
theorem d_mMulI_23 : decode b_mMulI 23 = .ok (.athrow, 1) := by decide +kernel
theorem d_mMulI_24 : decode b_mMulI 24 = .ok (.lload_n 2, 1) := by decide +kernel
theorem d_mMulI_25 : decode b_mMulI 25 = .ok (.l2i, 1) := by decide +kernel
theorem d_mMulI_26 : decode b_mMulI 26 = .ok (.ireturn, 1) := by decide +kernel
theorem d_mMulJ_0 : decode b_mMulJ 0 = .ok (.lload_n 0, 1) := by decide +kernel
theorem d_mMulJ_1 : decode b_mMulJ 1 = .ok (.lload_n 2, 1) := by decide +kernel
theorem d_mMulJ_2 : decode b_mMulJ 2 = .ok (.lmul, 1) := by decide +kernel
theorem d_mMulJ_3 : decode b_mMulJ 3 = .ok (.lstore 4, 2) := by decide +kernel
theorem d_mMulJ_5 : decode b_mMulJ 5 = .ok (.lload_n 0, 1) := by decide +kernel
theorem d_mMulJ_6 : decode b_mMulJ 6 = .ok (.invokestatic 122, 3) := by decide +kernel
theorem d_mMulJ_9 : decode b_mMulJ 9 = .ok (.lstore 6, 2) := by decide +kernel
theorem d_mMulJ_11 : decode b_mMulJ 11 = .ok (.lload_n 2, 1) := by decide +kernel
theorem d_mMulJ_12 : decode b_mMulJ 12 = .ok (.invokestatic 122, 3) := by decide +kernel
theorem d_mMulJ_15 : decode b_mMulJ 15 = .ok (.lstore 8, 2) := by decide +kernel
theorem d_mMulJ_17 : decode b_mMulJ 17 = .ok (.lload 6, 2) := by decide +kernel
theorem d_mMulJ_19 : decode b_mMulJ 19 = .ok (.lload 8, 2) := by decide +kernel
theorem d_mMulJ_21 : decode b_mMulJ 21 = .ok (.lor, 1) := by decide +kernel
theorem d_mMulJ_22 : decode b_mMulJ 22 = .ok (.bipush 31, 2) := by decide +kernel
theorem d_mMulJ_24 : decode b_mMulJ 24 = .ok (.lushr, 1) := by decide +kernel
theorem d_mMulJ_25 : decode b_mMulJ 25 = .ok (.lconst 0, 1) := by decide +kernel
theorem d_mMulJ_26 : decode b_mMulJ 26 = .ok (.lcmp, 1) := by decide +kernel
theorem d_mMulJ_27 : decode b_mMulJ 27 = .ok (.ifCond .eq 44, 3) := by decide +kernel
theorem d_mMulJ_30 : decode b_mMulJ 30 = .ok (.lload_n 2, 1) := by decide +kernel
theorem d_mMulJ_31 : decode b_mMulJ 31 = .ok (.lconst 0, 1) := by decide +kernel
theorem d_mMulJ_32 : decode b_mMulJ 32 = .ok (.lcmp, 1) := by decide +kernel
theorem d_mMulJ_33 : decode b_mMulJ 33 = .ok (.ifCond .eq 12, 3) := by decide +kernel
theorem d_mMulJ_36 : decode b_mMulJ 36 = .ok (.lload 4, 2) := by decide +kernel
theorem d_mMulJ_38 : decode b_mMulJ 38 = .ok (.lload_n 2, 1) := by decide +kernel
theorem d_mMulJ_39 : decode b_mMulJ 39 = .ok (.ldiv, 1) := by decide +kernel
theorem d_mMulJ_40 : decode b_mMulJ 40 = .ok (.lload_n 0, 1) := by decide +kernel
theorem d_mMulJ_41 : decode b_mMulJ 41 = .ok (.lcmp, 1) := by decide +kernel
theorem d_mMulJ_42 : decode b_mMulJ 42 = .ok (.ifCond .ne 19, 3) := by decide +kernel
theorem d_mMulJ_45 : decode b_mMulJ 45 = .ok (.lload_n 0, 1) := by decide +kernel
theorem d_mMulJ_46 : decode b_mMulJ 46 = .ok (.ldc2_w 128, 3) := by decide +kernel
theorem d_mMulJ_49 : decode b_mMulJ 49 = .ok (.lcmp, 1) := by decide +kernel
theorem d_mMulJ_50 : decode b_mMulJ 50 = .ok (.ifCond .ne 21, 3) := by decide +kernel
theorem d_mMulJ_53 : decode b_mMulJ 53 = .ok (.lload_n 2, 1) := by decide +kernel
theorem d_mMulJ_54 : decode b_mMulJ 54 = .ok (.ldc2_w 130, 3) := by decide +kernel
theorem d_mMulJ_57 : decode b_mMulJ 57 = .ok (.lcmp, 1) := by decide +kernel
theorem d_mMulJ_58 : decode b_mMulJ 58 = .ok (.ifCond .ne 13, 3) := by decide +kernel
theorem d_mMulJ_61 : decode b_mMulJ 61 = .ok (.new 109, 3) := by decide +kernel
theorem d_mMulJ_64 : decode b_mMulJ 64 = .ok (.dup, 1) := by decide +kernel
theorem d_mMulJ_65 : decode b_mMulJ 65 = .ok (.ldc 116, 2) := by decide +kernel
theorem d_mMulJ_67 : decode b_mMulJ 67 = .ok (.invokespecial 113, 3) := by decide +kernel
theorem d_mMulJ_70 : decode b_mMulJ 70 = .ok (.athrow, 1) := by decide +kernel
theorem d_mMulJ_71 : decode b_mMulJ 71 = .ok (.lload 4, 2) := by decide +kernel
theorem d_mMulJ_73 : decode b_mMulJ 73 = .ok (.lreturn, 1) := by decide +kernel
theorem d_mToI_0 : decode b_mToI 0 = .ok (.lload_n 0, 1) := by decide +kernel
theorem d_mToI_1 : decode b_mToI 1 = .ok (.l2i, 1) := by decide +kernel
theorem d_mToI_2 : decode b_mToI 2 = .ok (.i2l, 1) := by decide +kernel
theorem d_mToI_3 : decode b_mToI 3 = .ok (.lload_n 0, 1) := by decide +kernel
theorem d_mToI_4 : decode b_mToI 4 = .ok (.lcmp, 1) := by decide +kernel
theorem d_mToI_5 : decode b_mToI 5 = .ok (.ifCond .eq 13, 3) := by decide +kernel
theorem d_mToI_8 : decode b_mToI 8 = .ok (.new 109, 3) := by decide +kernel
theorem d_mToI_11 : decode b_mToI 11 = .ok (.dup, 1) := by decide +kernel
theorem d_mToI_12 : decode b_mToI 12 = .ok (.ldc 111, 2) := by decide +kernel
theorem d_mToI_14 : decode b_mToI 14 = .ok (.invokespecial 113, 3) := by decide +kernel
theorem d_mToI_17 : decode b_mToI 17 = .ok (.athrow, 1) := by decide +kernel
theorem d_mToI_18 : decode b_mToI 18 = .ok (.lload_n 0, 1) := by decide +kernel
theorem d_mToI_19 : decode b_mToI 19 = .ok (.l2i, 1) := by decide +kernel
theorem d_mToI_20 : decode b_mToI 20 = .ok (.ireturn, 1) := by decide +kernel
theorem d_mNeg_0 : decode b_mNeg 0 = .ok (.lload_n 0, 1) := by decide +kernel
theorem d_mNeg_1 : decode b_mNeg 1 = .ok (.ldc2_w 128, 3) := by decide +kernel
theorem d_mNeg_4 : decode b_mNeg 4 = .ok (.lcmp, 1) := by decide +kernel
theorem d_mNeg_5 : decode b_mNeg 5 = .ok (.ifCond .ne 13, 3) := by decide +kernel
theorem d_mNeg_8 : decode b_mNeg 8 = .ok (.new 109, 3) := by decide +kernel
theorem d_mNeg_11 : decode b_mNeg 11 = .ok (.dup, 1) := by decide +kernel
theorem d_mNeg_12 : decode b_mNeg 12 = .ok (.ldc 116, 2) := by decide +kernel
theorem d_mNeg_14 : decode b_mNeg 14 = .ok (.invokespecial 113, 3) := by decide +kernel
theorem d_mNeg_17 : decode b_mNeg 17 = .ok (.athrow, 1) := by decide +kernel
theorem d_mNeg_18 : decode b_mNeg 18 = .ok (.lload_n 0, 1) := by decide +kernel
theorem d_mNeg_19 : decode b_mNeg 19 = .ok (.lneg, 1) := by decide +kernel
theorem d_mNeg_20 : decode b_mNeg 20 = .ok (.lreturn, 1) := by decide +kernel
theorem d_mFdJ_0 : decode b_mFdJ 0 = .ok (.lload_n 0, 1) := by decide +kernel
theorem d_mFdJ_1 : decode b_mFdJ 1 = .ok (.lload_n 2, 1) := by decide +kernel
theorem d_mFdJ_2 : decode b_mFdJ 2 = .ok (.ldiv, 1) := by decide +kernel
theorem d_mFdJ_3 : decode b_mFdJ 3 = .ok (.lstore 4, 2) := by decide +kernel
theorem d_mFdJ_5 : decode b_mFdJ 5 = .ok (.lload_n 0, 1) := by decide +kernel
theorem d_mFdJ_6 : decode b_mFdJ 6 = .ok (.lload_n 2, 1) := by decide +kernel
theorem d_mFdJ_7 : decode b_mFdJ 7 = .ok (.lxor, 1) := by decide +kernel
theorem d_mFdJ_8 : decode b_mFdJ 8 = .ok (.lconst 0, 1) := by decide +kernel
theorem d_mFdJ_9 : decode b_mFdJ 9 = .ok (.lcmp, 1) := by decide +kernel
theorem d_mFdJ_10 : decode b_mFdJ 10 = .ok (.ifCond .ge 17, 3) := by decide +kernel
theorem d_mFdJ_13 : decode b_mFdJ 13 = .ok (.lload 4, 2) := by decide +kernel
theorem d_mFdJ_15 : decode b_mFdJ 15 = .ok (.lload_n 2, 1) := by decide +kernel
theorem d_mFdJ_16 : decode b_mFdJ 16 = .ok (.lmul, 1) := by decide +kernel
theorem d_mFdJ_17 : decode b_mFdJ 17 = .ok (.lload_n 0, 1) := by decide +kernel
theorem d_mFdJ_18 : decode b_mFdJ 18 = .ok (.lcmp, 1) := by decide +kernel
theorem d_mFdJ_19 : decode b_mFdJ 19 = .ok (.ifCond .eq 8, 3) := by decide +kernel
theorem d_mFdJ_22 : decode b_mFdJ 22 = .ok (.lload 4, 2) := by decide +kernel
theorem d_mFdJ_24 : decode b_mFdJ 24 = .ok (.lconst 1, 1) := by decide +kernel
theorem d_mFdJ_25 : decode b_mFdJ 25 = .ok (.lsub, 1) := by decide +kernel
theorem d_mFdJ_26 : decode b_mFdJ 26 = .ok (.lreturn, 1) := by decide +kernel
theorem d_mFdJ_27 : decode b_mFdJ 27 = .ok (.lload 4, 2) := by decide +kernel
theorem d_mFdJ_29 : decode b_mFdJ 29 = .ok (.lreturn, 1) := by decide +kernel
theorem d_mFmJ_0 : decode b_mFmJ 0 = .ok (.lload_n 0, 1) := by decide +kernel
theorem d_mFmJ_1 : decode b_mFmJ 1 = .ok (.lload_n 2, 1) := by decide +kernel
theorem d_mFmJ_2 : decode b_mFmJ 2 = .ok (.lrem, 1) := by decide +kernel
theorem d_mFmJ_3 : decode b_mFmJ 3 = .ok (.lstore 4, 2) := by decide +kernel
theorem d_mFmJ_5 : decode b_mFmJ 5 = .ok (.lload_n 0, 1) := by decide +kernel
theorem d_mFmJ_6 : decode b_mFmJ 6 = .ok (.lload_n 2, 1) := by decide +kernel
theorem d_mFmJ_7 : decode b_mFmJ 7 = .ok (.lxor, 1) := by decide +kernel
theorem d_mFmJ_8 : decode b_mFmJ 8 = .ok (.lconst 0, 1) := by decide +kernel
theorem d_mFmJ_9 : decode b_mFmJ 9 = .ok (.lcmp, 1) := by decide +kernel
theorem d_mFmJ_10 : decode b_mFmJ 10 = .ok (.ifCond .ge 15, 3) := by decide +kernel
theorem d_mFmJ_13 : decode b_mFmJ 13 = .ok (.lload 4, 2) := by decide +kernel
theorem d_mFmJ_15 : decode b_mFmJ 15 = .ok (.lconst 0, 1) := by decide +kernel
theorem d_mFmJ_16 : decode b_mFmJ 16 = .ok (.lcmp, 1) := by decide +kernel
theorem d_mFmJ_17 : decode b_mFmJ 17 = .ok (.ifCond .eq 8, 3) := by decide +kernel
theorem d_mFmJ_20 : decode b_mFmJ 20 = .ok (.lload 4, 2) := by decide +kernel
theorem d_mFmJ_22 : decode b_mFmJ 22 = .ok (.lload_n 2, 1) := by decide +kernel
theorem d_mFmJ_23 : decode b_mFmJ 23 = .ok (.ladd, 1) := by decide +kernel
theorem d_mFmJ_24 : decode b_mFmJ 24 = .ok (.lreturn, 1) := by decide +kernel
theorem d_mFmJ_25 : decode b_mFmJ 25 = .ok (.lload 4, 2) := by decide +kernel
theorem d_mFmJ_27 : decode b_mFmJ 27 = .ok (.lreturn, 1) := by decide +kernel
theorem d_mFdI_0 : decode b_mFdI 0 = .ok (.iload_n 0, 1) := by decide +kernel
theorem d_mFdI_1 : decode b_mFdI 1 = .ok (.iload_n 1, 1) := by decide +kernel
theorem d_mFdI_2 : decode b_mFdI 2 = .ok (.idiv, 1) := by decide +kernel
theorem d_mFdI_3 : decode b_mFdI 3 = .ok (.istore_n 2, 1) := by decide +kernel
theorem d_mFdI_4 : decode b_mFdI 4 = .ok (.iload_n 0, 1) := by decide +kernel
theorem d_mFdI_5 : decode b_mFdI 5 = .ok (.iload_n 1, 1) := by decide +kernel
theorem d_mFdI_6 : decode b_mFdI 6 = .ok (.ixor, 1) := by decide +kernel
theorem d_mFdI_7 : decode b_mFdI 7 = .ok (.ifCond .ge 14, 3) := by decide +kernel
theorem d_mFdI_10 : decode b_mFdI 10 = .ok (.iload_n 2, 1) := by decide +kernel
theorem d_mFdI_11 : decode b_mFdI 11 = .ok (.iload_n 1, 1) := by decide +kernel
theorem d_mFdI_12 : decode b_mFdI 12 = .ok (.imul, 1) := by decide +kernel
theorem d_mFdI_13 : decode b_mFdI 13 = .ok (.iload_n 0, 1) := by decide +kernel
theorem d_mFdI_14 : decode b_mFdI 14 = .ok (.if_icmp .eq 7, 3) := by decide +kernel
theorem d_mFdI_17 : decode b_mFdI 17 = .ok (.iload_n 2, 1) := by decide +kernel
theorem d_mFdI_18 : decode b_mFdI 18 = .ok (.iconst 1, 1) := by decide +kernel
theorem d_mFdI_19 : decode b_mFdI 19 = .ok (.isub, 1) := by decide +kernel
theorem d_mFdI_20 : decode b_mFdI 20 = .ok (.ireturn, 1) := by decide +kernel
theorem d_mFdI_21 : decode b_mFdI 21 = .ok (.iload_n 2, 1) := by decide +kernel
theorem d_mFdI_22 : decode b_mFdI 22 = .ok (.ireturn, 1) := by decide +kernel
theorem d_mFmI_0 : decode b_mFmI 0 = .ok (.iload_n 0, 1) := by decide +kernel
theorem d_mFmI_1 : decode b_mFmI 1 = .ok (.iload_n 1, 1) := by decide +kernel
theorem d_mFmI_2 : decode b_mFmI 2 = .ok (.irem, 1) := by decide +kernel
theorem d_mFmI_3 : decode b_mFmI 3 = .ok (.istore_n 2, 1) := by decide +kernel
theorem d_mFmI_4 : decode b_mFmI 4 = .ok (.iload_n 0, 1) := by decide +kernel
theorem d_mFmI_5 : decode b_mFmI 5 = .ok (.iload_n 1, 1) := by decide +kernel
theorem d_mFmI_6 : decode b_mFmI 6 = .ok (.ixor, 1) := by decide +kernel
theorem d_mFmI_7 : decode b_mFmI 7 = .ok (.ifCond .ge 11, 3) := by decide +kernel
theorem d_mFmI_10 : decode b_mFmI 10 = .ok (.iload_n 2, 1) := by decide +kernel
theorem d_mFmI_11 : decode b_mFmI 11 = .ok (.ifCond .eq 7, 3) := by decide +kernel
theorem d_mFmI_14 : decode b_mFmI 14 = .ok (.iload_n 2, 1) := by decide +kernel
theorem d_mFmI_15 : decode b_mFmI 15 = .ok (.iload_n 1, 1) := by decide +kernel
theorem d_mFmI_16 : decode b_mFmI 16 = .ok (.iadd, 1) := by decide +kernel
theorem d_mFmI_17 : decode b_mFmI 17 = .ok (.ireturn, 1) := by decide +kernel
theorem d_mFmI_18 : decode b_mFmI 18 = .ok (.iload_n 2, 1) := by decide +kernel
theorem d_mFmI_19 : decode b_mFmI 19 = .ok (.ireturn, 1) := by decide +kernel
theorem d_mHigh_0 : decode b_mHigh 0 = .ok (.lload_n 0, 1) := by decide +kernel
theorem d_mHigh_1 : decode b_mHigh 1 = .ok (.bipush 32, 2) := by decide +kernel
theorem d_mHigh_3 : decode b_mHigh 3 = .ok (.lshr, 1) := by decide +kernel
theorem d_mHigh_4 : decode b_mHigh 4 = .ok (.lstore 4, 2) := by decide +kernel
theorem d_mHigh_6 : decode b_mHigh 6 = .ok (.lload_n 0, 1) := by decide +kernel
theorem d_mHigh_7 : decode b_mHigh 7 = .ok (.ldc2_w 138, 3) := by decide +kernel
theorem d_mHigh_10 : decode b_mHigh 10 = .ok (.land, 1) := by decide +kernel
theorem d_mHigh_11 : decode b_mHigh 11 = .ok (.lstore 6, 2) := by decide +kernel
theorem d_mHigh_13 : decode b_mHigh 13 = .ok (.lload_n 2, 1) := by decide +kernel
theorem d_mHigh_14 : decode b_mHigh 14 = .ok (.bipush 32, 2) := by decide +kernel
theorem d_mHigh_16 : decode b_mHigh 16 = .ok (.lshr, 1) := by decide +kernel
theorem d_mHigh_17 : decode b_mHigh 17 = .ok (.lstore 8, 2) := by decide +kernel
theorem d_mHigh_19 : decode b_mHigh 19 = .ok (.lload_n 2, 1) := by decide +kernel
theorem d_mHigh_20 : decode b_mHigh 20 = .ok (.ldc2_w 138, 3) := by decide +kernel
theorem d_mHigh_23 : decode b_mHigh 23 = .ok (.land, 1) := by decide +kernel
theorem d_mHigh_24 : decode b_mHigh 24 = .ok (.lstore 10, 2) := by decide +kernel
theorem d_mHigh_26 : decode b_mHigh 26 = .ok (.lload 6, 2) := by decide +kernel
theorem d_mHigh_28 : decode b_mHigh 28 = .ok (.lload 10, 2) := by decide +kernel
theorem d_mHigh_30 : decode b_mHigh 30 = .ok (.lmul, 1) := by decide +kernel
theorem d_mHigh_31 : decode b_mHigh 31 = .ok (.lstore 12, 2) := by decide +kernel
theorem d_mHigh_33 : decode b_mHigh 33 = .ok (.lload 4, 2) := by decide +kernel
theorem d_mHigh_35 : decode b_mHigh 35 = .ok (.lload 10, 2) := by decide +kernel
theorem d_mHigh_37 : decode b_mHigh 37 = .ok (.lmul, 1) := by decide +kernel
theorem d_mHigh_38 : decode b_mHigh 38 = .ok (.lload 12, 2) := by decide +kernel
theorem d_mHigh_40 : decode b_mHigh 40 = .ok (.bipush 32, 2) := by decide +kernel
theorem d_mHigh_42 : decode b_mHigh 42 = .ok (.lushr, 1) := by decide +kernel
theorem d_mHigh_43 : decode b_mHigh 43 = .ok (.ladd, 1) := by decide +kernel
theorem d_mHigh_44 : decode b_mHigh 44 = .ok (.lstore 14, 2) := by decide +kernel
theorem d_mHigh_46 : decode b_mHigh 46 = .ok (.lload 14, 2) := by decide +kernel
theorem d_mHigh_48 : decode b_mHigh 48 = .ok (.ldc2_w 138, 3) := by decide +kernel
theorem d_mHigh_51 : decode b_mHigh 51 = .ok (.land, 1) := by decide +kernel
theorem d_mHigh_52 : decode b_mHigh 52 = .ok (.lstore 16, 2) := by decide +kernel
theorem d_mHigh_54 : decode b_mHigh 54 = .ok (.lload 14, 2) := by decide +kernel
theorem d_mHigh_56 : decode b_mHigh 56 = .ok (.bipush 32, 2) := by decide +kernel
theorem d_mHigh_58 : decode b_mHigh 58 = .ok (.lshr, 1) := by decide +kernel
theorem d_mHigh_59 : decode b_mHigh 59 = .ok (.lstore 18, 2) := by decide +kernel
theorem d_mHigh_61 : decode b_mHigh 61 = .ok (.lload 16, 2) := by decide +kernel
theorem d_mHigh_63 : decode b_mHigh 63 = .ok (.lload 6, 2) := by decide +kernel
theorem d_mHigh_65 : decode b_mHigh 65 = .ok (.lload 8, 2) := by decide +kernel
theorem d_mHigh_67 : decode b_mHigh 67 = .ok (.lmul, 1) := by decide +kernel
theorem d_mHigh_68 : decode b_mHigh 68 = .ok (.ladd, 1) := by decide +kernel
theorem d_mHigh_69 : decode b_mHigh 69 = .ok (.lstore 16, 2) := by decide +kernel
theorem d_mHigh_71 : decode b_mHigh 71 = .ok (.lload 4, 2) := by decide +kernel
theorem d_mHigh_73 : decode b_mHigh 73 = .ok (.lload 8, 2) := by decide +kernel
theorem d_mHigh_75 : decode b_mHigh 75 = .ok (.lmul, 1) := by decide +kernel
theorem d_mHigh_76 : decode b_mHigh 76 = .ok (.lload 18, 2) := by decide +kernel
theorem d_mHigh_78 : decode b_mHigh 78 = .ok (.ladd, 1) := by decide +kernel
theorem d_mHigh_79 : decode b_mHigh 79 = .ok (.lload 16, 2) := by decide +kernel
theorem d_mHigh_81 : decode b_mHigh 81 = .ok (.bipush 32, 2) := by decide +kernel
theorem d_mHigh_83 : decode b_mHigh 83 = .ok (.lshr, 1) := by decide +kernel
theorem d_mHigh_84 : decode b_mHigh 84 = .ok (.ladd, 1) := by decide +kernel
theorem d_mHigh_85 : decode b_mHigh 85 = .ok (.lreturn, 1) := by decide +kernel
theorem d_mFull_0 : decode b_mFull 0 = .ok (.iload_n 0, 1) := by decide +kernel
theorem d_mFull_1 : decode b_mFull 1 = .ok (.i2l, 1) := by decide +kernel
theorem d_mFull_2 : decode b_mFull 2 = .ok (.iload_n 1, 1) := by decide +kernel
theorem d_mFull_3 : decode b_mFull 3 = .ok (.i2l, 1) := by decide +kernel
theorem d_mFull_4 : decode b_mFull 4 = .ok (.lmul, 1) := by decide +kernel
theorem d_mFull_5 : decode b_mFull 5 = .ok (.lreturn, 1) := by decide +kernel
theorem d_mMax_0 : decode b_mMax 0 = .ok (.lload_n 0, 1) := by decide +kernel
theorem d_mMax_1 : decode b_mMax 1 = .ok (.lload_n 2, 1) := by decide +kernel
theorem d_mMax_2 : decode b_mMax 2 = .ok (.lcmp, 1) := by decide +kernel
theorem d_mMax_3 : decode b_mMax 3 = .ok (.ifCond .lt 7, 3) := by decide +kernel
theorem d_mMax_6 : decode b_mMax 6 = .ok (.lload_n 0, 1) := by decide +kernel
theorem d_mMax_7 : decode b_mMax 7 = .ok (.goto 4, 3) := by decide +kernel
theorem d_mMax_10 : decode b_mMax 10 = .ok (.lload_n 2, 1) := by decide +kernel
theorem d_mMax_11 : decode b_mMax 11 = .ok (.lreturn, 1) := by decide +kernel
theorem d_mMin_0 : decode b_mMin 0 = .ok (.lload_n 0, 1) := by decide +kernel
theorem d_mMin_1 : decode b_mMin 1 = .ok (.lload_n 2, 1) := by decide +kernel
theorem d_mMin_2 : decode b_mMin 2 = .ok (.lcmp, 1) := by decide +kernel
theorem d_mMin_3 : decode b_mMin 3 = .ok (.ifCond .gt 7, 3) := by decide +kernel
theorem d_mMin_6 : decode b_mMin 6 = .ok (.lload_n 0, 1) := by decide +kernel
theorem d_mMin_7 : decode b_mMin 7 = .ok (.goto 4, 3) := by decide +kernel
theorem d_mMin_10 : decode b_mMin 10 = .ok (.lload_n 2, 1) := by decide +kernel
theorem d_mMin_11 : decode b_mMin 11 = .ok (.lreturn, 1) := by decide +kernel
theorem d_dInit_0 : decode b_dInit 0 = .ok (.aload_n 0, 1) := by decide +kernel
theorem d_dInit_1 : decode b_dInit 1 = .ok (.invokespecial 1, 3) := by decide +kernel
theorem d_dInit_4 : decode b_dInit 4 = .ok (.return_, 1) := by decide +kernel
theorem d_dOver_0 : decode b_dOver 0 = .ok (.aload_n 0, 1) := by decide +kernel
theorem d_dOver_1 : decode b_dOver 1 = .ok (.getfield 7, 3) := by decide +kernel
theorem d_dOver_4 : decode b_dOver 4 = .ok (.ireturn, 1) := by decide +kernel
theorem d_dAddI_0 : decode b_dAddI 0 = .ok (.aload_n 0, 1) := by decide +kernel
theorem d_dAddI_1 : decode b_dAddI 1 = .ok (.iconst 0, 1) := by decide +kernel
theorem d_dAddI_2 : decode b_dAddI 2 = .ok (.putfield 7, 3) := by decide +kernel
theorem d_dAddI_5 : decode b_dAddI 5 = .ok (.iload_n 1, 1) := by decide +kernel
theorem d_dAddI_6 : decode b_dAddI 6 = .ok (.iload_n 2, 1) := by decide +kernel
theorem d_dAddI_7 : decode b_dAddI 7 = .ok (.invokestatic 13, 3) := by decide +kernel
theorem d_dAddI_10 : decode b_dAddI 10 = .ok (.ireturn, 1) := by decide +kernel
theorem d_dAddI_11 : decode b_dAddI 11 = .ok (.astore_n 3, 1) := by decide +kernel
theorem d_dAddI_12 : decode b_dAddI 12 = .ok (.aload_n 0, 1) := by decide +kernel
theorem d_dAddI_13 : decode b_dAddI 13 = .ok (.iconst 1, 1) := by decide +kernel
theorem d_dAddI_14 : decode b_dAddI 14 = .ok (.putfield 7, 3) := by decide +kernel
theorem d_dAddI_17 : decode b_dAddI 17 = .ok (.iconst 0, 1) := by decide +kernel
theorem d_dAddI_18 : decode b_dAddI 18 = .ok (.ireturn, 1) := by decide +kernel
theorem d_dAddJ_0 : decode b_dAddJ 0 = .ok (.aload_n 0, 1) := by decide +kernel
theorem d_dAddJ_1 : decode b_dAddJ 1 = .ok (.iconst 0, 1) := by decide +kernel
theorem d_dAddJ_2 : decode b_dAddJ 2 = .ok (.putfield 7, 3) := by decide +kernel
theorem d_dAddJ_5 : decode b_dAddJ 5 = .ok (.lload_n 1, 1) := by decide +kernel
theorem d_dAddJ_6 : decode b_dAddJ 6 = .ok (.lload_n 3, 1) := by decide +kernel
theorem d_dAddJ_7 : decode b_dAddJ 7 = .ok (.invokestatic 21, 3) := by decide +kernel
theorem d_dAddJ_10 : decode b_dAddJ 10 = .ok (.lreturn, 1) := by decide +kernel
theorem d_dAddJ_11 : decode b_dAddJ 11 = .ok (.astore 5, 2) := by decide +kernel
theorem d_dAddJ_13 : decode b_dAddJ 13 = .ok (.aload_n 0, 1) := by decide +kernel
theorem d_dAddJ_14 : decode b_dAddJ 14 = .ok (.iconst 1, 1) := by decide +kernel
theorem d_dAddJ_15 : decode b_dAddJ 15 = .ok (.putfield 7, 3) := by decide +kernel
theorem d_dAddJ_18 : decode b_dAddJ 18 = .ok (.lconst 0, 1) := by decide +kernel
theorem d_dAddJ_19 : decode b_dAddJ 19 = .ok (.lreturn, 1) := by decide +kernel
theorem d_dSubI_0 : decode b_dSubI 0 = .ok (.aload_n 0, 1) := by decide +kernel
theorem d_dSubI_1 : decode b_dSubI 1 = .ok (.iconst 0, 1) := by decide +kernel
theorem d_dSubI_2 : decode b_dSubI 2 = .ok (.putfield 7, 3) := by decide +kernel
theorem d_dSubI_5 : decode b_dSubI 5 = .ok (.iload_n 1, 1) := by decide +kernel
theorem d_dSubI_6 : decode b_dSubI 6 = .ok (.iload_n 2, 1) := by decide +kernel
theorem d_dSubI_7 : decode b_dSubI 7 = .ok (.invokestatic 24, 3) := by decide +kernel
theorem d_dSubI_10 : decode b_dSubI 10 = .ok (.ireturn, 1) := by decide +kernel
theorem d_dSubI_11 : decode b_dSubI 11 = .ok (.astore_n 3, 1) := by decide +kernel
theorem d_dSubI_12 : decode b_dSubI 12 = .ok (.aload_n 0, 1) := by decide +kernel
theorem d_dSubI_13 : decode b_dSubI 13 = .ok (.iconst 1, 1) := by decide +kernel
theorem d_dSubI_14 : decode b_dSubI 14 = .ok (.putfield 7, 3) := by decide +kernel
theorem d_dSubI_17 : decode b_dSubI 17 = .ok (.iconst 0, 1) := by decide +kernel
theorem d_dSubI_18 : decode b_dSubI 18 = .ok (.ireturn, 1) := by decide +kernel
theorem d_dSubJ_0 : decode b_dSubJ 0 = .ok (.aload_n 0, 1) := by decide +kernel
theorem d_dSubJ_1 : decode b_dSubJ 1 = .ok (.iconst 0, 1) := by decide +kernel
theorem d_dSubJ_2 : decode b_dSubJ 2 = .ok (.putfield 7, 3) := by decide +kernel
theorem d_dSubJ_5 : decode b_dSubJ 5 = .ok (.lload_n 1, 1) := by decide +kernel
theorem d_dSubJ_6 : decode b_dSubJ 6 = .ok (.lload_n 3, 1) := by decide +kernel
theorem d_dSubJ_7 : decode b_dSubJ 7 = .ok (.invokestatic 27, 3) := by decide +kernel
theorem d_dSubJ_10 : decode b_dSubJ 10 = .ok (.lreturn, 1) := by decide +kernel
theorem d_dSubJ_11 : decode b_dSubJ 11 = .ok (.astore 5, 2) := by decide +kernel
theorem d_dSubJ_13 : decode b_dSubJ 13 = .ok (.aload_n 0, 1) := by decide +kernel
theorem d_dSubJ_14 : decode b_dSubJ 14 = .ok (.iconst 1, 1) := by decide +kernel
theorem d_dSubJ_15 : decode b_dSubJ 15 = .ok (.putfield 7, 3) := by decide +kernel
theorem d_dSubJ_18 : decode b_dSubJ 18 = .ok (.lconst 0, 1) := by decide +kernel
theorem d_dSubJ_19 : decode b_dSubJ 19 = .ok (.lreturn, 1) := by decide +kernel
theorem d_dMulI_0 : decode b_dMulI 0 = .ok (.aload_n 0, 1) := by decide +kernel
theorem d_dMulI_1 : decode b_dMulI 1 = .ok (.iconst 0, 1) := by decide +kernel
theorem d_dMulI_2 : decode b_dMulI 2 = .ok (.putfield 7, 3) := by decide +kernel
theorem d_dMulI_5 : decode b_dMulI 5 = .ok (.iload_n 1, 1) := by decide +kernel
theorem d_dMulI_6 : decode b_dMulI 6 = .ok (.iload_n 2, 1) := by decide +kernel
theorem d_dMulI_7 : decode b_dMulI 7 = .ok (.invokestatic 29, 3) := by decide +kernel
theorem d_dMulI_10 : decode b_dMulI 10 = .ok (.ireturn, 1) := by decide +kernel
theorem d_dMulI_11 : decode b_dMulI 11 = .ok (.astore_n 3, 1) := by decide +kernel
theorem d_dMulI_12 : decode b_dMulI 12 = .ok (.aload_n 0, 1) := by decide +kernel
theorem d_dMulI_13 : decode b_dMulI 13 = .ok (.iconst 1, 1) := by decide +kernel
theorem d_dMulI_14 : decode b_dMulI 14 = .ok (.putfield 7, 3) := by decide +kernel
theorem d_dMulI_17 : decode b_dMulI 17 = .ok (.iconst 0, 1) := by decide +kernel
theorem d_dMulI_18 : decode b_dMulI 18 = .ok (.ireturn, 1) := by decide +kernel
theorem d_dMulJ_0 : decode b_dMulJ 0 = .ok (.aload_n 0, 1) := by decide +kernel
theorem d_dMulJ_1 : decode b_dMulJ 1 = .ok (.iconst 0, 1) := by decide +kernel
theorem d_dMulJ_2 : decode b_dMulJ 2 = .ok (.putfield 7, 3) := by decide +kernel
theorem d_dMulJ_5 : decode b_dMulJ 5 = .ok (.lload_n 1, 1) := by decide +kernel
theorem d_dMulJ_6 : decode b_dMulJ 6 = .ok (.lload_n 3, 1) := by decide +kernel
theorem d_dMulJ_7 : decode b_dMulJ 7 = .ok (.invokestatic 32, 3) := by decide +kernel
theorem d_dMulJ_10 : decode b_dMulJ 10 = .ok (.lreturn, 1) := by decide +kernel
theorem d_dMulJ_11 : decode b_dMulJ 11 = .ok (.astore 5, 2) := by decide +kernel
theorem d_dMulJ_13 : decode b_dMulJ 13 = .ok (.aload_n 0, 1) := by decide +kernel
theorem d_dMulJ_14 : decode b_dMulJ 14 = .ok (.iconst 1, 1) := by decide +kernel
theorem d_dMulJ_15 : decode b_dMulJ 15 = .ok (.putfield 7, 3) := by decide +kernel
theorem d_dMulJ_18 : decode b_dMulJ 18 = .ok (.lconst 0, 1) := by decide +kernel
theorem d_dMulJ_19 : decode b_dMulJ 19 = .ok (.lreturn, 1) := by decide +kernel
theorem d_dNar_0 : decode b_dNar 0 = .ok (.aload_n 0, 1) := by decide +kernel
theorem d_dNar_1 : decode b_dNar 1 = .ok (.iconst 0, 1) := by decide +kernel
theorem d_dNar_2 : decode b_dNar 2 = .ok (.putfield 7, 3) := by decide +kernel
theorem d_dNar_5 : decode b_dNar 5 = .ok (.lload_n 1, 1) := by decide +kernel
theorem d_dNar_6 : decode b_dNar 6 = .ok (.invokestatic 34, 3) := by decide +kernel
theorem d_dNar_9 : decode b_dNar 9 = .ok (.ireturn, 1) := by decide +kernel
theorem d_dNar_10 : decode b_dNar 10 = .ok (.astore_n 3, 1) := by decide +kernel
theorem d_dNar_11 : decode b_dNar 11 = .ok (.aload_n 0, 1) := by decide +kernel
theorem d_dNar_12 : decode b_dNar 12 = .ok (.iconst 1, 1) := by decide +kernel
theorem d_dNar_13 : decode b_dNar 13 = .ok (.putfield 7, 3) := by decide +kernel
theorem d_dNar_16 : decode b_dNar 16 = .ok (.iconst 0, 1) := by decide +kernel
theorem d_dNar_17 : decode b_dNar 17 = .ok (.ireturn, 1) := by decide +kernel
theorem d_dNeg_0 : decode b_dNeg 0 = .ok (.aload_n 0, 1) := by decide +kernel
theorem d_dNeg_1 : decode b_dNeg 1 = .ok (.iconst 0, 1) := by decide +kernel
theorem d_dNeg_2 : decode b_dNeg 2 = .ok (.putfield 7, 3) := by decide +kernel
theorem d_dNeg_5 : decode b_dNeg 5 = .ok (.lload_n 1, 1) := by decide +kernel
theorem d_dNeg_6 : decode b_dNeg 6 = .ok (.invokestatic 38, 3) := by decide +kernel
theorem d_dNeg_9 : decode b_dNeg 9 = .ok (.lreturn, 1) := by decide +kernel
theorem d_dNeg_10 : decode b_dNeg 10 = .ok (.astore_n 3, 1) := by decide +kernel
theorem d_dNeg_11 : decode b_dNeg 11 = .ok (.aload_n 0, 1) := by decide +kernel
theorem d_dNeg_12 : decode b_dNeg 12 = .ok (.iconst 1, 1) := by decide +kernel
theorem d_dNeg_13 : decode b_dNeg 13 = .ok (.putfield 7, 3) := by decide +kernel
theorem d_dNeg_16 : decode b_dNeg 16 = .ok (.lconst 0, 1) := by decide +kernel
theorem d_dNeg_17 : decode b_dNeg 17 = .ok (.lreturn, 1) := by decide +kernel
theorem d_dQuoJ_0 : decode b_dQuoJ 0 = .ok (.lload_n 1, 1) := by decide +kernel
theorem d_dQuoJ_1 : decode b_dQuoJ 1 = .ok (.lload_n 3, 1) := by decide +kernel
theorem d_dQuoJ_2 : decode b_dQuoJ 2 = .ok (.invokestatic 42, 3) := by decide +kernel
theorem d_dQuoJ_5 : decode b_dQuoJ 5 = .ok (.lreturn, 1) := by decide +kernel
theorem d_dResJ_0 : decode b_dResJ 0 = .ok (.lload_n 1, 1) := by decide +kernel
theorem d_dResJ_1 : decode b_dResJ 1 = .ok (.lload_n 3, 1) := by decide +kernel
theorem d_dResJ_2 : decode b_dResJ 2 = .ok (.invokestatic 45, 3) := by decide +kernel
theorem d_dResJ_5 : decode b_dResJ 5 = .ok (.lreturn, 1) := by decide +kernel
theorem d_dQuoI_0 : decode b_dQuoI 0 = .ok (.iload_n 1, 1) := by decide +kernel
theorem d_dQuoI_1 : decode b_dQuoI 1 = .ok (.iload_n 2, 1) := by decide +kernel
theorem d_dQuoI_2 : decode b_dQuoI 2 = .ok (.invokestatic 48, 3) := by decide +kernel
theorem d_dQuoI_5 : decode b_dQuoI 5 = .ok (.ireturn, 1) := by decide +kernel
theorem d_dResI_0 : decode b_dResI 0 = .ok (.iload_n 1, 1) := by decide +kernel
theorem d_dResI_1 : decode b_dResI 1 = .ok (.iload_n 2, 1) := by decide +kernel
theorem d_dResI_2 : decode b_dResI 2 = .ok (.invokestatic 50, 3) := by decide +kernel
theorem d_dResI_5 : decode b_dResI 5 = .ok (.ireturn, 1) := by decide +kernel
theorem d_dHigh_0 : decode b_dHigh 0 = .ok (.lload_n 1, 1) := by decide +kernel
theorem d_dHigh_1 : decode b_dHigh 1 = .ok (.lload_n 3, 1) := by decide +kernel
theorem d_dHigh_2 : decode b_dHigh 2 = .ok (.invokestatic 52, 3) := by decide +kernel
theorem d_dHigh_5 : decode b_dHigh 5 = .ok (.lreturn, 1) := by decide +kernel
theorem d_dFull_0 : decode b_dFull 0 = .ok (.iload_n 1, 1) := by decide +kernel
theorem d_dFull_1 : decode b_dFull 1 = .ok (.iload_n 2, 1) := by decide +kernel
theorem d_dFull_2 : decode b_dFull 2 = .ok (.invokestatic 55, 3) := by decide +kernel
theorem d_dFull_5 : decode b_dFull 5 = .ok (.lreturn, 1) := by decide +kernel
theorem d_dLar_0 : decode b_dLar 0 = .ok (.lload_n 1, 1) := by decide +kernel
theorem d_dLar_1 : decode b_dLar 1 = .ok (.lload_n 3, 1) := by decide +kernel
theorem d_dLar_2 : decode b_dLar 2 = .ok (.invokestatic 59, 3) := by decide +kernel
theorem d_dLar_5 : decode b_dLar 5 = .ok (.lload_n 1, 1) := by decide +kernel
theorem d_dLar_6 : decode b_dLar 6 = .ok (.lload_n 3, 1) := by decide +kernel
theorem d_dLar_7 : decode b_dLar 7 = .ok (.invokestatic 62, 3) := by decide +kernel
theorem d_dLar_10 : decode b_dLar 10 = .ok (.iconst 1, 1) := by decide +kernel
theorem d_dLar_11 : decode b_dLar 11 = .ok (.lshl, 1) := by decide +kernel
theorem d_dLar_12 : decode b_dLar 12 = .ok (.lxor, 1) := by decide +kernel
theorem d_dLar_13 : decode b_dLar 13 = .ok (.lload_n 1, 1) := by decide +kernel
theorem d_dLar_14 : decode b_dLar 14 = .ok (.invokestatic 65, 3) := by decide +kernel
theorem d_dLar_17 : decode b_dLar 17 = .ok (.lxor, 1) := by decide +kernel
theorem d_dLar_18 : decode b_dLar 18 = .ok (.lreturn, 1) := by decide +kernel
theorem d_lOf_0 : decode b_lOf 0 = .ok (.iconst 4, 1) := by decide +kernel
theorem d_lOf_1 : decode b_lOf 1 = .ok (.newarray .int, 2) := by decide +kernel
theorem d_lOf_3 : decode b_lOf 3 = .ok (.dup, 1) := by decide +kernel
theorem d_lOf_4 : decode b_lOf 4 = .ok (.iconst 0, 1) := by decide +kernel
theorem d_lOf_5 : decode b_lOf 5 = .ok (.lload_n 0, 1) := by decide +kernel
theorem d_lOf_6 : decode b_lOf 6 = .ok (.l2i, 1) := by decide +kernel
theorem d_lOf_7 : decode b_lOf 7 = .ok (.iastore, 1) := by decide +kernel
theorem d_lOf_8 : decode b_lOf 8 = .ok (.dup, 1) := by decide +kernel
theorem d_lOf_9 : decode b_lOf 9 = .ok (.iconst 1, 1) := by decide +kernel
theorem d_lOf_10 : decode b_lOf 10 = .ok (.lload_n 0, 1) := by decide +kernel
theorem d_lOf_11 : decode b_lOf 11 = .ok (.bipush 32, 2) := by decide +kernel
theorem d_lOf_13 : decode b_lOf 13 = .ok (.lushr, 1) := by decide +kernel
theorem d_lOf_14 : decode b_lOf 14 = .ok (.l2i, 1) := by decide +kernel
theorem d_lOf_15 : decode b_lOf 15 = .ok (.iastore, 1) := by decide +kernel
theorem d_lOf_16 : decode b_lOf 16 = .ok (.dup, 1) := by decide +kernel
theorem d_lOf_17 : decode b_lOf 17 = .ok (.iconst 2, 1) := by decide +kernel
theorem d_lOf_18 : decode b_lOf 18 = .ok (.lload_n 0, 1) := by decide +kernel
theorem d_lOf_19 : decode b_lOf 19 = .ok (.bipush 63, 2) := by decide +kernel
theorem d_lOf_21 : decode b_lOf 21 = .ok (.lshr, 1) := by decide +kernel
theorem d_lOf_22 : decode b_lOf 22 = .ok (.l2i, 1) := by decide +kernel
theorem d_lOf_23 : decode b_lOf 23 = .ok (.iastore, 1) := by decide +kernel
theorem d_lOf_24 : decode b_lOf 24 = .ok (.dup, 1) := by decide +kernel
theorem d_lOf_25 : decode b_lOf 25 = .ok (.iconst 3, 1) := by decide +kernel
theorem d_lOf_26 : decode b_lOf 26 = .ok (.lload_n 0, 1) := by decide +kernel
theorem d_lOf_27 : decode b_lOf 27 = .ok (.bipush 63, 2) := by decide +kernel
theorem d_lOf_29 : decode b_lOf 29 = .ok (.lshr, 1) := by decide +kernel
theorem d_lOf_30 : decode b_lOf 30 = .ok (.l2i, 1) := by decide +kernel
theorem d_lOf_31 : decode b_lOf 31 = .ok (.iastore, 1) := by decide +kernel
theorem d_lOf_32 : decode b_lOf 32 = .ok (.areturn, 1) := by decide +kernel
theorem d_lPlus_0 : decode b_lPlus 0 = .ok (.iconst 4, 1) := by decide +kernel
theorem d_lPlus_1 : decode b_lPlus 1 = .ok (.newarray .int, 2) := by decide +kernel
theorem d_lPlus_3 : decode b_lPlus 3 = .ok (.astore_n 2, 1) := by decide +kernel
theorem d_lPlus_4 : decode b_lPlus 4 = .ok (.lconst 0, 1) := by decide +kernel
theorem d_lPlus_5 : decode b_lPlus 5 = .ok (.lstore_n 3, 1) := by decide +kernel
theorem d_lPlus_6 : decode b_lPlus 6 = .ok (.iconst 0, 1) := by decide +kernel
theorem d_lPlus_7 : decode b_lPlus 7 = .ok (.istore 5, 2) := by decide +kernel
theorem d_lPlus_9 : decode b_lPlus 9 = .ok (.iload 5, 2) := by decide +kernel
theorem d_lPlus_11 : decode b_lPlus 11 = .ok (.iconst 4, 1) := by decide +kernel
theorem d_lPlus_12 : decode b_lPlus 12 = .ok (.if_icmp .ge 42, 3) := by decide +kernel
theorem d_lPlus_15 : decode b_lPlus 15 = .ok (.lload_n 3, 1) := by decide +kernel
theorem d_lPlus_16 : decode b_lPlus 16 = .ok (.aload_n 0, 1) := by decide +kernel
theorem d_lPlus_17 : decode b_lPlus 17 = .ok (.iload 5, 2) := by decide +kernel
theorem d_lPlus_19 : decode b_lPlus 19 = .ok (.iaload, 1) := by decide +kernel
theorem d_lPlus_20 : decode b_lPlus 20 = .ok (.i2l, 1) := by decide +kernel
theorem d_lPlus_21 : decode b_lPlus 21 = .ok (.ldc2_w 7, 3) := by decide +kernel
theorem d_lPlus_24 : decode b_lPlus 24 = .ok (.land, 1) := by decide +kernel
theorem d_lPlus_25 : decode b_lPlus 25 = .ok (.aload_n 1, 1) := by decide +kernel
theorem d_lPlus_26 : decode b_lPlus 26 = .ok (.iload 5, 2) := by decide +kernel
theorem d_lPlus_28 : decode b_lPlus 28 = .ok (.iaload, 1) := by decide +kernel
theorem d_lPlus_29 : decode b_lPlus 29 = .ok (.i2l, 1) := by decide +kernel
theorem d_lPlus_30 : decode b_lPlus 30 = .ok (.ldc2_w 7, 3) := by decide +kernel
theorem d_lPlus_33 : decode b_lPlus 33 = .ok (.land, 1) := by decide +kernel
theorem d_lPlus_34 : decode b_lPlus 34 = .ok (.ladd, 1) := by decide +kernel
theorem d_lPlus_35 : decode b_lPlus 35 = .ok (.ladd, 1) := by decide +kernel
theorem d_lPlus_36 : decode b_lPlus 36 = .ok (.lstore_n 3, 1) := by decide +kernel
theorem d_lPlus_37 : decode b_lPlus 37 = .ok (.aload_n 2, 1) := by decide +kernel
theorem d_lPlus_38 : decode b_lPlus 38 = .ok (.iload 5, 2) := by decide +kernel
theorem d_lPlus_40 : decode b_lPlus 40 = .ok (.lload_n 3, 1) := by decide +kernel
theorem d_lPlus_41 : decode b_lPlus 41 = .ok (.l2i, 1) := by decide +kernel
theorem d_lPlus_42 : decode b_lPlus 42 = .ok (.iastore, 1) := by decide +kernel
theorem d_lPlus_43 : decode b_lPlus 43 = .ok (.lload_n 3, 1) := by decide +kernel
theorem d_lPlus_44 : decode b_lPlus 44 = .ok (.bipush 32, 2) := by decide +kernel
theorem d_lPlus_46 : decode b_lPlus 46 = .ok (.lushr, 1) := by decide +kernel
theorem d_lPlus_47 : decode b_lPlus 47 = .ok (.lstore_n 3, 1) := by decide +kernel
theorem d_lPlus_48 : decode b_lPlus 48 = .ok (.iinc 5 1, 3) := by decide +kernel
theorem d_lPlus_51 : decode b_lPlus 51 = .ok (.goto (-42), 3) := by decide +kernel
theorem d_lPlus_54 : decode b_lPlus 54 = .ok (.aload_n 2, 1) := by decide +kernel
theorem d_lPlus_55 : decode b_lPlus 55 = .ok (.areturn, 1) := by decide +kernel
theorem d_lMin_0 : decode b_lMin 0 = .ok (.iconst 4, 1) := by decide +kernel
theorem d_lMin_1 : decode b_lMin 1 = .ok (.newarray .int, 2) := by decide +kernel
theorem d_lMin_3 : decode b_lMin 3 = .ok (.astore_n 1, 1) := by decide +kernel
theorem d_lMin_4 : decode b_lMin 4 = .ok (.iconst 0, 1) := by decide +kernel
theorem d_lMin_5 : decode b_lMin 5 = .ok (.istore_n 2, 1) := by decide +kernel
theorem d_lMin_6 : decode b_lMin 6 = .ok (.iload_n 2, 1) := by decide +kernel
theorem d_lMin_7 : decode b_lMin 7 = .ok (.iconst 4, 1) := by decide +kernel
theorem d_lMin_8 : decode b_lMin 8 = .ok (.if_icmp .ge 17, 3) := by decide +kernel
theorem d_lMin_11 : decode b_lMin 11 = .ok (.aload_n 1, 1) := by decide +kernel
theorem d_lMin_12 : decode b_lMin 12 = .ok (.iload_n 2, 1) := by decide +kernel
theorem d_lMin_13 : decode b_lMin 13 = .ok (.aload_n 0, 1) := by decide +kernel
theorem d_lMin_14 : decode b_lMin 14 = .ok (.iload_n 2, 1) := by decide +kernel
theorem d_lMin_15 : decode b_lMin 15 = .ok (.iaload, 1) := by decide +kernel
theorem d_lMin_16 : decode b_lMin 16 = .ok (.iconst (-1), 1) := by decide +kernel
theorem d_lMin_17 : decode b_lMin 17 = .ok (.ixor, 1) := by decide +kernel
theorem d_lMin_18 : decode b_lMin 18 = .ok (.iastore, 1) := by decide +kernel
theorem d_lMin_19 : decode b_lMin 19 = .ok (.iinc 2 1, 3) := by decide +kernel
theorem d_lMin_22 : decode b_lMin 22 = .ok (.goto (-16), 3) := by decide +kernel
theorem d_lMin_25 : decode b_lMin 25 = .ok (.aload_n 1, 1) := by decide +kernel
theorem d_lMin_26 : decode b_lMin 26 = .ok (.lconst 1, 1) := by decide +kernel
theorem d_lMin_27 : decode b_lMin 27 = .ok (.invokestatic 9, 3) := by decide +kernel
theorem d_lMin_30 : decode b_lMin 30 = .ok (.invokestatic 15, 3) := by decide +kernel
theorem d_lMin_33 : decode b_lMin 33 = .ok (.areturn, 1) := by decide +kernel
theorem d_lTim_0 : decode b_lTim 0 = .ok (.iconst 4, 1) := by decide +kernel
theorem d_lTim_1 : decode b_lTim 1 = .ok (.newarray .int, 2) := by decide +kernel
theorem d_lTim_3 : decode b_lTim 3 = .ok (.astore_n 2, 1) := by decide +kernel
theorem d_lTim_4 : decode b_lTim 4 = .ok (.iconst 0, 1) := by decide +kernel
theorem d_lTim_5 : decode b_lTim 5 = .ok (.istore_n 3, 1) := by decide +kernel
theorem d_lTim_6 : decode b_lTim 6 = .ok (.iload_n 3, 1) := by decide +kernel
theorem d_lTim_7 : decode b_lTim 7 = .ok (.iconst 4, 1) := by decide +kernel
theorem d_lTim_8 : decode b_lTim 8 = .ok (.if_icmp .ge 80, 3) := by decide +kernel
theorem d_lTim_11 : decode b_lTim 11 = .ok (.lconst 0, 1) := by decide +kernel
theorem d_lTim_12 : decode b_lTim 12 = .ok (.lstore 4, 2) := by decide +kernel
theorem d_lTim_14 : decode b_lTim 14 = .ok (.iconst 0, 1) := by decide +kernel
theorem d_lTim_15 : decode b_lTim 15 = .ok (.istore 6, 2) := by decide +kernel
theorem d_lTim_17 : decode b_lTim 17 = .ok (.iload_n 3, 1) := by decide +kernel
theorem d_lTim_18 : decode b_lTim 18 = .ok (.iload 6, 2) := by decide +kernel
theorem d_lTim_20 : decode b_lTim 20 = .ok (.iadd, 1) := by decide +kernel
theorem d_lTim_21 : decode b_lTim 21 = .ok (.iconst 4, 1) := by decide +kernel
theorem d_lTim_22 : decode b_lTim 22 = .ok (.if_icmp .ge 60, 3) := by decide +kernel
theorem d_lTim_25 : decode b_lTim 25 = .ok (.lload 4, 2) := by decide +kernel
theorem d_lTim_27 : decode b_lTim 27 = .ok (.aload_n 0, 1) := by decide +kernel
theorem d_lTim_28 : decode b_lTim 28 = .ok (.iload_n 3, 1) := by decide +kernel
theorem d_lTim_29 : decode b_lTim 29 = .ok (.iaload, 1) := by decide +kernel
theorem d_lTim_30 : decode b_lTim 30 = .ok (.i2l, 1) := by decide +kernel
theorem d_lTim_31 : decode b_lTim 31 = .ok (.ldc2_w 7, 3) := by decide +kernel
theorem d_lTim_34 : decode b_lTim 34 = .ok (.land, 1) := by decide +kernel
theorem d_lTim_35 : decode b_lTim 35 = .ok (.aload_n 1, 1) := by decide +kernel
theorem d_lTim_36 : decode b_lTim 36 = .ok (.iload 6, 2) := by decide +kernel
theorem d_lTim_38 : decode b_lTim 38 = .ok (.iaload, 1) := by decide +kernel
theorem d_lTim_39 : decode b_lTim 39 = .ok (.i2l, 1) := by decide +kernel
theorem d_lTim_40 : decode b_lTim 40 = .ok (.ldc2_w 7, 3) := by decide +kernel
theorem d_lTim_43 : decode b_lTim 43 = .ok (.land, 1) := by decide +kernel
theorem d_lTim_44 : decode b_lTim 44 = .ok (.lmul, 1) := by decide +kernel
theorem d_lTim_45 : decode b_lTim 45 = .ok (.aload_n 2, 1) := by decide +kernel
theorem d_lTim_46 : decode b_lTim 46 = .ok (.iload_n 3, 1) := by decide +kernel
theorem d_lTim_47 : decode b_lTim 47 = .ok (.iload 6, 2) := by decide +kernel
theorem d_lTim_49 : decode b_lTim 49 = .ok (.iadd, 1) := by decide +kernel
theorem d_lTim_50 : decode b_lTim 50 = .ok (.iaload, 1) := by decide +kernel
theorem d_lTim_51 : decode b_lTim 51 = .ok (.i2l, 1) := by decide +kernel
theorem d_lTim_52 : decode b_lTim 52 = .ok (.ldc2_w 7, 3) := by decide +kernel
theorem d_lTim_55 : decode b_lTim 55 = .ok (.land, 1) := by decide +kernel
theorem d_lTim_56 : decode b_lTim 56 = .ok (.ladd, 1) := by decide +kernel
theorem d_lTim_57 : decode b_lTim 57 = .ok (.ladd, 1) := by decide +kernel
theorem d_lTim_58 : decode b_lTim 58 = .ok (.lstore 4, 2) := by decide +kernel
theorem d_lTim_60 : decode b_lTim 60 = .ok (.aload_n 2, 1) := by decide +kernel
theorem d_lTim_61 : decode b_lTim 61 = .ok (.iload_n 3, 1) := by decide +kernel
theorem d_lTim_62 : decode b_lTim 62 = .ok (.iload 6, 2) := by decide +kernel
theorem d_lTim_64 : decode b_lTim 64 = .ok (.iadd, 1) := by decide +kernel
theorem d_lTim_65 : decode b_lTim 65 = .ok (.lload 4, 2) := by decide +kernel
theorem d_lTim_67 : decode b_lTim 67 = .ok (.l2i, 1) := by decide +kernel
theorem d_lTim_68 : decode b_lTim 68 = .ok (.iastore, 1) := by decide +kernel
theorem d_lTim_69 : decode b_lTim 69 = .ok (.lload 4, 2) := by decide +kernel
theorem d_lTim_71 : decode b_lTim 71 = .ok (.bipush 32, 2) := by decide +kernel
theorem d_lTim_73 : decode b_lTim 73 = .ok (.lushr, 1) := by decide +kernel
theorem d_lTim_74 : decode b_lTim 74 = .ok (.lstore 4, 2) := by decide +kernel
theorem d_lTim_76 : decode b_lTim 76 = .ok (.iinc 6 1, 3) := by decide +kernel
theorem d_lTim_79 : decode b_lTim 79 = .ok (.goto (-62), 3) := by decide +kernel
theorem d_lTim_82 : decode b_lTim 82 = .ok (.iinc 3 1, 3) := by decide +kernel
theorem d_lTim_85 : decode b_lTim 85 = .ok (.goto (-79), 3) := by decide +kernel
theorem d_lTim_88 : decode b_lTim 88 = .ok (.aload_n 2, 1) := by decide +kernel
theorem d_lTim_89 : decode b_lTim 89 = .ok (.areturn, 1) := by decide +kernel
theorem d_lLow_0 : decode b_lLow 0 = .ok (.aload_n 0, 1) := by decide +kernel
theorem d_lLow_1 : decode b_lLow 1 = .ok (.iconst 0, 1) := by decide +kernel
theorem d_lLow_2 : decode b_lLow 2 = .ok (.iaload, 1) := by decide +kernel
theorem d_lLow_3 : decode b_lLow 3 = .ok (.i2l, 1) := by decide +kernel
theorem d_lLow_4 : decode b_lLow 4 = .ok (.ldc2_w 7, 3) := by decide +kernel
theorem d_lLow_7 : decode b_lLow 7 = .ok (.land, 1) := by decide +kernel
theorem d_lLow_8 : decode b_lLow 8 = .ok (.aload_n 0, 1) := by decide +kernel
theorem d_lLow_9 : decode b_lLow 9 = .ok (.iconst 1, 1) := by decide +kernel
theorem d_lLow_10 : decode b_lLow 10 = .ok (.iaload, 1) := by decide +kernel
theorem d_lLow_11 : decode b_lLow 11 = .ok (.i2l, 1) := by decide +kernel
theorem d_lLow_12 : decode b_lLow 12 = .ok (.bipush 32, 2) := by decide +kernel
theorem d_lLow_14 : decode b_lLow 14 = .ok (.lshl, 1) := by decide +kernel
theorem d_lLow_15 : decode b_lLow 15 = .ok (.lor, 1) := by decide +kernel
theorem d_lLow_16 : decode b_lLow 16 = .ok (.lreturn, 1) := by decide +kernel
theorem d_lHigh_0 : decode b_lHigh 0 = .ok (.aload_n 0, 1) := by decide +kernel
theorem d_lHigh_1 : decode b_lHigh 1 = .ok (.iconst 2, 1) := by decide +kernel
theorem d_lHigh_2 : decode b_lHigh 2 = .ok (.iaload, 1) := by decide +kernel
theorem d_lHigh_3 : decode b_lHigh 3 = .ok (.i2l, 1) := by decide +kernel
theorem d_lHigh_4 : decode b_lHigh 4 = .ok (.ldc2_w 7, 3) := by decide +kernel
theorem d_lHigh_7 : decode b_lHigh 7 = .ok (.land, 1) := by decide +kernel
theorem d_lHigh_8 : decode b_lHigh 8 = .ok (.aload_n 0, 1) := by decide +kernel
theorem d_lHigh_9 : decode b_lHigh 9 = .ok (.iconst 3, 1) := by decide +kernel
theorem d_lHigh_10 : decode b_lHigh 10 = .ok (.iaload, 1) := by decide +kernel
theorem d_lHigh_11 : decode b_lHigh 11 = .ok (.i2l, 1) := by decide +kernel
theorem d_lHigh_12 : decode b_lHigh 12 = .ok (.bipush 32, 2) := by decide +kernel
theorem d_lHigh_14 : decode b_lHigh 14 = .ok (.lshl, 1) := by decide +kernel
theorem d_lHigh_15 : decode b_lHigh 15 = .ok (.lor, 1) := by decide +kernel
theorem d_lHigh_16 : decode b_lHigh 16 = .ok (.lreturn, 1) := by decide +kernel
theorem d_lFits_0 : decode b_lFits 0 = .ok (.aload_n 0, 1) := by decide +kernel
theorem d_lFits_1 : decode b_lFits 1 = .ok (.invokestatic 19, 3) := by decide +kernel
theorem d_lFits_4 : decode b_lFits 4 = .ok (.aload_n 0, 1) := by decide +kernel
theorem d_lFits_5 : decode b_lFits 5 = .ok (.invokestatic 23, 3) := by decide +kernel
theorem d_lFits_8 : decode b_lFits 8 = .ok (.bipush 63, 2) := by decide +kernel
theorem d_lFits_10 : decode b_lFits 10 = .ok (.lshr, 1) := by decide +kernel
theorem d_lFits_11 : decode b_lFits 11 = .ok (.lcmp, 1) := by decide +kernel
theorem d_lFits_12 : decode b_lFits 12 = .ok (.ifCond .ne 7, 3) := by decide +kernel
theorem d_lFits_15 : decode b_lFits 15 = .ok (.iconst 1, 1) := by decide +kernel
theorem d_lFits_16 : decode b_lFits 16 = .ok (.goto 4, 3) := by decide +kernel
theorem d_lFits_19 : decode b_lFits 19 = .ok (.iconst 0, 1) := by decide +kernel
theorem d_lFits_20 : decode b_lFits 20 = .ok (.ireturn, 1) := by decide +kernel
theorem d_lTold_0 : decode b_lTold 0 = .ok (.aload_n 3, 1) := by decide +kernel
theorem d_lTold_1 : decode b_lTold 1 = .ok (.invokestatic 26, 3) := by decide +kernel
theorem d_lTold_4 : decode b_lTold 4 = .ok (.ifCond .eq 27, 3) := by decide +kernel
theorem d_lTold_7 : decode b_lTold 7 = .ok (.aload_n 0, 1) := by decide +kernel
theorem d_lTold_8 : decode b_lTold 8 = .ok (.invokevirtual 30, 3) := by decide +kernel
theorem d_lTold_11 : decode b_lTold 11 = .ok (.ifCond .ne 16, 3) := by decide +kernel
theorem d_lTold_14 : decode b_lTold 14 = .ok (.lload_n 1, 1) := by decide +kernel
theorem d_lTold_15 : decode b_lTold 15 = .ok (.aload_n 3, 1) := by decide +kernel
theorem d_lTold_16 : decode b_lTold 16 = .ok (.invokestatic 23, 3) := by decide +kernel
theorem d_lTold_19 : decode b_lTold 19 = .ok (.lcmp, 1) := by decide +kernel
theorem d_lTold_20 : decode b_lTold 20 = .ok (.ifCond .ne 7, 3) := by decide +kernel
theorem d_lTold_23 : decode b_lTold 23 = .ok (.iconst 1, 1) := by decide +kernel
theorem d_lTold_24 : decode b_lTold 24 = .ok (.goto 25, 3) := by decide +kernel
theorem d_lTold_27 : decode b_lTold 27 = .ok (.iconst 0, 1) := by decide +kernel
theorem d_lTold_28 : decode b_lTold 28 = .ok (.goto 21, 3) := by decide +kernel
theorem d_lTold_31 : decode b_lTold 31 = .ok (.aload_n 0, 1) := by decide +kernel
theorem d_lTold_32 : decode b_lTold 32 = .ok (.invokevirtual 30, 3) := by decide +kernel
theorem d_lTold_35 : decode b_lTold 35 = .ok (.ifCond .eq 13, 3) := by decide +kernel
theorem d_lTold_38 : decode b_lTold 38 = .ok (.lload_n 1, 1) := by decide +kernel
theorem d_lTold_39 : decode b_lTold 39 = .ok (.lconst 0, 1) := by decide +kernel
theorem d_lTold_40 : decode b_lTold 40 = .ok (.lcmp, 1) := by decide +kernel
theorem d_lTold_41 : decode b_lTold 41 = .ok (.ifCond .ne 7, 3) := by decide +kernel
theorem d_lTold_44 : decode b_lTold 44 = .ok (.iconst 1, 1) := by decide +kernel
theorem d_lTold_45 : decode b_lTold 45 = .ok (.goto 4, 3) := by decide +kernel
theorem d_lTold_48 : decode b_lTold 48 = .ok (.iconst 0, 1) := by decide +kernel
theorem d_lTold_49 : decode b_lTold 49 = .ok (.ireturn, 1) := by decide +kernel
theorem d_lTolI_0 : decode b_lTolI 0 = .ok (.lload_n 2, 1) := by decide +kernel
theorem d_lTolI_1 : decode b_lTolI 1 = .ok (.lload_n 2, 1) := by decide +kernel
theorem d_lTolI_2 : decode b_lTolI 2 = .ok (.l2i, 1) := by decide +kernel
theorem d_lTolI_3 : decode b_lTolI 3 = .ok (.i2l, 1) := by decide +kernel
theorem d_lTolI_4 : decode b_lTolI 4 = .ok (.lcmp, 1) := by decide +kernel
theorem d_lTolI_5 : decode b_lTolI 5 = .ok (.ifCond .ne 25, 3) := by decide +kernel
theorem d_lTolI_8 : decode b_lTolI 8 = .ok (.aload_n 0, 1) := by decide +kernel
theorem d_lTolI_9 : decode b_lTolI 9 = .ok (.invokevirtual 30, 3) := by decide +kernel
theorem d_lTolI_12 : decode b_lTolI 12 = .ok (.ifCond .ne 14, 3) := by decide +kernel
theorem d_lTolI_15 : decode b_lTolI 15 = .ok (.iload_n 1, 1) := by decide +kernel
theorem d_lTolI_16 : decode b_lTolI 16 = .ok (.i2l, 1) := by decide +kernel
theorem d_lTolI_17 : decode b_lTolI 17 = .ok (.lload_n 2, 1) := by decide +kernel
theorem d_lTolI_18 : decode b_lTolI 18 = .ok (.lcmp, 1) := by decide +kernel
theorem d_lTolI_19 : decode b_lTolI 19 = .ok (.ifCond .ne 7, 3) := by decide +kernel
theorem d_lTolI_22 : decode b_lTolI 22 = .ok (.iconst 1, 1) := by decide +kernel
theorem d_lTolI_23 : decode b_lTolI 23 = .ok (.goto 23, 3) := by decide +kernel
theorem d_lTolI_26 : decode b_lTolI 26 = .ok (.iconst 0, 1) := by decide +kernel
theorem d_lTolI_27 : decode b_lTolI 27 = .ok (.goto 19, 3) := by decide +kernel
theorem d_lTolI_30 : decode b_lTolI 30 = .ok (.aload_n 0, 1) := by decide +kernel
theorem d_lTolI_31 : decode b_lTolI 31 = .ok (.invokevirtual 30, 3) := by decide +kernel
theorem d_lTolI_34 : decode b_lTolI 34 = .ok (.ifCond .eq 11, 3) := by decide +kernel
theorem d_lTolI_37 : decode b_lTolI 37 = .ok (.iload_n 1, 1) := by decide +kernel
theorem d_lTolI_38 : decode b_lTolI 38 = .ok (.ifCond .ne 7, 3) := by decide +kernel
theorem d_lTolI_41 : decode b_lTolI 41 = .ok (.iconst 1, 1) := by decide +kernel
theorem d_lTolI_42 : decode b_lTolI 42 = .ok (.goto 4, 3) := by decide +kernel
theorem d_lTolI_45 : decode b_lTolI 45 = .ok (.iconst 0, 1) := by decide +kernel
theorem d_lTolI_46 : decode b_lTolI 46 = .ok (.ireturn, 1) := by decide +kernel
theorem d_lPart_0 : decode b_lPart 0 = .ok (.lload_n 0, 1) := by decide +kernel
theorem d_lPart_1 : decode b_lPart 1 = .ok (.invokestatic 9, 3) := by decide +kernel
theorem d_lPart_4 : decode b_lPart 4 = .ok (.lload 6, 2) := by decide +kernel
theorem d_lPart_6 : decode b_lPart 6 = .ok (.invokestatic 9, 3) := by decide +kernel
theorem d_lPart_9 : decode b_lPart 9 = .ok (.invokestatic 36, 3) := by decide +kernel
theorem d_lPart_12 : decode b_lPart 12 = .ok (.lload_n 2, 1) := by decide +kernel
theorem d_lPart_13 : decode b_lPart 13 = .ok (.invokestatic 9, 3) := by decide +kernel
theorem d_lPart_16 : decode b_lPart 16 = .ok (.invokestatic 15, 3) := by decide +kernel
theorem d_lPart_19 : decode b_lPart 19 = .ok (.astore 8, 2) := by decide +kernel
theorem d_lPart_21 : decode b_lPart 21 = .ok (.aload 8, 2) := by decide +kernel
theorem d_lPart_23 : decode b_lPart 23 = .ok (.invokestatic 23, 3) := by decide +kernel
theorem d_lPart_26 : decode b_lPart 26 = .ok (.lload 4, 2) := by decide +kernel
theorem d_lPart_28 : decode b_lPart 28 = .ok (.lcmp, 1) := by decide +kernel
theorem d_lPart_29 : decode b_lPart 29 = .ok (.ifCond .ne 89, 3) := by decide +kernel
theorem d_lPart_32 : decode b_lPart 32 = .ok (.aload 8, 2) := by decide +kernel
theorem d_lPart_34 : decode b_lPart 34 = .ok (.invokestatic 26, 3) := by decide +kernel
theorem d_lPart_37 : decode b_lPart 37 = .ok (.ifCond .ne 21, 3) := by decide +kernel
theorem d_lPart_40 : decode b_lPart 40 = .ok (.lload 4, 2) := by decide +kernel
theorem d_lPart_42 : decode b_lPart 42 = .ok (.ldc2_w 41, 3) := by decide +kernel
theorem d_lPart_45 : decode b_lPart 45 = .ok (.lcmp, 1) := by decide +kernel
theorem d_lPart_46 : decode b_lPart 46 = .ok (.ifCond .ne 72, 3) := by decide +kernel
theorem d_lPart_49 : decode b_lPart 49 = .ok (.lload 6, 2) := by decide +kernel
theorem d_lPart_51 : decode b_lPart 51 = .ok (.ldc2_w 43, 3) := by decide +kernel
theorem d_lPart_54 : decode b_lPart 54 = .ok (.lcmp, 1) := by decide +kernel
theorem d_lPart_55 : decode b_lPart 55 = .ok (.ifCond .ne 63, 3) := by decide +kernel
theorem d_lPart_58 : decode b_lPart 58 = .ok (.lload_n 2, 1) := by decide +kernel
theorem d_lPart_59 : decode b_lPart 59 = .ok (.lconst 0, 1) := by decide +kernel
theorem d_lPart_60 : decode b_lPart 60 = .ok (.lcmp, 1) := by decide +kernel
theorem d_lPart_61 : decode b_lPart 61 = .ok (.ifCond .eq 53, 3) := by decide +kernel
theorem d_lPart_64 : decode b_lPart 64 = .ok (.lload_n 2, 1) := by decide +kernel
theorem d_lPart_65 : decode b_lPart 65 = .ok (.lconst 0, 1) := by decide +kernel
theorem d_lPart_66 : decode b_lPart 66 = .ok (.lcmp, 1) := by decide +kernel
theorem d_lPart_67 : decode b_lPart 67 = .ok (.ifCond .ge 7, 3) := by decide +kernel
theorem d_lPart_70 : decode b_lPart 70 = .ok (.iconst 1, 1) := by decide +kernel
theorem d_lPart_71 : decode b_lPart 71 = .ok (.goto 4, 3) := by decide +kernel
theorem d_lPart_74 : decode b_lPart 74 = .ok (.iconst 0, 1) := by decide +kernel
theorem d_lPart_75 : decode b_lPart 75 = .ok (.lload 6, 2) := by decide +kernel
theorem d_lPart_77 : decode b_lPart 77 = .ok (.lconst 0, 1) := by decide +kernel
theorem d_lPart_78 : decode b_lPart 78 = .ok (.lcmp, 1) := by decide +kernel
theorem d_lPart_79 : decode b_lPart 79 = .ok (.ifCond .ge 7, 3) := by decide +kernel
theorem d_lPart_82 : decode b_lPart 82 = .ok (.iconst 1, 1) := by decide +kernel
theorem d_lPart_83 : decode b_lPart 83 = .ok (.goto 4, 3) := by decide +kernel
theorem d_lPart_86 : decode b_lPart 86 = .ok (.iconst 0, 1) := by decide +kernel
theorem d_lPart_87 : decode b_lPart 87 = .ok (.if_icmp .ne 31, 3) := by decide +kernel
theorem d_lPart_90 : decode b_lPart 90 = .ok (.lload 6, 2) := by decide +kernel
theorem d_lPart_92 : decode b_lPart 92 = .ok (.lconst 0, 1) := by decide +kernel
theorem d_lPart_93 : decode b_lPart 93 = .ok (.lcmp, 1) := by decide +kernel
theorem d_lPart_94 : decode b_lPart 94 = .ok (.ifCond .ge 13, 3) := by decide +kernel
theorem d_lPart_97 : decode b_lPart 97 = .ok (.lload_n 2, 1) := by decide +kernel
theorem d_lPart_98 : decode b_lPart 98 = .ok (.lload 6, 2) := by decide +kernel
theorem d_lPart_100 : decode b_lPart 100 = .ok (.lcmp, 1) := by decide +kernel
theorem d_lPart_101 : decode b_lPart 101 = .ok (.ifCond .le 17, 3) := by decide +kernel
theorem d_lPart_104 : decode b_lPart 104 = .ok (.goto 10, 3) := by decide +kernel
theorem d_lPart_107 : decode b_lPart 107 = .ok (.lload_n 2, 1) := by decide +kernel
theorem d_lPart_108 : decode b_lPart 108 = .ok (.lload 6, 2) := by decide +kernel
theorem d_lPart_110 : decode b_lPart 110 = .ok (.lcmp, 1) := by decide +kernel
theorem d_lPart_111 : decode b_lPart 111 = .ok (.ifCond .ge 7, 3) := by decide +kernel
theorem d_lPart_114 : decode b_lPart 114 = .ok (.iconst 1, 1) := by decide +kernel
theorem d_lPart_115 : decode b_lPart 115 = .ok (.goto 4, 3) := by decide +kernel
theorem d_lPart_118 : decode b_lPart 118 = .ok (.iconst 0, 1) := by decide +kernel
theorem d_lPart_119 : decode b_lPart 119 = .ok (.ireturn, 1) := by decide +kernel
end
section
/-! java.lang.Math: contracts of the methods that only compute -/
def px_abs (x : Int64) : Int64 := if 0 ≤ x then x else -x
def px_max (a b : Int64) : Int64 := if a < b then b else a
def px_min (a b : Int64) : Int64 := if b < a then b else a
def px_fdJ (x y : Int64) : Int64 := if 0 ≤ x ^^^ y then x / y else if x / y * y = x then x / y else x / y - 1
def px_fmJ (x y : Int64) : Int64 := if 0 ≤ x ^^^ y then x - x / y * y else if x - x / y * y = 0 then x - x / y * y else x - x / y * y + y
def px_fdI (x y : Int32) : Int32 := if 0 ≤ x ^^^ y then x / y else if x / y * y = x then x / y else x / y - 1
def px_fmI (x y : Int32) : Int32 := if 0 ≤ x ^^^ y then x - x / y * y else if x - x / y * y = 0 then x - x / y * y else x - x / y * y + y
def px_full (x y : Int32) : Int64 := x.toInt64 * y.toInt64
set_option maxHeartbeats 4000000 in
set_option maxRecDepth 100000 in
theorem c_mAbs (l : Launch) (x : Int64) : Met l y_mAbs (.code y_mAbs b_mAbs 2 (some .long) :: TB) ({ frames := 0, cells := 0, slots := 0, locals := 0 }) (va_Pc [.long x] (fun _ => True)) (qx_L (fun r => r = px_abs x)) 0 0 (fun _ => False) := by
  refine va_MetF (cc := b_mAbs) (maxL := 2) (ret := (some .long)) (by decide +kernel) rfl ?_
  intro p e s m args below meth c s₁ B hml hv
  obtain ⟨rfl, -⟩ := hv
  have hx := B.exec
  have hb := B.bytes
  have hr := B.returns
  have hts := atoms_spec (ws := (.code y_mAbs b_mAbs 2 (some .long) :: TB)) B.pre
  have hT : ∀ w ∈ TB, w.before _ s = true := fun w hw => hts w (List.mem_cons_of_mem _ hw)
  have hown : s.vm.findClass "java/lang/Math" = some m.cls := findClass_of_methodNamed B.named
  have hlocks := B.notSynchronized
  have hl := lv_entry ([.long x]) (n := 2) (Nat.le_of_ble_eq_true rfl)
  rw [lg_entry_eq]
  generalize (lg_sl ([.long x]) ++ List.replicate (2 - (lg_sl ([.long x])).length) Slot.unset).toArray = ls at hl ⊢
  have hl : lv_has ls 2 [(0, .long x)] := hl
  refine lv_lload_n hx hb d_mAbs_0 rfl (lv_at hl 0 rfl) ?_
  refine lv_lconst (v := 0) hx hb d_mAbs_1 (by decide) ?_
  refine W.lcmp hx hb d_mAbs_2 ?_
  refine lv_if_ge (tgt := 11) hx hb d_mAbs_3 (by decide) (fun h1 => ?_) (fun h1 => ?_)
  · rw [lg_cmp_ge] at h1
    refine lv_lload_n hx hb d_mAbs_11 rfl (lv_at hl 0 rfl) ?_
    exact W.lret (v := x) hx hb hr (fun t ht _ => ⟨_, rfl, by simp only [px_abs, h1, ↓reduceIte], ht⟩) (fun q h => by cases h) d_mAbs_12
  · rw [lg_cmp_ge] at h1
    refine lv_lload_n hx hb d_mAbs_6 rfl (lv_at hl 0 rfl) ?_
    refine lv_lneg hx hb d_mAbs_7 ?_
    refine lv_goto (tgt := 12) hx hb d_mAbs_8 (by decide) ?_
    exact W.lret (v := -x) hx hb hr (fun t ht _ => ⟨_, rfl, by simp only [px_abs, h1, ↓reduceIte], ht⟩) (fun q h => by cases h) d_mAbs_12
set_option maxHeartbeats 4000000 in
set_option maxRecDepth 100000 in
theorem c_mMax (l : Launch) (x y : Int64) : Met l y_mMax (.code y_mMax b_mMax 4 (some .long) :: TB) ({ frames := 0, cells := 0, slots := 0, locals := 0 }) (va_Pc [.long x, .long y] (fun _ => True)) (qx_L (fun r => r = px_max x y)) 0 0 (fun _ => False) := by
  refine va_MetF (cc := b_mMax) (maxL := 4) (ret := (some .long)) (by decide +kernel) rfl ?_
  intro p e s m args below meth c s₁ B hml hv
  obtain ⟨rfl, -⟩ := hv
  have hx := B.exec
  have hb := B.bytes
  have hr := B.returns
  have hts := atoms_spec (ws := (.code y_mMax b_mMax 4 (some .long) :: TB)) B.pre
  have hT : ∀ w ∈ TB, w.before _ s = true := fun w hw => hts w (List.mem_cons_of_mem _ hw)
  have hown : s.vm.findClass "java/lang/Math" = some m.cls := findClass_of_methodNamed B.named
  have hlocks := B.notSynchronized
  have hl := lv_entry ([.long x, .long y]) (n := 4) (Nat.le_of_ble_eq_true rfl)
  rw [lg_entry_eq]
  generalize (lg_sl ([.long x, .long y]) ++ List.replicate (4 - (lg_sl ([.long x, .long y])).length) Slot.unset).toArray = ls at hl ⊢
  have hl : lv_has ls 4 [(0, .long x), (2, .long y)] := hl
  refine lv_lload_n hx hb d_mMax_0 rfl (lv_at hl 0 rfl) ?_
  refine lv_lload_n hx hb d_mMax_1 rfl (lv_at hl 1 rfl) ?_
  refine W.lcmp hx hb d_mMax_2 ?_
  refine lv_if_lt (tgt := 10) hx hb d_mMax_3 (by decide) (fun h1 => ?_) (fun h1 => ?_)
  · rw [lg_cmp_lt] at h1
    refine lv_lload_n hx hb d_mMax_10 rfl (lv_at hl 1 rfl) ?_
    exact W.lret (v := y) hx hb hr (fun t ht _ => ⟨_, rfl, by simp only [px_max, h1, ↓reduceIte], ht⟩) (fun q h => by cases h) d_mMax_11
  · rw [lg_cmp_lt] at h1
    refine lv_lload_n hx hb d_mMax_6 rfl (lv_at hl 0 rfl) ?_
    refine lv_goto (tgt := 11) hx hb d_mMax_7 (by decide) ?_
    exact W.lret (v := x) hx hb hr (fun t ht _ => ⟨_, rfl, by simp only [px_max, h1, ↓reduceIte], ht⟩) (fun q h => by cases h) d_mMax_11
set_option maxHeartbeats 4000000 in
set_option maxRecDepth 100000 in
theorem c_mMin (l : Launch) (x y : Int64) : Met l y_mMin (.code y_mMin b_mMin 4 (some .long) :: TB) ({ frames := 0, cells := 0, slots := 0, locals := 0 }) (va_Pc [.long x, .long y] (fun _ => True)) (qx_L (fun r => r = px_min x y)) 0 0 (fun _ => False) := by
  refine va_MetF (cc := b_mMin) (maxL := 4) (ret := (some .long)) (by decide +kernel) rfl ?_
  intro p e s m args below meth c s₁ B hml hv
  obtain ⟨rfl, -⟩ := hv
  have hx := B.exec
  have hb := B.bytes
  have hr := B.returns
  have hts := atoms_spec (ws := (.code y_mMin b_mMin 4 (some .long) :: TB)) B.pre
  have hT : ∀ w ∈ TB, w.before _ s = true := fun w hw => hts w (List.mem_cons_of_mem _ hw)
  have hown : s.vm.findClass "java/lang/Math" = some m.cls := findClass_of_methodNamed B.named
  have hlocks := B.notSynchronized
  have hl := lv_entry ([.long x, .long y]) (n := 4) (Nat.le_of_ble_eq_true rfl)
  rw [lg_entry_eq]
  generalize (lg_sl ([.long x, .long y]) ++ List.replicate (4 - (lg_sl ([.long x, .long y])).length) Slot.unset).toArray = ls at hl ⊢
  have hl : lv_has ls 4 [(0, .long x), (2, .long y)] := hl
  refine lv_lload_n hx hb d_mMin_0 rfl (lv_at hl 0 rfl) ?_
  refine lv_lload_n hx hb d_mMin_1 rfl (lv_at hl 1 rfl) ?_
  refine W.lcmp hx hb d_mMin_2 ?_
  refine lv_if_gt (tgt := 10) hx hb d_mMin_3 (by decide) (fun h1 => ?_) (fun h1 => ?_)
  · rw [lg_cmp_gt] at h1
    refine lv_lload_n hx hb d_mMin_10 rfl (lv_at hl 1 rfl) ?_
    exact W.lret (v := y) hx hb hr (fun t ht _ => ⟨_, rfl, by simp only [px_min, h1, ↓reduceIte], ht⟩) (fun q h => by cases h) d_mMin_11
  · rw [lg_cmp_gt] at h1
    refine lv_lload_n hx hb d_mMin_6 rfl (lv_at hl 0 rfl) ?_
    refine lv_goto (tgt := 11) hx hb d_mMin_7 (by decide) ?_
    exact W.lret (v := x) hx hb hr (fun t ht _ => ⟨_, rfl, by simp only [px_min, h1, ↓reduceIte], ht⟩) (fun q h => by cases h) d_mMin_11
set_option maxHeartbeats 4000000 in
set_option maxRecDepth 100000 in
theorem c_mFdJ (l : Launch) (x y : Int64) (hne : ¬ y = 0) : Met l y_mFdJ (.code y_mFdJ b_mFdJ 6 (some .long) :: TB) ({ frames := 0, cells := 0, slots := 0, locals := 0 }) (va_Pc [.long x, .long y] (fun _ => True)) (qx_L (fun r => r = px_fdJ x y)) 0 0 (fun _ => False) := by
  refine va_MetF (cc := b_mFdJ) (maxL := 6) (ret := (some .long)) (by decide +kernel) rfl ?_
  intro p e s m args below meth c s₁ B hml hv
  obtain ⟨rfl, -⟩ := hv
  have hx := B.exec
  have hb := B.bytes
  have hr := B.returns
  have hts := atoms_spec (ws := (.code y_mFdJ b_mFdJ 6 (some .long) :: TB)) B.pre
  have hT : ∀ w ∈ TB, w.before _ s = true := fun w hw => hts w (List.mem_cons_of_mem _ hw)
  have hown : s.vm.findClass "java/lang/Math" = some m.cls := findClass_of_methodNamed B.named
  have hlocks := B.notSynchronized
  have hl := lv_entry ([.long x, .long y]) (n := 6) (Nat.le_of_ble_eq_true rfl)
  rw [lg_entry_eq]
  generalize (lg_sl ([.long x, .long y]) ++ List.replicate (6 - (lg_sl ([.long x, .long y])).length) Slot.unset).toArray = ls at hl ⊢
  have hl : lv_has ls 6 [(0, .long x), (2, .long y)] := hl
  refine lv_lload_n hx hb d_mFdJ_0 rfl (lv_at hl 0 rfl) ?_
  refine lv_lload_n hx hb d_mFdJ_1 rfl (lv_at hl 1 rfl) ?_
  refine lv_ldiv hx hb d_mFdJ_2 hne ?_
  refine lv_topl (fun v1 ev1 => ?_)
  refine lv_lstore (lv' := [(4, .long v1), (0, .long x), (2, .long y)]) hx hb d_mFdJ_3 hl (by decide) rfl (fun ls hl => ?_)
  refine lv_lload_n hx hb d_mFdJ_5 rfl (lv_at hl 1 rfl) ?_
  refine lv_lload_n hx hb d_mFdJ_6 rfl (lv_at hl 2 rfl) ?_
  refine lv_lxor hx hb d_mFdJ_7 ?_
  refine lv_lconst (v := 0) hx hb d_mFdJ_8 (by decide) ?_
  refine W.lcmp hx hb d_mFdJ_9 ?_
  refine lv_if_ge (tgt := 27) hx hb d_mFdJ_10 (by decide) (fun h2 => ?_) (fun h2 => ?_)
  · rw [lg_cmp_ge] at h2
    refine lv_lload hx hb d_mFdJ_27 (lv_at hl 0 rfl) ?_
    exact W.lret (v := v1) hx hb hr (fun t ht _ => ⟨_, rfl, by subst ev1; simp only [px_fdJ, h2, ↓reduceIte], ht⟩) (fun q h => by cases h) d_mFdJ_29
  · rw [lg_cmp_ge] at h2
    refine lv_lload hx hb d_mFdJ_13 (lv_at hl 0 rfl) ?_
    refine lv_lload_n hx hb d_mFdJ_15 rfl (lv_at hl 2 rfl) ?_
    refine lv_lmul hx hb d_mFdJ_16 ?_
    refine lv_lload_n hx hb d_mFdJ_17 rfl (lv_at hl 1 rfl) ?_
    refine W.lcmp hx hb d_mFdJ_18 ?_
    refine lv_if_eq (tgt := 27) hx hb d_mFdJ_19 (by decide) (fun h3 => ?_) (fun h3 => ?_)
    · rw [lg_cmp_eq] at h3
      refine lv_lload hx hb d_mFdJ_27 (lv_at hl 0 rfl) ?_
      exact W.lret (v := v1) hx hb hr (fun t ht _ => ⟨_, rfl, by subst ev1; simp only [px_fdJ, h2, h3, ↓reduceIte], ht⟩) (fun q h => by cases h) d_mFdJ_29
    · rw [lg_cmp_eq] at h3
      refine lv_lload hx hb d_mFdJ_22 (lv_at hl 0 rfl) ?_
      refine lv_lconst (v := 1) hx hb d_mFdJ_24 (by decide) ?_
      refine lv_lsub hx hb d_mFdJ_25 ?_
      exact W.lret (v := v1 - 1) hx hb hr (fun t ht _ => ⟨_, rfl, by subst ev1; simp only [px_fdJ, h2, h3, ↓reduceIte], ht⟩) (fun q h => by cases h) d_mFdJ_26
set_option maxHeartbeats 4000000 in
set_option maxRecDepth 100000 in
theorem c_mFmJ (l : Launch) (x y : Int64) (hne : ¬ y = 0) : Met l y_mFmJ (.code y_mFmJ b_mFmJ 6 (some .long) :: TB) ({ frames := 0, cells := 0, slots := 0, locals := 0 }) (va_Pc [.long x, .long y] (fun _ => True)) (qx_L (fun r => r = px_fmJ x y)) 0 0 (fun _ => False) := by
  refine va_MetF (cc := b_mFmJ) (maxL := 6) (ret := (some .long)) (by decide +kernel) rfl ?_
  intro p e s m args below meth c s₁ B hml hv
  obtain ⟨rfl, -⟩ := hv
  have hx := B.exec
  have hb := B.bytes
  have hr := B.returns
  have hts := atoms_spec (ws := (.code y_mFmJ b_mFmJ 6 (some .long) :: TB)) B.pre
  have hT : ∀ w ∈ TB, w.before _ s = true := fun w hw => hts w (List.mem_cons_of_mem _ hw)
  have hown : s.vm.findClass "java/lang/Math" = some m.cls := findClass_of_methodNamed B.named
  have hlocks := B.notSynchronized
  have hl := lv_entry ([.long x, .long y]) (n := 6) (Nat.le_of_ble_eq_true rfl)
  rw [lg_entry_eq]
  generalize (lg_sl ([.long x, .long y]) ++ List.replicate (6 - (lg_sl ([.long x, .long y])).length) Slot.unset).toArray = ls at hl ⊢
  have hl : lv_has ls 6 [(0, .long x), (2, .long y)] := hl
  refine lv_lload_n hx hb d_mFmJ_0 rfl (lv_at hl 0 rfl) ?_
  refine lv_lload_n hx hb d_mFmJ_1 rfl (lv_at hl 1 rfl) ?_
  refine lv_lrem hx hb d_mFmJ_2 hne ?_
  refine lv_topl (fun v1 ev1 => ?_)
  refine lv_lstore (lv' := [(4, .long v1), (0, .long x), (2, .long y)]) hx hb d_mFmJ_3 hl (by decide) rfl (fun ls hl => ?_)
  refine lv_lload_n hx hb d_mFmJ_5 rfl (lv_at hl 1 rfl) ?_
  refine lv_lload_n hx hb d_mFmJ_6 rfl (lv_at hl 2 rfl) ?_
  refine lv_lxor hx hb d_mFmJ_7 ?_
  refine lv_lconst (v := 0) hx hb d_mFmJ_8 (by decide) ?_
  refine W.lcmp hx hb d_mFmJ_9 ?_
  refine lv_if_ge (tgt := 25) hx hb d_mFmJ_10 (by decide) (fun h2 => ?_) (fun h2 => ?_)
  · rw [lg_cmp_ge] at h2
    refine lv_lload hx hb d_mFmJ_25 (lv_at hl 0 rfl) ?_
    exact W.lret (v := v1) hx hb hr (fun t ht _ => ⟨_, rfl, by subst ev1; simp only [px_fmJ, h2, ↓reduceIte], ht⟩) (fun q h => by cases h) d_mFmJ_27
  · rw [lg_cmp_ge] at h2
    refine lv_lload hx hb d_mFmJ_13 (lv_at hl 0 rfl) ?_
    refine lv_lconst (v := 0) hx hb d_mFmJ_15 (by decide) ?_
    refine W.lcmp hx hb d_mFmJ_16 ?_
    refine lv_if_eq (tgt := 25) hx hb d_mFmJ_17 (by decide) (fun h3 => ?_) (fun h3 => ?_)
    · rw [lg_cmp_eq] at h3
      refine lv_lload hx hb d_mFmJ_25 (lv_at hl 0 rfl) ?_
      exact W.lret (v := v1) hx hb hr (fun t ht _ => ⟨_, rfl, by subst ev1; simp only [px_fmJ, h2, h3, ↓reduceIte], ht⟩) (fun q h => by cases h) d_mFmJ_27
    · rw [lg_cmp_eq] at h3
      refine lv_lload hx hb d_mFmJ_20 (lv_at hl 0 rfl) ?_
      refine lv_lload_n hx hb d_mFmJ_22 rfl (lv_at hl 2 rfl) ?_
      refine lv_ladd hx hb d_mFmJ_23 ?_
      exact W.lret (v := v1 + y) hx hb hr (fun t ht _ => ⟨_, rfl, by subst ev1; simp only [px_fmJ, h2, h3, ↓reduceIte], ht⟩) (fun q h => by cases h) d_mFmJ_24
set_option maxHeartbeats 4000000 in
set_option maxRecDepth 100000 in
theorem c_mFdI (l : Launch) (x y : Int32) (hne : ¬ y = 0) : Met l y_mFdI (.code y_mFdI b_mFdI 3 (some .int) :: TB) ({ frames := 0, cells := 0, slots := 0, locals := 0 }) (va_Pc [.int x, .int y] (fun _ => True)) (qx_I (fun r => r = px_fdI x y)) 0 0 (fun _ => False) := by
  refine va_MetF (cc := b_mFdI) (maxL := 3) (ret := (some .int)) (by decide +kernel) rfl ?_
  intro p e s m args below meth c s₁ B hml hv
  obtain ⟨rfl, -⟩ := hv
  have hx := B.exec
  have hb := B.bytes
  have hr := B.returns
  have hts := atoms_spec (ws := (.code y_mFdI b_mFdI 3 (some .int) :: TB)) B.pre
  have hT : ∀ w ∈ TB, w.before _ s = true := fun w hw => hts w (List.mem_cons_of_mem _ hw)
  have hown : s.vm.findClass "java/lang/Math" = some m.cls := findClass_of_methodNamed B.named
  have hlocks := B.notSynchronized
  have hl := lv_entry ([.int x, .int y]) (n := 3) (Nat.le_of_ble_eq_true rfl)
  rw [lg_entry_eq]
  generalize (lg_sl ([.int x, .int y]) ++ List.replicate (3 - (lg_sl ([.int x, .int y])).length) Slot.unset).toArray = ls at hl ⊢
  have hl : lv_has ls 3 [(0, .int x), (1, .int y)] := hl
  refine lv_iload_n hx hb d_mFdI_0 rfl (lv_at hl 0 rfl) ?_
  refine lv_iload_n hx hb d_mFdI_1 rfl (lv_at hl 1 rfl) ?_
  refine lv_idiv hx hb d_mFdI_2 hne ?_
  refine lv_topi (fun v1 ev1 => ?_)
  refine lv_istore_n (lv' := [(2, .int v1), (0, .int x), (1, .int y)]) hx hb d_mFdI_3 rfl hl (by decide) rfl (fun ls hl => ?_)
  refine lv_iload_n hx hb d_mFdI_4 rfl (lv_at hl 1 rfl) ?_
  refine lv_iload_n hx hb d_mFdI_5 rfl (lv_at hl 2 rfl) ?_
  refine lv_ixor hx hb d_mFdI_6 ?_
  refine lv_if_ge (tgt := 21) hx hb d_mFdI_7 (by decide) (fun h2 => ?_) (fun h2 => ?_)
  · refine lv_iload_n hx hb d_mFdI_21 rfl (lv_at hl 0 rfl) ?_
    exact W.iret (v := v1) hx hb hr (fun t ht _ => ⟨_, rfl, by subst ev1; simp only [px_fdI, h2, ↓reduceIte], ht⟩) (fun q h => by cases h) d_mFdI_22
  · refine lv_iload_n hx hb d_mFdI_10 rfl (lv_at hl 0 rfl) ?_
    refine lv_iload_n hx hb d_mFdI_11 rfl (lv_at hl 2 rfl) ?_
    refine lv_imul hx hb d_mFdI_12 ?_
    refine lv_iload_n hx hb d_mFdI_13 rfl (lv_at hl 1 rfl) ?_
    refine lv_icmp_eq (tgt := 21) hx hb d_mFdI_14 (by decide) (fun h3 => ?_) (fun h3 => ?_)
    · refine lv_iload_n hx hb d_mFdI_21 rfl (lv_at hl 0 rfl) ?_
      exact W.iret (v := v1) hx hb hr (fun t ht _ => ⟨_, rfl, by subst ev1; simp only [px_fdI, h2, h3, ↓reduceIte], ht⟩) (fun q h => by cases h) d_mFdI_22
    · refine lv_iload_n hx hb d_mFdI_17 rfl (lv_at hl 0 rfl) ?_
      refine lv_iconst (v := 1) hx hb d_mFdI_18 (by decide) ?_
      refine lv_isub hx hb d_mFdI_19 ?_
      exact W.iret (v := v1 - 1) hx hb hr (fun t ht _ => ⟨_, rfl, by subst ev1; simp only [px_fdI, h2, h3, ↓reduceIte], ht⟩) (fun q h => by cases h) d_mFdI_20
set_option maxHeartbeats 4000000 in
set_option maxRecDepth 100000 in
theorem c_mFmI (l : Launch) (x y : Int32) (hne : ¬ y = 0) : Met l y_mFmI (.code y_mFmI b_mFmI 3 (some .int) :: TB) ({ frames := 0, cells := 0, slots := 0, locals := 0 }) (va_Pc [.int x, .int y] (fun _ => True)) (qx_I (fun r => r = px_fmI x y)) 0 0 (fun _ => False) := by
  refine va_MetF (cc := b_mFmI) (maxL := 3) (ret := (some .int)) (by decide +kernel) rfl ?_
  intro p e s m args below meth c s₁ B hml hv
  obtain ⟨rfl, -⟩ := hv
  have hx := B.exec
  have hb := B.bytes
  have hr := B.returns
  have hts := atoms_spec (ws := (.code y_mFmI b_mFmI 3 (some .int) :: TB)) B.pre
  have hT : ∀ w ∈ TB, w.before _ s = true := fun w hw => hts w (List.mem_cons_of_mem _ hw)
  have hown : s.vm.findClass "java/lang/Math" = some m.cls := findClass_of_methodNamed B.named
  have hlocks := B.notSynchronized
  have hl := lv_entry ([.int x, .int y]) (n := 3) (Nat.le_of_ble_eq_true rfl)
  rw [lg_entry_eq]
  generalize (lg_sl ([.int x, .int y]) ++ List.replicate (3 - (lg_sl ([.int x, .int y])).length) Slot.unset).toArray = ls at hl ⊢
  have hl : lv_has ls 3 [(0, .int x), (1, .int y)] := hl
  refine lv_iload_n hx hb d_mFmI_0 rfl (lv_at hl 0 rfl) ?_
  refine lv_iload_n hx hb d_mFmI_1 rfl (lv_at hl 1 rfl) ?_
  refine lv_irem hx hb d_mFmI_2 hne ?_
  refine lv_topi (fun v1 ev1 => ?_)
  refine lv_istore_n (lv' := [(2, .int v1), (0, .int x), (1, .int y)]) hx hb d_mFmI_3 rfl hl (by decide) rfl (fun ls hl => ?_)
  refine lv_iload_n hx hb d_mFmI_4 rfl (lv_at hl 1 rfl) ?_
  refine lv_iload_n hx hb d_mFmI_5 rfl (lv_at hl 2 rfl) ?_
  refine lv_ixor hx hb d_mFmI_6 ?_
  refine lv_if_ge (tgt := 18) hx hb d_mFmI_7 (by decide) (fun h2 => ?_) (fun h2 => ?_)
  · refine lv_iload_n hx hb d_mFmI_18 rfl (lv_at hl 0 rfl) ?_
    exact W.iret (v := v1) hx hb hr (fun t ht _ => ⟨_, rfl, by subst ev1; simp only [px_fmI, h2, ↓reduceIte], ht⟩) (fun q h => by cases h) d_mFmI_19
  · refine lv_iload_n hx hb d_mFmI_10 rfl (lv_at hl 0 rfl) ?_
    refine lv_if_eq (tgt := 18) hx hb d_mFmI_11 (by decide) (fun h3 => ?_) (fun h3 => ?_)
    · refine lv_iload_n hx hb d_mFmI_18 rfl (lv_at hl 0 rfl) ?_
      exact W.iret (v := v1) hx hb hr (fun t ht _ => ⟨_, rfl, by subst ev1; simp only [px_fmI, h2, h3, ↓reduceIte], ht⟩) (fun q h => by cases h) d_mFmI_19
    · refine lv_iload_n hx hb d_mFmI_14 rfl (lv_at hl 0 rfl) ?_
      refine lv_iload_n hx hb d_mFmI_15 rfl (lv_at hl 2 rfl) ?_
      refine lv_iadd hx hb d_mFmI_16 ?_
      exact W.iret (v := v1 + y) hx hb hr (fun t ht _ => ⟨_, rfl, by subst ev1; simp only [px_fmI, h2, h3, ↓reduceIte], ht⟩) (fun q h => by cases h) d_mFmI_17
set_option maxHeartbeats 4000000 in
set_option maxRecDepth 100000 in
theorem c_mFull (l : Launch) (x y : Int32) : Met l y_mFull (.code y_mFull b_mFull 2 (some .long) :: TB) ({ frames := 0, cells := 0, slots := 0, locals := 0 }) (va_Pc [.int x, .int y] (fun _ => True)) (qx_L (fun r => r = px_full x y)) 0 0 (fun _ => False) := by
  refine va_MetF (cc := b_mFull) (maxL := 2) (ret := (some .long)) (by decide +kernel) rfl ?_
  intro p e s m args below meth c s₁ B hml hv
  obtain ⟨rfl, -⟩ := hv
  have hx := B.exec
  have hb := B.bytes
  have hr := B.returns
  have hts := atoms_spec (ws := (.code y_mFull b_mFull 2 (some .long) :: TB)) B.pre
  have hT : ∀ w ∈ TB, w.before _ s = true := fun w hw => hts w (List.mem_cons_of_mem _ hw)
  have hown : s.vm.findClass "java/lang/Math" = some m.cls := findClass_of_methodNamed B.named
  have hlocks := B.notSynchronized
  have hl := lv_entry ([.int x, .int y]) (n := 2) (Nat.le_of_ble_eq_true rfl)
  rw [lg_entry_eq]
  generalize (lg_sl ([.int x, .int y]) ++ List.replicate (2 - (lg_sl ([.int x, .int y])).length) Slot.unset).toArray = ls at hl ⊢
  have hl : lv_has ls 2 [(0, .int x), (1, .int y)] := hl
  refine lv_iload_n hx hb d_mFull_0 rfl (lv_at hl 0 rfl) ?_
  refine lv_i2l hx hb d_mFull_1 rfl ?_
  refine lv_iload_n hx hb d_mFull_2 rfl (lv_at hl 1 rfl) ?_
  refine lv_i2l hx hb d_mFull_3 rfl ?_
  refine lv_lmul hx hb d_mFull_4 ?_
  exact W.lret (v := (x.toInt64) * (y.toInt64)) hx hb hr (fun t ht _ => ⟨_, rfl, by simp only [px_full, ↓reduceIte], ht⟩) (fun q h => by cases h) d_mFull_5
/-- multiplyHigh's locals -/
def px_highR (x y r : Int64) : Prop := ∃ x1 x2 y1 y2 z2 t z1 z0 z3 : Int64, x1 = x >>> ((32 : Int32).toInt64 &&& 63) ∧ x2 = x &&& 4294967295 ∧ y1 = y >>> ((32 : Int32).toInt64 &&& 63) ∧ y2 = y &&& 4294967295 ∧ z2 = x2 * y2 ∧ t = x1 * y2 + (z2.toUInt64 >>> ((32 : Int32).toInt64.toUInt64 &&& Int64.toUInt64 63)).toInt64 ∧ z1 = t &&& 4294967295 ∧ z0 = t >>> ((32 : Int32).toInt64 &&& 63) ∧ z3 = z1 + x2 * y1 ∧ r = x1 * y1 + z0 + z3 >>> ((32 : Int32).toInt64 &&& 63)
set_option maxHeartbeats 4000000 in
set_option maxRecDepth 100000 in
theorem c_mHigh (l : Launch) (x y : Int64) : Met l y_mHigh (.code y_mHigh b_mHigh 20 (some .long) :: TB) ({ frames := 0, cells := 0, slots := 0, locals := 0 }) (va_Pc [.long x, .long y] (fun _ => True)) (qx_L (px_highR x y)) 0 0 (fun _ => False) := by
  refine va_MetF (cc := b_mHigh) (maxL := 20) (ret := (some .long)) (by decide +kernel) rfl ?_
  intro p e s m args below meth c s₁ B hml hv
  obtain ⟨rfl, -⟩ := hv
  have hx := B.exec
  have hb := B.bytes
  have hr := B.returns
  have hts := atoms_spec (ws := (.code y_mHigh b_mHigh 20 (some .long) :: TB)) B.pre
  have hT : ∀ w ∈ TB, w.before _ s = true := fun w hw => hts w (List.mem_cons_of_mem _ hw)
  have hown : s.vm.findClass "java/lang/Math" = some m.cls := findClass_of_methodNamed B.named
  have hlocks := B.notSynchronized
  have hl := lv_entry ([.long x, .long y]) (n := 20) (Nat.le_of_ble_eq_true rfl)
  rw [lg_entry_eq]
  generalize (lg_sl ([.long x, .long y]) ++ List.replicate (20 - (lg_sl ([.long x, .long y])).length) Slot.unset).toArray = ls at hl ⊢
  have hl : lv_has ls 20 [(0, .long x), (2, .long y)] := hl
  refine lv_lload_n hx hb d_mHigh_0 rfl (lv_at hl 0 rfl) ?_
  refine lv_bipush (v := 32) hx hb d_mHigh_1 (by decide) ?_
  refine lv_lshr hx hb d_mHigh_3 rfl ?_
  refine lv_topl (fun v1 ev1 => ?_)
  refine lv_lstore (lv' := [(4, .long v1), (0, .long x), (2, .long y)]) hx hb d_mHigh_4 hl (by decide) rfl (fun ls hl => ?_)
  refine lv_lload_n hx hb d_mHigh_6 rfl (lv_at hl 1 rfl) ?_
  refine lv_ldc2 (v := 4294967295) hx hb hown (hT _ tb_183) d_mHigh_7 ?_
  refine lv_land hx hb d_mHigh_10 ?_
  refine lv_topl (fun v2 ev2 => ?_)
  refine lv_lstore (lv' := [(6, .long v2), (4, .long v1), (0, .long x), (2, .long y)]) hx hb d_mHigh_11 hl (by decide) rfl (fun ls hl => ?_)
  refine lv_lload_n hx hb d_mHigh_13 rfl (lv_at hl 3 rfl) ?_
  refine lv_bipush (v := 32) hx hb d_mHigh_14 (by decide) ?_
  refine lv_lshr hx hb d_mHigh_16 rfl ?_
  refine lv_topl (fun v3 ev3 => ?_)
  refine lv_lstore (lv' := [(8, .long v3), (6, .long v2), (4, .long v1), (0, .long x), (2, .long y)]) hx hb d_mHigh_17 hl (by decide) rfl (fun ls hl => ?_)
  refine lv_lload_n hx hb d_mHigh_19 rfl (lv_at hl 4 rfl) ?_
  refine lv_ldc2 (v := 4294967295) hx hb hown (hT _ tb_183) d_mHigh_20 ?_
  refine lv_land hx hb d_mHigh_23 ?_
  refine lv_topl (fun v4 ev4 => ?_)
  refine lv_lstore (lv' := [(10, .long v4), (8, .long v3), (6, .long v2), (4, .long v1), (0, .long x), (2, .long y)]) hx hb d_mHigh_24 hl (by decide) rfl (fun ls hl => ?_)
  refine lv_lload hx hb d_mHigh_26 (lv_at hl 2 rfl) ?_
  refine lv_lload hx hb d_mHigh_28 (lv_at hl 0 rfl) ?_
  refine lv_lmul hx hb d_mHigh_30 ?_
  refine lv_topl (fun v5 ev5 => ?_)
  refine lv_lstore (lv' := [(12, .long v5), (10, .long v4), (8, .long v3), (6, .long v2), (4, .long v1), (0, .long x), (2, .long y)]) hx hb d_mHigh_31 hl (by decide) rfl (fun ls hl => ?_)
  refine lv_lload hx hb d_mHigh_33 (lv_at hl 4 rfl) ?_
  refine lv_lload hx hb d_mHigh_35 (lv_at hl 1 rfl) ?_
  refine lv_lmul hx hb d_mHigh_37 ?_
  refine lv_lload hx hb d_mHigh_38 (lv_at hl 0 rfl) ?_
  refine lv_bipush (v := 32) hx hb d_mHigh_40 (by decide) ?_
  refine lv_lushr hx hb d_mHigh_42 rfl ?_
  refine lv_ladd hx hb d_mHigh_43 ?_
  refine lv_topl (fun v6 ev6 => ?_)
  refine lv_lstore (lv' := [(14, .long v6), (12, .long v5), (10, .long v4), (8, .long v3), (6, .long v2), (4, .long v1), (0, .long x), (2, .long y)]) hx hb d_mHigh_44 hl (by decide) rfl (fun ls hl => ?_)
  refine lv_lload hx hb d_mHigh_46 (lv_at hl 0 rfl) ?_
  refine lv_ldc2 (v := 4294967295) hx hb hown (hT _ tb_183) d_mHigh_48 ?_
  refine lv_land hx hb d_mHigh_51 ?_
  refine lv_topl (fun v7 ev7 => ?_)
  refine lv_lstore (lv' := [(16, .long v7), (14, .long v6), (12, .long v5), (10, .long v4), (8, .long v3), (6, .long v2), (4, .long v1), (0, .long x), (2, .long y)]) hx hb d_mHigh_52 hl (by decide) rfl (fun ls hl => ?_)
  refine lv_lload hx hb d_mHigh_54 (lv_at hl 1 rfl) ?_
  refine lv_bipush (v := 32) hx hb d_mHigh_56 (by decide) ?_
  refine lv_lshr hx hb d_mHigh_58 rfl ?_
  refine lv_topl (fun v8 ev8 => ?_)
  refine lv_lstore (lv' := [(18, .long v8), (16, .long v7), (14, .long v6), (12, .long v5), (10, .long v4), (8, .long v3), (6, .long v2), (4, .long v1), (0, .long x), (2, .long y)]) hx hb d_mHigh_59 hl (by decide) rfl (fun ls hl => ?_)
  refine lv_lload hx hb d_mHigh_61 (lv_at hl 1 rfl) ?_
  refine lv_lload hx hb d_mHigh_63 (lv_at hl 6 rfl) ?_
  refine lv_lload hx hb d_mHigh_65 (lv_at hl 5 rfl) ?_
  refine lv_lmul hx hb d_mHigh_67 ?_
  refine lv_ladd hx hb d_mHigh_68 ?_
  refine lv_topl (fun v9 ev9 => ?_)
  refine lv_lstore (lv' := [(16, .long v9), (18, .long v8), (14, .long v6), (12, .long v5), (10, .long v4), (8, .long v3), (6, .long v2), (4, .long v1), (0, .long x), (2, .long y)]) hx hb d_mHigh_69 hl (by decide) rfl (fun ls hl => ?_)
  refine lv_lload hx hb d_mHigh_71 (lv_at hl 7 rfl) ?_
  refine lv_lload hx hb d_mHigh_73 (lv_at hl 5 rfl) ?_
  refine lv_lmul hx hb d_mHigh_75 ?_
  refine lv_lload hx hb d_mHigh_76 (lv_at hl 1 rfl) ?_
  refine lv_ladd hx hb d_mHigh_78 ?_
  refine lv_lload hx hb d_mHigh_79 (lv_at hl 0 rfl) ?_
  refine lv_bipush (v := 32) hx hb d_mHigh_81 (by decide) ?_
  refine lv_lshr hx hb d_mHigh_83 rfl ?_
  refine lv_ladd hx hb d_mHigh_84 ?_
  exact W.lret (v := ((v1 * v3) + v8) + (v9 >>> ((32 : Int32).toInt64 &&& 63))) hx hb hr (fun t ht _ => ⟨_, rfl, ⟨v1, v2, v3, v4, v5, v6, v7, v8, v9, ev1, ev2, ev3, ev4, ev5, ev6, ev7, ev8, ev9, rfl⟩, ht⟩) (fun q h => by cases h) d_mHigh_85
end
section
/-! java.lang.Math: the exact methods: a contract where they answer, a contract where they throw -/
def px_addI (x y : Int32) : Prop := 0 ≤ (x ^^^ (x + y)) &&& (y ^^^ (x + y))
def px_addJ (x y : Int64) : Prop := 0 ≤ (x ^^^ (x + y)) &&& (y ^^^ (x + y))
def px_subI (x y : Int32) : Prop := 0 ≤ (x ^^^ y) &&& (x ^^^ (x - y))
def px_subJ (x y : Int64) : Prop := 0 ≤ (x ^^^ y) &&& (x ^^^ (x - y))
def px_mulI (x y : Int32) : Prop := (x.toInt64 * y.toInt64).toInt32.toInt64 = x.toInt64 * y.toInt64
def px_toI (x : Int64) : Prop := x.toInt32.toInt64 = x
def px_neg (x : Int64) : Prop := ¬ x = -9223372036854775808
def px_mulJ (x y : Int64) : Prop := ((px_abs x ||| px_abs y).toUInt64 >>> ((31 : Int32).toInt64.toUInt64 &&& Int64.toUInt64 63)).toInt64 = 0 ∨ ((y = 0 ∨ x * y / y = x) ∧ ¬ (x = -9223372036854775808 ∧ y = -1))
set_option maxHeartbeats 4000000 in
set_option maxRecDepth 100000 in
theorem c_mAddI (l : Launch) (x y : Int32) (hok : px_addI x y) : Met l y_mAddI (.code y_mAddI b_mAddI 3 (some .int) :: TB) ({ frames := 0, cells := 0, slots := 0, locals := 0 }) (va_Pc [.int x, .int y] (fun _ => True)) (qx_I (fun r => r = x + y)) 0 0 (fun _ => False) := by
  refine va_MetF (cc := b_mAddI) (maxL := 3) (ret := (some .int)) (by decide +kernel) rfl ?_
  intro p e s m args below meth c s₁ B hml hv
  obtain ⟨rfl, -⟩ := hv
  have hx := B.exec
  have hb := B.bytes
  have hr := B.returns
  have hts := atoms_spec (ws := (.code y_mAddI b_mAddI 3 (some .int) :: TB)) B.pre
  have hT : ∀ w ∈ TB, w.before _ s = true := fun w hw => hts w (List.mem_cons_of_mem _ hw)
  have hown : s.vm.findClass "java/lang/Math" = some m.cls := findClass_of_methodNamed B.named
  have hlocks := B.notSynchronized
  have hl := lv_entry ([.int x, .int y]) (n := 3) (Nat.le_of_ble_eq_true rfl)
  rw [lg_entry_eq]
  generalize (lg_sl ([.int x, .int y]) ++ List.replicate (3 - (lg_sl ([.int x, .int y])).length) Slot.unset).toArray = ls at hl ⊢
  have hl : lv_has ls 3 [(0, .int x), (1, .int y)] := hl
  refine lv_iload_n hx hb d_mAddI_0 rfl (lv_at hl 0 rfl) ?_
  refine lv_iload_n hx hb d_mAddI_1 rfl (lv_at hl 1 rfl) ?_
  refine lv_iadd hx hb d_mAddI_2 ?_
  refine lv_topi (fun v1 ev1 => ?_)
  refine lv_istore_n (lv' := [(2, .int v1), (0, .int x), (1, .int y)]) hx hb d_mAddI_3 rfl hl (by decide) rfl (fun ls hl => ?_)
  refine lv_iload_n hx hb d_mAddI_4 rfl (lv_at hl 1 rfl) ?_
  refine lv_iload_n hx hb d_mAddI_5 rfl (lv_at hl 0 rfl) ?_
  refine lv_ixor hx hb d_mAddI_6 ?_
  refine lv_iload_n hx hb d_mAddI_7 rfl (lv_at hl 2 rfl) ?_
  refine lv_iload_n hx hb d_mAddI_8 rfl (lv_at hl 0 rfl) ?_
  refine lv_ixor hx hb d_mAddI_9 ?_
  refine lv_iand hx hb d_mAddI_10 ?_
  refine lv_if_ge (tgt := 24) hx hb d_mAddI_11 (by decide) (fun h2 => ?_) (fun h2 => ?_)
  · refine lv_iload_n hx hb d_mAddI_24 rfl (lv_at hl 0 rfl) ?_
    exact W.iret (v := v1) hx hb hr (fun t ht _ => ⟨_, rfl, by subst ev1; rfl, ht⟩) (fun q h => by cases h) d_mAddI_25
  · exact absurd hok (by subst ev1; exact h2)
set_option maxHeartbeats 4000000 in
set_option maxRecDepth 100000 in
theorem t_mAddI (l : Launch) (hfl : l.flags = pinnedFlags ++ [noTraceFlag]) (x y : Int32) (hno : ¬ px_addI x y) : tx_Met l y_mAddI (.code y_mAddI b_mAddI 3 (some .int) :: TB) ({ frames := 6, cells := 1, slots := 6, locals := 82 }) (va_Pc [.int x, .int y] tx_T) tx_QA 1 6 := by
  refine tx_ofW (cc := b_mAddI) (maxL := 3) (ret := (some .int)) (by decide +kernel) rfl ?_
  intro p e s m args below meth c s₁ B hml hv
  obtain ⟨rfl, hth⟩ := hv
  have hx := B.exec
  have hb := B.bytes
  have hr := B.returns
  have hts := atoms_spec (ws := (.code y_mAddI b_mAddI 3 (some .int) :: TB)) B.pre
  have hT : ∀ w ∈ TB, w.before _ s = true := fun w hw => hts w (List.mem_cons_of_mem _ hw)
  have hown : s.vm.findClass "java/lang/Math" = some m.cls := findClass_of_methodNamed B.named
  have hlocks := B.notSynchronized
  have hl := lv_entry ([.int x, .int y]) (n := 3) (Nat.le_of_ble_eq_true rfl)
  rw [lg_entry_eq]
  generalize (lg_sl ([.int x, .int y]) ++ List.replicate (3 - (lg_sl ([.int x, .int y])).length) Slot.unset).toArray = ls at hl ⊢
  have hl : lv_has ls 3 [(0, .int x), (1, .int y)] := hl
  refine lv_iload_n hx hb d_mAddI_0 rfl (lv_at hl 0 rfl) ?_
  refine lv_iload_n hx hb d_mAddI_1 rfl (lv_at hl 1 rfl) ?_
  refine lv_iadd hx hb d_mAddI_2 ?_
  refine lv_topi (fun v1 ev1 => ?_)
  refine lv_istore_n (lv' := [(2, .int v1), (0, .int x), (1, .int y)]) hx hb d_mAddI_3 rfl hl (by decide) rfl (fun ls hl => ?_)
  refine lv_iload_n hx hb d_mAddI_4 rfl (lv_at hl 1 rfl) ?_
  refine lv_iload_n hx hb d_mAddI_5 rfl (lv_at hl 0 rfl) ?_
  refine lv_ixor hx hb d_mAddI_6 ?_
  refine lv_iload_n hx hb d_mAddI_7 rfl (lv_at hl 2 rfl) ?_
  refine lv_iload_n hx hb d_mAddI_8 rfl (lv_at hl 0 rfl) ?_
  refine lv_ixor hx hb d_mAddI_9 ?_
  refine lv_iand hx hb d_mAddI_10 ?_
  refine lv_if_ge (tgt := 24) hx hb d_mAddI_11 (by decide) (fun h2 => ?_) (fun h2 => ?_)
  · refine lv_iload_n hx hb d_mAddI_24 rfl (lv_at hl 0 rfl) ?_
    exact absurd (by subst ev1; exact h2) hno
  · exact tx_thrown (idx := 111) (tx := "integer overflow") hfl hx hb (B.noHandlers (hts _ List.mem_cons_self)) hlocks hT hth hown (hl.1.trans hml.symm) hth.2.2.2.1 d_mAddI_14 d_mAddI_17 d_mAddI_18 d_mAddI_20 d_mAddI_23 ⟨Nat.le_refl _, Nat.le_refl _, Nat.le_refl _, Nat.le_refl _⟩
set_option maxHeartbeats 4000000 in
set_option maxRecDepth 100000 in
theorem c_mAddJ (l : Launch) (x y : Int64) (hok : px_addJ x y) : Met l y_mAddJ (.code y_mAddJ b_mAddJ 6 (some .long) :: TB) ({ frames := 0, cells := 0, slots := 0, locals := 0 }) (va_Pc [.long x, .long y] (fun _ => True)) (qx_L (fun r => r = x + y)) 0 0 (fun _ => False) := by
  refine va_MetF (cc := b_mAddJ) (maxL := 6) (ret := (some .long)) (by decide +kernel) rfl ?_
  intro p e s m args below meth c s₁ B hml hv
  obtain ⟨rfl, -⟩ := hv
  have hx := B.exec
  have hb := B.bytes
  have hr := B.returns
  have hts := atoms_spec (ws := (.code y_mAddJ b_mAddJ 6 (some .long) :: TB)) B.pre
  have hT : ∀ w ∈ TB, w.before _ s = true := fun w hw => hts w (List.mem_cons_of_mem _ hw)
  have hown : s.vm.findClass "java/lang/Math" = some m.cls := findClass_of_methodNamed B.named
  have hlocks := B.notSynchronized
  have hl := lv_entry ([.long x, .long y]) (n := 6) (Nat.le_of_ble_eq_true rfl)
  rw [lg_entry_eq]
  generalize (lg_sl ([.long x, .long y]) ++ List.replicate (6 - (lg_sl ([.long x, .long y])).length) Slot.unset).toArray = ls at hl ⊢
  have hl : lv_has ls 6 [(0, .long x), (2, .long y)] := hl
  refine lv_lload_n hx hb d_mAddJ_0 rfl (lv_at hl 0 rfl) ?_
  refine lv_lload_n hx hb d_mAddJ_1 rfl (lv_at hl 1 rfl) ?_
  refine lv_ladd hx hb d_mAddJ_2 ?_
  refine lv_topl (fun v1 ev1 => ?_)
  refine lv_lstore (lv' := [(4, .long v1), (0, .long x), (2, .long y)]) hx hb d_mAddJ_3 hl (by decide) rfl (fun ls hl => ?_)
  refine lv_lload_n hx hb d_mAddJ_5 rfl (lv_at hl 1 rfl) ?_
  refine lv_lload hx hb d_mAddJ_6 (lv_at hl 0 rfl) ?_
  refine lv_lxor hx hb d_mAddJ_8 ?_
  refine lv_lload_n hx hb d_mAddJ_9 rfl (lv_at hl 2 rfl) ?_
  refine lv_lload hx hb d_mAddJ_10 (lv_at hl 0 rfl) ?_
  refine lv_lxor hx hb d_mAddJ_12 ?_
  refine lv_land hx hb d_mAddJ_13 ?_
  refine lv_lconst (v := 0) hx hb d_mAddJ_14 (by decide) ?_
  refine W.lcmp hx hb d_mAddJ_15 ?_
  refine lv_if_ge (tgt := 29) hx hb d_mAddJ_16 (by decide) (fun h2 => ?_) (fun h2 => ?_)
  · rw [lg_cmp_ge] at h2
    refine lv_lload hx hb d_mAddJ_29 (lv_at hl 0 rfl) ?_
    exact W.lret (v := v1) hx hb hr (fun t ht _ => ⟨_, rfl, by subst ev1; rfl, ht⟩) (fun q h => by cases h) d_mAddJ_31
  · rw [lg_cmp_ge] at h2
    exact absurd hok (by subst ev1; exact h2)
set_option maxHeartbeats 4000000 in
set_option maxRecDepth 100000 in
theorem t_mAddJ (l : Launch) (hfl : l.flags = pinnedFlags ++ [noTraceFlag]) (x y : Int64) (hno : ¬ px_addJ x y) : tx_Met l y_mAddJ (.code y_mAddJ b_mAddJ 6 (some .long) :: TB) ({ frames := 6, cells := 1, slots := 6, locals := 82 }) (va_Pc [.long x, .long y] tx_T) tx_QA 1 6 := by
  refine tx_ofW (cc := b_mAddJ) (maxL := 6) (ret := (some .long)) (by decide +kernel) rfl ?_
  intro p e s m args below meth c s₁ B hml hv
  obtain ⟨rfl, hth⟩ := hv
  have hx := B.exec
  have hb := B.bytes
  have hr := B.returns
  have hts := atoms_spec (ws := (.code y_mAddJ b_mAddJ 6 (some .long) :: TB)) B.pre
  have hT : ∀ w ∈ TB, w.before _ s = true := fun w hw => hts w (List.mem_cons_of_mem _ hw)
  have hown : s.vm.findClass "java/lang/Math" = some m.cls := findClass_of_methodNamed B.named
  have hlocks := B.notSynchronized
  have hl := lv_entry ([.long x, .long y]) (n := 6) (Nat.le_of_ble_eq_true rfl)
  rw [lg_entry_eq]
  generalize (lg_sl ([.long x, .long y]) ++ List.replicate (6 - (lg_sl ([.long x, .long y])).length) Slot.unset).toArray = ls at hl ⊢
  have hl : lv_has ls 6 [(0, .long x), (2, .long y)] := hl
  refine lv_lload_n hx hb d_mAddJ_0 rfl (lv_at hl 0 rfl) ?_
  refine lv_lload_n hx hb d_mAddJ_1 rfl (lv_at hl 1 rfl) ?_
  refine lv_ladd hx hb d_mAddJ_2 ?_
  refine lv_topl (fun v1 ev1 => ?_)
  refine lv_lstore (lv' := [(4, .long v1), (0, .long x), (2, .long y)]) hx hb d_mAddJ_3 hl (by decide) rfl (fun ls hl => ?_)
  refine lv_lload_n hx hb d_mAddJ_5 rfl (lv_at hl 1 rfl) ?_
  refine lv_lload hx hb d_mAddJ_6 (lv_at hl 0 rfl) ?_
  refine lv_lxor hx hb d_mAddJ_8 ?_
  refine lv_lload_n hx hb d_mAddJ_9 rfl (lv_at hl 2 rfl) ?_
  refine lv_lload hx hb d_mAddJ_10 (lv_at hl 0 rfl) ?_
  refine lv_lxor hx hb d_mAddJ_12 ?_
  refine lv_land hx hb d_mAddJ_13 ?_
  refine lv_lconst (v := 0) hx hb d_mAddJ_14 (by decide) ?_
  refine W.lcmp hx hb d_mAddJ_15 ?_
  refine lv_if_ge (tgt := 29) hx hb d_mAddJ_16 (by decide) (fun h2 => ?_) (fun h2 => ?_)
  · rw [lg_cmp_ge] at h2
    refine lv_lload hx hb d_mAddJ_29 (lv_at hl 0 rfl) ?_
    exact absurd (by subst ev1; exact h2) hno
  · rw [lg_cmp_ge] at h2
    exact tx_thrown (idx := 116) (tx := "long overflow") hfl hx hb (B.noHandlers (hts _ List.mem_cons_self)) hlocks hT hth hown (hl.1.trans hml.symm) hth.2.2.2.2 d_mAddJ_19 d_mAddJ_22 d_mAddJ_23 d_mAddJ_25 d_mAddJ_28 ⟨Nat.le_refl _, Nat.le_refl _, Nat.le_refl _, Nat.le_refl _⟩
set_option maxHeartbeats 4000000 in
set_option maxRecDepth 100000 in
theorem c_mSubI (l : Launch) (x y : Int32) (hok : px_subI x y) : Met l y_mSubI (.code y_mSubI b_mSubI 3 (some .int) :: TB) ({ frames := 0, cells := 0, slots := 0, locals := 0 }) (va_Pc [.int x, .int y] (fun _ => True)) (qx_I (fun r => r = x - y)) 0 0 (fun _ => False) := by
  refine va_MetF (cc := b_mSubI) (maxL := 3) (ret := (some .int)) (by decide +kernel) rfl ?_
  intro p e s m args below meth c s₁ B hml hv
  obtain ⟨rfl, -⟩ := hv
  have hx := B.exec
  have hb := B.bytes
  have hr := B.returns
  have hts := atoms_spec (ws := (.code y_mSubI b_mSubI 3 (some .int) :: TB)) B.pre
  have hT : ∀ w ∈ TB, w.before _ s = true := fun w hw => hts w (List.mem_cons_of_mem _ hw)
  have hown : s.vm.findClass "java/lang/Math" = some m.cls := findClass_of_methodNamed B.named
  have hlocks := B.notSynchronized
  have hl := lv_entry ([.int x, .int y]) (n := 3) (Nat.le_of_ble_eq_true rfl)
  rw [lg_entry_eq]
  generalize (lg_sl ([.int x, .int y]) ++ List.replicate (3 - (lg_sl ([.int x, .int y])).length) Slot.unset).toArray = ls at hl ⊢
  have hl : lv_has ls 3 [(0, .int x), (1, .int y)] := hl
  refine lv_iload_n hx hb d_mSubI_0 rfl (lv_at hl 0 rfl) ?_
  refine lv_iload_n hx hb d_mSubI_1 rfl (lv_at hl 1 rfl) ?_
  refine lv_isub hx hb d_mSubI_2 ?_
  refine lv_topi (fun v1 ev1 => ?_)
  refine lv_istore_n (lv' := [(2, .int v1), (0, .int x), (1, .int y)]) hx hb d_mSubI_3 rfl hl (by decide) rfl (fun ls hl => ?_)
  refine lv_iload_n hx hb d_mSubI_4 rfl (lv_at hl 1 rfl) ?_
  refine lv_iload_n hx hb d_mSubI_5 rfl (lv_at hl 2 rfl) ?_
  refine lv_ixor hx hb d_mSubI_6 ?_
  refine lv_iload_n hx hb d_mSubI_7 rfl (lv_at hl 1 rfl) ?_
  refine lv_iload_n hx hb d_mSubI_8 rfl (lv_at hl 0 rfl) ?_
  refine lv_ixor hx hb d_mSubI_9 ?_
  refine lv_iand hx hb d_mSubI_10 ?_
  refine lv_if_ge (tgt := 24) hx hb d_mSubI_11 (by decide) (fun h2 => ?_) (fun h2 => ?_)
  · refine lv_iload_n hx hb d_mSubI_24 rfl (lv_at hl 0 rfl) ?_
    exact W.iret (v := v1) hx hb hr (fun t ht _ => ⟨_, rfl, by subst ev1; rfl, ht⟩) (fun q h => by cases h) d_mSubI_25
  · exact absurd hok (by subst ev1; exact h2)
set_option maxHeartbeats 4000000 in
set_option maxRecDepth 100000 in
theorem t_mSubI (l : Launch) (hfl : l.flags = pinnedFlags ++ [noTraceFlag]) (x y : Int32) (hno : ¬ px_subI x y) : tx_Met l y_mSubI (.code y_mSubI b_mSubI 3 (some .int) :: TB) ({ frames := 6, cells := 1, slots := 6, locals := 82 }) (va_Pc [.int x, .int y] tx_T) tx_QA 1 6 := by
  refine tx_ofW (cc := b_mSubI) (maxL := 3) (ret := (some .int)) (by decide +kernel) rfl ?_
  intro p e s m args below meth c s₁ B hml hv
  obtain ⟨rfl, hth⟩ := hv
  have hx := B.exec
  have hb := B.bytes
  have hr := B.returns
  have hts := atoms_spec (ws := (.code y_mSubI b_mSubI 3 (some .int) :: TB)) B.pre
  have hT : ∀ w ∈ TB, w.before _ s = true := fun w hw => hts w (List.mem_cons_of_mem _ hw)
  have hown : s.vm.findClass "java/lang/Math" = some m.cls := findClass_of_methodNamed B.named
  have hlocks := B.notSynchronized
  have hl := lv_entry ([.int x, .int y]) (n := 3) (Nat.le_of_ble_eq_true rfl)
  rw [lg_entry_eq]
  generalize (lg_sl ([.int x, .int y]) ++ List.replicate (3 - (lg_sl ([.int x, .int y])).length) Slot.unset).toArray = ls at hl ⊢
  have hl : lv_has ls 3 [(0, .int x), (1, .int y)] := hl
  refine lv_iload_n hx hb d_mSubI_0 rfl (lv_at hl 0 rfl) ?_
  refine lv_iload_n hx hb d_mSubI_1 rfl (lv_at hl 1 rfl) ?_
  refine lv_isub hx hb d_mSubI_2 ?_
  refine lv_topi (fun v1 ev1 => ?_)
  refine lv_istore_n (lv' := [(2, .int v1), (0, .int x), (1, .int y)]) hx hb d_mSubI_3 rfl hl (by decide) rfl (fun ls hl => ?_)
  refine lv_iload_n hx hb d_mSubI_4 rfl (lv_at hl 1 rfl) ?_
  refine lv_iload_n hx hb d_mSubI_5 rfl (lv_at hl 2 rfl) ?_
  refine lv_ixor hx hb d_mSubI_6 ?_
  refine lv_iload_n hx hb d_mSubI_7 rfl (lv_at hl 1 rfl) ?_
  refine lv_iload_n hx hb d_mSubI_8 rfl (lv_at hl 0 rfl) ?_
  refine lv_ixor hx hb d_mSubI_9 ?_
  refine lv_iand hx hb d_mSubI_10 ?_
  refine lv_if_ge (tgt := 24) hx hb d_mSubI_11 (by decide) (fun h2 => ?_) (fun h2 => ?_)
  · refine lv_iload_n hx hb d_mSubI_24 rfl (lv_at hl 0 rfl) ?_
    exact absurd (by subst ev1; exact h2) hno
  · exact tx_thrown (idx := 111) (tx := "integer overflow") hfl hx hb (B.noHandlers (hts _ List.mem_cons_self)) hlocks hT hth hown (hl.1.trans hml.symm) hth.2.2.2.1 d_mSubI_14 d_mSubI_17 d_mSubI_18 d_mSubI_20 d_mSubI_23 ⟨Nat.le_refl _, Nat.le_refl _, Nat.le_refl _, Nat.le_refl _⟩
set_option maxHeartbeats 4000000 in
set_option maxRecDepth 100000 in
theorem c_mSubJ (l : Launch) (x y : Int64) (hok : px_subJ x y) : Met l y_mSubJ (.code y_mSubJ b_mSubJ 6 (some .long) :: TB) ({ frames := 0, cells := 0, slots := 0, locals := 0 }) (va_Pc [.long x, .long y] (fun _ => True)) (qx_L (fun r => r = x - y)) 0 0 (fun _ => False) := by
  refine va_MetF (cc := b_mSubJ) (maxL := 6) (ret := (some .long)) (by decide +kernel) rfl ?_
  intro p e s m args below meth c s₁ B hml hv
  obtain ⟨rfl, -⟩ := hv
  have hx := B.exec
  have hb := B.bytes
  have hr := B.returns
  have hts := atoms_spec (ws := (.code y_mSubJ b_mSubJ 6 (some .long) :: TB)) B.pre
  have hT : ∀ w ∈ TB, w.before _ s = true := fun w hw => hts w (List.mem_cons_of_mem _ hw)
  have hown : s.vm.findClass "java/lang/Math" = some m.cls := findClass_of_methodNamed B.named
  have hlocks := B.notSynchronized
  have hl := lv_entry ([.long x, .long y]) (n := 6) (Nat.le_of_ble_eq_true rfl)
  rw [lg_entry_eq]
  generalize (lg_sl ([.long x, .long y]) ++ List.replicate (6 - (lg_sl ([.long x, .long y])).length) Slot.unset).toArray = ls at hl ⊢
  have hl : lv_has ls 6 [(0, .long x), (2, .long y)] := hl
  refine lv_lload_n hx hb d_mSubJ_0 rfl (lv_at hl 0 rfl) ?_
  refine lv_lload_n hx hb d_mSubJ_1 rfl (lv_at hl 1 rfl) ?_
  refine lv_lsub hx hb d_mSubJ_2 ?_
  refine lv_topl (fun v1 ev1 => ?_)
  refine lv_lstore (lv' := [(4, .long v1), (0, .long x), (2, .long y)]) hx hb d_mSubJ_3 hl (by decide) rfl (fun ls hl => ?_)
  refine lv_lload_n hx hb d_mSubJ_5 rfl (lv_at hl 1 rfl) ?_
  refine lv_lload_n hx hb d_mSubJ_6 rfl (lv_at hl 2 rfl) ?_
  refine lv_lxor hx hb d_mSubJ_7 ?_
  refine lv_lload_n hx hb d_mSubJ_8 rfl (lv_at hl 1 rfl) ?_
  refine lv_lload hx hb d_mSubJ_9 (lv_at hl 0 rfl) ?_
  refine lv_lxor hx hb d_mSubJ_11 ?_
  refine lv_land hx hb d_mSubJ_12 ?_
  refine lv_lconst (v := 0) hx hb d_mSubJ_13 (by decide) ?_
  refine W.lcmp hx hb d_mSubJ_14 ?_
  refine lv_if_ge (tgt := 28) hx hb d_mSubJ_15 (by decide) (fun h2 => ?_) (fun h2 => ?_)
  · rw [lg_cmp_ge] at h2
    refine lv_lload hx hb d_mSubJ_28 (lv_at hl 0 rfl) ?_
    exact W.lret (v := v1) hx hb hr (fun t ht _ => ⟨_, rfl, by subst ev1; rfl, ht⟩) (fun q h => by cases h) d_mSubJ_30
  · rw [lg_cmp_ge] at h2
    exact absurd hok (by subst ev1; exact h2)
set_option maxHeartbeats 4000000 in
set_option maxRecDepth 100000 in
theorem t_mSubJ (l : Launch) (hfl : l.flags = pinnedFlags ++ [noTraceFlag]) (x y : Int64) (hno : ¬ px_subJ x y) : tx_Met l y_mSubJ (.code y_mSubJ b_mSubJ 6 (some .long) :: TB) ({ frames := 6, cells := 1, slots := 6, locals := 82 }) (va_Pc [.long x, .long y] tx_T) tx_QA 1 6 := by
  refine tx_ofW (cc := b_mSubJ) (maxL := 6) (ret := (some .long)) (by decide +kernel) rfl ?_
  intro p e s m args below meth c s₁ B hml hv
  obtain ⟨rfl, hth⟩ := hv
  have hx := B.exec
  have hb := B.bytes
  have hr := B.returns
  have hts := atoms_spec (ws := (.code y_mSubJ b_mSubJ 6 (some .long) :: TB)) B.pre
  have hT : ∀ w ∈ TB, w.before _ s = true := fun w hw => hts w (List.mem_cons_of_mem _ hw)
  have hown : s.vm.findClass "java/lang/Math" = some m.cls := findClass_of_methodNamed B.named
  have hlocks := B.notSynchronized
  have hl := lv_entry ([.long x, .long y]) (n := 6) (Nat.le_of_ble_eq_true rfl)
  rw [lg_entry_eq]
  generalize (lg_sl ([.long x, .long y]) ++ List.replicate (6 - (lg_sl ([.long x, .long y])).length) Slot.unset).toArray = ls at hl ⊢
  have hl : lv_has ls 6 [(0, .long x), (2, .long y)] := hl
  refine lv_lload_n hx hb d_mSubJ_0 rfl (lv_at hl 0 rfl) ?_
  refine lv_lload_n hx hb d_mSubJ_1 rfl (lv_at hl 1 rfl) ?_
  refine lv_lsub hx hb d_mSubJ_2 ?_
  refine lv_topl (fun v1 ev1 => ?_)
  refine lv_lstore (lv' := [(4, .long v1), (0, .long x), (2, .long y)]) hx hb d_mSubJ_3 hl (by decide) rfl (fun ls hl => ?_)
  refine lv_lload_n hx hb d_mSubJ_5 rfl (lv_at hl 1 rfl) ?_
  refine lv_lload_n hx hb d_mSubJ_6 rfl (lv_at hl 2 rfl) ?_
  refine lv_lxor hx hb d_mSubJ_7 ?_
  refine lv_lload_n hx hb d_mSubJ_8 rfl (lv_at hl 1 rfl) ?_
  refine lv_lload hx hb d_mSubJ_9 (lv_at hl 0 rfl) ?_
  refine lv_lxor hx hb d_mSubJ_11 ?_
  refine lv_land hx hb d_mSubJ_12 ?_
  refine lv_lconst (v := 0) hx hb d_mSubJ_13 (by decide) ?_
  refine W.lcmp hx hb d_mSubJ_14 ?_
  refine lv_if_ge (tgt := 28) hx hb d_mSubJ_15 (by decide) (fun h2 => ?_) (fun h2 => ?_)
  · rw [lg_cmp_ge] at h2
    refine lv_lload hx hb d_mSubJ_28 (lv_at hl 0 rfl) ?_
    exact absurd (by subst ev1; exact h2) hno
  · rw [lg_cmp_ge] at h2
    exact tx_thrown (idx := 116) (tx := "long overflow") hfl hx hb (B.noHandlers (hts _ List.mem_cons_self)) hlocks hT hth hown (hl.1.trans hml.symm) hth.2.2.2.2 d_mSubJ_18 d_mSubJ_21 d_mSubJ_22 d_mSubJ_24 d_mSubJ_27 ⟨Nat.le_refl _, Nat.le_refl _, Nat.le_refl _, Nat.le_refl _⟩
set_option maxHeartbeats 4000000 in
set_option maxRecDepth 100000 in
theorem c_mMulI (l : Launch) (x y : Int32) (hok : px_mulI x y) : Met l y_mMulI (.code y_mMulI b_mMulI 4 (some .int) :: TB) ({ frames := 0, cells := 0, slots := 0, locals := 0 }) (va_Pc [.int x, .int y] (fun _ => True)) (qx_I (fun r => r = (x.toInt64 * y.toInt64).toInt32)) 0 0 (fun _ => False) := by
  refine va_MetF (cc := b_mMulI) (maxL := 4) (ret := (some .int)) (by decide +kernel) rfl ?_
  intro p e s m args below meth c s₁ B hml hv
  obtain ⟨rfl, -⟩ := hv
  have hx := B.exec
  have hb := B.bytes
  have hr := B.returns
  have hts := atoms_spec (ws := (.code y_mMulI b_mMulI 4 (some .int) :: TB)) B.pre
  have hT : ∀ w ∈ TB, w.before _ s = true := fun w hw => hts w (List.mem_cons_of_mem _ hw)
  have hown : s.vm.findClass "java/lang/Math" = some m.cls := findClass_of_methodNamed B.named
  have hlocks := B.notSynchronized
  have hl := lv_entry ([.int x, .int y]) (n := 4) (Nat.le_of_ble_eq_true rfl)
  rw [lg_entry_eq]
  generalize (lg_sl ([.int x, .int y]) ++ List.replicate (4 - (lg_sl ([.int x, .int y])).length) Slot.unset).toArray = ls at hl ⊢
  have hl : lv_has ls 4 [(0, .int x), (1, .int y)] := hl
  refine lv_iload_n hx hb d_mMulI_0 rfl (lv_at hl 0 rfl) ?_
  refine lv_i2l hx hb d_mMulI_1 rfl ?_
  refine lv_iload_n hx hb d_mMulI_2 rfl (lv_at hl 1 rfl) ?_
  refine lv_i2l hx hb d_mMulI_3 rfl ?_
  refine lv_lmul hx hb d_mMulI_4 ?_
  refine lv_topl (fun v1 ev1 => ?_)
  refine lv_lstore_n (lv' := [(2, .long v1), (0, .int x), (1, .int y)]) hx hb d_mMulI_5 rfl hl (by decide) rfl (fun ls hl => ?_)
  refine lv_lload_n hx hb d_mMulI_6 rfl (lv_at hl 0 rfl) ?_
  refine lv_l2i hx hb d_mMulI_7 rfl ?_
  refine lv_i2l hx hb d_mMulI_8 rfl ?_
  refine lv_lload_n hx hb d_mMulI_9 rfl (lv_at hl 0 rfl) ?_
  refine W.lcmp hx hb d_mMulI_10 ?_
  refine lv_if_eq (tgt := 24) hx hb d_mMulI_11 (by decide) (fun h2 => ?_) (fun h2 => ?_)
  · rw [lg_cmp_eq] at h2
    refine lv_lload_n hx hb d_mMulI_24 rfl (lv_at hl 0 rfl) ?_
    refine lv_l2i hx hb d_mMulI_25 rfl ?_
    exact W.iret (v := v1.toInt32) hx hb hr (fun t ht _ => ⟨_, rfl, by subst ev1; rfl, ht⟩) (fun q h => by cases h) d_mMulI_26
  · rw [lg_cmp_eq] at h2
    exact absurd hok (by subst ev1; exact h2)
set_option maxHeartbeats 4000000 in
set_option maxRecDepth 100000 in
theorem t_mMulI (l : Launch) (hfl : l.flags = pinnedFlags ++ [noTraceFlag]) (x y : Int32) (hno : ¬ px_mulI x y) : tx_Met l y_mMulI (.code y_mMulI b_mMulI 4 (some .int) :: TB) ({ frames := 6, cells := 1, slots := 6, locals := 82 }) (va_Pc [.int x, .int y] tx_T) tx_QA 1 6 := by
  refine tx_ofW (cc := b_mMulI) (maxL := 4) (ret := (some .int)) (by decide +kernel) rfl ?_
  intro p e s m args below meth c s₁ B hml hv
  obtain ⟨rfl, hth⟩ := hv
  have hx := B.exec
  have hb := B.bytes
  have hr := B.returns
  have hts := atoms_spec (ws := (.code y_mMulI b_mMulI 4 (some .int) :: TB)) B.pre
  have hT : ∀ w ∈ TB, w.before _ s = true := fun w hw => hts w (List.mem_cons_of_mem _ hw)
  have hown : s.vm.findClass "java/lang/Math" = some m.cls := findClass_of_methodNamed B.named
  have hlocks := B.notSynchronized
  have hl := lv_entry ([.int x, .int y]) (n := 4) (Nat.le_of_ble_eq_true rfl)
  rw [lg_entry_eq]
  generalize (lg_sl ([.int x, .int y]) ++ List.replicate (4 - (lg_sl ([.int x, .int y])).length) Slot.unset).toArray = ls at hl ⊢
  have hl : lv_has ls 4 [(0, .int x), (1, .int y)] := hl
  refine lv_iload_n hx hb d_mMulI_0 rfl (lv_at hl 0 rfl) ?_
  refine lv_i2l hx hb d_mMulI_1 rfl ?_
  refine lv_iload_n hx hb d_mMulI_2 rfl (lv_at hl 1 rfl) ?_
  refine lv_i2l hx hb d_mMulI_3 rfl ?_
  refine lv_lmul hx hb d_mMulI_4 ?_
  refine lv_topl (fun v1 ev1 => ?_)
  refine lv_lstore_n (lv' := [(2, .long v1), (0, .int x), (1, .int y)]) hx hb d_mMulI_5 rfl hl (by decide) rfl (fun ls hl => ?_)
  refine lv_lload_n hx hb d_mMulI_6 rfl (lv_at hl 0 rfl) ?_
  refine lv_l2i hx hb d_mMulI_7 rfl ?_
  refine lv_i2l hx hb d_mMulI_8 rfl ?_
  refine lv_lload_n hx hb d_mMulI_9 rfl (lv_at hl 0 rfl) ?_
  refine W.lcmp hx hb d_mMulI_10 ?_
  refine lv_if_eq (tgt := 24) hx hb d_mMulI_11 (by decide) (fun h2 => ?_) (fun h2 => ?_)
  · rw [lg_cmp_eq] at h2
    refine lv_lload_n hx hb d_mMulI_24 rfl (lv_at hl 0 rfl) ?_
    refine lv_l2i hx hb d_mMulI_25 rfl ?_
    exact absurd (by subst ev1; exact h2) hno
  · rw [lg_cmp_eq] at h2
    exact tx_thrown (idx := 111) (tx := "integer overflow") hfl hx hb (B.noHandlers (hts _ List.mem_cons_self)) hlocks hT hth hown (hl.1.trans hml.symm) hth.2.2.2.1 d_mMulI_14 d_mMulI_17 d_mMulI_18 d_mMulI_20 d_mMulI_23 ⟨Nat.le_refl _, Nat.le_refl _, Nat.le_refl _, Nat.le_refl _⟩
set_option maxHeartbeats 4000000 in
set_option maxRecDepth 100000 in
theorem c_mToI (l : Launch) (x : Int64) (hok : px_toI x) : Met l y_mToI (.code y_mToI b_mToI 2 (some .int) :: TB) ({ frames := 0, cells := 0, slots := 0, locals := 0 }) (va_Pc [.long x] (fun _ => True)) (qx_I (fun r => r = x.toInt32)) 0 0 (fun _ => False) := by
  refine va_MetF (cc := b_mToI) (maxL := 2) (ret := (some .int)) (by decide +kernel) rfl ?_
  intro p e s m args below meth c s₁ B hml hv
  obtain ⟨rfl, -⟩ := hv
  have hx := B.exec
  have hb := B.bytes
  have hr := B.returns
  have hts := atoms_spec (ws := (.code y_mToI b_mToI 2 (some .int) :: TB)) B.pre
  have hT : ∀ w ∈ TB, w.before _ s = true := fun w hw => hts w (List.mem_cons_of_mem _ hw)
  have hown : s.vm.findClass "java/lang/Math" = some m.cls := findClass_of_methodNamed B.named
  have hlocks := B.notSynchronized
  have hl := lv_entry ([.long x]) (n := 2) (Nat.le_of_ble_eq_true rfl)
  rw [lg_entry_eq]
  generalize (lg_sl ([.long x]) ++ List.replicate (2 - (lg_sl ([.long x])).length) Slot.unset).toArray = ls at hl ⊢
  have hl : lv_has ls 2 [(0, .long x)] := hl
  refine lv_lload_n hx hb d_mToI_0 rfl (lv_at hl 0 rfl) ?_
  refine lv_l2i hx hb d_mToI_1 rfl ?_
  refine lv_i2l hx hb d_mToI_2 rfl ?_
  refine lv_lload_n hx hb d_mToI_3 rfl (lv_at hl 0 rfl) ?_
  refine W.lcmp hx hb d_mToI_4 ?_
  refine lv_if_eq (tgt := 18) hx hb d_mToI_5 (by decide) (fun h1 => ?_) (fun h1 => ?_)
  · rw [lg_cmp_eq] at h1
    refine lv_lload_n hx hb d_mToI_18 rfl (lv_at hl 0 rfl) ?_
    refine lv_l2i hx hb d_mToI_19 rfl ?_
    exact W.iret (v := x.toInt32) hx hb hr (fun t ht _ => ⟨_, rfl, by rfl, ht⟩) (fun q h => by cases h) d_mToI_20
  · rw [lg_cmp_eq] at h1
    exact absurd hok (by exact h1)
set_option maxHeartbeats 4000000 in
set_option maxRecDepth 100000 in
theorem t_mToI (l : Launch) (hfl : l.flags = pinnedFlags ++ [noTraceFlag]) (x : Int64) (hno : ¬ px_toI x) : tx_Met l y_mToI (.code y_mToI b_mToI 2 (some .int) :: TB) ({ frames := 6, cells := 1, slots := 6, locals := 82 }) (va_Pc [.long x] tx_T) tx_QA 1 6 := by
  refine tx_ofW (cc := b_mToI) (maxL := 2) (ret := (some .int)) (by decide +kernel) rfl ?_
  intro p e s m args below meth c s₁ B hml hv
  obtain ⟨rfl, hth⟩ := hv
  have hx := B.exec
  have hb := B.bytes
  have hr := B.returns
  have hts := atoms_spec (ws := (.code y_mToI b_mToI 2 (some .int) :: TB)) B.pre
  have hT : ∀ w ∈ TB, w.before _ s = true := fun w hw => hts w (List.mem_cons_of_mem _ hw)
  have hown : s.vm.findClass "java/lang/Math" = some m.cls := findClass_of_methodNamed B.named
  have hlocks := B.notSynchronized
  have hl := lv_entry ([.long x]) (n := 2) (Nat.le_of_ble_eq_true rfl)
  rw [lg_entry_eq]
  generalize (lg_sl ([.long x]) ++ List.replicate (2 - (lg_sl ([.long x])).length) Slot.unset).toArray = ls at hl ⊢
  have hl : lv_has ls 2 [(0, .long x)] := hl
  refine lv_lload_n hx hb d_mToI_0 rfl (lv_at hl 0 rfl) ?_
  refine lv_l2i hx hb d_mToI_1 rfl ?_
  refine lv_i2l hx hb d_mToI_2 rfl ?_
  refine lv_lload_n hx hb d_mToI_3 rfl (lv_at hl 0 rfl) ?_
  refine W.lcmp hx hb d_mToI_4 ?_
  refine lv_if_eq (tgt := 18) hx hb d_mToI_5 (by decide) (fun h1 => ?_) (fun h1 => ?_)
  · rw [lg_cmp_eq] at h1
    refine lv_lload_n hx hb d_mToI_18 rfl (lv_at hl 0 rfl) ?_
    refine lv_l2i hx hb d_mToI_19 rfl ?_
    exact absurd (by exact h1) hno
  · rw [lg_cmp_eq] at h1
    exact tx_thrown (idx := 111) (tx := "integer overflow") hfl hx hb (B.noHandlers (hts _ List.mem_cons_self)) hlocks hT hth hown (hl.1.trans hml.symm) hth.2.2.2.1 d_mToI_8 d_mToI_11 d_mToI_12 d_mToI_14 d_mToI_17 ⟨Nat.le_refl _, Nat.le_refl _, Nat.le_refl _, Nat.le_refl _⟩
set_option maxHeartbeats 4000000 in
set_option maxRecDepth 100000 in
theorem c_mNeg (l : Launch) (x : Int64) (hok : px_neg x) : Met l y_mNeg (.code y_mNeg b_mNeg 2 (some .long) :: TB) ({ frames := 0, cells := 0, slots := 0, locals := 0 }) (va_Pc [.long x] (fun _ => True)) (qx_L (fun r => r = -x)) 0 0 (fun _ => False) := by
  refine va_MetF (cc := b_mNeg) (maxL := 2) (ret := (some .long)) (by decide +kernel) rfl ?_
  intro p e s m args below meth c s₁ B hml hv
  obtain ⟨rfl, -⟩ := hv
  have hx := B.exec
  have hb := B.bytes
  have hr := B.returns
  have hts := atoms_spec (ws := (.code y_mNeg b_mNeg 2 (some .long) :: TB)) B.pre
  have hT : ∀ w ∈ TB, w.before _ s = true := fun w hw => hts w (List.mem_cons_of_mem _ hw)
  have hown : s.vm.findClass "java/lang/Math" = some m.cls := findClass_of_methodNamed B.named
  have hlocks := B.notSynchronized
  have hl := lv_entry ([.long x]) (n := 2) (Nat.le_of_ble_eq_true rfl)
  rw [lg_entry_eq]
  generalize (lg_sl ([.long x]) ++ List.replicate (2 - (lg_sl ([.long x])).length) Slot.unset).toArray = ls at hl ⊢
  have hl : lv_has ls 2 [(0, .long x)] := hl
  refine lv_lload_n hx hb d_mNeg_0 rfl (lv_at hl 0 rfl) ?_
  refine lv_ldc2 (v := (-9223372036854775808)) hx hb hown (hT _ tb_132) d_mNeg_1 ?_
  refine W.lcmp hx hb d_mNeg_4 ?_
  refine lv_if_ne (tgt := 18) hx hb d_mNeg_5 (by decide) (fun h1 => ?_) (fun h1 => ?_)
  · rw [lg_cmp_eq] at h1
    refine lv_lload_n hx hb d_mNeg_18 rfl (lv_at hl 0 rfl) ?_
    refine lv_lneg hx hb d_mNeg_19 ?_
    exact W.lret (v := -x) hx hb hr (fun t ht _ => ⟨_, rfl, by rfl, ht⟩) (fun q h => by cases h) d_mNeg_20
  · rw [lg_cmp_eq] at h1
    exact absurd hok (by exact fun h => h h1)
set_option maxHeartbeats 4000000 in
set_option maxRecDepth 100000 in
theorem t_mNeg (l : Launch) (hfl : l.flags = pinnedFlags ++ [noTraceFlag]) (x : Int64) (hno : ¬ px_neg x) : tx_Met l y_mNeg (.code y_mNeg b_mNeg 2 (some .long) :: TB) ({ frames := 6, cells := 1, slots := 6, locals := 82 }) (va_Pc [.long x] tx_T) tx_QA 1 6 := by
  refine tx_ofW (cc := b_mNeg) (maxL := 2) (ret := (some .long)) (by decide +kernel) rfl ?_
  intro p e s m args below meth c s₁ B hml hv
  obtain ⟨rfl, hth⟩ := hv
  have hx := B.exec
  have hb := B.bytes
  have hr := B.returns
  have hts := atoms_spec (ws := (.code y_mNeg b_mNeg 2 (some .long) :: TB)) B.pre
  have hT : ∀ w ∈ TB, w.before _ s = true := fun w hw => hts w (List.mem_cons_of_mem _ hw)
  have hown : s.vm.findClass "java/lang/Math" = some m.cls := findClass_of_methodNamed B.named
  have hlocks := B.notSynchronized
  have hl := lv_entry ([.long x]) (n := 2) (Nat.le_of_ble_eq_true rfl)
  rw [lg_entry_eq]
  generalize (lg_sl ([.long x]) ++ List.replicate (2 - (lg_sl ([.long x])).length) Slot.unset).toArray = ls at hl ⊢
  have hl : lv_has ls 2 [(0, .long x)] := hl
  refine lv_lload_n hx hb d_mNeg_0 rfl (lv_at hl 0 rfl) ?_
  refine lv_ldc2 (v := (-9223372036854775808)) hx hb hown (hT _ tb_132) d_mNeg_1 ?_
  refine W.lcmp hx hb d_mNeg_4 ?_
  refine lv_if_ne (tgt := 18) hx hb d_mNeg_5 (by decide) (fun h1 => ?_) (fun h1 => ?_)
  · rw [lg_cmp_eq] at h1
    refine lv_lload_n hx hb d_mNeg_18 rfl (lv_at hl 0 rfl) ?_
    refine lv_lneg hx hb d_mNeg_19 ?_
    exact absurd (by exact h1) hno
  · rw [lg_cmp_eq] at h1
    exact tx_thrown (idx := 116) (tx := "long overflow") hfl hx hb (B.noHandlers (hts _ List.mem_cons_self)) hlocks hT hth hown (hl.1.trans hml.symm) hth.2.2.2.2 d_mNeg_8 d_mNeg_11 d_mNeg_12 d_mNeg_14 d_mNeg_17 ⟨Nat.le_refl _, Nat.le_refl _, Nat.le_refl _, Nat.le_refl _⟩
set_option maxHeartbeats 4000000 in
set_option maxRecDepth 100000 in
theorem c_mMulJ (l : Launch) (x y : Int64) (hok : px_mulJ x y) : Met l y_mMulJ (.code y_mMulJ b_mMulJ 10 (some .long) :: TB) ({ frames := 1, cells := 0, slots := 0, locals := 21 }) (va_Pc [.long x, .long y] (fun _ => True)) (qx_L (fun r => r = x * y)) 0 0 (fun _ => False) := by
  refine va_MetF (cc := b_mMulJ) (maxL := 10) (ret := (some .long)) (by decide +kernel) rfl ?_
  intro p e s m args below meth c s₁ B hml hv
  obtain ⟨rfl, -⟩ := hv
  have hx := B.exec
  have hb := B.bytes
  have hr := B.returns
  have hts := atoms_spec (ws := (.code y_mMulJ b_mMulJ 10 (some .long) :: TB)) B.pre
  have hT : ∀ w ∈ TB, w.before _ s = true := fun w hw => hts w (List.mem_cons_of_mem _ hw)
  have hown : s.vm.findClass "java/lang/Math" = some m.cls := findClass_of_methodNamed B.named
  have hlocks := B.notSynchronized
  have hl := lv_entry ([.long x, .long y]) (n := 10) (Nat.le_of_ble_eq_true rfl)
  rw [lg_entry_eq]
  generalize (lg_sl ([.long x, .long y]) ++ List.replicate (10 - (lg_sl ([.long x, .long y])).length) Slot.unset).toArray = ls at hl ⊢
  have hl : lv_has ls 10 [(0, .long x), (2, .long y)] := hl
  refine lv_lload_n hx hb d_mMulJ_0 rfl (lv_at hl 0 rfl) ?_
  refine lv_lload_n hx hb d_mMulJ_1 rfl (lv_at hl 1 rfl) ?_
  refine lv_lmul hx hb d_mMulJ_2 ?_
  refine lv_topl (fun v1 ev1 => ?_)
  refine lv_lstore (lv' := [(4, .long v1), (0, .long x), (2, .long y)]) hx hb d_mMulJ_3 hl (by decide) rfl (fun ls hl => ?_)
  refine lv_lload_n hx hb d_mMulJ_5 rfl (lv_at hl 1 rfl) ?_
  refine qx_callL (va_runS (As := [.long x]) (rest := []) ⟨hx, hb, hml, hown, hT⟩ (c_mAbs l x) (va_cwS 1 hT (gi_S (fun _ h => h) tb_129 tb_130 tb_2 tb_131) rfl rfl rfl ⟨by decide, by decide, by decide +kernel⟩ ⟨Nat.le_of_ble_eq_true rfl, Nat.le_of_ble_eq_true rfl⟩) ⟨fun _ _ _ _ q => q, fun _ _ _ => ⟨rfl, trivial⟩⟩ rfl rfl hl.1 rfl (lv_room (Nat.le_of_ble_eq_true rfl)) d_mMulJ_6 ⟨Nat.zero_le _, Nat.zero_le _⟩) (fun r2 er2 => ?_)
  refine lv_lstore (lv' := [(6, .long r2), (4, .long v1), (0, .long x), (2, .long y)]) hx hb d_mMulJ_9 hl (by decide) rfl (fun ls hl => ?_)
  refine lv_lload_n hx hb d_mMulJ_11 rfl (lv_at hl 3 rfl) ?_
  refine qx_callL (va_runS (As := [.long y]) (rest := []) ⟨hx, hb, hml, hown, hT⟩ (c_mAbs l y) (va_cwS 1 hT (gi_S (fun _ h => h) tb_129 tb_130 tb_2 tb_131) rfl rfl rfl ⟨by decide, by decide, by decide +kernel⟩ ⟨Nat.le_of_ble_eq_true rfl, Nat.le_of_ble_eq_true rfl⟩) ⟨fun _ _ _ _ q => q, fun _ _ _ => ⟨rfl, trivial⟩⟩ rfl rfl hl.1 rfl (lv_room (Nat.le_of_ble_eq_true rfl)) d_mMulJ_12 ⟨Nat.zero_le _, Nat.zero_le _⟩) (fun r3 er3 => ?_)
  refine lv_lstore (lv' := [(8, .long r3), (6, .long r2), (4, .long v1), (0, .long x), (2, .long y)]) hx hb d_mMulJ_15 hl (by decide) rfl (fun ls hl => ?_)
  refine lv_lload hx hb d_mMulJ_17 (lv_at hl 1 rfl) ?_
  refine lv_lload hx hb d_mMulJ_19 (lv_at hl 0 rfl) ?_
  refine lv_lor hx hb d_mMulJ_21 ?_
  refine lv_bipush (v := 31) hx hb d_mMulJ_22 (by decide) ?_
  refine lv_lushr hx hb d_mMulJ_24 rfl ?_
  refine lv_lconst (v := 0) hx hb d_mMulJ_25 (by decide) ?_
  refine W.lcmp hx hb d_mMulJ_26 ?_
  refine lv_if_eq (tgt := 71) hx hb d_mMulJ_27 (by decide) (fun h4 => ?_) (fun h4 => ?_)
  · rw [lg_cmp_eq] at h4
    refine lv_lload hx hb d_mMulJ_71 (lv_at hl 2 rfl) ?_
    exact W.lret (v := v1) hx hb hr (fun t ht _ => ⟨_, rfl, by subst er3; subst er2; subst ev1; rfl, ht⟩) (fun q h => by cases h) d_mMulJ_73
  · rw [lg_cmp_eq] at h4
    refine lv_lload_n hx hb d_mMulJ_30 rfl (lv_at hl 4 rfl) ?_
    refine lv_lconst (v := 0) hx hb d_mMulJ_31 (by decide) ?_
    refine W.lcmp hx hb d_mMulJ_32 ?_
    refine lv_if_eq (tgt := 45) hx hb d_mMulJ_33 (by decide) (fun h5 => ?_) (fun h5 => ?_)
    · rw [lg_cmp_eq] at h5
      refine lv_lload_n hx hb d_mMulJ_45 rfl (lv_at hl 3 rfl) ?_
      refine lv_ldc2 (v := (-9223372036854775808)) hx hb hown (hT _ tb_132) d_mMulJ_46 ?_
      refine W.lcmp hx hb d_mMulJ_49 ?_
      refine lv_if_ne (tgt := 71) hx hb d_mMulJ_50 (by decide) (fun h6 => ?_) (fun h6 => ?_)
      · rw [lg_cmp_eq] at h6
        refine lv_lload hx hb d_mMulJ_71 (lv_at hl 2 rfl) ?_
        exact W.lret (v := v1) hx hb hr (fun t ht _ => ⟨_, rfl, by subst er3; subst er2; subst ev1; rfl, ht⟩) (fun q h => by cases h) d_mMulJ_73
      · rw [lg_cmp_eq] at h6
        refine lv_lload_n hx hb d_mMulJ_53 rfl (lv_at hl 4 rfl) ?_
        refine lv_ldc2 (v := (-1)) hx hb hown (hT _ tb_133) d_mMulJ_54 ?_
        refine W.lcmp hx hb d_mMulJ_57 ?_
        refine lv_if_ne (tgt := 71) hx hb d_mMulJ_58 (by decide) (fun h7 => ?_) (fun h7 => ?_)
        · rw [lg_cmp_eq] at h7
          refine lv_lload hx hb d_mMulJ_71 (lv_at hl 2 rfl) ?_
          exact W.lret (v := v1) hx hb hr (fun t ht _ => ⟨_, rfl, by subst er3; subst er2; subst ev1; rfl, ht⟩) (fun q h => by cases h) d_mMulJ_73
        · rw [lg_cmp_eq] at h7
          exact absurd hok (by subst er3; subst er2; subst ev1; unfold px_mulJ; simp_all)
    · rw [lg_cmp_eq] at h5
      refine lv_lload hx hb d_mMulJ_36 (lv_at hl 2 rfl) ?_
      refine lv_lload_n hx hb d_mMulJ_38 rfl (lv_at hl 4 rfl) ?_
      refine lv_ldiv hx hb d_mMulJ_39 h5 ?_
      refine lv_lload_n hx hb d_mMulJ_40 rfl (lv_at hl 3 rfl) ?_
      refine W.lcmp hx hb d_mMulJ_41 ?_
      refine lv_if_ne (tgt := 61) hx hb d_mMulJ_42 (by decide) (fun h8 => ?_) (fun h8 => ?_)
      · rw [lg_cmp_eq] at h8
        exact absurd hok (by subst er3; subst er2; subst ev1; unfold px_mulJ; simp_all)
      · rw [lg_cmp_eq] at h8
        refine lv_lload_n hx hb d_mMulJ_45 rfl (lv_at hl 3 rfl) ?_
        refine lv_ldc2 (v := (-9223372036854775808)) hx hb hown (hT _ tb_132) d_mMulJ_46 ?_
        refine W.lcmp hx hb d_mMulJ_49 ?_
        refine lv_if_ne (tgt := 71) hx hb d_mMulJ_50 (by decide) (fun h9 => ?_) (fun h9 => ?_)
        · rw [lg_cmp_eq] at h9
          refine lv_lload hx hb d_mMulJ_71 (lv_at hl 2 rfl) ?_
          exact W.lret (v := v1) hx hb hr (fun t ht _ => ⟨_, rfl, by subst er3; subst er2; subst ev1; rfl, ht⟩) (fun q h => by cases h) d_mMulJ_73
        · rw [lg_cmp_eq] at h9
          refine lv_lload_n hx hb d_mMulJ_53 rfl (lv_at hl 4 rfl) ?_
          refine lv_ldc2 (v := (-1)) hx hb hown (hT _ tb_133) d_mMulJ_54 ?_
          refine W.lcmp hx hb d_mMulJ_57 ?_
          refine lv_if_ne (tgt := 71) hx hb d_mMulJ_58 (by decide) (fun h10 => ?_) (fun h10 => ?_)
          · rw [lg_cmp_eq] at h10
            refine lv_lload hx hb d_mMulJ_71 (lv_at hl 2 rfl) ?_
            exact W.lret (v := v1) hx hb hr (fun t ht _ => ⟨_, rfl, by subst er3; subst er2; subst ev1; rfl, ht⟩) (fun q h => by cases h) d_mMulJ_73
          · rw [lg_cmp_eq] at h10
            exact absurd hok (by subst er3; subst er2; subst ev1; unfold px_mulJ; simp_all)
set_option maxHeartbeats 4000000 in
set_option maxRecDepth 100000 in
theorem t_mMulJ (l : Launch) (hfl : l.flags = pinnedFlags ++ [noTraceFlag]) (x y : Int64) (hno : ¬ px_mulJ x y) : tx_Met l y_mMulJ (.code y_mMulJ b_mMulJ 10 (some .long) :: TB) ({ frames := 6, cells := 1, slots := 6, locals := 82 }) (va_Pc [.long x, .long y] tx_T) tx_QA 1 6 := by
  refine tx_ofW (cc := b_mMulJ) (maxL := 10) (ret := (some .long)) (by decide +kernel) rfl ?_
  intro p e s m args below meth c s₁ B hml hv
  obtain ⟨rfl, hth⟩ := hv
  have hx := B.exec
  have hb := B.bytes
  have hr := B.returns
  have hts := atoms_spec (ws := (.code y_mMulJ b_mMulJ 10 (some .long) :: TB)) B.pre
  have hT : ∀ w ∈ TB, w.before _ s = true := fun w hw => hts w (List.mem_cons_of_mem _ hw)
  have hown : s.vm.findClass "java/lang/Math" = some m.cls := findClass_of_methodNamed B.named
  have hlocks := B.notSynchronized
  have hl := lv_entry ([.long x, .long y]) (n := 10) (Nat.le_of_ble_eq_true rfl)
  rw [lg_entry_eq]
  generalize (lg_sl ([.long x, .long y]) ++ List.replicate (10 - (lg_sl ([.long x, .long y])).length) Slot.unset).toArray = ls at hl ⊢
  have hl : lv_has ls 10 [(0, .long x), (2, .long y)] := hl
  refine lv_lload_n hx hb d_mMulJ_0 rfl (lv_at hl 0 rfl) ?_
  refine lv_lload_n hx hb d_mMulJ_1 rfl (lv_at hl 1 rfl) ?_
  refine lv_lmul hx hb d_mMulJ_2 ?_
  refine lv_topl (fun v1 ev1 => ?_)
  refine lv_lstore (lv' := [(4, .long v1), (0, .long x), (2, .long y)]) hx hb d_mMulJ_3 hl (by decide) rfl (fun ls hl => ?_)
  refine lv_lload_n hx hb d_mMulJ_5 rfl (lv_at hl 1 rfl) ?_
  refine qx_callL (va_runS (As := [.long x]) (rest := []) ⟨hx, hb, hml, hown, hT⟩ (c_mAbs l x) (va_cwS 1 hT (gi_S (fun _ h => h) tb_129 tb_130 tb_2 tb_131) rfl rfl rfl ⟨by decide, by decide, by decide +kernel⟩ ⟨Nat.le_of_ble_eq_true rfl, Nat.le_of_ble_eq_true rfl⟩) ⟨fun _ _ _ _ q => q, fun _ _ _ => ⟨rfl, trivial⟩⟩ rfl rfl hl.1 rfl (lv_room (Nat.le_of_ble_eq_true rfl)) d_mMulJ_6 ⟨Nat.zero_le _, Nat.zero_le _⟩) (fun r2 er2 => ?_)
  refine lv_lstore (lv' := [(6, .long r2), (4, .long v1), (0, .long x), (2, .long y)]) hx hb d_mMulJ_9 hl (by decide) rfl (fun ls hl => ?_)
  refine lv_lload_n hx hb d_mMulJ_11 rfl (lv_at hl 3 rfl) ?_
  refine qx_callL (va_runS (As := [.long y]) (rest := []) ⟨hx, hb, hml, hown, hT⟩ (c_mAbs l y) (va_cwS 1 hT (gi_S (fun _ h => h) tb_129 tb_130 tb_2 tb_131) rfl rfl rfl ⟨by decide, by decide, by decide +kernel⟩ ⟨Nat.le_of_ble_eq_true rfl, Nat.le_of_ble_eq_true rfl⟩) ⟨fun _ _ _ _ q => q, fun _ _ _ => ⟨rfl, trivial⟩⟩ rfl rfl hl.1 rfl (lv_room (Nat.le_of_ble_eq_true rfl)) d_mMulJ_12 ⟨Nat.zero_le _, Nat.zero_le _⟩) (fun r3 er3 => ?_)
  refine lv_lstore (lv' := [(8, .long r3), (6, .long r2), (4, .long v1), (0, .long x), (2, .long y)]) hx hb d_mMulJ_15 hl (by decide) rfl (fun ls hl => ?_)
  refine lv_lload hx hb d_mMulJ_17 (lv_at hl 1 rfl) ?_
  refine lv_lload hx hb d_mMulJ_19 (lv_at hl 0 rfl) ?_
  refine lv_lor hx hb d_mMulJ_21 ?_
  refine lv_bipush (v := 31) hx hb d_mMulJ_22 (by decide) ?_
  refine lv_lushr hx hb d_mMulJ_24 rfl ?_
  refine lv_lconst (v := 0) hx hb d_mMulJ_25 (by decide) ?_
  refine W.lcmp hx hb d_mMulJ_26 ?_
  refine lv_if_eq (tgt := 71) hx hb d_mMulJ_27 (by decide) (fun h4 => ?_) (fun h4 => ?_)
  · rw [lg_cmp_eq] at h4
    refine lv_lload hx hb d_mMulJ_71 (lv_at hl 2 rfl) ?_
    exact absurd (by subst er3; subst er2; subst ev1; unfold px_mulJ; simp_all) hno
  · rw [lg_cmp_eq] at h4
    refine lv_lload_n hx hb d_mMulJ_30 rfl (lv_at hl 4 rfl) ?_
    refine lv_lconst (v := 0) hx hb d_mMulJ_31 (by decide) ?_
    refine W.lcmp hx hb d_mMulJ_32 ?_
    refine lv_if_eq (tgt := 45) hx hb d_mMulJ_33 (by decide) (fun h5 => ?_) (fun h5 => ?_)
    · rw [lg_cmp_eq] at h5
      refine lv_lload_n hx hb d_mMulJ_45 rfl (lv_at hl 3 rfl) ?_
      refine lv_ldc2 (v := (-9223372036854775808)) hx hb hown (hT _ tb_132) d_mMulJ_46 ?_
      refine W.lcmp hx hb d_mMulJ_49 ?_
      refine lv_if_ne (tgt := 71) hx hb d_mMulJ_50 (by decide) (fun h6 => ?_) (fun h6 => ?_)
      · rw [lg_cmp_eq] at h6
        refine lv_lload hx hb d_mMulJ_71 (lv_at hl 2 rfl) ?_
        exact absurd (by subst er3; subst er2; subst ev1; unfold px_mulJ; simp_all) hno
      · rw [lg_cmp_eq] at h6
        refine lv_lload_n hx hb d_mMulJ_53 rfl (lv_at hl 4 rfl) ?_
        refine lv_ldc2 (v := (-1)) hx hb hown (hT _ tb_133) d_mMulJ_54 ?_
        refine W.lcmp hx hb d_mMulJ_57 ?_
        refine lv_if_ne (tgt := 71) hx hb d_mMulJ_58 (by decide) (fun h7 => ?_) (fun h7 => ?_)
        · rw [lg_cmp_eq] at h7
          refine lv_lload hx hb d_mMulJ_71 (lv_at hl 2 rfl) ?_
          exact absurd (by subst er3; subst er2; subst ev1; unfold px_mulJ; simp_all) hno
        · rw [lg_cmp_eq] at h7
          exact tx_thrown (idx := 116) (tx := "long overflow") hfl hx hb (B.noHandlers (hts _ List.mem_cons_self)) hlocks hT hth hown (hl.1.trans hml.symm) hth.2.2.2.2 d_mMulJ_61 d_mMulJ_64 d_mMulJ_65 d_mMulJ_67 d_mMulJ_70 ⟨Nat.le_refl _, Nat.le_refl _, Nat.le_refl _, Nat.le_refl _⟩
    · rw [lg_cmp_eq] at h5
      refine lv_lload hx hb d_mMulJ_36 (lv_at hl 2 rfl) ?_
      refine lv_lload_n hx hb d_mMulJ_38 rfl (lv_at hl 4 rfl) ?_
      refine lv_ldiv hx hb d_mMulJ_39 h5 ?_
      refine lv_lload_n hx hb d_mMulJ_40 rfl (lv_at hl 3 rfl) ?_
      refine W.lcmp hx hb d_mMulJ_41 ?_
      refine lv_if_ne (tgt := 61) hx hb d_mMulJ_42 (by decide) (fun h8 => ?_) (fun h8 => ?_)
      · rw [lg_cmp_eq] at h8
        exact tx_thrown (idx := 116) (tx := "long overflow") hfl hx hb (B.noHandlers (hts _ List.mem_cons_self)) hlocks hT hth hown (hl.1.trans hml.symm) hth.2.2.2.2 d_mMulJ_61 d_mMulJ_64 d_mMulJ_65 d_mMulJ_67 d_mMulJ_70 ⟨Nat.le_refl _, Nat.le_refl _, Nat.le_refl _, Nat.le_refl _⟩
      · rw [lg_cmp_eq] at h8
        refine lv_lload_n hx hb d_mMulJ_45 rfl (lv_at hl 3 rfl) ?_
        refine lv_ldc2 (v := (-9223372036854775808)) hx hb hown (hT _ tb_132) d_mMulJ_46 ?_
        refine W.lcmp hx hb d_mMulJ_49 ?_
        refine lv_if_ne (tgt := 71) hx hb d_mMulJ_50 (by decide) (fun h9 => ?_) (fun h9 => ?_)
        · rw [lg_cmp_eq] at h9
          refine lv_lload hx hb d_mMulJ_71 (lv_at hl 2 rfl) ?_
          exact absurd (by subst er3; subst er2; subst ev1; unfold px_mulJ; simp_all) hno
        · rw [lg_cmp_eq] at h9
          refine lv_lload_n hx hb d_mMulJ_53 rfl (lv_at hl 4 rfl) ?_
          refine lv_ldc2 (v := (-1)) hx hb hown (hT _ tb_133) d_mMulJ_54 ?_
          refine W.lcmp hx hb d_mMulJ_57 ?_
          refine lv_if_ne (tgt := 71) hx hb d_mMulJ_58 (by decide) (fun h10 => ?_) (fun h10 => ?_)
          · rw [lg_cmp_eq] at h10
            refine lv_lload hx hb d_mMulJ_71 (lv_at hl 2 rfl) ?_
            exact absurd (by subst er3; subst er2; subst ev1; unfold px_mulJ; simp_all) hno
          · rw [lg_cmp_eq] at h10
            exact tx_thrown (idx := 116) (tx := "long overflow") hfl hx hb (B.noHandlers (hts _ List.mem_cons_self)) hlocks hT hth hown (hl.1.trans hml.symm) hth.2.2.2.2 d_mMulJ_61 d_mMulJ_64 d_mMulJ_65 d_mMulJ_67 d_mMulJ_70 ⟨Nat.le_refl _, Nat.le_refl _, Nat.le_refl _, Nat.le_refl _⟩
end
section
/-! MathDrill -/
theorem tx_tab {c : Code} {a b d k : Nat} (h : c.exceptionTable.toList.map (fun h => (h.startPc, h.endPc, h.handlerPc, h.catchType)) = [(a, b, d, k)]) : ∃ x0 : ExceptionTableEntry, c.exceptionTable.toList = [x0] ∧ x0.startPc = a ∧ x0.endPc = b ∧ x0.handlerPc = d ∧ x0.catchType = k := by
  cases hl : c.exceptionTable.toList with
  | nil => rw [hl] at h; cases h
  | cons x r =>
    cases r with
    | nil => rw [hl] at h; simp at h; exact ⟨x, rfl, h⟩
    | cons y r => rw [hl] at h; simp at h
theorem tx_htab {p : Program} {l : Launch} {x : MethodName} {S : Spec} {code : ByteArray} {maxLocals : Nat} {ret : Option FieldType} {e : Env} {s : State} {m : MethodId} {args : Array Value} {below : List Frame} {meth : Method} {c : Code} {s₁ : State} {hh : List (Nat × Nat × Nat × Nat)}
    (B : BodyLoose p l x S code maxLocals ret e s m args below meth c s₁) (h : (Jvm.Cond.codeWith x code maxLocals ret hh).before args s = true) : c.exceptionTable.toList.map (fun h => (h.startPc, h.endPc, h.handlerPc, h.catchType)) = hh := by
  obtain ⟨m', meth', c', hn', hm', hc', -, -, he', -⟩ := Cond.codeWith_spec h
  cases B.named.symm.trans hn'
  cases B.method.symm.trans hm'
  cases (Stand.of_body B).code.symm.trans hc'
  exact he'
theorem tx_cov {x0 : ExceptionTableEntry} {a b pc : Nat} (e1 : x0.startPc = a) (e2 : x0.endPc = b) (h : (decide (a ≤ pc) && decide (pc < b)) = true) : covers x0 pc = true := by
  unfold covers; rw [e1, e2]; exact h
theorem tx_thr {s : State} {As : Array Value} : ∀ st x t, s.vm.Alike st.vm → tx_QA As st x t → ∃ cell : Cell, t.heap[x]? = some cell ∧ cell.vm.isStatics = false ∧ s.vm.findClass tx_AE = some cell.cls ∧ s.vm.assignable cell.cls cell.cls = true := by
  intro st x t hal hq
  obtain ⟨cell, h1, h2, h3, h4⟩ := hq
  rw [hal.findClass] at h3
  rw [hal.assignable] at h4
  exact ⟨cell, h1, h2, h3, h4⟩
def qx_V : Array Value → State → Outcome → State → Prop := fun _ st o t => o = .returned none ∧ t.heap = st.heap
set_option maxHeartbeats 4000000 in
set_option maxRecDepth 100000 in
theorem c_dAddI (l : Launch) (hfl : l.flags = pinnedFlags ++ [noTraceFlag]) (D : va_G) (x0 : Nat) (ov : Int32) (a b : Int32) : Met l y_dAddI (.codeWith y_dAddI b_dAddI 4 (some .int) [(5, 10, 11, 19)] :: TB) ({ frames := 7, cells := 1, slots := 6, locals := 104 }) (va_Pc [.ref x0, .int a, .int b] (fun U => ox_O D U U.heap x0 ov ∧ tx_T U)) (qx_MI D x0 (fun r v => (px_addI a b → r = a + b ∧ v = 0) ∧ (¬ px_addI a b → r = 0 ∧ v = 1))) 1 6 (fun q => q = x0) := by
  refine va_MetW (hh := [(5, 10, 11, 19)]) (cc := b_dAddI) (maxL := 4) (ret := (some .int)) (by decide +kernel) rfl ?_
  intro p e s m args below meth c s₁ B hml hv
  obtain ⟨rfl, hO, hth⟩ := hv
  have hx := B.exec
  have hb := B.bytes
  have hr := B.returns
  have hts := atoms_spec (ws := (.codeWith y_dAddI b_dAddI 4 (some .int) [(5, 10, 11, 19)] :: TB)) B.pre
  have hT : ∀ w ∈ TB, w.before _ s = true := fun w hw => hts w (List.mem_cons_of_mem _ hw)
  have hown : s.vm.findClass "MathDrill" = some m.cls := findClass_of_methodNamed B.named
  have hlocks := B.notSynchronized
  have hl := lv_entry ([.ref x0, .int a, .int b]) (n := 4) (Nat.le_of_ble_eq_true rfl)
  rw [lg_entry_eq]
  generalize (lg_sl ([.ref x0, .int a, .int b]) ++ List.replicate (4 - (lg_sl ([.ref x0, .int a, .int b])).length) Slot.unset).toArray = ls at hl ⊢
  have hl : lv_has ls 4 [(0, .ref x0), (1, .int a), (2, .int b)] := hl
  obtain ⟨xt, htab, ht1, ht2, ht3, ht4⟩ := tx_tab (tx_htab B (hts _ List.mem_cons_self))
  refine lv_aload_n hx hb d_dAddI_0 rfl (lv_at hl 0 rfl) ?_
  refine lv_iconst (v := 0) hx hb d_dAddI_1 (by decide) ?_
  refine va_put (D := D) (ci := 0) (v := .int 0) (ty := .boolean) (C := R_MD) (T := F_MD) (N := 1) hx hb hT in_MD t_MD t_MD_ok n_MD hown hO.2 hO.1 ox_D va_S.rf 0 rfl rfl 0 (by decide) (hT _ tb_15) (fun _ h9 => h9) rfl (by decide +kernel) rfl rfl (Nat.le_of_ble_eq_true rfl) d_dAddI_2 (fun H locs hP hD hS => ?_)
  have hP : va_P D clD [(x0, .inr (0, [.int 0]))] H := hP
  refine lv_iload_n hx hb d_dAddI_5 rfl (lv_at hl 1 rfl) ?_
  refine lv_iload_n hx hb d_dAddI_6 rfl (lv_at hl 2 rfl) ?_
  by_cases hc : px_addI a b
  · refine qx_callI (va_runS (As := [.int a, .int b]) (rest := []) ⟨hx, hb, hml, hown, hT⟩ (c_mAddI l a b hc) (va_cwS 2 hT (gi_S (fun _ h => h) tb_24 tb_25 tb_2 tb_26) rfl rfl rfl ⟨by decide, by decide, by decide +kernel⟩ ⟨Nat.le_of_ble_eq_true rfl, Nat.le_of_ble_eq_true rfl⟩) ⟨fun _ _ _ _ q => q, fun _ _ _ => ⟨rfl, trivial⟩⟩ rfl rfl hl.1 rfl (lv_room (Nat.le_of_ble_eq_true rfl)) d_dAddI_7 ⟨Nat.zero_le _, Nat.zero_le _⟩) (fun r er => ?_)
    refine W.widen (k := 1) (n := 6) (by omega) (by omega) ?_
    exact W.iret (v := r) hx hb hr (fun t ht hW => ⟨r, 0, rfl, ⟨fun _ => ⟨er, rfl⟩, fun h => absurd hc h⟩, ⟨by rw [ht]; exact hP, va_K.moved hW.alike hO.2⟩, hS.F ht⟩) hS.2.2 d_dAddI_10
  · refine tx_runS (As := [.int a, .int b]) (rest := []) (g := F0 m 7 ls [.int b, .int a]) (name := tx_AE) (hix := 19) (hpc := 11) ⟨hx, hb, hml, hown, hT⟩ (t_mAddI l hfl a b hc) (va_cwS 2 hT (gi_S (fun _ h => h) tb_24 tb_25 tb_2 tb_26) rfl rfl rfl ⟨by decide, by decide, by decide +kernel⟩ ⟨Nat.le_of_ble_eq_true rfl, Nat.le_of_ble_eq_true rfl⟩) ⟨fun _ _ _ _ q => ⟨q.1, q.2.calling⟩, fun U hU hW => ⟨rfl, hth.moved hW (by rw [hU]; exact ox_St hO hS)⟩⟩ rfl rfl hl.1 rfl (lv_room (Nat.le_of_ble_eq_true rfl)) d_dAddI_7 ⟨Nat.le_refl _, Nat.le_refl _⟩ (hT _ tb_23) htab ht4 ht3 (by decide) (tx_cov (pc := 7) ht1 ht2 (by decide)) tx_thr (fun x9 H9 h1 h2 => ?_)
    have hP9 := (ox_O.ext ⟨hP, hO.2⟩ ⟨h1, h2⟩).1
    have hS9 := ox_Sext hS ⟨h1, h2⟩
    refine lv_astore_n (lv' := [(3, .ref x9), (0, .ref x0), (1, .int a), (2, .int b)]) hx hb d_dAddI_11 rfl hl (by decide) rfl (fun ls hl => ?_)
    refine lv_aload_n hx hb d_dAddI_12 rfl (lv_at hl 1 rfl) ?_
    refine lv_iconst (v := 1) hx hb d_dAddI_13 (by decide) ?_
    refine va_put (D := D) (ci := 0) (v := .int 1) (ty := .boolean) (C := R_MD) (T := F_MD) (N := 1) hx hb hT in_MD t_MD t_MD_ok n_MD hown hO.2 hP9 ox_D hS9 0 rfl rfl 0 (by decide) (hT _ tb_15) (fun _ h9 => h9) rfl (by decide +kernel) rfl rfl (Nat.le_of_ble_eq_true rfl) d_dAddI_14 (fun H locs hP hD hS => ?_)
    have hP : va_P D clD [(x0, .inr (0, [.int 1]))] H := hP
    refine lv_iconst (v := 0) hx hb d_dAddI_17 (by decide) ?_
    exact W.iret (v := 0) hx hb hr (fun t ht hW => ⟨0, 1, rfl, ⟨fun h => absurd h hc, fun _ => ⟨rfl, rfl⟩⟩, ⟨by rw [ht]; exact hP, va_K.moved hW.alike hO.2⟩, hS.F ht⟩) hS.2.2 d_dAddI_18
set_option maxHeartbeats 4000000 in
set_option maxRecDepth 100000 in
theorem c_dAddJ (l : Launch) (hfl : l.flags = pinnedFlags ++ [noTraceFlag]) (D : va_G) (x0 : Nat) (ov : Int32) (a b : Int64) : Met l y_dAddJ (.codeWith y_dAddJ b_dAddJ 6 (some .long) [(5, 10, 11, 19)] :: TB) ({ frames := 7, cells := 1, slots := 6, locals := 107 }) (va_Pc [.ref x0, .long a, .long b] (fun U => ox_O D U U.heap x0 ov ∧ tx_T U)) (qx_MJ D x0 (fun r v => (px_addJ a b → r = a + b ∧ v = 0) ∧ (¬ px_addJ a b → r = 0 ∧ v = 1))) 1 6 (fun q => q = x0) := by
  refine va_MetW (hh := [(5, 10, 11, 19)]) (cc := b_dAddJ) (maxL := 6) (ret := (some .long)) (by decide +kernel) rfl ?_
  intro p e s m args below meth c s₁ B hml hv
  obtain ⟨rfl, hO, hth⟩ := hv
  have hx := B.exec
  have hb := B.bytes
  have hr := B.returns
  have hts := atoms_spec (ws := (.codeWith y_dAddJ b_dAddJ 6 (some .long) [(5, 10, 11, 19)] :: TB)) B.pre
  have hT : ∀ w ∈ TB, w.before _ s = true := fun w hw => hts w (List.mem_cons_of_mem _ hw)
  have hown : s.vm.findClass "MathDrill" = some m.cls := findClass_of_methodNamed B.named
  have hlocks := B.notSynchronized
  have hl := lv_entry ([.ref x0, .long a, .long b]) (n := 6) (Nat.le_of_ble_eq_true rfl)
  rw [lg_entry_eq]
  generalize (lg_sl ([.ref x0, .long a, .long b]) ++ List.replicate (6 - (lg_sl ([.ref x0, .long a, .long b])).length) Slot.unset).toArray = ls at hl ⊢
  have hl : lv_has ls 6 [(0, .ref x0), (1, .long a), (3, .long b)] := hl
  obtain ⟨xt, htab, ht1, ht2, ht3, ht4⟩ := tx_tab (tx_htab B (hts _ List.mem_cons_self))
  refine lv_aload_n hx hb d_dAddJ_0 rfl (lv_at hl 0 rfl) ?_
  refine lv_iconst (v := 0) hx hb d_dAddJ_1 (by decide) ?_
  refine va_put (D := D) (ci := 0) (v := .int 0) (ty := .boolean) (C := R_MD) (T := F_MD) (N := 1) hx hb hT in_MD t_MD t_MD_ok n_MD hown hO.2 hO.1 ox_D va_S.rf 0 rfl rfl 0 (by decide) (hT _ tb_15) (fun _ h9 => h9) rfl (by decide +kernel) rfl rfl (Nat.le_of_ble_eq_true rfl) d_dAddJ_2 (fun H locs hP hD hS => ?_)
  have hP : va_P D clD [(x0, .inr (0, [.int 0]))] H := hP
  refine lv_lload_n hx hb d_dAddJ_5 rfl (lv_at hl 1 rfl) ?_
  refine lv_lload_n hx hb d_dAddJ_6 rfl (lv_at hl 2 rfl) ?_
  by_cases hc : px_addJ a b
  · refine qx_callL (va_runS (As := [.long a, .long b]) (rest := []) ⟨hx, hb, hml, hown, hT⟩ (c_mAddJ l a b hc) (va_cwS 2 hT (gi_S (fun _ h => h) tb_97 tb_98 tb_2 tb_99) rfl rfl rfl ⟨by decide, by decide, by decide +kernel⟩ ⟨Nat.le_of_ble_eq_true rfl, Nat.le_of_ble_eq_true rfl⟩) ⟨fun _ _ _ _ q => q, fun _ _ _ => ⟨rfl, trivial⟩⟩ rfl rfl hl.1 rfl (lv_room (Nat.le_of_ble_eq_true rfl)) d_dAddJ_7 ⟨Nat.zero_le _, Nat.zero_le _⟩) (fun r er => ?_)
    refine W.widen (k := 1) (n := 6) (by omega) (by omega) ?_
    exact W.lret (v := r) hx hb hr (fun t ht hW => ⟨r, 0, rfl, ⟨fun _ => ⟨er, rfl⟩, fun h => absurd hc h⟩, ⟨by rw [ht]; exact hP, va_K.moved hW.alike hO.2⟩, hS.F ht⟩) hS.2.2 d_dAddJ_10
  · refine tx_runS (As := [.long a, .long b]) (rest := []) (g := F0 m 7 ls [.long b, .long a]) (name := tx_AE) (hix := 19) (hpc := 11) ⟨hx, hb, hml, hown, hT⟩ (t_mAddJ l hfl a b hc) (va_cwS 2 hT (gi_S (fun _ h => h) tb_97 tb_98 tb_2 tb_99) rfl rfl rfl ⟨by decide, by decide, by decide +kernel⟩ ⟨Nat.le_of_ble_eq_true rfl, Nat.le_of_ble_eq_true rfl⟩) ⟨fun _ _ _ _ q => ⟨q.1, q.2.calling⟩, fun U hU hW => ⟨rfl, hth.moved hW (by rw [hU]; exact ox_St hO hS)⟩⟩ rfl rfl hl.1 rfl (lv_room (Nat.le_of_ble_eq_true rfl)) d_dAddJ_7 ⟨Nat.le_refl _, Nat.le_refl _⟩ (hT _ tb_23) htab ht4 ht3 (by decide) (tx_cov (pc := 7) ht1 ht2 (by decide)) tx_thr (fun x9 H9 h1 h2 => ?_)
    have hP9 := (ox_O.ext ⟨hP, hO.2⟩ ⟨h1, h2⟩).1
    have hS9 := ox_Sext hS ⟨h1, h2⟩
    refine lv_astore (lv' := [(5, .ref x9), (0, .ref x0), (1, .long a), (3, .long b)]) hx hb d_dAddJ_11 hl (by decide) rfl (fun ls hl => ?_)
    refine lv_aload_n hx hb d_dAddJ_13 rfl (lv_at hl 1 rfl) ?_
    refine lv_iconst (v := 1) hx hb d_dAddJ_14 (by decide) ?_
    refine va_put (D := D) (ci := 0) (v := .int 1) (ty := .boolean) (C := R_MD) (T := F_MD) (N := 1) hx hb hT in_MD t_MD t_MD_ok n_MD hown hO.2 hP9 ox_D hS9 0 rfl rfl 0 (by decide) (hT _ tb_15) (fun _ h9 => h9) rfl (by decide +kernel) rfl rfl (Nat.le_of_ble_eq_true rfl) d_dAddJ_15 (fun H locs hP hD hS => ?_)
    have hP : va_P D clD [(x0, .inr (0, [.int 1]))] H := hP
    refine lv_lconst (v := 0) hx hb d_dAddJ_18 (by decide) ?_
    exact W.lret (v := 0) hx hb hr (fun t ht hW => ⟨0, 1, rfl, ⟨fun h => absurd h hc, fun _ => ⟨rfl, rfl⟩⟩, ⟨by rw [ht]; exact hP, va_K.moved hW.alike hO.2⟩, hS.F ht⟩) hS.2.2 d_dAddJ_19
set_option maxHeartbeats 4000000 in
set_option maxRecDepth 100000 in
theorem c_dSubI (l : Launch) (hfl : l.flags = pinnedFlags ++ [noTraceFlag]) (D : va_G) (x0 : Nat) (ov : Int32) (a b : Int32) : Met l y_dSubI (.codeWith y_dSubI b_dSubI 4 (some .int) [(5, 10, 11, 19)] :: TB) ({ frames := 7, cells := 1, slots := 6, locals := 104 }) (va_Pc [.ref x0, .int a, .int b] (fun U => ox_O D U U.heap x0 ov ∧ tx_T U)) (qx_MI D x0 (fun r v => (px_subI a b → r = a - b ∧ v = 0) ∧ (¬ px_subI a b → r = 0 ∧ v = 1))) 1 6 (fun q => q = x0) := by
  refine va_MetW (hh := [(5, 10, 11, 19)]) (cc := b_dSubI) (maxL := 4) (ret := (some .int)) (by decide +kernel) rfl ?_
  intro p e s m args below meth c s₁ B hml hv
  obtain ⟨rfl, hO, hth⟩ := hv
  have hx := B.exec
  have hb := B.bytes
  have hr := B.returns
  have hts := atoms_spec (ws := (.codeWith y_dSubI b_dSubI 4 (some .int) [(5, 10, 11, 19)] :: TB)) B.pre
  have hT : ∀ w ∈ TB, w.before _ s = true := fun w hw => hts w (List.mem_cons_of_mem _ hw)
  have hown : s.vm.findClass "MathDrill" = some m.cls := findClass_of_methodNamed B.named
  have hlocks := B.notSynchronized
  have hl := lv_entry ([.ref x0, .int a, .int b]) (n := 4) (Nat.le_of_ble_eq_true rfl)
  rw [lg_entry_eq]
  generalize (lg_sl ([.ref x0, .int a, .int b]) ++ List.replicate (4 - (lg_sl ([.ref x0, .int a, .int b])).length) Slot.unset).toArray = ls at hl ⊢
  have hl : lv_has ls 4 [(0, .ref x0), (1, .int a), (2, .int b)] := hl
  obtain ⟨xt, htab, ht1, ht2, ht3, ht4⟩ := tx_tab (tx_htab B (hts _ List.mem_cons_self))
  refine lv_aload_n hx hb d_dSubI_0 rfl (lv_at hl 0 rfl) ?_
  refine lv_iconst (v := 0) hx hb d_dSubI_1 (by decide) ?_
  refine va_put (D := D) (ci := 0) (v := .int 0) (ty := .boolean) (C := R_MD) (T := F_MD) (N := 1) hx hb hT in_MD t_MD t_MD_ok n_MD hown hO.2 hO.1 ox_D va_S.rf 0 rfl rfl 0 (by decide) (hT _ tb_15) (fun _ h9 => h9) rfl (by decide +kernel) rfl rfl (Nat.le_of_ble_eq_true rfl) d_dSubI_2 (fun H locs hP hD hS => ?_)
  have hP : va_P D clD [(x0, .inr (0, [.int 0]))] H := hP
  refine lv_iload_n hx hb d_dSubI_5 rfl (lv_at hl 1 rfl) ?_
  refine lv_iload_n hx hb d_dSubI_6 rfl (lv_at hl 2 rfl) ?_
  by_cases hc : px_subI a b
  · refine qx_callI (va_runS (As := [.int a, .int b]) (rest := []) ⟨hx, hb, hml, hown, hT⟩ (c_mSubI l a b hc) (va_cwS 2 hT (gi_S (fun _ h => h) tb_105 tb_106 tb_2 tb_107) rfl rfl rfl ⟨by decide, by decide, by decide +kernel⟩ ⟨Nat.le_of_ble_eq_true rfl, Nat.le_of_ble_eq_true rfl⟩) ⟨fun _ _ _ _ q => q, fun _ _ _ => ⟨rfl, trivial⟩⟩ rfl rfl hl.1 rfl (lv_room (Nat.le_of_ble_eq_true rfl)) d_dSubI_7 ⟨Nat.zero_le _, Nat.zero_le _⟩) (fun r er => ?_)
    refine W.widen (k := 1) (n := 6) (by omega) (by omega) ?_
    exact W.iret (v := r) hx hb hr (fun t ht hW => ⟨r, 0, rfl, ⟨fun _ => ⟨er, rfl⟩, fun h => absurd hc h⟩, ⟨by rw [ht]; exact hP, va_K.moved hW.alike hO.2⟩, hS.F ht⟩) hS.2.2 d_dSubI_10
  · refine tx_runS (As := [.int a, .int b]) (rest := []) (g := F0 m 7 ls [.int b, .int a]) (name := tx_AE) (hix := 19) (hpc := 11) ⟨hx, hb, hml, hown, hT⟩ (t_mSubI l hfl a b hc) (va_cwS 2 hT (gi_S (fun _ h => h) tb_105 tb_106 tb_2 tb_107) rfl rfl rfl ⟨by decide, by decide, by decide +kernel⟩ ⟨Nat.le_of_ble_eq_true rfl, Nat.le_of_ble_eq_true rfl⟩) ⟨fun _ _ _ _ q => ⟨q.1, q.2.calling⟩, fun U hU hW => ⟨rfl, hth.moved hW (by rw [hU]; exact ox_St hO hS)⟩⟩ rfl rfl hl.1 rfl (lv_room (Nat.le_of_ble_eq_true rfl)) d_dSubI_7 ⟨Nat.le_refl _, Nat.le_refl _⟩ (hT _ tb_23) htab ht4 ht3 (by decide) (tx_cov (pc := 7) ht1 ht2 (by decide)) tx_thr (fun x9 H9 h1 h2 => ?_)
    have hP9 := (ox_O.ext ⟨hP, hO.2⟩ ⟨h1, h2⟩).1
    have hS9 := ox_Sext hS ⟨h1, h2⟩
    refine lv_astore_n (lv' := [(3, .ref x9), (0, .ref x0), (1, .int a), (2, .int b)]) hx hb d_dSubI_11 rfl hl (by decide) rfl (fun ls hl => ?_)
    refine lv_aload_n hx hb d_dSubI_12 rfl (lv_at hl 1 rfl) ?_
    refine lv_iconst (v := 1) hx hb d_dSubI_13 (by decide) ?_
    refine va_put (D := D) (ci := 0) (v := .int 1) (ty := .boolean) (C := R_MD) (T := F_MD) (N := 1) hx hb hT in_MD t_MD t_MD_ok n_MD hown hO.2 hP9 ox_D hS9 0 rfl rfl 0 (by decide) (hT _ tb_15) (fun _ h9 => h9) rfl (by decide +kernel) rfl rfl (Nat.le_of_ble_eq_true rfl) d_dSubI_14 (fun H locs hP hD hS => ?_)
    have hP : va_P D clD [(x0, .inr (0, [.int 1]))] H := hP
    refine lv_iconst (v := 0) hx hb d_dSubI_17 (by decide) ?_
    exact W.iret (v := 0) hx hb hr (fun t ht hW => ⟨0, 1, rfl, ⟨fun h => absurd h hc, fun _ => ⟨rfl, rfl⟩⟩, ⟨by rw [ht]; exact hP, va_K.moved hW.alike hO.2⟩, hS.F ht⟩) hS.2.2 d_dSubI_18
set_option maxHeartbeats 4000000 in
set_option maxRecDepth 100000 in
theorem c_dSubJ (l : Launch) (hfl : l.flags = pinnedFlags ++ [noTraceFlag]) (D : va_G) (x0 : Nat) (ov : Int32) (a b : Int64) : Met l y_dSubJ (.codeWith y_dSubJ b_dSubJ 6 (some .long) [(5, 10, 11, 19)] :: TB) ({ frames := 7, cells := 1, slots := 6, locals := 107 }) (va_Pc [.ref x0, .long a, .long b] (fun U => ox_O D U U.heap x0 ov ∧ tx_T U)) (qx_MJ D x0 (fun r v => (px_subJ a b → r = a - b ∧ v = 0) ∧ (¬ px_subJ a b → r = 0 ∧ v = 1))) 1 6 (fun q => q = x0) := by
  refine va_MetW (hh := [(5, 10, 11, 19)]) (cc := b_dSubJ) (maxL := 6) (ret := (some .long)) (by decide +kernel) rfl ?_
  intro p e s m args below meth c s₁ B hml hv
  obtain ⟨rfl, hO, hth⟩ := hv
  have hx := B.exec
  have hb := B.bytes
  have hr := B.returns
  have hts := atoms_spec (ws := (.codeWith y_dSubJ b_dSubJ 6 (some .long) [(5, 10, 11, 19)] :: TB)) B.pre
  have hT : ∀ w ∈ TB, w.before _ s = true := fun w hw => hts w (List.mem_cons_of_mem _ hw)
  have hown : s.vm.findClass "MathDrill" = some m.cls := findClass_of_methodNamed B.named
  have hlocks := B.notSynchronized
  have hl := lv_entry ([.ref x0, .long a, .long b]) (n := 6) (Nat.le_of_ble_eq_true rfl)
  rw [lg_entry_eq]
  generalize (lg_sl ([.ref x0, .long a, .long b]) ++ List.replicate (6 - (lg_sl ([.ref x0, .long a, .long b])).length) Slot.unset).toArray = ls at hl ⊢
  have hl : lv_has ls 6 [(0, .ref x0), (1, .long a), (3, .long b)] := hl
  obtain ⟨xt, htab, ht1, ht2, ht3, ht4⟩ := tx_tab (tx_htab B (hts _ List.mem_cons_self))
  refine lv_aload_n hx hb d_dSubJ_0 rfl (lv_at hl 0 rfl) ?_
  refine lv_iconst (v := 0) hx hb d_dSubJ_1 (by decide) ?_
  refine va_put (D := D) (ci := 0) (v := .int 0) (ty := .boolean) (C := R_MD) (T := F_MD) (N := 1) hx hb hT in_MD t_MD t_MD_ok n_MD hown hO.2 hO.1 ox_D va_S.rf 0 rfl rfl 0 (by decide) (hT _ tb_15) (fun _ h9 => h9) rfl (by decide +kernel) rfl rfl (Nat.le_of_ble_eq_true rfl) d_dSubJ_2 (fun H locs hP hD hS => ?_)
  have hP : va_P D clD [(x0, .inr (0, [.int 0]))] H := hP
  refine lv_lload_n hx hb d_dSubJ_5 rfl (lv_at hl 1 rfl) ?_
  refine lv_lload_n hx hb d_dSubJ_6 rfl (lv_at hl 2 rfl) ?_
  by_cases hc : px_subJ a b
  · refine qx_callL (va_runS (As := [.long a, .long b]) (rest := []) ⟨hx, hb, hml, hown, hT⟩ (c_mSubJ l a b hc) (va_cwS 2 hT (gi_S (fun _ h => h) tb_112 tb_113 tb_2 tb_114) rfl rfl rfl ⟨by decide, by decide, by decide +kernel⟩ ⟨Nat.le_of_ble_eq_true rfl, Nat.le_of_ble_eq_true rfl⟩) ⟨fun _ _ _ _ q => q, fun _ _ _ => ⟨rfl, trivial⟩⟩ rfl rfl hl.1 rfl (lv_room (Nat.le_of_ble_eq_true rfl)) d_dSubJ_7 ⟨Nat.zero_le _, Nat.zero_le _⟩) (fun r er => ?_)
    refine W.widen (k := 1) (n := 6) (by omega) (by omega) ?_
    exact W.lret (v := r) hx hb hr (fun t ht hW => ⟨r, 0, rfl, ⟨fun _ => ⟨er, rfl⟩, fun h => absurd hc h⟩, ⟨by rw [ht]; exact hP, va_K.moved hW.alike hO.2⟩, hS.F ht⟩) hS.2.2 d_dSubJ_10
  · refine tx_runS (As := [.long a, .long b]) (rest := []) (g := F0 m 7 ls [.long b, .long a]) (name := tx_AE) (hix := 19) (hpc := 11) ⟨hx, hb, hml, hown, hT⟩ (t_mSubJ l hfl a b hc) (va_cwS 2 hT (gi_S (fun _ h => h) tb_112 tb_113 tb_2 tb_114) rfl rfl rfl ⟨by decide, by decide, by decide +kernel⟩ ⟨Nat.le_of_ble_eq_true rfl, Nat.le_of_ble_eq_true rfl⟩) ⟨fun _ _ _ _ q => ⟨q.1, q.2.calling⟩, fun U hU hW => ⟨rfl, hth.moved hW (by rw [hU]; exact ox_St hO hS)⟩⟩ rfl rfl hl.1 rfl (lv_room (Nat.le_of_ble_eq_true rfl)) d_dSubJ_7 ⟨Nat.le_refl _, Nat.le_refl _⟩ (hT _ tb_23) htab ht4 ht3 (by decide) (tx_cov (pc := 7) ht1 ht2 (by decide)) tx_thr (fun x9 H9 h1 h2 => ?_)
    have hP9 := (ox_O.ext ⟨hP, hO.2⟩ ⟨h1, h2⟩).1
    have hS9 := ox_Sext hS ⟨h1, h2⟩
    refine lv_astore (lv' := [(5, .ref x9), (0, .ref x0), (1, .long a), (3, .long b)]) hx hb d_dSubJ_11 hl (by decide) rfl (fun ls hl => ?_)
    refine lv_aload_n hx hb d_dSubJ_13 rfl (lv_at hl 1 rfl) ?_
    refine lv_iconst (v := 1) hx hb d_dSubJ_14 (by decide) ?_
    refine va_put (D := D) (ci := 0) (v := .int 1) (ty := .boolean) (C := R_MD) (T := F_MD) (N := 1) hx hb hT in_MD t_MD t_MD_ok n_MD hown hO.2 hP9 ox_D hS9 0 rfl rfl 0 (by decide) (hT _ tb_15) (fun _ h9 => h9) rfl (by decide +kernel) rfl rfl (Nat.le_of_ble_eq_true rfl) d_dSubJ_15 (fun H locs hP hD hS => ?_)
    have hP : va_P D clD [(x0, .inr (0, [.int 1]))] H := hP
    refine lv_lconst (v := 0) hx hb d_dSubJ_18 (by decide) ?_
    exact W.lret (v := 0) hx hb hr (fun t ht hW => ⟨0, 1, rfl, ⟨fun h => absurd h hc, fun _ => ⟨rfl, rfl⟩⟩, ⟨by rw [ht]; exact hP, va_K.moved hW.alike hO.2⟩, hS.F ht⟩) hS.2.2 d_dSubJ_19
set_option maxHeartbeats 4000000 in
set_option maxRecDepth 100000 in
theorem c_dMulI (l : Launch) (hfl : l.flags = pinnedFlags ++ [noTraceFlag]) (D : va_G) (x0 : Nat) (ov : Int32) (a b : Int32) : Met l y_dMulI (.codeWith y_dMulI b_dMulI 4 (some .int) [(5, 10, 11, 19)] :: TB) ({ frames := 7, cells := 1, slots := 6, locals := 105 }) (va_Pc [.ref x0, .int a, .int b] (fun U => ox_O D U U.heap x0 ov ∧ tx_T U)) (qx_MI D x0 (fun r v => (px_mulI a b → r = (a.toInt64 * b.toInt64).toInt32 ∧ v = 0) ∧ (¬ px_mulI a b → r = 0 ∧ v = 1))) 1 6 (fun q => q = x0) := by
  refine va_MetW (hh := [(5, 10, 11, 19)]) (cc := b_dMulI) (maxL := 4) (ret := (some .int)) (by decide +kernel) rfl ?_
  intro p e s m args below meth c s₁ B hml hv
  obtain ⟨rfl, hO, hth⟩ := hv
  have hx := B.exec
  have hb := B.bytes
  have hr := B.returns
  have hts := atoms_spec (ws := (.codeWith y_dMulI b_dMulI 4 (some .int) [(5, 10, 11, 19)] :: TB)) B.pre
  have hT : ∀ w ∈ TB, w.before _ s = true := fun w hw => hts w (List.mem_cons_of_mem _ hw)
  have hown : s.vm.findClass "MathDrill" = some m.cls := findClass_of_methodNamed B.named
  have hlocks := B.notSynchronized
  have hl := lv_entry ([.ref x0, .int a, .int b]) (n := 4) (Nat.le_of_ble_eq_true rfl)
  rw [lg_entry_eq]
  generalize (lg_sl ([.ref x0, .int a, .int b]) ++ List.replicate (4 - (lg_sl ([.ref x0, .int a, .int b])).length) Slot.unset).toArray = ls at hl ⊢
  have hl : lv_has ls 4 [(0, .ref x0), (1, .int a), (2, .int b)] := hl
  obtain ⟨xt, htab, ht1, ht2, ht3, ht4⟩ := tx_tab (tx_htab B (hts _ List.mem_cons_self))
  refine lv_aload_n hx hb d_dMulI_0 rfl (lv_at hl 0 rfl) ?_
  refine lv_iconst (v := 0) hx hb d_dMulI_1 (by decide) ?_
  refine va_put (D := D) (ci := 0) (v := .int 0) (ty := .boolean) (C := R_MD) (T := F_MD) (N := 1) hx hb hT in_MD t_MD t_MD_ok n_MD hown hO.2 hO.1 ox_D va_S.rf 0 rfl rfl 0 (by decide) (hT _ tb_15) (fun _ h9 => h9) rfl (by decide +kernel) rfl rfl (Nat.le_of_ble_eq_true rfl) d_dMulI_2 (fun H locs hP hD hS => ?_)
  have hP : va_P D clD [(x0, .inr (0, [.int 0]))] H := hP
  refine lv_iload_n hx hb d_dMulI_5 rfl (lv_at hl 1 rfl) ?_
  refine lv_iload_n hx hb d_dMulI_6 rfl (lv_at hl 2 rfl) ?_
  by_cases hc : px_mulI a b
  · refine qx_callI (va_runS (As := [.int a, .int b]) (rest := []) ⟨hx, hb, hml, hown, hT⟩ (c_mMulI l a b hc) (va_cwS 2 hT (gi_S (fun _ h => h) tb_119 tb_120 tb_2 tb_121) rfl rfl rfl ⟨by decide, by decide, by decide +kernel⟩ ⟨Nat.le_of_ble_eq_true rfl, Nat.le_of_ble_eq_true rfl⟩) ⟨fun _ _ _ _ q => q, fun _ _ _ => ⟨rfl, trivial⟩⟩ rfl rfl hl.1 rfl (lv_room (Nat.le_of_ble_eq_true rfl)) d_dMulI_7 ⟨Nat.zero_le _, Nat.zero_le _⟩) (fun r er => ?_)
    refine W.widen (k := 1) (n := 6) (by omega) (by omega) ?_
    exact W.iret (v := r) hx hb hr (fun t ht hW => ⟨r, 0, rfl, ⟨fun _ => ⟨er, rfl⟩, fun h => absurd hc h⟩, ⟨by rw [ht]; exact hP, va_K.moved hW.alike hO.2⟩, hS.F ht⟩) hS.2.2 d_dMulI_10
  · refine tx_runS (As := [.int a, .int b]) (rest := []) (g := F0 m 7 ls [.int b, .int a]) (name := tx_AE) (hix := 19) (hpc := 11) ⟨hx, hb, hml, hown, hT⟩ (t_mMulI l hfl a b hc) (va_cwS 2 hT (gi_S (fun _ h => h) tb_119 tb_120 tb_2 tb_121) rfl rfl rfl ⟨by decide, by decide, by decide +kernel⟩ ⟨Nat.le_of_ble_eq_true rfl, Nat.le_of_ble_eq_true rfl⟩) ⟨fun _ _ _ _ q => ⟨q.1, q.2.calling⟩, fun U hU hW => ⟨rfl, hth.moved hW (by rw [hU]; exact ox_St hO hS)⟩⟩ rfl rfl hl.1 rfl (lv_room (Nat.le_of_ble_eq_true rfl)) d_dMulI_7 ⟨Nat.le_refl _, Nat.le_refl _⟩ (hT _ tb_23) htab ht4 ht3 (by decide) (tx_cov (pc := 7) ht1 ht2 (by decide)) tx_thr (fun x9 H9 h1 h2 => ?_)
    have hP9 := (ox_O.ext ⟨hP, hO.2⟩ ⟨h1, h2⟩).1
    have hS9 := ox_Sext hS ⟨h1, h2⟩
    refine lv_astore_n (lv' := [(3, .ref x9), (0, .ref x0), (1, .int a), (2, .int b)]) hx hb d_dMulI_11 rfl hl (by decide) rfl (fun ls hl => ?_)
    refine lv_aload_n hx hb d_dMulI_12 rfl (lv_at hl 1 rfl) ?_
    refine lv_iconst (v := 1) hx hb d_dMulI_13 (by decide) ?_
    refine va_put (D := D) (ci := 0) (v := .int 1) (ty := .boolean) (C := R_MD) (T := F_MD) (N := 1) hx hb hT in_MD t_MD t_MD_ok n_MD hown hO.2 hP9 ox_D hS9 0 rfl rfl 0 (by decide) (hT _ tb_15) (fun _ h9 => h9) rfl (by decide +kernel) rfl rfl (Nat.le_of_ble_eq_true rfl) d_dMulI_14 (fun H locs hP hD hS => ?_)
    have hP : va_P D clD [(x0, .inr (0, [.int 1]))] H := hP
    refine lv_iconst (v := 0) hx hb d_dMulI_17 (by decide) ?_
    exact W.iret (v := 0) hx hb hr (fun t ht hW => ⟨0, 1, rfl, ⟨fun h => absurd h hc, fun _ => ⟨rfl, rfl⟩⟩, ⟨by rw [ht]; exact hP, va_K.moved hW.alike hO.2⟩, hS.F ht⟩) hS.2.2 d_dMulI_18
set_option maxHeartbeats 4000000 in
set_option maxRecDepth 100000 in
theorem c_dMulJ (l : Launch) (hfl : l.flags = pinnedFlags ++ [noTraceFlag]) (D : va_G) (x0 : Nat) (ov : Int32) (a b : Int64) : Met l y_dMulJ (.codeWith y_dMulJ b_dMulJ 6 (some .long) [(5, 10, 11, 19)] :: TB) ({ frames := 7, cells := 1, slots := 6, locals := 111 }) (va_Pc [.ref x0, .long a, .long b] (fun U => ox_O D U U.heap x0 ov ∧ tx_T U)) (qx_MJ D x0 (fun r v => (px_mulJ a b → r = a * b ∧ v = 0) ∧ (¬ px_mulJ a b → r = 0 ∧ v = 1))) 1 6 (fun q => q = x0) := by
  refine va_MetW (hh := [(5, 10, 11, 19)]) (cc := b_dMulJ) (maxL := 6) (ret := (some .long)) (by decide +kernel) rfl ?_
  intro p e s m args below meth c s₁ B hml hv
  obtain ⟨rfl, hO, hth⟩ := hv
  have hx := B.exec
  have hb := B.bytes
  have hr := B.returns
  have hts := atoms_spec (ws := (.codeWith y_dMulJ b_dMulJ 6 (some .long) [(5, 10, 11, 19)] :: TB)) B.pre
  have hT : ∀ w ∈ TB, w.before _ s = true := fun w hw => hts w (List.mem_cons_of_mem _ hw)
  have hown : s.vm.findClass "MathDrill" = some m.cls := findClass_of_methodNamed B.named
  have hlocks := B.notSynchronized
  have hl := lv_entry ([.ref x0, .long a, .long b]) (n := 6) (Nat.le_of_ble_eq_true rfl)
  rw [lg_entry_eq]
  generalize (lg_sl ([.ref x0, .long a, .long b]) ++ List.replicate (6 - (lg_sl ([.ref x0, .long a, .long b])).length) Slot.unset).toArray = ls at hl ⊢
  have hl : lv_has ls 6 [(0, .ref x0), (1, .long a), (3, .long b)] := hl
  obtain ⟨xt, htab, ht1, ht2, ht3, ht4⟩ := tx_tab (tx_htab B (hts _ List.mem_cons_self))
  refine lv_aload_n hx hb d_dMulJ_0 rfl (lv_at hl 0 rfl) ?_
  refine lv_iconst (v := 0) hx hb d_dMulJ_1 (by decide) ?_
  refine va_put (D := D) (ci := 0) (v := .int 0) (ty := .boolean) (C := R_MD) (T := F_MD) (N := 1) hx hb hT in_MD t_MD t_MD_ok n_MD hown hO.2 hO.1 ox_D va_S.rf 0 rfl rfl 0 (by decide) (hT _ tb_15) (fun _ h9 => h9) rfl (by decide +kernel) rfl rfl (Nat.le_of_ble_eq_true rfl) d_dMulJ_2 (fun H locs hP hD hS => ?_)
  have hP : va_P D clD [(x0, .inr (0, [.int 0]))] H := hP
  refine lv_lload_n hx hb d_dMulJ_5 rfl (lv_at hl 1 rfl) ?_
  refine lv_lload_n hx hb d_dMulJ_6 rfl (lv_at hl 2 rfl) ?_
  by_cases hc : px_mulJ a b
  · refine qx_callL (va_runS (As := [.long a, .long b]) (rest := []) ⟨hx, hb, hml, hown, hT⟩ (c_mMulJ l a b hc) (va_cwS 2 hT (gi_S (fun _ h => h) tb_126 tb_127 tb_2 tb_128) rfl rfl rfl ⟨by decide, by decide, by decide +kernel⟩ ⟨Nat.le_of_ble_eq_true rfl, Nat.le_of_ble_eq_true rfl⟩) ⟨fun _ _ _ _ q => q, fun _ _ _ => ⟨rfl, trivial⟩⟩ rfl rfl hl.1 rfl (lv_room (Nat.le_of_ble_eq_true rfl)) d_dMulJ_7 ⟨Nat.zero_le _, Nat.zero_le _⟩) (fun r er => ?_)
    refine W.widen (k := 1) (n := 6) (by omega) (by omega) ?_
    exact W.lret (v := r) hx hb hr (fun t ht hW => ⟨r, 0, rfl, ⟨fun _ => ⟨er, rfl⟩, fun h => absurd hc h⟩, ⟨by rw [ht]; exact hP, va_K.moved hW.alike hO.2⟩, hS.F ht⟩) hS.2.2 d_dMulJ_10
  · refine tx_runS (As := [.long a, .long b]) (rest := []) (g := F0 m 7 ls [.long b, .long a]) (name := tx_AE) (hix := 19) (hpc := 11) ⟨hx, hb, hml, hown, hT⟩ (t_mMulJ l hfl a b hc) (va_cwS 2 hT (gi_S (fun _ h => h) tb_126 tb_127 tb_2 tb_128) rfl rfl rfl ⟨by decide, by decide, by decide +kernel⟩ ⟨Nat.le_of_ble_eq_true rfl, Nat.le_of_ble_eq_true rfl⟩) ⟨fun _ _ _ _ q => ⟨q.1, q.2.calling⟩, fun U hU hW => ⟨rfl, hth.moved hW (by rw [hU]; exact ox_St hO hS)⟩⟩ rfl rfl hl.1 rfl (lv_room (Nat.le_of_ble_eq_true rfl)) d_dMulJ_7 ⟨Nat.le_refl _, Nat.le_refl _⟩ (hT _ tb_23) htab ht4 ht3 (by decide) (tx_cov (pc := 7) ht1 ht2 (by decide)) tx_thr (fun x9 H9 h1 h2 => ?_)
    have hP9 := (ox_O.ext ⟨hP, hO.2⟩ ⟨h1, h2⟩).1
    have hS9 := ox_Sext hS ⟨h1, h2⟩
    refine lv_astore (lv' := [(5, .ref x9), (0, .ref x0), (1, .long a), (3, .long b)]) hx hb d_dMulJ_11 hl (by decide) rfl (fun ls hl => ?_)
    refine lv_aload_n hx hb d_dMulJ_13 rfl (lv_at hl 1 rfl) ?_
    refine lv_iconst (v := 1) hx hb d_dMulJ_14 (by decide) ?_
    refine va_put (D := D) (ci := 0) (v := .int 1) (ty := .boolean) (C := R_MD) (T := F_MD) (N := 1) hx hb hT in_MD t_MD t_MD_ok n_MD hown hO.2 hP9 ox_D hS9 0 rfl rfl 0 (by decide) (hT _ tb_15) (fun _ h9 => h9) rfl (by decide +kernel) rfl rfl (Nat.le_of_ble_eq_true rfl) d_dMulJ_15 (fun H locs hP hD hS => ?_)
    have hP : va_P D clD [(x0, .inr (0, [.int 1]))] H := hP
    refine lv_lconst (v := 0) hx hb d_dMulJ_18 (by decide) ?_
    exact W.lret (v := 0) hx hb hr (fun t ht hW => ⟨0, 1, rfl, ⟨fun h => absurd h hc, fun _ => ⟨rfl, rfl⟩⟩, ⟨by rw [ht]; exact hP, va_K.moved hW.alike hO.2⟩, hS.F ht⟩) hS.2.2 d_dMulJ_19
set_option maxHeartbeats 4000000 in
set_option maxRecDepth 100000 in
theorem c_dNar (l : Launch) (hfl : l.flags = pinnedFlags ++ [noTraceFlag]) (D : va_G) (x0 : Nat) (ov : Int32) (a : Int64) : Met l y_dNar (.codeWith y_dNar b_dNar 4 (some .int) [(5, 9, 10, 19)] :: TB) ({ frames := 7, cells := 1, slots := 6, locals := 103 }) (va_Pc [.ref x0, .long a] (fun U => ox_O D U U.heap x0 ov ∧ tx_T U)) (qx_MI D x0 (fun r v => (px_toI a → r = a.toInt32 ∧ v = 0) ∧ (¬ px_toI a → r = 0 ∧ v = 1))) 1 6 (fun q => q = x0) := by
  refine va_MetW (hh := [(5, 9, 10, 19)]) (cc := b_dNar) (maxL := 4) (ret := (some .int)) (by decide +kernel) rfl ?_
  intro p e s m args below meth c s₁ B hml hv
  obtain ⟨rfl, hO, hth⟩ := hv
  have hx := B.exec
  have hb := B.bytes
  have hr := B.returns
  have hts := atoms_spec (ws := (.codeWith y_dNar b_dNar 4 (some .int) [(5, 9, 10, 19)] :: TB)) B.pre
  have hT : ∀ w ∈ TB, w.before _ s = true := fun w hw => hts w (List.mem_cons_of_mem _ hw)
  have hown : s.vm.findClass "MathDrill" = some m.cls := findClass_of_methodNamed B.named
  have hlocks := B.notSynchronized
  have hl := lv_entry ([.ref x0, .long a]) (n := 4) (Nat.le_of_ble_eq_true rfl)
  rw [lg_entry_eq]
  generalize (lg_sl ([.ref x0, .long a]) ++ List.replicate (4 - (lg_sl ([.ref x0, .long a])).length) Slot.unset).toArray = ls at hl ⊢
  have hl : lv_has ls 4 [(0, .ref x0), (1, .long a)] := hl
  obtain ⟨xt, htab, ht1, ht2, ht3, ht4⟩ := tx_tab (tx_htab B (hts _ List.mem_cons_self))
  refine lv_aload_n hx hb d_dNar_0 rfl (lv_at hl 0 rfl) ?_
  refine lv_iconst (v := 0) hx hb d_dNar_1 (by decide) ?_
  refine va_put (D := D) (ci := 0) (v := .int 0) (ty := .boolean) (C := R_MD) (T := F_MD) (N := 1) hx hb hT in_MD t_MD t_MD_ok n_MD hown hO.2 hO.1 ox_D va_S.rf 0 rfl rfl 0 (by decide) (hT _ tb_15) (fun _ h9 => h9) rfl (by decide +kernel) rfl rfl (Nat.le_of_ble_eq_true rfl) d_dNar_2 (fun H locs hP hD hS => ?_)
  have hP : va_P D clD [(x0, .inr (0, [.int 0]))] H := hP
  refine lv_lload_n hx hb d_dNar_5 rfl (lv_at hl 1 rfl) ?_
  by_cases hc : px_toI a
  · refine qx_callI (va_runS (As := [.long a]) (rest := []) ⟨hx, hb, hml, hown, hT⟩ (c_mToI l a hc) (va_cwS 1 hT (gi_S (fun _ h => h) tb_138 tb_139 tb_2 tb_140) rfl rfl rfl ⟨by decide, by decide, by decide +kernel⟩ ⟨Nat.le_of_ble_eq_true rfl, Nat.le_of_ble_eq_true rfl⟩) ⟨fun _ _ _ _ q => q, fun _ _ _ => ⟨rfl, trivial⟩⟩ rfl rfl hl.1 rfl (lv_room (Nat.le_of_ble_eq_true rfl)) d_dNar_6 ⟨Nat.zero_le _, Nat.zero_le _⟩) (fun r er => ?_)
    refine W.widen (k := 1) (n := 6) (by omega) (by omega) ?_
    exact W.iret (v := r) hx hb hr (fun t ht hW => ⟨r, 0, rfl, ⟨fun _ => ⟨er, rfl⟩, fun h => absurd hc h⟩, ⟨by rw [ht]; exact hP, va_K.moved hW.alike hO.2⟩, hS.F ht⟩) hS.2.2 d_dNar_9
  · refine tx_runS (As := [.long a]) (rest := []) (g := F0 m 6 ls [.long a]) (name := tx_AE) (hix := 19) (hpc := 10) ⟨hx, hb, hml, hown, hT⟩ (t_mToI l hfl a hc) (va_cwS 1 hT (gi_S (fun _ h => h) tb_138 tb_139 tb_2 tb_140) rfl rfl rfl ⟨by decide, by decide, by decide +kernel⟩ ⟨Nat.le_of_ble_eq_true rfl, Nat.le_of_ble_eq_true rfl⟩) ⟨fun _ _ _ _ q => ⟨q.1, q.2.calling⟩, fun U hU hW => ⟨rfl, hth.moved hW (by rw [hU]; exact ox_St hO hS)⟩⟩ rfl rfl hl.1 rfl (lv_room (Nat.le_of_ble_eq_true rfl)) d_dNar_6 ⟨Nat.le_refl _, Nat.le_refl _⟩ (hT _ tb_23) htab ht4 ht3 (by decide) (tx_cov (pc := 6) ht1 ht2 (by decide)) tx_thr (fun x9 H9 h1 h2 => ?_)
    have hP9 := (ox_O.ext ⟨hP, hO.2⟩ ⟨h1, h2⟩).1
    have hS9 := ox_Sext hS ⟨h1, h2⟩
    refine lv_astore_n (lv' := [(3, .ref x9), (0, .ref x0), (1, .long a)]) hx hb d_dNar_10 rfl hl (by decide) rfl (fun ls hl => ?_)
    refine lv_aload_n hx hb d_dNar_11 rfl (lv_at hl 1 rfl) ?_
    refine lv_iconst (v := 1) hx hb d_dNar_12 (by decide) ?_
    refine va_put (D := D) (ci := 0) (v := .int 1) (ty := .boolean) (C := R_MD) (T := F_MD) (N := 1) hx hb hT in_MD t_MD t_MD_ok n_MD hown hO.2 hP9 ox_D hS9 0 rfl rfl 0 (by decide) (hT _ tb_15) (fun _ h9 => h9) rfl (by decide +kernel) rfl rfl (Nat.le_of_ble_eq_true rfl) d_dNar_13 (fun H locs hP hD hS => ?_)
    have hP : va_P D clD [(x0, .inr (0, [.int 1]))] H := hP
    refine lv_iconst (v := 0) hx hb d_dNar_16 (by decide) ?_
    exact W.iret (v := 0) hx hb hr (fun t ht hW => ⟨0, 1, rfl, ⟨fun h => absurd h hc, fun _ => ⟨rfl, rfl⟩⟩, ⟨by rw [ht]; exact hP, va_K.moved hW.alike hO.2⟩, hS.F ht⟩) hS.2.2 d_dNar_17
set_option maxHeartbeats 4000000 in
set_option maxRecDepth 100000 in
theorem c_dNeg (l : Launch) (hfl : l.flags = pinnedFlags ++ [noTraceFlag]) (D : va_G) (x0 : Nat) (ov : Int32) (a : Int64) : Met l y_dNeg (.codeWith y_dNeg b_dNeg 4 (some .long) [(5, 9, 10, 19)] :: TB) ({ frames := 7, cells := 1, slots := 6, locals := 103 }) (va_Pc [.ref x0, .long a] (fun U => ox_O D U U.heap x0 ov ∧ tx_T U)) (qx_MJ D x0 (fun r v => (px_neg a → r = -a ∧ v = 0) ∧ (¬ px_neg a → r = 0 ∧ v = 1))) 1 6 (fun q => q = x0) := by
  refine va_MetW (hh := [(5, 9, 10, 19)]) (cc := b_dNeg) (maxL := 4) (ret := (some .long)) (by decide +kernel) rfl ?_
  intro p e s m args below meth c s₁ B hml hv
  obtain ⟨rfl, hO, hth⟩ := hv
  have hx := B.exec
  have hb := B.bytes
  have hr := B.returns
  have hts := atoms_spec (ws := (.codeWith y_dNeg b_dNeg 4 (some .long) [(5, 9, 10, 19)] :: TB)) B.pre
  have hT : ∀ w ∈ TB, w.before _ s = true := fun w hw => hts w (List.mem_cons_of_mem _ hw)
  have hown : s.vm.findClass "MathDrill" = some m.cls := findClass_of_methodNamed B.named
  have hlocks := B.notSynchronized
  have hl := lv_entry ([.ref x0, .long a]) (n := 4) (Nat.le_of_ble_eq_true rfl)
  rw [lg_entry_eq]
  generalize (lg_sl ([.ref x0, .long a]) ++ List.replicate (4 - (lg_sl ([.ref x0, .long a])).length) Slot.unset).toArray = ls at hl ⊢
  have hl : lv_has ls 4 [(0, .ref x0), (1, .long a)] := hl
  obtain ⟨xt, htab, ht1, ht2, ht3, ht4⟩ := tx_tab (tx_htab B (hts _ List.mem_cons_self))
  refine lv_aload_n hx hb d_dNeg_0 rfl (lv_at hl 0 rfl) ?_
  refine lv_iconst (v := 0) hx hb d_dNeg_1 (by decide) ?_
  refine va_put (D := D) (ci := 0) (v := .int 0) (ty := .boolean) (C := R_MD) (T := F_MD) (N := 1) hx hb hT in_MD t_MD t_MD_ok n_MD hown hO.2 hO.1 ox_D va_S.rf 0 rfl rfl 0 (by decide) (hT _ tb_15) (fun _ h9 => h9) rfl (by decide +kernel) rfl rfl (Nat.le_of_ble_eq_true rfl) d_dNeg_2 (fun H locs hP hD hS => ?_)
  have hP : va_P D clD [(x0, .inr (0, [.int 0]))] H := hP
  refine lv_lload_n hx hb d_dNeg_5 rfl (lv_at hl 1 rfl) ?_
  by_cases hc : px_neg a
  · refine qx_callL (va_runS (As := [.long a]) (rest := []) ⟨hx, hb, hml, hown, hT⟩ (c_mNeg l a hc) (va_cwS 1 hT (gi_S (fun _ h => h) tb_145 tb_146 tb_2 tb_147) rfl rfl rfl ⟨by decide, by decide, by decide +kernel⟩ ⟨Nat.le_of_ble_eq_true rfl, Nat.le_of_ble_eq_true rfl⟩) ⟨fun _ _ _ _ q => q, fun _ _ _ => ⟨rfl, trivial⟩⟩ rfl rfl hl.1 rfl (lv_room (Nat.le_of_ble_eq_true rfl)) d_dNeg_6 ⟨Nat.zero_le _, Nat.zero_le _⟩) (fun r er => ?_)
    refine W.widen (k := 1) (n := 6) (by omega) (by omega) ?_
    exact W.lret (v := r) hx hb hr (fun t ht hW => ⟨r, 0, rfl, ⟨fun _ => ⟨er, rfl⟩, fun h => absurd hc h⟩, ⟨by rw [ht]; exact hP, va_K.moved hW.alike hO.2⟩, hS.F ht⟩) hS.2.2 d_dNeg_9
  · refine tx_runS (As := [.long a]) (rest := []) (g := F0 m 6 ls [.long a]) (name := tx_AE) (hix := 19) (hpc := 10) ⟨hx, hb, hml, hown, hT⟩ (t_mNeg l hfl a hc) (va_cwS 1 hT (gi_S (fun _ h => h) tb_145 tb_146 tb_2 tb_147) rfl rfl rfl ⟨by decide, by decide, by decide +kernel⟩ ⟨Nat.le_of_ble_eq_true rfl, Nat.le_of_ble_eq_true rfl⟩) ⟨fun _ _ _ _ q => ⟨q.1, q.2.calling⟩, fun U hU hW => ⟨rfl, hth.moved hW (by rw [hU]; exact ox_St hO hS)⟩⟩ rfl rfl hl.1 rfl (lv_room (Nat.le_of_ble_eq_true rfl)) d_dNeg_6 ⟨Nat.le_refl _, Nat.le_refl _⟩ (hT _ tb_23) htab ht4 ht3 (by decide) (tx_cov (pc := 6) ht1 ht2 (by decide)) tx_thr (fun x9 H9 h1 h2 => ?_)
    have hP9 := (ox_O.ext ⟨hP, hO.2⟩ ⟨h1, h2⟩).1
    have hS9 := ox_Sext hS ⟨h1, h2⟩
    refine lv_astore_n (lv' := [(3, .ref x9), (0, .ref x0), (1, .long a)]) hx hb d_dNeg_10 rfl hl (by decide) rfl (fun ls hl => ?_)
    refine lv_aload_n hx hb d_dNeg_11 rfl (lv_at hl 1 rfl) ?_
    refine lv_iconst (v := 1) hx hb d_dNeg_12 (by decide) ?_
    refine va_put (D := D) (ci := 0) (v := .int 1) (ty := .boolean) (C := R_MD) (T := F_MD) (N := 1) hx hb hT in_MD t_MD t_MD_ok n_MD hown hO.2 hP9 ox_D hS9 0 rfl rfl 0 (by decide) (hT _ tb_15) (fun _ h9 => h9) rfl (by decide +kernel) rfl rfl (Nat.le_of_ble_eq_true rfl) d_dNeg_13 (fun H locs hP hD hS => ?_)
    have hP : va_P D clD [(x0, .inr (0, [.int 1]))] H := hP
    refine lv_lconst (v := 0) hx hb d_dNeg_16 (by decide) ?_
    exact W.lret (v := 0) hx hb hr (fun t ht hW => ⟨0, 1, rfl, ⟨fun h => absurd h hc, fun _ => ⟨rfl, rfl⟩⟩, ⟨by rw [ht]; exact hP, va_K.moved hW.alike hO.2⟩, hS.F ht⟩) hS.2.2 d_dNeg_17
set_option maxHeartbeats 4000000 in
set_option maxRecDepth 100000 in
theorem c_dQuoJ (l : Launch) (x0 : Nat) (a b : Int64) (hne : ¬ b = 0) : Met l y_dQuoJ (.code y_dQuoJ b_dQuoJ 5 (some .long) :: TB) ({ frames := 1, cells := 0, slots := 0, locals := 25 }) (va_Pc [.ref x0, .long a, .long b] (fun _ => True)) (qx_L (fun r => r = px_fdJ a b)) 0 0 (fun _ => False) := by
  refine Met.ofW (cc := b_dQuoJ) (maxL := 5) (ret := (some .long)) (by decide +kernel) rfl ?_
  intro p e s m args below meth c s₁ B hml hv
  obtain ⟨rfl, -⟩ := hv
  have hx := B.exec
  have hb := B.bytes
  have hr := B.returns
  have hts := atoms_spec (ws := (.code y_dQuoJ b_dQuoJ 5 (some .long) :: TB)) B.pre
  have hT : ∀ w ∈ TB, w.before _ s = true := fun w hw => hts w (List.mem_cons_of_mem _ hw)
  have hown : s.vm.findClass "MathDrill" = some m.cls := findClass_of_methodNamed B.named
  have hlocks := B.notSynchronized
  have hl := lv_entry ([.ref x0, .long a, .long b]) (n := 5) (Nat.le_of_ble_eq_true rfl)
  rw [lg_entry_eq]
  generalize (lg_sl ([.ref x0, .long a, .long b]) ++ List.replicate (5 - (lg_sl ([.ref x0, .long a, .long b])).length) Slot.unset).toArray = ls at hl ⊢
  have hl : lv_has ls 5 [(0, .ref x0), (1, .long a), (3, .long b)] := hl
  refine lv_lload_n hx hb d_dQuoJ_0 rfl (lv_at hl 1 rfl) ?_
  refine lv_lload_n hx hb d_dQuoJ_1 rfl (lv_at hl 2 rfl) ?_
  refine qx_callL (va_runS (As := [.long a, .long b]) (rest := []) ⟨hx, hb, hml, hown, hT⟩ (c_mFdJ l a b hne) (va_cwS 2 hT (gi_S (fun _ h => h) tb_152 tb_153 tb_2 tb_154) rfl rfl rfl ⟨by decide, by decide, by decide +kernel⟩ ⟨Nat.le_of_ble_eq_true rfl, Nat.le_of_ble_eq_true rfl⟩) ⟨fun _ _ _ _ q => q, fun _ _ _ => ⟨rfl, trivial⟩⟩ rfl rfl hl.1 rfl (lv_room (Nat.le_of_ble_eq_true rfl)) d_dQuoJ_2 ⟨Nat.zero_le _, Nat.zero_le _⟩) (fun r1 er1 => ?_)
  exact W.lret (v := r1) hx hb hr (fun t ht _ => ⟨_, rfl, er1, ht⟩) (fun q h => by cases h) d_dQuoJ_5
set_option maxHeartbeats 4000000 in
set_option maxRecDepth 100000 in
theorem c_dResJ (l : Launch) (x0 : Nat) (a b : Int64) (hne : ¬ b = 0) : Met l y_dResJ (.code y_dResJ b_dResJ 5 (some .long) :: TB) ({ frames := 1, cells := 0, slots := 0, locals := 25 }) (va_Pc [.ref x0, .long a, .long b] (fun _ => True)) (qx_L (fun r => r = px_fmJ a b)) 0 0 (fun _ => False) := by
  refine Met.ofW (cc := b_dResJ) (maxL := 5) (ret := (some .long)) (by decide +kernel) rfl ?_
  intro p e s m args below meth c s₁ B hml hv
  obtain ⟨rfl, -⟩ := hv
  have hx := B.exec
  have hb := B.bytes
  have hr := B.returns
  have hts := atoms_spec (ws := (.code y_dResJ b_dResJ 5 (some .long) :: TB)) B.pre
  have hT : ∀ w ∈ TB, w.before _ s = true := fun w hw => hts w (List.mem_cons_of_mem _ hw)
  have hown : s.vm.findClass "MathDrill" = some m.cls := findClass_of_methodNamed B.named
  have hlocks := B.notSynchronized
  have hl := lv_entry ([.ref x0, .long a, .long b]) (n := 5) (Nat.le_of_ble_eq_true rfl)
  rw [lg_entry_eq]
  generalize (lg_sl ([.ref x0, .long a, .long b]) ++ List.replicate (5 - (lg_sl ([.ref x0, .long a, .long b])).length) Slot.unset).toArray = ls at hl ⊢
  have hl : lv_has ls 5 [(0, .ref x0), (1, .long a), (3, .long b)] := hl
  refine lv_lload_n hx hb d_dResJ_0 rfl (lv_at hl 1 rfl) ?_
  refine lv_lload_n hx hb d_dResJ_1 rfl (lv_at hl 2 rfl) ?_
  refine qx_callL (va_runS (As := [.long a, .long b]) (rest := []) ⟨hx, hb, hml, hown, hT⟩ (c_mFmJ l a b hne) (va_cwS 2 hT (gi_S (fun _ h => h) tb_159 tb_160 tb_2 tb_161) rfl rfl rfl ⟨by decide, by decide, by decide +kernel⟩ ⟨Nat.le_of_ble_eq_true rfl, Nat.le_of_ble_eq_true rfl⟩) ⟨fun _ _ _ _ q => q, fun _ _ _ => ⟨rfl, trivial⟩⟩ rfl rfl hl.1 rfl (lv_room (Nat.le_of_ble_eq_true rfl)) d_dResJ_2 ⟨Nat.zero_le _, Nat.zero_le _⟩) (fun r1 er1 => ?_)
  exact W.lret (v := r1) hx hb hr (fun t ht _ => ⟨_, rfl, er1, ht⟩) (fun q h => by cases h) d_dResJ_5
set_option maxHeartbeats 4000000 in
set_option maxRecDepth 100000 in
theorem c_dQuoI (l : Launch) (x0 : Nat) (a b : Int32) (hne : ¬ b = 0) : Met l y_dQuoI (.code y_dQuoI b_dQuoI 3 (some .int) :: TB) ({ frames := 1, cells := 0, slots := 0, locals := 22 }) (va_Pc [.ref x0, .int a, .int b] (fun _ => True)) (qx_I (fun r => r = px_fdI a b)) 0 0 (fun _ => False) := by
  refine Met.ofW (cc := b_dQuoI) (maxL := 3) (ret := (some .int)) (by decide +kernel) rfl ?_
  intro p e s m args below meth c s₁ B hml hv
  obtain ⟨rfl, -⟩ := hv
  have hx := B.exec
  have hb := B.bytes
  have hr := B.returns
  have hts := atoms_spec (ws := (.code y_dQuoI b_dQuoI 3 (some .int) :: TB)) B.pre
  have hT : ∀ w ∈ TB, w.before _ s = true := fun w hw => hts w (List.mem_cons_of_mem _ hw)
  have hown : s.vm.findClass "MathDrill" = some m.cls := findClass_of_methodNamed B.named
  have hlocks := B.notSynchronized
  have hl := lv_entry ([.ref x0, .int a, .int b]) (n := 3) (Nat.le_of_ble_eq_true rfl)
  rw [lg_entry_eq]
  generalize (lg_sl ([.ref x0, .int a, .int b]) ++ List.replicate (3 - (lg_sl ([.ref x0, .int a, .int b])).length) Slot.unset).toArray = ls at hl ⊢
  have hl : lv_has ls 3 [(0, .ref x0), (1, .int a), (2, .int b)] := hl
  refine lv_iload_n hx hb d_dQuoI_0 rfl (lv_at hl 1 rfl) ?_
  refine lv_iload_n hx hb d_dQuoI_1 rfl (lv_at hl 2 rfl) ?_
  refine qx_callI (va_runS (As := [.int a, .int b]) (rest := []) ⟨hx, hb, hml, hown, hT⟩ (c_mFdI l a b hne) (va_cwS 2 hT (gi_S (fun _ h => h) tb_166 tb_167 tb_2 tb_168) rfl rfl rfl ⟨by decide, by decide, by decide +kernel⟩ ⟨Nat.le_of_ble_eq_true rfl, Nat.le_of_ble_eq_true rfl⟩) ⟨fun _ _ _ _ q => q, fun _ _ _ => ⟨rfl, trivial⟩⟩ rfl rfl hl.1 rfl (lv_room (Nat.le_of_ble_eq_true rfl)) d_dQuoI_2 ⟨Nat.zero_le _, Nat.zero_le _⟩) (fun r1 er1 => ?_)
  exact W.iret (v := r1) hx hb hr (fun t ht _ => ⟨_, rfl, er1, ht⟩) (fun q h => by cases h) d_dQuoI_5
set_option maxHeartbeats 4000000 in
set_option maxRecDepth 100000 in
theorem c_dResI (l : Launch) (x0 : Nat) (a b : Int32) (hne : ¬ b = 0) : Met l y_dResI (.code y_dResI b_dResI 3 (some .int) :: TB) ({ frames := 1, cells := 0, slots := 0, locals := 22 }) (va_Pc [.ref x0, .int a, .int b] (fun _ => True)) (qx_I (fun r => r = px_fmI a b)) 0 0 (fun _ => False) := by
  refine Met.ofW (cc := b_dResI) (maxL := 3) (ret := (some .int)) (by decide +kernel) rfl ?_
  intro p e s m args below meth c s₁ B hml hv
  obtain ⟨rfl, -⟩ := hv
  have hx := B.exec
  have hb := B.bytes
  have hr := B.returns
  have hts := atoms_spec (ws := (.code y_dResI b_dResI 3 (some .int) :: TB)) B.pre
  have hT : ∀ w ∈ TB, w.before _ s = true := fun w hw => hts w (List.mem_cons_of_mem _ hw)
  have hown : s.vm.findClass "MathDrill" = some m.cls := findClass_of_methodNamed B.named
  have hlocks := B.notSynchronized
  have hl := lv_entry ([.ref x0, .int a, .int b]) (n := 3) (Nat.le_of_ble_eq_true rfl)
  rw [lg_entry_eq]
  generalize (lg_sl ([.ref x0, .int a, .int b]) ++ List.replicate (3 - (lg_sl ([.ref x0, .int a, .int b])).length) Slot.unset).toArray = ls at hl ⊢
  have hl : lv_has ls 3 [(0, .ref x0), (1, .int a), (2, .int b)] := hl
  refine lv_iload_n hx hb d_dResI_0 rfl (lv_at hl 1 rfl) ?_
  refine lv_iload_n hx hb d_dResI_1 rfl (lv_at hl 2 rfl) ?_
  refine qx_callI (va_runS (As := [.int a, .int b]) (rest := []) ⟨hx, hb, hml, hown, hT⟩ (c_mFmI l a b hne) (va_cwS 2 hT (gi_S (fun _ h => h) tb_173 tb_174 tb_2 tb_175) rfl rfl rfl ⟨by decide, by decide, by decide +kernel⟩ ⟨Nat.le_of_ble_eq_true rfl, Nat.le_of_ble_eq_true rfl⟩) ⟨fun _ _ _ _ q => q, fun _ _ _ => ⟨rfl, trivial⟩⟩ rfl rfl hl.1 rfl (lv_room (Nat.le_of_ble_eq_true rfl)) d_dResI_2 ⟨Nat.zero_le _, Nat.zero_le _⟩) (fun r1 er1 => ?_)
  exact W.iret (v := r1) hx hb hr (fun t ht _ => ⟨_, rfl, er1, ht⟩) (fun q h => by cases h) d_dResI_5
set_option maxHeartbeats 4000000 in
set_option maxRecDepth 100000 in
theorem c_dHigh (l : Launch) (x0 : Nat) (a b : Int64) : Met l y_dHigh (.code y_dHigh b_dHigh 5 (some .long) :: TB) ({ frames := 1, cells := 0, slots := 0, locals := 39 }) (va_Pc [.ref x0, .long a, .long b] (fun _ => True)) (qx_L (px_highR a b)) 0 0 (fun _ => False) := by
  refine Met.ofW (cc := b_dHigh) (maxL := 5) (ret := (some .long)) (by decide +kernel) rfl ?_
  intro p e s m args below meth c s₁ B hml hv
  obtain ⟨rfl, -⟩ := hv
  have hx := B.exec
  have hb := B.bytes
  have hr := B.returns
  have hts := atoms_spec (ws := (.code y_dHigh b_dHigh 5 (some .long) :: TB)) B.pre
  have hT : ∀ w ∈ TB, w.before _ s = true := fun w hw => hts w (List.mem_cons_of_mem _ hw)
  have hown : s.vm.findClass "MathDrill" = some m.cls := findClass_of_methodNamed B.named
  have hlocks := B.notSynchronized
  have hl := lv_entry ([.ref x0, .long a, .long b]) (n := 5) (Nat.le_of_ble_eq_true rfl)
  rw [lg_entry_eq]
  generalize (lg_sl ([.ref x0, .long a, .long b]) ++ List.replicate (5 - (lg_sl ([.ref x0, .long a, .long b])).length) Slot.unset).toArray = ls at hl ⊢
  have hl : lv_has ls 5 [(0, .ref x0), (1, .long a), (3, .long b)] := hl
  refine lv_lload_n hx hb d_dHigh_0 rfl (lv_at hl 1 rfl) ?_
  refine lv_lload_n hx hb d_dHigh_1 rfl (lv_at hl 2 rfl) ?_
  refine qx_callL (va_runS (As := [.long a, .long b]) (rest := []) ⟨hx, hb, hml, hown, hT⟩ (c_mHigh l a b) (va_cwS 2 hT (gi_S (fun _ h => h) tb_180 tb_181 tb_2 tb_182) rfl rfl rfl ⟨by decide, by decide, by decide +kernel⟩ ⟨Nat.le_of_ble_eq_true rfl, Nat.le_of_ble_eq_true rfl⟩) ⟨fun _ _ _ _ q => q, fun _ _ _ => ⟨rfl, trivial⟩⟩ rfl rfl hl.1 rfl (lv_room (Nat.le_of_ble_eq_true rfl)) d_dHigh_2 ⟨Nat.zero_le _, Nat.zero_le _⟩) (fun r1 er1 => ?_)
  exact W.lret (v := r1) hx hb hr (fun t ht _ => ⟨_, rfl, er1, ht⟩) (fun q h => by cases h) d_dHigh_5
set_option maxHeartbeats 4000000 in
set_option maxRecDepth 100000 in
theorem c_dFull (l : Launch) (x0 : Nat) (a b : Int32) : Met l y_dFull (.code y_dFull b_dFull 3 (some .long) :: TB) ({ frames := 1, cells := 0, slots := 0, locals := 21 }) (va_Pc [.ref x0, .int a, .int b] (fun _ => True)) (qx_L (fun r => r = px_full a b)) 0 0 (fun _ => False) := by
  refine Met.ofW (cc := b_dFull) (maxL := 3) (ret := (some .long)) (by decide +kernel) rfl ?_
  intro p e s m args below meth c s₁ B hml hv
  obtain ⟨rfl, -⟩ := hv
  have hx := B.exec
  have hb := B.bytes
  have hr := B.returns
  have hts := atoms_spec (ws := (.code y_dFull b_dFull 3 (some .long) :: TB)) B.pre
  have hT : ∀ w ∈ TB, w.before _ s = true := fun w hw => hts w (List.mem_cons_of_mem _ hw)
  have hown : s.vm.findClass "MathDrill" = some m.cls := findClass_of_methodNamed B.named
  have hlocks := B.notSynchronized
  have hl := lv_entry ([.ref x0, .int a, .int b]) (n := 3) (Nat.le_of_ble_eq_true rfl)
  rw [lg_entry_eq]
  generalize (lg_sl ([.ref x0, .int a, .int b]) ++ List.replicate (3 - (lg_sl ([.ref x0, .int a, .int b])).length) Slot.unset).toArray = ls at hl ⊢
  have hl : lv_has ls 3 [(0, .ref x0), (1, .int a), (2, .int b)] := hl
  refine lv_iload_n hx hb d_dFull_0 rfl (lv_at hl 1 rfl) ?_
  refine lv_iload_n hx hb d_dFull_1 rfl (lv_at hl 2 rfl) ?_
  refine qx_callL (va_runS (As := [.int a, .int b]) (rest := []) ⟨hx, hb, hml, hown, hT⟩ (c_mFull l a b) (va_cwS 2 hT (gi_S (fun _ h => h) tb_188 tb_189 tb_2 tb_190) rfl rfl rfl ⟨by decide, by decide, by decide +kernel⟩ ⟨Nat.le_of_ble_eq_true rfl, Nat.le_of_ble_eq_true rfl⟩) ⟨fun _ _ _ _ q => q, fun _ _ _ => ⟨rfl, trivial⟩⟩ rfl rfl hl.1 rfl (lv_room (Nat.le_of_ble_eq_true rfl)) d_dFull_2 ⟨Nat.zero_le _, Nat.zero_le _⟩) (fun r1 er1 => ?_)
  exact W.lret (v := r1) hx hb hr (fun t ht _ => ⟨_, rfl, er1, ht⟩) (fun q h => by cases h) d_dFull_5
set_option maxHeartbeats 4000000 in
set_option maxRecDepth 100000 in
theorem c_dLar (l : Launch) (x0 : Nat) (a b : Int64) : Met l y_dLar (.code y_dLar b_dLar 5 (some .long) :: TB) ({ frames := 1, cells := 0, slots := 0, locals := 23 }) (va_Pc [.ref x0, .long a, .long b] (fun _ => True)) (qx_L (fun r => r = (px_max a b ^^^ (px_min a b <<< ((1 : Int32).toInt64 &&& 63))) ^^^ px_abs a)) 0 0 (fun _ => False) := by
  refine Met.ofW (cc := b_dLar) (maxL := 5) (ret := (some .long)) (by decide +kernel) rfl ?_
  intro p e s m args below meth c s₁ B hml hv
  obtain ⟨rfl, -⟩ := hv
  have hx := B.exec
  have hb := B.bytes
  have hr := B.returns
  have hts := atoms_spec (ws := (.code y_dLar b_dLar 5 (some .long) :: TB)) B.pre
  have hT : ∀ w ∈ TB, w.before _ s = true := fun w hw => hts w (List.mem_cons_of_mem _ hw)
  have hown : s.vm.findClass "MathDrill" = some m.cls := findClass_of_methodNamed B.named
  have hlocks := B.notSynchronized
  have hl := lv_entry ([.ref x0, .long a, .long b]) (n := 5) (Nat.le_of_ble_eq_true rfl)
  rw [lg_entry_eq]
  generalize (lg_sl ([.ref x0, .long a, .long b]) ++ List.replicate (5 - (lg_sl ([.ref x0, .long a, .long b])).length) Slot.unset).toArray = ls at hl ⊢
  have hl : lv_has ls 5 [(0, .ref x0), (1, .long a), (3, .long b)] := hl
  refine lv_lload_n hx hb d_dLar_0 rfl (lv_at hl 1 rfl) ?_
  refine lv_lload_n hx hb d_dLar_1 rfl (lv_at hl 2 rfl) ?_
  refine qx_callL (va_runS (As := [.long a, .long b]) (rest := []) ⟨hx, hb, hml, hown, hT⟩ (c_mMax l a b) (va_cwS 2 hT (gi_S (fun _ h => h) tb_195 tb_196 tb_2 tb_197) rfl rfl rfl ⟨by decide, by decide, by decide +kernel⟩ ⟨Nat.le_of_ble_eq_true rfl, Nat.le_of_ble_eq_true rfl⟩) ⟨fun _ _ _ _ q => q, fun _ _ _ => ⟨rfl, trivial⟩⟩ rfl rfl hl.1 rfl (lv_room (Nat.le_of_ble_eq_true rfl)) d_dLar_2 ⟨Nat.zero_le _, Nat.zero_le _⟩) (fun r1 er1 => ?_)
  refine lv_lload_n hx hb d_dLar_5 rfl (lv_at hl 1 rfl) ?_
  refine lv_lload_n hx hb d_dLar_6 rfl (lv_at hl 2 rfl) ?_
  refine qx_callL (va_runS (As := [.long a, .long b]) (rest := [.long r1]) ⟨hx, hb, hml, hown, hT⟩ (c_mMin l a b) (va_cwS 2 hT (gi_S (fun _ h => h) tb_198 tb_199 tb_2 tb_200) rfl rfl rfl ⟨by decide, by decide, by decide +kernel⟩ ⟨Nat.le_of_ble_eq_true rfl, Nat.le_of_ble_eq_true rfl⟩) ⟨fun _ _ _ _ q => q, fun _ _ _ => ⟨rfl, trivial⟩⟩ rfl rfl hl.1 rfl (lv_room (Nat.le_of_ble_eq_true rfl)) d_dLar_7 ⟨Nat.zero_le _, Nat.zero_le _⟩) (fun r2 er2 => ?_)
  refine lv_iconst (v := 1) hx hb d_dLar_10 (by decide) ?_
  refine lv_lshl hx hb d_dLar_11 rfl ?_
  refine lv_lxor hx hb d_dLar_12 ?_
  refine lv_lload_n hx hb d_dLar_13 rfl (lv_at hl 1 rfl) ?_
  refine qx_callL (va_runS (As := [.long a]) (rest := [.long (r1 ^^^ (r2 <<< ((1 : Int32).toInt64 &&& 63)))]) ⟨hx, hb, hml, hown, hT⟩ (c_mAbs l a) (va_cwS 1 hT (gi_S (fun _ h => h) tb_201 tb_130 tb_2 tb_131) rfl rfl rfl ⟨by decide, by decide, by decide +kernel⟩ ⟨Nat.le_of_ble_eq_true rfl, Nat.le_of_ble_eq_true rfl⟩) ⟨fun _ _ _ _ q => q, fun _ _ _ => ⟨rfl, trivial⟩⟩ rfl rfl hl.1 rfl (lv_room (Nat.le_of_ble_eq_true rfl)) d_dLar_14 ⟨Nat.zero_le _, Nat.zero_le _⟩) (fun r3 er3 => ?_)
  refine lv_lxor hx hb d_dLar_17 ?_
  exact W.lret (v := (r1 ^^^ (r2 <<< ((1 : Int32).toInt64 &&& 63))) ^^^ r3) hx hb hr (fun t ht _ => ⟨_, rfl, by subst er1; subst er2; subst er3; rfl, ht⟩) (fun q h => by cases h) d_dLar_18
set_option maxHeartbeats 4000000 in
set_option maxRecDepth 100000 in
theorem c_dOver (l : Launch) (D : va_G) (x0 : Nat) (v : Int32) (h01 : v = 0 ∨ v = 1) : Met l y_dOver (.code y_dOver b_dOver 1 (some .boolean) :: TB) ({ frames := 0, cells := 0, slots := 0, locals := 0 }) (va_Pc [.ref x0] (fun U => ox_O D U U.heap x0 v)) (qx_I (fun r => r = v)) 0 0 (fun _ => False) := by
  refine Met.ofW (cc := b_dOver) (maxL := 1) (ret := (some .boolean)) (by decide +kernel) rfl ?_
  intro p e s m args below meth c s₁ B hml hv
  obtain ⟨rfl, hO⟩ := hv
  have hx := B.exec
  have hb := B.bytes
  have hr := B.returns
  have hts := atoms_spec (ws := (.code y_dOver b_dOver 1 (some .boolean) :: TB)) B.pre
  have hT : ∀ w ∈ TB, w.before _ s = true := fun w hw => hts w (List.mem_cons_of_mem _ hw)
  have hown : s.vm.findClass "MathDrill" = some m.cls := findClass_of_methodNamed B.named
  have hlocks := B.notSynchronized
  have hl := lv_entry ([.ref x0]) (n := 1) (Nat.le_of_ble_eq_true rfl)
  rw [lg_entry_eq]
  generalize (lg_sl ([.ref x0]) ++ List.replicate (1 - (lg_sl ([.ref x0])).length) Slot.unset).toArray = ls at hl ⊢
  have hl : lv_has ls 1 [(0, .ref x0)] := hl
  refine lv_aload_n hx hb d_dOver_0 rfl (lv_at hl 0 rfl) ?_
  refine va_get (D := D) (ci := 0) (v := .int v) (C := R_MD) (T := F_MD) (N := 1) hx hb hT in_MD hown hO.2 hO.1 0 rfl rfl 0 (by decide) (hT _ tb_15) (fun _ h9 => h9) rfl d_dOver_1 ?_
  exact W.zret (v := v) hx hb hr (by rcases h01 with rfl | rfl <;> rfl) (fun t ht _ => ⟨_, rfl, rfl, ht⟩) (fun q h => by cases h) d_dOver_4
set_option maxHeartbeats 4000000 in
set_option maxRecDepth 100000 in
theorem c_dInit (l : Launch) (x0 : Nat) : Met l y_dInit (.code y_dInit b_dInit 1 none :: TB) ({ frames := 1, cells := 0, slots := 0, locals := 12 }) (va_Pc [.ref x0] (fun _ => True)) qx_V 0 0 (fun _ => False) := by
  refine Met.ofW (cc := b_dInit) (maxL := 1) (ret := none) (by decide +kernel) rfl ?_
  intro p e s m args below meth c s₁ B hml hv
  obtain ⟨rfl, -⟩ := hv
  have hx := B.exec
  have hb := B.bytes
  have hr := B.returns
  have hts := atoms_spec (ws := (.code y_dInit b_dInit 1 none :: TB)) B.pre
  have hT : ∀ w ∈ TB, w.before _ s = true := fun w hw => hts w (List.mem_cons_of_mem _ hw)
  have hown : s.vm.findClass "MathDrill" = some m.cls := findClass_of_methodNamed B.named
  have hlocks := B.notSynchronized
  have hl := lv_entry ([.ref x0]) (n := 1) (Nat.le_of_ble_eq_true rfl)
  rw [lg_entry_eq]
  generalize (lg_sl ([.ref x0]) ++ List.replicate (1 - (lg_sl ([.ref x0])).length) Slot.unset).toArray = ls at hl ⊢
  have hl : lv_has ls 1 [(0, .ref x0)] := hl
  refine lv_aload_n hx hb d_dInit_0 rfl (lv_at hl 0 rfl) ?_
  refine W.objInit hx hb hown (hT _ tb_12) (hT _ tb_13) (hT _ tb_14) rfl (by rw [hml]; exact hl.1) rfl d_dInit_1 (Nat.le_of_ble_eq_true rfl) (Nat.le_of_ble_eq_true rfl) ?_
  exact W.vret hx hb hr (fun t ht _ => ⟨rfl, ht⟩) (fun q h => by cases h) d_dInit_4
end
section
/-! plain arithmetic; the first rows (uN) are a starting text: kit/laws/BITS.to-paste, the family uN -/
def uN (x : Int64) : Nat := x.toUInt64.toNat
theorem uN_lt (x : Int64) : uN x < 18446744073709551616 := x.toUInt64.toNat_lt
theorem uN_inj {x y : Int64} (h : uN x = uN y) : x = y := congrArg UInt64.toInt64 (UInt64.toNat_inj.mp h)
theorem uN_add (x y : Int64) : uN (x + y) = (uN x + uN y) % 18446744073709551616 := by
  show (x.toUInt64 + y.toUInt64).toNat = _
  exact UInt64.toNat_add _ _
theorem uN_mul (x y : Int64) : uN (x * y) = (uN x * uN y) % 18446744073709551616 := by
  show (x.toUInt64 * y.toUInt64).toNat = _
  exact UInt64.toNat_mul _ _
theorem uN_shr (x : Int64) (s : UInt64) : uN (x.toUInt64 >>> s).toInt64 = uN x / 2 ^ (s.toNat % 64) := by
  show (x.toUInt64 >>> s).toNat = _
  rw [UInt64.toNat_shiftRight, Nat.shiftRight_eq_div_pow]
  rfl
theorem uN_s32 (x : Int64) : uN (x.toUInt64 >>> ((32 : Int32).toInt64.toUInt64 &&& Int64.toUInt64 63)).toInt64 = uN x / 4294967296 := by
  have h : ((32 : Int32).toInt64.toUInt64 &&& Int64.toUInt64 63).toNat % 64 = 32 := by decide
  rw [uN_shr, h]
theorem uN_lo (x : Int64) : uN (x &&& 4294967295) = uN x % 4294967296 := by
  show (x.toUInt64 &&& Int64.toUInt64 4294967295).toNat = _
  rw [UInt64.toNat_and]
  exact Nat.and_two_pow_sub_one_eq_mod _ 32
theorem uN_int (x : Int64) : x.toInt = if 2 * uN x < 18446744073709551616 then (uN x : Int) else (uN x : Int) - 18446744073709551616 := BitVec.toInt_eq_toNat_cond _
/-! ranges, and the operations as integers modulo -/
theorem rj (x : Int64) : -9223372036854775808 ≤ x.toInt ∧ x.toInt < 9223372036854775808 := ⟨Int64.le_toInt x, Int64.toInt_lt x⟩
theorem ri (x : Int32) : -2147483648 ≤ x.toInt ∧ x.toInt < 2147483648 := ⟨Int32.le_toInt x, Int32.toInt_lt x⟩
theorem bm64 (z : Int) : ∃ k : Int, z.bmod (2 ^ 64) = z + 18446744073709551616 * k := by
  refine ⟨-(z.bdiv (2 ^ 64)), ?_⟩
  have h := Int.bmod_add_bdiv z (2 ^ 64)
  have e : ((2 ^ 64 : Nat) : Int) = 18446744073709551616 := by decide
  rw [e] at h
  omega
theorem bm32 (z : Int) : ∃ k : Int, z.bmod (2 ^ 32) = z + 4294967296 * k := by
  refine ⟨-(z.bdiv (2 ^ 32)), ?_⟩
  have h := Int.bmod_add_bdiv z (2 ^ 32)
  have e : ((2 ^ 32 : Nat) : Int) = 4294967296 := by decide
  rw [e] at h
  omega
theorem aj (x y : Int64) : ∃ k : Int, (x + y).toInt = x.toInt + y.toInt + 18446744073709551616 * k := by rw [Int64.toInt_add]; exact bm64 _
theorem sj (x y : Int64) : ∃ k : Int, (x - y).toInt = x.toInt - y.toInt + 18446744073709551616 * k := by rw [Int64.toInt_sub]; exact bm64 _
theorem mj (x y : Int64) : ∃ k : Int, (x * y).toInt = x.toInt * y.toInt + 18446744073709551616 * k := by rw [Int64.toInt_mul]; exact bm64 _
theorem nj (x : Int64) : ∃ k : Int, (-x).toInt = -x.toInt + 18446744073709551616 * k := by rw [Int64.toInt_neg]; exact bm64 _
theorem ai (x y : Int32) : ∃ k : Int, (x + y).toInt = x.toInt + y.toInt + 4294967296 * k := by rw [Int32.toInt_add]; exact bm32 _
theorem si (x y : Int32) : ∃ k : Int, (x - y).toInt = x.toInt - y.toInt + 4294967296 * k := by rw [Int32.toInt_sub]; exact bm32 _
theorem mi (x y : Int32) : ∃ k : Int, (x * y).toInt = x.toInt * y.toInt + 4294967296 * k := by rw [Int32.toInt_mul]; exact bm32 _
theorem li (x : Int64) : ∃ k : Int, x.toInt32.toInt = x.toInt + 4294967296 * k := by rw [Int64.toInt_toInt32]; exact bm32 _
theorem ub (x : Int64) : ∃ k : Int, (uN x : Int) = x.toInt + 18446744073709551616 * k := by
  have h := uN_int x
  by_cases h2 : 2 * uN x < 18446744073709551616
  · rw [if_pos h2] at h; exact ⟨0, by omega⟩
  · rw [if_neg h2] at h; exact ⟨1, by omega⟩
def iN (x : Int32) : Nat := x.toUInt32.toNat
theorem iN_lt (x : Int32) : iN x < 4294967296 := x.toUInt32.toNat_lt
theorem iN_int (x : Int32) : x.toInt = if 2 * iN x < 4294967296 then (iN x : Int) else (iN x : Int) - 4294967296 := BitVec.toInt_eq_toNat_cond _
theorem ib (x : Int32) : ∃ k : Int, (iN x : Int) = x.toInt + 4294967296 * k := by
  have h := iN_int x
  by_cases h2 : 2 * iN x < 4294967296
  · rw [if_pos h2] at h; exact ⟨0, by omega⟩
  · rw [if_neg h2] at h; exact ⟨1, by omega⟩
/-- the low half of a long -/
theorem iN_l (x : Int64) : iN x.toInt32 = uN x % 4294967296 := by
  obtain ⟨k1, h1⟩ := li x
  obtain ⟨k2, h2⟩ := ub x
  obtain ⟨k3, h3⟩ := ib x.toInt32
  have h4 := iN_lt x.toInt32
  omega
/-- an int, widened without its sign -/
theorem uN_w (x : Int32) : uN (x.toInt64 &&& 4294967295) = iN x := by
  rw [uN_lo]
  obtain ⟨k2, h2⟩ := ub x.toInt64
  obtain ⟨k3, h3⟩ := ib x
  have h4 := iN_lt x
  have h5 := Int32.toInt_toInt64 x
  omega
theorem sh_j (x : Int64) (s : Int64) (n : Nat) (h : (s.toBitVec.smod 64).toNat = n) : (x >>> s).toInt = x.toInt / 2 ^ n := by
  show (x.toBitVec.sshiftRight (s.toBitVec.smod 64).toNat).toInt = _
  rw [h, BitVec.toInt_sshiftRight, Int.shiftRight_eq_div_pow]
  rfl
theorem sh63 (x : Int64) : (x >>> ((63 : Int32).toInt64 &&& 63)).toInt = x.toInt / 9223372036854775808 := sh_j x _ 63 (by decide)
theorem sh32 (x : Int64) : (x >>> ((32 : Int32).toInt64 &&& 63)).toInt = x.toInt / 4294967296 := sh_j x _ 32 (by decide)
theorem uN_l32 (x : Int64) : uN (x <<< ((32 : Int32).toInt64 &&& 63)) = (4294967296 * uN x) % 18446744073709551616 := by
  have h : (((32 : Int32).toInt64 &&& 63).toBitVec.smod 64).toNat = 32 := by decide
  show (x.toBitVec <<< (((32 : Int32).toInt64 &&& 63).toBitVec.smod 64).toNat).toNat = _
  rw [h, BitVec.toNat_shiftLeft, Nat.shiftLeft_eq, Nat.mul_comm]
  rfl
/-- the two halves together -/
theorem uN_two (x y : Int32) : uN ((x.toInt64 &&& 4294967295) ||| (y.toInt64 <<< ((32 : Int32).toInt64 &&& 63))) = iN x + 4294967296 * iN y := by
  have h1 : uN ((x.toInt64 &&& 4294967295) ||| (y.toInt64 <<< ((32 : Int32).toInt64 &&& 63))) = uN (x.toInt64 &&& 4294967295) ||| uN (y.toInt64 <<< ((32 : Int32).toInt64 &&& 63)) := UInt64.toNat_or _ _
  have h2 : uN (y.toInt64 <<< ((32 : Int32).toInt64 &&& 63)) = 2 ^ 32 * iN y := by
    rw [uN_l32]
    obtain ⟨k2, h2⟩ := ub y.toInt64
    obtain ⟨k3, h3⟩ := ib y
    have h4 := iN_lt y
    have h5 := Int32.toInt_toInt64 y
    omega
  rw [h1, h2, uN_w, Nat.or_comm, ← Nat.two_pow_add_eq_or_of_lt (iN_lt x)]
  omega
/-! four ints as one number -/
def VV (f : Nat → Int32) : Nat := iN (f 0) + 4294967296 * iN (f 1) + 18446744073709551616 * iN (f 2) + 79228162514264337593543950336 * iN (f 3)
theorem VV_lt (f : Nat → Int32) : VV f < 340282366920938463463374607431768211456 := by
  have h0 := iN_lt (f 0); have h1 := iN_lt (f 1); have h2 := iN_lt (f 2); have h3 := iN_lt (f 3)
  unfold VV; omega
/-- four ints hold z -/
def HZ (f : Nat → Int32) (z : Int) : Prop := (VV f : Int) = z % 340282366920938463463374607431768211456
theorem pl_of (v : Int64) {f : Nat → Int32} (h0 : f 0 = v.toInt32) (h1 : f 1 = ((v.toUInt64 >>> ((32 : Int32).toInt64.toUInt64 &&& Int64.toUInt64 63)).toInt64).toInt32) (h2 : f 2 = (v >>> ((63 : Int32).toInt64 &&& 63)).toInt32) (h3 : f 3 = (v >>> ((63 : Int32).toInt64 &&& 63)).toInt32) : HZ f v.toInt := by
  unfold HZ VV
  rw [h0, h1, h2, h3, iN_l, iN_l, iN_l, uN_s32]
  have e := sh63 v
  have r := rj v
  obtain ⟨k1, q1⟩ := ub v
  obtain ⟨k2, q2⟩ := ub (v >>> ((63 : Int32).toInt64 &&& 63))
  have l1 := uN_lt v
  have l2 := uN_lt (v >>> ((63 : Int32).toInt64 &&& 63))
  omega
/-- one place of a sum -/
theorem pl_add {c s : Int64} {a b : Int32} (hc : uN c ≤ 1) (hs : s = c + ((a.toInt64 &&& 4294967295) + (b.toInt64 &&& 4294967295))) :
    iN s.toInt32 + 4294967296 * uN (s.toUInt64 >>> ((32 : Int32).toInt64.toUInt64 &&& Int64.toUInt64 63)).toInt64 = iN a + iN b + uN c ∧ uN (s.toUInt64 >>> ((32 : Int32).toInt64.toUInt64 &&& Int64.toUInt64 63)).toInt64 ≤ 1 := by
  have e : uN s = iN a + iN b + uN c := by
    rw [hs, uN_add, uN_add, uN_w, uN_w]
    have := iN_lt a; have := iN_lt b
    omega
  rw [iN_l, uN_s32, e]
  have := iN_lt a; have := iN_lt b
  omega
/-- one place of a product -/
theorem pl_mul {c s : Int64} {a b r : Int32} (hc : uN c < 4294967296) (hs : s = c + ((a.toInt64 &&& 4294967295) * (b.toInt64 &&& 4294967295) + (r.toInt64 &&& 4294967295))) :
    iN s.toInt32 + 4294967296 * uN (s.toUInt64 >>> ((32 : Int32).toInt64.toUInt64 &&& Int64.toUInt64 63)).toInt64 = iN a * iN b + iN r + uN c ∧ uN (s.toUInt64 >>> ((32 : Int32).toInt64.toUInt64 &&& Int64.toUInt64 63)).toInt64 < 4294967296 := by
  have h1 := iN_lt a; have h2 := iN_lt b; have h3 := iN_lt r
  have h4 : iN a * iN b ≤ 4294967295 * 4294967295 := Nat.mul_le_mul (by omega) (by omega)
  have e : uN s = iN a * iN b + iN r + uN c := by
    rw [hs, uN_add, uN_add, uN_mul, uN_w, uN_w, uN_w]
    generalize iN a * iN b = P at h4 ⊢
    omega
  rw [iN_l, uN_s32, e]
  generalize iN a * iN b = P at h4 ⊢
  omega
theorem iN_not (x : Int32) : iN (x ^^^ (-1)) = 4294967295 - iN x := by
  have e : (-1 : Int32).toBitVec = BitVec.allOnes 32 := by decide
  show (x.toBitVec ^^^ (-1 : Int32).toBitVec).toNat = 4294967295 - x.toBitVec.toNat
  rw [e, BitVec.xor_allOnes, BitVec.toNat_not]
theorem pl_low (f : Nat → Int32) : uN (((f 0).toInt64 &&& 4294967295) ||| ((f 1).toInt64 <<< ((32 : Int32).toInt64 &&& 63))) = VV f % 18446744073709551616 := by
  rw [uN_two]
  have h0 := iN_lt (f 0); have h1 := iN_lt (f 1)
  unfold VV; omega
theorem pl_high (f : Nat → Int32) : uN (((f 2).toInt64 &&& 4294967295) ||| ((f 3).toInt64 <<< ((32 : Int32).toInt64 &&& 63))) = VV f / 18446744073709551616 := by
  rw [uN_two]
  have h0 := iN_lt (f 0); have h1 := iN_lt (f 1); have h2 := iN_lt (f 2); have h3 := iN_lt (f 3)
  unfold VV; omega
theorem pl_lowZ {f : Nat → Int32} {z : Int} (h : HZ f z) {r : Int64} (hr : uN r = VV f % 18446744073709551616) : ∃ k : Int, r.toInt = z + 18446744073709551616 * k := by
  obtain ⟨k1, q1⟩ := ub r
  unfold HZ at h
  exact ⟨-((z - r.toInt) / 18446744073709551616), by omega⟩
theorem pl_highZ {f : Nat → Int32} {z : Int} (h : HZ f z) (hz : -170141183460469231731687303715884105728 ≤ z ∧ z < 170141183460469231731687303715884105728) {r : Int64} (hr : uN r = VV f / 18446744073709551616) : r.toInt = z / 18446744073709551616 := by
  obtain ⟨k1, q1⟩ := ub r
  have := rj r
  unfold HZ at h
  omega
/-- fits: the high half is the low half's sign -/
theorem pl_fits {z : Int} (hz : -170141183460469231731687303715884105728 ≤ z ∧ z < 170141183460469231731687303715884105728) {lo hi : Int64} (h1 : ∃ k : Int, lo.toInt = z + 18446744073709551616 * k) (h2 : hi.toInt = z / 18446744073709551616) :
    hi = lo >>> ((63 : Int32).toInt64 &&& 63) ↔ (-9223372036854775808 ≤ z ∧ z < 9223372036854775808) := by
  obtain ⟨k, h1⟩ := h1
  have e := sh63 lo
  have r := rj lo
  rw [← Int64.toInt_inj, e]
  omega
end
section
/-! MathDrillLaw: of, plus, minus, times, low, high, fits -/
set_option maxHeartbeats 4000000 in
set_option maxRecDepth 100000 in
theorem c_lOf (l : Launch) (v : Int64) : Met l y_lOf (.code y_lOf b_lOf 2 (some (.array .int)) :: TB) ({ frames := 0, cells := 1, slots := 4, locals := 0 }) (va_Pc [.long v] (fun _ => True)) (qx_A (fun f => HZ f v.toInt)) 1 4 (fun _ => False) := by
  refine Met.ofW (cc := b_lOf) (maxL := 2) (ret := (some (.array .int))) (by decide +kernel) rfl ?_
  intro p e s m args below meth c s₁ B hml hv
  obtain ⟨rfl, -⟩ := hv
  have hx := B.exec
  have hb := B.bytes
  have hr := B.returns
  have hts := atoms_spec (ws := (.code y_lOf b_lOf 2 (some (.array .int)) :: TB)) B.pre
  have hT : ∀ w ∈ TB, w.before _ s = true := fun w hw => hts w (List.mem_cons_of_mem _ hw)
  have hown : s.vm.findClass "MathDrillLaw" = some m.cls := findClass_of_methodNamed B.named
  have hlocks := B.notSynchronized
  have hl := lv_entry ([.long v]) (n := 2) (Nat.le_of_ble_eq_true rfl)
  rw [lg_entry_eq]
  generalize (lg_sl ([.long v]) ++ List.replicate (2 - (lg_sl ([.long v])).length) Slot.unset).toArray = ls at hl ⊢
  have hl : lv_has ls 2 [(0, .long v)] := hl
  refine lv_iconst (v := 4) hx hb d_lOf_0 (by decide) ?_
  refine ax_new hx hb (hT _ tb_205) d_lOf_1 (Nat.le_refl _) (Nat.le_refl _) (fun q H hq hQ hE => ?_)
  have hn : s.heap.size ≤ q := Nat.le_of_eq hq.symm
  refine lv_dup hx hb d_lOf_3 rfl ?_
  refine lv_iconst (v := 0) hx hb d_lOf_4 (by decide) ?_
  refine lv_lload_n hx hb d_lOf_5 rfl (lv_at hl 0 rfl) ?_
  refine lv_l2i hx hb d_lOf_6 rfl ?_
  refine ax_st hx hb hQ hn 0 rfl (by decide) d_lOf_7 (fun H hQ hz ho => ?_)
  have hE := hE.put hn hz ho
  refine lv_dup hx hb d_lOf_8 rfl ?_
  refine lv_iconst (v := 1) hx hb d_lOf_9 (by decide) ?_
  refine lv_lload_n hx hb d_lOf_10 rfl (lv_at hl 0 rfl) ?_
  refine lv_bipush (v := 32) hx hb d_lOf_11 (by decide) ?_
  refine lv_lushr hx hb d_lOf_13 rfl ?_
  refine lv_l2i hx hb d_lOf_14 rfl ?_
  refine ax_st hx hb hQ hn 1 rfl (by decide) d_lOf_15 (fun H hQ hz ho => ?_)
  have hE := hE.put hn hz ho
  refine lv_dup hx hb d_lOf_16 rfl ?_
  refine lv_iconst (v := 2) hx hb d_lOf_17 (by decide) ?_
  refine lv_lload_n hx hb d_lOf_18 rfl (lv_at hl 0 rfl) ?_
  refine lv_bipush (v := 63) hx hb d_lOf_19 (by decide) ?_
  refine lv_lshr hx hb d_lOf_21 rfl ?_
  refine lv_l2i hx hb d_lOf_22 rfl ?_
  refine ax_st hx hb hQ hn 2 rfl (by decide) d_lOf_23 (fun H hQ hz ho => ?_)
  have hE := hE.put hn hz ho
  refine lv_dup hx hb d_lOf_24 rfl ?_
  refine lv_iconst (v := 3) hx hb d_lOf_25 (by decide) ?_
  refine lv_lload_n hx hb d_lOf_26 rfl (lv_at hl 0 rfl) ?_
  refine lv_bipush (v := 63) hx hb d_lOf_27 (by decide) ?_
  refine lv_lshr hx hb d_lOf_29 rfl ?_
  refine lv_l2i hx hb d_lOf_30 rfl ?_
  refine ax_st hx hb hQ hn 3 rfl (by decide) d_lOf_31 (fun H hQ hz ho => ?_)
  have hE := hE.put hn hz ho
  exact W.aret (v := .ref q) hx hb hr (Or.inr ⟨_, rfl⟩) (Or.inr ⟨_, rfl⟩) (fun t ht hW => ⟨q, _, rfl, pl_of v rfl rfl rfl rfl, by rw [ht]; exact hQ.moved hW.alike, hn, by rw [ht]; exact hE⟩) (fun q h => by cases h) d_lOf_32
set_option maxHeartbeats 4000000 in
set_option maxRecDepth 100000 in
theorem g_lPlus {p : Program} {l : Launch} {e : Env} {R : Room} {s : State} {m : MethodId} {args : Array Value} {below : List Frame} {meth : Method} {c : Code} {H : Heap} {locs : List Loc} {cells slots : Nat} {Q : State → Prop} (hx : p.tables.exec = Jvm.exec) (hb : c.code = b_lPlus) (hT : ∀ w ∈ TB, w.before args s = true) (hown : s.vm.findClass "MathDrillLaw" = some m.cls) {a b q : Nat} {fa fb f : Nat → Int32} {cv : Int64} (i : Nat) (hi : i < 4) (hc : uN cv ≤ 1) (hA : ax_A s H a fa) (hB : ax_A s H b fb) (hQ : ax_A s H q f) (hn : s.heap.size ≤ q) {ls : Array Slot} (hl : lv_has ls 6 [(5, .int (nI i)), (3, .long cv), (2, .ref q), (0, .ref a), (1, .ref b)])
    (k : ∀ (H : Heap) (ls : Array Slot) (xv : Int32) (cw : Int64), iN xv + 4294967296 * uN cw = iN (fa i) + iN (fb i) + uN cv → uN cw ≤ 1 → ax_A s H q (upd f i xv) → ax_X s.heap H → lv_has ls 6 [(5, .int (nI (i + 1))), (3, .long cw), (2, .ref q), (0, .ref a), (1, .ref b)] → W p l e R s m args below meth c H locs cells slots Q (F0 m 9 ls [])) (hE : ax_X s.heap H) : W p l e R s m args below meth c H locs cells slots Q (F0 m 9 ls []) := by
  refine lv_iload hx hb d_lPlus_9 (lv_at hl 0 rfl) ?_
  refine lv_iconst (v := 4) hx hb d_lPlus_11 (by decide) ?_
  refine lv_icmp_ge (tgt := 54) hx hb d_lPlus_12 (by decide) (fun h1 => ?_) (fun h1 => ?_)
  · exact absurd h1 (nI_ge hi (by decide))
  · refine lv_lload_n hx hb d_lPlus_15 rfl (lv_at hl 1 rfl) ?_
    refine lv_aload_n hx hb d_lPlus_16 rfl (lv_at hl 3 rfl) ?_
    refine lv_iload hx hb d_lPlus_17 (lv_at hl 0 rfl) ?_
    refine ax_ld hx hb hA i rfl hi d_lPlus_19 ?_
    refine lv_i2l hx hb d_lPlus_20 rfl ?_
    refine lv_ldc2 (v := 4294967295) hx hb hown (hT _ tb_209) d_lPlus_21 ?_
    refine lv_land hx hb d_lPlus_24 ?_
    refine lv_aload_n hx hb d_lPlus_25 rfl (lv_at hl 4 rfl) ?_
    refine lv_iload hx hb d_lPlus_26 (lv_at hl 0 rfl) ?_
    refine ax_ld hx hb hB i rfl hi d_lPlus_28 ?_
    refine lv_i2l hx hb d_lPlus_29 rfl ?_
    refine lv_ldc2 (v := 4294967295) hx hb hown (hT _ tb_209) d_lPlus_30 ?_
    refine lv_land hx hb d_lPlus_33 ?_
    refine lv_ladd hx hb d_lPlus_34 ?_
    refine lv_ladd hx hb d_lPlus_35 ?_
    refine lv_topl (fun v1 ev1 => ?_)
    refine lv_lstore_n (lv' := [(3, .long v1), (5, .int (nI i)), (2, .ref q), (0, .ref a), (1, .ref b)]) hx hb d_lPlus_36 rfl hl (by decide) rfl (fun ls hl => ?_)
    refine lv_aload_n hx hb d_lPlus_37 rfl (lv_at hl 2 rfl) ?_
    refine lv_iload hx hb d_lPlus_38 (lv_at hl 1 rfl) ?_
    refine lv_lload_n hx hb d_lPlus_40 rfl (lv_at hl 0 rfl) ?_
    refine lv_l2i hx hb d_lPlus_41 rfl ?_
    refine ax_st hx hb hQ hn i rfl hi d_lPlus_42 (fun H hQ hz ho => ?_)
    have hE := hE.put hn hz ho
    refine lv_lload_n hx hb d_lPlus_43 rfl (lv_at hl 0 rfl) ?_
    refine lv_bipush (v := 32) hx hb d_lPlus_44 (by decide) ?_
    refine lv_lushr hx hb d_lPlus_46 rfl ?_
    refine lv_topl (fun v2 ev2 => ?_)
    refine lv_lstore_n (lv' := [(3, .long v2), (5, .int (nI i)), (2, .ref q), (0, .ref a), (1, .ref b)]) hx hb d_lPlus_47 rfl hl (by decide) rfl (fun ls hl => ?_)
    refine lv_iinc (k := 1) (v := nI (i + 1)) (lv' := [(5, .int (nI (i + 1))), (3, .long v2), (2, .ref q), (0, .ref a), (1, .ref b)]) hx hb d_lPlus_48 hl rfl (by rw [nI_succ]; rfl) (by decide) rfl (fun ls hl => ?_)
    refine lv_goto (tgt := 9) hx hb d_lPlus_51 (by decide) ?_
    have hl := lv_sub hl [0, 1, 2, 3, 4] rfl
    exact k _ _ _ _ (by have h := pl_add hc ev1; rw [← ev2] at h; exact h.1) (by have h := pl_add hc ev1; rw [← ev2] at h; exact h.2) hQ hE hl
theorem pl_plus {fa fb f : Nat → Int32} {za zb : Int} (ha : HZ fa za) (hb : HZ fb zb) {k1 k2 k3 k4 : Nat} (e0 : iN (f 0) + 4294967296 * k1 = iN (fa 0) + iN (fb 0) + 0) (e1 : iN (f 1) + 4294967296 * k2 = iN (fa 1) + iN (fb 1) + k1) (e2 : iN (f 2) + 4294967296 * k3 = iN (fa 2) + iN (fb 2) + k2) (e3 : iN (f 3) + 4294967296 * k4 = iN (fa 3) + iN (fb 3) + k3) : HZ f (za + zb) := by
  unfold HZ VV at *
  have h0 := iN_lt (f 0); have h1 := iN_lt (f 1); have h2 := iN_lt (f 2); have h3 := iN_lt (f 3)
  omega
set_option maxHeartbeats 4000000 in
set_option maxRecDepth 100000 in
theorem c_lPlus (l : Launch) (a b : Nat) (fa fb : Nat → Int32) (za zb : Int) (ha : HZ fa za) (hb0 : HZ fb zb) : Met l y_lPlus (.code y_lPlus b_lPlus 6 (some (.array .int)) :: TB) ({ frames := 0, cells := 1, slots := 4, locals := 0 }) (va_Pc [.ref a, .ref b] (fun U => ax_A U U.heap a fa ∧ ax_A U U.heap b fb)) (qx_A (fun f => HZ f (za + zb))) 1 4 (fun _ => False) := by
  refine Met.ofW (cc := b_lPlus) (maxL := 6) (ret := (some (.array .int))) (by decide +kernel) rfl ?_
  intro p e s m args below meth c s₁ B hml hv
  obtain ⟨rfl, hA0, hB0⟩ := hv
  have hx := B.exec
  have hb := B.bytes
  have hr := B.returns
  have hts := atoms_spec (ws := (.code y_lPlus b_lPlus 6 (some (.array .int)) :: TB)) B.pre
  have hT : ∀ w ∈ TB, w.before _ s = true := fun w hw => hts w (List.mem_cons_of_mem _ hw)
  have hown : s.vm.findClass "MathDrillLaw" = some m.cls := findClass_of_methodNamed B.named
  have hlocks := B.notSynchronized
  have hl := lv_entry ([.ref a, .ref b]) (n := 6) (Nat.le_of_ble_eq_true rfl)
  rw [lg_entry_eq]
  generalize (lg_sl ([.ref a, .ref b]) ++ List.replicate (6 - (lg_sl ([.ref a, .ref b])).length) Slot.unset).toArray = ls at hl ⊢
  have hl : lv_has ls 6 [(0, .ref a), (1, .ref b)] := hl
  refine lv_iconst (v := 4) hx hb d_lPlus_0 (by decide) ?_
  refine ax_new hx hb (hT _ tb_205) d_lPlus_1 (Nat.le_refl _) (Nat.le_refl _) (fun q H hq hQ hE => ?_)
  have hn : s.heap.size ≤ q := Nat.le_of_eq hq.symm
  refine lv_astore_n (lv' := [(2, .ref q), (0, .ref a), (1, .ref b)]) hx hb d_lPlus_3 rfl hl (by decide) rfl (fun ls hl => ?_)
  refine lv_lconst (v := 0) hx hb d_lPlus_4 (by decide) ?_
  refine lv_lstore_n (lv' := [(3, .long 0), (2, .ref q), (0, .ref a), (1, .ref b)]) hx hb d_lPlus_5 rfl hl (by decide) rfl (fun ls hl => ?_)
  refine lv_iconst (v := 0) hx hb d_lPlus_6 (by decide) ?_
  refine lv_istore (lv' := [(5, .int 0), (3, .long 0), (2, .ref q), (0, .ref a), (1, .ref b)]) hx hb d_lPlus_7 hl (by decide) rfl (fun ls hl => ?_)
  have hl := lv_sub hl [0, 1, 2, 3, 4] rfl
  have hc : uN (0 : Int64) ≤ 1 := by decide
  refine g_lPlus hx hb hT hown 0 (by decide) hc (hA0.ext hE) (hB0.ext hE) hQ hn hl (fun H ls x0 k0 e0 hc hQ hE hl => ?_) hE
  refine g_lPlus hx hb hT hown 1 (by decide) hc (hA0.ext hE) (hB0.ext hE) hQ hn hl (fun H ls x1 k1 e1 hc hQ hE hl => ?_) hE
  refine g_lPlus hx hb hT hown 2 (by decide) hc (hA0.ext hE) (hB0.ext hE) hQ hn hl (fun H ls x2 k2 e2 hc hQ hE hl => ?_) hE
  refine g_lPlus hx hb hT hown 3 (by decide) hc (hA0.ext hE) (hB0.ext hE) hQ hn hl (fun H ls x3 k3 e3 hc hQ hE hl => ?_) hE
  refine lv_iload hx hb d_lPlus_9 (lv_at hl 0 rfl) ?_
  refine lv_iconst (v := 4) hx hb d_lPlus_11 (by decide) ?_
  refine lv_icmp_ge (tgt := 54) hx hb d_lPlus_12 (by decide) (fun h1 => ?_) (fun h1 => ?_)
  · refine lv_aload_n hx hb d_lPlus_54 rfl (lv_at hl 2 rfl) ?_
    exact W.aret (v := .ref q) hx hb hr (Or.inr ⟨_, rfl⟩) (Or.inr ⟨_, rfl⟩) (fun t ht hW => ⟨q, _, rfl, pl_plus ha hb0 e0 e1 e2 e3, by rw [ht]; exact hQ.moved hW.alike, hn, by rw [ht]; exact hE⟩) (fun q h => by cases h) d_lPlus_55
  · exact absurd (by decide) h1
set_option maxHeartbeats 4000000 in
set_option maxRecDepth 100000 in
theorem c_lLow (l : Launch) (a : Nat) (f : Nat → Int32) : Met l y_lLow (.code y_lLow b_lLow 1 (some .long) :: TB) ({ frames := 0, cells := 0, slots := 0, locals := 0 }) (va_Pc [.ref a] (fun U => ax_A U U.heap a f)) (qx_L (fun r => uN r = VV f % 18446744073709551616)) 0 0 (fun _ => False) := by
  refine Met.ofW (cc := b_lLow) (maxL := 1) (ret := (some .long)) (by decide +kernel) rfl ?_
  intro p e s m args below meth c s₁ B hml hv
  obtain ⟨rfl, hQ⟩ := hv
  have hx := B.exec
  have hb := B.bytes
  have hr := B.returns
  have hts := atoms_spec (ws := (.code y_lLow b_lLow 1 (some .long) :: TB)) B.pre
  have hT : ∀ w ∈ TB, w.before _ s = true := fun w hw => hts w (List.mem_cons_of_mem _ hw)
  have hown : s.vm.findClass "MathDrillLaw" = some m.cls := findClass_of_methodNamed B.named
  have hlocks := B.notSynchronized
  have hl := lv_entry ([.ref a]) (n := 1) (Nat.le_of_ble_eq_true rfl)
  rw [lg_entry_eq]
  generalize (lg_sl ([.ref a]) ++ List.replicate (1 - (lg_sl ([.ref a])).length) Slot.unset).toArray = ls at hl ⊢
  have hl : lv_has ls 1 [(0, .ref a)] := hl
  refine lv_aload_n hx hb d_lLow_0 rfl (lv_at hl 0 rfl) ?_
  refine lv_iconst (v := 0) hx hb d_lLow_1 (by decide) ?_
  refine ax_ld hx hb hQ 0 rfl (by decide) d_lLow_2 ?_
  refine lv_i2l hx hb d_lLow_3 rfl ?_
  refine lv_ldc2 (v := 4294967295) hx hb hown (hT _ tb_209) d_lLow_4 ?_
  refine lv_land hx hb d_lLow_7 ?_
  refine lv_aload_n hx hb d_lLow_8 rfl (lv_at hl 0 rfl) ?_
  refine lv_iconst (v := 1) hx hb d_lLow_9 (by decide) ?_
  refine ax_ld hx hb hQ 1 rfl (by decide) d_lLow_10 ?_
  refine lv_i2l hx hb d_lLow_11 rfl ?_
  refine lv_bipush (v := 32) hx hb d_lLow_12 (by decide) ?_
  refine lv_lshl hx hb d_lLow_14 rfl ?_
  refine lv_lor hx hb d_lLow_15 ?_
  exact W.lret (v := (((f 0).toInt64) &&& 4294967295) ||| (((f 1).toInt64) <<< ((32 : Int32).toInt64 &&& 63))) hx hb hr (fun t ht _ => ⟨_, rfl, pl_low f, ht⟩) (fun q h => by cases h) d_lLow_16
set_option maxHeartbeats 4000000 in
set_option maxRecDepth 100000 in
theorem c_lHigh (l : Launch) (a : Nat) (f : Nat → Int32) : Met l y_lHigh (.code y_lHigh b_lHigh 1 (some .long) :: TB) ({ frames := 0, cells := 0, slots := 0, locals := 0 }) (va_Pc [.ref a] (fun U => ax_A U U.heap a f)) (qx_L (fun r => uN r = VV f / 18446744073709551616)) 0 0 (fun _ => False) := by
  refine Met.ofW (cc := b_lHigh) (maxL := 1) (ret := (some .long)) (by decide +kernel) rfl ?_
  intro p e s m args below meth c s₁ B hml hv
  obtain ⟨rfl, hQ⟩ := hv
  have hx := B.exec
  have hb := B.bytes
  have hr := B.returns
  have hts := atoms_spec (ws := (.code y_lHigh b_lHigh 1 (some .long) :: TB)) B.pre
  have hT : ∀ w ∈ TB, w.before _ s = true := fun w hw => hts w (List.mem_cons_of_mem _ hw)
  have hown : s.vm.findClass "MathDrillLaw" = some m.cls := findClass_of_methodNamed B.named
  have hlocks := B.notSynchronized
  have hl := lv_entry ([.ref a]) (n := 1) (Nat.le_of_ble_eq_true rfl)
  rw [lg_entry_eq]
  generalize (lg_sl ([.ref a]) ++ List.replicate (1 - (lg_sl ([.ref a])).length) Slot.unset).toArray = ls at hl ⊢
  have hl : lv_has ls 1 [(0, .ref a)] := hl
  refine lv_aload_n hx hb d_lHigh_0 rfl (lv_at hl 0 rfl) ?_
  refine lv_iconst (v := 2) hx hb d_lHigh_1 (by decide) ?_
  refine ax_ld hx hb hQ 2 rfl (by decide) d_lHigh_2 ?_
  refine lv_i2l hx hb d_lHigh_3 rfl ?_
  refine lv_ldc2 (v := 4294967295) hx hb hown (hT _ tb_209) d_lHigh_4 ?_
  refine lv_land hx hb d_lHigh_7 ?_
  refine lv_aload_n hx hb d_lHigh_8 rfl (lv_at hl 0 rfl) ?_
  refine lv_iconst (v := 3) hx hb d_lHigh_9 (by decide) ?_
  refine ax_ld hx hb hQ 3 rfl (by decide) d_lHigh_10 ?_
  refine lv_i2l hx hb d_lHigh_11 rfl ?_
  refine lv_bipush (v := 32) hx hb d_lHigh_12 (by decide) ?_
  refine lv_lshl hx hb d_lHigh_14 rfl ?_
  refine lv_lor hx hb d_lHigh_15 ?_
  exact W.lret (v := (((f 2).toInt64) &&& 4294967295) ||| (((f 3).toInt64) <<< ((32 : Int32).toInt64 &&& 63))) hx hb hr (fun t ht _ => ⟨_, rfl, pl_high f, ht⟩) (fun q h => by cases h) d_lHigh_16
end
section
/-! MathDrillLaw: minus, times -/
set_option maxHeartbeats 4000000 in
set_option maxRecDepth 100000 in
theorem g_lMin {p : Program} {l : Launch} {e : Env} {R : Room} {s : State} {m : MethodId} {args : Array Value} {below : List Frame} {meth : Method} {c : Code} {H : Heap} {locs : List Loc} {cells slots : Nat} {Q : State → Prop} (hx : p.tables.exec = Jvm.exec) (hb : c.code = b_lMin) (hT : ∀ w ∈ TB, w.before args s = true) (hown : s.vm.findClass "MathDrillLaw" = some m.cls) {a q : Nat} {fa f : Nat → Int32} (i : Nat) (hi : i < 4) (hA : ax_A s H a fa) (hQ : ax_A s H q f) (hn : s.heap.size ≤ q) {ls : Array Slot} (hl : lv_has ls 3 [(2, .int (nI i)), (1, .ref q), (0, .ref a)])
    (k : ∀ (H : Heap) (ls : Array Slot), ax_A s H q (upd f i (fa i ^^^ (-1))) → ax_X s.heap H → lv_has ls 3 [(2, .int (nI (i + 1))), (1, .ref q), (0, .ref a)] → W p l e R s m args below meth c H locs cells slots Q (F0 m 6 ls [])) (hE : ax_X s.heap H) : W p l e R s m args below meth c H locs cells slots Q (F0 m 6 ls []) := by
  refine lv_iload_n hx hb d_lMin_6 rfl (lv_at hl 0 rfl) ?_
  refine lv_iconst (v := 4) hx hb d_lMin_7 (by decide) ?_
  refine lv_icmp_ge (tgt := 25) hx hb d_lMin_8 (by decide) (fun h1 => ?_) (fun h1 => ?_)
  · exact absurd h1 (nI_ge hi (by decide))
  · refine lv_aload_n hx hb d_lMin_11 rfl (lv_at hl 1 rfl) ?_
    refine lv_iload_n hx hb d_lMin_12 rfl (lv_at hl 0 rfl) ?_
    refine lv_aload_n hx hb d_lMin_13 rfl (lv_at hl 2 rfl) ?_
    refine lv_iload_n hx hb d_lMin_14 rfl (lv_at hl 0 rfl) ?_
    refine ax_ld hx hb hA i rfl hi d_lMin_15 ?_
    refine lv_iconst (v := -1) hx hb d_lMin_16 (by decide) ?_
    refine lv_ixor hx hb d_lMin_17 ?_
    refine ax_st hx hb hQ hn i rfl hi d_lMin_18 (fun H hQ hz ho => ?_)
    have hE := hE.put hn hz ho
    refine lv_iinc (k := 0) (v := nI (i + 1)) (lv' := [(2, .int (nI (i + 1))), (1, .ref q), (0, .ref a)]) hx hb d_lMin_19 hl rfl (by rw [nI_succ]; rfl) (by decide) rfl (fun ls hl => ?_)
    refine lv_goto (tgt := 6) hx hb d_lMin_22 (by decide) ?_
    have hl := lv_sub hl [0, 1, 2] rfl
    exact k _ _ hQ hE hl
theorem pl_not {fa f : Nat → Int32} {za : Int} (ha : HZ fa za) (e0 : f 0 = fa 0 ^^^ (-1)) (e1 : f 1 = fa 1 ^^^ (-1)) (e2 : f 2 = fa 2 ^^^ (-1)) (e3 : f 3 = fa 3 ^^^ (-1)) : HZ f (-za - 1) := by
  unfold HZ VV at *
  rw [e0, e1, e2, e3, iN_not, iN_not, iN_not, iN_not]
  have h0 := iN_lt (fa 0); have h1 := iN_lt (fa 1); have h2 := iN_lt (fa 2); have h3 := iN_lt (fa 3)
  omega
set_option maxHeartbeats 4000000 in
set_option maxRecDepth 100000 in
theorem c_lMin (l : Launch) (a : Nat) (fa : Nat → Int32) (za : Int) (ha : HZ fa za) : Met l y_lMin (.code y_lMin b_lMin 3 (some (.array .int)) :: TB) ({ frames := 1, cells := 3, slots := 12, locals := 25 }) (va_Pc [.ref a] (fun U => ax_A U U.heap a fa)) (qx_A (fun f => HZ f (-za))) 3 12 (fun _ => False) := by
  refine Met.ofW (cc := b_lMin) (maxL := 3) (ret := (some (.array .int))) (by decide +kernel) rfl ?_
  intro p e s m args below meth c s₁ B hml hv
  obtain ⟨rfl, hA0⟩ := hv
  have hx := B.exec
  have hb := B.bytes
  have hr := B.returns
  have hts := atoms_spec (ws := (.code y_lMin b_lMin 3 (some (.array .int)) :: TB)) B.pre
  have hT : ∀ w ∈ TB, w.before _ s = true := fun w hw => hts w (List.mem_cons_of_mem _ hw)
  have hown : s.vm.findClass "MathDrillLaw" = some m.cls := findClass_of_methodNamed B.named
  have hlocks := B.notSynchronized
  have hl := lv_entry ([.ref a]) (n := 3) (Nat.le_of_ble_eq_true rfl)
  rw [lg_entry_eq]
  generalize (lg_sl ([.ref a]) ++ List.replicate (3 - (lg_sl ([.ref a])).length) Slot.unset).toArray = ls at hl ⊢
  have hl : lv_has ls 3 [(0, .ref a)] := hl
  have hTB : ∀ w ∈ TB, w ∈ TB := fun _ h => h
  refine lv_iconst (v := 4) hx hb d_lMin_0 (by decide) ?_
  refine ax_new hx hb (hT _ tb_205) d_lMin_1 (Nat.le_of_ble_eq_true rfl) (Nat.le_of_ble_eq_true rfl) (fun q H hq hQ hE => ?_)
  have hn : s.heap.size ≤ q := Nat.le_of_eq hq.symm
  refine lv_astore_n (lv' := [(1, .ref q), (0, .ref a)]) hx hb d_lMin_3 rfl hl (by decide) rfl (fun ls hl => ?_)
  refine lv_iconst (v := 0) hx hb d_lMin_4 (by decide) ?_
  refine lv_istore_n (lv' := [(2, .int 0), (1, .ref q), (0, .ref a)]) hx hb d_lMin_5 rfl hl (by decide) rfl (fun ls hl => ?_)
  have hl := lv_sub hl [0, 1, 2] rfl
  refine g_lMin hx hb hT hown 0 (by decide) (hA0.ext hE) hQ hn hl (fun H ls hQ hE hl => ?_) hE
  refine g_lMin hx hb hT hown 1 (by decide) (hA0.ext hE) hQ hn hl (fun H ls hQ hE hl => ?_) hE
  refine g_lMin hx hb hT hown 2 (by decide) (hA0.ext hE) hQ hn hl (fun H ls hQ hE hl => ?_) hE
  refine g_lMin hx hb hT hown 3 (by decide) (hA0.ext hE) hQ hn hl (fun H ls hQ hE hl => ?_) hE
  refine lv_iload_n hx hb d_lMin_6 rfl (lv_at hl 0 rfl) ?_
  refine lv_iconst (v := 4) hx hb d_lMin_7 (by decide) ?_
  refine lv_icmp_ge (tgt := 25) hx hb d_lMin_8 (by decide) (fun h1 => ?_) (fun h1 => ?_)
  · refine lv_aload_n hx hb d_lMin_25 rfl (lv_at hl 1 rfl) ?_
    refine lv_lconst (v := 1) hx hb d_lMin_26 (by decide) ?_
    refine qx_callA (va_runS (As := [.long 1]) (rest := [.ref q]) ⟨hx, hb, hml, hown, hT⟩ (c_lOf l 1) (va_cwS 1 hT (gi_S hTB tb_202 tb_203 tb_0 tb_204) rfl rfl rfl ⟨by decide, by decide, by decide +kernel⟩ ⟨Nat.le_of_ble_eq_true rfl, Nat.le_of_ble_eq_true rfl⟩) ⟨fun _ _ _ _ q => q, fun _ _ _ => ⟨rfl, trivial⟩⟩ rfl rfl hl.1 rfl (lv_room (Nat.le_of_ble_eq_true rfl)) d_lMin_27 ⟨Nat.le_of_ble_eq_true rfl, Nat.le_of_ble_eq_true rfl⟩) (fun q1 f1 H hf1 hQ1 hq1 hE1 => ?_)
    have hQ := hQ.ext hE1
    have hE := hE.trans hE1
    refine qx_callA (va_runS (As := [.ref q, .ref q1]) (rest := []) ⟨hx, hb, hml, hown, hT⟩ (c_lPlus l q q1 _ f1 _ _ (pl_not ha rfl rfl rfl rfl) hf1) (va_cwS 2 hT (gi_S hTB tb_206 tb_207 tb_0 tb_208) rfl rfl rfl ⟨by decide, by decide, by decide +kernel⟩ ⟨Nat.le_of_ble_eq_true rfl, Nat.le_of_ble_eq_true rfl⟩) ⟨fun _ U g mk q => ⟨q.1, q.2.1.moved (Vm.Alike.refl _), q.2.2.moved (Vm.Alike.refl _)⟩, fun U hU hW => ⟨rfl, by rw [hU]; exact hQ.moved hW.alike, by rw [hU]; exact hQ1.moved hW.alike⟩⟩ rfl rfl hl.1 rfl (lv_room (Nat.le_of_ble_eq_true rfl)) d_lMin_30 ⟨Nat.le_of_ble_eq_true rfl, Nat.le_of_ble_eq_true rfl⟩) (fun q2 f2 H hf2 hQ2 hq2 hE2 => ?_)
    have hn2 : s.heap.size ≤ q2 := Nat.le_trans hE.1 hq2
    have hE := hE.trans hE2
    have e1 : (1 : Int64).toInt = 1 := by decide
    have e2 : -za - 1 + (1 : Int64).toInt = -za := by omega
    rw [e2] at hf2
    exact W.aret (v := .ref q2) hx hb hr (Or.inr ⟨_, rfl⟩) (Or.inr ⟨_, rfl⟩) (fun t ht hW => ⟨q2, _, rfl, hf2, by rw [ht]; exact hQ2.moved hW.alike, hn2, by rw [ht]; exact hE⟩) (fun q h => by cases h) d_lMin_33
  · exact absurd (by decide) h1
set_option maxHeartbeats 4000000 in
set_option maxRecDepth 100000 in
theorem g_lTim {p : Program} {l : Launch} {e : Env} {R : Room} {s : State} {m : MethodId} {args : Array Value} {below : List Frame} {meth : Method} {c : Code} {H : Heap} {locs : List Loc} {cells slots : Nat} {Q : State → Prop} (hx : p.tables.exec = Jvm.exec) (hb : c.code = b_lTim) (hT : ∀ w ∈ TB, w.before args s = true) (hown : s.vm.findClass "MathDrillLaw" = some m.cls) {a b q : Nat} {fa fb f : Nat → Int32} {cv : Int64} (i j : Nat) (hij : i + j < 4) (hc : uN cv < 4294967296) (hA : ax_A s H a fa) (hB : ax_A s H b fb) (hQ : ax_A s H q f) (hn : s.heap.size ≤ q) {ls : Array Slot} (hl : lv_has ls 7 [(6, .int (nI j)), (4, .long cv), (3, .int (nI i)), (2, .ref q), (0, .ref a), (1, .ref b)])
    (k : ∀ (H : Heap) (ls : Array Slot) (xv : Int32) (cw : Int64), iN xv + 4294967296 * uN cw = iN (fa i) * iN (fb j) + iN (f (i + j)) + uN cv → uN cw < 4294967296 → ax_A s H q (upd f (i + j) xv) → ax_X s.heap H → lv_has ls 7 [(6, .int (nI (j + 1))), (4, .long cw), (3, .int (nI i)), (2, .ref q), (0, .ref a), (1, .ref b)] → W p l e R s m args below meth c H locs cells slots Q (F0 m 17 ls [])) (hE : ax_X s.heap H) : W p l e R s m args below meth c H locs cells slots Q (F0 m 17 ls []) := by
  have hsum : nI i + nI j = nI (i + j) := nI_add i j
  refine lv_iload_n hx hb d_lTim_17 rfl (lv_at hl 2 rfl) ?_
  refine lv_iload hx hb d_lTim_18 (lv_at hl 0 rfl) ?_
  refine lv_iadd hx hb d_lTim_20 ?_
  refine lv_iconst (v := 4) hx hb d_lTim_21 (by decide) ?_
  refine lv_icmp_ge (tgt := 82) hx hb d_lTim_22 (by decide) (fun h1 => ?_) (fun h1 => ?_)
  · exact absurd h1 (by rw [hsum]; exact nI_ge hij (by decide))
  · refine lv_lload hx hb d_lTim_25 (lv_at hl 1 rfl) ?_
    refine lv_aload_n hx hb d_lTim_27 rfl (lv_at hl 4 rfl) ?_
    refine lv_iload_n hx hb d_lTim_28 rfl (lv_at hl 2 rfl) ?_
    refine ax_ld hx hb hA i rfl (by omega) d_lTim_29 ?_
    refine lv_i2l hx hb d_lTim_30 rfl ?_
    refine lv_ldc2 (v := 4294967295) hx hb hown (hT _ tb_209) d_lTim_31 ?_
    refine lv_land hx hb d_lTim_34 ?_
    refine lv_aload_n hx hb d_lTim_35 rfl (lv_at hl 5 rfl) ?_
    refine lv_iload hx hb d_lTim_36 (lv_at hl 0 rfl) ?_
    refine ax_ld hx hb hB j rfl (by omega) d_lTim_38 ?_
    refine lv_i2l hx hb d_lTim_39 rfl ?_
    refine lv_ldc2 (v := 4294967295) hx hb hown (hT _ tb_209) d_lTim_40 ?_
    refine lv_land hx hb d_lTim_43 ?_
    refine lv_lmul hx hb d_lTim_44 ?_
    refine lv_aload_n hx hb d_lTim_45 rfl (lv_at hl 3 rfl) ?_
    refine lv_iload_n hx hb d_lTim_46 rfl (lv_at hl 2 rfl) ?_
    refine lv_iload hx hb d_lTim_47 (lv_at hl 0 rfl) ?_
    refine lv_iadd hx hb d_lTim_49 ?_
    refine ax_ld hx hb hQ (i + j) hsum hij d_lTim_50 ?_
    refine lv_i2l hx hb d_lTim_51 rfl ?_
    refine lv_ldc2 (v := 4294967295) hx hb hown (hT _ tb_209) d_lTim_52 ?_
    refine lv_land hx hb d_lTim_55 ?_
    refine lv_ladd hx hb d_lTim_56 ?_
    refine lv_ladd hx hb d_lTim_57 ?_
    refine lv_topl (fun v1 ev1 => ?_)
    refine lv_lstore (lv' := [(4, .long v1), (6, .int (nI j)), (3, .int (nI i)), (2, .ref q), (0, .ref a), (1, .ref b)]) hx hb d_lTim_58 hl (by decide) rfl (fun ls hl => ?_)
    refine lv_aload_n hx hb d_lTim_60 rfl (lv_at hl 3 rfl) ?_
    refine lv_iload_n hx hb d_lTim_61 rfl (lv_at hl 2 rfl) ?_
    refine lv_iload hx hb d_lTim_62 (lv_at hl 1 rfl) ?_
    refine lv_iadd hx hb d_lTim_64 ?_
    refine lv_lload hx hb d_lTim_65 (lv_at hl 0 rfl) ?_
    refine lv_l2i hx hb d_lTim_67 rfl ?_
    refine ax_st hx hb hQ hn (i + j) hsum hij d_lTim_68 (fun H hQ hz ho => ?_)
    have hE := hE.put hn hz ho
    refine lv_lload hx hb d_lTim_69 (lv_at hl 0 rfl) ?_
    refine lv_bipush (v := 32) hx hb d_lTim_71 (by decide) ?_
    refine lv_lushr hx hb d_lTim_73 rfl ?_
    refine lv_topl (fun v2 ev2 => ?_)
    refine lv_lstore (lv' := [(4, .long v2), (6, .int (nI j)), (3, .int (nI i)), (2, .ref q), (0, .ref a), (1, .ref b)]) hx hb d_lTim_74 hl (by decide) rfl (fun ls hl => ?_)
    refine lv_iinc (k := 1) (v := nI (j + 1)) (lv' := [(6, .int (nI (j + 1))), (4, .long v2), (3, .int (nI i)), (2, .ref q), (0, .ref a), (1, .ref b)]) hx hb d_lTim_76 hl rfl (by rw [nI_succ]; rfl) (by decide) rfl (fun ls hl => ?_)
    refine lv_goto (tgt := 17) hx hb d_lTim_79 (by decide) ?_
    have hl := lv_sub hl [0, 1, 2, 3, 4, 5] rfl
    exact k _ _ _ _ (by have h := pl_mul hc ev1; rw [← ev2] at h; exact h.1) (by have h := pl_mul hc ev1; rw [← ev2] at h; exact h.2) hQ hE hl
set_option maxHeartbeats 4000000 in
set_option maxRecDepth 100000 in
theorem gx_lTim {p : Program} {l : Launch} {e : Env} {R : Room} {s : State} {m : MethodId} {args : Array Value} {below : List Frame} {meth : Method} {c : Code} {H : Heap} {locs : List Loc} {cells slots : Nat} {Q : State → Prop} (hx : p.tables.exec = Jvm.exec) (hb : c.code = b_lTim) (hT : ∀ w ∈ TB, w.before args s = true) (hown : s.vm.findClass "MathDrillLaw" = some m.cls) {a b q : Nat} {cv : Int64} (i j : Nat) (hij : i + j = 4) {ls : Array Slot} (hl : lv_has ls 7 [(6, .int (nI j)), (4, .long cv), (3, .int (nI i)), (2, .ref q), (0, .ref a), (1, .ref b)])
    (k : ∀ (ls : Array Slot), lv_has ls 7 [(3, .int (nI (i + 1))), (2, .ref q), (0, .ref a), (1, .ref b)] → W p l e R s m args below meth c H locs cells slots Q (F0 m 6 ls [])) : W p l e R s m args below meth c H locs cells slots Q (F0 m 17 ls []) := by
  have hsum : nI i + nI j = 4 := (nI_add i j).trans (by rw [hij]; rfl)
  refine lv_iload_n hx hb d_lTim_17 rfl (lv_at hl 2 rfl) ?_
  refine lv_iload hx hb d_lTim_18 (lv_at hl 0 rfl) ?_
  refine lv_iadd hx hb d_lTim_20 ?_
  refine lv_iconst (v := 4) hx hb d_lTim_21 (by decide) ?_
  refine lv_icmp_ge (tgt := 82) hx hb d_lTim_22 (by decide) (fun h1 => ?_) (fun h1 => ?_)
  · refine lv_iinc (k := 2) (v := nI (i + 1)) (lv' := [(3, .int (nI (i + 1))), (6, .int (nI j)), (4, .long cv), (2, .ref q), (0, .ref a), (1, .ref b)]) hx hb d_lTim_82 hl rfl (by rw [nI_succ]; rfl) (by decide) rfl (fun ls hl => ?_)
    refine lv_goto (tgt := 6) hx hb d_lTim_85 (by decide) ?_
    have hl := lv_sub hl [0, 3, 4, 5] rfl
    exact k _ hl
  · exact absurd (by rw [hsum]; decide) h1
set_option maxHeartbeats 4000000 in
set_option maxRecDepth 100000 in
theorem go_lTim {p : Program} {l : Launch} {e : Env} {R : Room} {s : State} {m : MethodId} {args : Array Value} {below : List Frame} {meth : Method} {c : Code} {H : Heap} {locs : List Loc} {cells slots : Nat} {Q : State → Prop} (hx : p.tables.exec = Jvm.exec) (hb : c.code = b_lTim) (hT : ∀ w ∈ TB, w.before args s = true) (hown : s.vm.findClass "MathDrillLaw" = some m.cls) {a b q : Nat} (i : Nat) (hi : i < 4) {ls : Array Slot} (hl : lv_has ls 7 [(3, .int (nI i)), (2, .ref q), (0, .ref a), (1, .ref b)])
    (k : ∀ (ls : Array Slot), lv_has ls 7 [(6, .int (nI 0)), (4, .long 0), (3, .int (nI i)), (2, .ref q), (0, .ref a), (1, .ref b)] → W p l e R s m args below meth c H locs cells slots Q (F0 m 17 ls [])) : W p l e R s m args below meth c H locs cells slots Q (F0 m 6 ls []) := by
  refine lv_iload_n hx hb d_lTim_6 rfl (lv_at hl 0 rfl) ?_
  refine lv_iconst (v := 4) hx hb d_lTim_7 (by decide) ?_
  refine lv_icmp_ge (tgt := 88) hx hb d_lTim_8 (by decide) (fun h1 => ?_) (fun h1 => ?_)
  · exact absurd h1 (nI_ge hi (by decide))
  · refine lv_lconst (v := 0) hx hb d_lTim_11 (by decide) ?_
    refine lv_lstore (lv' := [(4, .long 0), (3, .int (nI i)), (2, .ref q), (0, .ref a), (1, .ref b)]) hx hb d_lTim_12 hl (by decide) rfl (fun ls hl => ?_)
    refine lv_iconst (v := 0) hx hb d_lTim_14 (by decide) ?_
    refine lv_istore (lv' := [(6, .int 0), (4, .long 0), (3, .int (nI i)), (2, .ref q), (0, .ref a), (1, .ref b)]) hx hb d_lTim_15 hl (by decide) rfl (fun ls hl => ?_)
    have hl := lv_sub hl [0, 1, 2, 3, 4, 5] rfl
    exact k _ hl
theorem pl_exp (a0 a1 a2 a3 b0 b1 b2 b3 : Nat) : (a0 + 4294967296 * a1 + 18446744073709551616 * a2 + 79228162514264337593543950336 * a3) * (b0 + 4294967296 * b1 + 18446744073709551616 * b2 + 79228162514264337593543950336 * b3) =
    a0 * b0 + 4294967296 * (a0 * b1 + a1 * b0) + 18446744073709551616 * (a0 * b2 + a1 * b1 + a2 * b0) + 79228162514264337593543950336 * (a0 * b3 + a1 * b2 + a2 * b1 + a3 * b0) + 340282366920938463463374607431768211456 * (a1 * b3 + a2 * b2 + a3 * b1 + 4294967296 * (a2 * b3 + a3 * b2) + 18446744073709551616 * (a3 * b3)) := by
  grind
theorem pl_times {fa fb f : Nat → Int32} {za zb : Int} (ha : HZ fa za) (hb : HZ fb zb) {x00 x01 x02 x03 x10 x11 x12 x20 x21 x30 k00 k01 k02 k03 k10 k11 k12 k20 k21 k30 : Nat} (h0 : iN (f 0) = x00) (h1 : iN (f 1) = x10) (h2 : iN (f 2) = x20) (h3 : iN (f 3) = x30) (e00 : x00 + 4294967296 * k00 = iN (fa 0) * iN (fb 0) + 0 + 0) (e01 : x01 + 4294967296 * k01 = iN (fa 0) * iN (fb 1) + 0 + k00) (e02 : x02 + 4294967296 * k02 = iN (fa 0) * iN (fb 2) + 0 + k01) (e03 : x03 + 4294967296 * k03 = iN (fa 0) * iN (fb 3) + 0 + k02) (e10 : x10 + 4294967296 * k10 = iN (fa 1) * iN (fb 0) + x01 + 0) (e11 : x11 + 4294967296 * k11 = iN (fa 1) * iN (fb 1) + x02 + k10) (e12 : x12 + 4294967296 * k12 = iN (fa 1) * iN (fb 2) + x03 + k11) (e20 : x20 + 4294967296 * k20 = iN (fa 2) * iN (fb 0) + x11 + 0) (e21 : x21 + 4294967296 * k21 = iN (fa 2) * iN (fb 1) + x12 + k20) (e30 : x30 + 4294967296 * k30 = iN (fa 3) * iN (fb 0) + x21 + 0) : HZ f (za * zb) := by
  have hx := pl_exp (iN (fa 0)) (iN (fa 1)) (iN (fa 2)) (iN (fa 3)) (iN (fb 0)) (iN (fb 1)) (iN (fb 2)) (iN (fb 3))
  have hlt := VV_lt f
  have key : VV f + 340282366920938463463374607431768211456 * (k03 + k12 + k21 + k30) = iN (fa 0) * iN (fb 0) + 4294967296 * (iN (fa 0) * iN (fb 1) + iN (fa 1) * iN (fb 0)) + 18446744073709551616 * (iN (fa 0) * iN (fb 2) + iN (fa 1) * iN (fb 1) + iN (fa 2) * iN (fb 0)) + 79228162514264337593543950336 * (iN (fa 0) * iN (fb 3) + iN (fa 1) * iN (fb 2) + iN (fa 2) * iN (fb 1) + iN (fa 3) * iN (fb 0)) := by
    unfold VV
    rw [h0, h1, h2, h3]
    omega
  have hm : VV f = (VV fa * VV fb) % 340282366920938463463374607431768211456 := by
    have e : VV fa * VV fb = _ := hx
    rw [e]
    omega
  unfold HZ at *
  rw [hm, Int.natCast_emod, Int.natCast_mul, ha, hb, Int.mul_emod za zb]
  rfl
set_option maxHeartbeats 4000000 in
set_option maxRecDepth 100000 in
theorem c_lTim (l : Launch) (a b : Nat) (fa fb : Nat → Int32) (za zb : Int) (ha : HZ fa za) (hb0 : HZ fb zb) : Met l y_lTim (.code y_lTim b_lTim 7 (some (.array .int)) :: TB) ({ frames := 0, cells := 1, slots := 4, locals := 0 }) (va_Pc [.ref a, .ref b] (fun U => ax_A U U.heap a fa ∧ ax_A U U.heap b fb)) (qx_A (fun f => HZ f (za * zb))) 1 4 (fun _ => False) := by
  refine Met.ofW (cc := b_lTim) (maxL := 7) (ret := (some (.array .int))) (by decide +kernel) rfl ?_
  intro p e s m args below meth c s₁ B hml hv
  obtain ⟨rfl, hA0, hB0⟩ := hv
  have hx := B.exec
  have hb := B.bytes
  have hr := B.returns
  have hts := atoms_spec (ws := (.code y_lTim b_lTim 7 (some (.array .int)) :: TB)) B.pre
  have hT : ∀ w ∈ TB, w.before _ s = true := fun w hw => hts w (List.mem_cons_of_mem _ hw)
  have hown : s.vm.findClass "MathDrillLaw" = some m.cls := findClass_of_methodNamed B.named
  have hlocks := B.notSynchronized
  have hl := lv_entry ([.ref a, .ref b]) (n := 7) (Nat.le_of_ble_eq_true rfl)
  rw [lg_entry_eq]
  generalize (lg_sl ([.ref a, .ref b]) ++ List.replicate (7 - (lg_sl ([.ref a, .ref b])).length) Slot.unset).toArray = ls at hl ⊢
  have hl : lv_has ls 7 [(0, .ref a), (1, .ref b)] := hl
  refine lv_iconst (v := 4) hx hb d_lTim_0 (by decide) ?_
  refine ax_new hx hb (hT _ tb_205) d_lTim_1 (Nat.le_of_ble_eq_true rfl) (Nat.le_of_ble_eq_true rfl) (fun q H hq hQ hE => ?_)
  have hn : s.heap.size ≤ q := Nat.le_of_eq hq.symm
  refine lv_astore_n (lv' := [(2, .ref q), (0, .ref a), (1, .ref b)]) hx hb d_lTim_3 rfl hl (by decide) rfl (fun ls hl => ?_)
  refine lv_iconst (v := 0) hx hb d_lTim_4 (by decide) ?_
  refine lv_istore_n (lv' := [(3, .int 0), (2, .ref q), (0, .ref a), (1, .ref b)]) hx hb d_lTim_5 rfl hl (by decide) rfl (fun ls hl => ?_)
  have hl := lv_sub hl [0, 1, 2, 3] rfl
  refine go_lTim hx hb hT hown 0 (by decide) hl (fun ls hl => ?_)
  have hc : uN (0 : Int64) < 4294967296 := by decide
  refine g_lTim hx hb hT hown 0 0 (by decide) hc (hA0.ext hE) (hB0.ext hE) hQ hn hl (fun H ls x00 k00 e00 hc hQ hE hl => ?_) hE
  refine g_lTim hx hb hT hown 0 1 (by decide) hc (hA0.ext hE) (hB0.ext hE) hQ hn hl (fun H ls x01 k01 e01 hc hQ hE hl => ?_) hE
  refine g_lTim hx hb hT hown 0 2 (by decide) hc (hA0.ext hE) (hB0.ext hE) hQ hn hl (fun H ls x02 k02 e02 hc hQ hE hl => ?_) hE
  refine g_lTim hx hb hT hown 0 3 (by decide) hc (hA0.ext hE) (hB0.ext hE) hQ hn hl (fun H ls x03 k03 e03 hc hQ hE hl => ?_) hE
  refine gx_lTim hx hb hT hown 0 4 (by decide) hl (fun ls hl => ?_)
  refine go_lTim hx hb hT hown 1 (by decide) hl (fun ls hl => ?_)
  have hc : uN (0 : Int64) < 4294967296 := by decide
  refine g_lTim hx hb hT hown 1 0 (by decide) hc (hA0.ext hE) (hB0.ext hE) hQ hn hl (fun H ls x10 k10 e10 hc hQ hE hl => ?_) hE
  refine g_lTim hx hb hT hown 1 1 (by decide) hc (hA0.ext hE) (hB0.ext hE) hQ hn hl (fun H ls x11 k11 e11 hc hQ hE hl => ?_) hE
  refine g_lTim hx hb hT hown 1 2 (by decide) hc (hA0.ext hE) (hB0.ext hE) hQ hn hl (fun H ls x12 k12 e12 hc hQ hE hl => ?_) hE
  refine gx_lTim hx hb hT hown 1 3 (by decide) hl (fun ls hl => ?_)
  refine go_lTim hx hb hT hown 2 (by decide) hl (fun ls hl => ?_)
  have hc : uN (0 : Int64) < 4294967296 := by decide
  refine g_lTim hx hb hT hown 2 0 (by decide) hc (hA0.ext hE) (hB0.ext hE) hQ hn hl (fun H ls x20 k20 e20 hc hQ hE hl => ?_) hE
  refine g_lTim hx hb hT hown 2 1 (by decide) hc (hA0.ext hE) (hB0.ext hE) hQ hn hl (fun H ls x21 k21 e21 hc hQ hE hl => ?_) hE
  refine gx_lTim hx hb hT hown 2 2 (by decide) hl (fun ls hl => ?_)
  refine go_lTim hx hb hT hown 3 (by decide) hl (fun ls hl => ?_)
  have hc : uN (0 : Int64) < 4294967296 := by decide
  refine g_lTim hx hb hT hown 3 0 (by decide) hc (hA0.ext hE) (hB0.ext hE) hQ hn hl (fun H ls x30 k30 e30 hc hQ hE hl => ?_) hE
  refine gx_lTim hx hb hT hown 3 1 (by decide) hl (fun ls hl => ?_)
  refine lv_iload_n hx hb d_lTim_6 rfl (lv_at hl 0 rfl) ?_
  refine lv_iconst (v := 4) hx hb d_lTim_7 (by decide) ?_
  refine lv_icmp_ge (tgt := 88) hx hb d_lTim_8 (by decide) (fun h1 => ?_) (fun h1 => ?_)
  · refine lv_aload_n hx hb d_lTim_88 rfl (lv_at hl 1 rfl) ?_
    have hz : HZ _ (za * zb) := pl_times (f := (upd (upd (upd (upd (upd (upd (upd (upd (upd (upd (fun _ => 0) 0 x00) 1 x01) 2 x02) 3 x03) 1 x10) 2 x11) 3 x12) 2 x20) 3 x21) 3 x30)) ha hb0 rfl rfl rfl rfl e00 e01 e02 e03 e10 e11 e12 e20 e21 e30
    exact W.aret (v := .ref q) hx hb hr (Or.inr ⟨_, rfl⟩) (Or.inr ⟨_, rfl⟩) (fun t ht hW => ⟨q, _, rfl, hz, by rw [ht]; exact hQ.moved hW.alike, hn, by rw [ht]; exact hE⟩) (fun q h => by cases h) d_lTim_89
  · exact absurd (by decide) h1
end
section
/-! MathDrillLaw: fits, told, toldInt, parts -/
theorem z_0 : (0 : Int64).toInt = 0 := by decide
theorem z_M : (-9223372036854775808 : Int64).toInt = -9223372036854775808 := by decide
theorem z_m1 : (-1 : Int64).toInt = -1 := by decide
/-- an answer that is an int, behind new cells -/
def qx_X (post : Int32 → Prop) : Array Value → State → Outcome → State → Prop := fun _ st o t => ∃ r, o = .returned (some (.int r)) ∧ post r ∧ ax_X st.heap t.heap
section QXX
variable {p : Program} {l : Launch} {e : Env} {R : Room} {s : State} {m : MethodId} {args : Array Value} {below : List Frame} {meth : Method} {c : Code} {locs : List Loc} {cells slots : Nat} {H : Heap} {Q : State → Prop}
variable {pc mc ms : Nat} {ls : Array Slot} {rest st0 : List Value} {a : Array Value}
theorem qx_callX {post : Int32 → Prop} (hr : va_Run p l e R s m args below meth c H locs cells slots mc ms (F0 m pc ls st0) rest (qx_X post a) (fun _ => False)) (kk : ∀ (r : Int32) (H' : Heap), post r → ax_X H H' → W p l e R s m args below meth c H' locs (cells + mc) (slots + ms) Q (F0 m (pc + 3) ls (.int r :: rest))) : W p l e R s m args below meth c H locs cells slots Q (F0 m pc ls st0) := by
  intro T hT X
  obtain ⟨v, st₀, t, T', L, h0, X', hL, e1, -, ⟨r, hv, hp, hE⟩, st⟩ := hr T hT X
  cases hv
  rw [h0] at hE
  obtain ⟨t2, a1, b1⟩ := kk r T'.heap hp (by rw [e1]; exact hE) T' rfl (Stand.forget X' (fun q h => (hL q h).elim))
  exact ⟨t2, st t2 a1, b1⟩
end QXX
def tol64 (z : Int) (got : Int64) (v : Int32) : Prop := (-9223372036854775808 ≤ z ∧ z < 9223372036854775808 → got.toInt = z ∧ v = 0) ∧ (¬ (-9223372036854775808 ≤ z ∧ z < 9223372036854775808) → got = 0 ∧ v = 1)
def tol32 (z : Int) (got : Int32) (v : Int32) : Prop := (-2147483648 ≤ z ∧ z < 2147483648 → got.toInt = z ∧ v = 0) ∧ (¬ (-2147483648 ≤ z ∧ z < 2147483648) → got = 0 ∧ v = 1)
theorem tol64.b {z : Int} {got : Int64} {v : Int32} (h : tol64 z got v) : v = 0 ∨ v = 1 := by
  by_cases q : -9223372036854775808 ≤ z ∧ z < 9223372036854775808
  · exact Or.inl (h.1 q).2
  · exact Or.inr (h.2 q).2
theorem tol32.b {z : Int} {got : Int32} {v : Int32} (h : tol32 z got v) : v = 0 ∨ v = 1 := by
  by_cases q : -2147483648 ≤ z ∧ z < 2147483648
  · exact Or.inl (h.1 q).2
  · exact Or.inr (h.2 q).2
theorem pl_i32 (d : Int64) : d = d.toInt32.toInt64 ↔ (-2147483648 ≤ d.toInt ∧ d.toInt < 2147483648) := by
  obtain ⟨k, hk⟩ := li d
  have h1 := ri d.toInt32
  have h2 := Int32.toInt_toInt64 d.toInt32
  rw [← Int64.toInt_inj]
  omega
def ptx (q r a b : Int64) : Prop := ((q.toInt * b.toInt + r.toInt = a.toInt) ∨ (a.toInt = -9223372036854775808 ∧ b.toInt = -1 ∧ q.toInt * b.toInt + r.toInt = 9223372036854775808)) ∧ (r.toInt = 0 ∨ (0 < b.toInt ∧ 0 < r.toInt ∧ r.toInt < b.toInt) ∨ (b.toInt < 0 ∧ b.toInt < r.toInt ∧ r.toInt < 0))
theorem pl_prod (x y : Int64) : -85070591730234615865843651857942052864 ≤ x.toInt * y.toInt ∧ x.toInt * y.toInt ≤ 85070591730234615865843651857942052864 := by
  have h1 := rj x; have h2 := rj y
  have k : (x.toInt * y.toInt).natAbs ≤ 9223372036854775808 * 9223372036854775808 := by
    rw [Int.natAbs_mul]
    exact Nat.mul_le_mul (by omega) (by omega)
  omega
set_option maxHeartbeats 4000000 in
set_option maxRecDepth 100000 in
theorem c_lFits (l : Launch) (a : Nat) (f : Nat → Int32) (z : Int) (hz : -170141183460469231731687303715884105728 ≤ z ∧ z < 170141183460469231731687303715884105728) (hf : HZ f z) : Met l y_lFits (.code y_lFits b_lFits 1 (some .boolean) :: TB) ({ frames := 1, cells := 0, slots := 0, locals := 20 }) (va_Pc [.ref a] (fun U => ax_A U U.heap a f)) (qx_I (fun r => r = if -9223372036854775808 ≤ z ∧ z < 9223372036854775808 then 1 else 0)) 0 0 (fun _ => False) := by
  refine Met.ofW (cc := b_lFits) (maxL := 1) (ret := (some .boolean)) (by decide +kernel) rfl ?_
  intro p e s m args below meth c s₁ B hml hv
  obtain ⟨rfl, hQ⟩ := hv
  have hx := B.exec
  have hb := B.bytes
  have hr := B.returns
  have hts := atoms_spec (ws := (.code y_lFits b_lFits 1 (some .boolean) :: TB)) B.pre
  have hT : ∀ w ∈ TB, w.before _ s = true := fun w hw => hts w (List.mem_cons_of_mem _ hw)
  have hown : s.vm.findClass "MathDrillLaw" = some m.cls := findClass_of_methodNamed B.named
  have hlocks := B.notSynchronized
  have hl := lv_entry ([.ref a]) (n := 1) (Nat.le_of_ble_eq_true rfl)
  rw [lg_entry_eq]
  generalize (lg_sl ([.ref a]) ++ List.replicate (1 - (lg_sl ([.ref a])).length) Slot.unset).toArray = ls at hl ⊢
  have hl : lv_has ls 1 [(0, .ref a)] := hl
  have hTB : ∀ w ∈ TB, w ∈ TB := fun _ h => h
  refine lv_aload_n hx hb d_lFits_0 rfl (lv_at hl 0 rfl) ?_
  refine qx_callL (va_runS (As := [.ref a]) (rest := []) ⟨hx, hb, hml, hown, hT⟩ (c_lHigh l a f) (va_cwS 1 hT (gi_S hTB tb_219 tb_220 tb_0 tb_221) rfl rfl rfl ⟨by decide, by decide, by decide +kernel⟩ ⟨Nat.le_of_ble_eq_true rfl, Nat.le_of_ble_eq_true rfl⟩) ⟨fun _ U g mk q => ⟨q.1, q.2.moved (Vm.Alike.refl _)⟩, fun U hU hW => ⟨rfl, by dsimp only; rw [hU]; exact hQ.moved hW.alike⟩⟩ rfl rfl hl.1 rfl (lv_room (Nat.le_of_ble_eq_true rfl)) d_lFits_1 ⟨Nat.le_of_ble_eq_true rfl, Nat.le_of_ble_eq_true rfl⟩) (fun r1 er1 => ?_)
  refine lv_aload_n hx hb d_lFits_4 rfl (lv_at hl 0 rfl) ?_
  refine qx_callL (va_runS (As := [.ref a]) (rest := [.long r1]) ⟨hx, hb, hml, hown, hT⟩ (c_lLow l a f) (va_cwS 1 hT (gi_S hTB tb_216 tb_217 tb_0 tb_218) rfl rfl rfl ⟨by decide, by decide, by decide +kernel⟩ ⟨Nat.le_of_ble_eq_true rfl, Nat.le_of_ble_eq_true rfl⟩) ⟨fun _ U g mk q => ⟨q.1, q.2.moved (Vm.Alike.refl _)⟩, fun U hU hW => ⟨rfl, by dsimp only; rw [hU]; exact hQ.moved hW.alike⟩⟩ rfl rfl hl.1 rfl (lv_room (Nat.le_of_ble_eq_true rfl)) d_lFits_5 ⟨Nat.le_of_ble_eq_true rfl, Nat.le_of_ble_eq_true rfl⟩) (fun r2 er2 => ?_)
  refine lv_bipush (v := 63) hx hb d_lFits_8 (by decide) ?_
  refine lv_lshr hx hb d_lFits_10 rfl ?_
  refine W.lcmp hx hb d_lFits_11 ?_
  refine lv_if_ne (tgt := 19) hx hb d_lFits_12 (by decide) (fun h1 => ?_) (fun h1 => ?_)
  · rw [lg_cmp_eq] at h1
    refine lv_iconst (v := 0) hx hb d_lFits_19 (by decide) ?_
    exact W.zret (v := 0) hx hb hr rfl (fun t ht _ => ⟨_, rfl, by rw [if_neg (fun q => h1 ((pl_fits hz (pl_lowZ hf er2) (pl_highZ hf hz er1)).mpr q))], ht⟩) (fun q h => by cases h) d_lFits_20
  · rw [lg_cmp_eq] at h1
    refine lv_iconst (v := 1) hx hb d_lFits_15 (by decide) ?_
    refine lv_goto (tgt := 20) hx hb d_lFits_16 (by decide) ?_
    exact W.zret (v := 1) hx hb hr rfl (fun t ht _ => ⟨_, rfl, by rw [if_pos ((pl_fits hz (pl_lowZ hf er2) (pl_highZ hf hz er1)).mp h1)], ht⟩) (fun q h => by cases h) d_lFits_20
set_option maxHeartbeats 4000000 in
set_option maxRecDepth 100000 in
theorem c_lTold (l : Launch) (D : va_G) (x a : Nat) (got : Int64) (v : Int32) (f : Nat → Int32) (z : Int) (hz : -170141183460469231731687303715884105728 ≤ z ∧ z < 170141183460469231731687303715884105728) (hf : HZ f z) (ht : tol64 z got v) : Met l y_lTold (.code y_lTold b_lTold 4 (some .boolean) :: TB) ({ frames := 2, cells := 0, slots := 0, locals := 40 }) (va_Pc [.ref x, .long got, .ref a] (fun U => ox_O D U U.heap x v ∧ ax_A U U.heap a f)) (qx_I (fun r => r = 1)) 0 0 (fun _ => False) := by
  refine Met.ofW (cc := b_lTold) (maxL := 4) (ret := (some .boolean)) (by decide +kernel) rfl ?_
  intro p e s m args below meth c s₁ B hml hv
  obtain ⟨rfl, hO, hQ⟩ := hv
  have hx := B.exec
  have hb := B.bytes
  have hr := B.returns
  have hts := atoms_spec (ws := (.code y_lTold b_lTold 4 (some .boolean) :: TB)) B.pre
  have hT : ∀ w ∈ TB, w.before _ s = true := fun w hw => hts w (List.mem_cons_of_mem _ hw)
  have hown : s.vm.findClass "MathDrillLaw" = some m.cls := findClass_of_methodNamed B.named
  have hlocks := B.notSynchronized
  have hl := lv_entry ([.ref x, .long got, .ref a]) (n := 4) (Nat.le_of_ble_eq_true rfl)
  rw [lg_entry_eq]
  generalize (lg_sl ([.ref x, .long got, .ref a]) ++ List.replicate (4 - (lg_sl ([.ref x, .long got, .ref a])).length) Slot.unset).toArray = ls at hl ⊢
  have hl : lv_has ls 4 [(0, .ref x), (1, .long got), (3, .ref a)] := hl
  have hTB : ∀ w ∈ TB, w ∈ TB := fun _ h => h
  refine lv_aload_n hx hb d_lTold_0 rfl (lv_at hl 2 rfl) ?_
  refine qx_callI (va_runS (As := [.ref a]) (rest := []) ⟨hx, hb, hml, hown, hT⟩ (c_lFits l a f z hz hf) (va_cwS 1 hT (gi_S hTB tb_225 tb_226 tb_0 tb_227) rfl rfl rfl ⟨by decide, by decide, by decide +kernel⟩ ⟨Nat.le_of_ble_eq_true rfl, Nat.le_of_ble_eq_true rfl⟩) ⟨fun _ U g mk q => ⟨q.1, q.2.moved (Vm.Alike.refl _)⟩, fun U hU hW => ⟨rfl, by dsimp only; rw [hU]; exact hQ.moved hW.alike⟩⟩ rfl rfl hl.1 rfl (lv_room (Nat.le_of_ble_eq_true rfl)) d_lTold_1 ⟨Nat.le_of_ble_eq_true rfl, Nat.le_of_ble_eq_true rfl⟩) (fun r1 er1 => ?_)
  refine lv_if_eq (tgt := 31) hx hb d_lTold_4 (by decide) (fun h1 => ?_) (fun h1 => ?_)
  · refine lv_aload_n hx hb d_lTold_31 rfl (lv_at hl 0 rfl) ?_
    refine qx_callI (va_runV (C := "MathDrill") (b := x) (As := []) (rest := []) ⟨hx, hb, hml, hown, hT⟩ (c_dOver l D x v ht.b) (cwV 0 hT (gi_V hTB tb_228 tb_229 tb_230 tb_1 tb_231) rfl rfl rfl ⟨rfl, by decide, by decide, by decide +kernel⟩ ⟨Nat.le_of_ble_eq_true rfl, Nat.le_of_ble_eq_true rfl⟩) ⟨fun _ U g mk q => ⟨q.1, q.2.moved (Vm.Alike.refl _)⟩, hO.recv, fun U hU hW => ⟨rfl, by dsimp only; rw [hU]; exact hO.moved hW.alike⟩⟩ rfl rfl hl.1 rfl (lv_room (Nat.le_of_ble_eq_true rfl)) d_lTold_32 ⟨Nat.le_of_ble_eq_true rfl, Nat.le_of_ble_eq_true rfl⟩) (fun o1 eo1 => ?_)
    refine lv_if_eq (tgt := 48) hx hb d_lTold_35 (by decide) (fun h2 => ?_) (fun h2 => ?_)
    · refine lv_iconst (v := 0) hx hb d_lTold_48 (by decide) ?_
      exfalso; have q : ¬ (-9223372036854775808 ≤ z ∧ z < 9223372036854775808) := fun q => absurd (h1.symm.trans (er1.trans (if_pos q))) (by decide); exact absurd (h2.symm.trans (eo1.trans (ht.2 q).2)) (by decide)
    · refine lv_lload_n hx hb d_lTold_38 rfl (lv_at hl 1 rfl) ?_
      refine lv_lconst (v := 0) hx hb d_lTold_39 (by decide) ?_
      refine W.lcmp hx hb d_lTold_40 ?_
      refine lv_if_ne (tgt := 48) hx hb d_lTold_41 (by decide) (fun h3 => ?_) (fun h3 => ?_)
      · rw [lg_cmp_eq] at h3
        refine lv_iconst (v := 0) hx hb d_lTold_48 (by decide) ?_
        exfalso; have q : ¬ (-9223372036854775808 ≤ z ∧ z < 9223372036854775808) := fun q => absurd (h1.symm.trans (er1.trans (if_pos q))) (by decide); exact h3 (ht.2 q).1
      · rw [lg_cmp_eq] at h3
        refine lv_iconst (v := 1) hx hb d_lTold_44 (by decide) ?_
        refine lv_goto (tgt := 49) hx hb d_lTold_45 (by decide) ?_
        exact W.zret (v := 1) hx hb hr rfl (fun t ht _ => ⟨_, rfl, rfl, ht⟩) (fun q h => by cases h) d_lTold_49
  · refine lv_aload_n hx hb d_lTold_7 rfl (lv_at hl 0 rfl) ?_
    refine qx_callI (va_runV (C := "MathDrill") (b := x) (As := []) (rest := []) ⟨hx, hb, hml, hown, hT⟩ (c_dOver l D x v ht.b) (cwV 0 hT (gi_V hTB tb_228 tb_229 tb_230 tb_1 tb_231) rfl rfl rfl ⟨rfl, by decide, by decide, by decide +kernel⟩ ⟨Nat.le_of_ble_eq_true rfl, Nat.le_of_ble_eq_true rfl⟩) ⟨fun _ U g mk q => ⟨q.1, q.2.moved (Vm.Alike.refl _)⟩, hO.recv, fun U hU hW => ⟨rfl, by dsimp only; rw [hU]; exact hO.moved hW.alike⟩⟩ rfl rfl hl.1 rfl (lv_room (Nat.le_of_ble_eq_true rfl)) d_lTold_8 ⟨Nat.le_of_ble_eq_true rfl, Nat.le_of_ble_eq_true rfl⟩) (fun o2 eo2 => ?_)
    refine lv_if_ne (tgt := 27) hx hb d_lTold_11 (by decide) (fun h4 => ?_) (fun h4 => ?_)
    · refine lv_iconst (v := 0) hx hb d_lTold_27 (by decide) ?_
      refine lv_goto (tgt := 49) hx hb d_lTold_28 (by decide) ?_
      exfalso; have q : -9223372036854775808 ≤ z ∧ z < 9223372036854775808 := Classical.byContradiction (fun q => h1 (er1.trans (if_neg q))); exact h4 (eo2.trans (ht.1 q).2)
    · refine lv_lload_n hx hb d_lTold_14 rfl (lv_at hl 1 rfl) ?_
      refine lv_aload_n hx hb d_lTold_15 rfl (lv_at hl 2 rfl) ?_
      refine qx_callL (va_runS (As := [.ref a]) (rest := [.long got]) ⟨hx, hb, hml, hown, hT⟩ (c_lLow l a f) (va_cwS 1 hT (gi_S hTB tb_216 tb_217 tb_0 tb_218) rfl rfl rfl ⟨by decide, by decide, by decide +kernel⟩ ⟨Nat.le_of_ble_eq_true rfl, Nat.le_of_ble_eq_true rfl⟩) ⟨fun _ U g mk q => ⟨q.1, q.2.moved (Vm.Alike.refl _)⟩, fun U hU hW => ⟨rfl, by dsimp only; rw [hU]; exact hQ.moved hW.alike⟩⟩ rfl rfl hl.1 rfl (lv_room (Nat.le_of_ble_eq_true rfl)) d_lTold_16 ⟨Nat.le_of_ble_eq_true rfl, Nat.le_of_ble_eq_true rfl⟩) (fun r2 er2 => ?_)
      refine W.lcmp hx hb d_lTold_19 ?_
      refine lv_if_ne (tgt := 27) hx hb d_lTold_20 (by decide) (fun h5 => ?_) (fun h5 => ?_)
      · rw [lg_cmp_eq] at h5
        refine lv_iconst (v := 0) hx hb d_lTold_27 (by decide) ?_
        refine lv_goto (tgt := 49) hx hb d_lTold_28 (by decide) ?_
        exfalso; have q : -9223372036854775808 ≤ z ∧ z < 9223372036854775808 := Classical.byContradiction (fun q => h1 (er1.trans (if_neg q))); refine h5 (Int64.toInt_inj.mp ?_); obtain ⟨k, hk⟩ := pl_lowZ hf er2; have g1 := rj r2; have g2 := (ht.1 q).1; omega
      · rw [lg_cmp_eq] at h5
        refine lv_iconst (v := 1) hx hb d_lTold_23 (by decide) ?_
        refine lv_goto (tgt := 49) hx hb d_lTold_24 (by decide) ?_
        exact W.zret (v := 1) hx hb hr rfl (fun t ht _ => ⟨_, rfl, rfl, ht⟩) (fun q h => by cases h) d_lTold_49
set_option maxHeartbeats 4000000 in
set_option maxRecDepth 100000 in
theorem c_lTolI (l : Launch) (D : va_G) (x : Nat) (got : Int32) (v : Int32) (due : Int64) (ht : tol32 due.toInt got v) : Met l y_lTolI (.code y_lTolI b_lTolI 4 (some .boolean) :: TB) ({ frames := 1, cells := 0, slots := 0, locals := 20 }) (va_Pc [.ref x, .int got, .long due] (fun U => ox_O D U U.heap x v)) (qx_I (fun r => r = 1)) 0 0 (fun _ => False) := by
  refine Met.ofW (cc := b_lTolI) (maxL := 4) (ret := (some .boolean)) (by decide +kernel) rfl ?_
  intro p e s m args below meth c s₁ B hml hv
  obtain ⟨rfl, hO⟩ := hv
  have hx := B.exec
  have hb := B.bytes
  have hr := B.returns
  have hts := atoms_spec (ws := (.code y_lTolI b_lTolI 4 (some .boolean) :: TB)) B.pre
  have hT : ∀ w ∈ TB, w.before _ s = true := fun w hw => hts w (List.mem_cons_of_mem _ hw)
  have hown : s.vm.findClass "MathDrillLaw" = some m.cls := findClass_of_methodNamed B.named
  have hlocks := B.notSynchronized
  have hl := lv_entry ([.ref x, .int got, .long due]) (n := 4) (Nat.le_of_ble_eq_true rfl)
  rw [lg_entry_eq]
  generalize (lg_sl ([.ref x, .int got, .long due]) ++ List.replicate (4 - (lg_sl ([.ref x, .int got, .long due])).length) Slot.unset).toArray = ls at hl ⊢
  have hl : lv_has ls 4 [(0, .ref x), (1, .int got), (2, .long due)] := hl
  have hTB : ∀ w ∈ TB, w ∈ TB := fun _ h => h
  refine lv_lload_n hx hb d_lTolI_0 rfl (lv_at hl 2 rfl) ?_
  refine lv_lload_n hx hb d_lTolI_1 rfl (lv_at hl 2 rfl) ?_
  refine lv_l2i hx hb d_lTolI_2 rfl ?_
  refine lv_i2l hx hb d_lTolI_3 rfl ?_
  refine W.lcmp hx hb d_lTolI_4 ?_
  refine lv_if_ne (tgt := 30) hx hb d_lTolI_5 (by decide) (fun h1 => ?_) (fun h1 => ?_)
  · rw [lg_cmp_eq] at h1
    refine lv_aload_n hx hb d_lTolI_30 rfl (lv_at hl 0 rfl) ?_
    refine qx_callI (va_runV (C := "MathDrill") (b := x) (As := []) (rest := []) ⟨hx, hb, hml, hown, hT⟩ (c_dOver l D x v ht.b) (cwV 0 hT (gi_V hTB tb_228 tb_229 tb_230 tb_1 tb_231) rfl rfl rfl ⟨rfl, by decide, by decide, by decide +kernel⟩ ⟨Nat.le_of_ble_eq_true rfl, Nat.le_of_ble_eq_true rfl⟩) ⟨fun _ U g mk q => ⟨q.1, q.2.moved (Vm.Alike.refl _)⟩, hO.recv, fun U hU hW => ⟨rfl, by dsimp only; rw [hU]; exact hO.moved hW.alike⟩⟩ rfl rfl hl.1 rfl (lv_room (Nat.le_of_ble_eq_true rfl)) d_lTolI_31 ⟨Nat.le_of_ble_eq_true rfl, Nat.le_of_ble_eq_true rfl⟩) (fun o1 eo1 => ?_)
    refine lv_if_eq (tgt := 45) hx hb d_lTolI_34 (by decide) (fun h2 => ?_) (fun h2 => ?_)
    · refine lv_iconst (v := 0) hx hb d_lTolI_45 (by decide) ?_
      exfalso; have q : ¬ (-2147483648 ≤ due.toInt ∧ due.toInt < 2147483648) := fun q => h1 ((pl_i32 due).mpr q); exact absurd (h2.symm.trans (eo1.trans (ht.2 q).2)) (by decide)
    · refine lv_iload_n hx hb d_lTolI_37 rfl (lv_at hl 1 rfl) ?_
      refine lv_if_ne (tgt := 45) hx hb d_lTolI_38 (by decide) (fun h3 => ?_) (fun h3 => ?_)
      · refine lv_iconst (v := 0) hx hb d_lTolI_45 (by decide) ?_
        exfalso; have q : ¬ (-2147483648 ≤ due.toInt ∧ due.toInt < 2147483648) := fun q => h1 ((pl_i32 due).mpr q); exact h3 (ht.2 q).1
      · refine lv_iconst (v := 1) hx hb d_lTolI_41 (by decide) ?_
        refine lv_goto (tgt := 46) hx hb d_lTolI_42 (by decide) ?_
        exact W.zret (v := 1) hx hb hr rfl (fun t ht _ => ⟨_, rfl, rfl, ht⟩) (fun q h => by cases h) d_lTolI_46
  · rw [lg_cmp_eq] at h1
    refine lv_aload_n hx hb d_lTolI_8 rfl (lv_at hl 0 rfl) ?_
    refine qx_callI (va_runV (C := "MathDrill") (b := x) (As := []) (rest := []) ⟨hx, hb, hml, hown, hT⟩ (c_dOver l D x v ht.b) (cwV 0 hT (gi_V hTB tb_228 tb_229 tb_230 tb_1 tb_231) rfl rfl rfl ⟨rfl, by decide, by decide, by decide +kernel⟩ ⟨Nat.le_of_ble_eq_true rfl, Nat.le_of_ble_eq_true rfl⟩) ⟨fun _ U g mk q => ⟨q.1, q.2.moved (Vm.Alike.refl _)⟩, hO.recv, fun U hU hW => ⟨rfl, by dsimp only; rw [hU]; exact hO.moved hW.alike⟩⟩ rfl rfl hl.1 rfl (lv_room (Nat.le_of_ble_eq_true rfl)) d_lTolI_9 ⟨Nat.le_of_ble_eq_true rfl, Nat.le_of_ble_eq_true rfl⟩) (fun o2 eo2 => ?_)
    refine lv_if_ne (tgt := 26) hx hb d_lTolI_12 (by decide) (fun h4 => ?_) (fun h4 => ?_)
    · refine lv_iconst (v := 0) hx hb d_lTolI_26 (by decide) ?_
      refine lv_goto (tgt := 46) hx hb d_lTolI_27 (by decide) ?_
      exfalso; have q := (pl_i32 due).mp h1; exact h4 (eo2.trans (ht.1 q).2)
    · refine lv_iload_n hx hb d_lTolI_15 rfl (lv_at hl 1 rfl) ?_
      refine lv_i2l hx hb d_lTolI_16 rfl ?_
      refine lv_lload_n hx hb d_lTolI_17 rfl (lv_at hl 2 rfl) ?_
      refine W.lcmp hx hb d_lTolI_18 ?_
      refine lv_if_ne (tgt := 26) hx hb d_lTolI_19 (by decide) (fun h5 => ?_) (fun h5 => ?_)
      · rw [lg_cmp_eq] at h5
        refine lv_iconst (v := 0) hx hb d_lTolI_26 (by decide) ?_
        refine lv_goto (tgt := 46) hx hb d_lTolI_27 (by decide) ?_
        exfalso; have q := (pl_i32 due).mp h1; refine h5 (Int64.toInt_inj.mp ?_); have g2 := (ht.1 q).1; have g3 := Int32.toInt_toInt64 got; omega
      · rw [lg_cmp_eq] at h5
        refine lv_iconst (v := 1) hx hb d_lTolI_22 (by decide) ?_
        refine lv_goto (tgt := 46) hx hb d_lTolI_23 (by decide) ?_
        exact W.zret (v := 1) hx hb hr rfl (fun t ht _ => ⟨_, rfl, rfl, ht⟩) (fun q h => by cases h) d_lTolI_46
set_option maxHeartbeats 4000000 in
set_option maxRecDepth 100000 in
theorem c_lPart (l : Launch) (q r a b : Int64) (hp : ptx q r a b) : Met l y_lPart (.code y_lPart b_lPart 9 (some .boolean) :: TB) ({ frames := 2, cells := 5, slots := 20, locals := 40 }) (va_Pc [.long q, .long r, .long a, .long b] (fun _ => True)) (qx_X (fun x => x = 1)) 5 20 (fun _ => False) := by
  refine Met.ofW (cc := b_lPart) (maxL := 9) (ret := (some .boolean)) (by decide +kernel) rfl ?_
  intro p e s m args below meth c s₁ B hml hv
  obtain ⟨rfl, -⟩ := hv
  have hx := B.exec
  have hb := B.bytes
  have hr := B.returns
  have hts := atoms_spec (ws := (.code y_lPart b_lPart 9 (some .boolean) :: TB)) B.pre
  have hT : ∀ w ∈ TB, w.before _ s = true := fun w hw => hts w (List.mem_cons_of_mem _ hw)
  have hown : s.vm.findClass "MathDrillLaw" = some m.cls := findClass_of_methodNamed B.named
  have hlocks := B.notSynchronized
  have hl := lv_entry ([.long q, .long r, .long a, .long b]) (n := 9) (Nat.le_of_ble_eq_true rfl)
  rw [lg_entry_eq]
  generalize (lg_sl ([.long q, .long r, .long a, .long b]) ++ List.replicate (9 - (lg_sl ([.long q, .long r, .long a, .long b])).length) Slot.unset).toArray = ls at hl ⊢
  have hl : lv_has ls 9 [(0, .long q), (2, .long r), (4, .long a), (6, .long b)] := hl
  have hTB : ∀ w ∈ TB, w ∈ TB := fun _ h => h
  obtain ⟨hp1, hp2⟩ := hp
  have hE : ax_X s.heap s.heap := ax_X.rf
  refine lv_lload_n hx hb d_lPart_0 rfl (lv_at hl 0 rfl) ?_
  refine qx_callA (va_runS (As := [.long q]) (rest := []) ⟨hx, hb, hml, hown, hT⟩ (c_lOf l q) (va_cwS 1 hT (gi_S hTB tb_202 tb_203 tb_0 tb_204) rfl rfl rfl ⟨by decide, by decide, by decide +kernel⟩ ⟨Nat.le_of_ble_eq_true rfl, Nat.le_of_ble_eq_true rfl⟩) ⟨fun _ _ _ _ q => q, fun _ _ _ => ⟨rfl, trivial⟩⟩ rfl rfl hl.1 rfl (lv_room (Nat.le_of_ble_eq_true rfl)) d_lPart_1 ⟨Nat.le_of_ble_eq_true rfl, Nat.le_of_ble_eq_true rfl⟩) (fun q1 f1 H hf1 hQ1 hq1 hE1 => ?_)
  have hE := hE.trans hE1
  refine lv_lload hx hb d_lPart_4 (lv_at hl 3 rfl) ?_
  refine qx_callA (va_runS (As := [.long b]) (rest := [.ref q1]) ⟨hx, hb, hml, hown, hT⟩ (c_lOf l b) (va_cwS 1 hT (gi_S hTB tb_202 tb_203 tb_0 tb_204) rfl rfl rfl ⟨by decide, by decide, by decide +kernel⟩ ⟨Nat.le_of_ble_eq_true rfl, Nat.le_of_ble_eq_true rfl⟩) ⟨fun _ _ _ _ q => q, fun _ _ _ => ⟨rfl, trivial⟩⟩ rfl rfl hl.1 rfl (lv_room (Nat.le_of_ble_eq_true rfl)) d_lPart_6 ⟨Nat.le_of_ble_eq_true rfl, Nat.le_of_ble_eq_true rfl⟩) (fun q2 f2 H hf2 hQ2 hq2 hE2 => ?_)
  have hE := hE.trans hE2
  have hQ1 := hQ1.ext hE2
  refine qx_callA (va_runS (As := [.ref q1, .ref q2]) (rest := []) ⟨hx, hb, hml, hown, hT⟩ (c_lTim l q1 q2 f1 f2 _ _ hf1 hf2) (va_cwS 2 hT (gi_S hTB tb_213 tb_214 tb_0 tb_215) rfl rfl rfl ⟨by decide, by decide, by decide +kernel⟩ ⟨Nat.le_of_ble_eq_true rfl, Nat.le_of_ble_eq_true rfl⟩) ⟨fun _ U g mk q => ⟨q.1, q.2.1.moved (Vm.Alike.refl _), q.2.2.moved (Vm.Alike.refl _)⟩, fun U hU hW => ⟨rfl, by rw [hU]; exact hQ1.moved hW.alike, by rw [hU]; exact hQ2.moved hW.alike⟩⟩ rfl rfl hl.1 rfl (lv_room (Nat.le_of_ble_eq_true rfl)) d_lPart_9 ⟨Nat.le_of_ble_eq_true rfl, Nat.le_of_ble_eq_true rfl⟩) (fun q3 f3 H hf3 hQ3 hq3 hE3 => ?_)
  have hE := hE.trans hE3
  refine lv_lload_n hx hb d_lPart_12 rfl (lv_at hl 1 rfl) ?_
  refine qx_callA (va_runS (As := [.long r]) (rest := [.ref q3]) ⟨hx, hb, hml, hown, hT⟩ (c_lOf l r) (va_cwS 1 hT (gi_S hTB tb_202 tb_203 tb_0 tb_204) rfl rfl rfl ⟨by decide, by decide, by decide +kernel⟩ ⟨Nat.le_of_ble_eq_true rfl, Nat.le_of_ble_eq_true rfl⟩) ⟨fun _ _ _ _ q => q, fun _ _ _ => ⟨rfl, trivial⟩⟩ rfl rfl hl.1 rfl (lv_room (Nat.le_of_ble_eq_true rfl)) d_lPart_13 ⟨Nat.le_of_ble_eq_true rfl, Nat.le_of_ble_eq_true rfl⟩) (fun q4 f4 H hf4 hQ4 hq4 hE4 => ?_)
  have hE := hE.trans hE4
  have hQ3 := hQ3.ext hE4
  refine qx_callA (va_runS (As := [.ref q3, .ref q4]) (rest := []) ⟨hx, hb, hml, hown, hT⟩ (c_lPlus l q3 q4 f3 f4 _ _ hf3 hf4) (va_cwS 2 hT (gi_S hTB tb_206 tb_207 tb_0 tb_208) rfl rfl rfl ⟨by decide, by decide, by decide +kernel⟩ ⟨Nat.le_of_ble_eq_true rfl, Nat.le_of_ble_eq_true rfl⟩) ⟨fun _ U g mk q => ⟨q.1, q.2.1.moved (Vm.Alike.refl _), q.2.2.moved (Vm.Alike.refl _)⟩, fun U hU hW => ⟨rfl, by rw [hU]; exact hQ3.moved hW.alike, by rw [hU]; exact hQ4.moved hW.alike⟩⟩ rfl rfl hl.1 rfl (lv_room (Nat.le_of_ble_eq_true rfl)) d_lPart_16 ⟨Nat.le_of_ble_eq_true rfl, Nat.le_of_ble_eq_true rfl⟩) (fun q5 f5 H hf5 hQ5 hq5 hE5 => ?_)
  have hE := hE.trans hE5
  refine lv_astore (lv' := [(8, .ref q5), (0, .long q), (2, .long r), (4, .long a), (6, .long b)]) hx hb d_lPart_19 hl (by decide) rfl (fun ls hl => ?_)
  refine lv_aload hx hb d_lPart_21 (lv_at hl 0 rfl) ?_
  have hpr := pl_prod q b; have hrr := rj r
  have hz : -170141183460469231731687303715884105728 ≤ q.toInt * b.toInt + r.toInt ∧ q.toInt * b.toInt + r.toInt < 170141183460469231731687303715884105728 := by omega
  refine qx_callL (va_runS (As := [.ref q5]) (rest := []) ⟨hx, hb, hml, hown, hT⟩ (c_lLow l q5 f5) (va_cwS 1 hT (gi_S hTB tb_216 tb_217 tb_0 tb_218) rfl rfl rfl ⟨by decide, by decide, by decide +kernel⟩ ⟨Nat.le_of_ble_eq_true rfl, Nat.le_of_ble_eq_true rfl⟩) ⟨fun _ U g mk q => ⟨q.1, q.2.moved (Vm.Alike.refl _)⟩, fun U hU hW => ⟨rfl, by dsimp only; rw [hU]; exact hQ5.moved hW.alike⟩⟩ rfl rfl hl.1 rfl (lv_room (Nat.le_of_ble_eq_true rfl)) d_lPart_23 ⟨Nat.le_of_ble_eq_true rfl, Nat.le_of_ble_eq_true rfl⟩) (fun r1 er1 => ?_)
  obtain ⟨k1, hk1⟩ := pl_lowZ hf5 er1
  refine lv_lload hx hb d_lPart_26 (lv_at hl 3 rfl) ?_
  refine W.lcmp hx hb d_lPart_28 ?_
  refine lv_if_ne (tgt := 118) hx hb d_lPart_29 (by decide) (fun h1 => ?_) (fun h1 => ?_)
  · rw [lg_cmp_eq] at h1
    exfalso
    simp only [Int64.le_iff_toInt_le, Int64.lt_iff_toInt_lt, ← Int64.toInt_inj, z_0, z_M, z_m1] at h1
    have g1 := rj r1; have g2 := rj a; have g3 := rj b; have g4 := rj r
    omega
  · rw [lg_cmp_eq] at h1
    refine lv_aload hx hb d_lPart_32 (lv_at hl 0 rfl) ?_
    refine qx_callI (va_runS (As := [.ref q5]) (rest := []) ⟨hx, hb, hml, hown, hT⟩ (c_lFits l q5 f5 _ hz hf5) (va_cwS 1 hT (gi_S hTB tb_225 tb_226 tb_0 tb_227) rfl rfl rfl ⟨by decide, by decide, by decide +kernel⟩ ⟨Nat.le_of_ble_eq_true rfl, Nat.le_of_ble_eq_true rfl⟩) ⟨fun _ U g mk q => ⟨q.1, q.2.moved (Vm.Alike.refl _)⟩, fun U hU hW => ⟨rfl, by dsimp only; rw [hU]; exact hQ5.moved hW.alike⟩⟩ rfl rfl hl.1 rfl (lv_room (Nat.le_of_ble_eq_true rfl)) d_lPart_34 ⟨Nat.le_of_ble_eq_true rfl, Nat.le_of_ble_eq_true rfl⟩) (fun r2 er2 => ?_)
    refine lv_if_ne (tgt := 58) hx hb d_lPart_37 (by decide) (fun h2 => ?_) (fun h2 => ?_)
    · refine lv_lload_n hx hb d_lPart_58 rfl (lv_at hl 2 rfl) ?_
      refine lv_lconst (v := 0) hx hb d_lPart_59 (by decide) ?_
      refine W.lcmp hx hb d_lPart_60 ?_
      refine lv_if_eq (tgt := 114) hx hb d_lPart_61 (by decide) (fun h3 => ?_) (fun h3 => ?_)
      · rw [lg_cmp_eq] at h3
        refine lv_iconst (v := 1) hx hb d_lPart_114 (by decide) ?_
        refine lv_goto (tgt := 119) hx hb d_lPart_115 (by decide) ?_
        exact W.zret (v := 1) hx hb hr rfl (fun t ht _ => ⟨_, rfl, rfl, by rw [ht]; exact hE⟩) (fun q h => by cases h) d_lPart_119
      · rw [lg_cmp_eq] at h3
        refine lv_lload_n hx hb d_lPart_64 rfl (lv_at hl 2 rfl) ?_
        refine lv_lconst (v := 0) hx hb d_lPart_65 (by decide) ?_
        refine W.lcmp hx hb d_lPart_66 ?_
        refine lv_if_ge (tgt := 74) hx hb d_lPart_67 (by decide) (fun h4 => ?_) (fun h4 => ?_)
        · rw [lg_cmp_ge] at h4
          refine lv_iconst (v := 0) hx hb d_lPart_74 (by decide) ?_
          refine lv_lload hx hb d_lPart_75 (lv_at hl 4 rfl) ?_
          refine lv_lconst (v := 0) hx hb d_lPart_77 (by decide) ?_
          refine W.lcmp hx hb d_lPart_78 ?_
          refine lv_if_ge (tgt := 86) hx hb d_lPart_79 (by decide) (fun h5 => ?_) (fun h5 => ?_)
          · rw [lg_cmp_ge] at h5
            refine lv_iconst (v := 0) hx hb d_lPart_86 (by decide) ?_
            refine lv_icmp_ne (tgt := 118) hx hb d_lPart_87 (by decide) (fun h6 => ?_) (fun h6 => ?_)
            · exfalso
              exact absurd rfl h6
            · refine lv_lload hx hb d_lPart_90 (lv_at hl 4 rfl) ?_
              refine lv_lconst (v := 0) hx hb d_lPart_92 (by decide) ?_
              refine W.lcmp hx hb d_lPart_93 ?_
              refine lv_if_ge (tgt := 107) hx hb d_lPart_94 (by decide) (fun h7 => ?_) (fun h7 => ?_)
              · rw [lg_cmp_ge] at h7
                refine lv_lload_n hx hb d_lPart_107 rfl (lv_at hl 2 rfl) ?_
                refine lv_lload hx hb d_lPart_108 (lv_at hl 4 rfl) ?_
                refine W.lcmp hx hb d_lPart_110 ?_
                refine lv_if_ge (tgt := 118) hx hb d_lPart_111 (by decide) (fun h8 => ?_) (fun h8 => ?_)
                · rw [lg_cmp_ge] at h8
                  exfalso
                  simp only [Int64.le_iff_toInt_le, Int64.lt_iff_toInt_lt, ← Int64.toInt_inj, z_0, z_M, z_m1] at h1 h3 h4 h5 h7 h8
                  have g1 := rj r1; have g2 := rj a; have g3 := rj b; have g4 := rj r
                  omega
                · rw [lg_cmp_ge] at h8
                  refine lv_iconst (v := 1) hx hb d_lPart_114 (by decide) ?_
                  refine lv_goto (tgt := 119) hx hb d_lPart_115 (by decide) ?_
                  exact W.zret (v := 1) hx hb hr rfl (fun t ht _ => ⟨_, rfl, rfl, by rw [ht]; exact hE⟩) (fun q h => by cases h) d_lPart_119
              · rw [lg_cmp_ge] at h7
                refine lv_lload_n hx hb d_lPart_97 rfl (lv_at hl 2 rfl) ?_
                refine lv_lload hx hb d_lPart_98 (lv_at hl 4 rfl) ?_
                refine W.lcmp hx hb d_lPart_100 ?_
                refine lv_if_le (tgt := 118) hx hb d_lPart_101 (by decide) (fun h9 => ?_) (fun h9 => ?_)
                · rw [lg_cmp_le] at h9
                  exfalso
                  simp only [Int64.le_iff_toInt_le, Int64.lt_iff_toInt_lt, ← Int64.toInt_inj, z_0, z_M, z_m1] at h1 h3 h4 h5 h7 h9
                  have g1 := rj r1; have g2 := rj a; have g3 := rj b; have g4 := rj r
                  omega
                · rw [lg_cmp_le] at h9
                  refine lv_goto (tgt := 114) hx hb d_lPart_104 (by decide) ?_
                  refine lv_iconst (v := 1) hx hb d_lPart_114 (by decide) ?_
                  refine lv_goto (tgt := 119) hx hb d_lPart_115 (by decide) ?_
                  exact W.zret (v := 1) hx hb hr rfl (fun t ht _ => ⟨_, rfl, rfl, by rw [ht]; exact hE⟩) (fun q h => by cases h) d_lPart_119
          · rw [lg_cmp_ge] at h5
            refine lv_iconst (v := 1) hx hb d_lPart_82 (by decide) ?_
            refine lv_goto (tgt := 87) hx hb d_lPart_83 (by decide) ?_
            refine lv_icmp_ne (tgt := 118) hx hb d_lPart_87 (by decide) (fun h10 => ?_) (fun h10 => ?_)
            · exfalso
              simp only [Int64.le_iff_toInt_le, Int64.lt_iff_toInt_lt, ← Int64.toInt_inj, z_0, z_M, z_m1] at h1 h3 h4 h5
              have g1 := rj r1; have g2 := rj a; have g3 := rj b; have g4 := rj r
              omega
            · refine lv_lload hx hb d_lPart_90 (lv_at hl 4 rfl) ?_
              refine lv_lconst (v := 0) hx hb d_lPart_92 (by decide) ?_
              refine W.lcmp hx hb d_lPart_93 ?_
              refine lv_if_ge (tgt := 107) hx hb d_lPart_94 (by decide) (fun h11 => ?_) (fun h11 => ?_)
              · rw [lg_cmp_ge] at h11
                refine lv_lload_n hx hb d_lPart_107 rfl (lv_at hl 2 rfl) ?_
                refine lv_lload hx hb d_lPart_108 (lv_at hl 4 rfl) ?_
                refine W.lcmp hx hb d_lPart_110 ?_
                refine lv_if_ge (tgt := 118) hx hb d_lPart_111 (by decide) (fun h12 => ?_) (fun h12 => ?_)
                · rw [lg_cmp_ge] at h12
                  exfalso
                  simp only [Int64.le_iff_toInt_le, Int64.lt_iff_toInt_lt, ← Int64.toInt_inj, z_0, z_M, z_m1] at h1 h3 h4 h5 h11 h12
                  have g1 := rj r1; have g2 := rj a; have g3 := rj b; have g4 := rj r
                  omega
                · rw [lg_cmp_ge] at h12
                  refine lv_iconst (v := 1) hx hb d_lPart_114 (by decide) ?_
                  refine lv_goto (tgt := 119) hx hb d_lPart_115 (by decide) ?_
                  exact W.zret (v := 1) hx hb hr rfl (fun t ht _ => ⟨_, rfl, rfl, by rw [ht]; exact hE⟩) (fun q h => by cases h) d_lPart_119
              · rw [lg_cmp_ge] at h11
                refine lv_lload_n hx hb d_lPart_97 rfl (lv_at hl 2 rfl) ?_
                refine lv_lload hx hb d_lPart_98 (lv_at hl 4 rfl) ?_
                refine W.lcmp hx hb d_lPart_100 ?_
                refine lv_if_le (tgt := 118) hx hb d_lPart_101 (by decide) (fun h13 => ?_) (fun h13 => ?_)
                · rw [lg_cmp_le] at h13
                  exfalso
                  simp only [Int64.le_iff_toInt_le, Int64.lt_iff_toInt_lt, ← Int64.toInt_inj, z_0, z_M, z_m1] at h1 h3 h4 h5 h11 h13
                  have g1 := rj r1; have g2 := rj a; have g3 := rj b; have g4 := rj r
                  omega
                · rw [lg_cmp_le] at h13
                  refine lv_goto (tgt := 114) hx hb d_lPart_104 (by decide) ?_
                  refine lv_iconst (v := 1) hx hb d_lPart_114 (by decide) ?_
                  refine lv_goto (tgt := 119) hx hb d_lPart_115 (by decide) ?_
                  exact W.zret (v := 1) hx hb hr rfl (fun t ht _ => ⟨_, rfl, rfl, by rw [ht]; exact hE⟩) (fun q h => by cases h) d_lPart_119
        · rw [lg_cmp_ge] at h4
          refine lv_iconst (v := 1) hx hb d_lPart_70 (by decide) ?_
          refine lv_goto (tgt := 75) hx hb d_lPart_71 (by decide) ?_
          refine lv_lload hx hb d_lPart_75 (lv_at hl 4 rfl) ?_
          refine lv_lconst (v := 0) hx hb d_lPart_77 (by decide) ?_
          refine W.lcmp hx hb d_lPart_78 ?_
          refine lv_if_ge (tgt := 86) hx hb d_lPart_79 (by decide) (fun h14 => ?_) (fun h14 => ?_)
          · rw [lg_cmp_ge] at h14
            refine lv_iconst (v := 0) hx hb d_lPart_86 (by decide) ?_
            refine lv_icmp_ne (tgt := 118) hx hb d_lPart_87 (by decide) (fun h15 => ?_) (fun h15 => ?_)
            · exfalso
              simp only [Int64.le_iff_toInt_le, Int64.lt_iff_toInt_lt, ← Int64.toInt_inj, z_0, z_M, z_m1] at h1 h3 h4 h14
              have g1 := rj r1; have g2 := rj a; have g3 := rj b; have g4 := rj r
              omega
            · refine lv_lload hx hb d_lPart_90 (lv_at hl 4 rfl) ?_
              refine lv_lconst (v := 0) hx hb d_lPart_92 (by decide) ?_
              refine W.lcmp hx hb d_lPart_93 ?_
              refine lv_if_ge (tgt := 107) hx hb d_lPart_94 (by decide) (fun h16 => ?_) (fun h16 => ?_)
              · rw [lg_cmp_ge] at h16
                refine lv_lload_n hx hb d_lPart_107 rfl (lv_at hl 2 rfl) ?_
                refine lv_lload hx hb d_lPart_108 (lv_at hl 4 rfl) ?_
                refine W.lcmp hx hb d_lPart_110 ?_
                refine lv_if_ge (tgt := 118) hx hb d_lPart_111 (by decide) (fun h17 => ?_) (fun h17 => ?_)
                · rw [lg_cmp_ge] at h17
                  exfalso
                  simp only [Int64.le_iff_toInt_le, Int64.lt_iff_toInt_lt, ← Int64.toInt_inj, z_0, z_M, z_m1] at h1 h3 h4 h14 h16 h17
                  have g1 := rj r1; have g2 := rj a; have g3 := rj b; have g4 := rj r
                  omega
                · rw [lg_cmp_ge] at h17
                  refine lv_iconst (v := 1) hx hb d_lPart_114 (by decide) ?_
                  refine lv_goto (tgt := 119) hx hb d_lPart_115 (by decide) ?_
                  exact W.zret (v := 1) hx hb hr rfl (fun t ht _ => ⟨_, rfl, rfl, by rw [ht]; exact hE⟩) (fun q h => by cases h) d_lPart_119
              · rw [lg_cmp_ge] at h16
                refine lv_lload_n hx hb d_lPart_97 rfl (lv_at hl 2 rfl) ?_
                refine lv_lload hx hb d_lPart_98 (lv_at hl 4 rfl) ?_
                refine W.lcmp hx hb d_lPart_100 ?_
                refine lv_if_le (tgt := 118) hx hb d_lPart_101 (by decide) (fun h18 => ?_) (fun h18 => ?_)
                · rw [lg_cmp_le] at h18
                  exfalso
                  simp only [Int64.le_iff_toInt_le, Int64.lt_iff_toInt_lt, ← Int64.toInt_inj, z_0, z_M, z_m1] at h1 h3 h4 h14 h16 h18
                  have g1 := rj r1; have g2 := rj a; have g3 := rj b; have g4 := rj r
                  omega
                · rw [lg_cmp_le] at h18
                  refine lv_goto (tgt := 114) hx hb d_lPart_104 (by decide) ?_
                  refine lv_iconst (v := 1) hx hb d_lPart_114 (by decide) ?_
                  refine lv_goto (tgt := 119) hx hb d_lPart_115 (by decide) ?_
                  exact W.zret (v := 1) hx hb hr rfl (fun t ht _ => ⟨_, rfl, rfl, by rw [ht]; exact hE⟩) (fun q h => by cases h) d_lPart_119
          · rw [lg_cmp_ge] at h14
            refine lv_iconst (v := 1) hx hb d_lPart_82 (by decide) ?_
            refine lv_goto (tgt := 87) hx hb d_lPart_83 (by decide) ?_
            refine lv_icmp_ne (tgt := 118) hx hb d_lPart_87 (by decide) (fun h19 => ?_) (fun h19 => ?_)
            · exfalso
              exact absurd rfl h19
            · refine lv_lload hx hb d_lPart_90 (lv_at hl 4 rfl) ?_
              refine lv_lconst (v := 0) hx hb d_lPart_92 (by decide) ?_
              refine W.lcmp hx hb d_lPart_93 ?_
              refine lv_if_ge (tgt := 107) hx hb d_lPart_94 (by decide) (fun h20 => ?_) (fun h20 => ?_)
              · rw [lg_cmp_ge] at h20
                refine lv_lload_n hx hb d_lPart_107 rfl (lv_at hl 2 rfl) ?_
                refine lv_lload hx hb d_lPart_108 (lv_at hl 4 rfl) ?_
                refine W.lcmp hx hb d_lPart_110 ?_
                refine lv_if_ge (tgt := 118) hx hb d_lPart_111 (by decide) (fun h21 => ?_) (fun h21 => ?_)
                · rw [lg_cmp_ge] at h21
                  exfalso
                  simp only [Int64.le_iff_toInt_le, Int64.lt_iff_toInt_lt, ← Int64.toInt_inj, z_0, z_M, z_m1] at h1 h3 h4 h14 h20 h21
                  have g1 := rj r1; have g2 := rj a; have g3 := rj b; have g4 := rj r
                  omega
                · rw [lg_cmp_ge] at h21
                  refine lv_iconst (v := 1) hx hb d_lPart_114 (by decide) ?_
                  refine lv_goto (tgt := 119) hx hb d_lPart_115 (by decide) ?_
                  exact W.zret (v := 1) hx hb hr rfl (fun t ht _ => ⟨_, rfl, rfl, by rw [ht]; exact hE⟩) (fun q h => by cases h) d_lPart_119
              · rw [lg_cmp_ge] at h20
                refine lv_lload_n hx hb d_lPart_97 rfl (lv_at hl 2 rfl) ?_
                refine lv_lload hx hb d_lPart_98 (lv_at hl 4 rfl) ?_
                refine W.lcmp hx hb d_lPart_100 ?_
                refine lv_if_le (tgt := 118) hx hb d_lPart_101 (by decide) (fun h22 => ?_) (fun h22 => ?_)
                · rw [lg_cmp_le] at h22
                  exfalso
                  simp only [Int64.le_iff_toInt_le, Int64.lt_iff_toInt_lt, ← Int64.toInt_inj, z_0, z_M, z_m1] at h1 h3 h4 h14 h20 h22
                  have g1 := rj r1; have g2 := rj a; have g3 := rj b; have g4 := rj r
                  omega
                · rw [lg_cmp_le] at h22
                  refine lv_goto (tgt := 114) hx hb d_lPart_104 (by decide) ?_
                  refine lv_iconst (v := 1) hx hb d_lPart_114 (by decide) ?_
                  refine lv_goto (tgt := 119) hx hb d_lPart_115 (by decide) ?_
                  exact W.zret (v := 1) hx hb hr rfl (fun t ht _ => ⟨_, rfl, rfl, by rw [ht]; exact hE⟩) (fun q h => by cases h) d_lPart_119
    · refine lv_lload hx hb d_lPart_40 (lv_at hl 3 rfl) ?_
      refine lv_ldc2 (v := (-9223372036854775808)) hx hb hown (hT _ tb_238) d_lPart_42 ?_
      refine W.lcmp hx hb d_lPart_45 ?_
      refine lv_if_ne (tgt := 118) hx hb d_lPart_46 (by decide) (fun h23 => ?_) (fun h23 => ?_)
      · rw [lg_cmp_eq] at h23
        exfalso
        simp only [Int64.le_iff_toInt_le, Int64.lt_iff_toInt_lt, ← Int64.toInt_inj, z_0, z_M, z_m1] at h1 h23
        have hnf : ¬ (-9223372036854775808 ≤ q.toInt * b.toInt + r.toInt ∧ q.toInt * b.toInt + r.toInt < 9223372036854775808) := fun q => absurd (h2.symm.trans (er2.trans (if_pos q))) (by decide)
        have g1 := rj r1; have g2 := rj a; have g3 := rj b; have g4 := rj r
        omega
      · rw [lg_cmp_eq] at h23
        refine lv_lload hx hb d_lPart_49 (lv_at hl 4 rfl) ?_
        refine lv_ldc2 (v := (-1)) hx hb hown (hT _ tb_239) d_lPart_51 ?_
        refine W.lcmp hx hb d_lPart_54 ?_
        refine lv_if_ne (tgt := 118) hx hb d_lPart_55 (by decide) (fun h24 => ?_) (fun h24 => ?_)
        · rw [lg_cmp_eq] at h24
          exfalso
          simp only [Int64.le_iff_toInt_le, Int64.lt_iff_toInt_lt, ← Int64.toInt_inj, z_0, z_M, z_m1] at h1 h23 h24
          have hnf : ¬ (-9223372036854775808 ≤ q.toInt * b.toInt + r.toInt ∧ q.toInt * b.toInt + r.toInt < 9223372036854775808) := fun q => absurd (h2.symm.trans (er2.trans (if_pos q))) (by decide)
          have g1 := rj r1; have g2 := rj a; have g3 := rj b; have g4 := rj r
          omega
        · rw [lg_cmp_eq] at h24
          refine lv_lload_n hx hb d_lPart_58 rfl (lv_at hl 2 rfl) ?_
          refine lv_lconst (v := 0) hx hb d_lPart_59 (by decide) ?_
          refine W.lcmp hx hb d_lPart_60 ?_
          refine lv_if_eq (tgt := 114) hx hb d_lPart_61 (by decide) (fun h25 => ?_) (fun h25 => ?_)
          · rw [lg_cmp_eq] at h25
            refine lv_iconst (v := 1) hx hb d_lPart_114 (by decide) ?_
            refine lv_goto (tgt := 119) hx hb d_lPart_115 (by decide) ?_
            exact W.zret (v := 1) hx hb hr rfl (fun t ht _ => ⟨_, rfl, rfl, by rw [ht]; exact hE⟩) (fun q h => by cases h) d_lPart_119
          · rw [lg_cmp_eq] at h25
            refine lv_lload_n hx hb d_lPart_64 rfl (lv_at hl 2 rfl) ?_
            refine lv_lconst (v := 0) hx hb d_lPart_65 (by decide) ?_
            refine W.lcmp hx hb d_lPart_66 ?_
            refine lv_if_ge (tgt := 74) hx hb d_lPart_67 (by decide) (fun h26 => ?_) (fun h26 => ?_)
            · rw [lg_cmp_ge] at h26
              refine lv_iconst (v := 0) hx hb d_lPart_74 (by decide) ?_
              refine lv_lload hx hb d_lPart_75 (lv_at hl 4 rfl) ?_
              refine lv_lconst (v := 0) hx hb d_lPart_77 (by decide) ?_
              refine W.lcmp hx hb d_lPart_78 ?_
              refine lv_if_ge (tgt := 86) hx hb d_lPart_79 (by decide) (fun h27 => ?_) (fun h27 => ?_)
              · rw [lg_cmp_ge] at h27
                refine lv_iconst (v := 0) hx hb d_lPart_86 (by decide) ?_
                refine lv_icmp_ne (tgt := 118) hx hb d_lPart_87 (by decide) (fun h28 => ?_) (fun h28 => ?_)
                · exfalso
                  exact absurd rfl h28
                · refine lv_lload hx hb d_lPart_90 (lv_at hl 4 rfl) ?_
                  refine lv_lconst (v := 0) hx hb d_lPart_92 (by decide) ?_
                  refine W.lcmp hx hb d_lPart_93 ?_
                  refine lv_if_ge (tgt := 107) hx hb d_lPart_94 (by decide) (fun h29 => ?_) (fun h29 => ?_)
                  · rw [lg_cmp_ge] at h29
                    refine lv_lload_n hx hb d_lPart_107 rfl (lv_at hl 2 rfl) ?_
                    refine lv_lload hx hb d_lPart_108 (lv_at hl 4 rfl) ?_
                    refine W.lcmp hx hb d_lPart_110 ?_
                    refine lv_if_ge (tgt := 118) hx hb d_lPart_111 (by decide) (fun h30 => ?_) (fun h30 => ?_)
                    · rw [lg_cmp_ge] at h30
                      exfalso
                      simp only [Int64.le_iff_toInt_le, Int64.lt_iff_toInt_lt, ← Int64.toInt_inj, z_0, z_M, z_m1] at h1 h23 h24 h25 h26 h27 h29 h30
                      have hnf : ¬ (-9223372036854775808 ≤ q.toInt * b.toInt + r.toInt ∧ q.toInt * b.toInt + r.toInt < 9223372036854775808) := fun q => absurd (h2.symm.trans (er2.trans (if_pos q))) (by decide)
                      have g1 := rj r1; have g2 := rj a; have g3 := rj b; have g4 := rj r
                      omega
                    · rw [lg_cmp_ge] at h30
                      refine lv_iconst (v := 1) hx hb d_lPart_114 (by decide) ?_
                      refine lv_goto (tgt := 119) hx hb d_lPart_115 (by decide) ?_
                      exact W.zret (v := 1) hx hb hr rfl (fun t ht _ => ⟨_, rfl, rfl, by rw [ht]; exact hE⟩) (fun q h => by cases h) d_lPart_119
                  · rw [lg_cmp_ge] at h29
                    refine lv_lload_n hx hb d_lPart_97 rfl (lv_at hl 2 rfl) ?_
                    refine lv_lload hx hb d_lPart_98 (lv_at hl 4 rfl) ?_
                    refine W.lcmp hx hb d_lPart_100 ?_
                    refine lv_if_le (tgt := 118) hx hb d_lPart_101 (by decide) (fun h31 => ?_) (fun h31 => ?_)
                    · rw [lg_cmp_le] at h31
                      exfalso
                      simp only [Int64.le_iff_toInt_le, Int64.lt_iff_toInt_lt, ← Int64.toInt_inj, z_0, z_M, z_m1] at h1 h23 h24 h25 h26 h27 h29 h31
                      have hnf : ¬ (-9223372036854775808 ≤ q.toInt * b.toInt + r.toInt ∧ q.toInt * b.toInt + r.toInt < 9223372036854775808) := fun q => absurd (h2.symm.trans (er2.trans (if_pos q))) (by decide)
                      have g1 := rj r1; have g2 := rj a; have g3 := rj b; have g4 := rj r
                      omega
                    · rw [lg_cmp_le] at h31
                      refine lv_goto (tgt := 114) hx hb d_lPart_104 (by decide) ?_
                      refine lv_iconst (v := 1) hx hb d_lPart_114 (by decide) ?_
                      refine lv_goto (tgt := 119) hx hb d_lPart_115 (by decide) ?_
                      exact W.zret (v := 1) hx hb hr rfl (fun t ht _ => ⟨_, rfl, rfl, by rw [ht]; exact hE⟩) (fun q h => by cases h) d_lPart_119
              · rw [lg_cmp_ge] at h27
                refine lv_iconst (v := 1) hx hb d_lPart_82 (by decide) ?_
                refine lv_goto (tgt := 87) hx hb d_lPart_83 (by decide) ?_
                refine lv_icmp_ne (tgt := 118) hx hb d_lPart_87 (by decide) (fun h32 => ?_) (fun h32 => ?_)
                · exfalso
                  simp only [Int64.le_iff_toInt_le, Int64.lt_iff_toInt_lt, ← Int64.toInt_inj, z_0, z_M, z_m1] at h1 h23 h24 h25 h26 h27
                  have hnf : ¬ (-9223372036854775808 ≤ q.toInt * b.toInt + r.toInt ∧ q.toInt * b.toInt + r.toInt < 9223372036854775808) := fun q => absurd (h2.symm.trans (er2.trans (if_pos q))) (by decide)
                  have g1 := rj r1; have g2 := rj a; have g3 := rj b; have g4 := rj r
                  omega
                · refine lv_lload hx hb d_lPart_90 (lv_at hl 4 rfl) ?_
                  refine lv_lconst (v := 0) hx hb d_lPart_92 (by decide) ?_
                  refine W.lcmp hx hb d_lPart_93 ?_
                  refine lv_if_ge (tgt := 107) hx hb d_lPart_94 (by decide) (fun h33 => ?_) (fun h33 => ?_)
                  · rw [lg_cmp_ge] at h33
                    refine lv_lload_n hx hb d_lPart_107 rfl (lv_at hl 2 rfl) ?_
                    refine lv_lload hx hb d_lPart_108 (lv_at hl 4 rfl) ?_
                    refine W.lcmp hx hb d_lPart_110 ?_
                    refine lv_if_ge (tgt := 118) hx hb d_lPart_111 (by decide) (fun h34 => ?_) (fun h34 => ?_)
                    · rw [lg_cmp_ge] at h34
                      exfalso
                      simp only [Int64.le_iff_toInt_le, Int64.lt_iff_toInt_lt, ← Int64.toInt_inj, z_0, z_M, z_m1] at h1 h23 h24 h25 h26 h27 h33 h34
                      have hnf : ¬ (-9223372036854775808 ≤ q.toInt * b.toInt + r.toInt ∧ q.toInt * b.toInt + r.toInt < 9223372036854775808) := fun q => absurd (h2.symm.trans (er2.trans (if_pos q))) (by decide)
                      have g1 := rj r1; have g2 := rj a; have g3 := rj b; have g4 := rj r
                      omega
                    · rw [lg_cmp_ge] at h34
                      refine lv_iconst (v := 1) hx hb d_lPart_114 (by decide) ?_
                      refine lv_goto (tgt := 119) hx hb d_lPart_115 (by decide) ?_
                      exact W.zret (v := 1) hx hb hr rfl (fun t ht _ => ⟨_, rfl, rfl, by rw [ht]; exact hE⟩) (fun q h => by cases h) d_lPart_119
                  · rw [lg_cmp_ge] at h33
                    refine lv_lload_n hx hb d_lPart_97 rfl (lv_at hl 2 rfl) ?_
                    refine lv_lload hx hb d_lPart_98 (lv_at hl 4 rfl) ?_
                    refine W.lcmp hx hb d_lPart_100 ?_
                    refine lv_if_le (tgt := 118) hx hb d_lPart_101 (by decide) (fun h35 => ?_) (fun h35 => ?_)
                    · rw [lg_cmp_le] at h35
                      exfalso
                      simp only [Int64.le_iff_toInt_le, Int64.lt_iff_toInt_lt, ← Int64.toInt_inj, z_0, z_M, z_m1] at h1 h23 h24 h25 h26 h27 h33 h35
                      have hnf : ¬ (-9223372036854775808 ≤ q.toInt * b.toInt + r.toInt ∧ q.toInt * b.toInt + r.toInt < 9223372036854775808) := fun q => absurd (h2.symm.trans (er2.trans (if_pos q))) (by decide)
                      have g1 := rj r1; have g2 := rj a; have g3 := rj b; have g4 := rj r
                      omega
                    · rw [lg_cmp_le] at h35
                      refine lv_goto (tgt := 114) hx hb d_lPart_104 (by decide) ?_
                      refine lv_iconst (v := 1) hx hb d_lPart_114 (by decide) ?_
                      refine lv_goto (tgt := 119) hx hb d_lPart_115 (by decide) ?_
                      exact W.zret (v := 1) hx hb hr rfl (fun t ht _ => ⟨_, rfl, rfl, by rw [ht]; exact hE⟩) (fun q h => by cases h) d_lPart_119
            · rw [lg_cmp_ge] at h26
              refine lv_iconst (v := 1) hx hb d_lPart_70 (by decide) ?_
              refine lv_goto (tgt := 75) hx hb d_lPart_71 (by decide) ?_
              refine lv_lload hx hb d_lPart_75 (lv_at hl 4 rfl) ?_
              refine lv_lconst (v := 0) hx hb d_lPart_77 (by decide) ?_
              refine W.lcmp hx hb d_lPart_78 ?_
              refine lv_if_ge (tgt := 86) hx hb d_lPart_79 (by decide) (fun h36 => ?_) (fun h36 => ?_)
              · rw [lg_cmp_ge] at h36
                refine lv_iconst (v := 0) hx hb d_lPart_86 (by decide) ?_
                refine lv_icmp_ne (tgt := 118) hx hb d_lPart_87 (by decide) (fun h37 => ?_) (fun h37 => ?_)
                · exfalso
                  simp only [Int64.le_iff_toInt_le, Int64.lt_iff_toInt_lt, ← Int64.toInt_inj, z_0, z_M, z_m1] at h1 h23 h24 h25 h26 h36
                  have hnf : ¬ (-9223372036854775808 ≤ q.toInt * b.toInt + r.toInt ∧ q.toInt * b.toInt + r.toInt < 9223372036854775808) := fun q => absurd (h2.symm.trans (er2.trans (if_pos q))) (by decide)
                  have g1 := rj r1; have g2 := rj a; have g3 := rj b; have g4 := rj r
                  omega
                · refine lv_lload hx hb d_lPart_90 (lv_at hl 4 rfl) ?_
                  refine lv_lconst (v := 0) hx hb d_lPart_92 (by decide) ?_
                  refine W.lcmp hx hb d_lPart_93 ?_
                  refine lv_if_ge (tgt := 107) hx hb d_lPart_94 (by decide) (fun h38 => ?_) (fun h38 => ?_)
                  · rw [lg_cmp_ge] at h38
                    refine lv_lload_n hx hb d_lPart_107 rfl (lv_at hl 2 rfl) ?_
                    refine lv_lload hx hb d_lPart_108 (lv_at hl 4 rfl) ?_
                    refine W.lcmp hx hb d_lPart_110 ?_
                    refine lv_if_ge (tgt := 118) hx hb d_lPart_111 (by decide) (fun h39 => ?_) (fun h39 => ?_)
                    · rw [lg_cmp_ge] at h39
                      exfalso
                      simp only [Int64.le_iff_toInt_le, Int64.lt_iff_toInt_lt, ← Int64.toInt_inj, z_0, z_M, z_m1] at h1 h23 h24 h25 h26 h36 h38 h39
                      have hnf : ¬ (-9223372036854775808 ≤ q.toInt * b.toInt + r.toInt ∧ q.toInt * b.toInt + r.toInt < 9223372036854775808) := fun q => absurd (h2.symm.trans (er2.trans (if_pos q))) (by decide)
                      have g1 := rj r1; have g2 := rj a; have g3 := rj b; have g4 := rj r
                      omega
                    · rw [lg_cmp_ge] at h39
                      refine lv_iconst (v := 1) hx hb d_lPart_114 (by decide) ?_
                      refine lv_goto (tgt := 119) hx hb d_lPart_115 (by decide) ?_
                      exact W.zret (v := 1) hx hb hr rfl (fun t ht _ => ⟨_, rfl, rfl, by rw [ht]; exact hE⟩) (fun q h => by cases h) d_lPart_119
                  · rw [lg_cmp_ge] at h38
                    refine lv_lload_n hx hb d_lPart_97 rfl (lv_at hl 2 rfl) ?_
                    refine lv_lload hx hb d_lPart_98 (lv_at hl 4 rfl) ?_
                    refine W.lcmp hx hb d_lPart_100 ?_
                    refine lv_if_le (tgt := 118) hx hb d_lPart_101 (by decide) (fun h40 => ?_) (fun h40 => ?_)
                    · rw [lg_cmp_le] at h40
                      exfalso
                      simp only [Int64.le_iff_toInt_le, Int64.lt_iff_toInt_lt, ← Int64.toInt_inj, z_0, z_M, z_m1] at h1 h23 h24 h25 h26 h36 h38 h40
                      have hnf : ¬ (-9223372036854775808 ≤ q.toInt * b.toInt + r.toInt ∧ q.toInt * b.toInt + r.toInt < 9223372036854775808) := fun q => absurd (h2.symm.trans (er2.trans (if_pos q))) (by decide)
                      have g1 := rj r1; have g2 := rj a; have g3 := rj b; have g4 := rj r
                      omega
                    · rw [lg_cmp_le] at h40
                      refine lv_goto (tgt := 114) hx hb d_lPart_104 (by decide) ?_
                      refine lv_iconst (v := 1) hx hb d_lPart_114 (by decide) ?_
                      refine lv_goto (tgt := 119) hx hb d_lPart_115 (by decide) ?_
                      exact W.zret (v := 1) hx hb hr rfl (fun t ht _ => ⟨_, rfl, rfl, by rw [ht]; exact hE⟩) (fun q h => by cases h) d_lPart_119
              · rw [lg_cmp_ge] at h36
                refine lv_iconst (v := 1) hx hb d_lPart_82 (by decide) ?_
                refine lv_goto (tgt := 87) hx hb d_lPart_83 (by decide) ?_
                refine lv_icmp_ne (tgt := 118) hx hb d_lPart_87 (by decide) (fun h41 => ?_) (fun h41 => ?_)
                · exfalso
                  exact absurd rfl h41
                · refine lv_lload hx hb d_lPart_90 (lv_at hl 4 rfl) ?_
                  refine lv_lconst (v := 0) hx hb d_lPart_92 (by decide) ?_
                  refine W.lcmp hx hb d_lPart_93 ?_
                  refine lv_if_ge (tgt := 107) hx hb d_lPart_94 (by decide) (fun h42 => ?_) (fun h42 => ?_)
                  · rw [lg_cmp_ge] at h42
                    refine lv_lload_n hx hb d_lPart_107 rfl (lv_at hl 2 rfl) ?_
                    refine lv_lload hx hb d_lPart_108 (lv_at hl 4 rfl) ?_
                    refine W.lcmp hx hb d_lPart_110 ?_
                    refine lv_if_ge (tgt := 118) hx hb d_lPart_111 (by decide) (fun h43 => ?_) (fun h43 => ?_)
                    · rw [lg_cmp_ge] at h43
                      exfalso
                      simp only [Int64.le_iff_toInt_le, Int64.lt_iff_toInt_lt, ← Int64.toInt_inj, z_0, z_M, z_m1] at h1 h23 h24 h25 h26 h36 h42 h43
                      have hnf : ¬ (-9223372036854775808 ≤ q.toInt * b.toInt + r.toInt ∧ q.toInt * b.toInt + r.toInt < 9223372036854775808) := fun q => absurd (h2.symm.trans (er2.trans (if_pos q))) (by decide)
                      have g1 := rj r1; have g2 := rj a; have g3 := rj b; have g4 := rj r
                      omega
                    · rw [lg_cmp_ge] at h43
                      refine lv_iconst (v := 1) hx hb d_lPart_114 (by decide) ?_
                      refine lv_goto (tgt := 119) hx hb d_lPart_115 (by decide) ?_
                      exact W.zret (v := 1) hx hb hr rfl (fun t ht _ => ⟨_, rfl, rfl, by rw [ht]; exact hE⟩) (fun q h => by cases h) d_lPart_119
                  · rw [lg_cmp_ge] at h42
                    refine lv_lload_n hx hb d_lPart_97 rfl (lv_at hl 2 rfl) ?_
                    refine lv_lload hx hb d_lPart_98 (lv_at hl 4 rfl) ?_
                    refine W.lcmp hx hb d_lPart_100 ?_
                    refine lv_if_le (tgt := 118) hx hb d_lPart_101 (by decide) (fun h44 => ?_) (fun h44 => ?_)
                    · rw [lg_cmp_le] at h44
                      exfalso
                      simp only [Int64.le_iff_toInt_le, Int64.lt_iff_toInt_lt, ← Int64.toInt_inj, z_0, z_M, z_m1] at h1 h23 h24 h25 h26 h36 h42 h44
                      have hnf : ¬ (-9223372036854775808 ≤ q.toInt * b.toInt + r.toInt ∧ q.toInt * b.toInt + r.toInt < 9223372036854775808) := fun q => absurd (h2.symm.trans (er2.trans (if_pos q))) (by decide)
                      have g1 := rj r1; have g2 := rj a; have g3 := rj b; have g4 := rj r
                      omega
                    · rw [lg_cmp_le] at h44
                      refine lv_goto (tgt := 114) hx hb d_lPart_104 (by decide) ?_
                      refine lv_iconst (v := 1) hx hb d_lPart_114 (by decide) ?_
                      refine lv_goto (tgt := 119) hx hb d_lPart_115 (by decide) ?_
                      exact W.zret (v := 1) hx hb hr rfl (fun t ht _ => ⟨_, rfl, rfl, by rw [ht]; exact hE⟩) (fun q h => by cases h) d_lPart_119
end
section
/-! plain arithmetic, 2: overflow told by the sign bits; quotients and rests; the high half of a product -/
theorem j_msb (x : Int64) : x.toBitVec.msb = decide (x.toInt < 0) := BitVec.msb_eq_toInt
theorem i_msb (x : Int32) : x.toBitVec.msb = decide (x.toInt < 0) := BitVec.msb_eq_toInt
theorem j_and (u v : Int64) : (u &&& v).toInt < 0 ↔ u.toInt < 0 ∧ v.toInt < 0 := by
  have h := j_msb (u &&& v)
  rw [Int64.toBitVec_and, BitVec.msb_and, j_msb, j_msb, Bool.eq_iff_iff] at h
  simp only [Bool.and_eq_true, decide_eq_true_eq] at h
  exact h.symm
theorem i_and (u v : Int32) : (u &&& v).toInt < 0 ↔ u.toInt < 0 ∧ v.toInt < 0 := by
  have h := i_msb (u &&& v)
  rw [Int32.toBitVec_and, BitVec.msb_and, i_msb, i_msb, Bool.eq_iff_iff] at h
  simp only [Bool.and_eq_true, decide_eq_true_eq] at h
  exact h.symm
theorem j_xor (u v : Int64) : (u ^^^ v).toInt < 0 ↔ ¬ (u.toInt < 0 ↔ v.toInt < 0) := by
  have h := j_msb (u ^^^ v)
  rw [Int64.toBitVec_xor, BitVec.msb_xor, j_msb, j_msb] at h
  by_cases h1 : u.toInt < 0 <;> by_cases h2 : v.toInt < 0 <;> simp [h1, h2] at h ⊢ <;> omega
theorem i_xor (u v : Int32) : (u ^^^ v).toInt < 0 ↔ ¬ (u.toInt < 0 ↔ v.toInt < 0) := by
  have h := i_msb (u ^^^ v)
  rw [Int32.toBitVec_xor, BitVec.msb_xor, i_msb, i_msb] at h
  by_cases h1 : u.toInt < 0 <;> by_cases h2 : v.toInt < 0 <;> simp [h1, h2] at h ⊢ <;> omega
theorem j_ge (x : Int64) : 0 ≤ x ↔ ¬ x.toInt < 0 := by rw [Int64.le_iff_toInt_le, z_0]; omega
theorem z_0i : (0 : Int32).toInt = 0 := by decide
theorem i_ge (x : Int32) : 0 ≤ x ↔ ¬ x.toInt < 0 := by rw [Int32.le_iff_toInt_le, z_0i]; omega
theorem ok_addJ (x y : Int64) : px_addJ x y ↔ (-9223372036854775808 ≤ x.toInt + y.toInt ∧ x.toInt + y.toInt < 9223372036854775808) := by
  unfold px_addJ
  rw [j_ge, j_and, j_xor, j_xor]
  obtain ⟨k, h⟩ := aj x y
  have h1 := rj x; have h2 := rj y; have h3 := rj (x + y)
  omega
theorem ok_addI (x y : Int32) : px_addI x y ↔ (-2147483648 ≤ x.toInt + y.toInt ∧ x.toInt + y.toInt < 2147483648) := by
  unfold px_addI
  rw [i_ge, i_and, i_xor, i_xor]
  obtain ⟨k, h⟩ := ai x y
  have h1 := ri x; have h2 := ri y; have h3 := ri (x + y)
  omega
theorem ok_subJ (x y : Int64) : px_subJ x y ↔ (-9223372036854775808 ≤ x.toInt - y.toInt ∧ x.toInt - y.toInt < 9223372036854775808) := by
  unfold px_subJ
  rw [j_ge, j_and, j_xor, j_xor]
  obtain ⟨k, h⟩ := sj x y
  have h1 := rj x; have h2 := rj y; have h3 := rj (x - y)
  omega
theorem ok_subI (x y : Int32) : px_subI x y ↔ (-2147483648 ≤ x.toInt - y.toInt ∧ x.toInt - y.toInt < 2147483648) := by
  unfold px_subI
  rw [i_ge, i_and, i_xor, i_xor]
  obtain ⟨k, h⟩ := si x y
  have h1 := ri x; have h2 := ri y; have h3 := ri (x - y)
  omega
theorem pl_prodI (x y : Int32) : -4611686018427387904 ≤ x.toInt * y.toInt ∧ x.toInt * y.toInt ≤ 4611686018427387904 := by
  have h1 := ri x; have h2 := ri y
  have k : (x.toInt * y.toInt).natAbs ≤ 2147483648 * 2147483648 := by
    rw [Int.natAbs_mul]
    exact Nat.mul_le_mul (by omega) (by omega)
  omega
theorem full_int (x y : Int32) : (x.toInt64 * y.toInt64).toInt = x.toInt * y.toInt := by
  obtain ⟨k, h⟩ := mj x.toInt64 y.toInt64
  rw [Int32.toInt_toInt64, Int32.toInt_toInt64] at h
  have h1 := rj (x.toInt64 * y.toInt64)
  have h2 := pl_prodI x y
  omega
theorem ok_mulI (x y : Int32) : px_mulI x y ↔ (-2147483648 ≤ x.toInt * y.toInt ∧ x.toInt * y.toInt < 2147483648) := by
  unfold px_mulI
  rw [eq_comm, pl_i32, full_int]
theorem ok_toI (x : Int64) : px_toI x ↔ (-2147483648 ≤ x.toInt ∧ x.toInt < 2147483648) := by
  unfold px_toI
  rw [eq_comm, pl_i32]
theorem ok_neg (x : Int64) : px_neg x ↔ (-9223372036854775808 ≤ -x.toInt ∧ -x.toInt < 9223372036854775808) := by
  unfold px_neg
  rw [← Int64.toInt_inj, z_M]
  have h1 := rj x
  omega
/-- a truncated quotient and its rest -/
theorem td (w y : Int) (hy : y ≠ 0) : ∃ M : Int, w = w.tdiv y * y + M ∧ (0 < y → -y < M ∧ M < y) ∧ (y < 0 → y < M ∧ M < -y) ∧ (0 ≤ w → 0 ≤ M) ∧ (w ≤ 0 → M ≤ 0) ∧ (w.tdiv y).natAbs ≤ w.natAbs := by
  refine ⟨w.tmod y, ?_, fun h => ⟨Int.lt_tmod_of_pos w h, Int.tmod_lt_of_pos w h⟩, fun h => ?_, fun h => Int.tmod_nonneg y h, fun h => ?_, Int.natAbs_tdiv_le_natAbs w y⟩
  · have h := Int.mul_tdiv_add_tmod w y
    rw [Int.mul_comm] at h
    omega
  · have h1 := Int.lt_tmod_of_pos w (b := -y) (by omega)
    have h2 := Int.tmod_lt_of_pos w (b := -y) (by omega)
    rw [Int.tmod_neg] at h1 h2
    omega
  · have h1 := Int.tmod_nonneg y (show 0 ≤ -w by omega)
    rw [Int.neg_tmod] at h1
    omega
theorem dj {x y : Int64} (h : ¬ (x.toInt = -9223372036854775808 ∧ y.toInt = -1)) : (x / y).toInt = x.toInt.tdiv y.toInt := by
  by_cases h1 : x = Int64.minValue
  · refine Int64.toInt_div_of_ne_right x y (fun h2 => h ?_)
    subst h1; subst h2
    decide
  · exact Int64.toInt_div_of_ne_left x y h1
theorem di {x y : Int32} (h : ¬ (x.toInt = -2147483648 ∧ y.toInt = -1)) : (x / y).toInt = x.toInt.tdiv y.toInt := by
  by_cases h1 : x = Int32.minValue
  · refine Int32.toInt_div_of_ne_right x y (fun h2 => h ?_)
    subst h1; subst h2
    decide
  · exact Int32.toInt_div_of_ne_left x y h1
theorem abs_small {x : Int64} (h : uN (px_abs x) < 2147483648) : -2147483648 < x.toInt ∧ x.toInt < 2147483648 := by
  unfold px_abs at h
  have h1 := rj x
  by_cases h0 : 0 ≤ x
  · rw [if_pos h0] at h
    rw [j_ge] at h0
    obtain ⟨k, hk⟩ := ub x
    omega
  · rw [if_neg h0] at h
    rw [j_ge] at h0
    obtain ⟨k, hk⟩ := ub (-x)
    obtain ⟨k2, hk2⟩ := nj x
    omega
theorem ok_mulJ (x y : Int64) : px_mulJ x y ↔ (-9223372036854775808 ≤ x.toInt * y.toInt ∧ x.toInt * y.toInt < 9223372036854775808) := by
  unfold px_mulJ
  have h1 := rj x; have h2 := rj y; have h3 := rj (x * y)
  obtain ⟨k, hk⟩ := mj x y
  constructor
  · rintro (h | ⟨h, hn⟩)
    · have e := uN_shr (px_abs x ||| px_abs y) ((31 : Int32).toInt64.toUInt64 &&& Int64.toUInt64 63)
      rw [h, show ((31 : Int32).toInt64.toUInt64 &&& Int64.toUInt64 63).toNat % 64 = 31 from by decide, show uN (0 : Int64) = 0 from by decide] at e
      have e2 : uN (px_abs x ||| px_abs y) = uN (px_abs x) ||| uN (px_abs y) := UInt64.toNat_or _ _
      have e3 : uN (px_abs x) ≤ uN (px_abs x) ||| uN (px_abs y) := Nat.left_le_or
      have e4 : uN (px_abs y) ≤ uN (px_abs x) ||| uN (px_abs y) := Nat.right_le_or
      have g1 := abs_small (x := x) (by omega)
      have g2 := abs_small (x := y) (by omega)
      have g3 : (x.toInt * y.toInt).natAbs ≤ 2147483648 * 2147483648 := by
        rw [Int.natAbs_mul]
        exact Nat.mul_le_mul (by omega) (by omega)
      omega
    · rcases h with h | h
      · subst h
        rw [z_0, Int.mul_zero]
        decide
      · by_cases hy : y.toInt = 0
        · rw [hy, Int.mul_zero]; decide
        · rw [← Int64.toInt_inj] at h
          by_cases hw : (x * y).toInt = -9223372036854775808 ∧ y.toInt = -1
          · exfalso
            apply hn
            rw [← Int64.toInt_inj, ← Int64.toInt_inj, z_M, z_m1]
            refine ⟨?_, hw.2⟩
            have e : x * y / y = -9223372036854775808 := by
              have e1 : x * y = -9223372036854775808 := Int64.toInt_inj.mp (hw.1.trans z_M.symm)
              have e2 : y = -1 := Int64.toInt_inj.mp (hw.2.trans z_m1.symm)
              rw [e1, e2]; decide
            rw [e, z_M] at h
            exact h.symm
          · rw [dj hw] at h
            obtain ⟨M, t1, t2, t3, -⟩ := td (x * y).toInt y.toInt hy
            rw [h] at t1
            omega
  · intro h
    right
    have hk0 : k = 0 := by omega
    rw [hk0, Int.mul_zero, Int.add_zero] at hk
    refine ⟨?_, ?_⟩
    · by_cases hy : y.toInt = 0
      · left; exact Int64.toInt_inj.mp (hy.trans z_0.symm)
      · right
        refine Int64.toInt_inj.mp ?_
        rw [dj (fun hw => by rw [hk, hw.2] at hw; omega), hk]
        exact Int.mul_tdiv_cancel _ hy
    · rintro ⟨e1, e2⟩
      subst e1; subst e2
      rw [z_M, z_m1] at h
      omega
theorem tm_64 {C : Prop} {z : Int} {X r : Int64} {v : Int32} (hC : C ↔ (-9223372036854775808 ≤ z ∧ z < 9223372036854775808)) (hX : C → X.toInt = z) (h : (C → r = X ∧ v = 0) ∧ (¬ C → r = 0 ∧ v = 1)) : tol64 z r v :=
  ⟨fun q => ⟨by rw [(h.1 (hC.mpr q)).1]; exact hX (hC.mpr q), (h.1 (hC.mpr q)).2⟩, fun q => h.2 (fun c => q (hC.mp c))⟩
theorem tm_32 {C : Prop} {z : Int} {X r : Int32} {v : Int32} (hC : C ↔ (-2147483648 ≤ z ∧ z < 2147483648)) (hX : C → X.toInt = z) (h : (C → r = X ∧ v = 0) ∧ (¬ C → r = 0 ∧ v = 1)) : tol32 z r v :=
  ⟨fun q => ⟨by rw [(h.1 (hC.mpr q)).1]; exact hX (hC.mpr q), (h.1 (hC.mpr q)).2⟩, fun q => h.2 (fun c => q (hC.mp c))⟩
theorem tm_addJ {a b r : Int64} {v : Int32} (h : (px_addJ a b → r = a + b ∧ v = 0) ∧ (¬ px_addJ a b → r = 0 ∧ v = 1)) : tol64 (a.toInt + b.toInt) r v :=
  tm_64 (ok_addJ a b) (fun c => by have := (ok_addJ a b).mp c; obtain ⟨k, hk⟩ := aj a b; have := rj (a + b); omega) h
theorem tm_subJ {a b r : Int64} {v : Int32} (h : (px_subJ a b → r = a - b ∧ v = 0) ∧ (¬ px_subJ a b → r = 0 ∧ v = 1)) : tol64 (a.toInt - b.toInt) r v :=
  tm_64 (ok_subJ a b) (fun c => by have := (ok_subJ a b).mp c; obtain ⟨k, hk⟩ := sj a b; have := rj (a - b); omega) h
theorem tm_mulJ {a b r : Int64} {v : Int32} (h : (px_mulJ a b → r = a * b ∧ v = 0) ∧ (¬ px_mulJ a b → r = 0 ∧ v = 1)) : tol64 (a.toInt * b.toInt) r v :=
  tm_64 (ok_mulJ a b) (fun c => by have := (ok_mulJ a b).mp c; obtain ⟨k, hk⟩ := mj a b; have := rj (a * b); omega) h
theorem tm_neg {a r : Int64} {v : Int32} (h : (px_neg a → r = -a ∧ v = 0) ∧ (¬ px_neg a → r = 0 ∧ v = 1)) : tol64 (-a.toInt) r v :=
  tm_64 (ok_neg a) (fun c => by have := (ok_neg a).mp c; obtain ⟨k, hk⟩ := nj a; have := rj (-a); omega) h
theorem tm_addI {a b r : Int32} {v : Int32} (h : (px_addI a b → r = a + b ∧ v = 0) ∧ (¬ px_addI a b → r = 0 ∧ v = 1)) : tol32 (a.toInt64 + b.toInt64).toInt r v := by
  have e : (a.toInt64 + b.toInt64).toInt = a.toInt + b.toInt := by
    obtain ⟨k, hk⟩ := aj a.toInt64 b.toInt64
    rw [Int32.toInt_toInt64, Int32.toInt_toInt64] at hk
    have := rj (a.toInt64 + b.toInt64); have := ri a; have := ri b
    omega
  rw [e]
  exact tm_32 (ok_addI a b) (fun c => by have := (ok_addI a b).mp c; obtain ⟨k, hk⟩ := ai a b; have := ri (a + b); omega) h
theorem tm_subI {a b r : Int32} {v : Int32} (h : (px_subI a b → r = a - b ∧ v = 0) ∧ (¬ px_subI a b → r = 0 ∧ v = 1)) : tol32 (a.toInt64 - b.toInt64).toInt r v := by
  have e : (a.toInt64 - b.toInt64).toInt = a.toInt - b.toInt := by
    obtain ⟨k, hk⟩ := sj a.toInt64 b.toInt64
    rw [Int32.toInt_toInt64, Int32.toInt_toInt64] at hk
    have := rj (a.toInt64 - b.toInt64); have := ri a; have := ri b
    omega
  rw [e]
  exact tm_32 (ok_subI a b) (fun c => by have := (ok_subI a b).mp c; obtain ⟨k, hk⟩ := si a b; have := ri (a - b); omega) h
theorem tm_mulI {a b r : Int32} {v : Int32} (h : (px_mulI a b → r = (a.toInt64 * b.toInt64).toInt32 ∧ v = 0) ∧ (¬ px_mulI a b → r = 0 ∧ v = 1)) : tol32 (a.toInt64 * b.toInt64).toInt r v := by
  rw [full_int]
  exact tm_32 (ok_mulI a b) (fun c => by have := (ok_mulI a b).mp c; obtain ⟨k, hk⟩ := li (a.toInt64 * b.toInt64); have := ri (a.toInt64 * b.toInt64).toInt32; rw [full_int] at hk; omega) h
theorem tm_toI {a : Int64} {r : Int32} {v : Int32} (h : (px_toI a → r = a.toInt32 ∧ v = 0) ∧ (¬ px_toI a → r = 0 ∧ v = 1)) : tol32 a.toInt r v :=
  tm_32 (ok_toI a) (fun c => by have := (ok_toI a).mp c; obtain ⟨k, hk⟩ := li a; have := ri a.toInt32; omega) h
/-! quotients and rests, rounded down -/
theorem fl_same {A B T M : Int} (h : A = T * B + M) (h1 : 0 < B → -B < M ∧ M < B) (h2 : B < 0 → B < M ∧ M < -B) (h3 : 0 ≤ A → 0 ≤ M) (h4 : A ≤ 0 → M ≤ 0) (hB : B ≠ 0) (hs : A < 0 ↔ B < 0) :
    T * B + M = A ∧ (M = 0 ∨ (0 < B ∧ 0 < M ∧ M < B) ∨ (B < 0 ∧ B < M ∧ M < 0)) := by
  refine ⟨h.symm, ?_⟩
  omega
theorem fl_zero {A B T M : Int} (h : A = T * B + M) (hM : M = 0) : T * B + 0 = A := by omega
theorem fl_opp {A B T M : Int} (h : A = T * B + M) (h1 : 0 < B → -B < M ∧ M < B) (h2 : B < 0 → B < M ∧ M < -B) (h3 : 0 ≤ A → 0 ≤ M) (h4 : A ≤ 0 → M ≤ 0) (hB : B ≠ 0) (hs : ¬ (A < 0 ↔ B < 0)) (hM : M ≠ 0) :
    (T - 1) * B + (M + B) = A ∧ ((0 < B ∧ 0 < M + B ∧ M + B < B) ∨ (B < 0 ∧ B < M + B ∧ M + B < 0)) := by
  have e : (T - 1) * B = T * B - B := by rw [Int.sub_mul, Int.one_mul]
  refine ⟨by omega, ?_⟩
  omega
/-- what floorDiv and floorMod are, as integers -/
theorem fl_J {a b : Int64} (hb : b.toInt ≠ 0) (hn : ¬ (a.toInt = -9223372036854775808 ∧ b.toInt = -1)) :
    (px_fdJ a b).toInt * b.toInt + (px_fmJ a b).toInt = a.toInt ∧ ((px_fmJ a b).toInt = 0 ∨ (0 < b.toInt ∧ 0 < (px_fmJ a b).toInt ∧ (px_fmJ a b).toInt < b.toInt) ∨ (b.toInt < 0 ∧ b.toInt < (px_fmJ a b).toInt ∧ (px_fmJ a b).toInt < 0)) := by
  have ra := rj a; have rb := rj b
  obtain ⟨M, t1, t2, t3, t4, t5, t6⟩ := td a.toInt b.toInt hb
  have eq1 : (a / b).toInt = a.toInt.tdiv b.toInt := dj hn
  have rq := rj (a / b)
  rw [← eq1] at t1 t6
  have eq2 : (a / b * b).toInt = (a / b).toInt * b.toInt := by
    obtain ⟨k, hk⟩ := mj (a / b) b
    have := rj (a / b * b)
    omega
  have eq3 : (a - a / b * b).toInt = M := by
    obtain ⟨k, hk⟩ := sj a (a / b * b)
    have := rj (a - a / b * b)
    omega
  unfold px_fdJ px_fmJ
  by_cases hx : 0 ≤ a ^^^ b
  · rw [if_pos hx, if_pos hx, eq3]
    rw [j_ge, j_xor] at hx
    exact fl_same t1 t2 t3 t4 t5 hb (Classical.not_not.mp hx)
  · rw [if_neg hx, if_neg hx]
    rw [j_ge, j_xor, Classical.not_not] at hx
    by_cases hM : M = 0
    · have c1 : a / b * b = a := Int64.toInt_inj.mp (by omega)
      have c2 : a - a / b * b = 0 := Int64.toInt_inj.mp (by rw [eq3, z_0]; exact hM)
      rw [if_pos c1, if_pos c2, c2, z_0]
      exact ⟨by omega, Or.inl rfl⟩
    · have c1 : ¬ a / b * b = a := fun h => hM (by rw [← Int64.toInt_inj] at h; omega)
      have c2 : ¬ a - a / b * b = 0 := fun h => hM (by rw [← Int64.toInt_inj, eq3, z_0] at h; exact h)
      rw [if_neg c1, if_neg c2]
      have eq4 : (a - a / b * b + b).toInt = M + b.toInt := by
        obtain ⟨k, hk⟩ := aj (a - a / b * b) b
        have := rj (a - a / b * b + b)
        omega
      have eq5 : (a / b - 1).toInt = (a / b).toInt - 1 := by
        obtain ⟨k, hk⟩ := sj (a / b) 1
        have e1 : (1 : Int64).toInt = 1 := by decide
        have := rj (a / b - 1)
        by_cases hm : (a / b).toInt = -9223372036854775808
        · exfalso
          rw [hm] at t1
          omega
        · omega
      rw [eq4, eq5]
      obtain ⟨g1, g2⟩ := fl_opp t1 t2 t3 t4 t5 hb hx hM
      exact ⟨g1, Or.inr g2⟩
theorem fl_I {a b : Int32} (hb : b.toInt ≠ 0) (hn : ¬ (a.toInt = -2147483648 ∧ b.toInt = -1)) :
    (px_fdI a b).toInt * b.toInt + (px_fmI a b).toInt = a.toInt ∧ ((px_fmI a b).toInt = 0 ∨ (0 < b.toInt ∧ 0 < (px_fmI a b).toInt ∧ (px_fmI a b).toInt < b.toInt) ∨ (b.toInt < 0 ∧ b.toInt < (px_fmI a b).toInt ∧ (px_fmI a b).toInt < 0)) := by
  have ra := ri a; have rb := ri b
  obtain ⟨M, t1, t2, t3, t4, t5, t6⟩ := td a.toInt b.toInt hb
  have eq1 : (a / b).toInt = a.toInt.tdiv b.toInt := di hn
  have rq := ri (a / b)
  rw [← eq1] at t1 t6
  have eq2 : (a / b * b).toInt = (a / b).toInt * b.toInt := by
    obtain ⟨k, hk⟩ := mi (a / b) b
    have := ri (a / b * b)
    omega
  have eq3 : (a - a / b * b).toInt = M := by
    obtain ⟨k, hk⟩ := si a (a / b * b)
    have := ri (a - a / b * b)
    omega
  unfold px_fdI px_fmI
  by_cases hx : 0 ≤ a ^^^ b
  · rw [if_pos hx, if_pos hx, eq3]
    rw [i_ge, i_xor] at hx
    exact fl_same t1 t2 t3 t4 t5 hb (Classical.not_not.mp hx)
  · rw [if_neg hx, if_neg hx]
    rw [i_ge, i_xor, Classical.not_not] at hx
    by_cases hM : M = 0
    · have c1 : a / b * b = a := Int32.toInt_inj.mp (by omega)
      have c2 : a - a / b * b = 0 := Int32.toInt_inj.mp (by rw [eq3, z_0i]; exact hM)
      rw [if_pos c1, if_pos c2, c2, z_0i]
      exact ⟨by omega, Or.inl rfl⟩
    · have c1 : ¬ a / b * b = a := fun h => hM (by rw [← Int32.toInt_inj] at h; omega)
      have c2 : ¬ a - a / b * b = 0 := fun h => hM (by rw [← Int32.toInt_inj, eq3, z_0i] at h; exact h)
      rw [if_neg c1, if_neg c2]
      have eq4 : (a - a / b * b + b).toInt = M + b.toInt := by
        obtain ⟨k, hk⟩ := ai (a - a / b * b) b
        have := ri (a - a / b * b + b)
        omega
      have eq5 : (a / b - 1).toInt = (a / b).toInt - 1 := by
        obtain ⟨k, hk⟩ := si (a / b) 1
        have e1 : (1 : Int32).toInt = 1 := by decide
        have := ri (a / b - 1)
        by_cases hm : (a / b).toInt = -2147483648
        · exfalso
          rw [hm] at t1
          omega
        · omega
      rw [eq4, eq5]
      obtain ⟨g1, g2⟩ := fl_opp t1 t2 t3 t4 t5 hb hx hM
      exact ⟨g1, Or.inr g2⟩
theorem pt_J {a b : Int64} (hb : ¬ b = 0) : ptx (px_fdJ a b) (px_fmJ a b) a b := by
  have hb' : b.toInt ≠ 0 := fun h => hb (Int64.toInt_inj.mp (h.trans z_0.symm))
  by_cases hn : a.toInt = -9223372036854775808 ∧ b.toInt = -1
  · have e1 : a = -9223372036854775808 := Int64.toInt_inj.mp (hn.1.trans z_M.symm)
    have e2 : b = -1 := Int64.toInt_inj.mp (hn.2.trans z_m1.symm)
    subst e1; subst e2
    unfold ptx
    decide
  · obtain ⟨g1, g2⟩ := fl_J hb' hn
    exact ⟨Or.inl g1, g2⟩
theorem pt_I {a b : Int32} (hb : ¬ b = 0) (hn : ¬ (a = -2147483648 ∧ b = -1)) : ptx (px_fdI a b).toInt64 (px_fmI a b).toInt64 a.toInt64 b.toInt64 := by
  have hb' : b.toInt ≠ 0 := fun h => hb (Int32.toInt_inj.mp (h.trans z_0i.symm))
  have eM : (-2147483648 : Int32).toInt = -2147483648 := by decide
  have em : (-1 : Int32).toInt = -1 := by decide
  have hn' : ¬ (a.toInt = -2147483648 ∧ b.toInt = -1) := fun h => hn ⟨Int32.toInt_inj.mp (h.1.trans eM.symm), Int32.toInt_inj.mp (h.2.trans em.symm)⟩
  unfold ptx
  rw [Int32.toInt_toInt64, Int32.toInt_toInt64, Int32.toInt_toInt64, Int32.toInt_toInt64]
  obtain ⟨g1, g2⟩ := fl_I hb' hn'
  exact ⟨Or.inl g1, g2⟩
/-! the high half of a product -/
theorem lo32 (x : Int64) : (x &&& 4294967295).toInt = x.toInt % 4294967296 := by
  have h := uN_lo x
  obtain ⟨k1, q1⟩ := ub x
  obtain ⟨k2, q2⟩ := ub (x &&& 4294967295)
  have := rj (x &&& 4294967295)
  omega
theorem mb (a b A B : Int) (h1 : -A ≤ a) (h2 : a ≤ A) (h3 : -B ≤ b) (h4 : b ≤ B) : -(A * B) ≤ a * b ∧ a * b ≤ A * B := by
  have k : (a * b).natAbs ≤ A.toNat * B.toNat := by
    rw [Int.natAbs_mul]
    exact Nat.mul_le_mul (by omega) (by omega)
  have e : ((A.toNat * B.toNat : Nat) : Int) = A * B := by
    rw [Int.natCast_mul, Int.toNat_of_nonneg (by omega), Int.toNat_of_nonneg (by omega)]
  omega
theorem hi_eq {x y r : Int64} (h : px_highR x y r) : r.toInt = x.toInt * y.toInt / 18446744073709551616 := by
  obtain ⟨x1, x2, y1, y2, z2, t, z1, z0, z3, e1, e2, e3, e4, e5, e6, e7, e8, e9, e10⟩ := h
  have rx := rj x; have ry := rj y
  have f1 : x1.toInt = x.toInt / 4294967296 := by rw [e1]; exact sh32 x
  have f2 : x2.toInt = x.toInt % 4294967296 := by rw [e2]; exact lo32 x
  have f3 : y1.toInt = y.toInt / 4294967296 := by rw [e3]; exact sh32 y
  have f4 : y2.toInt = y.toInt % 4294967296 := by rw [e4]; exact lo32 y
  have b11 := mb x1.toInt y1.toInt 2147483648 2147483648 (by omega) (by omega) (by omega) (by omega)
  have b12 := mb x1.toInt y2.toInt 2147483648 4294967295 (by omega) (by omega) (by omega) (by omega)
  have b21 := mb x2.toInt y1.toInt 4294967295 2147483648 (by omega) (by omega) (by omega) (by omega)
  have b22 := mb x2.toInt y2.toInt 4294967295 4294967295 (by omega) (by omega) (by omega) (by omega)
  have n22 : 0 ≤ x2.toInt * y2.toInt := Int.mul_nonneg (by omega) (by omega)
  have hexp : x.toInt * y.toInt = 18446744073709551616 * (x1.toInt * y1.toInt) + 4294967296 * (x1.toInt * y2.toInt) + 4294967296 * (x2.toInt * y1.toInt) + x2.toInt * y2.toInt := by
    have ex : x.toInt = 4294967296 * x1.toInt + x2.toInt := by omega
    have ey : y.toInt = 4294967296 * y1.toInt + y2.toInt := by omega
    rw [ex, ey]
    grind
  -- z2 without its sign
  have g2 : (uN z2 : Int) = x2.toInt * y2.toInt := by
    obtain ⟨k1, q1⟩ := mj x2 y2
    obtain ⟨k2, q2⟩ := ub (x2 * y2)
    have := uN_lt (x2 * y2)
    rw [e5]
    omega
  have gs : ((z2.toUInt64 >>> ((32 : Int32).toInt64.toUInt64 &&& Int64.toUInt64 63)).toInt64).toInt = x2.toInt * y2.toInt / 4294967296 := by
    have h1 := uN_s32 z2
    obtain ⟨k2, q2⟩ := ub ((z2.toUInt64 >>> ((32 : Int32).toInt64.toUInt64 &&& Int64.toUInt64 63)).toInt64)
    have := rj ((z2.toUInt64 >>> ((32 : Int32).toInt64.toUInt64 &&& Int64.toUInt64 63)).toInt64)
    omega
  have m12 : (x1 * y2).toInt = x1.toInt * y2.toInt := by
    obtain ⟨k1, q1⟩ := mj x1 y2
    have := rj (x1 * y2)
    omega
  have p12 : x1.toInt * y2.toInt ≤ 2147483647 * 4294967295 := by
    have := Int.mul_le_mul_of_nonneg_right (show x1.toInt ≤ 2147483647 by omega) (show 0 ≤ y2.toInt by omega)
    omega
  have gt : t.toInt = x1.toInt * y2.toInt + x2.toInt * y2.toInt / 4294967296 := by
    obtain ⟨k1, q1⟩ := aj (x1 * y2) ((z2.toUInt64 >>> ((32 : Int32).toInt64.toUInt64 &&& Int64.toUInt64 63)).toInt64)
    rw [← e6, m12, gs] at q1
    have := rj t
    omega
  have g1 : z1.toInt = t.toInt % 4294967296 := by rw [e7]; exact lo32 t
  have g0 : z0.toInt = t.toInt / 4294967296 := by rw [e8]; exact sh32 t
  have m21 : (x2 * y1).toInt = x2.toInt * y1.toInt := by
    obtain ⟨k1, q1⟩ := mj x2 y1
    have := rj (x2 * y1)
    omega
  have p21 : x2.toInt * y1.toInt ≤ 4294967295 * 2147483647 := by
    have := Int.mul_le_mul_of_nonneg_left (show y1.toInt ≤ 2147483647 by omega) (show 0 ≤ x2.toInt by omega)
    omega
  have g3 : z3.toInt = z1.toInt + x2.toInt * y1.toInt := by
    obtain ⟨k1, q1⟩ := aj z1 (x2 * y1)
    rw [← e9, m21] at q1
    have := rj z3
    omega
  have g4 : (z3 >>> ((32 : Int32).toInt64 &&& 63)).toInt = z3.toInt / 4294967296 := sh32 z3
  have m11 : (x1 * y1).toInt = x1.toInt * y1.toInt := by
    obtain ⟨k1, q1⟩ := mj x1 y1
    have := rj (x1 * y1)
    omega
  obtain ⟨k5, q5⟩ := aj (x1 * y1) z0
  obtain ⟨k6, q6⟩ := aj (x1 * y1 + z0) (z3 >>> ((32 : Int32).toInt64 &&& 63))
  rw [← e10, q5, m11, g4, g3] at q6
  have := rj r
  omega
end
section
/-! decode rows of the law's body, 1 -/
theorem d_law_0 : decode code 0 = .ok (.new 31, 3) := by decide +kernel
theorem d_law_3 : decode code 3 = .ok (.dup, 1) := by decide +kernel
theorem d_law_4 : decode code 4 = .ok (.invokespecial 45, 3) := by decide +kernel
theorem d_law_7 : decode code 7 = .ok (.astore_n 1, 1) := by decide +kernel
theorem d_law_8 : decode code 8 = .ok (.lconst 0, 1) := by decide +kernel
theorem d_law_9 : decode code 9 = .ok (.lstore_n 2, 1) := by decide +kernel
theorem d_law_10 : decode code 10 = .ok (.iconst 0, 1) := by decide +kernel
theorem d_law_11 : decode code 11 = .ok (.istore 4, 2) := by decide +kernel
theorem d_law_13 : decode code 13 = .ok (.iload 4, 2) := by decide +kernel
theorem d_law_15 : decode code 15 = .ok (.aload_n 0, 1) := by decide +kernel
theorem d_law_16 : decode code 16 = .ok (.arraylength, 1) := by decide +kernel
theorem d_law_17 : decode code 17 = .ok (.iconst 3, 1) := by decide +kernel
theorem d_law_18 : decode code 18 = .ok (.isub, 1) := by decide +kernel
theorem d_law_19 : decode code 19 = .ok (.if_icmp .gt 652, 3) := by decide +kernel
theorem d_law_22 : decode code 22 = .ok (.aload_n 0, 1) := by decide +kernel
theorem d_law_23 : decode code 23 = .ok (.iload 4, 2) := by decide +kernel
theorem d_law_25 : decode code 25 = .ok (.iaload, 1) := by decide +kernel
theorem d_law_26 : decode code 26 = .ok (.istore 5, 2) := by decide +kernel
theorem d_law_28 : decode code 28 = .ok (.aload_n 0, 1) := by decide +kernel
theorem d_law_29 : decode code 29 = .ok (.iload 4, 2) := by decide +kernel
theorem d_law_31 : decode code 31 = .ok (.iconst 1, 1) := by decide +kernel
theorem d_law_32 : decode code 32 = .ok (.iadd, 1) := by decide +kernel
theorem d_law_33 : decode code 33 = .ok (.iaload, 1) := by decide +kernel
theorem d_law_34 : decode code 34 = .ok (.istore 6, 2) := by decide +kernel
theorem d_law_36 : decode code 36 = .ok (.aload_n 0, 1) := by decide +kernel
theorem d_law_37 : decode code 37 = .ok (.iload 4, 2) := by decide +kernel
theorem d_law_39 : decode code 39 = .ok (.iconst 2, 1) := by decide +kernel
theorem d_law_40 : decode code 40 = .ok (.iadd, 1) := by decide +kernel
theorem d_law_41 : decode code 41 = .ok (.iaload, 1) := by decide +kernel
theorem d_law_42 : decode code 42 = .ok (.istore 7, 2) := by decide +kernel
theorem d_law_44 : decode code 44 = .ok (.iload 6, 2) := by decide +kernel
theorem d_law_46 : decode code 46 = .ok (.i2l, 1) := by decide +kernel
theorem d_law_47 : decode code 47 = .ok (.bipush 32, 2) := by decide +kernel
theorem d_law_49 : decode code 49 = .ok (.lshl, 1) := by decide +kernel
theorem d_law_50 : decode code 50 = .ok (.iload 7, 2) := by decide +kernel
theorem d_law_52 : decode code 52 = .ok (.i2l, 1) := by decide +kernel
theorem d_law_53 : decode code 53 = .ok (.ldc2_w 7, 3) := by decide +kernel
theorem d_law_56 : decode code 56 = .ok (.land, 1) := by decide +kernel
theorem d_law_57 : decode code 57 = .ok (.lor, 1) := by decide +kernel
theorem d_law_58 : decode code 58 = .ok (.lstore 8, 2) := by decide +kernel
theorem d_law_60 : decode code 60 = .ok (.iload 5, 2) := by decide +kernel
theorem d_law_62 : decode code 62 = .ok (.bipush 16, 2) := by decide +kernel
theorem d_law_64 : decode code 64 = .ok (.iand, 1) := by decide +kernel
theorem d_law_65 : decode code 65 = .ok (.ifCond .eq 16, 3) := by decide +kernel
theorem d_law_68 : decode code 68 = .ok (.lload 8, 2) := by decide +kernel
theorem d_law_70 : decode code 70 = .ok (.iload 5, 2) := by decide +kernel
theorem d_law_72 : decode code 72 = .ok (.bipush 8, 2) := by decide +kernel
theorem d_law_74 : decode code 74 = .ok (.ishr, 1) := by decide +kernel
theorem d_law_75 : decode code 75 = .ok (.bipush 63, 2) := by decide +kernel
theorem d_law_77 : decode code 77 = .ok (.iand, 1) := by decide +kernel
theorem d_law_78 : decode code 78 = .ok (.lshr, 1) := by decide +kernel
theorem d_law_79 : decode code 79 = .ok (.lstore 8, 2) := by decide +kernel
theorem d_law_81 : decode code 81 = .ok (.iload 5, 2) := by decide +kernel
theorem d_law_83 : decode code 83 = .ok (.bipush 32, 2) := by decide +kernel
theorem d_law_85 : decode code 85 = .ok (.iand, 1) := by decide +kernel
theorem d_law_86 : decode code 86 = .ok (.ifCond .eq 15, 3) := by decide +kernel
theorem d_law_89 : decode code 89 = .ok (.lconst 1, 1) := by decide +kernel
theorem d_law_90 : decode code 90 = .ok (.iload 5, 2) := by decide +kernel
theorem d_law_92 : decode code 92 = .ok (.bipush 8, 2) := by decide +kernel
theorem d_law_94 : decode code 94 = .ok (.ishr, 1) := by decide +kernel
theorem d_law_95 : decode code 95 = .ok (.bipush 63, 2) := by decide +kernel
theorem d_law_97 : decode code 97 = .ok (.iand, 1) := by decide +kernel
theorem d_law_98 : decode code 98 = .ok (.lshl, 1) := by decide +kernel
theorem d_law_99 : decode code 99 = .ok (.lstore 8, 2) := by decide +kernel
theorem d_law_101 : decode code 101 = .ok (.iload 5, 2) := by decide +kernel
theorem d_law_103 : decode code 103 = .ok (.bipush 64, 2) := by decide +kernel
end
section
/-! decode rows of the law's body, 2 -/
theorem d_law_105 : decode code 105 = .ok (.iand, 1) := by decide +kernel
theorem d_law_106 : decode code 106 = .ok (.ifCond .eq 23, 3) := by decide +kernel
theorem d_law_109 : decode code 109 = .ok (.iload 5, 2) := by decide +kernel
theorem d_law_111 : decode code 111 = .ok (.sipush 128, 3) := by decide +kernel
theorem d_law_114 : decode code 114 = .ok (.iand, 1) := by decide +kernel
theorem d_law_115 : decode code 115 = .ok (.ifCond .eq 9, 3) := by decide +kernel
theorem d_law_118 : decode code 118 = .ok (.ldc2_w 41, 3) := by decide +kernel
theorem d_law_121 : decode code 121 = .ok (.goto 6, 3) := by decide +kernel
theorem d_law_124 : decode code 124 = .ok (.ldc2_w 43, 3) := by decide +kernel
theorem d_law_127 : decode code 127 = .ok (.lstore 8, 2) := by decide +kernel
theorem d_law_129 : decode code 129 = .ok (.lload_n 2, 1) := by decide +kernel
theorem d_law_130 : decode code 130 = .ok (.l2i, 1) := by decide +kernel
theorem d_law_131 : decode code 131 = .ok (.istore 10, 2) := by decide +kernel
theorem d_law_133 : decode code 133 = .ok (.lload 8, 2) := by decide +kernel
theorem d_law_135 : decode code 135 = .ok (.l2i, 1) := by decide +kernel
theorem d_law_136 : decode code 136 = .ok (.istore 11, 2) := by decide +kernel
theorem d_law_138 : decode code 138 = .ok (.iload 5, 2) := by decide +kernel
theorem d_law_140 : decode code 140 = .ok (.bipush 15, 2) := by decide +kernel
theorem d_law_142 : decode code 142 = .ok (.iand, 1) := by decide +kernel
theorem d_law_143 : decode code 143 = .ok (.tableswitch 396 0 12 #[65, 65, 115, 115, 168, 168, 168, 218, 256, 256, 256, 338, 338], 65) := by decide +kernel
theorem d_law_208 : decode code 208 = .ok (.aload_n 1, 1) := by decide +kernel
theorem d_law_209 : decode code 209 = .ok (.aload_n 1, 1) := by decide +kernel
theorem d_law_210 : decode code 210 = .ok (.lload_n 2, 1) := by decide +kernel
theorem d_law_211 : decode code 211 = .ok (.lload 8, 2) := by decide +kernel
theorem d_law_213 : decode code 213 = .ok (.invokevirtual 46, 3) := by decide +kernel
theorem d_law_216 : decode code 216 = .ok (.lload_n 2, 1) := by decide +kernel
theorem d_law_217 : decode code 217 = .ok (.invokestatic 9, 3) := by decide +kernel
theorem d_law_220 : decode code 220 = .ok (.lload 8, 2) := by decide +kernel
theorem d_law_222 : decode code 222 = .ok (.invokestatic 9, 3) := by decide +kernel
theorem d_law_225 : decode code 225 = .ok (.invokestatic 15, 3) := by decide +kernel
theorem d_law_228 : decode code 228 = .ok (.invokestatic 50, 3) := by decide +kernel
theorem d_law_231 : decode code 231 = .ok (.ifCond .eq 25, 3) := by decide +kernel
theorem d_law_234 : decode code 234 = .ok (.aload_n 1, 1) := by decide +kernel
theorem d_law_235 : decode code 235 = .ok (.aload_n 1, 1) := by decide +kernel
theorem d_law_236 : decode code 236 = .ok (.iload 10, 2) := by decide +kernel
theorem d_law_238 : decode code 238 = .ok (.iload 11, 2) := by decide +kernel
theorem d_law_240 : decode code 240 = .ok (.invokevirtual 54, 3) := by decide +kernel
theorem d_law_243 : decode code 243 = .ok (.iload 10, 2) := by decide +kernel
theorem d_law_245 : decode code 245 = .ok (.i2l, 1) := by decide +kernel
theorem d_law_246 : decode code 246 = .ok (.iload 11, 2) := by decide +kernel
theorem d_law_248 : decode code 248 = .ok (.i2l, 1) := by decide +kernel
theorem d_law_249 : decode code 249 = .ok (.ladd, 1) := by decide +kernel
theorem d_law_250 : decode code 250 = .ok (.invokestatic 57, 3) := by decide +kernel
theorem d_law_253 : decode code 253 = .ok (.ifCond .ne 409, 3) := by decide +kernel
theorem d_law_256 : decode code 256 = .ok (.iconst 0, 1) := by decide +kernel
theorem d_law_257 : decode code 257 = .ok (.ireturn, 1) := by decide +kernel
theorem d_law_258 : decode code 258 = .ok (.aload_n 1, 1) := by decide +kernel
theorem d_law_259 : decode code 259 = .ok (.aload_n 1, 1) := by decide +kernel
theorem d_law_260 : decode code 260 = .ok (.lload_n 2, 1) := by decide +kernel
theorem d_law_261 : decode code 261 = .ok (.lload 8, 2) := by decide +kernel
theorem d_law_263 : decode code 263 = .ok (.invokevirtual 61, 3) := by decide +kernel
theorem d_law_266 : decode code 266 = .ok (.lload_n 2, 1) := by decide +kernel
theorem d_law_267 : decode code 267 = .ok (.invokestatic 9, 3) := by decide +kernel
theorem d_law_270 : decode code 270 = .ok (.lload 8, 2) := by decide +kernel
theorem d_law_272 : decode code 272 = .ok (.invokestatic 9, 3) := by decide +kernel
theorem d_law_275 : decode code 275 = .ok (.invokestatic 64, 3) := by decide +kernel
theorem d_law_278 : decode code 278 = .ok (.invokestatic 15, 3) := by decide +kernel
theorem d_law_281 : decode code 281 = .ok (.invokestatic 50, 3) := by decide +kernel
theorem d_law_284 : decode code 284 = .ok (.ifCond .eq 25, 3) := by decide +kernel
theorem d_law_287 : decode code 287 = .ok (.aload_n 1, 1) := by decide +kernel
theorem d_law_288 : decode code 288 = .ok (.aload_n 1, 1) := by decide +kernel
theorem d_law_289 : decode code 289 = .ok (.iload 10, 2) := by decide +kernel
theorem d_law_291 : decode code 291 = .ok (.iload 11, 2) := by decide +kernel
theorem d_law_293 : decode code 293 = .ok (.invokevirtual 68, 3) := by decide +kernel
theorem d_law_296 : decode code 296 = .ok (.iload 10, 2) := by decide +kernel
theorem d_law_298 : decode code 298 = .ok (.i2l, 1) := by decide +kernel
end
section
/-! decode rows of the law's body, 3 -/
theorem d_law_299 : decode code 299 = .ok (.iload 11, 2) := by decide +kernel
theorem d_law_301 : decode code 301 = .ok (.i2l, 1) := by decide +kernel
theorem d_law_302 : decode code 302 = .ok (.lsub, 1) := by decide +kernel
theorem d_law_303 : decode code 303 = .ok (.invokestatic 57, 3) := by decide +kernel
theorem d_law_306 : decode code 306 = .ok (.ifCond .ne 356, 3) := by decide +kernel
theorem d_law_309 : decode code 309 = .ok (.iconst 0, 1) := by decide +kernel
theorem d_law_310 : decode code 310 = .ok (.ireturn, 1) := by decide +kernel
theorem d_law_311 : decode code 311 = .ok (.aload_n 1, 1) := by decide +kernel
theorem d_law_312 : decode code 312 = .ok (.aload_n 1, 1) := by decide +kernel
theorem d_law_313 : decode code 313 = .ok (.lload_n 2, 1) := by decide +kernel
theorem d_law_314 : decode code 314 = .ok (.lload 8, 2) := by decide +kernel
theorem d_law_316 : decode code 316 = .ok (.invokevirtual 70, 3) := by decide +kernel
theorem d_law_319 : decode code 319 = .ok (.lload_n 2, 1) := by decide +kernel
theorem d_law_320 : decode code 320 = .ok (.invokestatic 9, 3) := by decide +kernel
theorem d_law_323 : decode code 323 = .ok (.lload 8, 2) := by decide +kernel
theorem d_law_325 : decode code 325 = .ok (.invokestatic 9, 3) := by decide +kernel
theorem d_law_328 : decode code 328 = .ok (.invokestatic 36, 3) := by decide +kernel
theorem d_law_331 : decode code 331 = .ok (.invokestatic 50, 3) := by decide +kernel
theorem d_law_334 : decode code 334 = .ok (.ifCond .eq 25, 3) := by decide +kernel
theorem d_law_337 : decode code 337 = .ok (.aload_n 1, 1) := by decide +kernel
theorem d_law_338 : decode code 338 = .ok (.aload_n 1, 1) := by decide +kernel
theorem d_law_339 : decode code 339 = .ok (.iload 10, 2) := by decide +kernel
theorem d_law_341 : decode code 341 = .ok (.iload 11, 2) := by decide +kernel
theorem d_law_343 : decode code 343 = .ok (.invokevirtual 73, 3) := by decide +kernel
theorem d_law_346 : decode code 346 = .ok (.iload 10, 2) := by decide +kernel
theorem d_law_348 : decode code 348 = .ok (.i2l, 1) := by decide +kernel
theorem d_law_349 : decode code 349 = .ok (.iload 11, 2) := by decide +kernel
theorem d_law_351 : decode code 351 = .ok (.i2l, 1) := by decide +kernel
theorem d_law_352 : decode code 352 = .ok (.lmul, 1) := by decide +kernel
theorem d_law_353 : decode code 353 = .ok (.invokestatic 57, 3) := by decide +kernel
theorem d_law_356 : decode code 356 = .ok (.ifCond .ne 306, 3) := by decide +kernel
theorem d_law_359 : decode code 359 = .ok (.iconst 0, 1) := by decide +kernel
theorem d_law_360 : decode code 360 = .ok (.ireturn, 1) := by decide +kernel
theorem d_law_361 : decode code 361 = .ok (.aload_n 1, 1) := by decide +kernel
theorem d_law_362 : decode code 362 = .ok (.aload_n 1, 1) := by decide +kernel
theorem d_law_363 : decode code 363 = .ok (.lload 8, 2) := by decide +kernel
theorem d_law_365 : decode code 365 = .ok (.invokevirtual 75, 3) := by decide +kernel
theorem d_law_368 : decode code 368 = .ok (.lload 8, 2) := by decide +kernel
theorem d_law_370 : decode code 370 = .ok (.invokestatic 9, 3) := by decide +kernel
theorem d_law_373 : decode code 373 = .ok (.invokestatic 64, 3) := by decide +kernel
theorem d_law_376 : decode code 376 = .ok (.invokestatic 50, 3) := by decide +kernel
theorem d_law_379 : decode code 379 = .ok (.ifCond .eq 18, 3) := by decide +kernel
theorem d_law_382 : decode code 382 = .ok (.aload_n 1, 1) := by decide +kernel
theorem d_law_383 : decode code 383 = .ok (.aload_n 1, 1) := by decide +kernel
theorem d_law_384 : decode code 384 = .ok (.lload 8, 2) := by decide +kernel
theorem d_law_386 : decode code 386 = .ok (.invokevirtual 79, 3) := by decide +kernel
theorem d_law_389 : decode code 389 = .ok (.lload 8, 2) := by decide +kernel
theorem d_law_391 : decode code 391 = .ok (.invokestatic 57, 3) := by decide +kernel
theorem d_law_394 : decode code 394 = .ok (.ifCond .ne 268, 3) := by decide +kernel
theorem d_law_397 : decode code 397 = .ok (.iconst 0, 1) := by decide +kernel
theorem d_law_398 : decode code 398 = .ok (.ireturn, 1) := by decide +kernel
theorem d_law_399 : decode code 399 = .ok (.lload 8, 2) := by decide +kernel
theorem d_law_401 : decode code 401 = .ok (.lconst 0, 1) := by decide +kernel
theorem d_law_402 : decode code 402 = .ok (.lcmp, 1) := by decide +kernel
theorem d_law_403 : decode code 403 = .ok (.ifCond .eq 28, 3) := by decide +kernel
theorem d_law_406 : decode code 406 = .ok (.aload_n 1, 1) := by decide +kernel
theorem d_law_407 : decode code 407 = .ok (.lload_n 2, 1) := by decide +kernel
theorem d_law_408 : decode code 408 = .ok (.lload 8, 2) := by decide +kernel
theorem d_law_410 : decode code 410 = .ok (.invokevirtual 83, 3) := by decide +kernel
theorem d_law_413 : decode code 413 = .ok (.aload_n 1, 1) := by decide +kernel
theorem d_law_414 : decode code 414 = .ok (.lload_n 2, 1) := by decide +kernel
theorem d_law_415 : decode code 415 = .ok (.lload 8, 2) := by decide +kernel
theorem d_law_417 : decode code 417 = .ok (.invokevirtual 86, 3) := by decide +kernel
theorem d_law_420 : decode code 420 = .ok (.lload_n 2, 1) := by decide +kernel
theorem d_law_421 : decode code 421 = .ok (.lload 8, 2) := by decide +kernel
theorem d_law_423 : decode code 423 = .ok (.invokestatic 89, 3) := by decide +kernel
end
section
/-! decode rows of the law's body, 4 -/
theorem d_law_426 : decode code 426 = .ok (.ifCond .ne 5, 3) := by decide +kernel
theorem d_law_429 : decode code 429 = .ok (.iconst 0, 1) := by decide +kernel
theorem d_law_430 : decode code 430 = .ok (.ireturn, 1) := by decide +kernel
theorem d_law_431 : decode code 431 = .ok (.iload 11, 2) := by decide +kernel
theorem d_law_433 : decode code 433 = .ok (.ifCond .eq 229, 3) := by decide +kernel
theorem d_law_436 : decode code 436 = .ok (.iload 10, 2) := by decide +kernel
theorem d_law_438 : decode code 438 = .ok (.ldc 95, 2) := by decide +kernel
theorem d_law_440 : decode code 440 = .ok (.if_icmp .ne 9, 3) := by decide +kernel
theorem d_law_443 : decode code 443 = .ok (.iload 11, 2) := by decide +kernel
theorem d_law_445 : decode code 445 = .ok (.iconst (-1), 1) := by decide +kernel
theorem d_law_446 : decode code 446 = .ok (.if_icmp .eq 216, 3) := by decide +kernel
theorem d_law_449 : decode code 449 = .ok (.aload_n 1, 1) := by decide +kernel
theorem d_law_450 : decode code 450 = .ok (.iload 10, 2) := by decide +kernel
theorem d_law_452 : decode code 452 = .ok (.iload 11, 2) := by decide +kernel
theorem d_law_454 : decode code 454 = .ok (.invokevirtual 96, 3) := by decide +kernel
theorem d_law_457 : decode code 457 = .ok (.i2l, 1) := by decide +kernel
theorem d_law_458 : decode code 458 = .ok (.aload_n 1, 1) := by decide +kernel
theorem d_law_459 : decode code 459 = .ok (.iload 10, 2) := by decide +kernel
theorem d_law_461 : decode code 461 = .ok (.iload 11, 2) := by decide +kernel
theorem d_law_463 : decode code 463 = .ok (.invokevirtual 98, 3) := by decide +kernel
theorem d_law_466 : decode code 466 = .ok (.i2l, 1) := by decide +kernel
theorem d_law_467 : decode code 467 = .ok (.iload 10, 2) := by decide +kernel
theorem d_law_469 : decode code 469 = .ok (.i2l, 1) := by decide +kernel
theorem d_law_470 : decode code 470 = .ok (.iload 11, 2) := by decide +kernel
theorem d_law_472 : decode code 472 = .ok (.i2l, 1) := by decide +kernel
theorem d_law_473 : decode code 473 = .ok (.invokestatic 89, 3) := by decide +kernel
theorem d_law_476 : decode code 476 = .ok (.ifCond .ne 186, 3) := by decide +kernel
theorem d_law_479 : decode code 479 = .ok (.iconst 0, 1) := by decide +kernel
theorem d_law_480 : decode code 480 = .ok (.ireturn, 1) := by decide +kernel
theorem d_law_481 : decode code 481 = .ok (.aload_n 1, 1) := by decide +kernel
theorem d_law_482 : decode code 482 = .ok (.lload_n 2, 1) := by decide +kernel
theorem d_law_483 : decode code 483 = .ok (.lload 8, 2) := by decide +kernel
theorem d_law_485 : decode code 485 = .ok (.invokevirtual 100, 3) := by decide +kernel
theorem d_law_488 : decode code 488 = .ok (.lload_n 2, 1) := by decide +kernel
theorem d_law_489 : decode code 489 = .ok (.invokestatic 9, 3) := by decide +kernel
theorem d_law_492 : decode code 492 = .ok (.lload 8, 2) := by decide +kernel
theorem d_law_494 : decode code 494 = .ok (.invokestatic 9, 3) := by decide +kernel
theorem d_law_497 : decode code 497 = .ok (.invokestatic 36, 3) := by decide +kernel
theorem d_law_500 : decode code 500 = .ok (.invokestatic 19, 3) := by decide +kernel
theorem d_law_503 : decode code 503 = .ok (.lcmp, 1) := by decide +kernel
theorem d_law_504 : decode code 504 = .ok (.ifCond .ne 33, 3) := by decide +kernel
theorem d_law_507 : decode code 507 = .ok (.aload_n 1, 1) := by decide +kernel
theorem d_law_508 : decode code 508 = .ok (.iload 10, 2) := by decide +kernel
theorem d_law_510 : decode code 510 = .ok (.iload 11, 2) := by decide +kernel
theorem d_law_512 : decode code 512 = .ok (.invokevirtual 102, 3) := by decide +kernel
theorem d_law_515 : decode code 515 = .ok (.iload 10, 2) := by decide +kernel
theorem d_law_517 : decode code 517 = .ok (.i2l, 1) := by decide +kernel
theorem d_law_518 : decode code 518 = .ok (.invokestatic 9, 3) := by decide +kernel
theorem d_law_521 : decode code 521 = .ok (.iload 11, 2) := by decide +kernel
theorem d_law_523 : decode code 523 = .ok (.i2l, 1) := by decide +kernel
theorem d_law_524 : decode code 524 = .ok (.invokestatic 9, 3) := by decide +kernel
theorem d_law_527 : decode code 527 = .ok (.invokestatic 36, 3) := by decide +kernel
theorem d_law_530 : decode code 530 = .ok (.invokestatic 23, 3) := by decide +kernel
theorem d_law_533 : decode code 533 = .ok (.lcmp, 1) := by decide +kernel
theorem d_law_534 : decode code 534 = .ok (.ifCond .eq 128, 3) := by decide +kernel
theorem d_law_537 : decode code 537 = .ok (.iconst 0, 1) := by decide +kernel
theorem d_law_538 : decode code 538 = .ok (.ireturn, 1) := by decide +kernel
theorem d_law_539 : decode code 539 = .ok (.lload_n 2, 1) := by decide +kernel
theorem d_law_540 : decode code 540 = .ok (.lconst 0, 1) := by decide +kernel
theorem d_law_541 : decode code 541 = .ok (.lcmp, 1) := by decide +kernel
theorem d_law_542 : decode code 542 = .ok (.ifCond .ge 7, 3) := by decide +kernel
theorem d_law_545 : decode code 545 = .ok (.iconst 1, 1) := by decide +kernel
theorem d_law_546 : decode code 546 = .ok (.goto 4, 3) := by decide +kernel
theorem d_law_549 : decode code 549 = .ok (.iconst 0, 1) := by decide +kernel
theorem d_law_550 : decode code 550 = .ok (.lload 8, 2) := by decide +kernel
theorem d_law_552 : decode code 552 = .ok (.lconst 0, 1) := by decide +kernel
end
section
/-! decode rows of the law's body, 5 -/
theorem d_law_553 : decode code 553 = .ok (.lcmp, 1) := by decide +kernel
theorem d_law_554 : decode code 554 = .ok (.ifCond .ge 7, 3) := by decide +kernel
theorem d_law_557 : decode code 557 = .ok (.iconst 1, 1) := by decide +kernel
theorem d_law_558 : decode code 558 = .ok (.goto 4, 3) := by decide +kernel
theorem d_law_561 : decode code 561 = .ok (.iconst 0, 1) := by decide +kernel
theorem d_law_562 : decode code 562 = .ok (.if_icmp .eq 17, 3) := by decide +kernel
theorem d_law_565 : decode code 565 = .ok (.lload_n 2, 1) := by decide +kernel
theorem d_law_566 : decode code 566 = .ok (.lconst 0, 1) := by decide +kernel
theorem d_law_567 : decode code 567 = .ok (.lcmp, 1) := by decide +kernel
theorem d_law_568 : decode code 568 = .ok (.ifCond .ge 7, 3) := by decide +kernel
theorem d_law_571 : decode code 571 = .ok (.iconst 1, 1) := by decide +kernel
theorem d_law_572 : decode code 572 = .ok (.goto 21, 3) := by decide +kernel
theorem d_law_575 : decode code 575 = .ok (.iconst 0, 1) := by decide +kernel
theorem d_law_576 : decode code 576 = .ok (.goto 17, 3) := by decide +kernel
theorem d_law_579 : decode code 579 = .ok (.lload_n 2, 1) := by decide +kernel
theorem d_law_580 : decode code 580 = .ok (.lload 8, 2) := by decide +kernel
theorem d_law_582 : decode code 582 = .ok (.lsub, 1) := by decide +kernel
theorem d_law_583 : decode code 583 = .ok (.lconst 0, 1) := by decide +kernel
theorem d_law_584 : decode code 584 = .ok (.lcmp, 1) := by decide +kernel
theorem d_law_585 : decode code 585 = .ok (.ifCond .ge 7, 3) := by decide +kernel
theorem d_law_588 : decode code 588 = .ok (.iconst 1, 1) := by decide +kernel
theorem d_law_589 : decode code 589 = .ok (.goto 4, 3) := by decide +kernel
theorem d_law_592 : decode code 592 = .ok (.iconst 0, 1) := by decide +kernel
theorem d_law_593 : decode code 593 = .ok (.istore 12, 2) := by decide +kernel
theorem d_law_595 : decode code 595 = .ok (.iload 12, 2) := by decide +kernel
theorem d_law_597 : decode code 597 = .ok (.ifCond .eq 8, 3) := by decide +kernel
theorem d_law_600 : decode code 600 = .ok (.lload 8, 2) := by decide +kernel
theorem d_law_602 : decode code 602 = .ok (.goto 4, 3) := by decide +kernel
theorem d_law_605 : decode code 605 = .ok (.lload_n 2, 1) := by decide +kernel
theorem d_law_606 : decode code 606 = .ok (.lstore 13, 2) := by decide +kernel
theorem d_law_608 : decode code 608 = .ok (.iload 12, 2) := by decide +kernel
theorem d_law_610 : decode code 610 = .ok (.ifCond .eq 7, 3) := by decide +kernel
theorem d_law_613 : decode code 613 = .ok (.lload_n 2, 1) := by decide +kernel
theorem d_law_614 : decode code 614 = .ok (.goto 5, 3) := by decide +kernel
theorem d_law_617 : decode code 617 = .ok (.lload 8, 2) := by decide +kernel
theorem d_law_619 : decode code 619 = .ok (.lstore 15, 2) := by decide +kernel
theorem d_law_621 : decode code 621 = .ok (.aload_n 1, 1) := by decide +kernel
theorem d_law_622 : decode code 622 = .ok (.lload_n 2, 1) := by decide +kernel
theorem d_law_623 : decode code 623 = .ok (.lload 8, 2) := by decide +kernel
theorem d_law_625 : decode code 625 = .ok (.invokevirtual 106, 3) := by decide +kernel
theorem d_law_628 : decode code 628 = .ok (.lload 13, 2) := by decide +kernel
theorem d_law_630 : decode code 630 = .ok (.lload 15, 2) := by decide +kernel
theorem d_law_632 : decode code 632 = .ok (.iconst 1, 1) := by decide +kernel
theorem d_law_633 : decode code 633 = .ok (.lshl, 1) := by decide +kernel
theorem d_law_634 : decode code 634 = .ok (.lxor, 1) := by decide +kernel
theorem d_law_635 : decode code 635 = .ok (.lload_n 2, 1) := by decide +kernel
theorem d_law_636 : decode code 636 = .ok (.lconst 0, 1) := by decide +kernel
theorem d_law_637 : decode code 637 = .ok (.lcmp, 1) := by decide +kernel
theorem d_law_638 : decode code 638 = .ok (.ifCond .ge 16, 3) := by decide +kernel
theorem d_law_641 : decode code 641 = .ok (.lload_n 2, 1) := by decide +kernel
theorem d_law_642 : decode code 642 = .ok (.invokestatic 9, 3) := by decide +kernel
theorem d_law_645 : decode code 645 = .ok (.invokestatic 64, 3) := by decide +kernel
theorem d_law_648 : decode code 648 = .ok (.invokestatic 23, 3) := by decide +kernel
theorem d_law_651 : decode code 651 = .ok (.goto 4, 3) := by decide +kernel
theorem d_law_654 : decode code 654 = .ok (.lload_n 2, 1) := by decide +kernel
theorem d_law_655 : decode code 655 = .ok (.lxor, 1) := by decide +kernel
theorem d_law_656 : decode code 656 = .ok (.lcmp, 1) := by decide +kernel
theorem d_law_657 : decode code 657 = .ok (.ifCond .eq 5, 3) := by decide +kernel
theorem d_law_660 : decode code 660 = .ok (.iconst 0, 1) := by decide +kernel
theorem d_law_661 : decode code 661 = .ok (.ireturn, 1) := by decide +kernel
theorem d_law_662 : decode code 662 = .ok (.lload 8, 2) := by decide +kernel
theorem d_law_664 : decode code 664 = .ok (.lstore_n 2, 1) := by decide +kernel
theorem d_law_665 : decode code 665 = .ok (.iinc 4 3, 3) := by decide +kernel
theorem d_law_668 : decode code 668 = .ok (.goto (-655), 3) := by decide +kernel
theorem d_law_671 : decode code 671 = .ok (.iconst 1, 1) := by decide +kernel
theorem d_law_672 : decode code 672 = .ok (.ireturn, 1) := by decide +kernel
end
section
/-! the law's body: its seven cases, each from its first instruction to the end of the turn (pc 662) -/
theorem ax_St {s : State} {H : Heap} (hE : ax_X s.heap H) : tx_St s H := fun a cell hc _ => by rw [hE.2 a (Array.getElem?_eq_some_iff.mp hc).1]; exact hc
theorem ox_E {s : State} {H H' : Heap} {x : Nat} (hE : ax_X s.heap H) (hn : s.heap.size ≤ x) (h1 : H.size ≤ H'.size) (h2 : ∀ q : Nat, q < H.size → q ≠ x → H'[q]? = H[q]?) : ax_X s.heap H' :=
  ⟨Nat.le_trans hE.1 h1, fun q hq => (h2 q (Nat.lt_of_lt_of_le hq hE.1) (by omega)).trans (hE.2 q hq)⟩
theorem pm_lt {a b : Int64} (h : a < b) : px_max a b = b ∧ px_min a b = a := by
  unfold px_max px_min
  rw [if_pos h, if_neg (fun q => by rw [Int64.lt_iff_toInt_lt] at h q; omega)]
  exact ⟨rfl, rfl⟩
theorem pm_ge {a b : Int64} (h : ¬ a < b) : px_max a b = a ∧ px_min a b = b := by
  unfold px_max px_min
  rw [if_neg h]
  refine ⟨rfl, ?_⟩
  by_cases q : b < a
  · rw [if_pos q]
  · rw [if_neg q]
    rw [Int64.lt_iff_toInt_lt] at h q
    exact Int64.toInt_inj.mp (by omega)
theorem pm_neg {a r : Int64} {f : Nat → Int32} (hf : HZ f (-a.toInt)) (hr : uN r = VV f % 18446744073709551616) : r = -a := by
  obtain ⟨k, hk⟩ := pl_lowZ hf hr
  obtain ⟨k2, hk2⟩ := nj a
  have := rj r; have := rj (-a)
  exact Int64.toInt_inj.mp (by omega)
set_option maxHeartbeats 4000000 in
set_option maxRecDepth 100000 in
theorem k_208 {p : Program} {l : Launch} {e : Env} {s : State} {m : MethodId} {args : Array Value} {below : List Frame} {meth : Method} {c : Code} {H : Heap} {cells slots : Nat} {Q : State → Prop} (hfl : l.flags = pinnedFlags ++ [noTraceFlag]) (hx : p.tables.exec = Jvm.exec) (hb : c.code = code) (hml : c.maxLocals = 17) (hT : ∀ w ∈ TB, w.before args s = true) (hown : s.vm.findClass "MathDrillLaw" = some m.cls) (hth : tx_T s) {D : va_G} {x sc : Nat} (hn : s.heap.size ≤ x) {ov ss tt ii : Int32} {aa bb : Int64} {ls : Array Slot} (hl : lv_has ls 17 [(11, .int tt), (10, .int ss), (8, .long bb), (4, .int ii), (2, .long aa), (1, .ref x), (0, .ref sc)]) (hE : ax_X s.heap H) (hO : ox_O D s H x ov) (hc : cells + 20 ≤ room_1.cells) (hs : slots + 80 ≤ room_1.slots)
    (k : ∀ (H : Heap) (ov : Int32) (ls : Array Slot), ax_X s.heap H → ox_O D s H x ov → lv_has ls 17 [(8, .long bb), (4, .int ii), (1, .ref x), (0, .ref sc)] → W p l e room_1 s m args below meth c H [] (cells + 20) (slots + 80) Q (F0 m 662 ls [])) : W p l e room_1 s m args below meth c H [] cells slots Q (F0 m 208 ls []) := by
  have hTB : ∀ w ∈ TB, w ∈ TB := fun _ h => h
  refine lv_aload_n hx hb d_law_208 rfl (lv_at hl 5 rfl) ?_
  refine lv_aload_n hx hb d_law_209 rfl (lv_at hl 5 rfl) ?_
  refine lv_lload_n hx hb d_law_210 rfl (lv_at hl 4 rfl) ?_
  refine lv_lload hx hb d_law_211 (lv_at hl 2 rfl) ?_
  refine qx_callMJ (tx_runVW (C := "MathDrill") (b := x) (As := [.long aa, .long bb]) (rest := [.ref x]) ⟨hx, hb, hml, hown, hT⟩ (c_dAddJ l hfl D x _ aa bb) rfl rfl (Nat.le_of_ble_eq_true rfl) (Nat.le_of_ble_eq_true rfl) (gi_pay hT tb_96) List.mem_cons_self (hT _ tb_93) (hT _ tb_94) (hT _ tb_95) (hT _ tb_96) (hT _ tb_1) ⟨by decide, by decide, (show (parseMethodDescriptor y_dAddJ.desc).map (fun d => d.parameters.length) = some 2 by decide +kernel)⟩ ⟨fun _ U g mk q => ⟨q.1, q.2.1.moved (Vm.Alike.refl _), q.2.2.calling⟩, hO.recv, fun U hU hW => ⟨rfl, by rw [hU]; exact hO.moved hW.alike, hth.moved hW (by rw [hU]; exact ax_St hE)⟩⟩ rfl hl.1 rfl (lv_room (Nat.le_of_ble_eq_true rfl)) d_law_213 ⟨by omega, by omega⟩) hn (fun g1 ov H eg1 hO h1 h2 => ?_)
  have hE := ox_E hE hn h1 h2
  refine lv_lload_n hx hb d_law_216 rfl (lv_at hl 4 rfl) ?_
  refine qx_callA (va_runS (As := [.long aa]) (rest := [.long g1, .ref x]) ⟨hx, hb, hml, hown, hT⟩ (c_lOf l aa) (va_cwS 1 hT (gi_S hTB tb_202 tb_203 tb_0 tb_204) rfl rfl rfl ⟨by decide, by decide, by decide +kernel⟩ ⟨Nat.le_of_ble_eq_true rfl, Nat.le_of_ble_eq_true rfl⟩) ⟨fun _ _ _ _ q => q, fun _ _ _ => ⟨rfl, trivial⟩⟩ rfl rfl hl.1 rfl (lv_room (Nat.le_of_ble_eq_true rfl)) d_law_217 ⟨by omega, by omega⟩) (fun q1 f1 H hf1 hQ1 hq1 hE1 => ?_)
  have hE := hE.trans hE1
  have hO := hO.ext hE1
  refine lv_lload hx hb d_law_220 (lv_at hl 2 rfl) ?_
  refine qx_callA (va_runS (As := [.long bb]) (rest := [.ref q1, .long g1, .ref x]) ⟨hx, hb, hml, hown, hT⟩ (c_lOf l bb) (va_cwS 1 hT (gi_S hTB tb_202 tb_203 tb_0 tb_204) rfl rfl rfl ⟨by decide, by decide, by decide +kernel⟩ ⟨Nat.le_of_ble_eq_true rfl, Nat.le_of_ble_eq_true rfl⟩) ⟨fun _ _ _ _ q => q, fun _ _ _ => ⟨rfl, trivial⟩⟩ rfl rfl hl.1 rfl (lv_room (Nat.le_of_ble_eq_true rfl)) d_law_222 ⟨by omega, by omega⟩) (fun q2 f2 H hf2 hQ2 hq2 hE2 => ?_)
  have hE := hE.trans hE2
  have hO := hO.ext hE2
  have hQ1 := hQ1.ext hE2
  refine qx_callA (va_runS (As := [.ref q1, .ref q2]) (rest := [.long g1, .ref x]) ⟨hx, hb, hml, hown, hT⟩ (c_lPlus l q1 q2 f1 f2 _ _ hf1 hf2) (va_cwS 2 hT (gi_S hTB tb_206 tb_207 tb_0 tb_208) rfl rfl rfl ⟨by decide, by decide, by decide +kernel⟩ ⟨Nat.le_of_ble_eq_true rfl, Nat.le_of_ble_eq_true rfl⟩) ⟨fun _ U g mk q => ⟨q.1, q.2.1.moved (Vm.Alike.refl _), q.2.2.moved (Vm.Alike.refl _)⟩, fun U hU hW => ⟨rfl, by rw [hU]; exact hQ1.moved hW.alike, by rw [hU]; exact hQ2.moved hW.alike⟩⟩ rfl rfl hl.1 rfl (lv_room (Nat.le_of_ble_eq_true rfl)) d_law_225 ⟨by omega, by omega⟩) (fun q3 f3 H hf3 hQ3 hq3 hE3 => ?_)
  have hE := hE.trans hE3
  have hO := hO.ext hE3
  have hQ1 := hQ1.ext hE3
  have hQ2 := hQ2.ext hE3
  have hz : -170141183460469231731687303715884105728 ≤ aa.toInt + bb.toInt ∧ aa.toInt + bb.toInt < 170141183460469231731687303715884105728 := by have r1 := rj aa; have r2 := rj bb; omega
  refine qx_callI (va_runS (As := [.ref x, .long g1, .ref q3]) (rest := []) ⟨hx, hb, hml, hown, hT⟩ (c_lTold l D x q3 g1 ov f3 (aa.toInt + bb.toInt) hz hf3 (tm_addJ eg1)) (va_cwS 3 hT (gi_S hTB tb_222 tb_223 tb_0 tb_224) rfl rfl rfl ⟨by decide, by decide, by decide +kernel⟩ ⟨Nat.le_of_ble_eq_true rfl, Nat.le_of_ble_eq_true rfl⟩) ⟨fun _ U g mk q => ⟨q.1, q.2.1.moved (Vm.Alike.refl _), q.2.2.moved (Vm.Alike.refl _)⟩, fun U hU hW => ⟨rfl, by rw [hU]; exact hO.moved hW.alike, by rw [hU]; exact hQ3.moved hW.alike⟩⟩ rfl rfl hl.1 rfl (lv_room (Nat.le_of_ble_eq_true rfl)) d_law_228 ⟨by omega, by omega⟩) (fun t1 et1 => ?_)
  refine lv_if_eq (tgt := 256) hx hb d_law_231 (by decide) (fun h1 => ?_) (fun h1 => ?_)
  · exfalso; rw [et1] at h1; exact absurd h1 (by decide)
  · refine lv_aload_n hx hb d_law_234 rfl (lv_at hl 5 rfl) ?_
    refine lv_aload_n hx hb d_law_235 rfl (lv_at hl 5 rfl) ?_
    refine lv_iload hx hb d_law_236 (lv_at hl 1 rfl) ?_
    refine lv_iload hx hb d_law_238 (lv_at hl 0 rfl) ?_
    refine qx_callMI (tx_runVW (C := "MathDrill") (b := x) (As := [.int ss, .int tt]) (rest := [.ref x]) ⟨hx, hb, hml, hown, hT⟩ (c_dAddI l hfl D x _ ss tt) rfl rfl (Nat.le_of_ble_eq_true rfl) (Nat.le_of_ble_eq_true rfl) (gi_pay hT tb_22) List.mem_cons_self (hT _ tb_19) (hT _ tb_20) (hT _ tb_21) (hT _ tb_22) (hT _ tb_1) ⟨by decide, by decide, (show (parseMethodDescriptor y_dAddI.desc).map (fun d => d.parameters.length) = some 2 by decide +kernel)⟩ ⟨fun _ U g mk q => ⟨q.1, q.2.1.moved (Vm.Alike.refl _), q.2.2.calling⟩, hO.recv, fun U hU hW => ⟨rfl, by rw [hU]; exact hO.moved hW.alike, hth.moved hW (by rw [hU]; exact ax_St hE)⟩⟩ rfl hl.1 rfl (lv_room (Nat.le_of_ble_eq_true rfl)) d_law_240 ⟨by omega, by omega⟩) hn (fun g2 ov H eg2 hO h1 h2 => ?_)
    have hE := ox_E hE hn h1 h2
    refine lv_iload hx hb d_law_243 (lv_at hl 1 rfl) ?_
    refine lv_i2l hx hb d_law_245 rfl ?_
    refine lv_iload hx hb d_law_246 (lv_at hl 0 rfl) ?_
    refine lv_i2l hx hb d_law_248 rfl ?_
    refine lv_ladd hx hb d_law_249 ?_
    refine qx_callI (va_runS (As := [.ref x, .int g2, .long ((ss.toInt64) + (tt.toInt64))]) (rest := []) ⟨hx, hb, hml, hown, hT⟩ (c_lTolI l D x g2 ov ((ss.toInt64) + (tt.toInt64)) (tm_addI eg2)) (va_cwS 3 hT (gi_S hTB tb_232 tb_233 tb_0 tb_234) rfl rfl rfl ⟨by decide, by decide, by decide +kernel⟩ ⟨Nat.le_of_ble_eq_true rfl, Nat.le_of_ble_eq_true rfl⟩) ⟨fun _ U g mk q => ⟨q.1, q.2.moved (Vm.Alike.refl _)⟩, fun U hU hW => ⟨rfl, by dsimp only; rw [hU]; exact hO.moved hW.alike⟩⟩ rfl rfl hl.1 rfl (lv_room (Nat.le_of_ble_eq_true rfl)) d_law_250 ⟨by omega, by omega⟩) (fun t2 et2 => ?_)
    refine lv_if_ne (tgt := 662) hx hb d_law_253 (by decide) (fun h2 => ?_) (fun h2 => ?_)
    · have hl := lv_sub hl [2, 3, 5, 6] rfl
      refine W.widen (k := cells + 20) (n := slots + 80) (by omega) (by omega) ?_
      exact k _ _ _ hE hO hl
    · exfalso; rw [et2] at h2; exact absurd h2 (by decide)
set_option maxHeartbeats 4000000 in
set_option maxRecDepth 100000 in
theorem k_258 {p : Program} {l : Launch} {e : Env} {s : State} {m : MethodId} {args : Array Value} {below : List Frame} {meth : Method} {c : Code} {H : Heap} {cells slots : Nat} {Q : State → Prop} (hfl : l.flags = pinnedFlags ++ [noTraceFlag]) (hx : p.tables.exec = Jvm.exec) (hb : c.code = code) (hml : c.maxLocals = 17) (hT : ∀ w ∈ TB, w.before args s = true) (hown : s.vm.findClass "MathDrillLaw" = some m.cls) (hth : tx_T s) {D : va_G} {x sc : Nat} (hn : s.heap.size ≤ x) {ov ss tt ii : Int32} {aa bb : Int64} {ls : Array Slot} (hl : lv_has ls 17 [(11, .int tt), (10, .int ss), (8, .long bb), (4, .int ii), (2, .long aa), (1, .ref x), (0, .ref sc)]) (hE : ax_X s.heap H) (hO : ox_O D s H x ov) (hc : cells + 20 ≤ room_1.cells) (hs : slots + 80 ≤ room_1.slots)
    (k : ∀ (H : Heap) (ov : Int32) (ls : Array Slot), ax_X s.heap H → ox_O D s H x ov → lv_has ls 17 [(8, .long bb), (4, .int ii), (1, .ref x), (0, .ref sc)] → W p l e room_1 s m args below meth c H [] (cells + 20) (slots + 80) Q (F0 m 662 ls [])) : W p l e room_1 s m args below meth c H [] cells slots Q (F0 m 258 ls []) := by
  have hTB : ∀ w ∈ TB, w ∈ TB := fun _ h => h
  refine lv_aload_n hx hb d_law_258 rfl (lv_at hl 5 rfl) ?_
  refine lv_aload_n hx hb d_law_259 rfl (lv_at hl 5 rfl) ?_
  refine lv_lload_n hx hb d_law_260 rfl (lv_at hl 4 rfl) ?_
  refine lv_lload hx hb d_law_261 (lv_at hl 2 rfl) ?_
  refine qx_callMJ (tx_runVW (C := "MathDrill") (b := x) (As := [.long aa, .long bb]) (rest := [.ref x]) ⟨hx, hb, hml, hown, hT⟩ (c_dSubJ l hfl D x _ aa bb) rfl rfl (Nat.le_of_ble_eq_true rfl) (Nat.le_of_ble_eq_true rfl) (gi_pay hT tb_111) List.mem_cons_self (hT _ tb_108) (hT _ tb_109) (hT _ tb_110) (hT _ tb_111) (hT _ tb_1) ⟨by decide, by decide, (show (parseMethodDescriptor y_dSubJ.desc).map (fun d => d.parameters.length) = some 2 by decide +kernel)⟩ ⟨fun _ U g mk q => ⟨q.1, q.2.1.moved (Vm.Alike.refl _), q.2.2.calling⟩, hO.recv, fun U hU hW => ⟨rfl, by rw [hU]; exact hO.moved hW.alike, hth.moved hW (by rw [hU]; exact ax_St hE)⟩⟩ rfl hl.1 rfl (lv_room (Nat.le_of_ble_eq_true rfl)) d_law_263 ⟨by omega, by omega⟩) hn (fun g1 ov H eg1 hO h1 h2 => ?_)
  have hE := ox_E hE hn h1 h2
  refine lv_lload_n hx hb d_law_266 rfl (lv_at hl 4 rfl) ?_
  refine qx_callA (va_runS (As := [.long aa]) (rest := [.long g1, .ref x]) ⟨hx, hb, hml, hown, hT⟩ (c_lOf l aa) (va_cwS 1 hT (gi_S hTB tb_202 tb_203 tb_0 tb_204) rfl rfl rfl ⟨by decide, by decide, by decide +kernel⟩ ⟨Nat.le_of_ble_eq_true rfl, Nat.le_of_ble_eq_true rfl⟩) ⟨fun _ _ _ _ q => q, fun _ _ _ => ⟨rfl, trivial⟩⟩ rfl rfl hl.1 rfl (lv_room (Nat.le_of_ble_eq_true rfl)) d_law_267 ⟨by omega, by omega⟩) (fun q1 f1 H hf1 hQ1 hq1 hE1 => ?_)
  have hE := hE.trans hE1
  have hO := hO.ext hE1
  refine lv_lload hx hb d_law_270 (lv_at hl 2 rfl) ?_
  refine qx_callA (va_runS (As := [.long bb]) (rest := [.ref q1, .long g1, .ref x]) ⟨hx, hb, hml, hown, hT⟩ (c_lOf l bb) (va_cwS 1 hT (gi_S hTB tb_202 tb_203 tb_0 tb_204) rfl rfl rfl ⟨by decide, by decide, by decide +kernel⟩ ⟨Nat.le_of_ble_eq_true rfl, Nat.le_of_ble_eq_true rfl⟩) ⟨fun _ _ _ _ q => q, fun _ _ _ => ⟨rfl, trivial⟩⟩ rfl rfl hl.1 rfl (lv_room (Nat.le_of_ble_eq_true rfl)) d_law_272 ⟨by omega, by omega⟩) (fun q2 f2 H hf2 hQ2 hq2 hE2 => ?_)
  have hE := hE.trans hE2
  have hO := hO.ext hE2
  have hQ1 := hQ1.ext hE2
  refine qx_callA (va_runS (As := [.ref q2]) (rest := [.ref q1, .long g1, .ref x]) ⟨hx, hb, hml, hown, hT⟩ (c_lMin l q2 f2 _ hf2) (va_cwS 1 hT (gi_S hTB tb_210 tb_211 tb_0 tb_212) rfl rfl rfl ⟨by decide, by decide, by decide +kernel⟩ ⟨Nat.le_of_ble_eq_true rfl, Nat.le_of_ble_eq_true rfl⟩) ⟨fun _ U g mk q => ⟨q.1, q.2.moved (Vm.Alike.refl _)⟩, fun U hU hW => ⟨rfl, by dsimp only; rw [hU]; exact hQ2.moved hW.alike⟩⟩ rfl rfl hl.1 rfl (lv_room (Nat.le_of_ble_eq_true rfl)) d_law_275 ⟨by omega, by omega⟩) (fun q3 f3 H hf3 hQ3 hq3 hE3 => ?_)
  have hE := hE.trans hE3
  have hO := hO.ext hE3
  have hQ1 := hQ1.ext hE3
  have hQ2 := hQ2.ext hE3
  refine qx_callA (va_runS (As := [.ref q1, .ref q3]) (rest := [.long g1, .ref x]) ⟨hx, hb, hml, hown, hT⟩ (c_lPlus l q1 q3 f1 f3 _ _ hf1 hf3) (va_cwS 2 hT (gi_S hTB tb_206 tb_207 tb_0 tb_208) rfl rfl rfl ⟨by decide, by decide, by decide +kernel⟩ ⟨Nat.le_of_ble_eq_true rfl, Nat.le_of_ble_eq_true rfl⟩) ⟨fun _ U g mk q => ⟨q.1, q.2.1.moved (Vm.Alike.refl _), q.2.2.moved (Vm.Alike.refl _)⟩, fun U hU hW => ⟨rfl, by rw [hU]; exact hQ1.moved hW.alike, by rw [hU]; exact hQ3.moved hW.alike⟩⟩ rfl rfl hl.1 rfl (lv_room (Nat.le_of_ble_eq_true rfl)) d_law_278 ⟨by omega, by omega⟩) (fun q4 f4 H hf4 hQ4 hq4 hE4 => ?_)
  have hE := hE.trans hE4
  have hO := hO.ext hE4
  have hQ1 := hQ1.ext hE4
  have hQ2 := hQ2.ext hE4
  have hQ3 := hQ3.ext hE4
  have hz : -170141183460469231731687303715884105728 ≤ aa.toInt - bb.toInt ∧ aa.toInt - bb.toInt < 170141183460469231731687303715884105728 := by have r1 := rj aa; have r2 := rj bb; omega
  refine qx_callI (va_runS (As := [.ref x, .long g1, .ref q4]) (rest := []) ⟨hx, hb, hml, hown, hT⟩ (c_lTold l D x q4 g1 ov f4 (aa.toInt - bb.toInt) hz (by rw [Int.sub_eq_add_neg]; exact hf4) (tm_subJ eg1)) (va_cwS 3 hT (gi_S hTB tb_222 tb_223 tb_0 tb_224) rfl rfl rfl ⟨by decide, by decide, by decide +kernel⟩ ⟨Nat.le_of_ble_eq_true rfl, Nat.le_of_ble_eq_true rfl⟩) ⟨fun _ U g mk q => ⟨q.1, q.2.1.moved (Vm.Alike.refl _), q.2.2.moved (Vm.Alike.refl _)⟩, fun U hU hW => ⟨rfl, by rw [hU]; exact hO.moved hW.alike, by rw [hU]; exact hQ4.moved hW.alike⟩⟩ rfl rfl hl.1 rfl (lv_room (Nat.le_of_ble_eq_true rfl)) d_law_281 ⟨by omega, by omega⟩) (fun t1 et1 => ?_)
  refine lv_if_eq (tgt := 309) hx hb d_law_284 (by decide) (fun h1 => ?_) (fun h1 => ?_)
  · exfalso; rw [et1] at h1; exact absurd h1 (by decide)
  · refine lv_aload_n hx hb d_law_287 rfl (lv_at hl 5 rfl) ?_
    refine lv_aload_n hx hb d_law_288 rfl (lv_at hl 5 rfl) ?_
    refine lv_iload hx hb d_law_289 (lv_at hl 1 rfl) ?_
    refine lv_iload hx hb d_law_291 (lv_at hl 0 rfl) ?_
    refine qx_callMI (tx_runVW (C := "MathDrill") (b := x) (As := [.int ss, .int tt]) (rest := [.ref x]) ⟨hx, hb, hml, hown, hT⟩ (c_dSubI l hfl D x _ ss tt) rfl rfl (Nat.le_of_ble_eq_true rfl) (Nat.le_of_ble_eq_true rfl) (gi_pay hT tb_104) List.mem_cons_self (hT _ tb_101) (hT _ tb_102) (hT _ tb_103) (hT _ tb_104) (hT _ tb_1) ⟨by decide, by decide, (show (parseMethodDescriptor y_dSubI.desc).map (fun d => d.parameters.length) = some 2 by decide +kernel)⟩ ⟨fun _ U g mk q => ⟨q.1, q.2.1.moved (Vm.Alike.refl _), q.2.2.calling⟩, hO.recv, fun U hU hW => ⟨rfl, by rw [hU]; exact hO.moved hW.alike, hth.moved hW (by rw [hU]; exact ax_St hE)⟩⟩ rfl hl.1 rfl (lv_room (Nat.le_of_ble_eq_true rfl)) d_law_293 ⟨by omega, by omega⟩) hn (fun g2 ov H eg2 hO h1 h2 => ?_)
    have hE := ox_E hE hn h1 h2
    refine lv_iload hx hb d_law_296 (lv_at hl 1 rfl) ?_
    refine lv_i2l hx hb d_law_298 rfl ?_
    refine lv_iload hx hb d_law_299 (lv_at hl 0 rfl) ?_
    refine lv_i2l hx hb d_law_301 rfl ?_
    refine lv_lsub hx hb d_law_302 ?_
    refine qx_callI (va_runS (As := [.ref x, .int g2, .long ((ss.toInt64) - (tt.toInt64))]) (rest := []) ⟨hx, hb, hml, hown, hT⟩ (c_lTolI l D x g2 ov ((ss.toInt64) - (tt.toInt64)) (tm_subI eg2)) (va_cwS 3 hT (gi_S hTB tb_232 tb_233 tb_0 tb_234) rfl rfl rfl ⟨by decide, by decide, by decide +kernel⟩ ⟨Nat.le_of_ble_eq_true rfl, Nat.le_of_ble_eq_true rfl⟩) ⟨fun _ U g mk q => ⟨q.1, q.2.moved (Vm.Alike.refl _)⟩, fun U hU hW => ⟨rfl, by dsimp only; rw [hU]; exact hO.moved hW.alike⟩⟩ rfl rfl hl.1 rfl (lv_room (Nat.le_of_ble_eq_true rfl)) d_law_303 ⟨by omega, by omega⟩) (fun t2 et2 => ?_)
    refine lv_if_ne (tgt := 662) hx hb d_law_306 (by decide) (fun h2 => ?_) (fun h2 => ?_)
    · have hl := lv_sub hl [2, 3, 5, 6] rfl
      refine W.widen (k := cells + 20) (n := slots + 80) (by omega) (by omega) ?_
      exact k _ _ _ hE hO hl
    · exfalso; rw [et2] at h2; exact absurd h2 (by decide)
set_option maxHeartbeats 4000000 in
set_option maxRecDepth 100000 in
theorem k_311 {p : Program} {l : Launch} {e : Env} {s : State} {m : MethodId} {args : Array Value} {below : List Frame} {meth : Method} {c : Code} {H : Heap} {cells slots : Nat} {Q : State → Prop} (hfl : l.flags = pinnedFlags ++ [noTraceFlag]) (hx : p.tables.exec = Jvm.exec) (hb : c.code = code) (hml : c.maxLocals = 17) (hT : ∀ w ∈ TB, w.before args s = true) (hown : s.vm.findClass "MathDrillLaw" = some m.cls) (hth : tx_T s) {D : va_G} {x sc : Nat} (hn : s.heap.size ≤ x) {ov ss tt ii : Int32} {aa bb : Int64} {ls : Array Slot} (hl : lv_has ls 17 [(11, .int tt), (10, .int ss), (8, .long bb), (4, .int ii), (2, .long aa), (1, .ref x), (0, .ref sc)]) (hE : ax_X s.heap H) (hO : ox_O D s H x ov) (hc : cells + 20 ≤ room_1.cells) (hs : slots + 80 ≤ room_1.slots)
    (k : ∀ (H : Heap) (ov : Int32) (ls : Array Slot), ax_X s.heap H → ox_O D s H x ov → lv_has ls 17 [(8, .long bb), (4, .int ii), (1, .ref x), (0, .ref sc)] → W p l e room_1 s m args below meth c H [] (cells + 20) (slots + 80) Q (F0 m 662 ls [])) : W p l e room_1 s m args below meth c H [] cells slots Q (F0 m 311 ls []) := by
  have hTB : ∀ w ∈ TB, w ∈ TB := fun _ h => h
  refine lv_aload_n hx hb d_law_311 rfl (lv_at hl 5 rfl) ?_
  refine lv_aload_n hx hb d_law_312 rfl (lv_at hl 5 rfl) ?_
  refine lv_lload_n hx hb d_law_313 rfl (lv_at hl 4 rfl) ?_
  refine lv_lload hx hb d_law_314 (lv_at hl 2 rfl) ?_
  refine qx_callMJ (tx_runVW (C := "MathDrill") (b := x) (As := [.long aa, .long bb]) (rest := [.ref x]) ⟨hx, hb, hml, hown, hT⟩ (c_dMulJ l hfl D x _ aa bb) rfl rfl (Nat.le_of_ble_eq_true rfl) (Nat.le_of_ble_eq_true rfl) (gi_pay hT tb_125) List.mem_cons_self (hT _ tb_122) (hT _ tb_123) (hT _ tb_124) (hT _ tb_125) (hT _ tb_1) ⟨by decide, by decide, (show (parseMethodDescriptor y_dMulJ.desc).map (fun d => d.parameters.length) = some 2 by decide +kernel)⟩ ⟨fun _ U g mk q => ⟨q.1, q.2.1.moved (Vm.Alike.refl _), q.2.2.calling⟩, hO.recv, fun U hU hW => ⟨rfl, by rw [hU]; exact hO.moved hW.alike, hth.moved hW (by rw [hU]; exact ax_St hE)⟩⟩ rfl hl.1 rfl (lv_room (Nat.le_of_ble_eq_true rfl)) d_law_316 ⟨by omega, by omega⟩) hn (fun g1 ov H eg1 hO h1 h2 => ?_)
  have hE := ox_E hE hn h1 h2
  refine lv_lload_n hx hb d_law_319 rfl (lv_at hl 4 rfl) ?_
  refine qx_callA (va_runS (As := [.long aa]) (rest := [.long g1, .ref x]) ⟨hx, hb, hml, hown, hT⟩ (c_lOf l aa) (va_cwS 1 hT (gi_S hTB tb_202 tb_203 tb_0 tb_204) rfl rfl rfl ⟨by decide, by decide, by decide +kernel⟩ ⟨Nat.le_of_ble_eq_true rfl, Nat.le_of_ble_eq_true rfl⟩) ⟨fun _ _ _ _ q => q, fun _ _ _ => ⟨rfl, trivial⟩⟩ rfl rfl hl.1 rfl (lv_room (Nat.le_of_ble_eq_true rfl)) d_law_320 ⟨by omega, by omega⟩) (fun q1 f1 H hf1 hQ1 hq1 hE1 => ?_)
  have hE := hE.trans hE1
  have hO := hO.ext hE1
  refine lv_lload hx hb d_law_323 (lv_at hl 2 rfl) ?_
  refine qx_callA (va_runS (As := [.long bb]) (rest := [.ref q1, .long g1, .ref x]) ⟨hx, hb, hml, hown, hT⟩ (c_lOf l bb) (va_cwS 1 hT (gi_S hTB tb_202 tb_203 tb_0 tb_204) rfl rfl rfl ⟨by decide, by decide, by decide +kernel⟩ ⟨Nat.le_of_ble_eq_true rfl, Nat.le_of_ble_eq_true rfl⟩) ⟨fun _ _ _ _ q => q, fun _ _ _ => ⟨rfl, trivial⟩⟩ rfl rfl hl.1 rfl (lv_room (Nat.le_of_ble_eq_true rfl)) d_law_325 ⟨by omega, by omega⟩) (fun q2 f2 H hf2 hQ2 hq2 hE2 => ?_)
  have hE := hE.trans hE2
  have hO := hO.ext hE2
  have hQ1 := hQ1.ext hE2
  refine qx_callA (va_runS (As := [.ref q1, .ref q2]) (rest := [.long g1, .ref x]) ⟨hx, hb, hml, hown, hT⟩ (c_lTim l q1 q2 f1 f2 _ _ hf1 hf2) (va_cwS 2 hT (gi_S hTB tb_213 tb_214 tb_0 tb_215) rfl rfl rfl ⟨by decide, by decide, by decide +kernel⟩ ⟨Nat.le_of_ble_eq_true rfl, Nat.le_of_ble_eq_true rfl⟩) ⟨fun _ U g mk q => ⟨q.1, q.2.1.moved (Vm.Alike.refl _), q.2.2.moved (Vm.Alike.refl _)⟩, fun U hU hW => ⟨rfl, by rw [hU]; exact hQ1.moved hW.alike, by rw [hU]; exact hQ2.moved hW.alike⟩⟩ rfl rfl hl.1 rfl (lv_room (Nat.le_of_ble_eq_true rfl)) d_law_328 ⟨by omega, by omega⟩) (fun q3 f3 H hf3 hQ3 hq3 hE3 => ?_)
  have hE := hE.trans hE3
  have hO := hO.ext hE3
  have hQ1 := hQ1.ext hE3
  have hQ2 := hQ2.ext hE3
  have hz : -170141183460469231731687303715884105728 ≤ aa.toInt * bb.toInt ∧ aa.toInt * bb.toInt < 170141183460469231731687303715884105728 := by have r1 := pl_prod aa bb; omega
  refine qx_callI (va_runS (As := [.ref x, .long g1, .ref q3]) (rest := []) ⟨hx, hb, hml, hown, hT⟩ (c_lTold l D x q3 g1 ov f3 (aa.toInt * bb.toInt) hz hf3 (tm_mulJ eg1)) (va_cwS 3 hT (gi_S hTB tb_222 tb_223 tb_0 tb_224) rfl rfl rfl ⟨by decide, by decide, by decide +kernel⟩ ⟨Nat.le_of_ble_eq_true rfl, Nat.le_of_ble_eq_true rfl⟩) ⟨fun _ U g mk q => ⟨q.1, q.2.1.moved (Vm.Alike.refl _), q.2.2.moved (Vm.Alike.refl _)⟩, fun U hU hW => ⟨rfl, by rw [hU]; exact hO.moved hW.alike, by rw [hU]; exact hQ3.moved hW.alike⟩⟩ rfl rfl hl.1 rfl (lv_room (Nat.le_of_ble_eq_true rfl)) d_law_331 ⟨by omega, by omega⟩) (fun t1 et1 => ?_)
  refine lv_if_eq (tgt := 359) hx hb d_law_334 (by decide) (fun h1 => ?_) (fun h1 => ?_)
  · exfalso; rw [et1] at h1; exact absurd h1 (by decide)
  · refine lv_aload_n hx hb d_law_337 rfl (lv_at hl 5 rfl) ?_
    refine lv_aload_n hx hb d_law_338 rfl (lv_at hl 5 rfl) ?_
    refine lv_iload hx hb d_law_339 (lv_at hl 1 rfl) ?_
    refine lv_iload hx hb d_law_341 (lv_at hl 0 rfl) ?_
    refine qx_callMI (tx_runVW (C := "MathDrill") (b := x) (As := [.int ss, .int tt]) (rest := [.ref x]) ⟨hx, hb, hml, hown, hT⟩ (c_dMulI l hfl D x _ ss tt) rfl rfl (Nat.le_of_ble_eq_true rfl) (Nat.le_of_ble_eq_true rfl) (gi_pay hT tb_118) List.mem_cons_self (hT _ tb_115) (hT _ tb_116) (hT _ tb_117) (hT _ tb_118) (hT _ tb_1) ⟨by decide, by decide, (show (parseMethodDescriptor y_dMulI.desc).map (fun d => d.parameters.length) = some 2 by decide +kernel)⟩ ⟨fun _ U g mk q => ⟨q.1, q.2.1.moved (Vm.Alike.refl _), q.2.2.calling⟩, hO.recv, fun U hU hW => ⟨rfl, by rw [hU]; exact hO.moved hW.alike, hth.moved hW (by rw [hU]; exact ax_St hE)⟩⟩ rfl hl.1 rfl (lv_room (Nat.le_of_ble_eq_true rfl)) d_law_343 ⟨by omega, by omega⟩) hn (fun g2 ov H eg2 hO h1 h2 => ?_)
    have hE := ox_E hE hn h1 h2
    refine lv_iload hx hb d_law_346 (lv_at hl 1 rfl) ?_
    refine lv_i2l hx hb d_law_348 rfl ?_
    refine lv_iload hx hb d_law_349 (lv_at hl 0 rfl) ?_
    refine lv_i2l hx hb d_law_351 rfl ?_
    refine lv_lmul hx hb d_law_352 ?_
    refine qx_callI (va_runS (As := [.ref x, .int g2, .long ((ss.toInt64) * (tt.toInt64))]) (rest := []) ⟨hx, hb, hml, hown, hT⟩ (c_lTolI l D x g2 ov ((ss.toInt64) * (tt.toInt64)) (tm_mulI eg2)) (va_cwS 3 hT (gi_S hTB tb_232 tb_233 tb_0 tb_234) rfl rfl rfl ⟨by decide, by decide, by decide +kernel⟩ ⟨Nat.le_of_ble_eq_true rfl, Nat.le_of_ble_eq_true rfl⟩) ⟨fun _ U g mk q => ⟨q.1, q.2.moved (Vm.Alike.refl _)⟩, fun U hU hW => ⟨rfl, by dsimp only; rw [hU]; exact hO.moved hW.alike⟩⟩ rfl rfl hl.1 rfl (lv_room (Nat.le_of_ble_eq_true rfl)) d_law_353 ⟨by omega, by omega⟩) (fun t2 et2 => ?_)
    refine lv_if_ne (tgt := 662) hx hb d_law_356 (by decide) (fun h2 => ?_) (fun h2 => ?_)
    · have hl := lv_sub hl [2, 3, 5, 6] rfl
      refine W.widen (k := cells + 20) (n := slots + 80) (by omega) (by omega) ?_
      exact k _ _ _ hE hO hl
    · exfalso; rw [et2] at h2; exact absurd h2 (by decide)
set_option maxHeartbeats 4000000 in
set_option maxRecDepth 100000 in
theorem k_361 {p : Program} {l : Launch} {e : Env} {s : State} {m : MethodId} {args : Array Value} {below : List Frame} {meth : Method} {c : Code} {H : Heap} {cells slots : Nat} {Q : State → Prop} (hfl : l.flags = pinnedFlags ++ [noTraceFlag]) (hx : p.tables.exec = Jvm.exec) (hb : c.code = code) (hml : c.maxLocals = 17) (hT : ∀ w ∈ TB, w.before args s = true) (hown : s.vm.findClass "MathDrillLaw" = some m.cls) (hth : tx_T s) {D : va_G} {x sc : Nat} (hn : s.heap.size ≤ x) {ov ss tt ii : Int32} {aa bb : Int64} {ls : Array Slot} (hl : lv_has ls 17 [(11, .int tt), (10, .int ss), (8, .long bb), (4, .int ii), (2, .long aa), (1, .ref x), (0, .ref sc)]) (hE : ax_X s.heap H) (hO : ox_O D s H x ov) (hc : cells + 20 ≤ room_1.cells) (hs : slots + 80 ≤ room_1.slots)
    (k : ∀ (H : Heap) (ov : Int32) (ls : Array Slot), ax_X s.heap H → ox_O D s H x ov → lv_has ls 17 [(8, .long bb), (4, .int ii), (1, .ref x), (0, .ref sc)] → W p l e room_1 s m args below meth c H [] (cells + 20) (slots + 80) Q (F0 m 662 ls [])) : W p l e room_1 s m args below meth c H [] cells slots Q (F0 m 361 ls []) := by
  have hTB : ∀ w ∈ TB, w ∈ TB := fun _ h => h
  refine lv_aload_n hx hb d_law_361 rfl (lv_at hl 5 rfl) ?_
  refine lv_aload_n hx hb d_law_362 rfl (lv_at hl 5 rfl) ?_
  refine lv_lload hx hb d_law_363 (lv_at hl 2 rfl) ?_
  refine qx_callMJ (tx_runVW (C := "MathDrill") (b := x) (As := [.long bb]) (rest := [.ref x]) ⟨hx, hb, hml, hown, hT⟩ (c_dNeg l hfl D x _ bb) rfl rfl (Nat.le_of_ble_eq_true rfl) (Nat.le_of_ble_eq_true rfl) (gi_pay hT tb_144) List.mem_cons_self (hT _ tb_141) (hT _ tb_142) (hT _ tb_143) (hT _ tb_144) (hT _ tb_1) ⟨by decide, by decide, (show (parseMethodDescriptor y_dNeg.desc).map (fun d => d.parameters.length) = some 1 by decide +kernel)⟩ ⟨fun _ U g mk q => ⟨q.1, q.2.1.moved (Vm.Alike.refl _), q.2.2.calling⟩, hO.recv, fun U hU hW => ⟨rfl, by rw [hU]; exact hO.moved hW.alike, hth.moved hW (by rw [hU]; exact ax_St hE)⟩⟩ rfl hl.1 rfl (lv_room (Nat.le_of_ble_eq_true rfl)) d_law_365 ⟨by omega, by omega⟩) hn (fun g1 ov H eg1 hO h1 h2 => ?_)
  have hE := ox_E hE hn h1 h2
  refine lv_lload hx hb d_law_368 (lv_at hl 2 rfl) ?_
  refine qx_callA (va_runS (As := [.long bb]) (rest := [.long g1, .ref x]) ⟨hx, hb, hml, hown, hT⟩ (c_lOf l bb) (va_cwS 1 hT (gi_S hTB tb_202 tb_203 tb_0 tb_204) rfl rfl rfl ⟨by decide, by decide, by decide +kernel⟩ ⟨Nat.le_of_ble_eq_true rfl, Nat.le_of_ble_eq_true rfl⟩) ⟨fun _ _ _ _ q => q, fun _ _ _ => ⟨rfl, trivial⟩⟩ rfl rfl hl.1 rfl (lv_room (Nat.le_of_ble_eq_true rfl)) d_law_370 ⟨by omega, by omega⟩) (fun q1 f1 H hf1 hQ1 hq1 hE1 => ?_)
  have hE := hE.trans hE1
  have hO := hO.ext hE1
  refine qx_callA (va_runS (As := [.ref q1]) (rest := [.long g1, .ref x]) ⟨hx, hb, hml, hown, hT⟩ (c_lMin l q1 f1 _ hf1) (va_cwS 1 hT (gi_S hTB tb_210 tb_211 tb_0 tb_212) rfl rfl rfl ⟨by decide, by decide, by decide +kernel⟩ ⟨Nat.le_of_ble_eq_true rfl, Nat.le_of_ble_eq_true rfl⟩) ⟨fun _ U g mk q => ⟨q.1, q.2.moved (Vm.Alike.refl _)⟩, fun U hU hW => ⟨rfl, by dsimp only; rw [hU]; exact hQ1.moved hW.alike⟩⟩ rfl rfl hl.1 rfl (lv_room (Nat.le_of_ble_eq_true rfl)) d_law_373 ⟨by omega, by omega⟩) (fun q2 f2 H hf2 hQ2 hq2 hE2 => ?_)
  have hE := hE.trans hE2
  have hO := hO.ext hE2
  have hQ1 := hQ1.ext hE2
  have hz : -170141183460469231731687303715884105728 ≤ -bb.toInt ∧ -bb.toInt < 170141183460469231731687303715884105728 := by have r2 := rj bb; omega
  refine qx_callI (va_runS (As := [.ref x, .long g1, .ref q2]) (rest := []) ⟨hx, hb, hml, hown, hT⟩ (c_lTold l D x q2 g1 ov f2 (-bb.toInt) hz hf2 (tm_neg eg1)) (va_cwS 3 hT (gi_S hTB tb_222 tb_223 tb_0 tb_224) rfl rfl rfl ⟨by decide, by decide, by decide +kernel⟩ ⟨Nat.le_of_ble_eq_true rfl, Nat.le_of_ble_eq_true rfl⟩) ⟨fun _ U g mk q => ⟨q.1, q.2.1.moved (Vm.Alike.refl _), q.2.2.moved (Vm.Alike.refl _)⟩, fun U hU hW => ⟨rfl, by rw [hU]; exact hO.moved hW.alike, by rw [hU]; exact hQ2.moved hW.alike⟩⟩ rfl rfl hl.1 rfl (lv_room (Nat.le_of_ble_eq_true rfl)) d_law_376 ⟨by omega, by omega⟩) (fun t1 et1 => ?_)
  refine lv_if_eq (tgt := 397) hx hb d_law_379 (by decide) (fun h1 => ?_) (fun h1 => ?_)
  · exfalso; rw [et1] at h1; exact absurd h1 (by decide)
  · refine lv_aload_n hx hb d_law_382 rfl (lv_at hl 5 rfl) ?_
    refine lv_aload_n hx hb d_law_383 rfl (lv_at hl 5 rfl) ?_
    refine lv_lload hx hb d_law_384 (lv_at hl 2 rfl) ?_
    refine qx_callMI (tx_runVW (C := "MathDrill") (b := x) (As := [.long bb]) (rest := [.ref x]) ⟨hx, hb, hml, hown, hT⟩ (c_dNar l hfl D x _ bb) rfl rfl (Nat.le_of_ble_eq_true rfl) (Nat.le_of_ble_eq_true rfl) (gi_pay hT tb_137) List.mem_cons_self (hT _ tb_134) (hT _ tb_135) (hT _ tb_136) (hT _ tb_137) (hT _ tb_1) ⟨by decide, by decide, (show (parseMethodDescriptor y_dNar.desc).map (fun d => d.parameters.length) = some 1 by decide +kernel)⟩ ⟨fun _ U g mk q => ⟨q.1, q.2.1.moved (Vm.Alike.refl _), q.2.2.calling⟩, hO.recv, fun U hU hW => ⟨rfl, by rw [hU]; exact hO.moved hW.alike, hth.moved hW (by rw [hU]; exact ax_St hE)⟩⟩ rfl hl.1 rfl (lv_room (Nat.le_of_ble_eq_true rfl)) d_law_386 ⟨by omega, by omega⟩) hn (fun g2 ov H eg2 hO h1 h2 => ?_)
    have hE := ox_E hE hn h1 h2
    refine lv_lload hx hb d_law_389 (lv_at hl 2 rfl) ?_
    refine qx_callI (va_runS (As := [.ref x, .int g2, .long bb]) (rest := []) ⟨hx, hb, hml, hown, hT⟩ (c_lTolI l D x g2 ov bb (tm_toI eg2)) (va_cwS 3 hT (gi_S hTB tb_232 tb_233 tb_0 tb_234) rfl rfl rfl ⟨by decide, by decide, by decide +kernel⟩ ⟨Nat.le_of_ble_eq_true rfl, Nat.le_of_ble_eq_true rfl⟩) ⟨fun _ U g mk q => ⟨q.1, q.2.moved (Vm.Alike.refl _)⟩, fun U hU hW => ⟨rfl, by dsimp only; rw [hU]; exact hO.moved hW.alike⟩⟩ rfl rfl hl.1 rfl (lv_room (Nat.le_of_ble_eq_true rfl)) d_law_391 ⟨by omega, by omega⟩) (fun t2 et2 => ?_)
    refine lv_if_ne (tgt := 662) hx hb d_law_394 (by decide) (fun h2 => ?_) (fun h2 => ?_)
    · have hl := lv_sub hl [2, 3, 5, 6] rfl
      refine W.widen (k := cells + 20) (n := slots + 80) (by omega) (by omega) ?_
      exact k _ _ _ hE hO hl
    · exfalso; rw [et2] at h2; exact absurd h2 (by decide)
set_option maxHeartbeats 4000000 in
set_option maxRecDepth 100000 in
theorem k_431 {p : Program} {l : Launch} {e : Env} {s : State} {m : MethodId} {args : Array Value} {below : List Frame} {meth : Method} {c : Code} {H : Heap} {cells slots : Nat} {Q : State → Prop} (hfl : l.flags = pinnedFlags ++ [noTraceFlag]) (hx : p.tables.exec = Jvm.exec) (hb : c.code = code) (hml : c.maxLocals = 17) (hT : ∀ w ∈ TB, w.before args s = true) (hown : s.vm.findClass "MathDrillLaw" = some m.cls) (hth : tx_T s) {D : va_G} {x sc : Nat} (hn : s.heap.size ≤ x) {ov ss tt ii : Int32} {aa bb : Int64} {ls : Array Slot} (hl : lv_has ls 17 [(11, .int tt), (10, .int ss), (8, .long bb), (4, .int ii), (2, .long aa), (1, .ref x), (0, .ref sc)]) (hE : ax_X s.heap H) (hO : ox_O D s H x ov) (hc : cells + 5 ≤ room_1.cells) (hs : slots + 20 ≤ room_1.slots)
    (k : ∀ (H : Heap) (ov : Int32) (ls : Array Slot), ax_X s.heap H → ox_O D s H x ov → lv_has ls 17 [(8, .long bb), (4, .int ii), (1, .ref x), (0, .ref sc)] → W p l e room_1 s m args below meth c H [] (cells + 5) (slots + 20) Q (F0 m 662 ls [])) : W p l e room_1 s m args below meth c H [] cells slots Q (F0 m 431 ls []) := by
  have hTB : ∀ w ∈ TB, w ∈ TB := fun _ h => h
  refine lv_iload hx hb d_law_431 (lv_at hl 0 rfl) ?_
  refine lv_if_eq (tgt := 662) hx hb d_law_433 (by decide) (fun h1 => ?_) (fun h1 => ?_)
  · have hl := lv_sub hl [2, 3, 5, 6] rfl
    refine W.widen (k := cells + 5) (n := slots + 20) (by omega) (by omega) ?_
    exact k _ _ _ hE hO hl
  · refine lv_iload hx hb d_law_436 (lv_at hl 1 rfl) ?_
    refine lv_ldc (v := (-2147483648)) hx hb hown (hT _ tb_240) d_law_438 ?_
    refine lv_icmp_ne (tgt := 449) hx hb d_law_440 (by decide) (fun h2 => ?_) (fun h2 => ?_)
    · refine lv_aload_n hx hb d_law_449 rfl (lv_at hl 5 rfl) ?_
      refine lv_iload hx hb d_law_450 (lv_at hl 1 rfl) ?_
      refine lv_iload hx hb d_law_452 (lv_at hl 0 rfl) ?_
      refine qx_callI (va_runV (C := "MathDrill") (b := x) (As := [.int ss, .int tt]) (rest := []) ⟨hx, hb, hml, hown, hT⟩ (c_dQuoI l x ss tt h1) (cwV 2 hT (gi_V hTB tb_162 tb_163 tb_164 tb_1 tb_165) rfl rfl rfl ⟨rfl, by decide, by decide, by decide +kernel⟩ ⟨Nat.le_of_ble_eq_true rfl, Nat.le_of_ble_eq_true rfl⟩) ⟨fun _ _ _ _ q => q, hO.recv, fun _ _ _ => ⟨rfl, trivial⟩⟩ rfl rfl hl.1 rfl (lv_room (Nat.le_of_ble_eq_true rfl)) d_law_454 ⟨by omega, by omega⟩) (fun g1 eg1 => ?_)
      refine lv_i2l hx hb d_law_457 rfl ?_
      refine lv_aload_n hx hb d_law_458 rfl (lv_at hl 5 rfl) ?_
      refine lv_iload hx hb d_law_459 (lv_at hl 1 rfl) ?_
      refine lv_iload hx hb d_law_461 (lv_at hl 0 rfl) ?_
      refine qx_callI (va_runV (C := "MathDrill") (b := x) (As := [.int ss, .int tt]) (rest := [.long (g1.toInt64)]) ⟨hx, hb, hml, hown, hT⟩ (c_dResI l x ss tt h1) (cwV 2 hT (gi_V hTB tb_169 tb_170 tb_171 tb_1 tb_172) rfl rfl rfl ⟨rfl, by decide, by decide, by decide +kernel⟩ ⟨Nat.le_of_ble_eq_true rfl, Nat.le_of_ble_eq_true rfl⟩) ⟨fun _ _ _ _ q => q, hO.recv, fun _ _ _ => ⟨rfl, trivial⟩⟩ rfl rfl hl.1 rfl (lv_room (Nat.le_of_ble_eq_true rfl)) d_law_463 ⟨by omega, by omega⟩) (fun g2 eg2 => ?_)
      refine lv_i2l hx hb d_law_466 rfl ?_
      refine lv_iload hx hb d_law_467 (lv_at hl 1 rfl) ?_
      refine lv_i2l hx hb d_law_469 rfl ?_
      refine lv_iload hx hb d_law_470 (lv_at hl 0 rfl) ?_
      refine lv_i2l hx hb d_law_472 rfl ?_
      refine qx_callX (va_runS (As := [.long (g1.toInt64), .long (g2.toInt64), .long (ss.toInt64), .long (tt.toInt64)]) (rest := []) ⟨hx, hb, hml, hown, hT⟩ (c_lPart l (g1.toInt64) (g2.toInt64) (ss.toInt64) (tt.toInt64) (by rw [eg1, eg2]; exact pt_I h1 (fun q => h2 q.1))) (va_cwS 4 hT (gi_S hTB tb_235 tb_236 tb_0 tb_237) rfl rfl rfl ⟨by decide, by decide, by decide +kernel⟩ ⟨Nat.le_of_ble_eq_true rfl, Nat.le_of_ble_eq_true rfl⟩) ⟨fun _ _ _ _ q => q, fun _ _ _ => ⟨rfl, trivial⟩⟩ rfl rfl hl.1 rfl (lv_room (Nat.le_of_ble_eq_true rfl)) d_law_473 ⟨by omega, by omega⟩) (fun t1 H et1 hE1 => ?_)
      have hE := hE.trans hE1
      have hO := hO.ext hE1
      refine lv_if_ne (tgt := 662) hx hb d_law_476 (by decide) (fun h3 => ?_) (fun h3 => ?_)
      · have hl := lv_sub hl [2, 3, 5, 6] rfl
        refine W.widen (k := cells + 5) (n := slots + 20) (by omega) (by omega) ?_
        exact k _ _ _ hE hO hl
      · exfalso; rw [et1] at h3; exact absurd h3 (by decide)
    · refine lv_iload hx hb d_law_443 (lv_at hl 0 rfl) ?_
      refine lv_iconst (v := -1) hx hb d_law_445 (by decide) ?_
      refine lv_icmp_eq (tgt := 662) hx hb d_law_446 (by decide) (fun h4 => ?_) (fun h4 => ?_)
      · have hl := lv_sub hl [2, 3, 5, 6] rfl
        refine W.widen (k := cells + 5) (n := slots + 20) (by omega) (by omega) ?_
        exact k _ _ _ hE hO hl
      · refine lv_aload_n hx hb d_law_449 rfl (lv_at hl 5 rfl) ?_
        refine lv_iload hx hb d_law_450 (lv_at hl 1 rfl) ?_
        refine lv_iload hx hb d_law_452 (lv_at hl 0 rfl) ?_
        refine qx_callI (va_runV (C := "MathDrill") (b := x) (As := [.int ss, .int tt]) (rest := []) ⟨hx, hb, hml, hown, hT⟩ (c_dQuoI l x ss tt h1) (cwV 2 hT (gi_V hTB tb_162 tb_163 tb_164 tb_1 tb_165) rfl rfl rfl ⟨rfl, by decide, by decide, by decide +kernel⟩ ⟨Nat.le_of_ble_eq_true rfl, Nat.le_of_ble_eq_true rfl⟩) ⟨fun _ _ _ _ q => q, hO.recv, fun _ _ _ => ⟨rfl, trivial⟩⟩ rfl rfl hl.1 rfl (lv_room (Nat.le_of_ble_eq_true rfl)) d_law_454 ⟨by omega, by omega⟩) (fun g1 eg1 => ?_)
        refine lv_i2l hx hb d_law_457 rfl ?_
        refine lv_aload_n hx hb d_law_458 rfl (lv_at hl 5 rfl) ?_
        refine lv_iload hx hb d_law_459 (lv_at hl 1 rfl) ?_
        refine lv_iload hx hb d_law_461 (lv_at hl 0 rfl) ?_
        refine qx_callI (va_runV (C := "MathDrill") (b := x) (As := [.int ss, .int tt]) (rest := [.long (g1.toInt64)]) ⟨hx, hb, hml, hown, hT⟩ (c_dResI l x ss tt h1) (cwV 2 hT (gi_V hTB tb_169 tb_170 tb_171 tb_1 tb_172) rfl rfl rfl ⟨rfl, by decide, by decide, by decide +kernel⟩ ⟨Nat.le_of_ble_eq_true rfl, Nat.le_of_ble_eq_true rfl⟩) ⟨fun _ _ _ _ q => q, hO.recv, fun _ _ _ => ⟨rfl, trivial⟩⟩ rfl rfl hl.1 rfl (lv_room (Nat.le_of_ble_eq_true rfl)) d_law_463 ⟨by omega, by omega⟩) (fun g2 eg2 => ?_)
        refine lv_i2l hx hb d_law_466 rfl ?_
        refine lv_iload hx hb d_law_467 (lv_at hl 1 rfl) ?_
        refine lv_i2l hx hb d_law_469 rfl ?_
        refine lv_iload hx hb d_law_470 (lv_at hl 0 rfl) ?_
        refine lv_i2l hx hb d_law_472 rfl ?_
        refine qx_callX (va_runS (As := [.long (g1.toInt64), .long (g2.toInt64), .long (ss.toInt64), .long (tt.toInt64)]) (rest := []) ⟨hx, hb, hml, hown, hT⟩ (c_lPart l (g1.toInt64) (g2.toInt64) (ss.toInt64) (tt.toInt64) (by rw [eg1, eg2]; exact pt_I h1 (fun q => h4 q.2))) (va_cwS 4 hT (gi_S hTB tb_235 tb_236 tb_0 tb_237) rfl rfl rfl ⟨by decide, by decide, by decide +kernel⟩ ⟨Nat.le_of_ble_eq_true rfl, Nat.le_of_ble_eq_true rfl⟩) ⟨fun _ _ _ _ q => q, fun _ _ _ => ⟨rfl, trivial⟩⟩ rfl rfl hl.1 rfl (lv_room (Nat.le_of_ble_eq_true rfl)) d_law_473 ⟨by omega, by omega⟩) (fun t1 H et1 hE1 => ?_)
        have hE := hE.trans hE1
        have hO := hO.ext hE1
        refine lv_if_ne (tgt := 662) hx hb d_law_476 (by decide) (fun h5 => ?_) (fun h5 => ?_)
        · have hl := lv_sub hl [2, 3, 5, 6] rfl
          refine W.widen (k := cells + 5) (n := slots + 20) (by omega) (by omega) ?_
          exact k _ _ _ hE hO hl
        · exfalso; rw [et1] at h5; exact absurd h5 (by decide)
set_option maxHeartbeats 4000000 in
set_option maxRecDepth 100000 in
theorem k_399 {p : Program} {l : Launch} {e : Env} {s : State} {m : MethodId} {args : Array Value} {below : List Frame} {meth : Method} {c : Code} {H : Heap} {cells slots : Nat} {Q : State → Prop} (hfl : l.flags = pinnedFlags ++ [noTraceFlag]) (hx : p.tables.exec = Jvm.exec) (hb : c.code = code) (hml : c.maxLocals = 17) (hT : ∀ w ∈ TB, w.before args s = true) (hown : s.vm.findClass "MathDrillLaw" = some m.cls) (hth : tx_T s) {D : va_G} {x sc : Nat} (hn : s.heap.size ≤ x) {ov ss tt ii : Int32} {aa bb : Int64} {ls : Array Slot} (hl : lv_has ls 17 [(11, .int tt), (10, .int ss), (8, .long bb), (4, .int ii), (2, .long aa), (1, .ref x), (0, .ref sc)]) (hE : ax_X s.heap H) (hO : ox_O D s H x ov) (hc : cells + 20 ≤ room_1.cells) (hs : slots + 80 ≤ room_1.slots)
    (k : ∀ (H : Heap) (ov : Int32) (ls : Array Slot), ax_X s.heap H → ox_O D s H x ov → lv_has ls 17 [(8, .long bb), (4, .int ii), (1, .ref x), (0, .ref sc)] → W p l e room_1 s m args below meth c H [] (cells + 20) (slots + 80) Q (F0 m 662 ls [])) : W p l e room_1 s m args below meth c H [] cells slots Q (F0 m 399 ls []) := by
  have hTB : ∀ w ∈ TB, w ∈ TB := fun _ h => h
  refine lv_lload hx hb d_law_399 (lv_at hl 2 rfl) ?_
  refine lv_lconst (v := 0) hx hb d_law_401 (by decide) ?_
  refine W.lcmp hx hb d_law_402 ?_
  refine lv_if_eq (tgt := 431) hx hb d_law_403 (by decide) (fun h1 => ?_) (fun h1 => ?_)
  · rw [lg_cmp_eq] at h1
    refine W.widen (k := cells + 5) (n := slots + 20) (by omega) (by omega) ?_
    exact k_431 hfl hx hb hml hT hown hth hn hl hE hO (by omega) (by omega) (fun H ov ls hE hO hl => W.widen (by omega) (by omega) (k H ov ls hE hO hl))
  · rw [lg_cmp_eq] at h1
    refine lv_aload_n hx hb d_law_406 rfl (lv_at hl 5 rfl) ?_
    refine lv_lload_n hx hb d_law_407 rfl (lv_at hl 4 rfl) ?_
    refine lv_lload hx hb d_law_408 (lv_at hl 2 rfl) ?_
    refine qx_callL (va_runV (C := "MathDrill") (b := x) (As := [.long aa, .long bb]) (rest := []) ⟨hx, hb, hml, hown, hT⟩ (c_dQuoJ l x aa bb h1) (cwV 2 hT (gi_V hTB tb_148 tb_149 tb_150 tb_1 tb_151) rfl rfl rfl ⟨rfl, by decide, by decide, by decide +kernel⟩ ⟨Nat.le_of_ble_eq_true rfl, Nat.le_of_ble_eq_true rfl⟩) ⟨fun _ _ _ _ q => q, hO.recv, fun _ _ _ => ⟨rfl, trivial⟩⟩ rfl rfl hl.1 rfl (lv_room (Nat.le_of_ble_eq_true rfl)) d_law_410 ⟨by omega, by omega⟩) (fun g1 eg1 => ?_)
    refine lv_aload_n hx hb d_law_413 rfl (lv_at hl 5 rfl) ?_
    refine lv_lload_n hx hb d_law_414 rfl (lv_at hl 4 rfl) ?_
    refine lv_lload hx hb d_law_415 (lv_at hl 2 rfl) ?_
    refine qx_callL (va_runV (C := "MathDrill") (b := x) (As := [.long aa, .long bb]) (rest := [.long g1]) ⟨hx, hb, hml, hown, hT⟩ (c_dResJ l x aa bb h1) (cwV 2 hT (gi_V hTB tb_155 tb_156 tb_157 tb_1 tb_158) rfl rfl rfl ⟨rfl, by decide, by decide, by decide +kernel⟩ ⟨Nat.le_of_ble_eq_true rfl, Nat.le_of_ble_eq_true rfl⟩) ⟨fun _ _ _ _ q => q, hO.recv, fun _ _ _ => ⟨rfl, trivial⟩⟩ rfl rfl hl.1 rfl (lv_room (Nat.le_of_ble_eq_true rfl)) d_law_417 ⟨by omega, by omega⟩) (fun g2 eg2 => ?_)
    refine lv_lload_n hx hb d_law_420 rfl (lv_at hl 4 rfl) ?_
    refine lv_lload hx hb d_law_421 (lv_at hl 2 rfl) ?_
    refine qx_callX (va_runS (As := [.long g1, .long g2, .long aa, .long bb]) (rest := []) ⟨hx, hb, hml, hown, hT⟩ (c_lPart l g1 g2 aa bb (by rw [eg1, eg2]; exact pt_J h1)) (va_cwS 4 hT (gi_S hTB tb_235 tb_236 tb_0 tb_237) rfl rfl rfl ⟨by decide, by decide, by decide +kernel⟩ ⟨Nat.le_of_ble_eq_true rfl, Nat.le_of_ble_eq_true rfl⟩) ⟨fun _ _ _ _ q => q, fun _ _ _ => ⟨rfl, trivial⟩⟩ rfl rfl hl.1 rfl (lv_room (Nat.le_of_ble_eq_true rfl)) d_law_423 ⟨by omega, by omega⟩) (fun t1 H et1 hE1 => ?_)
    have hE := hE.trans hE1
    have hO := hO.ext hE1
    refine lv_if_ne (tgt := 431) hx hb d_law_426 (by decide) (fun h2 => ?_) (fun h2 => ?_)
    · refine W.widen (k := cells + 5) (n := slots + 20) (by omega) (by omega) ?_
      exact k_431 hfl hx hb hml hT hown hth hn hl hE hO (by omega) (by omega) (fun H ov ls hE hO hl => W.widen (by omega) (by omega) (k H ov ls hE hO hl))
    · exfalso; rw [et1] at h2; exact absurd h2 (by decide)
set_option maxHeartbeats 4000000 in
set_option maxRecDepth 100000 in
theorem k_481 {p : Program} {l : Launch} {e : Env} {s : State} {m : MethodId} {args : Array Value} {below : List Frame} {meth : Method} {c : Code} {H : Heap} {cells slots : Nat} {Q : State → Prop} (hfl : l.flags = pinnedFlags ++ [noTraceFlag]) (hx : p.tables.exec = Jvm.exec) (hb : c.code = code) (hml : c.maxLocals = 17) (hT : ∀ w ∈ TB, w.before args s = true) (hown : s.vm.findClass "MathDrillLaw" = some m.cls) (hth : tx_T s) {D : va_G} {x sc : Nat} (hn : s.heap.size ≤ x) {ov ss tt ii : Int32} {aa bb : Int64} {ls : Array Slot} (hl : lv_has ls 17 [(11, .int tt), (10, .int ss), (8, .long bb), (4, .int ii), (2, .long aa), (1, .ref x), (0, .ref sc)]) (hE : ax_X s.heap H) (hO : ox_O D s H x ov) (hc : cells + 20 ≤ room_1.cells) (hs : slots + 80 ≤ room_1.slots)
    (k : ∀ (H : Heap) (ov : Int32) (ls : Array Slot), ax_X s.heap H → ox_O D s H x ov → lv_has ls 17 [(8, .long bb), (4, .int ii), (1, .ref x), (0, .ref sc)] → W p l e room_1 s m args below meth c H [] (cells + 20) (slots + 80) Q (F0 m 662 ls [])) : W p l e room_1 s m args below meth c H [] cells slots Q (F0 m 481 ls []) := by
  have hTB : ∀ w ∈ TB, w ∈ TB := fun _ h => h
  refine lv_aload_n hx hb d_law_481 rfl (lv_at hl 5 rfl) ?_
  refine lv_lload_n hx hb d_law_482 rfl (lv_at hl 4 rfl) ?_
  refine lv_lload hx hb d_law_483 (lv_at hl 2 rfl) ?_
  refine qx_callL (va_runV (C := "MathDrill") (b := x) (As := [.long aa, .long bb]) (rest := []) ⟨hx, hb, hml, hown, hT⟩ (c_dHigh l x aa bb) (cwV 2 hT (gi_V hTB tb_176 tb_177 tb_178 tb_1 tb_179) rfl rfl rfl ⟨rfl, by decide, by decide, by decide +kernel⟩ ⟨Nat.le_of_ble_eq_true rfl, Nat.le_of_ble_eq_true rfl⟩) ⟨fun _ _ _ _ q => q, hO.recv, fun _ _ _ => ⟨rfl, trivial⟩⟩ rfl rfl hl.1 rfl (lv_room (Nat.le_of_ble_eq_true rfl)) d_law_485 ⟨by omega, by omega⟩) (fun g1 eg1 => ?_)
  refine lv_lload_n hx hb d_law_488 rfl (lv_at hl 4 rfl) ?_
  refine qx_callA (va_runS (As := [.long aa]) (rest := [.long g1]) ⟨hx, hb, hml, hown, hT⟩ (c_lOf l aa) (va_cwS 1 hT (gi_S hTB tb_202 tb_203 tb_0 tb_204) rfl rfl rfl ⟨by decide, by decide, by decide +kernel⟩ ⟨Nat.le_of_ble_eq_true rfl, Nat.le_of_ble_eq_true rfl⟩) ⟨fun _ _ _ _ q => q, fun _ _ _ => ⟨rfl, trivial⟩⟩ rfl rfl hl.1 rfl (lv_room (Nat.le_of_ble_eq_true rfl)) d_law_489 ⟨by omega, by omega⟩) (fun q1 f1 H hf1 hQ1 hq1 hE1 => ?_)
  have hE := hE.trans hE1
  have hO := hO.ext hE1
  refine lv_lload hx hb d_law_492 (lv_at hl 2 rfl) ?_
  refine qx_callA (va_runS (As := [.long bb]) (rest := [.ref q1, .long g1]) ⟨hx, hb, hml, hown, hT⟩ (c_lOf l bb) (va_cwS 1 hT (gi_S hTB tb_202 tb_203 tb_0 tb_204) rfl rfl rfl ⟨by decide, by decide, by decide +kernel⟩ ⟨Nat.le_of_ble_eq_true rfl, Nat.le_of_ble_eq_true rfl⟩) ⟨fun _ _ _ _ q => q, fun _ _ _ => ⟨rfl, trivial⟩⟩ rfl rfl hl.1 rfl (lv_room (Nat.le_of_ble_eq_true rfl)) d_law_494 ⟨by omega, by omega⟩) (fun q2 f2 H hf2 hQ2 hq2 hE2 => ?_)
  have hE := hE.trans hE2
  have hO := hO.ext hE2
  have hQ1 := hQ1.ext hE2
  refine qx_callA (va_runS (As := [.ref q1, .ref q2]) (rest := [.long g1]) ⟨hx, hb, hml, hown, hT⟩ (c_lTim l q1 q2 f1 f2 _ _ hf1 hf2) (va_cwS 2 hT (gi_S hTB tb_213 tb_214 tb_0 tb_215) rfl rfl rfl ⟨by decide, by decide, by decide +kernel⟩ ⟨Nat.le_of_ble_eq_true rfl, Nat.le_of_ble_eq_true rfl⟩) ⟨fun _ U g mk q => ⟨q.1, q.2.1.moved (Vm.Alike.refl _), q.2.2.moved (Vm.Alike.refl _)⟩, fun U hU hW => ⟨rfl, by rw [hU]; exact hQ1.moved hW.alike, by rw [hU]; exact hQ2.moved hW.alike⟩⟩ rfl rfl hl.1 rfl (lv_room (Nat.le_of_ble_eq_true rfl)) d_law_497 ⟨by omega, by omega⟩) (fun q3 f3 H hf3 hQ3 hq3 hE3 => ?_)
  have hE := hE.trans hE3
  have hO := hO.ext hE3
  have hQ1 := hQ1.ext hE3
  have hQ2 := hQ2.ext hE3
  refine qx_callL (va_runS (As := [.ref q3]) (rest := [.long g1]) ⟨hx, hb, hml, hown, hT⟩ (c_lHigh l q3 f3) (va_cwS 1 hT (gi_S hTB tb_219 tb_220 tb_0 tb_221) rfl rfl rfl ⟨by decide, by decide, by decide +kernel⟩ ⟨Nat.le_of_ble_eq_true rfl, Nat.le_of_ble_eq_true rfl⟩) ⟨fun _ U g mk q => ⟨q.1, q.2.moved (Vm.Alike.refl _)⟩, fun U hU hW => ⟨rfl, by dsimp only; rw [hU]; exact hQ3.moved hW.alike⟩⟩ rfl rfl hl.1 rfl (lv_room (Nat.le_of_ble_eq_true rfl)) d_law_500 ⟨by omega, by omega⟩) (fun g2 eg2 => ?_)
  refine W.lcmp hx hb d_law_503 ?_
  refine lv_if_ne (tgt := 537) hx hb d_law_504 (by decide) (fun h1 => ?_) (fun h1 => ?_)
  · rw [lg_cmp_eq] at h1
    exfalso; refine h1 (Int64.toInt_inj.mp ?_); have z1 := pl_prod aa bb; rw [hi_eq eg1, pl_highZ hf3 (by omega) eg2]
  · rw [lg_cmp_eq] at h1
    refine lv_aload_n hx hb d_law_507 rfl (lv_at hl 5 rfl) ?_
    refine lv_iload hx hb d_law_508 (lv_at hl 1 rfl) ?_
    refine lv_iload hx hb d_law_510 (lv_at hl 0 rfl) ?_
    refine qx_callL (va_runV (C := "MathDrill") (b := x) (As := [.int ss, .int tt]) (rest := []) ⟨hx, hb, hml, hown, hT⟩ (c_dFull l x ss tt) (cwV 2 hT (gi_V hTB tb_184 tb_185 tb_186 tb_1 tb_187) rfl rfl rfl ⟨rfl, by decide, by decide, by decide +kernel⟩ ⟨Nat.le_of_ble_eq_true rfl, Nat.le_of_ble_eq_true rfl⟩) ⟨fun _ _ _ _ q => q, hO.recv, fun _ _ _ => ⟨rfl, trivial⟩⟩ rfl rfl hl.1 rfl (lv_room (Nat.le_of_ble_eq_true rfl)) d_law_512 ⟨by omega, by omega⟩) (fun g3 eg3 => ?_)
    refine lv_iload hx hb d_law_515 (lv_at hl 1 rfl) ?_
    refine lv_i2l hx hb d_law_517 rfl ?_
    refine qx_callA (va_runS (As := [.long (ss.toInt64)]) (rest := [.long g3]) ⟨hx, hb, hml, hown, hT⟩ (c_lOf l (ss.toInt64)) (va_cwS 1 hT (gi_S hTB tb_202 tb_203 tb_0 tb_204) rfl rfl rfl ⟨by decide, by decide, by decide +kernel⟩ ⟨Nat.le_of_ble_eq_true rfl, Nat.le_of_ble_eq_true rfl⟩) ⟨fun _ _ _ _ q => q, fun _ _ _ => ⟨rfl, trivial⟩⟩ rfl rfl hl.1 rfl (lv_room (Nat.le_of_ble_eq_true rfl)) d_law_518 ⟨by omega, by omega⟩) (fun q4 f4 H hf4 hQ4 hq4 hE4 => ?_)
    have hE := hE.trans hE4
    have hO := hO.ext hE4
    refine lv_iload hx hb d_law_521 (lv_at hl 0 rfl) ?_
    refine lv_i2l hx hb d_law_523 rfl ?_
    refine qx_callA (va_runS (As := [.long (tt.toInt64)]) (rest := [.ref q4, .long g3]) ⟨hx, hb, hml, hown, hT⟩ (c_lOf l (tt.toInt64)) (va_cwS 1 hT (gi_S hTB tb_202 tb_203 tb_0 tb_204) rfl rfl rfl ⟨by decide, by decide, by decide +kernel⟩ ⟨Nat.le_of_ble_eq_true rfl, Nat.le_of_ble_eq_true rfl⟩) ⟨fun _ _ _ _ q => q, fun _ _ _ => ⟨rfl, trivial⟩⟩ rfl rfl hl.1 rfl (lv_room (Nat.le_of_ble_eq_true rfl)) d_law_524 ⟨by omega, by omega⟩) (fun q5 f5 H hf5 hQ5 hq5 hE5 => ?_)
    have hE := hE.trans hE5
    have hO := hO.ext hE5
    have hQ4 := hQ4.ext hE5
    refine qx_callA (va_runS (As := [.ref q4, .ref q5]) (rest := [.long g3]) ⟨hx, hb, hml, hown, hT⟩ (c_lTim l q4 q5 f4 f5 _ _ hf4 hf5) (va_cwS 2 hT (gi_S hTB tb_213 tb_214 tb_0 tb_215) rfl rfl rfl ⟨by decide, by decide, by decide +kernel⟩ ⟨Nat.le_of_ble_eq_true rfl, Nat.le_of_ble_eq_true rfl⟩) ⟨fun _ U g mk q => ⟨q.1, q.2.1.moved (Vm.Alike.refl _), q.2.2.moved (Vm.Alike.refl _)⟩, fun U hU hW => ⟨rfl, by rw [hU]; exact hQ4.moved hW.alike, by rw [hU]; exact hQ5.moved hW.alike⟩⟩ rfl rfl hl.1 rfl (lv_room (Nat.le_of_ble_eq_true rfl)) d_law_527 ⟨by omega, by omega⟩) (fun q6 f6 H hf6 hQ6 hq6 hE6 => ?_)
    have hE := hE.trans hE6
    have hO := hO.ext hE6
    have hQ4 := hQ4.ext hE6
    have hQ5 := hQ5.ext hE6
    refine qx_callL (va_runS (As := [.ref q6]) (rest := [.long g3]) ⟨hx, hb, hml, hown, hT⟩ (c_lLow l q6 f6) (va_cwS 1 hT (gi_S hTB tb_216 tb_217 tb_0 tb_218) rfl rfl rfl ⟨by decide, by decide, by decide +kernel⟩ ⟨Nat.le_of_ble_eq_true rfl, Nat.le_of_ble_eq_true rfl⟩) ⟨fun _ U g mk q => ⟨q.1, q.2.moved (Vm.Alike.refl _)⟩, fun U hU hW => ⟨rfl, by dsimp only; rw [hU]; exact hQ6.moved hW.alike⟩⟩ rfl rfl hl.1 rfl (lv_room (Nat.le_of_ble_eq_true rfl)) d_law_530 ⟨by omega, by omega⟩) (fun g4 eg4 => ?_)
    refine W.lcmp hx hb d_law_533 ?_
    refine lv_if_eq (tgt := 662) hx hb d_law_534 (by decide) (fun h2 => ?_) (fun h2 => ?_)
    · rw [lg_cmp_eq] at h2
      have hl := lv_sub hl [2, 3, 5, 6] rfl
      refine W.widen (k := cells + 20) (n := slots + 80) (by omega) (by omega) ?_
      exact k _ _ _ hE hO hl
    · rw [lg_cmp_eq] at h2
      exfalso; refine h2 (Int64.toInt_inj.mp ?_); obtain ⟨k1, hk1⟩ := pl_lowZ hf6 eg4; rw [Int32.toInt_toInt64, Int32.toInt_toInt64] at hk1; have z1 := pl_prodI ss tt; have z2 := rj g4; rw [eg3]; unfold px_full; rw [full_int]; omega
set_option maxHeartbeats 4000000 in
set_option maxRecDepth 100000 in
theorem k_593 {p : Program} {l : Launch} {e : Env} {s : State} {m : MethodId} {args : Array Value} {below : List Frame} {meth : Method} {c : Code} {H : Heap} {cells slots : Nat} {Q : State → Prop} (hfl : l.flags = pinnedFlags ++ [noTraceFlag]) (hx : p.tables.exec = Jvm.exec) (hb : c.code = code) (hml : c.maxLocals = 17) (hT : ∀ w ∈ TB, w.before args s = true) (hown : s.vm.findClass "MathDrillLaw" = some m.cls) (hth : tx_T s) {D : va_G} {x sc : Nat} (hn : s.heap.size ≤ x) {ov ss tt ii : Int32} {aa bb : Int64} {ls : Array Slot} (hl : lv_has ls 17 [(11, .int tt), (10, .int ss), (8, .long bb), (4, .int ii), (2, .long aa), (1, .ref x), (0, .ref sc)]) {kk : Int32} (hk : (kk = 1 ∧ aa < bb) ∨ (kk = 0 ∧ ¬ aa < bb)) (hE : ax_X s.heap H) (hO : ox_O D s H x ov) (hc : cells + 20 ≤ room_1.cells) (hs : slots + 80 ≤ room_1.slots)
    (k : ∀ (H : Heap) (ov : Int32) (ls : Array Slot), ax_X s.heap H → ox_O D s H x ov → lv_has ls 17 [(8, .long bb), (4, .int ii), (1, .ref x), (0, .ref sc)] → W p l e room_1 s m args below meth c H [] (cells + 20) (slots + 80) Q (F0 m 662 ls [])) : W p l e room_1 s m args below meth c H [] cells slots Q (F0 m 593 ls [.int kk]) := by
  have hTB : ∀ w ∈ TB, w ∈ TB := fun _ h => h
  refine lv_istore (lv' := [(12, .int kk), (11, .int tt), (10, .int ss), (8, .long bb), (4, .int ii), (2, .long aa), (1, .ref x), (0, .ref sc)]) hx hb d_law_593 hl (by decide) rfl (fun ls hl => ?_)
  refine lv_iload hx hb d_law_595 (lv_at hl 0 rfl) ?_
  refine lv_if_eq (tgt := 605) hx hb d_law_597 (by decide) (fun h1 => ?_) (fun h1 => ?_)
  · refine lv_lload_n hx hb d_law_605 rfl (lv_at hl 5 rfl) ?_
    refine lv_lstore (lv' := [(13, .long aa), (12, .int kk), (11, .int tt), (10, .int ss), (8, .long bb), (4, .int ii), (2, .long aa), (1, .ref x), (0, .ref sc)]) hx hb d_law_606 hl (by decide) rfl (fun ls hl => ?_)
    refine lv_iload hx hb d_law_608 (lv_at hl 1 rfl) ?_
    refine lv_if_eq (tgt := 617) hx hb d_law_610 (by decide) (fun h2 => ?_) (fun h2 => ?_)
    · refine lv_lload hx hb d_law_617 (lv_at hl 4 rfl) ?_
      refine lv_lstore (lv' := [(15, .long bb), (13, .long aa), (12, .int kk), (11, .int tt), (10, .int ss), (8, .long bb), (4, .int ii), (2, .long aa), (1, .ref x), (0, .ref sc)]) hx hb d_law_619 hl (by decide) rfl (fun ls hl => ?_)
      refine lv_aload_n hx hb d_law_621 rfl (lv_at hl 8 rfl) ?_
      refine lv_lload_n hx hb d_law_622 rfl (lv_at hl 7 rfl) ?_
      refine lv_lload hx hb d_law_623 (lv_at hl 5 rfl) ?_
      refine qx_callL (va_runV (C := "MathDrill") (b := x) (As := [.long aa, .long bb]) (rest := []) ⟨hx, hb, hml, hown, hT⟩ (c_dLar l x aa bb) (cwV 2 hT (gi_V hTB tb_191 tb_192 tb_193 tb_1 tb_194) rfl rfl rfl ⟨rfl, by decide, by decide, by decide +kernel⟩ ⟨Nat.le_of_ble_eq_true rfl, Nat.le_of_ble_eq_true rfl⟩) ⟨fun _ _ _ _ q => q, hO.recv, fun _ _ _ => ⟨rfl, trivial⟩⟩ rfl rfl hl.1 rfl (lv_room (Nat.le_of_ble_eq_true rfl)) d_law_625 ⟨by omega, by omega⟩) (fun g1 eg1 => ?_)
      refine lv_lload hx hb d_law_628 (lv_at hl 1 rfl) ?_
      refine lv_lload hx hb d_law_630 (lv_at hl 0 rfl) ?_
      refine lv_iconst (v := 1) hx hb d_law_632 (by decide) ?_
      refine lv_lshl hx hb d_law_633 rfl ?_
      refine lv_lxor hx hb d_law_634 ?_
      refine lv_lload_n hx hb d_law_635 rfl (lv_at hl 7 rfl) ?_
      refine lv_lconst (v := 0) hx hb d_law_636 (by decide) ?_
      refine W.lcmp hx hb d_law_637 ?_
      refine lv_if_ge (tgt := 654) hx hb d_law_638 (by decide) (fun h3 => ?_) (fun h3 => ?_)
      · rw [lg_cmp_ge] at h3
        refine lv_lload_n hx hb d_law_654 rfl (lv_at hl 7 rfl) ?_
        refine lv_lxor hx hb d_law_655 ?_
        refine W.lcmp hx hb d_law_656 ?_
        refine lv_if_eq (tgt := 662) hx hb d_law_657 (by decide) (fun h4 => ?_) (fun h4 => ?_)
        · rw [lg_cmp_eq] at h4
          have hl := lv_sub hl [5, 6, 8, 9] rfl
          refine W.widen (k := cells + 20) (n := slots + 80) (by omega) (by omega) ?_
          exact k _ _ _ hE hO hl
        · rw [lg_cmp_eq] at h4
          exfalso; refine h4 ?_; rw [eg1]; obtain ⟨m1, m2⟩ := pm_ge (hk.elim (fun q => absurd (q.1.symm.trans h1) (by decide)) (fun q => q.2)); rw [m1, m2]; unfold px_abs; rw [if_pos h3]
      · rw [lg_cmp_ge] at h3
        refine lv_lload_n hx hb d_law_641 rfl (lv_at hl 7 rfl) ?_
        refine qx_callA (va_runS (As := [.long aa]) (rest := [.long (aa ^^^ (bb <<< ((1 : Int32).toInt64 &&& 63))), .long g1]) ⟨hx, hb, hml, hown, hT⟩ (c_lOf l aa) (va_cwS 1 hT (gi_S hTB tb_202 tb_203 tb_0 tb_204) rfl rfl rfl ⟨by decide, by decide, by decide +kernel⟩ ⟨Nat.le_of_ble_eq_true rfl, Nat.le_of_ble_eq_true rfl⟩) ⟨fun _ _ _ _ q => q, fun _ _ _ => ⟨rfl, trivial⟩⟩ rfl rfl hl.1 rfl (lv_room (Nat.le_of_ble_eq_true rfl)) d_law_642 ⟨by omega, by omega⟩) (fun q1 f1 H hf1 hQ1 hq1 hE1 => ?_)
        have hE := hE.trans hE1
        have hO := hO.ext hE1
        refine qx_callA (va_runS (As := [.ref q1]) (rest := [.long (aa ^^^ (bb <<< ((1 : Int32).toInt64 &&& 63))), .long g1]) ⟨hx, hb, hml, hown, hT⟩ (c_lMin l q1 f1 _ hf1) (va_cwS 1 hT (gi_S hTB tb_210 tb_211 tb_0 tb_212) rfl rfl rfl ⟨by decide, by decide, by decide +kernel⟩ ⟨Nat.le_of_ble_eq_true rfl, Nat.le_of_ble_eq_true rfl⟩) ⟨fun _ U g mk q => ⟨q.1, q.2.moved (Vm.Alike.refl _)⟩, fun U hU hW => ⟨rfl, by dsimp only; rw [hU]; exact hQ1.moved hW.alike⟩⟩ rfl rfl hl.1 rfl (lv_room (Nat.le_of_ble_eq_true rfl)) d_law_645 ⟨by omega, by omega⟩) (fun q2 f2 H hf2 hQ2 hq2 hE2 => ?_)
        have hE := hE.trans hE2
        have hO := hO.ext hE2
        have hQ1 := hQ1.ext hE2
        refine qx_callL (va_runS (As := [.ref q2]) (rest := [.long (aa ^^^ (bb <<< ((1 : Int32).toInt64 &&& 63))), .long g1]) ⟨hx, hb, hml, hown, hT⟩ (c_lLow l q2 f2) (va_cwS 1 hT (gi_S hTB tb_216 tb_217 tb_0 tb_218) rfl rfl rfl ⟨by decide, by decide, by decide +kernel⟩ ⟨Nat.le_of_ble_eq_true rfl, Nat.le_of_ble_eq_true rfl⟩) ⟨fun _ U g mk q => ⟨q.1, q.2.moved (Vm.Alike.refl _)⟩, fun U hU hW => ⟨rfl, by dsimp only; rw [hU]; exact hQ2.moved hW.alike⟩⟩ rfl rfl hl.1 rfl (lv_room (Nat.le_of_ble_eq_true rfl)) d_law_648 ⟨by omega, by omega⟩) (fun g2 eg2 => ?_)
        refine lv_goto (tgt := 655) hx hb d_law_651 (by decide) ?_
        refine lv_lxor hx hb d_law_655 ?_
        refine W.lcmp hx hb d_law_656 ?_
        refine lv_if_eq (tgt := 662) hx hb d_law_657 (by decide) (fun h5 => ?_) (fun h5 => ?_)
        · rw [lg_cmp_eq] at h5
          have hl := lv_sub hl [5, 6, 8, 9] rfl
          refine W.widen (k := cells + 20) (n := slots + 80) (by omega) (by omega) ?_
          exact k _ _ _ hE hO hl
        · rw [lg_cmp_eq] at h5
          exfalso; refine h5 ?_; rw [eg1]; obtain ⟨m1, m2⟩ := pm_ge (hk.elim (fun q => absurd (q.1.symm.trans h1) (by decide)) (fun q => q.2)); rw [m1, m2]; unfold px_abs; rw [if_neg h3, ← pm_neg hf2 eg2]
    · exact absurd h1 h2
  · refine lv_lload hx hb d_law_600 (lv_at hl 3 rfl) ?_
    refine lv_goto (tgt := 606) hx hb d_law_602 (by decide) ?_
    refine lv_lstore (lv' := [(13, .long bb), (12, .int kk), (11, .int tt), (10, .int ss), (8, .long bb), (4, .int ii), (2, .long aa), (1, .ref x), (0, .ref sc)]) hx hb d_law_606 hl (by decide) rfl (fun ls hl => ?_)
    refine lv_iload hx hb d_law_608 (lv_at hl 1 rfl) ?_
    refine lv_if_eq (tgt := 617) hx hb d_law_610 (by decide) (fun h6 => ?_) (fun h6 => ?_)
    · exact absurd h6 h1
    · refine lv_lload_n hx hb d_law_613 rfl (lv_at hl 6 rfl) ?_
      refine lv_goto (tgt := 619) hx hb d_law_614 (by decide) ?_
      refine lv_lstore (lv' := [(15, .long aa), (13, .long bb), (12, .int kk), (11, .int tt), (10, .int ss), (8, .long bb), (4, .int ii), (2, .long aa), (1, .ref x), (0, .ref sc)]) hx hb d_law_619 hl (by decide) rfl (fun ls hl => ?_)
      refine lv_aload_n hx hb d_law_621 rfl (lv_at hl 8 rfl) ?_
      refine lv_lload_n hx hb d_law_622 rfl (lv_at hl 7 rfl) ?_
      refine lv_lload hx hb d_law_623 (lv_at hl 5 rfl) ?_
      refine qx_callL (va_runV (C := "MathDrill") (b := x) (As := [.long aa, .long bb]) (rest := []) ⟨hx, hb, hml, hown, hT⟩ (c_dLar l x aa bb) (cwV 2 hT (gi_V hTB tb_191 tb_192 tb_193 tb_1 tb_194) rfl rfl rfl ⟨rfl, by decide, by decide, by decide +kernel⟩ ⟨Nat.le_of_ble_eq_true rfl, Nat.le_of_ble_eq_true rfl⟩) ⟨fun _ _ _ _ q => q, hO.recv, fun _ _ _ => ⟨rfl, trivial⟩⟩ rfl rfl hl.1 rfl (lv_room (Nat.le_of_ble_eq_true rfl)) d_law_625 ⟨by omega, by omega⟩) (fun g1 eg1 => ?_)
      refine lv_lload hx hb d_law_628 (lv_at hl 1 rfl) ?_
      refine lv_lload hx hb d_law_630 (lv_at hl 0 rfl) ?_
      refine lv_iconst (v := 1) hx hb d_law_632 (by decide) ?_
      refine lv_lshl hx hb d_law_633 rfl ?_
      refine lv_lxor hx hb d_law_634 ?_
      refine lv_lload_n hx hb d_law_635 rfl (lv_at hl 7 rfl) ?_
      refine lv_lconst (v := 0) hx hb d_law_636 (by decide) ?_
      refine W.lcmp hx hb d_law_637 ?_
      refine lv_if_ge (tgt := 654) hx hb d_law_638 (by decide) (fun h7 => ?_) (fun h7 => ?_)
      · rw [lg_cmp_ge] at h7
        refine lv_lload_n hx hb d_law_654 rfl (lv_at hl 7 rfl) ?_
        refine lv_lxor hx hb d_law_655 ?_
        refine W.lcmp hx hb d_law_656 ?_
        refine lv_if_eq (tgt := 662) hx hb d_law_657 (by decide) (fun h8 => ?_) (fun h8 => ?_)
        · rw [lg_cmp_eq] at h8
          have hl := lv_sub hl [5, 6, 8, 9] rfl
          refine W.widen (k := cells + 20) (n := slots + 80) (by omega) (by omega) ?_
          exact k _ _ _ hE hO hl
        · rw [lg_cmp_eq] at h8
          exfalso; refine h8 ?_; rw [eg1]; obtain ⟨m1, m2⟩ := pm_lt (hk.elim (fun q => q.2) (fun q => absurd q.1 h1)); rw [m1, m2]; unfold px_abs; rw [if_pos h7]
      · rw [lg_cmp_ge] at h7
        refine lv_lload_n hx hb d_law_641 rfl (lv_at hl 7 rfl) ?_
        refine qx_callA (va_runS (As := [.long aa]) (rest := [.long (bb ^^^ (aa <<< ((1 : Int32).toInt64 &&& 63))), .long g1]) ⟨hx, hb, hml, hown, hT⟩ (c_lOf l aa) (va_cwS 1 hT (gi_S hTB tb_202 tb_203 tb_0 tb_204) rfl rfl rfl ⟨by decide, by decide, by decide +kernel⟩ ⟨Nat.le_of_ble_eq_true rfl, Nat.le_of_ble_eq_true rfl⟩) ⟨fun _ _ _ _ q => q, fun _ _ _ => ⟨rfl, trivial⟩⟩ rfl rfl hl.1 rfl (lv_room (Nat.le_of_ble_eq_true rfl)) d_law_642 ⟨by omega, by omega⟩) (fun q1 f1 H hf1 hQ1 hq1 hE1 => ?_)
        have hE := hE.trans hE1
        have hO := hO.ext hE1
        refine qx_callA (va_runS (As := [.ref q1]) (rest := [.long (bb ^^^ (aa <<< ((1 : Int32).toInt64 &&& 63))), .long g1]) ⟨hx, hb, hml, hown, hT⟩ (c_lMin l q1 f1 _ hf1) (va_cwS 1 hT (gi_S hTB tb_210 tb_211 tb_0 tb_212) rfl rfl rfl ⟨by decide, by decide, by decide +kernel⟩ ⟨Nat.le_of_ble_eq_true rfl, Nat.le_of_ble_eq_true rfl⟩) ⟨fun _ U g mk q => ⟨q.1, q.2.moved (Vm.Alike.refl _)⟩, fun U hU hW => ⟨rfl, by dsimp only; rw [hU]; exact hQ1.moved hW.alike⟩⟩ rfl rfl hl.1 rfl (lv_room (Nat.le_of_ble_eq_true rfl)) d_law_645 ⟨by omega, by omega⟩) (fun q2 f2 H hf2 hQ2 hq2 hE2 => ?_)
        have hE := hE.trans hE2
        have hO := hO.ext hE2
        have hQ1 := hQ1.ext hE2
        refine qx_callL (va_runS (As := [.ref q2]) (rest := [.long (bb ^^^ (aa <<< ((1 : Int32).toInt64 &&& 63))), .long g1]) ⟨hx, hb, hml, hown, hT⟩ (c_lLow l q2 f2) (va_cwS 1 hT (gi_S hTB tb_216 tb_217 tb_0 tb_218) rfl rfl rfl ⟨by decide, by decide, by decide +kernel⟩ ⟨Nat.le_of_ble_eq_true rfl, Nat.le_of_ble_eq_true rfl⟩) ⟨fun _ U g mk q => ⟨q.1, q.2.moved (Vm.Alike.refl _)⟩, fun U hU hW => ⟨rfl, by dsimp only; rw [hU]; exact hQ2.moved hW.alike⟩⟩ rfl rfl hl.1 rfl (lv_room (Nat.le_of_ble_eq_true rfl)) d_law_648 ⟨by omega, by omega⟩) (fun g2 eg2 => ?_)
        refine lv_goto (tgt := 655) hx hb d_law_651 (by decide) ?_
        refine lv_lxor hx hb d_law_655 ?_
        refine W.lcmp hx hb d_law_656 ?_
        refine lv_if_eq (tgt := 662) hx hb d_law_657 (by decide) (fun h9 => ?_) (fun h9 => ?_)
        · rw [lg_cmp_eq] at h9
          have hl := lv_sub hl [5, 6, 8, 9] rfl
          refine W.widen (k := cells + 20) (n := slots + 80) (by omega) (by omega) ?_
          exact k _ _ _ hE hO hl
        · rw [lg_cmp_eq] at h9
          exfalso; refine h9 ?_; rw [eg1]; obtain ⟨m1, m2⟩ := pm_lt (hk.elim (fun q => q.2) (fun q => absurd q.1 h1)); rw [m1, m2]; unfold px_abs; rw [if_neg h7, ← pm_neg hf2 eg2]
set_option maxHeartbeats 4000000 in
set_option maxRecDepth 100000 in
theorem k_539 {p : Program} {l : Launch} {e : Env} {s : State} {m : MethodId} {args : Array Value} {below : List Frame} {meth : Method} {c : Code} {H : Heap} {cells slots : Nat} {Q : State → Prop} (hfl : l.flags = pinnedFlags ++ [noTraceFlag]) (hx : p.tables.exec = Jvm.exec) (hb : c.code = code) (hml : c.maxLocals = 17) (hT : ∀ w ∈ TB, w.before args s = true) (hown : s.vm.findClass "MathDrillLaw" = some m.cls) (hth : tx_T s) {D : va_G} {x sc : Nat} (hn : s.heap.size ≤ x) {ov ss tt ii : Int32} {aa bb : Int64} {ls : Array Slot} (hl : lv_has ls 17 [(11, .int tt), (10, .int ss), (8, .long bb), (4, .int ii), (2, .long aa), (1, .ref x), (0, .ref sc)]) (hE : ax_X s.heap H) (hO : ox_O D s H x ov) (hc : cells + 20 ≤ room_1.cells) (hs : slots + 80 ≤ room_1.slots)
    (k : ∀ (H : Heap) (ov : Int32) (ls : Array Slot), ax_X s.heap H → ox_O D s H x ov → lv_has ls 17 [(8, .long bb), (4, .int ii), (1, .ref x), (0, .ref sc)] → W p l e room_1 s m args below meth c H [] (cells + 20) (slots + 80) Q (F0 m 662 ls [])) : W p l e room_1 s m args below meth c H [] cells slots Q (F0 m 539 ls []) := by
  have hTB : ∀ w ∈ TB, w ∈ TB := fun _ h => h
  refine lv_lload_n hx hb d_law_539 rfl (lv_at hl 4 rfl) ?_
  refine lv_lconst (v := 0) hx hb d_law_540 (by decide) ?_
  refine W.lcmp hx hb d_law_541 ?_
  refine lv_if_ge (tgt := 549) hx hb d_law_542 (by decide) (fun h1 => ?_) (fun h1 => ?_)
  · rw [lg_cmp_ge] at h1
    refine lv_iconst (v := 0) hx hb d_law_549 (by decide) ?_
    refine lv_lload hx hb d_law_550 (lv_at hl 2 rfl) ?_
    refine lv_lconst (v := 0) hx hb d_law_552 (by decide) ?_
    refine W.lcmp hx hb d_law_553 ?_
    refine lv_if_ge (tgt := 561) hx hb d_law_554 (by decide) (fun h2 => ?_) (fun h2 => ?_)
    · rw [lg_cmp_ge] at h2
      refine lv_iconst (v := 0) hx hb d_law_561 (by decide) ?_
      refine lv_icmp_eq (tgt := 579) hx hb d_law_562 (by decide) (fun h3 => ?_) (fun h3 => ?_)
      · refine lv_lload_n hx hb d_law_579 rfl (lv_at hl 4 rfl) ?_
        refine lv_lload hx hb d_law_580 (lv_at hl 2 rfl) ?_
        refine lv_lsub hx hb d_law_582 ?_
        refine lv_lconst (v := 0) hx hb d_law_583 (by decide) ?_
        refine W.lcmp hx hb d_law_584 ?_
        refine lv_if_ge (tgt := 592) hx hb d_law_585 (by decide) (fun h4 => ?_) (fun h4 => ?_)
        · rw [lg_cmp_ge] at h4
          refine lv_iconst (v := 0) hx hb d_law_592 (by decide) ?_
          exact k_593 hfl hx hb hml hT hown hth hn hl (kk := 0) (Or.inr ⟨rfl, by simp only [Int64.le_iff_toInt_le, z_0] at h1 h2 h4; rw [Int64.lt_iff_toInt_lt]; have r1 := rj aa; have r2 := rj bb; obtain ⟨k1, hk1⟩ := sj aa bb; have z1 := rj (aa - bb); omega⟩) hE hO hc hs k
        · rw [lg_cmp_ge] at h4
          refine lv_iconst (v := 1) hx hb d_law_588 (by decide) ?_
          refine lv_goto (tgt := 593) hx hb d_law_589 (by decide) ?_
          exact k_593 hfl hx hb hml hT hown hth hn hl (kk := 1) (Or.inl ⟨rfl, by simp only [Int64.le_iff_toInt_le, z_0] at h1 h2 h4; rw [Int64.lt_iff_toInt_lt]; have r1 := rj aa; have r2 := rj bb; obtain ⟨k1, hk1⟩ := sj aa bb; have z1 := rj (aa - bb); omega⟩) hE hO hc hs k
      · exact absurd (by decide) h3
    · rw [lg_cmp_ge] at h2
      refine lv_iconst (v := 1) hx hb d_law_557 (by decide) ?_
      refine lv_goto (tgt := 562) hx hb d_law_558 (by decide) ?_
      refine lv_icmp_eq (tgt := 579) hx hb d_law_562 (by decide) (fun h5 => ?_) (fun h5 => ?_)
      · exact absurd h5 (by decide)
      · refine lv_lload_n hx hb d_law_565 rfl (lv_at hl 4 rfl) ?_
        refine lv_lconst (v := 0) hx hb d_law_566 (by decide) ?_
        refine W.lcmp hx hb d_law_567 ?_
        refine lv_if_ge (tgt := 575) hx hb d_law_568 (by decide) (fun h6 => ?_) (fun h6 => ?_)
        · rw [lg_cmp_ge] at h6
          refine lv_iconst (v := 0) hx hb d_law_575 (by decide) ?_
          refine lv_goto (tgt := 593) hx hb d_law_576 (by decide) ?_
          exact k_593 hfl hx hb hml hT hown hth hn hl (kk := 0) (Or.inr ⟨rfl, by simp only [Int64.le_iff_toInt_le, z_0] at h1 h2; rw [Int64.lt_iff_toInt_lt]; have r1 := rj aa; have r2 := rj bb; omega⟩) hE hO hc hs k
        · rw [lg_cmp_ge] at h6
          exact absurd h1 h6
  · rw [lg_cmp_ge] at h1
    refine lv_iconst (v := 1) hx hb d_law_545 (by decide) ?_
    refine lv_goto (tgt := 550) hx hb d_law_546 (by decide) ?_
    refine lv_lload hx hb d_law_550 (lv_at hl 2 rfl) ?_
    refine lv_lconst (v := 0) hx hb d_law_552 (by decide) ?_
    refine W.lcmp hx hb d_law_553 ?_
    refine lv_if_ge (tgt := 561) hx hb d_law_554 (by decide) (fun h7 => ?_) (fun h7 => ?_)
    · rw [lg_cmp_ge] at h7
      refine lv_iconst (v := 0) hx hb d_law_561 (by decide) ?_
      refine lv_icmp_eq (tgt := 579) hx hb d_law_562 (by decide) (fun h8 => ?_) (fun h8 => ?_)
      · exact absurd h8 (by decide)
      · refine lv_lload_n hx hb d_law_565 rfl (lv_at hl 4 rfl) ?_
        refine lv_lconst (v := 0) hx hb d_law_566 (by decide) ?_
        refine W.lcmp hx hb d_law_567 ?_
        refine lv_if_ge (tgt := 575) hx hb d_law_568 (by decide) (fun h9 => ?_) (fun h9 => ?_)
        · rw [lg_cmp_ge] at h9
          exact absurd h9 h1
        · rw [lg_cmp_ge] at h9
          refine lv_iconst (v := 1) hx hb d_law_571 (by decide) ?_
          refine lv_goto (tgt := 593) hx hb d_law_572 (by decide) ?_
          exact k_593 hfl hx hb hml hT hown hth hn hl (kk := 1) (Or.inl ⟨rfl, by simp only [Int64.le_iff_toInt_le, z_0] at h1 h7; rw [Int64.lt_iff_toInt_lt]; have r1 := rj aa; have r2 := rj bb; omega⟩) hE hO hc hs k
    · rw [lg_cmp_ge] at h7
      refine lv_iconst (v := 1) hx hb d_law_557 (by decide) ?_
      refine lv_goto (tgt := 562) hx hb d_law_558 (by decide) ?_
      refine lv_icmp_eq (tgt := 579) hx hb d_law_562 (by decide) (fun h10 => ?_) (fun h10 => ?_)
      · refine lv_lload_n hx hb d_law_579 rfl (lv_at hl 4 rfl) ?_
        refine lv_lload hx hb d_law_580 (lv_at hl 2 rfl) ?_
        refine lv_lsub hx hb d_law_582 ?_
        refine lv_lconst (v := 0) hx hb d_law_583 (by decide) ?_
        refine W.lcmp hx hb d_law_584 ?_
        refine lv_if_ge (tgt := 592) hx hb d_law_585 (by decide) (fun h11 => ?_) (fun h11 => ?_)
        · rw [lg_cmp_ge] at h11
          refine lv_iconst (v := 0) hx hb d_law_592 (by decide) ?_
          exact k_593 hfl hx hb hml hT hown hth hn hl (kk := 0) (Or.inr ⟨rfl, by simp only [Int64.le_iff_toInt_le, z_0] at h1 h7 h11; rw [Int64.lt_iff_toInt_lt]; have r1 := rj aa; have r2 := rj bb; obtain ⟨k1, hk1⟩ := sj aa bb; have z1 := rj (aa - bb); omega⟩) hE hO hc hs k
        · rw [lg_cmp_ge] at h11
          refine lv_iconst (v := 1) hx hb d_law_588 (by decide) ?_
          refine lv_goto (tgt := 593) hx hb d_law_589 (by decide) ?_
          exact k_593 hfl hx hb hml hT hown hth hn hl (kk := 1) (Or.inl ⟨rfl, by simp only [Int64.le_iff_toInt_le, z_0] at h1 h7 h11; rw [Int64.lt_iff_toInt_lt]; have r1 := rj aa; have r2 := rj bb; obtain ⟨k1, hk1⟩ := sj aa bb; have z1 := rj (aa - bb); omega⟩) hE hO hc hs k
      · exact absurd (by decide) h10
end
section
/-! the law's turn: from the loop's head to the switch, and the loop -/
set_option maxHeartbeats 4000000 in
set_option maxRecDepth 100000 in
theorem k_129 {p : Program} {l : Launch} {e : Env} {s : State} {m : MethodId} {args : Array Value} {below : List Frame} {meth : Method} {c : Code} {H : Heap} {cells slots : Nat} {Q : State → Prop} (hfl : l.flags = pinnedFlags ++ [noTraceFlag]) (hx : p.tables.exec = Jvm.exec) (hb : c.code = code) (hml : c.maxLocals = 17) (hT : ∀ w ∈ TB, w.before args s = true) (hown : s.vm.findClass "MathDrillLaw" = some m.cls) (hth : tx_T s) {D : va_G} {x sc : Nat} (hn : s.heap.size ≤ x) {ov ii w : Int32} {aa bb : Int64} {ls : Array Slot} (hl : lv_has ls 17 [(8, .long bb), (5, .int w), (4, .int ii), (2, .long aa), (1, .ref x), (0, .ref sc)]) (hE : ax_X s.heap H) (hO : ox_O D s H x ov) (hc : cells + 20 ≤ room_1.cells) (hs : slots + 80 ≤ room_1.slots)
    (k : ∀ (H : Heap) (ov : Int32) (bb : Int64) (ls : Array Slot), ax_X s.heap H → ox_O D s H x ov → lv_has ls 17 [(8, .long bb), (4, .int ii), (1, .ref x), (0, .ref sc)] → W p l e room_1 s m args below meth c H [] (cells + 20) (slots + 80) Q (F0 m 662 ls [])) : W p l e room_1 s m args below meth c H [] cells slots Q (F0 m 129 ls []) := by
  refine lv_lload_n hx hb d_law_129 rfl (lv_at hl 3 rfl) ?_
  refine lv_l2i hx hb d_law_130 rfl ?_
  refine lv_topi (fun v1 ev1 => ?_)
  refine lv_istore (lv' := [(10, .int v1), (8, .long bb), (5, .int w), (4, .int ii), (2, .long aa), (1, .ref x), (0, .ref sc)]) hx hb d_law_131 hl (by decide) rfl (fun ls hl => ?_)
  refine lv_lload hx hb d_law_133 (lv_at hl 1 rfl) ?_
  refine lv_l2i hx hb d_law_135 rfl ?_
  refine lv_topi (fun v2 ev2 => ?_)
  refine lv_istore (lv' := [(11, .int v2), (10, .int v1), (8, .long bb), (5, .int w), (4, .int ii), (2, .long aa), (1, .ref x), (0, .ref sc)]) hx hb d_law_136 hl (by decide) rfl (fun ls hl => ?_)
  refine lv_iload hx hb d_law_138 (lv_at hl 3 rfl) ?_
  refine lv_bipush (v := 15) hx hb d_law_140 (by decide) ?_
  refine lv_iand hx hb d_law_142 ?_
  have hl := lv_sub hl [0, 1, 2, 4, 5, 6, 7] rfl
  obtain ⟨j, hj, ej⟩ := pk_andE w (m := 15) 4 (by decide)
  rw [ej]
  rcases (show j = 0 ∨ j = 1 ∨ j = 2 ∨ j = 3 ∨ j = 4 ∨ j = 5 ∨ j = 6 ∨ j = 7 ∨ j = 8 ∨ j = 9 ∨ j = 10 ∨ j = 11 ∨ j = 12 ∨ j = 13 ∨ j = 14 ∨ j = 15 by omega) with rfl | rfl | rfl | rfl | rfl | rfl | rfl | rfl | rfl | rfl | rfl | rfl | rfl | rfl | rfl | rfl
  · exact lv_tableIn (off := 65) (tgt := 208) hx hb d_law_143 (by decide) (by decide) (by decide) (by decide) (k_208 hfl hx hb hml hT hown hth hn hl hE hO hc hs (fun H ov ls hE hO hl => k H ov _ ls hE hO hl))
  · exact lv_tableIn (off := 65) (tgt := 208) hx hb d_law_143 (by decide) (by decide) (by decide) (by decide) (k_208 hfl hx hb hml hT hown hth hn hl hE hO hc hs (fun H ov ls hE hO hl => k H ov _ ls hE hO hl))
  · exact lv_tableIn (off := 115) (tgt := 258) hx hb d_law_143 (by decide) (by decide) (by decide) (by decide) (k_258 hfl hx hb hml hT hown hth hn hl hE hO hc hs (fun H ov ls hE hO hl => k H ov _ ls hE hO hl))
  · exact lv_tableIn (off := 115) (tgt := 258) hx hb d_law_143 (by decide) (by decide) (by decide) (by decide) (k_258 hfl hx hb hml hT hown hth hn hl hE hO hc hs (fun H ov ls hE hO hl => k H ov _ ls hE hO hl))
  · exact lv_tableIn (off := 168) (tgt := 311) hx hb d_law_143 (by decide) (by decide) (by decide) (by decide) (k_311 hfl hx hb hml hT hown hth hn hl hE hO hc hs (fun H ov ls hE hO hl => k H ov _ ls hE hO hl))
  · exact lv_tableIn (off := 168) (tgt := 311) hx hb d_law_143 (by decide) (by decide) (by decide) (by decide) (k_311 hfl hx hb hml hT hown hth hn hl hE hO hc hs (fun H ov ls hE hO hl => k H ov _ ls hE hO hl))
  · exact lv_tableIn (off := 168) (tgt := 311) hx hb d_law_143 (by decide) (by decide) (by decide) (by decide) (k_311 hfl hx hb hml hT hown hth hn hl hE hO hc hs (fun H ov ls hE hO hl => k H ov _ ls hE hO hl))
  · exact lv_tableIn (off := 218) (tgt := 361) hx hb d_law_143 (by decide) (by decide) (by decide) (by decide) (k_361 hfl hx hb hml hT hown hth hn hl hE hO hc hs (fun H ov ls hE hO hl => k H ov _ ls hE hO hl))
  · exact lv_tableIn (off := 256) (tgt := 399) hx hb d_law_143 (by decide) (by decide) (by decide) (by decide) (k_399 hfl hx hb hml hT hown hth hn hl hE hO hc hs (fun H ov ls hE hO hl => k H ov _ ls hE hO hl))
  · exact lv_tableIn (off := 256) (tgt := 399) hx hb d_law_143 (by decide) (by decide) (by decide) (by decide) (k_399 hfl hx hb hml hT hown hth hn hl hE hO hc hs (fun H ov ls hE hO hl => k H ov _ ls hE hO hl))
  · exact lv_tableIn (off := 256) (tgt := 399) hx hb d_law_143 (by decide) (by decide) (by decide) (by decide) (k_399 hfl hx hb hml hT hown hth hn hl hE hO hc hs (fun H ov ls hE hO hl => k H ov _ ls hE hO hl))
  · exact lv_tableIn (off := 338) (tgt := 481) hx hb d_law_143 (by decide) (by decide) (by decide) (by decide) (k_481 hfl hx hb hml hT hown hth hn hl hE hO hc hs (fun H ov ls hE hO hl => k H ov _ ls hE hO hl))
  · exact lv_tableIn (off := 338) (tgt := 481) hx hb d_law_143 (by decide) (by decide) (by decide) (by decide) (k_481 hfl hx hb hml hT hown hth hn hl hE hO hc hs (fun H ov ls hE hO hl => k H ov _ ls hE hO hl))
  · exact lv_tableOut (tgt := 539) hx hb d_law_143 (by decide) (by decide) (k_539 hfl hx hb hml hT hown hth hn hl hE hO hc hs (fun H ov ls hE hO hl => k H ov _ ls hE hO hl))
  · exact lv_tableOut (tgt := 539) hx hb d_law_143 (by decide) (by decide) (k_539 hfl hx hb hml hT hown hth hn hl hE hO hc hs (fun H ov ls hE hO hl => k H ov _ ls hE hO hl))
  · exact lv_tableOut (tgt := 539) hx hb d_law_143 (by decide) (by decide) (k_539 hfl hx hb hml hT hown hth hn hl hE hO hc hs (fun H ov ls hE hO hl => k H ov _ ls hE hO hl))
set_option maxHeartbeats 4000000 in
set_option maxRecDepth 100000 in
theorem k_101 {p : Program} {l : Launch} {e : Env} {s : State} {m : MethodId} {args : Array Value} {below : List Frame} {meth : Method} {c : Code} {H : Heap} {cells slots : Nat} {Q : State → Prop} (hfl : l.flags = pinnedFlags ++ [noTraceFlag]) (hx : p.tables.exec = Jvm.exec) (hb : c.code = code) (hml : c.maxLocals = 17) (hT : ∀ w ∈ TB, w.before args s = true) (hown : s.vm.findClass "MathDrillLaw" = some m.cls) (hth : tx_T s) {D : va_G} {x sc : Nat} (hn : s.heap.size ≤ x) {ov ii w : Int32} {aa bb : Int64} {ls : Array Slot} (hl : lv_has ls 17 [(8, .long bb), (5, .int w), (4, .int ii), (2, .long aa), (1, .ref x), (0, .ref sc)]) (hE : ax_X s.heap H) (hO : ox_O D s H x ov) (hc : cells + 20 ≤ room_1.cells) (hs : slots + 80 ≤ room_1.slots)
    (k : ∀ (H : Heap) (ov : Int32) (bb : Int64) (ls : Array Slot), ax_X s.heap H → ox_O D s H x ov → lv_has ls 17 [(8, .long bb), (4, .int ii), (1, .ref x), (0, .ref sc)] → W p l e room_1 s m args below meth c H [] (cells + 20) (slots + 80) Q (F0 m 662 ls [])) : W p l e room_1 s m args below meth c H [] cells slots Q (F0 m 101 ls []) := by
  refine lv_iload hx hb d_law_101 (lv_at hl 1 rfl) ?_
  refine lv_bipush (v := 64) hx hb d_law_103 (by decide) ?_
  refine lv_iand hx hb d_law_105 ?_
  refine lv_if_eq (tgt := 129) hx hb d_law_106 (by decide) (fun h1 => ?_) (fun h1 => ?_)
  · have hl := lv_sub hl [0, 1, 2, 3, 4, 5] rfl
    exact k_129 hfl hx hb hml hT hown hth hn hl hE hO hc hs k
  · refine lv_iload hx hb d_law_109 (lv_at hl 1 rfl) ?_
    refine lv_sipush (v := 128) hx hb d_law_111 (by decide) ?_
    refine lv_iand hx hb d_law_114 ?_
    refine lv_if_eq (tgt := 124) hx hb d_law_115 (by decide) (fun h2 => ?_) (fun h2 => ?_)
    · refine lv_ldc2 (v := (-1)) hx hb hown (hT _ tb_239) d_law_124 ?_
      refine lv_topl (fun v1 ev1 => ?_)
      refine lv_lstore (lv' := [(8, .long v1), (5, .int w), (4, .int ii), (2, .long aa), (1, .ref x), (0, .ref sc)]) hx hb d_law_127 hl (by decide) rfl (fun ls hl => ?_)
      have hl := lv_sub hl [0, 1, 2, 3, 4, 5] rfl
      exact k_129 hfl hx hb hml hT hown hth hn hl hE hO hc hs k
    · refine lv_ldc2 (v := (-9223372036854775808)) hx hb hown (hT _ tb_238) d_law_118 ?_
      refine lv_goto (tgt := 127) hx hb d_law_121 (by decide) ?_
      refine lv_topl (fun v2 ev2 => ?_)
      refine lv_lstore (lv' := [(8, .long v2), (5, .int w), (4, .int ii), (2, .long aa), (1, .ref x), (0, .ref sc)]) hx hb d_law_127 hl (by decide) rfl (fun ls hl => ?_)
      have hl := lv_sub hl [0, 1, 2, 3, 4, 5] rfl
      exact k_129 hfl hx hb hml hT hown hth hn hl hE hO hc hs k
set_option maxHeartbeats 4000000 in
set_option maxRecDepth 100000 in
theorem k_81 {p : Program} {l : Launch} {e : Env} {s : State} {m : MethodId} {args : Array Value} {below : List Frame} {meth : Method} {c : Code} {H : Heap} {cells slots : Nat} {Q : State → Prop} (hfl : l.flags = pinnedFlags ++ [noTraceFlag]) (hx : p.tables.exec = Jvm.exec) (hb : c.code = code) (hml : c.maxLocals = 17) (hT : ∀ w ∈ TB, w.before args s = true) (hown : s.vm.findClass "MathDrillLaw" = some m.cls) (hth : tx_T s) {D : va_G} {x sc : Nat} (hn : s.heap.size ≤ x) {ov ii w : Int32} {aa bb : Int64} {ls : Array Slot} (hl : lv_has ls 17 [(8, .long bb), (5, .int w), (4, .int ii), (2, .long aa), (1, .ref x), (0, .ref sc)]) (hE : ax_X s.heap H) (hO : ox_O D s H x ov) (hc : cells + 20 ≤ room_1.cells) (hs : slots + 80 ≤ room_1.slots)
    (k : ∀ (H : Heap) (ov : Int32) (bb : Int64) (ls : Array Slot), ax_X s.heap H → ox_O D s H x ov → lv_has ls 17 [(8, .long bb), (4, .int ii), (1, .ref x), (0, .ref sc)] → W p l e room_1 s m args below meth c H [] (cells + 20) (slots + 80) Q (F0 m 662 ls [])) : W p l e room_1 s m args below meth c H [] cells slots Q (F0 m 81 ls []) := by
  refine lv_iload hx hb d_law_81 (lv_at hl 1 rfl) ?_
  refine lv_bipush (v := 32) hx hb d_law_83 (by decide) ?_
  refine lv_iand hx hb d_law_85 ?_
  refine lv_if_eq (tgt := 101) hx hb d_law_86 (by decide) (fun h1 => ?_) (fun h1 => ?_)
  · have hl := lv_sub hl [0, 1, 2, 3, 4, 5] rfl
    exact k_101 hfl hx hb hml hT hown hth hn hl hE hO hc hs k
  · refine lv_lconst (v := 1) hx hb d_law_89 (by decide) ?_
    refine lv_iload hx hb d_law_90 (lv_at hl 1 rfl) ?_
    refine lv_bipush (v := 8) hx hb d_law_92 (by decide) ?_
    refine lv_ishr hx hb d_law_94 ?_
    refine lv_bipush (v := 63) hx hb d_law_95 (by decide) ?_
    refine lv_iand hx hb d_law_97 ?_
    refine lv_lshl hx hb d_law_98 rfl ?_
    refine lv_topl (fun v1 ev1 => ?_)
    refine lv_lstore (lv' := [(8, .long v1), (5, .int w), (4, .int ii), (2, .long aa), (1, .ref x), (0, .ref sc)]) hx hb d_law_99 hl (by decide) rfl (fun ls hl => ?_)
    have hl := lv_sub hl [0, 1, 2, 3, 4, 5] rfl
    exact k_101 hfl hx hb hml hT hown hth hn hl hE hO hc hs k
set_option maxHeartbeats 4000000 in
set_option maxRecDepth 100000 in
theorem k_22 {p : Program} {l : Launch} {e : Env} {s : State} {m : MethodId} {args : Array Value} {below : List Frame} {meth : Method} {c : Code} {H : Heap} {cells slots : Nat} {Q : State → Prop} (hfl : l.flags = pinnedFlags ++ [noTraceFlag]) (hx : p.tables.exec = Jvm.exec) (hb : c.code = code) (hml : c.maxLocals = 17) (hT : ∀ w ∈ TB, w.before args s = true) (hown : s.vm.findClass "MathDrillLaw" = some m.cls) (hth : tx_T s) {D : va_G} {x sc : Nat} (hn : s.heap.size ≤ x) {ov : Int32} {aa : Int64} {L n : Nat} {xs : Nat → Int32} {ls : Array Slot} (hl : lv_has ls 17 [(4, .int (nI (3 * n))), (2, .long aa), (1, .ref x), (0, .ref sc)]) (hL : L ≤ 9000) (h3 : 3 * n + 3 ≤ L) (hX : va_X sc L xs s s.heap) (hbl : sc < s.heap.size) (hE : ax_X s.heap H) (hO : ox_O D s H x ov) (hc : cells + 20 ≤ room_1.cells) (hs : slots + 80 ≤ room_1.slots)
    (k : ∀ (H : Heap) (ov : Int32) (bb : Int64) (ls : Array Slot), ax_X s.heap H → ox_O D s H x ov → lv_has ls 17 [(8, .long bb), (4, .int (nI (3 * n))), (1, .ref x), (0, .ref sc)] → W p l e room_1 s m args below meth c H [] (cells + 20) (slots + 80) Q (F0 m 662 ls [])) : W p l e room_1 s m args below meth c H [] cells slots Q (F0 m 22 ls []) := by
  have hS : va_S (fun q => s.heap.size ≤ q) s.heap H [] := ⟨hE.1, fun q h _ => hE.2 q h, fun _ h => by cases h⟩
  have hbA : ¬ (fun q => s.heap.size ≤ q) sc := fun h => absurd hbl (Nat.not_lt.mpr h)
  have i0 : vp_in (nI (3 * n)) L := vp_in_nI (by omega) (by omega)
  have i1 : vp_in (nI (3 * n) + 1) L := by rw [nI_1]; exact vp_in_nI (by omega) (by omega)
  have i2 : vp_in (nI (3 * n) + 2) L := by rw [show (2 : Int32) = nI 2 from rfl, nI_add]; exact vp_in_nI (by omega) (by omega)
  refine lv_aload_n hx hb d_law_22 rfl (lv_at hl 3 rfl) ?_
  refine lv_iload hx hb d_law_23 (lv_at hl 0 rfl) ?_
  refine va_sld hx hb hX hbl hbA hS i0 d_law_25 ?_
  refine lv_topi (fun u1 eu1 => ?_)
  refine lv_istore (lv' := [(5, .int u1), (4, .int (nI (3 * n))), (2, .long aa), (1, .ref x), (0, .ref sc)]) hx hb d_law_26 hl (by decide) rfl (fun ls hl => ?_)
  refine lv_aload_n hx hb d_law_28 rfl (lv_at hl 4 rfl) ?_
  refine lv_iload hx hb d_law_29 (lv_at hl 1 rfl) ?_
  refine lv_iconst (v := 1) hx hb d_law_31 (by decide) ?_
  refine lv_iadd hx hb d_law_32 ?_
  refine va_sld hx hb hX hbl hbA hS i1 d_law_33 ?_
  refine lv_topi (fun u2 eu2 => ?_)
  refine lv_istore (lv' := [(6, .int u2), (5, .int u1), (4, .int (nI (3 * n))), (2, .long aa), (1, .ref x), (0, .ref sc)]) hx hb d_law_34 hl (by decide) rfl (fun ls hl => ?_)
  refine lv_aload_n hx hb d_law_36 rfl (lv_at hl 5 rfl) ?_
  refine lv_iload hx hb d_law_37 (lv_at hl 2 rfl) ?_
  refine lv_iconst (v := 2) hx hb d_law_39 (by decide) ?_
  refine lv_iadd hx hb d_law_40 ?_
  refine va_sld hx hb hX hbl hbA hS i2 d_law_41 ?_
  refine lv_topi (fun u3 eu3 => ?_)
  refine lv_istore (lv' := [(7, .int u3), (6, .int u2), (5, .int u1), (4, .int (nI (3 * n))), (2, .long aa), (1, .ref x), (0, .ref sc)]) hx hb d_law_42 hl (by decide) rfl (fun ls hl => ?_)
  refine lv_iload hx hb d_law_44 (lv_at hl 1 rfl) ?_
  refine lv_i2l hx hb d_law_46 rfl ?_
  refine lv_bipush (v := 32) hx hb d_law_47 (by decide) ?_
  refine lv_lshl hx hb d_law_49 rfl ?_
  refine lv_iload hx hb d_law_50 (lv_at hl 0 rfl) ?_
  refine lv_i2l hx hb d_law_52 rfl ?_
  refine lv_ldc2 (v := 4294967295) hx hb hown (hT _ tb_209) d_law_53 ?_
  refine lv_land hx hb d_law_56 ?_
  refine lv_lor hx hb d_law_57 ?_
  refine lv_topl (fun v1 ev1 => ?_)
  refine lv_lstore (lv' := [(8, .long v1), (7, .int u3), (6, .int u2), (5, .int u1), (4, .int (nI (3 * n))), (2, .long aa), (1, .ref x), (0, .ref sc)]) hx hb d_law_58 hl (by decide) rfl (fun ls hl => ?_)
  refine lv_iload hx hb d_law_60 (lv_at hl 3 rfl) ?_
  refine lv_bipush (v := 16) hx hb d_law_62 (by decide) ?_
  refine lv_iand hx hb d_law_64 ?_
  refine lv_if_eq (tgt := 81) hx hb d_law_65 (by decide) (fun h1 => ?_) (fun h1 => ?_)
  · have hl := lv_sub hl [0, 3, 4, 5, 6, 7] rfl
    exact k_81 hfl hx hb hml hT hown hth hn hl hE hO hc hs k
  · refine lv_lload hx hb d_law_68 (lv_at hl 0 rfl) ?_
    refine lv_iload hx hb d_law_70 (lv_at hl 3 rfl) ?_
    refine lv_bipush (v := 8) hx hb d_law_72 (by decide) ?_
    refine lv_ishr hx hb d_law_74 ?_
    refine lv_bipush (v := 63) hx hb d_law_75 (by decide) ?_
    refine lv_iand hx hb d_law_77 ?_
    refine lv_lshr hx hb d_law_78 rfl ?_
    refine lv_topl (fun v2 ev2 => ?_)
    refine lv_lstore (lv' := [(8, .long v2), (7, .int u3), (6, .int u2), (5, .int u1), (4, .int (nI (3 * n))), (2, .long aa), (1, .ref x), (0, .ref sc)]) hx hb d_law_79 hl (by decide) rfl (fun ls hl => ?_)
    have hl := lv_sub hl [0, 3, 4, 5, 6, 7] rfl
    exact k_81 hfl hx hb hml hT hown hth hn hl hE hO hc hs k
def R_law : String := "MathDrillLaw"
def lw_P (b : Addr) (xs : List Int32) (args : Array Value) (s : State) : Prop := args = #[.ref b] ∧ s.IntsAt b xs ∧ xs.length ≤ 9000 ∧ (Jvm.Cond.and given_1 narrow_1).before args s = true ∧ (Jvm.Cond.isRef (.static Bundle.tN "SUPPRESSED_SENTINEL" Bundle.listD)).before args s = true
def lw_Q (_ : Array Value) (s : State) (o : Outcome) (t : State) : Prop := o = .returned (some (.int 1)) ∧ Framed s o t [] 1218000 5340250
def lw_Z (below : List Frame) (a : Array Value) (s : State) : State → Prop := fun t => ∃ o, t.status = .running ∧ Ended t below o ∧ lw_Q a s o t
/-- the law's own end, with 1 on the stack, nothing written that was there before, its room as the claim has it -/
theorem lw_ret {p : Program} {l : Launch} {e : Env} {s : State} {m : MethodId} {below : List Frame} {meth : Method} {c : Code} {b : Nat} (hx : p.tables.exec = Jvm.exec) (hb : c.code = code) (hr : meth.sig.returnType = ret) (hlocks : meth.locks = false) {pc : Nat} {H : Heap} {ls : Array Slot} (hdg : decode code pc = .ok (.ireturn, 1)) : W p l e room_1 s m #[Value.ref b] below meth c H [] 1218000 5340250 (lw_Z below #[Value.ref b] s) (F0 m pc ls [.int 1]) := by
  intro T hT X
  obtain ⟨fs, hret, hrun, hended, hW, hframe⟩ := X.leave (v := some (.int 1)) (hlocks := hlocks) (fun h => by rw [hr] at h; cases h)
  have hmeth' : T.vm.method? m = some meth := X.method'
  refine ⟨T.setFrames fs, ?_, .returned (some (.int 1)), hrun, hended, rfl, ⟨_, rfl⟩, hW, hframe⟩
  jvm_step X.here [X.here.top, hx, hb, hdg, hmeth', hr, ret, narrow_b1]
  (try refine ⟨rfl, ?_⟩); (try refine ⟨rfl, ?_⟩)
  first | (intro acts; rw [hret _ acts rfl rfl rfl]) | rw [hret _ _ rfl rfl rfl]
  exact Steps.refl _
set_option maxHeartbeats 4000000 in
set_option maxRecDepth 100000 in
theorem k_13 {p : Program} {l : Launch} {e : Env} {s : State} {m : MethodId} {below : List Frame} {meth : Method} {c : Code} {sc : Nat} (hfl : l.flags = pinnedFlags ++ [noTraceFlag]) (hx : p.tables.exec = Jvm.exec) (hb : c.code = code) (hr : meth.sig.returnType = ret) (hlocks : meth.locks = false) (hml : c.maxLocals = 17) (hT : ∀ w ∈ TB, w.before #[Value.ref sc] s = true) (hown : s.vm.findClass "MathDrillLaw" = some m.cls) (hth : tx_T s) {D : va_G} {x : Nat} (hn : s.heap.size ≤ x) {L : Nat} {xs : Nat → Int32} (hL : L ≤ 9000) (hX : va_X sc L xs s s.heap) (hbl : sc < s.heap.size) :
    ∀ (d n : Nat) (H : Heap) (ls : Array Slot) (aa : Int64) (ov : Int32), L / 3 ≤ n + d → n ≤ L / 3 → ax_X s.heap H → ox_O D s H x ov → lv_has ls 17 [(4, .int (nI (3 * n))), (2, .long aa), (1, .ref x), (0, .ref sc)] →
      W p l e room_1 s m #[Value.ref sc] below meth c H [] (1 + 20 * n) (1 + 80 * n) (lw_Z below #[Value.ref sc] s) (F0 m 13 ls []) := by
  intro d
  induction d with
  | zero =>
      intro n H ls aa ov hd hle hE hO hl
      have hS : va_S (fun q => s.heap.size ≤ q) s.heap H [] := ⟨hE.1, fun q h _ => hE.2 q h, fun _ h => by cases h⟩
      have hbA : ¬ (fun q => s.heap.size ≤ q) sc := fun h => absurd hbl (Nat.not_lt.mpr h)
      have g1 : (Int32.ofNat L - 3).toInt = (L : Int) - 3 := pk_sub_toInt (b := 3) (by omega) (by decide)
      have g2 : (nI (3 * n)).toInt = ((3 * n : Nat) : Int) := nI_toInt (by omega)
      refine lv_iload hx hb d_law_13 (lv_at hl 0 rfl) ?_
      refine lv_aload_n hx hb d_law_15 rfl (lv_at hl 3 rfl) ?_
      refine va_slen hx hb hX hbl hbA hS d_law_16 ?_
      refine lv_iconst (v := 3) hx hb d_law_17 (by decide) ?_
      refine lv_isub hx hb d_law_18 ?_
      refine lv_icmp_gt (tgt := 671) hx hb d_law_19 (by decide) (fun h1 => ?_) (fun h1 => ?_)
      · refine lv_iconst (v := 1) hx hb d_law_671 (by decide) ?_
        refine W.widen (k := 1218000) (n := 5340250) (by omega) (by omega) ?_
        exact lw_ret hx hb hr hlocks d_law_672
      · have h3 : 3 * n + 3 ≤ L := by rw [Int32.lt_iff_toInt_lt, g1, g2] at h1; omega
        exact absurd h3 (by omega)
  | succ d ih =>
      intro n H ls aa ov hd hle hE hO hl
      have hS : va_S (fun q => s.heap.size ≤ q) s.heap H [] := ⟨hE.1, fun q h _ => hE.2 q h, fun _ h => by cases h⟩
      have hbA : ¬ (fun q => s.heap.size ≤ q) sc := fun h => absurd hbl (Nat.not_lt.mpr h)
      have g1 : (Int32.ofNat L - 3).toInt = (L : Int) - 3 := pk_sub_toInt (b := 3) (by omega) (by decide)
      have g2 : (nI (3 * n)).toInt = ((3 * n : Nat) : Int) := nI_toInt (by omega)
      refine lv_iload hx hb d_law_13 (lv_at hl 0 rfl) ?_
      refine lv_aload_n hx hb d_law_15 rfl (lv_at hl 3 rfl) ?_
      refine va_slen hx hb hX hbl hbA hS d_law_16 ?_
      refine lv_iconst (v := 3) hx hb d_law_17 (by decide) ?_
      refine lv_isub hx hb d_law_18 ?_
      refine lv_icmp_gt (tgt := 671) hx hb d_law_19 (by decide) (fun h1 => ?_) (fun h1 => ?_)
      · refine lv_iconst (v := 1) hx hb d_law_671 (by decide) ?_
        refine W.widen (k := 1218000) (n := 5340250) (by omega) (by omega) ?_
        exact lw_ret hx hb hr hlocks d_law_672
      · have h3 : 3 * n + 3 ≤ L := by rw [Int32.lt_iff_toInt_lt, g1, g2] at h1; omega
        refine k_22 hfl hx hb hml hT hown hth hn hl hL h3 hX hbl hE hO (by show 1 + 20 * n + 20 ≤ 1218000; omega) (by show 1 + 80 * n + 80 ≤ 5340250; omega) (fun H ov bb ls hE hO hl => ?_)
        refine lv_lload hx hb d_law_662 (lv_at hl 0 rfl) ?_
        refine lv_lstore_n (lv' := [(2, .long bb), (8, .long bb), (4, .int (nI (3 * n))), (1, .ref x), (0, .ref sc)]) hx hb d_law_664 rfl hl (by decide) rfl (fun ls hl => ?_)
        refine lv_iinc (k := 2) (v := nI (3 * (n + 1))) (lv' := [(4, .int (nI (3 * (n + 1)))), (2, .long bb), (8, .long bb), (1, .ref x), (0, .ref sc)]) hx hb d_law_665 hl rfl (by rw [show 3 * (n + 1) = 3 * n + 3 from by omega, ← nI_add]; rfl) (by decide) rfl (fun ls hl => ?_)
        refine lv_goto (tgt := 13) hx hb d_law_668 (by decide) ?_
        have hl := lv_sub hl [0, 1, 3, 4] rfl
        exact W.cs (by omega) (by omega) (ih (n + 1) _ _ _ _ (by omega) (by omega) hE hO hl)
end
section
/-! the law's start, and the claim (from here on the skeleton, a starting text, with two facts more: the sentinel is a reference; the launch is without stack traces) -/
theorem lw_sen {s : State} {args : Array Value} (hh : heapFits s = true) (hl : (Jvm.Cond.laysStatic Bundle.tN "SUPPRESSED_SENTINEL" Bundle.listD).before args s = true) : (Jvm.Cond.isRef (.static Bundle.tN "SUPPRESSED_SENTINEL" Bundle.listD)).before args s = true := by
  obtain ⟨c, k, i, f, a, cell, hc, hi, hst, ha, hcell, hs, hcls, hlt, hty⟩ := Cond.laysStatic_spec hl
  have hk : s.vm.classes[c]? = some k := (State.fieldFound?_spec hi).1
  have hv : cell.slots[f.slot]? = some cell.slots[f.slot] := Array.getElem?_eq_getElem hlt
  have h1 : s.fitsSlot cell.cls cell.vm f.slot cell.slots[f.slot] = true := by
    have h2 : cellFits s cell = true := by
      obtain ⟨hl2, e2⟩ := Array.getElem?_eq_some_iff.mp hcell
      have h3 := Array.all_eq_true.mp hh a hl2
      rw [e2] at h3
      exact h3
    have h4 := List.all_eq_true.mp h2 f.slot (List.mem_range.mpr hlt)
    rw [hv] at h4
    exact h4
  have htt := (State.fieldFound?_type hi (t := .object "java/util/List") (by decide +kernel)).2
  have h2 : fits (.object "java/util/List") cell.slots[f.slot] = true := by
    cases hvm : cell.vm with
    | statics y => simpa [State.fitsSlot, State.slotType?, hcls, hk, hvm, hty, htt] using h1
    | _ => simp [hvm, VmData.isStatics] at hs
  have e1 : (Term.static Bundle.tN "SUPPRESSED_SENTINEL" Bundle.listD).eval args s none [] s = some cell.slots[f.slot] := by
    simp [Term.eval, State.fieldNamed?, hi, hst, ha, hcell, hs, hv]
  simp only [Cond.before, Cond.holds, Cond.value, e1]
  generalize cell.slots[f.slot] = v at h2
  cases v <;> simp [fits] at h2 ⊢
theorem lw_str {s : State} {args : Array Value} {k : Nat} {tx : String} (h1 : (Jvm.Cond.stringRef "java/lang/Math" k tx).before args s = true) (h2 : (Jvm.Cond.exactly (.string "java/lang/Math" k) "java/lang/String").before args s = true) : ∃ q, vk_R "java/lang/Math" k tx q s := by
  obtain ⟨a, c, cA, kA, q1, -⟩ := Cond.exactly_spec (args := args) (first := s) (o := none) (s := s) (idx := []) (t := .string "java/lang/Math" k) (cls := "java/lang/String") h2
  exact ⟨a, h1, q1⟩
theorem lw_T {s : State} {b : Nat} (hts : ∀ w ∈ lw_tbl, w.before #[Value.ref b] s = true) (hgv : (Jvm.Cond.and given_1 narrow_1).before #[Value.ref b] s = true) (hsen : (Jvm.Cond.isRef (.static Bundle.tN "SUPPRESSED_SENTINEL" Bundle.listD)).before #[Value.ref b] s = true) : tx_T s := by
  have hs := flat_of_before _ hgv
  refine ⟨?_, ?_, ?_, lw_str (hts _ tl_66) (hs _ (by decide +kernel)), lw_str (hts _ tl_100) (hs _ (by decide +kernel))⟩
  · intro w hw
    simp only [tx_face, List.mem_cons, List.not_mem_nil, or_false] at hw
    rcases hw with rfl | rfl | rfl | rfl
    · exact hts _ tl_29
    · exact hts _ tl_31
    · exact hts _ tl_33
    · exact hts _ tl_35
  · intro w hw
    simp only [tx_stat, List.mem_cons, List.not_mem_nil, or_false] at hw
    rcases hw with rfl | rfl
    · exact hts _ tl_54
    · exact hts _ tl_56
  · intro w hw
    simp only [tx_refs, List.mem_cons, List.not_mem_nil, or_false] at hw
    rcases hw with rfl | rfl
    · exact hs (.isRef (.static "java/lang/Throwable" "UNASSIGNED_STACK" "[Ljava/lang/StackTraceElement;")) (by decide +kernel)
    · exact hsen
section QXV
variable {p : Program} {l : Launch} {e : Env} {R : Room} {s : State} {m : MethodId} {args : Array Value} {below : List Frame} {meth : Method} {c : Code} {locs : List Loc} {cells slots : Nat} {H : Heap} {Q : State → Prop}
variable {pc : Nat} {ls : Array Slot} {rest st0 : List Value} {a : Array Value}
theorem qx_callV (hr : va_Run p l e R s m args below meth c H locs cells slots 0 0 (F0 m pc ls st0) rest (qx_V a) (fun _ => False)) (kk : W p l e R s m args below meth c H locs cells slots Q (F0 m (pc + 3) ls rest)) : W p l e R s m args below meth c H locs cells slots Q (F0 m pc ls st0) := by
  intro T hT X
  obtain ⟨v, st₀, t, T', L, h0, X', hL, e1, -, ⟨hv, hh⟩, st⟩ := hr T hT X
  cases hv
  obtain ⟨t2, a1, b1⟩ := kk T' (by rw [e1, hh, h0]) (Stand.forget X' (fun q h => (hL q h).elim))
  exact ⟨t2, st t2 a1, b1⟩
end QXV
/-- what holds at the law's entry: the machine, the code, the tables' words (any of lw_tbl by 'hts w (by decide +kernel)'), the script of L ints xs at the cell b, what the Statement gives of the start (any of its parts by flat_of_before) -/
def lw_At (p : Program) (s : State) (m : MethodId) (meth : Method) (c : Code) (b L : Nat) (xs : Nat → Int32) : Prop :=
  p.tables.exec = Jvm.exec ∧ c.code = code ∧ meth.sig.returnType = ret ∧ c.maxLocals = 17 ∧ s.vm.findClass R_law = some m.cls ∧ (∀ w ∈ lw_tbl, w.before #[Value.ref b] s = true) ∧ va_X b L xs s s.heap ∧ b < s.heap.size ∧ meth.locks = false ∧ (Jvm.Cond.and given_1 narrow_1).before #[Value.ref b] s = true ∧ (Jvm.Cond.isRef (.static Bundle.tN "SUPPRESSED_SENTINEL" Bundle.listD)).before #[Value.ref b] s = true
set_option maxHeartbeats 4000000 in
set_option maxRecDepth 100000 in
theorem whole_start {p : Program} {e : Env} {s : State} {m : MethodId} {below : List Frame} {meth : Method} {c : Code} (l : Launch) (hfl : l.flags = pinnedFlags ++ [noTraceFlag]) {b L : Nat} {xs : Nat → Int32} (hL : L ≤ 9000) (C0 : lw_At p s m meth c b L xs) : W p l e room_1 s m #[Value.ref b] below meth c s.heap [] 0 0 (lw_Z below #[Value.ref b] s) (entryFrame m ([Value.ref b] : List Value).toArray 17) := by
  obtain ⟨hx, hb, hr, hml, hown0, hts, hX, hbl, hlocks, hgv, hsen⟩ := C0
  have hown : s.vm.findClass "MathDrillLaw" = some m.cls := hown0
  have hT : ∀ w ∈ TB, w.before #[Value.ref b] s = true := fun w hw => hts w (tb_sub w hw)
  have hTB : ∀ w ∈ TB, w ∈ TB := fun _ h => h
  have hth : tx_T s := lw_T hts hgv hsen
  obtain ⟨cC, iS, hKn⟩ := u_known (C := R_MD) (T := F_MD) (N := 1) (n := 1) hT in_MD (hT _ tb_8)
  have hK : va_K ((fun _ => cC), (fun _ => iS)) clD [] s := by
    refine ⟨fun k q hk => ?_, fun k q hk => by cases hk⟩
    have hz : k < 1 := (List.getElem?_eq_some_iff.mp hk).1
    rw [show k = 0 by omega] at hk
    cases hk
    exact hKn
  have hl := lv_entry ([.ref b]) (n := 17) (Nat.le_of_ble_eq_true rfl)
  rw [lg_entry_eq]
  generalize (lg_sl ([.ref b]) ++ List.replicate (17 - (lg_sl ([.ref b])).length) Slot.unset).toArray = ls at hl ⊢
  have hl : lv_has ls 17 [(0, .ref b)] := hl
  refine va_new (ws := []) (A := fun q => s.heap.size ≤ q) (ci := 0) (fs := [.int 0]) (C := R_MD) (T := F_MD) (N := 1) hx hb hT in_MD t_MD t_MD_ok hown (hT _ tb_7) (hT _ tb_8) (hT _ tb_1) hK (fun k q hk => by cases hk) ⟨fun i j p q hi => (by cases hi), fun k q hk => (by cases hk)⟩ va_S.rf (fun q h => h) rfl (fun j hj => by rcases (show j = 0 by omega) with rfl; rfl) (Nat.le_of_ble_eq_true rfl) (Nat.le_of_ble_eq_true rfl) d_law_0 (fun x H hP hD hS => ?_)
  have hn : s.heap.size ≤ x := hD.2 0 _ rfl
  have hE : ax_X s.heap H := ⟨hS.1, fun q hq => hS.2.1 q hq (Nat.not_le.mpr hq)⟩
  have hO : ox_O ((fun _ => cC), (fun _ => iS)) s H x 0 := ⟨hP, hK⟩
  refine lv_dup hx hb d_law_3 rfl ?_
  refine qx_callV (va_runI (As := []) (rest := [.ref x]) ⟨hx, hb, hml, hown, hT⟩ (c_dInit l x) (cwI 0 hT (gi_0 hTB tb_11) rfl rfl rfl (hT _ tb_1) (hT _ tb_9) (hT _ tb_10) rfl ⟨by decide, by decide, by decide +kernel⟩ ⟨Nat.le_of_ble_eq_true rfl, Nat.le_of_ble_eq_true rfl⟩) ⟨fun _ _ _ _ q => q, fun _ _ _ => ⟨rfl, trivial⟩⟩ rfl rfl hl.1 rfl (lv_room (Nat.le_of_ble_eq_true rfl)) d_law_4 ⟨Nat.le_of_ble_eq_true rfl, Nat.le_of_ble_eq_true rfl⟩) ?_
  refine lv_astore_n (lv' := [(1, .ref x), (0, .ref b)]) hx hb d_law_7 rfl hl (by decide) rfl (fun ls hl => ?_)
  refine lv_lconst (v := 0) hx hb d_law_8 (by decide) ?_
  refine lv_lstore_n (lv' := [(2, .long 0), (1, .ref x), (0, .ref b)]) hx hb d_law_9 rfl hl (by decide) rfl (fun ls hl => ?_)
  refine lv_iconst (v := 0) hx hb d_law_10 (by decide) ?_
  refine lv_istore (lv' := [(4, .int 0), (2, .long 0), (1, .ref x), (0, .ref b)]) hx hb d_law_11 hl (by decide) rfl (fun ls hl => ?_)
  have hl := lv_sub hl [0, 1, 2, 3] rfl
  exact k_13 hfl hx hb hr hlocks hml hT hown hth hn hL hX hbl (L / 3) 0 H _ _ _ (by omega) (by omega) hE hO hl
set_option maxHeartbeats 4000000 in
theorem lw_walk (l : Launch) (hfl : l.flags = pinnedFlags ++ [noTraceFlag]) (b : Addr) (xs : List Int32) : MetFree l x (headSpec (Jvm.Cond.code x code maxLocals ret :: tables_1) room_1) (lw_P b xs) (fun _ _ _ _ _ => True) lw_Q := by
  refine MetFree.of_bodyS (code := code) (maxLocals := maxLocals) (ret := ret) (by decide) ?_ ?_
  · intro args s m h hn
    obtain ⟨meth, c, h1, h2, h3, h4, h5, h6, -, -⟩ := Cond.code_spec hn (atoms_spec (ws := Jvm.Cond.code x code maxLocals ret :: tables_1) h _ List.mem_cons_self)
    exact ⟨meth, c, h1, h2, h3, h4, h5, h6⟩
  · intro p e s m args below meth c s₁ B hml0 hP _
    obtain ⟨rfl, hx, hbd, hgv, hsen⟩ := hP
    obtain ⟨scr, harrAt, hlist, hof, hsmall⟩ := hx
    obtain ⟨hcb, hkn, -, -⟩ := State.arrayAt?_spec harrAt
    have hown : s.vm.findClass R_law = some m.cls := findClass_of_methodNamed B.named
    have hts0 : ∀ c ∈ (Jvm.Cond.code x code maxLocals ret :: tables_1), c.before #[Value.ref b] s = true := atoms_spec (ws := Jvm.Cond.code x code maxLocals ret :: tables_1) B.pre
    have hts : ∀ w ∈ lw_tbl, w.before #[Value.ref b] s = true := k2_hts_sels lw_privs (fun w hw => hts0 w (List.mem_cons_of_mem _ hw)) lw_privs_ok
    have hml : c.maxLocals = 17 := B.maxLocals_eq (hts0 _ List.mem_cons_self)
    have X₀ : Stand p l e room_1 s m #[Value.ref b] below meth c s₁ [] 0 0 := Stand.of_body B
    have hh0 : s₁.heap = s.heap := by rw [B.state]; rfl
    have hsz : scr.slots.size = xs.length := by rw [← Array.length_toList, hlist, List.length_map]
    have hval : ∀ j : Nat, j < xs.length → scr.slots[j]? = some (.int (xs.getD j 0)) := fun j hj => by
      rw [← Array.getElem?_toList, hlist]
      simp [hj]
    have hbl : b < s.heap.size := (Array.getElem?_eq_some_iff.mp hcb).1
    have hX : va_X b xs.length (fun j => xs.getD j 0) s s.heap := ⟨scr, hcb, hof, hkn, hsz, hval⟩
    have K : W p l e room_1 s m #[Value.ref b] below meth c s₁.heap [] 0 0 (lw_Z below #[Value.ref b] s) (entryFrame m ([Value.ref b] : List Value).toArray 17) := by
      rw [hh0]
      exact whole_start l hfl hbd ⟨B.exec, B.bytes, B.returns, hml, hown, hts, hX, hbl, B.notSynchronized, hgv, hsen⟩
    obtain ⟨t, a1, o, b1, b2, b3⟩ := K s₁ rfl X₀
    exact ⟨t, o, a1, b1, b2, b3⟩
theorem lw_pre_spec {args : Array Value} {s : State} (hsen : (Jvm.Cond.isRef (.static Bundle.tN "SUPPRESSED_SENTINEL" Bundle.listD)).before args s = true) (h : (Jvm.Cond.and given_1 narrow_1).before args s = true) (hr : rest_1_c.before args s = true) : ∃ (b : Addr) (xs : List Int32), lw_P b xs args s := by
  have hs := flat_of_before _ h
  have hq := flat_of_before _ hr
  have hc : (Cond.count 1).before args s = true := hs _ (by decide +kernel)
  have harr : (Cond.arrayOf (.arg 0) .int).before args s = true := hs _ (by decide +kernel)
  have hle : (Cond.le (.length (.arg 0)) (.int 9000)).before args s = true := hs _ (by decide +kernel)
  have hlen : (Cond.isInt (.length (.arg 0))).before args s = true := hq _ (by decide +kernel)
  have hall : (Cond.all (.arg 0) (.isInt (.elem (.arg 0) (.index 0)))).before args s = true := hq _ (by decide +kernel)
  obtain ⟨b, xs, hb, hx⟩ := State.ints_of_pre rfl harr hlen hall
  have hsm : xs.length < 2 ^ 31 := hx.choose_spec.2.2.2
  have hev : (Term.length (.arg 0)).eval args s none [] s = some (.int xs.length.toInt32) := hx.length_eval hb
  have hv := Cond.le_ints hev (show (Term.int 9000).eval args s none [] s = some (.int 9000) from rfl)
  have hd : xs.length.toInt32 ≤ 9000 := by
    simpa [Cond.before, Cond.holds, hv] using hle
  have hN : xs.length ≤ 9000 := (Int32.ofNat_le_ofNat hsm (by decide)).mp (show Int32.ofNat xs.length ≤ Int32.ofNat 9000 from hd)
  exact ⟨b, xs, Cond.one_arg hc (show args[0]? = some (.ref b) from hb), hx, hN, h, hsen⟩
theorem lw_comes (l : Launch) (hfl : l.flags = pinnedFlags ++ [noTraceFlag]) : Comes l x (Jvm.Cond.code x code maxLocals ret :: tables_1) room_1 (fun tb e args s => Calls_1 tb e args s ∧ rest_1 tb e args s ∧ Pre_1 tb e args s)
    (fun _ _ args s o t => lw_Q args s o t) := by
  intro p e ha hc hk s m args below hf hfit hheap happ hpre
  have happ2 := ((Spec.applies_iff_loose hf).mp happ).1
  have hsen := lw_sen hheap (atoms_spec (ws := Jvm.Cond.code x code maxLocals ret :: tables_1) ((Spec.appliesLoose_iff hf).mp happ2).2.2.2.2.2.2.2 _ (List.mem_cons_of_mem _ (List.mem_of_getElem? (i := 56) rfl)))
  obtain ⟨b, xs, hP⟩ := lw_pre_spec hsen hpre.2.2 hpre.2.1
  obtain ⟨k, o, h1, h2, h3, hQ⟩ := lw_walk l hfl b xs p e ha hc hk s m args below hf ((Spec.applies_iff_loose hf).mp happ).1 hP trivial
  exact ⟨k, o, h1, h2, h3, hQ⟩
theorem lw_frame {s t : State} {o : Outcome} {args : Array Value} (h : Framed s o t [] 1218000 5340250) :
    Framed s o t (fieldLocs frame_1_writes args s ++ arrayLocs frame_1_arrays args s ++ staticLocs frame_1_statics s) 1218000 5340250 := h
theorem lw_limb (L : Cond) (hL : ∀ (args : Array Value) (s t : State), L.after args s (.returned (some (.int 1))) t = true) :
    ArmFor flags0 classFile x code maxLocals ret World_1 tables_1 room_1 Calls_1 rest_1 Pre_1
      (fun tb e a s o t => postC L tb e a s o t ∧ Framed s o t (fieldLocs frame_1_writes a s ++ arrayLocs frame_1_arrays a s ++ staticLocs frame_1_statics s) 1218000 5340250) := by
  intro l hfl _ _ p e ha hc hk s m args below hf hfit hheap happ hpre
  obtain ⟨k, o, h1, h2, h3, rfl, hF⟩ := lw_comes l hfl p e ha hc hk s m args below hf hfit hheap happ hpre
  exact ⟨k, _, h1, h2, h3, hL args s _, lw_frame hF⟩
theorem i_vc : Claimed_1_1 ∧ Claimed_1_2 := ⟨lw_limb limb_1_1 (fun args s t => by simp [limb_1_1, Cond.after, Cond.holds, Cond.value]), lw_limb limb_1_2 (fun args s t => Cond.after_iff.mpr (by
  first | (rw [show limb_1_2 = Cond.eq .result (.int 1) from rfl, Cond.eq_ints (x := 1) (y := 1) rfl rfl]; simp; done) | (simp [limb_1_2, Cond.value, Term.eval]; done)))⟩
end
