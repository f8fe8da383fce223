section
-- PART A of the skeleton (starting text), then names and words, printed by gen/names.py
/-- a private method of a class that the tables say can be made, by its rows of tables_1 -/
def lw_okq (q : MethodName × Nat) : Prop := (q.1.cls ≠ "java/lang/invoke/MethodHandle" ∧ q.1.cls ≠ "java/lang/invoke/VarHandle") ∧ Cond.instantiable q.1.cls q.2 ∈ tables_1 ∧ Cond.privateMethod q.1 ∈ tables_1 ∧ Cond.instanceMethod q.1 ∈ tables_1
theorem lw_p0 : lw_okq (⟨"java/lang/Throwable", "fillInStackTrace", "(I)Ljava/lang/Throwable;"⟩, 6) := ⟨⟨by decide +kernel, by decide +kernel⟩, List.mem_of_getElem? (i := 81) (by decide +kernel), List.mem_of_getElem? (i := 79) (by decide +kernel), List.mem_of_getElem? (i := 80) (by decide +kernel)⟩
theorem lw_p1 : lw_okq (⟨"TenThousandthDesk", "keep", "(IJ)J"⟩, 2) := ⟨⟨by decide +kernel, by decide +kernel⟩, List.mem_of_getElem? (i := 14) (by decide +kernel), List.mem_of_getElem? (i := 163) (by decide +kernel), List.mem_of_getElem? (i := 164) (by decide +kernel)⟩
theorem lw_p2 : lw_okq (⟨"TenThousandthDeskModel", "out", "(I)Z"⟩, 3) := ⟨⟨by decide +kernel, by decide +kernel⟩, List.mem_of_getElem? (i := 251) (by decide +kernel), List.mem_of_getElem? (i := 276) (by decide +kernel), List.mem_of_getElem? (i := 277) (by decide +kernel)⟩
theorem lw_p3 : lw_okq (⟨"TenThousandthDeskModel", "fail", "(I)I"⟩, 3) := ⟨⟨by decide +kernel, by decide +kernel⟩, List.mem_of_getElem? (i := 251) (by decide +kernel), List.mem_of_getElem? (i := 282) (by decide +kernel), List.mem_of_getElem? (i := 283) (by decide +kernel)⟩
theorem lw_p4 : lw_okq (⟨"TenThousandthDeskModel", "put", "(IZJI)J"⟩, 3) := ⟨⟨by decide +kernel, by decide +kernel⟩, List.mem_of_getElem? (i := 251) (by decide +kernel), List.mem_of_getElem? (i := 297) (by decide +kernel), List.mem_of_getElem? (i := 298) (by decide +kernel)⟩
theorem lw_p5 : lw_okq (⟨"TenThousandthDeskModel", "product", "(JJ)J"⟩, 3) := ⟨⟨by decide +kernel, by decide +kernel⟩, List.mem_of_getElem? (i := 251) (by decide +kernel), List.mem_of_getElem? (i := 301) (by decide +kernel), List.mem_of_getElem? (i := 302) (by decide +kernel)⟩
theorem lw_p6 : lw_okq (⟨"TenThousandthDeskModel", "quotient", "(JJ)J"⟩, 3) := ⟨⟨by decide +kernel, by decide +kernel⟩, List.mem_of_getElem? (i := 251) (by decide +kernel), List.mem_of_getElem? (i := 308) (by decide +kernel), List.mem_of_getElem? (i := 309) (by decide +kernel)⟩
def lw_privs_1 : List (MethodName × Nat) := [(⟨"java/lang/Throwable", "fillInStackTrace", "(I)Ljava/lang/Throwable;"⟩, 6), (⟨"TenThousandthDesk", "keep", "(IJ)J"⟩, 2), (⟨"TenThousandthDeskModel", "out", "(I)Z"⟩, 3), (⟨"TenThousandthDeskModel", "fail", "(I)I"⟩, 3), (⟨"TenThousandthDeskModel", "put", "(IZJI)J"⟩, 3), (⟨"TenThousandthDeskModel", "product", "(JJ)J"⟩, 3), (⟨"TenThousandthDeskModel", "quotient", "(JJ)J"⟩, 3)]
theorem lw_r1 : ∀ q ∈ lw_privs_1, lw_okq q := List.forall_mem_cons.mpr ⟨lw_p0, List.forall_mem_cons.mpr ⟨lw_p1, List.forall_mem_cons.mpr ⟨lw_p2, List.forall_mem_cons.mpr ⟨lw_p3, List.forall_mem_cons.mpr ⟨lw_p4, List.forall_mem_cons.mpr ⟨lw_p5, List.forall_mem_cons.mpr ⟨lw_p6, fun _ h => absurd h List.not_mem_nil⟩⟩⟩⟩⟩⟩⟩
def lw_privs : List (MethodName × Nat) := lw_privs_1
def lw_tbl : List Cond := k2_sels lw_privs ++ tables_1
theorem lw_privs_ok : ∀ q ∈ lw_privs, lw_okq q := lw_r1
def R_Dk : String := "TenThousandthDesk"
def R_De : String := "TenThousandthDesk$Decimal"
def R_Pr : String := "TenThousandthDesk$Printer"
def R_Mo : String := "TenThousandthDeskModel"
def R_Ma : String := "java/lang/Math"
def R_La : String := "TenThousandthDeskLaw"
abbrev b_Dk_init : ByteArray := prog_1_method_1_code
def y_Dk_init : MethodName := ⟨"TenThousandthDesk", "<init>", "()V"⟩
abbrev b_La_set : ByteArray := method_3_code
def y_La_set : MethodName := ⟨"TenThousandthDeskLaw", "set", "(LTenThousandthDesk;IJ[J)I"⟩
abbrev b_Dk_set : ByteArray := prog_1_method_3_code
def y_Dk_set : MethodName := ⟨"TenThousandthDesk", "set", "(IJ)J"⟩
abbrev b_Dk_in : ByteArray := prog_1_method_2_code
def y_Dk_in : MethodName := ⟨"TenThousandthDesk", "in", "(JJJ)V"⟩
abbrev b_La_get : ByteArray := method_4_code
def y_La_get : MethodName := ⟨"TenThousandthDeskLaw", "get", "(LTenThousandthDesk;I[J)I"⟩
abbrev b_Dk_get : ByteArray := prog_1_method_4_code
def y_Dk_get : MethodName := ⟨"TenThousandthDesk", "get", "(I)J"⟩
abbrev b_La_reckon : ByteArray := method_5_code
def y_La_reckon : MethodName := ⟨"TenThousandthDeskLaw", "reckon", "(LTenThousandthDesk;IIII[J)I"⟩
abbrev b_Dk_reckon : ByteArray := prog_1_method_6_code
def y_Dk_reckon : MethodName := ⟨"TenThousandthDesk", "reckon", "(IIII)J"⟩
abbrev b_De_fit : ByteArray := prog_2_method_2_code
def y_De_fit : MethodName := ⟨"TenThousandthDesk$Decimal", "fit", "(J)J"⟩
abbrev b_Dk_keep : ByteArray := prog_1_method_5_code
def y_Dk_keep : MethodName := ⟨"TenThousandthDesk", "keep", "(IJ)J"⟩
abbrev b_De_times : ByteArray := prog_2_method_4_code
def y_De_times : MethodName := ⟨"TenThousandthDesk$Decimal", "times", "(JJ)J"⟩
abbrev b_De_half : ByteArray := prog_2_method_3_code
def y_De_half : MethodName := ⟨"TenThousandthDesk$Decimal", "half", "(JJ)J"⟩
abbrev b_De_by : ByteArray := prog_2_method_5_code
def y_De_by : MethodName := ⟨"TenThousandthDesk$Decimal", "by", "(JJ)J"⟩
abbrev b_Ma_floorMod : ByteArray := prog_9_method_52_code
def y_Ma_floorMod : MethodName := ⟨"java/lang/Math", "floorMod", "(JJ)J"⟩
abbrev b_La_turn : ByteArray := method_6_code
def y_La_turn : MethodName := ⟨"TenThousandthDeskLaw", "turn", "(LTenThousandthDesk;III[J)I"⟩
abbrev b_Dk_turn : ByteArray := prog_1_method_7_code
def y_Dk_turn : MethodName := ⟨"TenThousandthDesk", "turn", "(III)J"⟩
abbrev b_De_floor : ByteArray := prog_2_method_6_code
def y_De_floor : MethodName := ⟨"TenThousandthDesk$Decimal", "floor", "(J)J"⟩
abbrev b_Ma_floorDiv : ByteArray := prog_9_method_49_code
def y_Ma_floorDiv : MethodName := ⟨"java/lang/Math", "floorDiv", "(JJ)J"⟩
abbrev b_La_round : ByteArray := method_7_code
def y_La_round : MethodName := ⟨"TenThousandthDeskLaw", "round", "(LTenThousandthDesk;III[J)I"⟩
abbrev b_Dk_round : ByteArray := prog_1_method_8_code
def y_Dk_round : MethodName := ⟨"TenThousandthDesk", "round", "(III)J"⟩
abbrev b_De_round : ByteArray := prog_2_method_7_code
def y_De_round : MethodName := ⟨"TenThousandthDesk$Decimal", "round", "(JJ)J"⟩
abbrev b_La_print : ByteArray := method_8_code
def y_La_print : MethodName := ⟨"TenThousandthDeskLaw", "print", "(LTenThousandthDesk;II[J)I"⟩
abbrev b_Dk_print : ByteArray := prog_1_method_9_code
def y_Dk_print : MethodName := ⟨"TenThousandthDesk", "print", "(II)I"⟩
abbrev b_Pr_digits : ByteArray := prog_3_method_2_code
def y_Pr_digits : MethodName := ⟨"TenThousandthDesk$Printer", "digits", "(J[B)I"⟩
abbrev b_La_average : ByteArray := method_9_code
def y_La_average : MethodName := ⟨"TenThousandthDeskLaw", "average", "(LTenThousandthDesk;I[J)I"⟩
abbrev b_Dk_average : ByteArray := prog_1_method_10_code
def y_Dk_average : MethodName := ⟨"TenThousandthDesk", "average", "(I)J"⟩
abbrev b_Mo_init : ByteArray := prog_5_method_1_code
def y_Mo_init : MethodName := ⟨"TenThousandthDeskModel", "<init>", "()V"⟩
abbrev b_Mo_thrown : ByteArray := prog_5_method_2_code
def y_Mo_thrown : MethodName := ⟨"TenThousandthDeskModel", "thrown", "()I"⟩
abbrev b_Mo_set : ByteArray := prog_5_method_6_code
def y_Mo_set : MethodName := ⟨"TenThousandthDeskModel", "set", "(IJ)J"⟩
abbrev b_Mo_out : ByteArray := prog_5_method_4_code
def y_Mo_out : MethodName := ⟨"TenThousandthDeskModel", "out", "(I)Z"⟩
abbrev b_Mo_fail : ByteArray := prog_5_method_3_code
def y_Mo_fail : MethodName := ⟨"TenThousandthDeskModel", "fail", "(I)I"⟩
abbrev b_Mo_get : ByteArray := prog_5_method_7_code
def y_Mo_get : MethodName := ⟨"TenThousandthDeskModel", "get", "(I)J"⟩
abbrev b_Mo_reckon : ByteArray := prog_5_method_11_code
def y_Mo_reckon : MethodName := ⟨"TenThousandthDeskModel", "reckon", "(IIII)J"⟩
abbrev b_Mo_size : ByteArray := prog_5_method_5_code
def y_Mo_size : MethodName := ⟨"TenThousandthDeskModel", "size", "(J)J"⟩
abbrev b_Mo_put : ByteArray := prog_5_method_8_code
def y_Mo_put : MethodName := ⟨"TenThousandthDeskModel", "put", "(IZJI)J"⟩
abbrev b_Mo_product : ByteArray := prog_5_method_9_code
def y_Mo_product : MethodName := ⟨"TenThousandthDeskModel", "product", "(JJ)J"⟩
abbrev b_Mo_quotient : ByteArray := prog_5_method_10_code
def y_Mo_quotient : MethodName := ⟨"TenThousandthDeskModel", "quotient", "(JJ)J"⟩
abbrev b_Mo_turn : ByteArray := prog_5_method_12_code
def y_Mo_turn : MethodName := ⟨"TenThousandthDeskModel", "turn", "(III)J"⟩
abbrev b_Mo_round : ByteArray := prog_5_method_13_code
def y_Mo_round : MethodName := ⟨"TenThousandthDeskModel", "round", "(III)J"⟩
abbrev b_Mo_print : ByteArray := prog_5_method_14_code
def y_Mo_print : MethodName := ⟨"TenThousandthDeskModel", "print", "(II)I"⟩
abbrev b_Mo_average : ByteArray := prog_5_method_15_code
def y_Mo_average : MethodName := ⟨"TenThousandthDeskModel", "average", "(I)J"⟩
abbrev b_La_law : ByteArray := code
def y_La_law : MethodName := ⟨"TenThousandthDeskLaw", "law", "([I)Z"⟩
/-- the words that every contract here is under: those of lw_tbl that any caller can hand on -/
def tt : List Cond := lw_tbl.filter goodWord
theorem tt_in {w : Cond} (i : Nat) (h : tables_1[i]? = some w) (hg : goodWord w = true) : w ∈ tt :=
  List.mem_filter.mpr ⟨List.mem_append_right _ (List.mem_of_getElem? h), hg⟩
theorem tt_sel {w : Cond} (i : Nat) (h : (k2_sels lw_privs)[i]? = some w) (hg : goodWord w = true) : w ∈ tt :=
  List.mem_filter.mpr ⟨List.mem_append_left _ (List.mem_of_getElem? h), hg⟩
theorem tt_good {w : Cond} (h : w ∈ tt) : (w.onTables && w.keeps) = true ∨ ∃ ty, w = .arrayClass ty := good_of_word (List.mem_filter.mp h).2
theorem tt_GoodIn {w0 w1 : Cond} (h : w1 ∈ tt) : GoodIn (w0 :: tt) (w1 :: tt) := by
  intro w hw
  rcases List.mem_cons.mp hw with rfl | hw
  · exact ⟨List.mem_cons_of_mem _ h, tt_good h⟩
  · exact ⟨List.mem_cons_of_mem _ hw, tt_good hw⟩
theorem t_0 : Cond.initialized "TenThousandthDeskLaw" ∈ tt := tt_in 0 (by decide +kernel) (by decide +kernel)
theorem t_1 : Cond.initialized "TenThousandthDesk" ∈ tt := tt_in 1 (by decide +kernel) (by decide +kernel)
theorem t_2 : Cond.initialized "TenThousandthDeskModel" ∈ tt := tt_in 2 (by decide +kernel) (by decide +kernel)
theorem t_3 : Cond.initialized "java/lang/Throwable" ∈ tt := tt_in 3 (by decide +kernel) (by decide +kernel)
theorem t_4 : Cond.initialized "java/lang/Exception" ∈ tt := tt_in 4 (by decide +kernel) (by decide +kernel)
theorem t_5 : Cond.initialized "java/lang/RuntimeException" ∈ tt := tt_in 5 (by decide +kernel) (by decide +kernel)
theorem t_6 : Cond.initialized "java/lang/IllegalArgumentException" ∈ tt := tt_in 6 (by decide +kernel) (by decide +kernel)
theorem t_7 : Cond.initialized "java/lang/ArithmeticException" ∈ tt := tt_in 7 (by decide +kernel) (by decide +kernel)
theorem t_8 : Cond.initialized "java/lang/String" ∈ tt := tt_in 8 (by decide +kernel) (by decide +kernel)
theorem t_9 : Cond.initialized "TenThousandthDesk$Decimal" ∈ tt := tt_in 9 (by decide +kernel) (by decide +kernel)
theorem t_10 : Cond.initialized "java/lang/UnsupportedOperationException" ∈ tt := tt_in 10 (by decide +kernel) (by decide +kernel)
theorem t_11 : Cond.initialized "java/lang/Math" ∈ tt := tt_in 11 (by decide +kernel) (by decide +kernel)
theorem t_12 : Cond.initialized "TenThousandthDesk$Printer" ∈ tt := tt_in 12 (by decide +kernel) (by decide +kernel)
theorem t_13 : Cond.classLink "TenThousandthDeskLaw" 8 "TenThousandthDesk" ∈ tt := tt_in 13 (by decide +kernel) (by decide +kernel)
theorem t_14 : Cond.instantiable "TenThousandthDesk" 2 ∈ tt := tt_in 14 (by decide +kernel) (by decide +kernel)
theorem t_15 : Cond.methodLink "TenThousandthDeskLaw" 41 y_Dk_init ∈ tt := tt_in 15 (by decide +kernel) (by decide +kernel)
theorem t_16 : Cond.instanceMethod y_Dk_init ∈ tt := tt_in 16 (by decide +kernel) (by decide +kernel)
theorem t_17 : Cond.code y_Dk_init b_Dk_init 1 none ∈ tt := tt_in 17 (by decide +kernel) (by decide +kernel)
theorem t_18 : Cond.methodLink "TenThousandthDesk" 1 (⟨"java/lang/Object", "<init>", "()V"⟩ : MethodName) ∈ tt := tt_in 18 (by decide +kernel) (by decide +kernel)
theorem t_19 : Cond.instanceMethod (⟨"java/lang/Object", "<init>", "()V"⟩ : MethodName) ∈ tt := tt_in 19 (by decide +kernel) (by decide +kernel)
theorem t_20 : Cond.code (⟨"java/lang/Object", "<init>", "()V"⟩ : MethodName) object_method_1_code 1 none ∈ tt := tt_in 20 (by decide +kernel) (by decide +kernel)
theorem t_21 : Cond.fieldLink "TenThousandthDesk" 7 "TenThousandthDesk" "registers" "[J" ∈ tt := tt_in 21 (by decide +kernel) (by decide +kernel)
theorem t_22 : Cond.fieldLink "TenThousandthDesk" 13 "TenThousandthDesk" "row" "[B" ∈ tt := tt_in 22 (by decide +kernel) (by decide +kernel)
theorem t_23 : Cond.laysFinal "TenThousandthDesk" "TenThousandthDesk" "registers" "[J" ∈ tt := tt_in 23 (by decide +kernel) (by decide +kernel)
theorem t_24 : Cond.soleField "TenThousandthDesk" "registers" ∈ tt := tt_in 24 (by decide +kernel) (by decide +kernel)
theorem t_25 : Cond.laysFinal "TenThousandthDesk" "TenThousandthDesk" "row" "[B" ∈ tt := tt_in 25 (by decide +kernel) (by decide +kernel)
theorem t_26 : Cond.soleField "TenThousandthDesk" "row" ∈ tt := tt_in 26 (by decide +kernel) (by decide +kernel)
theorem t_27 : Cond.superclass "TenThousandthDesk" "java/lang/Object" ∈ tt := tt_in 27 (by decide +kernel) (by decide +kernel)
theorem t_28 : Cond.arrayClass .long ∈ tt := tt_in 28 (by decide +kernel) (by decide +kernel)
theorem t_29 : Cond.arrayClass .byte ∈ tt := tt_in 29 (by decide +kernel) (by decide +kernel)
theorem t_30 : Cond.methodLink "TenThousandthDeskLaw" 47 y_La_set ∈ tt := tt_in 30 (by decide +kernel) (by decide +kernel)
theorem t_31 : Cond.static y_La_set ∈ tt := tt_in 31 (by decide +kernel) (by decide +kernel)
theorem t_32 : Cond.codeWith y_La_set b_La_set 6 (some .int) [(0, 10, 13, 13)] ∈ tt := tt_in 32 (by decide +kernel) (by decide +kernel)
theorem t_33 : Cond.classLink "TenThousandthDeskLaw" 13 "java/lang/IllegalArgumentException" ∈ tt := tt_in 33 (by decide +kernel) (by decide +kernel)
theorem t_34 : Cond.methodLink "TenThousandthDeskLaw" 7 y_Dk_set ∈ tt := tt_in 34 (by decide +kernel) (by decide +kernel)
theorem t_35 : Cond.instanceMethod y_Dk_set ∈ tt := tt_in 35 (by decide +kernel) (by decide +kernel)
theorem t_36 : Cond.selects "TenThousandthDesk" y_Dk_set y_Dk_set ∈ tt := tt_in 36 (by decide +kernel) (by decide +kernel)
theorem t_37 : Cond.code y_Dk_set b_Dk_set 6 (some .long) ∈ tt := tt_in 37 (by decide +kernel) (by decide +kernel)
theorem t_38 : Cond.constantLong "TenThousandthDesk" 20 (7 : Int64) ∈ tt := tt_in 38 (by decide +kernel) (by decide +kernel)
theorem t_39 : Cond.methodLink "TenThousandthDesk" 22 y_Dk_in ∈ tt := tt_in 39 (by decide +kernel) (by decide +kernel)
theorem t_40 : Cond.static y_Dk_in ∈ tt := tt_in 40 (by decide +kernel) (by decide +kernel)
theorem t_41 : Cond.code y_Dk_in b_Dk_in 6 none ∈ tt := tt_in 41 (by decide +kernel) (by decide +kernel)
theorem t_42 : Cond.classLink "TenThousandthDesk" 17 "java/lang/IllegalArgumentException" ∈ tt := tt_in 42 (by decide +kernel) (by decide +kernel)
theorem t_43 : Cond.instantiable "java/lang/IllegalArgumentException" 6 ∈ tt := tt_in 43 (by decide +kernel) (by decide +kernel)
theorem t_51 : Cond.selects "java/lang/IllegalArgumentException" (⟨"java/lang/Throwable", "fillInStackTrace", "(I)Ljava/lang/Throwable;"⟩ : MethodName) (⟨"java/lang/Throwable", "fillInStackTrace", "(I)Ljava/lang/Throwable;"⟩ : MethodName) ∈ tt := tt_in 51 (by decide +kernel) (by decide +kernel)
theorem t_52 : Cond.selects "java/lang/IllegalArgumentException" (⟨"java/lang/Throwable", "fillInStackTrace", "()Ljava/lang/Throwable;"⟩ : MethodName) (⟨"java/lang/Throwable", "fillInStackTrace", "()Ljava/lang/Throwable;"⟩ : MethodName) ∈ tt := tt_in 52 (by decide +kernel) (by decide +kernel)
theorem t_53 : Cond.lays "java/lang/IllegalArgumentException" "java/lang/Throwable" "cause" "Ljava/lang/Throwable;" ∈ tt := tt_in 53 (by decide +kernel) (by decide +kernel)
theorem t_54 : Cond.lays "java/lang/Throwable" "java/lang/Throwable" "cause" "Ljava/lang/Throwable;" ∈ tt := tt_in 54 (by decide +kernel) (by decide +kernel)
theorem t_55 : Cond.lays "java/lang/IllegalArgumentException" "java/lang/Throwable" "stackTrace" "[Ljava/lang/StackTraceElement;" ∈ tt := tt_in 55 (by decide +kernel) (by decide +kernel)
theorem t_56 : Cond.lays "java/lang/Throwable" "java/lang/Throwable" "stackTrace" "[Ljava/lang/StackTraceElement;" ∈ tt := tt_in 56 (by decide +kernel) (by decide +kernel)
theorem t_57 : Cond.lays "java/lang/IllegalArgumentException" "java/lang/Throwable" "suppressedExceptions" "Ljava/util/List;" ∈ tt := tt_in 57 (by decide +kernel) (by decide +kernel)
theorem t_58 : Cond.lays "java/lang/Throwable" "java/lang/Throwable" "suppressedExceptions" "Ljava/util/List;" ∈ tt := tt_in 58 (by decide +kernel) (by decide +kernel)
theorem t_59 : Cond.lays "java/lang/IllegalArgumentException" "java/lang/Throwable" "detailMessage" "Ljava/lang/String;" ∈ tt := tt_in 59 (by decide +kernel) (by decide +kernel)
theorem t_60 : Cond.lays "java/lang/Throwable" "java/lang/Throwable" "detailMessage" "Ljava/lang/String;" ∈ tt := tt_in 60 (by decide +kernel) (by decide +kernel)
theorem t_61 : Cond.lays "java/lang/IllegalArgumentException" "java/lang/Throwable" "backtrace" "Ljava/lang/Object;" ∈ tt := tt_in 61 (by decide +kernel) (by decide +kernel)
theorem t_62 : Cond.lays "java/lang/Throwable" "java/lang/Throwable" "backtrace" "Ljava/lang/Object;" ∈ tt := tt_in 62 (by decide +kernel) (by decide +kernel)
theorem t_63 : Cond.fieldLink "java/lang/Throwable" 198 "java/lang/Throwable" "backtrace" "Ljava/lang/Object;" ∈ tt := tt_in 63 (by decide +kernel) (by decide +kernel)
theorem t_64 : Cond.superclass "java/lang/Throwable" "java/lang/Object" ∈ tt := tt_in 64 (by decide +kernel) (by decide +kernel)
theorem t_65 : Cond.instanceMethod (⟨"java/lang/Throwable", "<init>", "()V"⟩ : MethodName) ∈ tt := tt_in 65 (by decide +kernel) (by decide +kernel)
theorem t_66 : Cond.code (⟨"java/lang/Throwable", "<init>", "()V"⟩ : MethodName) prog_12_method_1_code 1 none ∈ tt := tt_in 66 (by decide +kernel) (by decide +kernel)
theorem t_67 : Cond.methodLink "java/lang/Throwable" 1 (⟨"java/lang/Object", "<init>", "()V"⟩ : MethodName) ∈ tt := tt_in 67 (by decide +kernel) (by decide +kernel)
theorem t_68 : Cond.fieldLink "java/lang/Throwable" 13 "java/lang/Throwable" "UNASSIGNED_STACK" "[Ljava/lang/StackTraceElement;" ∈ tt := tt_in 68 (by decide +kernel) (by decide +kernel)
theorem t_70 : Cond.fieldLink "java/lang/Throwable" 20 "java/lang/Throwable" "SUPPRESSED_SENTINEL" "Ljava/util/List;" ∈ tt := tt_in 70 (by decide +kernel) (by decide +kernel)
theorem t_72 : Cond.methodLink "java/lang/Throwable" 27 (⟨"java/lang/Throwable", "fillInStackTrace", "()Ljava/lang/Throwable;"⟩ : MethodName) ∈ tt := tt_in 72 (by decide +kernel) (by decide +kernel)
theorem t_73 : Cond.instanceMethod (⟨"java/lang/Throwable", "fillInStackTrace", "()Ljava/lang/Throwable;"⟩ : MethodName) ∈ tt := tt_in 73 (by decide +kernel) (by decide +kernel)
theorem t_74 : Cond.sameMethod "java/lang/Throwable" "java/lang/Throwable" "fillInStackTrace" "()Ljava/lang/Throwable;" ∈ tt := tt_in 74 (by decide +kernel) (by decide +kernel)
theorem t_75 : Cond.selects "java/lang/ArithmeticException" (⟨"java/lang/Throwable", "fillInStackTrace", "()Ljava/lang/Throwable;"⟩ : MethodName) (⟨"java/lang/Throwable", "fillInStackTrace", "()Ljava/lang/Throwable;"⟩ : MethodName) ∈ tt := tt_in 75 (by decide +kernel) (by decide +kernel)
theorem t_76 : Cond.selects "java/lang/UnsupportedOperationException" (⟨"java/lang/Throwable", "fillInStackTrace", "()Ljava/lang/Throwable;"⟩ : MethodName) (⟨"java/lang/Throwable", "fillInStackTrace", "()Ljava/lang/Throwable;"⟩ : MethodName) ∈ tt := tt_in 76 (by decide +kernel) (by decide +kernel)
theorem t_77 : Cond.codeSync (⟨"java/lang/Throwable", "fillInStackTrace", "()Ljava/lang/Throwable;"⟩ : MethodName) prog_12_method_18_code 1 (some (.object "java/lang/Throwable")) ∈ tt := tt_in 77 (by decide +kernel) (by decide +kernel)
theorem t_78 : Cond.methodLink "java/lang/Throwable" 202 (⟨"java/lang/Throwable", "fillInStackTrace", "(I)Ljava/lang/Throwable;"⟩ : MethodName) ∈ tt := tt_in 78 (by decide +kernel) (by decide +kernel)
theorem t_80 : Cond.instanceMethod (⟨"java/lang/Throwable", "fillInStackTrace", "(I)Ljava/lang/Throwable;"⟩ : MethodName) ∈ tt := tt_in 80 (by decide +kernel) (by decide +kernel)
theorem t_81 : Cond.instantiable "java/lang/Throwable" 6 ∈ tt := tt_in 81 (by decide +kernel) (by decide +kernel)
theorem t_82 : Cond.native (⟨"java/lang/Throwable", "fillInStackTrace", "(I)Ljava/lang/Throwable;"⟩ : MethodName) ∈ tt := tt_in 82 (by decide +kernel) (by decide +kernel)
theorem t_83 : Cond.methodLink "TenThousandthDesk" 19 (⟨"java/lang/IllegalArgumentException", "<init>", "()V"⟩ : MethodName) ∈ tt := tt_in 83 (by decide +kernel) (by decide +kernel)
theorem t_84 : Cond.instanceMethod (⟨"java/lang/IllegalArgumentException", "<init>", "()V"⟩ : MethodName) ∈ tt := tt_in 84 (by decide +kernel) (by decide +kernel)
theorem t_85 : Cond.code (⟨"java/lang/IllegalArgumentException", "<init>", "()V"⟩ : MethodName) prog_8_method_1_code 1 none ∈ tt := tt_in 85 (by decide +kernel) (by decide +kernel)
theorem t_86 : Cond.methodLink "java/lang/IllegalArgumentException" 1 (⟨"java/lang/RuntimeException", "<init>", "()V"⟩ : MethodName) ∈ tt := tt_in 86 (by decide +kernel) (by decide +kernel)
theorem t_87 : Cond.instanceMethod (⟨"java/lang/RuntimeException", "<init>", "()V"⟩ : MethodName) ∈ tt := tt_in 87 (by decide +kernel) (by decide +kernel)
theorem t_88 : Cond.code (⟨"java/lang/RuntimeException", "<init>", "()V"⟩ : MethodName) prog_10_method_1_code 1 none ∈ tt := tt_in 88 (by decide +kernel) (by decide +kernel)
theorem t_89 : Cond.methodLink "java/lang/RuntimeException" 1 (⟨"java/lang/Exception", "<init>", "()V"⟩ : MethodName) ∈ tt := tt_in 89 (by decide +kernel) (by decide +kernel)
theorem t_90 : Cond.instanceMethod (⟨"java/lang/Exception", "<init>", "()V"⟩ : MethodName) ∈ tt := tt_in 90 (by decide +kernel) (by decide +kernel)
theorem t_91 : Cond.code (⟨"java/lang/Exception", "<init>", "()V"⟩ : MethodName) prog_7_method_1_code 1 none ∈ tt := tt_in 91 (by decide +kernel) (by decide +kernel)
theorem t_92 : Cond.methodLink "java/lang/Exception" 1 (⟨"java/lang/Throwable", "<init>", "()V"⟩ : MethodName) ∈ tt := tt_in 92 (by decide +kernel) (by decide +kernel)
theorem t_93 : Cond.fieldLink "java/lang/Throwable" 198 "java/lang/Throwable" "backtrace" "Ljava/lang/Object;" ∈ tt := tt_in 93 (by decide +kernel) (by decide +kernel)
theorem t_94 : Cond.fieldLink "java/lang/Throwable" 31 "java/lang/Throwable" "detailMessage" "Ljava/lang/String;" ∈ tt := tt_in 94 (by decide +kernel) (by decide +kernel)
theorem t_95 : Cond.fieldLink "java/lang/Throwable" 7 "java/lang/Throwable" "cause" "Ljava/lang/Throwable;" ∈ tt := tt_in 95 (by decide +kernel) (by decide +kernel)
theorem t_96 : Cond.fieldLink "java/lang/Throwable" 17 "java/lang/Throwable" "stackTrace" "[Ljava/lang/StackTraceElement;" ∈ tt := tt_in 96 (by decide +kernel) (by decide +kernel)
theorem t_97 : Cond.fieldLink "java/lang/Throwable" 24 "java/lang/Throwable" "suppressedExceptions" "Ljava/util/List;" ∈ tt := tt_in 97 (by decide +kernel) (by decide +kernel)
theorem t_98 : Cond.soleField "java/lang/Throwable" "backtrace" ∈ tt := tt_in 98 (by decide +kernel) (by decide +kernel)
theorem t_99 : Cond.soleField "java/lang/Throwable" "detailMessage" ∈ tt := tt_in 99 (by decide +kernel) (by decide +kernel)
theorem t_100 : Cond.soleField "java/lang/Throwable" "cause" ∈ tt := tt_in 100 (by decide +kernel) (by decide +kernel)
theorem t_101 : Cond.soleField "java/lang/Throwable" "stackTrace" ∈ tt := tt_in 101 (by decide +kernel) (by decide +kernel)
theorem t_102 : Cond.lays "java/lang/IllegalArgumentException" "java/lang/Throwable" "depth" "I" ∈ tt := tt_in 102 (by decide +kernel) (by decide +kernel)
theorem t_103 : Cond.soleField "java/lang/Throwable" "depth" ∈ tt := tt_in 103 (by decide +kernel) (by decide +kernel)
theorem t_104 : Cond.soleField "java/lang/Throwable" "suppressedExceptions" ∈ tt := tt_in 104 (by decide +kernel) (by decide +kernel)
theorem t_105 : Cond.superclass "java/lang/IllegalArgumentException" "java/lang/RuntimeException" ∈ tt := tt_in 105 (by decide +kernel) (by decide +kernel)
theorem t_106 : Cond.constantLong "TenThousandthDesk" 26 (-900000000000000 : Int64) ∈ tt := tt_in 106 (by decide +kernel) (by decide +kernel)
theorem t_107 : Cond.constantLong "TenThousandthDesk" 28 (900000000000000 : Int64) ∈ tt := tt_in 107 (by decide +kernel) (by decide +kernel)
theorem t_108 : Cond.methodLink "TenThousandthDeskLaw" 57 y_La_get ∈ tt := tt_in 108 (by decide +kernel) (by decide +kernel)
theorem t_109 : Cond.static y_La_get ∈ tt := tt_in 109 (by decide +kernel) (by decide +kernel)
theorem t_110 : Cond.codeWith y_La_get b_La_get 4 (some .int) [(0, 8, 11, 13)] ∈ tt := tt_in 110 (by decide +kernel) (by decide +kernel)
theorem t_111 : Cond.methodLink "TenThousandthDeskLaw" 15 y_Dk_get ∈ tt := tt_in 111 (by decide +kernel) (by decide +kernel)
theorem t_112 : Cond.instanceMethod y_Dk_get ∈ tt := tt_in 112 (by decide +kernel) (by decide +kernel)
theorem t_113 : Cond.selects "TenThousandthDesk" y_Dk_get y_Dk_get ∈ tt := tt_in 113 (by decide +kernel) (by decide +kernel)
theorem t_114 : Cond.code y_Dk_get b_Dk_get 2 (some .long) ∈ tt := tt_in 114 (by decide +kernel) (by decide +kernel)
theorem t_115 : Cond.methodLink "TenThousandthDeskLaw" 61 y_La_reckon ∈ tt := tt_in 115 (by decide +kernel) (by decide +kernel)
theorem t_116 : Cond.static y_La_reckon ∈ tt := tt_in 116 (by decide +kernel) (by decide +kernel)
theorem t_117 : Cond.codeWith y_La_reckon b_La_reckon 7 (some .int) [(0, 13, 16, 13), (0, 13, 20, 23), (0, 13, 24, 25)] ∈ tt := tt_in 117 (by decide +kernel) (by decide +kernel)
theorem t_118 : Cond.classLink "TenThousandthDeskLaw" 23 "java/lang/UnsupportedOperationException" ∈ tt := tt_in 118 (by decide +kernel) (by decide +kernel)
theorem t_119 : Cond.classLink "TenThousandthDeskLaw" 25 "java/lang/ArithmeticException" ∈ tt := tt_in 119 (by decide +kernel) (by decide +kernel)
theorem t_120 : Cond.instantiable "java/lang/ArithmeticException" 6 ∈ tt := tt_in 120 (by decide +kernel) (by decide +kernel)
theorem t_121 : Cond.instanceMethod (⟨"java/lang/ArithmeticException", "<init>", "(Ljava/lang/String;)V"⟩ : MethodName) ∈ tt := tt_in 121 (by decide +kernel) (by decide +kernel)
theorem t_122 : Cond.code (⟨"java/lang/ArithmeticException", "<init>", "(Ljava/lang/String;)V"⟩ : MethodName) prog_6_method_2_code 2 none ∈ tt := tt_in 122 (by decide +kernel) (by decide +kernel)
theorem t_123 : Cond.methodLink "java/lang/ArithmeticException" 7 (⟨"java/lang/RuntimeException", "<init>", "(Ljava/lang/String;)V"⟩ : MethodName) ∈ tt := tt_in 123 (by decide +kernel) (by decide +kernel)
theorem t_124 : Cond.instanceMethod (⟨"java/lang/RuntimeException", "<init>", "(Ljava/lang/String;)V"⟩ : MethodName) ∈ tt := tt_in 124 (by decide +kernel) (by decide +kernel)
theorem t_125 : Cond.code (⟨"java/lang/RuntimeException", "<init>", "(Ljava/lang/String;)V"⟩ : MethodName) prog_10_method_2_code 2 none ∈ tt := tt_in 125 (by decide +kernel) (by decide +kernel)
theorem t_126 : Cond.methodLink "java/lang/RuntimeException" 7 (⟨"java/lang/Exception", "<init>", "(Ljava/lang/String;)V"⟩ : MethodName) ∈ tt := tt_in 126 (by decide +kernel) (by decide +kernel)
theorem t_127 : Cond.instanceMethod (⟨"java/lang/Exception", "<init>", "(Ljava/lang/String;)V"⟩ : MethodName) ∈ tt := tt_in 127 (by decide +kernel) (by decide +kernel)
theorem t_128 : Cond.code (⟨"java/lang/Exception", "<init>", "(Ljava/lang/String;)V"⟩ : MethodName) prog_7_method_2_code 2 none ∈ tt := tt_in 128 (by decide +kernel) (by decide +kernel)
theorem t_129 : Cond.methodLink "java/lang/Exception" 7 (⟨"java/lang/Throwable", "<init>", "(Ljava/lang/String;)V"⟩ : MethodName) ∈ tt := tt_in 129 (by decide +kernel) (by decide +kernel)
theorem t_130 : Cond.instanceMethod (⟨"java/lang/Throwable", "<init>", "(Ljava/lang/String;)V"⟩ : MethodName) ∈ tt := tt_in 130 (by decide +kernel) (by decide +kernel)
theorem t_131 : Cond.code (⟨"java/lang/Throwable", "<init>", "(Ljava/lang/String;)V"⟩ : MethodName) prog_12_method_2_code 2 none ∈ tt := tt_in 131 (by decide +kernel) (by decide +kernel)
theorem t_132 : Cond.lays "java/lang/ArithmeticException" "java/lang/Throwable" "backtrace" "Ljava/lang/Object;" ∈ tt := tt_in 132 (by decide +kernel) (by decide +kernel)
theorem t_133 : Cond.lays "java/lang/ArithmeticException" "java/lang/Throwable" "detailMessage" "Ljava/lang/String;" ∈ tt := tt_in 133 (by decide +kernel) (by decide +kernel)
theorem t_134 : Cond.lays "java/lang/ArithmeticException" "java/lang/Throwable" "cause" "Ljava/lang/Throwable;" ∈ tt := tt_in 134 (by decide +kernel) (by decide +kernel)
theorem t_135 : Cond.lays "java/lang/ArithmeticException" "java/lang/Throwable" "stackTrace" "[Ljava/lang/StackTraceElement;" ∈ tt := tt_in 135 (by decide +kernel) (by decide +kernel)
theorem t_136 : Cond.lays "java/lang/ArithmeticException" "java/lang/Throwable" "depth" "I" ∈ tt := tt_in 136 (by decide +kernel) (by decide +kernel)
theorem t_137 : Cond.lays "java/lang/ArithmeticException" "java/lang/Throwable" "suppressedExceptions" "Ljava/util/List;" ∈ tt := tt_in 137 (by decide +kernel) (by decide +kernel)
theorem t_138 : Cond.superclass "java/lang/ArithmeticException" "java/lang/RuntimeException" ∈ tt := tt_in 138 (by decide +kernel) (by decide +kernel)
theorem t_140 : Cond.selects "java/lang/ArithmeticException" (⟨"java/lang/Throwable", "fillInStackTrace", "(I)Ljava/lang/Throwable;"⟩ : MethodName) (⟨"java/lang/Throwable", "fillInStackTrace", "(I)Ljava/lang/Throwable;"⟩ : MethodName) ∈ tt := tt_in 140 (by decide +kernel) (by decide +kernel)
theorem t_141 : Cond.instantiable "java/lang/String" 4 ∈ tt := tt_in 141 (by decide +kernel) (by decide +kernel)
theorem t_142 : Cond.laysFinal "java/lang/String" "java/lang/String" "value" "[B" ∈ tt := tt_in 142 (by decide +kernel) (by decide +kernel)
theorem t_143 : Cond.soleField "java/lang/String" "value" ∈ tt := tt_in 143 (by decide +kernel) (by decide +kernel)
theorem t_144 : Cond.laysFinal "java/lang/String" "java/lang/String" "coder" "B" ∈ tt := tt_in 144 (by decide +kernel) (by decide +kernel)
theorem t_145 : Cond.soleField "java/lang/String" "coder" ∈ tt := tt_in 145 (by decide +kernel) (by decide +kernel)
theorem t_146 : Cond.methodLink "TenThousandthDeskLaw" 19 y_Dk_reckon ∈ tt := tt_in 146 (by decide +kernel) (by decide +kernel)
theorem t_147 : Cond.instanceMethod y_Dk_reckon ∈ tt := tt_in 147 (by decide +kernel) (by decide +kernel)
theorem t_148 : Cond.selects "TenThousandthDesk" y_Dk_reckon y_Dk_reckon ∈ tt := tt_in 148 (by decide +kernel) (by decide +kernel)
theorem t_149 : Cond.code y_Dk_reckon b_Dk_reckon 9 (some .long) ∈ tt := tt_in 149 (by decide +kernel) (by decide +kernel)
theorem t_150 : Cond.constantLong "TenThousandthDesk" 30 (4 : Int64) ∈ tt := tt_in 150 (by decide +kernel) (by decide +kernel)
theorem t_151 : Cond.methodLink "TenThousandthDesk" 32 y_Dk_get ∈ tt := tt_in 151 (by decide +kernel) (by decide +kernel)
theorem t_152 : Cond.methodLink "TenThousandthDesk" 36 y_De_fit ∈ tt := tt_in 152 (by decide +kernel) (by decide +kernel)
theorem t_153 : Cond.static y_De_fit ∈ tt := tt_in 153 (by decide +kernel) (by decide +kernel)
theorem t_154 : Cond.code y_De_fit b_De_fit 2 (some .long) ∈ tt := tt_in 154 (by decide +kernel) (by decide +kernel)
theorem t_155 : Cond.constantLong "TenThousandthDesk$Decimal" 9 (900000000000000 : Int64) ∈ tt := tt_in 155 (by decide +kernel) (by decide +kernel)
theorem t_156 : Cond.constantLong "TenThousandthDesk$Decimal" 11 (-900000000000000 : Int64) ∈ tt := tt_in 156 (by decide +kernel) (by decide +kernel)
theorem t_157 : Cond.classLink "TenThousandthDesk$Decimal" 13 "java/lang/ArithmeticException" ∈ tt := tt_in 157 (by decide +kernel) (by decide +kernel)
theorem t_158 : Cond.methodLink "TenThousandthDesk$Decimal" 15 (⟨"java/lang/ArithmeticException", "<init>", "()V"⟩ : MethodName) ∈ tt := tt_in 158 (by decide +kernel) (by decide +kernel)
theorem t_159 : Cond.instanceMethod (⟨"java/lang/ArithmeticException", "<init>", "()V"⟩ : MethodName) ∈ tt := tt_in 159 (by decide +kernel) (by decide +kernel)
theorem t_160 : Cond.code (⟨"java/lang/ArithmeticException", "<init>", "()V"⟩ : MethodName) prog_6_method_1_code 1 none ∈ tt := tt_in 160 (by decide +kernel) (by decide +kernel)
theorem t_161 : Cond.methodLink "java/lang/ArithmeticException" 1 (⟨"java/lang/RuntimeException", "<init>", "()V"⟩ : MethodName) ∈ tt := tt_in 161 (by decide +kernel) (by decide +kernel)
theorem t_162 : Cond.methodLink "TenThousandthDesk" 42 y_Dk_keep ∈ tt := tt_in 162 (by decide +kernel) (by decide +kernel)
theorem t_164 : Cond.instanceMethod y_Dk_keep ∈ tt := tt_in 164 (by decide +kernel) (by decide +kernel)
theorem t_165 : Cond.code y_Dk_keep b_Dk_keep 4 (some .long) ∈ tt := tt_in 165 (by decide +kernel) (by decide +kernel)
theorem t_166 : Cond.methodLink "TenThousandthDesk" 46 y_De_times ∈ tt := tt_in 166 (by decide +kernel) (by decide +kernel)
theorem t_167 : Cond.static y_De_times ∈ tt := tt_in 167 (by decide +kernel) (by decide +kernel)
theorem t_168 : Cond.code y_De_times b_De_times 12 (some .long) ∈ tt := tt_in 168 (by decide +kernel) (by decide +kernel)
theorem t_169 : Cond.constantLong "TenThousandthDesk$Decimal" 18 (10000 : Int64) ∈ tt := tt_in 169 (by decide +kernel) (by decide +kernel)
theorem t_170 : Cond.methodLink "TenThousandthDesk$Decimal" 20 y_De_half ∈ tt := tt_in 170 (by decide +kernel) (by decide +kernel)
theorem t_171 : Cond.static y_De_half ∈ tt := tt_in 171 (by decide +kernel) (by decide +kernel)
theorem t_172 : Cond.code y_De_half b_De_half 10 (some .long) ∈ tt := tt_in 172 (by decide +kernel) (by decide +kernel)
theorem t_173 : Cond.constantLong "TenThousandthDesk$Decimal" 16 (-1 : Int64) ∈ tt := tt_in 173 (by decide +kernel) (by decide +kernel)
theorem t_174 : Cond.methodLink "TenThousandthDesk$Decimal" 26 y_De_fit ∈ tt := tt_in 174 (by decide +kernel) (by decide +kernel)
theorem t_175 : Cond.methodLink "TenThousandthDesk" 50 y_De_by ∈ tt := tt_in 175 (by decide +kernel) (by decide +kernel)
theorem t_176 : Cond.static y_De_by ∈ tt := tt_in 176 (by decide +kernel) (by decide +kernel)
theorem t_177 : Cond.code y_De_by b_De_by 8 (some .long) ∈ tt := tt_in 177 (by decide +kernel) (by decide +kernel)
theorem t_178 : Cond.classLink "TenThousandthDesk$Decimal" 30 "java/lang/UnsupportedOperationException" ∈ tt := tt_in 178 (by decide +kernel) (by decide +kernel)
theorem t_179 : Cond.instantiable "java/lang/UnsupportedOperationException" 6 ∈ tt := tt_in 179 (by decide +kernel) (by decide +kernel)
theorem t_181 : Cond.selects "java/lang/UnsupportedOperationException" (⟨"java/lang/Throwable", "fillInStackTrace", "(I)Ljava/lang/Throwable;"⟩ : MethodName) (⟨"java/lang/Throwable", "fillInStackTrace", "(I)Ljava/lang/Throwable;"⟩ : MethodName) ∈ tt := tt_in 181 (by decide +kernel) (by decide +kernel)
theorem t_182 : Cond.lays "java/lang/UnsupportedOperationException" "java/lang/Throwable" "cause" "Ljava/lang/Throwable;" ∈ tt := tt_in 182 (by decide +kernel) (by decide +kernel)
theorem t_183 : Cond.lays "java/lang/UnsupportedOperationException" "java/lang/Throwable" "stackTrace" "[Ljava/lang/StackTraceElement;" ∈ tt := tt_in 183 (by decide +kernel) (by decide +kernel)
theorem t_184 : Cond.lays "java/lang/UnsupportedOperationException" "java/lang/Throwable" "suppressedExceptions" "Ljava/util/List;" ∈ tt := tt_in 184 (by decide +kernel) (by decide +kernel)
theorem t_185 : Cond.lays "java/lang/UnsupportedOperationException" "java/lang/Throwable" "detailMessage" "Ljava/lang/String;" ∈ tt := tt_in 185 (by decide +kernel) (by decide +kernel)
theorem t_186 : Cond.lays "java/lang/UnsupportedOperationException" "java/lang/Throwable" "backtrace" "Ljava/lang/Object;" ∈ tt := tt_in 186 (by decide +kernel) (by decide +kernel)
theorem t_187 : Cond.methodLink "TenThousandthDesk$Decimal" 32 (⟨"java/lang/UnsupportedOperationException", "<init>", "()V"⟩ : MethodName) ∈ tt := tt_in 187 (by decide +kernel) (by decide +kernel)
theorem t_188 : Cond.instanceMethod (⟨"java/lang/UnsupportedOperationException", "<init>", "()V"⟩ : MethodName) ∈ tt := tt_in 188 (by decide +kernel) (by decide +kernel)
theorem t_189 : Cond.code (⟨"java/lang/UnsupportedOperationException", "<init>", "()V"⟩ : MethodName) prog_13_method_1_code 1 none ∈ tt := tt_in 189 (by decide +kernel) (by decide +kernel)
theorem t_190 : Cond.methodLink "java/lang/UnsupportedOperationException" 1 (⟨"java/lang/RuntimeException", "<init>", "()V"⟩ : MethodName) ∈ tt := tt_in 190 (by decide +kernel) (by decide +kernel)
theorem t_191 : Cond.lays "java/lang/UnsupportedOperationException" "java/lang/Throwable" "depth" "I" ∈ tt := tt_in 191 (by decide +kernel) (by decide +kernel)
theorem t_192 : Cond.superclass "java/lang/UnsupportedOperationException" "java/lang/RuntimeException" ∈ tt := tt_in 192 (by decide +kernel) (by decide +kernel)
theorem t_193 : Cond.classLink "TenThousandthDesk" 53 "java/lang/UnsupportedOperationException" ∈ tt := tt_in 193 (by decide +kernel) (by decide +kernel)
theorem t_194 : Cond.methodLink "TenThousandthDesk" 55 (⟨"java/lang/UnsupportedOperationException", "<init>", "()V"⟩ : MethodName) ∈ tt := tt_in 194 (by decide +kernel) (by decide +kernel)
theorem t_195 : Cond.methodLink "TenThousandthDesk" 56 y_Ma_floorMod ∈ tt := tt_in 195 (by decide +kernel) (by decide +kernel)
theorem t_196 : Cond.static y_Ma_floorMod ∈ tt := tt_in 196 (by decide +kernel) (by decide +kernel)
theorem t_197 : Cond.code y_Ma_floorMod b_Ma_floorMod 6 (some .long) ∈ tt := tt_in 197 (by decide +kernel) (by decide +kernel)
theorem t_198 : Cond.methodLink "TenThousandthDeskLaw" 65 y_La_turn ∈ tt := tt_in 198 (by decide +kernel) (by decide +kernel)
theorem t_199 : Cond.static y_La_turn ∈ tt := tt_in 199 (by decide +kernel) (by decide +kernel)
theorem t_200 : Cond.codeWith y_La_turn b_La_turn 6 (some .int) [(0, 11, 14, 13), (0, 11, 18, 25)] ∈ tt := tt_in 200 (by decide +kernel) (by decide +kernel)
theorem t_201 : Cond.methodLink "TenThousandthDeskLaw" 27 y_Dk_turn ∈ tt := tt_in 201 (by decide +kernel) (by decide +kernel)
theorem t_202 : Cond.instanceMethod y_Dk_turn ∈ tt := tt_in 202 (by decide +kernel) (by decide +kernel)
theorem t_203 : Cond.selects "TenThousandthDesk" y_Dk_turn y_Dk_turn ∈ tt := tt_in 203 (by decide +kernel) (by decide +kernel)
theorem t_204 : Cond.code y_Dk_turn b_Dk_turn 6 (some .long) ∈ tt := tt_in 204 (by decide +kernel) (by decide +kernel)
theorem t_205 : Cond.constantLong "TenThousandthDesk" 61 (3 : Int64) ∈ tt := tt_in 205 (by decide +kernel) (by decide +kernel)
theorem t_206 : Cond.constantLong "TenThousandthDesk" 63 (100 : Int64) ∈ tt := tt_in 206 (by decide +kernel) (by decide +kernel)
theorem t_207 : Cond.methodLink "TenThousandthDesk" 65 y_De_half ∈ tt := tt_in 207 (by decide +kernel) (by decide +kernel)
theorem t_208 : Cond.methodLink "TenThousandthDesk" 68 y_De_floor ∈ tt := tt_in 208 (by decide +kernel) (by decide +kernel)
theorem t_209 : Cond.static y_De_floor ∈ tt := tt_in 209 (by decide +kernel) (by decide +kernel)
theorem t_210 : Cond.code y_De_floor b_De_floor 2 (some .long) ∈ tt := tt_in 210 (by decide +kernel) (by decide +kernel)
theorem t_211 : Cond.methodLink "TenThousandthDesk$Decimal" 33 y_Ma_floorDiv ∈ tt := tt_in 211 (by decide +kernel) (by decide +kernel)
theorem t_212 : Cond.static y_Ma_floorDiv ∈ tt := tt_in 212 (by decide +kernel) (by decide +kernel)
theorem t_213 : Cond.code y_Ma_floorDiv b_Ma_floorDiv 6 (some .long) ∈ tt := tt_in 213 (by decide +kernel) (by decide +kernel)
theorem t_214 : Cond.methodLink "TenThousandthDeskLaw" 69 y_La_round ∈ tt := tt_in 214 (by decide +kernel) (by decide +kernel)
theorem t_215 : Cond.static y_La_round ∈ tt := tt_in 215 (by decide +kernel) (by decide +kernel)
theorem t_216 : Cond.codeWith y_La_round b_La_round 6 (some .int) [(0, 11, 14, 13), (0, 11, 18, 25)] ∈ tt := tt_in 216 (by decide +kernel) (by decide +kernel)
theorem t_217 : Cond.methodLink "TenThousandthDeskLaw" 31 y_Dk_round ∈ tt := tt_in 217 (by decide +kernel) (by decide +kernel)
theorem t_218 : Cond.instanceMethod y_Dk_round ∈ tt := tt_in 218 (by decide +kernel) (by decide +kernel)
theorem t_219 : Cond.selects "TenThousandthDesk" y_Dk_round y_Dk_round ∈ tt := tt_in 219 (by decide +kernel) (by decide +kernel)
theorem t_220 : Cond.code y_Dk_round b_Dk_round 4 (some .long) ∈ tt := tt_in 220 (by decide +kernel) (by decide +kernel)
theorem t_221 : Cond.constantLong "TenThousandthDesk" 71 (-9 : Int64) ∈ tt := tt_in 221 (by decide +kernel) (by decide +kernel)
theorem t_222 : Cond.methodLink "TenThousandthDesk" 73 y_De_round ∈ tt := tt_in 222 (by decide +kernel) (by decide +kernel)
theorem t_223 : Cond.static y_De_round ∈ tt := tt_in 223 (by decide +kernel) (by decide +kernel)
theorem t_224 : Cond.code y_De_round b_De_round 8 (some .long) ∈ tt := tt_in 224 (by decide +kernel) (by decide +kernel)
theorem t_225 : Cond.constantLong "TenThousandthDesk$Decimal" 38 (4 : Int64) ∈ tt := tt_in 225 (by decide +kernel) (by decide +kernel)
theorem t_226 : Cond.constantLong "TenThousandthDesk$Decimal" 40 (10 : Int64) ∈ tt := tt_in 226 (by decide +kernel) (by decide +kernel)
theorem t_227 : Cond.methodLink "TenThousandthDeskLaw" 72 y_La_print ∈ tt := tt_in 227 (by decide +kernel) (by decide +kernel)
theorem t_228 : Cond.static y_La_print ∈ tt := tt_in 228 (by decide +kernel) (by decide +kernel)
theorem t_229 : Cond.codeWith y_La_print b_La_print 5 (some .int) [(0, 10, 13, 13)] ∈ tt := tt_in 229 (by decide +kernel) (by decide +kernel)
theorem t_230 : Cond.methodLink "TenThousandthDeskLaw" 34 y_Dk_print ∈ tt := tt_in 230 (by decide +kernel) (by decide +kernel)
theorem t_231 : Cond.instanceMethod y_Dk_print ∈ tt := tt_in 231 (by decide +kernel) (by decide +kernel)
theorem t_232 : Cond.selects "TenThousandthDesk" y_Dk_print y_Dk_print ∈ tt := tt_in 232 (by decide +kernel) (by decide +kernel)
theorem t_233 : Cond.code y_Dk_print b_Dk_print 6 (some .int) ∈ tt := tt_in 233 (by decide +kernel) (by decide +kernel)
theorem t_234 : Cond.constantLong "TenThousandthDesk" 78 (2147483647 : Int64) ∈ tt := tt_in 234 (by decide +kernel) (by decide +kernel)
theorem t_235 : Cond.methodLink "TenThousandthDesk" 80 y_Pr_digits ∈ tt := tt_in 235 (by decide +kernel) (by decide +kernel)
theorem t_236 : Cond.static y_Pr_digits ∈ tt := tt_in 236 (by decide +kernel) (by decide +kernel)
theorem t_237 : Cond.code y_Pr_digits b_Pr_digits 12 (some .int) ∈ tt := tt_in 237 (by decide +kernel) (by decide +kernel)
theorem t_238 : Cond.constantLong "TenThousandthDesk$Printer" 7 (10000 : Int64) ∈ tt := tt_in 238 (by decide +kernel) (by decide +kernel)
theorem t_239 : Cond.constantLong "TenThousandthDesk$Printer" 9 (10 : Int64) ∈ tt := tt_in 239 (by decide +kernel) (by decide +kernel)
theorem t_240 : Cond.constantLong "TenThousandthDesk$Printer" 11 (48 : Int64) ∈ tt := tt_in 240 (by decide +kernel) (by decide +kernel)
theorem t_241 : Cond.constantLong "TenThousandthDesk$Printer" 13 (1000 : Int64) ∈ tt := tt_in 241 (by decide +kernel) (by decide +kernel)
theorem t_242 : Cond.methodLink "TenThousandthDeskLaw" 76 y_La_average ∈ tt := tt_in 242 (by decide +kernel) (by decide +kernel)
theorem t_243 : Cond.static y_La_average ∈ tt := tt_in 243 (by decide +kernel) (by decide +kernel)
theorem t_244 : Cond.codeWith y_La_average b_La_average 4 (some .int) [(0, 8, 11, 13), (0, 8, 14, 25)] ∈ tt := tt_in 244 (by decide +kernel) (by decide +kernel)
theorem t_245 : Cond.methodLink "TenThousandthDeskLaw" 38 y_Dk_average ∈ tt := tt_in 245 (by decide +kernel) (by decide +kernel)
theorem t_246 : Cond.instanceMethod y_Dk_average ∈ tt := tt_in 246 (by decide +kernel) (by decide +kernel)
theorem t_247 : Cond.selects "TenThousandthDesk" y_Dk_average y_Dk_average ∈ tt := tt_in 247 (by decide +kernel) (by decide +kernel)
theorem t_248 : Cond.code y_Dk_average b_Dk_average 5 (some .long) ∈ tt := tt_in 248 (by decide +kernel) (by decide +kernel)
theorem t_249 : Cond.constantLong "TenThousandthDesk" 86 (8 : Int64) ∈ tt := tt_in 249 (by decide +kernel) (by decide +kernel)
theorem t_250 : Cond.classLink "TenThousandthDeskLaw" 42 "TenThousandthDeskModel" ∈ tt := tt_in 250 (by decide +kernel) (by decide +kernel)
theorem t_251 : Cond.instantiable "TenThousandthDeskModel" 3 ∈ tt := tt_in 251 (by decide +kernel) (by decide +kernel)
theorem t_252 : Cond.methodLink "TenThousandthDeskLaw" 44 y_Mo_init ∈ tt := tt_in 252 (by decide +kernel) (by decide +kernel)
theorem t_253 : Cond.instanceMethod y_Mo_init ∈ tt := tt_in 253 (by decide +kernel) (by decide +kernel)
theorem t_254 : Cond.code y_Mo_init b_Mo_init 1 none ∈ tt := tt_in 254 (by decide +kernel) (by decide +kernel)
theorem t_255 : Cond.methodLink "TenThousandthDeskModel" 1 (⟨"java/lang/Object", "<init>", "()V"⟩ : MethodName) ∈ tt := tt_in 255 (by decide +kernel) (by decide +kernel)
theorem t_256 : Cond.fieldLink "TenThousandthDeskModel" 17 "TenThousandthDeskModel" "failed" "I" ∈ tt := tt_in 256 (by decide +kernel) (by decide +kernel)
theorem t_257 : Cond.fieldLink "TenThousandthDeskModel" 7 "TenThousandthDeskModel" "registers" "[J" ∈ tt := tt_in 257 (by decide +kernel) (by decide +kernel)
theorem t_258 : Cond.fieldLink "TenThousandthDeskModel" 13 "TenThousandthDeskModel" "printed" "[I" ∈ tt := tt_in 258 (by decide +kernel) (by decide +kernel)
theorem t_259 : Cond.lays "TenThousandthDeskModel" "TenThousandthDeskModel" "failed" "I" ∈ tt := tt_in 259 (by decide +kernel) (by decide +kernel)
theorem t_260 : Cond.soleField "TenThousandthDeskModel" "failed" ∈ tt := tt_in 260 (by decide +kernel) (by decide +kernel)
theorem t_261 : Cond.laysFinal "TenThousandthDeskModel" "TenThousandthDeskModel" "registers" "[J" ∈ tt := tt_in 261 (by decide +kernel) (by decide +kernel)
theorem t_262 : Cond.soleField "TenThousandthDeskModel" "registers" ∈ tt := tt_in 262 (by decide +kernel) (by decide +kernel)
theorem t_263 : Cond.laysFinal "TenThousandthDeskModel" "TenThousandthDeskModel" "printed" "[I" ∈ tt := tt_in 263 (by decide +kernel) (by decide +kernel)
theorem t_264 : Cond.soleField "TenThousandthDeskModel" "printed" ∈ tt := tt_in 264 (by decide +kernel) (by decide +kernel)
theorem t_265 : Cond.superclass "TenThousandthDeskModel" "java/lang/Object" ∈ tt := tt_in 265 (by decide +kernel) (by decide +kernel)
theorem t_266 : Cond.arrayClass .int ∈ tt := tt_in 266 (by decide +kernel) (by decide +kernel)
theorem t_267 : Cond.methodLink "TenThousandthDeskLaw" 53 y_Mo_thrown ∈ tt := tt_in 267 (by decide +kernel) (by decide +kernel)
theorem t_268 : Cond.instanceMethod y_Mo_thrown ∈ tt := tt_in 268 (by decide +kernel) (by decide +kernel)
theorem t_269 : Cond.selects "TenThousandthDeskModel" y_Mo_thrown y_Mo_thrown ∈ tt := tt_in 269 (by decide +kernel) (by decide +kernel)
theorem t_270 : Cond.code y_Mo_thrown b_Mo_thrown 1 (some .int) ∈ tt := tt_in 270 (by decide +kernel) (by decide +kernel)
theorem t_271 : Cond.methodLink "TenThousandthDeskLaw" 52 y_Mo_set ∈ tt := tt_in 271 (by decide +kernel) (by decide +kernel)
theorem t_272 : Cond.instanceMethod y_Mo_set ∈ tt := tt_in 272 (by decide +kernel) (by decide +kernel)
theorem t_273 : Cond.selects "TenThousandthDeskModel" y_Mo_set y_Mo_set ∈ tt := tt_in 273 (by decide +kernel) (by decide +kernel)
theorem t_274 : Cond.code y_Mo_set b_Mo_set 6 (some .long) ∈ tt := tt_in 274 (by decide +kernel) (by decide +kernel)
theorem t_275 : Cond.methodLink "TenThousandthDeskModel" 21 y_Mo_out ∈ tt := tt_in 275 (by decide +kernel) (by decide +kernel)
theorem t_277 : Cond.instanceMethod y_Mo_out ∈ tt := tt_in 277 (by decide +kernel) (by decide +kernel)
theorem t_278 : Cond.code y_Mo_out b_Mo_out 2 (some .boolean) ∈ tt := tt_in 278 (by decide +kernel) (by decide +kernel)
theorem t_279 : Cond.constantLong "TenThousandthDeskModel" 25 (-900000000000000 : Int64) ∈ tt := tt_in 279 (by decide +kernel) (by decide +kernel)
theorem t_280 : Cond.constantLong "TenThousandthDeskModel" 27 (900000000000000 : Int64) ∈ tt := tt_in 280 (by decide +kernel) (by decide +kernel)
theorem t_281 : Cond.methodLink "TenThousandthDeskModel" 29 y_Mo_fail ∈ tt := tt_in 281 (by decide +kernel) (by decide +kernel)
theorem t_283 : Cond.instanceMethod y_Mo_fail ∈ tt := tt_in 283 (by decide +kernel) (by decide +kernel)
theorem t_284 : Cond.code y_Mo_fail b_Mo_fail 2 (some .int) ∈ tt := tt_in 284 (by decide +kernel) (by decide +kernel)
theorem t_285 : Cond.methodLink "TenThousandthDeskLaw" 60 y_Mo_get ∈ tt := tt_in 285 (by decide +kernel) (by decide +kernel)
theorem t_286 : Cond.instanceMethod y_Mo_get ∈ tt := tt_in 286 (by decide +kernel) (by decide +kernel)
theorem t_287 : Cond.selects "TenThousandthDeskModel" y_Mo_get y_Mo_get ∈ tt := tt_in 287 (by decide +kernel) (by decide +kernel)
theorem t_288 : Cond.code y_Mo_get b_Mo_get 2 (some .long) ∈ tt := tt_in 288 (by decide +kernel) (by decide +kernel)
theorem t_289 : Cond.methodLink "TenThousandthDeskLaw" 64 y_Mo_reckon ∈ tt := tt_in 289 (by decide +kernel) (by decide +kernel)
theorem t_290 : Cond.instanceMethod y_Mo_reckon ∈ tt := tt_in 290 (by decide +kernel) (by decide +kernel)
theorem t_291 : Cond.selects "TenThousandthDeskModel" y_Mo_reckon y_Mo_reckon ∈ tt := tt_in 291 (by decide +kernel) (by decide +kernel)
theorem t_292 : Cond.code y_Mo_reckon b_Mo_reckon 12 (some .long) ∈ tt := tt_in 292 (by decide +kernel) (by decide +kernel)
theorem t_293 : Cond.methodLink "TenThousandthDeskModel" 39 y_Mo_size ∈ tt := tt_in 293 (by decide +kernel) (by decide +kernel)
theorem t_294 : Cond.static y_Mo_size ∈ tt := tt_in 294 (by decide +kernel) (by decide +kernel)
theorem t_295 : Cond.code y_Mo_size b_Mo_size 2 (some .long) ∈ tt := tt_in 295 (by decide +kernel) (by decide +kernel)
theorem t_296 : Cond.methodLink "TenThousandthDeskModel" 43 y_Mo_put ∈ tt := tt_in 296 (by decide +kernel) (by decide +kernel)
theorem t_298 : Cond.instanceMethod y_Mo_put ∈ tt := tt_in 298 (by decide +kernel) (by decide +kernel)
theorem t_299 : Cond.code y_Mo_put b_Mo_put 6 (some .long) ∈ tt := tt_in 299 (by decide +kernel) (by decide +kernel)
theorem t_300 : Cond.methodLink "TenThousandthDeskModel" 47 y_Mo_product ∈ tt := tt_in 300 (by decide +kernel) (by decide +kernel)
theorem t_302 : Cond.instanceMethod y_Mo_product ∈ tt := tt_in 302 (by decide +kernel) (by decide +kernel)
theorem t_303 : Cond.code y_Mo_product b_Mo_product 7 (some .long) ∈ tt := tt_in 303 (by decide +kernel) (by decide +kernel)
theorem t_304 : Cond.constantLong "TenThousandthDeskModel" 33 (10000 : Int64) ∈ tt := tt_in 304 (by decide +kernel) (by decide +kernel)
theorem t_305 : Cond.constantLong "TenThousandthDeskModel" 35 (900000000000001 : Int64) ∈ tt := tt_in 305 (by decide +kernel) (by decide +kernel)
theorem t_306 : Cond.constantLong "TenThousandthDeskModel" 37 (5000 : Int64) ∈ tt := tt_in 306 (by decide +kernel) (by decide +kernel)
theorem t_307 : Cond.methodLink "TenThousandthDeskModel" 51 y_Mo_quotient ∈ tt := tt_in 307 (by decide +kernel) (by decide +kernel)
theorem t_309 : Cond.instanceMethod y_Mo_quotient ∈ tt := tt_in 309 (by decide +kernel) (by decide +kernel)
theorem t_310 : Cond.code y_Mo_quotient b_Mo_quotient 9 (some .long) ∈ tt := tt_in 310 (by decide +kernel) (by decide +kernel)
theorem t_311 : Cond.methodLink "TenThousandthDeskLaw" 68 y_Mo_turn ∈ tt := tt_in 311 (by decide +kernel) (by decide +kernel)
theorem t_312 : Cond.instanceMethod y_Mo_turn ∈ tt := tt_in 312 (by decide +kernel) (by decide +kernel)
theorem t_313 : Cond.selects "TenThousandthDeskModel" y_Mo_turn y_Mo_turn ∈ tt := tt_in 313 (by decide +kernel) (by decide +kernel)
theorem t_314 : Cond.code y_Mo_turn b_Mo_turn 8 (some .long) ∈ tt := tt_in 314 (by decide +kernel) (by decide +kernel)
theorem t_315 : Cond.constantLong "TenThousandthDeskModel" 54 (50 : Int64) ∈ tt := tt_in 315 (by decide +kernel) (by decide +kernel)
theorem t_316 : Cond.constantLong "TenThousandthDeskModel" 56 (100 : Int64) ∈ tt := tt_in 316 (by decide +kernel) (by decide +kernel)
theorem t_317 : Cond.methodLink "TenThousandthDeskLaw" 71 y_Mo_round ∈ tt := tt_in 317 (by decide +kernel) (by decide +kernel)
theorem t_318 : Cond.instanceMethod y_Mo_round ∈ tt := tt_in 318 (by decide +kernel) (by decide +kernel)
theorem t_319 : Cond.selects "TenThousandthDeskModel" y_Mo_round y_Mo_round ∈ tt := tt_in 319 (by decide +kernel) (by decide +kernel)
theorem t_320 : Cond.code y_Mo_round b_Mo_round 12 (some .long) ∈ tt := tt_in 320 (by decide +kernel) (by decide +kernel)
theorem t_321 : Cond.constantLong "TenThousandthDeskModel" 58 (10 : Int64) ∈ tt := tt_in 321 (by decide +kernel) (by decide +kernel)
theorem t_322 : Cond.methodLink "TenThousandthDeskLaw" 75 y_Mo_print ∈ tt := tt_in 322 (by decide +kernel) (by decide +kernel)
theorem t_323 : Cond.instanceMethod y_Mo_print ∈ tt := tt_in 323 (by decide +kernel) (by decide +kernel)
theorem t_324 : Cond.selects "TenThousandthDeskModel" y_Mo_print y_Mo_print ∈ tt := tt_in 324 (by decide +kernel) (by decide +kernel)
theorem t_325 : Cond.code y_Mo_print b_Mo_print 12 (some .int) ∈ tt := tt_in 325 (by decide +kernel) (by decide +kernel)
theorem t_326 : Cond.constantLong "TenThousandthDeskModel" 60 (9 : Int64) ∈ tt := tt_in 326 (by decide +kernel) (by decide +kernel)
theorem t_327 : Cond.constantLong "TenThousandthDeskModel" 62 (48 : Int64) ∈ tt := tt_in 327 (by decide +kernel) (by decide +kernel)
theorem t_328 : Cond.constantLong "TenThousandthDeskModel" 64 (1000 : Int64) ∈ tt := tt_in 328 (by decide +kernel) (by decide +kernel)
theorem t_329 : Cond.methodLink "TenThousandthDeskLaw" 78 y_Mo_average ∈ tt := tt_in 329 (by decide +kernel) (by decide +kernel)
theorem t_330 : Cond.instanceMethod y_Mo_average ∈ tt := tt_in 330 (by decide +kernel) (by decide +kernel)
theorem t_331 : Cond.selects "TenThousandthDeskModel" y_Mo_average y_Mo_average ∈ tt := tt_in 331 (by decide +kernel) (by decide +kernel)
theorem t_332 : Cond.code y_Mo_average b_Mo_average 6 (some .long) ∈ tt := tt_in 332 (by decide +kernel) (by decide +kernel)
theorem t_333 : Cond.constantLong "TenThousandthDeskLaw" 45 (4294967295 : Int64) ∈ tt := tt_in 333 (by decide +kernel) (by decide +kernel)
theorem t_334 : Cond.sameMethod "java/lang/Throwable" "java/lang/Throwable" "fillInStackTrace" "(I)Ljava/lang/Throwable;" ∈ tt := tt_in 334 (by decide +kernel) (by decide +kernel)
theorem t_s0 : Cond.selects "java/lang/Throwable" (⟨"java/lang/Throwable", "fillInStackTrace", "(I)Ljava/lang/Throwable;"⟩ : MethodName) (⟨"java/lang/Throwable", "fillInStackTrace", "(I)Ljava/lang/Throwable;"⟩ : MethodName) ∈ tt := tt_sel 0 (by decide +kernel) (by decide +kernel)
theorem t_s1 : Cond.selects "TenThousandthDesk" y_Dk_keep y_Dk_keep ∈ tt := tt_sel 1 (by decide +kernel) (by decide +kernel)
theorem t_s2 : Cond.selects "TenThousandthDeskModel" y_Mo_out y_Mo_out ∈ tt := tt_sel 2 (by decide +kernel) (by decide +kernel)
theorem t_s3 : Cond.selects "TenThousandthDeskModel" y_Mo_fail y_Mo_fail ∈ tt := tt_sel 3 (by decide +kernel) (by decide +kernel)
theorem t_s4 : Cond.selects "TenThousandthDeskModel" y_Mo_put y_Mo_put ∈ tt := tt_sel 4 (by decide +kernel) (by decide +kernel)
theorem t_s5 : Cond.selects "TenThousandthDeskModel" y_Mo_product y_Mo_product ∈ tt := tt_sel 5 (by decide +kernel) (by decide +kernel)
theorem t_s6 : Cond.selects "TenThousandthDeskModel" y_Mo_quotient y_Mo_quotient ∈ tt := tt_sel 6 (by decide +kernel) (by decide +kernel)
end
section
-- decode rows, printed by gen/names.py
theorem d_Dk_init_0 : decode b_Dk_init 0 = .ok (.aload_n 0, 1) := by decide +kernel
theorem d_Dk_init_1 : decode b_Dk_init 1 = .ok (.invokespecial 1, 3) := by decide +kernel
theorem d_Dk_init_4 : decode b_Dk_init 4 = .ok (.aload_n 0, 1) := by decide +kernel
theorem d_Dk_init_5 : decode b_Dk_init 5 = .ok (.bipush 8, 2) := by decide +kernel
theorem d_Dk_init_7 : decode b_Dk_init 7 = .ok (.newarray .long, 2) := by decide +kernel
theorem d_Dk_init_9 : decode b_Dk_init 9 = .ok (.putfield 7, 3) := by decide +kernel
theorem d_Dk_init_12 : decode b_Dk_init 12 = .ok (.aload_n 0, 1) := by decide +kernel
theorem d_Dk_init_13 : decode b_Dk_init 13 = .ok (.bipush 32, 2) := by decide +kernel
theorem d_Dk_init_15 : decode b_Dk_init 15 = .ok (.newarray .byte, 2) := by decide +kernel
theorem d_Dk_init_17 : decode b_Dk_init 17 = .ok (.putfield 13, 3) := by decide +kernel
theorem d_Dk_init_20 : decode b_Dk_init 20 = .ok (.return_, 1) := by decide +kernel
theorem d_Dk_set_0 : decode b_Dk_set 0 = .ok (.iload_n 1, 1) := by decide +kernel
theorem d_Dk_set_1 : decode b_Dk_set 1 = .ok (.i2l, 1) := by decide +kernel
theorem d_Dk_set_2 : decode b_Dk_set 2 = .ok (.lconst 0, 1) := by decide +kernel
theorem d_Dk_set_3 : decode b_Dk_set 3 = .ok (.ldc2_w 20, 3) := by decide +kernel
theorem d_Dk_set_6 : decode b_Dk_set 6 = .ok (.invokestatic 22, 3) := by decide +kernel
theorem d_Dk_set_9 : decode b_Dk_set 9 = .ok (.lload_n 2, 1) := by decide +kernel
theorem d_Dk_set_10 : decode b_Dk_set 10 = .ok (.ldc2_w 26, 3) := by decide +kernel
theorem d_Dk_set_13 : decode b_Dk_set 13 = .ok (.ldc2_w 28, 3) := by decide +kernel
theorem d_Dk_set_16 : decode b_Dk_set 16 = .ok (.invokestatic 22, 3) := by decide +kernel
theorem d_Dk_set_19 : decode b_Dk_set 19 = .ok (.aload_n 0, 1) := by decide +kernel
theorem d_Dk_set_20 : decode b_Dk_set 20 = .ok (.getfield 7, 3) := by decide +kernel
theorem d_Dk_set_23 : decode b_Dk_set 23 = .ok (.iload_n 1, 1) := by decide +kernel
theorem d_Dk_set_24 : decode b_Dk_set 24 = .ok (.laload, 1) := by decide +kernel
theorem d_Dk_set_25 : decode b_Dk_set 25 = .ok (.lstore 4, 2) := by decide +kernel
theorem d_Dk_set_27 : decode b_Dk_set 27 = .ok (.aload_n 0, 1) := by decide +kernel
theorem d_Dk_set_28 : decode b_Dk_set 28 = .ok (.getfield 7, 3) := by decide +kernel
theorem d_Dk_set_31 : decode b_Dk_set 31 = .ok (.iload_n 1, 1) := by decide +kernel
theorem d_Dk_set_32 : decode b_Dk_set 32 = .ok (.lload_n 2, 1) := by decide +kernel
theorem d_Dk_set_33 : decode b_Dk_set 33 = .ok (.lastore, 1) := by decide +kernel
theorem d_Dk_set_34 : decode b_Dk_set 34 = .ok (.lload 4, 2) := by decide +kernel
theorem d_Dk_set_36 : decode b_Dk_set 36 = .ok (.lreturn, 1) := by decide +kernel
theorem d_Dk_in_0 : decode b_Dk_in 0 = .ok (.lload_n 0, 1) := by decide +kernel
theorem d_Dk_in_1 : decode b_Dk_in 1 = .ok (.lload_n 2, 1) := by decide +kernel
theorem d_Dk_in_2 : decode b_Dk_in 2 = .ok (.lcmp, 1) := by decide +kernel
theorem d_Dk_in_3 : decode b_Dk_in 3 = .ok (.ifCond .lt 10, 3) := by decide +kernel
theorem d_Dk_in_6 : decode b_Dk_in 6 = .ok (.lload_n 0, 1) := by decide +kernel
theorem d_Dk_in_7 : decode b_Dk_in 7 = .ok (.lload 4, 2) := by decide +kernel
theorem d_Dk_in_9 : decode b_Dk_in 9 = .ok (.lcmp, 1) := by decide +kernel
theorem d_Dk_in_10 : decode b_Dk_in 10 = .ok (.ifCond .le 11, 3) := by decide +kernel
theorem d_Dk_in_13 : decode b_Dk_in 13 = .ok (.new 17, 3) := by decide +kernel
theorem d_Dk_in_16 : decode b_Dk_in 16 = .ok (.dup, 1) := by decide +kernel
theorem d_Dk_in_17 : decode b_Dk_in 17 = .ok (.invokespecial 19, 3) := by decide +kernel
theorem d_Dk_in_20 : decode b_Dk_in 20 = .ok (.athrow, 1) := by decide +kernel
theorem d_Dk_in_21 : decode b_Dk_in 21 = .ok (.return_, 1) := by decide +kernel
theorem d_Dk_get_0 : decode b_Dk_get 0 = .ok (.iload_n 1, 1) := by decide +kernel
theorem d_Dk_get_1 : decode b_Dk_get 1 = .ok (.i2l, 1) := by decide +kernel
theorem d_Dk_get_2 : decode b_Dk_get 2 = .ok (.lconst 0, 1) := by decide +kernel
theorem d_Dk_get_3 : decode b_Dk_get 3 = .ok (.ldc2_w 20, 3) := by decide +kernel
theorem d_Dk_get_6 : decode b_Dk_get 6 = .ok (.invokestatic 22, 3) := by decide +kernel
theorem d_Dk_get_9 : decode b_Dk_get 9 = .ok (.aload_n 0, 1) := by decide +kernel
theorem d_Dk_get_10 : decode b_Dk_get 10 = .ok (.getfield 7, 3) := by decide +kernel
theorem d_Dk_get_13 : decode b_Dk_get 13 = .ok (.iload_n 1, 1) := by decide +kernel
theorem d_Dk_get_14 : decode b_Dk_get 14 = .ok (.laload, 1) := by decide +kernel
theorem d_Dk_get_15 : decode b_Dk_get 15 = .ok (.lreturn, 1) := by decide +kernel
theorem d_Dk_reckon_0 : decode b_Dk_reckon 0 = .ok (.iload_n 1, 1) := by decide +kernel
theorem d_Dk_reckon_1 : decode b_Dk_reckon 1 = .ok (.i2l, 1) := by decide +kernel
theorem d_Dk_reckon_2 : decode b_Dk_reckon 2 = .ok (.lconst 0, 1) := by decide +kernel
theorem d_Dk_reckon_3 : decode b_Dk_reckon 3 = .ok (.ldc2_w 20, 3) := by decide +kernel
theorem d_Dk_reckon_6 : decode b_Dk_reckon 6 = .ok (.invokestatic 22, 3) := by decide +kernel
theorem d_Dk_reckon_9 : decode b_Dk_reckon 9 = .ok (.iload_n 2, 1) := by decide +kernel
theorem d_Dk_reckon_10 : decode b_Dk_reckon 10 = .ok (.i2l, 1) := by decide +kernel
theorem d_Dk_reckon_11 : decode b_Dk_reckon 11 = .ok (.lconst 0, 1) := by decide +kernel
theorem d_Dk_reckon_12 : decode b_Dk_reckon 12 = .ok (.ldc2_w 30, 3) := by decide +kernel
theorem d_Dk_reckon_15 : decode b_Dk_reckon 15 = .ok (.invokestatic 22, 3) := by decide +kernel
theorem d_Dk_reckon_18 : decode b_Dk_reckon 18 = .ok (.aload_n 0, 1) := by decide +kernel
theorem d_Dk_reckon_19 : decode b_Dk_reckon 19 = .ok (.iload_n 3, 1) := by decide +kernel
theorem d_Dk_reckon_20 : decode b_Dk_reckon 20 = .ok (.invokevirtual 32, 3) := by decide +kernel
theorem d_Dk_reckon_23 : decode b_Dk_reckon 23 = .ok (.lstore 5, 2) := by decide +kernel
theorem d_Dk_reckon_25 : decode b_Dk_reckon 25 = .ok (.aload_n 0, 1) := by decide +kernel
theorem d_Dk_reckon_26 : decode b_Dk_reckon 26 = .ok (.iload 4, 2) := by decide +kernel
theorem d_Dk_reckon_28 : decode b_Dk_reckon 28 = .ok (.invokevirtual 32, 3) := by decide +kernel
theorem d_Dk_reckon_31 : decode b_Dk_reckon 31 = .ok (.lstore 7, 2) := by decide +kernel
theorem d_Dk_reckon_33 : decode b_Dk_reckon 33 = .ok (.iload_n 2, 1) := by decide +kernel
theorem d_Dk_reckon_34 : decode b_Dk_reckon 34 = .ok (.tableswitch 84 0 3 #[30, 44, 58, 71], 30) := by decide +kernel
theorem d_Dk_reckon_64 : decode b_Dk_reckon 64 = .ok (.aload_n 0, 1) := by decide +kernel
theorem d_Dk_reckon_65 : decode b_Dk_reckon 65 = .ok (.iload_n 1, 1) := by decide +kernel
theorem d_Dk_reckon_66 : decode b_Dk_reckon 66 = .ok (.lload 5, 2) := by decide +kernel
theorem d_Dk_reckon_68 : decode b_Dk_reckon 68 = .ok (.lload 7, 2) := by decide +kernel
theorem d_Dk_reckon_70 : decode b_Dk_reckon 70 = .ok (.ladd, 1) := by decide +kernel
theorem d_Dk_reckon_71 : decode b_Dk_reckon 71 = .ok (.invokestatic 36, 3) := by decide +kernel
theorem d_Dk_reckon_74 : decode b_Dk_reckon 74 = .ok (.invokevirtual 42, 3) := by decide +kernel
theorem d_Dk_reckon_77 : decode b_Dk_reckon 77 = .ok (.lreturn, 1) := by decide +kernel
theorem d_Dk_reckon_78 : decode b_Dk_reckon 78 = .ok (.aload_n 0, 1) := by decide +kernel
theorem d_Dk_reckon_79 : decode b_Dk_reckon 79 = .ok (.iload_n 1, 1) := by decide +kernel
theorem d_Dk_reckon_80 : decode b_Dk_reckon 80 = .ok (.lload 5, 2) := by decide +kernel
theorem d_Dk_reckon_82 : decode b_Dk_reckon 82 = .ok (.lload 7, 2) := by decide +kernel
theorem d_Dk_reckon_84 : decode b_Dk_reckon 84 = .ok (.lsub, 1) := by decide +kernel
theorem d_Dk_reckon_85 : decode b_Dk_reckon 85 = .ok (.invokestatic 36, 3) := by decide +kernel
theorem d_Dk_reckon_88 : decode b_Dk_reckon 88 = .ok (.invokevirtual 42, 3) := by decide +kernel
theorem d_Dk_reckon_91 : decode b_Dk_reckon 91 = .ok (.lreturn, 1) := by decide +kernel
theorem d_Dk_reckon_92 : decode b_Dk_reckon 92 = .ok (.aload_n 0, 1) := by decide +kernel
theorem d_Dk_reckon_93 : decode b_Dk_reckon 93 = .ok (.iload_n 1, 1) := by decide +kernel
theorem d_Dk_reckon_94 : decode b_Dk_reckon 94 = .ok (.lload 5, 2) := by decide +kernel
theorem d_Dk_reckon_96 : decode b_Dk_reckon 96 = .ok (.lload 7, 2) := by decide +kernel
theorem d_Dk_reckon_98 : decode b_Dk_reckon 98 = .ok (.invokestatic 46, 3) := by decide +kernel
theorem d_Dk_reckon_101 : decode b_Dk_reckon 101 = .ok (.invokevirtual 42, 3) := by decide +kernel
theorem d_Dk_reckon_104 : decode b_Dk_reckon 104 = .ok (.lreturn, 1) := by decide +kernel
theorem d_Dk_reckon_105 : decode b_Dk_reckon 105 = .ok (.aload_n 0, 1) := by decide +kernel
theorem d_Dk_reckon_106 : decode b_Dk_reckon 106 = .ok (.iload_n 1, 1) := by decide +kernel
theorem d_Dk_reckon_107 : decode b_Dk_reckon 107 = .ok (.lload 5, 2) := by decide +kernel
theorem d_Dk_reckon_109 : decode b_Dk_reckon 109 = .ok (.lload 7, 2) := by decide +kernel
theorem d_Dk_reckon_111 : decode b_Dk_reckon 111 = .ok (.invokestatic 50, 3) := by decide +kernel
theorem d_Dk_reckon_114 : decode b_Dk_reckon 114 = .ok (.invokevirtual 42, 3) := by decide +kernel
theorem d_Dk_reckon_117 : decode b_Dk_reckon 117 = .ok (.lreturn, 1) := by decide +kernel
theorem d_Dk_reckon_118 : decode b_Dk_reckon 118 = .ok (.lload 7, 2) := by decide +kernel
theorem d_Dk_reckon_120 : decode b_Dk_reckon 120 = .ok (.lconst 0, 1) := by decide +kernel
theorem d_Dk_reckon_121 : decode b_Dk_reckon 121 = .ok (.lcmp, 1) := by decide +kernel
theorem d_Dk_reckon_122 : decode b_Dk_reckon 122 = .ok (.ifCond .ne 11, 3) := by decide +kernel
theorem d_Dk_reckon_125 : decode b_Dk_reckon 125 = .ok (.new 53, 3) := by decide +kernel
theorem d_Dk_reckon_128 : decode b_Dk_reckon 128 = .ok (.dup, 1) := by decide +kernel
theorem d_Dk_reckon_129 : decode b_Dk_reckon 129 = .ok (.invokespecial 55, 3) := by decide +kernel
theorem d_Dk_reckon_132 : decode b_Dk_reckon 132 = .ok (.athrow, 1) := by decide +kernel
theorem d_Dk_reckon_133 : decode b_Dk_reckon 133 = .ok (.aload_n 0, 1) := by decide +kernel
theorem d_Dk_reckon_134 : decode b_Dk_reckon 134 = .ok (.iload_n 1, 1) := by decide +kernel
theorem d_Dk_reckon_135 : decode b_Dk_reckon 135 = .ok (.lload 5, 2) := by decide +kernel
theorem d_Dk_reckon_137 : decode b_Dk_reckon 137 = .ok (.lload 7, 2) := by decide +kernel
theorem d_Dk_reckon_139 : decode b_Dk_reckon 139 = .ok (.invokestatic 56, 3) := by decide +kernel
theorem d_Dk_reckon_142 : decode b_Dk_reckon 142 = .ok (.invokevirtual 42, 3) := by decide +kernel
theorem d_Dk_reckon_145 : decode b_Dk_reckon 145 = .ok (.lreturn, 1) := by decide +kernel
theorem d_De_fit_0 : decode b_De_fit 0 = .ok (.lload_n 0, 1) := by decide +kernel
theorem d_De_fit_1 : decode b_De_fit 1 = .ok (.ldc2_w 9, 3) := by decide +kernel
theorem d_De_fit_4 : decode b_De_fit 4 = .ok (.lcmp, 1) := by decide +kernel
theorem d_De_fit_5 : decode b_De_fit 5 = .ok (.ifCond .gt 11, 3) := by decide +kernel
theorem d_De_fit_8 : decode b_De_fit 8 = .ok (.lload_n 0, 1) := by decide +kernel
theorem d_De_fit_9 : decode b_De_fit 9 = .ok (.ldc2_w 11, 3) := by decide +kernel
theorem d_De_fit_12 : decode b_De_fit 12 = .ok (.lcmp, 1) := by decide +kernel
theorem d_De_fit_13 : decode b_De_fit 13 = .ok (.ifCond .ge 11, 3) := by decide +kernel
theorem d_De_fit_16 : decode b_De_fit 16 = .ok (.new 13, 3) := by decide +kernel
theorem d_De_fit_19 : decode b_De_fit 19 = .ok (.dup, 1) := by decide +kernel
theorem d_De_fit_20 : decode b_De_fit 20 = .ok (.invokespecial 15, 3) := by decide +kernel
theorem d_De_fit_23 : decode b_De_fit 23 = .ok (.athrow, 1) := by decide +kernel
theorem d_De_fit_24 : decode b_De_fit 24 = .ok (.lload_n 0, 1) := by decide +kernel
theorem d_De_fit_25 : decode b_De_fit 25 = .ok (.lreturn, 1) := by decide +kernel
theorem d_Dk_keep_0 : decode b_Dk_keep 0 = .ok (.aload_n 0, 1) := by decide +kernel
theorem d_Dk_keep_1 : decode b_Dk_keep 1 = .ok (.getfield 7, 3) := by decide +kernel
theorem d_Dk_keep_4 : decode b_Dk_keep 4 = .ok (.iload_n 1, 1) := by decide +kernel
theorem d_Dk_keep_5 : decode b_Dk_keep 5 = .ok (.lload_n 2, 1) := by decide +kernel
theorem d_Dk_keep_6 : decode b_Dk_keep 6 = .ok (.lastore, 1) := by decide +kernel
theorem d_Dk_keep_7 : decode b_Dk_keep 7 = .ok (.lload_n 2, 1) := by decide +kernel
theorem d_Dk_keep_8 : decode b_Dk_keep 8 = .ok (.lreturn, 1) := by decide +kernel
theorem d_De_times_0 : decode b_De_times 0 = .ok (.lload_n 0, 1) := by decide +kernel
theorem d_De_times_1 : decode b_De_times 1 = .ok (.lconst 0, 1) := by decide +kernel
theorem d_De_times_2 : decode b_De_times 2 = .ok (.lcmp, 1) := by decide +kernel
theorem d_De_times_3 : decode b_De_times 3 = .ok (.ifCond .ge 8, 3) := by decide +kernel
theorem d_De_times_6 : decode b_De_times 6 = .ok (.lload_n 0, 1) := by decide +kernel
theorem d_De_times_7 : decode b_De_times 7 = .ok (.lneg, 1) := by decide +kernel
theorem d_De_times_8 : decode b_De_times 8 = .ok (.goto 4, 3) := by decide +kernel
theorem d_De_times_11 : decode b_De_times 11 = .ok (.lload_n 0, 1) := by decide +kernel
theorem d_De_times_12 : decode b_De_times 12 = .ok (.lstore 4, 2) := by decide +kernel
theorem d_De_times_14 : decode b_De_times 14 = .ok (.lload_n 2, 1) := by decide +kernel
theorem d_De_times_15 : decode b_De_times 15 = .ok (.lconst 0, 1) := by decide +kernel
theorem d_De_times_16 : decode b_De_times 16 = .ok (.lcmp, 1) := by decide +kernel
theorem d_De_times_17 : decode b_De_times 17 = .ok (.ifCond .ge 8, 3) := by decide +kernel
theorem d_De_times_20 : decode b_De_times 20 = .ok (.lload_n 2, 1) := by decide +kernel
theorem d_De_times_21 : decode b_De_times 21 = .ok (.lneg, 1) := by decide +kernel
theorem d_De_times_22 : decode b_De_times 22 = .ok (.goto 4, 3) := by decide +kernel
theorem d_De_times_25 : decode b_De_times 25 = .ok (.lload_n 2, 1) := by decide +kernel
theorem d_De_times_26 : decode b_De_times 26 = .ok (.lstore 6, 2) := by decide +kernel
theorem d_De_times_28 : decode b_De_times 28 = .ok (.lload 4, 2) := by decide +kernel
theorem d_De_times_30 : decode b_De_times 30 = .ok (.ldc2_w 18, 3) := by decide +kernel
theorem d_De_times_33 : decode b_De_times 33 = .ok (.ldiv, 1) := by decide +kernel
theorem d_De_times_34 : decode b_De_times 34 = .ok (.lstore 8, 2) := by decide +kernel
theorem d_De_times_36 : decode b_De_times 36 = .ok (.lload 8, 2) := by decide +kernel
theorem d_De_times_38 : decode b_De_times 38 = .ok (.lconst 0, 1) := by decide +kernel
theorem d_De_times_39 : decode b_De_times 39 = .ok (.lcmp, 1) := by decide +kernel
theorem d_De_times_40 : decode b_De_times 40 = .ok (.ifCond .le 23, 3) := by decide +kernel
theorem d_De_times_43 : decode b_De_times 43 = .ok (.lload 6, 2) := by decide +kernel
theorem d_De_times_45 : decode b_De_times 45 = .ok (.ldc2_w 9, 3) := by decide +kernel
theorem d_De_times_48 : decode b_De_times 48 = .ok (.lload 8, 2) := by decide +kernel
theorem d_De_times_50 : decode b_De_times 50 = .ok (.ldiv, 1) := by decide +kernel
theorem d_De_times_51 : decode b_De_times 51 = .ok (.lcmp, 1) := by decide +kernel
theorem d_De_times_52 : decode b_De_times 52 = .ok (.ifCond .le 11, 3) := by decide +kernel
theorem d_De_times_55 : decode b_De_times 55 = .ok (.new 13, 3) := by decide +kernel
theorem d_De_times_58 : decode b_De_times 58 = .ok (.dup, 1) := by decide +kernel
theorem d_De_times_59 : decode b_De_times 59 = .ok (.invokespecial 15, 3) := by decide +kernel
theorem d_De_times_62 : decode b_De_times 62 = .ok (.athrow, 1) := by decide +kernel
theorem d_De_times_63 : decode b_De_times 63 = .ok (.lload 8, 2) := by decide +kernel
theorem d_De_times_65 : decode b_De_times 65 = .ok (.lload 6, 2) := by decide +kernel
theorem d_De_times_67 : decode b_De_times 67 = .ok (.lmul, 1) := by decide +kernel
theorem d_De_times_68 : decode b_De_times 68 = .ok (.lload 4, 2) := by decide +kernel
theorem d_De_times_70 : decode b_De_times 70 = .ok (.ldc2_w 18, 3) := by decide +kernel
theorem d_De_times_73 : decode b_De_times 73 = .ok (.lrem, 1) := by decide +kernel
theorem d_De_times_74 : decode b_De_times 74 = .ok (.lload 6, 2) := by decide +kernel
theorem d_De_times_76 : decode b_De_times 76 = .ok (.lmul, 1) := by decide +kernel
theorem d_De_times_77 : decode b_De_times 77 = .ok (.ldc2_w 18, 3) := by decide +kernel
theorem d_De_times_80 : decode b_De_times 80 = .ok (.invokestatic 20, 3) := by decide +kernel
theorem d_De_times_83 : decode b_De_times 83 = .ok (.ladd, 1) := by decide +kernel
theorem d_De_times_84 : decode b_De_times 84 = .ok (.lstore 10, 2) := by decide +kernel
theorem d_De_times_86 : decode b_De_times 86 = .ok (.lload_n 0, 1) := by decide +kernel
theorem d_De_times_87 : decode b_De_times 87 = .ok (.lconst 0, 1) := by decide +kernel
theorem d_De_times_88 : decode b_De_times 88 = .ok (.lcmp, 1) := by decide +kernel
theorem d_De_times_89 : decode b_De_times 89 = .ok (.ifCond .ge 7, 3) := by decide +kernel
theorem d_De_times_92 : decode b_De_times 92 = .ok (.iconst 1, 1) := by decide +kernel
theorem d_De_times_93 : decode b_De_times 93 = .ok (.goto 4, 3) := by decide +kernel
theorem d_De_times_96 : decode b_De_times 96 = .ok (.iconst 0, 1) := by decide +kernel
theorem d_De_times_97 : decode b_De_times 97 = .ok (.lload_n 2, 1) := by decide +kernel
theorem d_De_times_98 : decode b_De_times 98 = .ok (.lconst 0, 1) := by decide +kernel
theorem d_De_times_99 : decode b_De_times 99 = .ok (.lcmp, 1) := by decide +kernel
theorem d_De_times_100 : decode b_De_times 100 = .ok (.ifCond .ge 7, 3) := by decide +kernel
theorem d_De_times_103 : decode b_De_times 103 = .ok (.iconst 1, 1) := by decide +kernel
theorem d_De_times_104 : decode b_De_times 104 = .ok (.goto 4, 3) := by decide +kernel
theorem d_De_times_107 : decode b_De_times 107 = .ok (.iconst 0, 1) := by decide +kernel
theorem d_De_times_108 : decode b_De_times 108 = .ok (.if_icmp .ne 8, 3) := by decide +kernel
theorem d_De_times_111 : decode b_De_times 111 = .ok (.lload 10, 2) := by decide +kernel
theorem d_De_times_113 : decode b_De_times 113 = .ok (.goto 6, 3) := by decide +kernel
theorem d_De_times_116 : decode b_De_times 116 = .ok (.lload 10, 2) := by decide +kernel
theorem d_De_times_118 : decode b_De_times 118 = .ok (.lneg, 1) := by decide +kernel
theorem d_De_times_119 : decode b_De_times 119 = .ok (.invokestatic 26, 3) := by decide +kernel
theorem d_De_times_122 : decode b_De_times 122 = .ok (.lreturn, 1) := by decide +kernel
theorem d_De_half_0 : decode b_De_half 0 = .ok (.lload_n 0, 1) := by decide +kernel
theorem d_De_half_1 : decode b_De_half 1 = .ok (.lload_n 2, 1) := by decide +kernel
theorem d_De_half_2 : decode b_De_half 2 = .ok (.ldiv, 1) := by decide +kernel
theorem d_De_half_3 : decode b_De_half 3 = .ok (.lstore 4, 2) := by decide +kernel
theorem d_De_half_5 : decode b_De_half 5 = .ok (.lload_n 0, 1) := by decide +kernel
theorem d_De_half_6 : decode b_De_half 6 = .ok (.lload_n 2, 1) := by decide +kernel
theorem d_De_half_7 : decode b_De_half 7 = .ok (.lrem, 1) := by decide +kernel
theorem d_De_half_8 : decode b_De_half 8 = .ok (.lstore 6, 2) := by decide +kernel
theorem d_De_half_10 : decode b_De_half 10 = .ok (.lload 6, 2) := by decide +kernel
theorem d_De_half_12 : decode b_De_half 12 = .ok (.lconst 0, 1) := by decide +kernel
theorem d_De_half_13 : decode b_De_half 13 = .ok (.lcmp, 1) := by decide +kernel
theorem d_De_half_14 : decode b_De_half 14 = .ok (.ifCond .ge 9, 3) := by decide +kernel
theorem d_De_half_17 : decode b_De_half 17 = .ok (.lload 6, 2) := by decide +kernel
theorem d_De_half_19 : decode b_De_half 19 = .ok (.lneg, 1) := by decide +kernel
theorem d_De_half_20 : decode b_De_half 20 = .ok (.goto 5, 3) := by decide +kernel
theorem d_De_half_23 : decode b_De_half 23 = .ok (.lload 6, 2) := by decide +kernel
theorem d_De_half_25 : decode b_De_half 25 = .ok (.lstore 8, 2) := by decide +kernel
theorem d_De_half_27 : decode b_De_half 27 = .ok (.lload 8, 2) := by decide +kernel
theorem d_De_half_29 : decode b_De_half 29 = .ok (.lload_n 2, 1) := by decide +kernel
theorem d_De_half_30 : decode b_De_half 30 = .ok (.lload 8, 2) := by decide +kernel
theorem d_De_half_32 : decode b_De_half 32 = .ok (.lsub, 1) := by decide +kernel
theorem d_De_half_33 : decode b_De_half 33 = .ok (.lcmp, 1) := by decide +kernel
theorem d_De_half_34 : decode b_De_half 34 = .ok (.ifCond .lt 22, 3) := by decide +kernel
theorem d_De_half_37 : decode b_De_half 37 = .ok (.lload 4, 2) := by decide +kernel
theorem d_De_half_39 : decode b_De_half 39 = .ok (.lload_n 0, 1) := by decide +kernel
theorem d_De_half_40 : decode b_De_half 40 = .ok (.lconst 0, 1) := by decide +kernel
theorem d_De_half_41 : decode b_De_half 41 = .ok (.lcmp, 1) := by decide +kernel
theorem d_De_half_42 : decode b_De_half 42 = .ok (.ifCond .ge 9, 3) := by decide +kernel
theorem d_De_half_45 : decode b_De_half 45 = .ok (.ldc2_w 16, 3) := by decide +kernel
theorem d_De_half_48 : decode b_De_half 48 = .ok (.goto 4, 3) := by decide +kernel
theorem d_De_half_51 : decode b_De_half 51 = .ok (.lconst 1, 1) := by decide +kernel
theorem d_De_half_52 : decode b_De_half 52 = .ok (.ladd, 1) := by decide +kernel
theorem d_De_half_53 : decode b_De_half 53 = .ok (.goto 5, 3) := by decide +kernel
theorem d_De_half_56 : decode b_De_half 56 = .ok (.lload 4, 2) := by decide +kernel
theorem d_De_half_58 : decode b_De_half 58 = .ok (.lreturn, 1) := by decide +kernel
theorem d_De_by_0 : decode b_De_by 0 = .ok (.lload_n 2, 1) := by decide +kernel
theorem d_De_by_1 : decode b_De_by 1 = .ok (.lconst 0, 1) := by decide +kernel
theorem d_De_by_2 : decode b_De_by 2 = .ok (.lcmp, 1) := by decide +kernel
theorem d_De_by_3 : decode b_De_by 3 = .ok (.ifCond .ne 11, 3) := by decide +kernel
theorem d_De_by_6 : decode b_De_by 6 = .ok (.new 30, 3) := by decide +kernel
theorem d_De_by_9 : decode b_De_by 9 = .ok (.dup, 1) := by decide +kernel
theorem d_De_by_10 : decode b_De_by 10 = .ok (.invokespecial 32, 3) := by decide +kernel
theorem d_De_by_13 : decode b_De_by 13 = .ok (.athrow, 1) := by decide +kernel
theorem d_De_by_14 : decode b_De_by 14 = .ok (.lload_n 2, 1) := by decide +kernel
theorem d_De_by_15 : decode b_De_by 15 = .ok (.lconst 0, 1) := by decide +kernel
theorem d_De_by_16 : decode b_De_by 16 = .ok (.lcmp, 1) := by decide +kernel
theorem d_De_by_17 : decode b_De_by 17 = .ok (.ifCond .ge 8, 3) := by decide +kernel
theorem d_De_by_20 : decode b_De_by 20 = .ok (.lload_n 2, 1) := by decide +kernel
theorem d_De_by_21 : decode b_De_by 21 = .ok (.lneg, 1) := by decide +kernel
theorem d_De_by_22 : decode b_De_by 22 = .ok (.goto 4, 3) := by decide +kernel
theorem d_De_by_25 : decode b_De_by 25 = .ok (.lload_n 2, 1) := by decide +kernel
theorem d_De_by_26 : decode b_De_by 26 = .ok (.lstore 4, 2) := by decide +kernel
theorem d_De_by_28 : decode b_De_by 28 = .ok (.lload_n 0, 1) := by decide +kernel
theorem d_De_by_29 : decode b_De_by 29 = .ok (.lconst 0, 1) := by decide +kernel
theorem d_De_by_30 : decode b_De_by 30 = .ok (.lcmp, 1) := by decide +kernel
theorem d_De_by_31 : decode b_De_by 31 = .ok (.ifCond .ge 8, 3) := by decide +kernel
theorem d_De_by_34 : decode b_De_by 34 = .ok (.lload_n 0, 1) := by decide +kernel
theorem d_De_by_35 : decode b_De_by 35 = .ok (.lneg, 1) := by decide +kernel
theorem d_De_by_36 : decode b_De_by 36 = .ok (.goto 4, 3) := by decide +kernel
theorem d_De_by_39 : decode b_De_by 39 = .ok (.lload_n 0, 1) := by decide +kernel
theorem d_De_by_40 : decode b_De_by 40 = .ok (.ldc2_w 18, 3) := by decide +kernel
theorem d_De_by_43 : decode b_De_by 43 = .ok (.lmul, 1) := by decide +kernel
theorem d_De_by_44 : decode b_De_by 44 = .ok (.lload 4, 2) := by decide +kernel
theorem d_De_by_46 : decode b_De_by 46 = .ok (.invokestatic 20, 3) := by decide +kernel
theorem d_De_by_49 : decode b_De_by 49 = .ok (.lstore 6, 2) := by decide +kernel
theorem d_De_by_51 : decode b_De_by 51 = .ok (.lload_n 0, 1) := by decide +kernel
theorem d_De_by_52 : decode b_De_by 52 = .ok (.lconst 0, 1) := by decide +kernel
theorem d_De_by_53 : decode b_De_by 53 = .ok (.lcmp, 1) := by decide +kernel
theorem d_De_by_54 : decode b_De_by 54 = .ok (.ifCond .ge 7, 3) := by decide +kernel
theorem d_De_by_57 : decode b_De_by 57 = .ok (.iconst 1, 1) := by decide +kernel
theorem d_De_by_58 : decode b_De_by 58 = .ok (.goto 4, 3) := by decide +kernel
theorem d_De_by_61 : decode b_De_by 61 = .ok (.iconst 0, 1) := by decide +kernel
theorem d_De_by_62 : decode b_De_by 62 = .ok (.lload_n 2, 1) := by decide +kernel
theorem d_De_by_63 : decode b_De_by 63 = .ok (.lconst 0, 1) := by decide +kernel
theorem d_De_by_64 : decode b_De_by 64 = .ok (.lcmp, 1) := by decide +kernel
theorem d_De_by_65 : decode b_De_by 65 = .ok (.ifCond .ge 7, 3) := by decide +kernel
theorem d_De_by_68 : decode b_De_by 68 = .ok (.iconst 1, 1) := by decide +kernel
theorem d_De_by_69 : decode b_De_by 69 = .ok (.goto 4, 3) := by decide +kernel
theorem d_De_by_72 : decode b_De_by 72 = .ok (.iconst 0, 1) := by decide +kernel
theorem d_De_by_73 : decode b_De_by 73 = .ok (.if_icmp .ne 8, 3) := by decide +kernel
theorem d_De_by_76 : decode b_De_by 76 = .ok (.lload 6, 2) := by decide +kernel
theorem d_De_by_78 : decode b_De_by 78 = .ok (.goto 6, 3) := by decide +kernel
theorem d_De_by_81 : decode b_De_by 81 = .ok (.lload 6, 2) := by decide +kernel
theorem d_De_by_83 : decode b_De_by 83 = .ok (.lneg, 1) := by decide +kernel
theorem d_De_by_84 : decode b_De_by 84 = .ok (.invokestatic 26, 3) := by decide +kernel
theorem d_De_by_87 : decode b_De_by 87 = .ok (.lreturn, 1) := by decide +kernel
theorem d_Ma_floorMod_0 : decode b_Ma_floorMod 0 = .ok (.lload_n 0, 1) := by decide +kernel
theorem d_Ma_floorMod_1 : decode b_Ma_floorMod 1 = .ok (.lload_n 2, 1) := by decide +kernel
theorem d_Ma_floorMod_2 : decode b_Ma_floorMod 2 = .ok (.lrem, 1) := by decide +kernel
theorem d_Ma_floorMod_3 : decode b_Ma_floorMod 3 = .ok (.lstore 4, 2) := by decide +kernel
theorem d_Ma_floorMod_5 : decode b_Ma_floorMod 5 = .ok (.lload_n 0, 1) := by decide +kernel
theorem d_Ma_floorMod_6 : decode b_Ma_floorMod 6 = .ok (.lload_n 2, 1) := by decide +kernel
theorem d_Ma_floorMod_7 : decode b_Ma_floorMod 7 = .ok (.lxor, 1) := by decide +kernel
theorem d_Ma_floorMod_8 : decode b_Ma_floorMod 8 = .ok (.lconst 0, 1) := by decide +kernel
theorem d_Ma_floorMod_9 : decode b_Ma_floorMod 9 = .ok (.lcmp, 1) := by decide +kernel
theorem d_Ma_floorMod_10 : decode b_Ma_floorMod 10 = .ok (.ifCond .ge 15, 3) := by decide +kernel
theorem d_Ma_floorMod_13 : decode b_Ma_floorMod 13 = .ok (.lload 4, 2) := by decide +kernel
theorem d_Ma_floorMod_15 : decode b_Ma_floorMod 15 = .ok (.lconst 0, 1) := by decide +kernel
theorem d_Ma_floorMod_16 : decode b_Ma_floorMod 16 = .ok (.lcmp, 1) := by decide +kernel
theorem d_Ma_floorMod_17 : decode b_Ma_floorMod 17 = .ok (.ifCond .eq 8, 3) := by decide +kernel
theorem d_Ma_floorMod_20 : decode b_Ma_floorMod 20 = .ok (.lload 4, 2) := by decide +kernel
theorem d_Ma_floorMod_22 : decode b_Ma_floorMod 22 = .ok (.lload_n 2, 1) := by decide +kernel
theorem d_Ma_floorMod_23 : decode b_Ma_floorMod 23 = .ok (.ladd, 1) := by decide +kernel
theorem d_Ma_floorMod_24 : decode b_Ma_floorMod 24 = .ok (.lreturn, 1) := by decide +kernel
theorem d_Ma_floorMod_25 : decode b_Ma_floorMod 25 = .ok (.lload 4, 2) := by decide +kernel
theorem d_Ma_floorMod_27 : decode b_Ma_floorMod 27 = .ok (.lreturn, 1) := by decide +kernel
theorem d_Dk_turn_0 : decode b_Dk_turn 0 = .ok (.iload_n 1, 1) := by decide +kernel
theorem d_Dk_turn_1 : decode b_Dk_turn 1 = .ok (.i2l, 1) := by decide +kernel
theorem d_Dk_turn_2 : decode b_Dk_turn 2 = .ok (.lconst 0, 1) := by decide +kernel
theorem d_Dk_turn_3 : decode b_Dk_turn 3 = .ok (.ldc2_w 20, 3) := by decide +kernel
theorem d_Dk_turn_6 : decode b_Dk_turn 6 = .ok (.invokestatic 22, 3) := by decide +kernel
theorem d_Dk_turn_9 : decode b_Dk_turn 9 = .ok (.iload_n 2, 1) := by decide +kernel
theorem d_Dk_turn_10 : decode b_Dk_turn 10 = .ok (.i2l, 1) := by decide +kernel
theorem d_Dk_turn_11 : decode b_Dk_turn 11 = .ok (.lconst 0, 1) := by decide +kernel
theorem d_Dk_turn_12 : decode b_Dk_turn 12 = .ok (.ldc2_w 61, 3) := by decide +kernel
theorem d_Dk_turn_15 : decode b_Dk_turn 15 = .ok (.invokestatic 22, 3) := by decide +kernel
theorem d_Dk_turn_18 : decode b_Dk_turn 18 = .ok (.aload_n 0, 1) := by decide +kernel
theorem d_Dk_turn_19 : decode b_Dk_turn 19 = .ok (.iload_n 3, 1) := by decide +kernel
theorem d_Dk_turn_20 : decode b_Dk_turn 20 = .ok (.invokevirtual 32, 3) := by decide +kernel
theorem d_Dk_turn_23 : decode b_Dk_turn 23 = .ok (.lstore 4, 2) := by decide +kernel
theorem d_Dk_turn_25 : decode b_Dk_turn 25 = .ok (.iload_n 2, 1) := by decide +kernel
theorem d_Dk_turn_26 : decode b_Dk_turn 26 = .ok (.tableswitch 75 0 2 #[26, 40, 54], 26) := by decide +kernel
theorem d_Dk_turn_52 : decode b_Dk_turn 52 = .ok (.aload_n 0, 1) := by decide +kernel
theorem d_Dk_turn_53 : decode b_Dk_turn 53 = .ok (.iload_n 1, 1) := by decide +kernel
theorem d_Dk_turn_54 : decode b_Dk_turn 54 = .ok (.lload 4, 2) := by decide +kernel
theorem d_Dk_turn_56 : decode b_Dk_turn 56 = .ok (.ldc2_w 63, 3) := by decide +kernel
theorem d_Dk_turn_59 : decode b_Dk_turn 59 = .ok (.invokestatic 65, 3) := by decide +kernel
theorem d_Dk_turn_62 : decode b_Dk_turn 62 = .ok (.invokevirtual 42, 3) := by decide +kernel
theorem d_Dk_turn_65 : decode b_Dk_turn 65 = .ok (.lreturn, 1) := by decide +kernel
theorem d_Dk_turn_66 : decode b_Dk_turn 66 = .ok (.aload_n 0, 1) := by decide +kernel
theorem d_Dk_turn_67 : decode b_Dk_turn 67 = .ok (.iload_n 1, 1) := by decide +kernel
theorem d_Dk_turn_68 : decode b_Dk_turn 68 = .ok (.lload 4, 2) := by decide +kernel
theorem d_Dk_turn_70 : decode b_Dk_turn 70 = .ok (.invokestatic 68, 3) := by decide +kernel
theorem d_Dk_turn_73 : decode b_Dk_turn 73 = .ok (.invokestatic 36, 3) := by decide +kernel
theorem d_Dk_turn_76 : decode b_Dk_turn 76 = .ok (.invokevirtual 42, 3) := by decide +kernel
theorem d_Dk_turn_79 : decode b_Dk_turn 79 = .ok (.lreturn, 1) := by decide +kernel
theorem d_Dk_turn_80 : decode b_Dk_turn 80 = .ok (.aload_n 0, 1) := by decide +kernel
theorem d_Dk_turn_81 : decode b_Dk_turn 81 = .ok (.iload_n 1, 1) := by decide +kernel
theorem d_Dk_turn_82 : decode b_Dk_turn 82 = .ok (.lload 4, 2) := by decide +kernel
theorem d_Dk_turn_84 : decode b_Dk_turn 84 = .ok (.lconst 0, 1) := by decide +kernel
theorem d_Dk_turn_85 : decode b_Dk_turn 85 = .ok (.lcmp, 1) := by decide +kernel
theorem d_Dk_turn_86 : decode b_Dk_turn 86 = .ok (.ifCond .ge 9, 3) := by decide +kernel
theorem d_Dk_turn_89 : decode b_Dk_turn 89 = .ok (.lload 4, 2) := by decide +kernel
theorem d_Dk_turn_91 : decode b_Dk_turn 91 = .ok (.lneg, 1) := by decide +kernel
theorem d_Dk_turn_92 : decode b_Dk_turn 92 = .ok (.goto 5, 3) := by decide +kernel
theorem d_Dk_turn_95 : decode b_Dk_turn 95 = .ok (.lload 4, 2) := by decide +kernel
theorem d_Dk_turn_97 : decode b_Dk_turn 97 = .ok (.invokevirtual 42, 3) := by decide +kernel
theorem d_Dk_turn_100 : decode b_Dk_turn 100 = .ok (.lreturn, 1) := by decide +kernel
theorem d_Dk_turn_101 : decode b_Dk_turn 101 = .ok (.aload_n 0, 1) := by decide +kernel
theorem d_Dk_turn_102 : decode b_Dk_turn 102 = .ok (.iload_n 1, 1) := by decide +kernel
theorem d_Dk_turn_103 : decode b_Dk_turn 103 = .ok (.lload 4, 2) := by decide +kernel
theorem d_Dk_turn_105 : decode b_Dk_turn 105 = .ok (.lneg, 1) := by decide +kernel
theorem d_Dk_turn_106 : decode b_Dk_turn 106 = .ok (.invokevirtual 42, 3) := by decide +kernel
theorem d_Dk_turn_109 : decode b_Dk_turn 109 = .ok (.lreturn, 1) := by decide +kernel
theorem d_De_floor_0 : decode b_De_floor 0 = .ok (.lload_n 0, 1) := by decide +kernel
theorem d_De_floor_1 : decode b_De_floor 1 = .ok (.ldc2_w 18, 3) := by decide +kernel
theorem d_De_floor_4 : decode b_De_floor 4 = .ok (.invokestatic 33, 3) := by decide +kernel
theorem d_De_floor_7 : decode b_De_floor 7 = .ok (.ldc2_w 18, 3) := by decide +kernel
theorem d_De_floor_10 : decode b_De_floor 10 = .ok (.lmul, 1) := by decide +kernel
theorem d_De_floor_11 : decode b_De_floor 11 = .ok (.lreturn, 1) := by decide +kernel
theorem d_Ma_floorDiv_0 : decode b_Ma_floorDiv 0 = .ok (.lload_n 0, 1) := by decide +kernel
theorem d_Ma_floorDiv_1 : decode b_Ma_floorDiv 1 = .ok (.lload_n 2, 1) := by decide +kernel
theorem d_Ma_floorDiv_2 : decode b_Ma_floorDiv 2 = .ok (.ldiv, 1) := by decide +kernel
theorem d_Ma_floorDiv_3 : decode b_Ma_floorDiv 3 = .ok (.lstore 4, 2) := by decide +kernel
theorem d_Ma_floorDiv_5 : decode b_Ma_floorDiv 5 = .ok (.lload_n 0, 1) := by decide +kernel
theorem d_Ma_floorDiv_6 : decode b_Ma_floorDiv 6 = .ok (.lload_n 2, 1) := by decide +kernel
theorem d_Ma_floorDiv_7 : decode b_Ma_floorDiv 7 = .ok (.lxor, 1) := by decide +kernel
theorem d_Ma_floorDiv_8 : decode b_Ma_floorDiv 8 = .ok (.lconst 0, 1) := by decide +kernel
theorem d_Ma_floorDiv_9 : decode b_Ma_floorDiv 9 = .ok (.lcmp, 1) := by decide +kernel
theorem d_Ma_floorDiv_10 : decode b_Ma_floorDiv 10 = .ok (.ifCond .ge 17, 3) := by decide +kernel
theorem d_Ma_floorDiv_13 : decode b_Ma_floorDiv 13 = .ok (.lload 4, 2) := by decide +kernel
theorem d_Ma_floorDiv_15 : decode b_Ma_floorDiv 15 = .ok (.lload_n 2, 1) := by decide +kernel
theorem d_Ma_floorDiv_16 : decode b_Ma_floorDiv 16 = .ok (.lmul, 1) := by decide +kernel
theorem d_Ma_floorDiv_17 : decode b_Ma_floorDiv 17 = .ok (.lload_n 0, 1) := by decide +kernel
theorem d_Ma_floorDiv_18 : decode b_Ma_floorDiv 18 = .ok (.lcmp, 1) := by decide +kernel
theorem d_Ma_floorDiv_19 : decode b_Ma_floorDiv 19 = .ok (.ifCond .eq 8, 3) := by decide +kernel
theorem d_Ma_floorDiv_22 : decode b_Ma_floorDiv 22 = .ok (.lload 4, 2) := by decide +kernel
theorem d_Ma_floorDiv_24 : decode b_Ma_floorDiv 24 = .ok (.lconst 1, 1) := by decide +kernel
theorem d_Ma_floorDiv_25 : decode b_Ma_floorDiv 25 = .ok (.lsub, 1) := by decide +kernel
theorem d_Ma_floorDiv_26 : decode b_Ma_floorDiv 26 = .ok (.lreturn, 1) := by decide +kernel
theorem d_Ma_floorDiv_27 : decode b_Ma_floorDiv 27 = .ok (.lload 4, 2) := by decide +kernel
theorem d_Ma_floorDiv_29 : decode b_Ma_floorDiv 29 = .ok (.lreturn, 1) := by decide +kernel
theorem d_Dk_round_0 : decode b_Dk_round 0 = .ok (.iload_n 1, 1) := by decide +kernel
theorem d_Dk_round_1 : decode b_Dk_round 1 = .ok (.i2l, 1) := by decide +kernel
theorem d_Dk_round_2 : decode b_Dk_round 2 = .ok (.lconst 0, 1) := by decide +kernel
theorem d_Dk_round_3 : decode b_Dk_round 3 = .ok (.ldc2_w 20, 3) := by decide +kernel
theorem d_Dk_round_6 : decode b_Dk_round 6 = .ok (.invokestatic 22, 3) := by decide +kernel
theorem d_Dk_round_9 : decode b_Dk_round 9 = .ok (.iload_n 3, 1) := by decide +kernel
theorem d_Dk_round_10 : decode b_Dk_round 10 = .ok (.i2l, 1) := by decide +kernel
theorem d_Dk_round_11 : decode b_Dk_round 11 = .ok (.ldc2_w 71, 3) := by decide +kernel
theorem d_Dk_round_14 : decode b_Dk_round 14 = .ok (.ldc2_w 30, 3) := by decide +kernel
theorem d_Dk_round_17 : decode b_Dk_round 17 = .ok (.invokestatic 22, 3) := by decide +kernel
theorem d_Dk_round_20 : decode b_Dk_round 20 = .ok (.aload_n 0, 1) := by decide +kernel
theorem d_Dk_round_21 : decode b_Dk_round 21 = .ok (.iload_n 1, 1) := by decide +kernel
theorem d_Dk_round_22 : decode b_Dk_round 22 = .ok (.aload_n 0, 1) := by decide +kernel
theorem d_Dk_round_23 : decode b_Dk_round 23 = .ok (.iload_n 2, 1) := by decide +kernel
theorem d_Dk_round_24 : decode b_Dk_round 24 = .ok (.invokevirtual 32, 3) := by decide +kernel
theorem d_Dk_round_27 : decode b_Dk_round 27 = .ok (.iload_n 3, 1) := by decide +kernel
theorem d_Dk_round_28 : decode b_Dk_round 28 = .ok (.i2l, 1) := by decide +kernel
theorem d_Dk_round_29 : decode b_Dk_round 29 = .ok (.invokestatic 73, 3) := by decide +kernel
theorem d_Dk_round_32 : decode b_Dk_round 32 = .ok (.invokestatic 36, 3) := by decide +kernel
theorem d_Dk_round_35 : decode b_Dk_round 35 = .ok (.invokevirtual 42, 3) := by decide +kernel
theorem d_Dk_round_38 : decode b_Dk_round 38 = .ok (.lreturn, 1) := by decide +kernel
theorem d_De_round_0 : decode b_De_round 0 = .ok (.lload_n 2, 1) := by decide +kernel
theorem d_De_round_1 : decode b_De_round 1 = .ok (.ldc2_w 38, 3) := by decide +kernel
theorem d_De_round_4 : decode b_De_round 4 = .ok (.lcmp, 1) := by decide +kernel
theorem d_De_round_5 : decode b_De_round 5 = .ok (.ifCond .lt 5, 3) := by decide +kernel
theorem d_De_round_8 : decode b_De_round 8 = .ok (.lload_n 0, 1) := by decide +kernel
theorem d_De_round_9 : decode b_De_round 9 = .ok (.lreturn, 1) := by decide +kernel
theorem d_De_round_10 : decode b_De_round 10 = .ok (.lconst 1, 1) := by decide +kernel
theorem d_De_round_11 : decode b_De_round 11 = .ok (.lstore 4, 2) := by decide +kernel
theorem d_De_round_13 : decode b_De_round 13 = .ok (.lload_n 2, 1) := by decide +kernel
theorem d_De_round_14 : decode b_De_round 14 = .ok (.lstore 6, 2) := by decide +kernel
theorem d_De_round_16 : decode b_De_round 16 = .ok (.lload 6, 2) := by decide +kernel
theorem d_De_round_18 : decode b_De_round 18 = .ok (.ldc2_w 38, 3) := by decide +kernel
theorem d_De_round_21 : decode b_De_round 21 = .ok (.lcmp, 1) := by decide +kernel
theorem d_De_round_22 : decode b_De_round 22 = .ok (.ifCond .ge 20, 3) := by decide +kernel
theorem d_De_round_25 : decode b_De_round 25 = .ok (.lload 4, 2) := by decide +kernel
theorem d_De_round_27 : decode b_De_round 27 = .ok (.ldc2_w 40, 3) := by decide +kernel
theorem d_De_round_30 : decode b_De_round 30 = .ok (.lmul, 1) := by decide +kernel
theorem d_De_round_31 : decode b_De_round 31 = .ok (.lstore 4, 2) := by decide +kernel
theorem d_De_round_33 : decode b_De_round 33 = .ok (.lload 6, 2) := by decide +kernel
theorem d_De_round_35 : decode b_De_round 35 = .ok (.lconst 1, 1) := by decide +kernel
theorem d_De_round_36 : decode b_De_round 36 = .ok (.ladd, 1) := by decide +kernel
theorem d_De_round_37 : decode b_De_round 37 = .ok (.lstore 6, 2) := by decide +kernel
theorem d_De_round_39 : decode b_De_round 39 = .ok (.goto (-23), 3) := by decide +kernel
theorem d_De_round_42 : decode b_De_round 42 = .ok (.lload_n 0, 1) := by decide +kernel
theorem d_De_round_43 : decode b_De_round 43 = .ok (.lload 4, 2) := by decide +kernel
theorem d_De_round_45 : decode b_De_round 45 = .ok (.invokestatic 20, 3) := by decide +kernel
theorem d_De_round_48 : decode b_De_round 48 = .ok (.lload 4, 2) := by decide +kernel
theorem d_De_round_50 : decode b_De_round 50 = .ok (.lmul, 1) := by decide +kernel
theorem d_De_round_51 : decode b_De_round 51 = .ok (.lreturn, 1) := by decide +kernel
theorem d_Dk_print_0 : decode b_Dk_print 0 = .ok (.aload_n 0, 1) := by decide +kernel
theorem d_Dk_print_1 : decode b_Dk_print 1 = .ok (.iload_n 1, 1) := by decide +kernel
theorem d_Dk_print_2 : decode b_Dk_print 2 = .ok (.invokevirtual 32, 3) := by decide +kernel
theorem d_Dk_print_5 : decode b_Dk_print 5 = .ok (.lstore_n 3, 1) := by decide +kernel
theorem d_Dk_print_6 : decode b_Dk_print 6 = .ok (.iload_n 2, 1) := by decide +kernel
theorem d_Dk_print_7 : decode b_Dk_print 7 = .ok (.i2l, 1) := by decide +kernel
theorem d_Dk_print_8 : decode b_Dk_print 8 = .ok (.lconst 0, 1) := by decide +kernel
theorem d_Dk_print_9 : decode b_Dk_print 9 = .ok (.ldc2_w 78, 3) := by decide +kernel
theorem d_Dk_print_12 : decode b_Dk_print 12 = .ok (.invokestatic 22, 3) := by decide +kernel
theorem d_Dk_print_15 : decode b_Dk_print 15 = .ok (.lload_n 3, 1) := by decide +kernel
theorem d_Dk_print_16 : decode b_Dk_print 16 = .ok (.aload_n 0, 1) := by decide +kernel
theorem d_Dk_print_17 : decode b_Dk_print 17 = .ok (.getfield 13, 3) := by decide +kernel
theorem d_Dk_print_20 : decode b_Dk_print 20 = .ok (.invokestatic 80, 3) := by decide +kernel
theorem d_Dk_print_23 : decode b_Dk_print 23 = .ok (.istore 5, 2) := by decide +kernel
theorem d_Dk_print_25 : decode b_Dk_print 25 = .ok (.iload_n 2, 1) := by decide +kernel
theorem d_Dk_print_26 : decode b_Dk_print 26 = .ok (.iload 5, 2) := by decide +kernel
theorem d_Dk_print_28 : decode b_Dk_print 28 = .ok (.if_icmp .ge 12, 3) := by decide +kernel
theorem d_Dk_print_31 : decode b_Dk_print 31 = .ok (.aload_n 0, 1) := by decide +kernel
theorem d_Dk_print_32 : decode b_Dk_print 32 = .ok (.getfield 13, 3) := by decide +kernel
theorem d_Dk_print_35 : decode b_Dk_print 35 = .ok (.iload_n 2, 1) := by decide +kernel
theorem d_Dk_print_36 : decode b_Dk_print 36 = .ok (.baload, 1) := by decide +kernel
theorem d_Dk_print_37 : decode b_Dk_print 37 = .ok (.goto 4, 3) := by decide +kernel
theorem d_Dk_print_40 : decode b_Dk_print 40 = .ok (.iconst (-1), 1) := by decide +kernel
theorem d_Dk_print_41 : decode b_Dk_print 41 = .ok (.ireturn, 1) := by decide +kernel
theorem d_Pr_digits_0 : decode b_Pr_digits 0 = .ok (.iconst 0, 1) := by decide +kernel
theorem d_Pr_digits_1 : decode b_Pr_digits 1 = .ok (.istore_n 3, 1) := by decide +kernel
theorem d_Pr_digits_2 : decode b_Pr_digits 2 = .ok (.lload_n 0, 1) := by decide +kernel
theorem d_Pr_digits_3 : decode b_Pr_digits 3 = .ok (.lconst 0, 1) := by decide +kernel
theorem d_Pr_digits_4 : decode b_Pr_digits 4 = .ok (.lcmp, 1) := by decide +kernel
theorem d_Pr_digits_5 : decode b_Pr_digits 5 = .ok (.ifCond .ge 8, 3) := by decide +kernel
theorem d_Pr_digits_8 : decode b_Pr_digits 8 = .ok (.lload_n 0, 1) := by decide +kernel
theorem d_Pr_digits_9 : decode b_Pr_digits 9 = .ok (.lneg, 1) := by decide +kernel
theorem d_Pr_digits_10 : decode b_Pr_digits 10 = .ok (.goto 4, 3) := by decide +kernel
theorem d_Pr_digits_13 : decode b_Pr_digits 13 = .ok (.lload_n 0, 1) := by decide +kernel
theorem d_Pr_digits_14 : decode b_Pr_digits 14 = .ok (.lstore 4, 2) := by decide +kernel
theorem d_Pr_digits_16 : decode b_Pr_digits 16 = .ok (.lload_n 0, 1) := by decide +kernel
theorem d_Pr_digits_17 : decode b_Pr_digits 17 = .ok (.lconst 0, 1) := by decide +kernel
theorem d_Pr_digits_18 : decode b_Pr_digits 18 = .ok (.lcmp, 1) := by decide +kernel
theorem d_Pr_digits_19 : decode b_Pr_digits 19 = .ok (.ifCond .ge 11, 3) := by decide +kernel
theorem d_Pr_digits_22 : decode b_Pr_digits 22 = .ok (.aload_n 2, 1) := by decide +kernel
theorem d_Pr_digits_23 : decode b_Pr_digits 23 = .ok (.iload_n 3, 1) := by decide +kernel
theorem d_Pr_digits_24 : decode b_Pr_digits 24 = .ok (.iinc 3 1, 3) := by decide +kernel
theorem d_Pr_digits_27 : decode b_Pr_digits 27 = .ok (.bipush 45, 2) := by decide +kernel
theorem d_Pr_digits_29 : decode b_Pr_digits 29 = .ok (.bastore, 1) := by decide +kernel
theorem d_Pr_digits_30 : decode b_Pr_digits 30 = .ok (.lconst 1, 1) := by decide +kernel
theorem d_Pr_digits_31 : decode b_Pr_digits 31 = .ok (.lstore 6, 2) := by decide +kernel
theorem d_Pr_digits_33 : decode b_Pr_digits 33 = .ok (.lload 4, 2) := by decide +kernel
theorem d_Pr_digits_35 : decode b_Pr_digits 35 = .ok (.ldc2_w 7, 3) := by decide +kernel
theorem d_Pr_digits_38 : decode b_Pr_digits 38 = .ok (.ldiv, 1) := by decide +kernel
theorem d_Pr_digits_39 : decode b_Pr_digits 39 = .ok (.lload 6, 2) := by decide +kernel
theorem d_Pr_digits_41 : decode b_Pr_digits 41 = .ok (.ldiv, 1) := by decide +kernel
theorem d_Pr_digits_42 : decode b_Pr_digits 42 = .ok (.ldc2_w 9, 3) := by decide +kernel
theorem d_Pr_digits_45 : decode b_Pr_digits 45 = .ok (.lcmp, 1) := by decide +kernel
theorem d_Pr_digits_46 : decode b_Pr_digits 46 = .ok (.ifCond .lt 14, 3) := by decide +kernel
theorem d_Pr_digits_49 : decode b_Pr_digits 49 = .ok (.lload 6, 2) := by decide +kernel
theorem d_Pr_digits_51 : decode b_Pr_digits 51 = .ok (.ldc2_w 9, 3) := by decide +kernel
theorem d_Pr_digits_54 : decode b_Pr_digits 54 = .ok (.lmul, 1) := by decide +kernel
theorem d_Pr_digits_55 : decode b_Pr_digits 55 = .ok (.lstore 6, 2) := by decide +kernel
theorem d_Pr_digits_57 : decode b_Pr_digits 57 = .ok (.goto (-24), 3) := by decide +kernel
theorem d_Pr_digits_60 : decode b_Pr_digits 60 = .ok (.lload 6, 2) := by decide +kernel
theorem d_Pr_digits_62 : decode b_Pr_digits 62 = .ok (.lstore 8, 2) := by decide +kernel
theorem d_Pr_digits_64 : decode b_Pr_digits 64 = .ok (.lload 8, 2) := by decide +kernel
theorem d_Pr_digits_66 : decode b_Pr_digits 66 = .ok (.lconst 0, 1) := by decide +kernel
theorem d_Pr_digits_67 : decode b_Pr_digits 67 = .ok (.lcmp, 1) := by decide +kernel
theorem d_Pr_digits_68 : decode b_Pr_digits 68 = .ok (.ifCond .le 39, 3) := by decide +kernel
theorem d_Pr_digits_71 : decode b_Pr_digits 71 = .ok (.aload_n 2, 1) := by decide +kernel
theorem d_Pr_digits_72 : decode b_Pr_digits 72 = .ok (.iload_n 3, 1) := by decide +kernel
theorem d_Pr_digits_73 : decode b_Pr_digits 73 = .ok (.iinc 3 1, 3) := by decide +kernel
theorem d_Pr_digits_76 : decode b_Pr_digits 76 = .ok (.ldc2_w 11, 3) := by decide +kernel
theorem d_Pr_digits_79 : decode b_Pr_digits 79 = .ok (.lload 4, 2) := by decide +kernel
theorem d_Pr_digits_81 : decode b_Pr_digits 81 = .ok (.ldc2_w 7, 3) := by decide +kernel
theorem d_Pr_digits_84 : decode b_Pr_digits 84 = .ok (.ldiv, 1) := by decide +kernel
theorem d_Pr_digits_85 : decode b_Pr_digits 85 = .ok (.lload 8, 2) := by decide +kernel
theorem d_Pr_digits_87 : decode b_Pr_digits 87 = .ok (.ldiv, 1) := by decide +kernel
theorem d_Pr_digits_88 : decode b_Pr_digits 88 = .ok (.ldc2_w 9, 3) := by decide +kernel
theorem d_Pr_digits_91 : decode b_Pr_digits 91 = .ok (.lrem, 1) := by decide +kernel
theorem d_Pr_digits_92 : decode b_Pr_digits 92 = .ok (.ladd, 1) := by decide +kernel
theorem d_Pr_digits_93 : decode b_Pr_digits 93 = .ok (.l2i, 1) := by decide +kernel
theorem d_Pr_digits_94 : decode b_Pr_digits 94 = .ok (.i2b, 1) := by decide +kernel
theorem d_Pr_digits_95 : decode b_Pr_digits 95 = .ok (.bastore, 1) := by decide +kernel
theorem d_Pr_digits_96 : decode b_Pr_digits 96 = .ok (.lload 8, 2) := by decide +kernel
theorem d_Pr_digits_98 : decode b_Pr_digits 98 = .ok (.ldc2_w 9, 3) := by decide +kernel
theorem d_Pr_digits_101 : decode b_Pr_digits 101 = .ok (.ldiv, 1) := by decide +kernel
theorem d_Pr_digits_102 : decode b_Pr_digits 102 = .ok (.lstore 8, 2) := by decide +kernel
theorem d_Pr_digits_104 : decode b_Pr_digits 104 = .ok (.goto (-40), 3) := by decide +kernel
theorem d_Pr_digits_107 : decode b_Pr_digits 107 = .ok (.lload 4, 2) := by decide +kernel
theorem d_Pr_digits_109 : decode b_Pr_digits 109 = .ok (.ldc2_w 7, 3) := by decide +kernel
theorem d_Pr_digits_112 : decode b_Pr_digits 112 = .ok (.lrem, 1) := by decide +kernel
theorem d_Pr_digits_113 : decode b_Pr_digits 113 = .ok (.lstore 8, 2) := by decide +kernel
theorem d_Pr_digits_115 : decode b_Pr_digits 115 = .ok (.lload 8, 2) := by decide +kernel
theorem d_Pr_digits_117 : decode b_Pr_digits 117 = .ok (.lconst 0, 1) := by decide +kernel
theorem d_Pr_digits_118 : decode b_Pr_digits 118 = .ok (.lcmp, 1) := by decide +kernel
theorem d_Pr_digits_119 : decode b_Pr_digits 119 = .ok (.ifCond .ne 5, 3) := by decide +kernel
theorem d_Pr_digits_122 : decode b_Pr_digits 122 = .ok (.iload_n 3, 1) := by decide +kernel
theorem d_Pr_digits_123 : decode b_Pr_digits 123 = .ok (.ireturn, 1) := by decide +kernel
theorem d_Pr_digits_124 : decode b_Pr_digits 124 = .ok (.aload_n 2, 1) := by decide +kernel
theorem d_Pr_digits_125 : decode b_Pr_digits 125 = .ok (.iload_n 3, 1) := by decide +kernel
theorem d_Pr_digits_126 : decode b_Pr_digits 126 = .ok (.iinc 3 1, 3) := by decide +kernel
theorem d_Pr_digits_129 : decode b_Pr_digits 129 = .ok (.bipush 46, 2) := by decide +kernel
theorem d_Pr_digits_131 : decode b_Pr_digits 131 = .ok (.bastore, 1) := by decide +kernel
theorem d_Pr_digits_132 : decode b_Pr_digits 132 = .ok (.ldc2_w 13, 3) := by decide +kernel
theorem d_Pr_digits_135 : decode b_Pr_digits 135 = .ok (.lstore 10, 2) := by decide +kernel
theorem d_Pr_digits_137 : decode b_Pr_digits 137 = .ok (.lload 8, 2) := by decide +kernel
theorem d_Pr_digits_139 : decode b_Pr_digits 139 = .ok (.lconst 0, 1) := by decide +kernel
theorem d_Pr_digits_140 : decode b_Pr_digits 140 = .ok (.lcmp, 1) := by decide +kernel
theorem d_Pr_digits_141 : decode b_Pr_digits 141 = .ok (.ifCond .le 38, 3) := by decide +kernel
theorem d_Pr_digits_144 : decode b_Pr_digits 144 = .ok (.aload_n 2, 1) := by decide +kernel
theorem d_Pr_digits_145 : decode b_Pr_digits 145 = .ok (.iload_n 3, 1) := by decide +kernel
theorem d_Pr_digits_146 : decode b_Pr_digits 146 = .ok (.iinc 3 1, 3) := by decide +kernel
theorem d_Pr_digits_149 : decode b_Pr_digits 149 = .ok (.ldc2_w 11, 3) := by decide +kernel
theorem d_Pr_digits_152 : decode b_Pr_digits 152 = .ok (.lload 8, 2) := by decide +kernel
theorem d_Pr_digits_154 : decode b_Pr_digits 154 = .ok (.lload 10, 2) := by decide +kernel
theorem d_Pr_digits_156 : decode b_Pr_digits 156 = .ok (.ldiv, 1) := by decide +kernel
theorem d_Pr_digits_157 : decode b_Pr_digits 157 = .ok (.ladd, 1) := by decide +kernel
theorem d_Pr_digits_158 : decode b_Pr_digits 158 = .ok (.l2i, 1) := by decide +kernel
theorem d_Pr_digits_159 : decode b_Pr_digits 159 = .ok (.i2b, 1) := by decide +kernel
theorem d_Pr_digits_160 : decode b_Pr_digits 160 = .ok (.bastore, 1) := by decide +kernel
theorem d_Pr_digits_161 : decode b_Pr_digits 161 = .ok (.lload 8, 2) := by decide +kernel
theorem d_Pr_digits_163 : decode b_Pr_digits 163 = .ok (.lload 10, 2) := by decide +kernel
theorem d_Pr_digits_165 : decode b_Pr_digits 165 = .ok (.lrem, 1) := by decide +kernel
theorem d_Pr_digits_166 : decode b_Pr_digits 166 = .ok (.lstore 8, 2) := by decide +kernel
theorem d_Pr_digits_168 : decode b_Pr_digits 168 = .ok (.lload 10, 2) := by decide +kernel
theorem d_Pr_digits_170 : decode b_Pr_digits 170 = .ok (.ldc2_w 9, 3) := by decide +kernel
theorem d_Pr_digits_173 : decode b_Pr_digits 173 = .ok (.ldiv, 1) := by decide +kernel
theorem d_Pr_digits_174 : decode b_Pr_digits 174 = .ok (.lstore 10, 2) := by decide +kernel
theorem d_Pr_digits_176 : decode b_Pr_digits 176 = .ok (.goto (-39), 3) := by decide +kernel
theorem d_Pr_digits_179 : decode b_Pr_digits 179 = .ok (.iload_n 3, 1) := by decide +kernel
theorem d_Pr_digits_180 : decode b_Pr_digits 180 = .ok (.ireturn, 1) := by decide +kernel
theorem d_Dk_average_0 : decode b_Dk_average 0 = .ok (.iload_n 1, 1) := by decide +kernel
theorem d_Dk_average_1 : decode b_Dk_average 1 = .ok (.i2l, 1) := by decide +kernel
theorem d_Dk_average_2 : decode b_Dk_average 2 = .ok (.lconst 1, 1) := by decide +kernel
theorem d_Dk_average_3 : decode b_Dk_average 3 = .ok (.ldc2_w 86, 3) := by decide +kernel
theorem d_Dk_average_6 : decode b_Dk_average 6 = .ok (.invokestatic 22, 3) := by decide +kernel
theorem d_Dk_average_9 : decode b_Dk_average 9 = .ok (.lconst 0, 1) := by decide +kernel
theorem d_Dk_average_10 : decode b_Dk_average 10 = .ok (.lstore_n 2, 1) := by decide +kernel
theorem d_Dk_average_11 : decode b_Dk_average 11 = .ok (.iconst 0, 1) := by decide +kernel
theorem d_Dk_average_12 : decode b_Dk_average 12 = .ok (.istore 4, 2) := by decide +kernel
theorem d_Dk_average_14 : decode b_Dk_average 14 = .ok (.iload 4, 2) := by decide +kernel
theorem d_Dk_average_16 : decode b_Dk_average 16 = .ok (.iload_n 1, 1) := by decide +kernel
theorem d_Dk_average_17 : decode b_Dk_average 17 = .ok (.if_icmp .ge 22, 3) := by decide +kernel
theorem d_Dk_average_20 : decode b_Dk_average 20 = .ok (.lload_n 2, 1) := by decide +kernel
theorem d_Dk_average_21 : decode b_Dk_average 21 = .ok (.aload_n 0, 1) := by decide +kernel
theorem d_Dk_average_22 : decode b_Dk_average 22 = .ok (.getfield 7, 3) := by decide +kernel
theorem d_Dk_average_25 : decode b_Dk_average 25 = .ok (.iload 4, 2) := by decide +kernel
theorem d_Dk_average_27 : decode b_Dk_average 27 = .ok (.laload, 1) := by decide +kernel
theorem d_Dk_average_28 : decode b_Dk_average 28 = .ok (.ladd, 1) := by decide +kernel
theorem d_Dk_average_29 : decode b_Dk_average 29 = .ok (.invokestatic 36, 3) := by decide +kernel
theorem d_Dk_average_32 : decode b_Dk_average 32 = .ok (.lstore_n 2, 1) := by decide +kernel
theorem d_Dk_average_33 : decode b_Dk_average 33 = .ok (.iinc 4 1, 3) := by decide +kernel
theorem d_Dk_average_36 : decode b_Dk_average 36 = .ok (.goto (-22), 3) := by decide +kernel
theorem d_Dk_average_39 : decode b_Dk_average 39 = .ok (.lload_n 2, 1) := by decide +kernel
theorem d_Dk_average_40 : decode b_Dk_average 40 = .ok (.iload_n 1, 1) := by decide +kernel
theorem d_Dk_average_41 : decode b_Dk_average 41 = .ok (.i2l, 1) := by decide +kernel
theorem d_Dk_average_42 : decode b_Dk_average 42 = .ok (.invokestatic 65, 3) := by decide +kernel
theorem d_Dk_average_45 : decode b_Dk_average 45 = .ok (.lreturn, 1) := by decide +kernel
theorem d_La_set_0 : decode b_La_set 0 = .ok (.aload 4, 2) := by decide +kernel
theorem d_La_set_2 : decode b_La_set 2 = .ok (.iconst 0, 1) := by decide +kernel
theorem d_La_set_3 : decode b_La_set 3 = .ok (.aload_n 0, 1) := by decide +kernel
theorem d_La_set_4 : decode b_La_set 4 = .ok (.iload_n 1, 1) := by decide +kernel
theorem d_La_set_5 : decode b_La_set 5 = .ok (.lload_n 2, 1) := by decide +kernel
theorem d_La_set_6 : decode b_La_set 6 = .ok (.invokevirtual 7, 3) := by decide +kernel
theorem d_La_set_9 : decode b_La_set 9 = .ok (.lastore, 1) := by decide +kernel
theorem d_La_set_10 : decode b_La_set 10 = .ok (.goto 7, 3) := by decide +kernel
theorem d_La_set_13 : decode b_La_set 13 = .ok (.astore 5, 2) := by decide +kernel
theorem d_La_set_15 : decode b_La_set 15 = .ok (.iconst 1, 1) := by decide +kernel
theorem d_La_set_16 : decode b_La_set 16 = .ok (.ireturn, 1) := by decide +kernel
theorem d_La_set_17 : decode b_La_set 17 = .ok (.iconst 0, 1) := by decide +kernel
theorem d_La_set_18 : decode b_La_set 18 = .ok (.ireturn, 1) := by decide +kernel
theorem d_La_get_0 : decode b_La_get 0 = .ok (.aload_n 2, 1) := by decide +kernel
theorem d_La_get_1 : decode b_La_get 1 = .ok (.iconst 0, 1) := by decide +kernel
theorem d_La_get_2 : decode b_La_get 2 = .ok (.aload_n 0, 1) := by decide +kernel
theorem d_La_get_3 : decode b_La_get 3 = .ok (.iload_n 1, 1) := by decide +kernel
theorem d_La_get_4 : decode b_La_get 4 = .ok (.invokevirtual 15, 3) := by decide +kernel
theorem d_La_get_7 : decode b_La_get 7 = .ok (.lastore, 1) := by decide +kernel
theorem d_La_get_8 : decode b_La_get 8 = .ok (.goto 6, 3) := by decide +kernel
theorem d_La_get_11 : decode b_La_get 11 = .ok (.astore_n 3, 1) := by decide +kernel
theorem d_La_get_12 : decode b_La_get 12 = .ok (.iconst 1, 1) := by decide +kernel
theorem d_La_get_13 : decode b_La_get 13 = .ok (.ireturn, 1) := by decide +kernel
theorem d_La_get_14 : decode b_La_get 14 = .ok (.iconst 0, 1) := by decide +kernel
theorem d_La_get_15 : decode b_La_get 15 = .ok (.ireturn, 1) := by decide +kernel
theorem d_La_reckon_0 : decode b_La_reckon 0 = .ok (.aload 5, 2) := by decide +kernel
theorem d_La_reckon_2 : decode b_La_reckon 2 = .ok (.iconst 0, 1) := by decide +kernel
theorem d_La_reckon_3 : decode b_La_reckon 3 = .ok (.aload_n 0, 1) := by decide +kernel
theorem d_La_reckon_4 : decode b_La_reckon 4 = .ok (.iload_n 1, 1) := by decide +kernel
theorem d_La_reckon_5 : decode b_La_reckon 5 = .ok (.iload_n 2, 1) := by decide +kernel
theorem d_La_reckon_6 : decode b_La_reckon 6 = .ok (.iload_n 3, 1) := by decide +kernel
theorem d_La_reckon_7 : decode b_La_reckon 7 = .ok (.iload 4, 2) := by decide +kernel
theorem d_La_reckon_9 : decode b_La_reckon 9 = .ok (.invokevirtual 19, 3) := by decide +kernel
theorem d_La_reckon_12 : decode b_La_reckon 12 = .ok (.lastore, 1) := by decide +kernel
theorem d_La_reckon_13 : decode b_La_reckon 13 = .ok (.goto 15, 3) := by decide +kernel
theorem d_La_reckon_16 : decode b_La_reckon 16 = .ok (.astore 6, 2) := by decide +kernel
theorem d_La_reckon_18 : decode b_La_reckon 18 = .ok (.iconst 1, 1) := by decide +kernel
theorem d_La_reckon_19 : decode b_La_reckon 19 = .ok (.ireturn, 1) := by decide +kernel
theorem d_La_reckon_20 : decode b_La_reckon 20 = .ok (.astore 6, 2) := by decide +kernel
theorem d_La_reckon_22 : decode b_La_reckon 22 = .ok (.iconst 2, 1) := by decide +kernel
theorem d_La_reckon_23 : decode b_La_reckon 23 = .ok (.ireturn, 1) := by decide +kernel
theorem d_La_reckon_24 : decode b_La_reckon 24 = .ok (.astore 6, 2) := by decide +kernel
theorem d_La_reckon_26 : decode b_La_reckon 26 = .ok (.iconst 3, 1) := by decide +kernel
theorem d_La_reckon_27 : decode b_La_reckon 27 = .ok (.ireturn, 1) := by decide +kernel
theorem d_La_reckon_28 : decode b_La_reckon 28 = .ok (.iconst 0, 1) := by decide +kernel
theorem d_La_reckon_29 : decode b_La_reckon 29 = .ok (.ireturn, 1) := by decide +kernel
theorem d_La_turn_0 : decode b_La_turn 0 = .ok (.aload 4, 2) := by decide +kernel
theorem d_La_turn_2 : decode b_La_turn 2 = .ok (.iconst 0, 1) := by decide +kernel
theorem d_La_turn_3 : decode b_La_turn 3 = .ok (.aload_n 0, 1) := by decide +kernel
theorem d_La_turn_4 : decode b_La_turn 4 = .ok (.iload_n 1, 1) := by decide +kernel
theorem d_La_turn_5 : decode b_La_turn 5 = .ok (.iload_n 2, 1) := by decide +kernel
theorem d_La_turn_6 : decode b_La_turn 6 = .ok (.iload_n 3, 1) := by decide +kernel
theorem d_La_turn_7 : decode b_La_turn 7 = .ok (.invokevirtual 27, 3) := by decide +kernel
theorem d_La_turn_10 : decode b_La_turn 10 = .ok (.lastore, 1) := by decide +kernel
theorem d_La_turn_11 : decode b_La_turn 11 = .ok (.goto 11, 3) := by decide +kernel
theorem d_La_turn_14 : decode b_La_turn 14 = .ok (.astore 5, 2) := by decide +kernel
theorem d_La_turn_16 : decode b_La_turn 16 = .ok (.iconst 1, 1) := by decide +kernel
theorem d_La_turn_17 : decode b_La_turn 17 = .ok (.ireturn, 1) := by decide +kernel
theorem d_La_turn_18 : decode b_La_turn 18 = .ok (.astore 5, 2) := by decide +kernel
theorem d_La_turn_20 : decode b_La_turn 20 = .ok (.iconst 2, 1) := by decide +kernel
theorem d_La_turn_21 : decode b_La_turn 21 = .ok (.ireturn, 1) := by decide +kernel
theorem d_La_turn_22 : decode b_La_turn 22 = .ok (.iconst 0, 1) := by decide +kernel
theorem d_La_turn_23 : decode b_La_turn 23 = .ok (.ireturn, 1) := by decide +kernel
theorem d_La_round_0 : decode b_La_round 0 = .ok (.aload 4, 2) := by decide +kernel
theorem d_La_round_2 : decode b_La_round 2 = .ok (.iconst 0, 1) := by decide +kernel
theorem d_La_round_3 : decode b_La_round 3 = .ok (.aload_n 0, 1) := by decide +kernel
theorem d_La_round_4 : decode b_La_round 4 = .ok (.iload_n 1, 1) := by decide +kernel
theorem d_La_round_5 : decode b_La_round 5 = .ok (.iload_n 2, 1) := by decide +kernel
theorem d_La_round_6 : decode b_La_round 6 = .ok (.iload_n 3, 1) := by decide +kernel
theorem d_La_round_7 : decode b_La_round 7 = .ok (.invokevirtual 31, 3) := by decide +kernel
theorem d_La_round_10 : decode b_La_round 10 = .ok (.lastore, 1) := by decide +kernel
theorem d_La_round_11 : decode b_La_round 11 = .ok (.goto 11, 3) := by decide +kernel
theorem d_La_round_14 : decode b_La_round 14 = .ok (.astore 5, 2) := by decide +kernel
theorem d_La_round_16 : decode b_La_round 16 = .ok (.iconst 1, 1) := by decide +kernel
theorem d_La_round_17 : decode b_La_round 17 = .ok (.ireturn, 1) := by decide +kernel
theorem d_La_round_18 : decode b_La_round 18 = .ok (.astore 5, 2) := by decide +kernel
theorem d_La_round_20 : decode b_La_round 20 = .ok (.iconst 2, 1) := by decide +kernel
theorem d_La_round_21 : decode b_La_round 21 = .ok (.ireturn, 1) := by decide +kernel
theorem d_La_round_22 : decode b_La_round 22 = .ok (.iconst 0, 1) := by decide +kernel
theorem d_La_round_23 : decode b_La_round 23 = .ok (.ireturn, 1) := by decide +kernel
theorem d_La_print_0 : decode b_La_print 0 = .ok (.aload_n 3, 1) := by decide +kernel
theorem d_La_print_1 : decode b_La_print 1 = .ok (.iconst 0, 1) := by decide +kernel
theorem d_La_print_2 : decode b_La_print 2 = .ok (.aload_n 0, 1) := by decide +kernel
theorem d_La_print_3 : decode b_La_print 3 = .ok (.iload_n 1, 1) := by decide +kernel
theorem d_La_print_4 : decode b_La_print 4 = .ok (.iload_n 2, 1) := by decide +kernel
theorem d_La_print_5 : decode b_La_print 5 = .ok (.invokevirtual 34, 3) := by decide +kernel
theorem d_La_print_8 : decode b_La_print 8 = .ok (.i2l, 1) := by decide +kernel
theorem d_La_print_9 : decode b_La_print 9 = .ok (.lastore, 1) := by decide +kernel
theorem d_La_print_10 : decode b_La_print 10 = .ok (.goto 7, 3) := by decide +kernel
theorem d_La_print_13 : decode b_La_print 13 = .ok (.astore 4, 2) := by decide +kernel
theorem d_La_print_15 : decode b_La_print 15 = .ok (.iconst 1, 1) := by decide +kernel
theorem d_La_print_16 : decode b_La_print 16 = .ok (.ireturn, 1) := by decide +kernel
theorem d_La_print_17 : decode b_La_print 17 = .ok (.iconst 0, 1) := by decide +kernel
theorem d_La_print_18 : decode b_La_print 18 = .ok (.ireturn, 1) := by decide +kernel
theorem d_La_average_0 : decode b_La_average 0 = .ok (.aload_n 2, 1) := by decide +kernel
theorem d_La_average_1 : decode b_La_average 1 = .ok (.iconst 0, 1) := by decide +kernel
theorem d_La_average_2 : decode b_La_average 2 = .ok (.aload_n 0, 1) := by decide +kernel
theorem d_La_average_3 : decode b_La_average 3 = .ok (.iload_n 1, 1) := by decide +kernel
theorem d_La_average_4 : decode b_La_average 4 = .ok (.invokevirtual 38, 3) := by decide +kernel
theorem d_La_average_7 : decode b_La_average 7 = .ok (.lastore, 1) := by decide +kernel
theorem d_La_average_8 : decode b_La_average 8 = .ok (.goto 9, 3) := by decide +kernel
theorem d_La_average_11 : decode b_La_average 11 = .ok (.astore_n 3, 1) := by decide +kernel
theorem d_La_average_12 : decode b_La_average 12 = .ok (.iconst 1, 1) := by decide +kernel
theorem d_La_average_13 : decode b_La_average 13 = .ok (.ireturn, 1) := by decide +kernel
theorem d_La_average_14 : decode b_La_average 14 = .ok (.astore_n 3, 1) := by decide +kernel
theorem d_La_average_15 : decode b_La_average 15 = .ok (.iconst 2, 1) := by decide +kernel
theorem d_La_average_16 : decode b_La_average 16 = .ok (.ireturn, 1) := by decide +kernel
theorem d_La_average_17 : decode b_La_average 17 = .ok (.iconst 0, 1) := by decide +kernel
theorem d_La_average_18 : decode b_La_average 18 = .ok (.ireturn, 1) := by decide +kernel
end
section
-- decode rows, printed by gen/names.py
theorem d_Mo_init_0 : decode b_Mo_init 0 = .ok (.aload_n 0, 1) := by decide +kernel
theorem d_Mo_init_1 : decode b_Mo_init 1 = .ok (.invokespecial 1, 3) := by decide +kernel
theorem d_Mo_init_4 : decode b_Mo_init 4 = .ok (.aload_n 0, 1) := by decide +kernel
theorem d_Mo_init_5 : decode b_Mo_init 5 = .ok (.bipush 8, 2) := by decide +kernel
theorem d_Mo_init_7 : decode b_Mo_init 7 = .ok (.newarray .long, 2) := by decide +kernel
theorem d_Mo_init_9 : decode b_Mo_init 9 = .ok (.putfield 7, 3) := by decide +kernel
theorem d_Mo_init_12 : decode b_Mo_init 12 = .ok (.aload_n 0, 1) := by decide +kernel
theorem d_Mo_init_13 : decode b_Mo_init 13 = .ok (.bipush 24, 2) := by decide +kernel
theorem d_Mo_init_15 : decode b_Mo_init 15 = .ok (.newarray .int, 2) := by decide +kernel
theorem d_Mo_init_17 : decode b_Mo_init 17 = .ok (.putfield 13, 3) := by decide +kernel
theorem d_Mo_init_20 : decode b_Mo_init 20 = .ok (.return_, 1) := by decide +kernel
theorem d_Mo_thrown_0 : decode b_Mo_thrown 0 = .ok (.aload_n 0, 1) := by decide +kernel
theorem d_Mo_thrown_1 : decode b_Mo_thrown 1 = .ok (.getfield 17, 3) := by decide +kernel
theorem d_Mo_thrown_4 : decode b_Mo_thrown 4 = .ok (.ireturn, 1) := by decide +kernel
theorem d_Mo_set_0 : decode b_Mo_set 0 = .ok (.aload_n 0, 1) := by decide +kernel
theorem d_Mo_set_1 : decode b_Mo_set 1 = .ok (.iconst 0, 1) := by decide +kernel
theorem d_Mo_set_2 : decode b_Mo_set 2 = .ok (.putfield 17, 3) := by decide +kernel
theorem d_Mo_set_5 : decode b_Mo_set 5 = .ok (.aload_n 0, 1) := by decide +kernel
theorem d_Mo_set_6 : decode b_Mo_set 6 = .ok (.iload_n 1, 1) := by decide +kernel
theorem d_Mo_set_7 : decode b_Mo_set 7 = .ok (.invokevirtual 21, 3) := by decide +kernel
theorem d_Mo_set_10 : decode b_Mo_set 10 = .ok (.ifCond .ne 19, 3) := by decide +kernel
theorem d_Mo_set_13 : decode b_Mo_set 13 = .ok (.lload_n 2, 1) := by decide +kernel
theorem d_Mo_set_14 : decode b_Mo_set 14 = .ok (.ldc2_w 25, 3) := by decide +kernel
theorem d_Mo_set_17 : decode b_Mo_set 17 = .ok (.lcmp, 1) := by decide +kernel
theorem d_Mo_set_18 : decode b_Mo_set 18 = .ok (.ifCond .lt 11, 3) := by decide +kernel
theorem d_Mo_set_21 : decode b_Mo_set 21 = .ok (.lload_n 2, 1) := by decide +kernel
theorem d_Mo_set_22 : decode b_Mo_set 22 = .ok (.ldc2_w 27, 3) := by decide +kernel
theorem d_Mo_set_25 : decode b_Mo_set 25 = .ok (.lcmp, 1) := by decide +kernel
theorem d_Mo_set_26 : decode b_Mo_set 26 = .ok (.ifCond .le 10, 3) := by decide +kernel
theorem d_Mo_set_29 : decode b_Mo_set 29 = .ok (.aload_n 0, 1) := by decide +kernel
theorem d_Mo_set_30 : decode b_Mo_set 30 = .ok (.iconst 1, 1) := by decide +kernel
theorem d_Mo_set_31 : decode b_Mo_set 31 = .ok (.invokevirtual 29, 3) := by decide +kernel
theorem d_Mo_set_34 : decode b_Mo_set 34 = .ok (.i2l, 1) := by decide +kernel
theorem d_Mo_set_35 : decode b_Mo_set 35 = .ok (.lreturn, 1) := by decide +kernel
theorem d_Mo_set_36 : decode b_Mo_set 36 = .ok (.aload_n 0, 1) := by decide +kernel
theorem d_Mo_set_37 : decode b_Mo_set 37 = .ok (.getfield 7, 3) := by decide +kernel
theorem d_Mo_set_40 : decode b_Mo_set 40 = .ok (.iload_n 1, 1) := by decide +kernel
theorem d_Mo_set_41 : decode b_Mo_set 41 = .ok (.laload, 1) := by decide +kernel
theorem d_Mo_set_42 : decode b_Mo_set 42 = .ok (.lstore 4, 2) := by decide +kernel
theorem d_Mo_set_44 : decode b_Mo_set 44 = .ok (.aload_n 0, 1) := by decide +kernel
theorem d_Mo_set_45 : decode b_Mo_set 45 = .ok (.getfield 7, 3) := by decide +kernel
theorem d_Mo_set_48 : decode b_Mo_set 48 = .ok (.iload_n 1, 1) := by decide +kernel
theorem d_Mo_set_49 : decode b_Mo_set 49 = .ok (.lload_n 2, 1) := by decide +kernel
theorem d_Mo_set_50 : decode b_Mo_set 50 = .ok (.lastore, 1) := by decide +kernel
theorem d_Mo_set_51 : decode b_Mo_set 51 = .ok (.lload 4, 2) := by decide +kernel
theorem d_Mo_set_53 : decode b_Mo_set 53 = .ok (.lreturn, 1) := by decide +kernel
theorem d_Mo_out_0 : decode b_Mo_out 0 = .ok (.iload_n 1, 1) := by decide +kernel
theorem d_Mo_out_1 : decode b_Mo_out 1 = .ok (.ifCond .lt 9, 3) := by decide +kernel
theorem d_Mo_out_4 : decode b_Mo_out 4 = .ok (.iload_n 1, 1) := by decide +kernel
theorem d_Mo_out_5 : decode b_Mo_out 5 = .ok (.bipush 7, 2) := by decide +kernel
theorem d_Mo_out_7 : decode b_Mo_out 7 = .ok (.if_icmp .le 7, 3) := by decide +kernel
theorem d_Mo_out_10 : decode b_Mo_out 10 = .ok (.iconst 1, 1) := by decide +kernel
theorem d_Mo_out_11 : decode b_Mo_out 11 = .ok (.goto 4, 3) := by decide +kernel
theorem d_Mo_out_14 : decode b_Mo_out 14 = .ok (.iconst 0, 1) := by decide +kernel
theorem d_Mo_out_15 : decode b_Mo_out 15 = .ok (.ireturn, 1) := by decide +kernel
theorem d_Mo_fail_0 : decode b_Mo_fail 0 = .ok (.aload_n 0, 1) := by decide +kernel
theorem d_Mo_fail_1 : decode b_Mo_fail 1 = .ok (.iload_n 1, 1) := by decide +kernel
theorem d_Mo_fail_2 : decode b_Mo_fail 2 = .ok (.putfield 17, 3) := by decide +kernel
theorem d_Mo_fail_5 : decode b_Mo_fail 5 = .ok (.iconst 0, 1) := by decide +kernel
theorem d_Mo_fail_6 : decode b_Mo_fail 6 = .ok (.ireturn, 1) := by decide +kernel
theorem d_Mo_get_0 : decode b_Mo_get 0 = .ok (.aload_n 0, 1) := by decide +kernel
theorem d_Mo_get_1 : decode b_Mo_get 1 = .ok (.iconst 0, 1) := by decide +kernel
theorem d_Mo_get_2 : decode b_Mo_get 2 = .ok (.putfield 17, 3) := by decide +kernel
theorem d_Mo_get_5 : decode b_Mo_get 5 = .ok (.aload_n 0, 1) := by decide +kernel
theorem d_Mo_get_6 : decode b_Mo_get 6 = .ok (.iload_n 1, 1) := by decide +kernel
theorem d_Mo_get_7 : decode b_Mo_get 7 = .ok (.invokevirtual 21, 3) := by decide +kernel
theorem d_Mo_get_10 : decode b_Mo_get 10 = .ok (.ifCond .eq 12, 3) := by decide +kernel
theorem d_Mo_get_13 : decode b_Mo_get 13 = .ok (.aload_n 0, 1) := by decide +kernel
theorem d_Mo_get_14 : decode b_Mo_get 14 = .ok (.iconst 1, 1) := by decide +kernel
theorem d_Mo_get_15 : decode b_Mo_get 15 = .ok (.invokevirtual 29, 3) := by decide +kernel
theorem d_Mo_get_18 : decode b_Mo_get 18 = .ok (.i2l, 1) := by decide +kernel
theorem d_Mo_get_19 : decode b_Mo_get 19 = .ok (.goto 9, 3) := by decide +kernel
theorem d_Mo_get_22 : decode b_Mo_get 22 = .ok (.aload_n 0, 1) := by decide +kernel
theorem d_Mo_get_23 : decode b_Mo_get 23 = .ok (.getfield 7, 3) := by decide +kernel
theorem d_Mo_get_26 : decode b_Mo_get 26 = .ok (.iload_n 1, 1) := by decide +kernel
theorem d_Mo_get_27 : decode b_Mo_get 27 = .ok (.laload, 1) := by decide +kernel
theorem d_Mo_get_28 : decode b_Mo_get 28 = .ok (.lreturn, 1) := by decide +kernel
theorem d_Mo_reckon_0 : decode b_Mo_reckon 0 = .ok (.aload_n 0, 1) := by decide +kernel
theorem d_Mo_reckon_1 : decode b_Mo_reckon 1 = .ok (.iconst 0, 1) := by decide +kernel
theorem d_Mo_reckon_2 : decode b_Mo_reckon 2 = .ok (.putfield 17, 3) := by decide +kernel
theorem d_Mo_reckon_5 : decode b_Mo_reckon 5 = .ok (.aload_n 0, 1) := by decide +kernel
theorem d_Mo_reckon_6 : decode b_Mo_reckon 6 = .ok (.iload_n 1, 1) := by decide +kernel
theorem d_Mo_reckon_7 : decode b_Mo_reckon 7 = .ok (.invokevirtual 21, 3) := by decide +kernel
theorem d_Mo_reckon_10 : decode b_Mo_reckon 10 = .ok (.ifCond .ne 29, 3) := by decide +kernel
theorem d_Mo_reckon_13 : decode b_Mo_reckon 13 = .ok (.iload_n 2, 1) := by decide +kernel
theorem d_Mo_reckon_14 : decode b_Mo_reckon 14 = .ok (.ifCond .lt 25, 3) := by decide +kernel
theorem d_Mo_reckon_17 : decode b_Mo_reckon 17 = .ok (.iload_n 2, 1) := by decide +kernel
theorem d_Mo_reckon_18 : decode b_Mo_reckon 18 = .ok (.iconst 4, 1) := by decide +kernel
theorem d_Mo_reckon_19 : decode b_Mo_reckon 19 = .ok (.if_icmp .gt 20, 3) := by decide +kernel
theorem d_Mo_reckon_22 : decode b_Mo_reckon 22 = .ok (.aload_n 0, 1) := by decide +kernel
theorem d_Mo_reckon_23 : decode b_Mo_reckon 23 = .ok (.iload_n 3, 1) := by decide +kernel
theorem d_Mo_reckon_24 : decode b_Mo_reckon 24 = .ok (.invokevirtual 21, 3) := by decide +kernel
theorem d_Mo_reckon_27 : decode b_Mo_reckon 27 = .ok (.ifCond .ne 12, 3) := by decide +kernel
theorem d_Mo_reckon_30 : decode b_Mo_reckon 30 = .ok (.aload_n 0, 1) := by decide +kernel
theorem d_Mo_reckon_31 : decode b_Mo_reckon 31 = .ok (.iload 4, 2) := by decide +kernel
theorem d_Mo_reckon_33 : decode b_Mo_reckon 33 = .ok (.invokevirtual 21, 3) := by decide +kernel
theorem d_Mo_reckon_36 : decode b_Mo_reckon 36 = .ok (.ifCond .eq 10, 3) := by decide +kernel
theorem d_Mo_reckon_39 : decode b_Mo_reckon 39 = .ok (.aload_n 0, 1) := by decide +kernel
theorem d_Mo_reckon_40 : decode b_Mo_reckon 40 = .ok (.iconst 1, 1) := by decide +kernel
theorem d_Mo_reckon_41 : decode b_Mo_reckon 41 = .ok (.invokevirtual 29, 3) := by decide +kernel
theorem d_Mo_reckon_44 : decode b_Mo_reckon 44 = .ok (.i2l, 1) := by decide +kernel
theorem d_Mo_reckon_45 : decode b_Mo_reckon 45 = .ok (.lreturn, 1) := by decide +kernel
theorem d_Mo_reckon_46 : decode b_Mo_reckon 46 = .ok (.aload_n 0, 1) := by decide +kernel
theorem d_Mo_reckon_47 : decode b_Mo_reckon 47 = .ok (.getfield 7, 3) := by decide +kernel
theorem d_Mo_reckon_50 : decode b_Mo_reckon 50 = .ok (.iload_n 3, 1) := by decide +kernel
theorem d_Mo_reckon_51 : decode b_Mo_reckon 51 = .ok (.laload, 1) := by decide +kernel
theorem d_Mo_reckon_52 : decode b_Mo_reckon 52 = .ok (.lstore 5, 2) := by decide +kernel
theorem d_Mo_reckon_54 : decode b_Mo_reckon 54 = .ok (.aload_n 0, 1) := by decide +kernel
theorem d_Mo_reckon_55 : decode b_Mo_reckon 55 = .ok (.getfield 7, 3) := by decide +kernel
theorem d_Mo_reckon_58 : decode b_Mo_reckon 58 = .ok (.iload 4, 2) := by decide +kernel
theorem d_Mo_reckon_60 : decode b_Mo_reckon 60 = .ok (.laload, 1) := by decide +kernel
theorem d_Mo_reckon_61 : decode b_Mo_reckon 61 = .ok (.lstore 7, 2) := by decide +kernel
theorem d_Mo_reckon_63 : decode b_Mo_reckon 63 = .ok (.iload_n 2, 1) := by decide +kernel
theorem d_Mo_reckon_64 : decode b_Mo_reckon 64 = .ok (.iconst 2, 1) := by decide +kernel
theorem d_Mo_reckon_65 : decode b_Mo_reckon 65 = .ok (.if_icmp .le 17, 3) := by decide +kernel
theorem d_Mo_reckon_68 : decode b_Mo_reckon 68 = .ok (.lload 7, 2) := by decide +kernel
theorem d_Mo_reckon_70 : decode b_Mo_reckon 70 = .ok (.lconst 0, 1) := by decide +kernel
theorem d_Mo_reckon_71 : decode b_Mo_reckon 71 = .ok (.lcmp, 1) := by decide +kernel
theorem d_Mo_reckon_72 : decode b_Mo_reckon 72 = .ok (.ifCond .ne 10, 3) := by decide +kernel
theorem d_Mo_reckon_75 : decode b_Mo_reckon 75 = .ok (.aload_n 0, 1) := by decide +kernel
theorem d_Mo_reckon_76 : decode b_Mo_reckon 76 = .ok (.iconst 2, 1) := by decide +kernel
theorem d_Mo_reckon_77 : decode b_Mo_reckon 77 = .ok (.invokevirtual 29, 3) := by decide +kernel
theorem d_Mo_reckon_80 : decode b_Mo_reckon 80 = .ok (.i2l, 1) := by decide +kernel
theorem d_Mo_reckon_81 : decode b_Mo_reckon 81 = .ok (.lreturn, 1) := by decide +kernel
theorem d_Mo_reckon_82 : decode b_Mo_reckon 82 = .ok (.iload_n 2, 1) := by decide +kernel
theorem d_Mo_reckon_83 : decode b_Mo_reckon 83 = .ok (.iconst 2, 1) := by decide +kernel
theorem d_Mo_reckon_84 : decode b_Mo_reckon 84 = .ok (.if_icmp .ge 46, 3) := by decide +kernel
theorem d_Mo_reckon_87 : decode b_Mo_reckon 87 = .ok (.iload_n 2, 1) := by decide +kernel
theorem d_Mo_reckon_88 : decode b_Mo_reckon 88 = .ok (.ifCond .ne 11, 3) := by decide +kernel
theorem d_Mo_reckon_91 : decode b_Mo_reckon 91 = .ok (.lload 5, 2) := by decide +kernel
theorem d_Mo_reckon_93 : decode b_Mo_reckon 93 = .ok (.lload 7, 2) := by decide +kernel
theorem d_Mo_reckon_95 : decode b_Mo_reckon 95 = .ok (.ladd, 1) := by decide +kernel
theorem d_Mo_reckon_96 : decode b_Mo_reckon 96 = .ok (.goto 8, 3) := by decide +kernel
theorem d_Mo_reckon_99 : decode b_Mo_reckon 99 = .ok (.lload 5, 2) := by decide +kernel
theorem d_Mo_reckon_101 : decode b_Mo_reckon 101 = .ok (.lload 7, 2) := by decide +kernel
theorem d_Mo_reckon_103 : decode b_Mo_reckon 103 = .ok (.lsub, 1) := by decide +kernel
theorem d_Mo_reckon_104 : decode b_Mo_reckon 104 = .ok (.lstore 9, 2) := by decide +kernel
theorem d_Mo_reckon_106 : decode b_Mo_reckon 106 = .ok (.aload_n 0, 1) := by decide +kernel
theorem d_Mo_reckon_107 : decode b_Mo_reckon 107 = .ok (.iload_n 1, 1) := by decide +kernel
theorem d_Mo_reckon_108 : decode b_Mo_reckon 108 = .ok (.lload 9, 2) := by decide +kernel
theorem d_Mo_reckon_110 : decode b_Mo_reckon 110 = .ok (.lconst 0, 1) := by decide +kernel
theorem d_Mo_reckon_111 : decode b_Mo_reckon 111 = .ok (.lcmp, 1) := by decide +kernel
theorem d_Mo_reckon_112 : decode b_Mo_reckon 112 = .ok (.ifCond .ge 7, 3) := by decide +kernel
theorem d_Mo_reckon_115 : decode b_Mo_reckon 115 = .ok (.iconst 1, 1) := by decide +kernel
theorem d_Mo_reckon_116 : decode b_Mo_reckon 116 = .ok (.goto 4, 3) := by decide +kernel
theorem d_Mo_reckon_119 : decode b_Mo_reckon 119 = .ok (.iconst 0, 1) := by decide +kernel
theorem d_Mo_reckon_120 : decode b_Mo_reckon 120 = .ok (.lload 9, 2) := by decide +kernel
theorem d_Mo_reckon_122 : decode b_Mo_reckon 122 = .ok (.invokestatic 39, 3) := by decide +kernel
theorem d_Mo_reckon_125 : decode b_Mo_reckon 125 = .ok (.iconst 3, 1) := by decide +kernel
theorem d_Mo_reckon_126 : decode b_Mo_reckon 126 = .ok (.invokevirtual 43, 3) := by decide +kernel
theorem d_Mo_reckon_129 : decode b_Mo_reckon 129 = .ok (.lreturn, 1) := by decide +kernel
theorem d_Mo_reckon_130 : decode b_Mo_reckon 130 = .ok (.lload 5, 2) := by decide +kernel
theorem d_Mo_reckon_132 : decode b_Mo_reckon 132 = .ok (.lconst 0, 1) := by decide +kernel
theorem d_Mo_reckon_133 : decode b_Mo_reckon 133 = .ok (.lcmp, 1) := by decide +kernel
theorem d_Mo_reckon_134 : decode b_Mo_reckon 134 = .ok (.ifCond .ge 7, 3) := by decide +kernel
theorem d_Mo_reckon_137 : decode b_Mo_reckon 137 = .ok (.iconst 1, 1) := by decide +kernel
theorem d_Mo_reckon_138 : decode b_Mo_reckon 138 = .ok (.goto 4, 3) := by decide +kernel
theorem d_Mo_reckon_141 : decode b_Mo_reckon 141 = .ok (.iconst 0, 1) := by decide +kernel
theorem d_Mo_reckon_142 : decode b_Mo_reckon 142 = .ok (.lload 7, 2) := by decide +kernel
theorem d_Mo_reckon_144 : decode b_Mo_reckon 144 = .ok (.lconst 0, 1) := by decide +kernel
theorem d_Mo_reckon_145 : decode b_Mo_reckon 145 = .ok (.lcmp, 1) := by decide +kernel
theorem d_Mo_reckon_146 : decode b_Mo_reckon 146 = .ok (.ifCond .ge 7, 3) := by decide +kernel
theorem d_Mo_reckon_149 : decode b_Mo_reckon 149 = .ok (.iconst 1, 1) := by decide +kernel
theorem d_Mo_reckon_150 : decode b_Mo_reckon 150 = .ok (.goto 4, 3) := by decide +kernel
theorem d_Mo_reckon_153 : decode b_Mo_reckon 153 = .ok (.iconst 0, 1) := by decide +kernel
theorem d_Mo_reckon_154 : decode b_Mo_reckon 154 = .ok (.if_icmp .eq 7, 3) := by decide +kernel
theorem d_Mo_reckon_157 : decode b_Mo_reckon 157 = .ok (.iconst 1, 1) := by decide +kernel
theorem d_Mo_reckon_158 : decode b_Mo_reckon 158 = .ok (.goto 4, 3) := by decide +kernel
theorem d_Mo_reckon_161 : decode b_Mo_reckon 161 = .ok (.iconst 0, 1) := by decide +kernel
theorem d_Mo_reckon_162 : decode b_Mo_reckon 162 = .ok (.istore 9, 2) := by decide +kernel
theorem d_Mo_reckon_164 : decode b_Mo_reckon 164 = .ok (.iload_n 2, 1) := by decide +kernel
theorem d_Mo_reckon_165 : decode b_Mo_reckon 165 = .ok (.iconst 2, 1) := by decide +kernel
theorem d_Mo_reckon_166 : decode b_Mo_reckon 166 = .ok (.if_icmp .ne 26, 3) := by decide +kernel
theorem d_Mo_reckon_169 : decode b_Mo_reckon 169 = .ok (.aload_n 0, 1) := by decide +kernel
theorem d_Mo_reckon_170 : decode b_Mo_reckon 170 = .ok (.iload_n 1, 1) := by decide +kernel
theorem d_Mo_reckon_171 : decode b_Mo_reckon 171 = .ok (.iload 9, 2) := by decide +kernel
theorem d_Mo_reckon_173 : decode b_Mo_reckon 173 = .ok (.aload_n 0, 1) := by decide +kernel
theorem d_Mo_reckon_174 : decode b_Mo_reckon 174 = .ok (.lload 5, 2) := by decide +kernel
theorem d_Mo_reckon_176 : decode b_Mo_reckon 176 = .ok (.invokestatic 39, 3) := by decide +kernel
theorem d_Mo_reckon_179 : decode b_Mo_reckon 179 = .ok (.lload 7, 2) := by decide +kernel
theorem d_Mo_reckon_181 : decode b_Mo_reckon 181 = .ok (.invokestatic 39, 3) := by decide +kernel
theorem d_Mo_reckon_184 : decode b_Mo_reckon 184 = .ok (.invokevirtual 47, 3) := by decide +kernel
theorem d_Mo_reckon_187 : decode b_Mo_reckon 187 = .ok (.iconst 3, 1) := by decide +kernel
theorem d_Mo_reckon_188 : decode b_Mo_reckon 188 = .ok (.invokevirtual 43, 3) := by decide +kernel
theorem d_Mo_reckon_191 : decode b_Mo_reckon 191 = .ok (.lreturn, 1) := by decide +kernel
theorem d_Mo_reckon_192 : decode b_Mo_reckon 192 = .ok (.iload_n 2, 1) := by decide +kernel
theorem d_Mo_reckon_193 : decode b_Mo_reckon 193 = .ok (.iconst 3, 1) := by decide +kernel
theorem d_Mo_reckon_194 : decode b_Mo_reckon 194 = .ok (.if_icmp .ne 26, 3) := by decide +kernel
theorem d_Mo_reckon_197 : decode b_Mo_reckon 197 = .ok (.aload_n 0, 1) := by decide +kernel
theorem d_Mo_reckon_198 : decode b_Mo_reckon 198 = .ok (.iload_n 1, 1) := by decide +kernel
theorem d_Mo_reckon_199 : decode b_Mo_reckon 199 = .ok (.iload 9, 2) := by decide +kernel
theorem d_Mo_reckon_201 : decode b_Mo_reckon 201 = .ok (.aload_n 0, 1) := by decide +kernel
theorem d_Mo_reckon_202 : decode b_Mo_reckon 202 = .ok (.lload 5, 2) := by decide +kernel
theorem d_Mo_reckon_204 : decode b_Mo_reckon 204 = .ok (.invokestatic 39, 3) := by decide +kernel
theorem d_Mo_reckon_207 : decode b_Mo_reckon 207 = .ok (.lload 7, 2) := by decide +kernel
theorem d_Mo_reckon_209 : decode b_Mo_reckon 209 = .ok (.invokestatic 39, 3) := by decide +kernel
theorem d_Mo_reckon_212 : decode b_Mo_reckon 212 = .ok (.invokevirtual 51, 3) := by decide +kernel
theorem d_Mo_reckon_215 : decode b_Mo_reckon 215 = .ok (.iconst 3, 1) := by decide +kernel
theorem d_Mo_reckon_216 : decode b_Mo_reckon 216 = .ok (.invokevirtual 43, 3) := by decide +kernel
theorem d_Mo_reckon_219 : decode b_Mo_reckon 219 = .ok (.lreturn, 1) := by decide +kernel
theorem d_Mo_reckon_220 : decode b_Mo_reckon 220 = .ok (.lload 5, 2) := by decide +kernel
theorem d_Mo_reckon_222 : decode b_Mo_reckon 222 = .ok (.invokestatic 39, 3) := by decide +kernel
theorem d_Mo_reckon_225 : decode b_Mo_reckon 225 = .ok (.lload 7, 2) := by decide +kernel
theorem d_Mo_reckon_227 : decode b_Mo_reckon 227 = .ok (.invokestatic 39, 3) := by decide +kernel
theorem d_Mo_reckon_230 : decode b_Mo_reckon 230 = .ok (.lrem, 1) := by decide +kernel
theorem d_Mo_reckon_231 : decode b_Mo_reckon 231 = .ok (.lstore 10, 2) := by decide +kernel
theorem d_Mo_reckon_233 : decode b_Mo_reckon 233 = .ok (.lload 10, 2) := by decide +kernel
theorem d_Mo_reckon_235 : decode b_Mo_reckon 235 = .ok (.lconst 0, 1) := by decide +kernel
theorem d_Mo_reckon_236 : decode b_Mo_reckon 236 = .ok (.lcmp, 1) := by decide +kernel
theorem d_Mo_reckon_237 : decode b_Mo_reckon 237 = .ok (.ifCond .le 18, 3) := by decide +kernel
theorem d_Mo_reckon_240 : decode b_Mo_reckon 240 = .ok (.iload 9, 2) := by decide +kernel
theorem d_Mo_reckon_242 : decode b_Mo_reckon 242 = .ok (.ifCond .eq 13, 3) := by decide +kernel
theorem d_Mo_reckon_245 : decode b_Mo_reckon 245 = .ok (.lload 7, 2) := by decide +kernel
theorem d_Mo_reckon_247 : decode b_Mo_reckon 247 = .ok (.invokestatic 39, 3) := by decide +kernel
theorem d_Mo_reckon_250 : decode b_Mo_reckon 250 = .ok (.lload 10, 2) := by decide +kernel
theorem d_Mo_reckon_252 : decode b_Mo_reckon 252 = .ok (.lsub, 1) := by decide +kernel
theorem d_Mo_reckon_253 : decode b_Mo_reckon 253 = .ok (.lstore 10, 2) := by decide +kernel
theorem d_Mo_reckon_255 : decode b_Mo_reckon 255 = .ok (.aload_n 0, 1) := by decide +kernel
theorem d_Mo_reckon_256 : decode b_Mo_reckon 256 = .ok (.iload_n 1, 1) := by decide +kernel
theorem d_Mo_reckon_257 : decode b_Mo_reckon 257 = .ok (.lload 7, 2) := by decide +kernel
theorem d_Mo_reckon_259 : decode b_Mo_reckon 259 = .ok (.lconst 0, 1) := by decide +kernel
theorem d_Mo_reckon_260 : decode b_Mo_reckon 260 = .ok (.lcmp, 1) := by decide +kernel
theorem d_Mo_reckon_261 : decode b_Mo_reckon 261 = .ok (.ifCond .ge 7, 3) := by decide +kernel
theorem d_Mo_reckon_264 : decode b_Mo_reckon 264 = .ok (.iconst 1, 1) := by decide +kernel
theorem d_Mo_reckon_265 : decode b_Mo_reckon 265 = .ok (.goto 4, 3) := by decide +kernel
theorem d_Mo_reckon_268 : decode b_Mo_reckon 268 = .ok (.iconst 0, 1) := by decide +kernel
theorem d_Mo_reckon_269 : decode b_Mo_reckon 269 = .ok (.lload 10, 2) := by decide +kernel
theorem d_Mo_reckon_271 : decode b_Mo_reckon 271 = .ok (.iconst 3, 1) := by decide +kernel
theorem d_Mo_reckon_272 : decode b_Mo_reckon 272 = .ok (.invokevirtual 43, 3) := by decide +kernel
theorem d_Mo_reckon_275 : decode b_Mo_reckon 275 = .ok (.lreturn, 1) := by decide +kernel
theorem d_Mo_size_0 : decode b_Mo_size 0 = .ok (.lload_n 0, 1) := by decide +kernel
theorem d_Mo_size_1 : decode b_Mo_size 1 = .ok (.lconst 0, 1) := by decide +kernel
theorem d_Mo_size_2 : decode b_Mo_size 2 = .ok (.lcmp, 1) := by decide +kernel
theorem d_Mo_size_3 : decode b_Mo_size 3 = .ok (.ifCond .ge 8, 3) := by decide +kernel
theorem d_Mo_size_6 : decode b_Mo_size 6 = .ok (.lload_n 0, 1) := by decide +kernel
theorem d_Mo_size_7 : decode b_Mo_size 7 = .ok (.lneg, 1) := by decide +kernel
theorem d_Mo_size_8 : decode b_Mo_size 8 = .ok (.goto 4, 3) := by decide +kernel
theorem d_Mo_size_11 : decode b_Mo_size 11 = .ok (.lload_n 0, 1) := by decide +kernel
theorem d_Mo_size_12 : decode b_Mo_size 12 = .ok (.lreturn, 1) := by decide +kernel
theorem d_Mo_put_0 : decode b_Mo_put 0 = .ok (.lload_n 3, 1) := by decide +kernel
theorem d_Mo_put_1 : decode b_Mo_put 1 = .ok (.ldc2_w 27, 3) := by decide +kernel
theorem d_Mo_put_4 : decode b_Mo_put 4 = .ok (.lcmp, 1) := by decide +kernel
theorem d_Mo_put_5 : decode b_Mo_put 5 = .ok (.ifCond .le 11, 3) := by decide +kernel
theorem d_Mo_put_8 : decode b_Mo_put 8 = .ok (.aload_n 0, 1) := by decide +kernel
theorem d_Mo_put_9 : decode b_Mo_put 9 = .ok (.iload 5, 2) := by decide +kernel
theorem d_Mo_put_11 : decode b_Mo_put 11 = .ok (.invokevirtual 29, 3) := by decide +kernel
theorem d_Mo_put_14 : decode b_Mo_put 14 = .ok (.i2l, 1) := by decide +kernel
theorem d_Mo_put_15 : decode b_Mo_put 15 = .ok (.lreturn, 1) := by decide +kernel
theorem d_Mo_put_16 : decode b_Mo_put 16 = .ok (.aload_n 0, 1) := by decide +kernel
theorem d_Mo_put_17 : decode b_Mo_put 17 = .ok (.getfield 7, 3) := by decide +kernel
theorem d_Mo_put_20 : decode b_Mo_put 20 = .ok (.iload_n 1, 1) := by decide +kernel
theorem d_Mo_put_21 : decode b_Mo_put 21 = .ok (.iload_n 2, 1) := by decide +kernel
theorem d_Mo_put_22 : decode b_Mo_put 22 = .ok (.ifCond .eq 8, 3) := by decide +kernel
theorem d_Mo_put_25 : decode b_Mo_put 25 = .ok (.lload_n 3, 1) := by decide +kernel
theorem d_Mo_put_26 : decode b_Mo_put 26 = .ok (.lneg, 1) := by decide +kernel
theorem d_Mo_put_27 : decode b_Mo_put 27 = .ok (.goto 4, 3) := by decide +kernel
theorem d_Mo_put_30 : decode b_Mo_put 30 = .ok (.lload_n 3, 1) := by decide +kernel
theorem d_Mo_put_31 : decode b_Mo_put 31 = .ok (.lastore, 1) := by decide +kernel
theorem d_Mo_put_32 : decode b_Mo_put 32 = .ok (.aload_n 0, 1) := by decide +kernel
theorem d_Mo_put_33 : decode b_Mo_put 33 = .ok (.getfield 7, 3) := by decide +kernel
theorem d_Mo_put_36 : decode b_Mo_put 36 = .ok (.iload_n 1, 1) := by decide +kernel
theorem d_Mo_put_37 : decode b_Mo_put 37 = .ok (.laload, 1) := by decide +kernel
theorem d_Mo_put_38 : decode b_Mo_put 38 = .ok (.lreturn, 1) := by decide +kernel
theorem d_Mo_product_0 : decode b_Mo_product 0 = .ok (.lload_n 1, 1) := by decide +kernel
theorem d_Mo_product_1 : decode b_Mo_product 1 = .ok (.ldc2_w 33, 3) := by decide +kernel
theorem d_Mo_product_4 : decode b_Mo_product 4 = .ok (.ldiv, 1) := by decide +kernel
theorem d_Mo_product_5 : decode b_Mo_product 5 = .ok (.lstore 5, 2) := by decide +kernel
theorem d_Mo_product_7 : decode b_Mo_product 7 = .ok (.lload 5, 2) := by decide +kernel
theorem d_Mo_product_9 : decode b_Mo_product 9 = .ok (.lconst 0, 1) := by decide +kernel
theorem d_Mo_product_10 : decode b_Mo_product 10 = .ok (.lcmp, 1) := by decide +kernel
theorem d_Mo_product_11 : decode b_Mo_product 11 = .ok (.ifCond .le 18, 3) := by decide +kernel
theorem d_Mo_product_14 : decode b_Mo_product 14 = .ok (.lload_n 3, 1) := by decide +kernel
theorem d_Mo_product_15 : decode b_Mo_product 15 = .ok (.ldc2_w 27, 3) := by decide +kernel
theorem d_Mo_product_18 : decode b_Mo_product 18 = .ok (.lload 5, 2) := by decide +kernel
theorem d_Mo_product_20 : decode b_Mo_product 20 = .ok (.ldiv, 1) := by decide +kernel
theorem d_Mo_product_21 : decode b_Mo_product 21 = .ok (.lcmp, 1) := by decide +kernel
theorem d_Mo_product_22 : decode b_Mo_product 22 = .ok (.ifCond .le 7, 3) := by decide +kernel
theorem d_Mo_product_25 : decode b_Mo_product 25 = .ok (.ldc2_w 35, 3) := by decide +kernel
theorem d_Mo_product_28 : decode b_Mo_product 28 = .ok (.lreturn, 1) := by decide +kernel
theorem d_Mo_product_29 : decode b_Mo_product 29 = .ok (.lload 5, 2) := by decide +kernel
theorem d_Mo_product_31 : decode b_Mo_product 31 = .ok (.lload_n 3, 1) := by decide +kernel
theorem d_Mo_product_32 : decode b_Mo_product 32 = .ok (.lmul, 1) := by decide +kernel
theorem d_Mo_product_33 : decode b_Mo_product 33 = .ok (.lload_n 1, 1) := by decide +kernel
theorem d_Mo_product_34 : decode b_Mo_product 34 = .ok (.ldc2_w 33, 3) := by decide +kernel
theorem d_Mo_product_37 : decode b_Mo_product 37 = .ok (.lrem, 1) := by decide +kernel
theorem d_Mo_product_38 : decode b_Mo_product 38 = .ok (.lload_n 3, 1) := by decide +kernel
theorem d_Mo_product_39 : decode b_Mo_product 39 = .ok (.lmul, 1) := by decide +kernel
theorem d_Mo_product_40 : decode b_Mo_product 40 = .ok (.ldc2_w 37, 3) := by decide +kernel
theorem d_Mo_product_43 : decode b_Mo_product 43 = .ok (.ladd, 1) := by decide +kernel
theorem d_Mo_product_44 : decode b_Mo_product 44 = .ok (.ldc2_w 33, 3) := by decide +kernel
theorem d_Mo_product_47 : decode b_Mo_product 47 = .ok (.ldiv, 1) := by decide +kernel
theorem d_Mo_product_48 : decode b_Mo_product 48 = .ok (.ladd, 1) := by decide +kernel
theorem d_Mo_product_49 : decode b_Mo_product 49 = .ok (.lreturn, 1) := by decide +kernel
theorem d_Mo_quotient_0 : decode b_Mo_quotient 0 = .ok (.ldc2_w 33, 3) := by decide +kernel
theorem d_Mo_quotient_3 : decode b_Mo_quotient 3 = .ok (.lload_n 1, 1) := by decide +kernel
theorem d_Mo_quotient_4 : decode b_Mo_quotient 4 = .ok (.lmul, 1) := by decide +kernel
theorem d_Mo_quotient_5 : decode b_Mo_quotient 5 = .ok (.lload_n 3, 1) := by decide +kernel
theorem d_Mo_quotient_6 : decode b_Mo_quotient 6 = .ok (.ldiv, 1) := by decide +kernel
theorem d_Mo_quotient_7 : decode b_Mo_quotient 7 = .ok (.lstore 5, 2) := by decide +kernel
theorem d_Mo_quotient_9 : decode b_Mo_quotient 9 = .ok (.ldc2_w 33, 3) := by decide +kernel
theorem d_Mo_quotient_12 : decode b_Mo_quotient 12 = .ok (.lload_n 1, 1) := by decide +kernel
theorem d_Mo_quotient_13 : decode b_Mo_quotient 13 = .ok (.lmul, 1) := by decide +kernel
theorem d_Mo_quotient_14 : decode b_Mo_quotient 14 = .ok (.lload_n 3, 1) := by decide +kernel
theorem d_Mo_quotient_15 : decode b_Mo_quotient 15 = .ok (.lrem, 1) := by decide +kernel
theorem d_Mo_quotient_16 : decode b_Mo_quotient 16 = .ok (.lstore 7, 2) := by decide +kernel
theorem d_Mo_quotient_18 : decode b_Mo_quotient 18 = .ok (.lload 7, 2) := by decide +kernel
theorem d_Mo_quotient_20 : decode b_Mo_quotient 20 = .ok (.lload_n 3, 1) := by decide +kernel
theorem d_Mo_quotient_21 : decode b_Mo_quotient 21 = .ok (.lload 7, 2) := by decide +kernel
theorem d_Mo_quotient_23 : decode b_Mo_quotient 23 = .ok (.lsub, 1) := by decide +kernel
theorem d_Mo_quotient_24 : decode b_Mo_quotient 24 = .ok (.lcmp, 1) := by decide +kernel
theorem d_Mo_quotient_25 : decode b_Mo_quotient 25 = .ok (.ifCond .lt 10, 3) := by decide +kernel
theorem d_Mo_quotient_28 : decode b_Mo_quotient 28 = .ok (.lload 5, 2) := by decide +kernel
theorem d_Mo_quotient_30 : decode b_Mo_quotient 30 = .ok (.lconst 1, 1) := by decide +kernel
theorem d_Mo_quotient_31 : decode b_Mo_quotient 31 = .ok (.ladd, 1) := by decide +kernel
theorem d_Mo_quotient_32 : decode b_Mo_quotient 32 = .ok (.goto 5, 3) := by decide +kernel
theorem d_Mo_quotient_35 : decode b_Mo_quotient 35 = .ok (.lload 5, 2) := by decide +kernel
theorem d_Mo_quotient_37 : decode b_Mo_quotient 37 = .ok (.lreturn, 1) := by decide +kernel
theorem d_Mo_turn_0 : decode b_Mo_turn 0 = .ok (.aload_n 0, 1) := by decide +kernel
theorem d_Mo_turn_1 : decode b_Mo_turn 1 = .ok (.iconst 0, 1) := by decide +kernel
theorem d_Mo_turn_2 : decode b_Mo_turn 2 = .ok (.putfield 17, 3) := by decide +kernel
theorem d_Mo_turn_5 : decode b_Mo_turn 5 = .ok (.aload_n 0, 1) := by decide +kernel
theorem d_Mo_turn_6 : decode b_Mo_turn 6 = .ok (.iload_n 1, 1) := by decide +kernel
theorem d_Mo_turn_7 : decode b_Mo_turn 7 = .ok (.invokevirtual 21, 3) := by decide +kernel
theorem d_Mo_turn_10 : decode b_Mo_turn 10 = .ok (.ifCond .ne 20, 3) := by decide +kernel
theorem d_Mo_turn_13 : decode b_Mo_turn 13 = .ok (.iload_n 2, 1) := by decide +kernel
theorem d_Mo_turn_14 : decode b_Mo_turn 14 = .ok (.ifCond .lt 16, 3) := by decide +kernel
theorem d_Mo_turn_17 : decode b_Mo_turn 17 = .ok (.iload_n 2, 1) := by decide +kernel
theorem d_Mo_turn_18 : decode b_Mo_turn 18 = .ok (.iconst 3, 1) := by decide +kernel
theorem d_Mo_turn_19 : decode b_Mo_turn 19 = .ok (.if_icmp .gt 11, 3) := by decide +kernel
theorem d_Mo_turn_22 : decode b_Mo_turn 22 = .ok (.aload_n 0, 1) := by decide +kernel
theorem d_Mo_turn_23 : decode b_Mo_turn 23 = .ok (.iload_n 3, 1) := by decide +kernel
theorem d_Mo_turn_24 : decode b_Mo_turn 24 = .ok (.invokevirtual 21, 3) := by decide +kernel
theorem d_Mo_turn_27 : decode b_Mo_turn 27 = .ok (.ifCond .eq 10, 3) := by decide +kernel
theorem d_Mo_turn_30 : decode b_Mo_turn 30 = .ok (.aload_n 0, 1) := by decide +kernel
theorem d_Mo_turn_31 : decode b_Mo_turn 31 = .ok (.iconst 1, 1) := by decide +kernel
theorem d_Mo_turn_32 : decode b_Mo_turn 32 = .ok (.invokevirtual 29, 3) := by decide +kernel
theorem d_Mo_turn_35 : decode b_Mo_turn 35 = .ok (.i2l, 1) := by decide +kernel
theorem d_Mo_turn_36 : decode b_Mo_turn 36 = .ok (.lreturn, 1) := by decide +kernel
theorem d_Mo_turn_37 : decode b_Mo_turn 37 = .ok (.aload_n 0, 1) := by decide +kernel
theorem d_Mo_turn_38 : decode b_Mo_turn 38 = .ok (.getfield 7, 3) := by decide +kernel
theorem d_Mo_turn_41 : decode b_Mo_turn 41 = .ok (.iload_n 3, 1) := by decide +kernel
theorem d_Mo_turn_42 : decode b_Mo_turn 42 = .ok (.laload, 1) := by decide +kernel
theorem d_Mo_turn_43 : decode b_Mo_turn 43 = .ok (.lstore 4, 2) := by decide +kernel
theorem d_Mo_turn_45 : decode b_Mo_turn 45 = .ok (.iload_n 2, 1) := by decide +kernel
theorem d_Mo_turn_46 : decode b_Mo_turn 46 = .ok (.ifCond .ne 35, 3) := by decide +kernel
theorem d_Mo_turn_49 : decode b_Mo_turn 49 = .ok (.aload_n 0, 1) := by decide +kernel
theorem d_Mo_turn_50 : decode b_Mo_turn 50 = .ok (.iload_n 1, 1) := by decide +kernel
theorem d_Mo_turn_51 : decode b_Mo_turn 51 = .ok (.lload 4, 2) := by decide +kernel
theorem d_Mo_turn_53 : decode b_Mo_turn 53 = .ok (.lconst 0, 1) := by decide +kernel
theorem d_Mo_turn_54 : decode b_Mo_turn 54 = .ok (.lcmp, 1) := by decide +kernel
theorem d_Mo_turn_55 : decode b_Mo_turn 55 = .ok (.ifCond .ge 7, 3) := by decide +kernel
theorem d_Mo_turn_58 : decode b_Mo_turn 58 = .ok (.iconst 1, 1) := by decide +kernel
theorem d_Mo_turn_59 : decode b_Mo_turn 59 = .ok (.goto 4, 3) := by decide +kernel
theorem d_Mo_turn_62 : decode b_Mo_turn 62 = .ok (.iconst 0, 1) := by decide +kernel
theorem d_Mo_turn_63 : decode b_Mo_turn 63 = .ok (.lload 4, 2) := by decide +kernel
theorem d_Mo_turn_65 : decode b_Mo_turn 65 = .ok (.invokestatic 39, 3) := by decide +kernel
theorem d_Mo_turn_68 : decode b_Mo_turn 68 = .ok (.ldc2_w 54, 3) := by decide +kernel
theorem d_Mo_turn_71 : decode b_Mo_turn 71 = .ok (.ladd, 1) := by decide +kernel
theorem d_Mo_turn_72 : decode b_Mo_turn 72 = .ok (.ldc2_w 56, 3) := by decide +kernel
theorem d_Mo_turn_75 : decode b_Mo_turn 75 = .ok (.ldiv, 1) := by decide +kernel
theorem d_Mo_turn_76 : decode b_Mo_turn 76 = .ok (.iconst 2, 1) := by decide +kernel
theorem d_Mo_turn_77 : decode b_Mo_turn 77 = .ok (.invokevirtual 43, 3) := by decide +kernel
theorem d_Mo_turn_80 : decode b_Mo_turn 80 = .ok (.lreturn, 1) := by decide +kernel
theorem d_Mo_turn_81 : decode b_Mo_turn 81 = .ok (.iload_n 2, 1) := by decide +kernel
theorem d_Mo_turn_82 : decode b_Mo_turn 82 = .ok (.iconst 2, 1) := by decide +kernel
theorem d_Mo_turn_83 : decode b_Mo_turn 83 = .ok (.if_icmp .ne 16, 3) := by decide +kernel
theorem d_Mo_turn_86 : decode b_Mo_turn 86 = .ok (.aload_n 0, 1) := by decide +kernel
theorem d_Mo_turn_87 : decode b_Mo_turn 87 = .ok (.iload_n 1, 1) := by decide +kernel
theorem d_Mo_turn_88 : decode b_Mo_turn 88 = .ok (.iconst 0, 1) := by decide +kernel
theorem d_Mo_turn_89 : decode b_Mo_turn 89 = .ok (.lload 4, 2) := by decide +kernel
theorem d_Mo_turn_91 : decode b_Mo_turn 91 = .ok (.invokestatic 39, 3) := by decide +kernel
theorem d_Mo_turn_94 : decode b_Mo_turn 94 = .ok (.iconst 2, 1) := by decide +kernel
theorem d_Mo_turn_95 : decode b_Mo_turn 95 = .ok (.invokevirtual 43, 3) := by decide +kernel
theorem d_Mo_turn_98 : decode b_Mo_turn 98 = .ok (.lreturn, 1) := by decide +kernel
theorem d_Mo_turn_99 : decode b_Mo_turn 99 = .ok (.iload_n 2, 1) := by decide +kernel
theorem d_Mo_turn_100 : decode b_Mo_turn 100 = .ok (.iconst 3, 1) := by decide +kernel
theorem d_Mo_turn_101 : decode b_Mo_turn 101 = .ok (.if_icmp .ne 27, 3) := by decide +kernel
theorem d_Mo_turn_104 : decode b_Mo_turn 104 = .ok (.aload_n 0, 1) := by decide +kernel
theorem d_Mo_turn_105 : decode b_Mo_turn 105 = .ok (.iload_n 1, 1) := by decide +kernel
theorem d_Mo_turn_106 : decode b_Mo_turn 106 = .ok (.lload 4, 2) := by decide +kernel
theorem d_Mo_turn_108 : decode b_Mo_turn 108 = .ok (.lconst 0, 1) := by decide +kernel
theorem d_Mo_turn_109 : decode b_Mo_turn 109 = .ok (.lcmp, 1) := by decide +kernel
theorem d_Mo_turn_110 : decode b_Mo_turn 110 = .ok (.ifCond .le 7, 3) := by decide +kernel
theorem d_Mo_turn_113 : decode b_Mo_turn 113 = .ok (.iconst 1, 1) := by decide +kernel
theorem d_Mo_turn_114 : decode b_Mo_turn 114 = .ok (.goto 4, 3) := by decide +kernel
theorem d_Mo_turn_117 : decode b_Mo_turn 117 = .ok (.iconst 0, 1) := by decide +kernel
theorem d_Mo_turn_118 : decode b_Mo_turn 118 = .ok (.lload 4, 2) := by decide +kernel
theorem d_Mo_turn_120 : decode b_Mo_turn 120 = .ok (.invokestatic 39, 3) := by decide +kernel
theorem d_Mo_turn_123 : decode b_Mo_turn 123 = .ok (.iconst 2, 1) := by decide +kernel
theorem d_Mo_turn_124 : decode b_Mo_turn 124 = .ok (.invokevirtual 43, 3) := by decide +kernel
theorem d_Mo_turn_127 : decode b_Mo_turn 127 = .ok (.lreturn, 1) := by decide +kernel
theorem d_Mo_turn_128 : decode b_Mo_turn 128 = .ok (.lload 4, 2) := by decide +kernel
theorem d_Mo_turn_130 : decode b_Mo_turn 130 = .ok (.invokestatic 39, 3) := by decide +kernel
theorem d_Mo_turn_133 : decode b_Mo_turn 133 = .ok (.ldc2_w 33, 3) := by decide +kernel
theorem d_Mo_turn_136 : decode b_Mo_turn 136 = .ok (.ldiv, 1) := by decide +kernel
theorem d_Mo_turn_137 : decode b_Mo_turn 137 = .ok (.ldc2_w 33, 3) := by decide +kernel
theorem d_Mo_turn_140 : decode b_Mo_turn 140 = .ok (.lmul, 1) := by decide +kernel
theorem d_Mo_turn_141 : decode b_Mo_turn 141 = .ok (.lstore 6, 2) := by decide +kernel
theorem d_Mo_turn_143 : decode b_Mo_turn 143 = .ok (.lload 4, 2) := by decide +kernel
theorem d_Mo_turn_145 : decode b_Mo_turn 145 = .ok (.lconst 0, 1) := by decide +kernel
theorem d_Mo_turn_146 : decode b_Mo_turn 146 = .ok (.lcmp, 1) := by decide +kernel
theorem d_Mo_turn_147 : decode b_Mo_turn 147 = .ok (.ifCond .ge 22, 3) := by decide +kernel
theorem d_Mo_turn_150 : decode b_Mo_turn 150 = .ok (.lload 6, 2) := by decide +kernel
theorem d_Mo_turn_152 : decode b_Mo_turn 152 = .ok (.lload 4, 2) := by decide +kernel
theorem d_Mo_turn_154 : decode b_Mo_turn 154 = .ok (.invokestatic 39, 3) := by decide +kernel
theorem d_Mo_turn_157 : decode b_Mo_turn 157 = .ok (.lcmp, 1) := by decide +kernel
theorem d_Mo_turn_158 : decode b_Mo_turn 158 = .ok (.ifCond .ge 11, 3) := by decide +kernel
theorem d_Mo_turn_161 : decode b_Mo_turn 161 = .ok (.lload 6, 2) := by decide +kernel
theorem d_Mo_turn_163 : decode b_Mo_turn 163 = .ok (.ldc2_w 33, 3) := by decide +kernel
theorem d_Mo_turn_166 : decode b_Mo_turn 166 = .ok (.ladd, 1) := by decide +kernel
theorem d_Mo_turn_167 : decode b_Mo_turn 167 = .ok (.lstore 6, 2) := by decide +kernel
theorem d_Mo_turn_169 : decode b_Mo_turn 169 = .ok (.aload_n 0, 1) := by decide +kernel
theorem d_Mo_turn_170 : decode b_Mo_turn 170 = .ok (.iload_n 1, 1) := by decide +kernel
theorem d_Mo_turn_171 : decode b_Mo_turn 171 = .ok (.lload 4, 2) := by decide +kernel
theorem d_Mo_turn_173 : decode b_Mo_turn 173 = .ok (.lconst 0, 1) := by decide +kernel
theorem d_Mo_turn_174 : decode b_Mo_turn 174 = .ok (.lcmp, 1) := by decide +kernel
theorem d_Mo_turn_175 : decode b_Mo_turn 175 = .ok (.ifCond .ge 7, 3) := by decide +kernel
theorem d_Mo_turn_178 : decode b_Mo_turn 178 = .ok (.iconst 1, 1) := by decide +kernel
theorem d_Mo_turn_179 : decode b_Mo_turn 179 = .ok (.goto 4, 3) := by decide +kernel
theorem d_Mo_turn_182 : decode b_Mo_turn 182 = .ok (.iconst 0, 1) := by decide +kernel
theorem d_Mo_turn_183 : decode b_Mo_turn 183 = .ok (.lload 6, 2) := by decide +kernel
theorem d_Mo_turn_185 : decode b_Mo_turn 185 = .ok (.iconst 2, 1) := by decide +kernel
theorem d_Mo_turn_186 : decode b_Mo_turn 186 = .ok (.invokevirtual 43, 3) := by decide +kernel
theorem d_Mo_turn_189 : decode b_Mo_turn 189 = .ok (.lreturn, 1) := by decide +kernel
theorem d_Mo_round_0 : decode b_Mo_round 0 = .ok (.aload_n 0, 1) := by decide +kernel
theorem d_Mo_round_1 : decode b_Mo_round 1 = .ok (.iconst 0, 1) := by decide +kernel
theorem d_Mo_round_2 : decode b_Mo_round 2 = .ok (.putfield 17, 3) := by decide +kernel
theorem d_Mo_round_5 : decode b_Mo_round 5 = .ok (.aload_n 0, 1) := by decide +kernel
theorem d_Mo_round_6 : decode b_Mo_round 6 = .ok (.iload_n 1, 1) := by decide +kernel
theorem d_Mo_round_7 : decode b_Mo_round 7 = .ok (.invokevirtual 21, 3) := by decide +kernel
theorem d_Mo_round_10 : decode b_Mo_round 10 = .ok (.ifCond .ne 22, 3) := by decide +kernel
theorem d_Mo_round_13 : decode b_Mo_round 13 = .ok (.aload_n 0, 1) := by decide +kernel
theorem d_Mo_round_14 : decode b_Mo_round 14 = .ok (.iload_n 2, 1) := by decide +kernel
theorem d_Mo_round_15 : decode b_Mo_round 15 = .ok (.invokevirtual 21, 3) := by decide +kernel
theorem d_Mo_round_18 : decode b_Mo_round 18 = .ok (.ifCond .ne 14, 3) := by decide +kernel
theorem d_Mo_round_21 : decode b_Mo_round 21 = .ok (.iload_n 3, 1) := by decide +kernel
theorem d_Mo_round_22 : decode b_Mo_round 22 = .ok (.bipush (-9), 2) := by decide +kernel
theorem d_Mo_round_24 : decode b_Mo_round 24 = .ok (.if_icmp .lt 8, 3) := by decide +kernel
theorem d_Mo_round_27 : decode b_Mo_round 27 = .ok (.iload_n 3, 1) := by decide +kernel
theorem d_Mo_round_28 : decode b_Mo_round 28 = .ok (.iconst 4, 1) := by decide +kernel
theorem d_Mo_round_29 : decode b_Mo_round 29 = .ok (.if_icmp .le 10, 3) := by decide +kernel
theorem d_Mo_round_32 : decode b_Mo_round 32 = .ok (.aload_n 0, 1) := by decide +kernel
theorem d_Mo_round_33 : decode b_Mo_round 33 = .ok (.iconst 1, 1) := by decide +kernel
theorem d_Mo_round_34 : decode b_Mo_round 34 = .ok (.invokevirtual 29, 3) := by decide +kernel
theorem d_Mo_round_37 : decode b_Mo_round 37 = .ok (.i2l, 1) := by decide +kernel
theorem d_Mo_round_38 : decode b_Mo_round 38 = .ok (.lreturn, 1) := by decide +kernel
theorem d_Mo_round_39 : decode b_Mo_round 39 = .ok (.lconst 1, 1) := by decide +kernel
theorem d_Mo_round_40 : decode b_Mo_round 40 = .ok (.lstore 4, 2) := by decide +kernel
theorem d_Mo_round_42 : decode b_Mo_round 42 = .ok (.iload_n 3, 1) := by decide +kernel
theorem d_Mo_round_43 : decode b_Mo_round 43 = .ok (.istore 6, 2) := by decide +kernel
theorem d_Mo_round_45 : decode b_Mo_round 45 = .ok (.iload 6, 2) := by decide +kernel
theorem d_Mo_round_47 : decode b_Mo_round 47 = .ok (.iconst 4, 1) := by decide +kernel
theorem d_Mo_round_48 : decode b_Mo_round 48 = .ok (.if_icmp .ge 17, 3) := by decide +kernel
theorem d_Mo_round_51 : decode b_Mo_round 51 = .ok (.lload 4, 2) := by decide +kernel
theorem d_Mo_round_53 : decode b_Mo_round 53 = .ok (.ldc2_w 58, 3) := by decide +kernel
theorem d_Mo_round_56 : decode b_Mo_round 56 = .ok (.lmul, 1) := by decide +kernel
theorem d_Mo_round_57 : decode b_Mo_round 57 = .ok (.lstore 4, 2) := by decide +kernel
theorem d_Mo_round_59 : decode b_Mo_round 59 = .ok (.iinc 6 1, 3) := by decide +kernel
theorem d_Mo_round_62 : decode b_Mo_round 62 = .ok (.goto (-17), 3) := by decide +kernel
theorem d_Mo_round_65 : decode b_Mo_round 65 = .ok (.aload_n 0, 1) := by decide +kernel
theorem d_Mo_round_66 : decode b_Mo_round 66 = .ok (.getfield 7, 3) := by decide +kernel
theorem d_Mo_round_69 : decode b_Mo_round 69 = .ok (.iload_n 2, 1) := by decide +kernel
theorem d_Mo_round_70 : decode b_Mo_round 70 = .ok (.laload, 1) := by decide +kernel
theorem d_Mo_round_71 : decode b_Mo_round 71 = .ok (.lstore 6, 2) := by decide +kernel
theorem d_Mo_round_73 : decode b_Mo_round 73 = .ok (.lload 6, 2) := by decide +kernel
theorem d_Mo_round_75 : decode b_Mo_round 75 = .ok (.invokestatic 39, 3) := by decide +kernel
theorem d_Mo_round_78 : decode b_Mo_round 78 = .ok (.lload 4, 2) := by decide +kernel
theorem d_Mo_round_80 : decode b_Mo_round 80 = .ok (.ldiv, 1) := by decide +kernel
theorem d_Mo_round_81 : decode b_Mo_round 81 = .ok (.lload 4, 2) := by decide +kernel
theorem d_Mo_round_83 : decode b_Mo_round 83 = .ok (.lmul, 1) := by decide +kernel
theorem d_Mo_round_84 : decode b_Mo_round 84 = .ok (.lstore 8, 2) := by decide +kernel
theorem d_Mo_round_86 : decode b_Mo_round 86 = .ok (.lload 6, 2) := by decide +kernel
theorem d_Mo_round_88 : decode b_Mo_round 88 = .ok (.invokestatic 39, 3) := by decide +kernel
theorem d_Mo_round_91 : decode b_Mo_round 91 = .ok (.lload 8, 2) := by decide +kernel
theorem d_Mo_round_93 : decode b_Mo_round 93 = .ok (.lsub, 1) := by decide +kernel
theorem d_Mo_round_94 : decode b_Mo_round 94 = .ok (.lstore 10, 2) := by decide +kernel
theorem d_Mo_round_96 : decode b_Mo_round 96 = .ok (.lload 10, 2) := by decide +kernel
theorem d_Mo_round_98 : decode b_Mo_round 98 = .ok (.lload 4, 2) := by decide +kernel
theorem d_Mo_round_100 : decode b_Mo_round 100 = .ok (.lload 10, 2) := by decide +kernel
theorem d_Mo_round_102 : decode b_Mo_round 102 = .ok (.lsub, 1) := by decide +kernel
theorem d_Mo_round_103 : decode b_Mo_round 103 = .ok (.lcmp, 1) := by decide +kernel
theorem d_Mo_round_104 : decode b_Mo_round 104 = .ok (.ifCond .lt 10, 3) := by decide +kernel
theorem d_Mo_round_107 : decode b_Mo_round 107 = .ok (.lload 8, 2) := by decide +kernel
theorem d_Mo_round_109 : decode b_Mo_round 109 = .ok (.lload 4, 2) := by decide +kernel
theorem d_Mo_round_111 : decode b_Mo_round 111 = .ok (.ladd, 1) := by decide +kernel
theorem d_Mo_round_112 : decode b_Mo_round 112 = .ok (.lstore 8, 2) := by decide +kernel
theorem d_Mo_round_114 : decode b_Mo_round 114 = .ok (.aload_n 0, 1) := by decide +kernel
theorem d_Mo_round_115 : decode b_Mo_round 115 = .ok (.iload_n 1, 1) := by decide +kernel
theorem d_Mo_round_116 : decode b_Mo_round 116 = .ok (.lload 6, 2) := by decide +kernel
theorem d_Mo_round_118 : decode b_Mo_round 118 = .ok (.lconst 0, 1) := by decide +kernel
theorem d_Mo_round_119 : decode b_Mo_round 119 = .ok (.lcmp, 1) := by decide +kernel
theorem d_Mo_round_120 : decode b_Mo_round 120 = .ok (.ifCond .ge 7, 3) := by decide +kernel
theorem d_Mo_round_123 : decode b_Mo_round 123 = .ok (.iconst 1, 1) := by decide +kernel
theorem d_Mo_round_124 : decode b_Mo_round 124 = .ok (.goto 4, 3) := by decide +kernel
theorem d_Mo_round_127 : decode b_Mo_round 127 = .ok (.iconst 0, 1) := by decide +kernel
theorem d_Mo_round_128 : decode b_Mo_round 128 = .ok (.lload 8, 2) := by decide +kernel
theorem d_Mo_round_130 : decode b_Mo_round 130 = .ok (.iconst 2, 1) := by decide +kernel
theorem d_Mo_round_131 : decode b_Mo_round 131 = .ok (.invokevirtual 43, 3) := by decide +kernel
theorem d_Mo_round_134 : decode b_Mo_round 134 = .ok (.lreturn, 1) := by decide +kernel
theorem d_Mo_print_0 : decode b_Mo_print 0 = .ok (.aload_n 0, 1) := by decide +kernel
theorem d_Mo_print_1 : decode b_Mo_print 1 = .ok (.iconst 0, 1) := by decide +kernel
theorem d_Mo_print_2 : decode b_Mo_print 2 = .ok (.putfield 17, 3) := by decide +kernel
theorem d_Mo_print_5 : decode b_Mo_print 5 = .ok (.aload_n 0, 1) := by decide +kernel
theorem d_Mo_print_6 : decode b_Mo_print 6 = .ok (.iload_n 1, 1) := by decide +kernel
theorem d_Mo_print_7 : decode b_Mo_print 7 = .ok (.invokevirtual 21, 3) := by decide +kernel
theorem d_Mo_print_10 : decode b_Mo_print 10 = .ok (.ifCond .ne 7, 3) := by decide +kernel
theorem d_Mo_print_13 : decode b_Mo_print 13 = .ok (.iload_n 2, 1) := by decide +kernel
theorem d_Mo_print_14 : decode b_Mo_print 14 = .ok (.ifCond .ge 9, 3) := by decide +kernel
theorem d_Mo_print_17 : decode b_Mo_print 17 = .ok (.aload_n 0, 1) := by decide +kernel
theorem d_Mo_print_18 : decode b_Mo_print 18 = .ok (.iconst 1, 1) := by decide +kernel
theorem d_Mo_print_19 : decode b_Mo_print 19 = .ok (.invokevirtual 29, 3) := by decide +kernel
theorem d_Mo_print_22 : decode b_Mo_print 22 = .ok (.ireturn, 1) := by decide +kernel
theorem d_Mo_print_23 : decode b_Mo_print 23 = .ok (.iconst 0, 1) := by decide +kernel
theorem d_Mo_print_24 : decode b_Mo_print 24 = .ok (.istore_n 3, 1) := by decide +kernel
theorem d_Mo_print_25 : decode b_Mo_print 25 = .ok (.aload_n 0, 1) := by decide +kernel
theorem d_Mo_print_26 : decode b_Mo_print 26 = .ok (.getfield 7, 3) := by decide +kernel
theorem d_Mo_print_29 : decode b_Mo_print 29 = .ok (.iload_n 1, 1) := by decide +kernel
theorem d_Mo_print_30 : decode b_Mo_print 30 = .ok (.laload, 1) := by decide +kernel
theorem d_Mo_print_31 : decode b_Mo_print 31 = .ok (.invokestatic 39, 3) := by decide +kernel
theorem d_Mo_print_34 : decode b_Mo_print 34 = .ok (.lstore 4, 2) := by decide +kernel
theorem d_Mo_print_36 : decode b_Mo_print 36 = .ok (.aload_n 0, 1) := by decide +kernel
theorem d_Mo_print_37 : decode b_Mo_print 37 = .ok (.getfield 7, 3) := by decide +kernel
theorem d_Mo_print_40 : decode b_Mo_print 40 = .ok (.iload_n 1, 1) := by decide +kernel
theorem d_Mo_print_41 : decode b_Mo_print 41 = .ok (.laload, 1) := by decide +kernel
theorem d_Mo_print_42 : decode b_Mo_print 42 = .ok (.lconst 0, 1) := by decide +kernel
theorem d_Mo_print_43 : decode b_Mo_print 43 = .ok (.lcmp, 1) := by decide +kernel
theorem d_Mo_print_44 : decode b_Mo_print 44 = .ok (.ifCond .ge 14, 3) := by decide +kernel
theorem d_Mo_print_47 : decode b_Mo_print 47 = .ok (.aload_n 0, 1) := by decide +kernel
theorem d_Mo_print_48 : decode b_Mo_print 48 = .ok (.getfield 13, 3) := by decide +kernel
theorem d_Mo_print_51 : decode b_Mo_print 51 = .ok (.iload_n 3, 1) := by decide +kernel
theorem d_Mo_print_52 : decode b_Mo_print 52 = .ok (.iinc 3 1, 3) := by decide +kernel
theorem d_Mo_print_55 : decode b_Mo_print 55 = .ok (.bipush 45, 2) := by decide +kernel
theorem d_Mo_print_57 : decode b_Mo_print 57 = .ok (.iastore, 1) := by decide +kernel
theorem d_Mo_print_58 : decode b_Mo_print 58 = .ok (.lconst 1, 1) := by decide +kernel
theorem d_Mo_print_59 : decode b_Mo_print 59 = .ok (.lstore 6, 2) := by decide +kernel
theorem d_Mo_print_61 : decode b_Mo_print 61 = .ok (.lload 4, 2) := by decide +kernel
theorem d_Mo_print_63 : decode b_Mo_print 63 = .ok (.ldc2_w 33, 3) := by decide +kernel
theorem d_Mo_print_66 : decode b_Mo_print 66 = .ok (.ldiv, 1) := by decide +kernel
theorem d_Mo_print_67 : decode b_Mo_print 67 = .ok (.lload 6, 2) := by decide +kernel
theorem d_Mo_print_69 : decode b_Mo_print 69 = .ok (.ldiv, 1) := by decide +kernel
theorem d_Mo_print_70 : decode b_Mo_print 70 = .ok (.ldc2_w 60, 3) := by decide +kernel
theorem d_Mo_print_73 : decode b_Mo_print 73 = .ok (.lcmp, 1) := by decide +kernel
theorem d_Mo_print_74 : decode b_Mo_print 74 = .ok (.ifCond .le 14, 3) := by decide +kernel
theorem d_Mo_print_77 : decode b_Mo_print 77 = .ok (.lload 6, 2) := by decide +kernel
theorem d_Mo_print_79 : decode b_Mo_print 79 = .ok (.ldc2_w 58, 3) := by decide +kernel
theorem d_Mo_print_82 : decode b_Mo_print 82 = .ok (.lmul, 1) := by decide +kernel
theorem d_Mo_print_83 : decode b_Mo_print 83 = .ok (.lstore 6, 2) := by decide +kernel
theorem d_Mo_print_85 : decode b_Mo_print 85 = .ok (.goto (-24), 3) := by decide +kernel
theorem d_Mo_print_88 : decode b_Mo_print 88 = .ok (.lload 6, 2) := by decide +kernel
theorem d_Mo_print_90 : decode b_Mo_print 90 = .ok (.lconst 0, 1) := by decide +kernel
theorem d_Mo_print_91 : decode b_Mo_print 91 = .ok (.lcmp, 1) := by decide +kernel
theorem d_Mo_print_92 : decode b_Mo_print 92 = .ok (.ifCond .le 41, 3) := by decide +kernel
theorem d_Mo_print_95 : decode b_Mo_print 95 = .ok (.aload_n 0, 1) := by decide +kernel
theorem d_Mo_print_96 : decode b_Mo_print 96 = .ok (.getfield 13, 3) := by decide +kernel
theorem d_Mo_print_99 : decode b_Mo_print 99 = .ok (.iload_n 3, 1) := by decide +kernel
theorem d_Mo_print_100 : decode b_Mo_print 100 = .ok (.iinc 3 1, 3) := by decide +kernel
theorem d_Mo_print_103 : decode b_Mo_print 103 = .ok (.ldc2_w 62, 3) := by decide +kernel
theorem d_Mo_print_106 : decode b_Mo_print 106 = .ok (.lload 4, 2) := by decide +kernel
theorem d_Mo_print_108 : decode b_Mo_print 108 = .ok (.ldc2_w 33, 3) := by decide +kernel
theorem d_Mo_print_111 : decode b_Mo_print 111 = .ok (.ldiv, 1) := by decide +kernel
theorem d_Mo_print_112 : decode b_Mo_print 112 = .ok (.lload 6, 2) := by decide +kernel
theorem d_Mo_print_114 : decode b_Mo_print 114 = .ok (.ldiv, 1) := by decide +kernel
theorem d_Mo_print_115 : decode b_Mo_print 115 = .ok (.ldc2_w 58, 3) := by decide +kernel
theorem d_Mo_print_118 : decode b_Mo_print 118 = .ok (.lrem, 1) := by decide +kernel
theorem d_Mo_print_119 : decode b_Mo_print 119 = .ok (.ladd, 1) := by decide +kernel
theorem d_Mo_print_120 : decode b_Mo_print 120 = .ok (.l2i, 1) := by decide +kernel
theorem d_Mo_print_121 : decode b_Mo_print 121 = .ok (.iastore, 1) := by decide +kernel
theorem d_Mo_print_122 : decode b_Mo_print 122 = .ok (.lload 6, 2) := by decide +kernel
theorem d_Mo_print_124 : decode b_Mo_print 124 = .ok (.ldc2_w 58, 3) := by decide +kernel
theorem d_Mo_print_127 : decode b_Mo_print 127 = .ok (.ldiv, 1) := by decide +kernel
theorem d_Mo_print_128 : decode b_Mo_print 128 = .ok (.lstore 6, 2) := by decide +kernel
theorem d_Mo_print_130 : decode b_Mo_print 130 = .ok (.goto (-42), 3) := by decide +kernel
theorem d_Mo_print_133 : decode b_Mo_print 133 = .ok (.lload 4, 2) := by decide +kernel
theorem d_Mo_print_135 : decode b_Mo_print 135 = .ok (.ldc2_w 33, 3) := by decide +kernel
theorem d_Mo_print_138 : decode b_Mo_print 138 = .ok (.lrem, 1) := by decide +kernel
theorem d_Mo_print_139 : decode b_Mo_print 139 = .ok (.lstore 8, 2) := by decide +kernel
theorem d_Mo_print_141 : decode b_Mo_print 141 = .ok (.lload 8, 2) := by decide +kernel
theorem d_Mo_print_143 : decode b_Mo_print 143 = .ok (.lconst 0, 1) := by decide +kernel
theorem d_Mo_print_144 : decode b_Mo_print 144 = .ok (.lcmp, 1) := by decide +kernel
theorem d_Mo_print_145 : decode b_Mo_print 145 = .ok (.ifCond .le 14, 3) := by decide +kernel
theorem d_Mo_print_148 : decode b_Mo_print 148 = .ok (.aload_n 0, 1) := by decide +kernel
theorem d_Mo_print_149 : decode b_Mo_print 149 = .ok (.getfield 13, 3) := by decide +kernel
theorem d_Mo_print_152 : decode b_Mo_print 152 = .ok (.iload_n 3, 1) := by decide +kernel
theorem d_Mo_print_153 : decode b_Mo_print 153 = .ok (.iinc 3 1, 3) := by decide +kernel
theorem d_Mo_print_156 : decode b_Mo_print 156 = .ok (.bipush 46, 2) := by decide +kernel
theorem d_Mo_print_158 : decode b_Mo_print 158 = .ok (.iastore, 1) := by decide +kernel
theorem d_Mo_print_159 : decode b_Mo_print 159 = .ok (.ldc2_w 64, 3) := by decide +kernel
theorem d_Mo_print_162 : decode b_Mo_print 162 = .ok (.lstore 10, 2) := by decide +kernel
theorem d_Mo_print_164 : decode b_Mo_print 164 = .ok (.lload 8, 2) := by decide +kernel
theorem d_Mo_print_166 : decode b_Mo_print 166 = .ok (.lconst 0, 1) := by decide +kernel
theorem d_Mo_print_167 : decode b_Mo_print 167 = .ok (.lcmp, 1) := by decide +kernel
theorem d_Mo_print_168 : decode b_Mo_print 168 = .ok (.ifCond .le 40, 3) := by decide +kernel
theorem d_Mo_print_171 : decode b_Mo_print 171 = .ok (.aload_n 0, 1) := by decide +kernel
theorem d_Mo_print_172 : decode b_Mo_print 172 = .ok (.getfield 13, 3) := by decide +kernel
theorem d_Mo_print_175 : decode b_Mo_print 175 = .ok (.iload_n 3, 1) := by decide +kernel
theorem d_Mo_print_176 : decode b_Mo_print 176 = .ok (.iinc 3 1, 3) := by decide +kernel
theorem d_Mo_print_179 : decode b_Mo_print 179 = .ok (.ldc2_w 62, 3) := by decide +kernel
theorem d_Mo_print_182 : decode b_Mo_print 182 = .ok (.lload 8, 2) := by decide +kernel
theorem d_Mo_print_184 : decode b_Mo_print 184 = .ok (.lload 10, 2) := by decide +kernel
theorem d_Mo_print_186 : decode b_Mo_print 186 = .ok (.ldiv, 1) := by decide +kernel
theorem d_Mo_print_187 : decode b_Mo_print 187 = .ok (.ladd, 1) := by decide +kernel
theorem d_Mo_print_188 : decode b_Mo_print 188 = .ok (.l2i, 1) := by decide +kernel
theorem d_Mo_print_189 : decode b_Mo_print 189 = .ok (.iastore, 1) := by decide +kernel
theorem d_Mo_print_190 : decode b_Mo_print 190 = .ok (.lload 8, 2) := by decide +kernel
theorem d_Mo_print_192 : decode b_Mo_print 192 = .ok (.lload 10, 2) := by decide +kernel
theorem d_Mo_print_194 : decode b_Mo_print 194 = .ok (.lrem, 1) := by decide +kernel
theorem d_Mo_print_195 : decode b_Mo_print 195 = .ok (.lstore 8, 2) := by decide +kernel
theorem d_Mo_print_197 : decode b_Mo_print 197 = .ok (.lload 10, 2) := by decide +kernel
theorem d_Mo_print_199 : decode b_Mo_print 199 = .ok (.ldc2_w 58, 3) := by decide +kernel
theorem d_Mo_print_202 : decode b_Mo_print 202 = .ok (.ldiv, 1) := by decide +kernel
theorem d_Mo_print_203 : decode b_Mo_print 203 = .ok (.lstore 10, 2) := by decide +kernel
theorem d_Mo_print_205 : decode b_Mo_print 205 = .ok (.goto (-41), 3) := by decide +kernel
theorem d_Mo_print_208 : decode b_Mo_print 208 = .ok (.iload_n 2, 1) := by decide +kernel
theorem d_Mo_print_209 : decode b_Mo_print 209 = .ok (.iload_n 3, 1) := by decide +kernel
theorem d_Mo_print_210 : decode b_Mo_print 210 = .ok (.if_icmp .ge 12, 3) := by decide +kernel
theorem d_Mo_print_213 : decode b_Mo_print 213 = .ok (.aload_n 0, 1) := by decide +kernel
theorem d_Mo_print_214 : decode b_Mo_print 214 = .ok (.getfield 13, 3) := by decide +kernel
theorem d_Mo_print_217 : decode b_Mo_print 217 = .ok (.iload_n 2, 1) := by decide +kernel
theorem d_Mo_print_218 : decode b_Mo_print 218 = .ok (.iaload, 1) := by decide +kernel
theorem d_Mo_print_219 : decode b_Mo_print 219 = .ok (.goto 4, 3) := by decide +kernel
theorem d_Mo_print_222 : decode b_Mo_print 222 = .ok (.iconst (-1), 1) := by decide +kernel
theorem d_Mo_print_223 : decode b_Mo_print 223 = .ok (.ireturn, 1) := by decide +kernel
theorem d_Mo_average_0 : decode b_Mo_average 0 = .ok (.aload_n 0, 1) := by decide +kernel
theorem d_Mo_average_1 : decode b_Mo_average 1 = .ok (.iconst 0, 1) := by decide +kernel
theorem d_Mo_average_2 : decode b_Mo_average 2 = .ok (.putfield 17, 3) := by decide +kernel
theorem d_Mo_average_5 : decode b_Mo_average 5 = .ok (.iload_n 1, 1) := by decide +kernel
theorem d_Mo_average_6 : decode b_Mo_average 6 = .ok (.iconst 1, 1) := by decide +kernel
theorem d_Mo_average_7 : decode b_Mo_average 7 = .ok (.if_icmp .lt 9, 3) := by decide +kernel
theorem d_Mo_average_10 : decode b_Mo_average 10 = .ok (.iload_n 1, 1) := by decide +kernel
theorem d_Mo_average_11 : decode b_Mo_average 11 = .ok (.bipush 8, 2) := by decide +kernel
theorem d_Mo_average_13 : decode b_Mo_average 13 = .ok (.if_icmp .le 10, 3) := by decide +kernel
theorem d_Mo_average_16 : decode b_Mo_average 16 = .ok (.aload_n 0, 1) := by decide +kernel
theorem d_Mo_average_17 : decode b_Mo_average 17 = .ok (.iconst 1, 1) := by decide +kernel
theorem d_Mo_average_18 : decode b_Mo_average 18 = .ok (.invokevirtual 29, 3) := by decide +kernel
theorem d_Mo_average_21 : decode b_Mo_average 21 = .ok (.i2l, 1) := by decide +kernel
theorem d_Mo_average_22 : decode b_Mo_average 22 = .ok (.lreturn, 1) := by decide +kernel
theorem d_Mo_average_23 : decode b_Mo_average 23 = .ok (.lconst 0, 1) := by decide +kernel
theorem d_Mo_average_24 : decode b_Mo_average 24 = .ok (.lstore_n 2, 1) := by decide +kernel
theorem d_Mo_average_25 : decode b_Mo_average 25 = .ok (.iconst 0, 1) := by decide +kernel
theorem d_Mo_average_26 : decode b_Mo_average 26 = .ok (.istore 4, 2) := by decide +kernel
theorem d_Mo_average_28 : decode b_Mo_average 28 = .ok (.iload 4, 2) := by decide +kernel
theorem d_Mo_average_30 : decode b_Mo_average 30 = .ok (.iload_n 1, 1) := by decide +kernel
theorem d_Mo_average_31 : decode b_Mo_average 31 = .ok (.if_icmp .ge 37, 3) := by decide +kernel
theorem d_Mo_average_34 : decode b_Mo_average 34 = .ok (.lload_n 2, 1) := by decide +kernel
theorem d_Mo_average_35 : decode b_Mo_average 35 = .ok (.aload_n 0, 1) := by decide +kernel
theorem d_Mo_average_36 : decode b_Mo_average 36 = .ok (.getfield 7, 3) := by decide +kernel
theorem d_Mo_average_39 : decode b_Mo_average 39 = .ok (.iload 4, 2) := by decide +kernel
theorem d_Mo_average_41 : decode b_Mo_average 41 = .ok (.laload, 1) := by decide +kernel
theorem d_Mo_average_42 : decode b_Mo_average 42 = .ok (.ladd, 1) := by decide +kernel
theorem d_Mo_average_43 : decode b_Mo_average 43 = .ok (.lstore_n 2, 1) := by decide +kernel
theorem d_Mo_average_44 : decode b_Mo_average 44 = .ok (.lload_n 2, 1) := by decide +kernel
theorem d_Mo_average_45 : decode b_Mo_average 45 = .ok (.invokestatic 39, 3) := by decide +kernel
theorem d_Mo_average_48 : decode b_Mo_average 48 = .ok (.ldc2_w 27, 3) := by decide +kernel
theorem d_Mo_average_51 : decode b_Mo_average 51 = .ok (.lcmp, 1) := by decide +kernel
theorem d_Mo_average_52 : decode b_Mo_average 52 = .ok (.ifCond .le 10, 3) := by decide +kernel
theorem d_Mo_average_55 : decode b_Mo_average 55 = .ok (.aload_n 0, 1) := by decide +kernel
theorem d_Mo_average_56 : decode b_Mo_average 56 = .ok (.iconst 2, 1) := by decide +kernel
theorem d_Mo_average_57 : decode b_Mo_average 57 = .ok (.invokevirtual 29, 3) := by decide +kernel
theorem d_Mo_average_60 : decode b_Mo_average 60 = .ok (.i2l, 1) := by decide +kernel
theorem d_Mo_average_61 : decode b_Mo_average 61 = .ok (.lreturn, 1) := by decide +kernel
theorem d_Mo_average_62 : decode b_Mo_average 62 = .ok (.iinc 4 1, 3) := by decide +kernel
theorem d_Mo_average_65 : decode b_Mo_average 65 = .ok (.goto (-37), 3) := by decide +kernel
theorem d_Mo_average_68 : decode b_Mo_average 68 = .ok (.aload_n 0, 1) := by decide +kernel
theorem d_Mo_average_69 : decode b_Mo_average 69 = .ok (.lload_n 2, 1) := by decide +kernel
theorem d_Mo_average_70 : decode b_Mo_average 70 = .ok (.invokestatic 39, 3) := by decide +kernel
theorem d_Mo_average_73 : decode b_Mo_average 73 = .ok (.ldc2_w 33, 3) := by decide +kernel
theorem d_Mo_average_76 : decode b_Mo_average 76 = .ok (.iload_n 1, 1) := by decide +kernel
theorem d_Mo_average_77 : decode b_Mo_average 77 = .ok (.i2l, 1) := by decide +kernel
theorem d_Mo_average_78 : decode b_Mo_average 78 = .ok (.lmul, 1) := by decide +kernel
theorem d_Mo_average_79 : decode b_Mo_average 79 = .ok (.invokevirtual 51, 3) := by decide +kernel
theorem d_Mo_average_82 : decode b_Mo_average 82 = .ok (.lstore 4, 2) := by decide +kernel
theorem d_Mo_average_84 : decode b_Mo_average 84 = .ok (.lload_n 2, 1) := by decide +kernel
theorem d_Mo_average_85 : decode b_Mo_average 85 = .ok (.lconst 0, 1) := by decide +kernel
theorem d_Mo_average_86 : decode b_Mo_average 86 = .ok (.lcmp, 1) := by decide +kernel
theorem d_Mo_average_87 : decode b_Mo_average 87 = .ok (.ifCond .ge 9, 3) := by decide +kernel
theorem d_Mo_average_90 : decode b_Mo_average 90 = .ok (.lload 4, 2) := by decide +kernel
theorem d_Mo_average_92 : decode b_Mo_average 92 = .ok (.lneg, 1) := by decide +kernel
theorem d_Mo_average_93 : decode b_Mo_average 93 = .ok (.goto 5, 3) := by decide +kernel
theorem d_Mo_average_96 : decode b_Mo_average 96 = .ok (.lload 4, 2) := by decide +kernel
theorem d_Mo_average_98 : decode b_Mo_average 98 = .ok (.lreturn, 1) := by decide +kernel
end
section
-- decode rows of the law, printed by gen/names.py
theorem d_La_law_0 : decode b_La_law 0 = .ok (.new 8, 3) := by decide +kernel
theorem d_La_law_3 : decode b_La_law 3 = .ok (.dup, 1) := by decide +kernel
theorem d_La_law_4 : decode b_La_law 4 = .ok (.invokespecial 41, 3) := by decide +kernel
theorem d_La_law_7 : decode b_La_law 7 = .ok (.astore_n 1, 1) := by decide +kernel
theorem d_La_law_8 : decode b_La_law 8 = .ok (.new 42, 3) := by decide +kernel
theorem d_La_law_11 : decode b_La_law 11 = .ok (.dup, 1) := by decide +kernel
theorem d_La_law_12 : decode b_La_law 12 = .ok (.invokespecial 44, 3) := by decide +kernel
theorem d_La_law_15 : decode b_La_law 15 = .ok (.astore_n 2, 1) := by decide +kernel
theorem d_La_law_16 : decode b_La_law 16 = .ok (.iconst 1, 1) := by decide +kernel
theorem d_La_law_17 : decode b_La_law 17 = .ok (.newarray .long, 2) := by decide +kernel
theorem d_La_law_19 : decode b_La_law 19 = .ok (.astore_n 3, 1) := by decide +kernel
theorem d_La_law_20 : decode b_La_law 20 = .ok (.iconst 0, 1) := by decide +kernel
theorem d_La_law_21 : decode b_La_law 21 = .ok (.istore 4, 2) := by decide +kernel
theorem d_La_law_23 : decode b_La_law 23 = .ok (.iload 4, 2) := by decide +kernel
theorem d_La_law_25 : decode b_La_law 25 = .ok (.aload_n 0, 1) := by decide +kernel
theorem d_La_law_26 : decode b_La_law 26 = .ok (.arraylength, 1) := by decide +kernel
theorem d_La_law_27 : decode b_La_law 27 = .ok (.iconst 5, 1) := by decide +kernel
theorem d_La_law_28 : decode b_La_law 28 = .ok (.isub, 1) := by decide +kernel
theorem d_La_law_29 : decode b_La_law 29 = .ok (.if_icmp .gt 583, 3) := by decide +kernel
theorem d_La_law_32 : decode b_La_law 32 = .ok (.aload_n 0, 1) := by decide +kernel
theorem d_La_law_33 : decode b_La_law 33 = .ok (.iload 4, 2) := by decide +kernel
theorem d_La_law_35 : decode b_La_law 35 = .ok (.iaload, 1) := by decide +kernel
theorem d_La_law_36 : decode b_La_law 36 = .ok (.bipush 7, 2) := by decide +kernel
theorem d_La_law_38 : decode b_La_law 38 = .ok (.iand, 1) := by decide +kernel
theorem d_La_law_39 : decode b_La_law 39 = .ok (.tableswitch 567 0 6 #[41, 140, 195, 286, 365, 444, 512], 41) := by decide +kernel
theorem d_La_law_80 : decode b_La_law 80 = .ok (.aload_n 1, 1) := by decide +kernel
theorem d_La_law_81 : decode b_La_law 81 = .ok (.aload_n 0, 1) := by decide +kernel
theorem d_La_law_82 : decode b_La_law 82 = .ok (.iload 4, 2) := by decide +kernel
theorem d_La_law_84 : decode b_La_law 84 = .ok (.iconst 1, 1) := by decide +kernel
theorem d_La_law_85 : decode b_La_law 85 = .ok (.iadd, 1) := by decide +kernel
theorem d_La_law_86 : decode b_La_law 86 = .ok (.iaload, 1) := by decide +kernel
theorem d_La_law_87 : decode b_La_law 87 = .ok (.aload_n 0, 1) := by decide +kernel
theorem d_La_law_88 : decode b_La_law 88 = .ok (.iload 4, 2) := by decide +kernel
theorem d_La_law_90 : decode b_La_law 90 = .ok (.iconst 2, 1) := by decide +kernel
theorem d_La_law_91 : decode b_La_law 91 = .ok (.iadd, 1) := by decide +kernel
theorem d_La_law_92 : decode b_La_law 92 = .ok (.iaload, 1) := by decide +kernel
theorem d_La_law_93 : decode b_La_law 93 = .ok (.i2l, 1) := by decide +kernel
theorem d_La_law_94 : decode b_La_law 94 = .ok (.bipush 32, 2) := by decide +kernel
theorem d_La_law_96 : decode b_La_law 96 = .ok (.lshl, 1) := by decide +kernel
theorem d_La_law_97 : decode b_La_law 97 = .ok (.aload_n 0, 1) := by decide +kernel
theorem d_La_law_98 : decode b_La_law 98 = .ok (.iload 4, 2) := by decide +kernel
theorem d_La_law_100 : decode b_La_law 100 = .ok (.iconst 3, 1) := by decide +kernel
theorem d_La_law_101 : decode b_La_law 101 = .ok (.iadd, 1) := by decide +kernel
theorem d_La_law_102 : decode b_La_law 102 = .ok (.iaload, 1) := by decide +kernel
theorem d_La_law_103 : decode b_La_law 103 = .ok (.i2l, 1) := by decide +kernel
theorem d_La_law_104 : decode b_La_law 104 = .ok (.ldc2_w 45, 3) := by decide +kernel
theorem d_La_law_107 : decode b_La_law 107 = .ok (.land, 1) := by decide +kernel
theorem d_La_law_108 : decode b_La_law 108 = .ok (.lor, 1) := by decide +kernel
theorem d_La_law_109 : decode b_La_law 109 = .ok (.aload_n 3, 1) := by decide +kernel
theorem d_La_law_110 : decode b_La_law 110 = .ok (.invokestatic 47, 3) := by decide +kernel
theorem d_La_law_113 : decode b_La_law 113 = .ok (.istore 5, 2) := by decide +kernel
theorem d_La_law_115 : decode b_La_law 115 = .ok (.aload_n 2, 1) := by decide +kernel
theorem d_La_law_116 : decode b_La_law 116 = .ok (.aload_n 0, 1) := by decide +kernel
theorem d_La_law_117 : decode b_La_law 117 = .ok (.iload 4, 2) := by decide +kernel
theorem d_La_law_119 : decode b_La_law 119 = .ok (.iconst 1, 1) := by decide +kernel
theorem d_La_law_120 : decode b_La_law 120 = .ok (.iadd, 1) := by decide +kernel
theorem d_La_law_121 : decode b_La_law 121 = .ok (.iaload, 1) := by decide +kernel
theorem d_La_law_122 : decode b_La_law 122 = .ok (.aload_n 0, 1) := by decide +kernel
theorem d_La_law_123 : decode b_La_law 123 = .ok (.iload 4, 2) := by decide +kernel
theorem d_La_law_125 : decode b_La_law 125 = .ok (.iconst 2, 1) := by decide +kernel
theorem d_La_law_126 : decode b_La_law 126 = .ok (.iadd, 1) := by decide +kernel
theorem d_La_law_127 : decode b_La_law 127 = .ok (.iaload, 1) := by decide +kernel
theorem d_La_law_128 : decode b_La_law 128 = .ok (.i2l, 1) := by decide +kernel
theorem d_La_law_129 : decode b_La_law 129 = .ok (.bipush 32, 2) := by decide +kernel
theorem d_La_law_131 : decode b_La_law 131 = .ok (.lshl, 1) := by decide +kernel
theorem d_La_law_132 : decode b_La_law 132 = .ok (.aload_n 0, 1) := by decide +kernel
theorem d_La_law_133 : decode b_La_law 133 = .ok (.iload 4, 2) := by decide +kernel
theorem d_La_law_135 : decode b_La_law 135 = .ok (.iconst 3, 1) := by decide +kernel
theorem d_La_law_136 : decode b_La_law 136 = .ok (.iadd, 1) := by decide +kernel
theorem d_La_law_137 : decode b_La_law 137 = .ok (.iaload, 1) := by decide +kernel
theorem d_La_law_138 : decode b_La_law 138 = .ok (.i2l, 1) := by decide +kernel
theorem d_La_law_139 : decode b_La_law 139 = .ok (.ldc2_w 45, 3) := by decide +kernel
theorem d_La_law_142 : decode b_La_law 142 = .ok (.land, 1) := by decide +kernel
theorem d_La_law_143 : decode b_La_law 143 = .ok (.lor, 1) := by decide +kernel
theorem d_La_law_144 : decode b_La_law 144 = .ok (.invokevirtual 52, 3) := by decide +kernel
theorem d_La_law_147 : decode b_La_law 147 = .ok (.lstore 6, 2) := by decide +kernel
theorem d_La_law_149 : decode b_La_law 149 = .ok (.aload_n 2, 1) := by decide +kernel
theorem d_La_law_150 : decode b_La_law 150 = .ok (.invokevirtual 53, 3) := by decide +kernel
theorem d_La_law_153 : decode b_La_law 153 = .ok (.iload 5, 2) := by decide +kernel
theorem d_La_law_155 : decode b_La_law 155 = .ok (.if_icmp .eq 5, 3) := by decide +kernel
theorem d_La_law_158 : decode b_La_law 158 = .ok (.iconst 0, 1) := by decide +kernel
theorem d_La_law_159 : decode b_La_law 159 = .ok (.ireturn, 1) := by decide +kernel
theorem d_La_law_160 : decode b_La_law 160 = .ok (.iload 5, 2) := by decide +kernel
theorem d_La_law_162 : decode b_La_law 162 = .ok (.ifCond .ne 14, 3) := by decide +kernel
theorem d_La_law_165 : decode b_La_law 165 = .ok (.aload_n 3, 1) := by decide +kernel
theorem d_La_law_166 : decode b_La_law 166 = .ok (.iconst 0, 1) := by decide +kernel
theorem d_La_law_167 : decode b_La_law 167 = .ok (.laload, 1) := by decide +kernel
theorem d_La_law_168 : decode b_La_law 168 = .ok (.lload 6, 2) := by decide +kernel
theorem d_La_law_170 : decode b_La_law 170 = .ok (.lcmp, 1) := by decide +kernel
theorem d_La_law_171 : decode b_La_law 171 = .ok (.ifCond .eq 5, 3) := by decide +kernel
theorem d_La_law_174 : decode b_La_law 174 = .ok (.iconst 0, 1) := by decide +kernel
theorem d_La_law_175 : decode b_La_law 175 = .ok (.ireturn, 1) := by decide +kernel
theorem d_La_law_176 : decode b_La_law 176 = .ok (.goto 430, 3) := by decide +kernel
theorem d_La_law_179 : decode b_La_law 179 = .ok (.aload_n 1, 1) := by decide +kernel
theorem d_La_law_180 : decode b_La_law 180 = .ok (.aload_n 0, 1) := by decide +kernel
theorem d_La_law_181 : decode b_La_law 181 = .ok (.iload 4, 2) := by decide +kernel
theorem d_La_law_183 : decode b_La_law 183 = .ok (.iconst 1, 1) := by decide +kernel
theorem d_La_law_184 : decode b_La_law 184 = .ok (.iadd, 1) := by decide +kernel
theorem d_La_law_185 : decode b_La_law 185 = .ok (.iaload, 1) := by decide +kernel
theorem d_La_law_186 : decode b_La_law 186 = .ok (.aload_n 3, 1) := by decide +kernel
theorem d_La_law_187 : decode b_La_law 187 = .ok (.invokestatic 57, 3) := by decide +kernel
theorem d_La_law_190 : decode b_La_law 190 = .ok (.istore 5, 2) := by decide +kernel
theorem d_La_law_192 : decode b_La_law 192 = .ok (.aload_n 2, 1) := by decide +kernel
theorem d_La_law_193 : decode b_La_law 193 = .ok (.aload_n 0, 1) := by decide +kernel
theorem d_La_law_194 : decode b_La_law 194 = .ok (.iload 4, 2) := by decide +kernel
theorem d_La_law_196 : decode b_La_law 196 = .ok (.iconst 1, 1) := by decide +kernel
theorem d_La_law_197 : decode b_La_law 197 = .ok (.iadd, 1) := by decide +kernel
theorem d_La_law_198 : decode b_La_law 198 = .ok (.iaload, 1) := by decide +kernel
theorem d_La_law_199 : decode b_La_law 199 = .ok (.invokevirtual 60, 3) := by decide +kernel
theorem d_La_law_202 : decode b_La_law 202 = .ok (.lstore 6, 2) := by decide +kernel
theorem d_La_law_204 : decode b_La_law 204 = .ok (.aload_n 2, 1) := by decide +kernel
theorem d_La_law_205 : decode b_La_law 205 = .ok (.invokevirtual 53, 3) := by decide +kernel
theorem d_La_law_208 : decode b_La_law 208 = .ok (.iload 5, 2) := by decide +kernel
theorem d_La_law_210 : decode b_La_law 210 = .ok (.if_icmp .eq 5, 3) := by decide +kernel
theorem d_La_law_213 : decode b_La_law 213 = .ok (.iconst 0, 1) := by decide +kernel
theorem d_La_law_214 : decode b_La_law 214 = .ok (.ireturn, 1) := by decide +kernel
theorem d_La_law_215 : decode b_La_law 215 = .ok (.iload 5, 2) := by decide +kernel
theorem d_La_law_217 : decode b_La_law 217 = .ok (.ifCond .ne 14, 3) := by decide +kernel
theorem d_La_law_220 : decode b_La_law 220 = .ok (.aload_n 3, 1) := by decide +kernel
theorem d_La_law_221 : decode b_La_law 221 = .ok (.iconst 0, 1) := by decide +kernel
theorem d_La_law_222 : decode b_La_law 222 = .ok (.laload, 1) := by decide +kernel
theorem d_La_law_223 : decode b_La_law 223 = .ok (.lload 6, 2) := by decide +kernel
theorem d_La_law_225 : decode b_La_law 225 = .ok (.lcmp, 1) := by decide +kernel
theorem d_La_law_226 : decode b_La_law 226 = .ok (.ifCond .eq 5, 3) := by decide +kernel
theorem d_La_law_229 : decode b_La_law 229 = .ok (.iconst 0, 1) := by decide +kernel
theorem d_La_law_230 : decode b_La_law 230 = .ok (.ireturn, 1) := by decide +kernel
theorem d_La_law_231 : decode b_La_law 231 = .ok (.goto 375, 3) := by decide +kernel
theorem d_La_law_234 : decode b_La_law 234 = .ok (.aload_n 1, 1) := by decide +kernel
theorem d_La_law_235 : decode b_La_law 235 = .ok (.aload_n 0, 1) := by decide +kernel
theorem d_La_law_236 : decode b_La_law 236 = .ok (.iload 4, 2) := by decide +kernel
end
section
-- decode rows of the law, printed by gen/names.py
theorem d_La_law_238 : decode b_La_law 238 = .ok (.iconst 1, 1) := by decide +kernel
theorem d_La_law_239 : decode b_La_law 239 = .ok (.iadd, 1) := by decide +kernel
theorem d_La_law_240 : decode b_La_law 240 = .ok (.iaload, 1) := by decide +kernel
theorem d_La_law_241 : decode b_La_law 241 = .ok (.aload_n 0, 1) := by decide +kernel
theorem d_La_law_242 : decode b_La_law 242 = .ok (.iload 4, 2) := by decide +kernel
theorem d_La_law_244 : decode b_La_law 244 = .ok (.iconst 2, 1) := by decide +kernel
theorem d_La_law_245 : decode b_La_law 245 = .ok (.iadd, 1) := by decide +kernel
theorem d_La_law_246 : decode b_La_law 246 = .ok (.iaload, 1) := by decide +kernel
theorem d_La_law_247 : decode b_La_law 247 = .ok (.aload_n 0, 1) := by decide +kernel
theorem d_La_law_248 : decode b_La_law 248 = .ok (.iload 4, 2) := by decide +kernel
theorem d_La_law_250 : decode b_La_law 250 = .ok (.iconst 3, 1) := by decide +kernel
theorem d_La_law_251 : decode b_La_law 251 = .ok (.iadd, 1) := by decide +kernel
theorem d_La_law_252 : decode b_La_law 252 = .ok (.iaload, 1) := by decide +kernel
theorem d_La_law_253 : decode b_La_law 253 = .ok (.aload_n 0, 1) := by decide +kernel
theorem d_La_law_254 : decode b_La_law 254 = .ok (.iload 4, 2) := by decide +kernel
theorem d_La_law_256 : decode b_La_law 256 = .ok (.iconst 4, 1) := by decide +kernel
theorem d_La_law_257 : decode b_La_law 257 = .ok (.iadd, 1) := by decide +kernel
theorem d_La_law_258 : decode b_La_law 258 = .ok (.iaload, 1) := by decide +kernel
theorem d_La_law_259 : decode b_La_law 259 = .ok (.aload_n 3, 1) := by decide +kernel
theorem d_La_law_260 : decode b_La_law 260 = .ok (.invokestatic 61, 3) := by decide +kernel
theorem d_La_law_263 : decode b_La_law 263 = .ok (.istore 5, 2) := by decide +kernel
theorem d_La_law_265 : decode b_La_law 265 = .ok (.aload_n 2, 1) := by decide +kernel
theorem d_La_law_266 : decode b_La_law 266 = .ok (.aload_n 0, 1) := by decide +kernel
theorem d_La_law_267 : decode b_La_law 267 = .ok (.iload 4, 2) := by decide +kernel
theorem d_La_law_269 : decode b_La_law 269 = .ok (.iconst 1, 1) := by decide +kernel
theorem d_La_law_270 : decode b_La_law 270 = .ok (.iadd, 1) := by decide +kernel
theorem d_La_law_271 : decode b_La_law 271 = .ok (.iaload, 1) := by decide +kernel
theorem d_La_law_272 : decode b_La_law 272 = .ok (.aload_n 0, 1) := by decide +kernel
theorem d_La_law_273 : decode b_La_law 273 = .ok (.iload 4, 2) := by decide +kernel
theorem d_La_law_275 : decode b_La_law 275 = .ok (.iconst 2, 1) := by decide +kernel
theorem d_La_law_276 : decode b_La_law 276 = .ok (.iadd, 1) := by decide +kernel
theorem d_La_law_277 : decode b_La_law 277 = .ok (.iaload, 1) := by decide +kernel
theorem d_La_law_278 : decode b_La_law 278 = .ok (.aload_n 0, 1) := by decide +kernel
theorem d_La_law_279 : decode b_La_law 279 = .ok (.iload 4, 2) := by decide +kernel
theorem d_La_law_281 : decode b_La_law 281 = .ok (.iconst 3, 1) := by decide +kernel
theorem d_La_law_282 : decode b_La_law 282 = .ok (.iadd, 1) := by decide +kernel
theorem d_La_law_283 : decode b_La_law 283 = .ok (.iaload, 1) := by decide +kernel
theorem d_La_law_284 : decode b_La_law 284 = .ok (.aload_n 0, 1) := by decide +kernel
theorem d_La_law_285 : decode b_La_law 285 = .ok (.iload 4, 2) := by decide +kernel
theorem d_La_law_287 : decode b_La_law 287 = .ok (.iconst 4, 1) := by decide +kernel
theorem d_La_law_288 : decode b_La_law 288 = .ok (.iadd, 1) := by decide +kernel
theorem d_La_law_289 : decode b_La_law 289 = .ok (.iaload, 1) := by decide +kernel
theorem d_La_law_290 : decode b_La_law 290 = .ok (.invokevirtual 64, 3) := by decide +kernel
theorem d_La_law_293 : decode b_La_law 293 = .ok (.lstore 6, 2) := by decide +kernel
theorem d_La_law_295 : decode b_La_law 295 = .ok (.aload_n 2, 1) := by decide +kernel
theorem d_La_law_296 : decode b_La_law 296 = .ok (.invokevirtual 53, 3) := by decide +kernel
theorem d_La_law_299 : decode b_La_law 299 = .ok (.iload 5, 2) := by decide +kernel
theorem d_La_law_301 : decode b_La_law 301 = .ok (.if_icmp .eq 5, 3) := by decide +kernel
theorem d_La_law_304 : decode b_La_law 304 = .ok (.iconst 0, 1) := by decide +kernel
theorem d_La_law_305 : decode b_La_law 305 = .ok (.ireturn, 1) := by decide +kernel
theorem d_La_law_306 : decode b_La_law 306 = .ok (.iload 5, 2) := by decide +kernel
theorem d_La_law_308 : decode b_La_law 308 = .ok (.ifCond .ne 14, 3) := by decide +kernel
theorem d_La_law_311 : decode b_La_law 311 = .ok (.aload_n 3, 1) := by decide +kernel
theorem d_La_law_312 : decode b_La_law 312 = .ok (.iconst 0, 1) := by decide +kernel
theorem d_La_law_313 : decode b_La_law 313 = .ok (.laload, 1) := by decide +kernel
theorem d_La_law_314 : decode b_La_law 314 = .ok (.lload 6, 2) := by decide +kernel
theorem d_La_law_316 : decode b_La_law 316 = .ok (.lcmp, 1) := by decide +kernel
theorem d_La_law_317 : decode b_La_law 317 = .ok (.ifCond .eq 5, 3) := by decide +kernel
theorem d_La_law_320 : decode b_La_law 320 = .ok (.iconst 0, 1) := by decide +kernel
theorem d_La_law_321 : decode b_La_law 321 = .ok (.ireturn, 1) := by decide +kernel
theorem d_La_law_322 : decode b_La_law 322 = .ok (.goto 284, 3) := by decide +kernel
theorem d_La_law_325 : decode b_La_law 325 = .ok (.aload_n 1, 1) := by decide +kernel
theorem d_La_law_326 : decode b_La_law 326 = .ok (.aload_n 0, 1) := by decide +kernel
theorem d_La_law_327 : decode b_La_law 327 = .ok (.iload 4, 2) := by decide +kernel
theorem d_La_law_329 : decode b_La_law 329 = .ok (.iconst 1, 1) := by decide +kernel
theorem d_La_law_330 : decode b_La_law 330 = .ok (.iadd, 1) := by decide +kernel
theorem d_La_law_331 : decode b_La_law 331 = .ok (.iaload, 1) := by decide +kernel
theorem d_La_law_332 : decode b_La_law 332 = .ok (.aload_n 0, 1) := by decide +kernel
theorem d_La_law_333 : decode b_La_law 333 = .ok (.iload 4, 2) := by decide +kernel
theorem d_La_law_335 : decode b_La_law 335 = .ok (.iconst 2, 1) := by decide +kernel
theorem d_La_law_336 : decode b_La_law 336 = .ok (.iadd, 1) := by decide +kernel
theorem d_La_law_337 : decode b_La_law 337 = .ok (.iaload, 1) := by decide +kernel
theorem d_La_law_338 : decode b_La_law 338 = .ok (.aload_n 0, 1) := by decide +kernel
theorem d_La_law_339 : decode b_La_law 339 = .ok (.iload 4, 2) := by decide +kernel
theorem d_La_law_341 : decode b_La_law 341 = .ok (.iconst 3, 1) := by decide +kernel
theorem d_La_law_342 : decode b_La_law 342 = .ok (.iadd, 1) := by decide +kernel
theorem d_La_law_343 : decode b_La_law 343 = .ok (.iaload, 1) := by decide +kernel
theorem d_La_law_344 : decode b_La_law 344 = .ok (.aload_n 3, 1) := by decide +kernel
theorem d_La_law_345 : decode b_La_law 345 = .ok (.invokestatic 65, 3) := by decide +kernel
theorem d_La_law_348 : decode b_La_law 348 = .ok (.istore 5, 2) := by decide +kernel
theorem d_La_law_350 : decode b_La_law 350 = .ok (.aload_n 2, 1) := by decide +kernel
theorem d_La_law_351 : decode b_La_law 351 = .ok (.aload_n 0, 1) := by decide +kernel
theorem d_La_law_352 : decode b_La_law 352 = .ok (.iload 4, 2) := by decide +kernel
theorem d_La_law_354 : decode b_La_law 354 = .ok (.iconst 1, 1) := by decide +kernel
theorem d_La_law_355 : decode b_La_law 355 = .ok (.iadd, 1) := by decide +kernel
theorem d_La_law_356 : decode b_La_law 356 = .ok (.iaload, 1) := by decide +kernel
theorem d_La_law_357 : decode b_La_law 357 = .ok (.aload_n 0, 1) := by decide +kernel
theorem d_La_law_358 : decode b_La_law 358 = .ok (.iload 4, 2) := by decide +kernel
theorem d_La_law_360 : decode b_La_law 360 = .ok (.iconst 2, 1) := by decide +kernel
theorem d_La_law_361 : decode b_La_law 361 = .ok (.iadd, 1) := by decide +kernel
theorem d_La_law_362 : decode b_La_law 362 = .ok (.iaload, 1) := by decide +kernel
theorem d_La_law_363 : decode b_La_law 363 = .ok (.aload_n 0, 1) := by decide +kernel
theorem d_La_law_364 : decode b_La_law 364 = .ok (.iload 4, 2) := by decide +kernel
theorem d_La_law_366 : decode b_La_law 366 = .ok (.iconst 3, 1) := by decide +kernel
theorem d_La_law_367 : decode b_La_law 367 = .ok (.iadd, 1) := by decide +kernel
theorem d_La_law_368 : decode b_La_law 368 = .ok (.iaload, 1) := by decide +kernel
theorem d_La_law_369 : decode b_La_law 369 = .ok (.invokevirtual 68, 3) := by decide +kernel
theorem d_La_law_372 : decode b_La_law 372 = .ok (.lstore 6, 2) := by decide +kernel
theorem d_La_law_374 : decode b_La_law 374 = .ok (.aload_n 2, 1) := by decide +kernel
theorem d_La_law_375 : decode b_La_law 375 = .ok (.invokevirtual 53, 3) := by decide +kernel
theorem d_La_law_378 : decode b_La_law 378 = .ok (.iload 5, 2) := by decide +kernel
theorem d_La_law_380 : decode b_La_law 380 = .ok (.if_icmp .eq 5, 3) := by decide +kernel
theorem d_La_law_383 : decode b_La_law 383 = .ok (.iconst 0, 1) := by decide +kernel
theorem d_La_law_384 : decode b_La_law 384 = .ok (.ireturn, 1) := by decide +kernel
theorem d_La_law_385 : decode b_La_law 385 = .ok (.iload 5, 2) := by decide +kernel
theorem d_La_law_387 : decode b_La_law 387 = .ok (.ifCond .ne 14, 3) := by decide +kernel
theorem d_La_law_390 : decode b_La_law 390 = .ok (.aload_n 3, 1) := by decide +kernel
theorem d_La_law_391 : decode b_La_law 391 = .ok (.iconst 0, 1) := by decide +kernel
theorem d_La_law_392 : decode b_La_law 392 = .ok (.laload, 1) := by decide +kernel
theorem d_La_law_393 : decode b_La_law 393 = .ok (.lload 6, 2) := by decide +kernel
theorem d_La_law_395 : decode b_La_law 395 = .ok (.lcmp, 1) := by decide +kernel
theorem d_La_law_396 : decode b_La_law 396 = .ok (.ifCond .eq 5, 3) := by decide +kernel
theorem d_La_law_399 : decode b_La_law 399 = .ok (.iconst 0, 1) := by decide +kernel
theorem d_La_law_400 : decode b_La_law 400 = .ok (.ireturn, 1) := by decide +kernel
theorem d_La_law_401 : decode b_La_law 401 = .ok (.goto 205, 3) := by decide +kernel
theorem d_La_law_404 : decode b_La_law 404 = .ok (.aload_n 1, 1) := by decide +kernel
theorem d_La_law_405 : decode b_La_law 405 = .ok (.aload_n 0, 1) := by decide +kernel
theorem d_La_law_406 : decode b_La_law 406 = .ok (.iload 4, 2) := by decide +kernel
theorem d_La_law_408 : decode b_La_law 408 = .ok (.iconst 1, 1) := by decide +kernel
theorem d_La_law_409 : decode b_La_law 409 = .ok (.iadd, 1) := by decide +kernel
theorem d_La_law_410 : decode b_La_law 410 = .ok (.iaload, 1) := by decide +kernel
theorem d_La_law_411 : decode b_La_law 411 = .ok (.aload_n 0, 1) := by decide +kernel
theorem d_La_law_412 : decode b_La_law 412 = .ok (.iload 4, 2) := by decide +kernel
theorem d_La_law_414 : decode b_La_law 414 = .ok (.iconst 2, 1) := by decide +kernel
theorem d_La_law_415 : decode b_La_law 415 = .ok (.iadd, 1) := by decide +kernel
theorem d_La_law_416 : decode b_La_law 416 = .ok (.iaload, 1) := by decide +kernel
theorem d_La_law_417 : decode b_La_law 417 = .ok (.aload_n 0, 1) := by decide +kernel
theorem d_La_law_418 : decode b_La_law 418 = .ok (.iload 4, 2) := by decide +kernel
theorem d_La_law_420 : decode b_La_law 420 = .ok (.iconst 3, 1) := by decide +kernel
theorem d_La_law_421 : decode b_La_law 421 = .ok (.iadd, 1) := by decide +kernel
end
section
-- decode rows of the law, printed by gen/names.py
theorem d_La_law_422 : decode b_La_law 422 = .ok (.iaload, 1) := by decide +kernel
theorem d_La_law_423 : decode b_La_law 423 = .ok (.aload_n 3, 1) := by decide +kernel
theorem d_La_law_424 : decode b_La_law 424 = .ok (.invokestatic 69, 3) := by decide +kernel
theorem d_La_law_427 : decode b_La_law 427 = .ok (.istore 5, 2) := by decide +kernel
theorem d_La_law_429 : decode b_La_law 429 = .ok (.aload_n 2, 1) := by decide +kernel
theorem d_La_law_430 : decode b_La_law 430 = .ok (.aload_n 0, 1) := by decide +kernel
theorem d_La_law_431 : decode b_La_law 431 = .ok (.iload 4, 2) := by decide +kernel
theorem d_La_law_433 : decode b_La_law 433 = .ok (.iconst 1, 1) := by decide +kernel
theorem d_La_law_434 : decode b_La_law 434 = .ok (.iadd, 1) := by decide +kernel
theorem d_La_law_435 : decode b_La_law 435 = .ok (.iaload, 1) := by decide +kernel
theorem d_La_law_436 : decode b_La_law 436 = .ok (.aload_n 0, 1) := by decide +kernel
theorem d_La_law_437 : decode b_La_law 437 = .ok (.iload 4, 2) := by decide +kernel
theorem d_La_law_439 : decode b_La_law 439 = .ok (.iconst 2, 1) := by decide +kernel
theorem d_La_law_440 : decode b_La_law 440 = .ok (.iadd, 1) := by decide +kernel
theorem d_La_law_441 : decode b_La_law 441 = .ok (.iaload, 1) := by decide +kernel
theorem d_La_law_442 : decode b_La_law 442 = .ok (.aload_n 0, 1) := by decide +kernel
theorem d_La_law_443 : decode b_La_law 443 = .ok (.iload 4, 2) := by decide +kernel
theorem d_La_law_445 : decode b_La_law 445 = .ok (.iconst 3, 1) := by decide +kernel
theorem d_La_law_446 : decode b_La_law 446 = .ok (.iadd, 1) := by decide +kernel
theorem d_La_law_447 : decode b_La_law 447 = .ok (.iaload, 1) := by decide +kernel
theorem d_La_law_448 : decode b_La_law 448 = .ok (.invokevirtual 71, 3) := by decide +kernel
theorem d_La_law_451 : decode b_La_law 451 = .ok (.lstore 6, 2) := by decide +kernel
theorem d_La_law_453 : decode b_La_law 453 = .ok (.aload_n 2, 1) := by decide +kernel
theorem d_La_law_454 : decode b_La_law 454 = .ok (.invokevirtual 53, 3) := by decide +kernel
theorem d_La_law_457 : decode b_La_law 457 = .ok (.iload 5, 2) := by decide +kernel
theorem d_La_law_459 : decode b_La_law 459 = .ok (.if_icmp .eq 5, 3) := by decide +kernel
theorem d_La_law_462 : decode b_La_law 462 = .ok (.iconst 0, 1) := by decide +kernel
theorem d_La_law_463 : decode b_La_law 463 = .ok (.ireturn, 1) := by decide +kernel
theorem d_La_law_464 : decode b_La_law 464 = .ok (.iload 5, 2) := by decide +kernel
theorem d_La_law_466 : decode b_La_law 466 = .ok (.ifCond .ne 14, 3) := by decide +kernel
theorem d_La_law_469 : decode b_La_law 469 = .ok (.aload_n 3, 1) := by decide +kernel
theorem d_La_law_470 : decode b_La_law 470 = .ok (.iconst 0, 1) := by decide +kernel
theorem d_La_law_471 : decode b_La_law 471 = .ok (.laload, 1) := by decide +kernel
theorem d_La_law_472 : decode b_La_law 472 = .ok (.lload 6, 2) := by decide +kernel
theorem d_La_law_474 : decode b_La_law 474 = .ok (.lcmp, 1) := by decide +kernel
theorem d_La_law_475 : decode b_La_law 475 = .ok (.ifCond .eq 5, 3) := by decide +kernel
theorem d_La_law_478 : decode b_La_law 478 = .ok (.iconst 0, 1) := by decide +kernel
theorem d_La_law_479 : decode b_La_law 479 = .ok (.ireturn, 1) := by decide +kernel
theorem d_La_law_480 : decode b_La_law 480 = .ok (.goto 126, 3) := by decide +kernel
theorem d_La_law_483 : decode b_La_law 483 = .ok (.aload_n 1, 1) := by decide +kernel
theorem d_La_law_484 : decode b_La_law 484 = .ok (.aload_n 0, 1) := by decide +kernel
theorem d_La_law_485 : decode b_La_law 485 = .ok (.iload 4, 2) := by decide +kernel
theorem d_La_law_487 : decode b_La_law 487 = .ok (.iconst 1, 1) := by decide +kernel
theorem d_La_law_488 : decode b_La_law 488 = .ok (.iadd, 1) := by decide +kernel
theorem d_La_law_489 : decode b_La_law 489 = .ok (.iaload, 1) := by decide +kernel
theorem d_La_law_490 : decode b_La_law 490 = .ok (.aload_n 0, 1) := by decide +kernel
theorem d_La_law_491 : decode b_La_law 491 = .ok (.iload 4, 2) := by decide +kernel
theorem d_La_law_493 : decode b_La_law 493 = .ok (.iconst 2, 1) := by decide +kernel
theorem d_La_law_494 : decode b_La_law 494 = .ok (.iadd, 1) := by decide +kernel
theorem d_La_law_495 : decode b_La_law 495 = .ok (.iaload, 1) := by decide +kernel
theorem d_La_law_496 : decode b_La_law 496 = .ok (.aload_n 3, 1) := by decide +kernel
theorem d_La_law_497 : decode b_La_law 497 = .ok (.invokestatic 72, 3) := by decide +kernel
theorem d_La_law_500 : decode b_La_law 500 = .ok (.istore 5, 2) := by decide +kernel
theorem d_La_law_502 : decode b_La_law 502 = .ok (.aload_n 2, 1) := by decide +kernel
theorem d_La_law_503 : decode b_La_law 503 = .ok (.aload_n 0, 1) := by decide +kernel
theorem d_La_law_504 : decode b_La_law 504 = .ok (.iload 4, 2) := by decide +kernel
theorem d_La_law_506 : decode b_La_law 506 = .ok (.iconst 1, 1) := by decide +kernel
theorem d_La_law_507 : decode b_La_law 507 = .ok (.iadd, 1) := by decide +kernel
theorem d_La_law_508 : decode b_La_law 508 = .ok (.iaload, 1) := by decide +kernel
theorem d_La_law_509 : decode b_La_law 509 = .ok (.aload_n 0, 1) := by decide +kernel
theorem d_La_law_510 : decode b_La_law 510 = .ok (.iload 4, 2) := by decide +kernel
theorem d_La_law_512 : decode b_La_law 512 = .ok (.iconst 2, 1) := by decide +kernel
theorem d_La_law_513 : decode b_La_law 513 = .ok (.iadd, 1) := by decide +kernel
theorem d_La_law_514 : decode b_La_law 514 = .ok (.iaload, 1) := by decide +kernel
theorem d_La_law_515 : decode b_La_law 515 = .ok (.invokevirtual 75, 3) := by decide +kernel
theorem d_La_law_518 : decode b_La_law 518 = .ok (.istore 6, 2) := by decide +kernel
theorem d_La_law_520 : decode b_La_law 520 = .ok (.aload_n 2, 1) := by decide +kernel
theorem d_La_law_521 : decode b_La_law 521 = .ok (.invokevirtual 53, 3) := by decide +kernel
theorem d_La_law_524 : decode b_La_law 524 = .ok (.iload 5, 2) := by decide +kernel
theorem d_La_law_526 : decode b_La_law 526 = .ok (.if_icmp .eq 5, 3) := by decide +kernel
theorem d_La_law_529 : decode b_La_law 529 = .ok (.iconst 0, 1) := by decide +kernel
theorem d_La_law_530 : decode b_La_law 530 = .ok (.ireturn, 1) := by decide +kernel
theorem d_La_law_531 : decode b_La_law 531 = .ok (.iload 5, 2) := by decide +kernel
theorem d_La_law_533 : decode b_La_law 533 = .ok (.ifCond .ne 15, 3) := by decide +kernel
theorem d_La_law_536 : decode b_La_law 536 = .ok (.aload_n 3, 1) := by decide +kernel
theorem d_La_law_537 : decode b_La_law 537 = .ok (.iconst 0, 1) := by decide +kernel
theorem d_La_law_538 : decode b_La_law 538 = .ok (.laload, 1) := by decide +kernel
theorem d_La_law_539 : decode b_La_law 539 = .ok (.iload 6, 2) := by decide +kernel
theorem d_La_law_541 : decode b_La_law 541 = .ok (.i2l, 1) := by decide +kernel
theorem d_La_law_542 : decode b_La_law 542 = .ok (.lcmp, 1) := by decide +kernel
theorem d_La_law_543 : decode b_La_law 543 = .ok (.ifCond .eq 5, 3) := by decide +kernel
theorem d_La_law_546 : decode b_La_law 546 = .ok (.iconst 0, 1) := by decide +kernel
theorem d_La_law_547 : decode b_La_law 547 = .ok (.ireturn, 1) := by decide +kernel
theorem d_La_law_548 : decode b_La_law 548 = .ok (.goto 58, 3) := by decide +kernel
theorem d_La_law_551 : decode b_La_law 551 = .ok (.aload_n 1, 1) := by decide +kernel
theorem d_La_law_552 : decode b_La_law 552 = .ok (.aload_n 0, 1) := by decide +kernel
theorem d_La_law_553 : decode b_La_law 553 = .ok (.iload 4, 2) := by decide +kernel
theorem d_La_law_555 : decode b_La_law 555 = .ok (.iconst 1, 1) := by decide +kernel
theorem d_La_law_556 : decode b_La_law 556 = .ok (.iadd, 1) := by decide +kernel
theorem d_La_law_557 : decode b_La_law 557 = .ok (.iaload, 1) := by decide +kernel
theorem d_La_law_558 : decode b_La_law 558 = .ok (.aload_n 3, 1) := by decide +kernel
theorem d_La_law_559 : decode b_La_law 559 = .ok (.invokestatic 76, 3) := by decide +kernel
theorem d_La_law_562 : decode b_La_law 562 = .ok (.istore 5, 2) := by decide +kernel
theorem d_La_law_564 : decode b_La_law 564 = .ok (.aload_n 2, 1) := by decide +kernel
theorem d_La_law_565 : decode b_La_law 565 = .ok (.aload_n 0, 1) := by decide +kernel
theorem d_La_law_566 : decode b_La_law 566 = .ok (.iload 4, 2) := by decide +kernel
theorem d_La_law_568 : decode b_La_law 568 = .ok (.iconst 1, 1) := by decide +kernel
theorem d_La_law_569 : decode b_La_law 569 = .ok (.iadd, 1) := by decide +kernel
theorem d_La_law_570 : decode b_La_law 570 = .ok (.iaload, 1) := by decide +kernel
theorem d_La_law_571 : decode b_La_law 571 = .ok (.invokevirtual 78, 3) := by decide +kernel
theorem d_La_law_574 : decode b_La_law 574 = .ok (.lstore 6, 2) := by decide +kernel
theorem d_La_law_576 : decode b_La_law 576 = .ok (.aload_n 2, 1) := by decide +kernel
theorem d_La_law_577 : decode b_La_law 577 = .ok (.invokevirtual 53, 3) := by decide +kernel
theorem d_La_law_580 : decode b_La_law 580 = .ok (.iload 5, 2) := by decide +kernel
theorem d_La_law_582 : decode b_La_law 582 = .ok (.if_icmp .eq 5, 3) := by decide +kernel
theorem d_La_law_585 : decode b_La_law 585 = .ok (.iconst 0, 1) := by decide +kernel
theorem d_La_law_586 : decode b_La_law 586 = .ok (.ireturn, 1) := by decide +kernel
theorem d_La_law_587 : decode b_La_law 587 = .ok (.iload 5, 2) := by decide +kernel
theorem d_La_law_589 : decode b_La_law 589 = .ok (.ifCond .ne 14, 3) := by decide +kernel
theorem d_La_law_592 : decode b_La_law 592 = .ok (.aload_n 3, 1) := by decide +kernel
theorem d_La_law_593 : decode b_La_law 593 = .ok (.iconst 0, 1) := by decide +kernel
theorem d_La_law_594 : decode b_La_law 594 = .ok (.laload, 1) := by decide +kernel
theorem d_La_law_595 : decode b_La_law 595 = .ok (.lload 6, 2) := by decide +kernel
theorem d_La_law_597 : decode b_La_law 597 = .ok (.lcmp, 1) := by decide +kernel
theorem d_La_law_598 : decode b_La_law 598 = .ok (.ifCond .eq 5, 3) := by decide +kernel
theorem d_La_law_601 : decode b_La_law 601 = .ok (.iconst 0, 1) := by decide +kernel
theorem d_La_law_602 : decode b_La_law 602 = .ok (.ireturn, 1) := by decide +kernel
theorem d_La_law_603 : decode b_La_law 603 = .ok (.goto 3, 3) := by decide +kernel
theorem d_La_law_606 : decode b_La_law 606 = .ok (.iinc 4 5, 3) := by decide +kernel
theorem d_La_law_609 : decode b_La_law 609 = .ok (.goto (-586), 3) := by decide +kernel
theorem d_La_law_612 : decode b_La_law 612 = .ok (.iconst 1, 1) := by decide +kernel
theorem d_La_law_613 : decode b_La_law 613 = .ok (.ireturn, 1) := by decide +kernel
end
section
-- contracts of methods that return or throw; calls by them; new/throw; catch; fused compares
theorem tx_kept {s U : State} {k n : Nat} (h : s.sameButNew U [] k n) : ∀ i : Nat, i < s.heap.size → U.heap[i]? = s.heap[i]? := by
  intro i hi
  obtain ⟨c', h1, h2, h3, h4⟩ := h.2.2.2.2.2 i s.heap[i] (Array.getElem?_eq_getElem hi)
  have hs : c'.slots = s.heap[i].slots := Array.ext_getElem? (fun j => h4 j (by simp))
  have e : c' = s.heap[i] := by rw [h2, hs]
  rw [h1, Array.getElem?_eq_getElem hi, e]
/-- a static field of Throwable that holds a reference or null: what a throw reads -/
def th_st (n d : String) (U : State) (H : Heap) : Prop := ∃ (c i a : Nat) (k : Class) (f : Field) (cell : Cell) (v : Value), U.vm.findClass Bundle.tN = some c ∧ U.fieldFound? Bundle.tN n d = some (c, k, i, f) ∧ f.isStatic = true ∧ k.statics = some a ∧ H[a]? = some cell ∧ cell.vm.isStatics = true ∧ cell.cls = c ∧ f.slot < cell.slots.size ∧ k.staticTypes[f.slot]? = some f.type ∧ cell.slots[f.slot]? = some v ∧ v.isRef = true
theorem th_st.of {args : Array Value} {s : State} {n d : String} (hl : (Cond.laysStatic Bundle.tN n d).before args s = true) (h : (Cond.isRef (.static Bundle.tN n d)).before args s = true) : th_st n d s s.heap := by
  obtain ⟨c, k, i, f, a, cell, hc, hi, hst, ha, hcell, hs, hcls, hlt, hty⟩ := Cond.laysStatic_spec hl
  cases hv : (Term.static Bundle.tN n d).eval args s none [] s with
  | none => simp [Cond.before, Cond.holds, Cond.value, hv] at h
  | some w =>
    obtain ⟨-, a', cell', ha', hcell', -, hslot⟩ := Term.static_spec hi hv
    cases ha.symm.trans ha'
    cases hcell.symm.trans hcell'
    refine ⟨c, i, a, k, f, cell, w, hc, hi, hst, ha, hcell, hs, hcls, hlt, hty, hslot, ?_⟩
    simp only [Cond.before, Cond.holds, Cond.value, hv] at h
    cases w <;> simp_all [Value.isRef]
theorem th_st.moved {n d : String} {u U : State} {H : Heap} (hvm : u.vm.Alike U.vm) (h : th_st n d u H) : th_st n d U H := by
  obtain ⟨c, i, a, k, f, cell, v, h1, h2, h3, h4, h5, h6, h7, h8, h9, h10⟩ := h
  obtain ⟨k', hi', he⟩ := State.fieldFound?_setVm hvm h2
  exact ⟨c, i, a, k', f, cell, v, by rw [hvm.findClass]; exact h1, hi', h3, by rw [he]; exact h4, h5, h6, h7, h8, by rw [he]; exact h9, h10⟩
theorem th_st.kept {n d : String} {U : State} {H H1 : Heap} (h : th_st n d U H) (hq : ∀ q : Nat, q < H.size → H1[q]? = H[q]?) : th_st n d U H1 := by
  obtain ⟨c, i, a, k, f, cell, v, h1, h2, h3, h4, h5, h6⟩ := h
  exact ⟨c, i, a, k, f, cell, v, h1, h2, h3, h4, by rw [hq a (Array.getElem?_eq_some_iff.mp h5).1]; exact h5, h6⟩
theorem th_st.lays {n d : String} {U : State} {A : Array Value} (h : th_st n d U U.heap) : (Cond.laysStatic Bundle.tN n d).before A U = true := by
  obtain ⟨c, i, a, k, f, cell, v, h1, h2, h3, h4, h5, h6, h7, h8, h9, -⟩ := h
  exact Cond.laysStatic_of h1 h2 h3 h4 h5 h6 h7 h8 h9
theorem th_st.ref {n d : String} {U : State} {A : Array Value} (h : th_st n d U U.heap) : (Cond.isRef (.static Bundle.tN n d)).before A U = true := by
  obtain ⟨c, i, a, k, f, cell, v, h1, h2, h3, h4, h5, h6, h7, h8, h9, h10, h11⟩ := h
  have hv : (Term.static Bundle.tN n d).eval A U none [] U = some v := by
    simp [Term.eval, State.fieldNamed?, h2, h3, h4, h5, h6, h10]
  simp only [Cond.before, Cond.holds, Cond.value, hv]
  cases v <;> simp_all [Value.isRef]
/-- what a throw asks of the state beyond the tables' steady words -/
def th_ok (U : State) (H : Heap) : Prop := th_st "UNASSIGNED_STACK" Bundle.steD U H ∧ th_st "SUPPRESSED_SENTINEL" Bundle.listD U H ∧ va_Nw (.declares (Bundle.init0 "java/lang/RuntimeException")) U ∧ va_Nw (.declares (Bundle.init0 "java/lang/Exception")) U ∧ va_Nw (.declares (Bundle.init0 "java/lang/Throwable")) U ∧
  va_Nw (.castable "java/lang/IllegalArgumentException" "java/lang/IllegalArgumentException") U ∧ va_Nw (.castable "java/lang/ArithmeticException" "java/lang/ArithmeticException") U ∧ va_Nw (.castable "java/lang/UnsupportedOperationException" "java/lang/UnsupportedOperationException") U
theorem th_ok.warm {s U : State} {H : Heap} (h : th_ok s H) (hW : s.WarmedH U.vm) : th_ok U H := by
  obtain ⟨h1, h2, h3, h4, h5, h6, h7, h8⟩ := h
  exact ⟨h1.moved hW.alike, h2.moved hW.alike, va_Nw.warmD hW h3, va_Nw.warmD hW h4, va_Nw.warmD hW h5, va_Nw.warmC hW h6, va_Nw.warmC hW h7, va_Nw.warmC hW h8⟩
theorem th_ok.kept {U : State} {H H1 : Heap} (h : th_ok U H) (hq : ∀ q : Nat, q < H.size → H1[q]? = H[q]?) : th_ok U H1 := ⟨h.1.kept hq, h.2.1.kept hq, h.2.2⟩
theorem th_ok.calling {U : State} {H : Heap} (h : th_ok U H) (g : JFrame) (mk : MethodId) (a : Array Value) : th_ok (U.calling g mk a) H := by
  obtain ⟨h1, h2, h3, h4, h5, h6, h7, h8⟩ := h
  exact ⟨h1.moved (Vm.Alike.refl U.vm), h2.moved (Vm.Alike.refl U.vm), va_Nw.same rfl rfl h3, va_Nw.same rfl rfl h4, va_Nw.same rfl rfl h5, va_Nw.same rfl rfl h6, va_Nw.same rfl rfl h7, va_Nw.same rfl rfl h8⟩
def tx_End (st t : State) (L : List Loc) (mc ms : Nat) : Prop := st.WarmedH t.vm ∧ st.sameButNew ({ t with vm := st.vm } : State) L mc ms
/-- a contract whose method returns or throws, as Qc says -/
def tx_Met (l : Launch) (y : MethodName) (ws : List Cond) (rm : Room) (Pc : Array Value → State → Prop) (Qc : Array Value → State → Outcome → State → Prop) (mc ms : Nat) (free : Addr → Prop) : Prop :=
  MetFree l y (headSpec ws rm) Pc (fun _ _ _ _ _ => True) (fun a st o t => Qc a st o t ∧ ∃ L, tx_End st t L mc ms ∧ ∀ q ∈ L, free q.base)
def tx_MQ (below : List Frame) (Qc : Array Value → State → Outcome → State → Prop) (a : Array Value) (s : State) (mc ms : Nat) (free : Addr → Prop) : State → Prop := fun t =>
  ∃ o, t.status = .running ∧ Ended t below o ∧ Qc a s o t ∧ ∃ L, tx_End s t L mc ms ∧ ∀ q ∈ L, free q.base
/-- thrown: a new object of the named kind; every old cell is as it was -/
def tx_Thr (C : String) (st : State) (o : Outcome) (t : State) : Prop := ∃ (q : Nat) (ce : Cell), o = .threw q ∧ st.heap.size ≤ q ∧ t.heap[q]? = some ce ∧ st.vm.findClass C = some ce.cls ∧ ce.vm = .none ∧ ∀ i : Nat, i < st.heap.size → t.heap[i]? = st.heap[i]?
/-- the end of a method that writes nothing: a value, or a throw -/
def tx_PQ (res : Except String (Option Value)) : Array Value → State → Outcome → State → Prop := fun _ st o t => match res with
  | .ok v => o = .returned v ∧ t.heap = st.heap
  | .error C => tx_Thr C st o t
/-- where a call's caller goes on -/
def tx_at (T : State) (g : JFrame) (rest : List Value) (o : Outcome) : State := match o with
  | .returned v => T.setTop { g with pc := g.pc + 3, stack := v.toList ++ rest }
  | .threw x => (T.setTop { g with stack := rest }).pushFrame (.throwing x)
/-- the handler table's search ends at tgt, for an exception of the kind C -/
def tx_Hit (args : Array Value) (s : State) (own C : String) (pc tgt : Nat) : List (Nat × Nat × Nat × Nat) → Prop
  | [] => False
  | q :: r => q.1 ≤ pc ∧ pc < q.2.1 ∧ q.2.2.2 ≠ 0 ∧ ∃ D, (Cond.classLink own q.2.2.2 D).before args s = true ∧ ((va_Nw (.castable C D) s ∧ q.2.2.1 = tgt) ∨ (va_Nc C D s ∧ tx_Hit args s own C pc tgt r))
theorem rm0R {R : Room} {n : Nat} (h : 1 ≤ R.frames ∧ 60 ≤ R.locals) (hn : n ≤ 41) : rm0.frames + 1 ≤ R.frames ∧ 8 + (n + 11) + rm0.locals ≤ R.locals := by
  have h1 : rm0.frames = 0 := rfl
  have h2 : rm0.locals = 0 := rfl
  omega
section TX
variable {p : Program} {l : Launch} {e : Env} {R : Room} {s : State} {m : MethodId} {args : Array Value} {below : List Frame} {meth : Method} {c : Code} {H : Heap} {locs : List Loc} {cells slots : Nat} {Q : State → Prop}
theorem tx_mono {Q' : State → Prop} {g : JFrame} (h : ∀ t, Q t → Q' t) (k : W p l e R s m args below meth c H locs cells slots Q g) : W p l e R s m args below meth c H locs cells slots Q' g := fun T hT X => by
  obtain ⟨t, a, b⟩ := k T hT X
  exact ⟨t, a, h t b⟩
theorem tx_ret {Qc : Array Value → State → Outcome → State → Prop} {mc ms : Nat} {free : Addr → Prop} {g : JFrame} (k : W p l e R s m args below meth c H locs cells slots (MQ below Qc args s mc ms free) g) :
    W p l e R s m args below meth c H locs cells slots (tx_MQ below Qc args s mc ms free) g :=
  tx_mono (fun t h => by
    obtain ⟨o, h1, h2, h3, L, ⟨-, h4, h5⟩, h6⟩ := h
    exact ⟨o, h1, h2, h3, L, ⟨h4, h5⟩, h6⟩) k
/-- a contract out of the walk of the body: a method without handlers -/
theorem tx_start {y : MethodName} {ws' : List Cond} {rm : Room} {Pc : Array Value → State → Prop} {Qc : Array Value → State → Outcome → State → Prop} {mc ms : Nat} {free : Addr → Prop} {cc : ByteArray} {maxL : Nat} {ret : Option FieldType}
    (hy : plainFor y = true) (As : List Value) (hAs : (lg_sl As).length ≤ maxL) (hargs : ∀ a st, Pc a st → a = As.toArray)
    (body : ∀ (p : Program) (e : Env) (s : State) (m : MethodId) (below : List Frame) (meth : Method) (c : Code) (ls : Array Slot), p.tables.exec = Jvm.exec → c.code = cc → meth.sig.returnType = ret → meth.locks = false → c.maxLocals = maxL → c.exceptionTable.isEmpty = true → s.vm.findClass y.cls = some m.cls → (∀ w ∈ ws', w.before As.toArray s = true) → meth.name = y.name → Pc As.toArray s → lv_has ls maxL (lv_args 0 As) →
      W p l e rm s m As.toArray below meth c s.heap [] 0 0 (tx_MQ below Qc As.toArray s mc ms free) (F0 m 0 ls [])) : tx_Met l y (Cond.code y cc maxL ret :: ws') rm Pc Qc mc ms free := by
  refine MetFree.of_bodySF (code := cc) (maxLocals := maxL) (ret := ret) hy ?_ ?_
  · intro args s m h hn
    obtain ⟨meth, c, h1, h2, h3, h4, h5, h6, -, -⟩ := Cond.code_spec hn (atoms_spec (ws := Cond.code y cc maxL ret :: ws') h _ List.mem_cons_self)
    exact ⟨meth, c, h1, h2, h3, h4, h5, h6⟩
  · intro p e s m args below meth c s₁ B hml hP _
    have hh0 : s₁.heap = s.heap := by rw [B.state]; rfl
    have hts := atoms_spec (ws := Cond.code y cc maxL ret :: ws') B.pre
    have hcode := hts _ List.mem_cons_self
    obtain rfl := hargs args s hP
    have hl := lv_entry As (n := maxL) hAs
    have K := body p e s m below meth c _ B.exec B.bytes B.returns B.notSynchronized hml (B.noHandlers hcode) (findClass_of_methodNamed B.named) (fun w hw => hts w (List.mem_cons_of_mem _ hw)) (name_of_methodNamed B.named B.method).1 hP hl
    rw [← lg_entry_eq] at K
    obtain ⟨t, a1, o, b1, b2, b3⟩ := K s₁ hh0 (Stand.of_body B)
    exact ⟨t, o, a1, b1, b2, ⟨b3.1, b3.2⟩⟩
/-- a contract out of the walk of the body: a method with a handler table -/
theorem tx_startW {y : MethodName} {ws' : List Cond} {rm : Room} {Pc : Array Value → State → Prop} {Qc : Array Value → State → Outcome → State → Prop} {mc ms : Nat} {free : Addr → Prop} {cc : ByteArray} {maxL : Nat} {ret : Option FieldType} {hh : List (Nat × Nat × Nat × Nat)}
    (hy : plainName y.cls = true) (As : List Value) (hAs : (lg_sl As).length ≤ maxL) (hargs : ∀ a st, Pc a st → a = As.toArray)
    (body : ∀ (p : Program) (e : Env) (s : State) (m : MethodId) (below : List Frame) (meth : Method) (c : Code) (ls : Array Slot), p.tables.exec = Jvm.exec → c.code = cc → meth.sig.returnType = ret → meth.locks = false → c.maxLocals = maxL → c.exceptionTable.toList = tableOf hh → s.vm.findClass y.cls = some m.cls → (∀ w ∈ ws', w.before As.toArray s = true) → meth.name = y.name → Pc As.toArray s → lv_has ls maxL (lv_args 0 As) →
      W p l e rm s m As.toArray below meth c s.heap [] 0 0 (tx_MQ below Qc As.toArray s mc ms free) (F0 m 0 ls [])) : tx_Met l y (Cond.codeWith y cc maxL ret hh :: ws') rm Pc Qc mc ms free := by
  refine MetFree.of_bodyS (code := cc) (maxLocals := maxL) (ret := ret) hy ?_ ?_
  · intro args s m h hn
    obtain ⟨m9, meth, c, hn9, h1, h2, h3, h4, -, h5, h6, -⟩ := Cond.codeWith_spec (atoms_spec (ws := Cond.codeWith y cc maxL ret hh :: ws') h _ List.mem_cons_self)
    cases hn.symm.trans hn9
    exact ⟨meth, c, h1, h2, h3, h4, h5, h6⟩
  · intro p e s m args below meth c s₁ B hml hP _
    have hh0 : s₁.heap = s.heap := by rw [B.state]; rfl
    have hts := atoms_spec (ws := Cond.codeWith y cc maxL ret hh :: ws') B.pre
    obtain ⟨m9, meth9, c9, hn9, h1, h2, h3, h4, htab, h5, h6, -⟩ := Cond.codeWith_spec (hts _ List.mem_cons_self)
    cases B.named.symm.trans hn9
    cases B.method.symm.trans h1
    cases (Stand.of_body B).code.symm.trans h2
    obtain rfl := hargs args s hP
    have hl := lv_entry As (n := maxL) hAs
    have K := body p e s m below meth c _ B.exec B.bytes B.returns B.notSynchronized hml (by rw [← htab, table_eq]) (findClass_of_methodNamed B.named) (fun w hw => hts w (List.mem_cons_of_mem _ hw)) (name_of_methodNamed B.named B.method).1 hP hl
    rw [← lg_entry_eq] at K
    obtain ⟨t, a1, o, b1, b2, b3⟩ := K s₁ hh0 (Stand.of_body B)
    exact ⟨t, o, a1, b1, b2, ⟨b3.1, b3.2⟩⟩
/-- new X; dup; X.<init>(); athrow: the method ends, nothing else having been written -/
theorem tx_throw (hexec : p.tables.exec = Jvm.exec) {cc : ByteArray} (hb : c.code = cc) (hlocks : meth.locks = false) (hl : l.stackTraces = false) {own cls : String} {names : List String} {idx ic : Nat}
    (hown : s.vm.findClass own = some m.cls) (hcls : Bundle.fit cls = true) (hnames : ∀ n ∈ names, Bundle.fit n = true) (h : ∀ a ∈ Bundle.ownAtoms0 own ic cls names, a.before args s = true)
    (hcl : (Cond.classLink own idx cls).before args s = true) (hini : (Cond.initialized cls).before args s = true) (hne : c.exceptionTable.isEmpty = true)
    {pc : Nat} {ls : Array Slot} {rest : List Value} (hsz : ls.size = c.maxLocals)
    (d0 : decode cc pc = .ok (.new idx, 3)) (d3 : decode cc (pc + 3) = .ok (.dup, 1)) (d4 : decode cc (pc + 4) = .ok (.invokespecial ic, 3)) (d7 : decode cc (pc + 7) = .ok (.athrow, 1))
    (hfr : names.length + 3 < R.frames) (hlo : (rest.map fun v => v.category).sum + (13 * (names.length + 1) + 42) ≤ R.locals) (hce : 1 ≤ R.cells) (hsl : 6 ≤ R.slots)
    {Qc : Array Value → State → Outcome → State → Prop} {free : Addr → Prop} (hq : ∀ o t, tx_Thr cls s o t → Qc args s o t) :
    W p l e R s m args below meth c s.heap [] 0 0 (tx_MQ below Qc args s 1 6 free) (F0 m pc ls rest) := by
  intro T hT X
  have htr : e.platform.stackTraces = false := by rw [Example.NoTraceControls.admits_follows X.admits]; exact hl
  have hins := h (.instantiable cls 6) (by simp [Bundle.ownAtoms0])
  obtain ⟨vm₁, cX, kX, hfX, hkX, -, -, X₁, st1⟩ := X.newCold hexec hown hcl hins hini (g := F0 m pc ls rest) rfl (by rw [hb]; exact d0) (by omega) (by omega)
  generalize hTe : (T.setVm vm₁).pushCell { cls := cX, slots := kX.instanceTypes.map defaultValue, vm := .none } = T₁ at X₁ st1
  have hcellA : T₁.heap[T.heap.size]? = some (freshCell cX kX) := by rw [← hTe]; exact State.heap_pushCell_size _ _
  obtain ⟨U, hsteps, hrun, hend, hW, hsame, ce, hce', K⟩ := X₁.ctorThrow0 hexec htr (own := own) (cls := cls) (names := names) (ic := ic) hown hcls hnames h (fun y hy => by cases hy) hfX hkX hcellA (by rw [hT]; exact Nat.le_refl _)
    (g := F0 m (pc + 4) ls (.ref T.heap.size :: .ref T.heap.size :: rest)) rfl hsz rfl rfl (rest := rest) rfl (by rw [hb]; exact d4) (by rw [hb]; exact d7) (covers_of_empty hne _) hfr
    (by show 2 * 0 + (1 + (rest.map fun v => v.category).sum) + (13 * (names.length + 1) + 41) ≤ R.locals; omega)
  have hsame' : s.sameButNew ({ U with vm := s.vm } : State) [] 1 6 := by simpa using hsame
  refine ⟨U, st1 _ ?_, .threw T.heap.size, hrun, hend, hq _ _ ⟨T.heap.size, ce, rfl, by rw [hT]; exact Nat.le_refl _, hce', K.cls, K.vm, tx_kept (U := ({ U with vm := s.vm } : State)) hsame'⟩, [], ⟨hW, hsame'⟩, fun q hq' => by cases hq'⟩
  show Steps p.tables e below (T₁.setTop (F0 m (pc + 3) ls (.ref T.heap.size :: rest))) U
  jvm_step X₁.here [X₁.here.top, hexec, hb, d3, Value.category]
  exact hsteps
/-- a call by a contract: the callee returns or throws -/
theorem tx_invoke {y : MethodName} {ws : List Cond} {rm : Room} {Pc : Array Value → State → Prop} {Qc : Array Value → State → Outcome → State → Prop} {mc ms maxL : Nat} {free : Addr → Prop}
    (hM : tx_Met l y ws rm Pc Qc mc ms free) (hblind : FrameBlind Pc) (hrc : rm.cells = mc) (hrs : rm.slots = ms) (hframes : rm.frames + 1 ≤ R.frames) (hlocals : 8 + (maxL + 11) + rm.locals ≤ R.locals)
    (hws : ∀ w ∈ ws, ∀ (a' : Array Value) (U : State), s.WarmedH U.vm → w.before a' U = true) (hinit : (Cond.initialized y.cls).before args s = true)
    {U : State} (X : Stand p l e R s m args below meth c U locs cells slots) {g : JFrame} (hg : g.method = m) (hsize : g.locals.size = c.maxLocals) {ig : Instr} {len : Nat} (hdg : decode c.code g.pc = .ok (ig, len)) (hW : 2 * g.monitorRoom + (g.stack.map fun v => v.category).sum ≤ 8)
    {mk : MethodId} (hn : U.methodNamed? y = some mk) {methY : Method} {cY : Code} (hmY : U.vm.method? mk = some methY) (hcY : methY.code = some cY) (hlY : cY.maxLocals = maxL) (hc1 : cells + mc ≤ R.cells) (hc2 : slots + ms ≤ R.slots) {a : Array Value} (hPc : Pc a U) :
    ∃ (o : Outcome) (t T' : State) (L : List Loc), Stand p l e R s m args below meth c T' (locs ++ L) (cells + mc) (slots + ms) ∧ (∀ q ∈ L, free q.base) ∧ T'.heap = t.heap ∧ T'.vm = t.vm ∧ Qc a (U.calling g mk a) o t ∧ (t.heap = U.heap → Stand p l e R s m args below meth c T' locs cells slots) ∧
      Steps p.tables e below (doInvoke e (U.setTop g) [] mk a).1 (match o with
        | .returned v => T'.setTop { g with pc := g.pc + len, stack := v.toList ++ g.stack }
        | .threw x => (T'.setTop g).pushFrame (.throwing x)) := by
  obtain ⟨kY, hkY, -⟩ := className_of_methodNamed hn
  have hinitU : (Cond.initialized y.cls).before a U = true := word_at X.warmed (Or.inl (by first | rfl | simp [Cond.onTables, Cond.keeps, Cond.steady])) hinit
  have hinitY : kY.init = .initialized := Cond.initialized_spec (findClass_of_methodNamed hn) hkY hinitU
  have h : At U g.method c below := by rw [hg]; exact X.here
  have happ : (headSpec ws rm).appliesLoose y e.platform (U.calling g mk a) = true :=
    Spec.appliesLoose_calling (g := g) h hdg hn hkY hinitY
      (X.room_calling (g := g) (R' := (headSpec ws rm).room) hsize hmY hcY hframes (by rw [hlY]; show _ + (maxL + 11) + rm.locals ≤ _; omega) (by show cells + rm.cells ≤ _; omega) (by show slots + rm.slots ≤ _; omega)) (atoms_intro fun w hw => hws w hw _ _ X.warmed)
  obtain ⟨mid, hmid⟩ := h.above
  have hfr : (U.setTop g).frames = (.java g :: mid) ++ below := by rw [State.frames_setTop' g h.top, hmid]; rfl
  obtain ⟨o, s₂, hsteps, -, hend, hq⟩ := Steps.callFree hM p X.admits X.cas X.clock (acts := []) hfr happ (hblind _ _ _ _ hPc) trivial
  have hq' : Qc a (U.calling g mk a) o s₂ ∧ ∃ L, tx_End (U.calling g mk a) s₂ L mc ms ∧ ∀ q ∈ L, free q.base := hq
  rw [State.frames_setTop' g h.top] at hend
  obtain ⟨hqc, L, ⟨hW₂, e2, q2, q3, q4, q5, q6⟩, hL⟩ := hq'
  have e3 : s₂ = ({ (U.calling g mk a).setFrames s₂.frames with heap := s₂.heap, slotsUsed := s₂.slotsUsed } : State).setVm s₂.vm := by
    have : s₂ = ({ s₂ with vm := (U.calling g mk a).vm } : State).setVm s₂.vm := rfl
    rw [e2] at this
    exact this
  have hW' : U.WarmedH s₂.vm := hW₂
  obtain ⟨g₀, hg0⟩ := Option.isSome_iff_exists.mp h.top
  obtain ⟨r, hr⟩ := State.topJava?_eq_some.mp hg0
  have hsame : U.sameButNew ({ U with heap := s₂.heap, slotsUsed := s₂.slotsUsed } : State) L mc ms := by
    refine ⟨?_, q2, q3, q4, q5, q6⟩
    obtain ⟨t, ht, -⟩ := State.frames_cons hr
    show ({ U with heap := s₂.heap, slotsUsed := s₂.slotsUsed } : State) = { U.setFrames U.frames with heap := s₂.heap, slotsUsed := s₂.slotsUsed }
    rw [State.setFrames_self ht]
  have hr' : (({ U with heap := s₂.heap, slotsUsed := s₂.slotsUsed } : State).setVm s₂.vm).frames = .java g₀ :: r := hr
  have X' : Stand p l e R s m args below meth c (({ U with heap := s₂.heap, slotsUsed := s₂.slotsUsed } : State).setVm s₂.vm) (locs ++ L) (cells + mc) (slots + ms) :=
    ⟨X.admits, X.cas, X.clock, X.frames, X.room, X.hears, X.method, X.code, (X.here.setHeapUsed s₂.heap s₂.slotsUsed).setVm hW'.alike, X.tail, State.WarmedH.trans X.warmed hW', X.limits, X.bytes, X.same.trans (hsame.setVm s.vm)⟩
  have hsm : s₂.heap = U.heap → Stand p l e R s m args below meth c (({ U with heap := s₂.heap, slotsUsed := s₂.slotsUsed } : State).setVm s₂.vm) locs cells slots := by
    intro hh
    have hu : s₂.slotsUsed = U.slotsUsed := by
      have h4 := hsame.2.2.2.1
      have h5 : (({ U with heap := s₂.heap, slotsUsed := s₂.slotsUsed } : State).heap.toList.drop U.heap.size) = [] := by
        show s₂.heap.toList.drop U.heap.size = []
        rw [hh]
        exact List.drop_eq_nil_of_le (by simp)
      rw [h5] at h4
      simpa using h4
    have he : (({ U with heap := s₂.heap, slotsUsed := s₂.slotsUsed } : State).setVm s₂.vm) = U.setVm s₂.vm := by rw [hh, hu]
    rw [he]
    exact X.noted (State.WarmedH.trans X.warmed hW')
  cases o with
  | returned v =>
    obtain ⟨c₂, i₂, len₂, hc₂, hd₂, hf₂⟩ := hend
    have hcc : c₂ = c := by
      have h1 : s₂.code? g.method = U.code? g.method := by
        rw [State.code?_eq, State.code?_eq, hW'.alike.method?]
      exact Option.some.inj (hc₂.symm.trans (h1.trans h.code))
    subst hcc
    have hlen : len₂ = len := by rw [hdg] at hd₂; cases hd₂; rfl
    subst hlen
    have hs₂ : s₂ = (({ U with heap := s₂.heap, slotsUsed := s₂.slotsUsed } : State).setVm s₂.vm).setTop { g with pc := g.pc + len₂, stack := v.toList ++ g.stack } := by
      refine e3.trans ?_
      rw [hf₂, State.calling_eq h.top, State.setFrames_setFrames, State.setTop_of_frames _ hr', hr]
      rfl
    refine ⟨.returned v, s₂, _, L, X', hL, rfl, rfl, hqc, hsm, ?_⟩
    show Steps p.tables e below _ ((({ U with heap := s₂.heap, slotsUsed := s₂.slotsUsed } : State).setVm s₂.vm).setTop { g with pc := g.pc + len₂, stack := v.toList ++ g.stack })
    rw [← hs₂]
    exact hsteps
  | threw x =>
    have hf₂ : s₂.frames = .throwing x :: .java g :: U.frames.tail := hend
    have hs₂ : s₂ = ((({ U with heap := s₂.heap, slotsUsed := s₂.slotsUsed } : State).setVm s₂.vm).setTop g).pushFrame (.throwing x) := by
      refine e3.trans ?_
      rw [hf₂, State.calling_eq h.top, State.setFrames_setFrames, State.pushFrame, State.frames_setTop _ hr', State.setTop_of_frames _ hr', State.setFrames_setFrames, hr]
      rfl
    refine ⟨.threw x, s₂, _, L, X', hL, rfl, rfl, hqc, hsm, ?_⟩
    show Steps p.tables e below _ (((({ U with heap := s₂.heap, slotsUsed := s₂.slotsUsed } : State).setVm s₂.vm).setTop g).pushFrame (.throwing x))
    rw [← hs₂]
    exact hsteps
def tx_Run (p : Program) (l : Launch) (e : Env) (R : Room) (s : State) (m : MethodId) (args : Array Value) (below : List Frame) (meth : Method) (c : Code) (H : Heap) (locs : List Loc) (cells slots mc ms : Nat) (g : JFrame) (rest : List Value) (Qa : State → Outcome → State → Prop) (free : Addr → Prop) : Prop :=
  ∀ T : State, T.heap = H → Stand p l e R s m args below meth c T locs cells slots → ∃ (o : Outcome) (st₀ t T' : State) (L : List Loc), st₀.heap = H ∧ s.WarmedH st₀.vm ∧ Stand p l e R s m args below meth c T' (locs ++ L) (cells + mc) (slots + ms) ∧ (∀ q ∈ L, free q.base) ∧ T'.heap = t.heap ∧ T'.vm = t.vm ∧ Qa st₀ o t ∧
    (t.heap = H → Stand p l e R s m args below meth c T' locs cells slots) ∧ ∀ tg, Steps p.tables e below (tx_at T' g rest o) tg → Steps p.tables e below (T.setTop g) tg
section RUN
variable {y : MethodName} {bytes cc : ByteArray} {maxL nL mc ms n index : Nat} {ret : Option FieldType} {ws : List Cond} {rm : Room} {Pc : Array Value → State → Prop} {Qc : Array Value → State → Outcome → State → Prop} {free : Addr → Prop} {own C : String} {b : Addr} {As rest : List Value} {g : JFrame} {hh : List (Nat × Nat × Nat × Nat)} {w0 : Cond}
/-- what a call of y asks of the words and of the room -/
theorem tx_runS (hexec : p.tables.exec = Jvm.exec) (hb : c.code = cc) (hml : c.maxLocals = nL) (hown : s.vm.findClass own = some m.cls) (ht : ∀ w ∈ tt, w.before args s = true)
    (hM : tx_Met l y (Cond.code y bytes maxL ret :: tt) rm Pc Qc mc ms free) (hcw : Cond.code y bytes maxL ret ∈ tt) (hst : Cond.static y ∈ tt) (hini : Cond.initialized y.cls ∈ tt) (hlk : Cond.methodLink own index y ∈ tt)
    (hd : y.cls ≠ "java/lang/invoke/MethodHandle" ∧ y.cls ≠ "java/lang/invoke/VarHandle" ∧ (parseMethodDescriptor y.desc).map (fun d => d.parameters.length) = some n) (hrc : rm.cells = mc) (hrs : rm.slots = ms) (hR : rm.frames + 1 ≤ R.frames ∧ 8 + (maxL + 11) + rm.locals ≤ R.locals) (hp : PreS s H Pc As)
    (hg : g.method = m) (hn : As.length = n) (hsize : g.locals.size = nL) (hstack : g.stack = As.reverse ++ rest) (hW : 2 * g.monitorRoom + (rest.map fun v => v.category).sum ≤ 8) (hdg : decode cc g.pc = .ok (.invokestatic index, 3)) (hf : cells + mc ≤ R.cells ∧ slots + ms ≤ R.slots) :
    tx_Run p l e R s m args below meth c H locs cells slots mc ms g rest (Qc As.toArray) free := by
  intro T hT X
  have hcode := ht _ hcw
  obtain ⟨mk, hnamed⟩ := Cond.code_named hcode
  obtain ⟨methM, cM, hmethM, hcM, -, hlM, -, -, -, hsigM⟩ := Cond.code_spec hnamed hcode
  have hstatic : methM.isStatic = true := Cond.static_spec hnamed hmethM (ht _ hst)
  obtain ⟨kP, hkP, -⟩ := className_of_methodNamed hnamed
  have hinitP : kP.init = .initialized := Cond.initialized_spec (findClass_of_methodNamed hnamed) hkP (ht _ hini)
  have hlen : ∀ sig, parseMethodDescriptor y.desc = some sig → As.length = sig.parameters.length := fun sig h => by
    have h2 := hd.2.2
    rw [h] at h2
    exact hn.trans (Option.some.inj h2).symm
  obtain ⟨vm₁, X₁, hstep₁⟩ := X.invokestatic hexec hown (ht _ hlk) hnamed hmethM hstatic hkP hinitP ⟨hd.1, hd.2.1⟩ (g := g) hg (argsL := As) (rest := rest) (hlen _ hsigM) hstack (by rw [hb]; exact hdg)
  have hws : ∀ w ∈ (Cond.code y bytes maxL ret :: tt), ∀ (a' : Array Value) (U : State), s.WarmedH U.vm → w.before a' U = true := fun w hw a' U hWU => by
    rcases List.mem_cons.mp hw with rfl | hw
    · exact word_at hWU (tt_good hcw) (ht _ hcw)
    · exact word_at hWU (tt_good hw) (ht _ hw)
  obtain ⟨o, t, T', L, X', hL, e1, e2, hq, hsm, st⟩ := tx_invoke (maxL := maxL) hM hp.1 hrc hrs hR.1 hR.2 hws (ht _ hini) X₁ (g := { g with stack := rest }) hg (hsize.trans hml.symm) (by rw [hb]; exact hdg) hW (X₁.named hnamed) (by rw [X₁.warmed.alike.method?]; exact hmethM) hcM hlM hf.1 hf.2 (a := As.toArray) (hp.2 (T.setVm vm₁) hT X₁.warmed)
  refine ⟨o, (T.setVm vm₁).calling { g with stack := rest } mk As.toArray, t, T', L, hT, X₁.warmed, X', hL, e1, e2, hq, fun h => hsm (h.trans hT.symm), fun tg h => hstep₁ _ fun acts => ?_⟩
  rw [doInvoke_state]
  cases o <;> exact st.trans h
/-- the same for a callee with a handler table -/
theorem tx_runSW (hexec : p.tables.exec = Jvm.exec) (hb : c.code = cc) (hml : c.maxLocals = nL) (hown : s.vm.findClass own = some m.cls) (ht : ∀ w ∈ tt, w.before args s = true)
    (hM : tx_Met l y (Cond.codeWith y bytes maxL ret hh :: tt) rm Pc Qc mc ms free) (hcw : Cond.codeWith y bytes maxL ret hh ∈ tt) (hst : Cond.static y ∈ tt) (hini : Cond.initialized y.cls ∈ tt) (hlk : Cond.methodLink own index y ∈ tt)
    (hd : y.cls ≠ "java/lang/invoke/MethodHandle" ∧ y.cls ≠ "java/lang/invoke/VarHandle" ∧ (parseMethodDescriptor y.desc).map (fun d => d.parameters.length) = some n) (hrc : rm.cells = mc) (hrs : rm.slots = ms) (hR : rm.frames + 1 ≤ R.frames ∧ 8 + (maxL + 11) + rm.locals ≤ R.locals) (hp : PreS s H Pc As)
    (hg : g.method = m) (hn : As.length = n) (hsize : g.locals.size = nL) (hstack : g.stack = As.reverse ++ rest) (hW : 2 * g.monitorRoom + (rest.map fun v => v.category).sum ≤ 8) (hdg : decode cc g.pc = .ok (.invokestatic index, 3)) (hf : cells + mc ≤ R.cells ∧ slots + ms ≤ R.slots) :
    tx_Run p l e R s m args below meth c H locs cells slots mc ms g rest (Qc As.toArray) free := by
  intro T hT X
  have hcode := ht _ hcw
  obtain ⟨mk, methM, cM, hnamed, hmethM, hcM, -, hlM, -, -, -, hsigM⟩ := Cond.codeWith_spec hcode
  have hstatic : methM.isStatic = true := Cond.static_spec hnamed hmethM (ht _ hst)
  obtain ⟨kP, hkP, -⟩ := className_of_methodNamed hnamed
  have hinitP : kP.init = .initialized := Cond.initialized_spec (findClass_of_methodNamed hnamed) hkP (ht _ hini)
  have hlen : ∀ sig, parseMethodDescriptor y.desc = some sig → As.length = sig.parameters.length := fun sig h => by
    have h2 := hd.2.2
    rw [h] at h2
    exact hn.trans (Option.some.inj h2).symm
  obtain ⟨vm₁, X₁, hstep₁⟩ := X.invokestatic hexec hown (ht _ hlk) hnamed hmethM hstatic hkP hinitP ⟨hd.1, hd.2.1⟩ (g := g) hg (argsL := As) (rest := rest) (hlen _ hsigM) hstack (by rw [hb]; exact hdg)
  have hws : ∀ w ∈ (Cond.codeWith y bytes maxL ret hh :: tt), ∀ (a' : Array Value) (U : State), s.WarmedH U.vm → w.before a' U = true := fun w hw a' U hWU => by
    rcases List.mem_cons.mp hw with rfl | hw
    · exact word_at hWU (tt_good hcw) (ht _ hcw)
    · exact word_at hWU (tt_good hw) (ht _ hw)
  obtain ⟨o, t, T', L, X', hL, e1, e2, hq, hsm, st⟩ := tx_invoke (maxL := maxL) hM hp.1 hrc hrs hR.1 hR.2 hws (ht _ hini) X₁ (g := { g with stack := rest }) hg (hsize.trans hml.symm) (by rw [hb]; exact hdg) hW (X₁.named hnamed) (by rw [X₁.warmed.alike.method?]; exact hmethM) hcM hlM hf.1 hf.2 (a := As.toArray) (hp.2 (T.setVm vm₁) hT X₁.warmed)
  refine ⟨o, (T.setVm vm₁).calling { g with stack := rest } mk As.toArray, t, T', L, hT, X₁.warmed, X', hL, e1, e2, hq, fun h => hsm (h.trans hT.symm), fun tg h => hstep₁ _ fun acts => ?_⟩
  rw [doInvoke_state]
  cases o <;> exact st.trans h
theorem tx_runV (hexec : p.tables.exec = Jvm.exec) (hb : c.code = cc) (hml : c.maxLocals = nL) (hown : s.vm.findClass own = some m.cls) (ht : ∀ w ∈ tt, w.before args s = true)
    (hM : tx_Met l y (Cond.code y bytes maxL ret :: tt) rm Pc Qc mc ms free) (hcw : Cond.code y bytes maxL ret ∈ tt) (hin : Cond.instanceMethod y ∈ tt) (hse : Cond.selects y.cls y y ∈ tt) (hini : Cond.initialized y.cls ∈ tt) (hlk : Cond.methodLink own index y ∈ tt)
    (hd : y.cls ≠ "java/lang/invoke/MethodHandle" ∧ y.cls ≠ "java/lang/invoke/VarHandle" ∧ (parseMethodDescriptor y.desc).map (fun d => d.parameters.length) = some n) (hrc : rm.cells = mc) (hrs : rm.slots = ms) (hR : rm.frames + 1 ≤ R.frames ∧ 8 + (maxL + 11) + rm.locals ≤ R.locals) (hp : PreV s H y.cls b Pc As)
    (hg : g.method = m) (hn : As.length = n) (hsize : g.locals.size = nL) (hstack : g.stack = As.reverse ++ .ref b :: rest) (hW : 2 * g.monitorRoom + (rest.map fun v => v.category).sum ≤ 8) (hdg : decode cc g.pc = .ok (.invokevirtual index, 3)) (hf : cells + mc ≤ R.cells ∧ slots + ms ≤ R.slots) :
    tx_Run p l e R s m args below meth c H locs cells slots mc ms g rest (Qc (Value.ref b :: As).toArray) free := by
  intro T hT X
  have hcode := ht _ hcw
  obtain ⟨hbl, ⟨cellB, hcB, hoB, hclB⟩, hPc⟩ := hp
  obtain ⟨mk, methM, hnamed, hmethM, hstM, habM⟩ := Cond.instanceMethod_spec (ht _ hin)
  obtain ⟨methM', cM, hmethM', hcM, -, hlM, -, -, -, hsigM⟩ := Cond.code_spec hnamed hcode
  cases hmethM.symm.trans hmethM'
  obtain ⟨c2, r2, m2, q1, q2, q3, q4, kP, hkP, hkPi⟩ := Cond.selects_spec (ht _ hse)
  cases hclB.symm.trans q1
  cases (State.methodFound?_of_named hnamed ⟨hd.1, hd.2.1⟩).symm.trans q2
  cases hnamed.symm.trans q3
  have hselP : selectMethod e.platform s.vm cellB.cls mk = .method mk := by rw [Launch.admits_selectMethod X.admits]; exact q4
  have hlen : ∀ sig, parseMethodDescriptor y.desc = some sig → As.length = sig.parameters.length := fun sig h => by
    have h2 := hd.2.2
    rw [h] at h2
    exact hn.trans (Option.some.inj h2).symm
  obtain ⟨vm₁, X₁, hstep₁⟩ := X.invokevirtual hexec hown (ht _ hlk) hnamed hmethM hstM hkP hkPi ⟨hd.1, hd.2.1⟩ (a := b) (cell := cellB) (by rw [hT]; exact hcB)
    (fun z h => by rw [h] at hoB; cases hoB) hselP hmethM habM hkP hkPi (g := g) hg (argsL := As) (rest := rest) (hlen _ hsigM) hstack (by rw [hb]; exact hdg)
  have hws : ∀ w ∈ (Cond.code y bytes maxL ret :: tt), ∀ (a' : Array Value) (U : State), s.WarmedH U.vm → w.before a' U = true := fun w hw a' U hWU => by
    rcases List.mem_cons.mp hw with rfl | hw
    · exact word_at hWU (tt_good hcw) (ht _ hcw)
    · exact word_at hWU (tt_good hw) (ht _ hw)
  obtain ⟨o, t, T', L, X', hL, e1, e2, hq, hsm, st⟩ := tx_invoke (maxL := maxL) hM hbl hrc hrs hR.1 hR.2 hws (ht _ hini) X₁ (g := { g with stack := rest }) hg (hsize.trans hml.symm) (by rw [hb]; exact hdg) hW (X₁.named hnamed) (by rw [X₁.warmed.alike.method?]; exact hmethM) hcM hlM hf.1 hf.2 (a := (Value.ref b :: As).toArray) (hPc (T.setVm vm₁) hT X₁.warmed)
  refine ⟨o, (T.setVm vm₁).calling { g with stack := rest } mk (Value.ref b :: As).toArray, t, T', L, hT, X₁.warmed, X', hL, e1, e2, hq, fun h => hsm (h.trans hT.symm), fun tg h => hstep₁ _ fun acts => ?_⟩
  rw [doInvoke_state]
  cases o <;> exact st.trans h
end RUN
section CALL
variable {pc : Nat} {ls : Array Slot} {rest st0 : List Value} {a : Array Value} {mc ms : Nat} {free : Addr → Prop}
/-- a callee that returns a value and writes nothing -/
theorem tx_callO {v : Option Value} (hr : tx_Run p l e R s m args below meth c H locs cells slots mc ms (F0 m pc ls st0) rest (tx_PQ (.ok v) a) free)
    (k : W p l e R s m args below meth c H locs cells slots Q (F0 m (pc + 3) ls (v.toList ++ rest))) : W p l e R s m args below meth c H locs cells slots Q (F0 m pc ls st0) := by
  intro T hT X
  obtain ⟨o, st₀, t, T', L, h0, -, -, -, e1, -, ⟨rfl, hh⟩, hsm, st⟩ := hr T hT X
  obtain ⟨t2, a1, b1⟩ := k T' (by rw [e1, hh, h0]) (hsm (by rw [hh, h0]))
  exact ⟨t2, st t2 a1, b1⟩
/-- a callee that writes nothing and returns or throws, in a method without handlers that has written nothing yet -/
theorem tx_callP {res : Except String (Option Value)} {Qc : Array Value → State → Outcome → State → Prop} {free' : Addr → Prop} (hlocks : meth.locks = false) (hne : c.exceptionTable.isEmpty = true)
    (hr : tx_Run p l e R s m args below meth c s.heap [] 0 0 1 6 (F0 m pc ls st0) rest (tx_PQ res a) (fun _ => False))
    (herr : ∀ C, res = .error C → ∀ o t, tx_Thr C s o t → Qc args s o t)
    (hok : ∀ v, res = .ok v → W p l e R s m args below meth c s.heap [] 0 0 (tx_MQ below Qc args s 1 6 free') (F0 m (pc + 3) ls (v.toList ++ rest))) : W p l e R s m args below meth c s.heap [] 0 0 (tx_MQ below Qc args s 1 6 free') (F0 m pc ls st0) := by
  intro T hT X
  obtain ⟨o, st₀, t, T', L, h0, hW0, X', hL, e1, e2, hq, hsm, st⟩ := hr T hT X
  cases res with
  | ok v =>
    obtain ⟨rfl, hh⟩ := hq
    obtain ⟨t2, a1, b1⟩ := hok v rfl T' (by rw [e1, hh, h0]) (hsm (by rw [hh, h0]))
    exact ⟨t2, st t2 a1, b1⟩
  | error C =>
    obtain ⟨q, ce, rfl, q1, q2, q3, q4, q5⟩ := hq
    obtain ⟨w1, w2, w3, w4, w5⟩ := X'.leaveThrown q (g := F0 m pc ls rest) rfl rfl rfl (covers_of_empty hne _) hlocks
    refine ⟨T'.setFrames (.throwing q :: below), st _ w1, .threw q, w2, w3, herr C rfl _ _ ⟨q, ce, rfl, by rw [← h0]; exact q1, by rw [← e1] at q2; exact q2, by rw [← hW0.alike.findClass]; exact q3, q4, fun i hi => ?_⟩, [] ++ L, ⟨w4, w5⟩, fun x hx => ((hL x (by simpa using hx)).elim)⟩
    show T'.heap[i]? = s.heap[i]?
    rw [e1, q5 i (by rw [h0]; exact hi), h0]
/-- any callee: what it returns; what it throws, left to the caller -/
theorem tx_callG {Qa : State → Outcome → State → Prop} (hr : tx_Run p l e R s m args below meth c H locs cells slots mc ms (F0 m pc ls st0) rest Qa free)
    (hret : ∀ (v : Option Value) (st₀ t : State) (L : List Loc), st₀.heap = H → s.WarmedH st₀.vm → s.vm.Alike t.vm → (∀ q ∈ L, free q.base) → Qa st₀ (.returned v) t → W p l e R s m args below meth c t.heap (locs ++ L) (cells + mc) (slots + ms) Q (F0 m (pc + 3) ls (v.toList ++ rest)))
    (hthr : ∀ (x : Addr) (st₀ t T' : State) (L : List Loc), st₀.heap = H → s.WarmedH st₀.vm → T'.heap = t.heap → (∀ q ∈ L, free q.base) → Qa st₀ (.threw x) t → Stand p l e R s m args below meth c T' (locs ++ L) (cells + mc) (slots + ms) → ∃ tg, Steps p.tables e below ((T'.setTop (F0 m pc ls rest)).pushFrame (.throwing x)) tg ∧ Q tg) : W p l e R s m args below meth c H locs cells slots Q (F0 m pc ls st0) := by
  intro T hT X
  obtain ⟨o, st₀, t, T', L, h0, hW0, X', hL, e1, e2, hq, -, st⟩ := hr T hT X
  cases o with
  | returned v =>
    obtain ⟨t2, a1, b1⟩ := hret v st₀ t L h0 hW0 (by rw [← e2]; exact X'.warmed.alike) hL hq T' e1 X'
    exact ⟨t2, st t2 a1, b1⟩
  | threw x =>
    obtain ⟨t2, a1, b1⟩ := hthr x st₀ t T' L h0 hW0 e1 hL hq X'
    exact ⟨t2, st t2 a1, b1⟩
/-- a callee that only returns -/
theorem tx_callR {Qa : State → Outcome → State → Prop} (hr : tx_Run p l e R s m args below meth c H locs cells slots mc ms (F0 m pc ls st0) rest Qa free) (hno : ∀ x st₀ t, ¬ Qa st₀ (.threw x) t)
    (hret : ∀ (v : Option Value) (st₀ t : State) (L : List Loc), st₀.heap = H → s.WarmedH st₀.vm → s.vm.Alike t.vm → (∀ q ∈ L, free q.base) → Qa st₀ (.returned v) t → W p l e R s m args below meth c t.heap (locs ++ L) (cells + mc) (slots + ms) Q (F0 m (pc + 3) ls (v.toList ++ rest))) : W p l e R s m args below meth c H locs cells slots Q (F0 m pc ls st0) :=
  tx_callG hr hret (fun x st₀ t _ _ _ _ _ _ hq _ => (hno x st₀ t hq).elim)
end CALL
/-! the search through a handler table whose entries may be unresolved yet -/
theorem tx_go {f : JFrame} {a : Addr} {S : State} {x : ExceptionTableEntry} {t : List ExceptionTableEntry} {cD : ClassId} {vm' : Vm} {cell : Cell} {Qh : Handler → Pre} {E : CtlPost} {d : Bool} {acts : List Action} (hx : covers x f.pc = true) (h0 : x.catchType ≠ 0)
    (hg : (Jvm.resolveClass f.method.cls x.catchType).Gives e.toSetting S.vm (.ok cD) vm') (hsz : vm'.classes.size ≤ S.vm.classes.size) (hcell : S.heap[a]? = some cell) (hobj : ∀ k, cell.vm ≠ .statics k) (hk : ∃ k, vm'.classes[cell.cls]? = some k) (hc : ∃ k, vm'.classes[cD]? = some k) :
    wp (findHandler.go f a (x :: t)) Qh E e d acts S ↔ if vm'.assignable cell.cls cD = true then Qh (.found x.handlerPc) d acts (S.setVm vm') else wp (findHandler.go f a t) Qh E e d acts (S.setVm vm') := by
  simp only [covers] at hx
  obtain ⟨h1, h2⟩ := hg.op (op := VmOp.resolveClass f.method.cls x.catchType) rfl
  have h3 := VmOp.lands_eq (s := S) h2 hsz
  cases hfit : vm'.assignable cell.cls cD <;>
    simp [findHandler.go, hx, h0, h1, h3, hcell, hobj, hk, hc, hfit, VmOp.dirties, VmOp.acts]
theorem tx_search {own C : String} {pc tgt : Nat} {a : Addr} {ce : Cell} {f : JFrame} (hpl : e.platform.magicAccessors = ({} : Platform).magicAccessors) (hown : s.vm.findClass own = some m.cls) (hcls : s.vm.findClass C = some ce.cls) (hvm : ce.vm = .none) (hf : f.method = m) (hpc : f.pc = pc) :
    ∀ (hh : List (Nat × Nat × Nat × Nat)) (S : State), S.heap[a]? = some ce → s.WarmedH S.vm → tx_Hit args s own C pc tgt hh → ∃ vm', s.WarmedH vm' ∧ ∀ (Qh : Handler → Pre) (E : CtlPost) (d : Bool) (acts : List Action), wp (findHandler.go f a (tableOf hh)) Qh E e d acts S ↔ Qh (.found tgt) d acts (S.setVm vm') := by
  intro hh
  induction hh with
  | nil => intro S _ _ h; exact h.elim
  | cons q r ih =>
    intro S hcell hW hhit
    obtain ⟨c1, c2, c3, D, hlk, hcase⟩ := hhit
    obtain ⟨cD, hfD, hcl⟩ := Cond.classLink_spec hown hlk e.platform hpl
    obtain ⟨hg₁, hwarm₁, hready₁⟩ := State.classEntry (e := e) hW hcl
    generalize hve : S.vm.noted m.cls q.2.2.2 (.cls cD) = vm₁ at hg₁ hwarm₁ hready₁
    have hsz : vm₁.classes.size ≤ S.vm.classes.size := by
      have a1 := hwarm₁.alike.2.1
      have a2 := hW.alike.2.1
      omega
    have hkc : ∃ k, vm₁.classes[ce.cls]? = some k := Vm.classAt_of_findClass (name := C) (by rw [hwarm₁.alike.findClass]; exact hcls)
    have hkD : ∃ k, vm₁.classes[cD]? = some k := Vm.classAt_of_findClass (name := D) (by rw [hwarm₁.alike.findClass]; exact hfD)
    have hcov : covers ⟨q.1, q.2.1, q.2.2.1, q.2.2.2⟩ f.pc = true := by
      rw [hpc]; simp [covers, c1, c2]
    have hg₂ : (Jvm.resolveClass f.method.cls q.2.2.2).Gives e.toSetting S.vm (.ok cD) vm₁ := by rw [hf]; exact hg₁
    have key : ∀ (Qh : Handler → Pre) (E : CtlPost) (d : Bool) (acts : List Action), wp (findHandler.go f a (tableOf (q :: r))) Qh E e d acts S ↔ if vm₁.assignable ce.cls cD = true then Qh (.found q.2.2.1) d acts (S.setVm vm₁) else wp (findHandler.go f a (tableOf r)) Qh E e d acts (S.setVm vm₁) := fun Qh E d acts =>
      tx_go (x := ⟨q.1, q.2.1, q.2.2.1, q.2.2.2⟩) hcov c3 hg₂ hsz hcell (fun k h => by rw [hvm] at h; cases h) hkc hkD
    rcases hcase with ⟨hcast, rfl⟩ | ⟨⟨c4, t4, n1, n2, n3⟩, hrec⟩
    · obtain ⟨c3', t3, w1, w2, w3⟩ := Cond.castable_spec hcast
      cases hcls.symm.trans w1
      cases hfD.symm.trans w2
      refine ⟨vm₁, hwarm₁, fun Qh E d acts => ?_⟩
      rw [key, if_pos (by rw [hwarm₁.alike.assignable]; exact w3)]
    · cases hcls.symm.trans n1
      cases hfD.symm.trans n2
      obtain ⟨vm₂, hwarm₂, h2⟩ := ih (S.setVm vm₁) hcell hwarm₁ hrec
      refine ⟨vm₂, hwarm₂, fun Qh E d acts => ?_⟩
      rw [key, if_neg (by rw [hwarm₁.alike.assignable, n3]; decide)]
      exact h2 Qh E d acts
theorem tx_stepCatch {S S' : State} {a : Addr} {f : JFrame} {r : List Frame} {pc : Nat} (hfind : ∀ (Qh : Handler → Pre) (E : CtlPost) (d : Bool) (acts : List Action), wp (findHandler f a) Qh E e d acts S ↔ Qh (.found pc) d acts S') :
    (stepThrowing e S a (.java f :: r)).Is (S'.setFrames (.java { f with pc := pc, stack := [.ref a] } :: r)) [] := by
  simp only [stepThrowing, searchFrame, vmDo]
  generalize hr : Sem.go _ e false [] S = res
  obtain ⟨as, rfl, ha⟩ := Sem.eq_ok_of hr (a := Handler.found pc) (s' := S') (acts' := []) (by simp [hfind _ _ _ _])
  exact ⟨rfl, ha⟩
/-- **a catch**: the exception on its way in the frame g is caught by the method's own table -/
theorem tx_catch {T : State} (X : Stand p l e R s m args below meth c T locs cells slots) {own C : String} (hown : s.vm.findClass own = some m.cls) {hh : List (Nat × Nat × Nat × Nat)} (htab : c.exceptionTable.toList = tableOf hh)
    {a : Addr} {ce : Cell} (hcell : T.heap[a]? = some ce) (hvm : ce.vm = .none) (hcls : s.vm.findClass C = some ce.cls) {tgt : Nat} {g : JFrame} (hg : g.method = m) (hx : tx_Hit args s own C g.pc tgt hh) :
    ∃ vm', Stand p l e R s m args below meth c (T.setVm vm') locs cells slots ∧ ∀ tg, Steps p.tables e below ((T.setVm vm').setTop { g with pc := tgt, stack := [.ref a] }) tg → Steps p.tables e below ((T.setTop g).pushFrame (.throwing a)) tg := by
  have hpl : e.platform.magicAccessors = ({} : Platform).magicAccessors := by rw [X.admits.platform]
  have hv : ((T.setTop g).pushFrame (.throwing a)).vm = T.vm := Stand.throwing_vm T g a
  have hp : ((T.setTop g).pushFrame (.throwing a)).heap = T.heap := Stand.throwing_heap T g a
  obtain ⟨vm', hW', hfind⟩ := tx_search (e := e) (f := g) (a := a) (ce := ce) hpl hown hcls hvm hg rfl hh ((T.setTop g).pushFrame (.throwing a)) (by rw [hp]; exact hcell) (by rw [hv]; exact X.warmed) hx
  have hf2 : ∀ (Qh : Handler → Pre) (E : CtlPost) (d : Bool) (acts : List Action), wp (findHandler g a) Qh E e d acts ((T.setTop g).pushFrame (.throwing a)) ↔ Qh (.found tgt) d acts (((T.setTop g).pushFrame (.throwing a)).setVm vm') := fun Qh E d acts => by
    rw [Jvm.W.findHandler_eq (meth := meth) (code := c) (by rw [hv, hg]; exact X.method') X.code, htab]
    exact hfind Qh E d acts
  refine ⟨vm', X.noted hW', fun tg hrest => ?_⟩
  have h : At T g.method c below := by rw [hg]; exact X.here
  obtain ⟨hgo, hw⟩ := h.throwing a
  refine Steps.head hgo hw ?_
  rw [stepThread_throwing (frames_entered h.top _), (tx_stepCatch hf2).1]
  obtain ⟨g₀, hg0⟩ := Option.isSome_iff_exists.mp h.top
  obtain ⟨r, hr⟩ := State.topJava?_eq_some.mp hg0
  have hr' : (T.setVm vm').frames = .java g₀ :: r := hr
  have e1 : (((T.setTop g).pushFrame (.throwing a)).setVm vm').setFrames (.java { g with pc := tgt, stack := [.ref a] } :: T.frames.tail) = (T.setVm vm').setTop { g with pc := tgt, stack := [.ref a] } := by
    rw [State.setTop_of_frames _ hr', State.pushFrame, State.setTop_of_frames _ hr, hr]
    show (((T.setVm vm').setFrames _).setFrames _).setFrames _ = _
    rw [State.setFrames_setFrames, State.setFrames_setFrames]
    rfl
  rw [e1]
  exact hrest
section CMP
variable {cc : ByteArray} {pc : Nat} {ls : Array Slot} {rest : List Value} {x y : Int64} {off : Int} {tgt : Nat}
theorem lc_ge (hexec : p.tables.exec = Jvm.exec) (hb : c.code = cc) (d0 : decode cc pc = .ok (.lcmp, 1)) (d1 : decode cc (pc + 1) = .ok (.ifCond .ge off, 3)) (ht : ((pc + 1 : Nat) : Int) + off = (tgt : Int))
    (kt : y ≤ x → W p l e R s m args below meth c H locs cells slots Q (F0 m tgt ls rest)) (kf : x < y → W p l e R s m args below meth c H locs cells slots Q (F0 m (pc + 4) ls rest)) : W p l e R s m args below meth c H locs cells slots Q (F0 m pc ls (.long y :: .long x :: rest)) :=
  W.lcmp hexec hb d0 (lv_if_ge hexec hb d1 ht (fun h => kt ((lg_cmp_ge x y).mp h)) (fun h => kf (Int64.not_le.mp (fun z => h ((lg_cmp_ge x y).mpr z)))))
theorem lc_lt (hexec : p.tables.exec = Jvm.exec) (hb : c.code = cc) (d0 : decode cc pc = .ok (.lcmp, 1)) (d1 : decode cc (pc + 1) = .ok (.ifCond .lt off, 3)) (ht : ((pc + 1 : Nat) : Int) + off = (tgt : Int))
    (kt : x < y → W p l e R s m args below meth c H locs cells slots Q (F0 m tgt ls rest)) (kf : y ≤ x → W p l e R s m args below meth c H locs cells slots Q (F0 m (pc + 4) ls rest)) : W p l e R s m args below meth c H locs cells slots Q (F0 m pc ls (.long y :: .long x :: rest)) :=
  W.lcmp hexec hb d0 (lv_if_lt hexec hb d1 ht (fun h => kt ((lg_cmp_lt x y).mp h)) (fun h => kf (Int64.not_lt.mp (fun z => h ((lg_cmp_lt x y).mpr z)))))
theorem lc_gt (hexec : p.tables.exec = Jvm.exec) (hb : c.code = cc) (d0 : decode cc pc = .ok (.lcmp, 1)) (d1 : decode cc (pc + 1) = .ok (.ifCond .gt off, 3)) (ht : ((pc + 1 : Nat) : Int) + off = (tgt : Int))
    (kt : y < x → W p l e R s m args below meth c H locs cells slots Q (F0 m tgt ls rest)) (kf : x ≤ y → W p l e R s m args below meth c H locs cells slots Q (F0 m (pc + 4) ls rest)) : W p l e R s m args below meth c H locs cells slots Q (F0 m pc ls (.long y :: .long x :: rest)) :=
  W.lcmp hexec hb d0 (lv_if_gt hexec hb d1 ht (fun h => kt ((lg_cmp_gt x y).mp h)) (fun h => kf (Int64.not_lt.mp (fun z => h ((lg_cmp_gt x y).mpr z)))))
theorem lc_le (hexec : p.tables.exec = Jvm.exec) (hb : c.code = cc) (d0 : decode cc pc = .ok (.lcmp, 1)) (d1 : decode cc (pc + 1) = .ok (.ifCond .le off, 3)) (ht : ((pc + 1 : Nat) : Int) + off = (tgt : Int))
    (kt : x ≤ y → W p l e R s m args below meth c H locs cells slots Q (F0 m tgt ls rest)) (kf : y < x → W p l e R s m args below meth c H locs cells slots Q (F0 m (pc + 4) ls rest)) : W p l e R s m args below meth c H locs cells slots Q (F0 m pc ls (.long y :: .long x :: rest)) :=
  W.lcmp hexec hb d0 (lv_if_le hexec hb d1 ht (fun h => kt ((lg_cmp_le x y).mp h)) (fun h => kf (Int64.not_le.mp (fun z => h ((lg_cmp_le x y).mpr z)))))
theorem lc_eq (hexec : p.tables.exec = Jvm.exec) (hb : c.code = cc) (d0 : decode cc pc = .ok (.lcmp, 1)) (d1 : decode cc (pc + 1) = .ok (.ifCond .eq off, 3)) (ht : ((pc + 1 : Nat) : Int) + off = (tgt : Int))
    (kt : x = y → W p l e R s m args below meth c H locs cells slots Q (F0 m tgt ls rest)) (kf : ¬ x = y → W p l e R s m args below meth c H locs cells slots Q (F0 m (pc + 4) ls rest)) : W p l e R s m args below meth c H locs cells slots Q (F0 m pc ls (.long y :: .long x :: rest)) :=
  W.lcmp hexec hb d0 (lv_if_eq hexec hb d1 ht (fun h => kt ((lg_cmp_eq x y).mp h)) (fun h => kf (fun z => h ((lg_cmp_eq x y).mpr z))))
theorem lc_ne (hexec : p.tables.exec = Jvm.exec) (hb : c.code = cc) (d0 : decode cc pc = .ok (.lcmp, 1)) (d1 : decode cc (pc + 1) = .ok (.ifCond .ne off, 3)) (ht : ((pc + 1 : Nat) : Int) + off = (tgt : Int))
    (kt : ¬ x = y → W p l e R s m args below meth c H locs cells slots Q (F0 m tgt ls rest)) (kf : x = y → W p l e R s m args below meth c H locs cells slots Q (F0 m (pc + 4) ls rest)) : W p l e R s m args below meth c H locs cells slots Q (F0 m pc ls (.long y :: .long x :: rest)) :=
  W.lcmp hexec hb d0 (lv_if_ne hexec hb d1 ht (fun h => kt (fun z => h ((lg_cmp_eq x y).mpr z))) (fun h => kf ((lg_cmp_eq x y).mp h)))
end CMP
end TX
end
section
-- Decimal and Math.floorDiv, floorMod: the Java as Lean functions (j_ ..), the walks (wk_ ..), the contracts (c_ ..); printed by gen/p10.py
abbrev xIA : String := "java/lang/IllegalArgumentException"
abbrev xAE : String := "java/lang/ArithmeticException"
abbrev xUO : String := "java/lang/UnsupportedOperationException"
def j_ab (x : Int64) : Int64 := if x < 0 then -x else x
theorem j_ab_ge {x : Int64} (h : 0 ≤ x) : x = j_ab x := by rw [j_ab, if_neg (Int64.not_lt.mpr h)]
theorem j_ab_lt {x : Int64} (h : x < 0) : -x = j_ab x := by rw [j_ab, if_pos h]
def j_half (n d : Int64) : Int64 := if j_ab (n - n / d * d) < d - j_ab (n - n / d * d) then n / d else n / d + (if n < 0 then -1 else 1)
def j_fit (n : Int64) : Except String Int64 := if 900000000000000 < n ∨ n < -900000000000000 then .error xAE else .ok n
/-- a long answer, or the kind of what is thrown -/
def j_lng (r : Except String Int64) : Except String (Option Value) := match r with
  | .ok v => .ok (some (.long v))
  | .error C => .error C
def j_floorDiv (x y : Int64) : Int64 := if (x ^^^ y) < 0 ∧ ¬ (x / y * y = x) then x / y - 1 else x / y
def j_floorMod (x y : Int64) : Int64 := if (x ^^^ y) < 0 ∧ ¬ (x - x / y * y = 0) then x - x / y * y + y else x - x / y * y
def j_floor (n : Int64) : Int64 := j_floorDiv n 10000 * 10000
def j_ng (x : Int64) : Int32 := if x < 0 then 1 else 0
theorem j_ng_ge {x : Int64} (h : 0 ≤ x) : (0 : Int32) = j_ng x := by rw [j_ng, if_neg (Int64.not_lt.mpr h)]
theorem j_ng_lt {x : Int64} (h : x < 0) : (1 : Int32) = j_ng x := by rw [j_ng, if_pos h]
def j_sgn (a b n : Int64) : Int64 := if j_ng a = j_ng b then n else -n
def j_times (a b : Int64) : Except String Int64 :=
  if 0 < j_ab a / 10000 ∧ 900000000000000 / (j_ab a / 10000) < j_ab b then .error xAE
  else j_fit (j_sgn a b (j_ab a / 10000 * j_ab b + j_half ((j_ab a - j_ab a / 10000 * 10000) * j_ab b) 10000))
def j_by (a b : Int64) : Except String Int64 := if b = 0 then .error xUO else j_fit (j_sgn a b (j_half (j_ab a * 10000) (j_ab b)))
def j_up : Nat → Int64 → Int64
  | 0, u => u
  | k + 1, u => j_up k (u * 10)
def j_round (n d : Int64) : Int64 := if d < 4 then j_half n (j_up (4 - d.toInt).toNat 1) * j_up (4 - d.toInt).toNat 1 else n
theorem j_ab0 {x : Int64} (h : ¬ x = 0) : ¬ j_ab x = 0 := by
  unfold j_ab
  split
  · intro h2
    have h3 := congrArg (fun z : Int64 => -z) h2
    exact h (by simpa using h3)
  · exact h
theorem i64_add {x y : Int64} (h1 : -9223372036854775808 ≤ x.toInt + y.toInt) (h2 : x.toInt + y.toInt < 9223372036854775808) : (x + y).toInt = x.toInt + y.toInt := by
  rw [Int64.toInt_add]
  exact Jvm.Kit.bmod64 (by omega) (by omega)
theorem j_up0 : ∀ k, k < 20 → ¬ j_up k 1 = 0 := by decide
section DEC
variable {p : Program} {l : Launch} {e : Env} {R : Room} {s : State} {m : MethodId} {args : Array Value} {below : List Frame} {meth : Method} {c : Code} {H : Heap} {locs : List Loc} {cells slots : Nat} {Q : State → Prop} {ls : Array Slot}
theorem wk_De_fit (n : Int64) (hx : p.tables.exec = Jvm.exec) (hb : c.code = b_De_fit) (hown : s.vm.findClass "TenThousandthDesk$Decimal" = some m.cls) (ht : ∀ w ∈ tt, w.before args s = true) (hl : lv_has ls 2 [(0, .long n)])
    (kthr : ∀ ls : Array Slot, ls.size = 2 → (900000000000000 < n ∨ n < -900000000000000) → W p l e R s m args below meth c H locs cells slots Q (F0 m 16 ls []))
    (kret : ∀ ls : Array Slot, ¬ (900000000000000 < n ∨ n < -900000000000000) → W p l e R s m args below meth c H locs cells slots Q (F0 m 25 ls [.long n])) : W p l e R s m args below meth c H locs cells slots Q (F0 m 0 ls []) := by
  refine lv_lload_n hx hb d_De_fit_0 rfl (lv_at hl 0 rfl) ?_
  refine lv_ldc2 hx hb hown (ht _ t_155) d_De_fit_1 ?_
  refine lc_gt (tgt := 16) hx hb d_De_fit_4 d_De_fit_5 (by decide) (fun h1 => ?_) (fun h1 => ?_)
  · exact kthr ls hl.1 (Or.inl h1)
  · refine lv_lload_n hx hb d_De_fit_8 rfl (lv_at hl 0 rfl) ?_
    refine lv_ldc2 hx hb hown (ht _ t_156) d_De_fit_9 ?_
    refine lc_ge (tgt := 24) hx hb d_De_fit_12 d_De_fit_13 (by decide) (fun h2 => ?_) (fun h2 => ?_)
    · refine lv_lload_n hx hb d_De_fit_24 rfl (lv_at hl 0 rfl) ?_
      exact kret ls (fun h => h.elim (fun h => Int64.not_lt.mpr h1 h) (fun h => Int64.not_lt.mpr h2 h))
    · exact kthr ls hl.1 (Or.inr h2)
theorem wk_De_half (n d : Int64) (hx : p.tables.exec = Jvm.exec) (hb : c.code = b_De_half) (hown : s.vm.findClass "TenThousandthDesk$Decimal" = some m.cls) (ht : ∀ w ∈ tt, w.before args s = true) (hl : lv_has ls 10 [(0, .long n), (2, .long d)]) (hd : ¬ d = 0)
    (kret : ∀ ls : Array Slot, W p l e R s m args below meth c H locs cells slots Q (F0 m 58 ls [.long (j_half n d)])) : W p l e R s m args below meth c H locs cells slots Q (F0 m 0 ls []) := by
  refine lv_lload_n hx hb d_De_half_0 rfl (lv_at hl 0 rfl) ?_
  refine lv_lload_n hx hb d_De_half_1 rfl (lv_at hl 1 rfl) ?_
  refine lv_ldiv hx hb d_De_half_2 hd ?_
  refine lv_lstore (lv' := [(4, .long (n / d)), (0, .long n), (2, .long d)]) hx hb d_De_half_3 hl (by decide) rfl (fun ls hl => ?_)
  refine lv_lload_n hx hb d_De_half_5 rfl (lv_at hl 1 rfl) ?_
  refine lv_lload_n hx hb d_De_half_6 rfl (lv_at hl 2 rfl) ?_
  refine lv_lrem hx hb d_De_half_7 hd ?_
  refine lv_lstore (lv' := [(6, .long (n - n / d * d)), (4, .long (n / d)), (0, .long n), (2, .long d)]) hx hb d_De_half_8 hl (by decide) rfl (fun ls hl => ?_)
  have k1 : ∀ (ls : Array Slot) (z : Int64), lv_has ls 10 [(6, .long (n - n / d * d)), (4, .long (n / d)), (0, .long n), (2, .long d)] → z = j_ab (n - n / d * d) → W p l e R s m args below meth c H locs cells slots Q (F0 m 25 ls [.long z]) := by
    intro ls z hl hz
    subst hz
    refine lv_lstore (lv' := [(8, .long (j_ab (n - n / d * d))), (6, .long (n - n / d * d)), (4, .long (n / d)), (0, .long n), (2, .long d)]) hx hb d_De_half_25 hl (by decide) rfl (fun ls hl => ?_)
    refine lv_lload hx hb d_De_half_27 (lv_at hl 0 rfl) ?_
    refine lv_lload_n hx hb d_De_half_29 rfl (lv_at hl 4 rfl) ?_
    refine lv_lload hx hb d_De_half_30 (lv_at hl 0 rfl) ?_
    refine lv_lsub hx hb d_De_half_32 ?_
    refine lc_lt (tgt := 56) hx hb d_De_half_33 d_De_half_34 (by decide) (fun h1 => ?_) (fun h1 => ?_)
    · refine lv_lload hx hb d_De_half_56 (lv_at hl 2 rfl) ?_
      rw [show n / d = j_half n d from by rw [j_half, if_pos h1]]
      exact kret ls
    · refine lv_lload hx hb d_De_half_37 (lv_at hl 2 rfl) ?_
      refine lv_lload_n hx hb d_De_half_39 rfl (lv_at hl 3 rfl) ?_
      refine lv_lconst (v := 0) hx hb d_De_half_40 (by decide) ?_
      refine lc_ge (tgt := 51) hx hb d_De_half_41 d_De_half_42 (by decide) (fun h2 => ?_) (fun h2 => ?_)
      · refine lv_lconst (v := 1) hx hb d_De_half_51 (by decide) ?_
        refine lv_ladd hx hb d_De_half_52 ?_
        refine lv_goto (tgt := 58) hx hb d_De_half_53 (by decide) ?_
        rw [show n / d + 1 = j_half n d from by rw [j_half, if_neg (Int64.not_lt.mpr h1), if_neg (Int64.not_lt.mpr h2)]]
        exact kret ls
      · refine lv_ldc2 hx hb hown (ht _ t_173) d_De_half_45 ?_
        refine lv_goto (tgt := 52) hx hb d_De_half_48 (by decide) ?_
        refine lv_ladd hx hb d_De_half_52 ?_
        refine lv_goto (tgt := 58) hx hb d_De_half_53 (by decide) ?_
        rw [show n / d + -1 = j_half n d from by rw [j_half, if_neg (Int64.not_lt.mpr h1), if_pos h2]]
        exact kret ls
  refine lv_lload hx hb d_De_half_10 (lv_at hl 0 rfl) ?_
  refine lv_lconst (v := 0) hx hb d_De_half_12 (by decide) ?_
  refine lc_ge (tgt := 23) hx hb d_De_half_13 d_De_half_14 (by decide) (fun h0 => ?_) (fun h0 => ?_)
  · refine lv_lload hx hb d_De_half_23 (lv_at hl 0 rfl) ?_
    exact k1 ls (n - n / d * d) hl (j_ab_ge h0)
  · refine lv_lload hx hb d_De_half_17 (lv_at hl 0 rfl) ?_
    refine lv_lneg hx hb d_De_half_19 ?_
    refine lv_goto (tgt := 25) hx hb d_De_half_20 (by decide) ?_
    exact k1 ls (-(n - n / d * d)) hl (j_ab_lt h0)
theorem wk_Ma_floorDiv (x y : Int64) (hx : p.tables.exec = Jvm.exec) (hb : c.code = b_Ma_floorDiv) (hl : lv_has ls 6 [(0, .long x), (2, .long y)]) (hd : ¬ y = 0)
    (kret1 : ∀ ls : Array Slot, W p l e R s m args below meth c H locs cells slots Q (F0 m 29 ls [.long (j_floorDiv x y)]))
    (kret2 : ∀ ls : Array Slot, W p l e R s m args below meth c H locs cells slots Q (F0 m 26 ls [.long (j_floorDiv x y)])) : W p l e R s m args below meth c H locs cells slots Q (F0 m 0 ls []) := by
  refine lv_lload_n hx hb d_Ma_floorDiv_0 rfl (lv_at hl 0 rfl) ?_
  refine lv_lload_n hx hb d_Ma_floorDiv_1 rfl (lv_at hl 1 rfl) ?_
  refine lv_ldiv hx hb d_Ma_floorDiv_2 hd ?_
  refine lv_lstore (lv' := [(4, .long (x / y)), (0, .long x), (2, .long y)]) hx hb d_Ma_floorDiv_3 hl (by decide) rfl (fun ls hl => ?_)
  refine lv_lload_n hx hb d_Ma_floorDiv_5 rfl (lv_at hl 1 rfl) ?_
  refine lv_lload_n hx hb d_Ma_floorDiv_6 rfl (lv_at hl 2 rfl) ?_
  refine lv_lxor hx hb d_Ma_floorDiv_7 ?_
  refine lv_lconst (v := 0) hx hb d_Ma_floorDiv_8 (by decide) ?_
  refine lc_ge (tgt := 27) hx hb d_Ma_floorDiv_9 d_Ma_floorDiv_10 (by decide) (fun h1 => ?_) (fun h1 => ?_)
  · refine lv_lload hx hb d_Ma_floorDiv_27 (lv_at hl 0 rfl) ?_
    rw [show x / y = j_floorDiv x y from by rw [j_floorDiv, if_neg (fun h => Int64.not_lt.mpr h1 h.1)]]
    exact kret1 ls
  · refine lv_lload hx hb d_Ma_floorDiv_13 (lv_at hl 0 rfl) ?_
    refine lv_lload_n hx hb d_Ma_floorDiv_15 rfl (lv_at hl 2 rfl) ?_
    refine lv_lmul hx hb d_Ma_floorDiv_16 ?_
    refine lv_lload_n hx hb d_Ma_floorDiv_17 rfl (lv_at hl 1 rfl) ?_
    refine lc_eq (tgt := 27) hx hb d_Ma_floorDiv_18 d_Ma_floorDiv_19 (by decide) (fun h2 => ?_) (fun h2 => ?_)
    · refine lv_lload hx hb d_Ma_floorDiv_27 (lv_at hl 0 rfl) ?_
      rw [show x / y = j_floorDiv x y from by rw [j_floorDiv, if_neg (fun h => h.2 h2)]]
      exact kret1 ls
    · refine lv_lload hx hb d_Ma_floorDiv_22 (lv_at hl 0 rfl) ?_
      refine lv_lconst (v := 1) hx hb d_Ma_floorDiv_24 (by decide) ?_
      refine lv_lsub hx hb d_Ma_floorDiv_25 ?_
      rw [show x / y - 1 = j_floorDiv x y from by rw [j_floorDiv, if_pos ⟨h1, h2⟩]]
      exact kret2 ls
theorem wk_Ma_floorMod (x y : Int64) (hx : p.tables.exec = Jvm.exec) (hb : c.code = b_Ma_floorMod) (hl : lv_has ls 6 [(0, .long x), (2, .long y)]) (hd : ¬ y = 0)
    (kret1 : ∀ ls : Array Slot, W p l e R s m args below meth c H locs cells slots Q (F0 m 27 ls [.long (j_floorMod x y)]))
    (kret2 : ∀ ls : Array Slot, W p l e R s m args below meth c H locs cells slots Q (F0 m 24 ls [.long (j_floorMod x y)])) : W p l e R s m args below meth c H locs cells slots Q (F0 m 0 ls []) := by
  refine lv_lload_n hx hb d_Ma_floorMod_0 rfl (lv_at hl 0 rfl) ?_
  refine lv_lload_n hx hb d_Ma_floorMod_1 rfl (lv_at hl 1 rfl) ?_
  refine lv_lrem hx hb d_Ma_floorMod_2 hd ?_
  refine lv_lstore (lv' := [(4, .long (x - x / y * y)), (0, .long x), (2, .long y)]) hx hb d_Ma_floorMod_3 hl (by decide) rfl (fun ls hl => ?_)
  refine lv_lload_n hx hb d_Ma_floorMod_5 rfl (lv_at hl 1 rfl) ?_
  refine lv_lload_n hx hb d_Ma_floorMod_6 rfl (lv_at hl 2 rfl) ?_
  refine lv_lxor hx hb d_Ma_floorMod_7 ?_
  refine lv_lconst (v := 0) hx hb d_Ma_floorMod_8 (by decide) ?_
  refine lc_ge (tgt := 25) hx hb d_Ma_floorMod_9 d_Ma_floorMod_10 (by decide) (fun h1 => ?_) (fun h1 => ?_)
  · refine lv_lload hx hb d_Ma_floorMod_25 (lv_at hl 0 rfl) ?_
    rw [show x - x / y * y = j_floorMod x y from by rw [j_floorMod, if_neg (fun h => Int64.not_lt.mpr h1 h.1)]]
    exact kret1 ls
  · refine lv_lload hx hb d_Ma_floorMod_13 (lv_at hl 0 rfl) ?_
    refine lv_lconst (v := 0) hx hb d_Ma_floorMod_15 (by decide) ?_
    refine lc_eq (tgt := 25) hx hb d_Ma_floorMod_16 d_Ma_floorMod_17 (by decide) (fun h2 => ?_) (fun h2 => ?_)
    · refine lv_lload hx hb d_Ma_floorMod_25 (lv_at hl 0 rfl) ?_
      rw [show x - x / y * y = j_floorMod x y from by rw [j_floorMod, if_neg (fun h => h.2 h2)]]
      exact kret1 ls
    · refine lv_lload hx hb d_Ma_floorMod_20 (lv_at hl 0 rfl) ?_
      refine lv_lload_n hx hb d_Ma_floorMod_22 rfl (lv_at hl 2 rfl) ?_
      refine lv_ladd hx hb d_Ma_floorMod_23 ?_
      rw [show x - x / y * y + y = j_floorMod x y from by rw [j_floorMod, if_pos ⟨h1, h2⟩]]
      exact kret2 ls
end DEC
theorem c_De_half (l : Launch) (n d : Int64) (hd : ¬ d = 0) : tx_Met l y_De_half (Cond.code y_De_half b_De_half 10 (some .long) :: tt) rm0 (fun a _ => a = ([.long n, .long d] : List Value).toArray) (tx_PQ (.ok (some (.long (j_half n d))))) 0 0 (fun _ => False) := by
  refine tx_start (by decide +kernel) [.long n, .long d] (Nat.le_of_ble_eq_true rfl) (fun _ _ h => h) ?_
  intro p e s m below meth c ls hx hb hr hlk hml hne hown ht hnm hP hl
  exact wk_De_half n d hx hb hown ht hl hd (fun ls => tx_ret (W.lret (v := (j_half n d)) hx hb hr (fun t hth _ => And.intro rfl hth) (fun q hq => by cases hq) d_De_half_58))
theorem c_Ma_floorDiv (l : Launch) (x y : Int64) (hd : ¬ y = 0) : tx_Met l y_Ma_floorDiv (Cond.code y_Ma_floorDiv b_Ma_floorDiv 6 (some .long) :: tt) rm0 (fun a _ => a = ([.long x, .long y] : List Value).toArray) (tx_PQ (.ok (some (.long (j_floorDiv x y))))) 0 0 (fun _ => False) := by
  refine tx_start (by decide +kernel) [.long x, .long y] (Nat.le_of_ble_eq_true rfl) (fun _ _ h => h) ?_
  intro p e s m below meth c ls hx hb hr hlk hml hne hown ht hnm hP hl
  exact wk_Ma_floorDiv x y hx hb hl hd (fun ls => tx_ret (W.lret (v := (j_floorDiv x y)) hx hb hr (fun t hth _ => And.intro rfl hth) (fun q hq => by cases hq) d_Ma_floorDiv_29)) (fun ls => tx_ret (W.lret (v := (j_floorDiv x y)) hx hb hr (fun t hth _ => And.intro rfl hth) (fun q hq => by cases hq) d_Ma_floorDiv_26))
theorem c_Ma_floorMod (l : Launch) (x y : Int64) (hd : ¬ y = 0) : tx_Met l y_Ma_floorMod (Cond.code y_Ma_floorMod b_Ma_floorMod 6 (some .long) :: tt) rm0 (fun a _ => a = ([.long x, .long y] : List Value).toArray) (tx_PQ (.ok (some (.long (j_floorMod x y))))) 0 0 (fun _ => False) := by
  refine tx_start (by decide +kernel) [.long x, .long y] (Nat.le_of_ble_eq_true rfl) (fun _ _ h => h) ?_
  intro p e s m below meth c ls hx hb hr hlk hml hne hown ht hnm hP hl
  exact wk_Ma_floorMod x y hx hb hl hd (fun ls => tx_ret (W.lret (v := (j_floorMod x y)) hx hb hr (fun t hth _ => And.intro rfl hth) (fun q hq => by cases hq) d_Ma_floorMod_27)) (fun ls => tx_ret (W.lret (v := (j_floorMod x y)) hx hb hr (fun t hth _ => And.intro rfl hth) (fun q hq => by cases hq) d_Ma_floorMod_24))
section DEC2
variable {p : Program} {l : Launch} {e : Env} {R : Room} {s : State} {m : MethodId} {args : Array Value} {below : List Frame} {meth : Method} {c : Code} {H : Heap} {locs : List Loc} {cells slots : Nat} {Q : State → Prop} {ls : Array Slot}
theorem wk_De_floor (n : Int64) (hx : p.tables.exec = Jvm.exec) (hb : c.code = b_De_floor) (hown : s.vm.findClass "TenThousandthDesk$Decimal" = some m.cls) (ht : ∀ w ∈ tt, w.before args s = true) (hml : c.maxLocals = 2) (hR : 1 ≤ R.frames ∧ 60 ≤ R.locals) (hcs : cells ≤ R.cells ∧ slots ≤ R.slots) (hl : lv_has ls 2 [(0, .long n)])
    (kret : ∀ ls : Array Slot, W p l e R s m args below meth c H locs cells slots Q (F0 m 11 ls [.long (j_floor n)])) : W p l e R s m args below meth c H locs cells slots Q (F0 m 0 ls []) := by
  refine lv_lload_n hx hb d_De_floor_0 rfl (lv_at hl 0 rfl) ?_
  refine lv_ldc2 hx hb hown (ht _ t_169) d_De_floor_1 ?_
  refine tx_callO (tx_runS (n := 2) (As := [.long n, .long 10000]) (rest := []) hx hb hml hown ht (c_Ma_floorDiv l n 10000 (by decide)) t_213 t_212 t_11 t_211 (by decide +kernel) rfl rfl (rm0R hR (by decide)) ⟨fun _ _ _ _ h => h, fun _ _ _ => rfl⟩ rfl rfl hl.1 rfl (lv_room (Nat.le_of_ble_eq_true rfl)) d_De_floor_4 ⟨by omega, by omega⟩) ?_
  refine W.eq (g2 := F0 m 7 ls [.long (j_floorDiv n 10000)]) rfl ?_
  refine lv_ldc2 hx hb hown (ht _ t_169) d_De_floor_7 ?_
  refine lv_lmul hx hb d_De_floor_10 ?_
  exact kret ls
theorem wk_De_round (n d : Int64) (hx : p.tables.exec = Jvm.exec) (hb : c.code = b_De_round) (hown : s.vm.findClass "TenThousandthDesk$Decimal" = some m.cls) (ht : ∀ w ∈ tt, w.before args s = true) (hml : c.maxLocals = 8) (hR : 1 ≤ R.frames ∧ 60 ≤ R.locals) (hcs : cells ≤ R.cells ∧ slots ≤ R.slots) (hl : lv_has ls 8 [(0, .long n), (2, .long d)]) (hd : -9 ≤ d.toInt)
    (kret1 : ∀ ls : Array Slot, W p l e R s m args below meth c H locs cells slots Q (F0 m 9 ls [.long (j_round n d)]))
    (kret2 : ∀ ls : Array Slot, W p l e R s m args below meth c H locs cells slots Q (F0 m 51 ls [.long (j_round n d)])) : W p l e R s m args below meth c H locs cells slots Q (F0 m 0 ls []) := by
  refine lv_lload_n hx hb d_De_round_0 rfl (lv_at hl 1 rfl) ?_
  refine lv_ldc2 hx hb hown (ht _ t_225) d_De_round_1 ?_
  refine lc_lt (tgt := 10) hx hb d_De_round_4 d_De_round_5 (by decide) (fun h1 => ?_) (fun h1 => ?_)
  · refine lv_lconst (v := 1) hx hb d_De_round_10 (by decide) ?_
    refine lv_lstore (lv' := [(4, .long 1), (0, .long n), (2, .long d)]) hx hb d_De_round_11 hl (by decide) rfl (fun ls hl => ?_)
    refine lv_lload_n hx hb d_De_round_13 rfl (lv_at hl 2 rfl) ?_
    refine lv_lstore (lv' := [(6, .long d), (4, .long 1), (0, .long n), (2, .long d)]) hx hb d_De_round_14 hl (by decide) rfl (fun ls hl => ?_)
    have key : ∀ (k : Nat) (i u : Int64) (ls : Array Slot), i.toInt = 4 - (k : Int) → k ≤ 13 → lv_has ls 8 [(6, .long i), (4, .long u), (0, .long n), (2, .long d)] → (∀ (ls : Array Slot) (i2 : Int64), lv_has ls 8 [(6, .long i2), (4, .long (j_up k u)), (0, .long n), (2, .long d)] → W p l e R s m args below meth c H locs cells slots Q (F0 m 42 ls [])) → W p l e R s m args below meth c H locs cells slots Q (F0 m 16 ls []) := by
      intro k
      induction k with
      | zero =>
        intro i u ls hi hk hl kk
        refine lv_lload hx hb d_De_round_16 (lv_at hl 0 rfl) ?_
        refine lv_ldc2 hx hb hown (ht _ t_225) d_De_round_18 ?_
        refine lc_ge (tgt := 42) hx hb d_De_round_21 d_De_round_22 (by decide) (fun h2 => ?_) (fun h2 => ?_)
        · exact kk ls i hl
        · exact absurd (Int64.lt_iff_toInt_lt.mp h2) (by rw [hi]; decide)
      | succ k ih =>
        intro i u ls hi hk hl kk
        refine lv_lload hx hb d_De_round_16 (lv_at hl 0 rfl) ?_
        refine lv_ldc2 hx hb hown (ht _ t_225) d_De_round_18 ?_
        refine lc_ge (tgt := 42) hx hb d_De_round_21 d_De_round_22 (by decide) (fun h2 => ?_) (fun h2 => ?_)
        · exact absurd (Int64.le_iff_toInt_le.mp h2) (by rw [hi]; show ¬ (4 : Int) ≤ _; omega)
        · refine lv_lload hx hb d_De_round_25 (lv_at hl 1 rfl) ?_
          refine lv_ldc2 hx hb hown (ht _ t_226) d_De_round_27 ?_
          refine lv_lmul hx hb d_De_round_30 ?_
          refine lv_lstore (lv' := [(4, .long (u * 10)), (6, .long i), (0, .long n), (2, .long d)]) hx hb d_De_round_31 hl (by decide) rfl (fun ls hl => ?_)
          refine lv_lload hx hb d_De_round_33 (lv_at hl 1 rfl) ?_
          refine lv_lconst (v := 1) hx hb d_De_round_35 (by decide) ?_
          refine lv_ladd hx hb d_De_round_36 ?_
          refine lv_lstore (lv' := [(6, .long (i + 1)), (4, .long (u * 10)), (0, .long n), (2, .long d)]) hx hb d_De_round_37 hl (by decide) rfl (fun ls hl => ?_)
          refine lv_goto (tgt := 16) hx hb d_De_round_39 (by decide) ?_
          have e1 : (1 : Int64).toInt = 1 := by decide
          have e2 := i64_add (x := i) (y := 1) (by omega) (by omega)
          exact ih (i + 1) (u * 10) ls (by omega) (by omega) hl kk
    refine key (4 - d.toInt).toNat d 1 ls (by have h3 := Int64.lt_iff_toInt_lt.mp h1; have h4 : (4 : Int64).toInt = 4 := (by decide); omega) (by omega) hl (fun ls i2 hl => ?_)
    have hu := j_up0 (4 - d.toInt).toNat (by omega)
    generalize hue : j_up (4 - d.toInt).toNat 1 = u at hl hu
    refine lv_lload_n hx hb d_De_round_42 rfl (lv_at hl 2 rfl) ?_
    refine lv_lload hx hb d_De_round_43 (lv_at hl 1 rfl) ?_
    refine tx_callO (tx_runS (n := 2) (As := [.long n, .long u]) (rest := []) hx hb hml hown ht (c_De_half l n u hu) t_172 t_171 t_9 t_170 (by decide +kernel) rfl rfl (rm0R hR (by decide)) ⟨fun _ _ _ _ h => h, fun _ _ _ => rfl⟩ rfl rfl hl.1 rfl (lv_room (Nat.le_of_ble_eq_true rfl)) d_De_round_45 ⟨by omega, by omega⟩) ?_
    refine W.eq (g2 := F0 m 48 ls [.long (j_half n u)]) rfl ?_
    refine lv_lload hx hb d_De_round_48 (lv_at hl 1 rfl) ?_
    refine lv_lmul hx hb d_De_round_50 ?_
    rw [show j_half n u * u = j_round n d from by rw [j_round, if_pos h1, hue]]
    exact kret2 ls
  · refine lv_lload_n hx hb d_De_round_8 rfl (lv_at hl 0 rfl) ?_
    rw [show n = j_round n d from by rw [j_round, if_neg (Int64.not_lt.mpr h1)]]
    exact kret1 ls
theorem wk_De_times (a b : Int64) (hx : p.tables.exec = Jvm.exec) (hb : c.code = b_De_times) (hown : s.vm.findClass "TenThousandthDesk$Decimal" = some m.cls) (ht : ∀ w ∈ tt, w.before args s = true) (hml : c.maxLocals = 12) (hR : 1 ≤ R.frames ∧ 60 ≤ R.locals) (hcs : cells ≤ R.cells ∧ slots ≤ R.slots) (hl : lv_has ls 12 [(0, .long a), (2, .long b)])
    (kthr : ∀ ls : Array Slot, ls.size = 12 → (0 < j_ab a / 10000 ∧ 900000000000000 / (j_ab a / 10000) < j_ab b) → W p l e R s m args below meth c H locs cells slots Q (F0 m 55 ls []))
    (kfit : ∀ (ls : Array Slot) {z : Int64}, ls.size = 12 → ¬ (0 < j_ab a / 10000 ∧ 900000000000000 / (j_ab a / 10000) < j_ab b) → z = j_sgn a b (j_ab a / 10000 * j_ab b + j_half ((j_ab a - j_ab a / 10000 * 10000) * j_ab b) 10000) → W p l e R s m args below meth c H locs cells slots Q (F0 m 119 ls [.long z])) : W p l e R s m args below meth c H locs cells slots Q (F0 m 0 ls []) := by
  have k1 : ∀ (ls : Array Slot) (x2 : Int64), lv_has ls 12 [(0, .long a), (2, .long b)] → x2 = j_ab a → W p l e R s m args below meth c H locs cells slots Q (F0 m 12 ls [.long x2]) := by
    intro ls x2 hl hx2
    refine lv_lstore (lv' := [(4, .long x2), (0, .long a), (2, .long b)]) hx hb d_De_times_12 hl (by decide) rfl (fun ls hl => ?_)
    have k2 : ∀ (ls : Array Slot) (y2 : Int64), lv_has ls 12 [(4, .long x2), (0, .long a), (2, .long b)] → y2 = j_ab b → W p l e R s m args below meth c H locs cells slots Q (F0 m 26 ls [.long y2]) := by
      intro ls y2 hl hy2
      subst hx2
      subst hy2
      refine lv_lstore (lv' := [(6, .long (j_ab b)), (4, .long (j_ab a)), (0, .long a), (2, .long b)]) hx hb d_De_times_26 hl (by decide) rfl (fun ls hl => ?_)
      refine lv_lload hx hb d_De_times_28 (lv_at hl 1 rfl) ?_
      refine lv_ldc2 hx hb hown (ht _ t_169) d_De_times_30 ?_
      refine lv_ldiv hx hb d_De_times_33 (by decide) ?_
      refine lv_lstore (lv' := [(8, .long ((j_ab a) / 10000)), (6, .long (j_ab b)), (4, .long (j_ab a)), (0, .long a), (2, .long b)]) hx hb d_De_times_34 hl (by decide) rfl (fun ls hl => ?_)
      have k63 : ∀ (ls : Array Slot) , lv_has ls 12 [(8, .long ((j_ab a) / 10000)), (6, .long (j_ab b)), (4, .long (j_ab a)), (0, .long a), (2, .long b)] → ¬ (0 < j_ab a / 10000 ∧ 900000000000000 / (j_ab a / 10000) < j_ab b) → W p l e R s m args below meth c H locs cells slots Q (F0 m 63 ls []) := by
        intro ls  hl hg
        refine lv_lload hx hb d_De_times_63 (lv_at hl 0 rfl) ?_
        refine lv_lload hx hb d_De_times_65 (lv_at hl 1 rfl) ?_
        refine lv_lmul hx hb d_De_times_67 ?_
        refine lv_lload hx hb d_De_times_68 (lv_at hl 2 rfl) ?_
        refine lv_ldc2 hx hb hown (ht _ t_169) d_De_times_70 ?_
        refine lv_lrem hx hb d_De_times_73 (by decide) ?_
        refine lv_lload hx hb d_De_times_74 (lv_at hl 1 rfl) ?_
        refine lv_lmul hx hb d_De_times_76 ?_
        refine lv_ldc2 hx hb hown (ht _ t_169) d_De_times_77 ?_
        refine tx_callO (tx_runS (n := 2) (As := [.long (((j_ab a) - (j_ab a) / 10000 * 10000) * (j_ab b)), .long 10000]) (rest := [.long (((j_ab a) / 10000) * (j_ab b))]) hx hb hml hown ht (c_De_half l ((j_ab a - j_ab a / 10000 * 10000) * j_ab b) 10000 (by decide)) t_172 t_171 t_9 t_170 (by decide +kernel) rfl rfl (rm0R hR (by decide)) ⟨fun _ _ _ _ h => h, fun _ _ _ => rfl⟩ rfl rfl hl.1 rfl (lv_room (Nat.le_of_ble_eq_true rfl)) d_De_times_80 ⟨by omega, by omega⟩) ?_
        refine W.eq (g2 := F0 m 83 ls [.long (j_half ((j_ab a - j_ab a / 10000 * 10000) * j_ab b) 10000), .long (((j_ab a) / 10000) * (j_ab b))]) rfl ?_
        refine lv_ladd hx hb d_De_times_83 ?_
        refine lv_topl (fun n hn => ?_)
        refine lv_lstore (lv' := [(10, .long n), (8, .long ((j_ab a) / 10000)), (6, .long (j_ab b)), (4, .long (j_ab a)), (0, .long a), (2, .long b)]) hx hb d_De_times_84 hl (by decide) rfl (fun ls hl => ?_)
        have k4 : ∀ (ls : Array Slot) (u : Int32) (v : Int32), lv_has ls 12 [(10, .long n), (8, .long ((j_ab a) / 10000)), (6, .long (j_ab b)), (4, .long (j_ab a)), (0, .long a), (2, .long b)] → u = j_ng a → v = j_ng b → W p l e R s m args below meth c H locs cells slots Q (F0 m 108 ls [.int v, .int u]) := by
          intro ls u v hl hu hv
          subst hu
          subst hv
          refine lv_icmp_ne (tgt := 116) hx hb d_De_times_108 (by decide) (fun h5 => ?_) (fun h5 => ?_)
          · refine lv_lload hx hb d_De_times_116 (lv_at hl 0 rfl) ?_
            refine lv_lneg hx hb d_De_times_118 ?_
            rw [show -n = j_sgn a b n from by rw [j_sgn, if_neg h5]]
            exact kfit ls hl.1 hg (by rw [hn])
          · refine lv_lload hx hb d_De_times_111 (lv_at hl 0 rfl) ?_
            refine lv_goto (tgt := 119) hx hb d_De_times_113 (by decide) ?_
            rw [show n = j_sgn a b n from by rw [j_sgn, if_pos (by simpa using h5)]]
            exact kfit ls hl.1 hg (by rw [hn])
        have k3 : ∀ (ls : Array Slot) (u : Int32), lv_has ls 12 [(10, .long n), (8, .long ((j_ab a) / 10000)), (6, .long (j_ab b)), (4, .long (j_ab a)), (0, .long a), (2, .long b)] → u = j_ng a → W p l e R s m args below meth c H locs cells slots Q (F0 m 97 ls [.int u]) := by
          intro ls u hl hu
          refine lv_lload_n hx hb d_De_times_97 rfl (lv_at hl 5 rfl) ?_
          refine lv_lconst (v := 0) hx hb d_De_times_98 (by decide) ?_
          refine lc_ge (tgt := 107) hx hb d_De_times_99 d_De_times_100 (by decide) (fun h0 => ?_) (fun h0 => ?_)
          · refine lv_iconst (v := 0) hx hb d_De_times_107 (by decide) ?_
            exact k4 ls u 0 hl hu (j_ng_ge h0)
          · refine lv_iconst (v := 1) hx hb d_De_times_103 (by decide) ?_
            refine lv_goto (tgt := 108) hx hb d_De_times_104 (by decide) ?_
            exact k4 ls u 1 hl hu (j_ng_lt h0)
        refine lv_lload_n hx hb d_De_times_86 rfl (lv_at hl 4 rfl) ?_
        refine lv_lconst (v := 0) hx hb d_De_times_87 (by decide) ?_
        refine lc_ge (tgt := 96) hx hb d_De_times_88 d_De_times_89 (by decide) (fun h0 => ?_) (fun h0 => ?_)
        · refine lv_iconst (v := 0) hx hb d_De_times_96 (by decide) ?_
          exact k3 ls 0 hl (j_ng_ge h0)
        · refine lv_iconst (v := 1) hx hb d_De_times_92 (by decide) ?_
          refine lv_goto (tgt := 97) hx hb d_De_times_93 (by decide) ?_
          exact k3 ls 1 hl (j_ng_lt h0)
      refine lv_lload hx hb d_De_times_36 (lv_at hl 0 rfl) ?_
      refine lv_lconst (v := 0) hx hb d_De_times_38 (by decide) ?_
      refine lc_le (tgt := 63) hx hb d_De_times_39 d_De_times_40 (by decide) (fun h6 => ?_) (fun h6 => ?_)
      · exact k63 ls hl (fun h => Int64.not_lt.mpr h6 h.1)
      · refine lv_lload hx hb d_De_times_43 (lv_at hl 1 rfl) ?_
        refine lv_ldc2 hx hb hown (ht _ t_155) d_De_times_45 ?_
        refine lv_lload hx hb d_De_times_48 (lv_at hl 0 rfl) ?_
        refine lv_ldiv hx hb d_De_times_50 (fun h => by rw [h] at h6; exact absurd h6 (by decide)) ?_
        refine lc_le (tgt := 63) hx hb d_De_times_51 d_De_times_52 (by decide) (fun h7 => ?_) (fun h7 => ?_)
        · exact k63 ls hl (fun h => Int64.not_lt.mpr h7 h.2)
        · exact kthr ls hl.1 ⟨h6, h7⟩
    refine lv_lload_n hx hb d_De_times_14 rfl (lv_at hl 2 rfl) ?_
    refine lv_lconst (v := 0) hx hb d_De_times_15 (by decide) ?_
    refine lc_ge (tgt := 25) hx hb d_De_times_16 d_De_times_17 (by decide) (fun h0 => ?_) (fun h0 => ?_)
    · refine lv_lload_n hx hb d_De_times_25 rfl (lv_at hl 2 rfl) ?_
      exact k2 ls b hl (j_ab_ge h0)
    · refine lv_lload_n hx hb d_De_times_20 rfl (lv_at hl 2 rfl) ?_
      refine lv_lneg hx hb d_De_times_21 ?_
      refine lv_goto (tgt := 26) hx hb d_De_times_22 (by decide) ?_
      exact k2 ls (-b) hl (j_ab_lt h0)
  refine lv_lload_n hx hb d_De_times_0 rfl (lv_at hl 0 rfl) ?_
  refine lv_lconst (v := 0) hx hb d_De_times_1 (by decide) ?_
  refine lc_ge (tgt := 11) hx hb d_De_times_2 d_De_times_3 (by decide) (fun h0 => ?_) (fun h0 => ?_)
  · refine lv_lload_n hx hb d_De_times_11 rfl (lv_at hl 0 rfl) ?_
    exact k1 ls a hl (j_ab_ge h0)
  · refine lv_lload_n hx hb d_De_times_6 rfl (lv_at hl 0 rfl) ?_
    refine lv_lneg hx hb d_De_times_7 ?_
    refine lv_goto (tgt := 12) hx hb d_De_times_8 (by decide) ?_
    exact k1 ls (-a) hl (j_ab_lt h0)
theorem wk_De_by (a b : Int64) (hx : p.tables.exec = Jvm.exec) (hb : c.code = b_De_by) (hown : s.vm.findClass "TenThousandthDesk$Decimal" = some m.cls) (ht : ∀ w ∈ tt, w.before args s = true) (hml : c.maxLocals = 8) (hR : 1 ≤ R.frames ∧ 60 ≤ R.locals) (hcs : cells ≤ R.cells ∧ slots ≤ R.slots) (hl : lv_has ls 8 [(0, .long a), (2, .long b)])
    (kthr : ∀ ls : Array Slot, ls.size = 8 → b = 0 → W p l e R s m args below meth c H locs cells slots Q (F0 m 6 ls []))
    (kfit : ∀ (ls : Array Slot) {z : Int64}, ls.size = 8 → ¬ b = 0 → z = j_sgn a b (j_half (j_ab a * 10000) (j_ab b)) → W p l e R s m args below meth c H locs cells slots Q (F0 m 84 ls [.long z])) : W p l e R s m args below meth c H locs cells slots Q (F0 m 0 ls []) := by
  refine lv_lload_n hx hb d_De_by_0 rfl (lv_at hl 1 rfl) ?_
  refine lv_lconst (v := 0) hx hb d_De_by_1 (by decide) ?_
  refine lc_ne (tgt := 14) hx hb d_De_by_2 d_De_by_3 (by decide) (fun h1 => ?_) (fun h1 => ?_)
  · have k1 : ∀ (ls : Array Slot) (y2 : Int64), lv_has ls 8 [(0, .long a), (2, .long b)] → y2 = j_ab b → W p l e R s m args below meth c H locs cells slots Q (F0 m 26 ls [.long y2]) := by
      intro ls y2 hl hy2
      refine lv_lstore (lv' := [(4, .long y2), (0, .long a), (2, .long b)]) hx hb d_De_by_26 hl (by decide) rfl (fun ls hl => ?_)
      have k2 : ∀ (ls : Array Slot) (x2 : Int64), lv_has ls 8 [(4, .long y2), (0, .long a), (2, .long b)] → x2 = j_ab a → W p l e R s m args below meth c H locs cells slots Q (F0 m 40 ls [.long x2]) := by
        intro ls x2 hl hx2
        subst hx2
        subst hy2
        refine lv_ldc2 hx hb hown (ht _ t_169) d_De_by_40 ?_
        refine lv_lmul hx hb d_De_by_43 ?_
        refine lv_lload hx hb d_De_by_44 (lv_at hl 0 rfl) ?_
        refine tx_callO (tx_runS (n := 2) (As := [.long ((j_ab a) * 10000), .long (j_ab b)]) (rest := []) hx hb hml hown ht (c_De_half l (j_ab a * 10000) (j_ab b) (j_ab0 h1)) t_172 t_171 t_9 t_170 (by decide +kernel) rfl rfl (rm0R hR (by decide)) ⟨fun _ _ _ _ h => h, fun _ _ _ => rfl⟩ rfl rfl hl.1 rfl (lv_room (Nat.le_of_ble_eq_true rfl)) d_De_by_46 ⟨by omega, by omega⟩) ?_
        refine W.eq (g2 := F0 m 49 ls [.long (j_half (j_ab a * 10000) (j_ab b))]) rfl ?_
        refine lv_topl (fun n hn => ?_)
        refine lv_lstore (lv' := [(6, .long n), (4, .long (j_ab b)), (0, .long a), (2, .long b)]) hx hb d_De_by_49 hl (by decide) rfl (fun ls hl => ?_)
        have k4 : ∀ (ls : Array Slot) (u : Int32) (v : Int32), lv_has ls 8 [(6, .long n), (4, .long (j_ab b)), (0, .long a), (2, .long b)] → u = j_ng a → v = j_ng b → W p l e R s m args below meth c H locs cells slots Q (F0 m 73 ls [.int v, .int u]) := by
          intro ls u v hl hu hv
          subst hu
          subst hv
          refine lv_icmp_ne (tgt := 81) hx hb d_De_by_73 (by decide) (fun h5 => ?_) (fun h5 => ?_)
          · refine lv_lload hx hb d_De_by_81 (lv_at hl 0 rfl) ?_
            refine lv_lneg hx hb d_De_by_83 ?_
            rw [show -n = j_sgn a b n from by rw [j_sgn, if_neg h5]]
            exact kfit ls hl.1 h1 (by rw [hn])
          · refine lv_lload hx hb d_De_by_76 (lv_at hl 0 rfl) ?_
            refine lv_goto (tgt := 84) hx hb d_De_by_78 (by decide) ?_
            rw [show n = j_sgn a b n from by rw [j_sgn, if_pos (by simpa using h5)]]
            exact kfit ls hl.1 h1 (by rw [hn])
        have k3 : ∀ (ls : Array Slot) (u : Int32), lv_has ls 8 [(6, .long n), (4, .long (j_ab b)), (0, .long a), (2, .long b)] → u = j_ng a → W p l e R s m args below meth c H locs cells slots Q (F0 m 62 ls [.int u]) := by
          intro ls u hl hu
          refine lv_lload_n hx hb d_De_by_62 rfl (lv_at hl 3 rfl) ?_
          refine lv_lconst (v := 0) hx hb d_De_by_63 (by decide) ?_
          refine lc_ge (tgt := 72) hx hb d_De_by_64 d_De_by_65 (by decide) (fun h0 => ?_) (fun h0 => ?_)
          · refine lv_iconst (v := 0) hx hb d_De_by_72 (by decide) ?_
            exact k4 ls u 0 hl hu (j_ng_ge h0)
          · refine lv_iconst (v := 1) hx hb d_De_by_68 (by decide) ?_
            refine lv_goto (tgt := 73) hx hb d_De_by_69 (by decide) ?_
            exact k4 ls u 1 hl hu (j_ng_lt h0)
        refine lv_lload_n hx hb d_De_by_51 rfl (lv_at hl 2 rfl) ?_
        refine lv_lconst (v := 0) hx hb d_De_by_52 (by decide) ?_
        refine lc_ge (tgt := 61) hx hb d_De_by_53 d_De_by_54 (by decide) (fun h0 => ?_) (fun h0 => ?_)
        · refine lv_iconst (v := 0) hx hb d_De_by_61 (by decide) ?_
          exact k3 ls 0 hl (j_ng_ge h0)
        · refine lv_iconst (v := 1) hx hb d_De_by_57 (by decide) ?_
          refine lv_goto (tgt := 62) hx hb d_De_by_58 (by decide) ?_
          exact k3 ls 1 hl (j_ng_lt h0)
      refine lv_lload_n hx hb d_De_by_28 rfl (lv_at hl 1 rfl) ?_
      refine lv_lconst (v := 0) hx hb d_De_by_29 (by decide) ?_
      refine lc_ge (tgt := 39) hx hb d_De_by_30 d_De_by_31 (by decide) (fun h0 => ?_) (fun h0 => ?_)
      · refine lv_lload_n hx hb d_De_by_39 rfl (lv_at hl 1 rfl) ?_
        exact k2 ls a hl (j_ab_ge h0)
      · refine lv_lload_n hx hb d_De_by_34 rfl (lv_at hl 1 rfl) ?_
        refine lv_lneg hx hb d_De_by_35 ?_
        refine lv_goto (tgt := 40) hx hb d_De_by_36 (by decide) ?_
        exact k2 ls (-a) hl (j_ab_lt h0)
    refine lv_lload_n hx hb d_De_by_14 rfl (lv_at hl 1 rfl) ?_
    refine lv_lconst (v := 0) hx hb d_De_by_15 (by decide) ?_
    refine lc_ge (tgt := 25) hx hb d_De_by_16 d_De_by_17 (by decide) (fun h0 => ?_) (fun h0 => ?_)
    · refine lv_lload_n hx hb d_De_by_25 rfl (lv_at hl 1 rfl) ?_
      exact k1 ls b hl (j_ab_ge h0)
    · refine lv_lload_n hx hb d_De_by_20 rfl (lv_at hl 1 rfl) ?_
      refine lv_lneg hx hb d_De_by_21 ?_
      refine lv_goto (tgt := 26) hx hb d_De_by_22 (by decide) ?_
      exact k1 ls (-b) hl (j_ab_lt h0)
  · exact kthr ls hl.1 h1
end DEC2
theorem c_De_floor (l : Launch) (n : Int64) : tx_Met l y_De_floor (Cond.code y_De_floor b_De_floor 2 (some .long) :: tt) (k2_rm 1 60) (fun a _ => a = ([.long n] : List Value).toArray) (tx_PQ (.ok (some (.long (j_floor n))))) 0 0 (fun _ => False) := by
  refine tx_start (by decide +kernel) [.long n] (Nat.le_of_ble_eq_true rfl) (fun _ _ h => h) ?_
  intro p e s m below meth c ls hx hb hr hlk hml hne hown ht hnm hP hl
  exact wk_De_floor n hx hb hown ht hml ⟨by decide, by decide⟩ ⟨by decide, by decide⟩ hl (fun ls => tx_ret (W.lret (v := (j_floor n)) hx hb hr (fun t hth _ => And.intro rfl hth) (fun q hq => by cases hq) d_De_floor_11))
theorem c_De_round (l : Launch) (n d : Int64) (hd : -9 ≤ d.toInt) : tx_Met l y_De_round (Cond.code y_De_round b_De_round 8 (some .long) :: tt) (k2_rm 1 60) (fun a _ => a = ([.long n, .long d] : List Value).toArray) (tx_PQ (.ok (some (.long (j_round n d))))) 0 0 (fun _ => False) := by
  refine tx_start (by decide +kernel) [.long n, .long d] (Nat.le_of_ble_eq_true rfl) (fun _ _ h => h) ?_
  intro p e s m below meth c ls hx hb hr hlk hml hne hown ht hnm hP hl
  exact wk_De_round n d hx hb hown ht hml ⟨by decide, by decide⟩ ⟨by decide, by decide⟩ hl hd (fun ls => tx_ret (W.lret (v := (j_round n d)) hx hb hr (fun t hth _ => And.intro rfl hth) (fun q hq => by cases hq) d_De_round_9)) (fun ls => tx_ret (W.lret (v := (j_round n d)) hx hb hr (fun t hth _ => And.intro rfl hth) (fun q hq => by cases hq) d_De_round_51))
end
section
-- throws: the words of each place that throws; contracts of fit, times, by, in; printed by gen/p11.py
abbrev th_up : List String := ["java/lang/RuntimeException", "java/lang/Exception"]
def th_list (cls : String) : List Cond := [.declares (Bundle.init0 "java/lang/RuntimeException"), .declares (Bundle.init0 "java/lang/Exception"), .declares (Bundle.init0 "java/lang/Throwable"), .castable cls cls, .laysStatic Bundle.tN "UNASSIGNED_STACK" Bundle.steD, .laysStatic Bundle.tN "SUPPRESSED_SENTINEL" Bundle.listD, .isRef (.static Bundle.tN "UNASSIGNED_STACK" Bundle.steD), .isRef (.static Bundle.tN "SUPPRESSED_SENTINEL" Bundle.listD)]
theorem th_own {own cls : String} {ic : Nat} {names : List String} {args : Array Value} {s : State} (hd : (Bundle.ownAtoms0 own ic cls names).all (fun w => decide (w ∈ tt) || decide (w ∈ th_list cls)) = true) (ht : ∀ w ∈ tt, w.before args s = true) (h : th_ok s s.heap) (hc : va_Nw (.castable cls cls) s) : ∀ a ∈ Bundle.ownAtoms0 own ic cls names, a.before args s = true := by
  intro w hw
  have h1 := List.all_eq_true.mp hd w hw
  simp only [Bool.or_eq_true, decide_eq_true_eq] at h1
  rcases h1 with h1 | h1
  · exact ht w h1
  · obtain ⟨k1, k2, k3, k4, k5, -⟩ := h
    simp only [th_list, List.mem_cons, List.not_mem_nil, or_false] at h1
    rcases h1 with rfl | rfl | rfl | rfl | rfl | rfl | rfl | rfl
    · exact va_Nw.use rfl k3
    · exact va_Nw.use rfl k4
    · exact va_Nw.use rfl k5
    · exact va_Nw.use rfl hc
    · exact k1.lays
    · exact k2.lays
    · exact k1.ref
    · exact k2.ref
theorem th_De_AE : (Bundle.ownAtoms0 "TenThousandthDesk$Decimal" 15 xAE th_up).all (fun w => decide (w ∈ tt) || decide (w ∈ th_list xAE)) = true := by decide +kernel
theorem th_De_UO : (Bundle.ownAtoms0 "TenThousandthDesk$Decimal" 32 xUO th_up).all (fun w => decide (w ∈ tt) || decide (w ∈ th_list xUO)) = true := by decide +kernel
theorem th_Dk_IA : (Bundle.ownAtoms0 "TenThousandthDesk" 19 xIA th_up).all (fun w => decide (w ∈ tt) || decide (w ∈ th_list xIA)) = true := by decide +kernel
theorem th_Dk_UO : (Bundle.ownAtoms0 "TenThousandthDesk" 55 xUO th_up).all (fun w => decide (w ∈ tt) || decide (w ∈ th_list xUO)) = true := by decide +kernel
abbrev rmA : Room := { frames := 6, cells := 1, slots := 6, locals := 130 }
abbrev rmB : Room := { frames := 7, cells := 1, slots := 6, locals := 170 }
abbrev rmC : Room := { frames := 8, cells := 1, slots := 6, locals := 210 }
abbrev rmD : Room := { frames := 9, cells := 1, slots := 6, locals := 250 }
def j_vd (r : Except String Unit) : Except String (Option Value) := match r with
  | .ok _ => .ok none
  | .error C => .error C
def j_in (v lo hi : Int64) : Except String Unit := if v < lo ∨ hi < v then .error xIA else .ok ()
section TH
variable {p : Program} {l : Launch} {e : Env} {R : Room} {s : State} {m : MethodId} {args : Array Value} {below : List Frame} {meth : Method} {c : Code} {H : Heap} {locs : List Loc} {cells slots : Nat} {Q : State → Prop} {ls : Array Slot}
theorem tx_preT {As : List Value} (hth : th_ok s s.heap) : PreS s s.heap (fun a U => a = As.toArray ∧ th_ok U U.heap) As :=
  ⟨fun _ _ g mk h => ⟨h.1, h.2.calling g mk _⟩, fun U hU hW => ⟨rfl, by rw [hU]; exact hth.warm hW⟩⟩
variable {pc : Nat} {rest st0 : List Value} {a : Array Value} {Qc : Array Value → State → Outcome → State → Prop} {free' : Addr → Prop}
theorem tx_callL {res : Except String Int64} (hlocks : meth.locks = false) (hne : c.exceptionTable.isEmpty = true)
    (hr : tx_Run p l e R s m args below meth c s.heap [] 0 0 1 6 (F0 m pc ls st0) rest (tx_PQ (j_lng res) a) (fun _ => False))
    (herr : ∀ C, res = .error C → ∀ o t, tx_Thr C s o t → Qc args s o t)
    (hok : ∀ v, res = .ok v → W p l e R s m args below meth c s.heap [] 0 0 (tx_MQ below Qc args s 1 6 free') (F0 m (pc + 3) ls (.long v :: rest))) : W p l e R s m args below meth c s.heap [] 0 0 (tx_MQ below Qc args s 1 6 free') (F0 m pc ls st0) := by
  refine tx_callP hlocks hne hr (fun C hC => ?_) (fun v hv => ?_)
  · cases res with
    | ok w => cases hC
    | error D => cases hC; exact herr _ rfl
  · cases res with
    | ok w => cases hv; exact hok w rfl
    | error D => cases hv
theorem tx_callU {res : Except String Unit} (hlocks : meth.locks = false) (hne : c.exceptionTable.isEmpty = true)
    (hr : tx_Run p l e R s m args below meth c s.heap [] 0 0 1 6 (F0 m pc ls st0) rest (tx_PQ (j_vd res) a) (fun _ => False))
    (herr : ∀ C, res = .error C → ∀ o t, tx_Thr C s o t → Qc args s o t)
    (hok : res = .ok () → W p l e R s m args below meth c s.heap [] 0 0 (tx_MQ below Qc args s 1 6 free') (F0 m (pc + 3) ls rest)) : W p l e R s m args below meth c s.heap [] 0 0 (tx_MQ below Qc args s 1 6 free') (F0 m pc ls st0) := by
  refine tx_callP hlocks hne hr (fun C hC => ?_) (fun v hv => ?_)
  · cases res with
    | ok w => cases hC
    | error D => cases hC; exact herr _ rfl
  · cases res with
    | ok w => cases hv; exact hok rfl
    | error D => cases hv
end TH
section TIN
variable {p : Program} {l : Launch} {e : Env} {R : Room} {s : State} {m : MethodId} {args : Array Value} {below : List Frame} {meth : Method} {c : Code} {H : Heap} {locs : List Loc} {cells slots : Nat} {Q : State → Prop} {ls : Array Slot}
theorem wk_Dk_in (v lo hi : Int64) (hx : p.tables.exec = Jvm.exec) (hb : c.code = b_Dk_in) (hl : lv_has ls 6 [(0, .long v), (2, .long lo), (4, .long hi)])
    (kthr : ∀ ls : Array Slot, ls.size = 6 → (v < lo ∨ hi < v) → W p l e R s m args below meth c H locs cells slots Q (F0 m 13 ls []))
    (kret : ∀ ls : Array Slot, ¬ (v < lo ∨ hi < v) → W p l e R s m args below meth c H locs cells slots Q (F0 m 21 ls [])) : W p l e R s m args below meth c H locs cells slots Q (F0 m 0 ls []) := by
  refine lv_lload_n hx hb d_Dk_in_0 rfl (lv_at hl 0 rfl) ?_
  refine lv_lload_n hx hb d_Dk_in_1 rfl (lv_at hl 1 rfl) ?_
  refine lc_lt (tgt := 13) hx hb d_Dk_in_2 d_Dk_in_3 (by decide) (fun h1 => ?_) (fun h1 => ?_)
  · exact kthr ls hl.1 (Or.inl h1)
  · refine lv_lload_n hx hb d_Dk_in_6 rfl (lv_at hl 0 rfl) ?_
    refine lv_lload hx hb d_Dk_in_7 (lv_at hl 2 rfl) ?_
    refine lc_le (tgt := 21) hx hb d_Dk_in_9 d_Dk_in_10 (by decide) (fun h2 => ?_) (fun h2 => ?_)
    · exact kret ls (fun h => h.elim (fun h => Int64.not_lt.mpr h1 h) (fun h => Int64.not_lt.mpr h2 h))
    · exact kthr ls hl.1 (Or.inr h2)
end TIN
theorem c_De_fit (l : Launch) (hl0 : l.stackTraces = false) (n : Int64) : tx_Met l y_De_fit (Cond.code y_De_fit b_De_fit 2 (some .long) :: tt) rmA (fun ar U => ar = ([.long n] : List Value).toArray ∧ th_ok U U.heap) (tx_PQ (j_lng (j_fit n))) 1 6 (fun _ => False) := by
  refine tx_start (by decide +kernel) [.long n] (Nat.le_of_ble_eq_true rfl) (fun _ _ h => h.1) ?_
  intro p e s m below meth c ls hx hb hr hlk hml hne hown ht hnm hP hl
  refine wk_De_fit n hx hb hown ht hl (fun ls hsz hc => ?_) (fun ls hc => ?_)
  · rw [show j_fit n = .error xAE from by rw [j_fit, if_pos hc]]
    exact tx_throw hx hb hlk hl0 hown (by decide +kernel) (by decide +kernel) (th_own th_De_AE ht hP.2 hP.2.2.2.2.2.2.2.1) (ht _ t_157) (ht _ t_7) hne (hsz.trans hml.symm) d_De_fit_16 d_De_fit_19 d_De_fit_20 d_De_fit_23 (by decide) (by decide) (by decide) (by decide) (fun _ _ h => h)
  · rw [show j_fit n = .ok n from by rw [j_fit, if_neg hc]]
    exact W.widen (k := 1) (n := 6) (by decide) (by decide) (tx_ret (W.lret (v := n) hx hb hr (fun t hth _ => And.intro rfl hth) (fun q hq => by cases hq) d_De_fit_25))
theorem c_Dk_in (l : Launch) (hl0 : l.stackTraces = false) (v lo hi : Int64) : tx_Met l y_Dk_in (Cond.code y_Dk_in b_Dk_in 6 none :: tt) rmA (fun ar U => ar = ([.long v, .long lo, .long hi] : List Value).toArray ∧ th_ok U U.heap) (tx_PQ (j_vd (j_in v lo hi))) 1 6 (fun _ => False) := by
  refine tx_start (by decide +kernel) [.long v, .long lo, .long hi] (Nat.le_of_ble_eq_true rfl) (fun _ _ h => h.1) ?_
  intro p e s m below meth c ls hx hb hr hlk hml hne hown ht hnm hP hl
  refine wk_Dk_in v lo hi hx hb hl (fun ls hsz hc => ?_) (fun ls hc => ?_)
  · rw [show j_in v lo hi = .error xIA from by rw [j_in, if_pos hc]]
    exact tx_throw hx hb hlk hl0 hown (by decide +kernel) (by decide +kernel) (th_own th_Dk_IA ht hP.2 hP.2.2.2.2.2.2.1) (ht _ t_42) (ht _ t_6) hne (hsz.trans hml.symm) d_Dk_in_13 d_Dk_in_16 d_Dk_in_17 d_Dk_in_20 (by decide) (by decide) (by decide) (by decide) (fun _ _ h => h)
  · rw [show j_in v lo hi = .ok () from by rw [j_in, if_neg hc]]
    exact W.widen (k := 1) (n := 6) (by decide) (by decide) (tx_ret (W.vret hx hb hr (fun t hth _ => And.intro rfl hth) (fun q hq => by cases hq) d_Dk_in_21))
theorem c_De_times (l : Launch) (hl0 : l.stackTraces = false) (a b : Int64) : tx_Met l y_De_times (Cond.code y_De_times b_De_times 12 (some .long) :: tt) rmB (fun ar U => ar = ([.long a, .long b] : List Value).toArray ∧ th_ok U U.heap) (tx_PQ (j_lng (j_times a b))) 1 6 (fun _ => False) := by
  refine tx_start (by decide +kernel) [.long a, .long b] (Nat.le_of_ble_eq_true rfl) (fun _ _ h => h.1) ?_
  intro p e s m below meth c ls hx hb hr hlk hml hne hown ht hnm hP hl
  refine wk_De_times a b hx hb hown ht hml ⟨by decide, by decide⟩ ⟨by decide, by decide⟩ hl (fun ls hsz hc => ?_) (fun ls z hsz hc hz => ?_)
  · rw [show j_times a b = .error xAE from by rw [j_times, if_pos hc]]
    exact tx_throw hx hb hlk hl0 hown (by decide +kernel) (by decide +kernel) (th_own th_De_AE ht hP.2 hP.2.2.2.2.2.2.2.1) (ht _ t_157) (ht _ t_7) hne (hsz.trans hml.symm) d_De_times_55 d_De_times_58 d_De_times_59 d_De_times_62 (by decide) (by decide) (by decide) (by decide) (fun _ _ h => h)
  · rw [show j_times a b = j_fit z from by rw [j_times, if_neg hc, hz]]
    refine tx_callL hlk hne (tx_runS (n := 1) (As := [.long z]) (rest := []) hx hb hml hown ht (c_De_fit l hl0 z) t_154 t_153 t_9 t_174 (by decide +kernel) rfl rfl ⟨by decide, by decide⟩ (tx_preT hP.2) rfl rfl hsz rfl (lv_room (Nat.le_of_ble_eq_true rfl)) d_De_times_119 ⟨by decide, by decide⟩) (fun C hC o t h => ?_) (fun v hv => ?_)
    · rw [hC]
      exact h
    · rw [hv]
      exact W.widen (k := 1) (n := 6) (by decide) (by decide) (tx_ret (W.lret (v := v) hx hb hr (fun t hth _ => And.intro rfl hth) (fun q hq => by cases hq) d_De_times_122))
theorem c_De_by (l : Launch) (hl0 : l.stackTraces = false) (a b : Int64) : tx_Met l y_De_by (Cond.code y_De_by b_De_by 8 (some .long) :: tt) rmB (fun ar U => ar = ([.long a, .long b] : List Value).toArray ∧ th_ok U U.heap) (tx_PQ (j_lng (j_by a b))) 1 6 (fun _ => False) := by
  refine tx_start (by decide +kernel) [.long a, .long b] (Nat.le_of_ble_eq_true rfl) (fun _ _ h => h.1) ?_
  intro p e s m below meth c ls hx hb hr hlk hml hne hown ht hnm hP hl
  refine wk_De_by a b hx hb hown ht hml ⟨by decide, by decide⟩ ⟨by decide, by decide⟩ hl (fun ls hsz hc => ?_) (fun ls z hsz hc hz => ?_)
  · rw [show j_by a b = .error xUO from by rw [j_by, if_pos hc]]
    exact tx_throw hx hb hlk hl0 hown (by decide +kernel) (by decide +kernel) (th_own th_De_UO ht hP.2 hP.2.2.2.2.2.2.2.2) (ht _ t_178) (ht _ t_10) hne (hsz.trans hml.symm) d_De_by_6 d_De_by_9 d_De_by_10 d_De_by_13 (by decide) (by decide) (by decide) (by decide) (fun _ _ h => h)
  · rw [show j_by a b = j_fit z from by rw [j_by, if_neg hc, hz]]
    refine tx_callL hlk hne (tx_runS (n := 1) (As := [.long z]) (rest := []) hx hb hml hown ht (c_De_fit l hl0 z) t_154 t_153 t_9 t_174 (by decide +kernel) rfl rfl ⟨by decide, by decide⟩ (tx_preT hP.2) rfl rfl hsz rfl (lv_room (Nat.le_of_ble_eq_true rfl)) d_De_by_84 ⟨by decide, by decide⟩) (fun C hC o t h => ?_) (fun v hv => ?_)
    · rw [hC]
      exact h
    · rw [hv]
      exact W.widen (k := 1) (n := 6) (by decide) (by decide) (tx_ret (W.lret (v := v) hx hb hr (fun t hth _ => And.intro rfl hth) (fun q hq => by cases hq) d_De_by_87))
end
section
-- the desk: field tables, worlds, contracts; printed by gen/p12.py
def F_Dk : u_T := fun k => match k with
  | 0 => ("TenThousandthDesk", "registers", "[J", true)
  | _ => ("TenThousandthDesk", "row", "[B", true)
def t_Dk : Nat → FieldType := fun k => match k with
  | 0 => .array .long
  | _ => .array .byte
def F_Mo : u_T := fun k => match k with
  | 0 => ("TenThousandthDeskModel", "failed", "I", false)
  | 1 => ("TenThousandthDeskModel", "registers", "[J", true)
  | _ => ("TenThousandthDeskModel", "printed", "[I", true)
def t_Mo : Nat → FieldType := fun k => match k with
  | 0 => .int
  | 1 => .array .long
  | _ => .array .int
theorem n_Dk : ∀ a, a < 2 → ∀ b, b < 2 → a ≠ b → (F_Dk a).2.1 ≠ (F_Dk b).2.1 := by decide +kernel
theorem t_Dk_ok : ∀ k, k < 2 → parseFieldDescriptor (F_Dk k).2.2.1 = some (t_Dk k) := by decide +kernel
theorem n_Mo : ∀ a, a < 3 → ∀ b, b < 3 → a ≠ b → (F_Mo a).2.1 ≠ (F_Mo b).2.1 := by decide +kernel
theorem t_Mo_ok : ∀ k, k < 3 → parseFieldDescriptor (F_Mo k).2.2.1 = some (t_Mo k) := by decide +kernel
theorem uw_Dk : ∀ w ∈ u_ws R_Dk F_Dk 2, w ∈ tt := by decide +kernel
theorem uw_Mo : ∀ w ∈ u_ws R_Mo F_Mo 3, w ∈ tt := by decide +kernel
abbrev cl2 : List vw_C := [(R_Dk, F_Dk, 2), (R_Mo, F_Mo, 3)]
abbrev wD (h r w : Nat) (cL cB : ClassId) (f : Nat → Int64) (b : Nat → Int32) : va_W := [(h, .inr (0, [.ref r, .ref w])), (r, .inl (cL, 8, .inr (.inl f))), (w, .inl (cB, 32, .inl b))]
abbrev wM (h r q : Nat) (cL cI : ClassId) (k : Int32) (f : Nat → Int64) (g : Nat → Int32) : va_W := [(h, .inr (1, [.int k, .ref r, .ref q])), (r, .inl (cL, 8, .inr (.inl f))), (q, .inl (cI, 24, .inl g))]
abbrev tyD (cL cB : ClassId) : List (ClassId × FieldType) := [(cL, .long), (cB, .byte)]
abbrev tyM (cL cI : ClassId) : List (ClassId × FieldType) := [(cL, .long), (cI, .int)]
def inW (W0 : va_W) : Nat → Prop := fun q => ∃ (k : Nat) (e : va_E), W0[k]? = some (q, e)
theorem inW_self {W0 : va_W} {A : Nat → Prop} (h : va_D A W0) : va_D (inW W0) W0 := ⟨h.1, fun k q hk => ⟨k, q.2, hk⟩⟩
/-- a start: the arguments, the world, the tables (and what a throw asks) -/
def pW (D : va_G) (W0 : va_W) (tys : List (ClassId × FieldType)) (As : List Value) : Array Value → State → Prop := fun ar U => ar = As.toArray ∧ va_P D cl2 W0 U.heap ∧ va_K D cl2 tys U ∧ va_D (fun _ => True) W0
def pT (D : va_G) (W0 : va_W) (tys : List (ClassId × FieldType)) (As : List Value) : Array Value → State → Prop := fun ar U => ar = As.toArray ∧ va_P D cl2 W0 U.heap ∧ va_K D cl2 tys U ∧ va_D (fun _ => True) W0 ∧ th_ok U U.heap
/-- an end: a value and the new world; nothing else has changed -/
def tx_WQ (D : va_G) (W0 W1 : va_W) (v : Option Value) : Array Value → State → Outcome → State → Prop := fun _ st o t => o = .returned v ∧ va_P D cl2 W1 t.heap ∧ va_D (inW W0) W1 ∧ va_F (inW W0) st t
/-- an end: a value and the new world, or a throw -/
def tx_DQ (D : va_G) (W0 : va_W) (res : Except String (Value × va_W)) : Array Value → State → Outcome → State → Prop := fun ar st o t => match res with
  | .ok q => tx_WQ D W0 q.2 (some q.1) ar st o t
  | .error C => tx_Thr C st o t
def j_dk (Wf : (Nat → Int64) → va_W) (x : Except String (Int64 × (Nat → Int64))) : Except String (Value × va_W) := match x with
  | .ok q => .ok (.long q.1, Wf q.2)
  | .error C => .error C
def j_bd {α β : Type} (x : Except String α) (k : α → Except String β) : Except String β := match x with
  | .ok a => k a
  | .error C => .error C
def j_get (f : Nat → Int64) (i : Int32) : Except String Int64 := j_bd (j_in i.toInt64 0 7) fun _ => .ok (f i.toNatClampNeg)
def j_set (f : Nat → Int64) (i : Int32) (n : Int64) : Except String (Int64 × (Nat → Int64)) := j_bd (j_in i.toInt64 0 7) fun _ => j_bd (j_in n (-900000000000000) 900000000000000) fun _ => .ok (f i.toNatClampNeg, vp_updL f i.toNatClampNeg n)
def j_put (f : Nat → Int64) (i : Int32) (x : Except String Int64) : Except String (Int64 × (Nat → Int64)) := j_bd x fun v => .ok (v, vp_updL f i.toNatClampNeg v)
def j_rk (op : Int32) (x y : Int64) : Except String Int64 := if op = 0 then j_fit (x + y) else if op = 1 then j_fit (x - y) else if op = 2 then j_times x y else if op = 3 then j_by x y else if y = 0 then .error xUO else .ok (j_floorMod x y)
def j_reckon (f : Nat → Int64) (i op a b : Int32) : Except String (Int64 × (Nat → Int64)) := j_bd (j_in i.toInt64 0 7) fun _ => j_bd (j_in op.toInt64 0 4) fun _ => j_bd (j_get f a) fun x => j_bd (j_get f b) fun y => j_put f i (j_rk op x y)
def j_tn (op : Int32) (x : Int64) : Except String Int64 := if op = 0 then .ok (j_half x 100) else if op = 1 then j_fit (j_floor x) else if op = 2 then .ok (j_ab x) else .ok (-x)
def j_turn (f : Nat → Int64) (i op a : Int32) : Except String (Int64 × (Nat → Int64)) := j_bd (j_in i.toInt64 0 7) fun _ => j_bd (j_in op.toInt64 0 3) fun _ => j_bd (j_get f a) fun x => j_put f i (j_tn op x)
def j_rnd (f : Nat → Int64) (i a d : Int32) : Except String (Int64 × (Nat → Int64)) := j_bd (j_in i.toInt64 0 7) fun _ => j_bd (j_in d.toInt64 (-9) 4) fun _ => j_bd (j_get f a) fun x => j_put f i (j_fit (j_round x d.toInt64))
def j_sum (f : Nat → Int64) : Nat → Nat → Int64 → Except String Int64
  | 0, _, s => .ok s
  | k + 1, i, s => j_bd (j_fit (s + f i)) fun z => j_sum f k (i + 1) z
def j_avg (f : Nat → Int64) (n : Int32) : Except String (Int64 × (Nat → Int64)) := j_bd (j_in n.toInt64 1 8) fun _ => j_bd (j_sum f n.toNatClampNeg 0 0) fun s => .ok (j_half s n.toInt64, f)
theorem j_in_le {v lo hi : Int64} (h : j_in v lo hi = .ok ()) : lo.toInt ≤ v.toInt ∧ v.toInt ≤ hi.toInt := by
  unfold j_in at h
  split at h
  · cases h
  · rename_i h1
    simp only [Int64.lt_iff_toInt_lt] at h1
    omega
theorem j_in8 {i : Int32} (h : j_in i.toInt64 0 7 = .ok ()) : vp_in i 8 := by
  obtain ⟨h1, h2⟩ := j_in_le h
  rw [Int32.toInt_toInt64] at h1 h2
  exact vp_in_iff.mpr ⟨h1, Int.lt_of_le_of_lt h2 (by decide)⟩
theorem j_in4 {i : Int32} (h : j_in i.toInt64 0 4 = .ok ()) : i = 0 ∨ i = 1 ∨ i = 2 ∨ i = 3 ∨ i = 4 := by
  obtain ⟨h1, h2⟩ := j_in_le h
  rw [Int32.toInt_toInt64] at h1 h2
  have h3 : (0 : Int64).toInt = 0 := by decide
  have h4 : (4 : Int64).toInt = 4 := by decide
  have key : ∀ k : Int32, ∀ z : Int, k.toInt = z → i.toInt = z → i = k := fun k z h5 h6 => Int32.toInt_inj.mp (h6.trans h5.symm)
  have h5 : i.toInt = 0 ∨ i.toInt = 1 ∨ i.toInt = 2 ∨ i.toInt = 3 ∨ i.toInt = 4 := by omega
  rcases h5 with h5 | h5 | h5 | h5 | h5
  · exact Or.inl (key 0 _ (by decide) h5)
  · exact Or.inr (Or.inl (key 1 _ (by decide) h5))
  · exact Or.inr (Or.inr (Or.inl (key 2 _ (by decide) h5)))
  · exact Or.inr (Or.inr (Or.inr (Or.inl (key 3 _ (by decide) h5))))
  · exact Or.inr (Or.inr (Or.inr (Or.inr (key 4 _ (by decide) h5))))
theorem j_in3 {i : Int32} (h : j_in i.toInt64 0 3 = .ok ()) : i = 0 ∨ i = 1 ∨ i = 2 ∨ i = 3 := by
  obtain ⟨h1, h2⟩ := j_in_le h
  have h5 : j_in i.toInt64 0 4 = .ok () := by
    unfold j_in
    rw [if_neg]
    simp only [Int64.lt_iff_toInt_lt]
    have h3 : (3 : Int64).toInt = 3 := by decide
    have h4 : (4 : Int64).toInt = 4 := by decide
    omega
  rcases j_in4 h5 with h6 | h6 | h6 | h6 | h6
  · exact Or.inl h6
  · exact Or.inr (Or.inl h6)
  · exact Or.inr (Or.inr (Or.inl h6))
  · exact Or.inr (Or.inr (Or.inr h6))
  · rw [h6] at h2
    exact absurd h2 (by decide)
theorem j_in18 {n : Int32} (h : j_in n.toInt64 1 8 = .ok ()) : ∃ N : Nat, 1 ≤ N ∧ N ≤ 8 ∧ n = nI N := by
  obtain ⟨h1, h2⟩ := j_in_le h
  rw [Int32.toInt_toInt64] at h1 h2
  have h3 : (1 : Int64).toInt = 1 := by decide
  have h4 : (8 : Int64).toInt = 8 := by decide
  refine ⟨n.toInt.toNat, by omega, by omega, Int32.toInt_inj.mp ?_⟩
  rw [nI_toInt (by omega)]
  omega
section DK0
variable {p : Program} {l : Launch} {e : Env} {R : Room} {s : State} {m : MethodId} {args : Array Value} {below : List Frame} {meth : Method} {c : Code} {H : Heap} {locs : List Loc} {cells slots : Nat} {Q : State → Prop} {ls : Array Slot}
variable {D : va_G} {W0 : va_W} {tys : List (ClassId × FieldType)} {A : Nat → Prop}
theorem pT_blind {As : List Value} : FrameBlind (pT D W0 tys As) := fun _ U g mk h => ⟨h.1, h.2.1, va_K.moved (u := U) (U := U.calling g mk _) (Vm.Alike.refl U.vm) h.2.2.1, h.2.2.2.1, h.2.2.2.2.calling g mk _⟩
theorem pW_blind {As : List Value} : FrameBlind (pW D W0 tys As) := fun _ U g mk h => ⟨h.1, h.2.1, va_K.moved (u := U) (U := U.calling g mk _) (Vm.Alike.refl U.vm) h.2.2.1, h.2.2.2⟩
theorem preVT {As : List Value} {h ci : Nat} {fs : List Value} {q : vw_C} (hP : va_P D cl2 W0 H) (hK : va_K D cl2 tys s) (hD : va_D A W0) (hth : th_ok s H) (he : W0[0]? = some (h, .inr (ci, fs))) (hc : cl2[ci]? = some q) : PreV s H q.1 h (pT D W0 tys (.ref h :: As)) As :=
  ⟨pT_blind, va_recv hK hP hc he, fun U hU hW => ⟨rfl, by rw [hU]; exact hP, va_K.moved hW.alike hK, hD.weaken (fun _ _ _ _ => trivial), by rw [hU]; exact hth.warm hW⟩⟩
theorem preVW {As : List Value} {h ci : Nat} {fs : List Value} {q : vw_C} (hP : va_P D cl2 W0 H) (hK : va_K D cl2 tys s) (hD : va_D A W0) (he : W0[0]? = some (h, .inr (ci, fs))) (hc : cl2[ci]? = some q) : PreV s H q.1 h (pW D W0 tys (.ref h :: As)) As :=
  ⟨pW_blind, va_recv hK hP hc he, fun U hU hW => ⟨rfl, by rw [hU]; exact hP, va_K.moved hW.alike hK, hD.weaken (fun _ _ _ _ => trivial)⟩⟩
end DK0
theorem c_Dk_get (l : Launch) (hl0 : l.stackTraces = false) (D : va_G) (h r w : Nat) (cL cB : ClassId) (f : Nat → Int64) (b : Nat → Int32) (i : Int32) : tx_Met l y_Dk_get (Cond.code y_Dk_get b_Dk_get 2 (some .long) :: tt) rmB (pT D (wD h r w cL cB f b) (tyD cL cB) [.ref h, .int i]) (tx_PQ (j_lng (j_get f i))) 1 6 (fun _ => False) := by
  refine tx_start (by decide +kernel) [.ref h, .int i] (Nat.le_of_ble_eq_true rfl) (fun _ _ h => h.1) ?_
  intro p e s m below meth c ls hx hb hr hlk hml hne hown ht hnm hP hl
  obtain ⟨-, hP, hK, hD0, hth⟩ := hP
  have hD : va_D (inW (wD h r w cL cB f b)) (wD h r w cL cB f b) := inW_self hD0
  have hS : va_S (inW (wD h r w cL cB f b)) s.heap s.heap [] := va_S.rf
  have hl : lv_has ls 2 [(0, .ref h), (1, .int i)] := hl
  refine lv_iload_n hx hb d_Dk_get_0 rfl (lv_at hl 1 rfl) ?_
  refine lv_i2l (v := Int32.toInt64 i) hx hb d_Dk_get_1 rfl ?_
  refine lv_lconst (v := 0) hx hb d_Dk_get_2 (by decide) ?_
  refine lv_ldc2 hx hb hown (ht _ t_38) d_Dk_get_3 ?_
  refine tx_callU hlk hne (tx_runS (n := 3) (As := [.long (Int32.toInt64 i), .long 0, .long 7]) (rest := []) hx hb hml hown ht (c_Dk_in l hl0 (Int32.toInt64 i) 0 7) t_41 t_40 t_1 t_39 (by decide +kernel) rfl rfl ⟨by decide, by decide⟩ (tx_preT hth) rfl rfl hl.1 rfl (lv_room (Nat.le_of_ble_eq_true rfl)) d_Dk_get_6 ⟨by decide, by decide⟩) (fun C hC o t h9 => ?_) (fun h1 => ?_)
  · rw [show j_get f i = .error C from by simp only [j_get, j_bd, hC]]
    exact h9
  · refine W.eq (g2 := F0 m 9 ls []) rfl ?_
    refine lv_aload_n hx hb d_Dk_get_9 rfl (lv_at hl 0 rfl) ?_
    refine va_get (D := D) (ci := 0) (v := .ref r) (C := R_Dk) (T := F_Dk) (N := 2) hx hb ht uw_Dk hown hK hP 0 rfl rfl 0 (by decide) (ht _ t_21) (fun _ h9 => h9) rfl d_Dk_get_10 ?_
    refine lv_iload_n hx hb d_Dk_get_13 rfl (lv_at hl 1 rfl) ?_
    refine va_lald hx hb hK hP 1 0 rfl rfl (j_in8 h1) d_Dk_get_14 ?_
    rw [show j_get f i = .ok (f i.toNatClampNeg) from by simp only [j_get, h1, j_bd]]
    exact W.widen (k := 1) (n := 6) (by decide) (by decide) (tx_ret (W.lret (v := f i.toNatClampNeg) hx hb hr (fun t hth _ => And.intro rfl hth) (fun q hq => by cases hq) d_Dk_get_15))
theorem c_Dk_keep (l : Launch) (D : va_G) (h r w : Nat) (cL cB : ClassId) (f : Nat → Int64) (b : Nat → Int32) (i : Int32) (n : Int64) (hi : vp_in i 8) : tx_Met l y_Dk_keep (Cond.code y_Dk_keep b_Dk_keep 4 (some .long) :: tt) rm0 (pW D (wD h r w cL cB f b) (tyD cL cB) [.ref h, .int i, .long n]) (tx_WQ D (wD h r w cL cB f b) (wD h r w cL cB (vp_updL f i.toNatClampNeg n) b) (some (.long n))) 0 0 (inW (wD h r w cL cB f b)) := by
  refine tx_start (by decide +kernel) [.ref h, .int i, .long n] (Nat.le_of_ble_eq_true rfl) (fun _ _ h => h.1) ?_
  intro p e s m below meth c ls hx hb hr hlk hml hne hown ht hnm hP hl
  obtain ⟨-, hP, hK, hD0⟩ := hP
  have hD : va_D (inW (wD h r w cL cB f b)) (wD h r w cL cB f b) := inW_self hD0
  have hS : va_S (inW (wD h r w cL cB f b)) s.heap s.heap [] := va_S.rf
  have hl : lv_has ls 4 [(0, .ref h), (1, .int i), (2, .long n)] := hl
  refine lv_aload_n hx hb d_Dk_keep_0 rfl (lv_at hl 0 rfl) ?_
  refine va_get (D := D) (ci := 0) (v := .ref r) (C := R_Dk) (T := F_Dk) (N := 2) hx hb ht uw_Dk hown hK hP 0 rfl rfl 0 (by decide) (ht _ t_21) (fun _ h9 => h9) rfl d_Dk_keep_1 ?_
  refine lv_iload_n hx hb d_Dk_keep_4 rfl (lv_at hl 1 rfl) ?_
  refine lv_lload_n hx hb d_Dk_keep_5 rfl (lv_at hl 2 rfl) ?_
  refine va_last hx hb hK hP hD hS 1 0 rfl rfl hi d_Dk_keep_6 (fun H locs hP hD hS => ?_)
  have hP : va_P D cl2 (wD h r w cL cB (vp_updL f i.toNatClampNeg n) b) H := hP
  have hD : va_D (inW (wD h r w cL cB f b)) (wD h r w cL cB (vp_updL f i.toNatClampNeg n) b) := hD
  refine lv_lload_n hx hb d_Dk_keep_7 rfl (lv_at hl 2 rfl) ?_
  exact tx_ret (W.lret (v := n) hx hb hr (fun t hth _ => ⟨rfl, by rw [hth]; exact hP, hD, hS.F hth⟩) hS.2.2 d_Dk_keep_8)
section TK
variable {p : Program} {l : Launch} {e : Env} {R : Room} {s : State} {m : MethodId} {args : Array Value} {below : List Frame} {meth : Method} {c : Code} {ls : Array Slot} {cc : ByteArray} {nL pc : Nat}
theorem tk_keep {D : va_G} {h r w : Nat} {cL cB : ClassId} {f : Nat → Int64} {b : Nat → Int32} {i : Int32} {v : Int64} (hx : p.tables.exec = Jvm.exec) (hb : c.code = cc) (hr : meth.sig.returnType = some .long) (hlk : meth.locks = false) (hml : c.maxLocals = nL) (hown : s.vm.findClass "TenThousandthDesk" = some m.cls) (ht : ∀ w ∈ tt, w.before args s = true)
    (hP : va_P D cl2 (wD h r w cL cB f b) s.heap) (hK : va_K D cl2 (tyD cL cB) s) (hD : va_D (inW (wD h r w cL cB f b)) (wD h r w cL cB f b)) (hi : vp_in i 8) (hR : 1 ≤ R.frames ∧ 60 ≤ R.locals) (hsz : ls.size = nL)
    (d0 : decode cc pc = .ok (.invokevirtual 42, 3)) (d3 : decode cc (pc + 3) = .ok (.lreturn, 1)) :
    W p l e R s m args below meth c s.heap [] 0 0 (tx_MQ below (tx_DQ D (wD h r w cL cB f b) (j_dk (fun f => wD h r w cL cB f b) (.ok (v, vp_updL f i.toNatClampNeg v)))) args s 1 6 (inW (wD h r w cL cB f b))) (F0 m pc ls [.long v, .int i, .ref h]) := by
  refine tx_callR (tx_runV (n := 2) (b := h) (As := [.int i, .long v]) (rest := []) hx hb hml hown ht (c_Dk_keep l D h r w cL cB f b i v hi) t_165 t_164 t_s1 t_1 t_162 (by decide +kernel) rfl rfl (rm0R hR (by decide)) (preVW hP hK hD rfl rfl) rfl rfl hsz rfl (lv_room (Nat.le_of_ble_eq_true rfl)) d0 ⟨Nat.zero_le _, Nat.zero_le _⟩) (fun x st₀ t h9 => by cases h9.1) (fun v9 st₀ t L h0 hW0 hal hL hq => ?_)
  obtain ⟨h1, hP1, hD1, hF1⟩ := hq
  cases h1
  refine W.eq (g2 := F0 m (pc + 3) ls [.long v]) rfl ?_
  refine W.widen (k := 1) (n := 6) (by decide) (by decide) ?_
  exact tx_ret (W.lret (v := v) hx hb hr (fun t2 hth _ => ⟨rfl, by rw [hth]; exact hP1, hD1, by show _ ≤ _; rw [hth, ← h0]; exact hF1.1, fun q h2 h3 => by rw [hth, ← h0]; exact hF1.2 q (by rw [h0]; exact h2) h3⟩) (fun q hq => hL q (by simpa using hq)) d3)
end TK
theorem c_Dk_set (l : Launch) (hl0 : l.stackTraces = false) (D : va_G) (h r w : Nat) (cL cB : ClassId) (f : Nat → Int64) (b : Nat → Int32) (i : Int32) (n : Int64) : tx_Met l y_Dk_set (Cond.code y_Dk_set b_Dk_set 6 (some .long) :: tt) rmB (pT D (wD h r w cL cB f b) (tyD cL cB) [.ref h, .int i, .long n]) (tx_DQ D (wD h r w cL cB f b) (j_dk (fun f => wD h r w cL cB f b) (j_set f i n))) 1 6 (inW (wD h r w cL cB f b)) := by
  refine tx_start (by decide +kernel) [.ref h, .int i, .long n] (Nat.le_of_ble_eq_true rfl) (fun _ _ h => h.1) ?_
  intro p e s m below meth c ls hx hb hr hlk hml hne hown ht hnm hP hl
  obtain ⟨-, hP, hK, hD0, hth⟩ := hP
  have hD : va_D (inW (wD h r w cL cB f b)) (wD h r w cL cB f b) := inW_self hD0
  have hS : va_S (inW (wD h r w cL cB f b)) s.heap s.heap [] := va_S.rf
  have hl : lv_has ls 6 [(0, .ref h), (1, .int i), (2, .long n)] := hl
  refine lv_iload_n hx hb d_Dk_set_0 rfl (lv_at hl 1 rfl) ?_
  refine lv_i2l (v := Int32.toInt64 i) hx hb d_Dk_set_1 rfl ?_
  refine lv_lconst (v := 0) hx hb d_Dk_set_2 (by decide) ?_
  refine lv_ldc2 hx hb hown (ht _ t_38) d_Dk_set_3 ?_
  refine tx_callU hlk hne (tx_runS (n := 3) (As := [.long (Int32.toInt64 i), .long 0, .long 7]) (rest := []) hx hb hml hown ht (c_Dk_in l hl0 (Int32.toInt64 i) 0 7) t_41 t_40 t_1 t_39 (by decide +kernel) rfl rfl ⟨by decide, by decide⟩ (tx_preT hth) rfl rfl hl.1 rfl (lv_room (Nat.le_of_ble_eq_true rfl)) d_Dk_set_6 ⟨by decide, by decide⟩) (fun C hC o t h9 => ?_) (fun h1 => ?_)
  · rw [show j_set f i n = .error C from by simp only [j_set, j_bd, hC]]
    exact h9
  · refine W.eq (g2 := F0 m 9 ls []) rfl ?_
    refine lv_lload_n hx hb d_Dk_set_9 rfl (lv_at hl 2 rfl) ?_
    refine lv_ldc2 hx hb hown (ht _ t_106) d_Dk_set_10 ?_
    refine lv_ldc2 hx hb hown (ht _ t_107) d_Dk_set_13 ?_
    refine tx_callU hlk hne (tx_runS (n := 3) (As := [.long n, .long (-900000000000000), .long 900000000000000]) (rest := []) hx hb hml hown ht (c_Dk_in l hl0 n (-900000000000000) 900000000000000) t_41 t_40 t_1 t_39 (by decide +kernel) rfl rfl ⟨by decide, by decide⟩ (tx_preT hth) rfl rfl hl.1 rfl (lv_room (Nat.le_of_ble_eq_true rfl)) d_Dk_set_16 ⟨by decide, by decide⟩) (fun C hC o t h9 => ?_) (fun h2 => ?_)
    · rw [show j_set f i n = .error C from by simp only [j_set, h1, j_bd, hC]]
      exact h9
    · refine W.eq (g2 := F0 m 19 ls []) rfl ?_
      refine lv_aload_n hx hb d_Dk_set_19 rfl (lv_at hl 0 rfl) ?_
      refine va_get (D := D) (ci := 0) (v := .ref r) (C := R_Dk) (T := F_Dk) (N := 2) hx hb ht uw_Dk hown hK hP 0 rfl rfl 0 (by decide) (ht _ t_21) (fun _ h9 => h9) rfl d_Dk_set_20 ?_
      refine lv_iload_n hx hb d_Dk_set_23 rfl (lv_at hl 1 rfl) ?_
      refine va_lald hx hb hK hP 1 0 rfl rfl (j_in8 h1) d_Dk_set_24 ?_
      refine lv_lstore (lv' := [(4, .long (f (Int32.toNatClampNeg i))), (0, .ref h), (1, .int i), (2, .long n)]) hx hb d_Dk_set_25 hl (by decide) rfl (fun ls hl => ?_)
      refine lv_aload_n hx hb d_Dk_set_27 rfl (lv_at hl 1 rfl) ?_
      refine va_get (D := D) (ci := 0) (v := .ref r) (C := R_Dk) (T := F_Dk) (N := 2) hx hb ht uw_Dk hown hK hP 0 rfl rfl 0 (by decide) (ht _ t_21) (fun _ h9 => h9) rfl d_Dk_set_28 ?_
      refine lv_iload_n hx hb d_Dk_set_31 rfl (lv_at hl 2 rfl) ?_
      refine lv_lload_n hx hb d_Dk_set_32 rfl (lv_at hl 3 rfl) ?_
      refine va_last hx hb hK hP hD hS 1 0 rfl rfl (j_in8 h1) d_Dk_set_33 (fun H locs hP hD hS => ?_)
      have hP : va_P D cl2 (wD h r w cL cB (vp_updL f i.toNatClampNeg n) b) H := hP
      have hD : va_D (inW (wD h r w cL cB f b)) (wD h r w cL cB (vp_updL f i.toNatClampNeg n) b) := hD
      refine lv_lload hx hb d_Dk_set_34 (lv_at hl 0 rfl) ?_
      rw [show j_set f i n = .ok (f i.toNatClampNeg, vp_updL f i.toNatClampNeg n) from by simp only [j_set, h1, h2, j_bd]]
      exact W.widen (k := 1) (n := 6) (by decide) (by decide) (tx_ret (W.lret (v := f i.toNatClampNeg) hx hb hr (fun t hth _ => ⟨rfl, by rw [hth]; exact hP, hD, hS.F hth⟩) hS.2.2 d_Dk_set_36))
theorem c_Dk_reckon (l : Launch) (hl0 : l.stackTraces = false) (D : va_G) (h r w : Nat) (cL cB : ClassId) (f : Nat → Int64) (b : Nat → Int32) (i op a2 b2 : Int32) : tx_Met l y_Dk_reckon (Cond.code y_Dk_reckon b_Dk_reckon 9 (some .long) :: tt) rmC (pT D (wD h r w cL cB f b) (tyD cL cB) [.ref h, .int i, .int op, .int a2, .int b2]) (tx_DQ D (wD h r w cL cB f b) (j_dk (fun f => wD h r w cL cB f b) (j_reckon f i op a2 b2))) 1 6 (inW (wD h r w cL cB f b)) := by
  refine tx_start (by decide +kernel) [.ref h, .int i, .int op, .int a2, .int b2] (Nat.le_of_ble_eq_true rfl) (fun _ _ h => h.1) ?_
  intro p e s m below meth c ls hx hb hr hlk hml hne hown ht hnm hP hl
  obtain ⟨-, hP, hK, hD0, hth⟩ := hP
  have hD : va_D (inW (wD h r w cL cB f b)) (wD h r w cL cB f b) := inW_self hD0
  have hS : va_S (inW (wD h r w cL cB f b)) s.heap s.heap [] := va_S.rf
  have hl : lv_has ls 9 [(0, .ref h), (1, .int i), (2, .int op), (3, .int a2), (4, .int b2)] := hl
  refine lv_iload_n hx hb d_Dk_reckon_0 rfl (lv_at hl 1 rfl) ?_
  refine lv_i2l (v := Int32.toInt64 i) hx hb d_Dk_reckon_1 rfl ?_
  refine lv_lconst (v := 0) hx hb d_Dk_reckon_2 (by decide) ?_
  refine lv_ldc2 hx hb hown (ht _ t_38) d_Dk_reckon_3 ?_
  refine tx_callU hlk hne (tx_runS (n := 3) (As := [.long (Int32.toInt64 i), .long 0, .long 7]) (rest := []) hx hb hml hown ht (c_Dk_in l hl0 (Int32.toInt64 i) 0 7) t_41 t_40 t_1 t_39 (by decide +kernel) rfl rfl ⟨by decide, by decide⟩ (tx_preT hth) rfl rfl hl.1 rfl (lv_room (Nat.le_of_ble_eq_true rfl)) d_Dk_reckon_6 ⟨by decide, by decide⟩) (fun C hC o t h9 => ?_) (fun h1 => ?_)
  · rw [show j_reckon f i op a2 b2 = .error C from by simp only [j_reckon, j_bd, hC]]
    exact h9
  · refine W.eq (g2 := F0 m 9 ls []) rfl ?_
    refine lv_iload_n hx hb d_Dk_reckon_9 rfl (lv_at hl 2 rfl) ?_
    refine lv_i2l (v := Int32.toInt64 op) hx hb d_Dk_reckon_10 rfl ?_
    refine lv_lconst (v := 0) hx hb d_Dk_reckon_11 (by decide) ?_
    refine lv_ldc2 hx hb hown (ht _ t_150) d_Dk_reckon_12 ?_
    refine tx_callU hlk hne (tx_runS (n := 3) (As := [.long (Int32.toInt64 op), .long 0, .long 4]) (rest := []) hx hb hml hown ht (c_Dk_in l hl0 (Int32.toInt64 op) 0 4) t_41 t_40 t_1 t_39 (by decide +kernel) rfl rfl ⟨by decide, by decide⟩ (tx_preT hth) rfl rfl hl.1 rfl (lv_room (Nat.le_of_ble_eq_true rfl)) d_Dk_reckon_15 ⟨by decide, by decide⟩) (fun C hC o t h9 => ?_) (fun h2 => ?_)
    · rw [show j_reckon f i op a2 b2 = .error C from by simp only [j_reckon, h1, j_bd, hC]]
      exact h9
    · refine W.eq (g2 := F0 m 18 ls []) rfl ?_
      refine lv_aload_n hx hb d_Dk_reckon_18 rfl (lv_at hl 0 rfl) ?_
      refine lv_iload_n hx hb d_Dk_reckon_19 rfl (lv_at hl 3 rfl) ?_
      refine tx_callL hlk hne (tx_runV (n := 1) (b := h) (As := [.int a2]) (rest := []) hx hb hml hown ht (c_Dk_get l hl0 D h r w cL cB f b a2) t_114 t_112 t_113 t_1 t_151 (by decide +kernel) rfl rfl ⟨by decide, by decide⟩ (preVT hP hK hD hth rfl rfl) rfl rfl hl.1 rfl (lv_room (Nat.le_of_ble_eq_true rfl)) d_Dk_reckon_20 ⟨by decide, by decide⟩) (fun C hC o t h9 => ?_) (fun x h3 => ?_)
      · rw [show j_reckon f i op a2 b2 = .error C from by simp only [j_reckon, h1, h2, j_bd, hC]]
        exact h9
      · refine lv_lstore (lv' := [(5, .long x), (0, .ref h), (1, .int i), (2, .int op), (3, .int a2), (4, .int b2)]) hx hb d_Dk_reckon_23 hl (by decide) rfl (fun ls hl => ?_)
        refine lv_aload_n hx hb d_Dk_reckon_25 rfl (lv_at hl 1 rfl) ?_
        refine lv_iload hx hb d_Dk_reckon_26 (lv_at hl 5 rfl) ?_
        refine tx_callL hlk hne (tx_runV (n := 1) (b := h) (As := [.int b2]) (rest := []) hx hb hml hown ht (c_Dk_get l hl0 D h r w cL cB f b b2) t_114 t_112 t_113 t_1 t_151 (by decide +kernel) rfl rfl ⟨by decide, by decide⟩ (preVT hP hK hD hth rfl rfl) rfl rfl hl.1 rfl (lv_room (Nat.le_of_ble_eq_true rfl)) d_Dk_reckon_28 ⟨by decide, by decide⟩) (fun C hC o t h9 => ?_) (fun y h4 => ?_)
        · rw [show j_reckon f i op a2 b2 = .error C from by simp only [j_reckon, h1, h2, h3, j_bd, hC]]
          exact h9
        · refine lv_lstore (lv' := [(7, .long y), (5, .long x), (0, .ref h), (1, .int i), (2, .int op), (3, .int a2), (4, .int b2)]) hx hb d_Dk_reckon_31 hl (by decide) rfl (fun ls hl => ?_)
          refine lv_iload_n hx hb d_Dk_reckon_33 rfl (lv_at hl 4 rfl) ?_
          rcases j_in4 h2 with rfl | rfl | rfl | rfl | rfl
          · have hk : j_rk 0 x y = j_fit (x + y) := by rw [j_rk, if_pos (rfl : (0 : Int32) = 0)]
            refine lv_tableIn (tgt := 64) (off := 30) hx hb d_Dk_reckon_34 (by decide) (by decide) (by decide) (by decide) ?_
            refine lv_aload_n hx hb d_Dk_reckon_64 rfl (lv_at hl 2 rfl) ?_
            refine lv_iload_n hx hb d_Dk_reckon_65 rfl (lv_at hl 3 rfl) ?_
            refine lv_lload hx hb d_Dk_reckon_66 (lv_at hl 1 rfl) ?_
            refine lv_lload hx hb d_Dk_reckon_68 (lv_at hl 0 rfl) ?_
            refine lv_ladd hx hb d_Dk_reckon_70 ?_
            refine tx_callL hlk hne (tx_runS (n := 1) (As := [.long (x + y)]) (rest := [.int i, .ref h]) hx hb hml hown ht (c_De_fit l hl0 (x + y)) t_154 t_153 t_9 t_152 (by decide +kernel) rfl rfl ⟨by decide, by decide⟩ (tx_preT hth) rfl rfl hl.1 rfl (lv_room (Nat.le_of_ble_eq_true rfl)) d_Dk_reckon_71 ⟨by decide, by decide⟩) (fun C hC o t h9 => ?_) (fun z h5 => ?_)
            · rw [show j_reckon f i 0 a2 b2 = .error C from by simp only [j_reckon, h1, h2, h3, h4, hk, j_bd, j_put, hC]]
              exact h9
            · rw [show j_reckon f i 0 a2 b2 = .ok (z, vp_updL f (Int32.toNatClampNeg i) z) from by simp only [j_reckon, h1, h2, h3, h4, hk, h5, j_bd, j_put]]
              exact tk_keep hx hb hr hlk hml hown ht hP hK hD (j_in8 h1) ⟨by decide, by decide⟩ hl.1 d_Dk_reckon_74 d_Dk_reckon_77
          · have hk : j_rk 1 x y = j_fit (x - y) := by rw [j_rk, if_neg (by decide : ¬ (1 : Int32) = 0), if_pos (rfl : (1 : Int32) = 1)]
            refine lv_tableIn (tgt := 78) (off := 44) hx hb d_Dk_reckon_34 (by decide) (by decide) (by decide) (by decide) ?_
            refine lv_aload_n hx hb d_Dk_reckon_78 rfl (lv_at hl 2 rfl) ?_
            refine lv_iload_n hx hb d_Dk_reckon_79 rfl (lv_at hl 3 rfl) ?_
            refine lv_lload hx hb d_Dk_reckon_80 (lv_at hl 1 rfl) ?_
            refine lv_lload hx hb d_Dk_reckon_82 (lv_at hl 0 rfl) ?_
            refine lv_lsub hx hb d_Dk_reckon_84 ?_
            refine tx_callL hlk hne (tx_runS (n := 1) (As := [.long (x - y)]) (rest := [.int i, .ref h]) hx hb hml hown ht (c_De_fit l hl0 (x - y)) t_154 t_153 t_9 t_152 (by decide +kernel) rfl rfl ⟨by decide, by decide⟩ (tx_preT hth) rfl rfl hl.1 rfl (lv_room (Nat.le_of_ble_eq_true rfl)) d_Dk_reckon_85 ⟨by decide, by decide⟩) (fun C hC o t h9 => ?_) (fun z h5 => ?_)
            · rw [show j_reckon f i 1 a2 b2 = .error C from by simp only [j_reckon, h1, h2, h3, h4, hk, j_bd, j_put, hC]]
              exact h9
            · rw [show j_reckon f i 1 a2 b2 = .ok (z, vp_updL f (Int32.toNatClampNeg i) z) from by simp only [j_reckon, h1, h2, h3, h4, hk, h5, j_bd, j_put]]
              exact tk_keep hx hb hr hlk hml hown ht hP hK hD (j_in8 h1) ⟨by decide, by decide⟩ hl.1 d_Dk_reckon_88 d_Dk_reckon_91
          · have hk : j_rk 2 x y = j_times x y := by rw [j_rk, if_neg (by decide : ¬ (2 : Int32) = 0), if_neg (by decide : ¬ (2 : Int32) = 1), if_pos (rfl : (2 : Int32) = 2)]
            refine lv_tableIn (tgt := 92) (off := 58) hx hb d_Dk_reckon_34 (by decide) (by decide) (by decide) (by decide) ?_
            refine lv_aload_n hx hb d_Dk_reckon_92 rfl (lv_at hl 2 rfl) ?_
            refine lv_iload_n hx hb d_Dk_reckon_93 rfl (lv_at hl 3 rfl) ?_
            refine lv_lload hx hb d_Dk_reckon_94 (lv_at hl 1 rfl) ?_
            refine lv_lload hx hb d_Dk_reckon_96 (lv_at hl 0 rfl) ?_
            refine tx_callL hlk hne (tx_runS (n := 2) (As := [.long x, .long y]) (rest := [.int i, .ref h]) hx hb hml hown ht (c_De_times l hl0 x y) t_168 t_167 t_9 t_166 (by decide +kernel) rfl rfl ⟨by decide, by decide⟩ (tx_preT hth) rfl rfl hl.1 rfl (lv_room (Nat.le_of_ble_eq_true rfl)) d_Dk_reckon_98 ⟨by decide, by decide⟩) (fun C hC o t h9 => ?_) (fun z h5 => ?_)
            · rw [show j_reckon f i 2 a2 b2 = .error C from by simp only [j_reckon, h1, h2, h3, h4, hk, j_bd, j_put, hC]]
              exact h9
            · rw [show j_reckon f i 2 a2 b2 = .ok (z, vp_updL f (Int32.toNatClampNeg i) z) from by simp only [j_reckon, h1, h2, h3, h4, hk, h5, j_bd, j_put]]
              exact tk_keep hx hb hr hlk hml hown ht hP hK hD (j_in8 h1) ⟨by decide, by decide⟩ hl.1 d_Dk_reckon_101 d_Dk_reckon_104
          · have hk : j_rk 3 x y = j_by x y := by rw [j_rk, if_neg (by decide : ¬ (3 : Int32) = 0), if_neg (by decide : ¬ (3 : Int32) = 1), if_neg (by decide : ¬ (3 : Int32) = 2), if_pos (rfl : (3 : Int32) = 3)]
            refine lv_tableIn (tgt := 105) (off := 71) hx hb d_Dk_reckon_34 (by decide) (by decide) (by decide) (by decide) ?_
            refine lv_aload_n hx hb d_Dk_reckon_105 rfl (lv_at hl 2 rfl) ?_
            refine lv_iload_n hx hb d_Dk_reckon_106 rfl (lv_at hl 3 rfl) ?_
            refine lv_lload hx hb d_Dk_reckon_107 (lv_at hl 1 rfl) ?_
            refine lv_lload hx hb d_Dk_reckon_109 (lv_at hl 0 rfl) ?_
            refine tx_callL hlk hne (tx_runS (n := 2) (As := [.long x, .long y]) (rest := [.int i, .ref h]) hx hb hml hown ht (c_De_by l hl0 x y) t_177 t_176 t_9 t_175 (by decide +kernel) rfl rfl ⟨by decide, by decide⟩ (tx_preT hth) rfl rfl hl.1 rfl (lv_room (Nat.le_of_ble_eq_true rfl)) d_Dk_reckon_111 ⟨by decide, by decide⟩) (fun C hC o t h9 => ?_) (fun z h5 => ?_)
            · rw [show j_reckon f i 3 a2 b2 = .error C from by simp only [j_reckon, h1, h2, h3, h4, hk, j_bd, j_put, hC]]
              exact h9
            · rw [show j_reckon f i 3 a2 b2 = .ok (z, vp_updL f (Int32.toNatClampNeg i) z) from by simp only [j_reckon, h1, h2, h3, h4, hk, h5, j_bd, j_put]]
              exact tk_keep hx hb hr hlk hml hown ht hP hK hD (j_in8 h1) ⟨by decide, by decide⟩ hl.1 d_Dk_reckon_114 d_Dk_reckon_117
          · have hk : j_rk 4 x y = (if y = 0 then .error xUO else .ok (j_floorMod x y)) := by rw [j_rk, if_neg (by decide : ¬ (4 : Int32) = 0), if_neg (by decide : ¬ (4 : Int32) = 1), if_neg (by decide : ¬ (4 : Int32) = 2), if_neg (by decide : ¬ (4 : Int32) = 3)]
            refine lv_tableOut (tgt := 118) hx hb d_Dk_reckon_34 (by decide) (by decide) ?_
            refine lv_lload hx hb d_Dk_reckon_118 (lv_at hl 0 rfl) ?_
            refine lv_lconst (v := 0) hx hb d_Dk_reckon_120 (by decide) ?_
            refine lc_ne (tgt := 133) hx hb d_Dk_reckon_121 d_Dk_reckon_122 (by decide) (fun h6 => ?_) (fun h6 => ?_)
            · refine lv_aload_n hx hb d_Dk_reckon_133 rfl (lv_at hl 2 rfl) ?_
              refine lv_iload_n hx hb d_Dk_reckon_134 rfl (lv_at hl 3 rfl) ?_
              refine lv_lload hx hb d_Dk_reckon_135 (lv_at hl 1 rfl) ?_
              refine lv_lload hx hb d_Dk_reckon_137 (lv_at hl 0 rfl) ?_
              refine tx_callO (tx_runS (n := 2) (As := [.long x, .long y]) (rest := [.int i, .ref h]) hx hb hml hown ht (c_Ma_floorMod l x y h6) t_197 t_196 t_11 t_195 (by decide +kernel) rfl rfl (rm0R ⟨by decide, by decide⟩ (by decide)) ⟨fun _ _ _ _ h => h, fun _ _ _ => rfl⟩ rfl rfl hl.1 rfl (lv_room (Nat.le_of_ble_eq_true rfl)) d_Dk_reckon_139 ⟨by decide, by decide⟩) ?_
              refine W.eq (g2 := F0 m 142 ls [.long (j_floorMod x y), .int i, .ref h]) rfl ?_
              rw [show j_reckon f i 4 a2 b2 = .ok ((j_floorMod x y), vp_updL f (Int32.toNatClampNeg i) (j_floorMod x y)) from by simp only [j_reckon, h1, h2, h3, h4, hk, if_neg h6, j_bd, j_put]]
              exact tk_keep hx hb hr hlk hml hown ht hP hK hD (j_in8 h1) ⟨by decide, by decide⟩ hl.1 d_Dk_reckon_142 d_Dk_reckon_145
            · rw [show j_reckon f i 4 a2 b2 = .error xUO from by simp only [j_reckon, h1, h2, h3, h4, hk, if_pos h6, j_bd, j_put]]
              exact tx_throw hx hb hlk hl0 hown (by decide +kernel) (by decide +kernel) (th_own th_Dk_UO ht hth hth.2.2.2.2.2.2.2) (ht _ t_193) (ht _ t_10) hne (hl.1.trans hml.symm) d_Dk_reckon_125 d_Dk_reckon_128 d_Dk_reckon_129 d_Dk_reckon_132 (by decide) (by decide) (by decide) (by decide) (fun _ _ h => h)
theorem c_Dk_turn (l : Launch) (hl0 : l.stackTraces = false) (D : va_G) (h r w : Nat) (cL cB : ClassId) (f : Nat → Int64) (b : Nat → Int32) (i op a2 : Int32) : tx_Met l y_Dk_turn (Cond.code y_Dk_turn b_Dk_turn 6 (some .long) :: tt) rmC (pT D (wD h r w cL cB f b) (tyD cL cB) [.ref h, .int i, .int op, .int a2]) (tx_DQ D (wD h r w cL cB f b) (j_dk (fun f => wD h r w cL cB f b) (j_turn f i op a2))) 1 6 (inW (wD h r w cL cB f b)) := by
  refine tx_start (by decide +kernel) [.ref h, .int i, .int op, .int a2] (Nat.le_of_ble_eq_true rfl) (fun _ _ h => h.1) ?_
  intro p e s m below meth c ls hx hb hr hlk hml hne hown ht hnm hP hl
  obtain ⟨-, hP, hK, hD0, hth⟩ := hP
  have hD : va_D (inW (wD h r w cL cB f b)) (wD h r w cL cB f b) := inW_self hD0
  have hS : va_S (inW (wD h r w cL cB f b)) s.heap s.heap [] := va_S.rf
  have hl : lv_has ls 6 [(0, .ref h), (1, .int i), (2, .int op), (3, .int a2)] := hl
  refine lv_iload_n hx hb d_Dk_turn_0 rfl (lv_at hl 1 rfl) ?_
  refine lv_i2l (v := Int32.toInt64 i) hx hb d_Dk_turn_1 rfl ?_
  refine lv_lconst (v := 0) hx hb d_Dk_turn_2 (by decide) ?_
  refine lv_ldc2 hx hb hown (ht _ t_38) d_Dk_turn_3 ?_
  refine tx_callU hlk hne (tx_runS (n := 3) (As := [.long (Int32.toInt64 i), .long 0, .long 7]) (rest := []) hx hb hml hown ht (c_Dk_in l hl0 (Int32.toInt64 i) 0 7) t_41 t_40 t_1 t_39 (by decide +kernel) rfl rfl ⟨by decide, by decide⟩ (tx_preT hth) rfl rfl hl.1 rfl (lv_room (Nat.le_of_ble_eq_true rfl)) d_Dk_turn_6 ⟨by decide, by decide⟩) (fun C hC o t h9 => ?_) (fun h1 => ?_)
  · rw [show j_turn f i op a2 = .error C from by simp only [j_turn, j_bd, hC]]
    exact h9
  · refine W.eq (g2 := F0 m 9 ls []) rfl ?_
    refine lv_iload_n hx hb d_Dk_turn_9 rfl (lv_at hl 2 rfl) ?_
    refine lv_i2l (v := Int32.toInt64 op) hx hb d_Dk_turn_10 rfl ?_
    refine lv_lconst (v := 0) hx hb d_Dk_turn_11 (by decide) ?_
    refine lv_ldc2 hx hb hown (ht _ t_205) d_Dk_turn_12 ?_
    refine tx_callU hlk hne (tx_runS (n := 3) (As := [.long (Int32.toInt64 op), .long 0, .long 3]) (rest := []) hx hb hml hown ht (c_Dk_in l hl0 (Int32.toInt64 op) 0 3) t_41 t_40 t_1 t_39 (by decide +kernel) rfl rfl ⟨by decide, by decide⟩ (tx_preT hth) rfl rfl hl.1 rfl (lv_room (Nat.le_of_ble_eq_true rfl)) d_Dk_turn_15 ⟨by decide, by decide⟩) (fun C hC o t h9 => ?_) (fun h2 => ?_)
    · rw [show j_turn f i op a2 = .error C from by simp only [j_turn, h1, j_bd, hC]]
      exact h9
    · refine W.eq (g2 := F0 m 18 ls []) rfl ?_
      refine lv_aload_n hx hb d_Dk_turn_18 rfl (lv_at hl 0 rfl) ?_
      refine lv_iload_n hx hb d_Dk_turn_19 rfl (lv_at hl 3 rfl) ?_
      refine tx_callL hlk hne (tx_runV (n := 1) (b := h) (As := [.int a2]) (rest := []) hx hb hml hown ht (c_Dk_get l hl0 D h r w cL cB f b a2) t_114 t_112 t_113 t_1 t_151 (by decide +kernel) rfl rfl ⟨by decide, by decide⟩ (preVT hP hK hD hth rfl rfl) rfl rfl hl.1 rfl (lv_room (Nat.le_of_ble_eq_true rfl)) d_Dk_turn_20 ⟨by decide, by decide⟩) (fun C hC o t h9 => ?_) (fun x h3 => ?_)
      · rw [show j_turn f i op a2 = .error C from by simp only [j_turn, h1, h2, j_bd, hC]]
        exact h9
      · refine lv_lstore (lv' := [(4, .long x), (0, .ref h), (1, .int i), (2, .int op), (3, .int a2)]) hx hb d_Dk_turn_23 hl (by decide) rfl (fun ls hl => ?_)
        refine lv_iload_n hx hb d_Dk_turn_25 rfl (lv_at hl 3 rfl) ?_
        rcases j_in3 h2 with rfl | rfl | rfl | rfl
        · have hk : j_tn 0 x = .ok (j_half x 100) := by rw [j_tn, if_pos (rfl : (0 : Int32) = 0)]
          refine lv_tableIn (tgt := 52) (off := 26) hx hb d_Dk_turn_26 (by decide) (by decide) (by decide) (by decide) ?_
          refine lv_aload_n hx hb d_Dk_turn_52 rfl (lv_at hl 1 rfl) ?_
          refine lv_iload_n hx hb d_Dk_turn_53 rfl (lv_at hl 2 rfl) ?_
          refine lv_lload hx hb d_Dk_turn_54 (lv_at hl 0 rfl) ?_
          refine lv_ldc2 hx hb hown (ht _ t_206) d_Dk_turn_56 ?_
          refine tx_callO (tx_runS (n := 2) (As := [.long x, .long 100]) (rest := [.int i, .ref h]) hx hb hml hown ht (c_De_half l x 100 (by decide)) t_172 t_171 t_9 t_207 (by decide +kernel) rfl rfl (rm0R ⟨by decide, by decide⟩ (by decide)) ⟨fun _ _ _ _ h => h, fun _ _ _ => rfl⟩ rfl rfl hl.1 rfl (lv_room (Nat.le_of_ble_eq_true rfl)) d_Dk_turn_59 ⟨by decide, by decide⟩) ?_
          refine W.eq (g2 := F0 m 62 ls [.long (j_half x 100), .int i, .ref h]) rfl ?_
          rw [show j_turn f i 0 a2 = .ok ((j_half x 100), vp_updL f (Int32.toNatClampNeg i) (j_half x 100)) from by simp only [j_turn, h1, h2, h3, hk, j_bd, j_put]]
          exact tk_keep hx hb hr hlk hml hown ht hP hK hD (j_in8 h1) ⟨by decide, by decide⟩ hl.1 d_Dk_turn_62 d_Dk_turn_65
        · have hk : j_tn 1 x = j_fit (j_floor x) := by rw [j_tn, if_neg (by decide : ¬ (1 : Int32) = 0), if_pos (rfl : (1 : Int32) = 1)]
          refine lv_tableIn (tgt := 66) (off := 40) hx hb d_Dk_turn_26 (by decide) (by decide) (by decide) (by decide) ?_
          refine lv_aload_n hx hb d_Dk_turn_66 rfl (lv_at hl 1 rfl) ?_
          refine lv_iload_n hx hb d_Dk_turn_67 rfl (lv_at hl 2 rfl) ?_
          refine lv_lload hx hb d_Dk_turn_68 (lv_at hl 0 rfl) ?_
          refine tx_callO (tx_runS (n := 1) (As := [.long x]) (rest := [.int i, .ref h]) hx hb hml hown ht (c_De_floor l x) t_210 t_209 t_9 t_208 (by decide +kernel) rfl rfl ⟨by decide, by decide⟩ ⟨fun _ _ _ _ h => h, fun _ _ _ => rfl⟩ rfl rfl hl.1 rfl (lv_room (Nat.le_of_ble_eq_true rfl)) d_Dk_turn_70 ⟨by decide, by decide⟩) ?_
          refine W.eq (g2 := F0 m 73 ls [.long (j_floor x), .int i, .ref h]) rfl ?_
          refine tx_callL hlk hne (tx_runS (n := 1) (As := [.long (j_floor x)]) (rest := [.int i, .ref h]) hx hb hml hown ht (c_De_fit l hl0 (j_floor x)) t_154 t_153 t_9 t_152 (by decide +kernel) rfl rfl ⟨by decide, by decide⟩ (tx_preT hth) rfl rfl hl.1 rfl (lv_room (Nat.le_of_ble_eq_true rfl)) d_Dk_turn_73 ⟨by decide, by decide⟩) (fun C hC o t h9 => ?_) (fun z h5 => ?_)
          · rw [show j_turn f i 1 a2 = .error C from by simp only [j_turn, h1, h2, h3, hk, j_bd, j_put, hC]]
            exact h9
          · rw [show j_turn f i 1 a2 = .ok (z, vp_updL f (Int32.toNatClampNeg i) z) from by simp only [j_turn, h1, h2, h3, hk, h5, j_bd, j_put]]
            exact tk_keep hx hb hr hlk hml hown ht hP hK hD (j_in8 h1) ⟨by decide, by decide⟩ hl.1 d_Dk_turn_76 d_Dk_turn_79
        · have hk : j_tn 2 x = .ok (j_ab x) := by rw [j_tn, if_neg (by decide : ¬ (2 : Int32) = 0), if_neg (by decide : ¬ (2 : Int32) = 1), if_pos (rfl : (2 : Int32) = 2)]
          refine lv_tableIn (tgt := 80) (off := 54) hx hb d_Dk_turn_26 (by decide) (by decide) (by decide) (by decide) ?_
          refine lv_aload_n hx hb d_Dk_turn_80 rfl (lv_at hl 1 rfl) ?_
          refine lv_iload_n hx hb d_Dk_turn_81 rfl (lv_at hl 2 rfl) ?_
          refine lv_lload hx hb d_Dk_turn_82 (lv_at hl 0 rfl) ?_
          refine lv_lconst (v := 0) hx hb d_Dk_turn_84 (by decide) ?_
          refine lc_ge (tgt := 95) hx hb d_Dk_turn_85 d_Dk_turn_86 (by decide) (fun h6 => ?_) (fun h6 => ?_)
          · refine lv_lload hx hb d_Dk_turn_95 (lv_at hl 0 rfl) ?_
            rw [← j_ab_ge h6] at hk
            rw [show j_turn f i 2 a2 = .ok (x, vp_updL f (Int32.toNatClampNeg i) x) from by simp only [j_turn, h1, h2, h3, hk, j_bd, j_put]]
            exact tk_keep hx hb hr hlk hml hown ht hP hK hD (j_in8 h1) ⟨by decide, by decide⟩ hl.1 d_Dk_turn_97 d_Dk_turn_100
          · refine lv_lload hx hb d_Dk_turn_89 (lv_at hl 0 rfl) ?_
            refine lv_lneg hx hb d_Dk_turn_91 ?_
            refine lv_goto (tgt := 97) hx hb d_Dk_turn_92 (by decide) ?_
            rw [← j_ab_lt h6] at hk
            rw [show j_turn f i 2 a2 = .ok ((-x), vp_updL f (Int32.toNatClampNeg i) (-x)) from by simp only [j_turn, h1, h2, h3, hk, j_bd, j_put]]
            exact tk_keep hx hb hr hlk hml hown ht hP hK hD (j_in8 h1) ⟨by decide, by decide⟩ hl.1 d_Dk_turn_97 d_Dk_turn_100
        · have hk : j_tn 3 x = .ok (-x) := by rw [j_tn, if_neg (by decide : ¬ (3 : Int32) = 0), if_neg (by decide : ¬ (3 : Int32) = 1), if_neg (by decide : ¬ (3 : Int32) = 2)]
          refine lv_tableOut (tgt := 101) hx hb d_Dk_turn_26 (by decide) (by decide) ?_
          refine lv_aload_n hx hb d_Dk_turn_101 rfl (lv_at hl 1 rfl) ?_
          refine lv_iload_n hx hb d_Dk_turn_102 rfl (lv_at hl 2 rfl) ?_
          refine lv_lload hx hb d_Dk_turn_103 (lv_at hl 0 rfl) ?_
          refine lv_lneg hx hb d_Dk_turn_105 ?_
          rw [show j_turn f i 3 a2 = .ok ((-x), vp_updL f (Int32.toNatClampNeg i) (-x)) from by simp only [j_turn, h1, h2, h3, hk, j_bd, j_put]]
          exact tk_keep hx hb hr hlk hml hown ht hP hK hD (j_in8 h1) ⟨by decide, by decide⟩ hl.1 d_Dk_turn_106 d_Dk_turn_109
theorem c_Dk_round (l : Launch) (hl0 : l.stackTraces = false) (D : va_G) (h r w : Nat) (cL cB : ClassId) (f : Nat → Int64) (b : Nat → Int32) (i a2 d2 : Int32) : tx_Met l y_Dk_round (Cond.code y_Dk_round b_Dk_round 4 (some .long) :: tt) rmC (pT D (wD h r w cL cB f b) (tyD cL cB) [.ref h, .int i, .int a2, .int d2]) (tx_DQ D (wD h r w cL cB f b) (j_dk (fun f => wD h r w cL cB f b) (j_rnd f i a2 d2))) 1 6 (inW (wD h r w cL cB f b)) := by
  refine tx_start (by decide +kernel) [.ref h, .int i, .int a2, .int d2] (Nat.le_of_ble_eq_true rfl) (fun _ _ h => h.1) ?_
  intro p e s m below meth c ls hx hb hr hlk hml hne hown ht hnm hP hl
  obtain ⟨-, hP, hK, hD0, hth⟩ := hP
  have hD : va_D (inW (wD h r w cL cB f b)) (wD h r w cL cB f b) := inW_self hD0
  have hS : va_S (inW (wD h r w cL cB f b)) s.heap s.heap [] := va_S.rf
  have hl : lv_has ls 4 [(0, .ref h), (1, .int i), (2, .int a2), (3, .int d2)] := hl
  refine lv_iload_n hx hb d_Dk_round_0 rfl (lv_at hl 1 rfl) ?_
  refine lv_i2l (v := Int32.toInt64 i) hx hb d_Dk_round_1 rfl ?_
  refine lv_lconst (v := 0) hx hb d_Dk_round_2 (by decide) ?_
  refine lv_ldc2 hx hb hown (ht _ t_38) d_Dk_round_3 ?_
  refine tx_callU hlk hne (tx_runS (n := 3) (As := [.long (Int32.toInt64 i), .long 0, .long 7]) (rest := []) hx hb hml hown ht (c_Dk_in l hl0 (Int32.toInt64 i) 0 7) t_41 t_40 t_1 t_39 (by decide +kernel) rfl rfl ⟨by decide, by decide⟩ (tx_preT hth) rfl rfl hl.1 rfl (lv_room (Nat.le_of_ble_eq_true rfl)) d_Dk_round_6 ⟨by decide, by decide⟩) (fun C hC o t h9 => ?_) (fun h1 => ?_)
  · rw [show j_rnd f i a2 d2 = .error C from by simp only [j_rnd, j_bd, hC]]
    exact h9
  · refine W.eq (g2 := F0 m 9 ls []) rfl ?_
    refine lv_iload_n hx hb d_Dk_round_9 rfl (lv_at hl 3 rfl) ?_
    refine lv_i2l (v := Int32.toInt64 d2) hx hb d_Dk_round_10 rfl ?_
    refine lv_ldc2 hx hb hown (ht _ t_221) d_Dk_round_11 ?_
    refine lv_ldc2 hx hb hown (ht _ t_150) d_Dk_round_14 ?_
    refine tx_callU hlk hne (tx_runS (n := 3) (As := [.long (Int32.toInt64 d2), .long (-9), .long 4]) (rest := []) hx hb hml hown ht (c_Dk_in l hl0 (Int32.toInt64 d2) (-9) 4) t_41 t_40 t_1 t_39 (by decide +kernel) rfl rfl ⟨by decide, by decide⟩ (tx_preT hth) rfl rfl hl.1 rfl (lv_room (Nat.le_of_ble_eq_true rfl)) d_Dk_round_17 ⟨by decide, by decide⟩) (fun C hC o t h9 => ?_) (fun h2 => ?_)
    · rw [show j_rnd f i a2 d2 = .error C from by simp only [j_rnd, h1, j_bd, hC]]
      exact h9
    · refine W.eq (g2 := F0 m 20 ls []) rfl ?_
      refine lv_aload_n hx hb d_Dk_round_20 rfl (lv_at hl 0 rfl) ?_
      refine lv_iload_n hx hb d_Dk_round_21 rfl (lv_at hl 1 rfl) ?_
      refine lv_aload_n hx hb d_Dk_round_22 rfl (lv_at hl 0 rfl) ?_
      refine lv_iload_n hx hb d_Dk_round_23 rfl (lv_at hl 2 rfl) ?_
      refine tx_callL hlk hne (tx_runV (n := 1) (b := h) (As := [.int a2]) (rest := [.int i, .ref h]) hx hb hml hown ht (c_Dk_get l hl0 D h r w cL cB f b a2) t_114 t_112 t_113 t_1 t_151 (by decide +kernel) rfl rfl ⟨by decide, by decide⟩ (preVT hP hK hD hth rfl rfl) rfl rfl hl.1 rfl (lv_room (Nat.le_of_ble_eq_true rfl)) d_Dk_round_24 ⟨by decide, by decide⟩) (fun C hC o t h9 => ?_) (fun x h3 => ?_)
      · rw [show j_rnd f i a2 d2 = .error C from by simp only [j_rnd, h1, h2, j_bd, hC]]
        exact h9
      · refine lv_iload_n hx hb d_Dk_round_27 rfl (lv_at hl 3 rfl) ?_
        refine lv_i2l (v := Int32.toInt64 d2) hx hb d_Dk_round_28 rfl ?_
        refine tx_callO (tx_runS (n := 2) (As := [.long x, .long (Int32.toInt64 d2)]) (rest := [.int i, .ref h]) hx hb hml hown ht (c_De_round l x (Int32.toInt64 d2) (j_in_le h2).1) t_224 t_223 t_9 t_222 (by decide +kernel) rfl rfl ⟨by decide, by decide⟩ ⟨fun _ _ _ _ h => h, fun _ _ _ => rfl⟩ rfl rfl hl.1 rfl (lv_room (Nat.le_of_ble_eq_true rfl)) d_Dk_round_29 ⟨by decide, by decide⟩) ?_
        refine W.eq (g2 := F0 m 32 ls [.long (j_round x (Int32.toInt64 d2)), .int i, .ref h]) rfl ?_
        refine tx_callL hlk hne (tx_runS (n := 1) (As := [.long (j_round x (Int32.toInt64 d2))]) (rest := [.int i, .ref h]) hx hb hml hown ht (c_De_fit l hl0 (j_round x (Int32.toInt64 d2))) t_154 t_153 t_9 t_152 (by decide +kernel) rfl rfl ⟨by decide, by decide⟩ (tx_preT hth) rfl rfl hl.1 rfl (lv_room (Nat.le_of_ble_eq_true rfl)) d_Dk_round_32 ⟨by decide, by decide⟩) (fun C hC o t h9 => ?_) (fun z h5 => ?_)
        · rw [show j_rnd f i a2 d2 = .error C from by simp only [j_rnd, h1, h2, h3, j_bd, j_put, hC]]
          exact h9
        · rw [show j_rnd f i a2 d2 = .ok (z, vp_updL f (Int32.toNatClampNeg i) z) from by simp only [j_rnd, h1, h2, h3, h5, j_bd, j_put]]
          exact tk_keep hx hb hr hlk hml hown ht hP hK hD (j_in8 h1) ⟨by decide, by decide⟩ hl.1 d_Dk_round_35 d_Dk_round_38
end
section
-- Desk.average; the printed text as a list; Printer.digits; Desk.print; printed by gen/p13.py
theorem c_Dk_average (l : Launch) (hl0 : l.stackTraces = false) (D : va_G) (h r w : Nat) (cL cB : ClassId) (f : Nat → Int64) (b : Nat → Int32) (n : Int32) : tx_Met l y_Dk_average (Cond.code y_Dk_average b_Dk_average 5 (some .long) :: tt) rmC (pT D (wD h r w cL cB f b) (tyD cL cB) [.ref h, .int n]) (tx_DQ D (wD h r w cL cB f b) (j_dk (fun f => wD h r w cL cB f b) (j_avg f n))) 1 6 (inW (wD h r w cL cB f b)) := by
  refine tx_start (by decide +kernel) [.ref h, .int n] (Nat.le_of_ble_eq_true rfl) (fun _ _ h => h.1) ?_
  intro p e s m below meth c ls hx hb hr hlk hml hne hown ht hnm hP hl
  obtain ⟨-, hP, hK, hD0, hth⟩ := hP
  have hD : va_D (inW (wD h r w cL cB f b)) (wD h r w cL cB f b) := inW_self hD0
  have hS : va_S (inW (wD h r w cL cB f b)) s.heap s.heap [] := va_S.rf
  have hl : lv_has ls 5 [(0, .ref h), (1, .int n)] := hl
  refine lv_iload_n hx hb d_Dk_average_0 rfl (lv_at hl 1 rfl) ?_
  refine lv_i2l (v := Int32.toInt64 n) hx hb d_Dk_average_1 rfl ?_
  refine lv_lconst (v := 1) hx hb d_Dk_average_2 (by decide) ?_
  refine lv_ldc2 hx hb hown (ht _ t_249) d_Dk_average_3 ?_
  refine tx_callU hlk hne (tx_runS (n := 3) (As := [.long (Int32.toInt64 n), .long 1, .long 8]) (rest := []) hx hb hml hown ht (c_Dk_in l hl0 (Int32.toInt64 n) 1 8) t_41 t_40 t_1 t_39 (by decide +kernel) rfl rfl ⟨by decide, by decide⟩ (tx_preT hth) rfl rfl hl.1 rfl (lv_room (Nat.le_of_ble_eq_true rfl)) d_Dk_average_6 ⟨by decide, by decide⟩) (fun C hC o t h9 => ?_) (fun h1 => ?_)
  · rw [show j_avg f n = .error C from by simp only [j_avg, j_bd, hC]]
    exact h9
  · refine W.eq (g2 := F0 m 9 ls []) rfl ?_
    obtain ⟨N, hN1, hN8, rfl⟩ := j_in18 h1
    have hcl : (nI N).toNatClampNeg = N := nI_clamp (by omega)
    have key : ∀ (k j : Nat) (z : Int64) (ls : Array Slot), j + k = N → j_sum f N 0 0 = j_sum f k j z → lv_has ls 5 [(4, .int (nI j)), (2, .long z), (0, .ref h), (1, .int (nI N))] → W p l e rmC s m ([.ref h, .int (nI N)] : List Value).toArray below meth c s.heap [] 0 0 (tx_MQ below (tx_DQ D (wD h r w cL cB f b) (j_dk (fun f => wD h r w cL cB f b) (j_avg f (nI N)))) ([.ref h, .int (nI N)] : List Value).toArray s 1 6 (inW (wD h r w cL cB f b))) (F0 m 14 ls []) := by
      intro k
      induction k with
      | zero =>
        intro j z ls hj hz hl
        obtain rfl : j = N := by omega
        refine lv_iload hx hb d_Dk_average_14 (lv_at hl 0 rfl) ?_
        refine lv_iload_n hx hb d_Dk_average_16 rfl (lv_at hl 3 rfl) ?_
        refine lv_icmp_ge (tgt := 39) hx hb d_Dk_average_17 (by decide) (fun h2 => ?_) (fun h2 => ?_)
        · refine lv_lload_n hx hb d_Dk_average_39 rfl (lv_at hl 1 rfl) ?_
          refine lv_iload_n hx hb d_Dk_average_40 rfl (lv_at hl 3 rfl) ?_
          refine lv_i2l (v := Int32.toInt64 (nI j)) hx hb d_Dk_average_41 rfl ?_
          refine tx_callO (tx_runS (n := 2) (As := [.long z, .long (Int32.toInt64 (nI j))]) (rest := []) hx hb hml hown ht (c_De_half l z (Int32.toInt64 (nI j)) (by rw [nI_l (by omega)]; intro h5; have h6 := (pk_lEQ (a := j) (b := 0) (by omega) (by decide)).mp h5; omega)) t_172 t_171 t_9 t_207 (by decide +kernel) rfl rfl (rm0R ⟨by decide, by decide⟩ (by decide)) ⟨fun _ _ _ _ h => h, fun _ _ _ => rfl⟩ rfl rfl hl.1 rfl (lv_room (Nat.le_of_ble_eq_true rfl)) d_Dk_average_42 ⟨by decide, by decide⟩) ?_
          refine W.eq (g2 := F0 m 45 ls [.long (j_half z (Int32.toInt64 (nI j)))]) rfl ?_
          rw [show j_avg f (nI j) = .ok (j_half z (Int32.toInt64 (nI j)), f) from by simp only [j_avg, h1, j_bd, hcl, hz, j_sum]]
          exact W.widen (k := 1) (n := 6) (by decide) (by decide) (tx_ret (W.lret (v := j_half z (Int32.toInt64 (nI j))) hx hb hr (fun t hth _ => ⟨rfl, by rw [hth]; exact hP, hD, hS.F hth⟩) hS.2.2 d_Dk_average_45))
        · exact absurd (nI_le (Nat.le_refl _) (by omega)) h2
      | succ k ih =>
        intro j z ls hj hz hl
        refine lv_iload hx hb d_Dk_average_14 (lv_at hl 0 rfl) ?_
        refine lv_iload_n hx hb d_Dk_average_16 rfl (lv_at hl 3 rfl) ?_
        refine lv_icmp_ge (tgt := 39) hx hb d_Dk_average_17 (by decide) (fun h2 => ?_) (fun h2 => ?_)
        · exact absurd h2 (nI_ge (by omega) (by omega))
        · refine lv_lload_n hx hb d_Dk_average_20 rfl (lv_at hl 1 rfl) ?_
          refine lv_aload_n hx hb d_Dk_average_21 rfl (lv_at hl 2 rfl) ?_
          refine va_get (D := D) (ci := 0) (v := .ref r) (C := R_Dk) (T := F_Dk) (N := 2) hx hb ht uw_Dk hown hK hP 0 rfl rfl 0 (by decide) (ht _ t_21) (fun _ h9 => h9) rfl d_Dk_average_22 ?_
          refine lv_iload hx hb d_Dk_average_25 (lv_at hl 0 rfl) ?_
          refine va_lald hx hb hK hP 1 0 rfl rfl (vp_in_nI (by omega) (by decide)) d_Dk_average_27 ?_
          rw [show (f (Int32.toNatClampNeg (nI j))) = f j from (by rw [nI_clamp (by omega)])]
          refine lv_ladd hx hb d_Dk_average_28 ?_
          refine tx_callL hlk hne (tx_runS (n := 1) (As := [.long (z + (f j))]) (rest := []) hx hb hml hown ht (c_De_fit l hl0 (z + f j)) t_154 t_153 t_9 t_152 (by decide +kernel) rfl rfl ⟨by decide, by decide⟩ (tx_preT hth) rfl rfl hl.1 rfl (lv_room (Nat.le_of_ble_eq_true rfl)) d_Dk_average_29 ⟨by decide, by decide⟩) (fun C hC o t h9 => ?_) (fun y h5 => ?_)
          · rw [show j_avg f (nI N) = .error C from by simp only [j_avg, h1, j_bd, hcl, hz, j_sum, hC]]
            exact h9
          · refine lv_lstore_n (lv' := [(2, .long y), (4, .int (nI j)), (0, .ref h), (1, .int (nI N))]) hx hb d_Dk_average_32 rfl hl (by decide) rfl (fun ls hl => ?_)
            refine lv_iinc (k := 1) (v := ((nI j) + 1)) (lv' := [(4, .int ((nI j) + 1)), (2, .long y), (0, .ref h), (1, .int (nI N))]) hx hb d_Dk_average_33 hl rfl (by rw [show Int32.ofInt 1 = (1 : Int32) from by decide]) (by decide) rfl (fun ls hl => ?_)
            refine lv_goto (tgt := 14) hx hb d_Dk_average_36 (by decide) ?_
            exact ih (j + 1) y ls (by omega) (by rw [hz]; simp only [j_sum, h5, j_bd]) (by rw [nI_succ]; exact hl)
    refine lv_lconst (v := 0) hx hb d_Dk_average_9 (by decide) ?_
    refine lv_lstore_n (lv' := [(2, .long 0), (0, .ref h), (1, .int (nI N))]) hx hb d_Dk_average_10 rfl hl (by decide) rfl (fun ls hl => ?_)
    refine lv_iconst (v := 0) hx hb d_Dk_average_11 (by decide) ?_
    refine lv_istore (lv' := [(4, .int 0), (2, .long 0), (0, .ref h), (1, .int (nI N))]) hx hb d_Dk_average_12 hl (by decide) rfl (fun ls hl => ?_)
    exact key N 0 0 ls (by omega) rfl hl
/-! the printed text -/
def wr (b : Nat → Int32) (cs : List Int32) : Nat → Int32 := fun j => (cs[j]?).getD (b j)
theorem wr_nil (b : Nat → Int32) : wr b [] = b := by funext j; simp [wr]
theorem wr_snoc (b : Nat → Int32) (cs : List Int32) (x : Int32) : upd (wr b cs) cs.length x = wr b (cs ++ [x]) := by
  funext j
  simp only [upd, wr]
  by_cases h : j = cs.length
  · subst h; simp
  · rw [if_neg h]
    by_cases h2 : j < cs.length
    · rw [List.getElem?_append_left h2]
    · have h3 : cs[j]? = none := List.getElem?_eq_none (by omega)
      have h4 : (cs ++ [x])[j]? = none := List.getElem?_eq_none (by simp; omega)
      rw [h3, h4]
theorem wr_at {b : Nat → Int32} {cs : List Int32} {j : Nat} (h : j < cs.length) : wr b cs j = cs.getD j 0 := by
  simp [wr, h]
/-- how many times the power grows -/
def tj (U : Nat) : Nat → Nat → Nat
  | 0, j => j
  | k + 1, j => if U / 10 ^ j < 10 then j else tj U k (j + 1)
def dl (U : Nat) : Nat → List Int32
  | 0 => [nI (48 + U / 10 ^ 0 % 10)]
  | j + 1 => nI (48 + U / 10 ^ (j + 1) % 10) :: dl U j
def fl : Nat → Nat → List Int32
  | 0, _ => []
  | i + 1, R => if R = 0 then [] else nI (48 + R / 10 ^ i) :: fl i (R % 10 ^ i)
def pch (neg : Prop) [Decidable neg] (N : Nat) : List Int32 := ((if neg then [45] else []) ++ dl (N / 10000) (tj (N / 10000) 10 0)) ++ (if N % 10000 = 0 then [] else 46 :: fl 4 (N % 10000))
theorem tj_le (U : Nat) : ∀ k j, tj U k j ≤ j + k := by
  intro k
  induction k with
  | zero => intro j; exact Nat.le_refl _
  | succ k ih =>
    intro j
    unfold tj
    split
    · omega
    · have := ih (j + 1); omega
theorem dl_len (U : Nat) : ∀ j, (dl U j).length = j + 1 := by
  intro j
  induction j with
  | zero => rfl
  | succ j ih => simp [dl, ih]
theorem fl_len : ∀ i R, (fl i R).length ≤ i := by
  intro i
  induction i with
  | zero => intro R; exact Nat.le_refl _
  | succ i ih =>
    intro R
    unfold fl
    split
    · exact Nat.zero_le _
    · have := ih (R % 10 ^ i); simp; omega
theorem nar_b : ∀ m, m < 128 → vp_nar .byte (nI m) = nI m ∧ (nI m).toInt8.toInt32 = nI m := by decide
theorem ch_b {d : Nat} (h : d ≤ 9) : ((48 + lN d).toInt32.toInt8).toInt32 = nI (48 + d) := by
  rw [show (48 : Int64) + lN d = lN (48 + d) from lN_add 48 d, lN_i]
  exact (nar_b (48 + d) (by omega)).2
theorem ch_i {d : Nat} : (48 + lN d).toInt32 = nI (48 + d) := by
  rw [show (48 : Int64) + lN d = lN (48 + d) from lN_add 48 d, lN_i]
theorem p10_lt {j : Nat} (h : j ≤ 15) : 10 ^ j < 2 ^ 63 := Nat.lt_of_le_of_lt (Nat.pow_le_pow_right (by decide) h) (by decide)
theorem p10_pos (j : Nat) : 0 < 10 ^ j := Nat.pow_pos (by decide)
theorem len_1 (cs : List Int32) (x : Int32) : nI (cs ++ [x]).length = nI cs.length + 1 := by
  rw [List.length_append]
  exact nI_succ _
theorem tj_end {U : Nat} (h : U < 10 ^ 11) : ∀ k j, j + k = 10 → U / 10 ^ tj U k j < 10 := by
  intro k
  induction k with
  | zero =>
    intro j hj
    obtain rfl : j = 10 := by omega
    show U / 10 ^ 10 < 10
    exact Nat.div_lt_of_lt_mul (by rw [show 10 ^ 10 * 10 = 10 ^ 11 from rfl]; exact h)
  | succ k ih =>
    intro j hj
    unfold tj
    split
    · assumption
    · exact ih (j + 1) (by omega)
section DIG
variable {p : Program} {l : Launch} {e : Env} {R : Room} {s : State} {m : MethodId} {args : Array Value} {below : List Frame} {meth : Method} {c : Code} {H : Heap} {locs : List Loc} {cells slots : Nat} {Q : State → Prop} {ls : Array Slot}
variable {D : va_G} {w : Nat} {cB : ClassId} {b : Nat → Int32} {A : Nat → Prop}
theorem wk_dig1 {N : Nat} {a : Int32} (hN : N < 10 ^ 15) (hx : p.tables.exec = Jvm.exec) (hb : c.code = b_Pr_digits) (hown : s.vm.findClass "TenThousandthDesk$Printer" = some m.cls) (ht : ∀ w ∈ tt, w.before args s = true) :
    ∀ (k j : Nat) (ls : Array Slot), j + k = 10 → lv_has ls 12 [(6, .long (lN (10 ^ j))), (3, .int a), (4, .long (lN N)), (2, .ref w)] → (∀ ls : Array Slot, lv_has ls 12 [(6, .long (lN (10 ^ tj (N / 10000) k j))), (3, .int a), (4, .long (lN N)), (2, .ref w)] → W p l e R s m args below meth c H locs cells slots Q (F0 m 60 ls [])) → W p l e R s m args below meth c H locs cells slots Q (F0 m 33 ls []) := by
  intro k
  induction k with
  | zero =>
    intro j ls hj hl kk
    obtain rfl : j = 10 := by omega
    refine lv_lload hx hb d_Pr_digits_33 (lv_at hl 2 rfl) ?_
    refine lv_ldc2 hx hb hown (ht _ t_238) d_Pr_digits_35 ?_
    refine lv_ldiv hx hb d_Pr_digits_38 (by decide) ?_
    rw [show ((lN N) / 10000) = lN (N / 10000) from (pk_lDiv (b := 10000) (by omega) (by decide) (by decide))]
    refine lv_lload hx hb d_Pr_digits_39 (lv_at hl 0 rfl) ?_
    refine lv_ldiv hx hb d_Pr_digits_41 (fun h5 => absurd ((pk_lEQ (p10_lt (by omega)) (by decide : 0 < 2 ^ 63)).mp h5) (Nat.ne_of_gt (p10_pos 10))) ?_
    rw [show ((lN (N / 10000)) / (lN (10 ^ 10))) = lN (N / 10000 / 10 ^ 10) from (pk_lDiv (by omega) (p10_pos 10) (p10_lt (by omega)))]
    refine lv_ldc2 hx hb hown (ht _ t_239) d_Pr_digits_42 ?_
    refine lc_lt (tgt := 60) hx hb d_Pr_digits_45 d_Pr_digits_46 (by decide) (fun h1 => ?_) (fun h1 => ?_)
    · exact kk ls hl
    · exact absurd ((pk_lLE (a := 10) (by decide) (by omega)).mp h1) (by omega)
  | succ k ih =>
    intro j ls hj hl kk
    refine lv_lload hx hb d_Pr_digits_33 (lv_at hl 2 rfl) ?_
    refine lv_ldc2 hx hb hown (ht _ t_238) d_Pr_digits_35 ?_
    refine lv_ldiv hx hb d_Pr_digits_38 (by decide) ?_
    rw [show ((lN N) / 10000) = lN (N / 10000) from (pk_lDiv (b := 10000) (by omega) (by decide) (by decide))]
    refine lv_lload hx hb d_Pr_digits_39 (lv_at hl 0 rfl) ?_
    refine lv_ldiv hx hb d_Pr_digits_41 (fun h5 => absurd ((pk_lEQ (p10_lt (by omega)) (by decide : 0 < 2 ^ 63)).mp h5) (Nat.ne_of_gt (p10_pos j))) ?_
    rw [show ((lN (N / 10000)) / (lN (10 ^ j))) = lN (N / 10000 / 10 ^ j) from (pk_lDiv (by omega) (p10_pos j) (p10_lt (by omega)))]
    refine lv_ldc2 hx hb hown (ht _ t_239) d_Pr_digits_42 ?_
    refine lc_lt (tgt := 60) hx hb d_Pr_digits_45 d_Pr_digits_46 (by decide) (fun h1 => ?_) (fun h1 => ?_)
    · have h2 := (pk_lLT (b := 10) (Nat.lt_of_le_of_lt (Nat.div_le_self _ _) (by omega)) (by decide)).mp h1
      rw [show tj (N / 10000) (k + 1) j = j from by rw [tj, if_pos h2]] at kk
      exact kk ls hl
    · have h2 := (pk_lLE (a := 10) (by decide) (Nat.lt_of_le_of_lt (Nat.div_le_self _ _) (by omega))).mp h1
      rw [show tj (N / 10000) (k + 1) j = tj (N / 10000) k (j + 1) from by rw [tj, if_neg (by omega)]] at kk
      refine lv_lload hx hb d_Pr_digits_49 (lv_at hl 0 rfl) ?_
      refine lv_ldc2 hx hb hown (ht _ t_239) d_Pr_digits_51 ?_
      refine lv_lmul hx hb d_Pr_digits_54 ?_
      rw [show ((lN (10 ^ j)) * 10) = lN (10 ^ (j + 1)) from (lN_mul (10 ^ j) 10)]
      refine lv_lstore (lv' := [(6, .long (lN (10 ^ (j + 1)))), (3, .int a), (4, .long (lN N)), (2, .ref w)]) hx hb d_Pr_digits_55 hl (by decide) rfl (fun ls hl => ?_)
      refine lv_goto (tgt := 33) hx hb d_Pr_digits_57 (by decide) ?_
      exact ih (j + 1) ls (by omega) hl kk
theorem wk_dig2 {N : Nat} (hN : N < 10 ^ 15) (hx : p.tables.exec = Jvm.exec) (hb : c.code = b_Pr_digits) (hown : s.vm.findClass "TenThousandthDesk$Printer" = some m.cls) (ht : ∀ w ∈ tt, w.before args s = true) (hK : va_K D cl2 [(cB, .byte)] s) :
    ∀ (j : Nat) (cs : List Int32) (ls : Array Slot) (H : Heap) (locs : List Loc), j ≤ 10 → cs.length + j < 32 → va_P D cl2 [(w, .inl (cB, 32, .inl (wr b cs)))] H → va_D A [(w, .inl (cB, 32, .inl (wr b cs)))] → va_S A s.heap H locs → lv_has ls 12 [(8, .long (lN (10 ^ j))), (3, .int (nI cs.length)), (4, .long (lN N)), (2, .ref w)] → (∀ (ls : Array Slot) (H : Heap) (locs : List Loc), va_P D cl2 [(w, .inl (cB, 32, .inl (wr b (cs ++ dl (N / 10000) j))))] H → va_D A [(w, .inl (cB, 32, .inl (wr b (cs ++ dl (N / 10000) j))))] → va_S A s.heap H locs → lv_has ls 12 [(3, .int (nI (cs ++ dl (N / 10000) j).length)), (4, .long (lN N)), (2, .ref w)] → W p l e R s m args below meth c H locs cells slots Q (F0 m 107 ls [])) → W p l e R s m args below meth c H locs cells slots Q (F0 m 64 ls []) := by
  intro j
  induction j with
  | zero =>
    intro cs ls H locs hj hcs hP hD hS hl kk
    refine lv_lload hx hb d_Pr_digits_64 (lv_at hl 0 rfl) ?_
    refine lv_lconst (v := 0) hx hb d_Pr_digits_66 (by decide) ?_
    refine lc_le (tgt := 107) hx hb d_Pr_digits_67 d_Pr_digits_68 (by decide) (fun h1 => ?_) (fun h1 => ?_)
    · exact absurd h1 (by decide)
    · refine lv_aload_n hx hb d_Pr_digits_71 rfl (lv_at hl 3 rfl) ?_
      refine lv_iload_n hx hb d_Pr_digits_72 rfl (lv_at hl 1 rfl) ?_
      refine lv_iinc (k := 1) (v := ((nI cs.length) + 1)) (lv' := [(3, .int ((nI cs.length) + 1)), (8, .long (lN (10 ^ 0))), (4, .long (lN N)), (2, .ref w)]) hx hb d_Pr_digits_73 hl rfl (by rw [show Int32.ofInt 1 = (1 : Int32) from by decide]) (by decide) rfl (fun ls hl => ?_)
      refine lv_ldc2 hx hb hown (ht _ t_240) d_Pr_digits_76 ?_
      refine lv_lload hx hb d_Pr_digits_79 (lv_at hl 2 rfl) ?_
      refine lv_ldc2 hx hb hown (ht _ t_238) d_Pr_digits_81 ?_
      refine lv_ldiv hx hb d_Pr_digits_84 (by decide) ?_
      rw [show ((lN N) / 10000) = lN (N / 10000) from (pk_lDiv (b := 10000) (by omega) (by decide) (by decide))]
      refine lv_lload hx hb d_Pr_digits_85 (lv_at hl 1 rfl) ?_
      refine lv_ldiv hx hb d_Pr_digits_87 (fun h5 => absurd ((pk_lEQ (p10_lt (by omega)) (by decide : 0 < 2 ^ 63)).mp h5) (Nat.ne_of_gt (p10_pos (0)))) ?_
      rw [show ((lN (N / 10000)) / (lN (10 ^ 0))) = lN (N / 10000 / 10 ^ 0) from (pk_lDiv (by omega) (p10_pos _) (p10_lt (by omega)))]
      refine lv_ldc2 hx hb hown (ht _ t_239) d_Pr_digits_88 ?_
      refine lv_lrem hx hb d_Pr_digits_91 (by decide) ?_
      rw [show ((lN (N / 10000 / 10 ^ 0)) - (lN (N / 10000 / 10 ^ 0)) / 10 * 10) = lN (N / 10000 / 10 ^ 0 % 10) from (pk_lRem (b := 10) (Nat.lt_of_le_of_lt (Nat.div_le_self _ _) (by omega)) (by decide) (by decide))]
      refine lv_ladd hx hb d_Pr_digits_92 ?_
      refine lv_l2i (v := Int64.toInt32 (48 + (lN (N / 10000 / 10 ^ 0 % 10)))) hx hb d_Pr_digits_93 rfl ?_
      refine lv_i2b (v := (Int32.toInt8 (Int64.toInt32 (48 + (lN (N / 10000 / 10 ^ 0 % 10))))).toInt32) hx hb d_Pr_digits_94 rfl ?_
      rw [show ((Int32.toInt8 (Int64.toInt32 (48 + (lN (N / 10000 / 10 ^ 0 % 10))))).toInt32) = nI (48 + N / 10000 / 10 ^ 0 % 10) from (ch_b (by omega))]
      have hlen : cs.length < 32 := by omega
      refine va_bast hx hb hK hP hD hS 0 0 rfl rfl (vp_in_nI (by omega) (by decide)) d_Pr_digits_95 (fun H locs hP hD hS => ?_)
      have ew : upd (wr b cs) (nI cs.length).toNatClampNeg (vp_nar .byte (nI (48 + N / 10000 / 10 ^ 0 % 10))) = wr b (cs ++ [(nI (48 + N / 10000 / 10 ^ 0 % 10))]) := by rw [nI_clamp (by omega), (nar_b (48 + N / 10000 / 10 ^ 0 % 10) (by omega)).1, wr_snoc]
      have hP : va_P D cl2 [(w, .inl (cB, 32, .inl (upd (wr b cs) (nI cs.length).toNatClampNeg (vp_nar .byte (nI (48 + N / 10000 / 10 ^ 0 % 10))))))] H := hP
      have hD : va_D A [(w, .inl (cB, 32, .inl (upd (wr b cs) (nI cs.length).toNatClampNeg (vp_nar .byte (nI (48 + N / 10000 / 10 ^ 0 % 10))))))] := hD
      rw [ew] at hP hD
      refine lv_lload hx hb d_Pr_digits_96 (lv_at hl 1 rfl) ?_
      refine lv_ldc2 hx hb hown (ht _ t_239) d_Pr_digits_98 ?_
      refine lv_ldiv hx hb d_Pr_digits_101 (by decide) ?_
      rw [show ((lN (10 ^ 0)) / 10) = lN 0 from (pk_lDiv (a := 10 ^ 0) (b := 10) (by decide) (by decide) (by decide))]
      refine lv_lstore (lv' := [(8, .long (lN 0)), (3, .int ((nI cs.length) + 1)), (4, .long (lN N)), (2, .ref w)]) hx hb d_Pr_digits_102 hl (by decide) rfl (fun ls hl => ?_)
      refine lv_goto (tgt := 64) hx hb d_Pr_digits_104 (by decide) ?_
      refine lv_lload hx hb d_Pr_digits_64 (lv_at hl 0 rfl) ?_
      refine lv_lconst (v := 0) hx hb d_Pr_digits_66 (by decide) ?_
      refine lc_le (tgt := 107) hx hb d_Pr_digits_67 d_Pr_digits_68 (by decide) (fun h2 => ?_) (fun h2 => ?_)
      · exact kk ls H locs hP hD hS (by rw [show nI (cs ++ dl (N / 10000) 0).length = nI cs.length + 1 from len_1 cs _]; exact (lv_sub hl [1, 2, 3] rfl))
      · exact absurd h2 (by decide)
  | succ j ih =>
    intro cs ls H locs hj hcs hP hD hS hl kk
    refine lv_lload hx hb d_Pr_digits_64 (lv_at hl 0 rfl) ?_
    refine lv_lconst (v := 0) hx hb d_Pr_digits_66 (by decide) ?_
    refine lc_le (tgt := 107) hx hb d_Pr_digits_67 d_Pr_digits_68 (by decide) (fun h1 => ?_) (fun h1 => ?_)
    · exact absurd ((pk_lLE (b := 0) (p10_lt (by omega)) (by decide)).mp h1) (Nat.not_le.mpr (p10_pos _))
    · refine lv_aload_n hx hb d_Pr_digits_71 rfl (lv_at hl 3 rfl) ?_
      refine lv_iload_n hx hb d_Pr_digits_72 rfl (lv_at hl 1 rfl) ?_
      refine lv_iinc (k := 1) (v := ((nI cs.length) + 1)) (lv' := [(3, .int ((nI cs.length) + 1)), (8, .long (lN (10 ^ (j + 1)))), (4, .long (lN N)), (2, .ref w)]) hx hb d_Pr_digits_73 hl rfl (by rw [show Int32.ofInt 1 = (1 : Int32) from by decide]) (by decide) rfl (fun ls hl => ?_)
      refine lv_ldc2 hx hb hown (ht _ t_240) d_Pr_digits_76 ?_
      refine lv_lload hx hb d_Pr_digits_79 (lv_at hl 2 rfl) ?_
      refine lv_ldc2 hx hb hown (ht _ t_238) d_Pr_digits_81 ?_
      refine lv_ldiv hx hb d_Pr_digits_84 (by decide) ?_
      rw [show ((lN N) / 10000) = lN (N / 10000) from (pk_lDiv (b := 10000) (by omega) (by decide) (by decide))]
      refine lv_lload hx hb d_Pr_digits_85 (lv_at hl 1 rfl) ?_
      refine lv_ldiv hx hb d_Pr_digits_87 (fun h5 => absurd ((pk_lEQ (p10_lt (by omega)) (by decide : 0 < 2 ^ 63)).mp h5) (Nat.ne_of_gt (p10_pos (j + 1)))) ?_
      rw [show ((lN (N / 10000)) / (lN (10 ^ (j + 1)))) = lN (N / 10000 / 10 ^ (j + 1)) from (pk_lDiv (by omega) (p10_pos _) (p10_lt (by omega)))]
      refine lv_ldc2 hx hb hown (ht _ t_239) d_Pr_digits_88 ?_
      refine lv_lrem hx hb d_Pr_digits_91 (by decide) ?_
      rw [show ((lN (N / 10000 / 10 ^ (j + 1))) - (lN (N / 10000 / 10 ^ (j + 1))) / 10 * 10) = lN (N / 10000 / 10 ^ (j + 1) % 10) from (pk_lRem (b := 10) (Nat.lt_of_le_of_lt (Nat.div_le_self _ _) (by omega)) (by decide) (by decide))]
      refine lv_ladd hx hb d_Pr_digits_92 ?_
      refine lv_l2i (v := Int64.toInt32 (48 + (lN (N / 10000 / 10 ^ (j + 1) % 10)))) hx hb d_Pr_digits_93 rfl ?_
      refine lv_i2b (v := (Int32.toInt8 (Int64.toInt32 (48 + (lN (N / 10000 / 10 ^ (j + 1) % 10))))).toInt32) hx hb d_Pr_digits_94 rfl ?_
      rw [show ((Int32.toInt8 (Int64.toInt32 (48 + (lN (N / 10000 / 10 ^ (j + 1) % 10))))).toInt32) = nI (48 + N / 10000 / 10 ^ (j + 1) % 10) from (ch_b (by omega))]
      have hlen : cs.length < 32 := by omega
      refine va_bast hx hb hK hP hD hS 0 0 rfl rfl (vp_in_nI (by omega) (by decide)) d_Pr_digits_95 (fun H locs hP hD hS => ?_)
      have ew : upd (wr b cs) (nI cs.length).toNatClampNeg (vp_nar .byte (nI (48 + N / 10000 / 10 ^ (j + 1) % 10))) = wr b (cs ++ [(nI (48 + N / 10000 / 10 ^ (j + 1) % 10))]) := by rw [nI_clamp (by omega), (nar_b (48 + N / 10000 / 10 ^ (j + 1) % 10) (by omega)).1, wr_snoc]
      have hP : va_P D cl2 [(w, .inl (cB, 32, .inl (upd (wr b cs) (nI cs.length).toNatClampNeg (vp_nar .byte (nI (48 + N / 10000 / 10 ^ (j + 1) % 10))))))] H := hP
      have hD : va_D A [(w, .inl (cB, 32, .inl (upd (wr b cs) (nI cs.length).toNatClampNeg (vp_nar .byte (nI (48 + N / 10000 / 10 ^ (j + 1) % 10))))))] := hD
      rw [ew] at hP hD
      refine lv_lload hx hb d_Pr_digits_96 (lv_at hl 1 rfl) ?_
      refine lv_ldc2 hx hb hown (ht _ t_239) d_Pr_digits_98 ?_
      refine lv_ldiv hx hb d_Pr_digits_101 (by decide) ?_
      rw [show ((lN (10 ^ (j + 1))) / 10) = lN (10 ^ j) from (by rw [show lN (10 ^ (j + 1)) / 10 = lN (10 ^ (j + 1) / 10) from pk_lDiv (b := 10) (p10_lt (by omega)) (by decide) (by decide), Nat.pow_succ, Nat.mul_div_cancel _ (by decide : 0 < 10)])]
      refine lv_lstore (lv' := [(8, .long (lN (10 ^ j))), (3, .int ((nI cs.length) + 1)), (4, .long (lN N)), (2, .ref w)]) hx hb d_Pr_digits_102 hl (by decide) rfl (fun ls hl => ?_)
      refine lv_goto (tgt := 64) hx hb d_Pr_digits_104 (by decide) ?_
      have e3 : cs ++ dl (N / 10000) (j + 1) = (cs ++ [nI (48 + N / 10000 / 10 ^ (j + 1) % 10)]) ++ dl (N / 10000) j := by simp [dl]
      rw [e3] at kk
      exact ih (cs ++ [nI (48 + N / 10000 / 10 ^ (j + 1) % 10)]) ls H locs (by omega) (by rw [List.length_append]; show _ + 1 + _ < _; omega) hP hD hS (by rw [len_1]; exact (lv_sub hl [0, 1, 2, 3] rfl)) kk
theorem wk_dig3 (hx : p.tables.exec = Jvm.exec) (hb : c.code = b_Pr_digits) (hown : s.vm.findClass "TenThousandthDesk$Printer" = some m.cls) (ht : ∀ w ∈ tt, w.before args s = true) (hK : va_K D cl2 [(cB, .byte)] s) :
    ∀ (i R2 : Nat) (cs : List Int32) (ls : Array Slot) (H : Heap) (locs : List Loc), i ≤ 4 → R2 < 10 ^ i → cs.length + i ≤ 32 → va_P D cl2 [(w, .inl (cB, 32, .inl (wr b cs)))] H → va_D A [(w, .inl (cB, 32, .inl (wr b cs)))] → va_S A s.heap H locs → lv_has ls 12 [(10, .long (lN (10 ^ i / 10))), (8, .long (lN R2)), (3, .int (nI cs.length)), (2, .ref w)] → (∀ (ls : Array Slot) (H : Heap) (locs : List Loc), va_P D cl2 [(w, .inl (cB, 32, .inl (wr b (cs ++ fl i R2))))] H → va_D A [(w, .inl (cB, 32, .inl (wr b (cs ++ fl i R2))))] → va_S A s.heap H locs → lv_has ls 12 [(3, .int (nI (cs ++ fl i R2).length)), (2, .ref w)] → W p l e R s m args below meth c H locs cells slots Q (F0 m 179 ls [])) → W p l e R s m args below meth c H locs cells slots Q (F0 m 137 ls []) := by
  intro i
  induction i with
  | zero =>
    intro R2 cs ls H locs hi hR2 hcs hP hD hS hl kk
    refine lv_lload hx hb d_Pr_digits_137 (lv_at hl 1 rfl) ?_
    refine lv_lconst (v := 0) hx hb d_Pr_digits_139 (by decide) ?_
    refine lc_le (tgt := 179) hx hb d_Pr_digits_140 d_Pr_digits_141 (by decide) (fun h1 => ?_) (fun h1 => ?_)
    · rw [show cs ++ fl 0 R2 = cs from by simp [fl]] at kk
      exact kk ls H locs hP hD hS (lv_sub hl [2, 3] rfl)
    · exact absurd ((pk_lLT (a := 0) (by decide) (by omega)).mp h1) (by omega)
  | succ i ih =>
    intro R2 cs ls H locs hi hR2 hcs hP hD hS hl kk
    rw [show 10 ^ (i + 1) / 10 = 10 ^ i from by rw [Nat.pow_succ, Nat.mul_div_cancel _ (by decide : 0 < 10)]] at hl
    have hp : 10 ^ (i + 1) = 10 ^ i * 10 := Nat.pow_succ ..
    have hq : 10 ^ i ≤ 10 ^ 4 := Nat.pow_le_pow_right (by decide) (by omega)
    have hq4 : 10 ^ 4 = 10000 := rfl
    refine lv_lload hx hb d_Pr_digits_137 (lv_at hl 1 rfl) ?_
    refine lv_lconst (v := 0) hx hb d_Pr_digits_139 (by decide) ?_
    refine lc_le (tgt := 179) hx hb d_Pr_digits_140 d_Pr_digits_141 (by decide) (fun h1 => ?_) (fun h1 => ?_)
    · obtain rfl : R2 = 0 := Nat.le_zero.mp ((pk_lLE (b := 0) (by omega) (by decide)).mp h1)
      rw [show cs ++ fl (i + 1) 0 = cs from by simp [fl]] at kk
      exact kk ls H locs hP hD hS (lv_sub hl [2, 3] rfl)
    · have h2 := (pk_lLT (a := 0) (by decide) (by omega)).mp h1
      have hd9 : R2 / 10 ^ i ≤ 9 := Nat.le_of_lt_succ (Nat.div_lt_of_lt_mul (by omega))
      refine lv_aload_n hx hb d_Pr_digits_144 rfl (lv_at hl 3 rfl) ?_
      refine lv_iload_n hx hb d_Pr_digits_145 rfl (lv_at hl 2 rfl) ?_
      refine lv_iinc (k := 2) (v := ((nI cs.length) + 1)) (lv' := [(3, .int ((nI cs.length) + 1)), (10, .long (lN (10 ^ i))), (8, .long (lN R2)), (2, .ref w)]) hx hb d_Pr_digits_146 hl rfl (by rw [show Int32.ofInt 1 = (1 : Int32) from by decide]) (by decide) rfl (fun ls hl => ?_)
      refine lv_ldc2 hx hb hown (ht _ t_240) d_Pr_digits_149 ?_
      refine lv_lload hx hb d_Pr_digits_152 (lv_at hl 2 rfl) ?_
      refine lv_lload hx hb d_Pr_digits_154 (lv_at hl 1 rfl) ?_
      refine lv_ldiv hx hb d_Pr_digits_156 (fun h5 => absurd ((pk_lEQ (p10_lt (by omega)) (by decide : 0 < 2 ^ 63)).mp h5) (Nat.ne_of_gt (p10_pos i))) ?_
      rw [show ((lN R2) / (lN (10 ^ i))) = lN (R2 / 10 ^ i) from (pk_lDiv (by omega) (p10_pos i) (p10_lt (by omega)))]
      refine lv_ladd hx hb d_Pr_digits_157 ?_
      refine lv_l2i (v := Int64.toInt32 (48 + (lN (R2 / 10 ^ i)))) hx hb d_Pr_digits_158 rfl ?_
      refine lv_i2b (v := (Int32.toInt8 (Int64.toInt32 (48 + (lN (R2 / 10 ^ i))))).toInt32) hx hb d_Pr_digits_159 rfl ?_
      rw [show ((Int32.toInt8 (Int64.toInt32 (48 + (lN (R2 / 10 ^ i))))).toInt32) = nI (48 + R2 / 10 ^ i) from (ch_b hd9)]
      have hlen : cs.length < 32 := by omega
      refine va_bast hx hb hK hP hD hS 0 0 rfl rfl (vp_in_nI (by omega) (by decide)) d_Pr_digits_160 (fun H locs hP hD hS => ?_)
      have ew : upd (wr b cs) (nI cs.length).toNatClampNeg (vp_nar .byte (nI (48 + R2 / 10 ^ i))) = wr b (cs ++ [(nI (48 + R2 / 10 ^ i))]) := by rw [nI_clamp (by omega), (nar_b (48 + R2 / 10 ^ i) (by omega)).1, wr_snoc]
      have hP : va_P D cl2 [(w, .inl (cB, 32, .inl (upd (wr b cs) (nI cs.length).toNatClampNeg (vp_nar .byte (nI (48 + R2 / 10 ^ i))))))] H := hP
      have hD : va_D A [(w, .inl (cB, 32, .inl (upd (wr b cs) (nI cs.length).toNatClampNeg (vp_nar .byte (nI (48 + R2 / 10 ^ i))))))] := hD
      rw [ew] at hP hD
      refine lv_lload hx hb d_Pr_digits_161 (lv_at hl 2 rfl) ?_
      refine lv_lload hx hb d_Pr_digits_163 (lv_at hl 1 rfl) ?_
      refine lv_lrem hx hb d_Pr_digits_165 (fun h5 => absurd ((pk_lEQ (p10_lt (by omega)) (by decide : 0 < 2 ^ 63)).mp h5) (Nat.ne_of_gt (p10_pos i))) ?_
      rw [show ((lN R2) - (lN R2) / (lN (10 ^ i)) * (lN (10 ^ i))) = lN (R2 % 10 ^ i) from (pk_lRem (by omega) (p10_pos i) (p10_lt (by omega)))]
      refine lv_lstore (lv' := [(8, .long (lN (R2 % 10 ^ i))), (3, .int ((nI cs.length) + 1)), (10, .long (lN (10 ^ i))), (2, .ref w)]) hx hb d_Pr_digits_166 hl (by decide) rfl (fun ls hl => ?_)
      refine lv_lload hx hb d_Pr_digits_168 (lv_at hl 2 rfl) ?_
      refine lv_ldc2 hx hb hown (ht _ t_239) d_Pr_digits_170 ?_
      refine lv_ldiv hx hb d_Pr_digits_173 (by decide) ?_
      rw [show ((lN (10 ^ i)) / 10) = lN (10 ^ i / 10) from (pk_lDiv (b := 10) (p10_lt (by omega)) (by decide) (by decide))]
      refine lv_lstore (lv' := [(10, .long (lN (10 ^ i / 10))), (8, .long (lN (R2 % 10 ^ i))), (3, .int ((nI cs.length) + 1)), (2, .ref w)]) hx hb d_Pr_digits_174 hl (by decide) rfl (fun ls hl => ?_)
      refine lv_goto (tgt := 137) hx hb d_Pr_digits_176 (by decide) ?_
      have e3 : cs ++ fl (i + 1) R2 = (cs ++ [nI (48 + R2 / 10 ^ i)]) ++ fl i (R2 % 10 ^ i) := by simp [fl, Nat.ne_of_gt h2]
      rw [e3] at kk
      exact ih (R2 % 10 ^ i) (cs ++ [nI (48 + R2 / 10 ^ i)]) ls H locs (by omega) (Nat.mod_lt _ (p10_pos i)) (by rw [List.length_append]; show _ + 1 + _ ≤ _; omega) hP hD hS (by rw [len_1]; exact (lv_sub hl [0, 1, 2, 3] rfl)) kk
theorem wk_Pr_digits {n : Int64} {N : Nat} (hN : N < 10 ^ 15) (hn : j_ab n = lN N) (hx : p.tables.exec = Jvm.exec) (hb : c.code = b_Pr_digits) (hown : s.vm.findClass "TenThousandthDesk$Printer" = some m.cls) (ht : ∀ w ∈ tt, w.before args s = true) (hK : va_K D cl2 [(cB, .byte)] s) (hP : va_P D cl2 [(w, .inl (cB, 32, .inl b))] H) (hD : va_D A [(w, .inl (cB, 32, .inl b))]) (hS : va_S A s.heap H locs) (hl : lv_has ls 12 [(0, .long n), (2, .ref w)])
    (kret : ∀ (ls : Array Slot) (H : Heap) (locs : List Loc) (pc : Nat), (pc = 123 ∨ pc = 180) → va_P D cl2 [(w, .inl (cB, 32, .inl (wr b (pch (n < 0) N))))] H → va_D A [(w, .inl (cB, 32, .inl (wr b (pch (n < 0) N))))] → va_S A s.heap H locs → W p l e R s m args below meth c H locs cells slots Q (F0 m pc ls [.int (nI (pch (n < 0) N).length)])) : W p l e R s m args below meth c H locs cells slots Q (F0 m 0 ls []) := by
  refine lv_iconst (v := 0) hx hb d_Pr_digits_0 (by decide) ?_
  refine lv_istore_n (lv' := [(3, .int 0), (0, .long n), (2, .ref w)]) hx hb d_Pr_digits_1 rfl hl (by decide) rfl (fun ls hl => ?_)
  have k14 : ∀ (ls : Array Slot) (z : Int64), lv_has ls 12 [(3, .int 0), (0, .long n), (2, .ref w)] → z = j_ab n → W p l e R s m args below meth c H locs cells slots Q (F0 m 14 ls [.long z]) := by
    intro ls z hl hz
    rw [hn] at hz
    subst hz
    refine lv_lstore (lv' := [(4, .long (lN N)), (3, .int 0), (0, .long n), (2, .ref w)]) hx hb d_Pr_digits_14 hl (by decide) rfl (fun ls hl => ?_)
    have k30 : ∀ (ls : Array Slot) (H : Heap) (locs : List Loc) (cs : List Int32), lv_has ls 12 [(3, .int (nI cs.length)), (4, .long (lN N)), (2, .ref w)] → cs = (if n < 0 then [45] else []) → cs.length ≤ 1 → va_P D cl2 [(w, .inl (cB, 32, .inl (wr b cs)))] H → va_D A [(w, .inl (cB, 32, .inl (wr b cs)))] → va_S A s.heap H locs → W p l e R s m args below meth c H locs cells slots Q (F0 m 30 ls []) := by
      intro ls H locs cs hl hcs hc1 hP hD hS
      refine lv_lconst (v := 1) hx hb d_Pr_digits_30 (by decide) ?_
      refine lv_lstore (lv' := [(6, .long 1), (3, .int (nI cs.length)), (4, .long (lN N)), (2, .ref w)]) hx hb d_Pr_digits_31 hl (by decide) rfl (fun ls hl => ?_)
      refine wk_dig1 hN hx hb hown ht 10 0 ls (by omega) (lv_sub hl [0, 1, 2, 3] rfl) (fun ls hl => ?_)
      have hj := tj_le (N / 10000) 10 0
      refine lv_lload hx hb d_Pr_digits_60 (lv_at hl 0 rfl) ?_
      refine lv_lstore (lv' := [(8, .long (lN (10 ^ tj (N / 10000) 10 0))), (6, .long (lN (10 ^ tj (N / 10000) 10 0))), (3, .int (nI cs.length)), (4, .long (lN N)), (2, .ref w)]) hx hb d_Pr_digits_62 hl (by decide) rfl (fun ls hl => ?_)
      refine wk_dig2 hN hx hb hown ht hK (tj (N / 10000) 10 0) cs ls H locs (by omega) (by omega) hP hD hS (lv_sub hl [0, 2, 3, 4] rfl) (fun ls H locs hP hD hS hl => ?_)
      have hdl : (cs ++ dl (N / 10000) (tj (N / 10000) 10 0)).length = cs.length + (tj (N / 10000) 10 0 + 1) := by rw [List.length_append, dl_len]
      have hps : pch (n < 0) N = (cs ++ dl (N / 10000) (tj (N / 10000) 10 0)) ++ (if N % 10000 = 0 then [] else 46 :: fl 4 (N % 10000)) := by rw [pch, hcs]
      generalize cs ++ dl (N / 10000) (tj (N / 10000) 10 0) = ds at hP hD hl hdl hps
      refine lv_lload hx hb d_Pr_digits_107 (lv_at hl 1 rfl) ?_
      refine lv_ldc2 hx hb hown (ht _ t_238) d_Pr_digits_109 ?_
      refine lv_lrem hx hb d_Pr_digits_112 (by decide) ?_
      rw [show ((lN N) - (lN N) / 10000 * 10000) = lN (N % 10000) from (pk_lRem (b := 10000) (by omega) (by decide) (by decide))]
      refine lv_lstore (lv' := [(8, .long (lN (N % 10000))), (3, .int (nI ds.length)), (4, .long (lN N)), (2, .ref w)]) hx hb d_Pr_digits_113 hl (by decide) rfl (fun ls hl => ?_)
      refine lv_lload hx hb d_Pr_digits_115 (lv_at hl 0 rfl) ?_
      refine lv_lconst (v := 0) hx hb d_Pr_digits_117 (by decide) ?_
      refine lc_ne (tgt := 124) hx hb d_Pr_digits_118 d_Pr_digits_119 (by decide) (fun h1 => ?_) (fun h1 => ?_)
      · have h2 : ¬ N % 10000 = 0 := fun h3 => h1 (by rw [h3]; rfl)
        rw [if_neg h2] at hps
        refine lv_aload_n hx hb d_Pr_digits_124 rfl (lv_at hl 3 rfl) ?_
        refine lv_iload_n hx hb d_Pr_digits_125 rfl (lv_at hl 1 rfl) ?_
        refine lv_iinc (k := 1) (v := ((nI ds.length) + 1)) (lv' := [(3, .int ((nI ds.length) + 1)), (8, .long (lN (N % 10000))), (4, .long (lN N)), (2, .ref w)]) hx hb d_Pr_digits_126 hl rfl (by rw [show Int32.ofInt 1 = (1 : Int32) from by decide]) (by decide) rfl (fun ls hl => ?_)
        refine lv_bipush (v := 46) hx hb d_Pr_digits_129 (by decide) ?_
        rw [show 46 = nI 46 from rfl]
        refine va_bast hx hb hK hP hD hS 0 0 rfl rfl (vp_in_nI (by omega) (by decide)) d_Pr_digits_131 (fun H locs hP hD hS => ?_)
        have ew : upd (wr b ds) (nI ds.length).toNatClampNeg (vp_nar .byte (nI 46)) = wr b (ds ++ [(nI 46)]) := by rw [nI_clamp (by omega), (nar_b 46 (by decide)).1, wr_snoc]
        have hP : va_P D cl2 [(w, .inl (cB, 32, .inl (upd (wr b ds) (nI ds.length).toNatClampNeg (vp_nar .byte (nI 46)))))] H := hP
        have hD : va_D A [(w, .inl (cB, 32, .inl (upd (wr b ds) (nI ds.length).toNatClampNeg (vp_nar .byte (nI 46)))))] := hD
        rw [ew] at hP hD
        refine lv_ldc2 hx hb hown (ht _ t_241) d_Pr_digits_132 ?_
        refine lv_lstore (lv' := [(10, .long 1000), (3, .int ((nI ds.length) + 1)), (8, .long (lN (N % 10000))), (4, .long (lN N)), (2, .ref w)]) hx hb d_Pr_digits_135 hl (by decide) rfl (fun ls hl => ?_)
        refine wk_dig3 hx hb hown ht hK 4 (N % 10000) (ds ++ [nI 46]) ls H locs (by omega) (Nat.mod_lt _ (by decide)) (by rw [List.length_append]; show _ + 1 + 4 ≤ _; omega) hP hD hS (by rw [len_1]; exact (lv_sub hl [0, 2, 1, 4] rfl)) (fun ls H locs hP hD hS hl => ?_)
        have e4 : (ds ++ [nI 46]) ++ fl 4 (N % 10000) = pch (n < 0) N := by rw [hps, List.append_assoc]; rfl
        rw [e4] at hP hD hl
        refine lv_iload_n hx hb d_Pr_digits_179 rfl (lv_at hl 0 rfl) ?_
        exact kret ls H locs 180 (Or.inr rfl) hP hD hS
      · have h2 : N % 10000 = 0 := (pk_lEQ (b := 0) (by omega) (by decide)).mp h1
        rw [if_pos h2, List.append_nil] at hps
        rw [← hps] at hP hD hl
        refine lv_iload_n hx hb d_Pr_digits_122 rfl (lv_at hl 1 rfl) ?_
        exact kret ls H locs 123 (Or.inl rfl) hP hD hS
    refine lv_lload_n hx hb d_Pr_digits_16 rfl (lv_at hl 2 rfl) ?_
    refine lv_lconst (v := 0) hx hb d_Pr_digits_17 (by decide) ?_
    refine lc_ge (tgt := 30) hx hb d_Pr_digits_18 d_Pr_digits_19 (by decide) (fun h2 => ?_) (fun h2 => ?_)
    · rw [← wr_nil b] at hP hD
      exact k30 ls H locs [] (lv_sub hl [1, 0, 3] rfl) (by rw [if_neg (Int64.not_lt.mpr h2)]) (by decide) hP hD hS
    · refine lv_aload_n hx hb d_Pr_digits_22 rfl (lv_at hl 3 rfl) ?_
      refine lv_iload_n hx hb d_Pr_digits_23 rfl (lv_at hl 1 rfl) ?_
      refine lv_iinc (k := 1) (v := (0 + 1)) (lv' := [(3, .int (0 + 1)), (4, .long (lN N)), (0, .long n), (2, .ref w)]) hx hb d_Pr_digits_24 hl rfl (by rw [show Int32.ofInt 1 = (1 : Int32) from by decide]) (by decide) rfl (fun ls hl => ?_)
      refine lv_bipush (v := 45) hx hb d_Pr_digits_27 (by decide) ?_
      rw [← wr_nil b] at hP hD
      rw [show 45 = nI 45 from rfl]
      refine va_bast hx hb hK hP hD hS 0 0 rfl rfl (vp_in_nI (n := 0) (by decide) (by decide)) d_Pr_digits_29 (fun H locs hP hD hS => ?_)
      have ew : upd (wr b []) (0 : Int32).toNatClampNeg (vp_nar .byte (nI 45)) = wr b [45] := by rw [(nar_b 45 (by decide)).1]; exact wr_snoc b [] 45
      have hP : va_P D cl2 [(w, .inl (cB, 32, .inl (upd (wr b []) (0 : Int32).toNatClampNeg (vp_nar .byte (nI 45)))))] H := hP
      have hD : va_D A [(w, .inl (cB, 32, .inl (upd (wr b []) (0 : Int32).toNatClampNeg (vp_nar .byte (nI 45)))))] := hD
      rw [ew] at hP hD
      exact k30 ls H locs [45] (lv_sub hl [0, 1, 3] rfl) (by rw [if_pos h2]) (by decide) hP hD hS
  refine lv_lload_n hx hb d_Pr_digits_2 rfl (lv_at hl 1 rfl) ?_
  refine lv_lconst (v := 0) hx hb d_Pr_digits_3 (by decide) ?_
  refine lc_ge (tgt := 13) hx hb d_Pr_digits_4 d_Pr_digits_5 (by decide) (fun h0 => ?_) (fun h0 => ?_)
  · refine lv_lload_n hx hb d_Pr_digits_13 rfl (lv_at hl 1 rfl) ?_
    exact k14 ls n hl (j_ab_ge h0)
  · refine lv_lload_n hx hb d_Pr_digits_8 rfl (lv_at hl 1 rfl) ?_
    refine lv_lneg hx hb d_Pr_digits_9 ?_
    refine lv_goto (tgt := 14) hx hb d_Pr_digits_10 (by decide) ?_
    exact k14 ls (-n) hl (j_ab_lt h0)
end DIG
end
section
-- the frame rule; contracts of Printer.digits, Desk.print; printed by gen/p14.py
theorem wj {A0 : Nat → Prop} {D : va_G} {ws wc wz w1 : va_W} {H H1 : Heap} (hP : va_P D cl2 ws H) (hD : va_D A0 ws) (isC isR : List Nat) (hC : isC.map (fun i => ws[i]?) = wc.map some) (hR : isR.map (fun i => ws[i]?) = wz.map some) (hn : va_nd isR = true) (hdis : ∀ i ∈ isR, i ∉ isC)
    (hk : ∀ q : Nat, q < H.size → ¬ inW wc q → H1[q]? = H[q]?) (hP1 : va_P D cl2 w1 H1) (hD1 : va_D (inW wc) w1) : va_P D cl2 (wz ++ w1) H1 ∧ va_D A0 (wz ++ w1) := by
  have at' : ∀ {is : List Nat} {w : va_W}, is.map (fun i => ws[i]?) = w.map some → ∀ (k : Nat) (q : Nat × va_E), w[k]? = some q → ∃ i, is[k]? = some i ∧ ws[i]? = some q := by
    intro is w hs k q hq
    have h1 : (is.map (fun i => ws[i]?))[k]? = some (some q) := by rw [hs, List.getElem?_map, hq]; rfl
    rw [List.getElem?_map] at h1
    cases hi : is[k]? with
    | none => rw [hi] at h1; cases h1
    | some i => rw [hi] at h1; exact ⟨i, rfl, Option.some.inj h1⟩
  have apart : ∀ (k : Nat) (q : Nat × va_E), wz[k]? = some q → q.1 < H.size ∧ ¬ inW wc q.1 := by
    intro k q hq
    obtain ⟨i, h1, h2⟩ := at' hR k q hq
    refine ⟨(hP i q h2).lt, fun h => ?_⟩
    obtain ⟨k2, e, h⟩ := h
    obtain ⟨j, h3, h4⟩ := at' hC k2 (q.1, e) h
    have hij := hD.1 i j q (q.1, e) h2 h4 rfl
    subst hij
    exact hdis i (List.mem_of_getElem? h1) (List.mem_of_getElem? h3)
  refine ⟨va_P.app (fun k q hq => ?_) hP1, va_D.app (hD.sub isR hn hR) (hD1.weaken (fun k q _ h => ?_)) (fun i j x y hx hy hxy => ?_)⟩
  · obtain ⟨i, h1, h2⟩ := at' hR k q hq
    obtain ⟨g1, g2⟩ := apart k q hq
    exact (hP i q h2).kept (hk q.1 g1 g2)
  · obtain ⟨k2, e, h⟩ := h
    obtain ⟨j, -, h4⟩ := at' hC k2 (q.1, e) h
    exact hD.2 j (q.1, e) h4
  · exact (apart i x hx).2 (by rw [hxy]; exact hD1.2 j y hy)
theorem wS {A0 : Nat → Prop} {ws wc : va_W} {H0 H H1 : Heap} {locs L : List Loc} (hS : va_S A0 H0 H locs) (hD : va_D A0 ws) (isC : List Nat) (hC : isC.map (fun i => ws[i]?) = wc.map some) (hz : H.size ≤ H1.size) (hk : ∀ q : Nat, q < H.size → ¬ inW wc q → H1[q]? = H[q]?) (hL : ∀ q ∈ L, inW wc q.base) : va_S A0 H0 H1 (locs ++ L) := by
  have hin : ∀ q, inW wc q → A0 q := by
    intro q h
    obtain ⟨k, e, h⟩ := h
    have h1 : (isC.map (fun i => ws[i]?))[k]? = some (some (q, e)) := by rw [hC, List.getElem?_map, h]; rfl
    rw [List.getElem?_map] at h1
    cases hi : isC[k]? with
    | none => rw [hi] at h1; cases h1
    | some i => rw [hi] at h1; exact hD.2 i (q, e) (Option.some.inj h1)
  refine ⟨Nat.le_trans hS.1 hz, fun q h1 h2 => ?_, fun q hq => ?_⟩
  · rw [hk q (Nat.lt_of_lt_of_le h1 hS.1) (fun z => h2 (hin q z))]
    exact hS.2.1 q h1 h2
  · rcases List.mem_append.mp hq with h | h
    · exact hS.2.2 q h
    · exact hin _ (hL q h)
theorem preSW {s : State} {H : Heap} {D : va_G} {W1 : va_W} {tys : List (ClassId × FieldType)} {A : Nat → Prop} {As : List Value} (hP : va_P D cl2 W1 H) (hK : va_K D cl2 tys s) (hD : va_D A W1) : PreS s H (pW D W1 tys As) As :=
  ⟨pW_blind, fun U hU hW => ⟨rfl, by rw [hU]; exact hP, va_K.moved hW.alike hK, hD.weaken (fun _ _ _ _ => trivial)⟩⟩
def okR (f : Nat → Int64) : Prop := ∀ j, j < 8 → -900000000000000 ≤ (f j).toInt ∧ (f j).toInt ≤ 900000000000000
theorem ab_lN {x : Int64} (h1 : -9000000000000000000 ≤ x.toInt) (h2 : x.toInt ≤ 9000000000000000000) : j_ab x = lN x.toInt.natAbs := by
  apply Int64.toInt_inj.mp
  rw [pk_lT (by omega)]
  have h0 : (0 : Int64).toInt = 0 := by decide
  unfold j_ab
  split
  · rename_i h
    rw [Int64.lt_iff_toInt_lt, h0] at h
    rw [Int64.toInt_neg, Jvm.Kit.bmod64 (by omega) (by omega)]
    omega
  · rename_i h
    rw [Int64.lt_iff_toInt_lt, h0] at h
    omega
def j_chars (x : Int64) : List Int32 := pch (x < 0) x.toInt.natAbs
def j_pv (cs : List Int32) (i : Int32) : Int32 := if nI cs.length ≤ i then -1 else cs.getD i.toNatClampNeg 0
def j_print (f : Nat → Int64) (a i : Int32) : Except String (Int32 × List Int32) := j_bd (j_get f a) fun x => j_bd (j_in i.toInt64 0 2147483647) fun _ => .ok (j_pv (j_chars x) i, j_chars x)
def j_dp (Wf : List Int32 → va_W) (x : Except String (Int32 × List Int32)) : Except String (Value × va_W) := match x with
  | .ok q => .ok (.int q.1, Wf q.2)
  | .error C => .error C
theorem pch_len (neg : Prop) [Decidable neg] (N : Nat) : (pch neg N).length ≤ 17 := by
  have h1 := tj_le (N / 10000) 10 0
  have h2 := dl_len (N / 10000) (tj (N / 10000) 10 0)
  have h3 := fl_len 4 (N % 10000)
  unfold pch
  rw [List.length_append, List.length_append, h2]
  split <;> split <;> simp <;> omega
theorem j_get_in {f : Nat → Int64} {a : Int32} {x : Int64} (h : j_get f a = .ok x) : ∃ j, j < 8 ∧ a = nI j ∧ x = f j := by
  unfold j_get at h
  cases h1 : j_in a.toInt64 0 7 with
  | error C => rw [h1] at h; cases h
  | ok u =>
    rw [h1] at h
    obtain ⟨j, hj, rfl⟩ := vp_in_of (j_in8 h1) (by decide)
    refine ⟨j, hj, rfl, ?_⟩
    cases h
    rw [nI_clamp (by omega)]
theorem c_Pr_digits (l : Launch) (D : va_G) (w : Nat) (cB : ClassId) (b : Nat → Int32) (n : Int64) (N : Nat) (hN : N < 10 ^ 15) (hn : j_ab n = lN N) : tx_Met l y_Pr_digits (Cond.code y_Pr_digits b_Pr_digits 12 (some .int) :: tt) rm0 (pW D [(w, .inl (cB, 32, .inl b))] [(cB, .byte)] [.long n, .ref w]) (tx_WQ D [(w, .inl (cB, 32, .inl b))] [(w, .inl (cB, 32, .inl (wr b (pch (n < 0) N))))] (some (.int (nI (pch (n < 0) N).length)))) 0 0 (inW [(w, .inl (cB, 32, .inl b))]) := by
  refine tx_start (by decide +kernel) [.long n, .ref w] (Nat.le_of_ble_eq_true rfl) (fun _ _ h => h.1) ?_
  intro p e s m below meth c ls hx hb hr hlk hml hne hown ht hnm hP hl
  obtain ⟨-, hP, hK, hD0⟩ := hP
  refine wk_Pr_digits hN hn hx hb hown ht hK hP (inW_self hD0) va_S.rf hl (fun ls H locs pc hpc hP hD hS => ?_)
  rcases hpc with rfl | rfl
  · exact tx_ret (W.iret hx hb hr (fun t hth _ => ⟨rfl, by rw [hth]; exact hP, hD, hS.F hth⟩) hS.2.2 d_Pr_digits_123)
  · exact tx_ret (W.iret hx hb hr (fun t hth _ => ⟨rfl, by rw [hth]; exact hP, hD, hS.F hth⟩) hS.2.2 d_Pr_digits_180)
theorem c_Dk_print (l : Launch) (hl0 : l.stackTraces = false) (D : va_G) (h r w : Nat) (cL cB : ClassId) (f : Nat → Int64) (b : Nat → Int32) (a2 i : Int32) (hf : okR f) : tx_Met l y_Dk_print (Cond.code y_Dk_print b_Dk_print 6 (some .int) :: tt) rmC (pT D (wD h r w cL cB f b) (tyD cL cB) [.ref h, .int a2, .int i]) (tx_DQ D (wD h r w cL cB f b) (j_dp (fun cs => wD h r w cL cB f (wr b cs)) (j_print f a2 i))) 1 6 (inW (wD h r w cL cB f b)) := by
  refine tx_start (by decide +kernel) [.ref h, .int a2, .int i] (Nat.le_of_ble_eq_true rfl) (fun _ _ h => h.1) ?_
  intro p e s m below meth c ls hx hb hr hlk hml hne hown ht hnm hP hl
  obtain ⟨-, hP, hK, hD0, hth⟩ := hP
  have hD : va_D (inW (wD h r w cL cB f b)) (wD h r w cL cB f b) := inW_self hD0
  have hS : va_S (inW (wD h r w cL cB f b)) s.heap s.heap [] := va_S.rf
  have hl : lv_has ls 6 [(0, .ref h), (1, .int a2), (2, .int i)] := hl
  refine lv_aload_n hx hb d_Dk_print_0 rfl (lv_at hl 0 rfl) ?_
  refine lv_iload_n hx hb d_Dk_print_1 rfl (lv_at hl 1 rfl) ?_
  refine tx_callL hlk hne (tx_runV (n := 1) (b := h) (As := [.int a2]) (rest := []) hx hb hml hown ht (c_Dk_get l hl0 D h r w cL cB f b a2) t_114 t_112 t_113 t_1 t_151 (by decide +kernel) rfl rfl ⟨by decide, by decide⟩ (preVT hP hK hD hth rfl rfl) rfl rfl hl.1 rfl (lv_room (Nat.le_of_ble_eq_true rfl)) d_Dk_print_2 ⟨by decide, by decide⟩) (fun C hC o t h9 => ?_) (fun x h1 => ?_)
  · rw [show j_print f a2 i = .error C from by simp only [j_print, j_bd, hC]]
    exact h9
  · refine lv_lstore_n (lv' := [(3, .long x), (0, .ref h), (1, .int a2), (2, .int i)]) hx hb d_Dk_print_5 rfl hl (by decide) rfl (fun ls hl => ?_)
    refine lv_iload_n hx hb d_Dk_print_6 rfl (lv_at hl 3 rfl) ?_
    refine lv_i2l (v := Int32.toInt64 i) hx hb d_Dk_print_7 rfl ?_
    refine lv_lconst (v := 0) hx hb d_Dk_print_8 (by decide) ?_
    refine lv_ldc2 hx hb hown (ht _ t_234) d_Dk_print_9 ?_
    refine tx_callU hlk hne (tx_runS (n := 3) (As := [.long (Int32.toInt64 i), .long 0, .long 2147483647]) (rest := []) hx hb hml hown ht (c_Dk_in l hl0 (Int32.toInt64 i) 0 2147483647) t_41 t_40 t_1 t_39 (by decide +kernel) rfl rfl ⟨by decide, by decide⟩ (tx_preT hth) rfl rfl hl.1 rfl (lv_room (Nat.le_of_ble_eq_true rfl)) d_Dk_print_12 ⟨by decide, by decide⟩) (fun C hC o t h9 => ?_) (fun h2 => ?_)
    · rw [show j_print f a2 i = .error C from by simp only [j_print, h1, j_bd, hC]]
      exact h9
    · refine W.eq (g2 := F0 m 15 ls []) rfl ?_
      obtain ⟨j, hj, -, hxj⟩ := j_get_in h1
      have hr1 := hf j hj
      rw [← hxj] at hr1
      obtain ⟨h3, -⟩ := j_in_le h2
      rw [Int32.toInt_toInt64] at h3
      have h30 : (0 : Int64).toInt = 0 := by decide
      rw [h30] at h3
      refine lv_lload_n hx hb d_Dk_print_15 rfl (lv_at hl 0 rfl) ?_
      refine lv_aload_n hx hb d_Dk_print_16 rfl (lv_at hl 1 rfl) ?_
      refine va_get (D := D) (ci := 0) (v := .ref w) (C := R_Dk) (T := F_Dk) (N := 2) hx hb ht uw_Dk hown hK hP 0 rfl rfl 1 (by decide) (ht _ t_22) (fun _ h9 => h9) rfl d_Dk_print_17 ?_
      refine tx_callR (tx_runS (n := 2) (As := [.long x, .ref w]) (rest := []) hx hb hml hown ht (c_Pr_digits l D w cB b x x.toInt.natAbs (by omega) (ab_lN (by omega) (by omega))) t_237 t_236 t_12 t_235 (by decide +kernel) rfl rfl (rm0R ⟨by decide, by decide⟩ (by decide)) (preSW (hP.sub [2] rfl) (hK.sub [1] rfl) (hD.sub [2] (by decide) rfl)) rfl rfl hl.1 rfl (lv_room (Nat.le_of_ble_eq_true rfl)) d_Dk_print_20 ⟨by decide, by decide⟩) (fun x9 st₀ t h9 => by cases h9.1) (fun v9 st₀ t L9 h0 hW0 hal hL hq => ?_)
      obtain ⟨e1, hP1, hD1, hz1, hk1⟩ := hq
      cases e1
      rw [h0] at hz1 hk1
      have hS := wS hS hD [2] rfl hz1 hk1 hL
      obtain ⟨hP, hD⟩ := wj (wz := [(h, .inr (0, [.ref r, .ref w])), (r, .inl (cL, 8, .inr (.inl f)))]) hP hD [2] [0, 1] rfl rfl (by decide) (by decide) hk1 hP1 hD1
      change va_P D cl2 (wD h r w cL cB f (wr b (j_chars x))) t.heap at hP
      change va_D (inW (wD h r w cL cB f b)) (wD h r w cL cB f (wr b (j_chars x))) at hD
      have hlen : (j_chars x).length ≤ 17 := pch_len _ _
      have e2 : pch (x < 0) x.toInt.natAbs = j_chars x := rfl
      rw [e2]
      refine W.eq (g2 := F0 m 23 ls [.int (nI (j_chars x).length)]) rfl ?_
      rw [show j_print f a2 i = .ok (j_pv (j_chars x) i, j_chars x) from by simp only [j_print, h1, h2, j_bd]]
      refine lv_istore (lv' := [(5, .int (nI (j_chars x).length)), (3, .long x), (0, .ref h), (1, .int a2), (2, .int i)]) hx hb d_Dk_print_23 hl (by decide) rfl (fun ls hl => ?_)
      refine lv_iload_n hx hb d_Dk_print_25 rfl (lv_at hl 4 rfl) ?_
      refine lv_iload hx hb d_Dk_print_26 (lv_at hl 0 rfl) ?_
      refine lv_icmp_ge (tgt := 40) hx hb d_Dk_print_28 (by decide) (fun h5 => ?_) (fun h5 => ?_)
      · refine lv_iconst (v := (-1)) hx hb d_Dk_print_40 (by decide) ?_
        rw [show (-1 : Int32) = j_pv (j_chars x) i from by rw [j_pv, if_pos h5]]
        exact W.widen (k := 1) (n := 6) (by decide) (by decide) (tx_ret (W.iret (v := j_pv (j_chars x) i) hx hb hr (fun t9 hth _ => ⟨rfl, by rw [hth]; exact hP, hD, hS.F hth⟩) hS.2.2 d_Dk_print_41))
      · have h6 : i.toInt < (j_chars x).length := by rw [Int32.le_iff_toInt_le, nI_toInt (by omega)] at h5; omega
        have h7 : i.toNatClampNeg < (j_chars x).length := by show i.toInt.toNat < _; omega
        refine lv_aload_n hx hb d_Dk_print_31 rfl (lv_at hl 2 rfl) ?_
        refine va_get (D := D) (ci := 0) (v := .ref w) (C := R_Dk) (T := F_Dk) (N := 2) hx hb ht uw_Dk hown hK hP 0 rfl rfl 1 (by decide) (ht _ t_22) (fun _ h9 => h9) rfl d_Dk_print_32 ?_
        refine lv_iload_n hx hb d_Dk_print_35 rfl (lv_at hl 4 rfl) ?_
        refine va_bald hx hb hK hP 2 1 rfl rfl (vp_in_iff.mpr ⟨h3, by omega⟩) d_Dk_print_36 ?_
        refine lv_goto (tgt := 41) hx hb d_Dk_print_37 (by decide) ?_
        rw [show wr b (j_chars x) (Int32.toNatClampNeg i) = j_pv (j_chars x) i from by rw [j_pv, if_neg h5, wr_at h7]]
        exact W.widen (k := 1) (n := 6) (by decide) (by decide) (tx_ret (W.iret (v := j_pv (j_chars x) i) hx hb hr (fun t9 hth _ => ⟨rfl, by rw [hth]; exact hP, hD, hS.F hth⟩) hS.2.2 d_Dk_print_41))
end
section
-- the model's small methods; printed by gen/p15.py
def j_out (i : Int32) : Int32 := if i < 0 ∨ 7 < i then 1 else 0
def m_product (x y : Int64) : Int64 := if 0 < x / 10000 ∧ 900000000000000 / (x / 10000) < y then 900000000000001 else x / 10000 * y + ((x - x / 10000 * 10000) * y + 5000) / 10000
def m_quot (x y : Int64) : Int64 := if 10000 * x - 10000 * x / y * y < y - (10000 * x - 10000 * x / y * y) then 10000 * x / y else 10000 * x / y + 1
abbrev MS : Type := Int32 × (Nat → Int64) × Int64
def m_put (k : Int32) (f : Nat → Int64) (i mi : Int32) (z : Int64) (cd : Int32) : MS := if 900000000000000 < z then (cd, f, 0) else (k, vp_updL f i.toNatClampNeg (if mi = 0 then z else -z), if mi = 0 then z else -z)
def m_set (f : Nat → Int64) (i : Int32) (n : Int64) : MS := if j_out i = 0 ∧ ¬ n < -900000000000000 ∧ ¬ 900000000000000 < n then (0, vp_updL f i.toNatClampNeg n, f i.toNatClampNeg) else (1, f, 0)
def m_get (f : Nat → Int64) (i : Int32) : MS := if j_out i = 0 then (0, f, f i.toNatClampNeg) else (1, f, 0)
def m_Q (D : va_G) (h r q : Nat) (cL cI : ClassId) (g : Nat → Int32) (W0 : va_W) (res : MS) : Array Value → State → Outcome → State → Prop := tx_WQ D W0 (wM h r q cL cI res.1 res.2.1 g) (some (.long res.2.2))
abbrev rmP : Room := { frames := 1, cells := 0, slots := 0, locals := 60 }
abbrev rmQ : Room := { frames := 2, cells := 0, slots := 0, locals := 120 }
theorem out_in {i : Int32} (h : j_out i = 0) : vp_in i 8 := by
  unfold j_out at h
  split at h
  · exact absurd h (by decide)
  · rename_i h1
    have h0 : (0 : Int32).toInt = 0 := by decide
    have h7 : (7 : Int32).toInt = 7 := by decide
    simp only [Int32.lt_iff_toInt_lt, h0, h7] at h1
    exact vp_in_iff.mpr ⟨by omega, by omega⟩
section MO1
variable {p : Program} {l : Launch} {e : Env} {R : Room} {s : State} {m : MethodId} {args : Array Value} {below : List Frame} {meth : Method} {c : Code} {H : Heap} {locs : List Loc} {cells slots : Nat} {Q : State → Prop} {ls : Array Slot}
theorem wk_Mo_size (x : Int64) (hx : p.tables.exec = Jvm.exec) (hb : c.code = b_Mo_size) (hl : lv_has ls 2 [(0, .long x)])
    (kret : ∀ ls : Array Slot, W p l e R s m args below meth c H locs cells slots Q (F0 m 12 ls [.long (j_ab x)])) : W p l e R s m args below meth c H locs cells slots Q (F0 m 0 ls []) := by
  refine lv_lload_n hx hb d_Mo_size_0 rfl (lv_at hl 0 rfl) ?_
  refine lv_lconst (v := 0) hx hb d_Mo_size_1 (by decide) ?_
  refine lc_ge (tgt := 11) hx hb d_Mo_size_2 d_Mo_size_3 (by decide) (fun h0 => ?_) (fun h0 => ?_)
  · refine lv_lload_n hx hb d_Mo_size_11 rfl (lv_at hl 0 rfl) ?_
    have e1 := kret ls
    rw [← j_ab_ge h0] at e1
    exact e1
  · refine lv_lload_n hx hb d_Mo_size_6 rfl (lv_at hl 0 rfl) ?_
    refine lv_lneg hx hb d_Mo_size_7 ?_
    refine lv_goto (tgt := 12) hx hb d_Mo_size_8 (by decide) ?_
    have e1 := kret ls
    rw [← j_ab_lt h0] at e1
    exact e1
theorem wk_Mo_out (h : Nat) (i : Int32) (hx : p.tables.exec = Jvm.exec) (hb : c.code = b_Mo_out) (hl : lv_has ls 2 [(0, .ref h), (1, .int i)])
    (kret : ∀ ls : Array Slot, W p l e R s m args below meth c H locs cells slots Q (F0 m 15 ls [.int (j_out i)])) : W p l e R s m args below meth c H locs cells slots Q (F0 m 0 ls []) := by
  refine lv_iload_n hx hb d_Mo_out_0 rfl (lv_at hl 1 rfl) ?_
  refine lv_if_lt (tgt := 10) hx hb d_Mo_out_1 (by decide) (fun h1 => ?_) (fun h1 => ?_)
  · refine lv_iconst (v := 1) hx hb d_Mo_out_10 (by decide) ?_
    refine lv_goto (tgt := 15) hx hb d_Mo_out_11 (by decide) ?_
    rw [show (1 : Int32) = j_out i from by rw [j_out, if_pos (Or.inl h1)]]
    exact kret ls
  · refine lv_iload_n hx hb d_Mo_out_4 rfl (lv_at hl 1 rfl) ?_
    refine lv_bipush (v := 7) hx hb d_Mo_out_5 (by decide) ?_
    refine lv_icmp_le (tgt := 14) hx hb d_Mo_out_7 (by decide) (fun h2 => ?_) (fun h2 => ?_)
    · refine lv_iconst (v := 0) hx hb d_Mo_out_14 (by decide) ?_
      rw [show (0 : Int32) = j_out i from by rw [j_out, if_neg (fun h => h.elim h1 (fun h3 => Int32.not_lt.mpr h2 h3))]]
      exact kret ls
    · refine lv_iconst (v := 1) hx hb d_Mo_out_10 (by decide) ?_
      refine lv_goto (tgt := 15) hx hb d_Mo_out_11 (by decide) ?_
      rw [show (1 : Int32) = j_out i from by rw [j_out, if_pos (Or.inr (Int32.not_le.mp h2))]]
      exact kret ls
theorem wk_Mo_product (h : Nat) (x y : Int64) (hx : p.tables.exec = Jvm.exec) (hb : c.code = b_Mo_product) (hown : s.vm.findClass "TenThousandthDeskModel" = some m.cls) (ht : ∀ w ∈ tt, w.before args s = true) (hl : lv_has ls 7 [(0, .ref h), (1, .long x), (3, .long y)])
    (kret : ∀ (ls : Array Slot) (pc : Nat), (pc = 28 ∨ pc = 49) → W p l e R s m args below meth c H locs cells slots Q (F0 m pc ls [.long (m_product x y)])) : W p l e R s m args below meth c H locs cells slots Q (F0 m 0 ls []) := by
  refine lv_lload_n hx hb d_Mo_product_0 rfl (lv_at hl 1 rfl) ?_
  refine lv_ldc2 hx hb hown (ht _ t_304) d_Mo_product_1 ?_
  refine lv_ldiv hx hb d_Mo_product_4 (by decide) ?_
  refine lv_lstore (lv' := [(5, .long (x / 10000)), (0, .ref h), (1, .long x), (3, .long y)]) hx hb d_Mo_product_5 hl (by decide) rfl (fun ls hl => ?_)
  have k29 : ∀ (ls : Array Slot) , lv_has ls 7 [(5, .long (x / 10000)), (0, .ref h), (1, .long x), (3, .long y)] → ¬ (0 < x / 10000 ∧ 900000000000000 / (x / 10000) < y) → W p l e R s m args below meth c H locs cells slots Q (F0 m 29 ls []) := by
    intro ls  hl hg
    refine lv_lload hx hb d_Mo_product_29 (lv_at hl 0 rfl) ?_
    refine lv_lload_n hx hb d_Mo_product_31 rfl (lv_at hl 3 rfl) ?_
    refine lv_lmul hx hb d_Mo_product_32 ?_
    refine lv_lload_n hx hb d_Mo_product_33 rfl (lv_at hl 2 rfl) ?_
    refine lv_ldc2 hx hb hown (ht _ t_304) d_Mo_product_34 ?_
    refine lv_lrem hx hb d_Mo_product_37 (by decide) ?_
    refine lv_lload_n hx hb d_Mo_product_38 rfl (lv_at hl 3 rfl) ?_
    refine lv_lmul hx hb d_Mo_product_39 ?_
    refine lv_ldc2 hx hb hown (ht _ t_306) d_Mo_product_40 ?_
    refine lv_ladd hx hb d_Mo_product_43 ?_
    refine lv_ldc2 hx hb hown (ht _ t_304) d_Mo_product_44 ?_
    refine lv_ldiv hx hb d_Mo_product_47 (by decide) ?_
    refine lv_ladd hx hb d_Mo_product_48 ?_
    rw [show (((x / 10000) * y) + ((((x - x / 10000 * 10000) * y) + 5000) / 10000)) = m_product x y from by rw [m_product, if_neg hg]]
    exact kret ls 49 (Or.inr rfl)
  refine lv_lload hx hb d_Mo_product_7 (lv_at hl 0 rfl) ?_
  refine lv_lconst (v := 0) hx hb d_Mo_product_9 (by decide) ?_
  refine lc_le (tgt := 29) hx hb d_Mo_product_10 d_Mo_product_11 (by decide) (fun h1 => ?_) (fun h1 => ?_)
  · exact k29 ls hl (fun h5 => Int64.not_lt.mpr h1 h5.1)
  · refine lv_lload_n hx hb d_Mo_product_14 rfl (lv_at hl 3 rfl) ?_
    refine lv_ldc2 hx hb hown (ht _ t_280) d_Mo_product_15 ?_
    refine lv_lload hx hb d_Mo_product_18 (lv_at hl 0 rfl) ?_
    refine lv_ldiv hx hb d_Mo_product_20 (fun h5 => by rw [h5] at h1; exact absurd h1 (by decide)) ?_
    refine lc_le (tgt := 29) hx hb d_Mo_product_21 d_Mo_product_22 (by decide) (fun h2 => ?_) (fun h2 => ?_)
    · exact k29 ls hl (fun h5 => Int64.not_lt.mpr h2 h5.2)
    · refine lv_ldc2 hx hb hown (ht _ t_305) d_Mo_product_25 ?_
      rw [show (900000000000001 : Int64) = m_product x y from by rw [m_product, if_pos ⟨h1, h2⟩]]
      exact kret ls 28 (Or.inl rfl)
theorem wk_Mo_quotient (h : Nat) (x y : Int64) (hx : p.tables.exec = Jvm.exec) (hb : c.code = b_Mo_quotient) (hown : s.vm.findClass "TenThousandthDeskModel" = some m.cls) (ht : ∀ w ∈ tt, w.before args s = true) (hl : lv_has ls 9 [(0, .ref h), (1, .long x), (3, .long y)]) (hd : ¬ y = 0)
    (kret : ∀ ls : Array Slot, W p l e R s m args below meth c H locs cells slots Q (F0 m 37 ls [.long (m_quot x y)])) : W p l e R s m args below meth c H locs cells slots Q (F0 m 0 ls []) := by
  refine lv_ldc2 hx hb hown (ht _ t_304) d_Mo_quotient_0 ?_
  refine lv_lload_n hx hb d_Mo_quotient_3 rfl (lv_at hl 1 rfl) ?_
  refine lv_lmul hx hb d_Mo_quotient_4 ?_
  refine lv_lload_n hx hb d_Mo_quotient_5 rfl (lv_at hl 2 rfl) ?_
  refine lv_ldiv hx hb d_Mo_quotient_6 hd ?_
  refine lv_lstore (lv' := [(5, .long ((10000 * x) / y)), (0, .ref h), (1, .long x), (3, .long y)]) hx hb d_Mo_quotient_7 hl (by decide) rfl (fun ls hl => ?_)
  refine lv_ldc2 hx hb hown (ht _ t_304) d_Mo_quotient_9 ?_
  refine lv_lload_n hx hb d_Mo_quotient_12 rfl (lv_at hl 2 rfl) ?_
  refine lv_lmul hx hb d_Mo_quotient_13 ?_
  refine lv_lload_n hx hb d_Mo_quotient_14 rfl (lv_at hl 3 rfl) ?_
  refine lv_lrem hx hb d_Mo_quotient_15 hd ?_
  refine lv_lstore (lv' := [(7, .long ((10000 * x) - (10000 * x) / y * y)), (5, .long ((10000 * x) / y)), (0, .ref h), (1, .long x), (3, .long y)]) hx hb d_Mo_quotient_16 hl (by decide) rfl (fun ls hl => ?_)
  refine lv_lload hx hb d_Mo_quotient_18 (lv_at hl 0 rfl) ?_
  refine lv_lload_n hx hb d_Mo_quotient_20 rfl (lv_at hl 4 rfl) ?_
  refine lv_lload hx hb d_Mo_quotient_21 (lv_at hl 0 rfl) ?_
  refine lv_lsub hx hb d_Mo_quotient_23 ?_
  refine lc_lt (tgt := 35) hx hb d_Mo_quotient_24 d_Mo_quotient_25 (by decide) (fun h1 => ?_) (fun h1 => ?_)
  · refine lv_lload hx hb d_Mo_quotient_35 (lv_at hl 1 rfl) ?_
    rw [show ((10000 * x) / y) = m_quot x y from by rw [m_quot, if_pos h1]]
    exact kret ls
  · refine lv_lload hx hb d_Mo_quotient_28 (lv_at hl 1 rfl) ?_
    refine lv_lconst (v := 1) hx hb d_Mo_quotient_30 (by decide) ?_
    refine lv_ladd hx hb d_Mo_quotient_31 ?_
    refine lv_goto (tgt := 37) hx hb d_Mo_quotient_32 (by decide) ?_
    rw [show (((10000 * x) / y) + 1) = m_quot x y from by rw [m_quot, if_neg (Int64.not_lt.mpr h1)]]
    exact kret ls
end MO1
theorem c_Mo_size (l : Launch) (x : Int64) : tx_Met l y_Mo_size (Cond.code y_Mo_size b_Mo_size 2 (some .long) :: tt) rm0 (fun ar _ => ar = ([.long x] : List Value).toArray) (tx_PQ (.ok (some (.long (j_ab x))))) 0 0 (fun _ => False) := by
  refine tx_start (by decide +kernel) [.long x] (Nat.le_of_ble_eq_true rfl) (fun _ _ h => h) ?_
  intro p e s m below meth c ls hx hb hr hlk hml hne hown ht hnm hP hl
  exact wk_Mo_size x hx hb hl (fun ls => tx_ret (W.lret (v := j_ab x) hx hb hr (fun t hth _ => And.intro rfl hth) (fun q hq => by cases hq) d_Mo_size_12))
theorem c_Mo_out (l : Launch) (h : Nat) (i : Int32) : tx_Met l y_Mo_out (Cond.code y_Mo_out b_Mo_out 2 (some .boolean) :: tt) rm0 (fun ar _ => ar = ([.ref h, .int i] : List Value).toArray) (tx_PQ (.ok (some (.int (j_out i))))) 0 0 (fun _ => False) := by
  refine tx_start (by decide +kernel) [.ref h, .int i] (Nat.le_of_ble_eq_true rfl) (fun _ _ h => h) ?_
  intro p e s m below meth c ls hx hb hr hlk hml hne hown ht hnm hP hl
  exact wk_Mo_out h i hx hb hl (fun ls => tx_ret (W.zret (v := j_out i) hx hb hr (by unfold j_out; split <;> rfl) (fun t hth _ => And.intro rfl hth) (fun q hq => by cases hq) d_Mo_out_15))
theorem c_Mo_product (l : Launch) (h : Nat) (x y : Int64) : tx_Met l y_Mo_product (Cond.code y_Mo_product b_Mo_product 7 (some .long) :: tt) rm0 (fun ar _ => ar = ([.ref h, .long x, .long y] : List Value).toArray) (tx_PQ (.ok (some (.long (m_product x y))))) 0 0 (fun _ => False) := by
  refine tx_start (by decide +kernel) [.ref h, .long x, .long y] (Nat.le_of_ble_eq_true rfl) (fun _ _ h => h) ?_
  intro p e s m below meth c ls hx hb hr hlk hml hne hown ht hnm hP hl
  refine wk_Mo_product h x y hx hb hown ht hl (fun ls pc hpc => ?_)
  rcases hpc with rfl | rfl
  · exact tx_ret (W.lret (v := m_product x y) hx hb hr (fun t hth _ => And.intro rfl hth) (fun q hq => by cases hq) d_Mo_product_28)
  · exact tx_ret (W.lret (v := m_product x y) hx hb hr (fun t hth _ => And.intro rfl hth) (fun q hq => by cases hq) d_Mo_product_49)
theorem c_Mo_quotient (l : Launch) (h : Nat) (x y : Int64) (hd : ¬ y = 0) : tx_Met l y_Mo_quotient (Cond.code y_Mo_quotient b_Mo_quotient 9 (some .long) :: tt) rm0 (fun ar _ => ar = ([.ref h, .long x, .long y] : List Value).toArray) (tx_PQ (.ok (some (.long (m_quot x y))))) 0 0 (fun _ => False) := by
  refine tx_start (by decide +kernel) [.ref h, .long x, .long y] (Nat.le_of_ble_eq_true rfl) (fun _ _ h => h) ?_
  intro p e s m below meth c ls hx hb hr hlk hml hne hown ht hnm hP hl
  exact wk_Mo_quotient h x y hx hb hown ht hl hd (fun ls => tx_ret (W.lret (v := m_quot x y) hx hb hr (fun t hth _ => And.intro rfl hth) (fun q hq => by cases hq) d_Mo_quotient_37))
theorem c_Mo_thrown (l : Launch) (D : va_G) (h r q : Nat) (cL cI : ClassId) (k : Int32) (f : Nat → Int64) (g : Nat → Int32) : tx_Met l y_Mo_thrown (Cond.code y_Mo_thrown b_Mo_thrown 1 (some .int) :: tt) rm0 (pW D (wM h r q cL cI k f g) (tyM cL cI) [.ref h]) (tx_PQ (.ok (some (.int k)))) 0 0 (fun _ => False) := by
  refine tx_start (by decide +kernel) [.ref h] (Nat.le_of_ble_eq_true rfl) (fun _ _ h => h.1) ?_
  intro p e s m below meth c ls hx hb hr hlk hml hne hown ht hnm hP hl
  obtain ⟨-, hP, hK, hD0⟩ := hP
  have hD : va_D (inW (wM h r q cL cI k f g)) (wM h r q cL cI k f g) := inW_self hD0
  have hS : va_S (inW (wM h r q cL cI k f g)) s.heap s.heap [] := va_S.rf
  have hl : lv_has ls 1 [(0, .ref h)] := hl
  refine lv_aload_n hx hb d_Mo_thrown_0 rfl (lv_at hl 0 rfl) ?_
  refine va_get (D := D) (ci := 1) (v := .int k) (C := R_Mo) (T := F_Mo) (N := 3) hx hb ht uw_Mo hown hK hP 0 rfl rfl 0 (by decide) (ht _ t_256) (fun _ h9 => h9) rfl d_Mo_thrown_1 ?_
  exact tx_ret (W.iret (v := k) hx hb hr (fun t hth _ => And.intro rfl hth) (fun q hq => by cases hq) d_Mo_thrown_4)
theorem c_Mo_fail (l : Launch) (D : va_G) (h r q : Nat) (cL cI : ClassId) (k : Int32) (f : Nat → Int64) (g : Nat → Int32) (cd : Int32) : tx_Met l y_Mo_fail (Cond.code y_Mo_fail b_Mo_fail 2 (some .int) :: tt) rm0 (pW D (wM h r q cL cI k f g) (tyM cL cI) [.ref h, .int cd]) (tx_WQ D (wM h r q cL cI k f g) (wM h r q cL cI cd f g) (some (.int 0))) 0 0 (inW (wM h r q cL cI k f g)) := by
  refine tx_start (by decide +kernel) [.ref h, .int cd] (Nat.le_of_ble_eq_true rfl) (fun _ _ h => h.1) ?_
  intro p e s m below meth c ls hx hb hr hlk hml hne hown ht hnm hP hl
  obtain ⟨-, hP, hK, hD0⟩ := hP
  have hD : va_D (inW (wM h r q cL cI k f g)) (wM h r q cL cI k f g) := inW_self hD0
  have hS : va_S (inW (wM h r q cL cI k f g)) s.heap s.heap [] := va_S.rf
  have hl : lv_has ls 2 [(0, .ref h), (1, .int cd)] := hl
  refine lv_aload_n hx hb d_Mo_fail_0 rfl (lv_at hl 0 rfl) ?_
  refine lv_iload_n hx hb d_Mo_fail_1 rfl (lv_at hl 1 rfl) ?_
  refine va_put (D := D) (ci := 1) (v := .int cd) (ty := .int) (C := R_Mo) (T := F_Mo) (N := 3) hx hb ht uw_Mo t_Mo t_Mo_ok n_Mo hown hK hP hD hS 0 rfl rfl 0 (by decide) (ht _ t_256) (fun _ h9 => h9) rfl (by decide +kernel) rfl rfl (Nat.le_of_ble_eq_true rfl) d_Mo_fail_2 (fun H locs hP hD hS => ?_)
  have hP : va_P D cl2 (wM h r q cL cI cd f g) H := hP
  have hD : va_D (inW (wM h r q cL cI k f g)) (wM h r q cL cI cd f g) := hD
  refine lv_iconst (v := 0) hx hb d_Mo_fail_5 (by decide) ?_
  exact tx_ret (W.iret (v := 0) hx hb hr (fun t hth _ => ⟨rfl, by rw [hth]; exact hP, hD, hS.F hth⟩) hS.2.2 d_Mo_fail_6)
section TKM
variable {p : Program} {l : Launch} {e : Env} {R : Room} {s : State} {m : MethodId} {args : Array Value} {below : List Frame} {meth : Method} {c : Code} {ls : Array Slot} {cc : ByteArray} {nL pc : Nat} {H : Heap} {locs : List Loc} {Q : State → Prop}
theorem inW_addr {W0 W1 : va_W} (h : va_D (inW W0) W1) : ∀ q, inW W1 q → inW W0 q := by
  intro q hq
  obtain ⟨k, e, hq⟩ := hq
  exact h.2 k _ hq
/-- a call that changes the model's world and returns, in a walk whose world was W0 at the start -/
theorem tk_world {D : va_G} {W0 W1 W2 : va_W} {v : Option Value} {a : Array Value} {rest st0 : List Value} (hD : va_D (inW W0) W1) (hS : va_S (inW W0) s.heap H locs)
    (hr : tx_Run p l e R s m args below meth c H locs 0 0 0 0 (F0 m pc ls st0) rest (tx_WQ D W1 W2 v a) (inW W1))
    (k : ∀ (H : Heap) (locs : List Loc), va_P D cl2 W2 H → va_D (inW W0) W2 → va_S (inW W0) s.heap H locs → W p l e R s m args below meth c H locs 0 0 Q (F0 m (pc + 3) ls (v.toList ++ rest))) : W p l e R s m args below meth c H locs 0 0 Q (F0 m pc ls st0) := by
  refine tx_callR hr (fun x st₀ t h9 => by cases h9.1) (fun v9 st₀ t L9 h0 hW0 hal hL hq => ?_)
  obtain ⟨e1, hP1, hD1, hz1, hk1⟩ := hq
  cases e1
  rw [h0] at hz1 hk1
  exact k t.heap (locs ++ L9) hP1 (hD1.weaken (fun _ q _ hq => inW_addr hD q.1 hq)) ⟨Nat.le_trans hS.1 hz1, fun q h1 h2 => by rw [hk1 q (Nat.lt_of_lt_of_le h1 hS.1) (fun z => h2 (inW_addr hD q z))]; exact hS.2.1 q h1 h2, fun q hq => by
    rcases List.mem_append.mp hq with h | h
    · exact hS.2.2 q h
    · exact inW_addr hD _ (hL q h)⟩
variable {D : va_G} {h r q : Nat} {cL cI : ClassId} {k : Int32} {f : Nat → Int64} {g : Nat → Int32} {W0 : va_W}
theorem tk_fail0 {cd : Int32} {rest : List Value} (hx : p.tables.exec = Jvm.exec) (hb : c.code = cc) (hml : c.maxLocals = nL) (hown : s.vm.findClass "TenThousandthDeskModel" = some m.cls) (ht : ∀ w ∈ tt, w.before args s = true)
    (hP : va_P D cl2 (wM h r q cL cI k f g) H) (hK : va_K D cl2 (tyM cL cI) s) (hD : va_D (inW W0) (wM h r q cL cI k f g)) (hS : va_S (inW W0) s.heap H locs) (hR : 1 ≤ R.frames ∧ 60 ≤ R.locals) (hsz : ls.size = nL) (hw : (rest.map fun v => v.category).sum ≤ 8) (d0 : decode cc pc = .ok (.invokevirtual 29, 3))
    (kk : ∀ (H : Heap) (locs : List Loc), va_P D cl2 (wM h r q cL cI cd f g) H → va_D (inW W0) (wM h r q cL cI cd f g) → va_S (inW W0) s.heap H locs → W p l e R s m args below meth c H locs 0 0 Q (F0 m (pc + 3) ls (.int 0 :: rest))) : W p l e R s m args below meth c H locs 0 0 Q (F0 m pc ls (.int cd :: .ref h :: rest)) :=
  tk_world hD hS (tx_runV (n := 1) (b := h) (As := [.int cd]) (rest := rest) hx hb hml hown ht (c_Mo_fail l D h r q cL cI k f g cd) t_284 t_283 t_s3 t_2 t_281 (by decide +kernel) rfl rfl (rm0R hR (by decide)) (preVW hP hK hD rfl rfl) rfl rfl hsz rfl (lv_room hw) d0 ⟨Nat.zero_le _, Nat.zero_le _⟩) kk
theorem tk_fail {cd : Int32} (hx : p.tables.exec = Jvm.exec) (hb : c.code = cc) (hr : meth.sig.returnType = some .long) (hlk : meth.locks = false) (hml : c.maxLocals = nL) (hown : s.vm.findClass "TenThousandthDeskModel" = some m.cls) (ht : ∀ w ∈ tt, w.before args s = true)
    (hP : va_P D cl2 (wM h r q cL cI k f g) H) (hK : va_K D cl2 (tyM cL cI) s) (hD : va_D (inW W0) (wM h r q cL cI k f g)) (hS : va_S (inW W0) s.heap H locs) (hR : 1 ≤ R.frames ∧ 60 ≤ R.locals) (hsz : ls.size = nL)
    (d0 : decode cc pc = .ok (.invokevirtual 29, 3)) (d3 : decode cc (pc + 3) = .ok (.i2l, 1)) (d4 : decode cc (pc + 4) = .ok (.lreturn, 1)) :
    W p l e R s m args below meth c H locs 0 0 (tx_MQ below (m_Q D h r q cL cI g W0 (cd, f, 0)) args s 0 0 (inW W0)) (F0 m pc ls [.int cd, .ref h]) := by
  refine tk_fail0 hx hb hml hown ht hP hK hD hS hR hsz (Nat.le_of_ble_eq_true rfl) d0 (fun H locs hP hD hS => ?_)
  refine lv_i2l (v := 0) hx hb d3 (by decide) ?_
  exact tx_ret (W.lret (v := 0) hx hb hr (fun t2 hth _ => ⟨rfl, by rw [hth]; exact hP, hD, hS.F hth⟩) hS.2.2 d4)
end TKM
theorem c_Mo_put (l : Launch) (D : va_G) (h r q : Nat) (cL cI : ClassId) (k : Int32) (f : Nat → Int64) (g : Nat → Int32) (i mi : Int32) (z : Int64) (cd : Int32) (hi : vp_in i 8) : tx_Met l y_Mo_put (Cond.code y_Mo_put b_Mo_put 6 (some .long) :: tt) rmP (pW D (wM h r q cL cI k f g) (tyM cL cI) [.ref h, .int i, .int mi, .long z, .int cd]) (m_Q D h r q cL cI g (wM h r q cL cI k f g) (m_put k f i mi z cd)) 0 0 (inW (wM h r q cL cI k f g)) := by
  refine tx_start (by decide +kernel) [.ref h, .int i, .int mi, .long z, .int cd] (Nat.le_of_ble_eq_true rfl) (fun _ _ h => h.1) ?_
  intro p e s m below meth c ls hx hb hr hlk hml hne hown ht hnm hP hl
  obtain ⟨-, hP, hK, hD0⟩ := hP
  have hD : va_D (inW (wM h r q cL cI k f g)) (wM h r q cL cI k f g) := inW_self hD0
  have hS : va_S (inW (wM h r q cL cI k f g)) s.heap s.heap [] := va_S.rf
  have hl : lv_has ls 6 [(0, .ref h), (1, .int i), (2, .int mi), (3, .long z), (5, .int cd)] := hl
  refine lv_lload_n hx hb d_Mo_put_0 rfl (lv_at hl 3 rfl) ?_
  refine lv_ldc2 hx hb hown (ht _ t_280) d_Mo_put_1 ?_
  refine lc_le (tgt := 16) hx hb d_Mo_put_4 d_Mo_put_5 (by decide) (fun h1 => ?_) (fun h1 => ?_)
  · refine lv_aload_n hx hb d_Mo_put_16 rfl (lv_at hl 0 rfl) ?_
    refine va_get (D := D) (ci := 1) (v := .ref r) (C := R_Mo) (T := F_Mo) (N := 3) hx hb ht uw_Mo hown hK hP 0 rfl rfl 1 (by decide) (ht _ t_257) (fun _ h9 => h9) rfl d_Mo_put_17 ?_
    refine lv_iload_n hx hb d_Mo_put_20 rfl (lv_at hl 1 rfl) ?_
    refine lv_iload_n hx hb d_Mo_put_21 rfl (lv_at hl 2 rfl) ?_
    refine lv_if_eq (tgt := 30) hx hb d_Mo_put_22 (by decide) (fun h2 => ?_) (fun h2 => ?_)
    · refine lv_lload_n hx hb d_Mo_put_30 rfl (lv_at hl 3 rfl) ?_
      refine va_last hx hb hK hP hD hS 1 0 rfl rfl hi d_Mo_put_31 (fun H locs hP hD hS => ?_)
      have hP : va_P D cl2 (wM h r q cL cI k (vp_updL f i.toNatClampNeg z) g) H := hP
      have hD : va_D (inW (wM h r q cL cI k f g)) (wM h r q cL cI k (vp_updL f i.toNatClampNeg z) g) := hD
      refine lv_aload_n hx hb d_Mo_put_32 rfl (lv_at hl 0 rfl) ?_
      refine va_get (D := D) (ci := 1) (v := .ref r) (C := R_Mo) (T := F_Mo) (N := 3) hx hb ht uw_Mo hown hK hP 0 rfl rfl 1 (by decide) (ht _ t_257) (fun _ h9 => h9) rfl d_Mo_put_33 ?_
      refine lv_iload_n hx hb d_Mo_put_36 rfl (lv_at hl 1 rfl) ?_
      refine va_lald hx hb hK hP 1 0 rfl rfl hi d_Mo_put_37 ?_
      rw [show vp_updL f i.toNatClampNeg z (Int32.toNatClampNeg i) = z from pk_uLs]
      rw [show m_put k f i mi z cd = (k, vp_updL f i.toNatClampNeg z, z) from by rw [m_put, if_neg (Int64.not_lt.mpr h1), if_pos h2]]
      exact tx_ret (W.lret (v := z) hx hb hr (fun t hth _ => ⟨rfl, by rw [hth]; exact hP, hD, hS.F hth⟩) hS.2.2 d_Mo_put_38)
    · refine lv_lload_n hx hb d_Mo_put_25 rfl (lv_at hl 3 rfl) ?_
      refine lv_lneg hx hb d_Mo_put_26 ?_
      refine lv_goto (tgt := 31) hx hb d_Mo_put_27 (by decide) ?_
      refine va_last hx hb hK hP hD hS 1 0 rfl rfl hi d_Mo_put_31 (fun H locs hP hD hS => ?_)
      have hP : va_P D cl2 (wM h r q cL cI k (vp_updL f i.toNatClampNeg (-z)) g) H := hP
      have hD : va_D (inW (wM h r q cL cI k f g)) (wM h r q cL cI k (vp_updL f i.toNatClampNeg (-z)) g) := hD
      refine lv_aload_n hx hb d_Mo_put_32 rfl (lv_at hl 0 rfl) ?_
      refine va_get (D := D) (ci := 1) (v := .ref r) (C := R_Mo) (T := F_Mo) (N := 3) hx hb ht uw_Mo hown hK hP 0 rfl rfl 1 (by decide) (ht _ t_257) (fun _ h9 => h9) rfl d_Mo_put_33 ?_
      refine lv_iload_n hx hb d_Mo_put_36 rfl (lv_at hl 1 rfl) ?_
      refine va_lald hx hb hK hP 1 0 rfl rfl hi d_Mo_put_37 ?_
      rw [show vp_updL f i.toNatClampNeg (-z) (Int32.toNatClampNeg i) = -z from pk_uLs]
      rw [show m_put k f i mi z cd = (k, vp_updL f i.toNatClampNeg (-z), -z) from by rw [m_put, if_neg (Int64.not_lt.mpr h1), if_neg h2]]
      exact tx_ret (W.lret (v := -z) hx hb hr (fun t hth _ => ⟨rfl, by rw [hth]; exact hP, hD, hS.F hth⟩) hS.2.2 d_Mo_put_38)
  · refine lv_aload_n hx hb d_Mo_put_8 rfl (lv_at hl 0 rfl) ?_
    refine lv_iload hx hb d_Mo_put_9 (lv_at hl 4 rfl) ?_
    rw [show m_put k f i mi z cd = (cd, f, 0) from by rw [m_put, if_pos h1]]
    exact tk_fail hx hb hr hlk hml hown ht hP hK hD hS ⟨by decide, by decide⟩ hl.1 d_Mo_put_11 d_Mo_put_14 d_Mo_put_15
section TKP
variable {p : Program} {l : Launch} {e : Env} {R : Room} {s : State} {m : MethodId} {args : Array Value} {below : List Frame} {meth : Method} {c : Code} {ls : Array Slot} {cc : ByteArray} {nL pc : Nat} {H : Heap} {locs : List Loc}
variable {D : va_G} {h r q : Nat} {cL cI : ClassId} {k : Int32} {f : Nat → Int64} {g : Nat → Int32} {W0 : va_W}
theorem tk_put {i mi cd : Int32} {z : Int64} (hx : p.tables.exec = Jvm.exec) (hb : c.code = cc) (hr : meth.sig.returnType = some .long) (hlk : meth.locks = false) (hml : c.maxLocals = nL) (hown : s.vm.findClass "TenThousandthDeskModel" = some m.cls) (ht : ∀ w ∈ tt, w.before args s = true)
    (hP : va_P D cl2 (wM h r q cL cI k f g) H) (hK : va_K D cl2 (tyM cL cI) s) (hD : va_D (inW W0) (wM h r q cL cI k f g)) (hS : va_S (inW W0) s.heap H locs) (hi : vp_in i 8) (hR : 2 ≤ R.frames ∧ 90 ≤ R.locals) (hsz : ls.size = nL)
    (d0 : decode cc pc = .ok (.invokevirtual 43, 3)) (d3 : decode cc (pc + 3) = .ok (.lreturn, 1)) :
    W p l e R s m args below meth c H locs 0 0 (tx_MQ below (m_Q D h r q cL cI g W0 (m_put k f i mi z cd)) args s 0 0 (inW W0)) (F0 m pc ls [.int cd, .long z, .int mi, .int i, .ref h]) := by
  refine tk_world hD hS (tx_runV (n := 4) (b := h) (As := [.int i, .int mi, .long z, .int cd]) (rest := []) hx hb hml hown ht (c_Mo_put l D h r q cL cI k f g i mi z cd hi) t_299 t_298 t_s4 t_2 t_296 (by decide +kernel) rfl rfl ⟨hR.1, Nat.le_trans (by decide) hR.2⟩ (preVW hP hK hD rfl rfl) rfl rfl hsz rfl (lv_room (Nat.le_of_ble_eq_true rfl)) d0 ⟨Nat.zero_le _, Nat.zero_le _⟩) (fun H locs hP hD hS => ?_)
  exact tx_ret (W.lret (v := (m_put k f i mi z cd).2.2) hx hb hr (fun t2 hth _ => ⟨rfl, by rw [hth]; exact hP, hD, hS.F hth⟩) hS.2.2 d3)
end TKP
theorem c_Mo_set (l : Launch) (D : va_G) (h r q : Nat) (cL cI : ClassId) (k : Int32) (f : Nat → Int64) (g : Nat → Int32) (i : Int32) (n : Int64) : tx_Met l y_Mo_set (Cond.code y_Mo_set b_Mo_set 6 (some .long) :: tt) rmQ (pW D (wM h r q cL cI k f g) (tyM cL cI) [.ref h, .int i, .long n]) (m_Q D h r q cL cI g (wM h r q cL cI k f g) (m_set f i n)) 0 0 (inW (wM h r q cL cI k f g)) := by
  refine tx_start (by decide +kernel) [.ref h, .int i, .long n] (Nat.le_of_ble_eq_true rfl) (fun _ _ h => h.1) ?_
  intro p e s m below meth c ls hx hb hr hlk hml hne hown ht hnm hP hl
  obtain ⟨-, hP, hK, hD0⟩ := hP
  have hD : va_D (inW (wM h r q cL cI k f g)) (wM h r q cL cI k f g) := inW_self hD0
  have hS : va_S (inW (wM h r q cL cI k f g)) s.heap s.heap [] := va_S.rf
  have hl : lv_has ls 6 [(0, .ref h), (1, .int i), (2, .long n)] := hl
  refine lv_aload_n hx hb d_Mo_set_0 rfl (lv_at hl 0 rfl) ?_
  refine lv_iconst (v := 0) hx hb d_Mo_set_1 (by decide) ?_
  refine va_put (D := D) (ci := 1) (v := .int 0) (ty := .int) (C := R_Mo) (T := F_Mo) (N := 3) hx hb ht uw_Mo t_Mo t_Mo_ok n_Mo hown hK hP hD hS 0 rfl rfl 0 (by decide) (ht _ t_256) (fun _ h9 => h9) rfl (by decide +kernel) rfl rfl (Nat.le_of_ble_eq_true rfl) d_Mo_set_2 (fun H locs hP hD hS => ?_)
  have hP : va_P D cl2 (wM h r q cL cI 0 f g) H := hP
  have hD : va_D (inW (wM h r q cL cI k f g)) (wM h r q cL cI 0 f g) := hD
  have k29 : ∀ (ls : Array Slot) , lv_has ls 6 [(0, .ref h), (1, .int i), (2, .long n)] → ¬ (j_out i = 0 ∧ ¬ n < -900000000000000 ∧ ¬ 900000000000000 < n) → W p l e rmQ s m ([.ref h, .int i, .long n] : List Value).toArray below meth c H locs 0 0 (tx_MQ below (m_Q D h r q cL cI g (wM h r q cL cI k f g) (m_set f i n)) ([.ref h, .int i, .long n] : List Value).toArray s 0 0 (inW (wM h r q cL cI k f g))) (F0 m 29 ls []) := by
    intro ls  hl hg
    refine lv_aload_n hx hb d_Mo_set_29 rfl (lv_at hl 0 rfl) ?_
    refine lv_iconst (v := 1) hx hb d_Mo_set_30 (by decide) ?_
    rw [show m_set f i n = (1, f, 0) from by rw [m_set, if_neg hg]]
    exact tk_fail hx hb hr hlk hml hown ht hP hK hD hS ⟨by decide, by decide⟩ hl.1 d_Mo_set_31 d_Mo_set_34 d_Mo_set_35
  refine lv_aload_n hx hb d_Mo_set_5 rfl (lv_at hl 0 rfl) ?_
  refine lv_iload_n hx hb d_Mo_set_6 rfl (lv_at hl 1 rfl) ?_
  refine tx_callO (tx_runV (n := 1) (b := h) (As := [.int i]) (rest := []) hx hb hml hown ht (c_Mo_out l h i) t_278 t_277 t_s2 t_2 t_275 (by decide +kernel) rfl rfl (rm0R ⟨by decide, by decide⟩ (by decide)) ⟨fun _ _ _ _ h9 => h9, va_recv (q0 := 0) (ci := 1) (q := (R_Mo, F_Mo, 3)) hK hP rfl rfl, fun _ _ _ => rfl⟩ rfl rfl hl.1 rfl (lv_room (Nat.le_of_ble_eq_true rfl)) d_Mo_set_7 ⟨by decide, by decide⟩) ?_
  refine W.eq (g2 := F0 m 10 ls [.int (j_out i)]) rfl ?_
  refine lv_if_ne (tgt := 29) hx hb d_Mo_set_10 (by decide) (fun h1 => ?_) (fun h1 => ?_)
  · exact k29 ls hl (fun h9 => h1 h9.1)
  · refine lv_lload_n hx hb d_Mo_set_13 rfl (lv_at hl 2 rfl) ?_
    refine lv_ldc2 hx hb hown (ht _ t_279) d_Mo_set_14 ?_
    refine lc_lt (tgt := 29) hx hb d_Mo_set_17 d_Mo_set_18 (by decide) (fun h2 => ?_) (fun h2 => ?_)
    · exact k29 ls hl (fun h9 => h9.2.1 h2)
    · refine lv_lload_n hx hb d_Mo_set_21 rfl (lv_at hl 2 rfl) ?_
      refine lv_ldc2 hx hb hown (ht _ t_280) d_Mo_set_22 ?_
      refine lc_le (tgt := 36) hx hb d_Mo_set_25 d_Mo_set_26 (by decide) (fun h3 => ?_) (fun h3 => ?_)
      · refine lv_aload_n hx hb d_Mo_set_36 rfl (lv_at hl 0 rfl) ?_
        refine va_get (D := D) (ci := 1) (v := .ref r) (C := R_Mo) (T := F_Mo) (N := 3) hx hb ht uw_Mo hown hK hP 0 rfl rfl 1 (by decide) (ht _ t_257) (fun _ h9 => h9) rfl d_Mo_set_37 ?_
        refine lv_iload_n hx hb d_Mo_set_40 rfl (lv_at hl 1 rfl) ?_
        refine va_lald hx hb hK hP 1 0 rfl rfl (out_in h1) d_Mo_set_41 ?_
        refine lv_lstore (lv' := [(4, .long (f (Int32.toNatClampNeg i))), (0, .ref h), (1, .int i), (2, .long n)]) hx hb d_Mo_set_42 hl (by decide) rfl (fun ls hl => ?_)
        refine lv_aload_n hx hb d_Mo_set_44 rfl (lv_at hl 1 rfl) ?_
        refine va_get (D := D) (ci := 1) (v := .ref r) (C := R_Mo) (T := F_Mo) (N := 3) hx hb ht uw_Mo hown hK hP 0 rfl rfl 1 (by decide) (ht _ t_257) (fun _ h9 => h9) rfl d_Mo_set_45 ?_
        refine lv_iload_n hx hb d_Mo_set_48 rfl (lv_at hl 2 rfl) ?_
        refine lv_lload_n hx hb d_Mo_set_49 rfl (lv_at hl 3 rfl) ?_
        refine va_last hx hb hK hP hD hS 1 0 rfl rfl (out_in h1) d_Mo_set_50 (fun H locs hP hD hS => ?_)
        have hP : va_P D cl2 (wM h r q cL cI 0 (vp_updL f i.toNatClampNeg n) g) H := hP
        have hD : va_D (inW (wM h r q cL cI k f g)) (wM h r q cL cI 0 (vp_updL f i.toNatClampNeg n) g) := hD
        refine lv_lload hx hb d_Mo_set_51 (lv_at hl 0 rfl) ?_
        rw [show m_set f i n = (0, vp_updL f i.toNatClampNeg n, f i.toNatClampNeg) from by rw [m_set, if_pos ⟨h1, Int64.not_lt.mpr h2, Int64.not_lt.mpr h3⟩]]
        exact tx_ret (W.lret (v := f i.toNatClampNeg) hx hb hr (fun t hth _ => ⟨rfl, by rw [hth]; exact hP, hD, hS.F hth⟩) hS.2.2 d_Mo_set_53)
      · exact k29 ls hl (fun h9 => h9.2.2 h3)
theorem c_Mo_get (l : Launch) (D : va_G) (h r q : Nat) (cL cI : ClassId) (k : Int32) (f : Nat → Int64) (g : Nat → Int32) (i : Int32) : tx_Met l y_Mo_get (Cond.code y_Mo_get b_Mo_get 2 (some .long) :: tt) rmQ (pW D (wM h r q cL cI k f g) (tyM cL cI) [.ref h, .int i]) (m_Q D h r q cL cI g (wM h r q cL cI k f g) (m_get f i)) 0 0 (inW (wM h r q cL cI k f g)) := by
  refine tx_start (by decide +kernel) [.ref h, .int i] (Nat.le_of_ble_eq_true rfl) (fun _ _ h => h.1) ?_
  intro p e s m below meth c ls hx hb hr hlk hml hne hown ht hnm hP hl
  obtain ⟨-, hP, hK, hD0⟩ := hP
  have hD : va_D (inW (wM h r q cL cI k f g)) (wM h r q cL cI k f g) := inW_self hD0
  have hS : va_S (inW (wM h r q cL cI k f g)) s.heap s.heap [] := va_S.rf
  have hl : lv_has ls 2 [(0, .ref h), (1, .int i)] := hl
  refine lv_aload_n hx hb d_Mo_get_0 rfl (lv_at hl 0 rfl) ?_
  refine lv_iconst (v := 0) hx hb d_Mo_get_1 (by decide) ?_
  refine va_put (D := D) (ci := 1) (v := .int 0) (ty := .int) (C := R_Mo) (T := F_Mo) (N := 3) hx hb ht uw_Mo t_Mo t_Mo_ok n_Mo hown hK hP hD hS 0 rfl rfl 0 (by decide) (ht _ t_256) (fun _ h9 => h9) rfl (by decide +kernel) rfl rfl (Nat.le_of_ble_eq_true rfl) d_Mo_get_2 (fun H locs hP hD hS => ?_)
  have hP : va_P D cl2 (wM h r q cL cI 0 f g) H := hP
  have hD : va_D (inW (wM h r q cL cI k f g)) (wM h r q cL cI 0 f g) := hD
  refine lv_aload_n hx hb d_Mo_get_5 rfl (lv_at hl 0 rfl) ?_
  refine lv_iload_n hx hb d_Mo_get_6 rfl (lv_at hl 1 rfl) ?_
  refine tx_callO (tx_runV (n := 1) (b := h) (As := [.int i]) (rest := []) hx hb hml hown ht (c_Mo_out l h i) t_278 t_277 t_s2 t_2 t_275 (by decide +kernel) rfl rfl (rm0R ⟨by decide, by decide⟩ (by decide)) ⟨fun _ _ _ _ h9 => h9, va_recv (q0 := 0) (ci := 1) (q := (R_Mo, F_Mo, 3)) hK hP rfl rfl, fun _ _ _ => rfl⟩ rfl rfl hl.1 rfl (lv_room (Nat.le_of_ble_eq_true rfl)) d_Mo_get_7 ⟨by decide, by decide⟩) ?_
  refine W.eq (g2 := F0 m 10 ls [.int (j_out i)]) rfl ?_
  refine lv_if_eq (tgt := 22) hx hb d_Mo_get_10 (by decide) (fun h1 => ?_) (fun h1 => ?_)
  · refine lv_aload_n hx hb d_Mo_get_22 rfl (lv_at hl 0 rfl) ?_
    refine va_get (D := D) (ci := 1) (v := .ref r) (C := R_Mo) (T := F_Mo) (N := 3) hx hb ht uw_Mo hown hK hP 0 rfl rfl 1 (by decide) (ht _ t_257) (fun _ h9 => h9) rfl d_Mo_get_23 ?_
    refine lv_iload_n hx hb d_Mo_get_26 rfl (lv_at hl 1 rfl) ?_
    refine va_lald hx hb hK hP 1 0 rfl rfl (out_in h1) d_Mo_get_27 ?_
    rw [show m_get f i = (0, f, f i.toNatClampNeg) from by rw [m_get, if_pos h1]]
    exact tx_ret (W.lret (v := f i.toNatClampNeg) hx hb hr (fun t hth _ => ⟨rfl, by rw [hth]; exact hP, hD, hS.F hth⟩) hS.2.2 d_Mo_get_28)
  · refine lv_aload_n hx hb d_Mo_get_13 rfl (lv_at hl 0 rfl) ?_
    refine lv_iconst (v := 1) hx hb d_Mo_get_14 (by decide) ?_
    refine tk_fail0 hx hb hml hown ht hP hK hD hS ⟨by decide, by decide⟩ hl.1 (Nat.le_of_ble_eq_true rfl) d_Mo_get_15 (fun H locs hP hD hS => ?_)
    refine lv_i2l (v := 0) hx hb d_Mo_get_18 (by decide) ?_
    refine lv_goto (tgt := 28) hx hb d_Mo_get_19 (by decide) ?_
    rw [show m_get f i = (1, f, 0) from by rw [m_get, if_neg h1]]
    exact tx_ret (W.lret (v := 0) hx hb hr (fun t hth _ => ⟨rfl, by rw [hth]; exact hP, hD, hS.F hth⟩) hS.2.2 d_Mo_get_28)
end
section
-- the model's reckon, turn, round, average; printed by gen/p16.py
def m_mi (x y : Int64) : Int32 := if j_ng x = j_ng y then 0 else 1
def m_rest (x y : Int64) : Int64 := if 0 < j_ab x - j_ab x / j_ab y * j_ab y ∧ ¬ m_mi x y = 0 then j_ab y - (j_ab x - j_ab x / j_ab y * j_ab y) else j_ab x - j_ab x / j_ab y * j_ab y
def m_ad (op : Int32) (x y : Int64) : Int64 := if op = 0 then x + y else x - y
def m_rk (f : Nat → Int64) (i op : Int32) (x y : Int64) : MS :=
  if 2 < op ∧ y = 0 then (2, f, 0)
  else if op < 2 then m_put 0 f i (j_ng (m_ad op x y)) (j_ab (m_ad op x y)) 3
  else if op = 2 then m_put 0 f i (m_mi x y) (m_product (j_ab x) (j_ab y)) 3
  else if op = 3 then m_put 0 f i (m_mi x y) (m_quot (j_ab x) (j_ab y)) 3
  else m_put 0 f i (j_ng y) (m_rest x y) 3
def m_reckon (f : Nat → Int64) (i op a b : Int32) : MS := if j_out i = 0 ∧ ¬ op < 0 ∧ ¬ 4 < op ∧ j_out a = 0 ∧ j_out b = 0 then m_rk f i op (f a.toNatClampNeg) (f b.toNatClampNeg) else (1, f, 0)
def m_pos (x : Int64) : Int32 := if 0 < x then 1 else 0
def m_fl (x : Int64) : Int64 := if x < 0 ∧ j_ab x / 10000 * 10000 < j_ab x then j_ab x / 10000 * 10000 + 10000 else j_ab x / 10000 * 10000
def m_tn (f : Nat → Int64) (i op : Int32) (x : Int64) : MS :=
  if op = 0 then m_put 0 f i (j_ng x) ((j_ab x + 50) / 100) 2
  else if op = 2 then m_put 0 f i 0 (j_ab x) 2
  else if op = 3 then m_put 0 f i (m_pos x) (j_ab x) 2
  else m_put 0 f i (j_ng x) (m_fl x) 2
def m_turn (f : Nat → Int64) (i op a : Int32) : MS := if j_out i = 0 ∧ ¬ op < 0 ∧ ¬ 3 < op ∧ j_out a = 0 then m_tn f i op (f a.toNatClampNeg) else (1, f, 0)
def m_ro (x p : Int64) : Int64 := if j_ab x - j_ab x / p * p < p - (j_ab x - j_ab x / p * p) then j_ab x / p * p else j_ab x / p * p + p
def m_rnd (f : Nat → Int64) (i a d : Int32) : MS := if j_out i = 0 ∧ j_out a = 0 ∧ ¬ d < -9 ∧ d ≤ 4 then m_put 0 f i (j_ng (f a.toNatClampNeg)) (m_ro (f a.toNatClampNeg) (j_up (4 - d.toInt).toNat 1)) 2 else (1, f, 0)
def m_sum (f : Nat → Int64) : Nat → Nat → Int64 → Option Int64
  | 0, _, s => some s
  | k + 1, j, s => if 900000000000000 < j_ab (s + f j) then none else m_sum f k (j + 1) (s + f j)
def m_sg (s v : Int64) : Int64 := if s < 0 then -v else v
def m_av (f : Nat → Int64) (n : Int32) (o : Option Int64) : MS := match o with
  | none => (2, f, 0)
  | some s => (0, f, m_sg s (m_quot (j_ab s) (10000 * n.toInt64)))
def m_avg (f : Nat → Int64) (n : Int32) : MS := if ¬ n < 1 ∧ n ≤ 8 then m_av f n (m_sum f n.toNatClampNeg 0 0) else (1, f, 0)
theorem lt32 {a b : Int32} (h : a ≤ b) (h2 : ¬ b = a) : a < b := by
  rw [Int32.lt_iff_toInt_lt]
  rw [Int32.le_iff_toInt_le] at h
  have h3 : ¬ b.toInt = a.toInt := fun h4 => h2 (Int32.toInt_inj.mp h4)
  omega
theorem c_Mo_reckon (l : Launch) (D : va_G) (h r q : Nat) (cL cI : ClassId) (k : Int32) (f : Nat → Int64) (g : Nat → Int32) (i op a2 b2 : Int32) : tx_Met l y_Mo_reckon (Cond.code y_Mo_reckon b_Mo_reckon 12 (some .long) :: tt) rmQ (pW D (wM h r q cL cI k f g) (tyM cL cI) [.ref h, .int i, .int op, .int a2, .int b2]) (m_Q D h r q cL cI g (wM h r q cL cI k f g) (m_reckon f i op a2 b2)) 0 0 (inW (wM h r q cL cI k f g)) := by
  refine tx_start (by decide +kernel) [.ref h, .int i, .int op, .int a2, .int b2] (Nat.le_of_ble_eq_true rfl) (fun _ _ h => h.1) ?_
  intro p e s m below meth c ls hx hb hr hlk hml hne hown ht hnm hP hl
  obtain ⟨-, hP, hK, hD0⟩ := hP
  have hD : va_D (inW (wM h r q cL cI k f g)) (wM h r q cL cI k f g) := inW_self hD0
  have hS : va_S (inW (wM h r q cL cI k f g)) s.heap s.heap [] := va_S.rf
  have hl : lv_has ls 12 [(0, .ref h), (1, .int i), (2, .int op), (3, .int a2), (4, .int b2)] := hl
  refine lv_aload_n hx hb d_Mo_reckon_0 rfl (lv_at hl 0 rfl) ?_
  refine lv_iconst (v := 0) hx hb d_Mo_reckon_1 (by decide) ?_
  refine va_put (D := D) (ci := 1) (v := .int 0) (ty := .int) (C := R_Mo) (T := F_Mo) (N := 3) hx hb ht uw_Mo t_Mo t_Mo_ok n_Mo hown hK hP hD hS 0 rfl rfl 0 (by decide) (ht _ t_256) (fun _ h9 => h9) rfl (by decide +kernel) rfl rfl (Nat.le_of_ble_eq_true rfl) d_Mo_reckon_2 (fun H locs hP hD hS => ?_)
  have hP : va_P D cl2 (wM h r q cL cI 0 f g) H := hP
  have hD : va_D (inW (wM h r q cL cI k f g)) (wM h r q cL cI 0 f g) := hD
  have k39 : ∀ (ls : Array Slot) , lv_has ls 12 [(0, .ref h), (1, .int i), (2, .int op), (3, .int a2), (4, .int b2)] → ¬ (j_out i = 0 ∧ ¬ op < 0 ∧ ¬ 4 < op ∧ j_out a2 = 0 ∧ j_out b2 = 0) → W p l e rmQ s m ([.ref h, .int i, .int op, .int a2, .int b2] : List Value).toArray below meth c H locs 0 0 (tx_MQ below (m_Q D h r q cL cI g (wM h r q cL cI k f g) (m_reckon f i op a2 b2)) ([.ref h, .int i, .int op, .int a2, .int b2] : List Value).toArray s 0 0 (inW (wM h r q cL cI k f g))) (F0 m 39 ls []) := by
    intro ls  hl hg
    refine lv_aload_n hx hb d_Mo_reckon_39 rfl (lv_at hl 0 rfl) ?_
    refine lv_iconst (v := 1) hx hb d_Mo_reckon_40 (by decide) ?_
    rw [show m_reckon f i op a2 b2 = (1, f, 0) from by rw [m_reckon, if_neg hg]]
    exact tk_fail hx hb hr hlk hml hown ht hP hK hD hS ⟨by decide, by decide⟩ hl.1 d_Mo_reckon_41 d_Mo_reckon_44 d_Mo_reckon_45
  refine lv_aload_n hx hb d_Mo_reckon_5 rfl (lv_at hl 0 rfl) ?_
  refine lv_iload_n hx hb d_Mo_reckon_6 rfl (lv_at hl 1 rfl) ?_
  refine tx_callO (tx_runV (n := 1) (b := h) (As := [.int i]) (rest := []) hx hb hml hown ht (c_Mo_out l h i) t_278 t_277 t_s2 t_2 t_275 (by decide +kernel) rfl rfl (rm0R ⟨by decide, by decide⟩ (by decide)) ⟨fun _ _ _ _ h9 => h9, va_recv (q0 := 0) (ci := 1) (q := (R_Mo, F_Mo, 3)) hK hP rfl rfl, fun _ _ _ => rfl⟩ rfl rfl hl.1 rfl (lv_room (Nat.le_of_ble_eq_true rfl)) d_Mo_reckon_7 ⟨by decide, by decide⟩) ?_
  refine W.eq (g2 := F0 m 10 ls [.int (j_out i)]) rfl ?_
  refine lv_if_ne (tgt := 39) hx hb d_Mo_reckon_10 (by decide) (fun h1 => ?_) (fun h1 => ?_)
  · exact k39 ls hl (fun h9 => h1 h9.1)
  · refine lv_iload_n hx hb d_Mo_reckon_13 rfl (lv_at hl 2 rfl) ?_
    refine lv_if_lt (tgt := 39) hx hb d_Mo_reckon_14 (by decide) (fun h2 => ?_) (fun h2 => ?_)
    · exact k39 ls hl (fun h9 => h9.2.1 h2)
    · refine lv_iload_n hx hb d_Mo_reckon_17 rfl (lv_at hl 2 rfl) ?_
      refine lv_iconst (v := 4) hx hb d_Mo_reckon_18 (by decide) ?_
      refine lv_icmp_gt (tgt := 39) hx hb d_Mo_reckon_19 (by decide) (fun h3 => ?_) (fun h3 => ?_)
      · exact k39 ls hl (fun h9 => h9.2.2.1 h3)
      · refine lv_aload_n hx hb d_Mo_reckon_22 rfl (lv_at hl 0 rfl) ?_
        refine lv_iload_n hx hb d_Mo_reckon_23 rfl (lv_at hl 3 rfl) ?_
        refine tx_callO (tx_runV (n := 1) (b := h) (As := [.int a2]) (rest := []) hx hb hml hown ht (c_Mo_out l h a2) t_278 t_277 t_s2 t_2 t_275 (by decide +kernel) rfl rfl (rm0R ⟨by decide, by decide⟩ (by decide)) ⟨fun _ _ _ _ h9 => h9, va_recv (q0 := 0) (ci := 1) (q := (R_Mo, F_Mo, 3)) hK hP rfl rfl, fun _ _ _ => rfl⟩ rfl rfl hl.1 rfl (lv_room (Nat.le_of_ble_eq_true rfl)) d_Mo_reckon_24 ⟨by decide, by decide⟩) ?_
        refine W.eq (g2 := F0 m 27 ls [.int (j_out a2)]) rfl ?_
        refine lv_if_ne (tgt := 39) hx hb d_Mo_reckon_27 (by decide) (fun h4 => ?_) (fun h4 => ?_)
        · exact k39 ls hl (fun h9 => h4 h9.2.2.2.1)
        · refine lv_aload_n hx hb d_Mo_reckon_30 rfl (lv_at hl 0 rfl) ?_
          refine lv_iload hx hb d_Mo_reckon_31 (lv_at hl 4 rfl) ?_
          refine tx_callO (tx_runV (n := 1) (b := h) (As := [.int b2]) (rest := []) hx hb hml hown ht (c_Mo_out l h b2) t_278 t_277 t_s2 t_2 t_275 (by decide +kernel) rfl rfl (rm0R ⟨by decide, by decide⟩ (by decide)) ⟨fun _ _ _ _ h9 => h9, va_recv (q0 := 0) (ci := 1) (q := (R_Mo, F_Mo, 3)) hK hP rfl rfl, fun _ _ _ => rfl⟩ rfl rfl hl.1 rfl (lv_room (Nat.le_of_ble_eq_true rfl)) d_Mo_reckon_33 ⟨by decide, by decide⟩) ?_
          refine W.eq (g2 := F0 m 36 ls [.int (j_out b2)]) rfl ?_
          refine lv_if_eq (tgt := 46) hx hb d_Mo_reckon_36 (by decide) (fun h5 => ?_) (fun h5 => ?_)
          · rw [show m_reckon f i op a2 b2 = m_rk f i op (f a2.toNatClampNeg) (f b2.toNatClampNeg) from by rw [m_reckon, if_pos ⟨h1, h2, h3, h4, h5⟩]]
            refine lv_aload_n hx hb d_Mo_reckon_46 rfl (lv_at hl 0 rfl) ?_
            refine va_get (D := D) (ci := 1) (v := .ref r) (C := R_Mo) (T := F_Mo) (N := 3) hx hb ht uw_Mo hown hK hP 0 rfl rfl 1 (by decide) (ht _ t_257) (fun _ h9 => h9) rfl d_Mo_reckon_47 ?_
            refine lv_iload_n hx hb d_Mo_reckon_50 rfl (lv_at hl 3 rfl) ?_
            refine va_lald hx hb hK hP 1 0 rfl rfl (out_in h4) d_Mo_reckon_51 ?_
            generalize f (Int32.toNatClampNeg a2) = x
            refine lv_lstore (lv' := [(5, .long x), (0, .ref h), (1, .int i), (2, .int op), (3, .int a2), (4, .int b2)]) hx hb d_Mo_reckon_52 hl (by decide) rfl (fun ls hl => ?_)
            refine lv_aload_n hx hb d_Mo_reckon_54 rfl (lv_at hl 1 rfl) ?_
            refine va_get (D := D) (ci := 1) (v := .ref r) (C := R_Mo) (T := F_Mo) (N := 3) hx hb ht uw_Mo hown hK hP 0 rfl rfl 1 (by decide) (ht _ t_257) (fun _ h9 => h9) rfl d_Mo_reckon_55 ?_
            refine lv_iload hx hb d_Mo_reckon_58 (lv_at hl 5 rfl) ?_
            refine va_lald hx hb hK hP 1 0 rfl rfl (out_in h5) d_Mo_reckon_60 ?_
            generalize f (Int32.toNatClampNeg b2) = y
            refine lv_lstore (lv' := [(7, .long y), (5, .long x), (0, .ref h), (1, .int i), (2, .int op), (3, .int a2), (4, .int b2)]) hx hb d_Mo_reckon_61 hl (by decide) rfl (fun ls hl => ?_)
            have k82 : ∀ (ls : Array Slot) , lv_has ls 12 [(7, .long y), (5, .long x), (0, .ref h), (1, .int i), (2, .int op), (3, .int a2), (4, .int b2)] → ¬ (2 < op ∧ y = 0) → W p l e rmQ s m ([.ref h, .int i, .int op, .int a2, .int b2] : List Value).toArray below meth c H locs 0 0 (tx_MQ below (m_Q D h r q cL cI g (wM h r q cL cI k f g) (m_rk f i op x y)) ([.ref h, .int i, .int op, .int a2, .int b2] : List Value).toArray s 0 0 (inW (wM h r q cL cI k f g))) (F0 m 82 ls []) := by
              intro ls  hl h82
              refine lv_iload_n hx hb d_Mo_reckon_82 rfl (lv_at hl 4 rfl) ?_
              refine lv_iconst (v := 2) hx hb d_Mo_reckon_83 (by decide) ?_
              refine lv_icmp_ge (tgt := 130) hx hb d_Mo_reckon_84 (by decide) (fun h6 => ?_) (fun h6 => ?_)
              · have h6n : ¬ op < 2 := Int32.not_lt.mpr h6
                have k162 : ∀ (ls : Array Slot) (mi : Int32), lv_has ls 12 [(7, .long y), (5, .long x), (0, .ref h), (1, .int i), (2, .int op), (3, .int a2), (4, .int b2)] → mi = m_mi x y → W p l e rmQ s m ([.ref h, .int i, .int op, .int a2, .int b2] : List Value).toArray below meth c H locs 0 0 (tx_MQ below (m_Q D h r q cL cI g (wM h r q cL cI k f g) (m_rk f i op x y)) ([.ref h, .int i, .int op, .int a2, .int b2] : List Value).toArray s 0 0 (inW (wM h r q cL cI k f g))) (F0 m 162 ls [.int mi]) := by
                  intro ls mi hl hmi
                  refine lv_istore (lv' := [(9, .int mi), (7, .long y), (5, .long x), (0, .ref h), (1, .int i), (2, .int op), (3, .int a2), (4, .int b2)]) hx hb d_Mo_reckon_162 hl (by decide) rfl (fun ls hl => ?_)
                  refine lv_iload_n hx hb d_Mo_reckon_164 rfl (lv_at hl 5 rfl) ?_
                  refine lv_iconst (v := 2) hx hb d_Mo_reckon_165 (by decide) ?_
                  refine lv_icmp_ne (tgt := 192) hx hb d_Mo_reckon_166 (by decide) (fun h7 => ?_) (fun h7 => ?_)
                  · have hy0 : ¬ y = 0 := fun h9 => h82 ⟨lt32 h6 h7, h9⟩
                    refine lv_iload_n hx hb d_Mo_reckon_192 rfl (lv_at hl 5 rfl) ?_
                    refine lv_iconst (v := 3) hx hb d_Mo_reckon_193 (by decide) ?_
                    refine lv_icmp_ne (tgt := 220) hx hb d_Mo_reckon_194 (by decide) (fun h8 => ?_) (fun h8 => ?_)
                    · refine lv_lload hx hb d_Mo_reckon_220 (lv_at hl 2 rfl) ?_
                      refine tx_callO (tx_runS (n := 1) (As := [.long x]) (rest := []) hx hb hml hown ht (c_Mo_size l x) t_295 t_294 t_2 t_293 (by decide +kernel) rfl rfl (rm0R ⟨by decide, by decide⟩ (by decide)) ⟨fun _ _ _ _ h => h, fun _ _ _ => rfl⟩ rfl rfl hl.1 rfl (lv_room (Nat.le_of_ble_eq_true rfl)) d_Mo_reckon_222 ⟨by decide, by decide⟩) ?_
                      refine W.eq (g2 := F0 m 225 ls [.long (j_ab x)]) rfl ?_
                      refine lv_lload hx hb d_Mo_reckon_225 (lv_at hl 1 rfl) ?_
                      refine tx_callO (tx_runS (n := 1) (As := [.long y]) (rest := [.long (j_ab x)]) hx hb hml hown ht (c_Mo_size l y) t_295 t_294 t_2 t_293 (by decide +kernel) rfl rfl (rm0R ⟨by decide, by decide⟩ (by decide)) ⟨fun _ _ _ _ h => h, fun _ _ _ => rfl⟩ rfl rfl hl.1 rfl (lv_room (Nat.le_of_ble_eq_true rfl)) d_Mo_reckon_227 ⟨by decide, by decide⟩) ?_
                      refine W.eq (g2 := F0 m 230 ls [.long (j_ab y), .long (j_ab x)]) rfl ?_
                      refine lv_lrem hx hb d_Mo_reckon_230 (j_ab0 hy0) ?_
                      refine lv_lstore (lv' := [(10, .long ((j_ab x) - (j_ab x) / (j_ab y) * (j_ab y))), (9, .int mi), (7, .long y), (5, .long x), (0, .ref h), (1, .int i), (2, .int op), (3, .int a2), (4, .int b2)]) hx hb d_Mo_reckon_231 hl (by decide) rfl (fun ls hl => ?_)
                      have k255 : ∀ (ls : Array Slot) (z : Int64), lv_has ls 12 [(10, .long z), (9, .int mi), (7, .long y), (5, .long x), (0, .ref h), (1, .int i), (2, .int op), (3, .int a2), (4, .int b2)] → z = (if 0 < j_ab x - j_ab x / j_ab y * j_ab y ∧ ¬ mi = 0 then j_ab y - (j_ab x - j_ab x / j_ab y * j_ab y) else j_ab x - j_ab x / j_ab y * j_ab y) → W p l e rmQ s m ([.ref h, .int i, .int op, .int a2, .int b2] : List Value).toArray below meth c H locs 0 0 (tx_MQ below (m_Q D h r q cL cI g (wM h r q cL cI k f g) (m_rk f i op x y)) ([.ref h, .int i, .int op, .int a2, .int b2] : List Value).toArray s 0 0 (inW (wM h r q cL cI k f g))) (F0 m 255 ls []) := by
                        intro ls z hl hz
                        rw [hmi] at hz
                        change z = m_rest x y at hz
                        refine lv_aload_n hx hb d_Mo_reckon_255 rfl (lv_at hl 4 rfl) ?_
                        refine lv_iload_n hx hb d_Mo_reckon_256 rfl (lv_at hl 5 rfl) ?_
                        refine lv_lload hx hb d_Mo_reckon_257 (lv_at hl 2 rfl) ?_
                        refine lv_lconst (v := 0) hx hb d_Mo_reckon_259 (by decide) ?_
                        refine lc_ge (tgt := 268) hx hb d_Mo_reckon_260 d_Mo_reckon_261 (by decide) (fun h9 => ?_) (fun h9 => ?_)
                        · refine lv_iconst (v := 0) hx hb d_Mo_reckon_268 (by decide) ?_
                          refine lv_lload hx hb d_Mo_reckon_269 (lv_at hl 0 rfl) ?_
                          refine lv_iconst (v := 3) hx hb d_Mo_reckon_271 (by decide) ?_
                          rw [show m_rk f i op x y = m_put 0 f i 0 z 3 from by rw [m_rk, if_neg h82, if_neg h6n, if_neg h7, if_neg h8, hz, ← j_ng_ge h9]]
                          exact tk_put hx hb hr hlk hml hown ht hP hK hD hS (out_in h1) ⟨by decide, by decide⟩ hl.1 d_Mo_reckon_272 d_Mo_reckon_275
                        · refine lv_iconst (v := 1) hx hb d_Mo_reckon_264 (by decide) ?_
                          refine lv_goto (tgt := 269) hx hb d_Mo_reckon_265 (by decide) ?_
                          refine lv_lload hx hb d_Mo_reckon_269 (lv_at hl 0 rfl) ?_
                          refine lv_iconst (v := 3) hx hb d_Mo_reckon_271 (by decide) ?_
                          rw [show m_rk f i op x y = m_put 0 f i 1 z 3 from by rw [m_rk, if_neg h82, if_neg h6n, if_neg h7, if_neg h8, hz, ← j_ng_lt h9]]
                          exact tk_put hx hb hr hlk hml hown ht hP hK hD hS (out_in h1) ⟨by decide, by decide⟩ hl.1 d_Mo_reckon_272 d_Mo_reckon_275
                      refine lv_lload hx hb d_Mo_reckon_233 (lv_at hl 0 rfl) ?_
                      refine lv_lconst (v := 0) hx hb d_Mo_reckon_235 (by decide) ?_
                      refine lc_le (tgt := 255) hx hb d_Mo_reckon_236 d_Mo_reckon_237 (by decide) (fun h9 => ?_) (fun h9 => ?_)
                      · exact k255 ls _ hl (by rw [if_neg (fun h11 => Int64.not_lt.mpr h9 h11.1)])
                      · refine lv_iload hx hb d_Mo_reckon_240 (lv_at hl 1 rfl) ?_
                        refine lv_if_eq (tgt := 255) hx hb d_Mo_reckon_242 (by decide) (fun h10 => ?_) (fun h10 => ?_)
                        · exact k255 ls _ hl (by rw [if_neg (fun h11 => h11.2 h10)])
                        · refine lv_lload hx hb d_Mo_reckon_245 (lv_at hl 2 rfl) ?_
                          refine tx_callO (tx_runS (n := 1) (As := [.long y]) (rest := []) hx hb hml hown ht (c_Mo_size l y) t_295 t_294 t_2 t_293 (by decide +kernel) rfl rfl (rm0R ⟨by decide, by decide⟩ (by decide)) ⟨fun _ _ _ _ h => h, fun _ _ _ => rfl⟩ rfl rfl hl.1 rfl (lv_room (Nat.le_of_ble_eq_true rfl)) d_Mo_reckon_247 ⟨by decide, by decide⟩) ?_
                          refine W.eq (g2 := F0 m 250 ls [.long (j_ab y)]) rfl ?_
                          refine lv_lload hx hb d_Mo_reckon_250 (lv_at hl 0 rfl) ?_
                          refine lv_lsub hx hb d_Mo_reckon_252 ?_
                          refine lv_lstore (lv' := [(10, .long ((j_ab y) - ((j_ab x) - (j_ab x) / (j_ab y) * (j_ab y)))), (9, .int mi), (7, .long y), (5, .long x), (0, .ref h), (1, .int i), (2, .int op), (3, .int a2), (4, .int b2)]) hx hb d_Mo_reckon_253 hl (by decide) rfl (fun ls hl => ?_)
                          exact k255 ls _ (lv_sub hl [0, 1, 2, 3, 4, 5, 6, 7, 8] rfl) (by rw [if_pos ⟨h9, h10⟩])
                    · refine lv_aload_n hx hb d_Mo_reckon_197 rfl (lv_at hl 3 rfl) ?_
                      refine lv_iload_n hx hb d_Mo_reckon_198 rfl (lv_at hl 4 rfl) ?_
                      refine lv_iload hx hb d_Mo_reckon_199 (lv_at hl 0 rfl) ?_
                      refine lv_aload_n hx hb d_Mo_reckon_201 rfl (lv_at hl 3 rfl) ?_
                      refine lv_lload hx hb d_Mo_reckon_202 (lv_at hl 2 rfl) ?_
                      refine tx_callO (tx_runS (n := 1) (As := [.long x]) (rest := [.ref h, .int mi, .int i, .ref h]) hx hb hml hown ht (c_Mo_size l x) t_295 t_294 t_2 t_293 (by decide +kernel) rfl rfl (rm0R ⟨by decide, by decide⟩ (by decide)) ⟨fun _ _ _ _ h => h, fun _ _ _ => rfl⟩ rfl rfl hl.1 rfl (lv_room (Nat.le_of_ble_eq_true rfl)) d_Mo_reckon_204 ⟨by decide, by decide⟩) ?_
                      refine W.eq (g2 := F0 m 207 ls [.long (j_ab x), .ref h, .int mi, .int i, .ref h]) rfl ?_
                      refine lv_lload hx hb d_Mo_reckon_207 (lv_at hl 1 rfl) ?_
                      refine tx_callO (tx_runS (n := 1) (As := [.long y]) (rest := [.long (j_ab x), .ref h, .int mi, .int i, .ref h]) hx hb hml hown ht (c_Mo_size l y) t_295 t_294 t_2 t_293 (by decide +kernel) rfl rfl (rm0R ⟨by decide, by decide⟩ (by decide)) ⟨fun _ _ _ _ h => h, fun _ _ _ => rfl⟩ rfl rfl hl.1 rfl (lv_room (Nat.le_of_ble_eq_true rfl)) d_Mo_reckon_209 ⟨by decide, by decide⟩) ?_
                      refine W.eq (g2 := F0 m 212 ls [.long (j_ab y), .long (j_ab x), .ref h, .int mi, .int i, .ref h]) rfl ?_
                      refine tx_callO (tx_runV (n := 2) (b := h) (As := [.long (j_ab x), .long (j_ab y)]) (rest := [.int mi, .int i, .ref h]) hx hb hml hown ht (c_Mo_quotient l h (j_ab x) (j_ab y) (j_ab0 hy0)) t_310 t_309 t_s6 t_2 t_307 (by decide +kernel) rfl rfl (rm0R ⟨by decide, by decide⟩ (by decide)) ⟨fun _ _ _ _ h9 => h9, va_recv (q0 := 0) (ci := 1) (q := (R_Mo, F_Mo, 3)) hK hP rfl rfl, fun _ _ _ => rfl⟩ rfl rfl hl.1 rfl (lv_room (Nat.le_of_ble_eq_true rfl)) d_Mo_reckon_212 ⟨by decide, by decide⟩) ?_
                      refine W.eq (g2 := F0 m 215 ls [.long (m_quot (j_ab x) (j_ab y)), .int mi, .int i, .ref h]) rfl ?_
                      refine lv_iconst (v := 3) hx hb d_Mo_reckon_215 (by decide) ?_
                      rw [show m_rk f i op x y = m_put 0 f i mi (m_quot (j_ab x) (j_ab y)) 3 from by rw [m_rk, if_neg h82, if_neg h6n, if_neg h7, if_pos h8, hmi]]
                      exact tk_put hx hb hr hlk hml hown ht hP hK hD hS (out_in h1) ⟨by decide, by decide⟩ hl.1 d_Mo_reckon_216 d_Mo_reckon_219
                  · refine lv_aload_n hx hb d_Mo_reckon_169 rfl (lv_at hl 3 rfl) ?_
                    refine lv_iload_n hx hb d_Mo_reckon_170 rfl (lv_at hl 4 rfl) ?_
                    refine lv_iload hx hb d_Mo_reckon_171 (lv_at hl 0 rfl) ?_
                    refine lv_aload_n hx hb d_Mo_reckon_173 rfl (lv_at hl 3 rfl) ?_
                    refine lv_lload hx hb d_Mo_reckon_174 (lv_at hl 2 rfl) ?_
                    refine tx_callO (tx_runS (n := 1) (As := [.long x]) (rest := [.ref h, .int mi, .int i, .ref h]) hx hb hml hown ht (c_Mo_size l x) t_295 t_294 t_2 t_293 (by decide +kernel) rfl rfl (rm0R ⟨by decide, by decide⟩ (by decide)) ⟨fun _ _ _ _ h => h, fun _ _ _ => rfl⟩ rfl rfl hl.1 rfl (lv_room (Nat.le_of_ble_eq_true rfl)) d_Mo_reckon_176 ⟨by decide, by decide⟩) ?_
                    refine W.eq (g2 := F0 m 179 ls [.long (j_ab x), .ref h, .int mi, .int i, .ref h]) rfl ?_
                    refine lv_lload hx hb d_Mo_reckon_179 (lv_at hl 1 rfl) ?_
                    refine tx_callO (tx_runS (n := 1) (As := [.long y]) (rest := [.long (j_ab x), .ref h, .int mi, .int i, .ref h]) hx hb hml hown ht (c_Mo_size l y) t_295 t_294 t_2 t_293 (by decide +kernel) rfl rfl (rm0R ⟨by decide, by decide⟩ (by decide)) ⟨fun _ _ _ _ h => h, fun _ _ _ => rfl⟩ rfl rfl hl.1 rfl (lv_room (Nat.le_of_ble_eq_true rfl)) d_Mo_reckon_181 ⟨by decide, by decide⟩) ?_
                    refine W.eq (g2 := F0 m 184 ls [.long (j_ab y), .long (j_ab x), .ref h, .int mi, .int i, .ref h]) rfl ?_
                    refine tx_callO (tx_runV (n := 2) (b := h) (As := [.long (j_ab x), .long (j_ab y)]) (rest := [.int mi, .int i, .ref h]) hx hb hml hown ht (c_Mo_product l h (j_ab x) (j_ab y)) t_303 t_302 t_s5 t_2 t_300 (by decide +kernel) rfl rfl (rm0R ⟨by decide, by decide⟩ (by decide)) ⟨fun _ _ _ _ h9 => h9, va_recv (q0 := 0) (ci := 1) (q := (R_Mo, F_Mo, 3)) hK hP rfl rfl, fun _ _ _ => rfl⟩ rfl rfl hl.1 rfl (lv_room (Nat.le_of_ble_eq_true rfl)) d_Mo_reckon_184 ⟨by decide, by decide⟩) ?_
                    refine W.eq (g2 := F0 m 187 ls [.long (m_product (j_ab x) (j_ab y)), .int mi, .int i, .ref h]) rfl ?_
                    refine lv_iconst (v := 3) hx hb d_Mo_reckon_187 (by decide) ?_
                    rw [show m_rk f i op x y = m_put 0 f i mi (m_product (j_ab x) (j_ab y)) 3 from by rw [m_rk, if_neg h82, if_neg h6n, if_pos h7, hmi]]
                    exact tk_put hx hb hr hlk hml hown ht hP hK hD hS (out_in h1) ⟨by decide, by decide⟩ hl.1 d_Mo_reckon_188 d_Mo_reckon_191
                have k154 : ∀ (ls : Array Slot) (u : Int32) (v : Int32), lv_has ls 12 [(7, .long y), (5, .long x), (0, .ref h), (1, .int i), (2, .int op), (3, .int a2), (4, .int b2)] → u = j_ng x → v = j_ng y → W p l e rmQ s m ([.ref h, .int i, .int op, .int a2, .int b2] : List Value).toArray below meth c H locs 0 0 (tx_MQ below (m_Q D h r q cL cI g (wM h r q cL cI k f g) (m_rk f i op x y)) ([.ref h, .int i, .int op, .int a2, .int b2] : List Value).toArray s 0 0 (inW (wM h r q cL cI k f g))) (F0 m 154 ls [.int v, .int u]) := by
                  intro ls u v hl hu hv
                  subst hu
                  subst hv
                  refine lv_icmp_eq (tgt := 161) hx hb d_Mo_reckon_154 (by decide) (fun h7 => ?_) (fun h7 => ?_)
                  · refine lv_iconst (v := 0) hx hb d_Mo_reckon_161 (by decide) ?_
                    exact k162 ls 0 hl (by rw [m_mi, if_pos h7])
                  · refine lv_iconst (v := 1) hx hb d_Mo_reckon_157 (by decide) ?_
                    refine lv_goto (tgt := 162) hx hb d_Mo_reckon_158 (by decide) ?_
                    exact k162 ls 1 hl (by rw [m_mi, if_neg h7])
                have k142 : ∀ (ls : Array Slot) (u : Int32), lv_has ls 12 [(7, .long y), (5, .long x), (0, .ref h), (1, .int i), (2, .int op), (3, .int a2), (4, .int b2)] → u = j_ng x → W p l e rmQ s m ([.ref h, .int i, .int op, .int a2, .int b2] : List Value).toArray below meth c H locs 0 0 (tx_MQ below (m_Q D h r q cL cI g (wM h r q cL cI k f g) (m_rk f i op x y)) ([.ref h, .int i, .int op, .int a2, .int b2] : List Value).toArray s 0 0 (inW (wM h r q cL cI k f g))) (F0 m 142 ls [.int u]) := by
                  intro ls u hl hu
                  refine lv_lload hx hb d_Mo_reckon_142 (lv_at hl 0 rfl) ?_
                  refine lv_lconst (v := 0) hx hb d_Mo_reckon_144 (by decide) ?_
                  refine lc_ge (tgt := 153) hx hb d_Mo_reckon_145 d_Mo_reckon_146 (by decide) (fun h8 => ?_) (fun h8 => ?_)
                  · refine lv_iconst (v := 0) hx hb d_Mo_reckon_153 (by decide) ?_
                    exact k154 ls u 0 hl hu (j_ng_ge h8)
                  · refine lv_iconst (v := 1) hx hb d_Mo_reckon_149 (by decide) ?_
                    refine lv_goto (tgt := 154) hx hb d_Mo_reckon_150 (by decide) ?_
                    exact k154 ls u 1 hl hu (j_ng_lt h8)
                refine lv_lload hx hb d_Mo_reckon_130 (lv_at hl 1 rfl) ?_
                refine lv_lconst (v := 0) hx hb d_Mo_reckon_132 (by decide) ?_
                refine lc_ge (tgt := 141) hx hb d_Mo_reckon_133 d_Mo_reckon_134 (by decide) (fun h8 => ?_) (fun h8 => ?_)
                · refine lv_iconst (v := 0) hx hb d_Mo_reckon_141 (by decide) ?_
                  exact k142 ls 0 hl (j_ng_ge h8)
                · refine lv_iconst (v := 1) hx hb d_Mo_reckon_137 (by decide) ?_
                  refine lv_goto (tgt := 142) hx hb d_Mo_reckon_138 (by decide) ?_
                  exact k142 ls 1 hl (j_ng_lt h8)
              · have h6 : op < 2 := Int32.not_le.mp h6
                have k104 : ∀ (ls : Array Slot) (v : Int64), lv_has ls 12 [(7, .long y), (5, .long x), (0, .ref h), (1, .int i), (2, .int op), (3, .int a2), (4, .int b2)] → v = m_ad op x y → W p l e rmQ s m ([.ref h, .int i, .int op, .int a2, .int b2] : List Value).toArray below meth c H locs 0 0 (tx_MQ below (m_Q D h r q cL cI g (wM h r q cL cI k f g) (m_rk f i op x y)) ([.ref h, .int i, .int op, .int a2, .int b2] : List Value).toArray s 0 0 (inW (wM h r q cL cI k f g))) (F0 m 104 ls [.long v]) := by
                  intro ls v hl hv
                  refine lv_lstore (lv' := [(9, .long v), (7, .long y), (5, .long x), (0, .ref h), (1, .int i), (2, .int op), (3, .int a2), (4, .int b2)]) hx hb d_Mo_reckon_104 hl (by decide) rfl (fun ls hl => ?_)
                  refine lv_aload_n hx hb d_Mo_reckon_106 rfl (lv_at hl 3 rfl) ?_
                  refine lv_iload_n hx hb d_Mo_reckon_107 rfl (lv_at hl 4 rfl) ?_
                  refine lv_lload hx hb d_Mo_reckon_108 (lv_at hl 0 rfl) ?_
                  refine lv_lconst (v := 0) hx hb d_Mo_reckon_110 (by decide) ?_
                  refine lc_ge (tgt := 119) hx hb d_Mo_reckon_111 d_Mo_reckon_112 (by decide) (fun h8 => ?_) (fun h8 => ?_)
                  · refine lv_iconst (v := 0) hx hb d_Mo_reckon_119 (by decide) ?_
                    refine lv_lload hx hb d_Mo_reckon_120 (lv_at hl 0 rfl) ?_
                    refine tx_callO (tx_runS (n := 1) (As := [.long v]) (rest := [.int 0, .int i, .ref h]) hx hb hml hown ht (c_Mo_size l v) t_295 t_294 t_2 t_293 (by decide +kernel) rfl rfl (rm0R ⟨by decide, by decide⟩ (by decide)) ⟨fun _ _ _ _ h => h, fun _ _ _ => rfl⟩ rfl rfl hl.1 rfl (lv_room (Nat.le_of_ble_eq_true rfl)) d_Mo_reckon_122 ⟨by decide, by decide⟩) ?_
                    refine W.eq (g2 := F0 m 125 ls [.long (j_ab v), .int 0, .int i, .ref h]) rfl ?_
                    refine lv_iconst (v := 3) hx hb d_Mo_reckon_125 (by decide) ?_
                    rw [show m_rk f i op x y = m_put 0 f i 0 (j_ab v) 3 from by rw [m_rk, if_neg h82, if_pos h6, ← hv, ← j_ng_ge h8]]
                    exact tk_put hx hb hr hlk hml hown ht hP hK hD hS (out_in h1) ⟨by decide, by decide⟩ hl.1 d_Mo_reckon_126 d_Mo_reckon_129
                  · refine lv_iconst (v := 1) hx hb d_Mo_reckon_115 (by decide) ?_
                    refine lv_goto (tgt := 120) hx hb d_Mo_reckon_116 (by decide) ?_
                    refine lv_lload hx hb d_Mo_reckon_120 (lv_at hl 0 rfl) ?_
                    refine tx_callO (tx_runS (n := 1) (As := [.long v]) (rest := [.int 1, .int i, .ref h]) hx hb hml hown ht (c_Mo_size l v) t_295 t_294 t_2 t_293 (by decide +kernel) rfl rfl (rm0R ⟨by decide, by decide⟩ (by decide)) ⟨fun _ _ _ _ h => h, fun _ _ _ => rfl⟩ rfl rfl hl.1 rfl (lv_room (Nat.le_of_ble_eq_true rfl)) d_Mo_reckon_122 ⟨by decide, by decide⟩) ?_
                    refine W.eq (g2 := F0 m 125 ls [.long (j_ab v), .int 1, .int i, .ref h]) rfl ?_
                    refine lv_iconst (v := 3) hx hb d_Mo_reckon_125 (by decide) ?_
                    rw [show m_rk f i op x y = m_put 0 f i 1 (j_ab v) 3 from by rw [m_rk, if_neg h82, if_pos h6, ← hv, ← j_ng_lt h8]]
                    exact tk_put hx hb hr hlk hml hown ht hP hK hD hS (out_in h1) ⟨by decide, by decide⟩ hl.1 d_Mo_reckon_126 d_Mo_reckon_129
                refine lv_iload_n hx hb d_Mo_reckon_87 rfl (lv_at hl 4 rfl) ?_
                refine lv_if_ne (tgt := 99) hx hb d_Mo_reckon_88 (by decide) (fun h7 => ?_) (fun h7 => ?_)
                · refine lv_lload hx hb d_Mo_reckon_99 (lv_at hl 1 rfl) ?_
                  refine lv_lload hx hb d_Mo_reckon_101 (lv_at hl 0 rfl) ?_
                  refine lv_lsub hx hb d_Mo_reckon_103 ?_
                  exact k104 ls (x - y) hl (by rw [m_ad, if_neg h7])
                · refine lv_lload hx hb d_Mo_reckon_91 (lv_at hl 1 rfl) ?_
                  refine lv_lload hx hb d_Mo_reckon_93 (lv_at hl 0 rfl) ?_
                  refine lv_ladd hx hb d_Mo_reckon_95 ?_
                  refine lv_goto (tgt := 104) hx hb d_Mo_reckon_96 (by decide) ?_
                  exact k104 ls (x + y) hl (by rw [m_ad, if_pos h7])
            refine lv_iload_n hx hb d_Mo_reckon_63 rfl (lv_at hl 4 rfl) ?_
            refine lv_iconst (v := 2) hx hb d_Mo_reckon_64 (by decide) ?_
            refine lv_icmp_le (tgt := 82) hx hb d_Mo_reckon_65 (by decide) (fun h6 => ?_) (fun h6 => ?_)
            · exact k82 ls hl (fun h9 => absurd h9.1 (Int32.not_lt.mpr h6))
            · refine lv_lload hx hb d_Mo_reckon_68 (lv_at hl 0 rfl) ?_
              refine lv_lconst (v := 0) hx hb d_Mo_reckon_70 (by decide) ?_
              refine lc_ne (tgt := 82) hx hb d_Mo_reckon_71 d_Mo_reckon_72 (by decide) (fun h7 => ?_) (fun h7 => ?_)
              · exact k82 ls hl (fun h9 => h7 h9.2)
              · refine lv_aload_n hx hb d_Mo_reckon_75 rfl (lv_at hl 2 rfl) ?_
                refine lv_iconst (v := 2) hx hb d_Mo_reckon_76 (by decide) ?_
                rw [show m_rk f i op x y = (2, f, 0) from by rw [m_rk, if_pos ⟨Int32.not_le.mp h6, h7⟩]]
                exact tk_fail hx hb hr hlk hml hown ht hP hK hD hS ⟨by decide, by decide⟩ hl.1 d_Mo_reckon_77 d_Mo_reckon_80 d_Mo_reckon_81
          · exact k39 ls hl (fun h9 => h5 h9.2.2.2.2)
theorem c_Mo_turn (l : Launch) (D : va_G) (h r q : Nat) (cL cI : ClassId) (k : Int32) (f : Nat → Int64) (g : Nat → Int32) (i op a2 : Int32) : tx_Met l y_Mo_turn (Cond.code y_Mo_turn b_Mo_turn 8 (some .long) :: tt) rmQ (pW D (wM h r q cL cI k f g) (tyM cL cI) [.ref h, .int i, .int op, .int a2]) (m_Q D h r q cL cI g (wM h r q cL cI k f g) (m_turn f i op a2)) 0 0 (inW (wM h r q cL cI k f g)) := by
  refine tx_start (by decide +kernel) [.ref h, .int i, .int op, .int a2] (Nat.le_of_ble_eq_true rfl) (fun _ _ h => h.1) ?_
  intro p e s m below meth c ls hx hb hr hlk hml hne hown ht hnm hP hl
  obtain ⟨-, hP, hK, hD0⟩ := hP
  have hD : va_D (inW (wM h r q cL cI k f g)) (wM h r q cL cI k f g) := inW_self hD0
  have hS : va_S (inW (wM h r q cL cI k f g)) s.heap s.heap [] := va_S.rf
  have hl : lv_has ls 8 [(0, .ref h), (1, .int i), (2, .int op), (3, .int a2)] := hl
  refine lv_aload_n hx hb d_Mo_turn_0 rfl (lv_at hl 0 rfl) ?_
  refine lv_iconst (v := 0) hx hb d_Mo_turn_1 (by decide) ?_
  refine va_put (D := D) (ci := 1) (v := .int 0) (ty := .int) (C := R_Mo) (T := F_Mo) (N := 3) hx hb ht uw_Mo t_Mo t_Mo_ok n_Mo hown hK hP hD hS 0 rfl rfl 0 (by decide) (ht _ t_256) (fun _ h9 => h9) rfl (by decide +kernel) rfl rfl (Nat.le_of_ble_eq_true rfl) d_Mo_turn_2 (fun H locs hP hD hS => ?_)
  have hP : va_P D cl2 (wM h r q cL cI 0 f g) H := hP
  have hD : va_D (inW (wM h r q cL cI k f g)) (wM h r q cL cI 0 f g) := hD
  have k30 : ∀ (ls : Array Slot) , lv_has ls 8 [(0, .ref h), (1, .int i), (2, .int op), (3, .int a2)] → ¬ (j_out i = 0 ∧ ¬ op < 0 ∧ ¬ 3 < op ∧ j_out a2 = 0) → W p l e rmQ s m ([.ref h, .int i, .int op, .int a2] : List Value).toArray below meth c H locs 0 0 (tx_MQ below (m_Q D h r q cL cI g (wM h r q cL cI k f g) (m_turn f i op a2)) ([.ref h, .int i, .int op, .int a2] : List Value).toArray s 0 0 (inW (wM h r q cL cI k f g))) (F0 m 30 ls []) := by
    intro ls  hl hg
    refine lv_aload_n hx hb d_Mo_turn_30 rfl (lv_at hl 0 rfl) ?_
    refine lv_iconst (v := 1) hx hb d_Mo_turn_31 (by decide) ?_
    rw [show m_turn f i op a2 = (1, f, 0) from by rw [m_turn, if_neg hg]]
    exact tk_fail hx hb hr hlk hml hown ht hP hK hD hS ⟨by decide, by decide⟩ hl.1 d_Mo_turn_32 d_Mo_turn_35 d_Mo_turn_36
  refine lv_aload_n hx hb d_Mo_turn_5 rfl (lv_at hl 0 rfl) ?_
  refine lv_iload_n hx hb d_Mo_turn_6 rfl (lv_at hl 1 rfl) ?_
  refine tx_callO (tx_runV (n := 1) (b := h) (As := [.int i]) (rest := []) hx hb hml hown ht (c_Mo_out l h i) t_278 t_277 t_s2 t_2 t_275 (by decide +kernel) rfl rfl (rm0R ⟨by decide, by decide⟩ (by decide)) ⟨fun _ _ _ _ h9 => h9, va_recv (q0 := 0) (ci := 1) (q := (R_Mo, F_Mo, 3)) hK hP rfl rfl, fun _ _ _ => rfl⟩ rfl rfl hl.1 rfl (lv_room (Nat.le_of_ble_eq_true rfl)) d_Mo_turn_7 ⟨by decide, by decide⟩) ?_
  refine W.eq (g2 := F0 m 10 ls [.int (j_out i)]) rfl ?_
  refine lv_if_ne (tgt := 30) hx hb d_Mo_turn_10 (by decide) (fun h1 => ?_) (fun h1 => ?_)
  · exact k30 ls hl (fun h9 => h1 h9.1)
  · refine lv_iload_n hx hb d_Mo_turn_13 rfl (lv_at hl 2 rfl) ?_
    refine lv_if_lt (tgt := 30) hx hb d_Mo_turn_14 (by decide) (fun h2 => ?_) (fun h2 => ?_)
    · exact k30 ls hl (fun h9 => h9.2.1 h2)
    · refine lv_iload_n hx hb d_Mo_turn_17 rfl (lv_at hl 2 rfl) ?_
      refine lv_iconst (v := 3) hx hb d_Mo_turn_18 (by decide) ?_
      refine lv_icmp_gt (tgt := 30) hx hb d_Mo_turn_19 (by decide) (fun h3 => ?_) (fun h3 => ?_)
      · exact k30 ls hl (fun h9 => h9.2.2.1 h3)
      · refine lv_aload_n hx hb d_Mo_turn_22 rfl (lv_at hl 0 rfl) ?_
        refine lv_iload_n hx hb d_Mo_turn_23 rfl (lv_at hl 3 rfl) ?_
        refine tx_callO (tx_runV (n := 1) (b := h) (As := [.int a2]) (rest := []) hx hb hml hown ht (c_Mo_out l h a2) t_278 t_277 t_s2 t_2 t_275 (by decide +kernel) rfl rfl (rm0R ⟨by decide, by decide⟩ (by decide)) ⟨fun _ _ _ _ h9 => h9, va_recv (q0 := 0) (ci := 1) (q := (R_Mo, F_Mo, 3)) hK hP rfl rfl, fun _ _ _ => rfl⟩ rfl rfl hl.1 rfl (lv_room (Nat.le_of_ble_eq_true rfl)) d_Mo_turn_24 ⟨by decide, by decide⟩) ?_
        refine W.eq (g2 := F0 m 27 ls [.int (j_out a2)]) rfl ?_
        refine lv_if_eq (tgt := 37) hx hb d_Mo_turn_27 (by decide) (fun h4 => ?_) (fun h4 => ?_)
        · rw [show m_turn f i op a2 = m_tn f i op (f a2.toNatClampNeg) from by rw [m_turn, if_pos ⟨h1, h2, h3, h4⟩]]
          refine lv_aload_n hx hb d_Mo_turn_37 rfl (lv_at hl 0 rfl) ?_
          refine va_get (D := D) (ci := 1) (v := .ref r) (C := R_Mo) (T := F_Mo) (N := 3) hx hb ht uw_Mo hown hK hP 0 rfl rfl 1 (by decide) (ht _ t_257) (fun _ h9 => h9) rfl d_Mo_turn_38 ?_
          refine lv_iload_n hx hb d_Mo_turn_41 rfl (lv_at hl 3 rfl) ?_
          refine va_lald hx hb hK hP 1 0 rfl rfl (out_in h4) d_Mo_turn_42 ?_
          generalize f (Int32.toNatClampNeg a2) = x
          refine lv_lstore (lv' := [(4, .long x), (0, .ref h), (1, .int i), (2, .int op), (3, .int a2)]) hx hb d_Mo_turn_43 hl (by decide) rfl (fun ls hl => ?_)
          refine lv_iload_n hx hb d_Mo_turn_45 rfl (lv_at hl 3 rfl) ?_
          refine lv_if_ne (tgt := 81) hx hb d_Mo_turn_46 (by decide) (fun h5 => ?_) (fun h5 => ?_)
          · refine lv_iload_n hx hb d_Mo_turn_81 rfl (lv_at hl 3 rfl) ?_
            refine lv_iconst (v := 2) hx hb d_Mo_turn_82 (by decide) ?_
            refine lv_icmp_ne (tgt := 99) hx hb d_Mo_turn_83 (by decide) (fun h6 => ?_) (fun h6 => ?_)
            · refine lv_iload_n hx hb d_Mo_turn_99 rfl (lv_at hl 3 rfl) ?_
              refine lv_iconst (v := 3) hx hb d_Mo_turn_100 (by decide) ?_
              refine lv_icmp_ne (tgt := 128) hx hb d_Mo_turn_101 (by decide) (fun h7 => ?_) (fun h7 => ?_)
              · refine lv_lload hx hb d_Mo_turn_128 (lv_at hl 0 rfl) ?_
                refine tx_callO (tx_runS (n := 1) (As := [.long x]) (rest := []) hx hb hml hown ht (c_Mo_size l x) t_295 t_294 t_2 t_293 (by decide +kernel) rfl rfl (rm0R ⟨by decide, by decide⟩ (by decide)) ⟨fun _ _ _ _ h => h, fun _ _ _ => rfl⟩ rfl rfl hl.1 rfl (lv_room (Nat.le_of_ble_eq_true rfl)) d_Mo_turn_130 ⟨by decide, by decide⟩) ?_
                refine W.eq (g2 := F0 m 133 ls [.long (j_ab x)]) rfl ?_
                refine lv_ldc2 hx hb hown (ht _ t_304) d_Mo_turn_133 ?_
                refine lv_ldiv hx hb d_Mo_turn_136 (by decide) ?_
                refine lv_ldc2 hx hb hown (ht _ t_304) d_Mo_turn_137 ?_
                refine lv_lmul hx hb d_Mo_turn_140 ?_
                refine lv_lstore (lv' := [(6, .long (((j_ab x) / 10000) * 10000)), (4, .long x), (0, .ref h), (1, .int i), (2, .int op), (3, .int a2)]) hx hb d_Mo_turn_141 hl (by decide) rfl (fun ls hl => ?_)
                have k169 : ∀ (ls : Array Slot) (z : Int64), lv_has ls 8 [(6, .long z), (4, .long x), (0, .ref h), (1, .int i), (2, .int op), (3, .int a2)] → z = m_fl x → W p l e rmQ s m ([.ref h, .int i, .int op, .int a2] : List Value).toArray below meth c H locs 0 0 (tx_MQ below (m_Q D h r q cL cI g (wM h r q cL cI k f g) (m_tn f i op x)) ([.ref h, .int i, .int op, .int a2] : List Value).toArray s 0 0 (inW (wM h r q cL cI k f g))) (F0 m 169 ls []) := by
                  intro ls z hl hz
                  refine lv_aload_n hx hb d_Mo_turn_169 rfl (lv_at hl 2 rfl) ?_
                  refine lv_iload_n hx hb d_Mo_turn_170 rfl (lv_at hl 3 rfl) ?_
                  refine lv_lload hx hb d_Mo_turn_171 (lv_at hl 1 rfl) ?_
                  refine lv_lconst (v := 0) hx hb d_Mo_turn_173 (by decide) ?_
                  refine lc_ge (tgt := 182) hx hb d_Mo_turn_174 d_Mo_turn_175 (by decide) (fun h9 => ?_) (fun h9 => ?_)
                  · refine lv_iconst (v := 0) hx hb d_Mo_turn_182 (by decide) ?_
                    refine lv_lload hx hb d_Mo_turn_183 (lv_at hl 0 rfl) ?_
                    refine lv_iconst (v := 2) hx hb d_Mo_turn_185 (by decide) ?_
                    rw [show m_tn f i op x = m_put 0 f i 0 z 2 from by rw [m_tn, if_neg h5, if_neg h6, if_neg h7, hz, ← j_ng_ge h9]]
                    exact tk_put hx hb hr hlk hml hown ht hP hK hD hS (out_in h1) ⟨by decide, by decide⟩ hl.1 d_Mo_turn_186 d_Mo_turn_189
                  · refine lv_iconst (v := 1) hx hb d_Mo_turn_178 (by decide) ?_
                    refine lv_goto (tgt := 183) hx hb d_Mo_turn_179 (by decide) ?_
                    refine lv_lload hx hb d_Mo_turn_183 (lv_at hl 0 rfl) ?_
                    refine lv_iconst (v := 2) hx hb d_Mo_turn_185 (by decide) ?_
                    rw [show m_tn f i op x = m_put 0 f i 1 z 2 from by rw [m_tn, if_neg h5, if_neg h6, if_neg h7, hz, ← j_ng_lt h9]]
                    exact tk_put hx hb hr hlk hml hown ht hP hK hD hS (out_in h1) ⟨by decide, by decide⟩ hl.1 d_Mo_turn_186 d_Mo_turn_189
                refine lv_lload hx hb d_Mo_turn_143 (lv_at hl 1 rfl) ?_
                refine lv_lconst (v := 0) hx hb d_Mo_turn_145 (by decide) ?_
                refine lc_ge (tgt := 169) hx hb d_Mo_turn_146 d_Mo_turn_147 (by decide) (fun h8 => ?_) (fun h8 => ?_)
                · exact k169 ls _ hl (by rw [m_fl, if_neg (fun h11 => Int64.not_lt.mpr h8 h11.1)])
                · refine lv_lload hx hb d_Mo_turn_150 (lv_at hl 0 rfl) ?_
                  refine lv_lload hx hb d_Mo_turn_152 (lv_at hl 1 rfl) ?_
                  refine tx_callO (tx_runS (n := 1) (As := [.long x]) (rest := [.long (((j_ab x) / 10000) * 10000)]) hx hb hml hown ht (c_Mo_size l x) t_295 t_294 t_2 t_293 (by decide +kernel) rfl rfl (rm0R ⟨by decide, by decide⟩ (by decide)) ⟨fun _ _ _ _ h => h, fun _ _ _ => rfl⟩ rfl rfl hl.1 rfl (lv_room (Nat.le_of_ble_eq_true rfl)) d_Mo_turn_154 ⟨by decide, by decide⟩) ?_
                  refine W.eq (g2 := F0 m 157 ls [.long (j_ab x), .long (((j_ab x) / 10000) * 10000)]) rfl ?_
                  refine lc_ge (tgt := 169) hx hb d_Mo_turn_157 d_Mo_turn_158 (by decide) (fun h9 => ?_) (fun h9 => ?_)
                  · exact k169 ls _ hl (by rw [m_fl, if_neg (fun h11 => Int64.not_lt.mpr h9 h11.2)])
                  · refine lv_lload hx hb d_Mo_turn_161 (lv_at hl 0 rfl) ?_
                    refine lv_ldc2 hx hb hown (ht _ t_304) d_Mo_turn_163 ?_
                    refine lv_ladd hx hb d_Mo_turn_166 ?_
                    refine lv_lstore (lv' := [(6, .long ((((j_ab x) / 10000) * 10000) + 10000)), (4, .long x), (0, .ref h), (1, .int i), (2, .int op), (3, .int a2)]) hx hb d_Mo_turn_167 hl (by decide) rfl (fun ls hl => ?_)
                    exact k169 ls _ hl (by rw [m_fl, if_pos ⟨h8, h9⟩])
              · refine lv_aload_n hx hb d_Mo_turn_104 rfl (lv_at hl 1 rfl) ?_
                refine lv_iload_n hx hb d_Mo_turn_105 rfl (lv_at hl 2 rfl) ?_
                refine lv_lload hx hb d_Mo_turn_106 (lv_at hl 0 rfl) ?_
                refine lv_lconst (v := 0) hx hb d_Mo_turn_108 (by decide) ?_
                refine lc_le (tgt := 117) hx hb d_Mo_turn_109 d_Mo_turn_110 (by decide) (fun h8 => ?_) (fun h8 => ?_)
                · refine lv_iconst (v := 0) hx hb d_Mo_turn_117 (by decide) ?_
                  refine lv_lload hx hb d_Mo_turn_118 (lv_at hl 0 rfl) ?_
                  refine tx_callO (tx_runS (n := 1) (As := [.long x]) (rest := [.int 0, .int i, .ref h]) hx hb hml hown ht (c_Mo_size l x) t_295 t_294 t_2 t_293 (by decide +kernel) rfl rfl (rm0R ⟨by decide, by decide⟩ (by decide)) ⟨fun _ _ _ _ h => h, fun _ _ _ => rfl⟩ rfl rfl hl.1 rfl (lv_room (Nat.le_of_ble_eq_true rfl)) d_Mo_turn_120 ⟨by decide, by decide⟩) ?_
                  refine W.eq (g2 := F0 m 123 ls [.long (j_ab x), .int 0, .int i, .ref h]) rfl ?_
                  refine lv_iconst (v := 2) hx hb d_Mo_turn_123 (by decide) ?_
                  rw [show m_tn f i op x = m_put 0 f i 0 (j_ab x) 2 from by rw [m_tn, if_neg h5, if_neg h6, if_pos h7, m_pos, if_neg (Int64.not_lt.mpr h8)]]
                  exact tk_put hx hb hr hlk hml hown ht hP hK hD hS (out_in h1) ⟨by decide, by decide⟩ hl.1 d_Mo_turn_124 d_Mo_turn_127
                · refine lv_iconst (v := 1) hx hb d_Mo_turn_113 (by decide) ?_
                  refine lv_goto (tgt := 118) hx hb d_Mo_turn_114 (by decide) ?_
                  refine lv_lload hx hb d_Mo_turn_118 (lv_at hl 0 rfl) ?_
                  refine tx_callO (tx_runS (n := 1) (As := [.long x]) (rest := [.int 1, .int i, .ref h]) hx hb hml hown ht (c_Mo_size l x) t_295 t_294 t_2 t_293 (by decide +kernel) rfl rfl (rm0R ⟨by decide, by decide⟩ (by decide)) ⟨fun _ _ _ _ h => h, fun _ _ _ => rfl⟩ rfl rfl hl.1 rfl (lv_room (Nat.le_of_ble_eq_true rfl)) d_Mo_turn_120 ⟨by decide, by decide⟩) ?_
                  refine W.eq (g2 := F0 m 123 ls [.long (j_ab x), .int 1, .int i, .ref h]) rfl ?_
                  refine lv_iconst (v := 2) hx hb d_Mo_turn_123 (by decide) ?_
                  rw [show m_tn f i op x = m_put 0 f i 1 (j_ab x) 2 from by rw [m_tn, if_neg h5, if_neg h6, if_pos h7, m_pos, if_pos h8]]
                  exact tk_put hx hb hr hlk hml hown ht hP hK hD hS (out_in h1) ⟨by decide, by decide⟩ hl.1 d_Mo_turn_124 d_Mo_turn_127
            · refine lv_aload_n hx hb d_Mo_turn_86 rfl (lv_at hl 1 rfl) ?_
              refine lv_iload_n hx hb d_Mo_turn_87 rfl (lv_at hl 2 rfl) ?_
              refine lv_iconst (v := 0) hx hb d_Mo_turn_88 (by decide) ?_
              refine lv_lload hx hb d_Mo_turn_89 (lv_at hl 0 rfl) ?_
              refine tx_callO (tx_runS (n := 1) (As := [.long x]) (rest := [.int 0, .int i, .ref h]) hx hb hml hown ht (c_Mo_size l x) t_295 t_294 t_2 t_293 (by decide +kernel) rfl rfl (rm0R ⟨by decide, by decide⟩ (by decide)) ⟨fun _ _ _ _ h => h, fun _ _ _ => rfl⟩ rfl rfl hl.1 rfl (lv_room (Nat.le_of_ble_eq_true rfl)) d_Mo_turn_91 ⟨by decide, by decide⟩) ?_
              refine W.eq (g2 := F0 m 94 ls [.long (j_ab x), .int 0, .int i, .ref h]) rfl ?_
              refine lv_iconst (v := 2) hx hb d_Mo_turn_94 (by decide) ?_
              rw [show m_tn f i op x = m_put 0 f i 0 (j_ab x) 2 from by rw [m_tn, if_neg h5, if_pos h6]]
              exact tk_put hx hb hr hlk hml hown ht hP hK hD hS (out_in h1) ⟨by decide, by decide⟩ hl.1 d_Mo_turn_95 d_Mo_turn_98
          · refine lv_aload_n hx hb d_Mo_turn_49 rfl (lv_at hl 1 rfl) ?_
            refine lv_iload_n hx hb d_Mo_turn_50 rfl (lv_at hl 2 rfl) ?_
            refine lv_lload hx hb d_Mo_turn_51 (lv_at hl 0 rfl) ?_
            refine lv_lconst (v := 0) hx hb d_Mo_turn_53 (by decide) ?_
            refine lc_ge (tgt := 62) hx hb d_Mo_turn_54 d_Mo_turn_55 (by decide) (fun h6 => ?_) (fun h6 => ?_)
            · refine lv_iconst (v := 0) hx hb d_Mo_turn_62 (by decide) ?_
              refine lv_lload hx hb d_Mo_turn_63 (lv_at hl 0 rfl) ?_
              refine tx_callO (tx_runS (n := 1) (As := [.long x]) (rest := [.int 0, .int i, .ref h]) hx hb hml hown ht (c_Mo_size l x) t_295 t_294 t_2 t_293 (by decide +kernel) rfl rfl (rm0R ⟨by decide, by decide⟩ (by decide)) ⟨fun _ _ _ _ h => h, fun _ _ _ => rfl⟩ rfl rfl hl.1 rfl (lv_room (Nat.le_of_ble_eq_true rfl)) d_Mo_turn_65 ⟨by decide, by decide⟩) ?_
              refine W.eq (g2 := F0 m 68 ls [.long (j_ab x), .int 0, .int i, .ref h]) rfl ?_
              refine lv_ldc2 hx hb hown (ht _ t_315) d_Mo_turn_68 ?_
              refine lv_ladd hx hb d_Mo_turn_71 ?_
              refine lv_ldc2 hx hb hown (ht _ t_316) d_Mo_turn_72 ?_
              refine lv_ldiv hx hb d_Mo_turn_75 (by decide) ?_
              refine lv_iconst (v := 2) hx hb d_Mo_turn_76 (by decide) ?_
              rw [show m_tn f i op x = m_put 0 f i 0 (((j_ab x) + 50) / 100) 2 from by rw [m_tn, if_pos h5, ← j_ng_ge h6]]
              exact tk_put hx hb hr hlk hml hown ht hP hK hD hS (out_in h1) ⟨by decide, by decide⟩ hl.1 d_Mo_turn_77 d_Mo_turn_80
            · refine lv_iconst (v := 1) hx hb d_Mo_turn_58 (by decide) ?_
              refine lv_goto (tgt := 63) hx hb d_Mo_turn_59 (by decide) ?_
              refine lv_lload hx hb d_Mo_turn_63 (lv_at hl 0 rfl) ?_
              refine tx_callO (tx_runS (n := 1) (As := [.long x]) (rest := [.int 1, .int i, .ref h]) hx hb hml hown ht (c_Mo_size l x) t_295 t_294 t_2 t_293 (by decide +kernel) rfl rfl (rm0R ⟨by decide, by decide⟩ (by decide)) ⟨fun _ _ _ _ h => h, fun _ _ _ => rfl⟩ rfl rfl hl.1 rfl (lv_room (Nat.le_of_ble_eq_true rfl)) d_Mo_turn_65 ⟨by decide, by decide⟩) ?_
              refine W.eq (g2 := F0 m 68 ls [.long (j_ab x), .int 1, .int i, .ref h]) rfl ?_
              refine lv_ldc2 hx hb hown (ht _ t_315) d_Mo_turn_68 ?_
              refine lv_ladd hx hb d_Mo_turn_71 ?_
              refine lv_ldc2 hx hb hown (ht _ t_316) d_Mo_turn_72 ?_
              refine lv_ldiv hx hb d_Mo_turn_75 (by decide) ?_
              refine lv_iconst (v := 2) hx hb d_Mo_turn_76 (by decide) ?_
              rw [show m_tn f i op x = m_put 0 f i 1 (((j_ab x) + 50) / 100) 2 from by rw [m_tn, if_pos h5, ← j_ng_lt h6]]
              exact tk_put hx hb hr hlk hml hown ht hP hK hD hS (out_in h1) ⟨by decide, by decide⟩ hl.1 d_Mo_turn_77 d_Mo_turn_80
        · exact k30 ls hl (fun h9 => h4 h9.2.2.2)
theorem c_Mo_round (l : Launch) (D : va_G) (h r q : Nat) (cL cI : ClassId) (k : Int32) (f : Nat → Int64) (g : Nat → Int32) (i a2 d2 : Int32) : tx_Met l y_Mo_round (Cond.code y_Mo_round b_Mo_round 12 (some .long) :: tt) rmQ (pW D (wM h r q cL cI k f g) (tyM cL cI) [.ref h, .int i, .int a2, .int d2]) (m_Q D h r q cL cI g (wM h r q cL cI k f g) (m_rnd f i a2 d2)) 0 0 (inW (wM h r q cL cI k f g)) := by
  refine tx_start (by decide +kernel) [.ref h, .int i, .int a2, .int d2] (Nat.le_of_ble_eq_true rfl) (fun _ _ h => h.1) ?_
  intro p e s m below meth c ls hx hb hr hlk hml hne hown ht hnm hP hl
  obtain ⟨-, hP, hK, hD0⟩ := hP
  have hD : va_D (inW (wM h r q cL cI k f g)) (wM h r q cL cI k f g) := inW_self hD0
  have hS : va_S (inW (wM h r q cL cI k f g)) s.heap s.heap [] := va_S.rf
  have hl : lv_has ls 12 [(0, .ref h), (1, .int i), (2, .int a2), (3, .int d2)] := hl
  refine lv_aload_n hx hb d_Mo_round_0 rfl (lv_at hl 0 rfl) ?_
  refine lv_iconst (v := 0) hx hb d_Mo_round_1 (by decide) ?_
  refine va_put (D := D) (ci := 1) (v := .int 0) (ty := .int) (C := R_Mo) (T := F_Mo) (N := 3) hx hb ht uw_Mo t_Mo t_Mo_ok n_Mo hown hK hP hD hS 0 rfl rfl 0 (by decide) (ht _ t_256) (fun _ h9 => h9) rfl (by decide +kernel) rfl rfl (Nat.le_of_ble_eq_true rfl) d_Mo_round_2 (fun H locs hP hD hS => ?_)
  have hP : va_P D cl2 (wM h r q cL cI 0 f g) H := hP
  have hD : va_D (inW (wM h r q cL cI k f g)) (wM h r q cL cI 0 f g) := hD
  have k32 : ∀ (ls : Array Slot) , lv_has ls 12 [(0, .ref h), (1, .int i), (2, .int a2), (3, .int d2)] → ¬ (j_out i = 0 ∧ j_out a2 = 0 ∧ ¬ d2 < -9 ∧ d2 ≤ 4) → W p l e rmQ s m ([.ref h, .int i, .int a2, .int d2] : List Value).toArray below meth c H locs 0 0 (tx_MQ below (m_Q D h r q cL cI g (wM h r q cL cI k f g) (m_rnd f i a2 d2)) ([.ref h, .int i, .int a2, .int d2] : List Value).toArray s 0 0 (inW (wM h r q cL cI k f g))) (F0 m 32 ls []) := by
    intro ls  hl hg
    refine lv_aload_n hx hb d_Mo_round_32 rfl (lv_at hl 0 rfl) ?_
    refine lv_iconst (v := 1) hx hb d_Mo_round_33 (by decide) ?_
    rw [show m_rnd f i a2 d2 = (1, f, 0) from by rw [m_rnd, if_neg hg]]
    exact tk_fail hx hb hr hlk hml hown ht hP hK hD hS ⟨by decide, by decide⟩ hl.1 d_Mo_round_34 d_Mo_round_37 d_Mo_round_38
  refine lv_aload_n hx hb d_Mo_round_5 rfl (lv_at hl 0 rfl) ?_
  refine lv_iload_n hx hb d_Mo_round_6 rfl (lv_at hl 1 rfl) ?_
  refine tx_callO (tx_runV (n := 1) (b := h) (As := [.int i]) (rest := []) hx hb hml hown ht (c_Mo_out l h i) t_278 t_277 t_s2 t_2 t_275 (by decide +kernel) rfl rfl (rm0R ⟨by decide, by decide⟩ (by decide)) ⟨fun _ _ _ _ h9 => h9, va_recv (q0 := 0) (ci := 1) (q := (R_Mo, F_Mo, 3)) hK hP rfl rfl, fun _ _ _ => rfl⟩ rfl rfl hl.1 rfl (lv_room (Nat.le_of_ble_eq_true rfl)) d_Mo_round_7 ⟨by decide, by decide⟩) ?_
  refine W.eq (g2 := F0 m 10 ls [.int (j_out i)]) rfl ?_
  refine lv_if_ne (tgt := 32) hx hb d_Mo_round_10 (by decide) (fun h1 => ?_) (fun h1 => ?_)
  · exact k32 ls hl (fun h9 => h1 h9.1)
  · refine lv_aload_n hx hb d_Mo_round_13 rfl (lv_at hl 0 rfl) ?_
    refine lv_iload_n hx hb d_Mo_round_14 rfl (lv_at hl 2 rfl) ?_
    refine tx_callO (tx_runV (n := 1) (b := h) (As := [.int a2]) (rest := []) hx hb hml hown ht (c_Mo_out l h a2) t_278 t_277 t_s2 t_2 t_275 (by decide +kernel) rfl rfl (rm0R ⟨by decide, by decide⟩ (by decide)) ⟨fun _ _ _ _ h9 => h9, va_recv (q0 := 0) (ci := 1) (q := (R_Mo, F_Mo, 3)) hK hP rfl rfl, fun _ _ _ => rfl⟩ rfl rfl hl.1 rfl (lv_room (Nat.le_of_ble_eq_true rfl)) d_Mo_round_15 ⟨by decide, by decide⟩) ?_
    refine W.eq (g2 := F0 m 18 ls [.int (j_out a2)]) rfl ?_
    refine lv_if_ne (tgt := 32) hx hb d_Mo_round_18 (by decide) (fun h2 => ?_) (fun h2 => ?_)
    · exact k32 ls hl (fun h9 => h2 h9.2.1)
    · refine lv_iload_n hx hb d_Mo_round_21 rfl (lv_at hl 3 rfl) ?_
      refine lv_bipush (v := (-9)) hx hb d_Mo_round_22 (by decide) ?_
      refine lv_icmp_lt (tgt := 32) hx hb d_Mo_round_24 (by decide) (fun h3 => ?_) (fun h3 => ?_)
      · exact k32 ls hl (fun h9 => h9.2.2.1 h3)
      · refine lv_iload_n hx hb d_Mo_round_27 rfl (lv_at hl 3 rfl) ?_
        refine lv_iconst (v := 4) hx hb d_Mo_round_28 (by decide) ?_
        refine lv_icmp_le (tgt := 39) hx hb d_Mo_round_29 (by decide) (fun h4 => ?_) (fun h4 => ?_)
        · rw [show m_rnd f i a2 d2 = m_put 0 f i (j_ng (f a2.toNatClampNeg)) (m_ro (f a2.toNatClampNeg) (j_up (4 - d2.toInt).toNat 1)) 2 from by rw [m_rnd, if_pos ⟨h1, h2, h3, h4⟩]]
          refine lv_lconst (v := 1) hx hb d_Mo_round_39 (by decide) ?_
          refine lv_lstore (lv' := [(4, .long 1), (0, .ref h), (1, .int i), (2, .int a2), (3, .int d2)]) hx hb d_Mo_round_40 hl (by decide) rfl (fun ls hl => ?_)
          refine lv_iload_n hx hb d_Mo_round_42 rfl (lv_at hl 4 rfl) ?_
          refine lv_istore (lv' := [(6, .int d2), (4, .long 1), (0, .ref h), (1, .int i), (2, .int a2), (3, .int d2)]) hx hb d_Mo_round_43 hl (by decide) rfl (fun ls hl => ?_)
          have h40 : (4 : Int32).toInt = 4 := by decide
          have h41 : (-9 : Int32).toInt = -9 := by decide
          have key : ∀ (k2 : Nat) (dd : Int32) (u : Int64) (ls : Array Slot), dd.toInt = 4 - (k2 : Int) → k2 ≤ 13 → lv_has ls 12 [(6, .int dd), (4, .long u), (0, .ref h), (1, .int i), (2, .int a2), (3, .int d2)] → (∀ (ls : Array Slot) (dd : Int32), lv_has ls 12 [(6, .int dd), (4, .long (j_up k2 u)), (0, .ref h), (1, .int i), (2, .int a2), (3, .int d2)] → W p l e rmQ s m ([.ref h, .int i, .int a2, .int d2] : List Value).toArray below meth c H locs 0 0 (tx_MQ below (m_Q D h r q cL cI g (wM h r q cL cI k f g) (m_put 0 f i (j_ng (f a2.toNatClampNeg)) (m_ro (f a2.toNatClampNeg) (j_up (4 - d2.toInt).toNat 1)) 2)) ([.ref h, .int i, .int a2, .int d2] : List Value).toArray s 0 0 (inW (wM h r q cL cI k f g))) (F0 m 65 ls [])) → W p l e rmQ s m ([.ref h, .int i, .int a2, .int d2] : List Value).toArray below meth c H locs 0 0 (tx_MQ below (m_Q D h r q cL cI g (wM h r q cL cI k f g) (m_put 0 f i (j_ng (f a2.toNatClampNeg)) (m_ro (f a2.toNatClampNeg) (j_up (4 - d2.toInt).toNat 1)) 2)) ([.ref h, .int i, .int a2, .int d2] : List Value).toArray s 0 0 (inW (wM h r q cL cI k f g))) (F0 m 45 ls []) := by
            intro k2
            induction k2 with
            | zero =>
              intro dd u ls hdd hk2 hl kk
              refine lv_iload hx hb d_Mo_round_45 (lv_at hl 0 rfl) ?_
              refine lv_iconst (v := 4) hx hb d_Mo_round_47 (by decide) ?_
              refine lv_icmp_ge (tgt := 65) hx hb d_Mo_round_48 (by decide) (fun h5 => ?_) (fun h5 => ?_)
              · exact kk ls dd hl
              · exact absurd (Int32.le_iff_toInt_le.mpr (by omega)) h5
            | succ k2 ih =>
              intro dd u ls hdd hk2 hl kk
              refine lv_iload hx hb d_Mo_round_45 (lv_at hl 0 rfl) ?_
              refine lv_iconst (v := 4) hx hb d_Mo_round_47 (by decide) ?_
              refine lv_icmp_ge (tgt := 65) hx hb d_Mo_round_48 (by decide) (fun h5 => ?_) (fun h5 => ?_)
              · exact absurd (Int32.le_iff_toInt_le.mp h5) (by omega)
              · refine lv_lload hx hb d_Mo_round_51 (lv_at hl 1 rfl) ?_
                refine lv_ldc2 hx hb hown (ht _ t_321) d_Mo_round_53 ?_
                refine lv_lmul hx hb d_Mo_round_56 ?_
                refine lv_lstore (lv' := [(4, .long (u * 10)), (6, .int dd), (0, .ref h), (1, .int i), (2, .int a2), (3, .int d2)]) hx hb d_Mo_round_57 hl (by decide) rfl (fun ls hl => ?_)
                refine lv_iinc (k := 1) (v := (dd + 1)) (lv' := [(6, .int (dd + 1)), (4, .long (u * 10)), (0, .ref h), (1, .int i), (2, .int a2), (3, .int d2)]) hx hb d_Mo_round_59 hl rfl (by rw [show Int32.ofInt 1 = (1 : Int32) from by decide]) (by decide) rfl (fun ls hl => ?_)
                refine lv_goto (tgt := 45) hx hb d_Mo_round_62 (by decide) ?_
                have e1 : (1 : Int32).toInt = 1 := by decide
                have e2 : (dd + 1).toInt = dd.toInt + 1 := by rw [Int32.toInt_add, e1]; exact Jvm.Kit.bmod32 (by omega) (by omega)
                exact ih (dd + 1) (u * 10) ls (by omega) (by omega) hl kk
          have h44 := Int32.le_iff_toInt_le.mp h4
          have h43 : -9 ≤ d2.toInt := by have h45 := Int32.le_iff_toInt_le.mp (Int32.not_lt.mp h3); omega
          refine key (4 - d2.toInt).toNat d2 1 ls (by omega) (by omega) hl (fun ls dd hl => ?_)
          have hu := j_up0 (4 - d2.toInt).toNat (by omega)
          generalize j_up (4 - d2.toInt).toNat 1 = u at hl hu ⊢
          refine lv_aload_n hx hb d_Mo_round_65 rfl (lv_at hl 2 rfl) ?_
          refine va_get (D := D) (ci := 1) (v := .ref r) (C := R_Mo) (T := F_Mo) (N := 3) hx hb ht uw_Mo hown hK hP 0 rfl rfl 1 (by decide) (ht _ t_257) (fun _ h9 => h9) rfl d_Mo_round_66 ?_
          refine lv_iload_n hx hb d_Mo_round_69 rfl (lv_at hl 4 rfl) ?_
          refine va_lald hx hb hK hP 1 0 rfl rfl (out_in h2) d_Mo_round_70 ?_
          generalize f (Int32.toNatClampNeg a2) = x
          refine lv_lstore (lv' := [(6, .long x), (4, .long u), (0, .ref h), (1, .int i), (2, .int a2), (3, .int d2)]) hx hb d_Mo_round_71 hl (by decide) rfl (fun ls hl => ?_)
          refine lv_lload hx hb d_Mo_round_73 (lv_at hl 0 rfl) ?_
          refine tx_callO (tx_runS (n := 1) (As := [.long x]) (rest := []) hx hb hml hown ht (c_Mo_size l x) t_295 t_294 t_2 t_293 (by decide +kernel) rfl rfl (rm0R ⟨by decide, by decide⟩ (by decide)) ⟨fun _ _ _ _ h => h, fun _ _ _ => rfl⟩ rfl rfl hl.1 rfl (lv_room (Nat.le_of_ble_eq_true rfl)) d_Mo_round_75 ⟨by decide, by decide⟩) ?_
          refine W.eq (g2 := F0 m 78 ls [.long (j_ab x)]) rfl ?_
          refine lv_lload hx hb d_Mo_round_78 (lv_at hl 1 rfl) ?_
          refine lv_ldiv hx hb d_Mo_round_80 hu ?_
          refine lv_lload hx hb d_Mo_round_81 (lv_at hl 1 rfl) ?_
          refine lv_lmul hx hb d_Mo_round_83 ?_
          refine lv_lstore (lv' := [(8, .long (((j_ab x) / u) * u)), (6, .long x), (4, .long u), (0, .ref h), (1, .int i), (2, .int a2), (3, .int d2)]) hx hb d_Mo_round_84 hl (by decide) rfl (fun ls hl => ?_)
          refine lv_lload hx hb d_Mo_round_86 (lv_at hl 1 rfl) ?_
          refine tx_callO (tx_runS (n := 1) (As := [.long x]) (rest := []) hx hb hml hown ht (c_Mo_size l x) t_295 t_294 t_2 t_293 (by decide +kernel) rfl rfl (rm0R ⟨by decide, by decide⟩ (by decide)) ⟨fun _ _ _ _ h => h, fun _ _ _ => rfl⟩ rfl rfl hl.1 rfl (lv_room (Nat.le_of_ble_eq_true rfl)) d_Mo_round_88 ⟨by decide, by decide⟩) ?_
          refine W.eq (g2 := F0 m 91 ls [.long (j_ab x)]) rfl ?_
          refine lv_lload hx hb d_Mo_round_91 (lv_at hl 0 rfl) ?_
          refine lv_lsub hx hb d_Mo_round_93 ?_
          refine lv_lstore (lv' := [(10, .long ((j_ab x) - (((j_ab x) / u) * u))), (8, .long (((j_ab x) / u) * u)), (6, .long x), (4, .long u), (0, .ref h), (1, .int i), (2, .int a2), (3, .int d2)]) hx hb d_Mo_round_94 hl (by decide) rfl (fun ls hl => ?_)
          have k114 : ∀ (ls : Array Slot) (z : Int64), lv_has ls 12 [(8, .long z), (10, .long ((j_ab x) - (((j_ab x) / u) * u))), (6, .long x), (4, .long u), (0, .ref h), (1, .int i), (2, .int a2), (3, .int d2)] → z = m_ro x u → W p l e rmQ s m ([.ref h, .int i, .int a2, .int d2] : List Value).toArray below meth c H locs 0 0 (tx_MQ below (m_Q D h r q cL cI g (wM h r q cL cI k f g) (m_put 0 f i (j_ng x) (m_ro x u) 2)) ([.ref h, .int i, .int a2, .int d2] : List Value).toArray s 0 0 (inW (wM h r q cL cI k f g))) (F0 m 114 ls []) := by
            intro ls z hl hz
            refine lv_aload_n hx hb d_Mo_round_114 rfl (lv_at hl 4 rfl) ?_
            refine lv_iload_n hx hb d_Mo_round_115 rfl (lv_at hl 5 rfl) ?_
            refine lv_lload hx hb d_Mo_round_116 (lv_at hl 2 rfl) ?_
            refine lv_lconst (v := 0) hx hb d_Mo_round_118 (by decide) ?_
            refine lc_ge (tgt := 127) hx hb d_Mo_round_119 d_Mo_round_120 (by decide) (fun h9 => ?_) (fun h9 => ?_)
            · refine lv_iconst (v := 0) hx hb d_Mo_round_127 (by decide) ?_
              refine lv_lload hx hb d_Mo_round_128 (lv_at hl 0 rfl) ?_
              refine lv_iconst (v := 2) hx hb d_Mo_round_130 (by decide) ?_
              rw [← hz, ← j_ng_ge h9]
              exact tk_put hx hb hr hlk hml hown ht hP hK hD hS (out_in h1) ⟨by decide, by decide⟩ hl.1 d_Mo_round_131 d_Mo_round_134
            · refine lv_iconst (v := 1) hx hb d_Mo_round_123 (by decide) ?_
              refine lv_goto (tgt := 128) hx hb d_Mo_round_124 (by decide) ?_
              refine lv_lload hx hb d_Mo_round_128 (lv_at hl 0 rfl) ?_
              refine lv_iconst (v := 2) hx hb d_Mo_round_130 (by decide) ?_
              rw [← hz, ← j_ng_lt h9]
              exact tk_put hx hb hr hlk hml hown ht hP hK hD hS (out_in h1) ⟨by decide, by decide⟩ hl.1 d_Mo_round_131 d_Mo_round_134
          refine lv_lload hx hb d_Mo_round_96 (lv_at hl 0 rfl) ?_
          refine lv_lload hx hb d_Mo_round_98 (lv_at hl 3 rfl) ?_
          refine lv_lload hx hb d_Mo_round_100 (lv_at hl 0 rfl) ?_
          refine lv_lsub hx hb d_Mo_round_102 ?_
          refine lc_lt (tgt := 114) hx hb d_Mo_round_103 d_Mo_round_104 (by decide) (fun h8 => ?_) (fun h8 => ?_)
          · exact k114 ls _ (lv_sub hl [1, 0, 2, 3, 4, 5, 6, 7] rfl) (by rw [m_ro, if_pos h8])
          · refine lv_lload hx hb d_Mo_round_107 (lv_at hl 1 rfl) ?_
            refine lv_lload hx hb d_Mo_round_109 (lv_at hl 3 rfl) ?_
            refine lv_ladd hx hb d_Mo_round_111 ?_
            refine lv_lstore (lv' := [(8, .long ((((j_ab x) / u) * u) + u)), (10, .long ((j_ab x) - (((j_ab x) / u) * u))), (6, .long x), (4, .long u), (0, .ref h), (1, .int i), (2, .int a2), (3, .int d2)]) hx hb d_Mo_round_112 hl (by decide) rfl (fun ls hl => ?_)
            exact k114 ls _ (lv_sub hl [0, 1, 2, 3, 4, 5, 6, 7] rfl) (by rw [m_ro, if_neg (Int64.not_lt.mpr h8)])
        · exact k32 ls hl (fun h9 => h4 h9.2.2.2)
theorem c_Mo_average (l : Launch) (D : va_G) (h r q : Nat) (cL cI : ClassId) (k : Int32) (f : Nat → Int64) (g : Nat → Int32) (n : Int32) : tx_Met l y_Mo_average (Cond.code y_Mo_average b_Mo_average 6 (some .long) :: tt) rmQ (pW D (wM h r q cL cI k f g) (tyM cL cI) [.ref h, .int n]) (m_Q D h r q cL cI g (wM h r q cL cI k f g) (m_avg f n)) 0 0 (inW (wM h r q cL cI k f g)) := by
  refine tx_start (by decide +kernel) [.ref h, .int n] (Nat.le_of_ble_eq_true rfl) (fun _ _ h => h.1) ?_
  intro p e s m below meth c ls hx hb hr hlk hml hne hown ht hnm hP hl
  obtain ⟨-, hP, hK, hD0⟩ := hP
  have hD : va_D (inW (wM h r q cL cI k f g)) (wM h r q cL cI k f g) := inW_self hD0
  have hS : va_S (inW (wM h r q cL cI k f g)) s.heap s.heap [] := va_S.rf
  have hl : lv_has ls 6 [(0, .ref h), (1, .int n)] := hl
  refine lv_aload_n hx hb d_Mo_average_0 rfl (lv_at hl 0 rfl) ?_
  refine lv_iconst (v := 0) hx hb d_Mo_average_1 (by decide) ?_
  refine va_put (D := D) (ci := 1) (v := .int 0) (ty := .int) (C := R_Mo) (T := F_Mo) (N := 3) hx hb ht uw_Mo t_Mo t_Mo_ok n_Mo hown hK hP hD hS 0 rfl rfl 0 (by decide) (ht _ t_256) (fun _ h9 => h9) rfl (by decide +kernel) rfl rfl (Nat.le_of_ble_eq_true rfl) d_Mo_average_2 (fun H locs hP hD hS => ?_)
  have hP : va_P D cl2 (wM h r q cL cI 0 f g) H := hP
  have hD : va_D (inW (wM h r q cL cI k f g)) (wM h r q cL cI 0 f g) := hD
  have k16 : ∀ (ls : Array Slot) , lv_has ls 6 [(0, .ref h), (1, .int n)] → ¬ (¬ n < 1 ∧ n ≤ 8) → W p l e rmQ s m ([.ref h, .int n] : List Value).toArray below meth c H locs 0 0 (tx_MQ below (m_Q D h r q cL cI g (wM h r q cL cI k f g) (m_avg f n)) ([.ref h, .int n] : List Value).toArray s 0 0 (inW (wM h r q cL cI k f g))) (F0 m 16 ls []) := by
    intro ls  hl hg
    refine lv_aload_n hx hb d_Mo_average_16 rfl (lv_at hl 0 rfl) ?_
    refine lv_iconst (v := 1) hx hb d_Mo_average_17 (by decide) ?_
    rw [show m_avg f n = (1, f, 0) from by rw [m_avg, if_neg hg]]
    exact tk_fail hx hb hr hlk hml hown ht hP hK hD hS ⟨by decide, by decide⟩ hl.1 d_Mo_average_18 d_Mo_average_21 d_Mo_average_22
  refine lv_iload_n hx hb d_Mo_average_5 rfl (lv_at hl 1 rfl) ?_
  refine lv_iconst (v := 1) hx hb d_Mo_average_6 (by decide) ?_
  refine lv_icmp_lt (tgt := 16) hx hb d_Mo_average_7 (by decide) (fun h1 => ?_) (fun h1 => ?_)
  · exact k16 ls hl (fun h9 => h9.1 h1)
  · refine lv_iload_n hx hb d_Mo_average_10 rfl (lv_at hl 1 rfl) ?_
    refine lv_bipush (v := 8) hx hb d_Mo_average_11 (by decide) ?_
    refine lv_icmp_le (tgt := 23) hx hb d_Mo_average_13 (by decide) (fun h2 => ?_) (fun h2 => ?_)
    · have h30 : (1 : Int32).toInt = 1 := by decide
      have h31 : (8 : Int32).toInt = 8 := by decide
      have h32 := Int32.le_iff_toInt_le.mp (Int32.not_lt.mp h1)
      have h33 := Int32.le_iff_toInt_le.mp h2
      obtain ⟨N, hN1, hN8, rfl⟩ : ∃ N : Nat, 1 ≤ N ∧ N ≤ 8 ∧ n = nI N := ⟨n.toInt.toNat, by omega, by omega, Int32.toInt_inj.mp (by rw [nI_toInt (by omega)]; omega)⟩
      have hcl : (nI N).toNatClampNeg = N := nI_clamp (by omega)
      rw [show m_avg f (nI N) = m_av f (nI N) (m_sum f N 0 0) from by rw [m_avg, if_pos ⟨h1, h2⟩, hcl]]
      refine lv_lconst (v := 0) hx hb d_Mo_average_23 (by decide) ?_
      refine lv_lstore_n (lv' := [(2, .long 0), (0, .ref h), (1, .int (nI N))]) hx hb d_Mo_average_24 rfl hl (by decide) rfl (fun ls hl => ?_)
      refine lv_iconst (v := 0) hx hb d_Mo_average_25 (by decide) ?_
      refine lv_istore (lv' := [(4, .int 0), (2, .long 0), (0, .ref h), (1, .int (nI N))]) hx hb d_Mo_average_26 hl (by decide) rfl (fun ls hl => ?_)
      have key : ∀ (k2 j : Nat) (z : Int64) (ls : Array Slot), j + k2 = N → m_sum f N 0 0 = m_sum f k2 j z → lv_has ls 6 [(4, .int (nI j)), (2, .long z), (0, .ref h), (1, .int (nI N))] → W p l e rmQ s m ([.ref h, .int (nI N)] : List Value).toArray below meth c H locs 0 0 (tx_MQ below (m_Q D h r q cL cI g (wM h r q cL cI k f g) (m_av f (nI N) (m_sum f N 0 0))) ([.ref h, .int (nI N)] : List Value).toArray s 0 0 (inW (wM h r q cL cI k f g))) (F0 m 28 ls []) := by
        intro k2
        induction k2 with
        | zero =>
          intro j z ls hj hz hl
          obtain rfl : j = N := by omega
          refine lv_iload hx hb d_Mo_average_28 (lv_at hl 0 rfl) ?_
          refine lv_iload_n hx hb d_Mo_average_30 rfl (lv_at hl 3 rfl) ?_
          refine lv_icmp_ge (tgt := 68) hx hb d_Mo_average_31 (by decide) (fun h5 => ?_) (fun h5 => ?_)
          · rw [show m_av f (nI j) (m_sum f j 0 0) = (0, f, m_sg z (m_quot (j_ab z) (10000 * Int32.toInt64 (nI j)))) from by rw [hz]; rfl]
            have hq0 : ¬ (10000 : Int64) * Int32.toInt64 (nI j) = 0 := by rw [nI_l (by omega), show (10000 : Int64) * lN j = lN (10000 * j) from lN_mul 10000 j]; intro h9; have h10 := (pk_lEQ (a := 10000 * j) (b := 0) (by omega) (by decide)).mp h9; omega
            refine lv_aload_n hx hb d_Mo_average_68 rfl (lv_at hl 2 rfl) ?_
            refine lv_lload_n hx hb d_Mo_average_69 rfl (lv_at hl 1 rfl) ?_
            refine tx_callO (tx_runS (n := 1) (As := [.long z]) (rest := [.ref h]) hx hb hml hown ht (c_Mo_size l z) t_295 t_294 t_2 t_293 (by decide +kernel) rfl rfl (rm0R ⟨by decide, by decide⟩ (by decide)) ⟨fun _ _ _ _ h => h, fun _ _ _ => rfl⟩ rfl rfl hl.1 rfl (lv_room (Nat.le_of_ble_eq_true rfl)) d_Mo_average_70 ⟨by decide, by decide⟩) ?_
            refine W.eq (g2 := F0 m 73 ls [.long (j_ab z), .ref h]) rfl ?_
            refine lv_ldc2 hx hb hown (ht _ t_304) d_Mo_average_73 ?_
            refine lv_iload_n hx hb d_Mo_average_76 rfl (lv_at hl 3 rfl) ?_
            refine lv_i2l (v := Int32.toInt64 (nI j)) hx hb d_Mo_average_77 rfl ?_
            refine lv_lmul hx hb d_Mo_average_78 ?_
            refine tx_callO (tx_runV (n := 2) (b := h) (As := [.long (j_ab z), .long (10000 * (Int32.toInt64 (nI j)))]) (rest := []) hx hb hml hown ht (c_Mo_quotient l h (j_ab z) (10000 * Int32.toInt64 (nI j)) hq0) t_310 t_309 t_s6 t_2 t_307 (by decide +kernel) rfl rfl (rm0R ⟨by decide, by decide⟩ (by decide)) ⟨fun _ _ _ _ h9 => h9, va_recv (q0 := 0) (ci := 1) (q := (R_Mo, F_Mo, 3)) hK hP rfl rfl, fun _ _ _ => rfl⟩ rfl rfl hl.1 rfl (lv_room (Nat.le_of_ble_eq_true rfl)) d_Mo_average_79 ⟨by decide, by decide⟩) ?_
            refine W.eq (g2 := F0 m 82 ls [.long (m_quot (j_ab z) (10000 * Int32.toInt64 (nI j)))]) rfl ?_
            refine lv_topl (fun v hv => ?_)
            refine lv_lstore (lv' := [(4, .long v), (2, .long z), (0, .ref h), (1, .int (nI j))]) hx hb d_Mo_average_82 hl (by decide) rfl (fun ls hl => ?_)
            refine lv_lload_n hx hb d_Mo_average_84 rfl (lv_at hl 1 rfl) ?_
            refine lv_lconst (v := 0) hx hb d_Mo_average_85 (by decide) ?_
            refine lc_ge (tgt := 96) hx hb d_Mo_average_86 d_Mo_average_87 (by decide) (fun h6 => ?_) (fun h6 => ?_)
            · refine lv_lload hx hb d_Mo_average_96 (lv_at hl 0 rfl) ?_
              rw [← hv, show m_sg z v = v from by rw [m_sg, if_neg (Int64.not_lt.mpr h6)]]
              exact tx_ret (W.lret (v := v) hx hb hr (fun t hth _ => ⟨rfl, by rw [hth]; exact hP, hD, hS.F hth⟩) hS.2.2 d_Mo_average_98)
            · refine lv_lload hx hb d_Mo_average_90 (lv_at hl 0 rfl) ?_
              refine lv_lneg hx hb d_Mo_average_92 ?_
              refine lv_goto (tgt := 98) hx hb d_Mo_average_93 (by decide) ?_
              rw [← hv, show m_sg z v = -v from by rw [m_sg, if_pos h6]]
              exact tx_ret (W.lret (v := -v) hx hb hr (fun t hth _ => ⟨rfl, by rw [hth]; exact hP, hD, hS.F hth⟩) hS.2.2 d_Mo_average_98)
          · exact absurd (nI_le (Nat.le_refl _) (by omega)) h5
        | succ k2 ih =>
          intro j z ls hj hz hl
          refine lv_iload hx hb d_Mo_average_28 (lv_at hl 0 rfl) ?_
          refine lv_iload_n hx hb d_Mo_average_30 rfl (lv_at hl 3 rfl) ?_
          refine lv_icmp_ge (tgt := 68) hx hb d_Mo_average_31 (by decide) (fun h5 => ?_) (fun h5 => ?_)
          · exact absurd h5 (nI_ge (by omega) (by omega))
          · refine lv_lload_n hx hb d_Mo_average_34 rfl (lv_at hl 1 rfl) ?_
            refine lv_aload_n hx hb d_Mo_average_35 rfl (lv_at hl 2 rfl) ?_
            refine va_get (D := D) (ci := 1) (v := .ref r) (C := R_Mo) (T := F_Mo) (N := 3) hx hb ht uw_Mo hown hK hP 0 rfl rfl 1 (by decide) (ht _ t_257) (fun _ h9 => h9) rfl d_Mo_average_36 ?_
            refine lv_iload hx hb d_Mo_average_39 (lv_at hl 0 rfl) ?_
            refine va_lald hx hb hK hP 1 0 rfl rfl (vp_in_nI (by omega) (by decide)) d_Mo_average_41 ?_
            rw [show (f (Int32.toNatClampNeg (nI j))) = f j from (by rw [nI_clamp (by omega)])]
            refine lv_ladd hx hb d_Mo_average_42 ?_
            refine lv_lstore_n (lv' := [(2, .long (z + (f j))), (4, .int (nI j)), (0, .ref h), (1, .int (nI N))]) hx hb d_Mo_average_43 rfl hl (by decide) rfl (fun ls hl => ?_)
            refine lv_lload_n hx hb d_Mo_average_44 rfl (lv_at hl 0 rfl) ?_
            refine tx_callO (tx_runS (n := 1) (As := [.long (z + (f j))]) (rest := []) hx hb hml hown ht (c_Mo_size l (z + f j)) t_295 t_294 t_2 t_293 (by decide +kernel) rfl rfl (rm0R ⟨by decide, by decide⟩ (by decide)) ⟨fun _ _ _ _ h => h, fun _ _ _ => rfl⟩ rfl rfl hl.1 rfl (lv_room (Nat.le_of_ble_eq_true rfl)) d_Mo_average_45 ⟨by decide, by decide⟩) ?_
            refine W.eq (g2 := F0 m 48 ls [.long (j_ab (z + f j))]) rfl ?_
            refine lv_ldc2 hx hb hown (ht _ t_280) d_Mo_average_48 ?_
            refine lc_le (tgt := 62) hx hb d_Mo_average_51 d_Mo_average_52 (by decide) (fun h6 => ?_) (fun h6 => ?_)
            · refine lv_iinc (k := 1) (v := ((nI j) + 1)) (lv' := [(4, .int ((nI j) + 1)), (2, .long (z + (f j))), (0, .ref h), (1, .int (nI N))]) hx hb d_Mo_average_62 hl rfl (by rw [show Int32.ofInt 1 = (1 : Int32) from by decide]) (by decide) rfl (fun ls hl => ?_)
              refine lv_goto (tgt := 28) hx hb d_Mo_average_65 (by decide) ?_
              exact ih (j + 1) (z + f j) ls (by omega) (by rw [hz, m_sum, if_neg (Int64.not_lt.mpr h6)]) (by rw [nI_succ]; exact hl)
            · have hs : m_sum f N 0 0 = none := by rw [hz, m_sum, if_pos h6]
              refine lv_aload_n hx hb d_Mo_average_55 rfl (lv_at hl 2 rfl) ?_
              refine lv_iconst (v := 2) hx hb d_Mo_average_56 (by decide) ?_
              rw [show m_av f (nI N) (m_sum f N 0 0) = (2, f, 0) from by rw [hs, m_av]]
              exact tk_fail hx hb hr hlk hml hown ht hP hK hD hS ⟨by decide, by decide⟩ hl.1 d_Mo_average_57 d_Mo_average_60 d_Mo_average_61
      exact key N 0 0 ls (by omega) rfl hl
    · exact k16 ls hl (fun h9 => h2 h9.2)
end
section
-- the model's print; printed by gen/p17.py
def m_pr (f : Nat → Int64) (a i : Int32) : Int32 × Int32 × List Int32 := if j_out a = 0 ∧ ¬ i < 0 then (0, j_pv (j_chars (f a.toNatClampNeg)) i, j_chars (f a.toNatClampNeg)) else (1, 0, [])
def m_QP (D : va_G) (h r q : Nat) (cL cI : ClassId) (f : Nat → Int64) (g : Nat → Int32) (W0 : va_W) (res : Int32 × Int32 × List Int32) : Array Value → State → Outcome → State → Prop := tx_WQ D W0 (wM h r q cL cI res.1 f (wr g res.2.2)) (some (.int res.2.1))
section MPR
variable {p : Program} {l : Launch} {e : Env} {R : Room} {s : State} {m : MethodId} {args : Array Value} {below : List Frame} {meth : Method} {c : Code} {H : Heap} {locs : List Loc} {cells slots : Nat} {Q : State → Prop} {ls : Array Slot}
variable {D : va_G} {h r q : Nat} {cL cI : ClassId} {k : Int32} {f : Nat → Int64} {g : Nat → Int32} {A : Nat → Prop} {a2 i : Int32}
theorem wk_mpr1 {N : Nat} {a : Int32} (hN : N < 10 ^ 15) (hx : p.tables.exec = Jvm.exec) (hb : c.code = b_Mo_print) (hown : s.vm.findClass "TenThousandthDeskModel" = some m.cls) (ht : ∀ w ∈ tt, w.before args s = true) :
    ∀ (k2 j : Nat) (ls : Array Slot), j + k2 = 10 → lv_has ls 12 [(6, .long (lN (10 ^ j))), (3, .int a), (4, .long (lN N)), (0, .ref h), (1, .int a2), (2, .int i)] → (∀ ls : Array Slot, lv_has ls 12 [(6, .long (lN (10 ^ tj (N / 10000) k2 j))), (3, .int a), (4, .long (lN N)), (0, .ref h), (1, .int a2), (2, .int i)] → W p l e R s m args below meth c H locs cells slots Q (F0 m 88 ls [])) → W p l e R s m args below meth c H locs cells slots Q (F0 m 61 ls []) := by
  intro k2
  induction k2 with
  | zero =>
    intro j ls hj hl kk
    obtain rfl : j = 10 := by omega
    refine lv_lload hx hb d_Mo_print_61 (lv_at hl 2 rfl) ?_
    refine lv_ldc2 hx hb hown (ht _ t_304) d_Mo_print_63 ?_
    refine lv_ldiv hx hb d_Mo_print_66 (by decide) ?_
    rw [show ((lN N) / 10000) = lN (N / 10000) from (pk_lDiv (b := 10000) (by omega) (by decide) (by decide))]
    refine lv_lload hx hb d_Mo_print_67 (lv_at hl 0 rfl) ?_
    refine lv_ldiv hx hb d_Mo_print_69 (fun h5 => absurd ((pk_lEQ (p10_lt (by omega)) (by decide : 0 < 2 ^ 63)).mp h5) (Nat.ne_of_gt (p10_pos (10)))) ?_
    rw [show ((lN (N / 10000)) / (lN (10 ^ 10))) = lN (N / 10000 / 10 ^ 10) from (pk_lDiv (by omega) (p10_pos 10) (p10_lt (by omega)))]
    refine lv_ldc2 hx hb hown (ht _ t_326) d_Mo_print_70 ?_
    refine lc_le (tgt := 88) hx hb d_Mo_print_73 d_Mo_print_74 (by decide) (fun h1 => ?_) (fun h1 => ?_)
    · exact kk ls hl
    · exact absurd ((pk_lLT (a := 9) (by decide) (by omega)).mp h1) (by omega)
  | succ k2 ih =>
    intro j ls hj hl kk
    refine lv_lload hx hb d_Mo_print_61 (lv_at hl 2 rfl) ?_
    refine lv_ldc2 hx hb hown (ht _ t_304) d_Mo_print_63 ?_
    refine lv_ldiv hx hb d_Mo_print_66 (by decide) ?_
    rw [show ((lN N) / 10000) = lN (N / 10000) from (pk_lDiv (b := 10000) (by omega) (by decide) (by decide))]
    refine lv_lload hx hb d_Mo_print_67 (lv_at hl 0 rfl) ?_
    refine lv_ldiv hx hb d_Mo_print_69 (fun h5 => absurd ((pk_lEQ (p10_lt (by omega)) (by decide : 0 < 2 ^ 63)).mp h5) (Nat.ne_of_gt (p10_pos (j)))) ?_
    rw [show ((lN (N / 10000)) / (lN (10 ^ j))) = lN (N / 10000 / 10 ^ j) from (pk_lDiv (by omega) (p10_pos j) (p10_lt (by omega)))]
    refine lv_ldc2 hx hb hown (ht _ t_326) d_Mo_print_70 ?_
    refine lc_le (tgt := 88) hx hb d_Mo_print_73 d_Mo_print_74 (by decide) (fun h1 => ?_) (fun h1 => ?_)
    · have h2 := (pk_lLE (b := 9) (Nat.lt_of_le_of_lt (Nat.div_le_self _ _) (by omega)) (by decide)).mp h1
      rw [show tj (N / 10000) (k2 + 1) j = j from by rw [tj, if_pos (by omega)]] at kk
      exact kk ls hl
    · have h2 := (pk_lLT (a := 9) (by decide) (Nat.lt_of_le_of_lt (Nat.div_le_self _ _) (by omega))).mp h1
      rw [show tj (N / 10000) (k2 + 1) j = tj (N / 10000) k2 (j + 1) from by rw [tj, if_neg (by omega)]] at kk
      refine lv_lload hx hb d_Mo_print_77 (lv_at hl 0 rfl) ?_
      refine lv_ldc2 hx hb hown (ht _ t_321) d_Mo_print_79 ?_
      refine lv_lmul hx hb d_Mo_print_82 ?_
      rw [show ((lN (10 ^ j)) * 10) = lN (10 ^ (j + 1)) from (lN_mul (10 ^ j) 10)]
      refine lv_lstore (lv' := [(6, .long (lN (10 ^ (j + 1)))), (3, .int a), (4, .long (lN N)), (0, .ref h), (1, .int a2), (2, .int i)]) hx hb d_Mo_print_83 hl (by decide) rfl (fun ls hl => ?_)
      refine lv_goto (tgt := 61) hx hb d_Mo_print_85 (by decide) ?_
      exact ih (j + 1) ls (by omega) hl kk
theorem wk_mpr2 {N : Nat} (hN : N < 10 ^ 15) (hx : p.tables.exec = Jvm.exec) (hb : c.code = b_Mo_print) (hown : s.vm.findClass "TenThousandthDeskModel" = some m.cls) (ht : ∀ w ∈ tt, w.before args s = true) (hK : va_K D cl2 (tyM cL cI) s) :
    ∀ (j : Nat) (cs : List Int32) (ls : Array Slot) (H : Heap) (locs : List Loc), j ≤ 10 → cs.length + j < 24 → va_P D cl2 (wM h r q cL cI k f (wr g cs)) H → va_D A (wM h r q cL cI k f (wr g cs)) → va_S A s.heap H locs → lv_has ls 12 [(6, .long (lN (10 ^ j))), (3, .int (nI cs.length)), (4, .long (lN N)), (0, .ref h), (1, .int a2), (2, .int i)] → (∀ (ls : Array Slot) (H : Heap) (locs : List Loc), va_P D cl2 (wM h r q cL cI k f (wr g (cs ++ dl (N / 10000) j))) H → va_D A (wM h r q cL cI k f (wr g (cs ++ dl (N / 10000) j))) → va_S A s.heap H locs → lv_has ls 12 [(3, .int (nI (cs ++ dl (N / 10000) j).length)), (4, .long (lN N)), (0, .ref h), (1, .int a2), (2, .int i)] → W p l e R s m args below meth c H locs cells slots Q (F0 m 133 ls [])) → W p l e R s m args below meth c H locs cells slots Q (F0 m 88 ls []) := by
  intro j
  induction j with
  | zero =>
    intro cs ls H locs hj hcs hP hD hS hl kk
    refine lv_lload hx hb d_Mo_print_88 (lv_at hl 0 rfl) ?_
    refine lv_lconst (v := 0) hx hb d_Mo_print_90 (by decide) ?_
    refine lc_le (tgt := 133) hx hb d_Mo_print_91 d_Mo_print_92 (by decide) (fun h1 => ?_) (fun h1 => ?_)
    · exact absurd h1 (by decide)
    · refine lv_aload_n hx hb d_Mo_print_95 rfl (lv_at hl 3 rfl) ?_
      refine va_get (D := D) (ci := 1) (v := .ref q) (C := R_Mo) (T := F_Mo) (N := 3) hx hb ht uw_Mo hown hK hP 0 rfl rfl 2 (by decide) (ht _ t_258) (fun _ h9 => h9) rfl d_Mo_print_96 ?_
      refine lv_iload_n hx hb d_Mo_print_99 rfl (lv_at hl 1 rfl) ?_
      refine lv_iinc (k := 1) (v := ((nI cs.length) + 1)) (lv' := [(3, .int ((nI cs.length) + 1)), (6, .long (lN (10 ^ 0))), (4, .long (lN N)), (0, .ref h), (1, .int a2), (2, .int i)]) hx hb d_Mo_print_100 hl rfl (by rw [show Int32.ofInt 1 = (1 : Int32) from by decide]) (by decide) rfl (fun ls hl => ?_)
      refine lv_ldc2 hx hb hown (ht _ t_327) d_Mo_print_103 ?_
      refine lv_lload hx hb d_Mo_print_106 (lv_at hl 2 rfl) ?_
      refine lv_ldc2 hx hb hown (ht _ t_304) d_Mo_print_108 ?_
      refine lv_ldiv hx hb d_Mo_print_111 (by decide) ?_
      rw [show ((lN N) / 10000) = lN (N / 10000) from (pk_lDiv (b := 10000) (by omega) (by decide) (by decide))]
      refine lv_lload hx hb d_Mo_print_112 (lv_at hl 1 rfl) ?_
      refine lv_ldiv hx hb d_Mo_print_114 (fun h5 => absurd ((pk_lEQ (p10_lt (by omega)) (by decide : 0 < 2 ^ 63)).mp h5) (Nat.ne_of_gt (p10_pos (0)))) ?_
      rw [show ((lN (N / 10000)) / (lN (10 ^ 0))) = lN (N / 10000 / 10 ^ 0) from (pk_lDiv (by omega) (p10_pos _) (p10_lt (by omega)))]
      refine lv_ldc2 hx hb hown (ht _ t_321) d_Mo_print_115 ?_
      refine lv_lrem hx hb d_Mo_print_118 (by decide) ?_
      rw [show ((lN (N / 10000 / 10 ^ 0)) - (lN (N / 10000 / 10 ^ 0)) / 10 * 10) = lN (N / 10000 / 10 ^ 0 % 10) from (pk_lRem (b := 10) (Nat.lt_of_le_of_lt (Nat.div_le_self _ _) (by omega)) (by decide) (by decide))]
      refine lv_ladd hx hb d_Mo_print_119 ?_
      refine lv_l2i (v := Int64.toInt32 (48 + (lN (N / 10000 / 10 ^ 0 % 10)))) hx hb d_Mo_print_120 rfl ?_
      rw [show (Int64.toInt32 (48 + (lN (N / 10000 / 10 ^ 0 % 10)))) = nI (48 + N / 10000 / 10 ^ 0 % 10) from ch_i]
      refine va_iast hx hb hK hP hD hS 2 1 rfl rfl (vp_in_nI (by omega) (by decide)) d_Mo_print_121 (fun H locs hP hD hS => ?_)
      have ew : upd (wr g cs) (nI cs.length).toNatClampNeg (nI (48 + N / 10000 / 10 ^ 0 % 10)) = wr g (cs ++ [(nI (48 + N / 10000 / 10 ^ 0 % 10))]) := by rw [nI_clamp (by omega), wr_snoc]
      have hP : va_P D cl2 (wM h r q cL cI k f (upd (wr g cs) (nI cs.length).toNatClampNeg (nI (48 + N / 10000 / 10 ^ 0 % 10)))) H := hP
      have hD : va_D A (wM h r q cL cI k f (upd (wr g cs) (nI cs.length).toNatClampNeg (nI (48 + N / 10000 / 10 ^ 0 % 10)))) := hD
      rw [ew] at hP hD
      refine lv_lload hx hb d_Mo_print_122 (lv_at hl 1 rfl) ?_
      refine lv_ldc2 hx hb hown (ht _ t_321) d_Mo_print_124 ?_
      refine lv_ldiv hx hb d_Mo_print_127 (by decide) ?_
      rw [show ((lN (10 ^ 0)) / 10) = lN 0 from (pk_lDiv (a := 10 ^ 0) (b := 10) (by decide) (by decide) (by decide))]
      refine lv_lstore (lv' := [(6, .long (lN 0)), (3, .int ((nI cs.length) + 1)), (4, .long (lN N)), (0, .ref h), (1, .int a2), (2, .int i)]) hx hb d_Mo_print_128 hl (by decide) rfl (fun ls hl => ?_)
      refine lv_goto (tgt := 88) hx hb d_Mo_print_130 (by decide) ?_
      refine lv_lload hx hb d_Mo_print_88 (lv_at hl 0 rfl) ?_
      refine lv_lconst (v := 0) hx hb d_Mo_print_90 (by decide) ?_
      refine lc_le (tgt := 133) hx hb d_Mo_print_91 d_Mo_print_92 (by decide) (fun h2 => ?_) (fun h2 => ?_)
      · exact kk ls H locs hP hD hS (by rw [show nI (cs ++ dl (N / 10000) 0).length = nI cs.length + 1 from len_1 cs _]; exact (lv_sub hl [1, 2, 3, 4, 5] rfl))
      · exact absurd h2 (by decide)
  | succ j ih =>
    intro cs ls H locs hj hcs hP hD hS hl kk
    refine lv_lload hx hb d_Mo_print_88 (lv_at hl 0 rfl) ?_
    refine lv_lconst (v := 0) hx hb d_Mo_print_90 (by decide) ?_
    refine lc_le (tgt := 133) hx hb d_Mo_print_91 d_Mo_print_92 (by decide) (fun h1 => ?_) (fun h1 => ?_)
    · exact absurd ((pk_lLE (b := 0) (p10_lt (by omega)) (by decide)).mp h1) (Nat.not_le.mpr (p10_pos _))
    · refine lv_aload_n hx hb d_Mo_print_95 rfl (lv_at hl 3 rfl) ?_
      refine va_get (D := D) (ci := 1) (v := .ref q) (C := R_Mo) (T := F_Mo) (N := 3) hx hb ht uw_Mo hown hK hP 0 rfl rfl 2 (by decide) (ht _ t_258) (fun _ h9 => h9) rfl d_Mo_print_96 ?_
      refine lv_iload_n hx hb d_Mo_print_99 rfl (lv_at hl 1 rfl) ?_
      refine lv_iinc (k := 1) (v := ((nI cs.length) + 1)) (lv' := [(3, .int ((nI cs.length) + 1)), (6, .long (lN (10 ^ (j + 1)))), (4, .long (lN N)), (0, .ref h), (1, .int a2), (2, .int i)]) hx hb d_Mo_print_100 hl rfl (by rw [show Int32.ofInt 1 = (1 : Int32) from by decide]) (by decide) rfl (fun ls hl => ?_)
      refine lv_ldc2 hx hb hown (ht _ t_327) d_Mo_print_103 ?_
      refine lv_lload hx hb d_Mo_print_106 (lv_at hl 2 rfl) ?_
      refine lv_ldc2 hx hb hown (ht _ t_304) d_Mo_print_108 ?_
      refine lv_ldiv hx hb d_Mo_print_111 (by decide) ?_
      rw [show ((lN N) / 10000) = lN (N / 10000) from (pk_lDiv (b := 10000) (by omega) (by decide) (by decide))]
      refine lv_lload hx hb d_Mo_print_112 (lv_at hl 1 rfl) ?_
      refine lv_ldiv hx hb d_Mo_print_114 (fun h5 => absurd ((pk_lEQ (p10_lt (by omega)) (by decide : 0 < 2 ^ 63)).mp h5) (Nat.ne_of_gt (p10_pos (j + 1)))) ?_
      rw [show ((lN (N / 10000)) / (lN (10 ^ (j + 1)))) = lN (N / 10000 / 10 ^ (j + 1)) from (pk_lDiv (by omega) (p10_pos _) (p10_lt (by omega)))]
      refine lv_ldc2 hx hb hown (ht _ t_321) d_Mo_print_115 ?_
      refine lv_lrem hx hb d_Mo_print_118 (by decide) ?_
      rw [show ((lN (N / 10000 / 10 ^ (j + 1))) - (lN (N / 10000 / 10 ^ (j + 1))) / 10 * 10) = lN (N / 10000 / 10 ^ (j + 1) % 10) from (pk_lRem (b := 10) (Nat.lt_of_le_of_lt (Nat.div_le_self _ _) (by omega)) (by decide) (by decide))]
      refine lv_ladd hx hb d_Mo_print_119 ?_
      refine lv_l2i (v := Int64.toInt32 (48 + (lN (N / 10000 / 10 ^ (j + 1) % 10)))) hx hb d_Mo_print_120 rfl ?_
      rw [show (Int64.toInt32 (48 + (lN (N / 10000 / 10 ^ (j + 1) % 10)))) = nI (48 + N / 10000 / 10 ^ (j + 1) % 10) from ch_i]
      refine va_iast hx hb hK hP hD hS 2 1 rfl rfl (vp_in_nI (by omega) (by decide)) d_Mo_print_121 (fun H locs hP hD hS => ?_)
      have ew : upd (wr g cs) (nI cs.length).toNatClampNeg (nI (48 + N / 10000 / 10 ^ (j + 1) % 10)) = wr g (cs ++ [(nI (48 + N / 10000 / 10 ^ (j + 1) % 10))]) := by rw [nI_clamp (by omega), wr_snoc]
      have hP : va_P D cl2 (wM h r q cL cI k f (upd (wr g cs) (nI cs.length).toNatClampNeg (nI (48 + N / 10000 / 10 ^ (j + 1) % 10)))) H := hP
      have hD : va_D A (wM h r q cL cI k f (upd (wr g cs) (nI cs.length).toNatClampNeg (nI (48 + N / 10000 / 10 ^ (j + 1) % 10)))) := hD
      rw [ew] at hP hD
      refine lv_lload hx hb d_Mo_print_122 (lv_at hl 1 rfl) ?_
      refine lv_ldc2 hx hb hown (ht _ t_321) d_Mo_print_124 ?_
      refine lv_ldiv hx hb d_Mo_print_127 (by decide) ?_
      rw [show ((lN (10 ^ (j + 1))) / 10) = lN (10 ^ j) from (by rw [show lN (10 ^ (j + 1)) / 10 = lN (10 ^ (j + 1) / 10) from pk_lDiv (b := 10) (p10_lt (by omega)) (by decide) (by decide), Nat.pow_succ, Nat.mul_div_cancel _ (by decide : 0 < 10)])]
      refine lv_lstore (lv' := [(6, .long (lN (10 ^ j))), (3, .int ((nI cs.length) + 1)), (4, .long (lN N)), (0, .ref h), (1, .int a2), (2, .int i)]) hx hb d_Mo_print_128 hl (by decide) rfl (fun ls hl => ?_)
      refine lv_goto (tgt := 88) hx hb d_Mo_print_130 (by decide) ?_
      have e3 : cs ++ dl (N / 10000) (j + 1) = (cs ++ [nI (48 + N / 10000 / 10 ^ (j + 1) % 10)]) ++ dl (N / 10000) j := by simp [dl]
      rw [e3] at kk
      exact ih (cs ++ [nI (48 + N / 10000 / 10 ^ (j + 1) % 10)]) ls H locs (by omega) (by rw [List.length_append]; show _ + 1 + _ < _; omega) hP hD hS (by rw [len_1]; exact (lv_sub hl [0, 1, 2, 3, 4, 5] rfl)) kk
theorem wk_mpr3 (hx : p.tables.exec = Jvm.exec) (hb : c.code = b_Mo_print) (hown : s.vm.findClass "TenThousandthDeskModel" = some m.cls) (ht : ∀ w ∈ tt, w.before args s = true) (hK : va_K D cl2 (tyM cL cI) s) :
    ∀ (i2 R2 : Nat) (cs : List Int32) (ls : Array Slot) (H : Heap) (locs : List Loc), i2 ≤ 4 → R2 < 10 ^ i2 → cs.length + i2 ≤ 24 → va_P D cl2 (wM h r q cL cI k f (wr g cs)) H → va_D A (wM h r q cL cI k f (wr g cs)) → va_S A s.heap H locs → lv_has ls 12 [(10, .long (lN (10 ^ i2 / 10))), (8, .long (lN R2)), (3, .int (nI cs.length)), (0, .ref h), (1, .int a2), (2, .int i)] → (∀ (ls : Array Slot) (H : Heap) (locs : List Loc), va_P D cl2 (wM h r q cL cI k f (wr g (cs ++ fl i2 R2))) H → va_D A (wM h r q cL cI k f (wr g (cs ++ fl i2 R2))) → va_S A s.heap H locs → lv_has ls 12 [(3, .int (nI (cs ++ fl i2 R2).length)), (0, .ref h), (1, .int a2), (2, .int i)] → W p l e R s m args below meth c H locs cells slots Q (F0 m 208 ls [])) → W p l e R s m args below meth c H locs cells slots Q (F0 m 164 ls []) := by
  intro i2
  induction i2 with
  | zero =>
    intro R2 cs ls H locs hi hR2 hcs hP hD hS hl kk
    refine lv_lload hx hb d_Mo_print_164 (lv_at hl 1 rfl) ?_
    refine lv_lconst (v := 0) hx hb d_Mo_print_166 (by decide) ?_
    refine lc_le (tgt := 208) hx hb d_Mo_print_167 d_Mo_print_168 (by decide) (fun h1 => ?_) (fun h1 => ?_)
    · rw [show cs ++ fl 0 R2 = cs from by simp [fl]] at kk
      exact kk ls H locs hP hD hS (lv_sub hl [2, 3, 4, 5] rfl)
    · exact absurd ((pk_lLT (a := 0) (by decide) (by omega)).mp h1) (by omega)
  | succ i2 ih =>
    intro R2 cs ls H locs hi hR2 hcs hP hD hS hl kk
    rw [show 10 ^ (i2 + 1) / 10 = 10 ^ i2 from by rw [Nat.pow_succ, Nat.mul_div_cancel _ (by decide : 0 < 10)]] at hl
    have hp : 10 ^ (i2 + 1) = 10 ^ i2 * 10 := Nat.pow_succ ..
    have hq : 10 ^ i2 ≤ 10 ^ 4 := Nat.pow_le_pow_right (by decide) (by omega)
    have hq4 : 10 ^ 4 = 10000 := rfl
    refine lv_lload hx hb d_Mo_print_164 (lv_at hl 1 rfl) ?_
    refine lv_lconst (v := 0) hx hb d_Mo_print_166 (by decide) ?_
    refine lc_le (tgt := 208) hx hb d_Mo_print_167 d_Mo_print_168 (by decide) (fun h1 => ?_) (fun h1 => ?_)
    · obtain rfl : R2 = 0 := Nat.le_zero.mp ((pk_lLE (b := 0) (by omega) (by decide)).mp h1)
      rw [show cs ++ fl (i2 + 1) 0 = cs from by simp [fl]] at kk
      exact kk ls H locs hP hD hS (lv_sub hl [2, 3, 4, 5] rfl)
    · have h2 := (pk_lLT (a := 0) (by decide) (by omega)).mp h1
      refine lv_aload_n hx hb d_Mo_print_171 rfl (lv_at hl 3 rfl) ?_
      refine va_get (D := D) (ci := 1) (v := .ref q) (C := R_Mo) (T := F_Mo) (N := 3) hx hb ht uw_Mo hown hK hP 0 rfl rfl 2 (by decide) (ht _ t_258) (fun _ h9 => h9) rfl d_Mo_print_172 ?_
      refine lv_iload_n hx hb d_Mo_print_175 rfl (lv_at hl 2 rfl) ?_
      refine lv_iinc (k := 2) (v := ((nI cs.length) + 1)) (lv' := [(3, .int ((nI cs.length) + 1)), (10, .long (lN (10 ^ i2))), (8, .long (lN R2)), (0, .ref h), (1, .int a2), (2, .int i)]) hx hb d_Mo_print_176 hl rfl (by rw [show Int32.ofInt 1 = (1 : Int32) from by decide]) (by decide) rfl (fun ls hl => ?_)
      refine lv_ldc2 hx hb hown (ht _ t_327) d_Mo_print_179 ?_
      refine lv_lload hx hb d_Mo_print_182 (lv_at hl 2 rfl) ?_
      refine lv_lload hx hb d_Mo_print_184 (lv_at hl 1 rfl) ?_
      refine lv_ldiv hx hb d_Mo_print_186 (fun h5 => absurd ((pk_lEQ (p10_lt (by omega)) (by decide : 0 < 2 ^ 63)).mp h5) (Nat.ne_of_gt (p10_pos (i2)))) ?_
      rw [show ((lN R2) / (lN (10 ^ i2))) = lN (R2 / 10 ^ i2) from (pk_lDiv (by omega) (p10_pos i2) (p10_lt (by omega)))]
      refine lv_ladd hx hb d_Mo_print_187 ?_
      refine lv_l2i (v := Int64.toInt32 (48 + (lN (R2 / 10 ^ i2)))) hx hb d_Mo_print_188 rfl ?_
      rw [show (Int64.toInt32 (48 + (lN (R2 / 10 ^ i2)))) = nI (48 + R2 / 10 ^ i2) from ch_i]
      refine va_iast hx hb hK hP hD hS 2 1 rfl rfl (vp_in_nI (by omega) (by decide)) d_Mo_print_189 (fun H locs hP hD hS => ?_)
      have ew : upd (wr g cs) (nI cs.length).toNatClampNeg (nI (48 + R2 / 10 ^ i2)) = wr g (cs ++ [(nI (48 + R2 / 10 ^ i2))]) := by rw [nI_clamp (by omega), wr_snoc]
      have hP : va_P D cl2 (wM h r q cL cI k f (upd (wr g cs) (nI cs.length).toNatClampNeg (nI (48 + R2 / 10 ^ i2)))) H := hP
      have hD : va_D A (wM h r q cL cI k f (upd (wr g cs) (nI cs.length).toNatClampNeg (nI (48 + R2 / 10 ^ i2)))) := hD
      rw [ew] at hP hD
      refine lv_lload hx hb d_Mo_print_190 (lv_at hl 2 rfl) ?_
      refine lv_lload hx hb d_Mo_print_192 (lv_at hl 1 rfl) ?_
      refine lv_lrem hx hb d_Mo_print_194 (fun h5 => absurd ((pk_lEQ (p10_lt (by omega)) (by decide : 0 < 2 ^ 63)).mp h5) (Nat.ne_of_gt (p10_pos (i2)))) ?_
      rw [show ((lN R2) - (lN R2) / (lN (10 ^ i2)) * (lN (10 ^ i2))) = lN (R2 % 10 ^ i2) from (pk_lRem (by omega) (p10_pos i2) (p10_lt (by omega)))]
      refine lv_lstore (lv' := [(8, .long (lN (R2 % 10 ^ i2))), (3, .int ((nI cs.length) + 1)), (10, .long (lN (10 ^ i2))), (0, .ref h), (1, .int a2), (2, .int i)]) hx hb d_Mo_print_195 hl (by decide) rfl (fun ls hl => ?_)
      refine lv_lload hx hb d_Mo_print_197 (lv_at hl 2 rfl) ?_
      refine lv_ldc2 hx hb hown (ht _ t_321) d_Mo_print_199 ?_
      refine lv_ldiv hx hb d_Mo_print_202 (by decide) ?_
      rw [show ((lN (10 ^ i2)) / 10) = lN (10 ^ i2 / 10) from (pk_lDiv (b := 10) (p10_lt (by omega)) (by decide) (by decide))]
      refine lv_lstore (lv' := [(10, .long (lN (10 ^ i2 / 10))), (8, .long (lN (R2 % 10 ^ i2))), (3, .int ((nI cs.length) + 1)), (0, .ref h), (1, .int a2), (2, .int i)]) hx hb d_Mo_print_203 hl (by decide) rfl (fun ls hl => ?_)
      refine lv_goto (tgt := 164) hx hb d_Mo_print_205 (by decide) ?_
      have e3 : cs ++ fl (i2 + 1) R2 = (cs ++ [nI (48 + R2 / 10 ^ i2)]) ++ fl i2 (R2 % 10 ^ i2) := by simp [fl, Nat.ne_of_gt h2]
      rw [e3] at kk
      exact ih (R2 % 10 ^ i2) (cs ++ [nI (48 + R2 / 10 ^ i2)]) ls H locs (by omega) (Nat.mod_lt _ (p10_pos i2)) (by rw [List.length_append]; show _ + 1 + _ ≤ _; omega) hP hD hS (by rw [len_1]; exact (lv_sub hl [0, 1, 2, 3, 4, 5] rfl)) kk
theorem wk_mpr {x : Int64} {N : Nat} (hN : N < 10 ^ 15) (hnn : N = x.toInt.natAbs) (ha : vp_in a2 8) (hxf : f a2.toNatClampNeg = x) (hx : p.tables.exec = Jvm.exec) (hb : c.code = b_Mo_print) (hown : s.vm.findClass "TenThousandthDeskModel" = some m.cls) (ht : ∀ w ∈ tt, w.before args s = true) (hK : va_K D cl2 (tyM cL cI) s) (hP : va_P D cl2 (wM h r q cL cI k f g) H) (hD : va_D A (wM h r q cL cI k f g)) (hS : va_S A s.heap H locs) (hl : lv_has ls 12 [(4, .long (lN N)), (3, .int 0), (0, .ref h), (1, .int a2), (2, .int i)])
    (kret : ∀ (ls : Array Slot) (H : Heap) (locs : List Loc), va_P D cl2 (wM h r q cL cI k f (wr g (j_chars x))) H → va_D A (wM h r q cL cI k f (wr g (j_chars x))) → va_S A s.heap H locs → lv_has ls 12 [(3, .int (nI (j_chars x).length)), (0, .ref h), (1, .int a2), (2, .int i)] → W p l e R s m args below meth c H locs cells slots Q (F0 m 208 ls [])) : W p l e R s m args below meth c H locs cells slots Q (F0 m 36 ls []) := by
  have k58 : ∀ (ls : Array Slot) (H : Heap) (locs : List Loc) (cs : List Int32), lv_has ls 12 [(3, .int (nI cs.length)), (4, .long (lN N)), (0, .ref h), (1, .int a2), (2, .int i)] → cs = (if x < 0 then [45] else []) → cs.length ≤ 1 → va_P D cl2 (wM h r q cL cI k f (wr g cs)) H → va_D A (wM h r q cL cI k f (wr g cs)) → va_S A s.heap H locs → W p l e R s m args below meth c H locs cells slots Q (F0 m 58 ls []) := by
    intro ls H locs cs hl hcs hc1 hP hD hS
    refine lv_lconst (v := 1) hx hb d_Mo_print_58 (by decide) ?_
    refine lv_lstore (lv' := [(6, .long 1), (3, .int (nI cs.length)), (4, .long (lN N)), (0, .ref h), (1, .int a2), (2, .int i)]) hx hb d_Mo_print_59 hl (by decide) rfl (fun ls hl => ?_)
    refine wk_mpr1 hN hx hb hown ht 10 0 ls (by omega) (lv_sub hl [0, 1, 2, 3, 4, 5] rfl) (fun ls hl => ?_)
    have hj := tj_le (N / 10000) 10 0
    refine wk_mpr2 hN hx hb hown ht hK (tj (N / 10000) 10 0) cs ls H locs (by omega) (by omega) hP hD hS hl (fun ls H locs hP hD hS hl => ?_)
    have hdl : (cs ++ dl (N / 10000) (tj (N / 10000) 10 0)).length = cs.length + (tj (N / 10000) 10 0 + 1) := by rw [List.length_append, dl_len]
    have hps : j_chars x = (cs ++ dl (N / 10000) (tj (N / 10000) 10 0)) ++ (if N % 10000 = 0 then [] else 46 :: fl 4 (N % 10000)) := by rw [j_chars, ← hnn, pch, hcs]
    generalize cs ++ dl (N / 10000) (tj (N / 10000) 10 0) = ds at hP hD hl hdl hps
    refine lv_lload hx hb d_Mo_print_133 (lv_at hl 1 rfl) ?_
    refine lv_ldc2 hx hb hown (ht _ t_304) d_Mo_print_135 ?_
    refine lv_lrem hx hb d_Mo_print_138 (by decide) ?_
    rw [show ((lN N) - (lN N) / 10000 * 10000) = lN (N % 10000) from (pk_lRem (b := 10000) (by omega) (by decide) (by decide))]
    refine lv_lstore (lv' := [(8, .long (lN (N % 10000))), (3, .int (nI ds.length)), (4, .long (lN N)), (0, .ref h), (1, .int a2), (2, .int i)]) hx hb d_Mo_print_139 hl (by decide) rfl (fun ls hl => ?_)
    have k159 : ∀ (ls : Array Slot) (H : Heap) (locs : List Loc) (es : List Int32), lv_has ls 12 [(3, .int (nI es.length)), (8, .long (lN (N % 10000))), (0, .ref h), (1, .int a2), (2, .int i)] → es ++ fl 4 (N % 10000) = j_chars x → es.length ≤ 20 → va_P D cl2 (wM h r q cL cI k f (wr g es)) H → va_D A (wM h r q cL cI k f (wr g es)) → va_S A s.heap H locs → W p l e R s m args below meth c H locs cells slots Q (F0 m 159 ls []) := by
      intro ls H locs es hl hes hel hP hD hS
      refine lv_ldc2 hx hb hown (ht _ t_328) d_Mo_print_159 ?_
      refine lv_lstore (lv' := [(10, .long 1000), (3, .int (nI es.length)), (8, .long (lN (N % 10000))), (0, .ref h), (1, .int a2), (2, .int i)]) hx hb d_Mo_print_162 hl (by decide) rfl (fun ls hl => ?_)
      refine wk_mpr3 hx hb hown ht hK 4 (N % 10000) es ls H locs (by omega) (Nat.mod_lt _ (by decide)) (by omega) hP hD hS (lv_sub hl [0, 2, 1, 3, 4, 5] rfl) (fun ls H locs hP hD hS hl => ?_)
      rw [hes] at hP hD hl
      exact kret ls H locs hP hD hS hl
    refine lv_lload hx hb d_Mo_print_141 (lv_at hl 0 rfl) ?_
    refine lv_lconst (v := 0) hx hb d_Mo_print_143 (by decide) ?_
    refine lc_le (tgt := 159) hx hb d_Mo_print_144 d_Mo_print_145 (by decide) (fun h1 => ?_) (fun h1 => ?_)
    · have h2 : N % 10000 = 0 := Nat.le_zero.mp ((pk_lLE (b := 0) (by omega) (by decide)).mp h1)
      exact k159 ls H locs ds (lv_sub hl [1, 0, 3, 4, 5] rfl) (by rw [hps, if_pos h2, h2]; simp [fl]) (by omega) hP hD hS
    · have h2 := (pk_lLT (a := 0) (by decide) (by omega)).mp h1
      refine lv_aload_n hx hb d_Mo_print_148 rfl (lv_at hl 3 rfl) ?_
      refine va_get (D := D) (ci := 1) (v := .ref q) (C := R_Mo) (T := F_Mo) (N := 3) hx hb ht uw_Mo hown hK hP 0 rfl rfl 2 (by decide) (ht _ t_258) (fun _ h9 => h9) rfl d_Mo_print_149 ?_
      refine lv_iload_n hx hb d_Mo_print_152 rfl (lv_at hl 1 rfl) ?_
      refine lv_iinc (k := 1) (v := ((nI ds.length) + 1)) (lv' := [(3, .int ((nI ds.length) + 1)), (8, .long (lN (N % 10000))), (4, .long (lN N)), (0, .ref h), (1, .int a2), (2, .int i)]) hx hb d_Mo_print_153 hl rfl (by rw [show Int32.ofInt 1 = (1 : Int32) from by decide]) (by decide) rfl (fun ls hl => ?_)
      refine lv_bipush (v := 46) hx hb d_Mo_print_156 (by decide) ?_
      rw [show 46 = nI 46 from rfl]
      refine va_iast hx hb hK hP hD hS 2 1 rfl rfl (vp_in_nI (by omega) (by decide)) d_Mo_print_158 (fun H locs hP hD hS => ?_)
      have ew : upd (wr g ds) (nI ds.length).toNatClampNeg (nI 46) = wr g (ds ++ [(nI 46)]) := by rw [nI_clamp (by omega), wr_snoc]
      have hP : va_P D cl2 (wM h r q cL cI k f (upd (wr g ds) (nI ds.length).toNatClampNeg (nI 46))) H := hP
      have hD : va_D A (wM h r q cL cI k f (upd (wr g ds) (nI ds.length).toNatClampNeg (nI 46))) := hD
      rw [ew] at hP hD
      exact k159 ls H locs (ds ++ [nI 46]) (by rw [len_1]; exact (lv_sub hl [0, 1, 3, 4, 5] rfl)) (by rw [hps, if_neg (by omega), List.append_assoc]; rfl) (by rw [List.length_append]; show _ + 1 ≤ _; omega) hP hD hS
  refine lv_aload_n hx hb d_Mo_print_36 rfl (lv_at hl 2 rfl) ?_
  refine va_get (D := D) (ci := 1) (v := .ref r) (C := R_Mo) (T := F_Mo) (N := 3) hx hb ht uw_Mo hown hK hP 0 rfl rfl 1 (by decide) (ht _ t_257) (fun _ h9 => h9) rfl d_Mo_print_37 ?_
  refine lv_iload_n hx hb d_Mo_print_40 rfl (lv_at hl 3 rfl) ?_
  refine va_lald hx hb hK hP 1 0 rfl rfl ha d_Mo_print_41 ?_
  rw [show (f (Int32.toNatClampNeg a2)) = x from hxf]
  refine lv_lconst (v := 0) hx hb d_Mo_print_42 (by decide) ?_
  refine lc_ge (tgt := 58) hx hb d_Mo_print_43 d_Mo_print_44 (by decide) (fun h2 => ?_) (fun h2 => ?_)
  · rw [← wr_nil g] at hP hD
    exact k58 ls H locs [] (lv_sub hl [1, 0, 2, 3, 4] rfl) (by rw [if_neg (Int64.not_lt.mpr h2)]) (by decide) hP hD hS
  · rw [← wr_nil g] at hP hD
    refine lv_aload_n hx hb d_Mo_print_47 rfl (lv_at hl 2 rfl) ?_
    refine va_get (D := D) (ci := 1) (v := .ref q) (C := R_Mo) (T := F_Mo) (N := 3) hx hb ht uw_Mo hown hK hP 0 rfl rfl 2 (by decide) (ht _ t_258) (fun _ h9 => h9) rfl d_Mo_print_48 ?_
    refine lv_iload_n hx hb d_Mo_print_51 rfl (lv_at hl 1 rfl) ?_
    refine lv_iinc (k := 1) (v := (0 + 1)) (lv' := [(3, .int (0 + 1)), (4, .long (lN N)), (0, .ref h), (1, .int a2), (2, .int i)]) hx hb d_Mo_print_52 hl rfl (by rw [show Int32.ofInt 1 = (1 : Int32) from by decide]) (by decide) rfl (fun ls hl => ?_)
    refine lv_bipush (v := 45) hx hb d_Mo_print_55 (by decide) ?_
    rw [show 45 = nI 45 from rfl]
    refine va_iast hx hb hK hP hD hS 2 1 rfl rfl (vp_in_nI (n := 0) (by decide) (by decide)) d_Mo_print_57 (fun H locs hP hD hS => ?_)
    have ew : upd (wr g []) (0 : Int32).toNatClampNeg (nI 45) = wr g [45] := wr_snoc g [] 45
    have hP : va_P D cl2 (wM h r q cL cI k f (upd (wr g []) (0 : Int32).toNatClampNeg (nI 45))) H := hP
    have hD : va_D A (wM h r q cL cI k f (upd (wr g []) (0 : Int32).toNatClampNeg (nI 45))) := hD
    rw [ew] at hP hD
    exact k58 ls H locs [45] (lv_sub hl [0, 1, 2, 3, 4] rfl) (by rw [if_pos h2]) (by decide) hP hD hS
end MPR
theorem c_Mo_print (l : Launch) (D : va_G) (h r q : Nat) (cL cI : ClassId) (k : Int32) (f : Nat → Int64) (g : Nat → Int32) (a2 i : Int32) (hf : okR f) : tx_Met l y_Mo_print (Cond.code y_Mo_print b_Mo_print 12 (some .int) :: tt) rmQ (pW D (wM h r q cL cI k f g) (tyM cL cI) [.ref h, .int a2, .int i]) (m_QP D h r q cL cI f g (wM h r q cL cI k f g) (m_pr f a2 i)) 0 0 (inW (wM h r q cL cI k f g)) := by
  refine tx_start (by decide +kernel) [.ref h, .int a2, .int i] (Nat.le_of_ble_eq_true rfl) (fun _ _ h => h.1) ?_
  intro p e s m below meth c ls hx hb hr hlk hml hne hown ht hnm hP hl
  obtain ⟨-, hP, hK, hD0⟩ := hP
  have hD : va_D (inW (wM h r q cL cI k f g)) (wM h r q cL cI k f g) := inW_self hD0
  have hS : va_S (inW (wM h r q cL cI k f g)) s.heap s.heap [] := va_S.rf
  have hl : lv_has ls 12 [(0, .ref h), (1, .int a2), (2, .int i)] := hl
  refine lv_aload_n hx hb d_Mo_print_0 rfl (lv_at hl 0 rfl) ?_
  refine lv_iconst (v := 0) hx hb d_Mo_print_1 (by decide) ?_
  refine va_put (D := D) (ci := 1) (v := .int 0) (ty := .int) (C := R_Mo) (T := F_Mo) (N := 3) hx hb ht uw_Mo t_Mo t_Mo_ok n_Mo hown hK hP hD hS 0 rfl rfl 0 (by decide) (ht _ t_256) (fun _ h9 => h9) rfl (by decide +kernel) rfl rfl (Nat.le_of_ble_eq_true rfl) d_Mo_print_2 (fun H locs hP hD hS => ?_)
  have hP : va_P D cl2 (wM h r q cL cI 0 f g) H := hP
  have hD : va_D (inW (wM h r q cL cI k f g)) (wM h r q cL cI 0 f g) := hD
  have k17 : ∀ (ls : Array Slot) , lv_has ls 12 [(0, .ref h), (1, .int a2), (2, .int i)] → ¬ (j_out a2 = 0 ∧ ¬ i < 0) → W p l e rmQ s m ([.ref h, .int a2, .int i] : List Value).toArray below meth c H locs 0 0 (tx_MQ below (m_QP D h r q cL cI f g (wM h r q cL cI k f g) (m_pr f a2 i)) ([.ref h, .int a2, .int i] : List Value).toArray s 0 0 (inW (wM h r q cL cI k f g))) (F0 m 17 ls []) := by
    intro ls  hl hg
    refine lv_aload_n hx hb d_Mo_print_17 rfl (lv_at hl 0 rfl) ?_
    refine lv_iconst (v := 1) hx hb d_Mo_print_18 (by decide) ?_
    refine tk_fail0 hx hb hml hown ht hP hK hD hS ⟨by decide, by decide⟩ hl.1 (Nat.le_of_ble_eq_true rfl) d_Mo_print_19 (fun H locs hP hD hS => ?_)
    rw [show m_pr f a2 i = (1, 0, []) from by rw [m_pr, if_neg hg]]
    rw [← wr_nil g] at hP hD
    exact tx_ret (W.iret (v := 0) hx hb hr (fun t hth _ => ⟨rfl, by rw [hth]; exact hP, by rw [wr_nil] at hD ⊢; exact hD, hS.F hth⟩) hS.2.2 d_Mo_print_22)
  refine lv_aload_n hx hb d_Mo_print_5 rfl (lv_at hl 0 rfl) ?_
  refine lv_iload_n hx hb d_Mo_print_6 rfl (lv_at hl 1 rfl) ?_
  refine tx_callO (tx_runV (n := 1) (b := h) (As := [.int a2]) (rest := []) hx hb hml hown ht (c_Mo_out l h a2) t_278 t_277 t_s2 t_2 t_275 (by decide +kernel) rfl rfl (rm0R ⟨by decide, by decide⟩ (by decide)) ⟨fun _ _ _ _ h9 => h9, va_recv (q0 := 0) (ci := 1) (q := (R_Mo, F_Mo, 3)) hK hP rfl rfl, fun _ _ _ => rfl⟩ rfl rfl hl.1 rfl (lv_room (Nat.le_of_ble_eq_true rfl)) d_Mo_print_7 ⟨by decide, by decide⟩) ?_
  refine W.eq (g2 := F0 m 10 ls [.int (j_out a2)]) rfl ?_
  refine lv_if_ne (tgt := 17) hx hb d_Mo_print_10 (by decide) (fun h1 => ?_) (fun h1 => ?_)
  · exact k17 ls hl (fun h9 => h1 h9.1)
  · refine lv_iload_n hx hb d_Mo_print_13 rfl (lv_at hl 2 rfl) ?_
    refine lv_if_ge (tgt := 23) hx hb d_Mo_print_14 (by decide) (fun h2 => ?_) (fun h2 => ?_)
    · obtain ⟨j, hj, hj2⟩ := vp_in_of (out_in h1) (by decide)
      have hr1 := hf j hj
      have hcl : a2.toNatClampNeg = j := by rw [hj2]; exact nI_clamp (by omega)
      rw [← hcl] at hr1
      rw [show m_pr f a2 i = (0, j_pv (j_chars (f a2.toNatClampNeg)) i, j_chars (f a2.toNatClampNeg)) from by rw [m_pr, if_pos ⟨h1, Int32.not_lt.mpr h2⟩]]
      generalize hxf : f a2.toNatClampNeg = x at hr1
      refine lv_iconst (v := 0) hx hb d_Mo_print_23 (by decide) ?_
      refine lv_istore_n (lv' := [(3, .int 0), (0, .ref h), (1, .int a2), (2, .int i)]) hx hb d_Mo_print_24 rfl hl (by decide) rfl (fun ls hl => ?_)
      refine lv_aload_n hx hb d_Mo_print_25 rfl (lv_at hl 1 rfl) ?_
      refine va_get (D := D) (ci := 1) (v := .ref r) (C := R_Mo) (T := F_Mo) (N := 3) hx hb ht uw_Mo hown hK hP 0 rfl rfl 1 (by decide) (ht _ t_257) (fun _ h9 => h9) rfl d_Mo_print_26 ?_
      refine lv_iload_n hx hb d_Mo_print_29 rfl (lv_at hl 2 rfl) ?_
      refine va_lald hx hb hK hP 1 0 rfl rfl (out_in h1) d_Mo_print_30 ?_
      rw [show (f (Int32.toNatClampNeg a2)) = x from hxf]
      refine tx_callO (tx_runS (n := 1) (As := [.long x]) (rest := []) hx hb hml hown ht (c_Mo_size l x) t_295 t_294 t_2 t_293 (by decide +kernel) rfl rfl (rm0R ⟨by decide, by decide⟩ (by decide)) ⟨fun _ _ _ _ h => h, fun _ _ _ => rfl⟩ rfl rfl hl.1 rfl (lv_room (Nat.le_of_ble_eq_true rfl)) d_Mo_print_31 ⟨by decide, by decide⟩) ?_
      refine W.eq (g2 := F0 m 34 ls [.long (j_ab x)]) rfl ?_
      rw [show (j_ab x) = lN x.toInt.natAbs from (ab_lN (by omega) (by omega))]
      refine lv_lstore (lv' := [(4, .long (lN x.toInt.natAbs)), (3, .int 0), (0, .ref h), (1, .int a2), (2, .int i)]) hx hb d_Mo_print_34 hl (by decide) rfl (fun ls hl => ?_)
      refine wk_mpr (x := x) (N := x.toInt.natAbs) (by omega) rfl (out_in h1) hxf hx hb hown ht hK hP hD hS hl (fun ls H locs hP hD hS hl => ?_)
      have hlen : (j_chars x).length ≤ 17 := pch_len _ _
      refine lv_iload_n hx hb d_Mo_print_208 rfl (lv_at hl 3 rfl) ?_
      refine lv_iload_n hx hb d_Mo_print_209 rfl (lv_at hl 0 rfl) ?_
      refine lv_icmp_ge (tgt := 222) hx hb d_Mo_print_210 (by decide) (fun h5 => ?_) (fun h5 => ?_)
      · refine lv_iconst (v := (-1)) hx hb d_Mo_print_222 (by decide) ?_
        rw [show (-1 : Int32) = j_pv (j_chars x) i from by rw [j_pv, if_pos h5]]
        exact tx_ret (W.iret (v := j_pv (j_chars x) i) hx hb hr (fun t hth _ => ⟨rfl, by rw [hth]; exact hP, hD, hS.F hth⟩) hS.2.2 d_Mo_print_223)
      · have h3 := Int32.le_iff_toInt_le.mp h2
        have h30 : (0 : Int32).toInt = 0 := by decide
        have h6 : i.toInt < (j_chars x).length := by rw [Int32.le_iff_toInt_le, nI_toInt (by omega)] at h5; omega
        have h7 : i.toNatClampNeg < (j_chars x).length := by show i.toInt.toNat < _; omega
        refine lv_aload_n hx hb d_Mo_print_213 rfl (lv_at hl 1 rfl) ?_
        refine va_get (D := D) (ci := 1) (v := .ref q) (C := R_Mo) (T := F_Mo) (N := 3) hx hb ht uw_Mo hown hK hP 0 rfl rfl 2 (by decide) (ht _ t_258) (fun _ h9 => h9) rfl d_Mo_print_214 ?_
        refine lv_iload_n hx hb d_Mo_print_217 rfl (lv_at hl 3 rfl) ?_
        refine va_iald hx hb hK hP 2 1 rfl rfl (vp_in_iff.mpr ⟨by omega, by omega⟩) d_Mo_print_218 ?_
        refine lv_goto (tgt := 223) hx hb d_Mo_print_219 (by decide) ?_
        rw [show wr g (j_chars x) (Int32.toNatClampNeg i) = j_pv (j_chars x) i from by rw [j_pv, if_neg h5, wr_at h7]]
        exact tx_ret (W.iret (v := j_pv (j_chars x) i) hx hb hr (fun t hth _ => ⟨rfl, by rw [hth]; exact hP, hD, hS.F hth⟩) hS.2.2 d_Mo_print_223)
    · exact k17 ls hl (fun h9 => h2 (Int32.not_lt.mp h9.2))
end
section
-- the law's helpers: a call of the desk within try; the catches; printed by gen/p18.py
theorem tx_weaken {l : Launch} {y : MethodName} {ws : List Cond} {rm : Room} {Pc : Array Value → State → Prop} {Qc Qd : Array Value → State → Outcome → State → Prop} {mc ms : Nat} {free fre2 : Addr → Prop} (hM : tx_Met l y ws rm Pc Qc mc ms free) (h : ∀ a st o t, Pc a st → Qc a st o t → Qd a st o t) (hf : ∀ q, free q → fre2 q) : tx_Met l y ws rm Pc Qd mc ms fre2 := by
  intro p e ha hc hk s m args below hfr happ hP hK
  obtain ⟨n, o, h1, h2, h3, h4, L, h5, h6⟩ := hM p e ha hc hk s m args below hfr happ hP hK
  exact ⟨n, o, h1, h2, h3, h _ _ _ _ hP h4, L, h5, fun q hq => hf _ (h6 q hq)⟩
def j_gt (f : Nat → Int64) (i : Int32) : Except String (Int64 × (Nat → Int64)) := j_bd (j_get f i) fun v => .ok (v, f)
theorem c_Dk_get2 (l : Launch) (hl0 : l.stackTraces = false) (D : va_G) (h r w : Nat) (cL cB : ClassId) (f : Nat → Int64) (b : Nat → Int32) (i : Int32) : tx_Met l y_Dk_get (Cond.code y_Dk_get b_Dk_get 2 (some .long) :: tt) rmB (pT D (wD h r w cL cB f b) (tyD cL cB) [.ref h, .int i]) (tx_DQ D (wD h r w cL cB f b) (j_dk (fun f => wD h r w cL cB f b) (j_gt f i))) 1 6 (inW (wD h r w cL cB f b)) := by
  refine tx_weaken (c_Dk_get l hl0 D h r w cL cB f b i) (fun a st o t hP hq => ?_) (fun q hq => hq.elim)
  unfold j_gt
  cases hg : j_get f i with
  | error C =>
    rw [hg] at hq
    exact hq
  | ok v =>
    rw [hg] at hq
    obtain ⟨h1, h2⟩ := hq
    exact ⟨h1, by rw [h2]; exact hP.2.1, inW_self hP.2.2.2.1, by rw [h2]; exact Nat.le_refl _, fun q _ _ => by rw [h2]⟩
abbrev wL (o : Nat) (cO : ClassId) (u : Nat → Int64) (W1 : va_W) : va_W := (o, .inl (cO, 1, .inr (.inl u))) :: W1
abbrev tyL (cO cL cB : ClassId) : List (ClassId × FieldType) := [(cO, .long), (cL, .long), (cB, .byte)]
def nc_ok (U : State) : Prop := va_Nc xAE xIA U ∧ va_Nc xUO xIA U ∧ va_Nc xAE xUO U
def pL (D : va_G) (W0 : va_W) (tys : List (ClassId × FieldType)) (As : List Value) : Array Value → State → Prop := fun ar U => pT D W0 tys As ar U ∧ nc_ok U
theorem nc_ok.moved {u U : State} (hvm : u.vm.Alike U.vm) (h : nc_ok u) : nc_ok U := ⟨h.1.moved hvm, h.2.1.moved hvm, h.2.2.moved hvm⟩
theorem pL_blind {D : va_G} {W0 : va_W} {tys : List (ClassId × FieldType)} {As : List Value} : FrameBlind (pL D W0 tys As) := fun a U g mk h => ⟨pT_blind a U g mk h.1, h.2.moved (u := U) (U := U.calling g mk _) (Vm.Alike.refl U.vm)⟩
theorem preSL {s : State} {H : Heap} {D : va_G} {W1 : va_W} {tys : List (ClassId × FieldType)} {A : Nat → Prop} {As : List Value} (hP : va_P D cl2 W1 H) (hK : va_K D cl2 tys s) (hD : va_D A W1) (hth : th_ok s H) (hnc : nc_ok s) : PreS s H (pL D W1 tys As) As :=
  ⟨pL_blind, fun U hU hW => ⟨⟨rfl, by rw [hU]; exact hP, va_K.moved hW.alike hK, hD.weaken (fun _ _ _ _ => trivial), by rw [hU]; exact hth.warm hW⟩, hnc.moved hW.alike⟩⟩
def h_k {α : Type} (cd : String → Int32) (x : Except String α) : Int32 := match x with
  | .ok _ => 0
  | .error C => cd C
def h_w {α : Type} (W0 : va_W) (Wf : α → va_W) (x : Except String α) : va_W := match x with
  | .ok q => Wf q
  | .error _ => W0
def cd1 : String → Int32 := fun _ => 1
def cd2 : String → Int32 := fun C => if C = xIA then 1 else 2
def cd3 : String → Int32 := fun C => if C = xIA then 1 else if C = xUO then 2 else 3
section TKL
variable {p : Program} {l : Launch} {e : Env} {R : Room} {s : State} {m : MethodId} {args : Array Value} {below : List Frame} {meth : Method} {c : Code} {ls : Array Slot} {cc : ByteArray} {nL pc : Nat} {Q : State → Prop}
variable {D : va_G} {h r w o : Nat} {cL cB cO : ClassId} {f u : Nat → Int64} {b : Nat → Int32} {a : Array Value} {st0 : List Value} {hh : List (Nat × Nat × Nat × Nat)}
theorem tk_call {res : Except String (Value × va_W)} (hown : s.vm.findClass "TenThousandthDeskLaw" = some m.cls) (htab : c.exceptionTable.toList = tableOf hh)
    (hP : va_P D cl2 (wL o cO u (wD h r w cL cB f b)) s.heap) (hD : va_D (inW (wL o cO u (wD h r w cL cB f b))) (wL o cO u (wD h r w cL cB f b)))
    (hr : tx_Run p l e R s m args below meth c s.heap [] 0 0 1 6 (F0 m pc ls st0) [.int 0, .ref o] (tx_DQ D (wD h r w cL cB f b) res a) (inW (wD h r w cL cB f b)))
    (herr : ∀ C, res = .error C → ∃ tgt, tx_Hit args s "TenThousandthDeskLaw" C pc tgt hh ∧ ∀ (x : Nat) (H : Heap) (locs : List Loc), va_P D cl2 (wL o cO u (wD h r w cL cB f b)) H → va_S (inW (wL o cO u (wD h r w cL cB f b))) s.heap H locs → W p l e R s m args below meth c H locs 1 6 Q (F0 m tgt ls [.ref x]))
    (hok : ∀ q, res = .ok q → ∀ (H : Heap) (locs : List Loc), va_P D cl2 (wL o cO u q.2) H → va_D (inW (wL o cO u (wD h r w cL cB f b))) (wL o cO u q.2) → va_S (inW (wL o cO u (wD h r w cL cB f b))) s.heap H locs → W p l e R s m args below meth c H locs 1 6 Q (F0 m (pc + 3) ls [q.1, .int 0, .ref o])) :
    W p l e R s m args below meth c s.heap [] 0 0 Q (F0 m pc ls st0) := by
  refine tx_callG hr (fun v st₀ t L9 h0 hW0 hal hL hq => ?_) (fun x st₀ t T' L9 h0 hW0 eT hL hq X' => ?_)
  · cases res with
    | error C => obtain ⟨z, ce, hz, -⟩ := hq; cases hz
    | ok q =>
      obtain ⟨e1, hP1, hD1, hz1, hk1⟩ := hq
      cases e1
      rw [h0] at hz1 hk1
      obtain ⟨hP2, hD2⟩ := wj (wz := [(o, .inl (cO, 1, .inr (.inl u)))]) hP hD [1, 2, 3] [0] rfl rfl (by decide) (by decide) hk1 hP1 hD1
      exact hok q rfl t.heap _ hP2 hD2 (wS va_S.rf hD [1, 2, 3] rfl hz1 hk1 hL)
  · cases res with
    | ok q => cases hq.1
    | error C =>
      obtain ⟨z, ce, hz, z1, z2, z3, z4, z5⟩ := hq
      cases hz
      rw [h0] at z1 z5
      obtain ⟨tgt, hhit, hk⟩ := herr C rfl
      have hsz : s.heap.size ≤ t.heap.size := by
        have h9 := (Array.getElem?_eq_some_iff.mp z2).1
        omega
      obtain ⟨vm', X2, st⟩ := tx_catch X' (g := F0 m pc ls [.int 0, .ref o]) hown htab (by rw [eT]; exact z2) z4 (by rw [← hW0.alike.findClass]; exact z3) rfl hhit
      obtain ⟨tg, a1, b1⟩ := hk x t.heap ([] ++ L9) (hP.kept (fun k q hq => z5 q.1 (hP k q hq).lt)) ⟨hsz, fun q hq _ => z5 q hq, fun q hq => by
        obtain ⟨k, e9, h9⟩ := hL q (by simpa using hq)
        exact ⟨k + 1, e9, h9⟩⟩ (T'.setVm vm') eT X2
      exact ⟨tg, st tg a1, b1⟩
end TKL
theorem er_in {v lo hi : Int64} {C : String} (h : j_in v lo hi = .error C) : C = xIA := by
  unfold j_in at h
  split at h
  · cases h; rfl
  · cases h
theorem er_fit {n : Int64} {C : String} (h : j_fit n = .error C) : C = xAE := by
  unfold j_fit at h
  split at h
  · cases h; rfl
  · cases h
theorem er_bd {α β : Type} {x : Except String α} {k : α → Except String β} {C : String} (h : j_bd x k = .error C) : x = .error C ∨ ∃ a, x = .ok a ∧ k a = .error C := by
  cases x with
  | error B => left; cases h; rfl
  | ok a => right; exact ⟨a, rfl, h⟩
theorem er_get {f : Nat → Int64} {i : Int32} {C : String} (h : j_get f i = .error C) : C = xIA := by
  rcases er_bd h with h | ⟨_, _, h⟩
  · exact er_in h
  · cases h
theorem er_gt {f : Nat → Int64} {i : Int32} {C : String} (h : j_gt f i = .error C) : C = xIA := by
  rcases er_bd h with h | ⟨_, _, h⟩
  · exact er_get h
  · cases h
theorem er_set {f : Nat → Int64} {i : Int32} {n : Int64} {C : String} (h : j_set f i n = .error C) : C = xIA := by
  rcases er_bd h with h | ⟨_, _, h⟩
  · exact er_in h
  · rcases er_bd h with h | ⟨_, _, h⟩
    · exact er_in h
    · cases h
theorem er_print {f : Nat → Int64} {a i : Int32} {C : String} (h : j_print f a i = .error C) : C = xIA := by
  rcases er_bd h with h | ⟨_, _, h⟩
  · exact er_get h
  · rcases er_bd h with h | ⟨_, _, h⟩
    · exact er_in h
    · cases h
theorem er_put {f : Nat → Int64} {i : Int32} {x : Except String Int64} {C : String} (h : j_put f i x = .error C) : x = .error C := by
  rcases er_bd h with h | ⟨_, _, h⟩
  · exact h
  · cases h
theorem er_tn {op : Int32} {x : Int64} {C : String} (h : j_tn op x = .error C) : C = xAE := by
  unfold j_tn at h
  split at h
  · cases h
  · split at h
    · exact er_fit h
    · split at h <;> cases h
theorem er_turn {f : Nat → Int64} {i op a : Int32} {C : String} (h : j_turn f i op a = .error C) : C = xIA ∨ C = xAE := by
  rcases er_bd h with h | ⟨_, _, h⟩
  · exact Or.inl (er_in h)
  · rcases er_bd h with h | ⟨_, _, h⟩
    · exact Or.inl (er_in h)
    · rcases er_bd h with h | ⟨_, _, h⟩
      · exact Or.inl (er_get h)
      · exact Or.inr (er_tn (er_put h))
theorem er_rnd {f : Nat → Int64} {i a d : Int32} {C : String} (h : j_rnd f i a d = .error C) : C = xIA ∨ C = xAE := by
  rcases er_bd h with h | ⟨_, _, h⟩
  · exact Or.inl (er_in h)
  · rcases er_bd h with h | ⟨_, _, h⟩
    · exact Or.inl (er_in h)
    · rcases er_bd h with h | ⟨_, _, h⟩
      · exact Or.inl (er_get h)
      · exact Or.inr (er_fit (er_put h))
theorem er_sum {f : Nat → Int64} : ∀ (k j : Nat) (z : Int64) (C : String), j_sum f k j z = .error C → C = xAE := by
  intro k
  induction k with
  | zero => intro j z C h; cases h
  | succ k ih =>
    intro j z C h
    rcases er_bd h with h | ⟨_, _, h⟩
    · exact er_fit h
    · exact ih _ _ _ h
theorem er_avg {f : Nat → Int64} {n : Int32} {C : String} (h : j_avg f n = .error C) : C = xIA ∨ C = xAE := by
  rcases er_bd h with h | ⟨_, _, h⟩
  · exact Or.inl (er_in h)
  · rcases er_bd h with h | ⟨_, _, h⟩
    · exact Or.inr (er_sum _ _ _ _ h)
    · cases h
theorem er_times {a b : Int64} {C : String} (h : j_times a b = .error C) : C = xAE := by
  unfold j_times at h
  split at h
  · cases h; rfl
  · exact er_fit h
theorem er_by {a b : Int64} {C : String} (h : j_by a b = .error C) : C = xUO ∨ C = xAE := by
  unfold j_by at h
  split at h
  · cases h; exact Or.inl rfl
  · exact Or.inr (er_fit h)
theorem er_rk {op : Int32} {x y : Int64} {C : String} (h : j_rk op x y = .error C) : C = xUO ∨ C = xAE := by
  unfold j_rk at h
  split at h
  · exact Or.inr (er_fit h)
  · split at h
    · exact Or.inr (er_fit h)
    · split at h
      · exact Or.inr (er_times h)
      · split at h
        · exact er_by h
        · split at h
          · cases h; exact Or.inl rfl
          · cases h
theorem er_reckon {f : Nat → Int64} {i op a b : Int32} {C : String} (h : j_reckon f i op a b = .error C) : C = xIA ∨ C = xUO ∨ C = xAE := by
  rcases er_bd h with h | ⟨_, _, h⟩
  · exact Or.inl (er_in h)
  · rcases er_bd h with h | ⟨_, _, h⟩
    · exact Or.inl (er_in h)
    · rcases er_bd h with h | ⟨_, _, h⟩
      · exact Or.inl (er_get h)
      · rcases er_bd h with h | ⟨_, _, h⟩
        · exact Or.inl (er_get h)
        · exact Or.inr (er_rk (er_put h))
theorem c_La_set (l : Launch) (hl0 : l.stackTraces = false) (D : va_G) (h r w o : Nat) (cL cB cO : ClassId) (f u : Nat → Int64) (b : Nat → Int32) (i : Int32) (n : Int64) : tx_Met l y_La_set (Cond.codeWith y_La_set b_La_set 6 (some .int) [(0, 10, 13, 13)] :: tt) rmD (pL D (wL o cO u (wD h r w cL cB f b)) (tyL cO cL cB) [.ref h, .int i, .long n, .ref o]) (tx_WQ D (wL o cO u (wD h r w cL cB f b)) (h_w (wL o cO u (wD h r w cL cB f b)) (fun q => wL o cO (vp_updL u 0 q.1) (wD h r w cL cB q.2 b)) (j_set f i n)) (some (.int (h_k cd1 (j_set f i n))))) 1 6 (inW (wL o cO u (wD h r w cL cB f b))) := by
  refine tx_startW (by decide +kernel) [.ref h, .int i, .long n, .ref o] (Nat.le_of_ble_eq_true rfl) (fun _ _ h => h.1.1) ?_
  intro p e s m below meth c ls hx hb hr hlk hml htab hown ht hnm hP hl
  obtain ⟨⟨-, hP, hK, hD0, hth⟩, hnc⟩ := hP
  have hD : va_D (inW (wL o cO u (wD h r w cL cB f b))) (wL o cO u (wD h r w cL cB f b)) := inW_self hD0
  have hl : lv_has ls 6 [(0, .ref h), (1, .int i), (2, .long n), (4, .ref o)] := hl
  refine lv_aload hx hb d_La_set_0 (lv_at hl 3 rfl) ?_
  refine lv_iconst (v := 0) hx hb d_La_set_2 (by decide) ?_
  refine lv_aload_n hx hb d_La_set_3 rfl (lv_at hl 0 rfl) ?_
  refine lv_iload_n hx hb d_La_set_4 rfl (lv_at hl 1 rfl) ?_
  refine lv_lload_n hx hb d_La_set_5 rfl (lv_at hl 2 rfl) ?_
  refine tk_call hown htab hP hD (tx_runV (n := 2) (b := h) (As := [.int i, .long n]) (rest := [.int 0, .ref o]) hx hb hml hown ht (c_Dk_set l hl0 D h r w cL cB f b i n) t_37 t_35 t_36 t_1 t_34 (by decide +kernel) rfl rfl ⟨by decide, by decide⟩ (preVT (hP.sub [1, 2, 3] rfl) (hK.sub [1, 2] rfl) (hD.sub [1, 2, 3] (by decide) rfl) hth rfl rfl) rfl rfl hl.1 rfl (lv_room (Nat.le_of_ble_eq_true rfl)) d_La_set_6 ⟨by decide, by decide⟩) (fun C hC => ?_) (fun q hq H locs hP hD hS => ?_)
  · cases hj : j_set f i n with
    | ok q => rw [hj] at hC; cases hC
    | error B =>
      rw [hj] at hC
      cases hC
      obtain rfl := er_set hj
      refine ⟨13, ⟨by decide, by decide, by decide, _, ht _ t_33, Or.inl ⟨hth.2.2.2.2.2.1, rfl⟩⟩, fun x H locs hP hS => ?_⟩
      refine lv_astore (lv' := [(5, .ref x), (0, .ref h), (1, .int i), (2, .long n), (4, .ref o)]) hx hb d_La_set_13 hl (by decide) rfl (fun ls hl => ?_)
      refine lv_iconst (v := 1) hx hb d_La_set_15 (by decide) ?_
      exact tx_ret (W.iret (v := 1) hx hb hr (fun t hth _ => ⟨rfl, by rw [hth]; exact hP, hD, hS.F hth⟩) hS.2.2 d_La_set_16)
  · cases hj : j_set f i n with
    | error B => rw [hj] at hq; cases hq
    | ok q2 =>
      rw [hj] at hq
      cases hq
      have hP : va_P D cl2 (wL o cO u (wD h r w cL cB q2.2 b)) H := hP
      have hD : va_D (inW (wL o cO u (wD h r w cL cB f b))) (wL o cO u (wD h r w cL cB q2.2 b)) := hD
      refine W.eq (g2 := F0 m 9 ls [.long q2.1, .int 0, .ref o]) rfl ?_
      refine va_last hx hb hK hP hD hS 0 0 rfl rfl (vp_in_nI (n := 0) (by decide) (by decide)) d_La_set_9 (fun H locs hP hD hS => ?_)
      have hP : va_P D cl2 (wL o cO (vp_updL u (Int32.toNatClampNeg 0) q2.1) (wD h r w cL cB q2.2 b)) H := hP
      have hD : va_D (inW (wL o cO u (wD h r w cL cB f b))) (wL o cO (vp_updL u (Int32.toNatClampNeg 0) q2.1) (wD h r w cL cB q2.2 b)) := hD
      refine lv_goto (tgt := 17) hx hb d_La_set_10 (by decide) ?_
      refine lv_iconst (v := 0) hx hb d_La_set_17 (by decide) ?_
      exact tx_ret (W.iret (v := 0) hx hb hr (fun t hth _ => ⟨rfl, by rw [hth]; exact hP, hD, hS.F hth⟩) hS.2.2 d_La_set_18)
theorem c_La_get (l : Launch) (hl0 : l.stackTraces = false) (D : va_G) (h r w o : Nat) (cL cB cO : ClassId) (f u : Nat → Int64) (b : Nat → Int32) (i : Int32) : tx_Met l y_La_get (Cond.codeWith y_La_get b_La_get 4 (some .int) [(0, 8, 11, 13)] :: tt) rmD (pL D (wL o cO u (wD h r w cL cB f b)) (tyL cO cL cB) [.ref h, .int i, .ref o]) (tx_WQ D (wL o cO u (wD h r w cL cB f b)) (h_w (wL o cO u (wD h r w cL cB f b)) (fun q => wL o cO (vp_updL u 0 q.1) (wD h r w cL cB q.2 b)) (j_gt f i)) (some (.int (h_k cd1 (j_gt f i))))) 1 6 (inW (wL o cO u (wD h r w cL cB f b))) := by
  refine tx_startW (by decide +kernel) [.ref h, .int i, .ref o] (Nat.le_of_ble_eq_true rfl) (fun _ _ h => h.1.1) ?_
  intro p e s m below meth c ls hx hb hr hlk hml htab hown ht hnm hP hl
  obtain ⟨⟨-, hP, hK, hD0, hth⟩, hnc⟩ := hP
  have hD : va_D (inW (wL o cO u (wD h r w cL cB f b))) (wL o cO u (wD h r w cL cB f b)) := inW_self hD0
  have hl : lv_has ls 4 [(0, .ref h), (1, .int i), (2, .ref o)] := hl
  refine lv_aload_n hx hb d_La_get_0 rfl (lv_at hl 2 rfl) ?_
  refine lv_iconst (v := 0) hx hb d_La_get_1 (by decide) ?_
  refine lv_aload_n hx hb d_La_get_2 rfl (lv_at hl 0 rfl) ?_
  refine lv_iload_n hx hb d_La_get_3 rfl (lv_at hl 1 rfl) ?_
  refine tk_call hown htab hP hD (tx_runV (n := 1) (b := h) (As := [.int i]) (rest := [.int 0, .ref o]) hx hb hml hown ht (c_Dk_get2 l hl0 D h r w cL cB f b i) t_114 t_112 t_113 t_1 t_111 (by decide +kernel) rfl rfl ⟨by decide, by decide⟩ (preVT (hP.sub [1, 2, 3] rfl) (hK.sub [1, 2] rfl) (hD.sub [1, 2, 3] (by decide) rfl) hth rfl rfl) rfl rfl hl.1 rfl (lv_room (Nat.le_of_ble_eq_true rfl)) d_La_get_4 ⟨by decide, by decide⟩) (fun C hC => ?_) (fun q hq H locs hP hD hS => ?_)
  · cases hj : j_gt f i with
    | ok q => rw [hj] at hC; cases hC
    | error B =>
      rw [hj] at hC
      cases hC
      obtain rfl := er_gt hj
      refine ⟨11, ⟨by decide, by decide, by decide, _, ht _ t_33, Or.inl ⟨hth.2.2.2.2.2.1, rfl⟩⟩, fun x H locs hP hS => ?_⟩
      refine lv_astore_n (lv' := [(3, .ref x), (0, .ref h), (1, .int i), (2, .ref o)]) hx hb d_La_get_11 rfl hl (by decide) rfl (fun ls hl => ?_)
      refine lv_iconst (v := 1) hx hb d_La_get_12 (by decide) ?_
      exact tx_ret (W.iret (v := 1) hx hb hr (fun t hth _ => ⟨rfl, by rw [hth]; exact hP, hD, hS.F hth⟩) hS.2.2 d_La_get_13)
  · cases hj : j_gt f i with
    | error B => rw [hj] at hq; cases hq
    | ok q2 =>
      rw [hj] at hq
      cases hq
      have hP : va_P D cl2 (wL o cO u (wD h r w cL cB q2.2 b)) H := hP
      have hD : va_D (inW (wL o cO u (wD h r w cL cB f b))) (wL o cO u (wD h r w cL cB q2.2 b)) := hD
      refine W.eq (g2 := F0 m 7 ls [.long q2.1, .int 0, .ref o]) rfl ?_
      refine va_last hx hb hK hP hD hS 0 0 rfl rfl (vp_in_nI (n := 0) (by decide) (by decide)) d_La_get_7 (fun H locs hP hD hS => ?_)
      have hP : va_P D cl2 (wL o cO (vp_updL u (Int32.toNatClampNeg 0) q2.1) (wD h r w cL cB q2.2 b)) H := hP
      have hD : va_D (inW (wL o cO u (wD h r w cL cB f b))) (wL o cO (vp_updL u (Int32.toNatClampNeg 0) q2.1) (wD h r w cL cB q2.2 b)) := hD
      refine lv_goto (tgt := 14) hx hb d_La_get_8 (by decide) ?_
      refine lv_iconst (v := 0) hx hb d_La_get_14 (by decide) ?_
      exact tx_ret (W.iret (v := 0) hx hb hr (fun t hth _ => ⟨rfl, by rw [hth]; exact hP, hD, hS.F hth⟩) hS.2.2 d_La_get_15)
theorem c_La_reckon (l : Launch) (hl0 : l.stackTraces = false) (D : va_G) (h r w o : Nat) (cL cB cO : ClassId) (f u : Nat → Int64) (b : Nat → Int32) (i op a2 b2 : Int32) : tx_Met l y_La_reckon (Cond.codeWith y_La_reckon b_La_reckon 7 (some .int) [(0, 13, 16, 13), (0, 13, 20, 23), (0, 13, 24, 25)] :: tt) rmD (pL D (wL o cO u (wD h r w cL cB f b)) (tyL cO cL cB) [.ref h, .int i, .int op, .int a2, .int b2, .ref o]) (tx_WQ D (wL o cO u (wD h r w cL cB f b)) (h_w (wL o cO u (wD h r w cL cB f b)) (fun q => wL o cO (vp_updL u 0 q.1) (wD h r w cL cB q.2 b)) (j_reckon f i op a2 b2)) (some (.int (h_k cd3 (j_reckon f i op a2 b2))))) 1 6 (inW (wL o cO u (wD h r w cL cB f b))) := by
  refine tx_startW (by decide +kernel) [.ref h, .int i, .int op, .int a2, .int b2, .ref o] (Nat.le_of_ble_eq_true rfl) (fun _ _ h => h.1.1) ?_
  intro p e s m below meth c ls hx hb hr hlk hml htab hown ht hnm hP hl
  obtain ⟨⟨-, hP, hK, hD0, hth⟩, hnc⟩ := hP
  have hD : va_D (inW (wL o cO u (wD h r w cL cB f b))) (wL o cO u (wD h r w cL cB f b)) := inW_self hD0
  have hl : lv_has ls 7 [(0, .ref h), (1, .int i), (2, .int op), (3, .int a2), (4, .int b2), (5, .ref o)] := hl
  refine lv_aload hx hb d_La_reckon_0 (lv_at hl 5 rfl) ?_
  refine lv_iconst (v := 0) hx hb d_La_reckon_2 (by decide) ?_
  refine lv_aload_n hx hb d_La_reckon_3 rfl (lv_at hl 0 rfl) ?_
  refine lv_iload_n hx hb d_La_reckon_4 rfl (lv_at hl 1 rfl) ?_
  refine lv_iload_n hx hb d_La_reckon_5 rfl (lv_at hl 2 rfl) ?_
  refine lv_iload_n hx hb d_La_reckon_6 rfl (lv_at hl 3 rfl) ?_
  refine lv_iload hx hb d_La_reckon_7 (lv_at hl 4 rfl) ?_
  refine tk_call hown htab hP hD (tx_runV (n := 4) (b := h) (As := [.int i, .int op, .int a2, .int b2]) (rest := [.int 0, .ref o]) hx hb hml hown ht (c_Dk_reckon l hl0 D h r w cL cB f b i op a2 b2) t_149 t_147 t_148 t_1 t_146 (by decide +kernel) rfl rfl ⟨by decide, by decide⟩ (preVT (hP.sub [1, 2, 3] rfl) (hK.sub [1, 2] rfl) (hD.sub [1, 2, 3] (by decide) rfl) hth rfl rfl) rfl rfl hl.1 rfl (lv_room (Nat.le_of_ble_eq_true rfl)) d_La_reckon_9 ⟨by decide, by decide⟩) (fun C hC => ?_) (fun q hq H locs hP hD hS => ?_)
  · cases hj : j_reckon f i op a2 b2 with
    | ok q => rw [hj] at hC; cases hC
    | error B =>
      rw [hj] at hC
      cases hC
      rcases er_reckon hj with rfl | rfl | rfl
      · refine ⟨16, ⟨by decide, by decide, by decide, _, ht _ t_33, Or.inl ⟨hth.2.2.2.2.2.1, rfl⟩⟩, fun x H locs hP hS => ?_⟩
        refine lv_astore (lv' := [(6, .ref x), (0, .ref h), (1, .int i), (2, .int op), (3, .int a2), (4, .int b2), (5, .ref o)]) hx hb d_La_reckon_16 hl (by decide) rfl (fun ls hl => ?_)
        refine lv_iconst (v := 1) hx hb d_La_reckon_18 (by decide) ?_
        exact tx_ret (W.iret (v := 1) hx hb hr (fun t hth _ => ⟨rfl, by rw [hth]; exact hP, hD, hS.F hth⟩) hS.2.2 d_La_reckon_19)
      · refine ⟨20, ⟨by decide, by decide, by decide, _, ht _ t_33, Or.inr ⟨hnc.2.1, ⟨by decide, by decide, by decide, _, ht _ t_118, Or.inl ⟨hth.2.2.2.2.2.2.2, rfl⟩⟩⟩⟩, fun x H locs hP hS => ?_⟩
        refine lv_astore (lv' := [(6, .ref x), (0, .ref h), (1, .int i), (2, .int op), (3, .int a2), (4, .int b2), (5, .ref o)]) hx hb d_La_reckon_20 hl (by decide) rfl (fun ls hl => ?_)
        refine lv_iconst (v := 2) hx hb d_La_reckon_22 (by decide) ?_
        exact tx_ret (W.iret (v := 2) hx hb hr (fun t hth _ => ⟨rfl, by rw [hth]; exact hP, hD, hS.F hth⟩) hS.2.2 d_La_reckon_23)
      · refine ⟨24, ⟨by decide, by decide, by decide, _, ht _ t_33, Or.inr ⟨hnc.1, ⟨by decide, by decide, by decide, _, ht _ t_118, Or.inr ⟨hnc.2.2, ⟨by decide, by decide, by decide, _, ht _ t_119, Or.inl ⟨hth.2.2.2.2.2.2.1, rfl⟩⟩⟩⟩⟩⟩, fun x H locs hP hS => ?_⟩
        refine lv_astore (lv' := [(6, .ref x), (0, .ref h), (1, .int i), (2, .int op), (3, .int a2), (4, .int b2), (5, .ref o)]) hx hb d_La_reckon_24 hl (by decide) rfl (fun ls hl => ?_)
        refine lv_iconst (v := 3) hx hb d_La_reckon_26 (by decide) ?_
        exact tx_ret (W.iret (v := 3) hx hb hr (fun t hth _ => ⟨rfl, by rw [hth]; exact hP, hD, hS.F hth⟩) hS.2.2 d_La_reckon_27)
  · cases hj : j_reckon f i op a2 b2 with
    | error B => rw [hj] at hq; cases hq
    | ok q2 =>
      rw [hj] at hq
      cases hq
      have hP : va_P D cl2 (wL o cO u (wD h r w cL cB q2.2 b)) H := hP
      have hD : va_D (inW (wL o cO u (wD h r w cL cB f b))) (wL o cO u (wD h r w cL cB q2.2 b)) := hD
      refine W.eq (g2 := F0 m 12 ls [.long q2.1, .int 0, .ref o]) rfl ?_
      refine va_last hx hb hK hP hD hS 0 0 rfl rfl (vp_in_nI (n := 0) (by decide) (by decide)) d_La_reckon_12 (fun H locs hP hD hS => ?_)
      have hP : va_P D cl2 (wL o cO (vp_updL u (Int32.toNatClampNeg 0) q2.1) (wD h r w cL cB q2.2 b)) H := hP
      have hD : va_D (inW (wL o cO u (wD h r w cL cB f b))) (wL o cO (vp_updL u (Int32.toNatClampNeg 0) q2.1) (wD h r w cL cB q2.2 b)) := hD
      refine lv_goto (tgt := 28) hx hb d_La_reckon_13 (by decide) ?_
      refine lv_iconst (v := 0) hx hb d_La_reckon_28 (by decide) ?_
      exact tx_ret (W.iret (v := 0) hx hb hr (fun t hth _ => ⟨rfl, by rw [hth]; exact hP, hD, hS.F hth⟩) hS.2.2 d_La_reckon_29)
theorem c_La_turn (l : Launch) (hl0 : l.stackTraces = false) (D : va_G) (h r w o : Nat) (cL cB cO : ClassId) (f u : Nat → Int64) (b : Nat → Int32) (i op a2 : Int32) : tx_Met l y_La_turn (Cond.codeWith y_La_turn b_La_turn 6 (some .int) [(0, 11, 14, 13), (0, 11, 18, 25)] :: tt) rmD (pL D (wL o cO u (wD h r w cL cB f b)) (tyL cO cL cB) [.ref h, .int i, .int op, .int a2, .ref o]) (tx_WQ D (wL o cO u (wD h r w cL cB f b)) (h_w (wL o cO u (wD h r w cL cB f b)) (fun q => wL o cO (vp_updL u 0 q.1) (wD h r w cL cB q.2 b)) (j_turn f i op a2)) (some (.int (h_k cd2 (j_turn f i op a2))))) 1 6 (inW (wL o cO u (wD h r w cL cB f b))) := by
  refine tx_startW (by decide +kernel) [.ref h, .int i, .int op, .int a2, .ref o] (Nat.le_of_ble_eq_true rfl) (fun _ _ h => h.1.1) ?_
  intro p e s m below meth c ls hx hb hr hlk hml htab hown ht hnm hP hl
  obtain ⟨⟨-, hP, hK, hD0, hth⟩, hnc⟩ := hP
  have hD : va_D (inW (wL o cO u (wD h r w cL cB f b))) (wL o cO u (wD h r w cL cB f b)) := inW_self hD0
  have hl : lv_has ls 6 [(0, .ref h), (1, .int i), (2, .int op), (3, .int a2), (4, .ref o)] := hl
  refine lv_aload hx hb d_La_turn_0 (lv_at hl 4 rfl) ?_
  refine lv_iconst (v := 0) hx hb d_La_turn_2 (by decide) ?_
  refine lv_aload_n hx hb d_La_turn_3 rfl (lv_at hl 0 rfl) ?_
  refine lv_iload_n hx hb d_La_turn_4 rfl (lv_at hl 1 rfl) ?_
  refine lv_iload_n hx hb d_La_turn_5 rfl (lv_at hl 2 rfl) ?_
  refine lv_iload_n hx hb d_La_turn_6 rfl (lv_at hl 3 rfl) ?_
  refine tk_call hown htab hP hD (tx_runV (n := 3) (b := h) (As := [.int i, .int op, .int a2]) (rest := [.int 0, .ref o]) hx hb hml hown ht (c_Dk_turn l hl0 D h r w cL cB f b i op a2) t_204 t_202 t_203 t_1 t_201 (by decide +kernel) rfl rfl ⟨by decide, by decide⟩ (preVT (hP.sub [1, 2, 3] rfl) (hK.sub [1, 2] rfl) (hD.sub [1, 2, 3] (by decide) rfl) hth rfl rfl) rfl rfl hl.1 rfl (lv_room (Nat.le_of_ble_eq_true rfl)) d_La_turn_7 ⟨by decide, by decide⟩) (fun C hC => ?_) (fun q hq H locs hP hD hS => ?_)
  · cases hj : j_turn f i op a2 with
    | ok q => rw [hj] at hC; cases hC
    | error B =>
      rw [hj] at hC
      cases hC
      rcases er_turn hj with rfl | rfl
      · refine ⟨14, ⟨by decide, by decide, by decide, _, ht _ t_33, Or.inl ⟨hth.2.2.2.2.2.1, rfl⟩⟩, fun x H locs hP hS => ?_⟩
        refine lv_astore (lv' := [(5, .ref x), (0, .ref h), (1, .int i), (2, .int op), (3, .int a2), (4, .ref o)]) hx hb d_La_turn_14 hl (by decide) rfl (fun ls hl => ?_)
        refine lv_iconst (v := 1) hx hb d_La_turn_16 (by decide) ?_
        exact tx_ret (W.iret (v := 1) hx hb hr (fun t hth _ => ⟨rfl, by rw [hth]; exact hP, hD, hS.F hth⟩) hS.2.2 d_La_turn_17)
      · refine ⟨18, ⟨by decide, by decide, by decide, _, ht _ t_33, Or.inr ⟨hnc.1, ⟨by decide, by decide, by decide, _, ht _ t_119, Or.inl ⟨hth.2.2.2.2.2.2.1, rfl⟩⟩⟩⟩, fun x H locs hP hS => ?_⟩
        refine lv_astore (lv' := [(5, .ref x), (0, .ref h), (1, .int i), (2, .int op), (3, .int a2), (4, .ref o)]) hx hb d_La_turn_18 hl (by decide) rfl (fun ls hl => ?_)
        refine lv_iconst (v := 2) hx hb d_La_turn_20 (by decide) ?_
        exact tx_ret (W.iret (v := 2) hx hb hr (fun t hth _ => ⟨rfl, by rw [hth]; exact hP, hD, hS.F hth⟩) hS.2.2 d_La_turn_21)
  · cases hj : j_turn f i op a2 with
    | error B => rw [hj] at hq; cases hq
    | ok q2 =>
      rw [hj] at hq
      cases hq
      have hP : va_P D cl2 (wL o cO u (wD h r w cL cB q2.2 b)) H := hP
      have hD : va_D (inW (wL o cO u (wD h r w cL cB f b))) (wL o cO u (wD h r w cL cB q2.2 b)) := hD
      refine W.eq (g2 := F0 m 10 ls [.long q2.1, .int 0, .ref o]) rfl ?_
      refine va_last hx hb hK hP hD hS 0 0 rfl rfl (vp_in_nI (n := 0) (by decide) (by decide)) d_La_turn_10 (fun H locs hP hD hS => ?_)
      have hP : va_P D cl2 (wL o cO (vp_updL u (Int32.toNatClampNeg 0) q2.1) (wD h r w cL cB q2.2 b)) H := hP
      have hD : va_D (inW (wL o cO u (wD h r w cL cB f b))) (wL o cO (vp_updL u (Int32.toNatClampNeg 0) q2.1) (wD h r w cL cB q2.2 b)) := hD
      refine lv_goto (tgt := 22) hx hb d_La_turn_11 (by decide) ?_
      refine lv_iconst (v := 0) hx hb d_La_turn_22 (by decide) ?_
      exact tx_ret (W.iret (v := 0) hx hb hr (fun t hth _ => ⟨rfl, by rw [hth]; exact hP, hD, hS.F hth⟩) hS.2.2 d_La_turn_23)
theorem c_La_round (l : Launch) (hl0 : l.stackTraces = false) (D : va_G) (h r w o : Nat) (cL cB cO : ClassId) (f u : Nat → Int64) (b : Nat → Int32) (i a2 d2 : Int32) : tx_Met l y_La_round (Cond.codeWith y_La_round b_La_round 6 (some .int) [(0, 11, 14, 13), (0, 11, 18, 25)] :: tt) rmD (pL D (wL o cO u (wD h r w cL cB f b)) (tyL cO cL cB) [.ref h, .int i, .int a2, .int d2, .ref o]) (tx_WQ D (wL o cO u (wD h r w cL cB f b)) (h_w (wL o cO u (wD h r w cL cB f b)) (fun q => wL o cO (vp_updL u 0 q.1) (wD h r w cL cB q.2 b)) (j_rnd f i a2 d2)) (some (.int (h_k cd2 (j_rnd f i a2 d2))))) 1 6 (inW (wL o cO u (wD h r w cL cB f b))) := by
  refine tx_startW (by decide +kernel) [.ref h, .int i, .int a2, .int d2, .ref o] (Nat.le_of_ble_eq_true rfl) (fun _ _ h => h.1.1) ?_
  intro p e s m below meth c ls hx hb hr hlk hml htab hown ht hnm hP hl
  obtain ⟨⟨-, hP, hK, hD0, hth⟩, hnc⟩ := hP
  have hD : va_D (inW (wL o cO u (wD h r w cL cB f b))) (wL o cO u (wD h r w cL cB f b)) := inW_self hD0
  have hl : lv_has ls 6 [(0, .ref h), (1, .int i), (2, .int a2), (3, .int d2), (4, .ref o)] := hl
  refine lv_aload hx hb d_La_round_0 (lv_at hl 4 rfl) ?_
  refine lv_iconst (v := 0) hx hb d_La_round_2 (by decide) ?_
  refine lv_aload_n hx hb d_La_round_3 rfl (lv_at hl 0 rfl) ?_
  refine lv_iload_n hx hb d_La_round_4 rfl (lv_at hl 1 rfl) ?_
  refine lv_iload_n hx hb d_La_round_5 rfl (lv_at hl 2 rfl) ?_
  refine lv_iload_n hx hb d_La_round_6 rfl (lv_at hl 3 rfl) ?_
  refine tk_call hown htab hP hD (tx_runV (n := 3) (b := h) (As := [.int i, .int a2, .int d2]) (rest := [.int 0, .ref o]) hx hb hml hown ht (c_Dk_round l hl0 D h r w cL cB f b i a2 d2) t_220 t_218 t_219 t_1 t_217 (by decide +kernel) rfl rfl ⟨by decide, by decide⟩ (preVT (hP.sub [1, 2, 3] rfl) (hK.sub [1, 2] rfl) (hD.sub [1, 2, 3] (by decide) rfl) hth rfl rfl) rfl rfl hl.1 rfl (lv_room (Nat.le_of_ble_eq_true rfl)) d_La_round_7 ⟨by decide, by decide⟩) (fun C hC => ?_) (fun q hq H locs hP hD hS => ?_)
  · cases hj : j_rnd f i a2 d2 with
    | ok q => rw [hj] at hC; cases hC
    | error B =>
      rw [hj] at hC
      cases hC
      rcases er_rnd hj with rfl | rfl
      · refine ⟨14, ⟨by decide, by decide, by decide, _, ht _ t_33, Or.inl ⟨hth.2.2.2.2.2.1, rfl⟩⟩, fun x H locs hP hS => ?_⟩
        refine lv_astore (lv' := [(5, .ref x), (0, .ref h), (1, .int i), (2, .int a2), (3, .int d2), (4, .ref o)]) hx hb d_La_round_14 hl (by decide) rfl (fun ls hl => ?_)
        refine lv_iconst (v := 1) hx hb d_La_round_16 (by decide) ?_
        exact tx_ret (W.iret (v := 1) hx hb hr (fun t hth _ => ⟨rfl, by rw [hth]; exact hP, hD, hS.F hth⟩) hS.2.2 d_La_round_17)
      · refine ⟨18, ⟨by decide, by decide, by decide, _, ht _ t_33, Or.inr ⟨hnc.1, ⟨by decide, by decide, by decide, _, ht _ t_119, Or.inl ⟨hth.2.2.2.2.2.2.1, rfl⟩⟩⟩⟩, fun x H locs hP hS => ?_⟩
        refine lv_astore (lv' := [(5, .ref x), (0, .ref h), (1, .int i), (2, .int a2), (3, .int d2), (4, .ref o)]) hx hb d_La_round_18 hl (by decide) rfl (fun ls hl => ?_)
        refine lv_iconst (v := 2) hx hb d_La_round_20 (by decide) ?_
        exact tx_ret (W.iret (v := 2) hx hb hr (fun t hth _ => ⟨rfl, by rw [hth]; exact hP, hD, hS.F hth⟩) hS.2.2 d_La_round_21)
  · cases hj : j_rnd f i a2 d2 with
    | error B => rw [hj] at hq; cases hq
    | ok q2 =>
      rw [hj] at hq
      cases hq
      have hP : va_P D cl2 (wL o cO u (wD h r w cL cB q2.2 b)) H := hP
      have hD : va_D (inW (wL o cO u (wD h r w cL cB f b))) (wL o cO u (wD h r w cL cB q2.2 b)) := hD
      refine W.eq (g2 := F0 m 10 ls [.long q2.1, .int 0, .ref o]) rfl ?_
      refine va_last hx hb hK hP hD hS 0 0 rfl rfl (vp_in_nI (n := 0) (by decide) (by decide)) d_La_round_10 (fun H locs hP hD hS => ?_)
      have hP : va_P D cl2 (wL o cO (vp_updL u (Int32.toNatClampNeg 0) q2.1) (wD h r w cL cB q2.2 b)) H := hP
      have hD : va_D (inW (wL o cO u (wD h r w cL cB f b))) (wL o cO (vp_updL u (Int32.toNatClampNeg 0) q2.1) (wD h r w cL cB q2.2 b)) := hD
      refine lv_goto (tgt := 22) hx hb d_La_round_11 (by decide) ?_
      refine lv_iconst (v := 0) hx hb d_La_round_22 (by decide) ?_
      exact tx_ret (W.iret (v := 0) hx hb hr (fun t hth _ => ⟨rfl, by rw [hth]; exact hP, hD, hS.F hth⟩) hS.2.2 d_La_round_23)
theorem c_La_print (l : Launch) (hl0 : l.stackTraces = false) (D : va_G) (h r w o : Nat) (cL cB cO : ClassId) (f u : Nat → Int64) (b : Nat → Int32) (a2 i : Int32) (hf : okR f) : tx_Met l y_La_print (Cond.codeWith y_La_print b_La_print 5 (some .int) [(0, 10, 13, 13)] :: tt) rmD (pL D (wL o cO u (wD h r w cL cB f b)) (tyL cO cL cB) [.ref h, .int a2, .int i, .ref o]) (tx_WQ D (wL o cO u (wD h r w cL cB f b)) (h_w (wL o cO u (wD h r w cL cB f b)) (fun q => wL o cO (vp_updL u 0 (Int32.toInt64 q.1)) (wD h r w cL cB f (wr b q.2))) (j_print f a2 i)) (some (.int (h_k cd1 (j_print f a2 i))))) 1 6 (inW (wL o cO u (wD h r w cL cB f b))) := by
  refine tx_startW (by decide +kernel) [.ref h, .int a2, .int i, .ref o] (Nat.le_of_ble_eq_true rfl) (fun _ _ h => h.1.1) ?_
  intro p e s m below meth c ls hx hb hr hlk hml htab hown ht hnm hP hl
  obtain ⟨⟨-, hP, hK, hD0, hth⟩, hnc⟩ := hP
  have hD : va_D (inW (wL o cO u (wD h r w cL cB f b))) (wL o cO u (wD h r w cL cB f b)) := inW_self hD0
  have hl : lv_has ls 5 [(0, .ref h), (1, .int a2), (2, .int i), (3, .ref o)] := hl
  refine lv_aload_n hx hb d_La_print_0 rfl (lv_at hl 3 rfl) ?_
  refine lv_iconst (v := 0) hx hb d_La_print_1 (by decide) ?_
  refine lv_aload_n hx hb d_La_print_2 rfl (lv_at hl 0 rfl) ?_
  refine lv_iload_n hx hb d_La_print_3 rfl (lv_at hl 1 rfl) ?_
  refine lv_iload_n hx hb d_La_print_4 rfl (lv_at hl 2 rfl) ?_
  refine tk_call hown htab hP hD (tx_runV (n := 2) (b := h) (As := [.int a2, .int i]) (rest := [.int 0, .ref o]) hx hb hml hown ht (c_Dk_print l hl0 D h r w cL cB f b a2 i hf) t_233 t_231 t_232 t_1 t_230 (by decide +kernel) rfl rfl ⟨by decide, by decide⟩ (preVT (hP.sub [1, 2, 3] rfl) (hK.sub [1, 2] rfl) (hD.sub [1, 2, 3] (by decide) rfl) hth rfl rfl) rfl rfl hl.1 rfl (lv_room (Nat.le_of_ble_eq_true rfl)) d_La_print_5 ⟨by decide, by decide⟩) (fun C hC => ?_) (fun q hq H locs hP hD hS => ?_)
  · cases hj : j_print f a2 i with
    | ok q => rw [hj] at hC; cases hC
    | error B =>
      rw [hj] at hC
      cases hC
      obtain rfl := er_print hj
      refine ⟨13, ⟨by decide, by decide, by decide, _, ht _ t_33, Or.inl ⟨hth.2.2.2.2.2.1, rfl⟩⟩, fun x H locs hP hS => ?_⟩
      refine lv_astore (lv' := [(4, .ref x), (0, .ref h), (1, .int a2), (2, .int i), (3, .ref o)]) hx hb d_La_print_13 hl (by decide) rfl (fun ls hl => ?_)
      refine lv_iconst (v := 1) hx hb d_La_print_15 (by decide) ?_
      exact tx_ret (W.iret (v := 1) hx hb hr (fun t hth _ => ⟨rfl, by rw [hth]; exact hP, hD, hS.F hth⟩) hS.2.2 d_La_print_16)
  · cases hj : j_print f a2 i with
    | error B => rw [hj] at hq; cases hq
    | ok q2 =>
      rw [hj] at hq
      cases hq
      have hP : va_P D cl2 (wL o cO u (wD h r w cL cB f (wr b q2.2))) H := hP
      have hD : va_D (inW (wL o cO u (wD h r w cL cB f b))) (wL o cO u (wD h r w cL cB f (wr b q2.2))) := hD
      refine W.eq (g2 := F0 m 8 ls [.int q2.1, .int 0, .ref o]) rfl ?_
      refine lv_i2l (v := Int32.toInt64 q2.1) hx hb d_La_print_8 rfl ?_
      refine va_last hx hb hK hP hD hS 0 0 rfl rfl (vp_in_nI (n := 0) (by decide) (by decide)) d_La_print_9 (fun H locs hP hD hS => ?_)
      have hP : va_P D cl2 (wL o cO (vp_updL u (Int32.toNatClampNeg 0) (Int32.toInt64 q2.1)) (wD h r w cL cB f (wr b q2.2))) H := hP
      have hD : va_D (inW (wL o cO u (wD h r w cL cB f b))) (wL o cO (vp_updL u (Int32.toNatClampNeg 0) (Int32.toInt64 q2.1)) (wD h r w cL cB f (wr b q2.2))) := hD
      refine lv_goto (tgt := 17) hx hb d_La_print_10 (by decide) ?_
      refine lv_iconst (v := 0) hx hb d_La_print_17 (by decide) ?_
      exact tx_ret (W.iret (v := 0) hx hb hr (fun t hth _ => ⟨rfl, by rw [hth]; exact hP, hD, hS.F hth⟩) hS.2.2 d_La_print_18)
theorem c_La_average (l : Launch) (hl0 : l.stackTraces = false) (D : va_G) (h r w o : Nat) (cL cB cO : ClassId) (f u : Nat → Int64) (b : Nat → Int32) (n : Int32) : tx_Met l y_La_average (Cond.codeWith y_La_average b_La_average 4 (some .int) [(0, 8, 11, 13), (0, 8, 14, 25)] :: tt) rmD (pL D (wL o cO u (wD h r w cL cB f b)) (tyL cO cL cB) [.ref h, .int n, .ref o]) (tx_WQ D (wL o cO u (wD h r w cL cB f b)) (h_w (wL o cO u (wD h r w cL cB f b)) (fun q => wL o cO (vp_updL u 0 q.1) (wD h r w cL cB q.2 b)) (j_avg f n)) (some (.int (h_k cd2 (j_avg f n))))) 1 6 (inW (wL o cO u (wD h r w cL cB f b))) := by
  refine tx_startW (by decide +kernel) [.ref h, .int n, .ref o] (Nat.le_of_ble_eq_true rfl) (fun _ _ h => h.1.1) ?_
  intro p e s m below meth c ls hx hb hr hlk hml htab hown ht hnm hP hl
  obtain ⟨⟨-, hP, hK, hD0, hth⟩, hnc⟩ := hP
  have hD : va_D (inW (wL o cO u (wD h r w cL cB f b))) (wL o cO u (wD h r w cL cB f b)) := inW_self hD0
  have hl : lv_has ls 4 [(0, .ref h), (1, .int n), (2, .ref o)] := hl
  refine lv_aload_n hx hb d_La_average_0 rfl (lv_at hl 2 rfl) ?_
  refine lv_iconst (v := 0) hx hb d_La_average_1 (by decide) ?_
  refine lv_aload_n hx hb d_La_average_2 rfl (lv_at hl 0 rfl) ?_
  refine lv_iload_n hx hb d_La_average_3 rfl (lv_at hl 1 rfl) ?_
  refine tk_call hown htab hP hD (tx_runV (n := 1) (b := h) (As := [.int n]) (rest := [.int 0, .ref o]) hx hb hml hown ht (c_Dk_average l hl0 D h r w cL cB f b n) t_248 t_246 t_247 t_1 t_245 (by decide +kernel) rfl rfl ⟨by decide, by decide⟩ (preVT (hP.sub [1, 2, 3] rfl) (hK.sub [1, 2] rfl) (hD.sub [1, 2, 3] (by decide) rfl) hth rfl rfl) rfl rfl hl.1 rfl (lv_room (Nat.le_of_ble_eq_true rfl)) d_La_average_4 ⟨by decide, by decide⟩) (fun C hC => ?_) (fun q hq H locs hP hD hS => ?_)
  · cases hj : j_avg f n with
    | ok q => rw [hj] at hC; cases hC
    | error B =>
      rw [hj] at hC
      cases hC
      rcases er_avg hj with rfl | rfl
      · refine ⟨11, ⟨by decide, by decide, by decide, _, ht _ t_33, Or.inl ⟨hth.2.2.2.2.2.1, rfl⟩⟩, fun x H locs hP hS => ?_⟩
        refine lv_astore_n (lv' := [(3, .ref x), (0, .ref h), (1, .int n), (2, .ref o)]) hx hb d_La_average_11 rfl hl (by decide) rfl (fun ls hl => ?_)
        refine lv_iconst (v := 1) hx hb d_La_average_12 (by decide) ?_
        exact tx_ret (W.iret (v := 1) hx hb hr (fun t hth _ => ⟨rfl, by rw [hth]; exact hP, hD, hS.F hth⟩) hS.2.2 d_La_average_13)
      · refine ⟨14, ⟨by decide, by decide, by decide, _, ht _ t_33, Or.inr ⟨hnc.1, ⟨by decide, by decide, by decide, _, ht _ t_119, Or.inl ⟨hth.2.2.2.2.2.2.1, rfl⟩⟩⟩⟩, fun x H locs hP hS => ?_⟩
        refine lv_astore_n (lv' := [(3, .ref x), (0, .ref h), (1, .int n), (2, .ref o)]) hx hb d_La_average_14 rfl hl (by decide) rfl (fun ls hl => ?_)
        refine lv_iconst (v := 2) hx hb d_La_average_15 (by decide) ?_
        exact tx_ret (W.iret (v := 2) hx hb hr (fun t hth _ => ⟨rfl, by rw [hth]; exact hP, hD, hS.F hth⟩) hS.2.2 d_La_average_16)
  · cases hj : j_avg f n with
    | error B => rw [hj] at hq; cases hq
    | ok q2 =>
      rw [hj] at hq
      cases hq
      have hP : va_P D cl2 (wL o cO u (wD h r w cL cB q2.2 b)) H := hP
      have hD : va_D (inW (wL o cO u (wD h r w cL cB f b))) (wL o cO u (wD h r w cL cB q2.2 b)) := hD
      refine W.eq (g2 := F0 m 7 ls [.long q2.1, .int 0, .ref o]) rfl ?_
      refine va_last hx hb hK hP hD hS 0 0 rfl rfl (vp_in_nI (n := 0) (by decide) (by decide)) d_La_average_7 (fun H locs hP hD hS => ?_)
      have hP : va_P D cl2 (wL o cO (vp_updL u (Int32.toNatClampNeg 0) q2.1) (wD h r w cL cB q2.2 b)) H := hP
      have hD : va_D (inW (wL o cO u (wD h r w cL cB f b))) (wL o cO (vp_updL u (Int32.toNatClampNeg 0) q2.1) (wD h r w cL cB q2.2 b)) := hD
      refine lv_goto (tgt := 17) hx hb d_La_average_8 (by decide) ?_
      refine lv_iconst (v := 0) hx hb d_La_average_17 (by decide) ?_
      exact tx_ret (W.iret (v := 0) hx hb hr (fun t hth _ => ⟨rfl, by rw [hth]; exact hP, hD, hS.F hth⟩) hS.2.2 d_La_average_18)
end
section
-- the two constructors; printed by gen/p19.py
theorem tt_GoodIn2 {w1 : Cond} (h : w1 ∈ tt) : GoodIn tt (w1 :: tt) := by
  intro w hw
  rcases List.mem_cons.mp hw with rfl | hw
  · exact ⟨h, tt_good h⟩
  · exact ⟨hw, tt_good hw⟩
theorem vcl_l {n : Nat} (cA : ClassId) : vp_cell cA (n, .inr (.inl (fun _ => 0))) = arrV cA n (fun _ => defaultValue .long) := by rw [vp_cell_l]; rfl
theorem vcl_b {n : Nat} (cA : ClassId) : vp_cell cA (n, .inl (fun _ => 0)) = arrV cA n (fun _ => defaultValue .byte) := by rw [vp_cell_i]; rfl
theorem vcl_i {n : Nat} (cA : ClassId) : vp_cell cA (n, .inl (fun _ => 0)) = arrV cA n (fun _ => defaultValue .int) := by rw [vp_cell_i]; rfl
theorem c_Dk_init (l : Launch) (dC : Nat → ClassId) (dI : Nat → Nat → Nat) (h sz : Nat) : Met l y_Dk_init (Cond.code y_Dk_init b_Dk_init 1 none :: tt) ({ frames := 1, cells := 2, slots := 40, locals := 20 }) (va_Pc [.ref h] (fun U => U.heap.size = sz ∧ va_P (dC, dI) cl2 [(h, .inr (0, [.null, .null]))] U.heap ∧ va_K (dC, dI) cl2 [] U ∧ va_D (fun _ => True) [(h, .inr (0, [.null, .null]))])) (va_Qv (fun _ : Unit => True) (fun _ t => ∃ (r w : Nat) (cL cB : ClassId), va_P (dC, dI) cl2 (wD h r w cL cB (fun _ => 0) (fun _ => 0)) t.heap ∧ va_K (dC, dI) cl2 (tyD cL cB) t ∧ va_D (va_A [(h, .inr (0, [.null, .null]))] sz) (wD h r w cL cB (fun _ => 0) (fun _ => 0))) (va_A [(h, .inr (0, [.null, .null]))] sz)) 2 40 (va_A [(h, .inr (0, [.null, .null]))] sz) := by
  refine Met.ofW (cc := b_Dk_init) (maxL := 1) (ret := none) (by decide) rfl ?_
  intro p e s m args below meth c s₁ B hml hv
  obtain ⟨rfl, hsz, hP, hK, hD0⟩ := hv
  have hx := B.exec
  have hb := B.bytes
  have hr := B.returns
  have hts := atoms_spec (ws := (Cond.code y_Dk_init b_Dk_init 1 none :: tt)) B.pre
  have ht : ∀ w ∈ tt, w.before (([.ref h] : List Value).toArray) s = true := fun w hw => hts w (List.mem_cons_of_mem _ hw)
  have hown : s.vm.findClass R_Dk = some m.cls := findClass_of_methodNamed B.named
  have hlocks := B.notSynchronized
  have hin : meth.name = "<init>" := (name_of_methodNamed B.named B.method).1
  subst hsz
  have hD := hD0.self (sz := s.heap.size)
  generalize hAe : va_A [(h, .inr (0, [.null, .null]))] s.heap.size = A at hD ⊢
  have hA : ∀ q : Nat, s.heap.size ≤ q → A q := fun q h => by rw [← hAe]; exact Or.inr h
  have hS : va_S A s.heap s.heap [] := va_S.rf
  have hP : va_P (dC, dI) cl2 [(h, .inr (0, [.null, .null]))] s.heap := hP
  have hl := lv_entry ([.ref h]) (n := 1) (Nat.le_of_ble_eq_true rfl)
  rw [lg_entry_eq]
  generalize (lg_sl ([.ref h]) ++ List.replicate (1 - (lg_sl ([.ref h])).length) Slot.unset).toArray = ls at hl ⊢
  have hl : lv_has ls 1 [(0, .ref h)] := hl
  refine lv_aload_n hx hb d_Dk_init_0 rfl (lv_at hl 0 rfl) ?_
  refine W.objInit hx hb hown (ht _ t_18) (ht _ t_19) (ht _ t_20) rfl (by rw [hml]; exact hl.1) rfl d_Dk_init_1 (Nat.le_of_ble_eq_true rfl) (Nat.le_of_ble_eq_true rfl) ?_
  refine W.eq (g2 := F0 m 4 ls []) rfl ?_
  refine lv_aload_n hx hb d_Dk_init_4 rfl (lv_at hl 0 rfl) ?_
  refine lv_bipush (v := 8) hx hb d_Dk_init_5 (by decide) ?_
  refine va_newa (D := (dC, dI)) (atype := .long) (ty := .long) (N' := 8) (a0 := (8, .inr (.inl (fun _ => 0)))) hx hb (ht _ t_28) rfl hK hP hD hS hA (fun cA => vcl_l cA) (by decide) (by decide) (by decide) (Nat.le_of_ble_eq_true rfl) (Nat.le_of_ble_eq_true rfl) d_Dk_init_7 (fun r cL H hK hP hD hS => ?_)
  have hP : va_P (dC, dI) cl2 [(h, .inr (0, [.null, .null])), (r, .inl (cL, 8, .inr (.inl (fun _ => 0))))] H := hP
  have hD : va_D A [(h, .inr (0, [.null, .null])), (r, .inl (cL, 8, .inr (.inl (fun _ => 0))))] := hD
  have hK : va_K (dC, dI) cl2 [(cL, .long)] s := hK
  refine va_putF (D := (dC, dI)) (ci := 0) (v := .ref r) (ty := .array .long) (C := R_Dk) (T := F_Dk) (N := 2) hx hb ht uw_Dk t_Dk t_Dk_ok n_Dk hown hK hP hD hS 0 rfl rfl 0 (by decide) (ht _ t_21) (fun _ h9 => h9) rfl hin rfl (by decide +kernel) rfl rfl (Nat.le_of_ble_eq_true rfl) d_Dk_init_9 (fun H locs hP hD hS => ?_)
  have hP : va_P (dC, dI) cl2 [(h, .inr (0, [.ref r, .null])), (r, .inl (cL, 8, .inr (.inl (fun _ => 0))))] H := hP
  have hD : va_D A [(h, .inr (0, [.ref r, .null])), (r, .inl (cL, 8, .inr (.inl (fun _ => 0))))] := hD
  refine lv_aload_n hx hb d_Dk_init_12 rfl (lv_at hl 0 rfl) ?_
  refine lv_bipush (v := 32) hx hb d_Dk_init_13 (by decide) ?_
  refine va_newa (D := (dC, dI)) (atype := .byte) (ty := .byte) (N' := 32) (a0 := (32, .inl (fun _ => 0))) hx hb (ht _ t_29) rfl hK hP hD hS hA (fun cA => vcl_b cA) (by decide) (by decide) (by decide) (Nat.le_of_ble_eq_true rfl) (Nat.le_of_ble_eq_true rfl) d_Dk_init_15 (fun w cB H hK hP hD hS => ?_)
  have hP : va_P (dC, dI) cl2 [(h, .inr (0, [.ref r, .null])), (r, .inl (cL, 8, .inr (.inl (fun _ => 0)))), (w, .inl (cB, 32, .inl (fun _ => 0)))] H := hP
  have hD : va_D A [(h, .inr (0, [.ref r, .null])), (r, .inl (cL, 8, .inr (.inl (fun _ => 0)))), (w, .inl (cB, 32, .inl (fun _ => 0)))] := hD
  have hK : va_K (dC, dI) cl2 [(cL, .long), (cB, .byte)] s := hK
  refine va_putF (D := (dC, dI)) (ci := 0) (v := .ref w) (ty := .array .byte) (C := R_Dk) (T := F_Dk) (N := 2) hx hb ht uw_Dk t_Dk t_Dk_ok n_Dk hown hK hP hD hS 0 rfl rfl 1 (by decide) (ht _ t_22) (fun _ h9 => h9) rfl hin rfl (by decide +kernel) rfl rfl (Nat.le_of_ble_eq_true rfl) d_Dk_init_17 (fun H locs hP hD hS => ?_)
  have hP : va_P (dC, dI) cl2 [(h, .inr (0, [.ref r, .ref w])), (r, .inl (cL, 8, .inr (.inl (fun _ => 0)))), (w, .inl (cB, 32, .inl (fun _ => 0)))] H := hP
  have hD : va_D A [(h, .inr (0, [.ref r, .ref w])), (r, .inl (cL, 8, .inr (.inl (fun _ => 0)))), (w, .inl (cB, 32, .inl (fun _ => 0)))] := hD
  exact W.vret hx hb hr (fun t ht hW => ⟨⟨(), rfl, trivial, r, w, cL, cB, by rw [ht]; exact hP, va_K.moved hW.alike hK, hD⟩, hS.F ht⟩) hS.2.2 d_Dk_init_20
theorem c_Mo_init (l : Launch) (dC : Nat → ClassId) (dI : Nat → Nat → Nat) (h sz : Nat) : Met l y_Mo_init (Cond.code y_Mo_init b_Mo_init 1 none :: tt) ({ frames := 1, cells := 2, slots := 32, locals := 20 }) (va_Pc [.ref h] (fun U => U.heap.size = sz ∧ va_P (dC, dI) cl2 [(h, .inr (1, [.int 0, .null, .null]))] U.heap ∧ va_K (dC, dI) cl2 [] U ∧ va_D (fun _ => True) [(h, .inr (1, [.int 0, .null, .null]))])) (va_Qv (fun _ : Unit => True) (fun _ t => ∃ (r w : Nat) (cL cB : ClassId), va_P (dC, dI) cl2 (wM h r w cL cB 0 (fun _ => 0) (fun _ => 0)) t.heap ∧ va_K (dC, dI) cl2 (tyM cL cB) t ∧ va_D (va_A [(h, .inr (1, [.int 0, .null, .null]))] sz) (wM h r w cL cB 0 (fun _ => 0) (fun _ => 0))) (va_A [(h, .inr (1, [.int 0, .null, .null]))] sz)) 2 32 (va_A [(h, .inr (1, [.int 0, .null, .null]))] sz) := by
  refine Met.ofW (cc := b_Mo_init) (maxL := 1) (ret := none) (by decide) rfl ?_
  intro p e s m args below meth c s₁ B hml hv
  obtain ⟨rfl, hsz, hP, hK, hD0⟩ := hv
  have hx := B.exec
  have hb := B.bytes
  have hr := B.returns
  have hts := atoms_spec (ws := (Cond.code y_Mo_init b_Mo_init 1 none :: tt)) B.pre
  have ht : ∀ w ∈ tt, w.before (([.ref h] : List Value).toArray) s = true := fun w hw => hts w (List.mem_cons_of_mem _ hw)
  have hown : s.vm.findClass R_Mo = some m.cls := findClass_of_methodNamed B.named
  have hlocks := B.notSynchronized
  have hin : meth.name = "<init>" := (name_of_methodNamed B.named B.method).1
  subst hsz
  have hD := hD0.self (sz := s.heap.size)
  generalize hAe : va_A [(h, .inr (1, [.int 0, .null, .null]))] s.heap.size = A at hD ⊢
  have hA : ∀ q : Nat, s.heap.size ≤ q → A q := fun q h => by rw [← hAe]; exact Or.inr h
  have hS : va_S A s.heap s.heap [] := va_S.rf
  have hP : va_P (dC, dI) cl2 [(h, .inr (1, [.int 0, .null, .null]))] s.heap := hP
  have hl := lv_entry ([.ref h]) (n := 1) (Nat.le_of_ble_eq_true rfl)
  rw [lg_entry_eq]
  generalize (lg_sl ([.ref h]) ++ List.replicate (1 - (lg_sl ([.ref h])).length) Slot.unset).toArray = ls at hl ⊢
  have hl : lv_has ls 1 [(0, .ref h)] := hl
  refine lv_aload_n hx hb d_Mo_init_0 rfl (lv_at hl 0 rfl) ?_
  refine W.objInit hx hb hown (ht _ t_255) (ht _ t_19) (ht _ t_20) rfl (by rw [hml]; exact hl.1) rfl d_Mo_init_1 (Nat.le_of_ble_eq_true rfl) (Nat.le_of_ble_eq_true rfl) ?_
  refine W.eq (g2 := F0 m 4 ls []) rfl ?_
  refine lv_aload_n hx hb d_Mo_init_4 rfl (lv_at hl 0 rfl) ?_
  refine lv_bipush (v := 8) hx hb d_Mo_init_5 (by decide) ?_
  refine va_newa (D := (dC, dI)) (atype := .long) (ty := .long) (N' := 8) (a0 := (8, .inr (.inl (fun _ => 0)))) hx hb (ht _ t_28) rfl hK hP hD hS hA (fun cA => vcl_l cA) (by decide) (by decide) (by decide) (Nat.le_of_ble_eq_true rfl) (Nat.le_of_ble_eq_true rfl) d_Mo_init_7 (fun r cL H hK hP hD hS => ?_)
  have hP : va_P (dC, dI) cl2 [(h, .inr (1, [.int 0, .null, .null])), (r, .inl (cL, 8, .inr (.inl (fun _ => 0))))] H := hP
  have hD : va_D A [(h, .inr (1, [.int 0, .null, .null])), (r, .inl (cL, 8, .inr (.inl (fun _ => 0))))] := hD
  have hK : va_K (dC, dI) cl2 [(cL, .long)] s := hK
  refine va_putF (D := (dC, dI)) (ci := 1) (v := .ref r) (ty := .array .long) (C := R_Mo) (T := F_Mo) (N := 3) hx hb ht uw_Mo t_Mo t_Mo_ok n_Mo hown hK hP hD hS 0 rfl rfl 1 (by decide) (ht _ t_257) (fun _ h9 => h9) rfl hin rfl (by decide +kernel) rfl rfl (Nat.le_of_ble_eq_true rfl) d_Mo_init_9 (fun H locs hP hD hS => ?_)
  have hP : va_P (dC, dI) cl2 [(h, .inr (1, [.int 0, .ref r, .null])), (r, .inl (cL, 8, .inr (.inl (fun _ => 0))))] H := hP
  have hD : va_D A [(h, .inr (1, [.int 0, .ref r, .null])), (r, .inl (cL, 8, .inr (.inl (fun _ => 0))))] := hD
  refine lv_aload_n hx hb d_Mo_init_12 rfl (lv_at hl 0 rfl) ?_
  refine lv_bipush (v := 24) hx hb d_Mo_init_13 (by decide) ?_
  refine va_newa (D := (dC, dI)) (atype := .int) (ty := .int) (N' := 24) (a0 := (24, .inl (fun _ => 0))) hx hb (ht _ t_266) rfl hK hP hD hS hA (fun cA => vcl_i cA) (by decide) (by decide) (by decide) (Nat.le_of_ble_eq_true rfl) (Nat.le_of_ble_eq_true rfl) d_Mo_init_15 (fun w cB H hK hP hD hS => ?_)
  have hP : va_P (dC, dI) cl2 [(h, .inr (1, [.int 0, .ref r, .null])), (r, .inl (cL, 8, .inr (.inl (fun _ => 0)))), (w, .inl (cB, 24, .inl (fun _ => 0)))] H := hP
  have hD : va_D A [(h, .inr (1, [.int 0, .ref r, .null])), (r, .inl (cL, 8, .inr (.inl (fun _ => 0)))), (w, .inl (cB, 24, .inl (fun _ => 0)))] := hD
  have hK : va_K (dC, dI) cl2 [(cL, .long), (cB, .int)] s := hK
  refine va_putF (D := (dC, dI)) (ci := 1) (v := .ref w) (ty := .array .int) (C := R_Mo) (T := F_Mo) (N := 3) hx hb ht uw_Mo t_Mo t_Mo_ok n_Mo hown hK hP hD hS 0 rfl rfl 2 (by decide) (ht _ t_258) (fun _ h9 => h9) rfl hin rfl (by decide +kernel) rfl rfl (Nat.le_of_ble_eq_true rfl) d_Mo_init_17 (fun H locs hP hD hS => ?_)
  have hP : va_P (dC, dI) cl2 [(h, .inr (1, [.int 0, .ref r, .ref w])), (r, .inl (cL, 8, .inr (.inl (fun _ => 0)))), (w, .inl (cB, 24, .inl (fun _ => 0)))] H := hP
  have hD : va_D A [(h, .inr (1, [.int 0, .ref r, .ref w])), (r, .inl (cL, 8, .inr (.inl (fun _ => 0)))), (w, .inl (cB, 24, .inl (fun _ => 0)))] := hD
  exact W.vret hx hb hr (fun t ht hW => ⟨⟨(), rfl, trivial, r, w, cL, cB, by rw [ht]; exact hP, va_K.moved hW.alike hK, hD⟩, hS.F ht⟩) hS.2.2 d_Mo_init_20
end
section
-- plain arithmetic: the desk's functions and the model's, on numbers given by their sizes
theorem ng_toInt {n : Nat} (h : n < 2 ^ 63) : (-lN n).toInt = -(n : Int) := Int64.toInt_neg_ofNat_of_le (Nat.le_of_lt h)
theorem ng_lt {n : Nat} (h0 : 0 < n) (h : n < 2 ^ 63) : -lN n < 0 := by
  rw [Int64.lt_iff_toInt_lt, ng_toInt h]
  show _ < (0 : Int)
  omega
theorem ps_nlt {n : Nat} (h : n < 2 ^ 63) : ¬ lN n < 0 := by
  rw [Int64.lt_iff_toInt_lt, pk_lT h]
  show ¬ _ < (0 : Int)
  omega
theorem ab_ps {n : Nat} (h : n < 2 ^ 63) : j_ab (lN n) = lN n := by rw [j_ab, if_neg (ps_nlt h)]
theorem ab_ng {n : Nat} (h0 : 0 < n) (h : n < 2 ^ 63) : j_ab (-lN n) = lN n := by rw [j_ab, if_pos (ng_lt h0 h), Int64.neg_neg]
theorem sn_ps {n : Nat} (h : n < 2 ^ 63) : j_ng (lN n) = 0 := by rw [j_ng, if_neg (ps_nlt h)]
theorem sn_ng {n : Nat} (h0 : 0 < n) (h : n < 2 ^ 63) : j_ng (-lN n) = 1 := by rw [j_ng, if_pos (ng_lt h0 h)]
/-- every long within the bounds is a size with a sign -/
theorem rep2 {x : Int64} {M : Nat} (hM : M < 2 ^ 63) (h1 : -(M : Int) ≤ x.toInt) (h2 : x.toInt ≤ M) : ∃ X : Nat, X ≤ M ∧ (x = lN X ∨ (0 < X ∧ x = -lN X)) := by
  refine ⟨x.toInt.natAbs, by omega, ?_⟩
  by_cases h : x.toInt < 0
  · right
    refine ⟨by omega, Int64.toInt_inj.mp ?_⟩
    rw [ng_toInt (by omega)]
    omega
  · left
    apply Int64.toInt_inj.mp
    rw [pk_lT (by omega)]
    omega
theorem dv_np {a b : Nat} (ha : a < 2 ^ 63) (h0 : 0 < b) (hb : b < 2 ^ 63) : -lN a / lN b = -lN (a / b) := by
  have h1 : a / b ≤ a := Nat.div_le_self a b
  apply Int64.toInt_inj.mp
  rw [Int64.toInt_div, ng_toInt ha, pk_lT hb, ng_toInt (by omega), Int.neg_tdiv]
  show (-((a : Int).tdiv (b : Int))).bmod (2 ^ 64) = _
  rw [Int.tdiv_eq_ediv_of_nonneg (by omega)]
  have h2 : ((a / b : Nat) : Int) = (a : Int) / b := by simp
  rw [← h2]
  clear h2
  generalize a / b = z at h1 ⊢
  exact Jvm.Kit.bmod64 (by omega) (by omega)
theorem dv_pn {a b : Nat} (ha : a < 2 ^ 63) (h0 : 0 < b) (hb : b < 2 ^ 63) : lN a / -lN b = -lN (a / b) := by
  have h1 : a / b ≤ a := Nat.div_le_self a b
  apply Int64.toInt_inj.mp
  rw [Int64.toInt_div, ng_toInt hb, pk_lT ha, ng_toInt (by omega), Int.tdiv_neg]
  rw [Int.tdiv_eq_ediv_of_nonneg (by omega)]
  have h2 : ((a / b : Nat) : Int) = (a : Int) / b := by simp
  rw [← h2]
  clear h2
  generalize a / b = z at h1 ⊢
  exact Jvm.Kit.bmod64 (by omega) (by omega)
theorem dv_nn {a b : Nat} (ha : a < 2 ^ 63) (h0 : 0 < b) (hb : b < 2 ^ 63) : -lN a / -lN b = lN (a / b) := by
  have h1 : a / b ≤ a := Nat.div_le_self a b
  apply Int64.toInt_inj.mp
  rw [Int64.toInt_div, ng_toInt hb, ng_toInt ha, pk_lT (by omega), Int.tdiv_neg, Int.neg_tdiv, Int.neg_neg]
  rw [Int.tdiv_eq_ediv_of_nonneg (by omega)]
  have h2 : ((a / b : Nat) : Int) = (a : Int) / b := by simp
  rw [← h2]
  clear h2
  generalize a / b = z at h1 ⊢
  exact Jvm.Kit.bmod64 (by omega) (by omega)
theorem i64_sub {x y : Int64} (h1 : -9223372036854775808 ≤ x.toInt - y.toInt) (h2 : x.toInt - y.toInt < 9223372036854775808) : (x - y).toInt = x.toInt - y.toInt := by
  rw [Int64.toInt_sub]
  exact Jvm.Kit.bmod64 (by omega) (by omega)
theorem i64_mul {x y : Int64} (h1 : -9223372036854775808 ≤ x.toInt * y.toInt) (h2 : x.toInt * y.toInt < 9223372036854775808) : (x * y).toInt = x.toInt * y.toInt := by
  rw [Int64.toInt_mul]
  exact Jvm.Kit.bmod64 (by omega) (by omega)
theorem rm_ng (a b : Nat) : -lN a - -lN (a / b) * lN b = -lN (a % b) := by
  have h1 := Nat.div_add_mod' a b
  have h2 : lN a = lN (a / b) * lN b + lN (a % b) := by rw [lN_mul, lN_add, h1]
  rw [h2]
  grind
theorem rm_pn (a b : Nat) : lN a - -lN (a / b) * -lN b = lN (a % b) := by
  have h1 := Nat.div_add_mod' a b
  have h2 : lN a = lN (a / b) * lN b + lN (a % b) := by rw [lN_mul, lN_add, h1]
  rw [Int64.neg_mul, Int64.mul_neg, Int64.neg_neg, h2, Int64.add_comm, Int64.sub_eq_add_neg, Int64.add_assoc, Int64.add_right_neg, Int64.add_zero]
theorem rm_nn (a b : Nat) : -lN a - lN (a / b) * -lN b = -lN (a % b) := by
  rw [Int64.mul_neg, ← Int64.neg_mul]
  exact rm_ng a b
/-- the whole quotient, rounded half up -/
def hN (A B : Nat) : Nat := if A % B < B - A % B then A / B else A / B + 1
theorem half_ps {A B : Nat} (hA : A < 2 ^ 63) (h0 : 0 < B) (hB : B < 2 ^ 63) : j_half (lN A) (lN B) = lN (hN A B) := by
  have hm := Nat.mod_lt A h0
  rw [j_half, pk_lRem hA h0 hB, ab_ps (by omega), lN_sub (by omega), pk_lDiv hA h0 hB, if_neg (ps_nlt hA)]
  rw [hN]
  by_cases h : A % B < B - A % B
  · rw [if_pos h, if_pos ((pk_lLT (by omega) (by omega)).mpr h)]
  · rw [if_neg h, if_neg (fun h2 => h ((pk_lLT (by omega) (by omega)).mp h2)), lN_1]
theorem half_ng {A B : Nat} (hA0 : 0 < A) (hA : A < 2 ^ 63) (h0 : 0 < B) (hB : B < 2 ^ 63) : j_half (-lN A) (lN B) = -lN (hN A B) := by
  have hm := Nat.mod_lt A h0
  have hab : j_ab (-lN (A % B)) = lN (A % B) := by
    by_cases hz : A % B = 0
    · rw [hz]; decide
    · exact ab_ng (by omega) (by omega)
  rw [j_half, dv_np hA h0 hB, rm_ng, hab, lN_sub (by omega), if_pos (ng_lt hA0 hA)]
  rw [hN]
  by_cases h : A % B < B - A % B
  · rw [if_pos h, if_pos ((pk_lLT (by omega) (by omega)).mpr h)]
  · rw [if_neg h, if_neg (fun h2 => h ((pk_lLT (by omega) (by omega)).mp h2)), ← lN_1, Int64.neg_add, Int64.sub_eq_add_neg]
theorem quot_ps {A B : Nat} (hA : 10000 * A < 2 ^ 63) (h0 : 0 < B) (hB : B < 2 ^ 63) : m_quot (lN A) (lN B) = lN (hN (10000 * A) B) := by
  have hm := Nat.mod_lt (10000 * A) h0
  rw [m_quot, show (10000 : Int64) * lN A = lN (10000 * A) from lN_mul 10000 A, pk_lRem hA h0 hB, lN_sub (by omega), pk_lDiv hA h0 hB]
  rw [hN]
  by_cases h : 10000 * A % B < B - 10000 * A % B
  · rw [if_pos h, if_pos ((pk_lLT (by omega) (by omega)).mpr h)]
  · rw [if_neg h, if_neg (fun h2 => h ((pk_lLT (by omega) (by omega)).mp h2)), lN_1]
theorem hN_le (A B : Nat) : hN A B ≤ A / B + 1 := by
  unfold hN
  split <;> omega
theorem hN_scale {A B k : Nat} (hk : 0 < k) : hN (k * A) (k * B) = hN A B := by
  unfold hN
  rw [Nat.mul_mod_mul_left, Nat.mul_div_mul_left _ _ hk, ← Nat.mul_sub]
  by_cases h : A % B < B - A % B
  · rw [if_pos h, if_pos ((Nat.mul_lt_mul_left hk).mpr h)]
  · rw [if_neg h, if_neg (fun h2 => h ((Nat.mul_lt_mul_left hk).mp h2))]
theorem hN_100 (A : Nat) : hN A 100 = (A + 50) / 100 := by
  unfold hN
  split <;> omega
theorem hN_10000 (A : Nat) : hN A 10000 = (A + 5000) / 10000 := by
  unfold hN
  split <;> omega
theorem lN_neg_lt {a b : Nat} (ha : a < 2 ^ 63) (hb : b < 2 ^ 63) : -lN a < -lN b ↔ b < a := by
  rw [Int64.lt_iff_toInt_lt, ng_toInt ha, ng_toInt hb]
  omega
/-- what j_fit says of a size with a sign -/
theorem fit_ps {n : Nat} (h : n < 2 ^ 63) : j_fit (lN n) = if 900000000000000 < n then .error xAE else .ok (lN n) := by
  unfold j_fit
  have h1 : (900000000000000 : Int64) < lN n ↔ 900000000000000 < n := pk_lLT (a := 900000000000000) (by decide) h
  have h2 : ¬ lN n < -900000000000000 := by
    rw [Int64.lt_iff_toInt_lt, pk_lT h]
    have : (-900000000000000 : Int64).toInt = -900000000000000 := by decide
    omega
  by_cases h3 : 900000000000000 < n
  · rw [if_pos h3, if_pos (Or.inl (h1.mpr h3))]
  · rw [if_neg h3, if_neg (fun h4 => h4.elim (fun h5 => h3 (h1.mp h5)) h2)]
theorem fit_ng {n : Nat} (h : n < 2 ^ 63) : j_fit (-lN n) = if 900000000000000 < n then .error xAE else .ok (-lN n) := by
  unfold j_fit
  have h1 : -lN n < -900000000000000 ↔ 900000000000000 < n := lN_neg_lt (b := 900000000000000) h (by decide)
  have h2 : ¬ (900000000000000 : Int64) < -lN n := by
    rw [Int64.lt_iff_toInt_lt, ng_toInt h]
    have : (900000000000000 : Int64).toInt = 900000000000000 := by decide
    omega
  by_cases h3 : 900000000000000 < n
  · rw [if_pos h3, if_pos (Or.inr (h1.mpr h3))]
  · rw [if_neg h3, if_neg (fun h4 => h4.elim h2 (fun h5 => h3 (h1.mp h5)))]
theorem put_N {k : Int32} {f : Nat → Int64} {i mi cd : Int32} {n : Nat} (h : n < 2 ^ 63) : m_put k f i mi (lN n) cd = if 900000000000000 < n then (cd, f, 0) else (k, vp_updL f i.toNatClampNeg (if mi = 0 then lN n else -lN n), if mi = 0 then lN n else -lN n) := by
  unfold m_put
  have h1 : (900000000000000 : Int64) < lN n ↔ 900000000000000 < n := pk_lLT (a := 900000000000000) (by decide) h
  by_cases h3 : 900000000000000 < n
  · rw [if_pos h3, if_pos (h1.mpr h3)]
  · rw [if_neg h3, if_neg (fun h4 => h3 (h1.mp h4))]
/-- the two sides agree: same kind of end, same registers, same value; and the registers stay within the bounds -/
def ag (cd : String → Int32) (f : Nat → Int64) (x : Except String (Int64 × (Nat → Int64))) (y : MS) : Prop := match x with
  | .ok q => y = (0, q.2, q.1) ∧ okR q.2
  | .error C => y.1 = cd C ∧ y.2.1 = f ∧ ¬ cd C = 0
theorem okR_up {f : Nat → Int64} {i : Nat} {v : Int64} (h : okR f) (h1 : -900000000000000 ≤ v.toInt) (h2 : v.toInt ≤ 900000000000000) : okR (vp_updL f i v) := by
  intro j hj
  unfold vp_updL
  split
  · exact ⟨h1, h2⟩
  · exact h j hj
/-- a size with a sign comes to a register on both sides -/
theorem ag_put {cd : String → Int32} {f : Nat → Int64} {i mi c2 : Int32} {n : Nat} {v : Int64} (hf : okR f) (hn : n < 2 ^ 63) (hc : cd xAE = c2) (hc0 : ¬ c2 = 0) (hv : (mi = 0 ∧ v = lN n) ∨ (¬ mi = 0 ∧ v = -lN n)) : ag cd f (j_put f i (j_fit v)) (m_put 0 f i mi (lN n) c2) := by
  rw [put_N hn]
  rcases hv with ⟨hm, rfl⟩ | ⟨hm, rfl⟩
  · rw [fit_ps hn]
    by_cases h : 900000000000000 < n
    · rw [if_pos h, if_pos h]
      exact ⟨hc.symm, rfl, by rw [hc]; exact hc0⟩
    · rw [if_neg h, if_neg h, if_pos hm]
      exact ⟨rfl, okR_up hf (by rw [pk_lT hn]; omega) (by rw [pk_lT hn]; omega)⟩
  · rw [fit_ng hn]
    by_cases h : 900000000000000 < n
    · rw [if_pos h, if_pos h]
      exact ⟨hc.symm, rfl, by rw [hc]; exact hc0⟩
    · rw [if_neg h, if_neg h, if_neg hm]
      exact ⟨rfl, okR_up hf (by rw [ng_toInt hn]; omega) (by rw [ng_toInt hn]; omega)⟩
/-- the same where the desk asks nothing, the size being small -/
theorem ag_ok {cd : String → Int32} {f : Nat → Int64} {i mi c2 : Int32} {n : Nat} {v : Int64} (hf : okR f) (hn : n ≤ 900000000000000) (hv : (mi = 0 ∧ v = lN n) ∨ (¬ mi = 0 ∧ v = -lN n)) : ag cd f (j_put f i (.ok v)) (m_put 0 f i mi (lN n) c2) := by
  rw [put_N (by omega), if_neg (by omega)]
  rcases hv with ⟨hm, rfl⟩ | ⟨hm, rfl⟩
  · rw [if_pos hm]
    exact ⟨rfl, okR_up hf (by rw [pk_lT (by omega)]; omega) (by rw [pk_lT (by omega)]; omega)⟩
  · rw [if_neg hm]
    exact ⟨rfl, okR_up hf (by rw [ng_toInt (by omega)]; omega) (by rw [ng_toInt (by omega)]; omega)⟩
/-- the sign of an exclusive or -/
theorem xor_lt {x y : Int64} : (x ^^^ y) < 0 ↔ ¬ ((x < 0) ↔ (y < 0)) := by
  have h : ∀ z : Int64, z < 0 ↔ z.toBitVec.msb = true := fun z => by
    rw [Int64.lt_iff_toInt_lt]
    exact BitVec.toInt_neg_iff.trans (by rw [BitVec.msb_eq_decide]; simp; omega)
  rw [h, h, h, Int64.toBitVec_xor, BitVec.msb_xor]
  cases x.toBitVec.msb <;> cases y.toBitVec.msb <;> simp
end
section
-- the plain law: what the desk computes and what the model computes agree
theorem in_gen (x : Int32) {lo hi : Int64} {a b : Int32} (ha : a.toInt = lo.toInt) (hb : b.toInt = hi.toInt) : (j_in x.toInt64 lo hi = .ok () ∧ ¬ x < a ∧ ¬ b < x) ∨ (j_in x.toInt64 lo hi = .error xIA ∧ (x < a ∨ b < x)) := by
  have h1 : x.toInt64 < lo ↔ x < a := by rw [Int64.lt_iff_toInt_lt, Int32.lt_iff_toInt_lt, Int32.toInt_toInt64, ha]
  have h2 : hi < x.toInt64 ↔ b < x := by rw [Int64.lt_iff_toInt_lt, Int32.lt_iff_toInt_lt, Int32.toInt_toInt64, hb]
  unfold j_in
  by_cases h : x < a ∨ b < x
  · right
    exact ⟨by rw [if_pos (h.imp h1.mpr h2.mpr)], h⟩
  · left
    exact ⟨by rw [if_neg (fun h3 => h (h3.imp h1.mp h2.mp))], fun h3 => h (Or.inl h3), fun h3 => h (Or.inr h3)⟩
theorem in_out (i : Int32) : (j_in i.toInt64 0 7 = .ok () ∧ j_out i = 0) ∨ (j_in i.toInt64 0 7 = .error xIA ∧ ¬ j_out i = 0) := by
  rcases in_gen i (lo := 0) (hi := 7) (a := 0) (b := 7) (by decide) (by decide) with ⟨h1, h2, h3⟩ | ⟨h1, h2⟩
  · left
    exact ⟨h1, by rw [j_out, if_neg (fun h => h.elim h2 h3)]⟩
  · right
    exact ⟨h1, by rw [j_out, if_pos h2]; decide⟩
theorem get_out (f : Nat → Int64) (a : Int32) : (j_get f a = .ok (f a.toNatClampNeg) ∧ j_out a = 0) ∨ (j_get f a = .error xIA ∧ ¬ j_out a = 0) := by
  rcases in_out a with ⟨h1, h2⟩ | ⟨h1, h2⟩
  · left
    exact ⟨by simp only [j_get, h1, j_bd], h2⟩
  · right
    exact ⟨by simp only [j_get, h1, j_bd], h2⟩
theorem rg_of {f : Nat → Int64} {a : Int32} (hf : okR f) (h : j_out a = 0) : -900000000000000 ≤ (f a.toNatClampNeg).toInt ∧ (f a.toNatClampNeg).toInt ≤ 900000000000000 := by
  obtain ⟨j, hj, rfl⟩ := vp_in_of (out_in h) (by decide)
  rw [nI_clamp (by omega)]
  exact hf j hj
theorem ag_err {cd : String → Int32} {f : Nat → Int64} {C : String} {c2 : Int32} (h : cd C = c2) (h0 : ¬ c2 = 0) : ag cd f (.error C) (c2, f, 0) := ⟨h.symm, rfl, by rw [h]; exact h0⟩
theorem ag_set {f : Nat → Int64} (hf : okR f) (i : Int32) (n : Int64) : ag cd1 f (j_set f i n) (m_set f i n) := by
  rcases in_out i with ⟨h1, h2⟩ | ⟨h1, h2⟩
  · by_cases h : n < -900000000000000 ∨ 900000000000000 < n
    · rw [show j_set f i n = .error xIA from by simp only [j_set, h1, show j_in n (-900000000000000) 900000000000000 = .error xIA from by rw [j_in, if_pos h], j_bd], show m_set f i n = (1, f, 0) from by rw [m_set, if_neg (fun h3 => h.elim h3.2.1 h3.2.2)]]
      exact ag_err rfl (by decide)
    · have h3 : ¬ n < -900000000000000 := fun h4 => h (Or.inl h4)
      have h5 : ¬ 900000000000000 < n := fun h4 => h (Or.inr h4)
      rw [show j_set f i n = .ok (f i.toNatClampNeg, vp_updL f i.toNatClampNeg n) from by simp only [j_set, h1, show j_in n (-900000000000000) 900000000000000 = .ok () from by rw [j_in, if_neg h], j_bd], show m_set f i n = (0, vp_updL f i.toNatClampNeg n, f i.toNatClampNeg) from by rw [m_set, if_pos ⟨h2, h3, h5⟩]]
      rw [Int64.lt_iff_toInt_lt] at h3 h5
      have e1 : (-900000000000000 : Int64).toInt = -900000000000000 := by decide
      have e2 : (900000000000000 : Int64).toInt = 900000000000000 := by decide
      exact ⟨rfl, okR_up hf (by omega) (by omega)⟩
  · rw [show j_set f i n = .error xIA from by simp only [j_set, h1, j_bd], show m_set f i n = (1, f, 0) from by rw [m_set, if_neg (fun h3 => h2 h3.1)]]
    exact ag_err rfl (by decide)
theorem ag_get {f : Nat → Int64} (hf : okR f) (i : Int32) : ag cd1 f (j_gt f i) (m_get f i) := by
  rcases get_out f i with ⟨h1, h2⟩ | ⟨h1, h2⟩
  · rw [show j_gt f i = .ok (f i.toNatClampNeg, f) from by simp only [j_gt, h1, j_bd], show m_get f i = (0, f, f i.toNatClampNeg) from by rw [m_get, if_pos h2]]
    exact ⟨rfl, hf⟩
  · rw [show j_gt f i = .error xIA from by simp only [j_gt, h1, j_bd], show m_get f i = (1, f, 0) from by rw [m_get, if_neg h2]]
    exact ag_err rfl (by decide)
theorem ag_sgn {cd : String → Int32} {f : Nat → Int64} {i c2 : Int32} {v : Int64} (hf : okR f) (h1 : -4000000000000000000 ≤ v.toInt) (h2 : v.toInt ≤ 4000000000000000000) (hc : cd xAE = c2) (hc0 : ¬ c2 = 0) : ag cd f (j_put f i (j_fit v)) (m_put 0 f i (j_ng v) (j_ab v) c2) := by
  obtain ⟨V, hV, rfl | ⟨h0, rfl⟩⟩ := rep2 (x := v) (M := 4000000000000000000) (by decide) (by omega) (by omega)
  · rw [ab_ps (by omega)]
    exact ag_put hf (by omega) hc hc0 (Or.inl ⟨sn_ps (by omega), rfl⟩)
  · rw [ab_ng h0 (by omega)]
    exact ag_put hf (by omega) hc hc0 (Or.inr ⟨by rw [sn_ng h0 (by omega)]; decide, rfl⟩)
/-- the sign of a product or quotient -/
theorem sgn_mi (x y z : Int64) : (m_mi x y = 0 ∧ j_sgn x y z = z) ∨ (¬ m_mi x y = 0 ∧ j_sgn x y z = -z) := by
  unfold m_mi j_sgn
  by_cases h : j_ng x = j_ng y
  · left
    rw [if_pos h, if_pos h]
    exact ⟨rfl, rfl⟩
  · right
    rw [if_neg h, if_neg h]
    exact ⟨by decide, rfl⟩
theorem rep_ab {x : Int64} {M : Nat} (hM : M < 2 ^ 63) (h1 : -(M : Int) ≤ x.toInt) (h2 : x.toInt ≤ M) : ∃ X : Nat, X ≤ M ∧ j_ab x = lN X ∧ ((x = lN X ∧ j_ng x = 0) ∨ (0 < X ∧ x = -lN X ∧ j_ng x = 1)) := by
  obtain ⟨X, hX, rfl | ⟨h0, rfl⟩⟩ := rep2 hM h1 h2
  · exact ⟨X, hX, ab_ps (by omega), Or.inl ⟨rfl, sn_ps (by omega)⟩⟩
  · exact ⟨X, hX, ab_ng h0 (by omega), Or.inr ⟨h0, rfl, sn_ng h0 (by omega)⟩⟩
theorem ag_times {f : Nat → Int64} {i : Int32} {x y : Int64} (hf : okR f) (hx1 : -900000000000000 ≤ x.toInt) (hx2 : x.toInt ≤ 900000000000000) (hy1 : -900000000000000 ≤ y.toInt) (hy2 : y.toInt ≤ 900000000000000) : ag cd3 f (j_put f i (j_times x y)) (m_put 0 f i (m_mi x y) (m_product (j_ab x) (j_ab y)) 3) := by
  obtain ⟨X, hX, eX, -⟩ := rep_ab (x := x) (M := 900000000000000) (by decide) (by omega) (by omega)
  obtain ⟨Y, hY, eY, -⟩ := rep_ab (x := y) (M := 900000000000000) (by decide) (by omega) (by omega)
  have e1 : lN X / 10000 = lN (X / 10000) := pk_lDiv (b := 10000) (by omega) (by decide) (by decide)
  have e2 : lN X - lN (X / 10000) * 10000 = lN (X % 10000) := by
    have h := pk_lRem (a := X) (b := 10000) (by omega) (by decide) (by decide)
    rw [show lN 10000 = (10000 : Int64) from rfl, e1] at h
    exact h
  have hR : X % 10000 * Y ≤ 9999 * 900000000000000 := Nat.mul_le_mul (by omega) hY
  unfold j_times m_product
  rw [eX, eY, e1, e2]
  by_cases hg : 0 < lN (X / 10000) ∧ 900000000000000 / lN (X / 10000) < lN Y
  · rw [if_pos hg, if_pos hg]
    rw [show (900000000000001 : Int64) = lN 900000000000001 from rfl, put_N (by decide), if_pos (by decide)]
    exact ag_err rfl (by decide)
  · rw [if_neg hg, if_neg hg]
    have hPY : X / 10000 * Y ≤ 900000000000000 := by
      by_cases hP : X / 10000 = 0
      · rw [hP, Nat.zero_mul]; exact Nat.zero_le _
      · have h1 : (0 : Int64) < lN (X / 10000) := (pk_lLT (a := 0) (by decide) (by omega)).mpr (by omega)
        have h2 : ¬ (900000000000000 : Int64) / lN (X / 10000) < lN Y := fun h => hg ⟨h1, h⟩
        rw [show (900000000000000 : Int64) / lN (X / 10000) = lN (900000000000000 / (X / 10000)) from pk_lDiv (a := 900000000000000) (by decide) (by omega) (by omega)] at h2
        have h3 : Y ≤ 900000000000000 / (X / 10000) := Nat.not_lt.mp (fun h => h2 ((pk_lLT (Nat.lt_of_le_of_lt (Nat.div_le_self _ _) (by decide)) (by omega)).mpr h))
        exact Nat.le_trans (Nat.mul_le_mul_left _ h3) (Nat.mul_div_le _ _)
    rw [lN_mul, lN_mul, show j_half (lN (X % 10000 * Y)) 10000 = lN (hN (X % 10000 * Y) 10000) from half_ps (B := 10000) (by omega) (by decide) (by decide), lN_add]
    rw [show lN (X % 10000 * Y) + 5000 = lN (X % 10000 * Y + 5000) from lN_add _ 5000, show lN (X % 10000 * Y + 5000) / 10000 = lN ((X % 10000 * Y + 5000) / 10000) from pk_lDiv (b := 10000) (by omega) (by decide) (by decide), lN_add, ← hN_10000]
    have hh := hN_le (X % 10000 * Y) 10000
    generalize hN (X % 10000 * Y) 10000 = z at hh ⊢
    generalize X % 10000 * Y = t at hR hh
    generalize X / 10000 * Y = v at hPY ⊢
    rcases sgn_mi x y (lN (v + z)) with ⟨h1, h2⟩ | ⟨h1, h2⟩
    · exact ag_put hf (by omega) rfl (by decide) (Or.inl ⟨h1, h2⟩)
    · exact ag_put hf (by omega) rfl (by decide) (Or.inr ⟨h1, h2⟩)
theorem ag_by {f : Nat → Int64} {i : Int32} {x y : Int64} (hf : okR f) (hx1 : -900000000000000 ≤ x.toInt) (hx2 : x.toInt ≤ 900000000000000) (hy1 : -900000000000000 ≤ y.toInt) (hy2 : y.toInt ≤ 900000000000000) (hy0 : ¬ y = 0) : ag cd3 f (j_put f i (j_by x y)) (m_put 0 f i (m_mi x y) (m_quot (j_ab x) (j_ab y)) 3) := by
  obtain ⟨X, hX, eX, -⟩ := rep_ab (x := x) (M := 900000000000000) (by decide) (by omega) (by omega)
  obtain ⟨Y, hY, eY, -⟩ := rep_ab (x := y) (M := 900000000000000) (by decide) (by omega) (by omega)
  have hY0 : 0 < Y := by
    rcases Nat.eq_zero_or_pos Y with h | h
    · rw [h] at eY
      exact absurd eY (j_ab0 hy0)
    · exact h
  rw [j_by, if_neg hy0, eX, eY, quot_ps (by omega) hY0 (by omega), show lN X * 10000 = lN (10000 * X) from by rw [Nat.mul_comm]; exact lN_mul X 10000, half_ps (by omega) hY0 (by omega)]
  have hh := hN_le (10000 * X) Y
  have hd := Nat.div_le_self (10000 * X) Y
  generalize hN (10000 * X) Y = z at hh ⊢
  rcases sgn_mi x y (lN z) with ⟨h1, h2⟩ | ⟨h1, h2⟩
  · exact ag_put hf (by omega) rfl (by decide) (Or.inl ⟨h1, h2⟩)
  · exact ag_put hf (by omega) rfl (by decide) (Or.inr ⟨h1, h2⟩)
theorem xr {x y : Int64} {a b : Int32} (ha : j_ng x = a) (hb : j_ng y = b) : (x ^^^ y) < 0 ↔ ¬ a = b := by
  rw [xor_lt, ← ha, ← hb]
  unfold j_ng
  by_cases h1 : x < 0 <;> by_cases h2 : y < 0 <;> simp [h1, h2]
theorem ag_mod {f : Nat → Int64} {i : Int32} {x y : Int64} (hf : okR f) (hx1 : -900000000000000 ≤ x.toInt) (hx2 : x.toInt ≤ 900000000000000) (hy1 : -900000000000000 ≤ y.toInt) (hy2 : y.toInt ≤ 900000000000000) (hy0 : ¬ y = 0) : ag cd3 f (j_put f i (.ok (j_floorMod x y))) (m_put 0 f i (j_ng y) (m_rest x y) 3) := by
  obtain ⟨X, hX, eX, cX⟩ := rep_ab (x := x) (M := 900000000000000) (by decide) (by omega) (by omega)
  obtain ⟨Y, hY, eY, cY⟩ := rep_ab (x := y) (M := 900000000000000) (by decide) (by omega) (by omega)
  have hY0 : 0 < Y := by
    rcases Nat.eq_zero_or_pos Y with h | h
    · rw [h] at eY
      exact absurd eY (j_ab0 hy0)
    · exact h
  have hm := Nat.mod_lt X hY0
  have e0 : (0 : Int64) < lN (X % Y) ↔ 0 < X % Y := pk_lLT (a := 0) (by decide) (by omega)
  have e9 : ∀ z : Nat, z < 2 ^ 63 → (lN z = 0 ↔ z = 0) := fun z hz => pk_lEQ (b := 0) hz (by decide)
  have e8 : ∀ z : Nat, z < 2 ^ 63 → (-lN z = 0 ↔ z = 0) := fun z hz => by
    rw [← e9 z hz]
    constructor
    · intro h
      have h2 := congrArg (fun q : Int64 => -q) h
      simpa using h2
    · intro h
      rw [h]
      rfl
  unfold m_rest
  rw [eX, eY, pk_lRem (by omega) hY0 (by omega), lN_sub (Nat.le_of_lt hm)]
  unfold j_floorMod m_mi
  rcases cX with ⟨rfl, sX⟩ | ⟨hX0, rfl, sX⟩ <;> rcases cY with ⟨rfl, sY⟩ | ⟨hY1, rfl, sY⟩
  · rw [pk_lRem (by omega) hY0 (by omega), if_neg (fun h => (xr sX sY).mp h.1 rfl), sX, sY, if_pos rfl, if_neg (fun h => h.2 rfl)]
    exact ag_ok hf (by omega) (Or.inl ⟨rfl, rfl⟩)
  · rw [dv_pn (by omega) hY0 (by omega), rm_pn, sX, sY, if_neg (by decide : ¬ (0 : Int32) = 1)]
    by_cases hz : X % Y = 0
    · rw [if_neg (fun h => h.2 ((e9 _ (by omega)).mpr hz)), if_neg (fun h => by have h3 := e0.mp h.1; omega)]
      exact ag_ok hf (by omega) (Or.inr ⟨by decide, by rw [hz]; rfl⟩)
    · rw [if_pos ⟨(xr sX sY).mpr (by decide), fun h => hz ((e9 _ (by omega)).mp h)⟩, if_pos ⟨e0.mpr (by omega), by decide⟩]
      refine ag_ok hf (by omega) (Or.inr ⟨by decide, ?_⟩)
      rw [← lN_sub (Nat.le_of_lt hm)]
      grind
  · rw [dv_np (by omega) hY0 (by omega), rm_ng, sX, sY, if_neg (by decide : ¬ (1 : Int32) = 0)]
    by_cases hz : X % Y = 0
    · rw [if_neg (fun h => h.2 ((e8 _ (by omega)).mpr hz)), if_neg (fun h => by have h3 := e0.mp h.1; omega)]
      exact ag_ok hf (by omega) (Or.inl ⟨rfl, by rw [hz]; rfl⟩)
    · rw [if_pos ⟨(xr sX sY).mpr (by decide), fun h => hz ((e8 _ (by omega)).mp h)⟩, if_pos ⟨e0.mpr (by omega), by decide⟩]
      refine ag_ok hf (by omega) (Or.inl ⟨rfl, ?_⟩)
      rw [← lN_sub (Nat.le_of_lt hm)]
      grind
  · rw [dv_nn (by omega) hY0 (by omega), rm_nn, if_neg (fun h => (xr sX sY).mp h.1 rfl), sX, sY, if_pos rfl, if_neg (fun h => h.2 rfl)]
    exact ag_ok hf (by omega) (Or.inr ⟨by decide, rfl⟩)
theorem ag_rk {f : Nat → Int64} {i op : Int32} {x y : Int64} (hf : okR f) (hop : op = 0 ∨ op = 1 ∨ op = 2 ∨ op = 3 ∨ op = 4) (hx1 : -900000000000000 ≤ x.toInt) (hx2 : x.toInt ≤ 900000000000000) (hy1 : -900000000000000 ≤ y.toInt) (hy2 : y.toInt ≤ 900000000000000) : ag cd3 f (j_put f i (j_rk op x y)) (m_rk f i op x y) := by
  have ea : (x + y).toInt = x.toInt + y.toInt := i64_add (by omega) (by omega)
  have es : (x - y).toInt = x.toInt - y.toInt := i64_sub (by omega) (by omega)
  rcases hop with rfl | rfl | rfl | rfl | rfl
  · rw [show j_rk 0 x y = j_fit (x + y) from rfl, show m_rk f i 0 x y = m_put 0 f i (j_ng (x + y)) (j_ab (x + y)) 3 from by rw [m_rk, if_neg (fun h => absurd h.1 (by decide)), if_pos (by decide)]; rfl]
    exact ag_sgn hf (by omega) (by omega) rfl (by decide)
  · rw [show j_rk 1 x y = j_fit (x - y) from rfl, show m_rk f i 1 x y = m_put 0 f i (j_ng (x - y)) (j_ab (x - y)) 3 from by rw [m_rk, if_neg (fun h => absurd h.1 (by decide)), if_pos (by decide)]; rfl]
    exact ag_sgn hf (by omega) (by omega) rfl (by decide)
  · rw [show j_rk 2 x y = j_times x y from rfl, show m_rk f i 2 x y = m_put 0 f i (m_mi x y) (m_product (j_ab x) (j_ab y)) 3 from by rw [m_rk, if_neg (fun h => absurd h.1 (by decide)), if_neg (by decide), if_pos rfl]]
    exact ag_times hf hx1 hx2 hy1 hy2
  · by_cases h0 : y = 0
    · rw [show j_rk 3 x y = .error xUO from by show j_by x y = _; rw [j_by, if_pos h0], show m_rk f i 3 x y = (2, f, 0) from by rw [m_rk, if_pos ⟨by decide, h0⟩]]
      exact ag_err rfl (by decide)
    · rw [show j_rk 3 x y = j_by x y from rfl, show m_rk f i 3 x y = m_put 0 f i (m_mi x y) (m_quot (j_ab x) (j_ab y)) 3 from by rw [m_rk, if_neg (fun h => h0 h.2), if_neg (by decide), if_neg (by decide), if_pos rfl]]
      exact ag_by hf hx1 hx2 hy1 hy2 h0
  · by_cases h0 : y = 0
    · rw [show j_rk 4 x y = .error xUO from by show (if y = 0 then Except.error xUO else .ok (j_floorMod x y)) = _; rw [if_pos h0], show m_rk f i 4 x y = (2, f, 0) from by rw [m_rk, if_pos ⟨by decide, h0⟩]]
      exact ag_err rfl (by decide)
    · rw [show j_rk 4 x y = .ok (j_floorMod x y) from by show (if y = 0 then Except.error xUO else .ok (j_floorMod x y)) = _; rw [if_neg h0], show m_rk f i 4 x y = m_put 0 f i (j_ng y) (m_rest x y) 3 from by rw [m_rk, if_neg (fun h => h0 h.2), if_neg (by decide), if_neg (by decide), if_neg (by decide)]]
      exact ag_mod hf hx1 hx2 hy1 hy2 h0
theorem ag_reckon {f : Nat → Int64} (hf : okR f) (i op a b : Int32) : ag cd3 f (j_reckon f i op a b) (m_reckon f i op a b) := by
  have bad : ∀ C, C = xIA → ¬ (j_out i = 0 ∧ ¬ op < 0 ∧ ¬ 4 < op ∧ j_out a = 0 ∧ j_out b = 0) → j_reckon f i op a b = .error C → ag cd3 f (j_reckon f i op a b) (m_reckon f i op a b) := fun C hC hn he => by
    rw [he, show m_reckon f i op a b = (1, f, 0) from by rw [m_reckon, if_neg hn]]
    exact ag_err (by rw [hC]; rfl) (by decide)
  rcases in_out i with ⟨h1, g1⟩ | ⟨h1, g1⟩
  · rcases in_gen op (lo := 0) (hi := 4) (a := 0) (b := 4) (by decide) (by decide) with ⟨h2, g2, g3⟩ | ⟨h2, g2⟩
    · rcases get_out f a with ⟨h3, g4⟩ | ⟨h3, g4⟩
      · rcases get_out f b with ⟨h4, g5⟩ | ⟨h4, g5⟩
        · rw [show j_reckon f i op a b = j_put f i (j_rk op (f a.toNatClampNeg) (f b.toNatClampNeg)) from by simp only [j_reckon, h1, h2, h3, h4, j_bd], show m_reckon f i op a b = m_rk f i op (f a.toNatClampNeg) (f b.toNatClampNeg) from by rw [m_reckon, if_pos ⟨g1, g2, g3, g4, g5⟩]]
          exact ag_rk hf (j_in4 h2) (rg_of hf g4).1 (rg_of hf g4).2 (rg_of hf g5).1 (rg_of hf g5).2
        · exact bad _ rfl (fun h => g5 h.2.2.2.2) (by simp only [j_reckon, h1, h2, h3, h4, j_bd])
      · exact bad _ rfl (fun h => g4 h.2.2.2.1) (by simp only [j_reckon, h1, h2, h3, j_bd])
    · exact bad _ rfl (fun h => g2.elim h.2.1 h.2.2.1) (by simp only [j_reckon, h1, h2, j_bd])
  · exact bad _ rfl (fun h => g1 h.1) (by simp only [j_reckon, h1, j_bd])
theorem ag_tn {f : Nat → Int64} {i op : Int32} {x : Int64} (hf : okR f) (hop : op = 0 ∨ op = 1 ∨ op = 2 ∨ op = 3) (hx1 : -900000000000000 ≤ x.toInt) (hx2 : x.toInt ≤ 900000000000000) : ag cd2 f (j_put f i (j_tn op x)) (m_tn f i op x) := by
  obtain ⟨X, hX, eX, cX⟩ := rep_ab (x := x) (M := 900000000000000) (by decide) (by omega) (by omega)
  rcases hop with rfl | rfl | rfl | rfl
  · rw [show j_tn 0 x = .ok (j_half x 100) from rfl, show m_tn f i 0 x = m_put 0 f i (j_ng x) ((j_ab x + 50) / 100) 2 from rfl, eX, show lN X + 50 = lN (X + 50) from lN_add X 50, show lN (X + 50) / 100 = lN ((X + 50) / 100) from pk_lDiv (b := 100) (by omega) (by decide) (by decide), ← hN_100]
    have hh : hN X 100 ≤ 900000000000000 := by rw [hN_100]; omega
    rcases cX with ⟨rfl, sX⟩ | ⟨hX0, rfl, sX⟩
    · rw [sX, show j_half (lN X) 100 = lN (hN X 100) from half_ps (B := 100) (by omega) (by decide) (by decide)]
      exact ag_ok hf hh (Or.inl ⟨rfl, rfl⟩)
    · rw [sX, show j_half (-lN X) 100 = -lN (hN X 100) from half_ng (B := 100) hX0 (by omega) (by decide) (by decide)]
      exact ag_ok hf hh (Or.inr ⟨by decide, rfl⟩)
  · have e1 : lN X / 10000 = lN (X / 10000) := pk_lDiv (b := 10000) (by omega) (by decide) (by decide)
    have e2 : lN (X / 10000) * 10000 = lN (X / 10000 * 10000) := lN_mul _ 10000
    have e3 : lN (X / 10000 * 10000) < lN X ↔ X / 10000 * 10000 < X := pk_lLT (by omega) (by omega)
    rw [show j_tn 1 x = j_fit (j_floor x) from rfl, show m_tn f i 1 x = m_put 0 f i (j_ng x) (m_fl x) 2 from rfl]
    unfold m_fl j_floor j_floorDiv
    rw [eX, e1, e2]
    have s4 : j_ng (10000 : Int64) = 0 := by decide
    rcases cX with ⟨rfl, sX⟩ | ⟨hX0, rfl, sX⟩
    · rw [sX, if_neg (fun h => (xr sX s4).mp h.1 rfl), e1, e2, if_neg (fun h => ps_nlt (by omega) h.1)]
      exact ag_put hf (by omega) rfl (by decide) (Or.inl ⟨rfl, rfl⟩)
    · have e4 : -lN X / 10000 = -lN (X / 10000) := dv_np (b := 10000) (by omega) (by decide) (by decide)
      have e5 : -lN (X / 10000) * 10000 = -lN (X / 10000 * 10000) := by rw [Int64.neg_mul, e2]
      rw [sX, e4, e5]
      by_cases hz : X / 10000 * 10000 = X
      · rw [if_neg (fun h => h.2 (by rw [hz])), if_neg (fun h => by have h3 := e3.mp h.2; omega), e5]
        exact ag_put hf (by omega) rfl (by decide) (Or.inr ⟨by decide, rfl⟩)
      · have hz2 : ¬ -lN (X / 10000 * 10000) = -lN X := fun h => by
          have h2 := congrArg (fun q : Int64 => -q) h
          simp only [Int64.neg_neg] at h2
          exact hz ((pk_lEQ (by omega) (by omega)).mp h2)
        rw [if_pos ⟨(xr sX s4).mpr (by decide), hz2⟩, if_pos ⟨ng_lt hX0 (by omega), e3.mpr (by omega)⟩]
        rw [show lN (X / 10000 * 10000) + 10000 = lN (X / 10000 * 10000 + 10000) from lN_add _ 10000]
        refine ag_put hf (by omega) rfl (by decide) (Or.inr ⟨by decide, ?_⟩)
        rw [← lN_add, ← lN_mul, show lN 10000 = (10000 : Int64) from rfl]
        grind
  · rw [show j_tn 2 x = .ok (j_ab x) from rfl, show m_tn f i 2 x = m_put 0 f i 0 (j_ab x) 2 from rfl, eX]
    exact ag_ok hf hX (Or.inl ⟨rfl, rfl⟩)
  · rw [show j_tn 3 x = .ok (-x) from rfl, show m_tn f i 3 x = m_put 0 f i (m_pos x) (j_ab x) 2 from rfl, eX]
    rcases cX with ⟨rfl, sX⟩ | ⟨hX0, rfl, sX⟩
    · by_cases h0 : X = 0
      · subst h0
        exact ag_ok hf hX (Or.inl ⟨by decide, by decide⟩)
      · rw [show m_pos (lN X) = 1 from if_pos ((pk_lLT (a := 0) (b := X) (by decide) (by omega)).mpr (by omega))]
        exact ag_ok hf hX (Or.inr ⟨by decide, rfl⟩)
    · rw [show m_pos (-lN X) = 0 from by rw [m_pos, if_neg (Int64.not_lt.mpr (Int64.le_of_lt (ng_lt hX0 (by omega))))], Int64.neg_neg]
      exact ag_ok hf hX (Or.inl ⟨rfl, rfl⟩)
theorem ag_turn {f : Nat → Int64} (hf : okR f) (i op a : Int32) : ag cd2 f (j_turn f i op a) (m_turn f i op a) := by
  have bad : ∀ C, C = xIA → ¬ (j_out i = 0 ∧ ¬ op < 0 ∧ ¬ 3 < op ∧ j_out a = 0) → j_turn f i op a = .error C → ag cd2 f (j_turn f i op a) (m_turn f i op a) := fun C hC hn he => by
    rw [he, show m_turn f i op a = (1, f, 0) from by rw [m_turn, if_neg hn]]
    exact ag_err (by rw [hC]; rfl) (by decide)
  rcases in_out i with ⟨h1, g1⟩ | ⟨h1, g1⟩
  · rcases in_gen op (lo := 0) (hi := 3) (a := 0) (b := 3) (by decide) (by decide) with ⟨h2, g2, g3⟩ | ⟨h2, g2⟩
    · rcases get_out f a with ⟨h3, g4⟩ | ⟨h3, g4⟩
      · rw [show j_turn f i op a = j_put f i (j_tn op (f a.toNatClampNeg)) from by simp only [j_turn, h1, h2, h3, j_bd], show m_turn f i op a = m_tn f i op (f a.toNatClampNeg) from by rw [m_turn, if_pos ⟨g1, g2, g3, g4⟩]]
        exact ag_tn hf (j_in3 h2) (rg_of hf g4).1 (rg_of hf g4).2
      · exact bad _ rfl (fun h => g4 h.2.2.2) (by simp only [j_turn, h1, h2, h3, j_bd])
    · exact bad _ rfl (fun h => g2.elim h.2.1 h.2.2.1) (by simp only [j_turn, h1, h2, j_bd])
  · exact bad _ rfl (fun h => g1 h.1) (by simp only [j_turn, h1, j_bd])
theorem up_N : ∀ (k u : Nat), j_up k (lN u) = lN (u * 10 ^ k) := by
  intro k
  induction k with
  | zero => intro u; rw [Nat.pow_zero, Nat.mul_one]; rfl
  | succ k ih =>
    intro u
    show j_up k (lN u * 10) = _
    rw [show lN u * 10 = lN (u * 10) from lN_mul u 10, ih, Nat.pow_succ, Nat.mul_comm (10 ^ k) 10, Nat.mul_assoc]
theorem hN_mul_le {X U : Nat} (hU : 0 < U) : hN X U * U ≤ X + U := by
  have h1 := Nat.mul_le_mul_right U (hN_le X U)
  have h2 := Nat.div_mul_le_self X U
  rw [Nat.add_mul, Nat.one_mul] at h1
  omega
theorem ro_N {X U : Nat} (hX : X ≤ 900000000000000) (hU : 0 < U) (hU2 : U ≤ 10000000000000) {x : Int64} (ex : j_ab x = lN X) : m_ro x (lN U) = lN (hN X U * U) := by
  have hd := Nat.div_mul_le_self X U
  have hm := Nat.mod_lt X hU
  unfold m_ro
  rw [ex, pk_lRem (by omega) hU (by omega), lN_sub (Nat.le_of_lt hm), pk_lDiv (by omega) hU (by omega), lN_mul, lN_add]
  unfold hN
  by_cases h : X % U < U - X % U
  · rw [if_pos h, if_pos ((pk_lLT (by omega) (by omega)).mpr h)]
  · rw [if_neg h, if_neg (fun h2 => h ((pk_lLT (by omega) (by omega)).mp h2)), Nat.add_mul, Nat.one_mul]
theorem ag_rnd {f : Nat → Int64} (hf : okR f) (i a d : Int32) : ag cd2 f (j_rnd f i a d) (m_rnd f i a d) := by
  have bad : ∀ C, C = xIA → ¬ (j_out i = 0 ∧ j_out a = 0 ∧ ¬ d < -9 ∧ d ≤ 4) → j_rnd f i a d = .error C → ag cd2 f (j_rnd f i a d) (m_rnd f i a d) := fun C hC hn he => by
    rw [he, show m_rnd f i a d = (1, f, 0) from by rw [m_rnd, if_neg hn]]
    exact ag_err (by rw [hC]; rfl) (by decide)
  rcases in_out i with ⟨h1, g1⟩ | ⟨h1, g1⟩
  · rcases in_gen d (lo := -9) (hi := 4) (a := -9) (b := 4) (by decide) (by decide) with ⟨h2, g2, g3⟩ | ⟨h2, g2⟩
    · rcases get_out f a with ⟨h3, g4⟩ | ⟨h3, g4⟩
      · rw [show j_rnd f i a d = j_put f i (j_fit (j_round (f a.toNatClampNeg) d.toInt64)) from by simp only [j_rnd, h1, h2, h3, j_bd], show m_rnd f i a d = m_put 0 f i (j_ng (f a.toNatClampNeg)) (m_ro (f a.toNatClampNeg) (j_up (4 - d.toInt).toNat 1)) 2 from by rw [m_rnd, if_pos ⟨g1, g4, g2, Int32.not_lt.mp g3⟩]]
        obtain ⟨r1, r2⟩ := rg_of hf g4
        generalize f a.toNatClampNeg = x at r1 r2 ⊢
        obtain ⟨X, hX, eX, cX⟩ := rep_ab (x := x) (M := 900000000000000) (by decide) (by omega) (by omega)
        obtain ⟨b1, b2⟩ := j_in_le h2
        rw [Int32.toInt_toInt64] at b1 b2
        have c1 : (-9 : Int64).toInt = -9 := by decide
        have c2 : (4 : Int64).toInt = 4 := by decide
        rw [c1] at b1
        rw [c2] at b2
        unfold j_round
        rw [Int32.toInt_toInt64, show (1 : Int64) = lN 1 from rfl, up_N, Nat.one_mul]
        have hk : (4 - d.toInt).toNat ≤ 13 := by omega
        have hU0 := p10_pos (4 - d.toInt).toNat
        have hU1 : 10 ^ (4 - d.toInt).toNat ≤ 10000000000000 := Nat.pow_le_pow_right (n := 10) (by decide) hk
        rw [ro_N hX hU0 hU1 eX]
        by_cases h4 : d.toInt64 < 4
        · rw [if_pos h4]
          generalize 10 ^ (4 - d.toInt).toNat = U at hU0 hU1 ⊢
          have hle := hN_mul_le (X := X) hU0
          rcases cX with ⟨rfl, sX⟩ | ⟨hX0, rfl, sX⟩
          · rw [half_ps (by omega) hU0 (by omega), lN_mul, sX]
            exact ag_put hf (by omega) rfl (by decide) (Or.inl ⟨rfl, rfl⟩)
          · rw [half_ng hX0 (by omega) hU0 (by omega), Int64.neg_mul, lN_mul, sX]
            exact ag_put hf (by omega) rfl (by decide) (Or.inr ⟨by decide, rfl⟩)
        · rw [if_neg h4]
          have h5 : (4 - d.toInt).toNat = 0 := by
            rw [Int64.lt_iff_toInt_lt, Int32.toInt_toInt64, c2] at h4
            omega
          rw [h5, Nat.pow_zero, Nat.mul_one, show hN X 1 = X from by unfold hN; rw [Nat.mod_one, if_pos (by decide), Nat.div_one]]
          rcases cX with ⟨rfl, sX⟩ | ⟨hX0, rfl, sX⟩
          · rw [sX]
            exact ag_put hf (by omega) rfl (by decide) (Or.inl ⟨rfl, rfl⟩)
          · rw [sX]
            exact ag_put hf (by omega) rfl (by decide) (Or.inr ⟨by decide, rfl⟩)
      · exact bad _ rfl (fun h => g4 h.2.1) (by simp only [j_rnd, h1, h2, h3, j_bd])
    · exact bad _ rfl (fun h => g2.elim h.2.2.1 (fun h9 => Int32.not_lt.mpr h.2.2.2 h9)) (by simp only [j_rnd, h1, h2, j_bd])
  · exact bad _ rfl (fun h => g1 h.1) (by simp only [j_rnd, h1, j_bd])
theorem sum_ag {f : Nat → Int64} (hf : okR f) : ∀ (k j : Nat) (s : Int64), j + k ≤ 8 → -900000000000000 ≤ s.toInt → s.toInt ≤ 900000000000000 → (∃ z : Int64, j_sum f k j s = .ok z ∧ m_sum f k j s = some z ∧ -900000000000000 ≤ z.toInt ∧ z.toInt ≤ 900000000000000) ∨ (j_sum f k j s = .error xAE ∧ m_sum f k j s = none) := by
  intro k
  induction k with
  | zero => intro j s _ h1 h2; exact Or.inl ⟨s, rfl, rfl, h1, h2⟩
  | succ k ih =>
    intro j s hj h1 h2
    obtain ⟨r1, r2⟩ := hf j (by omega)
    have ea : (s + f j).toInt = s.toInt + (f j).toInt := i64_add (by omega) (by omega)
    have b1 : -1800000000000000 ≤ (s + f j).toInt := by omega
    have b2 : (s + f j).toInt ≤ 1800000000000000 := by omega
    show (∃ z : Int64, j_bd (j_fit (s + f j)) (fun z => j_sum f k (j + 1) z) = .ok z ∧ (if 900000000000000 < j_ab (s + f j) then none else m_sum f k (j + 1) (s + f j)) = some z ∧ _) ∨ (j_bd (j_fit (s + f j)) (fun z => j_sum f k (j + 1) z) = .error xAE ∧ (if 900000000000000 < j_ab (s + f j) then none else m_sum f k (j + 1) (s + f j)) = none)
    generalize s + f j = v at b1 b2 ⊢
    obtain ⟨V, hV, eV, cV⟩ := rep_ab (x := v) (M := 1800000000000000) (by decide) (by omega) (by omega)
    have hc : (900000000000000 : Int64) < j_ab v ↔ 900000000000000 < V := by rw [eV]; exact pk_lLT (a := 900000000000000) (by decide) (by omega)
    have hfit : j_fit v = if 900000000000000 < V then .error xAE else .ok v := by
      rcases cV with ⟨rfl, -⟩ | ⟨-, rfl, -⟩
      · exact fit_ps (by omega)
      · exact fit_ng (by omega)
    have hvi : v.toInt = V ∨ v.toInt = -(V : Int) := by
      rcases cV with ⟨rfl, -⟩ | ⟨-, rfl, -⟩
      · exact Or.inl (pk_lT (by omega))
      · exact Or.inr (ng_toInt (by omega))
    by_cases h : 900000000000000 < V
    · right
      rw [hfit, if_pos h, if_pos (hc.mpr h)]
      exact ⟨rfl, rfl⟩
    · rw [hfit, if_neg h, if_neg (fun h9 => h (hc.mp h9))]
      exact ih (j + 1) v (by omega) (by omega) (by omega)
theorem ag_avg {f : Nat → Int64} (hf : okR f) (n : Int32) : ag cd2 f (j_avg f n) (m_avg f n) := by
  rcases in_gen n (lo := 1) (hi := 8) (a := 1) (b := 8) (by decide) (by decide) with ⟨h2, g2, g3⟩ | ⟨h2, g2⟩
  · obtain ⟨N, hN1, hN8, rfl⟩ := j_in18 h2
    have hcl : (nI N).toNatClampNeg = N := nI_clamp (by omega)
    rw [show m_avg f (nI N) = m_av f (nI N) (m_sum f N 0 0) from by rw [m_avg, if_pos ⟨g2, Int32.not_lt.mp g3⟩, hcl]]
    rcases sum_ag hf N 0 0 (by omega) (by decide) (by decide) with ⟨z, e1, e2, z1, z2⟩ | ⟨e1, e2⟩
    · rw [show j_avg f (nI N) = .ok (j_half z (nI N).toInt64, f) from by simp only [j_avg, h2, j_bd, hcl, e1], e2]
      refine ⟨?_, hf⟩
      show ((0 : Int32), f, m_sg z (m_quot (j_ab z) (10000 * (nI N).toInt64))) = (0, f, j_half z (nI N).toInt64)
      rw [nI_l (by omega)]
      obtain ⟨Z, hZ, eZ, cZ⟩ := rep_ab (x := z) (M := 900000000000000) (by decide) (by omega) (by omega)
      rw [eZ, show (10000 : Int64) * lN N = lN (10000 * N) from lN_mul 10000 N, quot_ps (by omega) (by omega) (by omega), hN_scale (by decide)]
      rcases cZ with ⟨rfl, sZ⟩ | ⟨hZ0, rfl, sZ⟩
      · rw [half_ps (by omega) (by omega) (by omega), m_sg, if_neg (ps_nlt (by omega))]
      · rw [half_ng hZ0 (by omega) (by omega) (by omega), m_sg, if_pos (ng_lt hZ0 (by omega))]
    · rw [show j_avg f (nI N) = .error xAE from by simp only [j_avg, h2, j_bd, hcl, e1], e2]
      exact ag_err rfl (by decide)
  · rw [show j_avg f n = .error xIA from by simp only [j_avg, h2, j_bd], show m_avg f n = (1, f, 0) from by rw [m_avg, if_neg (fun h => g2.elim h.1 (fun h9 => Int32.not_lt.mpr h.2 h9))]]
    exact ag_err rfl (by decide)
/-- print: the same text, the same value -/
def agp (x : Except String (Int32 × List Int32)) (y : Int32 × Int32 × List Int32) : Prop := match x with
  | .ok q => y = (0, q.1, q.2)
  | .error C => y.1 = cd1 C ∧ ¬ cd1 C = 0
theorem ag_print (f : Nat → Int64) (a i : Int32) : agp (j_print f a i) (m_pr f a i) := by
  rcases get_out f a with ⟨h1, g1⟩ | ⟨h1, g1⟩
  · rcases in_gen i (lo := 0) (hi := 2147483647) (a := 0) (b := 2147483647) (by decide) (by decide) with ⟨h2, g2, g3⟩ | ⟨h2, g2⟩
    · rw [show j_print f a i = .ok (j_pv (j_chars (f a.toNatClampNeg)) i, j_chars (f a.toNatClampNeg)) from by simp only [j_print, h1, h2, j_bd], m_pr, if_pos ⟨g1, g2⟩]
      rfl
    · rw [show j_print f a i = .error xIA from by simp only [j_print, h1, h2, j_bd], m_pr, if_neg (fun h => g2.elim h.2 (fun h9 => by
        have h8 := Int32.lt_iff_toInt_lt.mp h9
        have h7 := i.toInt_lt
        have h6 : (2147483647 : Int32).toInt = 2147483647 := by decide
        omega))]
      exact ⟨rfl, by decide⟩
  · rw [show j_print f a i = .error xIA from by simp only [j_print, h1, j_bd], m_pr, if_neg (fun h => g1 h.1)]
    exact ⟨rfl, by decide⟩
end
section
-- the law's seven cases, each from its first instruction to the loop's end; printed by gen/p22.py
abbrev w7 (o h r w hm rm qm : Nat) (cO cL cB cM cI : ClassId) (u f : Nat → Int64) (b : Nat → Int32) (k : Int32) (g : Nat → Int32) : va_W := [(o, .inl (cO, 1, .inr (.inl u))), (h, .inr (0, [.ref r, .ref w])), (r, .inl (cL, 8, .inr (.inl f))), (w, .inl (cB, 32, .inl b)), (hm, .inr (1, [.int k, .ref rm, .ref qm])), (rm, .inl (cM, 8, .inr (.inl f))), (qm, .inl (cI, 24, .inl g))]
abbrev ty5 (cL cB cM cI cO : ClassId) : List (ClassId × FieldType) := [(cL, .long), (cB, .byte), (cM, .long), (cI, .int), (cO, .long)]
abbrev Anew (s : State) : Nat → Prop := fun q => s.heap.size ≤ q
/-- what both sides of a step come to -/
theorem ag_use {cd : String → Int32} {f u : Nat → Int64} {x : Except String (Int64 × (Nat → Int64))} {y : MS} {o h r w : Nat} {cO cL cB : ClassId} {b : Nat → Int32} (hf : okR f) (hag : ag cd f x y) :
    ∃ u2 f2, h_w (wL o cO u (wD h r w cL cB f b)) (fun q => wL o cO (vp_updL u 0 q.1) (wD h r w cL cB q.2 b)) x = wL o cO u2 (wD h r w cL cB f2 b) ∧ y.2.1 = f2 ∧ okR f2 ∧ h_k cd x = y.1 ∧ (h_k cd x = 0 → u2 0 = y.2.2) := by
  cases x with
  | ok q =>
    obtain ⟨rfl, h2⟩ := hag
    exact ⟨vp_updL u 0 q.1, q.2, rfl, rfl, h2, rfl, fun _ => pk_uLs⟩
  | error C =>
    obtain ⟨h1, h2, h3⟩ := hag
    exact ⟨u, f, rfl, h2, hf, h1.symm, fun h4 => absurd h4 h3⟩
theorem agp_use {f u : Nat → Int64} {x : Except String (Int32 × List Int32)} {y : Int32 × Int32 × List Int32} {o h r w : Nat} {cO cL cB : ClassId} {b : Nat → Int32} (hag : agp x y) :
    ∃ u2 b2, h_w (wL o cO u (wD h r w cL cB f b)) (fun q => wL o cO (vp_updL u 0 (Int32.toInt64 q.1)) (wD h r w cL cB f (wr b q.2))) x = wL o cO u2 (wD h r w cL cB f b2) ∧ h_k cd1 x = y.1 ∧ (h_k cd1 x = 0 → u2 0 = Int32.toInt64 y.2.1) := by
  cases x with
  | ok q =>
    obtain rfl := hag
    exact ⟨vp_updL u 0 (Int32.toInt64 q.1), wr b q.2, rfl, rfl, fun _ => pk_uLs⟩
  | error C =>
    obtain ⟨h1, h3⟩ := hag
    exact ⟨u, b, rfl, h1.symm, fun h4 => absurd h4 h3⟩
section LAW
variable {p : Program} {l : Launch} {e : Env} {s : State} {m : MethodId} {args : Array Value} {below : List Frame} {meth : Method} {c : Code} {Q : State → Prop}
variable {D : va_G} {o h r w hm rm qm b0 N : Nat} {cO cL cB cM cI : ClassId} {xs : Nat → Int32}
theorem wk_law_set (hl0 : l.stackTraces = false) (hx : p.tables.exec = Jvm.exec) (hb : c.code = b_La_law) (hml : c.maxLocals = 8) (hown : s.vm.findClass "TenThousandthDeskLaw" = some m.cls) (ht : ∀ w ∈ tt, w.before args s = true) (hK : va_K D cl2 (ty5 cL cB cM cI cO) s) (hth0 : th_ok s s.heap) (hnc : nc_ok s) (hX : va_X b0 N xs s s.heap) (hbl : b0 < s.heap.size)
    {j cells slots : Nat} {ls : Array Slot} {H : Heap} {locs : List Loc} {u f : Nat → Int64} {b : Nat → Int32} {k : Int32} {g : Nat → Int32} (hN : N ≤ 2560) (hj : 5 * j + 5 ≤ N) (hcs : cells + 1 ≤ 3084 ∧ slots + 6 ≤ 20588) (hf : okR f) (hP : va_P D cl2 (w7 o h r w hm rm qm cO cL cB cM cI u f b k g) H) (hD : va_D (Anew s) (w7 o h r w hm rm qm cO cL cB cM cI u f b k g)) (hS : va_S (Anew s) s.heap H locs) (hl : lv_has ls 8 [(4, .int (nI (5 * j))), (0, .ref b0), (1, .ref h), (2, .ref hm), (3, .ref o)])
    (kk : ∀ (ls : Array Slot) (H : Heap) (locs : List Loc) (u f : Nat → Int64) (b : Nat → Int32) (k : Int32) (g : Nat → Int32), okR f → va_P D cl2 (w7 o h r w hm rm qm cO cL cB cM cI u f b k g) H → va_D (Anew s) (w7 o h r w hm rm qm cO cL cB cM cI u f b k g) → va_S (Anew s) s.heap H locs → lv_has ls 8 [(4, .int (nI (5 * j))), (0, .ref b0), (1, .ref h), (2, .ref hm), (3, .ref o)] → W p l e room_1 s m args below meth c H locs (cells + 1) (slots + 6) Q (F0 m 606 ls [])) : W p l e room_1 s m args below meth c H locs cells slots Q (F0 m 80 ls []) := by
  have hth : th_ok s H := hth0.kept (fun q hq => hS.2.1 q hq (Nat.not_le.mpr hq))
  refine lv_aload_n hx hb d_La_law_80 rfl (lv_at hl 2 rfl) ?_
  refine lv_aload_n hx hb d_La_law_81 rfl (lv_at hl 1 rfl) ?_
  refine lv_iload hx hb d_La_law_82 (lv_at hl 0 rfl) ?_
  refine lv_iconst (v := 1) hx hb d_La_law_84 (by decide) ?_
  refine lv_iadd hx hb d_La_law_85 ?_
  rw [show ((nI (5 * j)) + 1) = nI (5 * j + 1) from (nI_add (5 * j) 1)]
  refine va_sld hx hb hX hbl (Nat.not_le.mpr hbl) hS (vp_in_nI (by omega) (by omega)) d_La_law_86 ?_
  rw [show (xs (Int32.toNatClampNeg (nI (5 * j + 1)))) = xs (5 * j + 1) from (by rw [nI_clamp (by omega)])]
  refine lv_aload_n hx hb d_La_law_87 rfl (lv_at hl 1 rfl) ?_
  refine lv_iload hx hb d_La_law_88 (lv_at hl 0 rfl) ?_
  refine lv_iconst (v := 2) hx hb d_La_law_90 (by decide) ?_
  refine lv_iadd hx hb d_La_law_91 ?_
  rw [show ((nI (5 * j)) + 2) = nI (5 * j + 2) from (nI_add (5 * j) 2)]
  refine va_sld hx hb hX hbl (Nat.not_le.mpr hbl) hS (vp_in_nI (by omega) (by omega)) d_La_law_92 ?_
  rw [show (xs (Int32.toNatClampNeg (nI (5 * j + 2)))) = xs (5 * j + 2) from (by rw [nI_clamp (by omega)])]
  refine lv_i2l (v := Int32.toInt64 (xs (5 * j + 2))) hx hb d_La_law_93 rfl ?_
  refine lv_bipush (v := 32) hx hb d_La_law_94 (by decide) ?_
  refine lv_lshl (v := (Int32.toInt64 (xs (5 * j + 2))) <<< (Int32.toInt64 32 &&& 63)) hx hb d_La_law_96 rfl ?_
  refine lv_aload_n hx hb d_La_law_97 rfl (lv_at hl 1 rfl) ?_
  refine lv_iload hx hb d_La_law_98 (lv_at hl 0 rfl) ?_
  refine lv_iconst (v := 3) hx hb d_La_law_100 (by decide) ?_
  refine lv_iadd hx hb d_La_law_101 ?_
  rw [show ((nI (5 * j)) + 3) = nI (5 * j + 3) from (nI_add (5 * j) 3)]
  refine va_sld hx hb hX hbl (Nat.not_le.mpr hbl) hS (vp_in_nI (by omega) (by omega)) d_La_law_102 ?_
  rw [show (xs (Int32.toNatClampNeg (nI (5 * j + 3)))) = xs (5 * j + 3) from (by rw [nI_clamp (by omega)])]
  refine lv_i2l (v := Int32.toInt64 (xs (5 * j + 3))) hx hb d_La_law_103 rfl ?_
  refine lv_ldc2 hx hb hown (ht _ t_333) d_La_law_104 ?_
  refine lv_land hx hb d_La_law_107 ?_
  refine lv_lor hx hb d_La_law_108 ?_
  refine lv_topl (fun nn hnn => ?_)
  refine lv_aload_n hx hb d_La_law_109 rfl (lv_at hl 4 rfl) ?_
  obtain ⟨u2, f2, ew, ef, hf2, ek, e0⟩ := ag_use (o := o) (h := h) (r := r) (w := w) (cO := cO) (cL := cL) (cB := cB) (b := b) (u := u) hf (ag_set hf (xs (5 * j + 1)) nn)
  refine tx_callR (tx_runSW (n := 4) (As := [.ref h, .int (xs (5 * j + 1)), .long nn, .ref o]) (rest := []) hx hb hml hown ht (c_La_set l hl0 D h r w o cL cB cO f u b (xs (5 * j + 1)) nn) t_32 t_31 t_0 t_30 (by decide +kernel) rfl rfl ⟨by decide, by decide⟩ (preSL (hP.sub [0, 1, 2, 3] rfl) (hK.sub [4, 0, 1] rfl) (hD.sub [0, 1, 2, 3] (by decide) rfl) hth hnc) rfl rfl hl.1 rfl (lv_room (Nat.le_of_ble_eq_true rfl)) d_La_law_110 ⟨hcs.1, hcs.2⟩) (fun x9 st₀ t h9 => by cases h9.1) (fun v9 st₀ t L9 h0 hW0 hal hL hq => ?_)
  obtain ⟨e1, hP1, hD1, hz1, hk1⟩ := hq
  cases e1
  rw [h0] at hz1 hk1
  rw [ew] at hP1 hD1
  have hS := wS hS hD [0, 1, 2, 3] rfl hz1 hk1 hL
  obtain ⟨hP, hD⟩ := wj (wz := wM hm rm qm cM cI k f g) hP hD [0, 1, 2, 3] [4, 5, 6] rfl rfl (by decide) (by decide) hk1 hP1 hD1
  generalize t.heap = H at hP hS ⊢
  generalize locs ++ L9 = locs at hS ⊢
  refine W.eq (g2 := F0 m 113 ls [.int (h_k cd1 (j_set f (xs (5 * j + 1)) nn))]) rfl ?_
  rw [ek]
  refine lv_istore (lv' := [(5, .int (m_set f (xs (5 * j + 1)) nn).1), (4, .int (nI (5 * j))), (0, .ref b0), (1, .ref h), (2, .ref hm), (3, .ref o)]) hx hb d_La_law_113 hl (by decide) rfl (fun ls hl => ?_)
  refine lv_aload_n hx hb d_La_law_115 rfl (lv_at hl 4 rfl) ?_
  refine lv_aload_n hx hb d_La_law_116 rfl (lv_at hl 2 rfl) ?_
  refine lv_iload hx hb d_La_law_117 (lv_at hl 1 rfl) ?_
  refine lv_iconst (v := 1) hx hb d_La_law_119 (by decide) ?_
  refine lv_iadd hx hb d_La_law_120 ?_
  rw [show ((nI (5 * j)) + 1) = nI (5 * j + 1) from (nI_add (5 * j) 1)]
  refine va_sld hx hb hX hbl (Nat.not_le.mpr hbl) hS (vp_in_nI (by omega) (by omega)) d_La_law_121 ?_
  rw [show (xs (Int32.toNatClampNeg (nI (5 * j + 1)))) = xs (5 * j + 1) from (by rw [nI_clamp (by omega)])]
  refine lv_aload_n hx hb d_La_law_122 rfl (lv_at hl 2 rfl) ?_
  refine lv_iload hx hb d_La_law_123 (lv_at hl 1 rfl) ?_
  refine lv_iconst (v := 2) hx hb d_La_law_125 (by decide) ?_
  refine lv_iadd hx hb d_La_law_126 ?_
  rw [show ((nI (5 * j)) + 2) = nI (5 * j + 2) from (nI_add (5 * j) 2)]
  refine va_sld hx hb hX hbl (Nat.not_le.mpr hbl) hS (vp_in_nI (by omega) (by omega)) d_La_law_127 ?_
  rw [show (xs (Int32.toNatClampNeg (nI (5 * j + 2)))) = xs (5 * j + 2) from (by rw [nI_clamp (by omega)])]
  refine lv_i2l (v := Int32.toInt64 (xs (5 * j + 2))) hx hb d_La_law_128 rfl ?_
  refine lv_bipush (v := 32) hx hb d_La_law_129 (by decide) ?_
  refine lv_lshl (v := (Int32.toInt64 (xs (5 * j + 2))) <<< (Int32.toInt64 32 &&& 63)) hx hb d_La_law_131 rfl ?_
  refine lv_aload_n hx hb d_La_law_132 rfl (lv_at hl 2 rfl) ?_
  refine lv_iload hx hb d_La_law_133 (lv_at hl 1 rfl) ?_
  refine lv_iconst (v := 3) hx hb d_La_law_135 (by decide) ?_
  refine lv_iadd hx hb d_La_law_136 ?_
  rw [show ((nI (5 * j)) + 3) = nI (5 * j + 3) from (nI_add (5 * j) 3)]
  refine va_sld hx hb hX hbl (Nat.not_le.mpr hbl) hS (vp_in_nI (by omega) (by omega)) d_La_law_137 ?_
  rw [show (xs (Int32.toNatClampNeg (nI (5 * j + 3)))) = xs (5 * j + 3) from (by rw [nI_clamp (by omega)])]
  refine lv_i2l (v := Int32.toInt64 (xs (5 * j + 3))) hx hb d_La_law_138 rfl ?_
  refine lv_ldc2 hx hb hown (ht _ t_333) d_La_law_139 ?_
  refine lv_land hx hb d_La_law_142 ?_
  refine lv_lor hx hb d_La_law_143 ?_
  rw [← hnn]
  refine tx_callR (tx_runV (n := 2) (b := hm) (As := [.int (xs (5 * j + 1)), .long nn]) (rest := []) hx hb hml hown ht (c_Mo_set l D hm rm qm cM cI k f g (xs (5 * j + 1)) nn) t_274 t_272 t_273 t_2 t_271 (by decide +kernel) rfl rfl ⟨by decide, by decide⟩ (preVW (hP.sub [0, 1, 2] rfl) (hK.sub [2, 3] rfl) (hD.sub [0, 1, 2] (by decide) rfl) rfl rfl) rfl rfl hl.1 rfl (lv_room (Nat.le_of_ble_eq_true rfl)) d_La_law_144 ⟨hcs.1, hcs.2⟩) (fun x9 st₀ t h9 => by cases h9.1) (fun v9 st₀ t L9 h0 hW0 hal hL hq => ?_)
  obtain ⟨e1, hP1, hD1, hz1, hk1⟩ := hq
  cases e1
  rw [h0] at hz1 hk1
  rw [ef] at hP1 hD1
  have hS := wS hS hD [0, 1, 2] rfl hz1 hk1 hL
  obtain ⟨hP, hD⟩ := wj (wz := wL o cO u2 (wD h r w cL cB f2 b)) hP hD [0, 1, 2] [3, 4, 5, 6] rfl rfl (by decide) (by decide) hk1 hP1 hD1
  generalize t.heap = H at hP hS ⊢
  generalize locs ++ L9 = locs at hS ⊢
  have hP : va_P D cl2 (w7 o h r w hm rm qm cO cL cB cM cI u2 f2 b ((m_set f (xs (5 * j + 1)) nn).1) g) H := hP
  have hD : va_D (Anew s) (w7 o h r w hm rm qm cO cL cB cM cI u2 f2 b ((m_set f (xs (5 * j + 1)) nn).1) g) := hD
  refine W.eq (g2 := F0 m 147 ls [.long (m_set f (xs (5 * j + 1)) nn).2.2]) rfl ?_
  refine lv_lstore (lv' := [(6, .long (m_set f (xs (5 * j + 1)) nn).2.2), (5, .int (m_set f (xs (5 * j + 1)) nn).1), (4, .int (nI (5 * j))), (0, .ref b0), (1, .ref h), (2, .ref hm), (3, .ref o)]) hx hb d_La_law_147 hl (by decide) rfl (fun ls hl => ?_)
  refine lv_aload_n hx hb d_La_law_149 rfl (lv_at hl 5 rfl) ?_
  refine tx_callO (tx_runV (n := 0) (b := hm) (As := []) (rest := []) hx hb hml hown ht (c_Mo_thrown l D hm rm qm cM cI (m_set f (xs (5 * j + 1)) nn).1 f2 g) t_270 t_268 t_269 t_2 t_267 (by decide +kernel) rfl rfl ⟨by decide, by decide⟩ (preVW (hP.sub [4, 5, 6] rfl) (hK.sub [2, 3] rfl) (hD.sub [4, 5, 6] (by decide) rfl) rfl rfl) rfl rfl hl.1 rfl (lv_room (Nat.le_of_ble_eq_true rfl)) d_La_law_150 ⟨hcs.1, hcs.2⟩) ?_
  refine W.eq (g2 := F0 m 153 ls [.int (m_set f (xs (5 * j + 1)) nn).1]) rfl ?_
  refine lv_iload hx hb d_La_law_153 (lv_at hl 1 rfl) ?_
  refine lv_icmp_eq (tgt := 160) hx hb d_La_law_155 (by decide) (fun h1 => ?_) (fun h1 => ?_)
  · refine lv_iload hx hb d_La_law_160 (lv_at hl 1 rfl) ?_
    refine lv_if_ne (tgt := 176) hx hb d_La_law_162 (by decide) (fun h2 => ?_) (fun h2 => ?_)
    · refine lv_goto (tgt := 606) hx hb d_La_law_176 (by decide) ?_
      exact kk ls H locs u2 f2 b _ g hf2 hP hD hS (lv_sub hl [2, 3, 4, 5, 6] rfl)
    · refine lv_aload_n hx hb d_La_law_165 rfl (lv_at hl 6 rfl) ?_
      refine lv_iconst (v := 0) hx hb d_La_law_166 (by decide) ?_
      refine va_lald hx hb hK hP 0 4 rfl rfl (vp_in_nI (n := 0) (by decide) (by decide)) d_La_law_167 ?_
      refine lv_lload hx hb d_La_law_168 (lv_at hl 0 rfl) ?_
      refine lc_eq (tgt := 176) hx hb d_La_law_170 d_La_law_171 (by decide) (fun h3 => ?_) (fun h3 => ?_)
      · refine lv_goto (tgt := 606) hx hb d_La_law_176 (by decide) ?_
        exact kk ls H locs u2 f2 b _ g hf2 hP hD hS (lv_sub hl [2, 3, 4, 5, 6] rfl)
      · exact absurd (e0 (ek.trans h2)) h3
  · exact absurd rfl h1
theorem wk_law_get (hl0 : l.stackTraces = false) (hx : p.tables.exec = Jvm.exec) (hb : c.code = b_La_law) (hml : c.maxLocals = 8) (hown : s.vm.findClass "TenThousandthDeskLaw" = some m.cls) (ht : ∀ w ∈ tt, w.before args s = true) (hK : va_K D cl2 (ty5 cL cB cM cI cO) s) (hth0 : th_ok s s.heap) (hnc : nc_ok s) (hX : va_X b0 N xs s s.heap) (hbl : b0 < s.heap.size)
    {j cells slots : Nat} {ls : Array Slot} {H : Heap} {locs : List Loc} {u f : Nat → Int64} {b : Nat → Int32} {k : Int32} {g : Nat → Int32} (hN : N ≤ 2560) (hj : 5 * j + 5 ≤ N) (hcs : cells + 1 ≤ 3084 ∧ slots + 6 ≤ 20588) (hf : okR f) (hP : va_P D cl2 (w7 o h r w hm rm qm cO cL cB cM cI u f b k g) H) (hD : va_D (Anew s) (w7 o h r w hm rm qm cO cL cB cM cI u f b k g)) (hS : va_S (Anew s) s.heap H locs) (hl : lv_has ls 8 [(4, .int (nI (5 * j))), (0, .ref b0), (1, .ref h), (2, .ref hm), (3, .ref o)])
    (kk : ∀ (ls : Array Slot) (H : Heap) (locs : List Loc) (u f : Nat → Int64) (b : Nat → Int32) (k : Int32) (g : Nat → Int32), okR f → va_P D cl2 (w7 o h r w hm rm qm cO cL cB cM cI u f b k g) H → va_D (Anew s) (w7 o h r w hm rm qm cO cL cB cM cI u f b k g) → va_S (Anew s) s.heap H locs → lv_has ls 8 [(4, .int (nI (5 * j))), (0, .ref b0), (1, .ref h), (2, .ref hm), (3, .ref o)] → W p l e room_1 s m args below meth c H locs (cells + 1) (slots + 6) Q (F0 m 606 ls [])) : W p l e room_1 s m args below meth c H locs cells slots Q (F0 m 179 ls []) := by
  have hth : th_ok s H := hth0.kept (fun q hq => hS.2.1 q hq (Nat.not_le.mpr hq))
  refine lv_aload_n hx hb d_La_law_179 rfl (lv_at hl 2 rfl) ?_
  refine lv_aload_n hx hb d_La_law_180 rfl (lv_at hl 1 rfl) ?_
  refine lv_iload hx hb d_La_law_181 (lv_at hl 0 rfl) ?_
  refine lv_iconst (v := 1) hx hb d_La_law_183 (by decide) ?_
  refine lv_iadd hx hb d_La_law_184 ?_
  rw [show ((nI (5 * j)) + 1) = nI (5 * j + 1) from (nI_add (5 * j) 1)]
  refine va_sld hx hb hX hbl (Nat.not_le.mpr hbl) hS (vp_in_nI (by omega) (by omega)) d_La_law_185 ?_
  rw [show (xs (Int32.toNatClampNeg (nI (5 * j + 1)))) = xs (5 * j + 1) from (by rw [nI_clamp (by omega)])]
  refine lv_aload_n hx hb d_La_law_186 rfl (lv_at hl 4 rfl) ?_
  obtain ⟨u2, f2, ew, ef, hf2, ek, e0⟩ := ag_use (o := o) (h := h) (r := r) (w := w) (cO := cO) (cL := cL) (cB := cB) (b := b) (u := u) hf (ag_get hf (xs (5 * j + 1)))
  refine tx_callR (tx_runSW (n := 3) (As := [.ref h, .int (xs (5 * j + 1)), .ref o]) (rest := []) hx hb hml hown ht (c_La_get l hl0 D h r w o cL cB cO f u b (xs (5 * j + 1))) t_110 t_109 t_0 t_108 (by decide +kernel) rfl rfl ⟨by decide, by decide⟩ (preSL (hP.sub [0, 1, 2, 3] rfl) (hK.sub [4, 0, 1] rfl) (hD.sub [0, 1, 2, 3] (by decide) rfl) hth hnc) rfl rfl hl.1 rfl (lv_room (Nat.le_of_ble_eq_true rfl)) d_La_law_187 ⟨hcs.1, hcs.2⟩) (fun x9 st₀ t h9 => by cases h9.1) (fun v9 st₀ t L9 h0 hW0 hal hL hq => ?_)
  obtain ⟨e1, hP1, hD1, hz1, hk1⟩ := hq
  cases e1
  rw [h0] at hz1 hk1
  rw [ew] at hP1 hD1
  have hS := wS hS hD [0, 1, 2, 3] rfl hz1 hk1 hL
  obtain ⟨hP, hD⟩ := wj (wz := wM hm rm qm cM cI k f g) hP hD [0, 1, 2, 3] [4, 5, 6] rfl rfl (by decide) (by decide) hk1 hP1 hD1
  generalize t.heap = H at hP hS ⊢
  generalize locs ++ L9 = locs at hS ⊢
  refine W.eq (g2 := F0 m 190 ls [.int (h_k cd1 (j_gt f (xs (5 * j + 1))))]) rfl ?_
  rw [ek]
  refine lv_istore (lv' := [(5, .int (m_get f (xs (5 * j + 1))).1), (4, .int (nI (5 * j))), (0, .ref b0), (1, .ref h), (2, .ref hm), (3, .ref o)]) hx hb d_La_law_190 hl (by decide) rfl (fun ls hl => ?_)
  refine lv_aload_n hx hb d_La_law_192 rfl (lv_at hl 4 rfl) ?_
  refine lv_aload_n hx hb d_La_law_193 rfl (lv_at hl 2 rfl) ?_
  refine lv_iload hx hb d_La_law_194 (lv_at hl 1 rfl) ?_
  refine lv_iconst (v := 1) hx hb d_La_law_196 (by decide) ?_
  refine lv_iadd hx hb d_La_law_197 ?_
  rw [show ((nI (5 * j)) + 1) = nI (5 * j + 1) from (nI_add (5 * j) 1)]
  refine va_sld hx hb hX hbl (Nat.not_le.mpr hbl) hS (vp_in_nI (by omega) (by omega)) d_La_law_198 ?_
  rw [show (xs (Int32.toNatClampNeg (nI (5 * j + 1)))) = xs (5 * j + 1) from (by rw [nI_clamp (by omega)])]
  refine tx_callR (tx_runV (n := 1) (b := hm) (As := [.int (xs (5 * j + 1))]) (rest := []) hx hb hml hown ht (c_Mo_get l D hm rm qm cM cI k f g (xs (5 * j + 1))) t_288 t_286 t_287 t_2 t_285 (by decide +kernel) rfl rfl ⟨by decide, by decide⟩ (preVW (hP.sub [0, 1, 2] rfl) (hK.sub [2, 3] rfl) (hD.sub [0, 1, 2] (by decide) rfl) rfl rfl) rfl rfl hl.1 rfl (lv_room (Nat.le_of_ble_eq_true rfl)) d_La_law_199 ⟨hcs.1, hcs.2⟩) (fun x9 st₀ t h9 => by cases h9.1) (fun v9 st₀ t L9 h0 hW0 hal hL hq => ?_)
  obtain ⟨e1, hP1, hD1, hz1, hk1⟩ := hq
  cases e1
  rw [h0] at hz1 hk1
  rw [ef] at hP1 hD1
  have hS := wS hS hD [0, 1, 2] rfl hz1 hk1 hL
  obtain ⟨hP, hD⟩ := wj (wz := wL o cO u2 (wD h r w cL cB f2 b)) hP hD [0, 1, 2] [3, 4, 5, 6] rfl rfl (by decide) (by decide) hk1 hP1 hD1
  generalize t.heap = H at hP hS ⊢
  generalize locs ++ L9 = locs at hS ⊢
  have hP : va_P D cl2 (w7 o h r w hm rm qm cO cL cB cM cI u2 f2 b ((m_get f (xs (5 * j + 1))).1) g) H := hP
  have hD : va_D (Anew s) (w7 o h r w hm rm qm cO cL cB cM cI u2 f2 b ((m_get f (xs (5 * j + 1))).1) g) := hD
  refine W.eq (g2 := F0 m 202 ls [.long (m_get f (xs (5 * j + 1))).2.2]) rfl ?_
  refine lv_lstore (lv' := [(6, .long (m_get f (xs (5 * j + 1))).2.2), (5, .int (m_get f (xs (5 * j + 1))).1), (4, .int (nI (5 * j))), (0, .ref b0), (1, .ref h), (2, .ref hm), (3, .ref o)]) hx hb d_La_law_202 hl (by decide) rfl (fun ls hl => ?_)
  refine lv_aload_n hx hb d_La_law_204 rfl (lv_at hl 5 rfl) ?_
  refine tx_callO (tx_runV (n := 0) (b := hm) (As := []) (rest := []) hx hb hml hown ht (c_Mo_thrown l D hm rm qm cM cI (m_get f (xs (5 * j + 1))).1 f2 g) t_270 t_268 t_269 t_2 t_267 (by decide +kernel) rfl rfl ⟨by decide, by decide⟩ (preVW (hP.sub [4, 5, 6] rfl) (hK.sub [2, 3] rfl) (hD.sub [4, 5, 6] (by decide) rfl) rfl rfl) rfl rfl hl.1 rfl (lv_room (Nat.le_of_ble_eq_true rfl)) d_La_law_205 ⟨hcs.1, hcs.2⟩) ?_
  refine W.eq (g2 := F0 m 208 ls [.int (m_get f (xs (5 * j + 1))).1]) rfl ?_
  refine lv_iload hx hb d_La_law_208 (lv_at hl 1 rfl) ?_
  refine lv_icmp_eq (tgt := 215) hx hb d_La_law_210 (by decide) (fun h1 => ?_) (fun h1 => ?_)
  · refine lv_iload hx hb d_La_law_215 (lv_at hl 1 rfl) ?_
    refine lv_if_ne (tgt := 231) hx hb d_La_law_217 (by decide) (fun h2 => ?_) (fun h2 => ?_)
    · refine lv_goto (tgt := 606) hx hb d_La_law_231 (by decide) ?_
      exact kk ls H locs u2 f2 b _ g hf2 hP hD hS (lv_sub hl [2, 3, 4, 5, 6] rfl)
    · refine lv_aload_n hx hb d_La_law_220 rfl (lv_at hl 6 rfl) ?_
      refine lv_iconst (v := 0) hx hb d_La_law_221 (by decide) ?_
      refine va_lald hx hb hK hP 0 4 rfl rfl (vp_in_nI (n := 0) (by decide) (by decide)) d_La_law_222 ?_
      refine lv_lload hx hb d_La_law_223 (lv_at hl 0 rfl) ?_
      refine lc_eq (tgt := 231) hx hb d_La_law_225 d_La_law_226 (by decide) (fun h3 => ?_) (fun h3 => ?_)
      · refine lv_goto (tgt := 606) hx hb d_La_law_231 (by decide) ?_
        exact kk ls H locs u2 f2 b _ g hf2 hP hD hS (lv_sub hl [2, 3, 4, 5, 6] rfl)
      · exact absurd (e0 (ek.trans h2)) h3
  · exact absurd rfl h1
theorem wk_law_reckon (hl0 : l.stackTraces = false) (hx : p.tables.exec = Jvm.exec) (hb : c.code = b_La_law) (hml : c.maxLocals = 8) (hown : s.vm.findClass "TenThousandthDeskLaw" = some m.cls) (ht : ∀ w ∈ tt, w.before args s = true) (hK : va_K D cl2 (ty5 cL cB cM cI cO) s) (hth0 : th_ok s s.heap) (hnc : nc_ok s) (hX : va_X b0 N xs s s.heap) (hbl : b0 < s.heap.size)
    {j cells slots : Nat} {ls : Array Slot} {H : Heap} {locs : List Loc} {u f : Nat → Int64} {b : Nat → Int32} {k : Int32} {g : Nat → Int32} (hN : N ≤ 2560) (hj : 5 * j + 5 ≤ N) (hcs : cells + 1 ≤ 3084 ∧ slots + 6 ≤ 20588) (hf : okR f) (hP : va_P D cl2 (w7 o h r w hm rm qm cO cL cB cM cI u f b k g) H) (hD : va_D (Anew s) (w7 o h r w hm rm qm cO cL cB cM cI u f b k g)) (hS : va_S (Anew s) s.heap H locs) (hl : lv_has ls 8 [(4, .int (nI (5 * j))), (0, .ref b0), (1, .ref h), (2, .ref hm), (3, .ref o)])
    (kk : ∀ (ls : Array Slot) (H : Heap) (locs : List Loc) (u f : Nat → Int64) (b : Nat → Int32) (k : Int32) (g : Nat → Int32), okR f → va_P D cl2 (w7 o h r w hm rm qm cO cL cB cM cI u f b k g) H → va_D (Anew s) (w7 o h r w hm rm qm cO cL cB cM cI u f b k g) → va_S (Anew s) s.heap H locs → lv_has ls 8 [(4, .int (nI (5 * j))), (0, .ref b0), (1, .ref h), (2, .ref hm), (3, .ref o)] → W p l e room_1 s m args below meth c H locs (cells + 1) (slots + 6) Q (F0 m 606 ls [])) : W p l e room_1 s m args below meth c H locs cells slots Q (F0 m 234 ls []) := by
  have hth : th_ok s H := hth0.kept (fun q hq => hS.2.1 q hq (Nat.not_le.mpr hq))
  refine lv_aload_n hx hb d_La_law_234 rfl (lv_at hl 2 rfl) ?_
  refine lv_aload_n hx hb d_La_law_235 rfl (lv_at hl 1 rfl) ?_
  refine lv_iload hx hb d_La_law_236 (lv_at hl 0 rfl) ?_
  refine lv_iconst (v := 1) hx hb d_La_law_238 (by decide) ?_
  refine lv_iadd hx hb d_La_law_239 ?_
  rw [show ((nI (5 * j)) + 1) = nI (5 * j + 1) from (nI_add (5 * j) 1)]
  refine va_sld hx hb hX hbl (Nat.not_le.mpr hbl) hS (vp_in_nI (by omega) (by omega)) d_La_law_240 ?_
  rw [show (xs (Int32.toNatClampNeg (nI (5 * j + 1)))) = xs (5 * j + 1) from (by rw [nI_clamp (by omega)])]
  refine lv_aload_n hx hb d_La_law_241 rfl (lv_at hl 1 rfl) ?_
  refine lv_iload hx hb d_La_law_242 (lv_at hl 0 rfl) ?_
  refine lv_iconst (v := 2) hx hb d_La_law_244 (by decide) ?_
  refine lv_iadd hx hb d_La_law_245 ?_
  rw [show ((nI (5 * j)) + 2) = nI (5 * j + 2) from (nI_add (5 * j) 2)]
  refine va_sld hx hb hX hbl (Nat.not_le.mpr hbl) hS (vp_in_nI (by omega) (by omega)) d_La_law_246 ?_
  rw [show (xs (Int32.toNatClampNeg (nI (5 * j + 2)))) = xs (5 * j + 2) from (by rw [nI_clamp (by omega)])]
  refine lv_aload_n hx hb d_La_law_247 rfl (lv_at hl 1 rfl) ?_
  refine lv_iload hx hb d_La_law_248 (lv_at hl 0 rfl) ?_
  refine lv_iconst (v := 3) hx hb d_La_law_250 (by decide) ?_
  refine lv_iadd hx hb d_La_law_251 ?_
  rw [show ((nI (5 * j)) + 3) = nI (5 * j + 3) from (nI_add (5 * j) 3)]
  refine va_sld hx hb hX hbl (Nat.not_le.mpr hbl) hS (vp_in_nI (by omega) (by omega)) d_La_law_252 ?_
  rw [show (xs (Int32.toNatClampNeg (nI (5 * j + 3)))) = xs (5 * j + 3) from (by rw [nI_clamp (by omega)])]
  refine lv_aload_n hx hb d_La_law_253 rfl (lv_at hl 1 rfl) ?_
  refine lv_iload hx hb d_La_law_254 (lv_at hl 0 rfl) ?_
  refine lv_iconst (v := 4) hx hb d_La_law_256 (by decide) ?_
  refine lv_iadd hx hb d_La_law_257 ?_
  rw [show ((nI (5 * j)) + 4) = nI (5 * j + 4) from (nI_add (5 * j) 4)]
  refine va_sld hx hb hX hbl (Nat.not_le.mpr hbl) hS (vp_in_nI (by omega) (by omega)) d_La_law_258 ?_
  rw [show (xs (Int32.toNatClampNeg (nI (5 * j + 4)))) = xs (5 * j + 4) from (by rw [nI_clamp (by omega)])]
  refine lv_aload_n hx hb d_La_law_259 rfl (lv_at hl 4 rfl) ?_
  obtain ⟨u2, f2, ew, ef, hf2, ek, e0⟩ := ag_use (o := o) (h := h) (r := r) (w := w) (cO := cO) (cL := cL) (cB := cB) (b := b) (u := u) hf (ag_reckon hf (xs (5 * j + 1)) (xs (5 * j + 2)) (xs (5 * j + 3)) (xs (5 * j + 4)))
  refine tx_callR (tx_runSW (n := 6) (As := [.ref h, .int (xs (5 * j + 1)), .int (xs (5 * j + 2)), .int (xs (5 * j + 3)), .int (xs (5 * j + 4)), .ref o]) (rest := []) hx hb hml hown ht (c_La_reckon l hl0 D h r w o cL cB cO f u b (xs (5 * j + 1)) (xs (5 * j + 2)) (xs (5 * j + 3)) (xs (5 * j + 4))) t_117 t_116 t_0 t_115 (by decide +kernel) rfl rfl ⟨by decide, by decide⟩ (preSL (hP.sub [0, 1, 2, 3] rfl) (hK.sub [4, 0, 1] rfl) (hD.sub [0, 1, 2, 3] (by decide) rfl) hth hnc) rfl rfl hl.1 rfl (lv_room (Nat.le_of_ble_eq_true rfl)) d_La_law_260 ⟨hcs.1, hcs.2⟩) (fun x9 st₀ t h9 => by cases h9.1) (fun v9 st₀ t L9 h0 hW0 hal hL hq => ?_)
  obtain ⟨e1, hP1, hD1, hz1, hk1⟩ := hq
  cases e1
  rw [h0] at hz1 hk1
  rw [ew] at hP1 hD1
  have hS := wS hS hD [0, 1, 2, 3] rfl hz1 hk1 hL
  obtain ⟨hP, hD⟩ := wj (wz := wM hm rm qm cM cI k f g) hP hD [0, 1, 2, 3] [4, 5, 6] rfl rfl (by decide) (by decide) hk1 hP1 hD1
  generalize t.heap = H at hP hS ⊢
  generalize locs ++ L9 = locs at hS ⊢
  refine W.eq (g2 := F0 m 263 ls [.int (h_k cd3 (j_reckon f (xs (5 * j + 1)) (xs (5 * j + 2)) (xs (5 * j + 3)) (xs (5 * j + 4))))]) rfl ?_
  rw [ek]
  refine lv_istore (lv' := [(5, .int (m_reckon f (xs (5 * j + 1)) (xs (5 * j + 2)) (xs (5 * j + 3)) (xs (5 * j + 4))).1), (4, .int (nI (5 * j))), (0, .ref b0), (1, .ref h), (2, .ref hm), (3, .ref o)]) hx hb d_La_law_263 hl (by decide) rfl (fun ls hl => ?_)
  refine lv_aload_n hx hb d_La_law_265 rfl (lv_at hl 4 rfl) ?_
  refine lv_aload_n hx hb d_La_law_266 rfl (lv_at hl 2 rfl) ?_
  refine lv_iload hx hb d_La_law_267 (lv_at hl 1 rfl) ?_
  refine lv_iconst (v := 1) hx hb d_La_law_269 (by decide) ?_
  refine lv_iadd hx hb d_La_law_270 ?_
  rw [show ((nI (5 * j)) + 1) = nI (5 * j + 1) from (nI_add (5 * j) 1)]
  refine va_sld hx hb hX hbl (Nat.not_le.mpr hbl) hS (vp_in_nI (by omega) (by omega)) d_La_law_271 ?_
  rw [show (xs (Int32.toNatClampNeg (nI (5 * j + 1)))) = xs (5 * j + 1) from (by rw [nI_clamp (by omega)])]
  refine lv_aload_n hx hb d_La_law_272 rfl (lv_at hl 2 rfl) ?_
  refine lv_iload hx hb d_La_law_273 (lv_at hl 1 rfl) ?_
  refine lv_iconst (v := 2) hx hb d_La_law_275 (by decide) ?_
  refine lv_iadd hx hb d_La_law_276 ?_
  rw [show ((nI (5 * j)) + 2) = nI (5 * j + 2) from (nI_add (5 * j) 2)]
  refine va_sld hx hb hX hbl (Nat.not_le.mpr hbl) hS (vp_in_nI (by omega) (by omega)) d_La_law_277 ?_
  rw [show (xs (Int32.toNatClampNeg (nI (5 * j + 2)))) = xs (5 * j + 2) from (by rw [nI_clamp (by omega)])]
  refine lv_aload_n hx hb d_La_law_278 rfl (lv_at hl 2 rfl) ?_
  refine lv_iload hx hb d_La_law_279 (lv_at hl 1 rfl) ?_
  refine lv_iconst (v := 3) hx hb d_La_law_281 (by decide) ?_
  refine lv_iadd hx hb d_La_law_282 ?_
  rw [show ((nI (5 * j)) + 3) = nI (5 * j + 3) from (nI_add (5 * j) 3)]
  refine va_sld hx hb hX hbl (Nat.not_le.mpr hbl) hS (vp_in_nI (by omega) (by omega)) d_La_law_283 ?_
  rw [show (xs (Int32.toNatClampNeg (nI (5 * j + 3)))) = xs (5 * j + 3) from (by rw [nI_clamp (by omega)])]
  refine lv_aload_n hx hb d_La_law_284 rfl (lv_at hl 2 rfl) ?_
  refine lv_iload hx hb d_La_law_285 (lv_at hl 1 rfl) ?_
  refine lv_iconst (v := 4) hx hb d_La_law_287 (by decide) ?_
  refine lv_iadd hx hb d_La_law_288 ?_
  rw [show ((nI (5 * j)) + 4) = nI (5 * j + 4) from (nI_add (5 * j) 4)]
  refine va_sld hx hb hX hbl (Nat.not_le.mpr hbl) hS (vp_in_nI (by omega) (by omega)) d_La_law_289 ?_
  rw [show (xs (Int32.toNatClampNeg (nI (5 * j + 4)))) = xs (5 * j + 4) from (by rw [nI_clamp (by omega)])]
  refine tx_callR (tx_runV (n := 4) (b := hm) (As := [.int (xs (5 * j + 1)), .int (xs (5 * j + 2)), .int (xs (5 * j + 3)), .int (xs (5 * j + 4))]) (rest := []) hx hb hml hown ht (c_Mo_reckon l D hm rm qm cM cI k f g (xs (5 * j + 1)) (xs (5 * j + 2)) (xs (5 * j + 3)) (xs (5 * j + 4))) t_292 t_290 t_291 t_2 t_289 (by decide +kernel) rfl rfl ⟨by decide, by decide⟩ (preVW (hP.sub [0, 1, 2] rfl) (hK.sub [2, 3] rfl) (hD.sub [0, 1, 2] (by decide) rfl) rfl rfl) rfl rfl hl.1 rfl (lv_room (Nat.le_of_ble_eq_true rfl)) d_La_law_290 ⟨hcs.1, hcs.2⟩) (fun x9 st₀ t h9 => by cases h9.1) (fun v9 st₀ t L9 h0 hW0 hal hL hq => ?_)
  obtain ⟨e1, hP1, hD1, hz1, hk1⟩ := hq
  cases e1
  rw [h0] at hz1 hk1
  rw [ef] at hP1 hD1
  have hS := wS hS hD [0, 1, 2] rfl hz1 hk1 hL
  obtain ⟨hP, hD⟩ := wj (wz := wL o cO u2 (wD h r w cL cB f2 b)) hP hD [0, 1, 2] [3, 4, 5, 6] rfl rfl (by decide) (by decide) hk1 hP1 hD1
  generalize t.heap = H at hP hS ⊢
  generalize locs ++ L9 = locs at hS ⊢
  have hP : va_P D cl2 (w7 o h r w hm rm qm cO cL cB cM cI u2 f2 b ((m_reckon f (xs (5 * j + 1)) (xs (5 * j + 2)) (xs (5 * j + 3)) (xs (5 * j + 4))).1) g) H := hP
  have hD : va_D (Anew s) (w7 o h r w hm rm qm cO cL cB cM cI u2 f2 b ((m_reckon f (xs (5 * j + 1)) (xs (5 * j + 2)) (xs (5 * j + 3)) (xs (5 * j + 4))).1) g) := hD
  refine W.eq (g2 := F0 m 293 ls [.long (m_reckon f (xs (5 * j + 1)) (xs (5 * j + 2)) (xs (5 * j + 3)) (xs (5 * j + 4))).2.2]) rfl ?_
  refine lv_lstore (lv' := [(6, .long (m_reckon f (xs (5 * j + 1)) (xs (5 * j + 2)) (xs (5 * j + 3)) (xs (5 * j + 4))).2.2), (5, .int (m_reckon f (xs (5 * j + 1)) (xs (5 * j + 2)) (xs (5 * j + 3)) (xs (5 * j + 4))).1), (4, .int (nI (5 * j))), (0, .ref b0), (1, .ref h), (2, .ref hm), (3, .ref o)]) hx hb d_La_law_293 hl (by decide) rfl (fun ls hl => ?_)
  refine lv_aload_n hx hb d_La_law_295 rfl (lv_at hl 5 rfl) ?_
  refine tx_callO (tx_runV (n := 0) (b := hm) (As := []) (rest := []) hx hb hml hown ht (c_Mo_thrown l D hm rm qm cM cI (m_reckon f (xs (5 * j + 1)) (xs (5 * j + 2)) (xs (5 * j + 3)) (xs (5 * j + 4))).1 f2 g) t_270 t_268 t_269 t_2 t_267 (by decide +kernel) rfl rfl ⟨by decide, by decide⟩ (preVW (hP.sub [4, 5, 6] rfl) (hK.sub [2, 3] rfl) (hD.sub [4, 5, 6] (by decide) rfl) rfl rfl) rfl rfl hl.1 rfl (lv_room (Nat.le_of_ble_eq_true rfl)) d_La_law_296 ⟨hcs.1, hcs.2⟩) ?_
  refine W.eq (g2 := F0 m 299 ls [.int (m_reckon f (xs (5 * j + 1)) (xs (5 * j + 2)) (xs (5 * j + 3)) (xs (5 * j + 4))).1]) rfl ?_
  refine lv_iload hx hb d_La_law_299 (lv_at hl 1 rfl) ?_
  refine lv_icmp_eq (tgt := 306) hx hb d_La_law_301 (by decide) (fun h1 => ?_) (fun h1 => ?_)
  · refine lv_iload hx hb d_La_law_306 (lv_at hl 1 rfl) ?_
    refine lv_if_ne (tgt := 322) hx hb d_La_law_308 (by decide) (fun h2 => ?_) (fun h2 => ?_)
    · refine lv_goto (tgt := 606) hx hb d_La_law_322 (by decide) ?_
      exact kk ls H locs u2 f2 b _ g hf2 hP hD hS (lv_sub hl [2, 3, 4, 5, 6] rfl)
    · refine lv_aload_n hx hb d_La_law_311 rfl (lv_at hl 6 rfl) ?_
      refine lv_iconst (v := 0) hx hb d_La_law_312 (by decide) ?_
      refine va_lald hx hb hK hP 0 4 rfl rfl (vp_in_nI (n := 0) (by decide) (by decide)) d_La_law_313 ?_
      refine lv_lload hx hb d_La_law_314 (lv_at hl 0 rfl) ?_
      refine lc_eq (tgt := 322) hx hb d_La_law_316 d_La_law_317 (by decide) (fun h3 => ?_) (fun h3 => ?_)
      · refine lv_goto (tgt := 606) hx hb d_La_law_322 (by decide) ?_
        exact kk ls H locs u2 f2 b _ g hf2 hP hD hS (lv_sub hl [2, 3, 4, 5, 6] rfl)
      · exact absurd (e0 (ek.trans h2)) h3
  · exact absurd rfl h1
theorem wk_law_turn (hl0 : l.stackTraces = false) (hx : p.tables.exec = Jvm.exec) (hb : c.code = b_La_law) (hml : c.maxLocals = 8) (hown : s.vm.findClass "TenThousandthDeskLaw" = some m.cls) (ht : ∀ w ∈ tt, w.before args s = true) (hK : va_K D cl2 (ty5 cL cB cM cI cO) s) (hth0 : th_ok s s.heap) (hnc : nc_ok s) (hX : va_X b0 N xs s s.heap) (hbl : b0 < s.heap.size)
    {j cells slots : Nat} {ls : Array Slot} {H : Heap} {locs : List Loc} {u f : Nat → Int64} {b : Nat → Int32} {k : Int32} {g : Nat → Int32} (hN : N ≤ 2560) (hj : 5 * j + 5 ≤ N) (hcs : cells + 1 ≤ 3084 ∧ slots + 6 ≤ 20588) (hf : okR f) (hP : va_P D cl2 (w7 o h r w hm rm qm cO cL cB cM cI u f b k g) H) (hD : va_D (Anew s) (w7 o h r w hm rm qm cO cL cB cM cI u f b k g)) (hS : va_S (Anew s) s.heap H locs) (hl : lv_has ls 8 [(4, .int (nI (5 * j))), (0, .ref b0), (1, .ref h), (2, .ref hm), (3, .ref o)])
    (kk : ∀ (ls : Array Slot) (H : Heap) (locs : List Loc) (u f : Nat → Int64) (b : Nat → Int32) (k : Int32) (g : Nat → Int32), okR f → va_P D cl2 (w7 o h r w hm rm qm cO cL cB cM cI u f b k g) H → va_D (Anew s) (w7 o h r w hm rm qm cO cL cB cM cI u f b k g) → va_S (Anew s) s.heap H locs → lv_has ls 8 [(4, .int (nI (5 * j))), (0, .ref b0), (1, .ref h), (2, .ref hm), (3, .ref o)] → W p l e room_1 s m args below meth c H locs (cells + 1) (slots + 6) Q (F0 m 606 ls [])) : W p l e room_1 s m args below meth c H locs cells slots Q (F0 m 325 ls []) := by
  have hth : th_ok s H := hth0.kept (fun q hq => hS.2.1 q hq (Nat.not_le.mpr hq))
  refine lv_aload_n hx hb d_La_law_325 rfl (lv_at hl 2 rfl) ?_
  refine lv_aload_n hx hb d_La_law_326 rfl (lv_at hl 1 rfl) ?_
  refine lv_iload hx hb d_La_law_327 (lv_at hl 0 rfl) ?_
  refine lv_iconst (v := 1) hx hb d_La_law_329 (by decide) ?_
  refine lv_iadd hx hb d_La_law_330 ?_
  rw [show ((nI (5 * j)) + 1) = nI (5 * j + 1) from (nI_add (5 * j) 1)]
  refine va_sld hx hb hX hbl (Nat.not_le.mpr hbl) hS (vp_in_nI (by omega) (by omega)) d_La_law_331 ?_
  rw [show (xs (Int32.toNatClampNeg (nI (5 * j + 1)))) = xs (5 * j + 1) from (by rw [nI_clamp (by omega)])]
  refine lv_aload_n hx hb d_La_law_332 rfl (lv_at hl 1 rfl) ?_
  refine lv_iload hx hb d_La_law_333 (lv_at hl 0 rfl) ?_
  refine lv_iconst (v := 2) hx hb d_La_law_335 (by decide) ?_
  refine lv_iadd hx hb d_La_law_336 ?_
  rw [show ((nI (5 * j)) + 2) = nI (5 * j + 2) from (nI_add (5 * j) 2)]
  refine va_sld hx hb hX hbl (Nat.not_le.mpr hbl) hS (vp_in_nI (by omega) (by omega)) d_La_law_337 ?_
  rw [show (xs (Int32.toNatClampNeg (nI (5 * j + 2)))) = xs (5 * j + 2) from (by rw [nI_clamp (by omega)])]
  refine lv_aload_n hx hb d_La_law_338 rfl (lv_at hl 1 rfl) ?_
  refine lv_iload hx hb d_La_law_339 (lv_at hl 0 rfl) ?_
  refine lv_iconst (v := 3) hx hb d_La_law_341 (by decide) ?_
  refine lv_iadd hx hb d_La_law_342 ?_
  rw [show ((nI (5 * j)) + 3) = nI (5 * j + 3) from (nI_add (5 * j) 3)]
  refine va_sld hx hb hX hbl (Nat.not_le.mpr hbl) hS (vp_in_nI (by omega) (by omega)) d_La_law_343 ?_
  rw [show (xs (Int32.toNatClampNeg (nI (5 * j + 3)))) = xs (5 * j + 3) from (by rw [nI_clamp (by omega)])]
  refine lv_aload_n hx hb d_La_law_344 rfl (lv_at hl 4 rfl) ?_
  obtain ⟨u2, f2, ew, ef, hf2, ek, e0⟩ := ag_use (o := o) (h := h) (r := r) (w := w) (cO := cO) (cL := cL) (cB := cB) (b := b) (u := u) hf (ag_turn hf (xs (5 * j + 1)) (xs (5 * j + 2)) (xs (5 * j + 3)))
  refine tx_callR (tx_runSW (n := 5) (As := [.ref h, .int (xs (5 * j + 1)), .int (xs (5 * j + 2)), .int (xs (5 * j + 3)), .ref o]) (rest := []) hx hb hml hown ht (c_La_turn l hl0 D h r w o cL cB cO f u b (xs (5 * j + 1)) (xs (5 * j + 2)) (xs (5 * j + 3))) t_200 t_199 t_0 t_198 (by decide +kernel) rfl rfl ⟨by decide, by decide⟩ (preSL (hP.sub [0, 1, 2, 3] rfl) (hK.sub [4, 0, 1] rfl) (hD.sub [0, 1, 2, 3] (by decide) rfl) hth hnc) rfl rfl hl.1 rfl (lv_room (Nat.le_of_ble_eq_true rfl)) d_La_law_345 ⟨hcs.1, hcs.2⟩) (fun x9 st₀ t h9 => by cases h9.1) (fun v9 st₀ t L9 h0 hW0 hal hL hq => ?_)
  obtain ⟨e1, hP1, hD1, hz1, hk1⟩ := hq
  cases e1
  rw [h0] at hz1 hk1
  rw [ew] at hP1 hD1
  have hS := wS hS hD [0, 1, 2, 3] rfl hz1 hk1 hL
  obtain ⟨hP, hD⟩ := wj (wz := wM hm rm qm cM cI k f g) hP hD [0, 1, 2, 3] [4, 5, 6] rfl rfl (by decide) (by decide) hk1 hP1 hD1
  generalize t.heap = H at hP hS ⊢
  generalize locs ++ L9 = locs at hS ⊢
  refine W.eq (g2 := F0 m 348 ls [.int (h_k cd2 (j_turn f (xs (5 * j + 1)) (xs (5 * j + 2)) (xs (5 * j + 3))))]) rfl ?_
  rw [ek]
  refine lv_istore (lv' := [(5, .int (m_turn f (xs (5 * j + 1)) (xs (5 * j + 2)) (xs (5 * j + 3))).1), (4, .int (nI (5 * j))), (0, .ref b0), (1, .ref h), (2, .ref hm), (3, .ref o)]) hx hb d_La_law_348 hl (by decide) rfl (fun ls hl => ?_)
  refine lv_aload_n hx hb d_La_law_350 rfl (lv_at hl 4 rfl) ?_
  refine lv_aload_n hx hb d_La_law_351 rfl (lv_at hl 2 rfl) ?_
  refine lv_iload hx hb d_La_law_352 (lv_at hl 1 rfl) ?_
  refine lv_iconst (v := 1) hx hb d_La_law_354 (by decide) ?_
  refine lv_iadd hx hb d_La_law_355 ?_
  rw [show ((nI (5 * j)) + 1) = nI (5 * j + 1) from (nI_add (5 * j) 1)]
  refine va_sld hx hb hX hbl (Nat.not_le.mpr hbl) hS (vp_in_nI (by omega) (by omega)) d_La_law_356 ?_
  rw [show (xs (Int32.toNatClampNeg (nI (5 * j + 1)))) = xs (5 * j + 1) from (by rw [nI_clamp (by omega)])]
  refine lv_aload_n hx hb d_La_law_357 rfl (lv_at hl 2 rfl) ?_
  refine lv_iload hx hb d_La_law_358 (lv_at hl 1 rfl) ?_
  refine lv_iconst (v := 2) hx hb d_La_law_360 (by decide) ?_
  refine lv_iadd hx hb d_La_law_361 ?_
  rw [show ((nI (5 * j)) + 2) = nI (5 * j + 2) from (nI_add (5 * j) 2)]
  refine va_sld hx hb hX hbl (Nat.not_le.mpr hbl) hS (vp_in_nI (by omega) (by omega)) d_La_law_362 ?_
  rw [show (xs (Int32.toNatClampNeg (nI (5 * j + 2)))) = xs (5 * j + 2) from (by rw [nI_clamp (by omega)])]
  refine lv_aload_n hx hb d_La_law_363 rfl (lv_at hl 2 rfl) ?_
  refine lv_iload hx hb d_La_law_364 (lv_at hl 1 rfl) ?_
  refine lv_iconst (v := 3) hx hb d_La_law_366 (by decide) ?_
  refine lv_iadd hx hb d_La_law_367 ?_
  rw [show ((nI (5 * j)) + 3) = nI (5 * j + 3) from (nI_add (5 * j) 3)]
  refine va_sld hx hb hX hbl (Nat.not_le.mpr hbl) hS (vp_in_nI (by omega) (by omega)) d_La_law_368 ?_
  rw [show (xs (Int32.toNatClampNeg (nI (5 * j + 3)))) = xs (5 * j + 3) from (by rw [nI_clamp (by omega)])]
  refine tx_callR (tx_runV (n := 3) (b := hm) (As := [.int (xs (5 * j + 1)), .int (xs (5 * j + 2)), .int (xs (5 * j + 3))]) (rest := []) hx hb hml hown ht (c_Mo_turn l D hm rm qm cM cI k f g (xs (5 * j + 1)) (xs (5 * j + 2)) (xs (5 * j + 3))) t_314 t_312 t_313 t_2 t_311 (by decide +kernel) rfl rfl ⟨by decide, by decide⟩ (preVW (hP.sub [0, 1, 2] rfl) (hK.sub [2, 3] rfl) (hD.sub [0, 1, 2] (by decide) rfl) rfl rfl) rfl rfl hl.1 rfl (lv_room (Nat.le_of_ble_eq_true rfl)) d_La_law_369 ⟨hcs.1, hcs.2⟩) (fun x9 st₀ t h9 => by cases h9.1) (fun v9 st₀ t L9 h0 hW0 hal hL hq => ?_)
  obtain ⟨e1, hP1, hD1, hz1, hk1⟩ := hq
  cases e1
  rw [h0] at hz1 hk1
  rw [ef] at hP1 hD1
  have hS := wS hS hD [0, 1, 2] rfl hz1 hk1 hL
  obtain ⟨hP, hD⟩ := wj (wz := wL o cO u2 (wD h r w cL cB f2 b)) hP hD [0, 1, 2] [3, 4, 5, 6] rfl rfl (by decide) (by decide) hk1 hP1 hD1
  generalize t.heap = H at hP hS ⊢
  generalize locs ++ L9 = locs at hS ⊢
  have hP : va_P D cl2 (w7 o h r w hm rm qm cO cL cB cM cI u2 f2 b ((m_turn f (xs (5 * j + 1)) (xs (5 * j + 2)) (xs (5 * j + 3))).1) g) H := hP
  have hD : va_D (Anew s) (w7 o h r w hm rm qm cO cL cB cM cI u2 f2 b ((m_turn f (xs (5 * j + 1)) (xs (5 * j + 2)) (xs (5 * j + 3))).1) g) := hD
  refine W.eq (g2 := F0 m 372 ls [.long (m_turn f (xs (5 * j + 1)) (xs (5 * j + 2)) (xs (5 * j + 3))).2.2]) rfl ?_
  refine lv_lstore (lv' := [(6, .long (m_turn f (xs (5 * j + 1)) (xs (5 * j + 2)) (xs (5 * j + 3))).2.2), (5, .int (m_turn f (xs (5 * j + 1)) (xs (5 * j + 2)) (xs (5 * j + 3))).1), (4, .int (nI (5 * j))), (0, .ref b0), (1, .ref h), (2, .ref hm), (3, .ref o)]) hx hb d_La_law_372 hl (by decide) rfl (fun ls hl => ?_)
  refine lv_aload_n hx hb d_La_law_374 rfl (lv_at hl 5 rfl) ?_
  refine tx_callO (tx_runV (n := 0) (b := hm) (As := []) (rest := []) hx hb hml hown ht (c_Mo_thrown l D hm rm qm cM cI (m_turn f (xs (5 * j + 1)) (xs (5 * j + 2)) (xs (5 * j + 3))).1 f2 g) t_270 t_268 t_269 t_2 t_267 (by decide +kernel) rfl rfl ⟨by decide, by decide⟩ (preVW (hP.sub [4, 5, 6] rfl) (hK.sub [2, 3] rfl) (hD.sub [4, 5, 6] (by decide) rfl) rfl rfl) rfl rfl hl.1 rfl (lv_room (Nat.le_of_ble_eq_true rfl)) d_La_law_375 ⟨hcs.1, hcs.2⟩) ?_
  refine W.eq (g2 := F0 m 378 ls [.int (m_turn f (xs (5 * j + 1)) (xs (5 * j + 2)) (xs (5 * j + 3))).1]) rfl ?_
  refine lv_iload hx hb d_La_law_378 (lv_at hl 1 rfl) ?_
  refine lv_icmp_eq (tgt := 385) hx hb d_La_law_380 (by decide) (fun h1 => ?_) (fun h1 => ?_)
  · refine lv_iload hx hb d_La_law_385 (lv_at hl 1 rfl) ?_
    refine lv_if_ne (tgt := 401) hx hb d_La_law_387 (by decide) (fun h2 => ?_) (fun h2 => ?_)
    · refine lv_goto (tgt := 606) hx hb d_La_law_401 (by decide) ?_
      exact kk ls H locs u2 f2 b _ g hf2 hP hD hS (lv_sub hl [2, 3, 4, 5, 6] rfl)
    · refine lv_aload_n hx hb d_La_law_390 rfl (lv_at hl 6 rfl) ?_
      refine lv_iconst (v := 0) hx hb d_La_law_391 (by decide) ?_
      refine va_lald hx hb hK hP 0 4 rfl rfl (vp_in_nI (n := 0) (by decide) (by decide)) d_La_law_392 ?_
      refine lv_lload hx hb d_La_law_393 (lv_at hl 0 rfl) ?_
      refine lc_eq (tgt := 401) hx hb d_La_law_395 d_La_law_396 (by decide) (fun h3 => ?_) (fun h3 => ?_)
      · refine lv_goto (tgt := 606) hx hb d_La_law_401 (by decide) ?_
        exact kk ls H locs u2 f2 b _ g hf2 hP hD hS (lv_sub hl [2, 3, 4, 5, 6] rfl)
      · exact absurd (e0 (ek.trans h2)) h3
  · exact absurd rfl h1
theorem wk_law_round (hl0 : l.stackTraces = false) (hx : p.tables.exec = Jvm.exec) (hb : c.code = b_La_law) (hml : c.maxLocals = 8) (hown : s.vm.findClass "TenThousandthDeskLaw" = some m.cls) (ht : ∀ w ∈ tt, w.before args s = true) (hK : va_K D cl2 (ty5 cL cB cM cI cO) s) (hth0 : th_ok s s.heap) (hnc : nc_ok s) (hX : va_X b0 N xs s s.heap) (hbl : b0 < s.heap.size)
    {j cells slots : Nat} {ls : Array Slot} {H : Heap} {locs : List Loc} {u f : Nat → Int64} {b : Nat → Int32} {k : Int32} {g : Nat → Int32} (hN : N ≤ 2560) (hj : 5 * j + 5 ≤ N) (hcs : cells + 1 ≤ 3084 ∧ slots + 6 ≤ 20588) (hf : okR f) (hP : va_P D cl2 (w7 o h r w hm rm qm cO cL cB cM cI u f b k g) H) (hD : va_D (Anew s) (w7 o h r w hm rm qm cO cL cB cM cI u f b k g)) (hS : va_S (Anew s) s.heap H locs) (hl : lv_has ls 8 [(4, .int (nI (5 * j))), (0, .ref b0), (1, .ref h), (2, .ref hm), (3, .ref o)])
    (kk : ∀ (ls : Array Slot) (H : Heap) (locs : List Loc) (u f : Nat → Int64) (b : Nat → Int32) (k : Int32) (g : Nat → Int32), okR f → va_P D cl2 (w7 o h r w hm rm qm cO cL cB cM cI u f b k g) H → va_D (Anew s) (w7 o h r w hm rm qm cO cL cB cM cI u f b k g) → va_S (Anew s) s.heap H locs → lv_has ls 8 [(4, .int (nI (5 * j))), (0, .ref b0), (1, .ref h), (2, .ref hm), (3, .ref o)] → W p l e room_1 s m args below meth c H locs (cells + 1) (slots + 6) Q (F0 m 606 ls [])) : W p l e room_1 s m args below meth c H locs cells slots Q (F0 m 404 ls []) := by
  have hth : th_ok s H := hth0.kept (fun q hq => hS.2.1 q hq (Nat.not_le.mpr hq))
  refine lv_aload_n hx hb d_La_law_404 rfl (lv_at hl 2 rfl) ?_
  refine lv_aload_n hx hb d_La_law_405 rfl (lv_at hl 1 rfl) ?_
  refine lv_iload hx hb d_La_law_406 (lv_at hl 0 rfl) ?_
  refine lv_iconst (v := 1) hx hb d_La_law_408 (by decide) ?_
  refine lv_iadd hx hb d_La_law_409 ?_
  rw [show ((nI (5 * j)) + 1) = nI (5 * j + 1) from (nI_add (5 * j) 1)]
  refine va_sld hx hb hX hbl (Nat.not_le.mpr hbl) hS (vp_in_nI (by omega) (by omega)) d_La_law_410 ?_
  rw [show (xs (Int32.toNatClampNeg (nI (5 * j + 1)))) = xs (5 * j + 1) from (by rw [nI_clamp (by omega)])]
  refine lv_aload_n hx hb d_La_law_411 rfl (lv_at hl 1 rfl) ?_
  refine lv_iload hx hb d_La_law_412 (lv_at hl 0 rfl) ?_
  refine lv_iconst (v := 2) hx hb d_La_law_414 (by decide) ?_
  refine lv_iadd hx hb d_La_law_415 ?_
  rw [show ((nI (5 * j)) + 2) = nI (5 * j + 2) from (nI_add (5 * j) 2)]
  refine va_sld hx hb hX hbl (Nat.not_le.mpr hbl) hS (vp_in_nI (by omega) (by omega)) d_La_law_416 ?_
  rw [show (xs (Int32.toNatClampNeg (nI (5 * j + 2)))) = xs (5 * j + 2) from (by rw [nI_clamp (by omega)])]
  refine lv_aload_n hx hb d_La_law_417 rfl (lv_at hl 1 rfl) ?_
  refine lv_iload hx hb d_La_law_418 (lv_at hl 0 rfl) ?_
  refine lv_iconst (v := 3) hx hb d_La_law_420 (by decide) ?_
  refine lv_iadd hx hb d_La_law_421 ?_
  rw [show ((nI (5 * j)) + 3) = nI (5 * j + 3) from (nI_add (5 * j) 3)]
  refine va_sld hx hb hX hbl (Nat.not_le.mpr hbl) hS (vp_in_nI (by omega) (by omega)) d_La_law_422 ?_
  rw [show (xs (Int32.toNatClampNeg (nI (5 * j + 3)))) = xs (5 * j + 3) from (by rw [nI_clamp (by omega)])]
  refine lv_aload_n hx hb d_La_law_423 rfl (lv_at hl 4 rfl) ?_
  obtain ⟨u2, f2, ew, ef, hf2, ek, e0⟩ := ag_use (o := o) (h := h) (r := r) (w := w) (cO := cO) (cL := cL) (cB := cB) (b := b) (u := u) hf (ag_rnd hf (xs (5 * j + 1)) (xs (5 * j + 2)) (xs (5 * j + 3)))
  refine tx_callR (tx_runSW (n := 5) (As := [.ref h, .int (xs (5 * j + 1)), .int (xs (5 * j + 2)), .int (xs (5 * j + 3)), .ref o]) (rest := []) hx hb hml hown ht (c_La_round l hl0 D h r w o cL cB cO f u b (xs (5 * j + 1)) (xs (5 * j + 2)) (xs (5 * j + 3))) t_216 t_215 t_0 t_214 (by decide +kernel) rfl rfl ⟨by decide, by decide⟩ (preSL (hP.sub [0, 1, 2, 3] rfl) (hK.sub [4, 0, 1] rfl) (hD.sub [0, 1, 2, 3] (by decide) rfl) hth hnc) rfl rfl hl.1 rfl (lv_room (Nat.le_of_ble_eq_true rfl)) d_La_law_424 ⟨hcs.1, hcs.2⟩) (fun x9 st₀ t h9 => by cases h9.1) (fun v9 st₀ t L9 h0 hW0 hal hL hq => ?_)
  obtain ⟨e1, hP1, hD1, hz1, hk1⟩ := hq
  cases e1
  rw [h0] at hz1 hk1
  rw [ew] at hP1 hD1
  have hS := wS hS hD [0, 1, 2, 3] rfl hz1 hk1 hL
  obtain ⟨hP, hD⟩ := wj (wz := wM hm rm qm cM cI k f g) hP hD [0, 1, 2, 3] [4, 5, 6] rfl rfl (by decide) (by decide) hk1 hP1 hD1
  generalize t.heap = H at hP hS ⊢
  generalize locs ++ L9 = locs at hS ⊢
  refine W.eq (g2 := F0 m 427 ls [.int (h_k cd2 (j_rnd f (xs (5 * j + 1)) (xs (5 * j + 2)) (xs (5 * j + 3))))]) rfl ?_
  rw [ek]
  refine lv_istore (lv' := [(5, .int (m_rnd f (xs (5 * j + 1)) (xs (5 * j + 2)) (xs (5 * j + 3))).1), (4, .int (nI (5 * j))), (0, .ref b0), (1, .ref h), (2, .ref hm), (3, .ref o)]) hx hb d_La_law_427 hl (by decide) rfl (fun ls hl => ?_)
  refine lv_aload_n hx hb d_La_law_429 rfl (lv_at hl 4 rfl) ?_
  refine lv_aload_n hx hb d_La_law_430 rfl (lv_at hl 2 rfl) ?_
  refine lv_iload hx hb d_La_law_431 (lv_at hl 1 rfl) ?_
  refine lv_iconst (v := 1) hx hb d_La_law_433 (by decide) ?_
  refine lv_iadd hx hb d_La_law_434 ?_
  rw [show ((nI (5 * j)) + 1) = nI (5 * j + 1) from (nI_add (5 * j) 1)]
  refine va_sld hx hb hX hbl (Nat.not_le.mpr hbl) hS (vp_in_nI (by omega) (by omega)) d_La_law_435 ?_
  rw [show (xs (Int32.toNatClampNeg (nI (5 * j + 1)))) = xs (5 * j + 1) from (by rw [nI_clamp (by omega)])]
  refine lv_aload_n hx hb d_La_law_436 rfl (lv_at hl 2 rfl) ?_
  refine lv_iload hx hb d_La_law_437 (lv_at hl 1 rfl) ?_
  refine lv_iconst (v := 2) hx hb d_La_law_439 (by decide) ?_
  refine lv_iadd hx hb d_La_law_440 ?_
  rw [show ((nI (5 * j)) + 2) = nI (5 * j + 2) from (nI_add (5 * j) 2)]
  refine va_sld hx hb hX hbl (Nat.not_le.mpr hbl) hS (vp_in_nI (by omega) (by omega)) d_La_law_441 ?_
  rw [show (xs (Int32.toNatClampNeg (nI (5 * j + 2)))) = xs (5 * j + 2) from (by rw [nI_clamp (by omega)])]
  refine lv_aload_n hx hb d_La_law_442 rfl (lv_at hl 2 rfl) ?_
  refine lv_iload hx hb d_La_law_443 (lv_at hl 1 rfl) ?_
  refine lv_iconst (v := 3) hx hb d_La_law_445 (by decide) ?_
  refine lv_iadd hx hb d_La_law_446 ?_
  rw [show ((nI (5 * j)) + 3) = nI (5 * j + 3) from (nI_add (5 * j) 3)]
  refine va_sld hx hb hX hbl (Nat.not_le.mpr hbl) hS (vp_in_nI (by omega) (by omega)) d_La_law_447 ?_
  rw [show (xs (Int32.toNatClampNeg (nI (5 * j + 3)))) = xs (5 * j + 3) from (by rw [nI_clamp (by omega)])]
  refine tx_callR (tx_runV (n := 3) (b := hm) (As := [.int (xs (5 * j + 1)), .int (xs (5 * j + 2)), .int (xs (5 * j + 3))]) (rest := []) hx hb hml hown ht (c_Mo_round l D hm rm qm cM cI k f g (xs (5 * j + 1)) (xs (5 * j + 2)) (xs (5 * j + 3))) t_320 t_318 t_319 t_2 t_317 (by decide +kernel) rfl rfl ⟨by decide, by decide⟩ (preVW (hP.sub [0, 1, 2] rfl) (hK.sub [2, 3] rfl) (hD.sub [0, 1, 2] (by decide) rfl) rfl rfl) rfl rfl hl.1 rfl (lv_room (Nat.le_of_ble_eq_true rfl)) d_La_law_448 ⟨hcs.1, hcs.2⟩) (fun x9 st₀ t h9 => by cases h9.1) (fun v9 st₀ t L9 h0 hW0 hal hL hq => ?_)
  obtain ⟨e1, hP1, hD1, hz1, hk1⟩ := hq
  cases e1
  rw [h0] at hz1 hk1
  rw [ef] at hP1 hD1
  have hS := wS hS hD [0, 1, 2] rfl hz1 hk1 hL
  obtain ⟨hP, hD⟩ := wj (wz := wL o cO u2 (wD h r w cL cB f2 b)) hP hD [0, 1, 2] [3, 4, 5, 6] rfl rfl (by decide) (by decide) hk1 hP1 hD1
  generalize t.heap = H at hP hS ⊢
  generalize locs ++ L9 = locs at hS ⊢
  have hP : va_P D cl2 (w7 o h r w hm rm qm cO cL cB cM cI u2 f2 b ((m_rnd f (xs (5 * j + 1)) (xs (5 * j + 2)) (xs (5 * j + 3))).1) g) H := hP
  have hD : va_D (Anew s) (w7 o h r w hm rm qm cO cL cB cM cI u2 f2 b ((m_rnd f (xs (5 * j + 1)) (xs (5 * j + 2)) (xs (5 * j + 3))).1) g) := hD
  refine W.eq (g2 := F0 m 451 ls [.long (m_rnd f (xs (5 * j + 1)) (xs (5 * j + 2)) (xs (5 * j + 3))).2.2]) rfl ?_
  refine lv_lstore (lv' := [(6, .long (m_rnd f (xs (5 * j + 1)) (xs (5 * j + 2)) (xs (5 * j + 3))).2.2), (5, .int (m_rnd f (xs (5 * j + 1)) (xs (5 * j + 2)) (xs (5 * j + 3))).1), (4, .int (nI (5 * j))), (0, .ref b0), (1, .ref h), (2, .ref hm), (3, .ref o)]) hx hb d_La_law_451 hl (by decide) rfl (fun ls hl => ?_)
  refine lv_aload_n hx hb d_La_law_453 rfl (lv_at hl 5 rfl) ?_
  refine tx_callO (tx_runV (n := 0) (b := hm) (As := []) (rest := []) hx hb hml hown ht (c_Mo_thrown l D hm rm qm cM cI (m_rnd f (xs (5 * j + 1)) (xs (5 * j + 2)) (xs (5 * j + 3))).1 f2 g) t_270 t_268 t_269 t_2 t_267 (by decide +kernel) rfl rfl ⟨by decide, by decide⟩ (preVW (hP.sub [4, 5, 6] rfl) (hK.sub [2, 3] rfl) (hD.sub [4, 5, 6] (by decide) rfl) rfl rfl) rfl rfl hl.1 rfl (lv_room (Nat.le_of_ble_eq_true rfl)) d_La_law_454 ⟨hcs.1, hcs.2⟩) ?_
  refine W.eq (g2 := F0 m 457 ls [.int (m_rnd f (xs (5 * j + 1)) (xs (5 * j + 2)) (xs (5 * j + 3))).1]) rfl ?_
  refine lv_iload hx hb d_La_law_457 (lv_at hl 1 rfl) ?_
  refine lv_icmp_eq (tgt := 464) hx hb d_La_law_459 (by decide) (fun h1 => ?_) (fun h1 => ?_)
  · refine lv_iload hx hb d_La_law_464 (lv_at hl 1 rfl) ?_
    refine lv_if_ne (tgt := 480) hx hb d_La_law_466 (by decide) (fun h2 => ?_) (fun h2 => ?_)
    · refine lv_goto (tgt := 606) hx hb d_La_law_480 (by decide) ?_
      exact kk ls H locs u2 f2 b _ g hf2 hP hD hS (lv_sub hl [2, 3, 4, 5, 6] rfl)
    · refine lv_aload_n hx hb d_La_law_469 rfl (lv_at hl 6 rfl) ?_
      refine lv_iconst (v := 0) hx hb d_La_law_470 (by decide) ?_
      refine va_lald hx hb hK hP 0 4 rfl rfl (vp_in_nI (n := 0) (by decide) (by decide)) d_La_law_471 ?_
      refine lv_lload hx hb d_La_law_472 (lv_at hl 0 rfl) ?_
      refine lc_eq (tgt := 480) hx hb d_La_law_474 d_La_law_475 (by decide) (fun h3 => ?_) (fun h3 => ?_)
      · refine lv_goto (tgt := 606) hx hb d_La_law_480 (by decide) ?_
        exact kk ls H locs u2 f2 b _ g hf2 hP hD hS (lv_sub hl [2, 3, 4, 5, 6] rfl)
      · exact absurd (e0 (ek.trans h2)) h3
  · exact absurd rfl h1
theorem wk_law_print (hl0 : l.stackTraces = false) (hx : p.tables.exec = Jvm.exec) (hb : c.code = b_La_law) (hml : c.maxLocals = 8) (hown : s.vm.findClass "TenThousandthDeskLaw" = some m.cls) (ht : ∀ w ∈ tt, w.before args s = true) (hK : va_K D cl2 (ty5 cL cB cM cI cO) s) (hth0 : th_ok s s.heap) (hnc : nc_ok s) (hX : va_X b0 N xs s s.heap) (hbl : b0 < s.heap.size)
    {j cells slots : Nat} {ls : Array Slot} {H : Heap} {locs : List Loc} {u f : Nat → Int64} {b : Nat → Int32} {k : Int32} {g : Nat → Int32} (hN : N ≤ 2560) (hj : 5 * j + 5 ≤ N) (hcs : cells + 1 ≤ 3084 ∧ slots + 6 ≤ 20588) (hf : okR f) (hP : va_P D cl2 (w7 o h r w hm rm qm cO cL cB cM cI u f b k g) H) (hD : va_D (Anew s) (w7 o h r w hm rm qm cO cL cB cM cI u f b k g)) (hS : va_S (Anew s) s.heap H locs) (hl : lv_has ls 8 [(4, .int (nI (5 * j))), (0, .ref b0), (1, .ref h), (2, .ref hm), (3, .ref o)])
    (kk : ∀ (ls : Array Slot) (H : Heap) (locs : List Loc) (u f : Nat → Int64) (b : Nat → Int32) (k : Int32) (g : Nat → Int32), okR f → va_P D cl2 (w7 o h r w hm rm qm cO cL cB cM cI u f b k g) H → va_D (Anew s) (w7 o h r w hm rm qm cO cL cB cM cI u f b k g) → va_S (Anew s) s.heap H locs → lv_has ls 8 [(4, .int (nI (5 * j))), (0, .ref b0), (1, .ref h), (2, .ref hm), (3, .ref o)] → W p l e room_1 s m args below meth c H locs (cells + 1) (slots + 6) Q (F0 m 606 ls [])) : W p l e room_1 s m args below meth c H locs cells slots Q (F0 m 483 ls []) := by
  have hth : th_ok s H := hth0.kept (fun q hq => hS.2.1 q hq (Nat.not_le.mpr hq))
  refine lv_aload_n hx hb d_La_law_483 rfl (lv_at hl 2 rfl) ?_
  refine lv_aload_n hx hb d_La_law_484 rfl (lv_at hl 1 rfl) ?_
  refine lv_iload hx hb d_La_law_485 (lv_at hl 0 rfl) ?_
  refine lv_iconst (v := 1) hx hb d_La_law_487 (by decide) ?_
  refine lv_iadd hx hb d_La_law_488 ?_
  rw [show ((nI (5 * j)) + 1) = nI (5 * j + 1) from (nI_add (5 * j) 1)]
  refine va_sld hx hb hX hbl (Nat.not_le.mpr hbl) hS (vp_in_nI (by omega) (by omega)) d_La_law_489 ?_
  rw [show (xs (Int32.toNatClampNeg (nI (5 * j + 1)))) = xs (5 * j + 1) from (by rw [nI_clamp (by omega)])]
  refine lv_aload_n hx hb d_La_law_490 rfl (lv_at hl 1 rfl) ?_
  refine lv_iload hx hb d_La_law_491 (lv_at hl 0 rfl) ?_
  refine lv_iconst (v := 2) hx hb d_La_law_493 (by decide) ?_
  refine lv_iadd hx hb d_La_law_494 ?_
  rw [show ((nI (5 * j)) + 2) = nI (5 * j + 2) from (nI_add (5 * j) 2)]
  refine va_sld hx hb hX hbl (Nat.not_le.mpr hbl) hS (vp_in_nI (by omega) (by omega)) d_La_law_495 ?_
  rw [show (xs (Int32.toNatClampNeg (nI (5 * j + 2)))) = xs (5 * j + 2) from (by rw [nI_clamp (by omega)])]
  refine lv_aload_n hx hb d_La_law_496 rfl (lv_at hl 4 rfl) ?_
  obtain ⟨u2, b2, ew, ek, e0⟩ := agp_use (f := f) (o := o) (h := h) (r := r) (w := w) (cO := cO) (cL := cL) (cB := cB) (b := b) (u := u) (ag_print f (xs (5 * j + 1)) (xs (5 * j + 2)))
  refine tx_callR (tx_runSW (n := 4) (As := [.ref h, .int (xs (5 * j + 1)), .int (xs (5 * j + 2)), .ref o]) (rest := []) hx hb hml hown ht (c_La_print l hl0 D h r w o cL cB cO f u b (xs (5 * j + 1)) (xs (5 * j + 2)) hf) t_229 t_228 t_0 t_227 (by decide +kernel) rfl rfl ⟨by decide, by decide⟩ (preSL (hP.sub [0, 1, 2, 3] rfl) (hK.sub [4, 0, 1] rfl) (hD.sub [0, 1, 2, 3] (by decide) rfl) hth hnc) rfl rfl hl.1 rfl (lv_room (Nat.le_of_ble_eq_true rfl)) d_La_law_497 ⟨hcs.1, hcs.2⟩) (fun x9 st₀ t h9 => by cases h9.1) (fun v9 st₀ t L9 h0 hW0 hal hL hq => ?_)
  obtain ⟨e1, hP1, hD1, hz1, hk1⟩ := hq
  cases e1
  rw [h0] at hz1 hk1
  rw [ew] at hP1 hD1
  have hS := wS hS hD [0, 1, 2, 3] rfl hz1 hk1 hL
  obtain ⟨hP, hD⟩ := wj (wz := wM hm rm qm cM cI k f g) hP hD [0, 1, 2, 3] [4, 5, 6] rfl rfl (by decide) (by decide) hk1 hP1 hD1
  generalize t.heap = H at hP hS ⊢
  generalize locs ++ L9 = locs at hS ⊢
  refine W.eq (g2 := F0 m 500 ls [.int (h_k cd1 (j_print f (xs (5 * j + 1)) (xs (5 * j + 2))))]) rfl ?_
  rw [ek]
  refine lv_istore (lv' := [(5, .int (m_pr f (xs (5 * j + 1)) (xs (5 * j + 2))).1), (4, .int (nI (5 * j))), (0, .ref b0), (1, .ref h), (2, .ref hm), (3, .ref o)]) hx hb d_La_law_500 hl (by decide) rfl (fun ls hl => ?_)
  refine lv_aload_n hx hb d_La_law_502 rfl (lv_at hl 4 rfl) ?_
  refine lv_aload_n hx hb d_La_law_503 rfl (lv_at hl 2 rfl) ?_
  refine lv_iload hx hb d_La_law_504 (lv_at hl 1 rfl) ?_
  refine lv_iconst (v := 1) hx hb d_La_law_506 (by decide) ?_
  refine lv_iadd hx hb d_La_law_507 ?_
  rw [show ((nI (5 * j)) + 1) = nI (5 * j + 1) from (nI_add (5 * j) 1)]
  refine va_sld hx hb hX hbl (Nat.not_le.mpr hbl) hS (vp_in_nI (by omega) (by omega)) d_La_law_508 ?_
  rw [show (xs (Int32.toNatClampNeg (nI (5 * j + 1)))) = xs (5 * j + 1) from (by rw [nI_clamp (by omega)])]
  refine lv_aload_n hx hb d_La_law_509 rfl (lv_at hl 2 rfl) ?_
  refine lv_iload hx hb d_La_law_510 (lv_at hl 1 rfl) ?_
  refine lv_iconst (v := 2) hx hb d_La_law_512 (by decide) ?_
  refine lv_iadd hx hb d_La_law_513 ?_
  rw [show ((nI (5 * j)) + 2) = nI (5 * j + 2) from (nI_add (5 * j) 2)]
  refine va_sld hx hb hX hbl (Nat.not_le.mpr hbl) hS (vp_in_nI (by omega) (by omega)) d_La_law_514 ?_
  rw [show (xs (Int32.toNatClampNeg (nI (5 * j + 2)))) = xs (5 * j + 2) from (by rw [nI_clamp (by omega)])]
  refine tx_callR (tx_runV (n := 2) (b := hm) (As := [.int (xs (5 * j + 1)), .int (xs (5 * j + 2))]) (rest := []) hx hb hml hown ht (c_Mo_print l D hm rm qm cM cI k f g (xs (5 * j + 1)) (xs (5 * j + 2)) hf) t_325 t_323 t_324 t_2 t_322 (by decide +kernel) rfl rfl ⟨by decide, by decide⟩ (preVW (hP.sub [0, 1, 2] rfl) (hK.sub [2, 3] rfl) (hD.sub [0, 1, 2] (by decide) rfl) rfl rfl) rfl rfl hl.1 rfl (lv_room (Nat.le_of_ble_eq_true rfl)) d_La_law_515 ⟨hcs.1, hcs.2⟩) (fun x9 st₀ t h9 => by cases h9.1) (fun v9 st₀ t L9 h0 hW0 hal hL hq => ?_)
  obtain ⟨e1, hP1, hD1, hz1, hk1⟩ := hq
  cases e1
  rw [h0] at hz1 hk1
  have hS := wS hS hD [0, 1, 2] rfl hz1 hk1 hL
  obtain ⟨hP, hD⟩ := wj (wz := wL o cO u2 (wD h r w cL cB f b2)) hP hD [0, 1, 2] [3, 4, 5, 6] rfl rfl (by decide) (by decide) hk1 hP1 hD1
  generalize t.heap = H at hP hS ⊢
  generalize locs ++ L9 = locs at hS ⊢
  have hP : va_P D cl2 (w7 o h r w hm rm qm cO cL cB cM cI u2 f b2 ((m_pr f (xs (5 * j + 1)) (xs (5 * j + 2))).1) (wr g (m_pr f (xs (5 * j + 1)) (xs (5 * j + 2))).2.2)) H := hP
  have hD : va_D (Anew s) (w7 o h r w hm rm qm cO cL cB cM cI u2 f b2 ((m_pr f (xs (5 * j + 1)) (xs (5 * j + 2))).1) (wr g (m_pr f (xs (5 * j + 1)) (xs (5 * j + 2))).2.2)) := hD
  refine W.eq (g2 := F0 m 518 ls [.int (m_pr f (xs (5 * j + 1)) (xs (5 * j + 2))).2.1]) rfl ?_
  refine lv_istore (lv' := [(6, .int (m_pr f (xs (5 * j + 1)) (xs (5 * j + 2))).2.1), (5, .int (m_pr f (xs (5 * j + 1)) (xs (5 * j + 2))).1), (4, .int (nI (5 * j))), (0, .ref b0), (1, .ref h), (2, .ref hm), (3, .ref o)]) hx hb d_La_law_518 hl (by decide) rfl (fun ls hl => ?_)
  refine lv_aload_n hx hb d_La_law_520 rfl (lv_at hl 5 rfl) ?_
  refine tx_callO (tx_runV (n := 0) (b := hm) (As := []) (rest := []) hx hb hml hown ht (c_Mo_thrown l D hm rm qm cM cI (m_pr f (xs (5 * j + 1)) (xs (5 * j + 2))).1 f (wr g (m_pr f (xs (5 * j + 1)) (xs (5 * j + 2))).2.2)) t_270 t_268 t_269 t_2 t_267 (by decide +kernel) rfl rfl ⟨by decide, by decide⟩ (preVW (hP.sub [4, 5, 6] rfl) (hK.sub [2, 3] rfl) (hD.sub [4, 5, 6] (by decide) rfl) rfl rfl) rfl rfl hl.1 rfl (lv_room (Nat.le_of_ble_eq_true rfl)) d_La_law_521 ⟨hcs.1, hcs.2⟩) ?_
  refine W.eq (g2 := F0 m 524 ls [.int (m_pr f (xs (5 * j + 1)) (xs (5 * j + 2))).1]) rfl ?_
  refine lv_iload hx hb d_La_law_524 (lv_at hl 1 rfl) ?_
  refine lv_icmp_eq (tgt := 531) hx hb d_La_law_526 (by decide) (fun h1 => ?_) (fun h1 => ?_)
  · refine lv_iload hx hb d_La_law_531 (lv_at hl 1 rfl) ?_
    refine lv_if_ne (tgt := 548) hx hb d_La_law_533 (by decide) (fun h2 => ?_) (fun h2 => ?_)
    · refine lv_goto (tgt := 606) hx hb d_La_law_548 (by decide) ?_
      exact kk ls H locs u2 f b2 _ (wr g (m_pr f (xs (5 * j + 1)) (xs (5 * j + 2))).2.2) hf hP hD hS (lv_sub hl [2, 3, 4, 5, 6] rfl)
    · refine lv_aload_n hx hb d_La_law_536 rfl (lv_at hl 6 rfl) ?_
      refine lv_iconst (v := 0) hx hb d_La_law_537 (by decide) ?_
      refine va_lald hx hb hK hP 0 4 rfl rfl (vp_in_nI (n := 0) (by decide) (by decide)) d_La_law_538 ?_
      refine lv_iload hx hb d_La_law_539 (lv_at hl 0 rfl) ?_
      refine lv_i2l (v := Int32.toInt64 (m_pr f (xs (5 * j + 1)) (xs (5 * j + 2))).2.1) hx hb d_La_law_541 rfl ?_
      refine lc_eq (tgt := 548) hx hb d_La_law_542 d_La_law_543 (by decide) (fun h3 => ?_) (fun h3 => ?_)
      · refine lv_goto (tgt := 606) hx hb d_La_law_548 (by decide) ?_
        exact kk ls H locs u2 f b2 _ (wr g (m_pr f (xs (5 * j + 1)) (xs (5 * j + 2))).2.2) hf hP hD hS (lv_sub hl [2, 3, 4, 5, 6] rfl)
      · exact absurd (e0 (ek.trans h2)) h3
  · exact absurd rfl h1
theorem wk_law_average (hl0 : l.stackTraces = false) (hx : p.tables.exec = Jvm.exec) (hb : c.code = b_La_law) (hml : c.maxLocals = 8) (hown : s.vm.findClass "TenThousandthDeskLaw" = some m.cls) (ht : ∀ w ∈ tt, w.before args s = true) (hK : va_K D cl2 (ty5 cL cB cM cI cO) s) (hth0 : th_ok s s.heap) (hnc : nc_ok s) (hX : va_X b0 N xs s s.heap) (hbl : b0 < s.heap.size)
    {j cells slots : Nat} {ls : Array Slot} {H : Heap} {locs : List Loc} {u f : Nat → Int64} {b : Nat → Int32} {k : Int32} {g : Nat → Int32} (hN : N ≤ 2560) (hj : 5 * j + 5 ≤ N) (hcs : cells + 1 ≤ 3084 ∧ slots + 6 ≤ 20588) (hf : okR f) (hP : va_P D cl2 (w7 o h r w hm rm qm cO cL cB cM cI u f b k g) H) (hD : va_D (Anew s) (w7 o h r w hm rm qm cO cL cB cM cI u f b k g)) (hS : va_S (Anew s) s.heap H locs) (hl : lv_has ls 8 [(4, .int (nI (5 * j))), (0, .ref b0), (1, .ref h), (2, .ref hm), (3, .ref o)])
    (kk : ∀ (ls : Array Slot) (H : Heap) (locs : List Loc) (u f : Nat → Int64) (b : Nat → Int32) (k : Int32) (g : Nat → Int32), okR f → va_P D cl2 (w7 o h r w hm rm qm cO cL cB cM cI u f b k g) H → va_D (Anew s) (w7 o h r w hm rm qm cO cL cB cM cI u f b k g) → va_S (Anew s) s.heap H locs → lv_has ls 8 [(4, .int (nI (5 * j))), (0, .ref b0), (1, .ref h), (2, .ref hm), (3, .ref o)] → W p l e room_1 s m args below meth c H locs (cells + 1) (slots + 6) Q (F0 m 606 ls [])) : W p l e room_1 s m args below meth c H locs cells slots Q (F0 m 551 ls []) := by
  have hth : th_ok s H := hth0.kept (fun q hq => hS.2.1 q hq (Nat.not_le.mpr hq))
  refine lv_aload_n hx hb d_La_law_551 rfl (lv_at hl 2 rfl) ?_
  refine lv_aload_n hx hb d_La_law_552 rfl (lv_at hl 1 rfl) ?_
  refine lv_iload hx hb d_La_law_553 (lv_at hl 0 rfl) ?_
  refine lv_iconst (v := 1) hx hb d_La_law_555 (by decide) ?_
  refine lv_iadd hx hb d_La_law_556 ?_
  rw [show ((nI (5 * j)) + 1) = nI (5 * j + 1) from (nI_add (5 * j) 1)]
  refine va_sld hx hb hX hbl (Nat.not_le.mpr hbl) hS (vp_in_nI (by omega) (by omega)) d_La_law_557 ?_
  rw [show (xs (Int32.toNatClampNeg (nI (5 * j + 1)))) = xs (5 * j + 1) from (by rw [nI_clamp (by omega)])]
  refine lv_aload_n hx hb d_La_law_558 rfl (lv_at hl 4 rfl) ?_
  obtain ⟨u2, f2, ew, ef, hf2, ek, e0⟩ := ag_use (o := o) (h := h) (r := r) (w := w) (cO := cO) (cL := cL) (cB := cB) (b := b) (u := u) hf (ag_avg hf (xs (5 * j + 1)))
  refine tx_callR (tx_runSW (n := 3) (As := [.ref h, .int (xs (5 * j + 1)), .ref o]) (rest := []) hx hb hml hown ht (c_La_average l hl0 D h r w o cL cB cO f u b (xs (5 * j + 1))) t_244 t_243 t_0 t_242 (by decide +kernel) rfl rfl ⟨by decide, by decide⟩ (preSL (hP.sub [0, 1, 2, 3] rfl) (hK.sub [4, 0, 1] rfl) (hD.sub [0, 1, 2, 3] (by decide) rfl) hth hnc) rfl rfl hl.1 rfl (lv_room (Nat.le_of_ble_eq_true rfl)) d_La_law_559 ⟨hcs.1, hcs.2⟩) (fun x9 st₀ t h9 => by cases h9.1) (fun v9 st₀ t L9 h0 hW0 hal hL hq => ?_)
  obtain ⟨e1, hP1, hD1, hz1, hk1⟩ := hq
  cases e1
  rw [h0] at hz1 hk1
  rw [ew] at hP1 hD1
  have hS := wS hS hD [0, 1, 2, 3] rfl hz1 hk1 hL
  obtain ⟨hP, hD⟩ := wj (wz := wM hm rm qm cM cI k f g) hP hD [0, 1, 2, 3] [4, 5, 6] rfl rfl (by decide) (by decide) hk1 hP1 hD1
  generalize t.heap = H at hP hS ⊢
  generalize locs ++ L9 = locs at hS ⊢
  refine W.eq (g2 := F0 m 562 ls [.int (h_k cd2 (j_avg f (xs (5 * j + 1))))]) rfl ?_
  rw [ek]
  refine lv_istore (lv' := [(5, .int (m_avg f (xs (5 * j + 1))).1), (4, .int (nI (5 * j))), (0, .ref b0), (1, .ref h), (2, .ref hm), (3, .ref o)]) hx hb d_La_law_562 hl (by decide) rfl (fun ls hl => ?_)
  refine lv_aload_n hx hb d_La_law_564 rfl (lv_at hl 4 rfl) ?_
  refine lv_aload_n hx hb d_La_law_565 rfl (lv_at hl 2 rfl) ?_
  refine lv_iload hx hb d_La_law_566 (lv_at hl 1 rfl) ?_
  refine lv_iconst (v := 1) hx hb d_La_law_568 (by decide) ?_
  refine lv_iadd hx hb d_La_law_569 ?_
  rw [show ((nI (5 * j)) + 1) = nI (5 * j + 1) from (nI_add (5 * j) 1)]
  refine va_sld hx hb hX hbl (Nat.not_le.mpr hbl) hS (vp_in_nI (by omega) (by omega)) d_La_law_570 ?_
  rw [show (xs (Int32.toNatClampNeg (nI (5 * j + 1)))) = xs (5 * j + 1) from (by rw [nI_clamp (by omega)])]
  refine tx_callR (tx_runV (n := 1) (b := hm) (As := [.int (xs (5 * j + 1))]) (rest := []) hx hb hml hown ht (c_Mo_average l D hm rm qm cM cI k f g (xs (5 * j + 1))) t_332 t_330 t_331 t_2 t_329 (by decide +kernel) rfl rfl ⟨by decide, by decide⟩ (preVW (hP.sub [0, 1, 2] rfl) (hK.sub [2, 3] rfl) (hD.sub [0, 1, 2] (by decide) rfl) rfl rfl) rfl rfl hl.1 rfl (lv_room (Nat.le_of_ble_eq_true rfl)) d_La_law_571 ⟨hcs.1, hcs.2⟩) (fun x9 st₀ t h9 => by cases h9.1) (fun v9 st₀ t L9 h0 hW0 hal hL hq => ?_)
  obtain ⟨e1, hP1, hD1, hz1, hk1⟩ := hq
  cases e1
  rw [h0] at hz1 hk1
  rw [ef] at hP1 hD1
  have hS := wS hS hD [0, 1, 2] rfl hz1 hk1 hL
  obtain ⟨hP, hD⟩ := wj (wz := wL o cO u2 (wD h r w cL cB f2 b)) hP hD [0, 1, 2] [3, 4, 5, 6] rfl rfl (by decide) (by decide) hk1 hP1 hD1
  generalize t.heap = H at hP hS ⊢
  generalize locs ++ L9 = locs at hS ⊢
  have hP : va_P D cl2 (w7 o h r w hm rm qm cO cL cB cM cI u2 f2 b ((m_avg f (xs (5 * j + 1))).1) g) H := hP
  have hD : va_D (Anew s) (w7 o h r w hm rm qm cO cL cB cM cI u2 f2 b ((m_avg f (xs (5 * j + 1))).1) g) := hD
  refine W.eq (g2 := F0 m 574 ls [.long (m_avg f (xs (5 * j + 1))).2.2]) rfl ?_
  refine lv_lstore (lv' := [(6, .long (m_avg f (xs (5 * j + 1))).2.2), (5, .int (m_avg f (xs (5 * j + 1))).1), (4, .int (nI (5 * j))), (0, .ref b0), (1, .ref h), (2, .ref hm), (3, .ref o)]) hx hb d_La_law_574 hl (by decide) rfl (fun ls hl => ?_)
  refine lv_aload_n hx hb d_La_law_576 rfl (lv_at hl 5 rfl) ?_
  refine tx_callO (tx_runV (n := 0) (b := hm) (As := []) (rest := []) hx hb hml hown ht (c_Mo_thrown l D hm rm qm cM cI (m_avg f (xs (5 * j + 1))).1 f2 g) t_270 t_268 t_269 t_2 t_267 (by decide +kernel) rfl rfl ⟨by decide, by decide⟩ (preVW (hP.sub [4, 5, 6] rfl) (hK.sub [2, 3] rfl) (hD.sub [4, 5, 6] (by decide) rfl) rfl rfl) rfl rfl hl.1 rfl (lv_room (Nat.le_of_ble_eq_true rfl)) d_La_law_577 ⟨hcs.1, hcs.2⟩) ?_
  refine W.eq (g2 := F0 m 580 ls [.int (m_avg f (xs (5 * j + 1))).1]) rfl ?_
  refine lv_iload hx hb d_La_law_580 (lv_at hl 1 rfl) ?_
  refine lv_icmp_eq (tgt := 587) hx hb d_La_law_582 (by decide) (fun h1 => ?_) (fun h1 => ?_)
  · refine lv_iload hx hb d_La_law_587 (lv_at hl 1 rfl) ?_
    refine lv_if_ne (tgt := 603) hx hb d_La_law_589 (by decide) (fun h2 => ?_) (fun h2 => ?_)
    · refine lv_goto (tgt := 606) hx hb d_La_law_603 (by decide) ?_
      exact kk ls H locs u2 f2 b _ g hf2 hP hD hS (lv_sub hl [2, 3, 4, 5, 6] rfl)
    · refine lv_aload_n hx hb d_La_law_592 rfl (lv_at hl 6 rfl) ?_
      refine lv_iconst (v := 0) hx hb d_La_law_593 (by decide) ?_
      refine va_lald hx hb hK hP 0 4 rfl rfl (vp_in_nI (n := 0) (by decide) (by decide)) d_La_law_594 ?_
      refine lv_lload hx hb d_La_law_595 (lv_at hl 0 rfl) ?_
      refine lc_eq (tgt := 603) hx hb d_La_law_597 d_La_law_598 (by decide) (fun h3 => ?_) (fun h3 => ?_)
      · refine lv_goto (tgt := 606) hx hb d_La_law_603 (by decide) ?_
        exact kk ls H locs u2 f2 b _ g hf2 hP hD hS (lv_sub hl [2, 3, 4, 5, 6] rfl)
      · exact absurd (e0 (ek.trans h2)) h3
  · exact absurd rfl h1
end LAW
end
section
-- the law's loop; printed by gen/p23.py
section LOOP
variable {p : Program} {l : Launch} {e : Env} {s : State} {m : MethodId} {args : Array Value} {below : List Frame} {meth : Method} {c : Code} {Q : State → Prop}
variable {D : va_G} {o h r w hm rm qm b0 N : Nat} {cO cL cB cM cI : ClassId} {xs : Nat → Int32}
theorem lw_gt {j N : Nat} (hN : N ≤ 2560) (hj : j ≤ 512) : (nI N - 5 < nI (5 * j)) ↔ N < 5 * j + 5 := by
  rw [Int32.lt_iff_toInt_lt, show (5 : Int32) = nI 5 from rfl, pk_sub_toInt (by omega) (by omega), nI_toInt (by omega)]
  omega
theorem wk_law_loop (hl0 : l.stackTraces = false) (hx : p.tables.exec = Jvm.exec) (hb : c.code = b_La_law) (hml : c.maxLocals = 8) (hown : s.vm.findClass "TenThousandthDeskLaw" = some m.cls) (ht : ∀ w ∈ tt, w.before args s = true) (hK : va_K D cl2 (ty5 cL cB cM cI cO) s) (hth0 : th_ok s s.heap) (hnc : nc_ok s) (hX : va_X b0 N xs s s.heap) (hbl : b0 < s.heap.size) (hN : N ≤ 2560)
    (kE : ∀ (ls : Array Slot) (H : Heap) (locs : List Loc), va_S (Anew s) s.heap H locs → W p l e room_1 s m args below meth c H locs 3084 20588 Q (F0 m 612 ls [])) :
    ∀ (n j : Nat), n + j = 513 → ∀ (ls : Array Slot) (H : Heap) (locs : List Loc) (u f : Nat → Int64) (b : Nat → Int32) (k : Int32) (g : Nat → Int32), okR f → va_P D cl2 (w7 o h r w hm rm qm cO cL cB cM cI u f b k g) H → va_D (Anew s) (w7 o h r w hm rm qm cO cL cB cM cI u f b k g) → va_S (Anew s) s.heap H locs → lv_has ls 8 [(4, .int (nI (5 * j))), (0, .ref b0), (1, .ref h), (2, .ref hm), (3, .ref o)] → W p l e room_1 s m args below meth c H locs (7 + j) (78 + 6 * j) Q (F0 m 23 ls []) := by
  intro n
  induction n with
  | zero =>
    intro j hn ls H locs u f b k g hf hP hD hS hl
    have hj : j = 513 := by omega
    subst hj
    refine lv_iload hx hb d_La_law_23 (lv_at hl 0 rfl) ?_
    refine lv_aload_n hx hb d_La_law_25 rfl (lv_at hl 1 rfl) ?_
    refine va_slen hx hb hX hbl (Nat.not_le.mpr hbl) hS d_La_law_26 ?_
    refine lv_iconst (v := 5) hx hb d_La_law_27 (by decide) ?_
    refine lv_isub hx hb d_La_law_28 ?_
    refine lv_icmp_gt (tgt := 612) hx hb d_La_law_29 (by decide) (fun h1 => ?_) (fun h1 => ?_)
    · exact W.widen (by decide) (by decide) (kE ls H locs hS)
    · exfalso
      rw [Int32.lt_iff_toInt_lt, show (5 : Int32) = nI 5 from rfl, show Int32.ofNat N = nI N from rfl, pk_sub_toInt (by omega) (by omega), nI_toInt (by omega)] at h1
      omega
  | succ n ih =>
    intro j hn ls H locs u f b k g hf hP hD hS hl
    refine lv_iload hx hb d_La_law_23 (lv_at hl 0 rfl) ?_
    refine lv_aload_n hx hb d_La_law_25 rfl (lv_at hl 1 rfl) ?_
    refine va_slen hx hb hX hbl (Nat.not_le.mpr hbl) hS d_La_law_26 ?_
    refine lv_iconst (v := 5) hx hb d_La_law_27 (by decide) ?_
    refine lv_isub hx hb d_La_law_28 ?_
    refine lv_icmp_gt (tgt := 612) hx hb d_La_law_29 (by decide) (fun h1 => ?_) (fun h1 => ?_)
    · exact W.widen (by omega) (by omega) (kE ls H locs hS)
    have hj : 5 * j + 5 ≤ N := by
      refine Nat.not_lt.mp (fun h2 => h1 ((lw_gt hN (by omega)).mpr h2))
    have hE : ∀ (ls : Array Slot) (H : Heap) (locs : List Loc) (u f : Nat → Int64) (b : Nat → Int32) (k : Int32) (g : Nat → Int32), okR f → va_P D cl2 (w7 o h r w hm rm qm cO cL cB cM cI u f b k g) H → va_D (Anew s) (w7 o h r w hm rm qm cO cL cB cM cI u f b k g) → va_S (Anew s) s.heap H locs → lv_has ls 8 [(4, .int (nI (5 * j))), (0, .ref b0), (1, .ref h), (2, .ref hm), (3, .ref o)] → W p l e room_1 s m args below meth c H locs (7 + j + 1) (78 + 6 * j + 6) Q (F0 m 606 ls []) := by
      intro ls H locs u f b k g hf hP hD hS hl
      refine lv_iinc (k := 0) (v := ((nI (5 * j)) + 5)) (lv' := [(4, .int ((nI (5 * j)) + 5)), (0, .ref b0), (1, .ref h), (2, .ref hm), (3, .ref o)]) hx hb d_La_law_606 hl rfl (by rw [show Int32.ofInt 5 = (5 : Int32) from by decide]) (by decide) rfl (fun ls hl => ?_)
      have hl : lv_has ls 8 [(4, .int (nI (5 * (j + 1)))), (0, .ref b0), (1, .ref h), (2, .ref hm), (3, .ref o)] := by
        rw [show nI (5 * (j + 1)) = nI (5 * j) + 5 from (nI_add (5 * j) 5).symm]
        exact hl
      refine lv_goto (tgt := 23) hx hb d_La_law_609 (by decide) ?_
      exact W.cs (by omega) (by omega) (ih (j + 1) (by omega) ls H locs u f b k g hf hP hD hS hl)
    refine lv_aload_n hx hb d_La_law_32 rfl (lv_at hl 1 rfl) ?_
    refine lv_iload hx hb d_La_law_33 (lv_at hl 0 rfl) ?_
    refine va_sld hx hb hX hbl (Nat.not_le.mpr hbl) hS (vp_in_nI (by omega) (by omega)) d_La_law_35 ?_
    refine lv_bipush (v := 7) hx hb d_La_law_36 (by decide) ?_
    refine lv_iand hx hb d_La_law_38 ?_
    obtain ⟨q, hq, eq⟩ := pk_andE (xs (Int32.toNatClampNeg (nI (5 * j)))) (m := 7) 3 (by decide)
    rw [eq]
    have hq : q < 8 := hq
    have hcs : 7 + j + 1 ≤ 3084 ∧ 78 + 6 * j + 6 ≤ 20588 := ⟨by omega, by omega⟩
    rcases (show q = 0 ∨ q = 1 ∨ q = 2 ∨ q = 3 ∨ q = 4 ∨ q = 5 ∨ q = 6 ∨ q = 7 by omega) with rfl | rfl | rfl | rfl | rfl | rfl | rfl | rfl
    · refine lv_tableIn (tgt := 80) hx hb d_La_law_39 (by decide) (by decide) (by decide +kernel : _ = some (41 : Int)) (by decide) ?_
      exact wk_law_set hl0 hx hb hml hown ht hK hth0 hnc hX hbl hN hj hcs hf hP hD hS hl hE
    · refine lv_tableIn (tgt := 179) hx hb d_La_law_39 (by decide) (by decide) (by decide +kernel : _ = some (140 : Int)) (by decide) ?_
      exact wk_law_get hl0 hx hb hml hown ht hK hth0 hnc hX hbl hN hj hcs hf hP hD hS hl hE
    · refine lv_tableIn (tgt := 234) hx hb d_La_law_39 (by decide) (by decide) (by decide +kernel : _ = some (195 : Int)) (by decide) ?_
      exact wk_law_reckon hl0 hx hb hml hown ht hK hth0 hnc hX hbl hN hj hcs hf hP hD hS hl hE
    · refine lv_tableIn (tgt := 325) hx hb d_La_law_39 (by decide) (by decide) (by decide +kernel : _ = some (286 : Int)) (by decide) ?_
      exact wk_law_turn hl0 hx hb hml hown ht hK hth0 hnc hX hbl hN hj hcs hf hP hD hS hl hE
    · refine lv_tableIn (tgt := 404) hx hb d_La_law_39 (by decide) (by decide) (by decide +kernel : _ = some (365 : Int)) (by decide) ?_
      exact wk_law_round hl0 hx hb hml hown ht hK hth0 hnc hX hbl hN hj hcs hf hP hD hS hl hE
    · refine lv_tableIn (tgt := 483) hx hb d_La_law_39 (by decide) (by decide) (by decide +kernel : _ = some (444 : Int)) (by decide) ?_
      exact wk_law_print hl0 hx hb hml hown ht hK hth0 hnc hX hbl hN hj hcs hf hP hD hS hl hE
    · refine lv_tableIn (tgt := 551) hx hb d_La_law_39 (by decide) (by decide) (by decide +kernel : _ = some (512 : Int)) (by decide) ?_
      exact wk_law_average hl0 hx hb hml hown ht hK hth0 hnc hX hbl hN hj hcs hf hP hD hS hl hE
    · refine lv_tableOut (tgt := 606) hx hb d_La_law_39 (Or.inr (by decide)) (by decide) ?_
      exact W.widen (by omega) (by omega) (hE ls H locs u f b k g hf hP hD hS hl)
end LOOP
end
section
-- the law's start (printed by gen/p24.py) within the rest of the skeleton (starting text), the launch's flag handed on
/-! THE CLAIM OUT OF ONE WALK OF THE LAW'S BODY. Your part is whole_start (and what it stands on); all else here is the same for every law, but numbers. -/
def R_law : String := "TenThousandthDeskLaw"
def lw_P (b : Addr) (xs : List Int32) (args : Array Value) (s : State) : Prop := args = #[.ref b] ∧ s.IntsAt b xs ∧ xs.length ≤ 2560 ∧ (Jvm.Cond.and given_1 narrow_1).before args s = true
def lw_Q (_ : Array Value) (s : State) (o : Outcome) (t : State) : Prop := o = .returned (some (.int 1)) ∧ Framed s o t [] 3084 20588
def lw_Z (below : List Frame) (a : Array Value) (s : State) : State → Prop := fun t => ∃ o, t.status = .running ∧ Ended t below o ∧ lw_Q a s o t
/-- the law's own end, with 1 on the stack, nothing written that was there before, its room as the claim has it -/
theorem lw_ret {p : Program} {l : Launch} {e : Env} {s : State} {m : MethodId} {below : List Frame} {meth : Method} {c : Code} {b : Nat} (hx : p.tables.exec = Jvm.exec) (hb : c.code = code) (hr : meth.sig.returnType = ret) (hlocks : meth.locks = false) {pc : Nat} {H : Heap} {ls : Array Slot} (hdg : decode code pc = .ok (.ireturn, 1)) : W p l e room_1 s m #[Value.ref b] below meth c H [] 3084 20588 (lw_Z below #[Value.ref b] s) (F0 m pc ls [.int 1]) := by
  intro T hT X
  obtain ⟨fs, hret, hrun, hended, hW, hframe⟩ := X.leave (v := some (.int 1)) (hlocks := hlocks) (fun h => by rw [hr] at h; cases h)
  have hmeth' : T.vm.method? m = some meth := X.method'
  refine ⟨T.setFrames fs, ?_, .returned (some (.int 1)), hrun, hended, rfl, ⟨_, rfl⟩, hW, hframe⟩
  jvm_step X.here [X.here.top, hx, hb, hdg, hmeth', hr, ret, narrow_b1]
  (try refine ⟨rfl, ?_⟩); (try refine ⟨rfl, ?_⟩)
  first | (intro acts; rw [hret _ acts rfl rfl rfl]) | rw [hret _ _ rfl rfl rfl]
  exact Steps.refl _
/-- what holds at the law's entry: the machine, the code, the tables' words (any of lw_tbl by 'hts w (by decide +kernel)'), the script of L ints xs at the cell b, what the Statement gives of the start (any of its parts by flat_of_before) -/
def lw_At (p : Program) (s : State) (m : MethodId) (meth : Method) (c : Code) (b L : Nat) (xs : Nat → Int32) : Prop :=
  p.tables.exec = Jvm.exec ∧ c.code = code ∧ meth.sig.returnType = ret ∧ c.maxLocals = 8 ∧ s.vm.findClass R_law = some m.cls ∧ (∀ w ∈ lw_tbl, w.before #[Value.ref b] s = true) ∧ va_X b L xs s s.heap ∧ b < s.heap.size ∧ meth.locks = false ∧ (Jvm.Cond.and given_1 narrow_1).before #[Value.ref b] s = true
theorem whole_start {p : Program} {e : Env} {s : State} {m : MethodId} {below : List Frame} {meth : Method} {c : Code} (l : Launch) (hl0 : l.stackTraces = false) {b L : Nat} {xs : Nat → Int32} (hL : L ≤ 2560) (C0 : lw_At p s m meth c b L xs) : W p l e room_1 s m #[Value.ref b] below meth c s.heap [] 0 0 (lw_Z below #[Value.ref b] s) (entryFrame m ([Value.ref b] : List Value).toArray 8) := by
  obtain ⟨hx, hb0, hr, hml, hown0, hts, hX, hbl, hlocks, hgv⟩ := C0
  have hb : c.code = b_La_law := hb0
  have hown : s.vm.findClass "TenThousandthDeskLaw" = some m.cls := hown0
  have ht : ∀ w ∈ tt, w.before #[Value.ref b] s = true := fun w hw => hts w (List.mem_filter.mp hw).1
  have hg := flat_of_before _ hgv
  have h1 : ∀ w : Cond, w ∈ tables_1 → w.before #[Value.ref b] s = true := fun w hw => hts w (List.mem_append_right _ hw)
  have hth0 : th_ok s s.heap := by
    refine ⟨th_st.of (h1 _ (List.mem_of_getElem? (i := 69) (by decide +kernel))) (hg _ (by decide +kernel)), th_st.of (h1 _ (List.mem_of_getElem? (i := 71) (by decide +kernel))) (hg _ (by decide +kernel)), va_Nw.of rfl (h1 _ (List.mem_of_getElem? (i := 45) (by decide +kernel))), va_Nw.of rfl (h1 _ (List.mem_of_getElem? (i := 47) (by decide +kernel))), va_Nw.of rfl (h1 _ (List.mem_of_getElem? (i := 49) (by decide +kernel))), va_Nw.of rfl (h1 _ (List.mem_of_getElem? (i := 44) (by decide +kernel))), va_Nw.of rfl (h1 _ (List.mem_of_getElem? (i := 139) (by decide +kernel))), va_Nw.of rfl (h1 _ (List.mem_of_getElem? (i := 180) (by decide +kernel)))⟩
  have hnc : nc_ok s := ⟨va_Nc.of (hg _ (by decide +kernel)), va_Nc.of (hg _ (by decide +kernel)), va_Nc.of (hg _ (by decide +kernel))⟩
  obtain ⟨c0, i0, k0⟩ := u_known ht uw_Dk (ht _ t_14)
  obtain ⟨c1, i1, k1⟩ := u_known ht uw_Mo (ht _ t_251)
  obtain ⟨dC, e0, e1⟩ : ∃ dC : Nat → ClassId, dC 0 = c0 ∧ dC 1 = c1 := ⟨fun q => if q = 0 then c0 else c1, rfl, rfl⟩
  obtain ⟨dI, e2, e3⟩ : ∃ dI : Nat → Nat → Nat, dI 0 = i0 ∧ dI 1 = i1 := ⟨fun q => if q = 0 then i0 else i1, rfl, rfl⟩
  have hK : va_K (dC, dI) cl2 [] s := by
    refine ⟨fun q x hq => ?_, fun q x hq => by cases hq⟩
    have hq2 : q < 2 := (List.getElem?_eq_some_iff.mp hq).1
    rcases (show q = 0 ∨ q = 1 by omega) with rfl | rfl
    · cases hq
      show u_Kn s R_Dk F_Dk 2 (dC 0) (dI 0)
      rw [e0, e2]
      exact k0
    · cases hq
      show u_Kn s R_Mo F_Mo 3 (dC 1) (dI 1)
      rw [e1, e3]
      exact k1
  have hP : va_P (dC, dI) cl2 [] s.heap := fun k q hq => by cases hq
  have hD : va_D (Anew s) [] := ⟨fun i j x y hx _ _ => (by cases hx), fun k q hq => (by cases hq)⟩
  have hA : ∀ q : Nat, s.heap.size ≤ q → Anew s q := fun q h => h
  have hS : va_S (Anew s) s.heap s.heap [] := va_S.rf
  have hl := lv_entry ([.ref b]) (n := 8) (Nat.le_of_ble_eq_true rfl)
  rw [lg_entry_eq]
  generalize (lg_sl ([.ref b]) ++ List.replicate (8 - (lg_sl ([.ref b])).length) Slot.unset).toArray = ls at hl ⊢
  have hl : lv_has ls 8 [(0, .ref b)] := hl
  refine va_new (D := (dC, dI)) (ci := 0) (fs := [.null, .null]) (C := R_Dk) (T := F_Dk) (N := 2) hx hb ht uw_Dk t_Dk t_Dk_ok hown (ht _ t_13) (ht _ t_14) (ht _ t_1) hK hP hD hS hA rfl (by decide +kernel) (Nat.le_of_ble_eq_true rfl) (Nat.le_of_ble_eq_true rfl) d_La_law_0 (fun h H hP hD hS => ?_)
  have hP : va_P (dC, dI) cl2 ([(h, .inr (0, [.null, .null]))]) H := hP
  have hD : va_D (Anew s) ([(h, .inr (0, [.null, .null]))]) := hD
  refine lv_dup hx hb d_La_law_3 rfl ?_
  have hPc := hP.sub (ws' := [(h, .inr (0, [.null, .null]))]) [0] rfl
  have hDc := hD.sub (ws' := [(h, .inr (0, [.null, .null]))]) [0] (by decide) rfl
  have hKc := hK.sub (tys' := []) [] rfl
  have hFc := va_free (wc := [(h, .inr (0, [.null, .null]))]) hD hS hA [0] rfl
  refine va_callv (va_runI (As := []) (rest := [.ref h]) ⟨hx, hb, hml, hown, ht⟩ (c_Dk_init l dC dI h H.size) (cwI 0 ht (tt_GoodIn2 t_17) rfl rfl rfl (ht _ t_1) (ht _ t_15) (ht _ t_16) rfl (by decide +kernel) ⟨Nat.le_of_ble_eq_true rfl, Nat.le_of_ble_eq_true rfl⟩) ⟨fun a U g mk q => by obtain ⟨q0, q1, qP, qK, qD⟩ := q; exact ⟨q0, q1, qP, va_K.moved (u := U) (U := U.calling g mk a) (Vm.Alike.refl U.vm) qK, qD⟩, fun U hU hW => ⟨rfl, by rw [hU], by rw [hU]; exact hPc, va_K.moved hW.alike hKc, hDc.weaken (fun _ _ _ _ => trivial)⟩⟩ rfl rfl hl.1 rfl (lv_room (Nat.le_of_ble_eq_true rfl)) d_La_law_4 ⟨Nat.le_of_ble_eq_true rfl, Nat.le_of_ble_eq_true rfl⟩) hS (fun q _ h => hFc q h) hFc (fun u t H1 locs ht0 hvm h5 hB hz1 hk1 hS => ?_)
  obtain ⟨r, w, cL, cB, hP1, hK1, hD1⟩ := hB
  rw [ht0] at hP1
  have hK1 := va_K.moved hvm.symm hK1
  obtain ⟨hP, hD⟩ := va_join (wr := []) hP hD [0] [] rfl rfl (by decide) (by decide) hk1 hFc hP1 hD1
  have hK := hK.app hK1
  generalize H1 = H at hP hS ⊢
  have hP : va_P (dC, dI) cl2 ([(h, .inr (0, [.ref r, .ref w])), (r, .inl (cL, 8, .inr (.inl (fun _ => 0)))), (w, .inl (cB, 32, .inl (fun _ => 0)))]) H := hP
  have hD : va_D (Anew s) ([(h, .inr (0, [.ref r, .ref w])), (r, .inl (cL, 8, .inr (.inl (fun _ => 0)))), (w, .inl (cB, 32, .inl (fun _ => 0)))]) := hD
  have hK : va_K (dC, dI) cl2 ([(cL, .long), (cB, .byte)]) s := hK
  refine lv_astore_n (lv' := [(1, .ref h), (0, .ref b)]) hx hb d_La_law_7 rfl hl (by decide) rfl (fun ls hl => ?_)
  refine va_new (D := (dC, dI)) (ci := 1) (fs := [.int 0, .null, .null]) (C := R_Mo) (T := F_Mo) (N := 3) hx hb ht uw_Mo t_Mo t_Mo_ok hown (ht _ t_250) (ht _ t_251) (ht _ t_2) hK hP hD hS hA rfl (by decide +kernel) (Nat.le_of_ble_eq_true rfl) (Nat.le_of_ble_eq_true rfl) d_La_law_8 (fun hm H hP hD hS => ?_)
  have hP : va_P (dC, dI) cl2 ([(h, .inr (0, [.ref r, .ref w])), (r, .inl (cL, 8, .inr (.inl (fun _ => 0)))), (w, .inl (cB, 32, .inl (fun _ => 0))), (hm, .inr (1, [.int 0, .null, .null]))]) H := hP
  have hD : va_D (Anew s) ([(h, .inr (0, [.ref r, .ref w])), (r, .inl (cL, 8, .inr (.inl (fun _ => 0)))), (w, .inl (cB, 32, .inl (fun _ => 0))), (hm, .inr (1, [.int 0, .null, .null]))]) := hD
  refine lv_dup hx hb d_La_law_11 rfl ?_
  have hPc := hP.sub (ws' := [(hm, .inr (1, [.int 0, .null, .null]))]) [3] rfl
  have hDc := hD.sub (ws' := [(hm, .inr (1, [.int 0, .null, .null]))]) [3] (by decide) rfl
  have hKc := hK.sub (tys' := []) [] rfl
  have hFc := va_free (wc := [(hm, .inr (1, [.int 0, .null, .null]))]) hD hS hA [3] rfl
  refine va_callv (va_runI (As := []) (rest := [.ref hm]) ⟨hx, hb, hml, hown, ht⟩ (c_Mo_init l dC dI hm H.size) (cwI 0 ht (tt_GoodIn2 t_254) rfl rfl rfl (ht _ t_2) (ht _ t_252) (ht _ t_253) rfl (by decide +kernel) ⟨Nat.le_of_ble_eq_true rfl, Nat.le_of_ble_eq_true rfl⟩) ⟨fun a U g mk q => by obtain ⟨q0, q1, qP, qK, qD⟩ := q; exact ⟨q0, q1, qP, va_K.moved (u := U) (U := U.calling g mk a) (Vm.Alike.refl U.vm) qK, qD⟩, fun U hU hW => ⟨rfl, by rw [hU], by rw [hU]; exact hPc, va_K.moved hW.alike hKc, hDc.weaken (fun _ _ _ _ => trivial)⟩⟩ rfl rfl hl.1 rfl (lv_room (Nat.le_of_ble_eq_true rfl)) d_La_law_12 ⟨Nat.le_of_ble_eq_true rfl, Nat.le_of_ble_eq_true rfl⟩) hS (fun q _ h => hFc q h) hFc (fun u t H1 locs ht0 hvm h5 hB hz1 hk1 hS => ?_)
  obtain ⟨rm, qm, cM, cI, hP1, hK1, hD1⟩ := hB
  rw [ht0] at hP1
  have hK1 := va_K.moved hvm.symm hK1
  obtain ⟨hP, hD⟩ := va_join (wr := [(h, .inr (0, [.ref r, .ref w])), (r, .inl (cL, 8, .inr (.inl (fun _ => 0)))), (w, .inl (cB, 32, .inl (fun _ => 0)))]) hP hD [3] [0, 1, 2] rfl rfl (by decide) (by decide) hk1 hFc hP1 hD1
  have hK := hK.app hK1
  generalize H1 = H at hP hS ⊢
  have hP : va_P (dC, dI) cl2 ([(h, .inr (0, [.ref r, .ref w])), (r, .inl (cL, 8, .inr (.inl (fun _ => 0)))), (w, .inl (cB, 32, .inl (fun _ => 0))), (hm, .inr (1, [.int 0, .ref rm, .ref qm])), (rm, .inl (cM, 8, .inr (.inl (fun _ => 0)))), (qm, .inl (cI, 24, .inl (fun _ => 0)))]) H := hP
  have hD : va_D (Anew s) ([(h, .inr (0, [.ref r, .ref w])), (r, .inl (cL, 8, .inr (.inl (fun _ => 0)))), (w, .inl (cB, 32, .inl (fun _ => 0))), (hm, .inr (1, [.int 0, .ref rm, .ref qm])), (rm, .inl (cM, 8, .inr (.inl (fun _ => 0)))), (qm, .inl (cI, 24, .inl (fun _ => 0)))]) := hD
  have hK : va_K (dC, dI) cl2 ([(cL, .long), (cB, .byte), (cM, .long), (cI, .int)]) s := hK
  refine lv_astore_n (lv' := [(2, .ref hm), (1, .ref h), (0, .ref b)]) hx hb d_La_law_15 rfl hl (by decide) rfl (fun ls hl => ?_)
  refine lv_iconst (v := 1) hx hb d_La_law_16 (by decide) ?_
  refine va_newa (D := (dC, dI)) (atype := .long) (ty := .long) (N' := 1) (a0 := (1, .inr (.inl (fun _ => 0)))) hx hb (ht _ t_28) rfl hK hP hD hS hA (fun cA => vcl_l cA) (by decide) (by decide) (by decide) (Nat.le_of_ble_eq_true rfl) (Nat.le_of_ble_eq_true rfl) d_La_law_17 (fun o cO H hK hP hD hS => ?_)
  have hP : va_P (dC, dI) cl2 ([(h, .inr (0, [.ref r, .ref w])), (r, .inl (cL, 8, .inr (.inl (fun _ => 0)))), (w, .inl (cB, 32, .inl (fun _ => 0))), (hm, .inr (1, [.int 0, .ref rm, .ref qm])), (rm, .inl (cM, 8, .inr (.inl (fun _ => 0)))), (qm, .inl (cI, 24, .inl (fun _ => 0))), (o, .inl (cO, 1, .inr (.inl (fun _ => 0))))]) H := hP
  have hD : va_D (Anew s) ([(h, .inr (0, [.ref r, .ref w])), (r, .inl (cL, 8, .inr (.inl (fun _ => 0)))), (w, .inl (cB, 32, .inl (fun _ => 0))), (hm, .inr (1, [.int 0, .ref rm, .ref qm])), (rm, .inl (cM, 8, .inr (.inl (fun _ => 0)))), (qm, .inl (cI, 24, .inl (fun _ => 0))), (o, .inl (cO, 1, .inr (.inl (fun _ => 0))))]) := hD
  have hK : va_K (dC, dI) cl2 (ty5 cL cB cM cI cO) s := hK
  have hP := hP.sub (ws' := w7 o h r w hm rm qm cO cL cB cM cI (fun _ => 0) (fun _ => 0) (fun _ => 0) 0 (fun _ => 0)) [6, 0, 1, 2, 3, 4, 5] rfl
  have hD := hD.sub (ws' := w7 o h r w hm rm qm cO cL cB cM cI (fun _ => 0) (fun _ => 0) (fun _ => 0) 0 (fun _ => 0)) [6, 0, 1, 2, 3, 4, 5] (by decide) rfl
  refine lv_astore_n (lv' := [(3, .ref o), (2, .ref hm), (1, .ref h), (0, .ref b)]) hx hb d_La_law_19 rfl hl (by decide) rfl (fun ls hl => ?_)
  refine lv_iconst (v := 0) hx hb d_La_law_20 (by decide) ?_
  refine lv_istore (lv' := [(4, .int 0), (3, .ref o), (2, .ref hm), (1, .ref h), (0, .ref b)]) hx hb d_La_law_21 hl (by decide) rfl (fun ls hl => ?_)
  refine W.cs (cells' := 7 + 0) (slots' := 78 + 6 * 0) rfl rfl ?_
  have hl : lv_has ls 8 [(4, .int (nI (5 * 0))), (0, .ref b), (1, .ref h), (2, .ref hm), (3, .ref o)] := (lv_sub hl [0, 4, 3, 2, 1] rfl)
  refine wk_law_loop hl0 hx hb hml hown ht hK hth0 hnc hX hbl hL (fun ls H locs hS => ?_) 513 0 rfl ls H _ _ _ _ _ _ (fun j _ => by decide) hP hD hS hl
  refine va_forget hS.2.2 ?_
  refine lv_iconst (v := 1) hx hb d_La_law_612 (by decide) ?_
  exact lw_ret hx hb0 hr hlocks d_La_law_613
set_option maxHeartbeats 4000000 in
theorem lw_walk (l : Launch) (hl0 : l.stackTraces = false) (b : Addr) (xs : List Int32) : MetFree l x (headSpec (Jvm.Cond.code x code maxLocals ret :: tables_1) room_1) (lw_P b xs) (fun _ _ _ _ _ => True) lw_Q := by
  refine MetFree.of_bodyS (code := code) (maxLocals := maxLocals) (ret := ret) (by decide) ?_ ?_
  · intro args s m h hn
    obtain ⟨meth, c, h1, h2, h3, h4, h5, h6, -, -⟩ := Cond.code_spec hn (atoms_spec (ws := Jvm.Cond.code x code maxLocals ret :: tables_1) h _ List.mem_cons_self)
    exact ⟨meth, c, h1, h2, h3, h4, h5, h6⟩
  · intro p e s m args below meth c s₁ B hml0 hP _
    obtain ⟨rfl, hx, hbd, hgv⟩ := hP
    obtain ⟨scr, harrAt, hlist, hof, hsmall⟩ := hx
    obtain ⟨hcb, hkn, -, -⟩ := State.arrayAt?_spec harrAt
    have hown : s.vm.findClass R_law = some m.cls := findClass_of_methodNamed B.named
    have hts0 : ∀ c ∈ (Jvm.Cond.code x code maxLocals ret :: tables_1), c.before #[Value.ref b] s = true := atoms_spec (ws := Jvm.Cond.code x code maxLocals ret :: tables_1) B.pre
    have hts : ∀ w ∈ lw_tbl, w.before #[Value.ref b] s = true := k2_hts_sels lw_privs (fun w hw => hts0 w (List.mem_cons_of_mem _ hw)) lw_privs_ok
    have hml : c.maxLocals = 8 := B.maxLocals_eq (hts0 _ List.mem_cons_self)
    have X₀ : Stand p l e room_1 s m #[Value.ref b] below meth c s₁ [] 0 0 := Stand.of_body B
    have hh0 : s₁.heap = s.heap := by rw [B.state]; rfl
    have hsz : scr.slots.size = xs.length := by rw [← Array.length_toList, hlist, List.length_map]
    have hval : ∀ j : Nat, j < xs.length → scr.slots[j]? = some (.int (xs.getD j 0)) := fun j hj => by
      rw [← Array.getElem?_toList, hlist]
      simp [hj]
    have hbl : b < s.heap.size := (Array.getElem?_eq_some_iff.mp hcb).1
    have hX : va_X b xs.length (fun j => xs.getD j 0) s s.heap := ⟨scr, hcb, hof, hkn, hsz, hval⟩
    have K : W p l e room_1 s m #[Value.ref b] below meth c s₁.heap [] 0 0 (lw_Z below #[Value.ref b] s) (entryFrame m ([Value.ref b] : List Value).toArray 8) := by
      rw [hh0]
      exact whole_start l hl0 hbd ⟨B.exec, B.bytes, B.returns, hml, hown, hts, hX, hbl, B.notSynchronized, hgv⟩
    obtain ⟨t, a1, o, b1, b2, b3⟩ := K s₁ rfl X₀
    exact ⟨t, o, a1, b1, b2, b3⟩
theorem lw_pre_spec {args : Array Value} {s : State} (h : (Jvm.Cond.and given_1 narrow_1).before args s = true) (hr : rest_1_c.before args s = true) : ∃ (b : Addr) (xs : List Int32), lw_P b xs args s := by
  have hs := flat_of_before _ h
  have hq := flat_of_before _ hr
  have hc : (Cond.count 1).before args s = true := hs _ (by decide +kernel)
  have harr : (Cond.arrayOf (.arg 0) .int).before args s = true := hs _ (by decide +kernel)
  have hle : (Cond.le (.length (.arg 0)) (.int 2560)).before args s = true := hs _ (by decide +kernel)
  have hlen : (Cond.isInt (.length (.arg 0))).before args s = true := hq _ (by decide +kernel)
  have hall : (Cond.all (.arg 0) (.isInt (.elem (.arg 0) (.index 0)))).before args s = true := hq _ (by decide +kernel)
  obtain ⟨b, xs, hb, hx⟩ := State.ints_of_pre rfl harr hlen hall
  have hsm : xs.length < 2 ^ 31 := hx.choose_spec.2.2.2
  have hev : (Term.length (.arg 0)).eval args s none [] s = some (.int xs.length.toInt32) := hx.length_eval hb
  have hv := Cond.le_ints hev (show (Term.int 2560).eval args s none [] s = some (.int 2560) from rfl)
  have hd : xs.length.toInt32 ≤ 2560 := by
    simpa [Cond.before, Cond.holds, hv] using hle
  have hN : xs.length ≤ 2560 := (Int32.ofNat_le_ofNat hsm (by decide)).mp (show Int32.ofNat xs.length ≤ Int32.ofNat 2560 from hd)
  exact ⟨b, xs, Cond.one_arg hc (show args[0]? = some (.ref b) from hb), hx, hN, h⟩
theorem lw_comes (l : Launch) (hl0 : l.stackTraces = false) : Comes l x (Jvm.Cond.code x code maxLocals ret :: tables_1) room_1 (fun tb e args s => Calls_1 tb e args s ∧ rest_1 tb e args s ∧ Pre_1 tb e args s)
    (fun _ _ args s o t => lw_Q args s o t) := by
  intro p e ha hc hk s m args below hf hfit hheap happ hpre
  obtain ⟨b, xs, hP⟩ := lw_pre_spec hpre.2.2 hpre.2.1
  obtain ⟨k, o, h1, h2, h3, hQ⟩ := lw_walk l hl0 b xs p e ha hc hk s m args below hf ((Spec.applies_iff_loose hf).mp happ).1 hP trivial
  exact ⟨k, o, h1, h2, h3, hQ⟩
theorem lw_frame {s t : State} {o : Outcome} {args : Array Value} (h : Framed s o t [] 3084 20588) :
    Framed s o t (fieldLocs frame_1_writes args s ++ arrayLocs frame_1_arrays args s ++ staticLocs frame_1_statics s) 3084 20588 := h
theorem lw_limb (L : Cond) (hL : ∀ (args : Array Value) (s t : State), L.after args s (.returned (some (.int 1))) t = true) :
    ArmFor flags0 classFile x code maxLocals ret World_1 tables_1 room_1 Calls_1 rest_1 Pre_1
      (fun tb e a s o t => postC L tb e a s o t ∧ Framed s o t (fieldLocs frame_1_writes a s ++ arrayLocs frame_1_arrays a s ++ staticLocs frame_1_statics s) 3084 20588) := by
  intro l hfl _ _ p e ha hc hk s m args below hf hfit hheap happ hpre
  have hl0 : l.stackTraces = false := by unfold Launch.stackTraces; rw [hfl]; decide
  obtain ⟨k, o, h1, h2, h3, rfl, hF⟩ := lw_comes l hl0 p e ha hc hk s m args below hf hfit hheap happ hpre
  exact ⟨k, _, h1, h2, h3, hL args s _, lw_frame hF⟩
theorem i_vc : Claimed_1_1 ∧ Claimed_1_2 := ⟨lw_limb limb_1_1 (fun args s t => by simp [limb_1_1, Cond.after, Cond.holds, Cond.value]), lw_limb limb_1_2 (fun args s t => Cond.after_iff.mpr (by
  first | (rw [show limb_1_2 = Cond.eq .result (.int 1) from rfl, Cond.eq_ints (x := 1) (y := 1) rfl rfl]; simp; done) | (simp [limb_1_2, Cond.value, Term.eval]; done)))⟩
end
