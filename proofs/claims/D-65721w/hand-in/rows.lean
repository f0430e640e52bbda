section
/-! PART A of the skeleton; names; one word list for all contracts, and a membership row a word (printed by gen/words.py) -/
/-- a private method of a class that the tables say can be made, by its rows of tables_1 -/
def lw_okq (q : MethodName × Nat) : Prop := (q.1.cls ≠ "java/lang/invoke/MethodHandle" ∧ q.1.cls ≠ "java/lang/invoke/VarHandle") ∧ Cond.instantiable q.1.cls q.2 ∈ tables_1 ∧ Cond.privateMethod q.1 ∈ tables_1 ∧ Cond.instanceMethod q.1 ∈ tables_1
theorem lw_p0 : lw_okq (⟨"java/lang/Throwable", "fillInStackTrace", "(I)Ljava/lang/Throwable;"⟩, 6) := ⟨⟨by decide +kernel, by decide +kernel⟩, List.mem_of_getElem? (i := 126) (by decide +kernel), List.mem_of_getElem? (i := 124) (by decide +kernel), List.mem_of_getElem? (i := 125) (by decide +kernel)⟩
theorem lw_p1 : lw_okq (⟨"GrantMath", "grant", "(I)LGrantMath$Grant;"⟩, 2) := ⟨⟨by decide +kernel, by decide +kernel⟩, List.mem_of_getElem? (i := 10) (by decide +kernel), List.mem_of_getElem? (i := 151) (by decide +kernel), List.mem_of_getElem? (i := 152) (by decide +kernel)⟩
theorem lw_p2 : lw_okq (⟨"GrantMathModel", "fails", "(ZI)Z"⟩, 7) := ⟨⟨by decide +kernel, by decide +kernel⟩, List.mem_of_getElem? (i := 243) (by decide +kernel), List.mem_of_getElem? (i := 290) (by decide +kernel), List.mem_of_getElem? (i := 291) (by decide +kernel)⟩
theorem lw_p3 : lw_okq (⟨"GrantMathModel", "give", "(IJJJIIZ)V"⟩, 7) := ⟨⟨by decide +kernel, by decide +kernel⟩, List.mem_of_getElem? (i := 243) (by decide +kernel), List.mem_of_getElem? (i := 298) (by decide +kernel), List.mem_of_getElem? (i := 299) (by decide +kernel)⟩
theorem lw_p4 : lw_okq (⟨"GrantMathModel", "isSealed", "(I)Z"⟩, 7) := ⟨⟨by decide +kernel, by decide +kernel⟩, List.mem_of_getElem? (i := 243) (by decide +kernel), List.mem_of_getElem? (i := 310) (by decide +kernel), List.mem_of_getElem? (i := 311) (by decide +kernel)⟩
theorem lw_p5 : lw_okq (⟨"GrantMathModel", "may", "(II)Z"⟩, 7) := ⟨⟨by decide +kernel, by decide +kernel⟩, List.mem_of_getElem? (i := 243) (by decide +kernel), List.mem_of_getElem? (i := 326) (by decide +kernel), List.mem_of_getElem? (i := 327) (by decide +kernel)⟩
theorem lw_p6 : lw_okq (⟨"GrantMathModel", "holds", "(IJJ)Z"⟩, 7) := ⟨⟨by decide +kernel, by decide +kernel⟩, List.mem_of_getElem? (i := 243) (by decide +kernel), List.mem_of_getElem? (i := 330) (by decide +kernel), List.mem_of_getElem? (i := 331) (by decide +kernel)⟩
def lw_privs_1 : List (MethodName × Nat) := [(⟨"java/lang/Throwable", "fillInStackTrace", "(I)Ljava/lang/Throwable;"⟩, 6), (⟨"GrantMath", "grant", "(I)LGrantMath$Grant;"⟩, 2), (⟨"GrantMathModel", "fails", "(ZI)Z"⟩, 7), (⟨"GrantMathModel", "give", "(IJJJIIZ)V"⟩, 7), (⟨"GrantMathModel", "isSealed", "(I)Z"⟩, 7), (⟨"GrantMathModel", "may", "(II)Z"⟩, 7), (⟨"GrantMathModel", "holds", "(IJJ)Z"⟩, 7)]
theorem lw_r1 : ∀ q ∈ lw_privs_1, lw_okq q := List.forall_mem_cons.mpr ⟨lw_p0, List.forall_mem_cons.mpr ⟨lw_p1, List.forall_mem_cons.mpr ⟨lw_p2, List.forall_mem_cons.mpr ⟨lw_p3, List.forall_mem_cons.mpr ⟨lw_p4, List.forall_mem_cons.mpr ⟨lw_p5, List.forall_mem_cons.mpr ⟨lw_p6, fun _ h => absurd h List.not_mem_nil⟩⟩⟩⟩⟩⟩⟩
def lw_privs : List (MethodName × Nat) := lw_privs_1
def lw_tbl : List Cond := k2_sels lw_privs ++ tables_1
theorem lw_privs_ok : ∀ q ∈ lw_privs, lw_okq q := lw_r1
def y_ex_init : MethodName := ⟨"java/lang/Exception", "<init>", "()V"⟩
def y_ex_initS : MethodName := ⟨"java/lang/Exception", "<init>", "(Ljava/lang/String;)V"⟩
def y_g_has : MethodName := ⟨"GrantMath$Grant", "has", "(JI)Z"⟩
def y_g_init : MethodName := ⟨"GrantMath$Grant", "<init>", "()V"⟩
def y_g_may : MethodName := ⟨"GrantMath$Grant", "may", "(I)Z"⟩
def y_g_sealed : MethodName := ⟨"GrantMath$Grant", "sealed", "()Z"⟩
def y_g_set : MethodName := ⟨"GrantMath$Grant", "set", "(JJIZ)V"⟩
def y_g_take : MethodName := ⟨"GrantMath$Grant", "take", "(LGrantMath$Grant;)V"⟩
def y_ia_init : MethodName := ⟨"java/lang/IllegalArgumentException", "<init>", "()V"⟩
def y_io_init : MethodName := ⟨"java/lang/IndexOutOfBoundsException", "<init>", "()V"⟩
def y_l_allows : MethodName := ⟨"GrantMathLaw", "allows", "(LGrantMath;IIII[J)I"⟩
def y_l_move : MethodName := ⟨"GrantMathLaw", "move", "(LGrantMath;III)I"⟩
def y_l_narrow : MethodName := ⟨"GrantMathLaw", "narrow", "(LGrantMath;III[J)I"⟩
def y_l_number : MethodName := ⟨"GrantMathLaw", "number", "(LGrantMath;II)I"⟩
def y_l_part : MethodName := ⟨"GrantMathLaw", "part", "(LGrantMath;II[J)I"⟩
def y_l_restrict : MethodName := ⟨"GrantMathLaw", "restrict", "(LGrantMath;III[J)I"⟩
def y_l_root : MethodName := ⟨"GrantMathLaw", "root", "(LGrantMath;IIII)I"⟩
def y_l_seal : MethodName := ⟨"GrantMathLaw", "seal", "(LGrantMath;III[J)I"⟩
def y_l_unseal : MethodName := ⟨"GrantMathLaw", "unseal", "(LGrantMath;III[J)I"⟩
def y_l_within : MethodName := ⟨"GrantMathLaw", "within", "(LGrantMath;II[J)I"⟩
def y_m_allows : MethodName := ⟨"GrantMathModel", "allows", "(IIII)I"⟩
def y_m_count : MethodName := ⟨"GrantMathModel", "count", "(II)I"⟩
def y_m_fails : MethodName := ⟨"GrantMathModel", "fails", "(ZI)Z"⟩
def y_m_give : MethodName := ⟨"GrantMathModel", "give", "(IJJJIIZ)V"⟩
def y_m_holds : MethodName := ⟨"GrantMathModel", "holds", "(IJJ)Z"⟩
def y_m_in : MethodName := ⟨"GrantMathModel", "in", "(JJJ)Z"⟩
def y_m_init : MethodName := ⟨"GrantMathModel", "<init>", "()V"⟩
def y_m_is : MethodName := ⟨"GrantMathModel", "is", "(I)Z"⟩
def y_m_isSealed : MethodName := ⟨"GrantMathModel", "isSealed", "(I)Z"⟩
def y_m_may : MethodName := ⟨"GrantMathModel", "may", "(II)Z"⟩
def y_m_move : MethodName := ⟨"GrantMathModel", "move", "(III)V"⟩
def y_m_narrow : MethodName := ⟨"GrantMathModel", "narrow", "(III)Z"⟩
def y_m_number : MethodName := ⟨"GrantMathModel", "number", "(II)V"⟩
def y_m_part : MethodName := ⟨"GrantMathModel", "part", "(II)I"⟩
def y_m_restrict : MethodName := ⟨"GrantMathModel", "restrict", "(III)Z"⟩
def y_m_root : MethodName := ⟨"GrantMathModel", "root", "(IIII)V"⟩
def y_m_seal : MethodName := ⟨"GrantMathModel", "seal", "(III)I"⟩
def y_m_thrown : MethodName := ⟨"GrantMathModel", "thrown", "()I"⟩
def y_m_unseal : MethodName := ⟨"GrantMathModel", "unseal", "(III)I"⟩
def y_m_wide : MethodName := ⟨"GrantMathModel", "wide", "(I)J"⟩
def y_m_within : MethodName := ⟨"GrantMathModel", "within", "(II)Z"⟩
def y_o_init : MethodName := ⟨"java/lang/Object", "<init>", "()V"⟩
def y_rt_init : MethodName := ⟨"java/lang/RuntimeException", "<init>", "()V"⟩
def y_rt_initS : MethodName := ⟨"java/lang/RuntimeException", "<init>", "(Ljava/lang/String;)V"⟩
def y_th_fill : MethodName := ⟨"java/lang/Throwable", "fillInStackTrace", "()Ljava/lang/Throwable;"⟩
def y_th_fill0 : MethodName := ⟨"java/lang/Throwable", "fillInStackTrace", "(I)Ljava/lang/Throwable;"⟩
def y_th_init : MethodName := ⟨"java/lang/Throwable", "<init>", "()V"⟩
def y_th_initS : MethodName := ⟨"java/lang/Throwable", "<init>", "(Ljava/lang/String;)V"⟩
def y_x_allows : MethodName := ⟨"GrantMath", "allows", "(IIII)I"⟩
def y_x_cause : MethodName := ⟨"GrantMath", "cause", "(ZZZZ)I"⟩
def y_x_count : MethodName := ⟨"GrantMath", "count", "(II)I"⟩
def y_x_good : MethodName := ⟨"GrantMath", "good", "(Z)V"⟩
def y_x_grant : MethodName := ⟨"GrantMath", "grant", "(I)LGrantMath$Grant;"⟩
def y_x_init : MethodName := ⟨"GrantMath", "<init>", "()V"⟩
def y_x_move : MethodName := ⟨"GrantMath", "move", "(III)V"⟩
def y_x_narrow : MethodName := ⟨"GrantMath", "narrow", "(III)Z"⟩
def y_x_number : MethodName := ⟨"GrantMath", "number", "(II)V"⟩
def y_x_part : MethodName := ⟨"GrantMath", "part", "(II)I"⟩
def y_x_restrict : MethodName := ⟨"GrantMath", "restrict", "(III)Z"⟩
def y_x_root : MethodName := ⟨"GrantMath", "root", "(IIII)V"⟩
def y_x_seal : MethodName := ⟨"GrantMath", "seal", "(III)I"⟩
def y_x_unseal : MethodName := ⟨"GrantMath", "unseal", "(III)I"⟩
def y_x_within : MethodName := ⟨"GrantMath", "within", "(II)Z"⟩
abbrev n_ia : String := "java/lang/IllegalArgumentException"
abbrev n_io : String := "java/lang/IndexOutOfBoundsException"
def gf : Cond → Bool
  | .laysStatic _ _ _ => false
  | _ => true
def gw : List Cond := Cond.not (Cond.castable n_io n_ia) :: lw_tbl.filter gf
theorem gw_of {args : Array Value} {s : State} (h0 : (Cond.not (Cond.castable n_io n_ia)).before args s = true) (h : ∀ w ∈ lw_tbl, w.before args s = true) : ∀ w ∈ gw, w.before args s = true := List.forall_mem_cons.mpr ⟨h0, fun w hw => h w (List.mem_filter.mp hw).1⟩
theorem gw_0 : Cond.not (Cond.castable n_io n_ia) ∈ gw := List.mem_cons_self
theorem gw_1 : Cond.selects "java/lang/Throwable" y_th_fill0 y_th_fill0 ∈ gw := List.mem_of_getElem? (i := 1) (by decide +kernel)
theorem gw_2 : Cond.selects "GrantMath" y_x_grant y_x_grant ∈ gw := List.mem_of_getElem? (i := 2) (by decide +kernel)
theorem gw_3 : Cond.selects "GrantMathModel" y_m_fails y_m_fails ∈ gw := List.mem_of_getElem? (i := 3) (by decide +kernel)
theorem gw_4 : Cond.selects "GrantMathModel" y_m_give y_m_give ∈ gw := List.mem_of_getElem? (i := 4) (by decide +kernel)
theorem gw_5 : Cond.selects "GrantMathModel" y_m_isSealed y_m_isSealed ∈ gw := List.mem_of_getElem? (i := 5) (by decide +kernel)
theorem gw_6 : Cond.selects "GrantMathModel" y_m_may y_m_may ∈ gw := List.mem_of_getElem? (i := 6) (by decide +kernel)
theorem gw_7 : Cond.selects "GrantMathModel" y_m_holds y_m_holds ∈ gw := List.mem_of_getElem? (i := 7) (by decide +kernel)
theorem gw_8 : Cond.initialized "GrantMathLaw" ∈ gw := List.mem_of_getElem? (i := 8) (by decide +kernel)
theorem gw_9 : Cond.initialized "GrantMath" ∈ gw := List.mem_of_getElem? (i := 9) (by decide +kernel)
theorem gw_10 : Cond.initialized "GrantMath$Grant" ∈ gw := List.mem_of_getElem? (i := 10) (by decide +kernel)
theorem gw_11 : Cond.initialized "GrantMathModel" ∈ gw := List.mem_of_getElem? (i := 11) (by decide +kernel)
theorem gw_12 : Cond.initialized "java/lang/Throwable" ∈ gw := List.mem_of_getElem? (i := 12) (by decide +kernel)
theorem gw_13 : Cond.initialized "java/lang/Exception" ∈ gw := List.mem_of_getElem? (i := 13) (by decide +kernel)
theorem gw_14 : Cond.initialized "java/lang/RuntimeException" ∈ gw := List.mem_of_getElem? (i := 14) (by decide +kernel)
theorem gw_15 : Cond.initialized "java/lang/IllegalArgumentException" ∈ gw := List.mem_of_getElem? (i := 15) (by decide +kernel)
theorem gw_16 : Cond.initialized "java/lang/IndexOutOfBoundsException" ∈ gw := List.mem_of_getElem? (i := 16) (by decide +kernel)
theorem gw_17 : Cond.classLink "GrantMathLaw" 8 "GrantMath" ∈ gw := List.mem_of_getElem? (i := 17) (by decide +kernel)
theorem gw_18 : Cond.instantiable "GrantMath" 2 ∈ gw := List.mem_of_getElem? (i := 18) (by decide +kernel)
theorem gw_19 : Cond.methodLink "GrantMathLaw" 51 y_x_init ∈ gw := List.mem_of_getElem? (i := 19) (by decide +kernel)
theorem gw_20 : Cond.instanceMethod y_x_init ∈ gw := List.mem_of_getElem? (i := 20) (by decide +kernel)
theorem gw_21 : Cond.code y_x_init prog_1_method_1_code 2 none ∈ gw := List.mem_of_getElem? (i := 21) (by decide +kernel)
theorem gw_22 : Cond.methodLink "GrantMath" 1 y_o_init ∈ gw := List.mem_of_getElem? (i := 22) (by decide +kernel)
theorem gw_23 : Cond.instanceMethod y_o_init ∈ gw := List.mem_of_getElem? (i := 23) (by decide +kernel)
theorem gw_24 : Cond.code y_o_init object_method_1_code 1 none ∈ gw := List.mem_of_getElem? (i := 24) (by decide +kernel)
theorem gw_25 : Cond.classLink "GrantMath" 9 "GrantMath$Grant" ∈ gw := List.mem_of_getElem? (i := 25) (by decide +kernel)
theorem gw_26 : Cond.arrayOver (FieldType.object "GrantMath$Grant") ∈ gw := List.mem_of_getElem? (i := 26) (by decide +kernel)
theorem gw_27 : Cond.instantiable "GrantMath$Grant" 6 ∈ gw := List.mem_of_getElem? (i := 27) (by decide +kernel)
theorem gw_28 : Cond.methodLinkNest "GrantMath" 15 y_g_init "GrantMath" ∈ gw := List.mem_of_getElem? (i := 28) (by decide +kernel)
theorem gw_29 : Cond.instanceMethod y_g_init ∈ gw := List.mem_of_getElem? (i := 29) (by decide +kernel)
theorem gw_30 : Cond.code y_g_init prog_2_method_1_code 1 none ∈ gw := List.mem_of_getElem? (i := 30) (by decide +kernel)
theorem gw_31 : Cond.methodLink "GrantMath$Grant" 1 y_o_init ∈ gw := List.mem_of_getElem? (i := 31) (by decide +kernel)
theorem gw_32 : Cond.fieldLink "GrantMath$Grant" 7 "GrantMath$Grant" "address" "J" ∈ gw := List.mem_of_getElem? (i := 32) (by decide +kernel)
theorem gw_33 : Cond.fieldLink "GrantMath" 40 "GrantMath$Grant" "address" "J" ∈ gw := List.mem_of_getElem? (i := 33) (by decide +kernel)
theorem gw_34 : Cond.fieldLink "GrantMath$Grant" 13 "GrantMath$Grant" "base" "J" ∈ gw := List.mem_of_getElem? (i := 34) (by decide +kernel)
theorem gw_35 : Cond.fieldLink "GrantMath" 56 "GrantMath$Grant" "base" "J" ∈ gw := List.mem_of_getElem? (i := 35) (by decide +kernel)
theorem gw_36 : Cond.fieldLink "GrantMath$Grant" 16 "GrantMath$Grant" "top" "J" ∈ gw := List.mem_of_getElem? (i := 36) (by decide +kernel)
theorem gw_37 : Cond.fieldLink "GrantMath" 59 "GrantMath$Grant" "top" "J" ∈ gw := List.mem_of_getElem? (i := 37) (by decide +kernel)
theorem gw_38 : Cond.fieldLink "GrantMath$Grant" 19 "GrantMath$Grant" "permissions" "I" ∈ gw := List.mem_of_getElem? (i := 38) (by decide +kernel)
theorem gw_39 : Cond.fieldLink "GrantMath" 62 "GrantMath$Grant" "permissions" "I" ∈ gw := List.mem_of_getElem? (i := 39) (by decide +kernel)
theorem gw_40 : Cond.fieldLink "GrantMath$Grant" 23 "GrantMath$Grant" "type" "I" ∈ gw := List.mem_of_getElem? (i := 40) (by decide +kernel)
theorem gw_41 : Cond.fieldLink "GrantMath" 80 "GrantMath$Grant" "type" "I" ∈ gw := List.mem_of_getElem? (i := 41) (by decide +kernel)
theorem gw_42 : Cond.fieldLink "GrantMath$Grant" 26 "GrantMath$Grant" "tag" "Z" ∈ gw := List.mem_of_getElem? (i := 42) (by decide +kernel)
theorem gw_43 : Cond.fieldLink "GrantMath" 52 "GrantMath$Grant" "tag" "Z" ∈ gw := List.mem_of_getElem? (i := 43) (by decide +kernel)
theorem gw_44 : Cond.lays "GrantMath$Grant" "GrantMath$Grant" "address" "J" ∈ gw := List.mem_of_getElem? (i := 44) (by decide +kernel)
theorem gw_45 : Cond.soleField "GrantMath$Grant" "address" ∈ gw := List.mem_of_getElem? (i := 45) (by decide +kernel)
theorem gw_46 : Cond.lays "GrantMath$Grant" "GrantMath$Grant" "base" "J" ∈ gw := List.mem_of_getElem? (i := 46) (by decide +kernel)
theorem gw_47 : Cond.soleField "GrantMath$Grant" "base" ∈ gw := List.mem_of_getElem? (i := 47) (by decide +kernel)
theorem gw_48 : Cond.lays "GrantMath$Grant" "GrantMath$Grant" "top" "J" ∈ gw := List.mem_of_getElem? (i := 48) (by decide +kernel)
theorem gw_49 : Cond.soleField "GrantMath$Grant" "top" ∈ gw := List.mem_of_getElem? (i := 49) (by decide +kernel)
theorem gw_50 : Cond.lays "GrantMath$Grant" "GrantMath$Grant" "permissions" "I" ∈ gw := List.mem_of_getElem? (i := 50) (by decide +kernel)
theorem gw_51 : Cond.soleField "GrantMath$Grant" "permissions" ∈ gw := List.mem_of_getElem? (i := 51) (by decide +kernel)
theorem gw_52 : Cond.lays "GrantMath$Grant" "GrantMath$Grant" "type" "I" ∈ gw := List.mem_of_getElem? (i := 52) (by decide +kernel)
theorem gw_53 : Cond.soleField "GrantMath$Grant" "type" ∈ gw := List.mem_of_getElem? (i := 53) (by decide +kernel)
theorem gw_54 : Cond.lays "GrantMath$Grant" "GrantMath$Grant" "tag" "Z" ∈ gw := List.mem_of_getElem? (i := 54) (by decide +kernel)
theorem gw_55 : Cond.soleField "GrantMath$Grant" "tag" ∈ gw := List.mem_of_getElem? (i := 55) (by decide +kernel)
theorem gw_56 : Cond.superclass "GrantMath$Grant" "java/lang/Object" ∈ gw := List.mem_of_getElem? (i := 56) (by decide +kernel)
theorem gw_57 : Cond.fieldLink "GrantMath" 11 "GrantMath" "grants" "[LGrantMath$Grant;" ∈ gw := List.mem_of_getElem? (i := 57) (by decide +kernel)
theorem gw_58 : Cond.fieldLink "GrantMath" 16 "GrantMath" "made" "LGrantMath$Grant;" ∈ gw := List.mem_of_getElem? (i := 58) (by decide +kernel)
theorem gw_59 : Cond.laysFinal "GrantMath" "GrantMath" "grants" "[LGrantMath$Grant;" ∈ gw := List.mem_of_getElem? (i := 59) (by decide +kernel)
theorem gw_60 : Cond.soleField "GrantMath" "grants" ∈ gw := List.mem_of_getElem? (i := 60) (by decide +kernel)
theorem gw_61 : Cond.laysFinal "GrantMath" "GrantMath" "made" "LGrantMath$Grant;" ∈ gw := List.mem_of_getElem? (i := 61) (by decide +kernel)
theorem gw_62 : Cond.soleField "GrantMath" "made" ∈ gw := List.mem_of_getElem? (i := 62) (by decide +kernel)
theorem gw_63 : Cond.superclass "GrantMath" "java/lang/Object" ∈ gw := List.mem_of_getElem? (i := 63) (by decide +kernel)
theorem gw_64 : Cond.methodLink "GrantMathLaw" 97 y_x_count ∈ gw := List.mem_of_getElem? (i := 64) (by decide +kernel)
theorem gw_65 : Cond.instanceMethod y_x_count ∈ gw := List.mem_of_getElem? (i := 65) (by decide +kernel)
theorem gw_66 : Cond.selects "GrantMath" y_x_count y_x_count ∈ gw := List.mem_of_getElem? (i := 66) (by decide +kernel)
theorem gw_67 : Cond.code y_x_count prog_1_method_15_code 5 (some FieldType.int) ∈ gw := List.mem_of_getElem? (i := 67) (by decide +kernel)
theorem gw_68 : Cond.methodLink "GrantMath" 48 y_g_sealed ∈ gw := List.mem_of_getElem? (i := 68) (by decide +kernel)
theorem gw_69 : Cond.instanceMethod y_g_sealed ∈ gw := List.mem_of_getElem? (i := 69) (by decide +kernel)
theorem gw_70 : Cond.selects "GrantMath$Grant" y_g_sealed y_g_sealed ∈ gw := List.mem_of_getElem? (i := 70) (by decide +kernel)
theorem gw_71 : Cond.code y_g_sealed prog_2_method_4_code 1 (some FieldType.boolean) ∈ gw := List.mem_of_getElem? (i := 71) (by decide +kernel)
theorem gw_72 : Cond.methodLink "GrantMath" 66 y_g_may ∈ gw := List.mem_of_getElem? (i := 72) (by decide +kernel)
theorem gw_73 : Cond.instanceMethod y_g_may ∈ gw := List.mem_of_getElem? (i := 73) (by decide +kernel)
theorem gw_74 : Cond.selects "GrantMath$Grant" y_g_may y_g_may ∈ gw := List.mem_of_getElem? (i := 74) (by decide +kernel)
theorem gw_75 : Cond.code y_g_may prog_2_method_5_code 2 (some FieldType.boolean) ∈ gw := List.mem_of_getElem? (i := 75) (by decide +kernel)
theorem gw_76 : Cond.constantLong "GrantMath" 26 (4294967295 : Int64) ∈ gw := List.mem_of_getElem? (i := 76) (by decide +kernel)
theorem gw_77 : Cond.methodLink "GrantMath" 70 y_g_has ∈ gw := List.mem_of_getElem? (i := 77) (by decide +kernel)
theorem gw_78 : Cond.instanceMethod y_g_has ∈ gw := List.mem_of_getElem? (i := 78) (by decide +kernel)
theorem gw_79 : Cond.selects "GrantMath$Grant" y_g_has y_g_has ∈ gw := List.mem_of_getElem? (i := 79) (by decide +kernel)
theorem gw_80 : Cond.code y_g_has prog_2_method_6_code 4 (some FieldType.boolean) ∈ gw := List.mem_of_getElem? (i := 80) (by decide +kernel)
theorem gw_81 : Cond.methodLink "GrantMath" 76 y_x_cause ∈ gw := List.mem_of_getElem? (i := 81) (by decide +kernel)
theorem gw_82 : Cond.static y_x_cause ∈ gw := List.mem_of_getElem? (i := 82) (by decide +kernel)
theorem gw_83 : Cond.code y_x_cause prog_1_method_9_code 4 (some FieldType.int) ∈ gw := List.mem_of_getElem? (i := 83) (by decide +kernel)
theorem gw_84 : Cond.methodLink "GrantMathLaw" 55 y_l_root ∈ gw := List.mem_of_getElem? (i := 84) (by decide +kernel)
theorem gw_85 : Cond.static y_l_root ∈ gw := List.mem_of_getElem? (i := 85) (by decide +kernel)
theorem gw_86 : Cond.codeWith y_l_root method_3_code 6 (some FieldType.int) [(0, 9, 12, 13), (0, 9, 16, 15)] ∈ gw := List.mem_of_getElem? (i := 86) (by decide +kernel)
theorem gw_87 : Cond.classLink "GrantMathLaw" 13 "java/lang/IllegalArgumentException" ∈ gw := List.mem_of_getElem? (i := 87) (by decide +kernel)
theorem gw_88 : Cond.classLink "GrantMathLaw" 15 "java/lang/IndexOutOfBoundsException" ∈ gw := List.mem_of_getElem? (i := 88) (by decide +kernel)
theorem gw_89 : Cond.methodLink "GrantMathLaw" 7 y_x_root ∈ gw := List.mem_of_getElem? (i := 89) (by decide +kernel)
theorem gw_90 : Cond.instanceMethod y_x_root ∈ gw := List.mem_of_getElem? (i := 90) (by decide +kernel)
theorem gw_91 : Cond.selects "GrantMath" y_x_root y_x_root ∈ gw := List.mem_of_getElem? (i := 91) (by decide +kernel)
theorem gw_92 : Cond.code y_x_root prog_1_method_4_code 5 none ∈ gw := List.mem_of_getElem? (i := 92) (by decide +kernel)
theorem gw_93 : Cond.methodLink "GrantMath" 28 y_x_good ∈ gw := List.mem_of_getElem? (i := 93) (by decide +kernel)
theorem gw_94 : Cond.static y_x_good ∈ gw := List.mem_of_getElem? (i := 94) (by decide +kernel)
theorem gw_95 : Cond.code y_x_good prog_1_method_2_code 1 none ∈ gw := List.mem_of_getElem? (i := 95) (by decide +kernel)
theorem gw_96 : Cond.classLink "GrantMath" 20 "java/lang/IllegalArgumentException" ∈ gw := List.mem_of_getElem? (i := 96) (by decide +kernel)
theorem gw_97 : Cond.instantiable "java/lang/IllegalArgumentException" 6 ∈ gw := List.mem_of_getElem? (i := 97) (by decide +kernel)
theorem gw_98 : Cond.castable "java/lang/IllegalArgumentException" "java/lang/IllegalArgumentException" ∈ gw := List.mem_of_getElem? (i := 98) (by decide +kernel)
theorem gw_99 : Cond.declares y_rt_init ∈ gw := List.mem_of_getElem? (i := 99) (by decide +kernel)
theorem gw_100 : Cond.declares y_rt_initS ∈ gw := List.mem_of_getElem? (i := 100) (by decide +kernel)
theorem gw_101 : Cond.declares y_ex_init ∈ gw := List.mem_of_getElem? (i := 101) (by decide +kernel)
theorem gw_102 : Cond.declares y_ex_initS ∈ gw := List.mem_of_getElem? (i := 102) (by decide +kernel)
theorem gw_103 : Cond.declares y_th_init ∈ gw := List.mem_of_getElem? (i := 103) (by decide +kernel)
theorem gw_104 : Cond.declares y_th_initS ∈ gw := List.mem_of_getElem? (i := 104) (by decide +kernel)
theorem gw_105 : Cond.selects "java/lang/IllegalArgumentException" y_th_fill0 y_th_fill0 ∈ gw := List.mem_of_getElem? (i := 105) (by decide +kernel)
theorem gw_106 : Cond.selects "java/lang/IllegalArgumentException" y_th_fill y_th_fill ∈ gw := List.mem_of_getElem? (i := 106) (by decide +kernel)
theorem gw_107 : Cond.lays "java/lang/IllegalArgumentException" "java/lang/Throwable" "cause" "Ljava/lang/Throwable;" ∈ gw := List.mem_of_getElem? (i := 107) (by decide +kernel)
theorem gw_108 : Cond.lays "java/lang/Throwable" "java/lang/Throwable" "cause" "Ljava/lang/Throwable;" ∈ gw := List.mem_of_getElem? (i := 108) (by decide +kernel)
theorem gw_109 : Cond.lays "java/lang/IllegalArgumentException" "java/lang/Throwable" "stackTrace" "[Ljava/lang/StackTraceElement;" ∈ gw := List.mem_of_getElem? (i := 109) (by decide +kernel)
theorem gw_110 : Cond.lays "java/lang/Throwable" "java/lang/Throwable" "stackTrace" "[Ljava/lang/StackTraceElement;" ∈ gw := List.mem_of_getElem? (i := 110) (by decide +kernel)
theorem gw_111 : Cond.lays "java/lang/IllegalArgumentException" "java/lang/Throwable" "suppressedExceptions" "Ljava/util/List;" ∈ gw := List.mem_of_getElem? (i := 111) (by decide +kernel)
theorem gw_112 : Cond.lays "java/lang/Throwable" "java/lang/Throwable" "suppressedExceptions" "Ljava/util/List;" ∈ gw := List.mem_of_getElem? (i := 112) (by decide +kernel)
theorem gw_113 : Cond.lays "java/lang/IllegalArgumentException" "java/lang/Throwable" "detailMessage" "Ljava/lang/String;" ∈ gw := List.mem_of_getElem? (i := 113) (by decide +kernel)
theorem gw_114 : Cond.lays "java/lang/Throwable" "java/lang/Throwable" "detailMessage" "Ljava/lang/String;" ∈ gw := List.mem_of_getElem? (i := 114) (by decide +kernel)
theorem gw_115 : Cond.lays "java/lang/IllegalArgumentException" "java/lang/Throwable" "backtrace" "Ljava/lang/Object;" ∈ gw := List.mem_of_getElem? (i := 115) (by decide +kernel)
theorem gw_116 : Cond.lays "java/lang/Throwable" "java/lang/Throwable" "backtrace" "Ljava/lang/Object;" ∈ gw := List.mem_of_getElem? (i := 116) (by decide +kernel)
theorem gw_117 : Cond.fieldLink "java/lang/Throwable" 198 "java/lang/Throwable" "backtrace" "Ljava/lang/Object;" ∈ gw := List.mem_of_getElem? (i := 117) (by decide +kernel)
theorem gw_118 : Cond.superclass "java/lang/Throwable" "java/lang/Object" ∈ gw := List.mem_of_getElem? (i := 118) (by decide +kernel)
theorem gw_119 : Cond.instanceMethod y_th_init ∈ gw := List.mem_of_getElem? (i := 119) (by decide +kernel)
theorem gw_120 : Cond.code y_th_init prog_9_method_1_code 1 none ∈ gw := List.mem_of_getElem? (i := 120) (by decide +kernel)
theorem gw_121 : Cond.methodLink "java/lang/Throwable" 1 y_o_init ∈ gw := List.mem_of_getElem? (i := 121) (by decide +kernel)
theorem gw_122 : Cond.fieldLink "java/lang/Throwable" 13 "java/lang/Throwable" "UNASSIGNED_STACK" "[Ljava/lang/StackTraceElement;" ∈ gw := List.mem_of_getElem? (i := 122) (by decide +kernel)
theorem gw_123 : Cond.fieldLink "java/lang/Throwable" 20 "java/lang/Throwable" "SUPPRESSED_SENTINEL" "Ljava/util/List;" ∈ gw := List.mem_of_getElem? (i := 123) (by decide +kernel)
theorem gw_124 : Cond.methodLink "java/lang/Throwable" 27 y_th_fill ∈ gw := List.mem_of_getElem? (i := 124) (by decide +kernel)
theorem gw_125 : Cond.instanceMethod y_th_fill ∈ gw := List.mem_of_getElem? (i := 125) (by decide +kernel)
theorem gw_126 : Cond.sameMethod "java/lang/Throwable" "java/lang/Throwable" "fillInStackTrace" "()Ljava/lang/Throwable;" ∈ gw := List.mem_of_getElem? (i := 126) (by decide +kernel)
theorem gw_127 : Cond.selects "java/lang/IndexOutOfBoundsException" y_th_fill y_th_fill ∈ gw := List.mem_of_getElem? (i := 127) (by decide +kernel)
theorem gw_128 : Cond.codeSync y_th_fill prog_9_method_18_code 1 (some (FieldType.object "java/lang/Throwable")) ∈ gw := List.mem_of_getElem? (i := 128) (by decide +kernel)
theorem gw_129 : Cond.methodLink "java/lang/Throwable" 202 y_th_fill0 ∈ gw := List.mem_of_getElem? (i := 129) (by decide +kernel)
theorem gw_130 : Cond.privateMethod y_th_fill0 ∈ gw := List.mem_of_getElem? (i := 130) (by decide +kernel)
theorem gw_131 : Cond.instanceMethod y_th_fill0 ∈ gw := List.mem_of_getElem? (i := 131) (by decide +kernel)
theorem gw_132 : Cond.instantiable "java/lang/Throwable" 6 ∈ gw := List.mem_of_getElem? (i := 132) (by decide +kernel)
theorem gw_133 : Cond.native y_th_fill0 ∈ gw := List.mem_of_getElem? (i := 133) (by decide +kernel)
theorem gw_134 : Cond.methodLink "GrantMath" 22 y_ia_init ∈ gw := List.mem_of_getElem? (i := 134) (by decide +kernel)
theorem gw_135 : Cond.instanceMethod y_ia_init ∈ gw := List.mem_of_getElem? (i := 135) (by decide +kernel)
theorem gw_136 : Cond.code y_ia_init prog_6_method_1_code 1 none ∈ gw := List.mem_of_getElem? (i := 136) (by decide +kernel)
theorem gw_137 : Cond.methodLink "java/lang/IllegalArgumentException" 1 y_rt_init ∈ gw := List.mem_of_getElem? (i := 137) (by decide +kernel)
theorem gw_138 : Cond.instanceMethod y_rt_init ∈ gw := List.mem_of_getElem? (i := 138) (by decide +kernel)
theorem gw_139 : Cond.code y_rt_init prog_8_method_1_code 1 none ∈ gw := List.mem_of_getElem? (i := 139) (by decide +kernel)
theorem gw_140 : Cond.methodLink "java/lang/RuntimeException" 1 y_ex_init ∈ gw := List.mem_of_getElem? (i := 140) (by decide +kernel)
theorem gw_141 : Cond.instanceMethod y_ex_init ∈ gw := List.mem_of_getElem? (i := 141) (by decide +kernel)
theorem gw_142 : Cond.code y_ex_init prog_5_method_1_code 1 none ∈ gw := List.mem_of_getElem? (i := 142) (by decide +kernel)
theorem gw_143 : Cond.methodLink "java/lang/Exception" 1 y_th_init ∈ gw := List.mem_of_getElem? (i := 143) (by decide +kernel)
theorem gw_145 : Cond.fieldLink "java/lang/Throwable" 7 "java/lang/Throwable" "cause" "Ljava/lang/Throwable;" ∈ gw := List.mem_of_getElem? (i := 145) (by decide +kernel)
theorem gw_146 : Cond.fieldLink "java/lang/Throwable" 17 "java/lang/Throwable" "stackTrace" "[Ljava/lang/StackTraceElement;" ∈ gw := List.mem_of_getElem? (i := 146) (by decide +kernel)
theorem gw_147 : Cond.fieldLink "java/lang/Throwable" 24 "java/lang/Throwable" "suppressedExceptions" "Ljava/util/List;" ∈ gw := List.mem_of_getElem? (i := 147) (by decide +kernel)
theorem gw_148 : Cond.soleField "java/lang/Throwable" "backtrace" ∈ gw := List.mem_of_getElem? (i := 148) (by decide +kernel)
theorem gw_149 : Cond.soleField "java/lang/Throwable" "detailMessage" ∈ gw := List.mem_of_getElem? (i := 149) (by decide +kernel)
theorem gw_150 : Cond.soleField "java/lang/Throwable" "cause" ∈ gw := List.mem_of_getElem? (i := 150) (by decide +kernel)
theorem gw_151 : Cond.soleField "java/lang/Throwable" "stackTrace" ∈ gw := List.mem_of_getElem? (i := 151) (by decide +kernel)
theorem gw_152 : Cond.lays "java/lang/IllegalArgumentException" "java/lang/Throwable" "depth" "I" ∈ gw := List.mem_of_getElem? (i := 152) (by decide +kernel)
theorem gw_153 : Cond.soleField "java/lang/Throwable" "depth" ∈ gw := List.mem_of_getElem? (i := 153) (by decide +kernel)
theorem gw_154 : Cond.soleField "java/lang/Throwable" "suppressedExceptions" ∈ gw := List.mem_of_getElem? (i := 154) (by decide +kernel)
theorem gw_155 : Cond.superclass "java/lang/IllegalArgumentException" "java/lang/RuntimeException" ∈ gw := List.mem_of_getElem? (i := 155) (by decide +kernel)
theorem gw_156 : Cond.methodLink "GrantMath" 32 y_x_grant ∈ gw := List.mem_of_getElem? (i := 156) (by decide +kernel)
theorem gw_157 : Cond.privateMethod y_x_grant ∈ gw := List.mem_of_getElem? (i := 157) (by decide +kernel)
theorem gw_158 : Cond.instanceMethod y_x_grant ∈ gw := List.mem_of_getElem? (i := 158) (by decide +kernel)
theorem gw_159 : Cond.code y_x_grant prog_1_method_3_code 2 (some (FieldType.object "GrantMath$Grant")) ∈ gw := List.mem_of_getElem? (i := 159) (by decide +kernel)
theorem gw_160 : Cond.classLink "GrantMath" 23 "java/lang/IndexOutOfBoundsException" ∈ gw := List.mem_of_getElem? (i := 160) (by decide +kernel)
theorem gw_161 : Cond.instantiable "java/lang/IndexOutOfBoundsException" 6 ∈ gw := List.mem_of_getElem? (i := 161) (by decide +kernel)
theorem gw_162 : Cond.castable "java/lang/IndexOutOfBoundsException" "java/lang/IndexOutOfBoundsException" ∈ gw := List.mem_of_getElem? (i := 162) (by decide +kernel)
theorem gw_163 : Cond.selects "java/lang/IndexOutOfBoundsException" y_th_fill0 y_th_fill0 ∈ gw := List.mem_of_getElem? (i := 163) (by decide +kernel)
theorem gw_164 : Cond.lays "java/lang/IndexOutOfBoundsException" "java/lang/Throwable" "cause" "Ljava/lang/Throwable;" ∈ gw := List.mem_of_getElem? (i := 164) (by decide +kernel)
theorem gw_165 : Cond.lays "java/lang/IndexOutOfBoundsException" "java/lang/Throwable" "stackTrace" "[Ljava/lang/StackTraceElement;" ∈ gw := List.mem_of_getElem? (i := 165) (by decide +kernel)
theorem gw_166 : Cond.lays "java/lang/IndexOutOfBoundsException" "java/lang/Throwable" "suppressedExceptions" "Ljava/util/List;" ∈ gw := List.mem_of_getElem? (i := 166) (by decide +kernel)
theorem gw_167 : Cond.lays "java/lang/IndexOutOfBoundsException" "java/lang/Throwable" "detailMessage" "Ljava/lang/String;" ∈ gw := List.mem_of_getElem? (i := 167) (by decide +kernel)
theorem gw_168 : Cond.lays "java/lang/IndexOutOfBoundsException" "java/lang/Throwable" "backtrace" "Ljava/lang/Object;" ∈ gw := List.mem_of_getElem? (i := 168) (by decide +kernel)
theorem gw_169 : Cond.methodLink "GrantMath" 25 y_io_init ∈ gw := List.mem_of_getElem? (i := 169) (by decide +kernel)
theorem gw_170 : Cond.instanceMethod y_io_init ∈ gw := List.mem_of_getElem? (i := 170) (by decide +kernel)
theorem gw_171 : Cond.code y_io_init prog_7_method_1_code 1 none ∈ gw := List.mem_of_getElem? (i := 171) (by decide +kernel)
theorem gw_172 : Cond.methodLink "java/lang/IndexOutOfBoundsException" 1 y_rt_init ∈ gw := List.mem_of_getElem? (i := 172) (by decide +kernel)
theorem gw_173 : Cond.lays "java/lang/IndexOutOfBoundsException" "java/lang/Throwable" "depth" "I" ∈ gw := List.mem_of_getElem? (i := 173) (by decide +kernel)
theorem gw_174 : Cond.superclass "java/lang/IndexOutOfBoundsException" "java/lang/RuntimeException" ∈ gw := List.mem_of_getElem? (i := 174) (by decide +kernel)
theorem gw_175 : Cond.methodLink "GrantMath" 36 y_g_set ∈ gw := List.mem_of_getElem? (i := 175) (by decide +kernel)
theorem gw_176 : Cond.instanceMethod y_g_set ∈ gw := List.mem_of_getElem? (i := 176) (by decide +kernel)
theorem gw_177 : Cond.selects "GrantMath$Grant" y_g_set y_g_set ∈ gw := List.mem_of_getElem? (i := 177) (by decide +kernel)
theorem gw_178 : Cond.code y_g_set prog_2_method_3_code 7 none ∈ gw := List.mem_of_getElem? (i := 178) (by decide +kernel)
theorem gw_179 : Cond.methodLink "GrantMathLaw" 65 y_l_number ∈ gw := List.mem_of_getElem? (i := 179) (by decide +kernel)
theorem gw_180 : Cond.static y_l_number ∈ gw := List.mem_of_getElem? (i := 180) (by decide +kernel)
theorem gw_181 : Cond.codeWith y_l_number method_4_code 4 (some FieldType.int) [(0, 6, 9, 15)] ∈ gw := List.mem_of_getElem? (i := 181) (by decide +kernel)
theorem gw_182 : Cond.methodLink "GrantMathLaw" 17 y_x_number ∈ gw := List.mem_of_getElem? (i := 182) (by decide +kernel)
theorem gw_183 : Cond.instanceMethod y_x_number ∈ gw := List.mem_of_getElem? (i := 183) (by decide +kernel)
theorem gw_184 : Cond.selects "GrantMath" y_x_number y_x_number ∈ gw := List.mem_of_getElem? (i := 184) (by decide +kernel)
theorem gw_185 : Cond.code y_x_number prog_1_method_5_code 4 none ∈ gw := List.mem_of_getElem? (i := 185) (by decide +kernel)
theorem gw_186 : Cond.methodLink "GrantMathLaw" 69 y_l_move ∈ gw := List.mem_of_getElem? (i := 186) (by decide +kernel)
theorem gw_187 : Cond.static y_l_move ∈ gw := List.mem_of_getElem? (i := 187) (by decide +kernel)
theorem gw_188 : Cond.codeWith y_l_move method_5_code 5 (some FieldType.int) [(0, 7, 10, 15)] ∈ gw := List.mem_of_getElem? (i := 188) (by decide +kernel)
theorem gw_189 : Cond.methodLink "GrantMathLaw" 21 y_x_move ∈ gw := List.mem_of_getElem? (i := 189) (by decide +kernel)
theorem gw_190 : Cond.instanceMethod y_x_move ∈ gw := List.mem_of_getElem? (i := 190) (by decide +kernel)
theorem gw_191 : Cond.selects "GrantMath" y_x_move y_x_move ∈ gw := List.mem_of_getElem? (i := 191) (by decide +kernel)
theorem gw_192 : Cond.code y_x_move prog_1_method_6_code 5 none ∈ gw := List.mem_of_getElem? (i := 192) (by decide +kernel)
theorem gw_193 : Cond.methodLink "GrantMath" 44 y_g_take ∈ gw := List.mem_of_getElem? (i := 193) (by decide +kernel)
theorem gw_194 : Cond.instanceMethod y_g_take ∈ gw := List.mem_of_getElem? (i := 194) (by decide +kernel)
theorem gw_195 : Cond.selects "GrantMath$Grant" y_g_take y_g_take ∈ gw := List.mem_of_getElem? (i := 195) (by decide +kernel)
theorem gw_196 : Cond.code y_g_take prog_2_method_2_code 2 none ∈ gw := List.mem_of_getElem? (i := 196) (by decide +kernel)
theorem gw_197 : Cond.methodLink "GrantMathLaw" 73 y_l_narrow ∈ gw := List.mem_of_getElem? (i := 197) (by decide +kernel)
theorem gw_198 : Cond.static y_l_narrow ∈ gw := List.mem_of_getElem? (i := 198) (by decide +kernel)
theorem gw_199 : Cond.codeWith y_l_narrow method_6_code 6 (some FieldType.int) [(0, 19, 22, 15)] ∈ gw := List.mem_of_getElem? (i := 199) (by decide +kernel)
theorem gw_200 : Cond.methodLink "GrantMathLaw" 25 y_x_narrow ∈ gw := List.mem_of_getElem? (i := 200) (by decide +kernel)
theorem gw_201 : Cond.instanceMethod y_x_narrow ∈ gw := List.mem_of_getElem? (i := 201) (by decide +kernel)
theorem gw_202 : Cond.selects "GrantMath" y_x_narrow y_x_narrow ∈ gw := List.mem_of_getElem? (i := 202) (by decide +kernel)
theorem gw_203 : Cond.code y_x_narrow prog_1_method_7_code 8 (some FieldType.boolean) ∈ gw := List.mem_of_getElem? (i := 203) (by decide +kernel)
theorem gw_204 : Cond.methodLink "GrantMathLaw" 77 y_l_restrict ∈ gw := List.mem_of_getElem? (i := 204) (by decide +kernel)
theorem gw_205 : Cond.static y_l_restrict ∈ gw := List.mem_of_getElem? (i := 205) (by decide +kernel)
theorem gw_206 : Cond.codeWith y_l_restrict method_7_code 6 (some FieldType.int) [(0, 19, 22, 15)] ∈ gw := List.mem_of_getElem? (i := 206) (by decide +kernel)
theorem gw_207 : Cond.methodLink "GrantMathLaw" 29 y_x_restrict ∈ gw := List.mem_of_getElem? (i := 207) (by decide +kernel)
theorem gw_208 : Cond.instanceMethod y_x_restrict ∈ gw := List.mem_of_getElem? (i := 208) (by decide +kernel)
theorem gw_209 : Cond.selects "GrantMath" y_x_restrict y_x_restrict ∈ gw := List.mem_of_getElem? (i := 209) (by decide +kernel)
theorem gw_210 : Cond.code y_x_restrict prog_1_method_8_code 6 (some FieldType.boolean) ∈ gw := List.mem_of_getElem? (i := 210) (by decide +kernel)
theorem gw_211 : Cond.methodLink "GrantMathLaw" 80 y_l_seal ∈ gw := List.mem_of_getElem? (i := 211) (by decide +kernel)
theorem gw_212 : Cond.static y_l_seal ∈ gw := List.mem_of_getElem? (i := 212) (by decide +kernel)
theorem gw_213 : Cond.codeWith y_l_seal method_8_code 6 (some FieldType.int) [(0, 12, 15, 15)] ∈ gw := List.mem_of_getElem? (i := 213) (by decide +kernel)
theorem gw_214 : Cond.methodLink "GrantMathLaw" 32 y_x_seal ∈ gw := List.mem_of_getElem? (i := 214) (by decide +kernel)
theorem gw_215 : Cond.instanceMethod y_x_seal ∈ gw := List.mem_of_getElem? (i := 215) (by decide +kernel)
theorem gw_216 : Cond.selects "GrantMath" y_x_seal y_x_seal ∈ gw := List.mem_of_getElem? (i := 216) (by decide +kernel)
theorem gw_217 : Cond.code y_x_seal prog_1_method_10_code 8 (some FieldType.int) ∈ gw := List.mem_of_getElem? (i := 217) (by decide +kernel)
theorem gw_218 : Cond.constantLong "GrantMath" 74 (65535 : Int64) ∈ gw := List.mem_of_getElem? (i := 218) (by decide +kernel)
theorem gw_219 : Cond.methodLink "GrantMathLaw" 83 y_l_unseal ∈ gw := List.mem_of_getElem? (i := 219) (by decide +kernel)
theorem gw_220 : Cond.static y_l_unseal ∈ gw := List.mem_of_getElem? (i := 220) (by decide +kernel)
theorem gw_221 : Cond.codeWith y_l_unseal method_9_code 6 (some FieldType.int) [(0, 12, 15, 15)] ∈ gw := List.mem_of_getElem? (i := 221) (by decide +kernel)
theorem gw_222 : Cond.methodLink "GrantMathLaw" 36 y_x_unseal ∈ gw := List.mem_of_getElem? (i := 222) (by decide +kernel)
theorem gw_223 : Cond.instanceMethod y_x_unseal ∈ gw := List.mem_of_getElem? (i := 223) (by decide +kernel)
theorem gw_224 : Cond.selects "GrantMath" y_x_unseal y_x_unseal ∈ gw := List.mem_of_getElem? (i := 224) (by decide +kernel)
theorem gw_225 : Cond.code y_x_unseal prog_1_method_11_code 8 (some FieldType.int) ∈ gw := List.mem_of_getElem? (i := 225) (by decide +kernel)
theorem gw_226 : Cond.methodLink "GrantMathLaw" 86 y_l_allows ∈ gw := List.mem_of_getElem? (i := 226) (by decide +kernel)
theorem gw_227 : Cond.static y_l_allows ∈ gw := List.mem_of_getElem? (i := 227) (by decide +kernel)
theorem gw_228 : Cond.codeWith y_l_allows method_10_code 7 (some FieldType.int) [(0, 14, 17, 13), (0, 14, 21, 15)] ∈ gw := List.mem_of_getElem? (i := 228) (by decide +kernel)
theorem gw_229 : Cond.methodLink "GrantMathLaw" 39 y_x_allows ∈ gw := List.mem_of_getElem? (i := 229) (by decide +kernel)
theorem gw_230 : Cond.instanceMethod y_x_allows ∈ gw := List.mem_of_getElem? (i := 230) (by decide +kernel)
theorem gw_231 : Cond.selects "GrantMath" y_x_allows y_x_allows ∈ gw := List.mem_of_getElem? (i := 231) (by decide +kernel)
theorem gw_232 : Cond.code y_x_allows prog_1_method_12_code 6 (some FieldType.int) ∈ gw := List.mem_of_getElem? (i := 232) (by decide +kernel)
theorem gw_233 : Cond.constant "GrantMath" 83 (65536 : Int32) ∈ gw := List.mem_of_getElem? (i := 233) (by decide +kernel)
theorem gw_234 : Cond.methodLink "GrantMathLaw" 90 y_l_within ∈ gw := List.mem_of_getElem? (i := 234) (by decide +kernel)
theorem gw_235 : Cond.static y_l_within ∈ gw := List.mem_of_getElem? (i := 235) (by decide +kernel)
theorem gw_236 : Cond.codeWith y_l_within method_11_code 5 (some FieldType.int) [(0, 17, 20, 15)] ∈ gw := List.mem_of_getElem? (i := 236) (by decide +kernel)
theorem gw_237 : Cond.methodLink "GrantMathLaw" 43 y_x_within ∈ gw := List.mem_of_getElem? (i := 237) (by decide +kernel)
theorem gw_238 : Cond.instanceMethod y_x_within ∈ gw := List.mem_of_getElem? (i := 238) (by decide +kernel)
theorem gw_239 : Cond.selects "GrantMath" y_x_within y_x_within ∈ gw := List.mem_of_getElem? (i := 239) (by decide +kernel)
theorem gw_240 : Cond.code y_x_within prog_1_method_13_code 5 (some FieldType.boolean) ∈ gw := List.mem_of_getElem? (i := 240) (by decide +kernel)
theorem gw_241 : Cond.methodLink "GrantMathLaw" 94 y_l_part ∈ gw := List.mem_of_getElem? (i := 241) (by decide +kernel)
theorem gw_242 : Cond.static y_l_part ∈ gw := List.mem_of_getElem? (i := 242) (by decide +kernel)
theorem gw_243 : Cond.codeWith y_l_part method_12_code 5 (some FieldType.int) [(0, 10, 13, 13), (0, 10, 17, 15)] ∈ gw := List.mem_of_getElem? (i := 243) (by decide +kernel)
theorem gw_244 : Cond.methodLink "GrantMathLaw" 47 y_x_part ∈ gw := List.mem_of_getElem? (i := 244) (by decide +kernel)
theorem gw_245 : Cond.instanceMethod y_x_part ∈ gw := List.mem_of_getElem? (i := 245) (by decide +kernel)
theorem gw_246 : Cond.selects "GrantMath" y_x_part y_x_part ∈ gw := List.mem_of_getElem? (i := 246) (by decide +kernel)
theorem gw_247 : Cond.code y_x_part prog_1_method_14_code 4 (some FieldType.int) ∈ gw := List.mem_of_getElem? (i := 247) (by decide +kernel)
theorem gw_248 : Cond.classLink "GrantMathLaw" 52 "GrantMathModel" ∈ gw := List.mem_of_getElem? (i := 248) (by decide +kernel)
theorem gw_249 : Cond.instantiable "GrantMathModel" 7 ∈ gw := List.mem_of_getElem? (i := 249) (by decide +kernel)
theorem gw_250 : Cond.methodLink "GrantMathLaw" 54 y_m_init ∈ gw := List.mem_of_getElem? (i := 250) (by decide +kernel)
theorem gw_251 : Cond.instanceMethod y_m_init ∈ gw := List.mem_of_getElem? (i := 251) (by decide +kernel)
theorem gw_252 : Cond.code y_m_init prog_4_method_1_code 1 none ∈ gw := List.mem_of_getElem? (i := 252) (by decide +kernel)
theorem gw_253 : Cond.methodLink "GrantMathModel" 1 y_o_init ∈ gw := List.mem_of_getElem? (i := 253) (by decide +kernel)
theorem gw_254 : Cond.fieldLink "GrantMathModel" 30 "GrantMathModel" "err" "I" ∈ gw := List.mem_of_getElem? (i := 254) (by decide +kernel)
theorem gw_255 : Cond.fieldLink "GrantMathModel" 9 "GrantMathModel" "address" "[J" ∈ gw := List.mem_of_getElem? (i := 255) (by decide +kernel)
theorem gw_256 : Cond.fieldLink "GrantMathModel" 13 "GrantMathModel" "base" "[J" ∈ gw := List.mem_of_getElem? (i := 256) (by decide +kernel)
theorem gw_257 : Cond.fieldLink "GrantMathModel" 16 "GrantMathModel" "top" "[J" ∈ gw := List.mem_of_getElem? (i := 257) (by decide +kernel)
theorem gw_258 : Cond.fieldLink "GrantMathModel" 19 "GrantMathModel" "permissions" "[I" ∈ gw := List.mem_of_getElem? (i := 258) (by decide +kernel)
theorem gw_259 : Cond.fieldLink "GrantMathModel" 23 "GrantMathModel" "type" "[I" ∈ gw := List.mem_of_getElem? (i := 259) (by decide +kernel)
theorem gw_260 : Cond.fieldLink "GrantMathModel" 26 "GrantMathModel" "tag" "[Z" ∈ gw := List.mem_of_getElem? (i := 260) (by decide +kernel)
theorem gw_261 : Cond.lays "GrantMathModel" "GrantMathModel" "err" "I" ∈ gw := List.mem_of_getElem? (i := 261) (by decide +kernel)
theorem gw_262 : Cond.soleField "GrantMathModel" "err" ∈ gw := List.mem_of_getElem? (i := 262) (by decide +kernel)
theorem gw_263 : Cond.laysFinal "GrantMathModel" "GrantMathModel" "address" "[J" ∈ gw := List.mem_of_getElem? (i := 263) (by decide +kernel)
theorem gw_264 : Cond.soleField "GrantMathModel" "address" ∈ gw := List.mem_of_getElem? (i := 264) (by decide +kernel)
theorem gw_265 : Cond.laysFinal "GrantMathModel" "GrantMathModel" "base" "[J" ∈ gw := List.mem_of_getElem? (i := 265) (by decide +kernel)
theorem gw_266 : Cond.soleField "GrantMathModel" "base" ∈ gw := List.mem_of_getElem? (i := 266) (by decide +kernel)
theorem gw_267 : Cond.laysFinal "GrantMathModel" "GrantMathModel" "top" "[J" ∈ gw := List.mem_of_getElem? (i := 267) (by decide +kernel)
theorem gw_268 : Cond.soleField "GrantMathModel" "top" ∈ gw := List.mem_of_getElem? (i := 268) (by decide +kernel)
theorem gw_269 : Cond.laysFinal "GrantMathModel" "GrantMathModel" "permissions" "[I" ∈ gw := List.mem_of_getElem? (i := 269) (by decide +kernel)
theorem gw_270 : Cond.soleField "GrantMathModel" "permissions" ∈ gw := List.mem_of_getElem? (i := 270) (by decide +kernel)
theorem gw_271 : Cond.laysFinal "GrantMathModel" "GrantMathModel" "type" "[I" ∈ gw := List.mem_of_getElem? (i := 271) (by decide +kernel)
theorem gw_272 : Cond.soleField "GrantMathModel" "type" ∈ gw := List.mem_of_getElem? (i := 272) (by decide +kernel)
theorem gw_273 : Cond.laysFinal "GrantMathModel" "GrantMathModel" "tag" "[Z" ∈ gw := List.mem_of_getElem? (i := 273) (by decide +kernel)
theorem gw_274 : Cond.soleField "GrantMathModel" "tag" ∈ gw := List.mem_of_getElem? (i := 274) (by decide +kernel)
theorem gw_275 : Cond.superclass "GrantMathModel" "java/lang/Object" ∈ gw := List.mem_of_getElem? (i := 275) (by decide +kernel)
theorem gw_276 : Cond.arrayClass FieldType.long ∈ gw := List.mem_of_getElem? (i := 276) (by decide +kernel)
theorem gw_277 : Cond.arrayClass FieldType.int ∈ gw := List.mem_of_getElem? (i := 277) (by decide +kernel)
theorem gw_278 : Cond.arrayClass FieldType.boolean ∈ gw := List.mem_of_getElem? (i := 278) (by decide +kernel)
theorem gw_279 : Cond.methodLink "GrantMathLaw" 61 y_m_thrown ∈ gw := List.mem_of_getElem? (i := 279) (by decide +kernel)
theorem gw_280 : Cond.instanceMethod y_m_thrown ∈ gw := List.mem_of_getElem? (i := 280) (by decide +kernel)
theorem gw_281 : Cond.selects "GrantMathModel" y_m_thrown y_m_thrown ∈ gw := List.mem_of_getElem? (i := 281) (by decide +kernel)
theorem gw_282 : Cond.code y_m_thrown prog_4_method_2_code 1 (some FieldType.int) ∈ gw := List.mem_of_getElem? (i := 282) (by decide +kernel)
theorem gw_283 : Cond.methodLink "GrantMathLaw" 60 y_m_root ∈ gw := List.mem_of_getElem? (i := 283) (by decide +kernel)
theorem gw_284 : Cond.instanceMethod y_m_root ∈ gw := List.mem_of_getElem? (i := 284) (by decide +kernel)
theorem gw_285 : Cond.selects "GrantMathModel" y_m_root y_m_root ∈ gw := List.mem_of_getElem? (i := 285) (by decide +kernel)
theorem gw_286 : Cond.code y_m_root prog_4_method_8_code 5 none ∈ gw := List.mem_of_getElem? (i := 286) (by decide +kernel)
theorem gw_287 : Cond.methodLink "GrantMathModel" 42 y_m_wide ∈ gw := List.mem_of_getElem? (i := 287) (by decide +kernel)
theorem gw_288 : Cond.static y_m_wide ∈ gw := List.mem_of_getElem? (i := 288) (by decide +kernel)
theorem gw_289 : Cond.code y_m_wide prog_4_method_6_code 1 (some FieldType.long) ∈ gw := List.mem_of_getElem? (i := 289) (by decide +kernel)
theorem gw_290 : Cond.constantLong "GrantMathModel" 40 (4294967296 : Int64) ∈ gw := List.mem_of_getElem? (i := 290) (by decide +kernel)
theorem gw_291 : Cond.constantLong "GrantMathModel" 46 (255 : Int64) ∈ gw := List.mem_of_getElem? (i := 291) (by decide +kernel)
theorem gw_292 : Cond.methodLink "GrantMathModel" 36 y_m_in ∈ gw := List.mem_of_getElem? (i := 292) (by decide +kernel)
theorem gw_293 : Cond.static y_m_in ∈ gw := List.mem_of_getElem? (i := 293) (by decide +kernel)
theorem gw_294 : Cond.code y_m_in prog_4_method_3_code 6 (some FieldType.boolean) ∈ gw := List.mem_of_getElem? (i := 294) (by decide +kernel)
theorem gw_295 : Cond.methodLink "GrantMathModel" 48 y_m_fails ∈ gw := List.mem_of_getElem? (i := 295) (by decide +kernel)
theorem gw_296 : Cond.privateMethod y_m_fails ∈ gw := List.mem_of_getElem? (i := 296) (by decide +kernel)
theorem gw_297 : Cond.instanceMethod y_m_fails ∈ gw := List.mem_of_getElem? (i := 297) (by decide +kernel)
theorem gw_298 : Cond.code y_m_fails prog_4_method_4_code 3 (some FieldType.boolean) ∈ gw := List.mem_of_getElem? (i := 298) (by decide +kernel)
theorem gw_299 : Cond.methodLink "GrantMathModel" 52 y_m_is ∈ gw := List.mem_of_getElem? (i := 299) (by decide +kernel)
theorem gw_300 : Cond.static y_m_is ∈ gw := List.mem_of_getElem? (i := 300) (by decide +kernel)
theorem gw_301 : Cond.code y_m_is prog_4_method_5_code 1 (some FieldType.boolean) ∈ gw := List.mem_of_getElem? (i := 301) (by decide +kernel)
theorem gw_302 : Cond.constantLong "GrantMathModel" 34 (15 : Int64) ∈ gw := List.mem_of_getElem? (i := 302) (by decide +kernel)
theorem gw_303 : Cond.methodLink "GrantMathModel" 56 y_m_give ∈ gw := List.mem_of_getElem? (i := 303) (by decide +kernel)
theorem gw_304 : Cond.privateMethod y_m_give ∈ gw := List.mem_of_getElem? (i := 304) (by decide +kernel)
theorem gw_305 : Cond.instanceMethod y_m_give ∈ gw := List.mem_of_getElem? (i := 305) (by decide +kernel)
theorem gw_306 : Cond.code y_m_give prog_4_method_7_code 11 none ∈ gw := List.mem_of_getElem? (i := 306) (by decide +kernel)
theorem gw_307 : Cond.methodLink "GrantMathLaw" 68 y_m_number ∈ gw := List.mem_of_getElem? (i := 307) (by decide +kernel)
theorem gw_308 : Cond.instanceMethod y_m_number ∈ gw := List.mem_of_getElem? (i := 308) (by decide +kernel)
theorem gw_309 : Cond.selects "GrantMathModel" y_m_number y_m_number ∈ gw := List.mem_of_getElem? (i := 309) (by decide +kernel)
theorem gw_310 : Cond.code y_m_number prog_4_method_9_code 3 none ∈ gw := List.mem_of_getElem? (i := 310) (by decide +kernel)
theorem gw_311 : Cond.methodLink "GrantMathLaw" 72 y_m_move ∈ gw := List.mem_of_getElem? (i := 311) (by decide +kernel)
theorem gw_312 : Cond.instanceMethod y_m_move ∈ gw := List.mem_of_getElem? (i := 312) (by decide +kernel)
theorem gw_313 : Cond.selects "GrantMathModel" y_m_move y_m_move ∈ gw := List.mem_of_getElem? (i := 313) (by decide +kernel)
theorem gw_314 : Cond.code y_m_move prog_4_method_11_code 4 none ∈ gw := List.mem_of_getElem? (i := 314) (by decide +kernel)
theorem gw_315 : Cond.methodLink "GrantMathModel" 60 y_m_isSealed ∈ gw := List.mem_of_getElem? (i := 315) (by decide +kernel)
theorem gw_316 : Cond.privateMethod y_m_isSealed ∈ gw := List.mem_of_getElem? (i := 316) (by decide +kernel)
theorem gw_317 : Cond.instanceMethod y_m_isSealed ∈ gw := List.mem_of_getElem? (i := 317) (by decide +kernel)
theorem gw_318 : Cond.code y_m_isSealed prog_4_method_10_code 2 (some FieldType.boolean) ∈ gw := List.mem_of_getElem? (i := 318) (by decide +kernel)
theorem gw_319 : Cond.methodLink "GrantMathLaw" 76 y_m_narrow ∈ gw := List.mem_of_getElem? (i := 319) (by decide +kernel)
theorem gw_320 : Cond.instanceMethod y_m_narrow ∈ gw := List.mem_of_getElem? (i := 320) (by decide +kernel)
theorem gw_321 : Cond.selects "GrantMathModel" y_m_narrow y_m_narrow ∈ gw := List.mem_of_getElem? (i := 321) (by decide +kernel)
theorem gw_322 : Cond.code y_m_narrow prog_4_method_12_code 8 (some FieldType.boolean) ∈ gw := List.mem_of_getElem? (i := 322) (by decide +kernel)
theorem gw_323 : Cond.methodLink "GrantMathLaw" 79 y_m_restrict ∈ gw := List.mem_of_getElem? (i := 323) (by decide +kernel)
theorem gw_324 : Cond.instanceMethod y_m_restrict ∈ gw := List.mem_of_getElem? (i := 324) (by decide +kernel)
theorem gw_325 : Cond.selects "GrantMathModel" y_m_restrict y_m_restrict ∈ gw := List.mem_of_getElem? (i := 325) (by decide +kernel)
theorem gw_326 : Cond.code y_m_restrict prog_4_method_13_code 6 (some FieldType.boolean) ∈ gw := List.mem_of_getElem? (i := 326) (by decide +kernel)
theorem gw_327 : Cond.methodLink "GrantMathLaw" 82 y_m_seal ∈ gw := List.mem_of_getElem? (i := 327) (by decide +kernel)
theorem gw_328 : Cond.instanceMethod y_m_seal ∈ gw := List.mem_of_getElem? (i := 328) (by decide +kernel)
theorem gw_329 : Cond.selects "GrantMathModel" y_m_seal y_m_seal ∈ gw := List.mem_of_getElem? (i := 329) (by decide +kernel)
theorem gw_330 : Cond.code y_m_seal prog_4_method_16_code 4 (some FieldType.int) ∈ gw := List.mem_of_getElem? (i := 330) (by decide +kernel)
theorem gw_331 : Cond.methodLink "GrantMathModel" 63 y_m_may ∈ gw := List.mem_of_getElem? (i := 331) (by decide +kernel)
theorem gw_332 : Cond.privateMethod y_m_may ∈ gw := List.mem_of_getElem? (i := 332) (by decide +kernel)
theorem gw_333 : Cond.instanceMethod y_m_may ∈ gw := List.mem_of_getElem? (i := 333) (by decide +kernel)
theorem gw_334 : Cond.code y_m_may prog_4_method_14_code 4 (some FieldType.boolean) ∈ gw := List.mem_of_getElem? (i := 334) (by decide +kernel)
theorem gw_335 : Cond.methodLink "GrantMathModel" 67 y_m_holds ∈ gw := List.mem_of_getElem? (i := 335) (by decide +kernel)
theorem gw_336 : Cond.privateMethod y_m_holds ∈ gw := List.mem_of_getElem? (i := 336) (by decide +kernel)
theorem gw_337 : Cond.instanceMethod y_m_holds ∈ gw := List.mem_of_getElem? (i := 337) (by decide +kernel)
theorem gw_338 : Cond.code y_m_holds prog_4_method_15_code 9 (some FieldType.boolean) ∈ gw := List.mem_of_getElem? (i := 338) (by decide +kernel)
theorem gw_339 : Cond.constantLong "GrantMathModel" 71 (65535 : Int64) ∈ gw := List.mem_of_getElem? (i := 339) (by decide +kernel)
theorem gw_340 : Cond.methodLink "GrantMathLaw" 85 y_m_unseal ∈ gw := List.mem_of_getElem? (i := 340) (by decide +kernel)
theorem gw_341 : Cond.instanceMethod y_m_unseal ∈ gw := List.mem_of_getElem? (i := 341) (by decide +kernel)
theorem gw_342 : Cond.selects "GrantMathModel" y_m_unseal y_m_unseal ∈ gw := List.mem_of_getElem? (i := 342) (by decide +kernel)
theorem gw_343 : Cond.code y_m_unseal prog_4_method_17_code 4 (some FieldType.int) ∈ gw := List.mem_of_getElem? (i := 343) (by decide +kernel)
theorem gw_344 : Cond.methodLink "GrantMathLaw" 89 y_m_allows ∈ gw := List.mem_of_getElem? (i := 344) (by decide +kernel)
theorem gw_345 : Cond.instanceMethod y_m_allows ∈ gw := List.mem_of_getElem? (i := 345) (by decide +kernel)
theorem gw_346 : Cond.selects "GrantMathModel" y_m_allows y_m_allows ∈ gw := List.mem_of_getElem? (i := 346) (by decide +kernel)
theorem gw_347 : Cond.code y_m_allows prog_4_method_18_code 5 (some FieldType.int) ∈ gw := List.mem_of_getElem? (i := 347) (by decide +kernel)
theorem gw_348 : Cond.constantLong "GrantMathModel" 73 (65536 : Int64) ∈ gw := List.mem_of_getElem? (i := 348) (by decide +kernel)
theorem gw_349 : Cond.methodLink "GrantMathLaw" 93 y_m_within ∈ gw := List.mem_of_getElem? (i := 349) (by decide +kernel)
theorem gw_350 : Cond.instanceMethod y_m_within ∈ gw := List.mem_of_getElem? (i := 350) (by decide +kernel)
theorem gw_351 : Cond.selects "GrantMathModel" y_m_within y_m_within ∈ gw := List.mem_of_getElem? (i := 351) (by decide +kernel)
theorem gw_352 : Cond.code y_m_within prog_4_method_19_code 3 (some FieldType.boolean) ∈ gw := List.mem_of_getElem? (i := 352) (by decide +kernel)
theorem gw_353 : Cond.methodLink "GrantMathLaw" 96 y_m_part ∈ gw := List.mem_of_getElem? (i := 353) (by decide +kernel)
theorem gw_354 : Cond.instanceMethod y_m_part ∈ gw := List.mem_of_getElem? (i := 354) (by decide +kernel)
theorem gw_355 : Cond.selects "GrantMathModel" y_m_part y_m_part ∈ gw := List.mem_of_getElem? (i := 355) (by decide +kernel)
theorem gw_356 : Cond.code y_m_part prog_4_method_20_code 3 (some FieldType.int) ∈ gw := List.mem_of_getElem? (i := 356) (by decide +kernel)
theorem gw_357 : Cond.constantLong "GrantMathModel" 75 (5 : Int64) ∈ gw := List.mem_of_getElem? (i := 357) (by decide +kernel)
theorem gw_358 : Cond.methodLink "GrantMathLaw" 100 y_m_count ∈ gw := List.mem_of_getElem? (i := 358) (by decide +kernel)
theorem gw_359 : Cond.instanceMethod y_m_count ∈ gw := List.mem_of_getElem? (i := 359) (by decide +kernel)
theorem gw_360 : Cond.selects "GrantMathModel" y_m_count y_m_count ∈ gw := List.mem_of_getElem? (i := 360) (by decide +kernel)
theorem gw_361 : Cond.code y_m_count prog_4_method_21_code 5 (some FieldType.int) ∈ gw := List.mem_of_getElem? (i := 361) (by decide +kernel)
theorem gw_362 : Cond.sameMethod "java/lang/Throwable" "java/lang/Throwable" "fillInStackTrace" "(I)Ljava/lang/Throwable;" ∈ gw := List.mem_of_getElem? (i := 362) (by decide +kernel)
end
section
/-! The frame: words that stay under warming; contracts whose end is an answer or a throw; calls; throws; catches. Own rows: the kit's contracts only return. -/
section GmW
def kp : Cond → Bool
  | .arrayClass _ => true
  | .arrayOver _ => true
  | .methodLinkNest _ _ _ _ => true
  | .not (.castable _ _) => true
  | .declares _ => true
  | .privateMethod _ => true
  | .castable _ _ => true
  | w => w.onTables && w.keeps
theorem kp_at {args a' : Array Value} {s U : State} (hW : s.WarmedH U.vm) {w : Cond} (hk : kp w = true) (h : w.before args s = true) : w.before a' U = true := by
  have hf : ∀ c : Cond, c.keepsCast = true → c.before args s = true → c.before args (s.setVm U.vm) = true := fun c => Cond.before_shiftedCast (State.Shifted.of_warmed hW) c
  cases w with
  | arrayClass ty => exact hf (.arrayClass ty) rfl h
  | arrayOver ty =>
    have h1 : (Cond.arrayOver ty).before args (s.setVm U.vm) = true := by rw [Cond.arrayOver_setVmC hW.alike]; exact h
    exact h1
  | methodLinkNest a i x n => exact va_Nw.use (A := a') rfl (va_Nw.warmM hW (va_Nw.of rfl h))
  | not c =>
    cases c with
    | castable a b => exact hf (.not (.castable a b)) rfl h
    | _ => exact absurd hk (by simp [kp, Cond.onTables])
  | declares x => exact hf (.declares x) rfl h
  | privateMethod x => exact hf (.privateMethod x) rfl h
  | castable a b => exact hf (.castable a b) rfl h
  | _ => exact word_at hW (Or.inl hk) h
theorem gw_kp : gw.all kp = true := by decide +kernel
theorem gw_at {args a' : Array Value} {s U : State} (hts : ∀ w ∈ gw, w.before args s = true) (hW : s.WarmedH U.vm) : ∀ w ∈ gw, w.before a' U = true :=
  fun w hw => kp_at hW (List.all_eq_true.mp gw_kp w hw) (hts w hw)
end GmW
section GmC
def gRm (f lo mc ms : Nat) : Room := { frames := f, cells := mc, slots := ms, locals := lo }
/-- what a method leaves: warmer tables, at most so many new cells and slots, old slots written only where 'fr' allows -/
def GE (st t : State) (mc ms : Nat) (fr : Nat → Prop) : Prop := st.WarmedH t.vm ∧ ∃ L : List Loc, st.sameButNew ({ t with vm := st.vm } : State) L mc ms ∧ ∀ q ∈ L, fr q.base
def Con (l : Launch) (y : MethodName) (f lo mc ms : Nat) (fr : Nat → Prop) (Pc : Array Value → State → Prop) (Qc : Array Value → State → Outcome → State → Prop) : Prop :=
  MetFree l y (headSpec gw (gRm f lo mc ms)) Pc (fun _ _ _ _ _ => True) (fun a st o t => Qc a st o t ∧ GE st t mc ms fr)
def MX (below : List Frame) (Qc : Array Value → State → Outcome → State → Prop) (a : Array Value) (s : State) (mc ms : Nat) (fr : Nat → Prop) : State → Prop := fun t =>
  ∃ o, t.status = .running ∧ Ended t below o ∧ Qc a s o t ∧ GE s t mc ms fr
abbrev Fx (p : Program) (s : State) (m : MethodId) (args : Array Value) (meth : Method) (c : Code) (cc : ByteArray) (nL : Nat) (own : String) (ret : Option FieldType) : Prop :=
  p.tables.exec = Jvm.exec ∧ c.code = cc ∧ c.maxLocals = nL ∧ s.vm.findClass own = some m.cls ∧ (∀ w ∈ gw, w.before args s = true) ∧ meth.sig.returnType = ret ∧ meth.locks = false
theorem Con.ofW {l : Launch} {y : MethodName} {f lo mc ms : Nat} {fr : Nat → Prop} {Pc : Array Value → State → Prop} {Qc : Array Value → State → Outcome → State → Prop} {cc : ByteArray} {maxL : Nat} {ret : Option FieldType}
    (hy : plainName y.cls = true) (hw : Cond.code y cc maxL ret ∈ gw)
    (body : ∀ (p : Program) (e : Env) (s : State) (m : MethodId) (args : Array Value) (below : List Frame) (meth : Method) (c : Code), Fx p s m args meth c cc maxL y.cls ret → l.admits e → meth.name = y.name → c.exceptionTable.toList = [] → Pc args s →
      W p l e (gRm f lo mc ms) s m args below meth c s.heap [] 0 0 (MX below Qc args s mc ms fr) (entryFrame m args maxL)) : Con l y f lo mc ms fr Pc Qc := by
  refine MetFree.of_bodyS (code := cc) (maxLocals := maxL) (ret := ret) hy ?_ ?_
  · intro args s m h hn
    obtain ⟨meth, c, h1, h2, h3, h4, h5, h6, -, -⟩ := Cond.code_spec hn (atoms_spec (ws := gw) h _ hw)
    exact ⟨meth, c, h1, h2, h3, h4, h5, h6⟩
  · intro p e s m args below meth c s₁ B hml hP _
    have hh0 : s₁.heap = s.heap := by rw [B.state]; rfl
    have hts := atoms_spec (ws := gw) B.pre
    have hne := B.noHandlers (hts _ hw)
    have hne2 : c.exceptionTable.toList = [] := by
      have h := Array.isEmpty_iff.mp hne
      rw [h]
    obtain ⟨t, a1, o, b1, b2, b3, b4⟩ := body p e s m args below meth c ⟨B.exec, B.bytes, hml, findClass_of_methodNamed B.named, hts, B.returns, B.notSynchronized⟩ B.admits (name_of_methodNamed B.named B.method).1 hne2 hP s₁ hh0 (Stand.of_body B)
    exact ⟨t, o, a1, b1, b2, b3, b4⟩
/-- the same for a method with a table of handlers -/
theorem Con.ofWith {l : Launch} {y : MethodName} {f lo mc ms : Nat} {fr : Nat → Prop} {Pc : Array Value → State → Prop} {Qc : Array Value → State → Outcome → State → Prop} {cc : ByteArray} {maxL : Nat} {ret : Option FieldType} {tab : List (Nat × Nat × Nat × Nat)}
    (hy : plainName y.cls = true) (hw : Cond.codeWith y cc maxL ret tab ∈ gw)
    (body : ∀ (p : Program) (e : Env) (s : State) (m : MethodId) (args : Array Value) (below : List Frame) (meth : Method) (c : Code), Fx p s m args meth c cc maxL y.cls ret → l.admits e → c.exceptionTable.toList.map (fun h => (h.startPc, h.endPc, h.handlerPc, h.catchType)) = tab → Pc args s →
      W p l e (gRm f lo mc ms) s m args below meth c s.heap [] 0 0 (MX below Qc args s mc ms fr) (entryFrame m args maxL)) : Con l y f lo mc ms fr Pc Qc := by
  refine MetFree.of_bodyS (code := cc) (maxLocals := maxL) (ret := ret) hy ?_ ?_
  · intro args s m h hn
    obtain ⟨m', meth, c, h0, h1, h2, h3, h4, -, h5, h6, -⟩ := Cond.codeWith_spec (atoms_spec (ws := gw) h _ hw)
    cases hn.symm.trans h0
    exact ⟨meth, c, h1, h2, h3, h4, h5, h6⟩
  · intro p e s m args below meth c s₁ B hml hP _
    have hh0 : s₁.heap = s.heap := by rw [B.state]; rfl
    have hts := atoms_spec (ws := gw) B.pre
    have htab : c.exceptionTable.toList.map (fun h => (h.startPc, h.endPc, h.handlerPc, h.catchType)) = tab := by
      obtain ⟨m', meth', c', h0, h1, h2, h3, h4, h5, -⟩ := Cond.codeWith_spec (hts _ hw)
      cases B.named.symm.trans h0
      cases B.method.symm.trans h1
      cases (Stand.of_body B).code.symm.trans h2
      exact h5
    obtain ⟨t, a1, o, b1, b2, b3, b4⟩ := body p e s m args below meth c ⟨B.exec, B.bytes, hml, findClass_of_methodNamed B.named, hts, B.returns, B.notSynchronized⟩ B.admits htab hP s₁ hh0 (Stand.of_body B)
    exact ⟨t, o, a1, b1, b2, b3, b4⟩
/-- what a call asks of its callee's code -/
def CD (s : State) (y : MethodName) (maxL : Nat) : Prop := ∃ (mk : MethodId) (methM : Method) (cM : Code), s.methodNamed? y = some mk ∧ s.vm.method? mk = some methM ∧ methM.code = some cM ∧ cM.maxLocals = maxL ∧ parseMethodDescriptor y.desc = some methM.sig
theorem CD.of {args : Array Value} {s : State} {y : MethodName} {b : ByteArray} {n : Nat} {r : Option FieldType} (h : (Cond.code y b n r).before args s = true) : CD s y n := by
  obtain ⟨mk, hn⟩ := Cond.code_named h
  obtain ⟨meth, c, h1, h2, -, h4, -, -, -, h5⟩ := Cond.code_spec hn h
  exact ⟨mk, meth, c, hn, h1, h2, h4, h5⟩
theorem CD.ofWith {args : Array Value} {s : State} {y : MethodName} {b : ByteArray} {n : Nat} {r : Option FieldType} {tab : List (Nat × Nat × Nat × Nat)} (h : (Cond.codeWith y b n r tab).before args s = true) : CD s y n := by
  obtain ⟨mk, meth, c, h0, h1, h2, -, h4, -, -, -, h5⟩ := Cond.codeWith_spec h
  exact ⟨mk, meth, c, h0, h1, h2, h4, h5⟩
def CDw (y : MethodName) (maxL : Nat) : Prop := ∀ (args : Array Value) (s : State), (∀ w ∈ gw, w.before args s = true) → CD s y maxL
abbrev Cn (y : MethodName) (maxL n : Nat) : Prop := CDw y maxL ∧ Cond.initialized y.cls ∈ gw ∧ (y.cls ≠ "java/lang/invoke/MethodHandle" ∧ y.cls ≠ "java/lang/invoke/VarHandle") ∧ (parseMethodDescriptor y.desc).map (fun d => d.parameters.length) = some n
abbrev Vw (C : String) (y : MethodName) (maxL n : Nat) : Prop := Cn y maxL n ∧ Cond.instanceMethod y ∈ gw ∧ Cond.selects C y y ∈ gw
abbrev Sw (y : MethodName) (maxL n : Nat) : Prop := Cn y maxL n ∧ Cond.static y ∈ gw
theorem cn_len {y : MethodName} {maxL n : Nat} (h : Cn y maxL n) {sig : MethodDescriptor} (hs : parseMethodDescriptor y.desc = some sig) : n = sig.parameters.length := by
  have h2 := h.2.2.2
  rw [hs] at h2
  exact (Option.some.inj h2).symm
end GmC
section GmR
variable {p : Program} {l : Launch} {e : Env} {R : Room} {s : State} {m : MethodId} {args : Array Value} {below : List Frame} {meth : Method} {c : Code} {T : State} {H : Heap} {locs : List Loc} {cells slots : Nat} {Q : State → Prop}
variable {y : MethodName} {f lo mc ms maxL n nL index : Nat} {fr : Nat → Prop} {Pc : Array Value → State → Prop} {Qc : Array Value → State → Outcome → State → Prop} {cc : ByteArray} {own C : String} {ret : Option FieldType}
/-- into the callee and back, by its contract; it has returned, or thrown -/
theorem gm_go (X : Stand p l e R s m args below meth c T locs cells slots) (hM : Con l y f lo mc ms fr Pc Qc) (hbl : FrameBlind Pc) (hts : ∀ w ∈ gw, w.before args s = true)
    {mk : MethodId} {methY : Method} {cY : Code} (hn : s.methodNamed? y = some mk) (hmY : s.vm.method? mk = some methY) (hcY : methY.code = some cY) (hlY : cY.maxLocals = maxL) (hini : Cond.initialized y.cls ∈ gw)
    (hfr : f + 1 ≤ R.frames) (hlo : 16 + (maxL + 11) + lo ≤ R.locals) (hc : cells + mc ≤ R.cells) (hs : slots + ms ≤ R.slots)
    {g : JFrame} (hg : g.method = m) (hsize : g.locals.size = c.maxLocals) {ig : Instr} {len : Nat} (hdg : decode c.code g.pc = .ok (ig, len)) (hW : 2 * g.monitorRoom + (g.stack.map fun v => v.category).sum ≤ 16)
    {a : Array Value} (hPc : Pc a T) :
    ∃ (o : Outcome) (t T' : State) (L : List Loc), Stand p l e R s m args below meth c T' (locs ++ L) (cells + mc) (slots + ms) ∧ (∀ q ∈ L, fr q.base) ∧ T'.heap = t.heap ∧ T'.vm = t.vm ∧ Qc a (T.calling g mk a) o t ∧
      Steps p.tables e below (doInvoke e (T.setTop g) [] mk a).1 t ∧ (∀ v, o = .returned v → t = T'.setTop { g with pc := g.pc + len, stack := v.toList ++ g.stack }) ∧ (∀ x, o = .threw x → t = (T'.setTop g).pushFrame (.throwing x)) := by
  have hnT : T.methodNamed? y = some mk := X.named hn
  have hmT : T.vm.method? mk = some methY := by rw [X.warmed.alike.method?]; exact hmY
  obtain ⟨kY, hkY, -⟩ := className_of_methodNamed hnT
  have hwT : ∀ w ∈ gw, w.before a T = true := gw_at hts X.warmed
  have hinitY : kY.init = .initialized := Cond.initialized_spec (findClass_of_methodNamed hnT) hkY (hwT _ hini)
  have h : At T g.method c below := by rw [hg]; exact X.here
  have happ : (headSpec gw (gRm f lo mc ms)).appliesLoose y e.platform (T.calling g mk a) = true :=
    Spec.appliesLoose_calling (g := g) h hdg hnT hkY hinitY (X.room_calling (g := g) (R' := gRm f lo mc ms) hsize hmT hcY hfr (by rw [hlY]; show _ + (maxL + 11) + lo ≤ R.locals; omega) hc hs) (atoms_intro hwT)
  obtain ⟨mid, hmid⟩ := h.above
  have hfr' : (T.setTop g).frames = (.java g :: mid) ++ below := by rw [State.frames_setTop' g h.top, hmid]; rfl
  obtain ⟨o, s₂, hsteps, -, hend, hq, hGE⟩ := Steps.callFree hM p X.admits X.cas X.clock (acts := []) hfr' happ (hbl _ _ _ _ hPc) trivial
  rw [State.frames_setTop' g h.top, X.tail] at hend
  obtain ⟨hW₂, L, hsame, hL⟩ := hGE
  cases o with
  | returned v =>
    obtain ⟨T', X', -, -, ht⟩ := X.outOf hg hdg hend hW₂ hsame
    exact ⟨.returned v, s₂, T', L, X', hL, by rw [ht]; rfl, by rw [ht]; rfl, hq, hsteps, fun v' h' => (by cases h'; exact ht), fun x h' => (nomatch h')⟩
  | threw x =>
    obtain ⟨T', X', -, -, ht⟩ := X.outOfThrown hg hend hW₂ hsame
    exact ⟨.threw x, s₂, T', L, X', hL, by rw [ht]; rfl, by rw [ht]; rfl, hq, hsteps, fun v' h' => (nomatch h'), fun x' h' => (by cases h'; exact ht)⟩
/-- a call that has come back -/
def GR (p : Program) (l : Launch) (e : Env) (R : Room) (s : State) (m : MethodId) (args : Array Value) (below : List Frame) (meth : Method) (c : Code) (H : Heap) (locs : List Loc) (cells slots mc ms : Nat) (fr : Nat → Prop) (pc : Nat) (ls : Array Slot) (st rest : List Value) (Qa : State → Outcome → State → Prop) : Prop :=
  ∀ T : State, T.heap = H → Stand p l e R s m args below meth c T locs cells slots → ∃ (o : Outcome) (st₀ t T' : State) (L : List Loc), st₀.heap = H ∧ s.WarmedH st₀.vm ∧ Stand p l e R s m args below meth c T' (locs ++ L) (cells + mc) (slots + ms) ∧ (∀ q ∈ L, fr q.base) ∧ T'.heap = t.heap ∧ T'.vm = t.vm ∧ Qa st₀ o t ∧
    (∀ v, o = .returned v → Goes p e below T (F0 m pc ls st) T' (F0 m (pc + 3) ls (v.toList ++ rest))) ∧
    (∀ x, o = .threw x → ∀ tg, Steps p.tables e below ((T'.setTop (F0 m pc ls rest)).pushFrame (.throwing x)) tg → Steps p.tables e below (T.setTop (F0 m pc ls st)) tg)
theorem gm_runV {b : Addr} {As rest st : List Value} {pc : Nat} {ls : Array Slot} (S : Fx p s m args meth c cc nL own ret) (hM : Con l y f lo mc ms fr Pc Qc) (hbl : FrameBlind Pc) (V : Vw C y maxL n) (hlink : Cond.methodLink own index y ∈ gw)
    (hrecv : ∃ cellB : Cell, H[b]? = some cellB ∧ cellB.vm.isStatics = false ∧ s.vm.findClass C = some cellB.cls) (hPc : ∀ U : State, U.heap = H → s.WarmedH U.vm → Pc (Value.ref b :: As).toArray U)
    (hfr : f + 1 ≤ R.frames) (hlo : 16 + (maxL + 11) + lo ≤ R.locals) (hf : cells + mc ≤ R.cells ∧ slots + ms ≤ R.slots)
    (hn : As.length = n) (hsize : ls.size = nL) (hst : st = As.reverse ++ .ref b :: rest) (hW : (rest.map fun v => v.category).sum ≤ 16) (hdg : decode cc pc = .ok (.invokevirtual index, 3)) :
    GR p l e R s m args below meth c H locs cells slots mc ms fr pc ls st rest (Qc (Value.ref b :: As).toArray) := by
  intro T hT X
  obtain ⟨⟨hcd, hini, hy, hlen⟩, hin, hse⟩ := V
  obtain ⟨hx, hb, hml, ho, hts, -, -⟩ := S
  obtain ⟨cellB, hcB, hoB, hclB⟩ := hrecv
  obtain ⟨mk, methM, cM, hnamed, hmethM, hcM, hlM, hsigM⟩ := hcd args s hts
  obtain ⟨mk', methM', hnamed', hmethM', hstM, habM⟩ := Cond.instanceMethod_spec (hts _ hin)
  cases hnamed.symm.trans hnamed'
  cases hmethM.symm.trans hmethM'
  obtain ⟨c2, r2, m2, q1, q2, q3, q4, kP, hkP, hkPi⟩ := Cond.selects_spec (hts _ hse)
  cases hclB.symm.trans q1
  cases (State.methodFound?_of_named hnamed hy).symm.trans q2
  cases hnamed.symm.trans q3
  have hselP : selectMethod e.platform s.vm cellB.cls mk = .method mk := by rw [Launch.admits_selectMethod X.admits]; exact q4
  obtain ⟨vm₁, X₁, hstep₁⟩ := X.invokevirtual hx ho (hts _ hlink) hnamed hmethM hstM hkP hkPi hy (a := b) (cell := cellB) (by rw [hT]; exact hcB)
    (fun z h => by rw [h] at hoB; cases hoB) hselP hmethM habM hkP hkPi (g := F0 m pc ls st) rfl (argsL := As) (rest := rest) (hn.trans (cn_len ⟨hcd, hini, hy, hlen⟩ hsigM)) hst (by rw [hb]; exact hdg)
  obtain ⟨o, t, T', L, X', hL, e1, e2, hq, hsteps, h1, h2⟩ := gm_go X₁ hM hbl hts hnamed hmethM hcM hlM hini hfr hlo hf.1 hf.2 (g := F0 m pc ls rest) rfl (hsize.trans hml.symm) (ig := .invokevirtual index) (len := 3) (by rw [hb]; exact hdg) (by show 2 * 0 + (rest.map fun v => v.category).sum ≤ 16; omega) (a := (Value.ref b :: As).toArray) (hPc (T.setVm vm₁) hT X₁.warmed)
  refine ⟨o, (T.setVm vm₁).calling (F0 m pc ls rest) mk (Value.ref b :: As).toArray, t, T', L, hT, X₁.warmed, X', hL, e1, e2, hq, fun v hv tg hg => ?_, fun x hv tg hg => ?_⟩
  · rw [h1 v hv] at hsteps
    exact hstep₁ _ fun acts => by rw [doInvoke_state]; exact hsteps.trans hg
  · rw [h2 x hv] at hsteps
    exact hstep₁ _ fun acts => by rw [doInvoke_state]; exact hsteps.trans hg
theorem gm_runS {As rest st : List Value} {pc : Nat} {ls : Array Slot} (S : Fx p s m args meth c cc nL own ret) (hM : Con l y f lo mc ms fr Pc Qc) (hbl : FrameBlind Pc) (V : Sw y maxL n) (hlink : Cond.methodLink own index y ∈ gw)
    (hPc : ∀ U : State, U.heap = H → s.WarmedH U.vm → Pc As.toArray U)
    (hfr : f + 1 ≤ R.frames) (hlo : 16 + (maxL + 11) + lo ≤ R.locals) (hf : cells + mc ≤ R.cells ∧ slots + ms ≤ R.slots)
    (hn : As.length = n) (hsize : ls.size = nL) (hst : st = As.reverse ++ rest) (hW : (rest.map fun v => v.category).sum ≤ 16) (hdg : decode cc pc = .ok (.invokestatic index, 3)) :
    GR p l e R s m args below meth c H locs cells slots mc ms fr pc ls st rest (Qc As.toArray) := by
  intro T hT X
  obtain ⟨⟨hcd, hini, hy, hlen⟩, hstt⟩ := V
  obtain ⟨hx, hb, hml, ho, hts, -, -⟩ := S
  obtain ⟨mk, methM, cM, hnamed, hmethM, hcM, hlM, hsigM⟩ := hcd args s hts
  have hstatic : methM.isStatic = true := Cond.static_spec hnamed hmethM (hts _ hstt)
  obtain ⟨kP, hkP, -⟩ := className_of_methodNamed hnamed
  have hinitP : kP.init = .initialized := Cond.initialized_spec (findClass_of_methodNamed hnamed) hkP (hts _ hini)
  obtain ⟨vm₁, X₁, hstep₁⟩ := X.invokestatic hx ho (hts _ hlink) hnamed hmethM hstatic hkP hinitP hy (g := F0 m pc ls st) rfl (argsL := As) (rest := rest) (hn.trans (cn_len ⟨hcd, hini, hy, hlen⟩ hsigM)) hst (by rw [hb]; exact hdg)
  obtain ⟨o, t, T', L, X', hL, e1, e2, hq, hsteps, h1, h2⟩ := gm_go X₁ hM hbl hts hnamed hmethM hcM hlM hini hfr hlo hf.1 hf.2 (g := F0 m pc ls rest) rfl (hsize.trans hml.symm) (ig := .invokestatic index) (len := 3) (by rw [hb]; exact hdg) (by show 2 * 0 + (rest.map fun v => v.category).sum ≤ 16; omega) (a := As.toArray) (hPc (T.setVm vm₁) hT X₁.warmed)
  refine ⟨o, (T.setVm vm₁).calling (F0 m pc ls rest) mk As.toArray, t, T', L, hT, X₁.warmed, X', hL, e1, e2, hq, fun v hv tg hg => ?_, fun x hv tg hg => ?_⟩
  · rw [h1 v hv] at hsteps
    exact hstep₁ _ fun acts => by rw [doInvoke_state]; exact hsteps.trans hg
  · rw [h2 x hv] at hsteps
    exact hstep₁ _ fun acts => by rw [doInvoke_state]; exact hsteps.trans hg
/-- a constructor -/
theorem gm_runI {b : Addr} {As rest st : List Value} {pc : Nat} {ls : Array Slot} {bytes : ByteArray} (S : Fx p s m args meth c cc nL own ret) (hM : Con l y f lo mc ms fr Pc Qc) (hbl : FrameBlind Pc) (V : Cn y maxL n) (hy1 : y.name = "<init>") (hcode : Cond.code y bytes maxL none ∈ gw) (hin : Cond.instanceMethod y ∈ gw) (hlink : Cond.methodLink own index y ∈ gw)
    (hPc : ∀ U : State, U.heap = H → s.WarmedH U.vm → Pc (Value.ref b :: As).toArray U)
    (hfr : f + 1 ≤ R.frames) (hlo : 16 + (maxL + 11) + lo ≤ R.locals) (hf : cells + mc ≤ R.cells ∧ slots + ms ≤ R.slots)
    (hn : As.length = n) (hsize : ls.size = nL) (hst : st = As.reverse ++ .ref b :: rest) (hW : (rest.map fun v => v.category).sum ≤ 16) (hdg : decode cc pc = .ok (.invokespecial index, 3)) :
    GR p l e R s m args below meth c H locs cells slots mc ms fr pc ls st rest (Qc (Value.ref b :: As).toArray) := by
  intro T hT X
  obtain ⟨hcd, hini, hy, hlen⟩ := V
  obtain ⟨hx, hb, hml, ho, hts, -, -⟩ := S
  have hpl : e.platform.magicAccessors = ({} : Platform).magicAccessors := by rw [X.admits.platform]
  obtain ⟨mk, methM, cM, kP, vm₁, hnamed, hmethM, hcM, -, hlM, -, hkP, -, hW₁, hstep₁⟩ := Steps.initColdArgs (e := e) X.here hx X.warmed hpl ho hy1 hy (hts _ hlink) (hts _ hin) (hts _ hcode) (f := F0 m pc ls st) rfl (fun sig h => hn.trans (cn_len ⟨hcd, hini, hy, hlen⟩ h)) hst (by rw [hb]; exact hdg)
  have X₁ := X.noted hW₁
  obtain ⟨o, t, T', L, X', hL, e1, e2, hq, hsteps, h1, h2⟩ := gm_go X₁ hM hbl hts hnamed hmethM hcM hlM hini hfr hlo hf.1 hf.2 (g := F0 m pc ls rest) rfl (hsize.trans hml.symm) (ig := .invokespecial index) (len := 3) (by rw [hb]; exact hdg) (by show 2 * 0 + (rest.map fun v => v.category).sum ≤ 16; omega) (a := (Value.ref b :: As).toArray) (hPc (T.setVm vm₁) hT X₁.warmed)
  refine ⟨o, (T.setVm vm₁).calling (F0 m pc ls rest) mk (Value.ref b :: As).toArray, t, T', L, hT, X₁.warmed, X', hL, e1, e2, hq, fun v hv tg hg => ?_, fun x hv tg hg => ?_⟩
  · rw [h1 v hv] at hsteps
    exact hstep₁ _ fun acts => by rw [doInvoke_state]; exact hsteps.trans hg
  · rw [h2 x hv] at hsteps
    exact hstep₁ _ fun acts => by rw [doInvoke_state]; exact hsteps.trans hg
theorem W.mono {Q' : State → Prop} {g : JFrame} (h : ∀ t, Q t → Q' t) (k : W p l e R s m args below meth c H locs cells slots Q g) : W p l e R s m args below meth c H locs cells slots Q' g := by
  intro T hT X
  obtain ⟨t, a, b⟩ := k T hT X
  exact ⟨t, a, h t b⟩
theorem MQ.toMX {a : Array Value} (t : State) (h : MQ below Qc a s mc ms fr t) : MX below Qc a s mc ms fr t := by
  obtain ⟨o, h1, h2, h3, L, h4, h5⟩ := h
  exact ⟨o, h1, h2, h3, h4.2.1, L, h4.2.2, h5⟩
/-- a thrown state: the note lies over the method's own frame -/
def WT (p : Program) (l : Launch) (e : Env) (R : Room) (s : State) (m : MethodId) (args : Array Value) (below : List Frame) (meth : Method) (c : Code) (H : Heap) (locs : List Loc) (cells slots : Nat) (Q : State → Prop) (x : Addr) (g : JFrame) : Prop :=
  ∀ T : State, T.heap = H → Stand p l e R s m args below meth c T locs cells slots → ∃ t, Steps p.tables e below ((T.setTop g).pushFrame (.throwing x)) t ∧ Q t
/-- no handler: the method ends by it -/
theorem WT.leave {x : Addr} {pc : Nat} {ls : Array Slot} {rest : List Value} (hno : c.exceptionTable.toList = []) (hlk : meth.locks = false) (hq : ∀ t : State, t.heap = H → s.WarmedH t.vm → Qc args s (.threw x) t) (hf : ∀ q ∈ locs, fr q.base) :
    WT p l e R s m args below meth c H locs cells slots (MX below Qc args s cells slots fr) x (F0 m pc ls rest) := by
  intro T hT X
  obtain ⟨h1, h2, h3, h4, h5⟩ := X.leaveThrown x (g := F0 m pc ls rest) rfl rfl rfl (by rw [hno]; intro y hy; cases hy) hlk
  exact ⟨_, h1, .threw x, h2, h3, hq _ hT h4, h4, locs, h5, hf⟩
/-- the search through a row that names a linked type, taken or not; the entry is noted -/
theorem gm_goRow {a : Addr} {e : Env} {S : State} {g : JFrame} {d : Bool} {acts : List Action} {E : CtlPost} {Qh : Handler → Pre} {x : ExceptionTableEntry} {t : List ExceptionTableEntry} {k : ClassId} {cell : Cell} (hx : covers x g.pc = true) (h0 : x.catchType ≠ 0)
    (hl : S.vm.ClassLinks e.platform g.method.cls x.catchType k) (hcell : S.heap[a]? = some cell) (hobj : ∀ z, cell.vm ≠ .statics z) (hk : ∃ z, S.vm.classes[cell.cls]? = some z) (hc : ∃ z, S.vm.classes[k]? = some z) :
    wp (findHandler.go g a (x :: t)) Qh E e d acts S ↔ if S.vm.assignable cell.cls k = true then Qh (.found x.handlerPc) d acts (S.setVm (S.vm.noted g.method.cls x.catchType (.cls k))) else wp (findHandler.go g a t) Qh E e d acts (S.setVm (S.vm.noted g.method.cls x.catchType (.cls k))) := by
  simp only [covers] at hx
  obtain ⟨ha, ht⟩ := (resolveClass_links e.toSetting hl).op (op := VmOp.resolveClass g.method.cls x.catchType) rfl
  have hal : S.vm.Alike (S.vm.noted g.method.cls x.catchType (.cls k)) := (Vm.Alike.refl S.vm).noted _ _ _
  obtain ⟨k1, hk1⟩ := hk
  obtain ⟨k2, hk2⟩ := hc
  obtain ⟨k1', hk1', -⟩ := hal.2.2 _ _ hk1
  obtain ⟨k2', hk2', -⟩ := hal.2.2 _ _ hk2
  have has : (S.vm.noted g.method.cls x.catchType (.cls k)).assignable cell.cls k = S.vm.assignable cell.cls k := by rw [hal.assignable]
  cases hfit : S.vm.assignable cell.cls k <;>
    simp [findHandler.go, hx, h0, ha, ht, hcell, hobj, hk1', hk2', has, hfit, VmOp.dirties, VmOp.acts]
/-- what a found handler gives, the tables moved on -/
theorem gm_caught {tb : Tables} {S target : State} {g : JFrame} {a : Addr} {e : Env} (h : At S g.method c below) {pc : Nat} {vm' : Vm}
    (hfind : ∀ (Qh : Handler → Pre) (E : CtlPost) (d : Bool) (acts : List Action), wp (findHandler g a) Qh E e d acts ((S.setTop g).pushFrame (.throwing a)) ↔ Qh (.found pc) d acts (((S.setTop g).pushFrame (.throwing a)).setVm vm'))
    (hrest : Steps tb e below ((S.setVm vm').setTop { g with pc := pc, stack := [.ref a] }) target) : Steps tb e below ((S.setTop g).pushFrame (.throwing a)) target := by
  obtain ⟨hgo, hw⟩ := h.throwing a
  refine Steps.head hgo hw ?_
  rw [stepThread_throwing (frames_entered h.top _)]
  have h2 : (stepThrowing e ((S.setTop g).pushFrame (.throwing a)) a (.java g :: S.frames.tail)).1 = (((S.setTop g).pushFrame (.throwing a)).setVm vm').setFrames (.java { g with pc := pc, stack := [.ref a] } :: S.frames.tail) := by
    simp only [stepThrowing, searchFrame, vmDo]
    generalize hr : Sem.go _ e false [] ((S.setTop g).pushFrame (.throwing a)) = res
    obtain ⟨as, rfl, ha⟩ := Sem.eq_ok_of hr (a := Handler.found pc) (s' := ((S.setTop g).pushFrame (.throwing a)).setVm vm') (acts' := []) (by simp [hfind _ _ _ _])
    rfl
  rw [h2]
  obtain ⟨g₀, hg⟩ := Option.isSome_iff_exists.mp h.top
  obtain ⟨r, hr⟩ := State.topJava?_eq_some.mp hg
  have hr' : (S.setVm vm').frames = .java g₀ :: r := hr
  rw [State.setTop_of_frames _ hr'] at hrest
  have e1 : ∀ F G : List Frame, ((S.setFrames F).setVm vm').setFrames G = (S.setVm vm').setFrames G := fun F G => by
    have h1 : (S.setFrames F).setVm vm' = (S.setVm vm').setFrames F := rfl
    rw [h1, State.setFrames_setFrames]
  have e2 : (S.setTop g).pushFrame (.throwing a) = S.setFrames (.throwing a :: .java g :: r) := by
    rw [State.pushFrame, State.setTop_of_frames _ hr, State.setFrames_setFrames, State.frames_setFrames _ (State.cur_lt_of_frames hr)]
  rw [e2, e1, hr, List.tail_cons]
  exact hrest
/-- caught by the first row -/
theorem WT.catch1 {x : Addr} {pc a b hd ct : Nat} {tl : List (Nat × Nat × Nat × Nat)} {ls : Array Slot} {rest : List Value} {N : String} {cell : Cell} (S : Fx p s m args meth c cc nL own ret) (htab : c.exceptionTable.toList.map (fun h => (h.startPc, h.endPc, h.handlerPc, h.catchType)) = (a, b, hd, ct) :: tl)
    (h1 : a ≤ pc ∧ pc < b) (h0 : ct ≠ 0) (hlink : Cond.classLink own ct N ∈ gw) (hcell : H[x]? = some cell) (hvm : cell.vm = .none) {k : ClassId} (hN : s.vm.findClass N = some k) (hfit : s.vm.assignable cell.cls k = true)
    (kk : W p l e R s m args below meth c H locs cells slots Q (F0 m hd ls [.ref x])) : WT p l e R s m args below meth c H locs cells slots Q x (F0 m pc ls rest) := by
  intro T hT X
  obtain ⟨hx, hb, hml, ho, hts, -, -⟩ := S
  have hpl : e.platform.magicAccessors = ({} : Platform).magicAccessors := by rw [X.admits.platform]
  obtain ⟨r0, rs, hspl⟩ : ∃ r0 rs, c.exceptionTable.toList = r0 :: rs := by
    cases hz : c.exceptionTable.toList with
    | nil => rw [hz] at htab; cases htab
    | cons r0 rs => exact ⟨r0, rs, rfl⟩
  rw [hspl, List.map_cons, List.cons.injEq, Prod.mk.injEq, Prod.mk.injEq, Prod.mk.injEq] at htab
  obtain ⟨⟨e1, e2, e3, e4⟩, -⟩ := htab
  obtain ⟨k', hk', hcl⟩ := Cond.classLink_spec ho (hts _ hlink) e.platform hpl
  cases hN.symm.trans hk'
  obtain ⟨dk, _, _, kt, hd', _, _, _, _, hkt, _, hopen⟩ := hcl.here
  have hal := X.warmed.alike
  obtain ⟨kt', hkt', -⟩ := hal.2.2 _ _ hkt
  have hfit' : T.vm.assignable cell.cls k = true := by rw [hal.assignable]; exact hfit
  have hW' : s.WarmedH (T.vm.noted m.cls ct (.cls k)) := X.warmed.noted hd' hopen (State.rightAt_cls hcl)
  obtain ⟨t, a1, b1⟩ := kk (T.setVm (T.vm.noted m.cls ct (.cls k))) hT (X.noted hW')
  refine ⟨t, ?_, b1⟩
  refine gm_caught (c := c) (g := F0 m pc ls rest) X.here (pc := hd) (vm' := T.vm.noted m.cls ct (.cls k)) (fun Qh E d acts => ?_) a1
  rw [W.findHandler_eq (meth := meth) (code := c) X.method' X.code, hspl, gm_goRow (S := (T.setTop (F0 m pc ls rest)).pushFrame (.throwing x)) (g := F0 m pc ls rest) (a := x) (k := k) (cell := cell) (by simp only [covers, e1, e2, Bool.and_eq_true, decide_eq_true_eq]; exact h1) (by rw [e4]; exact h0) (by rw [e4]; exact X.warmed.classLinks hcl) (by rw [← hT] at hcell; exact hcell) (fun z => by rw [hvm]; intro h; cases h) (Vm.classAt_of_assignable hfit' ⟨kt', hkt'⟩) ⟨kt', hkt'⟩, e3, e4]
  have hfit3 : ((T.setTop (F0 m pc ls rest)).pushFrame (.throwing x)).vm.assignable cell.cls k = true := hfit'
  rw [if_pos hfit3]
  exact Iff.rfl
/-- passed by the first row, caught by the second -/
theorem WT.catch2 {x : Addr} {pc a b hd ct a2 b2 hd2 ct2 : Nat} {tl : List (Nat × Nat × Nat × Nat)} {ls : Array Slot} {rest : List Value} {N N2 : String} {cell : Cell} (S : Fx p s m args meth c cc nL own ret) (htab : c.exceptionTable.toList.map (fun h => (h.startPc, h.endPc, h.handlerPc, h.catchType)) = (a, b, hd, ct) :: (a2, b2, hd2, ct2) :: tl)
    (h1 : a ≤ pc ∧ pc < b) (h0 : ct ≠ 0) (h12 : a2 ≤ pc ∧ pc < b2) (h02 : ct2 ≠ 0) (hlink : Cond.classLink own ct N ∈ gw) (hlink2 : Cond.classLink own ct2 N2 ∈ gw) (hcell : H[x]? = some cell) (hvm : cell.vm = .none) {k k2 : ClassId} (hN : s.vm.findClass N = some k) (hno : s.vm.assignable cell.cls k = false) (hN2 : s.vm.findClass N2 = some k2) (hfit : s.vm.assignable cell.cls k2 = true)
    (kk : W p l e R s m args below meth c H locs cells slots Q (F0 m hd2 ls [.ref x])) : WT p l e R s m args below meth c H locs cells slots Q x (F0 m pc ls rest) := by
  intro T hT X
  obtain ⟨hx, hb, hml, ho, hts, -, -⟩ := S
  have hpl : e.platform.magicAccessors = ({} : Platform).magicAccessors := by rw [X.admits.platform]
  obtain ⟨r0, r1, rs, hspl⟩ : ∃ r0 r1 rs, c.exceptionTable.toList = r0 :: r1 :: rs := by
    cases hz : c.exceptionTable.toList with
    | nil => rw [hz] at htab; cases htab
    | cons r0 rs =>
      cases rs with
      | nil => rw [hz] at htab; cases htab
      | cons r1 rs => exact ⟨r0, r1, rs, rfl⟩
  rw [hspl, List.map_cons, List.map_cons, List.cons.injEq, List.cons.injEq, Prod.mk.injEq, Prod.mk.injEq, Prod.mk.injEq, Prod.mk.injEq, Prod.mk.injEq, Prod.mk.injEq] at htab
  obtain ⟨⟨e1, e2, e3, e4⟩, ⟨f1, f2, f3, f4⟩, -⟩ := htab
  obtain ⟨k', hk', hcl⟩ := Cond.classLink_spec ho (hts _ hlink) e.platform hpl
  cases hN.symm.trans hk'
  obtain ⟨k2', hk2', hcl2⟩ := Cond.classLink_spec ho (hts _ hlink2) e.platform hpl
  cases hN2.symm.trans hk2'
  obtain ⟨dk, _, _, kt, hd', _, _, _, _, hkt, _, hopen⟩ := hcl.here
  obtain ⟨dk2, _, _, kt2, hd2', _, _, _, _, hkt2, _, hopen2⟩ := hcl2.here
  have hal := X.warmed.alike
  obtain ⟨kt', hkt', -⟩ := hal.2.2 _ _ hkt
  have hno' : T.vm.assignable cell.cls k = false := by rw [hal.assignable]; exact hno
  have hW' : s.WarmedH (T.vm.noted m.cls ct (.cls k)) := X.warmed.noted hd' hopen (State.rightAt_cls hcl)
  have hal2 := hW'.alike
  obtain ⟨kt2', hkt2', -⟩ := hal2.2.2 _ _ hkt2
  obtain ⟨kt2T, hkt2T, -⟩ := hal.2.2 _ _ hkt2
  have hfitT : T.vm.assignable cell.cls k2 = true := by rw [hal.assignable]; exact hfit
  have hfit2 : (T.vm.noted m.cls ct (.cls k)).assignable cell.cls k2 = true := by rw [hal2.assignable]; exact hfit
  have hW2 : s.WarmedH ((T.vm.noted m.cls ct (.cls k)).noted m.cls ct2 (.cls k2)) := hW'.noted hd2' hopen2 (State.rightAt_cls hcl2)
  obtain ⟨t, a1, b1⟩ := kk (T.setVm ((T.vm.noted m.cls ct (.cls k)).noted m.cls ct2 (.cls k2))) hT (X.noted hW2)
  refine ⟨t, ?_, b1⟩
  refine gm_caught (c := c) (g := F0 m pc ls rest) X.here (pc := hd2) (vm' := (T.vm.noted m.cls ct (.cls k)).noted m.cls ct2 (.cls k2)) (fun Qh E d acts => ?_) a1
  rw [W.findHandler_eq (meth := meth) (code := c) X.method' X.code, hspl, gm_goRow (S := (T.setTop (F0 m pc ls rest)).pushFrame (.throwing x)) (g := F0 m pc ls rest) (a := x) (k := k) (cell := cell) (by simp only [covers, e1, e2, Bool.and_eq_true, decide_eq_true_eq]; exact h1) (by rw [e4]; exact h0) (by rw [e4]; exact X.warmed.classLinks hcl) (by rw [← hT] at hcell; exact hcell) (fun z => by rw [hvm]; intro h; cases h) (Vm.classAt_of_assignable hfitT ⟨kt2T, hkt2T⟩) ⟨kt', hkt'⟩, e4]
  have hno2 : ¬ ((T.setTop (F0 m pc ls rest)).pushFrame (.throwing x)).vm.assignable cell.cls k = true := by
    show ¬ T.vm.assignable cell.cls k = true
    rw [hno']; decide
  rw [if_neg hno2]
  refine Iff.trans (gm_goRow (S := ((T.setTop (F0 m pc ls rest)).pushFrame (.throwing x)).setVm (T.vm.noted m.cls ct (.cls k))) (g := F0 m pc ls rest) (a := x) (x := r1) (t := rs) (k := k2) (cell := cell) (by simp only [covers, f1, f2, Bool.and_eq_true, decide_eq_true_eq]; exact h12) (by rw [f4]; exact h02) (by rw [f4]; exact hW'.classLinks hcl2) (by rw [← hT] at hcell; exact hcell) (fun z => by rw [hvm]; intro h; cases h) (Vm.classAt_of_assignable hfit2 ⟨kt2', hkt2'⟩) ⟨kt2', hkt2'⟩) ?_
  have hfit3 : (((T.setTop (F0 m pc ls rest)).pushFrame (.throwing x)).setVm (T.vm.noted m.cls ct (.cls k))).vm.assignable cell.cls k2 = true := hfit2
  rw [if_pos hfit3, f3, f4]
  exact Iff.rfl
end GmR
end
section
/-! The picture of the system: 27 cells; rows for its fields and arrays; rows for calls by contract (printed by gen/rows.py) -/
section GmS
def bi (b : Bool) : Int32 := if b then 1 else 0
theorem bi_t : bi true = 1 := rfl
theorem bi_f : bi false = 0 := rfl
theorem bi_0 {b : Bool} : bi b = 0 ↔ b = false := by cases b <;> simp [bi]
theorem bi_n {b : Bool} : ¬ bi b = 0 ↔ b = true := by cases b <;> simp [bi]
theorem bi_nar (b : Bool) : narrow .boolean (.int (bi b)) = .int (bi b) := by cases b <;> rfl
theorem bi_fit (b : Bool) : fits .boolean (.int (bi b)) = true := by cases b <;> rfl
theorem bi_vp (b : Bool) : vp_nar .boolean (bi b) = bi b := by cases b <;> rfl
/-- a grant: address, base, top, permissions, type, tag -/
abbrev Gr : Type := Nat × Nat × Nat × Nat × Nat × Bool
abbrev qa (r : Gr) : Nat := r.1
abbrev qb (r : Gr) : Nat := r.2.1
abbrev qt (r : Gr) : Nat := r.2.2.1
abbrev qp (r : Gr) : Nat := r.2.2.2.1
abbrev qy (r : Gr) : Nat := r.2.2.2.2.1
abbrev qg (r : Gr) : Bool := r.2.2.2.2.2
def sA (r : Gr) (v : Nat) : Gr := (v, r.2)
def sB (r : Gr) (v : Nat) : Gr := (qa r, v, r.2.2)
def sT (r : Gr) (v : Nat) : Gr := (qa r, qb r, v, r.2.2.2)
def sP (r : Gr) (v : Nat) : Gr := (qa r, qb r, qt r, v, r.2.2.2.2)
def sY (r : Gr) (v : Nat) : Gr := (qa r, qb r, qt r, qp r, v, qg r)
def sG (r : Gr) (v : Bool) : Gr := (qa r, qb r, qt r, qp r, qy r, v)
def gl (r : Gr) : List Value := [.long (lN (qa r)), .long (lN (qb r)), .long (lN (qt r)), .int (nI (qp r)), .int (nI (qy r)), .int (bi (qg r))]
def up {α : Type} (f : Nat → α) (k : Nat) (v : α) : Nat → α := fun j => if j = k then v else f j
theorem up_s {α : Type} (f : Nat → α) (k : Nat) (v : α) : up f k v k = v := by simp [up]
theorem up_n {α : Type} (f : Nat → α) {k j : Nat} (v : α) (h : j ≠ k) : up f k v j = f j := by simp [up, h]
theorem up_up {α : Type} (f : Nat → α) (k : Nat) (v w : α) : up (up f k v) k w = up f k w := by
  funext j; by_cases h : j = k <;> simp [up, h]
/-- the state: the grants of GrantMath (16: made), the rows of the model, err, out[0] -/
abbrev Sg : Type := (Nat → Gr) × (Nat → Gr) × Int32 × Int64
/-- the place: the tables' numbers, the classes of arrays (long, int, boolean, Grant), the addresses, where new cells begin -/
abbrev Cx : Type := va_G × (Nat → ClassId) × (Nat → Nat) × Nat
def ad (c : Cx) (k : Nat) : Nat := c.2.2.1 k
def ent (c : Cx) (σ : Sg) (k : Nat) : va_E :=
  if k < 17 then .inr (0, gl (σ.1 k))
  else if k = 17 then .inr (1, [.ref (ad c 18), .ref (ad c 16)])
  else if k = 18 then .inl (c.2.1 3, 16, .inr (.inr (.inr (.inr (fun j => some (ad c j))))))
  else if k = 19 then .inr (2, [.int σ.2.2.1, .ref (ad c 20), .ref (ad c 21), .ref (ad c 22), .ref (ad c 23), .ref (ad c 24), .ref (ad c 25)])
  else if k = 20 then .inl (c.2.1 0, 16, .inr (.inl (fun j => lN (qa (σ.2.1 j)))))
  else if k = 21 then .inl (c.2.1 0, 16, .inr (.inl (fun j => lN (qb (σ.2.1 j)))))
  else if k = 22 then .inl (c.2.1 0, 16, .inr (.inl (fun j => lN (qt (σ.2.1 j)))))
  else if k = 23 then .inl (c.2.1 1, 16, .inl (fun j => nI (qp (σ.2.1 j))))
  else if k = 24 then .inl (c.2.1 1, 16, .inl (fun j => nI (qy (σ.2.1 j))))
  else if k = 25 then .inl (c.2.1 2, 16, .inl (fun j => bi (qg (σ.2.1 j))))
  else .inl (c.2.1 0, 1, .inr (.inl (fun j => if j = 0 then σ.2.2.2 else 0)))
def wl (c : Cx) (σ : Sg) : va_W := (List.range 27).map (fun k => (ad c k, ent c σ k))
theorem wl_at {c : Cx} {σ : Sg} {k : Nat} (hk : k < 27) : (wl c σ)[k]? = some (ad c k, ent c σ k) := by
  simp [wl, hk]
theorem wl_set {c : Cx} {σ σ' : Sg} {k : Nat} {e : va_E} (hk : k < 27) (he : ent c σ' k = e) (ho : ∀ j, j < 27 → j ≠ k → ent c σ' j = ent c σ j) : (wl c σ).set k (ad c k, e) = wl c σ' := by
  apply List.ext_getElem?
  intro j
  by_cases hj : j < 27
  · rw [wl_at hj]
    by_cases hjk : j = k
    · subst hjk
      rw [List.getElem?_set_self (by simp [wl]; omega), he]
    · rw [List.getElem?_set_ne (Ne.symm hjk), wl_at hj, ho j hj hjk]
  · rw [List.getElem?_eq_none (by simp [wl]; omega), List.getElem?_eq_none (by simp [wl]; omega)]
def gA (b : Nat) : Nat → Prop := fun q => b ≤ q
def Cg (c : Cx) : Prop := (∀ i j, i < 27 → j < 27 → ad c i = ad c j → i = j) ∧ ∀ i, i < 27 → c.2.2.2 ≤ ad c i
theorem wl_lt {c : Cx} {σ : Sg} {k : Nat} {q : Nat × va_E} (h : (wl c σ)[k]? = some q) : k < 27 := by
  have := (List.getElem?_eq_some_iff.mp h).1
  simpa [wl] using this
theorem wl_D {c : Cx} {σ : Sg} (hc : Cg c) : va_D (gA c.2.2.2) (wl c σ) := by
  refine ⟨fun i j x y hi hj hxy => ?_, fun k q hk => ?_⟩
  · have h1 := wl_lt hi
    have h2 := wl_lt hj
    rw [wl_at h1] at hi
    rw [wl_at h2] at hj
    cases hi; cases hj
    exact hc.1 i j h1 h2 hxy
  · have h1 := wl_lt hk
    rw [wl_at h1] at hk
    cases hk
    exact hc.2 k h1
abbrev R_G : String := "GrantMath$Grant"
abbrev R_X : String := "GrantMath"
abbrev R_M : String := "GrantMathModel"
def F_G : u_T := fun k => match k with
  | 0 => (R_G, "address", "J", false)
  | 1 => (R_G, "base", "J", false)
  | 2 => (R_G, "top", "J", false)
  | 3 => (R_G, "permissions", "I", false)
  | 4 => (R_G, "type", "I", false)
  | _ => (R_G, "tag", "Z", false)
def t_G : Nat → FieldType := fun k => match k with
  | 0 => .long
  | 1 => .long
  | 2 => .long
  | 3 => .int
  | 4 => .int
  | _ => .boolean
def F_X : u_T := fun k => match k with
  | 0 => (R_X, "grants", "[LGrantMath$Grant;", true)
  | _ => (R_X, "made", "LGrantMath$Grant;", true)
def t_X : Nat → FieldType := fun k => match k with
  | 0 => .array (.object R_G)
  | _ => .object R_G
def F_M : u_T := fun k => match k with
  | 0 => (R_M, "err", "I", false)
  | 1 => (R_M, "address", "[J", true)
  | 2 => (R_M, "base", "[J", true)
  | 3 => (R_M, "top", "[J", true)
  | 4 => (R_M, "permissions", "[I", true)
  | 5 => (R_M, "type", "[I", true)
  | _ => (R_M, "tag", "[Z", true)
def t_M : Nat → FieldType := fun k => match k with
  | 0 => .int
  | 1 => .array .long
  | 2 => .array .long
  | 3 => .array .long
  | 4 => .array .int
  | 5 => .array .int
  | _ => .array .boolean
abbrev cls0 : List vw_C := [(R_G, F_G, 6), (R_X, F_X, 2), (R_M, F_M, 7)]
theorem in_G : ∀ w ∈ u_ws R_G F_G 6, w ∈ gw := by decide +kernel
theorem in_X : ∀ w ∈ u_ws R_X F_X 2, w ∈ gw := by decide +kernel
theorem in_M : ∀ w ∈ u_ws R_M F_M 7, w ∈ gw := by decide +kernel
theorem n_G : ∀ a, a < 6 → ∀ b, b < 6 → a ≠ b → (F_G a).2.1 ≠ (F_G b).2.1 := by decide +kernel
theorem n_X : ∀ a, a < 2 → ∀ b, b < 2 → a ≠ b → (F_X a).2.1 ≠ (F_X b).2.1 := by decide +kernel
theorem n_M : ∀ a, a < 7 → ∀ b, b < 7 → a ≠ b → (F_M a).2.1 ≠ (F_M b).2.1 := by decide +kernel
theorem t_G_ok : ∀ k, k < 6 → parseFieldDescriptor (F_G k).2.2.1 = some (t_G k) := by decide +kernel
theorem t_X_ok : ∀ k, k < 2 → parseFieldDescriptor (F_X k).2.2.1 = some (t_X k) := by decide +kernel
theorem t_M_ok : ∀ k, k < 7 → parseFieldDescriptor (F_M k).2.2.1 = some (t_M k) := by decide +kernel
def tys (c : Cx) : List (ClassId × FieldType) := [(c.2.1 0, .long), (c.2.1 1, .int), (c.2.1 2, .boolean), (c.2.1 3, .object R_G)]
/-- a static of Throwable that the throws read: it lies below b, and holds a reference or null -/
def Zf (n d : String) (b : Nat) (U : State) (H : Heap) : Prop := ∃ (c : ClassId) (k : Class) (i : Nat) (f : Field) (a : Nat) (cell : Cell) (v : Value), U.vm.findClass "java/lang/Throwable" = some c ∧ U.fieldFound? "java/lang/Throwable" n d = some (c, k, i, f) ∧ f.isStatic = true ∧ k.statics = some a ∧ H[a]? = some cell ∧ cell.vm.isStatics = true ∧ cell.cls = c ∧
  f.slot < cell.slots.size ∧ k.staticTypes[f.slot]? = some f.type ∧ cell.slots[f.slot]? = some v ∧ (v = .null ∨ ∃ t, v = .ref t) ∧ a < b
theorem Zf.moved {n d : String} {b : Nat} {u U : State} {H : Heap} (hvm : u.vm.Alike U.vm) (h : Zf n d b u H) : Zf n d b U H := by
  obtain ⟨c, k, i, f, a, cell, v, h0, h1, h2, h3, h4, h5, h6, h7, h8, h9⟩ := h
  obtain ⟨k', hi', he⟩ := State.fieldFound?_setVm hvm h1
  exact ⟨c, k', i, f, a, cell, v, by rw [hvm.findClass]; exact h0, hi', h2, by rw [he]; exact h3, h4, h5, h6, h7, by rw [he]; exact h8, h9⟩
theorem Zf.kept {n d : String} {b : Nat} {U : State} {H H1 : Heap} (h : Zf n d b U H) (hq : ∀ a : Nat, a < H.size → ¬ gA b a → H1[a]? = H[a]?) : Zf n d b U H1 := by
  obtain ⟨c, k, i, f, a, cell, v, h0, h1, h2, h3, h4, h5, h6, h7, h8, h9, h10, h11⟩ := h
  exact ⟨c, k, i, f, a, cell, v, h0, h1, h2, h3, by rw [hq a (Array.getElem?_eq_some_iff.mp h4).1 (Nat.not_le.mpr h11)]; exact h4, h5, h6, h7, h8, h9, h10, h11⟩
theorem Zf.of {args : Array Value} {s : State} {n d : String} {b : Nat} (hl : (Cond.laysStatic "java/lang/Throwable" n d).before args s = true) (h : (Cond.isRef (.static "java/lang/Throwable" n d)).before args s = true) (hb : s.heap.size ≤ b) : Zf n d b s s.heap := by
  obtain ⟨c, k, i, f, a, cell, hc, hi, hst, ha, hcell, hs, hcls, hlt, hty⟩ := Cond.laysStatic_spec hl
  cases hv : (Term.static "java/lang/Throwable" n d).eval args s none [] s with
  | none => simp [Cond.before, Cond.holds, Cond.value, hv] at h
  | some w =>
    obtain ⟨hst', a', cell', ha', hcell', -, hslot⟩ := Term.static_spec hi hv
    cases ha.symm.trans ha'
    cases hcell.symm.trans hcell'
    simp only [Cond.before, Cond.holds, Cond.value, hv] at h
    refine ⟨c, k, i, f, a, cell, w, hc, hi, hst, ha, hcell, hs, hcls, hlt, hty, hslot, ?_, Nat.lt_of_lt_of_le (Array.getElem?_eq_some_iff.mp hcell).1 hb⟩
    cases w with
    | null => exact Or.inl rfl
    | ref t => exact Or.inr ⟨t, rfl⟩
    | _ => simp at h
theorem Zf.lays {args : Array Value} {s : State} {n d : String} {b : Nat} (h : Zf n d b s s.heap) : (Cond.laysStatic "java/lang/Throwable" n d).before args s = true := by
  obtain ⟨c, k, i, f, a, cell, v, h0, h1, h2, h3, h4, h5, h6, h7, h8, -⟩ := h
  simp [Cond.before, Cond.holds, Cond.value, h0, h1, h2, h3, h4, h5, h6, h7, h8]
theorem Zf.isRef {args : Array Value} {s : State} {n d : String} {b : Nat} (h : Zf n d b s s.heap) : (Cond.isRef (.static "java/lang/Throwable" n d)).before args s = true := by
  obtain ⟨c, k, i, f, a, cell, v, h0, h1, h2, h3, h4, h5, h6, h7, h8, h9, h10, -⟩ := h
  have hv : (Term.static "java/lang/Throwable" n d).eval args s none [] s = some v := by
    simp [Term.eval, State.fieldNamed?, h1, h2, h3, h4, h5, h9]
  rcases h10 with rfl | ⟨t, rfl⟩ <;> simp [Cond.before, Cond.holds, Cond.value, hv]
abbrev zU : String := "[Ljava/lang/StackTraceElement;"
abbrev zL : String := "Ljava/util/List;"
/-- what the tables and the old heap say, for as long as the law runs -/
def Sk (c : Cx) (U : State) (H : Heap) : Prop := va_K c.1 cls0 (tys c) U ∧ Zf "UNASSIGNED_STACK" zU c.2.2.2 U H ∧ Zf "SUPPRESSED_SENTINEL" zL c.2.2.2 U H
theorem Sk.moved {c : Cx} {u U : State} {H : Heap} (hvm : u.vm.Alike U.vm) (h : Sk c u H) : Sk c U H := ⟨va_K.moved hvm h.1, h.2.1.moved hvm, h.2.2.moved hvm⟩
theorem Sk.kept {c : Cx} {U : State} {H H1 : Heap} (h : Sk c U H) (hq : ∀ a : Nat, a < H.size → ¬ gA c.2.2.2 a → H1[a]? = H[a]?) : Sk c U H1 := ⟨h.1, h.2.1.kept hq, h.2.2.kept hq⟩
def sys (c : Cx) (σ : Sg) (H : Heap) : Prop := va_P c.1 cls0 (wl c σ) H
/-- the walk's own picture -/
def Ok (c : Cx) (s : State) (σ : Sg) (H : Heap) (locs : List Loc) : Prop := sys c σ H ∧ va_S (gA c.2.2.2) s.heap H locs
def Sp (c : Cx) (σ : Sg) (av : List Value) : Array Value → State → Prop := fun v U => v = av.toArray ∧ sys c σ U.heap ∧ Sk c U U.heap
theorem sp_blind {c : Cx} {σ : Sg} {av : List Value} : FrameBlind (Sp c σ av) := fun a U g mk h => ⟨h.1, h.2.1, h.2.2.moved (U := U.calling g mk a) (Vm.Alike.refl U.vm)⟩
theorem sp_of {c : Cx} {s : State} {σ : Sg} {H : Heap} {locs : List Loc} {av : List Value} (hO : Ok c s σ H locs) (hK : Sk c s s.heap) : ∀ U : State, U.heap = H → s.WarmedH U.vm → Sp c σ av av.toArray U := fun U hU hW =>
  ⟨rfl, by rw [hU]; exact hO.1, by rw [hU]; exact (hK.moved hW.alike).kept hO.2.2.1⟩
abbrev Rs : Type := Option Value ⊕ Nat
def exN (k : Nat) : String := if k = 0 then n_ia else n_io
/-- how a method ends: it answers, or it throws an exception of that kind; the picture behind it; nothing old below b is touched -/
def Sq (c : Cx) (r : Rs) (σ' : Sg) : Array Value → State → Outcome → State → Prop := fun _ st o t =>
  (match r with
    | .inl v => o = .returned v
    | .inr k => ∃ (x : Addr) (cell : Cell), o = .threw x ∧ t.heap[x]? = some cell ∧ cell.vm = .none ∧ st.vm.findClass (exN k) = some cell.cls) ∧ sys c σ' t.heap ∧ va_F (gA c.2.2.2) st t
def CT (l : Launch) (c : Cx) (y : MethodName) (f lo mc ms : Nat) (av : List Value) (σ : Sg) (r : Rs) (σ' : Sg) : Prop := Con l y f lo mc ms (gA c.2.2.2) (Sp c σ av) (Sq c r σ')
def Pq (v : Option Value) : Array Value → State → Outcome → State → Prop := fun _ st o t => o = .returned v ∧ t.heap = st.heap
def CP (l : Launch) (c : Cx) (y : MethodName) (f lo : Nat) (av : List Value) (σ : Sg) (v : Option Value) : Prop := Con l y f lo 0 0 (fun _ => False) (Sp c σ av) (Pq v)
theorem vin0 : vp_in 0 1 := by rw [← nI_0]; exact vp_in_nI (by decide) (by decide)
theorem ent_G {c : Cx} {σ : Sg} {i : Nat} (hi : i < 17) : ent c σ i = .inr (0, gl (σ.1 i)) := by unfold ent; rw [if_pos hi]
theorem wl_G {c : Cx} {σ : Sg} {i : Nat} (hi : i < 17) : (wl c σ)[i]? = some (ad c i, .inr (0, gl (σ.1 i))) := by rw [wl_at (by omega), ent_G hi]
theorem set_G {c : Cx} {σ : Sg} {i : Nat} (hi : i < 17) (g : Gr) : (wl c σ).set i (ad c i, .inr (0, gl g)) = wl c (up σ.1 i g, σ.2) := by
  refine wl_set (by omega) (by rw [ent_G hi]; simp [up]) (fun j hj hne => ?_)
  by_cases h : j < 17
  · rw [ent_G h, ent_G h]; simp [up, hne]
  · unfold ent; rw [if_neg h, if_neg h]
theorem set_M {c : Cx} {σ : Sg} {k : Nat} {e : va_E} {M' : Nat → Gr} {x : Int32} {o : Int64} (hk : k < 27) (h17 : 17 ≤ k) (he : ent c (σ.1, M', x, o) k = e) (ho : ∀ j, j < 27 → j ≠ k → 17 ≤ j → ent c (σ.1, M', x, o) j = ent c σ j) : (wl c σ).set k (ad c k, e) = wl c (σ.1, M', x, o) := by
  refine wl_set hk he (fun j hj hne => ?_)
  by_cases h : j < 17
  · rw [ent_G h, ent_G h]
  · exact ho j hj hne (by omega)
end GmS
section GmA
variable {p : Program} {l : Launch} {e : Env} {R : Room} {s : State} {m : MethodId} {args : Array Value} {below : List Frame} {meth : Method} {c : Code} {H : Heap} {locs : List Loc} {cells slots : Nat} {Q : State → Prop}
variable {cc : ByteArray} {own : String} {ret : Option FieldType} {nL index pc : Nat} {ls : Array Slot} {rest : List Value} {cx : Cx} {σ : Sg}
theorem gg_address (S : Fx p s m args meth c cc nL own ret) (hK : Sk cx s s.heap) (hO : Ok cx s σ H locs) {i : Nat} (hi : i < 17) {g : Gr} (hg : σ.1 i = g) (hl : Cond.fieldLink own index R_G "address" "J" ∈ gw) (hdg : decode cc pc = .ok (.getfield index, 3)) (kk : W p l e R s m args below meth c H locs cells slots Q (F0 m (pc + 3) ls (.long (lN (qa g)) :: rest))) : W p l e R s m args below meth c H locs cells slots Q (F0 m pc ls (.ref (ad cx i) :: rest)) := by
  subst hg
  exact (
  va_get (D := cx.1) (cl := cls0) (tys := tys cx) (ws := wl cx σ) (C := R_G) (T := F_G) (N := 6) (ci := 0) S.1 S.2.1 S.2.2.2.2.1 in_G S.2.2.2.1 hK.1 hO.1 i (wl_G hi) rfl 0 (by decide) (S.2.2.2.2.1 _ hl) (fun _ h => h) rfl hdg kk)
theorem gp_address (hC : Cg cx) (S : Fx p s m args meth c cc nL own ret) (hK : Sk cx s s.heap) (hO : Ok cx s σ H locs) {i : Nat} (hi : i < 17) {g : Gr} (hg : σ.1 i = g) {v : Nat} (hl : Cond.fieldLink own index R_G "address" "J" ∈ gw) (hdg : decode cc pc = .ok (.putfield index, 3)) (kk : ∀ (H' : Heap) (locs' : List Loc), Ok cx s (up σ.1 i (sA g v), σ.2) H' locs' → W p l e R s m args below meth c H' locs' cells slots Q (F0 m (pc + 3) ls rest)) : W p l e R s m args below meth c H locs cells slots Q (F0 m pc ls (.long (lN v) :: .ref (ad cx i) :: rest)) := by
  subst hg
  refine va_put (D := cx.1) (cl := cls0) (tys := tys cx) (ws := wl cx σ) (C := R_G) (T := F_G) (N := 6) (ci := 0) S.1 S.2.1 S.2.2.2.2.1 in_G t_G t_G_ok n_G S.2.2.2.1 hK.1 hO.1 (wl_D hC) hO.2 i (wl_G hi) rfl 0 (by decide) (S.2.2.2.2.1 _ hl) (fun _ h => h) rfl (ty := .long) (v := .long (lN v)) (by decide +kernel) rfl rfl (by decide : 0 < 6) hdg (fun H1 locs1 hP _ hS => kk H1 locs1 ⟨?_, hS⟩)
  rw [show (gl (σ.1 i)).set 0 (.long (lN v)) = gl (sA (σ.1 i) v) from rfl, set_G hi] at hP
  exact hP
theorem gg_base (S : Fx p s m args meth c cc nL own ret) (hK : Sk cx s s.heap) (hO : Ok cx s σ H locs) {i : Nat} (hi : i < 17) {g : Gr} (hg : σ.1 i = g) (hl : Cond.fieldLink own index R_G "base" "J" ∈ gw) (hdg : decode cc pc = .ok (.getfield index, 3)) (kk : W p l e R s m args below meth c H locs cells slots Q (F0 m (pc + 3) ls (.long (lN (qb g)) :: rest))) : W p l e R s m args below meth c H locs cells slots Q (F0 m pc ls (.ref (ad cx i) :: rest)) := by
  subst hg
  exact (
  va_get (D := cx.1) (cl := cls0) (tys := tys cx) (ws := wl cx σ) (C := R_G) (T := F_G) (N := 6) (ci := 0) S.1 S.2.1 S.2.2.2.2.1 in_G S.2.2.2.1 hK.1 hO.1 i (wl_G hi) rfl 1 (by decide) (S.2.2.2.2.1 _ hl) (fun _ h => h) rfl hdg kk)
theorem gp_base (hC : Cg cx) (S : Fx p s m args meth c cc nL own ret) (hK : Sk cx s s.heap) (hO : Ok cx s σ H locs) {i : Nat} (hi : i < 17) {g : Gr} (hg : σ.1 i = g) {v : Nat} (hl : Cond.fieldLink own index R_G "base" "J" ∈ gw) (hdg : decode cc pc = .ok (.putfield index, 3)) (kk : ∀ (H' : Heap) (locs' : List Loc), Ok cx s (up σ.1 i (sB g v), σ.2) H' locs' → W p l e R s m args below meth c H' locs' cells slots Q (F0 m (pc + 3) ls rest)) : W p l e R s m args below meth c H locs cells slots Q (F0 m pc ls (.long (lN v) :: .ref (ad cx i) :: rest)) := by
  subst hg
  refine va_put (D := cx.1) (cl := cls0) (tys := tys cx) (ws := wl cx σ) (C := R_G) (T := F_G) (N := 6) (ci := 0) S.1 S.2.1 S.2.2.2.2.1 in_G t_G t_G_ok n_G S.2.2.2.1 hK.1 hO.1 (wl_D hC) hO.2 i (wl_G hi) rfl 1 (by decide) (S.2.2.2.2.1 _ hl) (fun _ h => h) rfl (ty := .long) (v := .long (lN v)) (by decide +kernel) rfl rfl (by decide : 1 < 6) hdg (fun H1 locs1 hP _ hS => kk H1 locs1 ⟨?_, hS⟩)
  rw [show (gl (σ.1 i)).set 1 (.long (lN v)) = gl (sB (σ.1 i) v) from rfl, set_G hi] at hP
  exact hP
theorem gg_top (S : Fx p s m args meth c cc nL own ret) (hK : Sk cx s s.heap) (hO : Ok cx s σ H locs) {i : Nat} (hi : i < 17) {g : Gr} (hg : σ.1 i = g) (hl : Cond.fieldLink own index R_G "top" "J" ∈ gw) (hdg : decode cc pc = .ok (.getfield index, 3)) (kk : W p l e R s m args below meth c H locs cells slots Q (F0 m (pc + 3) ls (.long (lN (qt g)) :: rest))) : W p l e R s m args below meth c H locs cells slots Q (F0 m pc ls (.ref (ad cx i) :: rest)) := by
  subst hg
  exact (
  va_get (D := cx.1) (cl := cls0) (tys := tys cx) (ws := wl cx σ) (C := R_G) (T := F_G) (N := 6) (ci := 0) S.1 S.2.1 S.2.2.2.2.1 in_G S.2.2.2.1 hK.1 hO.1 i (wl_G hi) rfl 2 (by decide) (S.2.2.2.2.1 _ hl) (fun _ h => h) rfl hdg kk)
theorem gp_top (hC : Cg cx) (S : Fx p s m args meth c cc nL own ret) (hK : Sk cx s s.heap) (hO : Ok cx s σ H locs) {i : Nat} (hi : i < 17) {g : Gr} (hg : σ.1 i = g) {v : Nat} (hl : Cond.fieldLink own index R_G "top" "J" ∈ gw) (hdg : decode cc pc = .ok (.putfield index, 3)) (kk : ∀ (H' : Heap) (locs' : List Loc), Ok cx s (up σ.1 i (sT g v), σ.2) H' locs' → W p l e R s m args below meth c H' locs' cells slots Q (F0 m (pc + 3) ls rest)) : W p l e R s m args below meth c H locs cells slots Q (F0 m pc ls (.long (lN v) :: .ref (ad cx i) :: rest)) := by
  subst hg
  refine va_put (D := cx.1) (cl := cls0) (tys := tys cx) (ws := wl cx σ) (C := R_G) (T := F_G) (N := 6) (ci := 0) S.1 S.2.1 S.2.2.2.2.1 in_G t_G t_G_ok n_G S.2.2.2.1 hK.1 hO.1 (wl_D hC) hO.2 i (wl_G hi) rfl 2 (by decide) (S.2.2.2.2.1 _ hl) (fun _ h => h) rfl (ty := .long) (v := .long (lN v)) (by decide +kernel) rfl rfl (by decide : 2 < 6) hdg (fun H1 locs1 hP _ hS => kk H1 locs1 ⟨?_, hS⟩)
  rw [show (gl (σ.1 i)).set 2 (.long (lN v)) = gl (sT (σ.1 i) v) from rfl, set_G hi] at hP
  exact hP
theorem gg_permissions (S : Fx p s m args meth c cc nL own ret) (hK : Sk cx s s.heap) (hO : Ok cx s σ H locs) {i : Nat} (hi : i < 17) {g : Gr} (hg : σ.1 i = g) (hl : Cond.fieldLink own index R_G "permissions" "I" ∈ gw) (hdg : decode cc pc = .ok (.getfield index, 3)) (kk : W p l e R s m args below meth c H locs cells slots Q (F0 m (pc + 3) ls (.int (nI (qp g)) :: rest))) : W p l e R s m args below meth c H locs cells slots Q (F0 m pc ls (.ref (ad cx i) :: rest)) := by
  subst hg
  exact (
  va_get (D := cx.1) (cl := cls0) (tys := tys cx) (ws := wl cx σ) (C := R_G) (T := F_G) (N := 6) (ci := 0) S.1 S.2.1 S.2.2.2.2.1 in_G S.2.2.2.1 hK.1 hO.1 i (wl_G hi) rfl 3 (by decide) (S.2.2.2.2.1 _ hl) (fun _ h => h) rfl hdg kk)
theorem gp_permissions (hC : Cg cx) (S : Fx p s m args meth c cc nL own ret) (hK : Sk cx s s.heap) (hO : Ok cx s σ H locs) {i : Nat} (hi : i < 17) {g : Gr} (hg : σ.1 i = g) {v : Nat} (hl : Cond.fieldLink own index R_G "permissions" "I" ∈ gw) (hdg : decode cc pc = .ok (.putfield index, 3)) (kk : ∀ (H' : Heap) (locs' : List Loc), Ok cx s (up σ.1 i (sP g v), σ.2) H' locs' → W p l e R s m args below meth c H' locs' cells slots Q (F0 m (pc + 3) ls rest)) : W p l e R s m args below meth c H locs cells slots Q (F0 m pc ls (.int (nI v) :: .ref (ad cx i) :: rest)) := by
  subst hg
  refine va_put (D := cx.1) (cl := cls0) (tys := tys cx) (ws := wl cx σ) (C := R_G) (T := F_G) (N := 6) (ci := 0) S.1 S.2.1 S.2.2.2.2.1 in_G t_G t_G_ok n_G S.2.2.2.1 hK.1 hO.1 (wl_D hC) hO.2 i (wl_G hi) rfl 3 (by decide) (S.2.2.2.2.1 _ hl) (fun _ h => h) rfl (ty := .int) (v := .int (nI v)) (by decide +kernel) rfl rfl (by decide : 3 < 6) hdg (fun H1 locs1 hP _ hS => kk H1 locs1 ⟨?_, hS⟩)
  rw [show (gl (σ.1 i)).set 3 (.int (nI v)) = gl (sP (σ.1 i) v) from rfl, set_G hi] at hP
  exact hP
theorem gg_type (S : Fx p s m args meth c cc nL own ret) (hK : Sk cx s s.heap) (hO : Ok cx s σ H locs) {i : Nat} (hi : i < 17) {g : Gr} (hg : σ.1 i = g) (hl : Cond.fieldLink own index R_G "type" "I" ∈ gw) (hdg : decode cc pc = .ok (.getfield index, 3)) (kk : W p l e R s m args below meth c H locs cells slots Q (F0 m (pc + 3) ls (.int (nI (qy g)) :: rest))) : W p l e R s m args below meth c H locs cells slots Q (F0 m pc ls (.ref (ad cx i) :: rest)) := by
  subst hg
  exact (
  va_get (D := cx.1) (cl := cls0) (tys := tys cx) (ws := wl cx σ) (C := R_G) (T := F_G) (N := 6) (ci := 0) S.1 S.2.1 S.2.2.2.2.1 in_G S.2.2.2.1 hK.1 hO.1 i (wl_G hi) rfl 4 (by decide) (S.2.2.2.2.1 _ hl) (fun _ h => h) rfl hdg kk)
theorem gp_type (hC : Cg cx) (S : Fx p s m args meth c cc nL own ret) (hK : Sk cx s s.heap) (hO : Ok cx s σ H locs) {i : Nat} (hi : i < 17) {g : Gr} (hg : σ.1 i = g) {v : Nat} (hl : Cond.fieldLink own index R_G "type" "I" ∈ gw) (hdg : decode cc pc = .ok (.putfield index, 3)) (kk : ∀ (H' : Heap) (locs' : List Loc), Ok cx s (up σ.1 i (sY g v), σ.2) H' locs' → W p l e R s m args below meth c H' locs' cells slots Q (F0 m (pc + 3) ls rest)) : W p l e R s m args below meth c H locs cells slots Q (F0 m pc ls (.int (nI v) :: .ref (ad cx i) :: rest)) := by
  subst hg
  refine va_put (D := cx.1) (cl := cls0) (tys := tys cx) (ws := wl cx σ) (C := R_G) (T := F_G) (N := 6) (ci := 0) S.1 S.2.1 S.2.2.2.2.1 in_G t_G t_G_ok n_G S.2.2.2.1 hK.1 hO.1 (wl_D hC) hO.2 i (wl_G hi) rfl 4 (by decide) (S.2.2.2.2.1 _ hl) (fun _ h => h) rfl (ty := .int) (v := .int (nI v)) (by decide +kernel) rfl rfl (by decide : 4 < 6) hdg (fun H1 locs1 hP _ hS => kk H1 locs1 ⟨?_, hS⟩)
  rw [show (gl (σ.1 i)).set 4 (.int (nI v)) = gl (sY (σ.1 i) v) from rfl, set_G hi] at hP
  exact hP
theorem gg_tag (S : Fx p s m args meth c cc nL own ret) (hK : Sk cx s s.heap) (hO : Ok cx s σ H locs) {i : Nat} (hi : i < 17) {g : Gr} (hg : σ.1 i = g) (hl : Cond.fieldLink own index R_G "tag" "Z" ∈ gw) (hdg : decode cc pc = .ok (.getfield index, 3)) (kk : W p l e R s m args below meth c H locs cells slots Q (F0 m (pc + 3) ls (.int (bi (qg g)) :: rest))) : W p l e R s m args below meth c H locs cells slots Q (F0 m pc ls (.ref (ad cx i) :: rest)) := by
  subst hg
  exact (
  va_get (D := cx.1) (cl := cls0) (tys := tys cx) (ws := wl cx σ) (C := R_G) (T := F_G) (N := 6) (ci := 0) S.1 S.2.1 S.2.2.2.2.1 in_G S.2.2.2.1 hK.1 hO.1 i (wl_G hi) rfl 5 (by decide) (S.2.2.2.2.1 _ hl) (fun _ h => h) rfl hdg kk)
theorem gp_tag (hC : Cg cx) (S : Fx p s m args meth c cc nL own ret) (hK : Sk cx s s.heap) (hO : Ok cx s σ H locs) {i : Nat} (hi : i < 17) {g : Gr} (hg : σ.1 i = g) {v : Bool} (hl : Cond.fieldLink own index R_G "tag" "Z" ∈ gw) (hdg : decode cc pc = .ok (.putfield index, 3)) (kk : ∀ (H' : Heap) (locs' : List Loc), Ok cx s (up σ.1 i (sG g v), σ.2) H' locs' → W p l e R s m args below meth c H' locs' cells slots Q (F0 m (pc + 3) ls rest)) : W p l e R s m args below meth c H locs cells slots Q (F0 m pc ls (.int (bi v) :: .ref (ad cx i) :: rest)) := by
  subst hg
  refine va_put (D := cx.1) (cl := cls0) (tys := tys cx) (ws := wl cx σ) (C := R_G) (T := F_G) (N := 6) (ci := 0) S.1 S.2.1 S.2.2.2.2.1 in_G t_G t_G_ok n_G S.2.2.2.1 hK.1 hO.1 (wl_D hC) hO.2 i (wl_G hi) rfl 5 (by decide) (S.2.2.2.2.1 _ hl) (fun _ h => h) rfl (ty := .boolean) (v := .int (bi v)) (by decide +kernel) (bi_nar v) (bi_fit v) (by decide : 5 < 6) hdg (fun H1 locs1 hP _ hS => kk H1 locs1 ⟨?_, hS⟩)
  rw [show (gl (σ.1 i)).set 5 (.int (bi v)) = gl (sG (σ.1 i) v) from rfl, set_G hi] at hP
  exact hP
theorem xg_grants (S : Fx p s m args meth c cc nL own ret) (hK : Sk cx s s.heap) (hO : Ok cx s σ H locs) (hl : Cond.fieldLink own index R_X "grants" "[LGrantMath$Grant;" ∈ gw) (hdg : decode cc pc = .ok (.getfield index, 3)) (kk : W p l e R s m args below meth c H locs cells slots Q (F0 m (pc + 3) ls (.ref (ad cx 18) :: rest))) : W p l e R s m args below meth c H locs cells slots Q (F0 m pc ls (.ref (ad cx 17) :: rest)) :=
  va_get (D := cx.1) (cl := cls0) (tys := tys cx) (ws := wl cx σ) (C := R_X) (T := F_X) (N := 2) (ci := 1) S.1 S.2.1 S.2.2.2.2.1 in_X S.2.2.2.1 hK.1 hO.1 17 (wl_at (by decide)) rfl 0 (by decide) (S.2.2.2.2.1 _ hl) (fun _ h => h) rfl hdg kk
theorem xg_made (S : Fx p s m args meth c cc nL own ret) (hK : Sk cx s s.heap) (hO : Ok cx s σ H locs) (hl : Cond.fieldLink own index R_X "made" "LGrantMath$Grant;" ∈ gw) (hdg : decode cc pc = .ok (.getfield index, 3)) (kk : W p l e R s m args below meth c H locs cells slots Q (F0 m (pc + 3) ls (.ref (ad cx 16) :: rest))) : W p l e R s m args below meth c H locs cells slots Q (F0 m pc ls (.ref (ad cx 17) :: rest)) :=
  va_get (D := cx.1) (cl := cls0) (tys := tys cx) (ws := wl cx σ) (C := R_X) (T := F_X) (N := 2) (ci := 1) S.1 S.2.1 S.2.2.2.2.1 in_X S.2.2.2.1 hK.1 hO.1 17 (wl_at (by decide)) rfl 1 (by decide) (S.2.2.2.2.1 _ hl) (fun _ h => h) rfl hdg kk
theorem xa_ld (S : Fx p s m args meth c cc nL own ret) (hK : Sk cx s s.heap) (hO : Ok cx s σ H locs) {j : Nat} (hj : j < 16) (hdg : decode cc pc = .ok (.aaload, 1)) (kk : W p l e R s m args below meth c H locs cells slots Q (F0 m (pc + 1) ls (.ref (ad cx j) :: rest))) : W p l e R s m args below meth c H locs cells slots Q (F0 m pc ls (.int (nI j) :: .ref (ad cx 18) :: rest)) := by
  have h := va_aldq (D := cx.1) (cl := cls0) (tys := tys cx) (ws := wl cx σ) (p := p) (l := l) (e := e) (R := R) (m := m) (args := args) (below := below) (meth := meth) (locs := locs) (cells := cells) (slots := slots) (Q := Q) (rest := rest) (ls := ls) (pc := pc) (a := ad cx 18) S.1 S.2.1 hK.1 hO.1 18 3 (cA := cx.2.1 3) (C := R_G) (n := 16) (f := fun j => some (ad cx j)) (wl_at (by decide)) rfl (i := nI j) (vp_in_nI hj (by decide)) hdg
  rw [nI_clamp (by omega)] at h
  exact h kk
theorem mg_err (S : Fx p s m args meth c cc nL own ret) (hK : Sk cx s s.heap) (hO : Ok cx s σ H locs) (hl : Cond.fieldLink own index R_M "err" "I" ∈ gw) (hdg : decode cc pc = .ok (.getfield index, 3)) (kk : W p l e R s m args below meth c H locs cells slots Q (F0 m (pc + 3) ls (.int σ.2.2.1 :: rest))) : W p l e R s m args below meth c H locs cells slots Q (F0 m pc ls (.ref (ad cx 19) :: rest)) :=
  va_get (D := cx.1) (cl := cls0) (tys := tys cx) (ws := wl cx σ) (C := R_M) (T := F_M) (N := 7) (ci := 2) S.1 S.2.1 S.2.2.2.2.1 in_M S.2.2.2.1 hK.1 hO.1 19 (wl_at (by decide)) rfl 0 (by decide) (S.2.2.2.2.1 _ hl) (fun _ h => h) rfl hdg kk
theorem mg_address (S : Fx p s m args meth c cc nL own ret) (hK : Sk cx s s.heap) (hO : Ok cx s σ H locs) (hl : Cond.fieldLink own index R_M "address" "[J" ∈ gw) (hdg : decode cc pc = .ok (.getfield index, 3)) (kk : W p l e R s m args below meth c H locs cells slots Q (F0 m (pc + 3) ls (.ref (ad cx 20) :: rest))) : W p l e R s m args below meth c H locs cells slots Q (F0 m pc ls (.ref (ad cx 19) :: rest)) :=
  va_get (D := cx.1) (cl := cls0) (tys := tys cx) (ws := wl cx σ) (C := R_M) (T := F_M) (N := 7) (ci := 2) S.1 S.2.1 S.2.2.2.2.1 in_M S.2.2.2.1 hK.1 hO.1 19 (wl_at (by decide)) rfl 1 (by decide) (S.2.2.2.2.1 _ hl) (fun _ h => h) rfl hdg kk
theorem mg_base (S : Fx p s m args meth c cc nL own ret) (hK : Sk cx s s.heap) (hO : Ok cx s σ H locs) (hl : Cond.fieldLink own index R_M "base" "[J" ∈ gw) (hdg : decode cc pc = .ok (.getfield index, 3)) (kk : W p l e R s m args below meth c H locs cells slots Q (F0 m (pc + 3) ls (.ref (ad cx 21) :: rest))) : W p l e R s m args below meth c H locs cells slots Q (F0 m pc ls (.ref (ad cx 19) :: rest)) :=
  va_get (D := cx.1) (cl := cls0) (tys := tys cx) (ws := wl cx σ) (C := R_M) (T := F_M) (N := 7) (ci := 2) S.1 S.2.1 S.2.2.2.2.1 in_M S.2.2.2.1 hK.1 hO.1 19 (wl_at (by decide)) rfl 2 (by decide) (S.2.2.2.2.1 _ hl) (fun _ h => h) rfl hdg kk
theorem mg_top (S : Fx p s m args meth c cc nL own ret) (hK : Sk cx s s.heap) (hO : Ok cx s σ H locs) (hl : Cond.fieldLink own index R_M "top" "[J" ∈ gw) (hdg : decode cc pc = .ok (.getfield index, 3)) (kk : W p l e R s m args below meth c H locs cells slots Q (F0 m (pc + 3) ls (.ref (ad cx 22) :: rest))) : W p l e R s m args below meth c H locs cells slots Q (F0 m pc ls (.ref (ad cx 19) :: rest)) :=
  va_get (D := cx.1) (cl := cls0) (tys := tys cx) (ws := wl cx σ) (C := R_M) (T := F_M) (N := 7) (ci := 2) S.1 S.2.1 S.2.2.2.2.1 in_M S.2.2.2.1 hK.1 hO.1 19 (wl_at (by decide)) rfl 3 (by decide) (S.2.2.2.2.1 _ hl) (fun _ h => h) rfl hdg kk
theorem mg_permissions (S : Fx p s m args meth c cc nL own ret) (hK : Sk cx s s.heap) (hO : Ok cx s σ H locs) (hl : Cond.fieldLink own index R_M "permissions" "[I" ∈ gw) (hdg : decode cc pc = .ok (.getfield index, 3)) (kk : W p l e R s m args below meth c H locs cells slots Q (F0 m (pc + 3) ls (.ref (ad cx 23) :: rest))) : W p l e R s m args below meth c H locs cells slots Q (F0 m pc ls (.ref (ad cx 19) :: rest)) :=
  va_get (D := cx.1) (cl := cls0) (tys := tys cx) (ws := wl cx σ) (C := R_M) (T := F_M) (N := 7) (ci := 2) S.1 S.2.1 S.2.2.2.2.1 in_M S.2.2.2.1 hK.1 hO.1 19 (wl_at (by decide)) rfl 4 (by decide) (S.2.2.2.2.1 _ hl) (fun _ h => h) rfl hdg kk
theorem mg_type (S : Fx p s m args meth c cc nL own ret) (hK : Sk cx s s.heap) (hO : Ok cx s σ H locs) (hl : Cond.fieldLink own index R_M "type" "[I" ∈ gw) (hdg : decode cc pc = .ok (.getfield index, 3)) (kk : W p l e R s m args below meth c H locs cells slots Q (F0 m (pc + 3) ls (.ref (ad cx 24) :: rest))) : W p l e R s m args below meth c H locs cells slots Q (F0 m pc ls (.ref (ad cx 19) :: rest)) :=
  va_get (D := cx.1) (cl := cls0) (tys := tys cx) (ws := wl cx σ) (C := R_M) (T := F_M) (N := 7) (ci := 2) S.1 S.2.1 S.2.2.2.2.1 in_M S.2.2.2.1 hK.1 hO.1 19 (wl_at (by decide)) rfl 5 (by decide) (S.2.2.2.2.1 _ hl) (fun _ h => h) rfl hdg kk
theorem mg_tag (S : Fx p s m args meth c cc nL own ret) (hK : Sk cx s s.heap) (hO : Ok cx s σ H locs) (hl : Cond.fieldLink own index R_M "tag" "[Z" ∈ gw) (hdg : decode cc pc = .ok (.getfield index, 3)) (kk : W p l e R s m args below meth c H locs cells slots Q (F0 m (pc + 3) ls (.ref (ad cx 25) :: rest))) : W p l e R s m args below meth c H locs cells slots Q (F0 m pc ls (.ref (ad cx 19) :: rest)) :=
  va_get (D := cx.1) (cl := cls0) (tys := tys cx) (ws := wl cx σ) (C := R_M) (T := F_M) (N := 7) (ci := 2) S.1 S.2.1 S.2.2.2.2.1 in_M S.2.2.2.1 hK.1 hO.1 19 (wl_at (by decide)) rfl 6 (by decide) (S.2.2.2.2.1 _ hl) (fun _ h => h) rfl hdg kk
theorem mp_err (hC : Cg cx) (S : Fx p s m args meth c cc nL own ret) (hK : Sk cx s s.heap) (hO : Ok cx s σ H locs) {v : Int32} (hl : Cond.fieldLink own index R_M "err" "I" ∈ gw) (hdg : decode cc pc = .ok (.putfield index, 3)) (kk : ∀ (H' : Heap) (locs' : List Loc), Ok cx s (σ.1, σ.2.1, v, σ.2.2.2) H' locs' → W p l e R s m args below meth c H' locs' cells slots Q (F0 m (pc + 3) ls rest)) : W p l e R s m args below meth c H locs cells slots Q (F0 m pc ls (.int v :: .ref (ad cx 19) :: rest)) := by
  refine va_put (D := cx.1) (cl := cls0) (tys := tys cx) (ws := wl cx σ) (C := R_M) (T := F_M) (N := 7) (ci := 2) S.1 S.2.1 S.2.2.2.2.1 in_M t_M t_M_ok n_M S.2.2.2.1 hK.1 hO.1 (wl_D hC) hO.2 19 (wl_at (by decide)) rfl 0 (by decide) (S.2.2.2.2.1 _ hl) (fun _ h => h) rfl (ty := .int) (v := .int v) (by decide +kernel) rfl rfl (by decide : 0 < 7) hdg (fun H1 locs1 hP _ hS => kk H1 locs1 ⟨?_, hS⟩)
  have hP : va_P cx.1 cls0 ((wl cx σ).set 19 (ad cx 19, .inr (2, [.int v, .ref (ad cx 20), .ref (ad cx 21), .ref (ad cx 22), .ref (ad cx 23), .ref (ad cx 24), .ref (ad cx 25)]))) H1 := hP
  rw [set_M (c := cx) (σ := σ) (k := 19) (e := .inr (2, [.int v, .ref (ad cx 20), .ref (ad cx 21), .ref (ad cx 22), .ref (ad cx 23), .ref (ad cx 24), .ref (ad cx 25)])) (M' := σ.2.1) (x := v) (o := σ.2.2.2) (by decide) (by decide) rfl (fun j hj hne h17 => ?_)] at hP
  · exact hP
  · rcases (show j = 17 ∨ j = 18 ∨ j = 19 ∨ j = 20 ∨ j = 21 ∨ j = 22 ∨ j = 23 ∨ j = 24 ∨ j = 25 ∨ j = 26 by omega) with rfl | rfl | rfl | rfl | rfl | rfl | rfl | rfl | rfl | rfl <;> first | rfl | exact absurd rfl hne
theorem ml_address (S : Fx p s m args meth c cc nL own ret) (hK : Sk cx s s.heap) (hO : Ok cx s σ H locs) {j : Nat} (hj : j < 16) {g : Gr} (hg : σ.2.1 j = g) (hdg : decode cc pc = .ok (.laload, 1)) (kk : W p l e R s m args below meth c H locs cells slots Q (F0 m (pc + 1) ls (.long (lN (qa g)) :: rest))) : W p l e R s m args below meth c H locs cells slots Q (F0 m pc ls (.int (nI j) :: .ref (ad cx 20) :: rest)) := by
  subst hg
  have h := va_lald (D := cx.1) (cl := cls0) (tys := tys cx) (ws := wl cx σ) (p := p) (l := l) (e := e) (R := R) (m := m) (args := args) (below := below) (meth := meth) (locs := locs) (cells := cells) (slots := slots) (Q := Q) (rest := rest) (ls := ls) (pc := pc) (a := ad cx 20) S.1 S.2.1 hK.1 hO.1 20 0 (cA := cx.2.1 0) (n := 16) (f := fun j => lN (qa (σ.2.1 j))) (wl_at (by decide)) rfl (i := nI j) (vp_in_nI hj (by decide)) hdg
  rw [nI_clamp (by omega)] at h
  exact h kk
theorem ms_address (hC : Cg cx) (S : Fx p s m args meth c cc nL own ret) (hK : Sk cx s s.heap) (hO : Ok cx s σ H locs) {j : Nat} (hj : j < 16) {v : Nat} (hdg : decode cc pc = .ok (.lastore, 1)) (kk : ∀ (H' : Heap) (locs' : List Loc), Ok cx s (σ.1, up σ.2.1 j (sA (σ.2.1 j) v), σ.2.2) H' locs' → W p l e R s m args below meth c H' locs' cells slots Q (F0 m (pc + 1) ls rest)) : W p l e R s m args below meth c H locs cells slots Q (F0 m pc ls (.long (lN v) :: .int (nI j) :: .ref (ad cx 20) :: rest)) := by
  refine va_last (D := cx.1) (cl := cls0) (tys := tys cx) (ws := wl cx σ) (a := ad cx 20) S.1 S.2.1 hK.1 hO.1 (wl_D hC) hO.2 20 0 (cA := cx.2.1 0) (n := 16) (f := fun j => lN (qa (σ.2.1 j))) (wl_at (by decide)) rfl (i := nI j) (vp_in_nI hj (by decide)) hdg (fun H1 locs1 hP _ hS => kk H1 locs1 ⟨?_, hS⟩)
  rw [nI_clamp (by omega)] at hP
  rw [set_M (M' := up σ.2.1 j (sA (σ.2.1 j) v)) (x := σ.2.2.1) (o := σ.2.2.2) (by decide) (by decide) ?_ (fun i hi hne h17 => ?_)] at hP
  · exact hP
  · show (Sum.inl (cx.2.1 0, 16, .inr (.inl (fun i => lN (qa (up σ.2.1 j (sA (σ.2.1 j) v) i))))) : va_E) = Sum.inl (cx.2.1 0, 16, .inr (.inl (vp_updL (fun i => lN (qa (σ.2.1 i))) j (lN v))))
    have h : (fun i => lN (qa (up σ.2.1 j (sA (σ.2.1 j) v) i))) = vp_updL (fun i => lN (qa (σ.2.1 i))) j (lN v) := by
      funext i; by_cases h : i = j <;> simp [up, vp_updL, h, sA]
    rw [h]
  · have hq : ∀ (f : Gr → Nat) , f (sA (σ.2.1 j) v) = f (σ.2.1 j) → (fun i => f (up σ.2.1 j (sA (σ.2.1 j) v) i)) = fun i => f (σ.2.1 i) := fun f hf => by funext i; by_cases h : i = j <;> simp [up, h, hf]
    have hb : ∀ (f : Gr → Bool) , f (sA (σ.2.1 j) v) = f (σ.2.1 j) → (fun i => f (up σ.2.1 j (sA (σ.2.1 j) v) i)) = fun i => f (σ.2.1 i) := fun f hf => by funext i; by_cases h : i = j <;> simp [up, h, hf]
    have h1 : (fun i => qb (up σ.2.1 j (sA (σ.2.1 j) v) i)) = fun i => qb (σ.2.1 i) := hq qb rfl
    have e1 : (fun i => lN (qb (up σ.2.1 j (sA (σ.2.1 j) v) i))) = fun i => lN (qb (σ.2.1 i)) := funext fun i => congrArg lN (congrFun h1 i)
    have h2 : (fun i => qt (up σ.2.1 j (sA (σ.2.1 j) v) i)) = fun i => qt (σ.2.1 i) := hq qt rfl
    have e2 : (fun i => lN (qt (up σ.2.1 j (sA (σ.2.1 j) v) i))) = fun i => lN (qt (σ.2.1 i)) := funext fun i => congrArg lN (congrFun h2 i)
    have h3 : (fun i => qp (up σ.2.1 j (sA (σ.2.1 j) v) i)) = fun i => qp (σ.2.1 i) := hq qp rfl
    have e3 : (fun i => nI (qp (up σ.2.1 j (sA (σ.2.1 j) v) i))) = fun i => nI (qp (σ.2.1 i)) := funext fun i => congrArg nI (congrFun h3 i)
    have h4 : (fun i => qy (up σ.2.1 j (sA (σ.2.1 j) v) i)) = fun i => qy (σ.2.1 i) := hq qy rfl
    have e4 : (fun i => nI (qy (up σ.2.1 j (sA (σ.2.1 j) v) i))) = fun i => nI (qy (σ.2.1 i)) := funext fun i => congrArg nI (congrFun h4 i)
    have h5 : (fun i => qg (up σ.2.1 j (sA (σ.2.1 j) v) i)) = fun i => qg (σ.2.1 i) := hb qg rfl
    have e5 : (fun i => bi (qg (up σ.2.1 j (sA (σ.2.1 j) v) i))) = fun i => bi (qg (σ.2.1 i)) := funext fun i => congrArg bi (congrFun h5 i)
    rcases (show i = 17 ∨ i = 18 ∨ i = 19 ∨ i = 20 ∨ i = 21 ∨ i = 22 ∨ i = 23 ∨ i = 24 ∨ i = 25 ∨ i = 26 by omega) with rfl | rfl | rfl | rfl | rfl | rfl | rfl | rfl | rfl | rfl
    · rfl
    · rfl
    · rfl
    · exact absurd rfl hne
    · exact congrArg (fun f => (Sum.inl (cx.2.1 0, 16, .inr (.inl f)) : va_E)) e1
    · exact congrArg (fun f => (Sum.inl (cx.2.1 0, 16, .inr (.inl f)) : va_E)) e2
    · exact congrArg (fun f => (Sum.inl (cx.2.1 1, 16, .inl f) : va_E)) e3
    · exact congrArg (fun f => (Sum.inl (cx.2.1 1, 16, .inl f) : va_E)) e4
    · exact congrArg (fun f => (Sum.inl (cx.2.1 2, 16, .inl f) : va_E)) e5
    · rfl
theorem ml_base (S : Fx p s m args meth c cc nL own ret) (hK : Sk cx s s.heap) (hO : Ok cx s σ H locs) {j : Nat} (hj : j < 16) {g : Gr} (hg : σ.2.1 j = g) (hdg : decode cc pc = .ok (.laload, 1)) (kk : W p l e R s m args below meth c H locs cells slots Q (F0 m (pc + 1) ls (.long (lN (qb g)) :: rest))) : W p l e R s m args below meth c H locs cells slots Q (F0 m pc ls (.int (nI j) :: .ref (ad cx 21) :: rest)) := by
  subst hg
  have h := va_lald (D := cx.1) (cl := cls0) (tys := tys cx) (ws := wl cx σ) (p := p) (l := l) (e := e) (R := R) (m := m) (args := args) (below := below) (meth := meth) (locs := locs) (cells := cells) (slots := slots) (Q := Q) (rest := rest) (ls := ls) (pc := pc) (a := ad cx 21) S.1 S.2.1 hK.1 hO.1 21 0 (cA := cx.2.1 0) (n := 16) (f := fun j => lN (qb (σ.2.1 j))) (wl_at (by decide)) rfl (i := nI j) (vp_in_nI hj (by decide)) hdg
  rw [nI_clamp (by omega)] at h
  exact h kk
theorem ms_base (hC : Cg cx) (S : Fx p s m args meth c cc nL own ret) (hK : Sk cx s s.heap) (hO : Ok cx s σ H locs) {j : Nat} (hj : j < 16) {v : Nat} (hdg : decode cc pc = .ok (.lastore, 1)) (kk : ∀ (H' : Heap) (locs' : List Loc), Ok cx s (σ.1, up σ.2.1 j (sB (σ.2.1 j) v), σ.2.2) H' locs' → W p l e R s m args below meth c H' locs' cells slots Q (F0 m (pc + 1) ls rest)) : W p l e R s m args below meth c H locs cells slots Q (F0 m pc ls (.long (lN v) :: .int (nI j) :: .ref (ad cx 21) :: rest)) := by
  refine va_last (D := cx.1) (cl := cls0) (tys := tys cx) (ws := wl cx σ) (a := ad cx 21) S.1 S.2.1 hK.1 hO.1 (wl_D hC) hO.2 21 0 (cA := cx.2.1 0) (n := 16) (f := fun j => lN (qb (σ.2.1 j))) (wl_at (by decide)) rfl (i := nI j) (vp_in_nI hj (by decide)) hdg (fun H1 locs1 hP _ hS => kk H1 locs1 ⟨?_, hS⟩)
  rw [nI_clamp (by omega)] at hP
  rw [set_M (M' := up σ.2.1 j (sB (σ.2.1 j) v)) (x := σ.2.2.1) (o := σ.2.2.2) (by decide) (by decide) ?_ (fun i hi hne h17 => ?_)] at hP
  · exact hP
  · show (Sum.inl (cx.2.1 0, 16, .inr (.inl (fun i => lN (qb (up σ.2.1 j (sB (σ.2.1 j) v) i))))) : va_E) = Sum.inl (cx.2.1 0, 16, .inr (.inl (vp_updL (fun i => lN (qb (σ.2.1 i))) j (lN v))))
    have h : (fun i => lN (qb (up σ.2.1 j (sB (σ.2.1 j) v) i))) = vp_updL (fun i => lN (qb (σ.2.1 i))) j (lN v) := by
      funext i; by_cases h : i = j <;> simp [up, vp_updL, h, sB]
    rw [h]
  · have hq : ∀ (f : Gr → Nat) , f (sB (σ.2.1 j) v) = f (σ.2.1 j) → (fun i => f (up σ.2.1 j (sB (σ.2.1 j) v) i)) = fun i => f (σ.2.1 i) := fun f hf => by funext i; by_cases h : i = j <;> simp [up, h, hf]
    have hb : ∀ (f : Gr → Bool) , f (sB (σ.2.1 j) v) = f (σ.2.1 j) → (fun i => f (up σ.2.1 j (sB (σ.2.1 j) v) i)) = fun i => f (σ.2.1 i) := fun f hf => by funext i; by_cases h : i = j <;> simp [up, h, hf]
    have h0 : (fun i => qa (up σ.2.1 j (sB (σ.2.1 j) v) i)) = fun i => qa (σ.2.1 i) := hq qa rfl
    have e0 : (fun i => lN (qa (up σ.2.1 j (sB (σ.2.1 j) v) i))) = fun i => lN (qa (σ.2.1 i)) := funext fun i => congrArg lN (congrFun h0 i)
    have h2 : (fun i => qt (up σ.2.1 j (sB (σ.2.1 j) v) i)) = fun i => qt (σ.2.1 i) := hq qt rfl
    have e2 : (fun i => lN (qt (up σ.2.1 j (sB (σ.2.1 j) v) i))) = fun i => lN (qt (σ.2.1 i)) := funext fun i => congrArg lN (congrFun h2 i)
    have h3 : (fun i => qp (up σ.2.1 j (sB (σ.2.1 j) v) i)) = fun i => qp (σ.2.1 i) := hq qp rfl
    have e3 : (fun i => nI (qp (up σ.2.1 j (sB (σ.2.1 j) v) i))) = fun i => nI (qp (σ.2.1 i)) := funext fun i => congrArg nI (congrFun h3 i)
    have h4 : (fun i => qy (up σ.2.1 j (sB (σ.2.1 j) v) i)) = fun i => qy (σ.2.1 i) := hq qy rfl
    have e4 : (fun i => nI (qy (up σ.2.1 j (sB (σ.2.1 j) v) i))) = fun i => nI (qy (σ.2.1 i)) := funext fun i => congrArg nI (congrFun h4 i)
    have h5 : (fun i => qg (up σ.2.1 j (sB (σ.2.1 j) v) i)) = fun i => qg (σ.2.1 i) := hb qg rfl
    have e5 : (fun i => bi (qg (up σ.2.1 j (sB (σ.2.1 j) v) i))) = fun i => bi (qg (σ.2.1 i)) := funext fun i => congrArg bi (congrFun h5 i)
    rcases (show i = 17 ∨ i = 18 ∨ i = 19 ∨ i = 20 ∨ i = 21 ∨ i = 22 ∨ i = 23 ∨ i = 24 ∨ i = 25 ∨ i = 26 by omega) with rfl | rfl | rfl | rfl | rfl | rfl | rfl | rfl | rfl | rfl
    · rfl
    · rfl
    · rfl
    · exact congrArg (fun f => (Sum.inl (cx.2.1 0, 16, .inr (.inl f)) : va_E)) e0
    · exact absurd rfl hne
    · exact congrArg (fun f => (Sum.inl (cx.2.1 0, 16, .inr (.inl f)) : va_E)) e2
    · exact congrArg (fun f => (Sum.inl (cx.2.1 1, 16, .inl f) : va_E)) e3
    · exact congrArg (fun f => (Sum.inl (cx.2.1 1, 16, .inl f) : va_E)) e4
    · exact congrArg (fun f => (Sum.inl (cx.2.1 2, 16, .inl f) : va_E)) e5
    · rfl
theorem ml_top (S : Fx p s m args meth c cc nL own ret) (hK : Sk cx s s.heap) (hO : Ok cx s σ H locs) {j : Nat} (hj : j < 16) {g : Gr} (hg : σ.2.1 j = g) (hdg : decode cc pc = .ok (.laload, 1)) (kk : W p l e R s m args below meth c H locs cells slots Q (F0 m (pc + 1) ls (.long (lN (qt g)) :: rest))) : W p l e R s m args below meth c H locs cells slots Q (F0 m pc ls (.int (nI j) :: .ref (ad cx 22) :: rest)) := by
  subst hg
  have h := va_lald (D := cx.1) (cl := cls0) (tys := tys cx) (ws := wl cx σ) (p := p) (l := l) (e := e) (R := R) (m := m) (args := args) (below := below) (meth := meth) (locs := locs) (cells := cells) (slots := slots) (Q := Q) (rest := rest) (ls := ls) (pc := pc) (a := ad cx 22) S.1 S.2.1 hK.1 hO.1 22 0 (cA := cx.2.1 0) (n := 16) (f := fun j => lN (qt (σ.2.1 j))) (wl_at (by decide)) rfl (i := nI j) (vp_in_nI hj (by decide)) hdg
  rw [nI_clamp (by omega)] at h
  exact h kk
theorem ms_top (hC : Cg cx) (S : Fx p s m args meth c cc nL own ret) (hK : Sk cx s s.heap) (hO : Ok cx s σ H locs) {j : Nat} (hj : j < 16) {v : Nat} (hdg : decode cc pc = .ok (.lastore, 1)) (kk : ∀ (H' : Heap) (locs' : List Loc), Ok cx s (σ.1, up σ.2.1 j (sT (σ.2.1 j) v), σ.2.2) H' locs' → W p l e R s m args below meth c H' locs' cells slots Q (F0 m (pc + 1) ls rest)) : W p l e R s m args below meth c H locs cells slots Q (F0 m pc ls (.long (lN v) :: .int (nI j) :: .ref (ad cx 22) :: rest)) := by
  refine va_last (D := cx.1) (cl := cls0) (tys := tys cx) (ws := wl cx σ) (a := ad cx 22) S.1 S.2.1 hK.1 hO.1 (wl_D hC) hO.2 22 0 (cA := cx.2.1 0) (n := 16) (f := fun j => lN (qt (σ.2.1 j))) (wl_at (by decide)) rfl (i := nI j) (vp_in_nI hj (by decide)) hdg (fun H1 locs1 hP _ hS => kk H1 locs1 ⟨?_, hS⟩)
  rw [nI_clamp (by omega)] at hP
  rw [set_M (M' := up σ.2.1 j (sT (σ.2.1 j) v)) (x := σ.2.2.1) (o := σ.2.2.2) (by decide) (by decide) ?_ (fun i hi hne h17 => ?_)] at hP
  · exact hP
  · show (Sum.inl (cx.2.1 0, 16, .inr (.inl (fun i => lN (qt (up σ.2.1 j (sT (σ.2.1 j) v) i))))) : va_E) = Sum.inl (cx.2.1 0, 16, .inr (.inl (vp_updL (fun i => lN (qt (σ.2.1 i))) j (lN v))))
    have h : (fun i => lN (qt (up σ.2.1 j (sT (σ.2.1 j) v) i))) = vp_updL (fun i => lN (qt (σ.2.1 i))) j (lN v) := by
      funext i; by_cases h : i = j <;> simp [up, vp_updL, h, sT]
    rw [h]
  · have hq : ∀ (f : Gr → Nat) , f (sT (σ.2.1 j) v) = f (σ.2.1 j) → (fun i => f (up σ.2.1 j (sT (σ.2.1 j) v) i)) = fun i => f (σ.2.1 i) := fun f hf => by funext i; by_cases h : i = j <;> simp [up, h, hf]
    have hb : ∀ (f : Gr → Bool) , f (sT (σ.2.1 j) v) = f (σ.2.1 j) → (fun i => f (up σ.2.1 j (sT (σ.2.1 j) v) i)) = fun i => f (σ.2.1 i) := fun f hf => by funext i; by_cases h : i = j <;> simp [up, h, hf]
    have h0 : (fun i => qa (up σ.2.1 j (sT (σ.2.1 j) v) i)) = fun i => qa (σ.2.1 i) := hq qa rfl
    have e0 : (fun i => lN (qa (up σ.2.1 j (sT (σ.2.1 j) v) i))) = fun i => lN (qa (σ.2.1 i)) := funext fun i => congrArg lN (congrFun h0 i)
    have h1 : (fun i => qb (up σ.2.1 j (sT (σ.2.1 j) v) i)) = fun i => qb (σ.2.1 i) := hq qb rfl
    have e1 : (fun i => lN (qb (up σ.2.1 j (sT (σ.2.1 j) v) i))) = fun i => lN (qb (σ.2.1 i)) := funext fun i => congrArg lN (congrFun h1 i)
    have h3 : (fun i => qp (up σ.2.1 j (sT (σ.2.1 j) v) i)) = fun i => qp (σ.2.1 i) := hq qp rfl
    have e3 : (fun i => nI (qp (up σ.2.1 j (sT (σ.2.1 j) v) i))) = fun i => nI (qp (σ.2.1 i)) := funext fun i => congrArg nI (congrFun h3 i)
    have h4 : (fun i => qy (up σ.2.1 j (sT (σ.2.1 j) v) i)) = fun i => qy (σ.2.1 i) := hq qy rfl
    have e4 : (fun i => nI (qy (up σ.2.1 j (sT (σ.2.1 j) v) i))) = fun i => nI (qy (σ.2.1 i)) := funext fun i => congrArg nI (congrFun h4 i)
    have h5 : (fun i => qg (up σ.2.1 j (sT (σ.2.1 j) v) i)) = fun i => qg (σ.2.1 i) := hb qg rfl
    have e5 : (fun i => bi (qg (up σ.2.1 j (sT (σ.2.1 j) v) i))) = fun i => bi (qg (σ.2.1 i)) := funext fun i => congrArg bi (congrFun h5 i)
    rcases (show i = 17 ∨ i = 18 ∨ i = 19 ∨ i = 20 ∨ i = 21 ∨ i = 22 ∨ i = 23 ∨ i = 24 ∨ i = 25 ∨ i = 26 by omega) with rfl | rfl | rfl | rfl | rfl | rfl | rfl | rfl | rfl | rfl
    · rfl
    · rfl
    · rfl
    · exact congrArg (fun f => (Sum.inl (cx.2.1 0, 16, .inr (.inl f)) : va_E)) e0
    · exact congrArg (fun f => (Sum.inl (cx.2.1 0, 16, .inr (.inl f)) : va_E)) e1
    · exact absurd rfl hne
    · exact congrArg (fun f => (Sum.inl (cx.2.1 1, 16, .inl f) : va_E)) e3
    · exact congrArg (fun f => (Sum.inl (cx.2.1 1, 16, .inl f) : va_E)) e4
    · exact congrArg (fun f => (Sum.inl (cx.2.1 2, 16, .inl f) : va_E)) e5
    · rfl
theorem ml_permissions (S : Fx p s m args meth c cc nL own ret) (hK : Sk cx s s.heap) (hO : Ok cx s σ H locs) {j : Nat} (hj : j < 16) {g : Gr} (hg : σ.2.1 j = g) (hdg : decode cc pc = .ok (.iaload, 1)) (kk : W p l e R s m args below meth c H locs cells slots Q (F0 m (pc + 1) ls (.int (nI (qp g)) :: rest))) : W p l e R s m args below meth c H locs cells slots Q (F0 m pc ls (.int (nI j) :: .ref (ad cx 23) :: rest)) := by
  subst hg
  have h := va_iald (D := cx.1) (cl := cls0) (tys := tys cx) (ws := wl cx σ) (p := p) (l := l) (e := e) (R := R) (m := m) (args := args) (below := below) (meth := meth) (locs := locs) (cells := cells) (slots := slots) (Q := Q) (rest := rest) (ls := ls) (pc := pc) (a := ad cx 23) S.1 S.2.1 hK.1 hO.1 23 1 (cA := cx.2.1 1) (n := 16) (f := fun j => nI (qp (σ.2.1 j))) (wl_at (by decide)) rfl (i := nI j) (vp_in_nI hj (by decide)) hdg
  rw [nI_clamp (by omega)] at h
  exact h kk
theorem ms_permissions (hC : Cg cx) (S : Fx p s m args meth c cc nL own ret) (hK : Sk cx s s.heap) (hO : Ok cx s σ H locs) {j : Nat} (hj : j < 16) {v : Nat} (hdg : decode cc pc = .ok (.iastore, 1)) (kk : ∀ (H' : Heap) (locs' : List Loc), Ok cx s (σ.1, up σ.2.1 j (sP (σ.2.1 j) v), σ.2.2) H' locs' → W p l e R s m args below meth c H' locs' cells slots Q (F0 m (pc + 1) ls rest)) : W p l e R s m args below meth c H locs cells slots Q (F0 m pc ls (.int (nI v) :: .int (nI j) :: .ref (ad cx 23) :: rest)) := by
  refine va_iast (D := cx.1) (cl := cls0) (tys := tys cx) (ws := wl cx σ) (a := ad cx 23) S.1 S.2.1 hK.1 hO.1 (wl_D hC) hO.2 23 1 (cA := cx.2.1 1) (n := 16) (f := fun j => nI (qp (σ.2.1 j))) (wl_at (by decide)) rfl (i := nI j) (vp_in_nI hj (by decide)) hdg (fun H1 locs1 hP _ hS => kk H1 locs1 ⟨?_, hS⟩)
  rw [nI_clamp (by omega)] at hP
  rw [set_M (M' := up σ.2.1 j (sP (σ.2.1 j) v)) (x := σ.2.2.1) (o := σ.2.2.2) (by decide) (by decide) ?_ (fun i hi hne h17 => ?_)] at hP
  · exact hP
  · show (Sum.inl (cx.2.1 1, 16, .inl (fun i => nI (qp (up σ.2.1 j (sP (σ.2.1 j) v) i)))) : va_E) = Sum.inl (cx.2.1 1, 16, .inl (upd (fun i => nI (qp (σ.2.1 i))) j (nI v)))
    have h : (fun i => nI (qp (up σ.2.1 j (sP (σ.2.1 j) v) i))) = upd (fun i => nI (qp (σ.2.1 i))) j (nI v) := by
      funext i; by_cases h : i = j <;> simp [up, upd, h, sP]
    rw [h]
  · have hq : ∀ (f : Gr → Nat) , f (sP (σ.2.1 j) v) = f (σ.2.1 j) → (fun i => f (up σ.2.1 j (sP (σ.2.1 j) v) i)) = fun i => f (σ.2.1 i) := fun f hf => by funext i; by_cases h : i = j <;> simp [up, h, hf]
    have hb : ∀ (f : Gr → Bool) , f (sP (σ.2.1 j) v) = f (σ.2.1 j) → (fun i => f (up σ.2.1 j (sP (σ.2.1 j) v) i)) = fun i => f (σ.2.1 i) := fun f hf => by funext i; by_cases h : i = j <;> simp [up, h, hf]
    have h0 : (fun i => qa (up σ.2.1 j (sP (σ.2.1 j) v) i)) = fun i => qa (σ.2.1 i) := hq qa rfl
    have e0 : (fun i => lN (qa (up σ.2.1 j (sP (σ.2.1 j) v) i))) = fun i => lN (qa (σ.2.1 i)) := funext fun i => congrArg lN (congrFun h0 i)
    have h1 : (fun i => qb (up σ.2.1 j (sP (σ.2.1 j) v) i)) = fun i => qb (σ.2.1 i) := hq qb rfl
    have e1 : (fun i => lN (qb (up σ.2.1 j (sP (σ.2.1 j) v) i))) = fun i => lN (qb (σ.2.1 i)) := funext fun i => congrArg lN (congrFun h1 i)
    have h2 : (fun i => qt (up σ.2.1 j (sP (σ.2.1 j) v) i)) = fun i => qt (σ.2.1 i) := hq qt rfl
    have e2 : (fun i => lN (qt (up σ.2.1 j (sP (σ.2.1 j) v) i))) = fun i => lN (qt (σ.2.1 i)) := funext fun i => congrArg lN (congrFun h2 i)
    have h4 : (fun i => qy (up σ.2.1 j (sP (σ.2.1 j) v) i)) = fun i => qy (σ.2.1 i) := hq qy rfl
    have e4 : (fun i => nI (qy (up σ.2.1 j (sP (σ.2.1 j) v) i))) = fun i => nI (qy (σ.2.1 i)) := funext fun i => congrArg nI (congrFun h4 i)
    have h5 : (fun i => qg (up σ.2.1 j (sP (σ.2.1 j) v) i)) = fun i => qg (σ.2.1 i) := hb qg rfl
    have e5 : (fun i => bi (qg (up σ.2.1 j (sP (σ.2.1 j) v) i))) = fun i => bi (qg (σ.2.1 i)) := funext fun i => congrArg bi (congrFun h5 i)
    rcases (show i = 17 ∨ i = 18 ∨ i = 19 ∨ i = 20 ∨ i = 21 ∨ i = 22 ∨ i = 23 ∨ i = 24 ∨ i = 25 ∨ i = 26 by omega) with rfl | rfl | rfl | rfl | rfl | rfl | rfl | rfl | rfl | rfl
    · rfl
    · rfl
    · rfl
    · exact congrArg (fun f => (Sum.inl (cx.2.1 0, 16, .inr (.inl f)) : va_E)) e0
    · exact congrArg (fun f => (Sum.inl (cx.2.1 0, 16, .inr (.inl f)) : va_E)) e1
    · exact congrArg (fun f => (Sum.inl (cx.2.1 0, 16, .inr (.inl f)) : va_E)) e2
    · exact absurd rfl hne
    · exact congrArg (fun f => (Sum.inl (cx.2.1 1, 16, .inl f) : va_E)) e4
    · exact congrArg (fun f => (Sum.inl (cx.2.1 2, 16, .inl f) : va_E)) e5
    · rfl
theorem ml_type (S : Fx p s m args meth c cc nL own ret) (hK : Sk cx s s.heap) (hO : Ok cx s σ H locs) {j : Nat} (hj : j < 16) {g : Gr} (hg : σ.2.1 j = g) (hdg : decode cc pc = .ok (.iaload, 1)) (kk : W p l e R s m args below meth c H locs cells slots Q (F0 m (pc + 1) ls (.int (nI (qy g)) :: rest))) : W p l e R s m args below meth c H locs cells slots Q (F0 m pc ls (.int (nI j) :: .ref (ad cx 24) :: rest)) := by
  subst hg
  have h := va_iald (D := cx.1) (cl := cls0) (tys := tys cx) (ws := wl cx σ) (p := p) (l := l) (e := e) (R := R) (m := m) (args := args) (below := below) (meth := meth) (locs := locs) (cells := cells) (slots := slots) (Q := Q) (rest := rest) (ls := ls) (pc := pc) (a := ad cx 24) S.1 S.2.1 hK.1 hO.1 24 1 (cA := cx.2.1 1) (n := 16) (f := fun j => nI (qy (σ.2.1 j))) (wl_at (by decide)) rfl (i := nI j) (vp_in_nI hj (by decide)) hdg
  rw [nI_clamp (by omega)] at h
  exact h kk
theorem ms_type (hC : Cg cx) (S : Fx p s m args meth c cc nL own ret) (hK : Sk cx s s.heap) (hO : Ok cx s σ H locs) {j : Nat} (hj : j < 16) {v : Nat} (hdg : decode cc pc = .ok (.iastore, 1)) (kk : ∀ (H' : Heap) (locs' : List Loc), Ok cx s (σ.1, up σ.2.1 j (sY (σ.2.1 j) v), σ.2.2) H' locs' → W p l e R s m args below meth c H' locs' cells slots Q (F0 m (pc + 1) ls rest)) : W p l e R s m args below meth c H locs cells slots Q (F0 m pc ls (.int (nI v) :: .int (nI j) :: .ref (ad cx 24) :: rest)) := by
  refine va_iast (D := cx.1) (cl := cls0) (tys := tys cx) (ws := wl cx σ) (a := ad cx 24) S.1 S.2.1 hK.1 hO.1 (wl_D hC) hO.2 24 1 (cA := cx.2.1 1) (n := 16) (f := fun j => nI (qy (σ.2.1 j))) (wl_at (by decide)) rfl (i := nI j) (vp_in_nI hj (by decide)) hdg (fun H1 locs1 hP _ hS => kk H1 locs1 ⟨?_, hS⟩)
  rw [nI_clamp (by omega)] at hP
  rw [set_M (M' := up σ.2.1 j (sY (σ.2.1 j) v)) (x := σ.2.2.1) (o := σ.2.2.2) (by decide) (by decide) ?_ (fun i hi hne h17 => ?_)] at hP
  · exact hP
  · show (Sum.inl (cx.2.1 1, 16, .inl (fun i => nI (qy (up σ.2.1 j (sY (σ.2.1 j) v) i)))) : va_E) = Sum.inl (cx.2.1 1, 16, .inl (upd (fun i => nI (qy (σ.2.1 i))) j (nI v)))
    have h : (fun i => nI (qy (up σ.2.1 j (sY (σ.2.1 j) v) i))) = upd (fun i => nI (qy (σ.2.1 i))) j (nI v) := by
      funext i; by_cases h : i = j <;> simp [up, upd, h, sY]
    rw [h]
  · have hq : ∀ (f : Gr → Nat) , f (sY (σ.2.1 j) v) = f (σ.2.1 j) → (fun i => f (up σ.2.1 j (sY (σ.2.1 j) v) i)) = fun i => f (σ.2.1 i) := fun f hf => by funext i; by_cases h : i = j <;> simp [up, h, hf]
    have hb : ∀ (f : Gr → Bool) , f (sY (σ.2.1 j) v) = f (σ.2.1 j) → (fun i => f (up σ.2.1 j (sY (σ.2.1 j) v) i)) = fun i => f (σ.2.1 i) := fun f hf => by funext i; by_cases h : i = j <;> simp [up, h, hf]
    have h0 : (fun i => qa (up σ.2.1 j (sY (σ.2.1 j) v) i)) = fun i => qa (σ.2.1 i) := hq qa rfl
    have e0 : (fun i => lN (qa (up σ.2.1 j (sY (σ.2.1 j) v) i))) = fun i => lN (qa (σ.2.1 i)) := funext fun i => congrArg lN (congrFun h0 i)
    have h1 : (fun i => qb (up σ.2.1 j (sY (σ.2.1 j) v) i)) = fun i => qb (σ.2.1 i) := hq qb rfl
    have e1 : (fun i => lN (qb (up σ.2.1 j (sY (σ.2.1 j) v) i))) = fun i => lN (qb (σ.2.1 i)) := funext fun i => congrArg lN (congrFun h1 i)
    have h2 : (fun i => qt (up σ.2.1 j (sY (σ.2.1 j) v) i)) = fun i => qt (σ.2.1 i) := hq qt rfl
    have e2 : (fun i => lN (qt (up σ.2.1 j (sY (σ.2.1 j) v) i))) = fun i => lN (qt (σ.2.1 i)) := funext fun i => congrArg lN (congrFun h2 i)
    have h3 : (fun i => qp (up σ.2.1 j (sY (σ.2.1 j) v) i)) = fun i => qp (σ.2.1 i) := hq qp rfl
    have e3 : (fun i => nI (qp (up σ.2.1 j (sY (σ.2.1 j) v) i))) = fun i => nI (qp (σ.2.1 i)) := funext fun i => congrArg nI (congrFun h3 i)
    have h5 : (fun i => qg (up σ.2.1 j (sY (σ.2.1 j) v) i)) = fun i => qg (σ.2.1 i) := hb qg rfl
    have e5 : (fun i => bi (qg (up σ.2.1 j (sY (σ.2.1 j) v) i))) = fun i => bi (qg (σ.2.1 i)) := funext fun i => congrArg bi (congrFun h5 i)
    rcases (show i = 17 ∨ i = 18 ∨ i = 19 ∨ i = 20 ∨ i = 21 ∨ i = 22 ∨ i = 23 ∨ i = 24 ∨ i = 25 ∨ i = 26 by omega) with rfl | rfl | rfl | rfl | rfl | rfl | rfl | rfl | rfl | rfl
    · rfl
    · rfl
    · rfl
    · exact congrArg (fun f => (Sum.inl (cx.2.1 0, 16, .inr (.inl f)) : va_E)) e0
    · exact congrArg (fun f => (Sum.inl (cx.2.1 0, 16, .inr (.inl f)) : va_E)) e1
    · exact congrArg (fun f => (Sum.inl (cx.2.1 0, 16, .inr (.inl f)) : va_E)) e2
    · exact congrArg (fun f => (Sum.inl (cx.2.1 1, 16, .inl f) : va_E)) e3
    · exact absurd rfl hne
    · exact congrArg (fun f => (Sum.inl (cx.2.1 2, 16, .inl f) : va_E)) e5
    · rfl
theorem ml_tag (S : Fx p s m args meth c cc nL own ret) (hK : Sk cx s s.heap) (hO : Ok cx s σ H locs) {j : Nat} (hj : j < 16) {g : Gr} (hg : σ.2.1 j = g) (hdg : decode cc pc = .ok (.baload, 1)) (kk : W p l e R s m args below meth c H locs cells slots Q (F0 m (pc + 1) ls (.int (bi (qg g)) :: rest))) : W p l e R s m args below meth c H locs cells slots Q (F0 m pc ls (.int (nI j) :: .ref (ad cx 25) :: rest)) := by
  subst hg
  have h := va_zald (D := cx.1) (cl := cls0) (tys := tys cx) (ws := wl cx σ) (p := p) (l := l) (e := e) (R := R) (m := m) (args := args) (below := below) (meth := meth) (locs := locs) (cells := cells) (slots := slots) (Q := Q) (rest := rest) (ls := ls) (pc := pc) (a := ad cx 25) S.1 S.2.1 hK.1 hO.1 25 2 (cA := cx.2.1 2) (n := 16) (f := fun j => bi (qg (σ.2.1 j))) (wl_at (by decide)) rfl (i := nI j) (vp_in_nI hj (by decide)) hdg
  rw [nI_clamp (by omega)] at h
  exact h kk
theorem ms_tag (hC : Cg cx) (S : Fx p s m args meth c cc nL own ret) (hK : Sk cx s s.heap) (hO : Ok cx s σ H locs) {j : Nat} (hj : j < 16) {v : Bool} (hdg : decode cc pc = .ok (.bastore, 1)) (kk : ∀ (H' : Heap) (locs' : List Loc), Ok cx s (σ.1, up σ.2.1 j (sG (σ.2.1 j) v), σ.2.2) H' locs' → W p l e R s m args below meth c H' locs' cells slots Q (F0 m (pc + 1) ls rest)) : W p l e R s m args below meth c H locs cells slots Q (F0 m pc ls (.int (bi v) :: .int (nI j) :: .ref (ad cx 25) :: rest)) := by
  refine va_zast (D := cx.1) (cl := cls0) (tys := tys cx) (ws := wl cx σ) (a := ad cx 25) S.1 S.2.1 hK.1 hO.1 (wl_D hC) hO.2 25 2 (cA := cx.2.1 2) (n := 16) (f := fun j => bi (qg (σ.2.1 j))) (wl_at (by decide)) rfl (i := nI j) (vp_in_nI hj (by decide)) hdg (fun H1 locs1 hP _ hS => kk H1 locs1 ⟨?_, hS⟩)
  rw [nI_clamp (by omega)] at hP
  rw [bi_vp] at hP
  rw [set_M (M' := up σ.2.1 j (sG (σ.2.1 j) v)) (x := σ.2.2.1) (o := σ.2.2.2) (by decide) (by decide) ?_ (fun i hi hne h17 => ?_)] at hP
  · exact hP
  · show (Sum.inl (cx.2.1 2, 16, .inl (fun i => bi (qg (up σ.2.1 j (sG (σ.2.1 j) v) i)))) : va_E) = Sum.inl (cx.2.1 2, 16, .inl (upd (fun i => bi (qg (σ.2.1 i))) j (bi v)))
    have h : (fun i => bi (qg (up σ.2.1 j (sG (σ.2.1 j) v) i))) = upd (fun i => bi (qg (σ.2.1 i))) j (bi v) := by
      funext i; by_cases h : i = j <;> simp [up, upd, h, sG]
    rw [h]
  · have hq : ∀ (f : Gr → Nat) , f (sG (σ.2.1 j) v) = f (σ.2.1 j) → (fun i => f (up σ.2.1 j (sG (σ.2.1 j) v) i)) = fun i => f (σ.2.1 i) := fun f hf => by funext i; by_cases h : i = j <;> simp [up, h, hf]
    have hb : ∀ (f : Gr → Bool) , f (sG (σ.2.1 j) v) = f (σ.2.1 j) → (fun i => f (up σ.2.1 j (sG (σ.2.1 j) v) i)) = fun i => f (σ.2.1 i) := fun f hf => by funext i; by_cases h : i = j <;> simp [up, h, hf]
    have h0 : (fun i => qa (up σ.2.1 j (sG (σ.2.1 j) v) i)) = fun i => qa (σ.2.1 i) := hq qa rfl
    have e0 : (fun i => lN (qa (up σ.2.1 j (sG (σ.2.1 j) v) i))) = fun i => lN (qa (σ.2.1 i)) := funext fun i => congrArg lN (congrFun h0 i)
    have h1 : (fun i => qb (up σ.2.1 j (sG (σ.2.1 j) v) i)) = fun i => qb (σ.2.1 i) := hq qb rfl
    have e1 : (fun i => lN (qb (up σ.2.1 j (sG (σ.2.1 j) v) i))) = fun i => lN (qb (σ.2.1 i)) := funext fun i => congrArg lN (congrFun h1 i)
    have h2 : (fun i => qt (up σ.2.1 j (sG (σ.2.1 j) v) i)) = fun i => qt (σ.2.1 i) := hq qt rfl
    have e2 : (fun i => lN (qt (up σ.2.1 j (sG (σ.2.1 j) v) i))) = fun i => lN (qt (σ.2.1 i)) := funext fun i => congrArg lN (congrFun h2 i)
    have h3 : (fun i => qp (up σ.2.1 j (sG (σ.2.1 j) v) i)) = fun i => qp (σ.2.1 i) := hq qp rfl
    have e3 : (fun i => nI (qp (up σ.2.1 j (sG (σ.2.1 j) v) i))) = fun i => nI (qp (σ.2.1 i)) := funext fun i => congrArg nI (congrFun h3 i)
    have h4 : (fun i => qy (up σ.2.1 j (sG (σ.2.1 j) v) i)) = fun i => qy (σ.2.1 i) := hq qy rfl
    have e4 : (fun i => nI (qy (up σ.2.1 j (sG (σ.2.1 j) v) i))) = fun i => nI (qy (σ.2.1 i)) := funext fun i => congrArg nI (congrFun h4 i)
    rcases (show i = 17 ∨ i = 18 ∨ i = 19 ∨ i = 20 ∨ i = 21 ∨ i = 22 ∨ i = 23 ∨ i = 24 ∨ i = 25 ∨ i = 26 by omega) with rfl | rfl | rfl | rfl | rfl | rfl | rfl | rfl | rfl | rfl
    · rfl
    · rfl
    · rfl
    · exact congrArg (fun f => (Sum.inl (cx.2.1 0, 16, .inr (.inl f)) : va_E)) e0
    · exact congrArg (fun f => (Sum.inl (cx.2.1 0, 16, .inr (.inl f)) : va_E)) e1
    · exact congrArg (fun f => (Sum.inl (cx.2.1 0, 16, .inr (.inl f)) : va_E)) e2
    · exact congrArg (fun f => (Sum.inl (cx.2.1 1, 16, .inl f) : va_E)) e3
    · exact congrArg (fun f => (Sum.inl (cx.2.1 1, 16, .inl f) : va_E)) e4
    · exact absurd rfl hne
    · rfl
theorem ol_ld (S : Fx p s m args meth c cc nL own ret) (hK : Sk cx s s.heap) (hO : Ok cx s σ H locs) (hdg : decode cc pc = .ok (.laload, 1)) (kk : W p l e R s m args below meth c H locs cells slots Q (F0 m (pc + 1) ls (.long σ.2.2.2 :: rest))) : W p l e R s m args below meth c H locs cells slots Q (F0 m pc ls (.int 0 :: .ref (ad cx 26) :: rest)) :=
  va_lald (D := cx.1) (cl := cls0) (tys := tys cx) (ws := wl cx σ) (a := ad cx 26) S.1 S.2.1 hK.1 hO.1 26 0 (cA := cx.2.1 0) (n := 1) (f := fun j => if j = 0 then σ.2.2.2 else 0) (wl_at (by decide)) rfl (i := 0) vin0 hdg kk
theorem ol_st (hC : Cg cx) (S : Fx p s m args meth c cc nL own ret) (hK : Sk cx s s.heap) (hO : Ok cx s σ H locs) {v : Int64} (hdg : decode cc pc = .ok (.lastore, 1)) (kk : ∀ (H' : Heap) (locs' : List Loc), Ok cx s (σ.1, σ.2.1, σ.2.2.1, v) H' locs' → W p l e R s m args below meth c H' locs' cells slots Q (F0 m (pc + 1) ls rest)) : W p l e R s m args below meth c H locs cells slots Q (F0 m pc ls (.long v :: .int 0 :: .ref (ad cx 26) :: rest)) := by
  refine va_last (D := cx.1) (cl := cls0) (tys := tys cx) (ws := wl cx σ) (a := ad cx 26) S.1 S.2.1 hK.1 hO.1 (wl_D hC) hO.2 26 0 (cA := cx.2.1 0) (n := 1) (f := fun j => if j = 0 then σ.2.2.2 else 0) (wl_at (by decide)) rfl (i := 0) vin0 hdg (fun H1 locs1 hP _ hS => kk H1 locs1 ⟨?_, hS⟩)
  rw [set_M (M' := σ.2.1) (x := σ.2.2.1) (o := v) (by decide) (by decide) ?_ (fun j hj hne h17 => ?_)] at hP
  · exact hP
  · show (Sum.inl (cx.2.1 0, 1, .inr (.inl (fun j => if j = 0 then v else 0))) : va_E) = Sum.inl (cx.2.1 0, 1, .inr (.inl (vp_updL (fun j => if j = 0 then σ.2.2.2 else 0) 0 v)))
    have h : (fun j => if j = 0 then v else 0) = vp_updL (fun j => if j = 0 then σ.2.2.2 else 0) 0 v := by
      funext j; by_cases h : j = 0 <;> simp [vp_updL, h]
    rw [h]
  · rcases (show j = 17 ∨ j = 18 ∨ j = 19 ∨ j = 20 ∨ j = 21 ∨ j = 22 ∨ j = 23 ∨ j = 24 ∨ j = 25 ∨ j = 26 by omega) with rfl | rfl | rfl | rfl | rfl | rfl | rfl | rfl | rfl | rfl <;> first | rfl | exact absurd rfl hne
end GmA
end
section
/-! Ends, calls by contract in the shapes that occur, the throw of a new exception, joins (printed by gen/calls.py) -/
section GmE
variable {p : Program} {l : Launch} {e : Env} {R : Room} {s : State} {m : MethodId} {args : Array Value} {below : List Frame} {meth : Method} {c : Code} {H : Heap} {locs : List Loc} {cells slots mc ms : Nat} {Q : State → Prop}
variable {cc : ByteArray} {own : String} {ret : Option FieldType} {nL index pc : Nat} {ls : Array Slot} {rest st : List Value} {cx : Cx} {σ σ' : Sg} {y : MethodName} {f lo maxL n : Nat}
theorem rt_i (S : Fx p s m args meth c cc nL own (some .int)) (hO : Ok cx s σ' H locs) {v : Int32} (hc : cells ≤ mc) (hs : slots ≤ ms) (hdg : decode cc pc = .ok (.ireturn, 1)) : W p l e R s m args below meth c H locs cells slots (MX below (Sq cx (.inl (some (.int v))) σ') args s mc ms (gA cx.2.2.2)) (F0 m pc ls [.int v]) :=
  W.widen hc hs (W.mono MQ.toMX (W.iret S.1 S.2.1 S.2.2.2.2.2.1 (fun t ht hW => ⟨rfl, by rw [ht]; exact hO.1, hO.2.F ht⟩) hO.2.2.2 hdg S.2.2.2.2.2.2))
theorem rt_z (S : Fx p s m args meth c cc nL own (some .boolean)) (hO : Ok cx s σ' H locs) {v : Int32} (hn : narrow .boolean (.int v) = .int v) (hc : cells ≤ mc) (hs : slots ≤ ms) (hdg : decode cc pc = .ok (.ireturn, 1)) : W p l e R s m args below meth c H locs cells slots (MX below (Sq cx (.inl (some (.int v))) σ') args s mc ms (gA cx.2.2.2)) (F0 m pc ls [.int v]) :=
  W.widen hc hs (W.mono MQ.toMX (W.zret S.1 S.2.1 S.2.2.2.2.2.1 hn (fun t ht hW => ⟨rfl, by rw [ht]; exact hO.1, hO.2.F ht⟩) hO.2.2.2 hdg S.2.2.2.2.2.2))
theorem rt_v (S : Fx p s m args meth c cc nL own none) (hO : Ok cx s σ' H locs) (hc : cells ≤ mc) (hs : slots ≤ ms) (hdg : decode cc pc = .ok (.return_, 1)) : W p l e R s m args below meth c H locs cells slots (MX below (Sq cx (.inl none) σ') args s mc ms (gA cx.2.2.2)) (F0 m pc ls []) :=
  W.widen hc hs (W.mono MQ.toMX (W.vret S.1 S.2.1 S.2.2.2.2.2.1 (fun t ht hW => ⟨rfl, by rw [ht]; exact hO.1, hO.2.F ht⟩) hO.2.2.2 hdg S.2.2.2.2.2.2))
theorem no_loc {fr : Nat → Prop} : ∀ q ∈ ([] : List Loc), fr q.base := fun q h => nomatch h
theorem rp_i (S : Fx p s m args meth c cc nL own (some .int)) {v : Int32} (hdg : decode cc pc = .ok (.ireturn, 1)) : W p l e R s m args below meth c s.heap [] 0 0 (MX below (Pq (some (.int v))) args s 0 0 (fun _ => False)) (F0 m pc ls [.int v]) :=
  W.mono MQ.toMX (W.iret S.1 S.2.1 S.2.2.2.2.2.1 (fun t ht hW => ⟨rfl, ht⟩) no_loc hdg S.2.2.2.2.2.2)
theorem rp_z (S : Fx p s m args meth c cc nL own (some .boolean)) {v : Int32} (hn : narrow .boolean (.int v) = .int v) (hdg : decode cc pc = .ok (.ireturn, 1)) : W p l e R s m args below meth c s.heap [] 0 0 (MX below (Pq (some (.int v))) args s 0 0 (fun _ => False)) (F0 m pc ls [.int v]) :=
  W.mono MQ.toMX (W.zret S.1 S.2.1 S.2.2.2.2.2.1 hn (fun t ht hW => ⟨rfl, ht⟩) no_loc hdg S.2.2.2.2.2.2)
theorem rp_l (S : Fx p s m args meth c cc nL own (some .long)) {v : Int64} (hdg : decode cc pc = .ok (.lreturn, 1)) : W p l e R s m args below meth c s.heap [] 0 0 (MX below (Pq (some (.long v))) args s 0 0 (fun _ => False)) (F0 m pc ls [.long v]) :=
  W.mono MQ.toMX (W.lret S.1 S.2.1 S.2.2.2.2.2.1 (fun t ht hW => ⟨rfl, ht⟩) no_loc hdg S.2.2.2.2.2.2)
theorem rp_v (S : Fx p s m args meth c cc nL own none) (hdg : decode cc pc = .ok (.return_, 1)) : W p l e R s m args below meth c s.heap [] 0 0 (MX below (Pq none) args s 0 0 (fun _ => False)) (F0 m pc ls []) :=
  W.mono MQ.toMX (W.vret S.1 S.2.1 S.2.2.2.2.2.1 (fun t ht hW => ⟨rfl, ht⟩) no_loc hdg S.2.2.2.2.2.2)
theorem rp_a {N : String} (S : Fx p s m args meth c cc nL own (some (.object N))) {a : Nat} (hdg : decode cc pc = .ok (.areturn, 1)) : W p l e R s m args below meth c s.heap [] 0 0 (MX below (Pq (some (.ref a))) args s 0 0 (fun _ => False)) (F0 m pc ls [.ref a]) :=
  W.mono MQ.toMX (W.aret S.1 S.2.1 S.2.2.2.2.2.1 (Or.inl ⟨N, rfl⟩) (Or.inr ⟨a, rfl⟩) (fun t ht hW => ⟨rfl, ht⟩) no_loc hdg S.2.2.2.2.2.2)
theorem tp_i {x z : Int32} (h : x = z) (k : W p l e R s m args below meth c H locs cells slots Q (F0 m pc ls (.int z :: rest))) : W p l e R s m args below meth c H locs cells slots Q (F0 m pc ls (.int x :: rest)) := by rw [h]; exact k
theorem tp_l {x z : Int64} (h : x = z) (k : W p l e R s m args below meth c H locs cells slots Q (F0 m pc ls (.long z :: rest))) : W p l e R s m args below meth c H locs cells slots Q (F0 m pc ls (.long x :: rest)) := by rw [h]; exact k
theorem bi_1 {b : Bool} (h : b = true) : (1 : Int32) = bi b := by rw [h]; rfl
theorem bi_o {b : Bool} (h : b = false) : (0 : Int32) = bi b := by rw [h]; rfl
/-- a condition's paths meet at pc2 with its truth on the stack -/
theorem mg_b (φ : Bool) (pc2 : Nat) (tail : W p l e R s m args below meth c H locs cells slots Q (F0 m pc2 ls (.int (bi φ) :: rest))) (start : (∀ z : Int32, z = bi φ → W p l e R s m args below meth c H locs cells slots Q (F0 m pc2 ls (.int z :: rest))) → W p l e R s m args below meth c H locs cells slots Q (F0 m pc ls rest)) : W p l e R s m args below meth c H locs cells slots Q (F0 m pc ls rest) :=
  start (fun z hz => by rw [hz]; exact tail)
/-- a loop that counts up and leaves the heap alone -/
theorem lp_up (I : Nat → Array Slot → Prop) (N k0 : Nat) (h0 : I k0 ls) (hk : k0 ≤ N)
    (step : ∀ (k : Nat) (ls : Array Slot), k < N → I k ls → (∀ ls' : Array Slot, I (k + 1) ls' → W p l e R s m args below meth c H locs cells slots Q (F0 m pc ls' rest)) → W p l e R s m args below meth c H locs cells slots Q (F0 m pc ls rest))
    (fin : ∀ ls : Array Slot, I N ls → W p l e R s m args below meth c H locs cells slots Q (F0 m pc ls rest)) : W p l e R s m args below meth c H locs cells slots Q (F0 m pc ls rest) := by
  have key : ∀ (d k : Nat) (ls : Array Slot), k + d = N → I k ls → W p l e R s m args below meth c H locs cells slots Q (F0 m pc ls rest) := by
    intro d
    induction d with
    | zero => intro k ls h hI; have : k = N := by omega
              subst this; exact fin ls hI
    | succ d ih => intro k ls h hI; exact step k ls (by omega) hI (fun ls' h' => ih (k + 1) ls' (by omega) h')
  exact key (N - k0) k0 ls (by omega) h0
theorem ok_eq (h : σ = σ') (hO : Ok cx s σ H locs) : Ok cx s σ' H locs := h ▸ hO
/-- behind a call -/
theorem ok_call {st₀ t T' : State} {L : List Loc} (hO : Ok cx s σ H locs) (h0 : st₀.heap = H) (e1 : T'.heap = t.heap) (hsys : sys cx σ' t.heap) (hF : va_F (gA cx.2.2.2) st₀ t) (hL : ∀ q ∈ L, gA cx.2.2.2 q.base) : Ok cx s σ' T'.heap (locs ++ L) := by
  obtain ⟨hz, hk⟩ := hF
  rw [h0] at hz hk
  refine ⟨by rw [e1]; exact hsys, Nat.le_trans hO.2.1 (by rw [e1]; exact hz), fun q h1 h2 => ?_, fun q hq => ?_⟩
  · rw [e1, hk q (Nat.lt_of_lt_of_le h1 hO.2.1) h2]; exact hO.2.2.1 q h1 h2
  · rcases List.mem_append.mp hq with h | h
    · exact hO.2.2.2 q h
    · exact hL q h
theorem gr_ret {v : Option Value} {a : Array Value} (hr : GR p l e R s m args below meth c H locs cells slots mc ms (gA cx.2.2.2) pc ls st rest (Sq cx (.inl v) σ' a)) (hO : Ok cx s σ H locs)
    (kk : ∀ (H' : Heap) (locs' : List Loc), Ok cx s σ' H' locs' → W p l e R s m args below meth c H' locs' (cells + mc) (slots + ms) Q (F0 m (pc + 3) ls (v.toList ++ rest))) : W p l e R s m args below meth c H locs cells slots Q (F0 m pc ls st) := by
  intro T hT X
  obtain ⟨o, st₀, t, T', L, h0, -, X', hL, e1, e2, ⟨ho, hsys, hF⟩, hret, -⟩ := hr T hT X
  obtain ⟨t2, a1, b1⟩ := kk T'.heap (locs ++ L) (ok_call hO h0 e1 hsys hF hL) T' rfl X'
  exact ⟨t2, hret v ho t2 a1, b1⟩
theorem gr_pure {v : Option Value} {a : Array Value} (hr : GR p l e R s m args below meth c H locs cells slots 0 0 (fun _ => False) pc ls st rest (Pq v a))
    (kk : W p l e R s m args below meth c H locs cells slots Q (F0 m (pc + 3) ls (v.toList ++ rest))) : W p l e R s m args below meth c H locs cells slots Q (F0 m pc ls st) := by
  intro T hT X
  obtain ⟨o, st₀, t, T', L, h0, -, X', hL, e1, e2, ⟨ho, hh⟩, hret, -⟩ := hr T hT X
  have hLe : L = [] := by
    cases L with
    | nil => rfl
    | cons q L => exact (hL q List.mem_cons_self).elim
  subst hLe
  rw [List.append_nil] at X'
  obtain ⟨t2, a1, b1⟩ := kk T' (by rw [e1, hh, h0]) X'
  exact ⟨t2, hret v ho t2 a1, b1⟩
theorem gr_thr {k : Nat} {a : Array Value} (hr : GR p l e R s m args below meth c H locs cells slots mc ms (gA cx.2.2.2) pc ls st rest (Sq cx (.inr k) σ' a)) (hO : Ok cx s σ H locs)
    (kk : ∀ (x : Addr) (cell : Cell) (H' : Heap) (locs' : List Loc), Ok cx s σ' H' locs' → H'[x]? = some cell → cell.vm = .none → s.vm.findClass (exN k) = some cell.cls → WT p l e R s m args below meth c H' locs' (cells + mc) (slots + ms) Q x (F0 m pc ls rest)) : W p l e R s m args below meth c H locs cells slots Q (F0 m pc ls st) := by
  intro T hT X
  obtain ⟨o, st₀, t, T', L, h0, hW0, X', hL, e1, e2, ⟨⟨x, cell, ho, hx, hvm, hcl⟩, hsys, hF⟩, -, hthr⟩ := hr T hT X
  obtain ⟨t2, a1, b1⟩ := kk x cell T'.heap (locs ++ L) (ok_call hO h0 e1 hsys hF hL) (by rw [e1]; exact hx) hvm (by rw [← hW0.alike.findClass]; exact hcl) T' rfl X'
  exact ⟨t2, hthr x ho t2 a1, b1⟩
theorem WT.widen {k n : Nat} {x : Addr} {g : JFrame} (h1 : cells ≤ k) (h2 : slots ≤ n) (kk : WT p l e R s m args below meth c H locs k n Q x g) : WT p l e R s m args below meth c H locs cells slots Q x g := fun T hT X => kk T hT (stand_widen X h1 h2)
theorem gr_leave {k mc2 ms2 : Nat} {a : Array Value} (hr : GR p l e R s m args below meth c H locs cells slots mc ms (gA cx.2.2.2) pc ls st rest (Sq cx (.inr k) σ' a)) (hO : Ok cx s σ H locs) (hno : c.exceptionTable.toList = []) (hlk : meth.locks = false) (hc : cells + mc ≤ mc2) (hs : slots + ms ≤ ms2) :
    W p l e R s m args below meth c H locs cells slots (MX below (Sq cx (.inr k) σ') args s mc2 ms2 (gA cx.2.2.2)) (F0 m pc ls st) :=
  gr_thr hr hO (fun x cell H' locs' hO' hx hvm hcl => WT.widen hc hs (WT.leave hno hlk (fun t ht hW => ⟨⟨x, cell, rfl, by rw [ht]; exact hx, hvm, hcl⟩, by rw [ht]; exact hO'.1, hO'.2.F ht⟩) hO'.2.2.2))
theorem rv_G (hK : Sk cx s s.heap) (hO : Ok cx s σ H locs) {i : Nat} (hi : i < 17) : ∃ cell : Cell, H[ad cx i]? = some cell ∧ cell.vm.isStatics = false ∧ s.vm.findClass R_G = some cell.cls := va_recv (q := (R_G, F_G, 6)) hK.1 hO.1 rfl (wl_G hi)
theorem rv_X (hK : Sk cx s s.heap) (hO : Ok cx s σ H locs) : ∃ cell : Cell, H[ad cx 17]? = some cell ∧ cell.vm.isStatics = false ∧ s.vm.findClass R_X = some cell.cls := va_recv (ci := 1) (q := (R_X, F_X, 2)) hK.1 hO.1 rfl (wl_at (by decide))
theorem rv_M (hK : Sk cx s s.heap) (hO : Ok cx s σ H locs) : ∃ cell : Cell, H[ad cx 19]? = some cell ∧ cell.vm.isStatics = false ∧ s.vm.findClass R_M = some cell.cls := va_recv (ci := 2) (q := (R_M, F_M, 7)) hK.1 hO.1 rfl (wl_at (by decide))
theorem cG1v (S : Fx p s m args meth c cc nL own ret) (hK : Sk cx s s.heap) (hO : Ok cx s σ H locs) {i : Nat} (hi : i < 17) {a1 : Value} (hM : CT l cx y f lo mc ms [.ref (ad cx i), a1] σ (.inl none) σ') (V : Vw R_G y maxL 1) (hlink : Cond.methodLink own index y ∈ gw) (hfr : f + 1 ≤ R.frames) (hlo : 16 + (maxL + 11) + lo ≤ R.locals) (hf : cells + mc ≤ R.cells ∧ slots + ms ≤ R.slots) (hsize : ls.size = nL) (hW : (rest.map fun v => v.category).sum ≤ 16) (hdg : decode cc pc = .ok (.invokevirtual index, 3)) (kk : ∀ (H' : Heap) (locs' : List Loc), Ok cx s σ' H' locs' → W p l e R s m args below meth c H' locs' (cells + mc) (slots + ms) Q (F0 m (pc + 3) ls (rest))) : W p l e R s m args below meth c H locs cells slots Q (F0 m pc ls (a1 :: .ref (ad cx i) :: rest)) :=
  gr_ret (gm_runV (As := [a1]) S hM sp_blind V hlink (rv_G hK hO hi) (sp_of hO hK) hfr hlo hf rfl hsize rfl hW hdg) hO kk
theorem cG4v (S : Fx p s m args meth c cc nL own ret) (hK : Sk cx s s.heap) (hO : Ok cx s σ H locs) {i : Nat} (hi : i < 17) {a1 a2 a3 a4 : Value} (hM : CT l cx y f lo mc ms [.ref (ad cx i), a1, a2, a3, a4] σ (.inl none) σ') (V : Vw R_G y maxL 4) (hlink : Cond.methodLink own index y ∈ gw) (hfr : f + 1 ≤ R.frames) (hlo : 16 + (maxL + 11) + lo ≤ R.locals) (hf : cells + mc ≤ R.cells ∧ slots + ms ≤ R.slots) (hsize : ls.size = nL) (hW : (rest.map fun v => v.category).sum ≤ 16) (hdg : decode cc pc = .ok (.invokevirtual index, 3)) (kk : ∀ (H' : Heap) (locs' : List Loc), Ok cx s σ' H' locs' → W p l e R s m args below meth c H' locs' (cells + mc) (slots + ms) Q (F0 m (pc + 3) ls (rest))) : W p l e R s m args below meth c H locs cells slots Q (F0 m pc ls (a4 :: a3 :: a2 :: a1 :: .ref (ad cx i) :: rest)) :=
  gr_ret (gm_runV (As := [a1, a2, a3, a4]) S hM sp_blind V hlink (rv_G hK hO hi) (sp_of hO hK) hfr hlo hf rfl hsize rfl hW hdg) hO kk
theorem cG0p (S : Fx p s m args meth c cc nL own ret) (hK : Sk cx s s.heap) (hO : Ok cx s σ H locs) {i : Nat} (hi : i < 17) {v : Value} (hM : CP l cx y f lo [.ref (ad cx i)] σ (some v)) (V : Vw R_G y maxL 0) (hlink : Cond.methodLink own index y ∈ gw) (hfr : f + 1 ≤ R.frames) (hlo : 16 + (maxL + 11) + lo ≤ R.locals) (hf : cells ≤ R.cells ∧ slots ≤ R.slots) (hsize : ls.size = nL) (hW : (rest.map fun v => v.category).sum ≤ 16) (hdg : decode cc pc = .ok (.invokevirtual index, 3)) (kk : W p l e R s m args below meth c H locs cells slots Q (F0 m (pc + 3) ls (v :: rest))) : W p l e R s m args below meth c H locs cells slots Q (F0 m pc ls (.ref (ad cx i) :: rest)) :=
  gr_pure (gm_runV (As := []) S hM sp_blind V hlink (rv_G hK hO hi) (sp_of hO hK) hfr hlo hf rfl hsize rfl hW hdg) kk
theorem cG1p (S : Fx p s m args meth c cc nL own ret) (hK : Sk cx s s.heap) (hO : Ok cx s σ H locs) {i : Nat} (hi : i < 17) {a1 : Value} {v : Value} (hM : CP l cx y f lo [.ref (ad cx i), a1] σ (some v)) (V : Vw R_G y maxL 1) (hlink : Cond.methodLink own index y ∈ gw) (hfr : f + 1 ≤ R.frames) (hlo : 16 + (maxL + 11) + lo ≤ R.locals) (hf : cells ≤ R.cells ∧ slots ≤ R.slots) (hsize : ls.size = nL) (hW : (rest.map fun v => v.category).sum ≤ 16) (hdg : decode cc pc = .ok (.invokevirtual index, 3)) (kk : W p l e R s m args below meth c H locs cells slots Q (F0 m (pc + 3) ls (v :: rest))) : W p l e R s m args below meth c H locs cells slots Q (F0 m pc ls (a1 :: .ref (ad cx i) :: rest)) :=
  gr_pure (gm_runV (As := [a1]) S hM sp_blind V hlink (rv_G hK hO hi) (sp_of hO hK) hfr hlo hf rfl hsize rfl hW hdg) kk
theorem cG2p (S : Fx p s m args meth c cc nL own ret) (hK : Sk cx s s.heap) (hO : Ok cx s σ H locs) {i : Nat} (hi : i < 17) {a1 a2 : Value} {v : Value} (hM : CP l cx y f lo [.ref (ad cx i), a1, a2] σ (some v)) (V : Vw R_G y maxL 2) (hlink : Cond.methodLink own index y ∈ gw) (hfr : f + 1 ≤ R.frames) (hlo : 16 + (maxL + 11) + lo ≤ R.locals) (hf : cells ≤ R.cells ∧ slots ≤ R.slots) (hsize : ls.size = nL) (hW : (rest.map fun v => v.category).sum ≤ 16) (hdg : decode cc pc = .ok (.invokevirtual index, 3)) (kk : W p l e R s m args below meth c H locs cells slots Q (F0 m (pc + 3) ls (v :: rest))) : W p l e R s m args below meth c H locs cells slots Q (F0 m pc ls (a2 :: a1 :: .ref (ad cx i) :: rest)) :=
  gr_pure (gm_runV (As := [a1, a2]) S hM sp_blind V hlink (rv_G hK hO hi) (sp_of hO hK) hfr hlo hf rfl hsize rfl hW hdg) kk
theorem cX1p (S : Fx p s m args meth c cc nL own ret) (hK : Sk cx s s.heap) (hO : Ok cx s σ H locs) {a1 : Value} {v : Value} (hM : CP l cx y f lo [.ref (ad cx 17), a1] σ (some v)) (V : Vw R_X y maxL 1) (hlink : Cond.methodLink own index y ∈ gw) (hfr : f + 1 ≤ R.frames) (hlo : 16 + (maxL + 11) + lo ≤ R.locals) (hf : cells ≤ R.cells ∧ slots ≤ R.slots) (hsize : ls.size = nL) (hW : (rest.map fun v => v.category).sum ≤ 16) (hdg : decode cc pc = .ok (.invokevirtual index, 3)) (kk : W p l e R s m args below meth c H locs cells slots Q (F0 m (pc + 3) ls (v :: rest))) : W p l e R s m args below meth c H locs cells slots Q (F0 m pc ls (a1 :: .ref (ad cx 17) :: rest)) :=
  gr_pure (gm_runV (As := [a1]) S hM sp_blind V hlink (rv_X hK hO) (sp_of hO hK) hfr hlo hf rfl hsize rfl hW hdg) kk
theorem cX1t (S : Fx p s m args meth c cc nL own ret) (hK : Sk cx s s.heap) (hO : Ok cx s σ H locs) {a1 : Value} {k : Nat} {mc2 ms2 : Nat} (hno : c.exceptionTable.toList = []) (hM : CT l cx y f lo mc ms [.ref (ad cx 17), a1] σ (.inr k) σ') (V : Vw R_X y maxL 1) (hlink : Cond.methodLink own index y ∈ gw) (hfr : f + 1 ≤ R.frames) (hlo : 16 + (maxL + 11) + lo ≤ R.locals) (hf : cells + mc ≤ R.cells ∧ slots + ms ≤ R.slots) (hsize : ls.size = nL) (hW : (rest.map fun v => v.category).sum ≤ 16) (hdg : decode cc pc = .ok (.invokevirtual index, 3)) (hc : cells + mc ≤ mc2) (hs : slots + ms ≤ ms2) : W p l e R s m args below meth c H locs cells slots (MX below (Sq cx (.inr k) σ') args s mc2 ms2 (gA cx.2.2.2)) (F0 m pc ls (a1 :: .ref (ad cx 17) :: rest)) :=
  gr_leave (gm_runV (As := [a1]) S hM sp_blind V hlink (rv_X hK hO) (sp_of hO hK) hfr hlo hf rfl hsize rfl hW hdg) hO hno S.2.2.2.2.2.2 hc hs
theorem cM2r (S : Fx p s m args meth c cc nL own ret) (hK : Sk cx s s.heap) (hO : Ok cx s σ H locs) {a1 a2 : Value} {v : Value} (hM : CT l cx y f lo mc ms [.ref (ad cx 19), a1, a2] σ (.inl (some v)) σ') (V : Vw R_M y maxL 2) (hlink : Cond.methodLink own index y ∈ gw) (hfr : f + 1 ≤ R.frames) (hlo : 16 + (maxL + 11) + lo ≤ R.locals) (hf : cells + mc ≤ R.cells ∧ slots + ms ≤ R.slots) (hsize : ls.size = nL) (hW : (rest.map fun v => v.category).sum ≤ 16) (hdg : decode cc pc = .ok (.invokevirtual index, 3)) (kk : ∀ (H' : Heap) (locs' : List Loc), Ok cx s σ' H' locs' → W p l e R s m args below meth c H' locs' (cells + mc) (slots + ms) Q (F0 m (pc + 3) ls (v :: rest))) : W p l e R s m args below meth c H locs cells slots Q (F0 m pc ls (a2 :: a1 :: .ref (ad cx 19) :: rest)) :=
  gr_ret (gm_runV (As := [a1, a2]) S hM sp_blind V hlink (rv_M hK hO) (sp_of hO hK) hfr hlo hf rfl hsize rfl hW hdg) hO kk
theorem cM7v (S : Fx p s m args meth c cc nL own ret) (hK : Sk cx s s.heap) (hO : Ok cx s σ H locs) {a1 a2 a3 a4 a5 a6 a7 : Value} (hM : CT l cx y f lo mc ms [.ref (ad cx 19), a1, a2, a3, a4, a5, a6, a7] σ (.inl none) σ') (V : Vw R_M y maxL 7) (hlink : Cond.methodLink own index y ∈ gw) (hfr : f + 1 ≤ R.frames) (hlo : 16 + (maxL + 11) + lo ≤ R.locals) (hf : cells + mc ≤ R.cells ∧ slots + ms ≤ R.slots) (hsize : ls.size = nL) (hW : (rest.map fun v => v.category).sum ≤ 16) (hdg : decode cc pc = .ok (.invokevirtual index, 3)) (kk : ∀ (H' : Heap) (locs' : List Loc), Ok cx s σ' H' locs' → W p l e R s m args below meth c H' locs' (cells + mc) (slots + ms) Q (F0 m (pc + 3) ls (rest))) : W p l e R s m args below meth c H locs cells slots Q (F0 m pc ls (a7 :: a6 :: a5 :: a4 :: a3 :: a2 :: a1 :: .ref (ad cx 19) :: rest)) :=
  gr_ret (gm_runV (As := [a1, a2, a3, a4, a5, a6, a7]) S hM sp_blind V hlink (rv_M hK hO) (sp_of hO hK) hfr hlo hf rfl hsize rfl hW hdg) hO kk
theorem cM1p (S : Fx p s m args meth c cc nL own ret) (hK : Sk cx s s.heap) (hO : Ok cx s σ H locs) {a1 : Value} {v : Value} (hM : CP l cx y f lo [.ref (ad cx 19), a1] σ (some v)) (V : Vw R_M y maxL 1) (hlink : Cond.methodLink own index y ∈ gw) (hfr : f + 1 ≤ R.frames) (hlo : 16 + (maxL + 11) + lo ≤ R.locals) (hf : cells ≤ R.cells ∧ slots ≤ R.slots) (hsize : ls.size = nL) (hW : (rest.map fun v => v.category).sum ≤ 16) (hdg : decode cc pc = .ok (.invokevirtual index, 3)) (kk : W p l e R s m args below meth c H locs cells slots Q (F0 m (pc + 3) ls (v :: rest))) : W p l e R s m args below meth c H locs cells slots Q (F0 m pc ls (a1 :: .ref (ad cx 19) :: rest)) :=
  gr_pure (gm_runV (As := [a1]) S hM sp_blind V hlink (rv_M hK hO) (sp_of hO hK) hfr hlo hf rfl hsize rfl hW hdg) kk
theorem cM2p (S : Fx p s m args meth c cc nL own ret) (hK : Sk cx s s.heap) (hO : Ok cx s σ H locs) {a1 a2 : Value} {v : Value} (hM : CP l cx y f lo [.ref (ad cx 19), a1, a2] σ (some v)) (V : Vw R_M y maxL 2) (hlink : Cond.methodLink own index y ∈ gw) (hfr : f + 1 ≤ R.frames) (hlo : 16 + (maxL + 11) + lo ≤ R.locals) (hf : cells ≤ R.cells ∧ slots ≤ R.slots) (hsize : ls.size = nL) (hW : (rest.map fun v => v.category).sum ≤ 16) (hdg : decode cc pc = .ok (.invokevirtual index, 3)) (kk : W p l e R s m args below meth c H locs cells slots Q (F0 m (pc + 3) ls (v :: rest))) : W p l e R s m args below meth c H locs cells slots Q (F0 m pc ls (a2 :: a1 :: .ref (ad cx 19) :: rest)) :=
  gr_pure (gm_runV (As := [a1, a2]) S hM sp_blind V hlink (rv_M hK hO) (sp_of hO hK) hfr hlo hf rfl hsize rfl hW hdg) kk
theorem cM3p (S : Fx p s m args meth c cc nL own ret) (hK : Sk cx s s.heap) (hO : Ok cx s σ H locs) {a1 a2 a3 : Value} {v : Value} (hM : CP l cx y f lo [.ref (ad cx 19), a1, a2, a3] σ (some v)) (V : Vw R_M y maxL 3) (hlink : Cond.methodLink own index y ∈ gw) (hfr : f + 1 ≤ R.frames) (hlo : 16 + (maxL + 11) + lo ≤ R.locals) (hf : cells ≤ R.cells ∧ slots ≤ R.slots) (hsize : ls.size = nL) (hW : (rest.map fun v => v.category).sum ≤ 16) (hdg : decode cc pc = .ok (.invokevirtual index, 3)) (kk : W p l e R s m args below meth c H locs cells slots Q (F0 m (pc + 3) ls (v :: rest))) : W p l e R s m args below meth c H locs cells slots Q (F0 m pc ls (a3 :: a2 :: a1 :: .ref (ad cx 19) :: rest)) :=
  gr_pure (gm_runV (As := [a1, a2, a3]) S hM sp_blind V hlink (rv_M hK hO) (sp_of hO hK) hfr hlo hf rfl hsize rfl hW hdg) kk
theorem cM0p (S : Fx p s m args meth c cc nL own ret) (hK : Sk cx s s.heap) (hO : Ok cx s σ H locs) {v : Value} (hM : CP l cx y f lo [.ref (ad cx 19)] σ (some v)) (V : Vw R_M y maxL 0) (hlink : Cond.methodLink own index y ∈ gw) (hfr : f + 1 ≤ R.frames) (hlo : 16 + (maxL + 11) + lo ≤ R.locals) (hf : cells ≤ R.cells ∧ slots ≤ R.slots) (hsize : ls.size = nL) (hW : (rest.map fun v => v.category).sum ≤ 16) (hdg : decode cc pc = .ok (.invokevirtual index, 3)) (kk : W p l e R s m args below meth c H locs cells slots Q (F0 m (pc + 3) ls (v :: rest))) : W p l e R s m args below meth c H locs cells slots Q (F0 m pc ls (.ref (ad cx 19) :: rest)) :=
  gr_pure (gm_runV (As := []) S hM sp_blind V hlink (rv_M hK hO) (sp_of hO hK) hfr hlo hf rfl hsize rfl hW hdg) kk
theorem cX4v (S : Fx p s m args meth c cc nL own ret) (hK : Sk cx s s.heap) (hO : Ok cx s σ H locs) {a1 a2 a3 a4 : Value} (hM : CT l cx y f lo mc ms [.ref (ad cx 17), a1, a2, a3, a4] σ (.inl none) σ') (V : Vw R_X y maxL 4) (hlink : Cond.methodLink own index y ∈ gw) (hfr : f + 1 ≤ R.frames) (hlo : 16 + (maxL + 11) + lo ≤ R.locals) (hf : cells + mc ≤ R.cells ∧ slots + ms ≤ R.slots) (hsize : ls.size = nL) (hW : (rest.map fun v => v.category).sum ≤ 16) (hdg : decode cc pc = .ok (.invokevirtual index, 3)) (kk : ∀ (H' : Heap) (locs' : List Loc), Ok cx s σ' H' locs' → W p l e R s m args below meth c H' locs' (cells + mc) (slots + ms) Q (F0 m (pc + 3) ls (rest))) : W p l e R s m args below meth c H locs cells slots Q (F0 m pc ls (a4 :: a3 :: a2 :: a1 :: .ref (ad cx 17) :: rest)) :=
  gr_ret (gm_runV (As := [a1, a2, a3, a4]) S hM sp_blind V hlink (rv_X hK hO) (sp_of hO hK) hfr hlo hf rfl hsize rfl hW hdg) hO kk
theorem cX2v (S : Fx p s m args meth c cc nL own ret) (hK : Sk cx s s.heap) (hO : Ok cx s σ H locs) {a1 a2 : Value} (hM : CT l cx y f lo mc ms [.ref (ad cx 17), a1, a2] σ (.inl none) σ') (V : Vw R_X y maxL 2) (hlink : Cond.methodLink own index y ∈ gw) (hfr : f + 1 ≤ R.frames) (hlo : 16 + (maxL + 11) + lo ≤ R.locals) (hf : cells + mc ≤ R.cells ∧ slots + ms ≤ R.slots) (hsize : ls.size = nL) (hW : (rest.map fun v => v.category).sum ≤ 16) (hdg : decode cc pc = .ok (.invokevirtual index, 3)) (kk : ∀ (H' : Heap) (locs' : List Loc), Ok cx s σ' H' locs' → W p l e R s m args below meth c H' locs' (cells + mc) (slots + ms) Q (F0 m (pc + 3) ls (rest))) : W p l e R s m args below meth c H locs cells slots Q (F0 m pc ls (a2 :: a1 :: .ref (ad cx 17) :: rest)) :=
  gr_ret (gm_runV (As := [a1, a2]) S hM sp_blind V hlink (rv_X hK hO) (sp_of hO hK) hfr hlo hf rfl hsize rfl hW hdg) hO kk
theorem cX3v (S : Fx p s m args meth c cc nL own ret) (hK : Sk cx s s.heap) (hO : Ok cx s σ H locs) {a1 a2 a3 : Value} (hM : CT l cx y f lo mc ms [.ref (ad cx 17), a1, a2, a3] σ (.inl none) σ') (V : Vw R_X y maxL 3) (hlink : Cond.methodLink own index y ∈ gw) (hfr : f + 1 ≤ R.frames) (hlo : 16 + (maxL + 11) + lo ≤ R.locals) (hf : cells + mc ≤ R.cells ∧ slots + ms ≤ R.slots) (hsize : ls.size = nL) (hW : (rest.map fun v => v.category).sum ≤ 16) (hdg : decode cc pc = .ok (.invokevirtual index, 3)) (kk : ∀ (H' : Heap) (locs' : List Loc), Ok cx s σ' H' locs' → W p l e R s m args below meth c H' locs' (cells + mc) (slots + ms) Q (F0 m (pc + 3) ls (rest))) : W p l e R s m args below meth c H locs cells slots Q (F0 m pc ls (a3 :: a2 :: a1 :: .ref (ad cx 17) :: rest)) :=
  gr_ret (gm_runV (As := [a1, a2, a3]) S hM sp_blind V hlink (rv_X hK hO) (sp_of hO hK) hfr hlo hf rfl hsize rfl hW hdg) hO kk
theorem cX3r (S : Fx p s m args meth c cc nL own ret) (hK : Sk cx s s.heap) (hO : Ok cx s σ H locs) {a1 a2 a3 : Value} {v : Value} (hM : CT l cx y f lo mc ms [.ref (ad cx 17), a1, a2, a3] σ (.inl (some v)) σ') (V : Vw R_X y maxL 3) (hlink : Cond.methodLink own index y ∈ gw) (hfr : f + 1 ≤ R.frames) (hlo : 16 + (maxL + 11) + lo ≤ R.locals) (hf : cells + mc ≤ R.cells ∧ slots + ms ≤ R.slots) (hsize : ls.size = nL) (hW : (rest.map fun v => v.category).sum ≤ 16) (hdg : decode cc pc = .ok (.invokevirtual index, 3)) (kk : ∀ (H' : Heap) (locs' : List Loc), Ok cx s σ' H' locs' → W p l e R s m args below meth c H' locs' (cells + mc) (slots + ms) Q (F0 m (pc + 3) ls (v :: rest))) : W p l e R s m args below meth c H locs cells slots Q (F0 m pc ls (a3 :: a2 :: a1 :: .ref (ad cx 17) :: rest)) :=
  gr_ret (gm_runV (As := [a1, a2, a3]) S hM sp_blind V hlink (rv_X hK hO) (sp_of hO hK) hfr hlo hf rfl hsize rfl hW hdg) hO kk
theorem cX4r (S : Fx p s m args meth c cc nL own ret) (hK : Sk cx s s.heap) (hO : Ok cx s σ H locs) {a1 a2 a3 a4 : Value} {v : Value} (hM : CT l cx y f lo mc ms [.ref (ad cx 17), a1, a2, a3, a4] σ (.inl (some v)) σ') (V : Vw R_X y maxL 4) (hlink : Cond.methodLink own index y ∈ gw) (hfr : f + 1 ≤ R.frames) (hlo : 16 + (maxL + 11) + lo ≤ R.locals) (hf : cells + mc ≤ R.cells ∧ slots + ms ≤ R.slots) (hsize : ls.size = nL) (hW : (rest.map fun v => v.category).sum ≤ 16) (hdg : decode cc pc = .ok (.invokevirtual index, 3)) (kk : ∀ (H' : Heap) (locs' : List Loc), Ok cx s σ' H' locs' → W p l e R s m args below meth c H' locs' (cells + mc) (slots + ms) Q (F0 m (pc + 3) ls (v :: rest))) : W p l e R s m args below meth c H locs cells slots Q (F0 m pc ls (a4 :: a3 :: a2 :: a1 :: .ref (ad cx 17) :: rest)) :=
  gr_ret (gm_runV (As := [a1, a2, a3, a4]) S hM sp_blind V hlink (rv_X hK hO) (sp_of hO hK) hfr hlo hf rfl hsize rfl hW hdg) hO kk
theorem cX2r (S : Fx p s m args meth c cc nL own ret) (hK : Sk cx s s.heap) (hO : Ok cx s σ H locs) {a1 a2 : Value} {v : Value} (hM : CT l cx y f lo mc ms [.ref (ad cx 17), a1, a2] σ (.inl (some v)) σ') (V : Vw R_X y maxL 2) (hlink : Cond.methodLink own index y ∈ gw) (hfr : f + 1 ≤ R.frames) (hlo : 16 + (maxL + 11) + lo ≤ R.locals) (hf : cells + mc ≤ R.cells ∧ slots + ms ≤ R.slots) (hsize : ls.size = nL) (hW : (rest.map fun v => v.category).sum ≤ 16) (hdg : decode cc pc = .ok (.invokevirtual index, 3)) (kk : ∀ (H' : Heap) (locs' : List Loc), Ok cx s σ' H' locs' → W p l e R s m args below meth c H' locs' (cells + mc) (slots + ms) Q (F0 m (pc + 3) ls (v :: rest))) : W p l e R s m args below meth c H locs cells slots Q (F0 m pc ls (a2 :: a1 :: .ref (ad cx 17) :: rest)) :=
  gr_ret (gm_runV (As := [a1, a2]) S hM sp_blind V hlink (rv_X hK hO) (sp_of hO hK) hfr hlo hf rfl hsize rfl hW hdg) hO kk
theorem cX2p (S : Fx p s m args meth c cc nL own ret) (hK : Sk cx s s.heap) (hO : Ok cx s σ H locs) {a1 a2 : Value} {v : Value} (hM : CP l cx y f lo [.ref (ad cx 17), a1, a2] σ (some v)) (V : Vw R_X y maxL 2) (hlink : Cond.methodLink own index y ∈ gw) (hfr : f + 1 ≤ R.frames) (hlo : 16 + (maxL + 11) + lo ≤ R.locals) (hf : cells ≤ R.cells ∧ slots ≤ R.slots) (hsize : ls.size = nL) (hW : (rest.map fun v => v.category).sum ≤ 16) (hdg : decode cc pc = .ok (.invokevirtual index, 3)) (kk : W p l e R s m args below meth c H locs cells slots Q (F0 m (pc + 3) ls (v :: rest))) : W p l e R s m args below meth c H locs cells slots Q (F0 m pc ls (a2 :: a1 :: .ref (ad cx 17) :: rest)) :=
  gr_pure (gm_runV (As := [a1, a2]) S hM sp_blind V hlink (rv_X hK hO) (sp_of hO hK) hfr hlo hf rfl hsize rfl hW hdg) kk
theorem cX4k (S : Fx p s m args meth c cc nL own ret) (hK : Sk cx s s.heap) (hO : Ok cx s σ H locs) {a1 a2 a3 a4 : Value} {k : Nat} (hM : CT l cx y f lo mc ms [.ref (ad cx 17), a1, a2, a3, a4] σ (.inr k) σ') (V : Vw R_X y maxL 4) (hlink : Cond.methodLink own index y ∈ gw) (hfr : f + 1 ≤ R.frames) (hlo : 16 + (maxL + 11) + lo ≤ R.locals) (hf : cells + mc ≤ R.cells ∧ slots + ms ≤ R.slots) (hsize : ls.size = nL) (hW : (rest.map fun v => v.category).sum ≤ 16) (hdg : decode cc pc = .ok (.invokevirtual index, 3)) (kk : ∀ (x : Addr) (cell : Cell) (H' : Heap) (locs' : List Loc), Ok cx s σ' H' locs' → H'[x]? = some cell → cell.vm = .none → s.vm.findClass (exN k) = some cell.cls → WT p l e R s m args below meth c H' locs' (cells + mc) (slots + ms) Q x (F0 m pc ls rest)) : W p l e R s m args below meth c H locs cells slots Q (F0 m pc ls (a4 :: a3 :: a2 :: a1 :: .ref (ad cx 17) :: rest)) :=
  gr_thr (gm_runV (As := [a1, a2, a3, a4]) S hM sp_blind V hlink (rv_X hK hO) (sp_of hO hK) hfr hlo hf rfl hsize rfl hW hdg) hO kk
theorem cX2k (S : Fx p s m args meth c cc nL own ret) (hK : Sk cx s s.heap) (hO : Ok cx s σ H locs) {a1 a2 : Value} {k : Nat} (hM : CT l cx y f lo mc ms [.ref (ad cx 17), a1, a2] σ (.inr k) σ') (V : Vw R_X y maxL 2) (hlink : Cond.methodLink own index y ∈ gw) (hfr : f + 1 ≤ R.frames) (hlo : 16 + (maxL + 11) + lo ≤ R.locals) (hf : cells + mc ≤ R.cells ∧ slots + ms ≤ R.slots) (hsize : ls.size = nL) (hW : (rest.map fun v => v.category).sum ≤ 16) (hdg : decode cc pc = .ok (.invokevirtual index, 3)) (kk : ∀ (x : Addr) (cell : Cell) (H' : Heap) (locs' : List Loc), Ok cx s σ' H' locs' → H'[x]? = some cell → cell.vm = .none → s.vm.findClass (exN k) = some cell.cls → WT p l e R s m args below meth c H' locs' (cells + mc) (slots + ms) Q x (F0 m pc ls rest)) : W p l e R s m args below meth c H locs cells slots Q (F0 m pc ls (a2 :: a1 :: .ref (ad cx 17) :: rest)) :=
  gr_thr (gm_runV (As := [a1, a2]) S hM sp_blind V hlink (rv_X hK hO) (sp_of hO hK) hfr hlo hf rfl hsize rfl hW hdg) hO kk
theorem cX3k (S : Fx p s m args meth c cc nL own ret) (hK : Sk cx s s.heap) (hO : Ok cx s σ H locs) {a1 a2 a3 : Value} {k : Nat} (hM : CT l cx y f lo mc ms [.ref (ad cx 17), a1, a2, a3] σ (.inr k) σ') (V : Vw R_X y maxL 3) (hlink : Cond.methodLink own index y ∈ gw) (hfr : f + 1 ≤ R.frames) (hlo : 16 + (maxL + 11) + lo ≤ R.locals) (hf : cells + mc ≤ R.cells ∧ slots + ms ≤ R.slots) (hsize : ls.size = nL) (hW : (rest.map fun v => v.category).sum ≤ 16) (hdg : decode cc pc = .ok (.invokevirtual index, 3)) (kk : ∀ (x : Addr) (cell : Cell) (H' : Heap) (locs' : List Loc), Ok cx s σ' H' locs' → H'[x]? = some cell → cell.vm = .none → s.vm.findClass (exN k) = some cell.cls → WT p l e R s m args below meth c H' locs' (cells + mc) (slots + ms) Q x (F0 m pc ls rest)) : W p l e R s m args below meth c H locs cells slots Q (F0 m pc ls (a3 :: a2 :: a1 :: .ref (ad cx 17) :: rest)) :=
  gr_thr (gm_runV (As := [a1, a2, a3]) S hM sp_blind V hlink (rv_X hK hO) (sp_of hO hK) hfr hlo hf rfl hsize rfl hW hdg) hO kk
theorem cM4v (S : Fx p s m args meth c cc nL own ret) (hK : Sk cx s s.heap) (hO : Ok cx s σ H locs) {a1 a2 a3 a4 : Value} (hM : CT l cx y f lo mc ms [.ref (ad cx 19), a1, a2, a3, a4] σ (.inl none) σ') (V : Vw R_M y maxL 4) (hlink : Cond.methodLink own index y ∈ gw) (hfr : f + 1 ≤ R.frames) (hlo : 16 + (maxL + 11) + lo ≤ R.locals) (hf : cells + mc ≤ R.cells ∧ slots + ms ≤ R.slots) (hsize : ls.size = nL) (hW : (rest.map fun v => v.category).sum ≤ 16) (hdg : decode cc pc = .ok (.invokevirtual index, 3)) (kk : ∀ (H' : Heap) (locs' : List Loc), Ok cx s σ' H' locs' → W p l e R s m args below meth c H' locs' (cells + mc) (slots + ms) Q (F0 m (pc + 3) ls (rest))) : W p l e R s m args below meth c H locs cells slots Q (F0 m pc ls (a4 :: a3 :: a2 :: a1 :: .ref (ad cx 19) :: rest)) :=
  gr_ret (gm_runV (As := [a1, a2, a3, a4]) S hM sp_blind V hlink (rv_M hK hO) (sp_of hO hK) hfr hlo hf rfl hsize rfl hW hdg) hO kk
theorem cM2v (S : Fx p s m args meth c cc nL own ret) (hK : Sk cx s s.heap) (hO : Ok cx s σ H locs) {a1 a2 : Value} (hM : CT l cx y f lo mc ms [.ref (ad cx 19), a1, a2] σ (.inl none) σ') (V : Vw R_M y maxL 2) (hlink : Cond.methodLink own index y ∈ gw) (hfr : f + 1 ≤ R.frames) (hlo : 16 + (maxL + 11) + lo ≤ R.locals) (hf : cells + mc ≤ R.cells ∧ slots + ms ≤ R.slots) (hsize : ls.size = nL) (hW : (rest.map fun v => v.category).sum ≤ 16) (hdg : decode cc pc = .ok (.invokevirtual index, 3)) (kk : ∀ (H' : Heap) (locs' : List Loc), Ok cx s σ' H' locs' → W p l e R s m args below meth c H' locs' (cells + mc) (slots + ms) Q (F0 m (pc + 3) ls (rest))) : W p l e R s m args below meth c H locs cells slots Q (F0 m pc ls (a2 :: a1 :: .ref (ad cx 19) :: rest)) :=
  gr_ret (gm_runV (As := [a1, a2]) S hM sp_blind V hlink (rv_M hK hO) (sp_of hO hK) hfr hlo hf rfl hsize rfl hW hdg) hO kk
theorem cM3v (S : Fx p s m args meth c cc nL own ret) (hK : Sk cx s s.heap) (hO : Ok cx s σ H locs) {a1 a2 a3 : Value} (hM : CT l cx y f lo mc ms [.ref (ad cx 19), a1, a2, a3] σ (.inl none) σ') (V : Vw R_M y maxL 3) (hlink : Cond.methodLink own index y ∈ gw) (hfr : f + 1 ≤ R.frames) (hlo : 16 + (maxL + 11) + lo ≤ R.locals) (hf : cells + mc ≤ R.cells ∧ slots + ms ≤ R.slots) (hsize : ls.size = nL) (hW : (rest.map fun v => v.category).sum ≤ 16) (hdg : decode cc pc = .ok (.invokevirtual index, 3)) (kk : ∀ (H' : Heap) (locs' : List Loc), Ok cx s σ' H' locs' → W p l e R s m args below meth c H' locs' (cells + mc) (slots + ms) Q (F0 m (pc + 3) ls (rest))) : W p l e R s m args below meth c H locs cells slots Q (F0 m pc ls (a3 :: a2 :: a1 :: .ref (ad cx 19) :: rest)) :=
  gr_ret (gm_runV (As := [a1, a2, a3]) S hM sp_blind V hlink (rv_M hK hO) (sp_of hO hK) hfr hlo hf rfl hsize rfl hW hdg) hO kk
theorem cM3r (S : Fx p s m args meth c cc nL own ret) (hK : Sk cx s s.heap) (hO : Ok cx s σ H locs) {a1 a2 a3 : Value} {v : Value} (hM : CT l cx y f lo mc ms [.ref (ad cx 19), a1, a2, a3] σ (.inl (some v)) σ') (V : Vw R_M y maxL 3) (hlink : Cond.methodLink own index y ∈ gw) (hfr : f + 1 ≤ R.frames) (hlo : 16 + (maxL + 11) + lo ≤ R.locals) (hf : cells + mc ≤ R.cells ∧ slots + ms ≤ R.slots) (hsize : ls.size = nL) (hW : (rest.map fun v => v.category).sum ≤ 16) (hdg : decode cc pc = .ok (.invokevirtual index, 3)) (kk : ∀ (H' : Heap) (locs' : List Loc), Ok cx s σ' H' locs' → W p l e R s m args below meth c H' locs' (cells + mc) (slots + ms) Q (F0 m (pc + 3) ls (v :: rest))) : W p l e R s m args below meth c H locs cells slots Q (F0 m pc ls (a3 :: a2 :: a1 :: .ref (ad cx 19) :: rest)) :=
  gr_ret (gm_runV (As := [a1, a2, a3]) S hM sp_blind V hlink (rv_M hK hO) (sp_of hO hK) hfr hlo hf rfl hsize rfl hW hdg) hO kk
theorem cM4r (S : Fx p s m args meth c cc nL own ret) (hK : Sk cx s s.heap) (hO : Ok cx s σ H locs) {a1 a2 a3 a4 : Value} {v : Value} (hM : CT l cx y f lo mc ms [.ref (ad cx 19), a1, a2, a3, a4] σ (.inl (some v)) σ') (V : Vw R_M y maxL 4) (hlink : Cond.methodLink own index y ∈ gw) (hfr : f + 1 ≤ R.frames) (hlo : 16 + (maxL + 11) + lo ≤ R.locals) (hf : cells + mc ≤ R.cells ∧ slots + ms ≤ R.slots) (hsize : ls.size = nL) (hW : (rest.map fun v => v.category).sum ≤ 16) (hdg : decode cc pc = .ok (.invokevirtual index, 3)) (kk : ∀ (H' : Heap) (locs' : List Loc), Ok cx s σ' H' locs' → W p l e R s m args below meth c H' locs' (cells + mc) (slots + ms) Q (F0 m (pc + 3) ls (v :: rest))) : W p l e R s m args below meth c H locs cells slots Q (F0 m pc ls (a4 :: a3 :: a2 :: a1 :: .ref (ad cx 19) :: rest)) :=
  gr_ret (gm_runV (As := [a1, a2, a3, a4]) S hM sp_blind V hlink (rv_M hK hO) (sp_of hO hK) hfr hlo hf rfl hsize rfl hW hdg) hO kk
theorem cS1q (S : Fx p s m args meth c cc nL own ret) (hK : Sk cx s s.heap) (hO : Ok cx s σ H locs) {a1 : Value} (hM : CP l cx y f lo [a1] σ none) (V : Sw y maxL 1) (hlink : Cond.methodLink own index y ∈ gw) (hfr : f + 1 ≤ R.frames) (hlo : 16 + (maxL + 11) + lo ≤ R.locals) (hf : cells ≤ R.cells ∧ slots ≤ R.slots) (hsize : ls.size = nL) (hW : (rest.map fun v => v.category).sum ≤ 16) (hdg : decode cc pc = .ok (.invokestatic index, 3)) (kk : W p l e R s m args below meth c H locs cells slots Q (F0 m (pc + 3) ls (rest))) : W p l e R s m args below meth c H locs cells slots Q (F0 m pc ls (a1 :: rest)) :=
  gr_pure (gm_runS (As := [a1]) S hM sp_blind V hlink (sp_of hO hK) hfr hlo hf rfl hsize rfl hW hdg) kk
theorem cS1t (S : Fx p s m args meth c cc nL own ret) (hK : Sk cx s s.heap) (hO : Ok cx s σ H locs) {a1 : Value} {k : Nat} {mc2 ms2 : Nat} (hno : c.exceptionTable.toList = []) (hM : CT l cx y f lo mc ms [a1] σ (.inr k) σ') (V : Sw y maxL 1) (hlink : Cond.methodLink own index y ∈ gw) (hfr : f + 1 ≤ R.frames) (hlo : 16 + (maxL + 11) + lo ≤ R.locals) (hf : cells + mc ≤ R.cells ∧ slots + ms ≤ R.slots) (hsize : ls.size = nL) (hW : (rest.map fun v => v.category).sum ≤ 16) (hdg : decode cc pc = .ok (.invokestatic index, 3)) (hc : cells + mc ≤ mc2) (hs : slots + ms ≤ ms2) : W p l e R s m args below meth c H locs cells slots (MX below (Sq cx (.inr k) σ') args s mc2 ms2 (gA cx.2.2.2)) (F0 m pc ls (a1 :: rest)) :=
  gr_leave (gm_runS (As := [a1]) S hM sp_blind V hlink (sp_of hO hK) hfr hlo hf rfl hsize rfl hW hdg) hO hno S.2.2.2.2.2.2 hc hs
theorem cS1p (S : Fx p s m args meth c cc nL own ret) (hK : Sk cx s s.heap) (hO : Ok cx s σ H locs) {a1 : Value} {v : Value} (hM : CP l cx y f lo [a1] σ (some v)) (V : Sw y maxL 1) (hlink : Cond.methodLink own index y ∈ gw) (hfr : f + 1 ≤ R.frames) (hlo : 16 + (maxL + 11) + lo ≤ R.locals) (hf : cells ≤ R.cells ∧ slots ≤ R.slots) (hsize : ls.size = nL) (hW : (rest.map fun v => v.category).sum ≤ 16) (hdg : decode cc pc = .ok (.invokestatic index, 3)) (kk : W p l e R s m args below meth c H locs cells slots Q (F0 m (pc + 3) ls (v :: rest))) : W p l e R s m args below meth c H locs cells slots Q (F0 m pc ls (a1 :: rest)) :=
  gr_pure (gm_runS (As := [a1]) S hM sp_blind V hlink (sp_of hO hK) hfr hlo hf rfl hsize rfl hW hdg) kk
theorem cS3p (S : Fx p s m args meth c cc nL own ret) (hK : Sk cx s s.heap) (hO : Ok cx s σ H locs) {a1 a2 a3 : Value} {v : Value} (hM : CP l cx y f lo [a1, a2, a3] σ (some v)) (V : Sw y maxL 3) (hlink : Cond.methodLink own index y ∈ gw) (hfr : f + 1 ≤ R.frames) (hlo : 16 + (maxL + 11) + lo ≤ R.locals) (hf : cells ≤ R.cells ∧ slots ≤ R.slots) (hsize : ls.size = nL) (hW : (rest.map fun v => v.category).sum ≤ 16) (hdg : decode cc pc = .ok (.invokestatic index, 3)) (kk : W p l e R s m args below meth c H locs cells slots Q (F0 m (pc + 3) ls (v :: rest))) : W p l e R s m args below meth c H locs cells slots Q (F0 m pc ls (a3 :: a2 :: a1 :: rest)) :=
  gr_pure (gm_runS (As := [a1, a2, a3]) S hM sp_blind V hlink (sp_of hO hK) hfr hlo hf rfl hsize rfl hW hdg) kk
theorem cS4p (S : Fx p s m args meth c cc nL own ret) (hK : Sk cx s s.heap) (hO : Ok cx s σ H locs) {a1 a2 a3 a4 : Value} {v : Value} (hM : CP l cx y f lo [a1, a2, a3, a4] σ (some v)) (V : Sw y maxL 4) (hlink : Cond.methodLink own index y ∈ gw) (hfr : f + 1 ≤ R.frames) (hlo : 16 + (maxL + 11) + lo ≤ R.locals) (hf : cells ≤ R.cells ∧ slots ≤ R.slots) (hsize : ls.size = nL) (hW : (rest.map fun v => v.category).sum ≤ 16) (hdg : decode cc pc = .ok (.invokestatic index, 3)) (kk : W p l e R s m args below meth c H locs cells slots Q (F0 m (pc + 3) ls (v :: rest))) : W p l e R s m args below meth c H locs cells slots Q (F0 m pc ls (a4 :: a3 :: a2 :: a1 :: rest)) :=
  gr_pure (gm_runS (As := [a1, a2, a3, a4]) S hM sp_blind V hlink (sp_of hO hK) hfr hlo hf rfl hsize rfl hW hdg) kk
theorem cS5r (S : Fx p s m args meth c cc nL own ret) (hK : Sk cx s s.heap) (hO : Ok cx s σ H locs) {a1 a2 a3 a4 a5 : Value} {v : Value} (hM : CT l cx y f lo mc ms [a1, a2, a3, a4, a5] σ (.inl (some v)) σ') (V : Sw y maxL 5) (hlink : Cond.methodLink own index y ∈ gw) (hfr : f + 1 ≤ R.frames) (hlo : 16 + (maxL + 11) + lo ≤ R.locals) (hf : cells + mc ≤ R.cells ∧ slots + ms ≤ R.slots) (hsize : ls.size = nL) (hW : (rest.map fun v => v.category).sum ≤ 16) (hdg : decode cc pc = .ok (.invokestatic index, 3)) (kk : ∀ (H' : Heap) (locs' : List Loc), Ok cx s σ' H' locs' → W p l e R s m args below meth c H' locs' (cells + mc) (slots + ms) Q (F0 m (pc + 3) ls (v :: rest))) : W p l e R s m args below meth c H locs cells slots Q (F0 m pc ls (a5 :: a4 :: a3 :: a2 :: a1 :: rest)) :=
  gr_ret (gm_runS (As := [a1, a2, a3, a4, a5]) S hM sp_blind V hlink (sp_of hO hK) hfr hlo hf rfl hsize rfl hW hdg) hO kk
theorem cS3r (S : Fx p s m args meth c cc nL own ret) (hK : Sk cx s s.heap) (hO : Ok cx s σ H locs) {a1 a2 a3 : Value} {v : Value} (hM : CT l cx y f lo mc ms [a1, a2, a3] σ (.inl (some v)) σ') (V : Sw y maxL 3) (hlink : Cond.methodLink own index y ∈ gw) (hfr : f + 1 ≤ R.frames) (hlo : 16 + (maxL + 11) + lo ≤ R.locals) (hf : cells + mc ≤ R.cells ∧ slots + ms ≤ R.slots) (hsize : ls.size = nL) (hW : (rest.map fun v => v.category).sum ≤ 16) (hdg : decode cc pc = .ok (.invokestatic index, 3)) (kk : ∀ (H' : Heap) (locs' : List Loc), Ok cx s σ' H' locs' → W p l e R s m args below meth c H' locs' (cells + mc) (slots + ms) Q (F0 m (pc + 3) ls (v :: rest))) : W p l e R s m args below meth c H locs cells slots Q (F0 m pc ls (a3 :: a2 :: a1 :: rest)) :=
  gr_ret (gm_runS (As := [a1, a2, a3]) S hM sp_blind V hlink (sp_of hO hK) hfr hlo hf rfl hsize rfl hW hdg) hO kk
theorem cS4r (S : Fx p s m args meth c cc nL own ret) (hK : Sk cx s s.heap) (hO : Ok cx s σ H locs) {a1 a2 a3 a4 : Value} {v : Value} (hM : CT l cx y f lo mc ms [a1, a2, a3, a4] σ (.inl (some v)) σ') (V : Sw y maxL 4) (hlink : Cond.methodLink own index y ∈ gw) (hfr : f + 1 ≤ R.frames) (hlo : 16 + (maxL + 11) + lo ≤ R.locals) (hf : cells + mc ≤ R.cells ∧ slots + ms ≤ R.slots) (hsize : ls.size = nL) (hW : (rest.map fun v => v.category).sum ≤ 16) (hdg : decode cc pc = .ok (.invokestatic index, 3)) (kk : ∀ (H' : Heap) (locs' : List Loc), Ok cx s σ' H' locs' → W p l e R s m args below meth c H' locs' (cells + mc) (slots + ms) Q (F0 m (pc + 3) ls (v :: rest))) : W p l e R s m args below meth c H locs cells slots Q (F0 m pc ls (a4 :: a3 :: a2 :: a1 :: rest)) :=
  gr_ret (gm_runS (As := [a1, a2, a3, a4]) S hM sp_blind V hlink (sp_of hO hK) hfr hlo hf rfl hsize rfl hW hdg) hO kk
theorem cS6r (S : Fx p s m args meth c cc nL own ret) (hK : Sk cx s s.heap) (hO : Ok cx s σ H locs) {a1 a2 a3 a4 a5 a6 : Value} {v : Value} (hM : CT l cx y f lo mc ms [a1, a2, a3, a4, a5, a6] σ (.inl (some v)) σ') (V : Sw y maxL 6) (hlink : Cond.methodLink own index y ∈ gw) (hfr : f + 1 ≤ R.frames) (hlo : 16 + (maxL + 11) + lo ≤ R.locals) (hf : cells + mc ≤ R.cells ∧ slots + ms ≤ R.slots) (hsize : ls.size = nL) (hW : (rest.map fun v => v.category).sum ≤ 16) (hdg : decode cc pc = .ok (.invokestatic index, 3)) (kk : ∀ (H' : Heap) (locs' : List Loc), Ok cx s σ' H' locs' → W p l e R s m args below meth c H' locs' (cells + mc) (slots + ms) Q (F0 m (pc + 3) ls (v :: rest))) : W p l e R s m args below meth c H locs cells slots Q (F0 m pc ls (a6 :: a5 :: a4 :: a3 :: a2 :: a1 :: rest)) :=
  gr_ret (gm_runS (As := [a1, a2, a3, a4, a5, a6]) S hM sp_blind V hlink (sp_of hO hK) hfr hlo hf rfl hsize rfl hW hdg) hO kk
/-- the words and the statics that a throw reads -/
def zw : List Cond := [.laysStatic "java/lang/Throwable" "UNASSIGNED_STACK" zU, .laysStatic "java/lang/Throwable" "SUPPRESSED_SENTINEL" zL, .isRef (.static "java/lang/Throwable" "UNASSIGNED_STACK" zU), .isRef (.static "java/lang/Throwable" "SUPPRESSED_SENTINEL" zL)]
abbrev nms : List String := ["java/lang/RuntimeException", "java/lang/Exception"]
theorem at_0 : (Bundle.ownAtoms0 R_X 22 n_ia nms).all (fun a => decide (a ∈ gw) || decide (a ∈ zw)) = true := by decide +kernel
theorem at_1 : (Bundle.ownAtoms0 R_X 25 n_io nms).all (fun a => decide (a ∈ gw) || decide (a ∈ zw)) = true := by decide +kernel
theorem gm_off {l : Launch} {e : Env} (hf : l.flags = flags0) (ha : l.admits e) : e.platform.stackTraces = false := by
  obtain ⟨-, -, -, -, hp, -⟩ := ha
  rw [hp]
  show l.stackTraces = false
  unfold Launch.stackTraces
  rw [hf]
  decide +kernel
theorem gm_thr (S : Fx p s m args meth c cc nL R_X ret) (ha : l.admits e) (hfl : l.flags = flags0) (hno : c.exceptionTable.toList = []) (hK : Sk cx s s.heap) (hP : sys cx σ s.heap) (k : Nat) {ik ic : Nat}
    (hat : (Bundle.ownAtoms0 R_X ic (exN k) nms).all (fun a => decide (a ∈ gw) || decide (a ∈ zw)) = true) (hfitN : Bundle.fit (exN k) = true) (hcl : Cond.classLink R_X ik (exN k) ∈ gw) (hins : Cond.instantiable (exN k) 6 ∈ gw) (hini : Cond.initialized (exN k) ∈ gw)
    (hsize : ls.size = nL) (d0 : decode cc pc = .ok (.new ik, 3)) (d3 : decode cc (pc + 3) = .ok (.dup, 1)) (d4 : decode cc (pc + 4) = .ok (.invokespecial ic, 3)) (d7 : decode cc (pc + 7) = .ok (.athrow, 1))
    (hRf : 6 ≤ R.frames) (hRl : 90 ≤ R.locals) (hRc : 1 ≤ R.cells) (hRs : 6 ≤ R.slots) :
    W p l e R s m args below meth c s.heap [] 0 0 (MX below (Sq cx (.inr k) σ) args s 1 6 (gA cx.2.2.2)) (F0 m pc ls []) := by
  obtain ⟨hx, hb, hml, hown, hts, hr, hlk⟩ := id S
  have hatoms : ∀ a ∈ Bundle.ownAtoms0 R_X ic (exN k) nms, a.before args s = true := by
    intro a h
    have h1 := List.all_eq_true.mp hat a h
    simp only [Bool.or_eq_true, decide_eq_true_eq] at h1
    rcases h1 with h1 | h1
    · exact hts a h1
    · simp only [zw, List.mem_cons, List.not_mem_nil, or_false] at h1
      rcases h1 with rfl | rfl | rfl | rfl
      · exact hK.2.1.lays
      · exact hK.2.2.lays
      · exact hK.2.1.isRef
      · exact hK.2.2.isRef
  refine W.newc hx hb hown (hts _ hcl) (hts _ hins) (hts _ hini) (g := F0 m pc ls []) rfl d0 (by omega) (by omega) (fun cX kX hfX hkX hkind hsz => ?_)
  refine lv_dup (va := .ref s.heap.size) (rest := []) hx hb d3 rfl ?_
  intro T hT X
  have hcat : (Value.ref s.heap.size).category = 1 := rfl
  obtain ⟨U, hs1, hrun, hend, hW, hsame, ce, hce, hoc⟩ := X.ctorThrow0 hx (gm_off hfl ha) (own := R_X) (cls := exN k) (names := nms) (ic := ic) hown hfitN (by decide +kernel) hatoms (fun x hx' => nomatch hx') hfX hkX (a := s.heap.size)
    (by rw [hT]; exact State.heap_pushCell_size (s := s) { cls := cX, slots := kX.instanceTypes.map defaultValue, vm := .none } ) (Nat.le_refl _) (g := F0 m (pc + 3 + 1) ls [.ref s.heap.size, .ref s.heap.size]) rfl (hsize.trans hml.symm) rfl rfl (rest := []) rfl (by rw [hb]; exact d4) (by rw [hb]; exact d7) (by rw [hno]; intro z hz; cases hz)
    (by show 2 + 3 < R.frames; omega) (by show 2 * 0 + ([Value.ref s.heap.size].map fun v => v.category).sum + (13 * (2 + 1) + 41) ≤ R.locals; simp only [List.map_cons, List.map_nil, List.sum_cons, List.sum_nil, hcat]; omega) hlk
  have hkeep : ∀ q : Nat, q < s.heap.size → U.heap[q]? = s.heap[q]? := fun q hq => by
    have h1 : s.heap[q]? = some s.heap[q] := Array.getElem?_eq_getElem hq
    rw [h1]
    exact kept_of_same (keep := fun _ => True) hsame (fun z hz => nomatch hz) q _ trivial h1
  refine ⟨U, hs1, .threw s.heap.size, hrun, hend, ⟨⟨s.heap.size, ce, rfl, hce, hoc.vm, hoc.cls⟩, ?_, ?_⟩, hW, [], ?_, fun z hz => nomatch hz⟩
  · exact va_P.kept hP (fun j q hj => hkeep q.1 (hP j q hj).lt)
  · exact ⟨hsame.2.1, fun q h1 _ => hkeep q h1⟩
  · exact hsame.mono (by omega) (by omega)
end GmE
end
section
/-! decode rows (printed by gen/decode.py) -/
theorem d_x_init_0 : decode prog_1_method_1_code 0 = .ok (.aload_n 0, 1) := by decide +kernel
theorem d_x_init_1 : decode prog_1_method_1_code 1 = .ok (.invokespecial 1, 3) := by decide +kernel
theorem d_x_init_4 : decode prog_1_method_1_code 4 = .ok (.aload_n 0, 1) := by decide +kernel
theorem d_x_init_5 : decode prog_1_method_1_code 5 = .ok (.bipush 16, 2) := by decide +kernel
theorem d_x_init_7 : decode prog_1_method_1_code 7 = .ok (.anewarray 9, 3) := by decide +kernel
theorem d_x_init_10 : decode prog_1_method_1_code 10 = .ok (.putfield 11, 3) := by decide +kernel
theorem d_x_init_13 : decode prog_1_method_1_code 13 = .ok (.aload_n 0, 1) := by decide +kernel
theorem d_x_init_14 : decode prog_1_method_1_code 14 = .ok (.new 9, 3) := by decide +kernel
theorem d_x_init_17 : decode prog_1_method_1_code 17 = .ok (.dup, 1) := by decide +kernel
theorem d_x_init_18 : decode prog_1_method_1_code 18 = .ok (.invokespecial 15, 3) := by decide +kernel
theorem d_x_init_21 : decode prog_1_method_1_code 21 = .ok (.putfield 16, 3) := by decide +kernel
theorem d_x_init_24 : decode prog_1_method_1_code 24 = .ok (.iconst 0, 1) := by decide +kernel
theorem d_x_init_25 : decode prog_1_method_1_code 25 = .ok (.istore_n 1, 1) := by decide +kernel
theorem d_x_init_26 : decode prog_1_method_1_code 26 = .ok (.iload_n 1, 1) := by decide +kernel
theorem d_x_init_27 : decode prog_1_method_1_code 27 = .ok (.bipush 16, 2) := by decide +kernel
theorem d_x_init_29 : decode prog_1_method_1_code 29 = .ok (.if_icmp .ge 22, 3) := by decide +kernel
theorem d_x_init_32 : decode prog_1_method_1_code 32 = .ok (.aload_n 0, 1) := by decide +kernel
theorem d_x_init_33 : decode prog_1_method_1_code 33 = .ok (.getfield 11, 3) := by decide +kernel
theorem d_x_init_36 : decode prog_1_method_1_code 36 = .ok (.iload_n 1, 1) := by decide +kernel
theorem d_x_init_37 : decode prog_1_method_1_code 37 = .ok (.new 9, 3) := by decide +kernel
theorem d_x_init_40 : decode prog_1_method_1_code 40 = .ok (.dup, 1) := by decide +kernel
theorem d_x_init_41 : decode prog_1_method_1_code 41 = .ok (.invokespecial 15, 3) := by decide +kernel
theorem d_x_init_44 : decode prog_1_method_1_code 44 = .ok (.aastore, 1) := by decide +kernel
theorem d_x_init_45 : decode prog_1_method_1_code 45 = .ok (.iinc 1 1, 3) := by decide +kernel
theorem d_x_init_48 : decode prog_1_method_1_code 48 = .ok (.goto (-22), 3) := by decide +kernel
theorem d_x_init_51 : decode prog_1_method_1_code 51 = .ok (.return_, 1) := by decide +kernel
theorem d_x_good_0 : decode prog_1_method_2_code 0 = .ok (.iload_n 0, 1) := by decide +kernel
theorem d_x_good_1 : decode prog_1_method_2_code 1 = .ok (.ifCond .ne 11, 3) := by decide +kernel
theorem d_x_good_4 : decode prog_1_method_2_code 4 = .ok (.new 20, 3) := by decide +kernel
theorem d_x_good_7 : decode prog_1_method_2_code 7 = .ok (.dup, 1) := by decide +kernel
theorem d_x_good_8 : decode prog_1_method_2_code 8 = .ok (.invokespecial 22, 3) := by decide +kernel
theorem d_x_good_11 : decode prog_1_method_2_code 11 = .ok (.athrow, 1) := by decide +kernel
theorem d_x_good_12 : decode prog_1_method_2_code 12 = .ok (.return_, 1) := by decide +kernel
theorem d_x_grant_0 : decode prog_1_method_3_code 0 = .ok (.iload_n 1, 1) := by decide +kernel
theorem d_x_grant_1 : decode prog_1_method_3_code 1 = .ok (.ifCond .lt 9, 3) := by decide +kernel
theorem d_x_grant_4 : decode prog_1_method_3_code 4 = .ok (.iload_n 1, 1) := by decide +kernel
theorem d_x_grant_5 : decode prog_1_method_3_code 5 = .ok (.bipush 16, 2) := by decide +kernel
theorem d_x_grant_7 : decode prog_1_method_3_code 7 = .ok (.if_icmp .lt 11, 3) := by decide +kernel
theorem d_x_grant_10 : decode prog_1_method_3_code 10 = .ok (.new 23, 3) := by decide +kernel
theorem d_x_grant_13 : decode prog_1_method_3_code 13 = .ok (.dup, 1) := by decide +kernel
theorem d_x_grant_14 : decode prog_1_method_3_code 14 = .ok (.invokespecial 25, 3) := by decide +kernel
theorem d_x_grant_17 : decode prog_1_method_3_code 17 = .ok (.athrow, 1) := by decide +kernel
theorem d_x_grant_18 : decode prog_1_method_3_code 18 = .ok (.aload_n 0, 1) := by decide +kernel
theorem d_x_grant_19 : decode prog_1_method_3_code 19 = .ok (.getfield 11, 3) := by decide +kernel
theorem d_x_grant_22 : decode prog_1_method_3_code 22 = .ok (.iload_n 1, 1) := by decide +kernel
theorem d_x_grant_23 : decode prog_1_method_3_code 23 = .ok (.aaload, 1) := by decide +kernel
theorem d_x_grant_24 : decode prog_1_method_3_code 24 = .ok (.areturn, 1) := by decide +kernel
theorem d_x_root_0 : decode prog_1_method_4_code 0 = .ok (.iload 4, 2) := by decide +kernel
theorem d_x_root_2 : decode prog_1_method_4_code 2 = .ok (.ifCond .lt 31, 3) := by decide +kernel
theorem d_x_root_5 : decode prog_1_method_4_code 5 = .ok (.iload 4, 2) := by decide +kernel
theorem d_x_root_7 : decode prog_1_method_4_code 7 = .ok (.sipush 255, 3) := by decide +kernel
theorem d_x_root_10 : decode prog_1_method_4_code 10 = .ok (.if_icmp .gt 23, 3) := by decide +kernel
theorem d_x_root_13 : decode prog_1_method_4_code 13 = .ok (.iload_n 2, 1) := by decide +kernel
theorem d_x_root_14 : decode prog_1_method_4_code 14 = .ok (.i2l, 1) := by decide +kernel
theorem d_x_root_15 : decode prog_1_method_4_code 15 = .ok (.ldc2_w 26, 3) := by decide +kernel
theorem d_x_root_18 : decode prog_1_method_4_code 18 = .ok (.land, 1) := by decide +kernel
theorem d_x_root_19 : decode prog_1_method_4_code 19 = .ok (.iload_n 3, 1) := by decide +kernel
theorem d_x_root_20 : decode prog_1_method_4_code 20 = .ok (.i2l, 1) := by decide +kernel
theorem d_x_root_21 : decode prog_1_method_4_code 21 = .ok (.ldc2_w 26, 3) := by decide +kernel
theorem d_x_root_24 : decode prog_1_method_4_code 24 = .ok (.land, 1) := by decide +kernel
theorem d_x_root_25 : decode prog_1_method_4_code 25 = .ok (.lcmp, 1) := by decide +kernel
theorem d_x_root_26 : decode prog_1_method_4_code 26 = .ok (.ifCond .gt 7, 3) := by decide +kernel
theorem d_x_root_29 : decode prog_1_method_4_code 29 = .ok (.iconst 1, 1) := by decide +kernel
theorem d_x_root_30 : decode prog_1_method_4_code 30 = .ok (.goto 4, 3) := by decide +kernel
theorem d_x_root_33 : decode prog_1_method_4_code 33 = .ok (.iconst 0, 1) := by decide +kernel
theorem d_x_root_34 : decode prog_1_method_4_code 34 = .ok (.invokestatic 28, 3) := by decide +kernel
theorem d_x_root_37 : decode prog_1_method_4_code 37 = .ok (.aload_n 0, 1) := by decide +kernel
theorem d_x_root_38 : decode prog_1_method_4_code 38 = .ok (.iload_n 1, 1) := by decide +kernel
theorem d_x_root_39 : decode prog_1_method_4_code 39 = .ok (.invokevirtual 32, 3) := by decide +kernel
theorem d_x_root_42 : decode prog_1_method_4_code 42 = .ok (.iload_n 2, 1) := by decide +kernel
theorem d_x_root_43 : decode prog_1_method_4_code 43 = .ok (.i2l, 1) := by decide +kernel
theorem d_x_root_44 : decode prog_1_method_4_code 44 = .ok (.ldc2_w 26, 3) := by decide +kernel
theorem d_x_root_47 : decode prog_1_method_4_code 47 = .ok (.land, 1) := by decide +kernel
theorem d_x_root_48 : decode prog_1_method_4_code 48 = .ok (.iload_n 3, 1) := by decide +kernel
theorem d_x_root_49 : decode prog_1_method_4_code 49 = .ok (.i2l, 1) := by decide +kernel
theorem d_x_root_50 : decode prog_1_method_4_code 50 = .ok (.ldc2_w 26, 3) := by decide +kernel
theorem d_x_root_53 : decode prog_1_method_4_code 53 = .ok (.land, 1) := by decide +kernel
theorem d_x_root_54 : decode prog_1_method_4_code 54 = .ok (.iload 4, 2) := by decide +kernel
theorem d_x_root_56 : decode prog_1_method_4_code 56 = .ok (.iconst 1, 1) := by decide +kernel
theorem d_x_root_57 : decode prog_1_method_4_code 57 = .ok (.invokevirtual 36, 3) := by decide +kernel
theorem d_x_root_60 : decode prog_1_method_4_code 60 = .ok (.return_, 1) := by decide +kernel
theorem d_x_number_0 : decode prog_1_method_5_code 0 = .ok (.aload_n 0, 1) := by decide +kernel
theorem d_x_number_1 : decode prog_1_method_5_code 1 = .ok (.iload_n 1, 1) := by decide +kernel
theorem d_x_number_2 : decode prog_1_method_5_code 2 = .ok (.invokevirtual 32, 3) := by decide +kernel
theorem d_x_number_5 : decode prog_1_method_5_code 5 = .ok (.astore_n 3, 1) := by decide +kernel
theorem d_x_number_6 : decode prog_1_method_5_code 6 = .ok (.aload_n 3, 1) := by decide +kernel
theorem d_x_number_7 : decode prog_1_method_5_code 7 = .ok (.lconst 0, 1) := by decide +kernel
theorem d_x_number_8 : decode prog_1_method_5_code 8 = .ok (.lconst 0, 1) := by decide +kernel
theorem d_x_number_9 : decode prog_1_method_5_code 9 = .ok (.iconst 0, 1) := by decide +kernel
theorem d_x_number_10 : decode prog_1_method_5_code 10 = .ok (.iconst 0, 1) := by decide +kernel
theorem d_x_number_11 : decode prog_1_method_5_code 11 = .ok (.invokevirtual 36, 3) := by decide +kernel
theorem d_x_number_14 : decode prog_1_method_5_code 14 = .ok (.aload_n 3, 1) := by decide +kernel
theorem d_x_number_15 : decode prog_1_method_5_code 15 = .ok (.iload_n 2, 1) := by decide +kernel
theorem d_x_number_16 : decode prog_1_method_5_code 16 = .ok (.i2l, 1) := by decide +kernel
theorem d_x_number_17 : decode prog_1_method_5_code 17 = .ok (.ldc2_w 26, 3) := by decide +kernel
theorem d_x_number_20 : decode prog_1_method_5_code 20 = .ok (.land, 1) := by decide +kernel
theorem d_x_number_21 : decode prog_1_method_5_code 21 = .ok (.putfield 40, 3) := by decide +kernel
theorem d_x_number_24 : decode prog_1_method_5_code 24 = .ok (.return_, 1) := by decide +kernel
theorem d_x_move_0 : decode prog_1_method_6_code 0 = .ok (.aload_n 0, 1) := by decide +kernel
theorem d_x_move_1 : decode prog_1_method_6_code 1 = .ok (.iload_n 1, 1) := by decide +kernel
theorem d_x_move_2 : decode prog_1_method_6_code 2 = .ok (.invokevirtual 32, 3) := by decide +kernel
theorem d_x_move_5 : decode prog_1_method_6_code 5 = .ok (.astore 4, 2) := by decide +kernel
theorem d_x_move_7 : decode prog_1_method_6_code 7 = .ok (.aload_n 0, 1) := by decide +kernel
theorem d_x_move_8 : decode prog_1_method_6_code 8 = .ok (.getfield 16, 3) := by decide +kernel
theorem d_x_move_11 : decode prog_1_method_6_code 11 = .ok (.aload_n 0, 1) := by decide +kernel
theorem d_x_move_12 : decode prog_1_method_6_code 12 = .ok (.iload_n 2, 1) := by decide +kernel
theorem d_x_move_13 : decode prog_1_method_6_code 13 = .ok (.invokevirtual 32, 3) := by decide +kernel
theorem d_x_move_16 : decode prog_1_method_6_code 16 = .ok (.invokevirtual 44, 3) := by decide +kernel
theorem d_x_move_19 : decode prog_1_method_6_code 19 = .ok (.aload_n 0, 1) := by decide +kernel
theorem d_x_move_20 : decode prog_1_method_6_code 20 = .ok (.getfield 16, 3) := by decide +kernel
theorem d_x_move_23 : decode prog_1_method_6_code 23 = .ok (.aload_n 0, 1) := by decide +kernel
theorem d_x_move_24 : decode prog_1_method_6_code 24 = .ok (.getfield 16, 3) := by decide +kernel
theorem d_x_move_27 : decode prog_1_method_6_code 27 = .ok (.getfield 40, 3) := by decide +kernel
theorem d_x_move_30 : decode prog_1_method_6_code 30 = .ok (.iload_n 3, 1) := by decide +kernel
theorem d_x_move_31 : decode prog_1_method_6_code 31 = .ok (.i2l, 1) := by decide +kernel
theorem d_x_move_32 : decode prog_1_method_6_code 32 = .ok (.ladd, 1) := by decide +kernel
theorem d_x_move_33 : decode prog_1_method_6_code 33 = .ok (.ldc2_w 26, 3) := by decide +kernel
theorem d_x_move_36 : decode prog_1_method_6_code 36 = .ok (.land, 1) := by decide +kernel
theorem d_x_move_37 : decode prog_1_method_6_code 37 = .ok (.putfield 40, 3) := by decide +kernel
theorem d_x_move_40 : decode prog_1_method_6_code 40 = .ok (.aload_n 0, 1) := by decide +kernel
theorem d_x_move_41 : decode prog_1_method_6_code 41 = .ok (.getfield 16, 3) := by decide +kernel
theorem d_x_move_44 : decode prog_1_method_6_code 44 = .ok (.invokevirtual 48, 3) := by decide +kernel
theorem d_x_move_47 : decode prog_1_method_6_code 47 = .ok (.ifCond .eq 15, 3) := by decide +kernel
theorem d_x_move_50 : decode prog_1_method_6_code 50 = .ok (.iload_n 3, 1) := by decide +kernel
theorem d_x_move_51 : decode prog_1_method_6_code 51 = .ok (.ifCond .eq 11, 3) := by decide +kernel
theorem d_x_move_54 : decode prog_1_method_6_code 54 = .ok (.aload_n 0, 1) := by decide +kernel
theorem d_x_move_55 : decode prog_1_method_6_code 55 = .ok (.getfield 16, 3) := by decide +kernel
theorem d_x_move_58 : decode prog_1_method_6_code 58 = .ok (.iconst 0, 1) := by decide +kernel
theorem d_x_move_59 : decode prog_1_method_6_code 59 = .ok (.putfield 52, 3) := by decide +kernel
theorem d_x_move_62 : decode prog_1_method_6_code 62 = .ok (.aload 4, 2) := by decide +kernel
theorem d_x_move_64 : decode prog_1_method_6_code 64 = .ok (.aload_n 0, 1) := by decide +kernel
theorem d_x_move_65 : decode prog_1_method_6_code 65 = .ok (.getfield 16, 3) := by decide +kernel
theorem d_x_move_68 : decode prog_1_method_6_code 68 = .ok (.invokevirtual 44, 3) := by decide +kernel
theorem d_x_move_71 : decode prog_1_method_6_code 71 = .ok (.return_, 1) := by decide +kernel
theorem d_x_narrow_0 : decode prog_1_method_7_code 0 = .ok (.aload_n 0, 1) := by decide +kernel
theorem d_x_narrow_1 : decode prog_1_method_7_code 1 = .ok (.iload_n 1, 1) := by decide +kernel
theorem d_x_narrow_2 : decode prog_1_method_7_code 2 = .ok (.invokevirtual 32, 3) := by decide +kernel
theorem d_x_narrow_5 : decode prog_1_method_7_code 5 = .ok (.astore 4, 2) := by decide +kernel
theorem d_x_narrow_7 : decode prog_1_method_7_code 7 = .ok (.aload_n 0, 1) := by decide +kernel
theorem d_x_narrow_8 : decode prog_1_method_7_code 8 = .ok (.iload_n 2, 1) := by decide +kernel
theorem d_x_narrow_9 : decode prog_1_method_7_code 9 = .ok (.invokevirtual 32, 3) := by decide +kernel
theorem d_x_narrow_12 : decode prog_1_method_7_code 12 = .ok (.astore 5, 2) := by decide +kernel
theorem d_x_narrow_14 : decode prog_1_method_7_code 14 = .ok (.aload 5, 2) := by decide +kernel
theorem d_x_narrow_16 : decode prog_1_method_7_code 16 = .ok (.getfield 40, 3) := by decide +kernel
theorem d_x_narrow_19 : decode prog_1_method_7_code 19 = .ok (.iload_n 3, 1) := by decide +kernel
theorem d_x_narrow_20 : decode prog_1_method_7_code 20 = .ok (.i2l, 1) := by decide +kernel
theorem d_x_narrow_21 : decode prog_1_method_7_code 21 = .ok (.ldc2_w 26, 3) := by decide +kernel
theorem d_x_narrow_24 : decode prog_1_method_7_code 24 = .ok (.land, 1) := by decide +kernel
theorem d_x_narrow_25 : decode prog_1_method_7_code 25 = .ok (.ladd, 1) := by decide +kernel
theorem d_x_narrow_26 : decode prog_1_method_7_code 26 = .ok (.lstore 6, 2) := by decide +kernel
theorem d_x_narrow_28 : decode prog_1_method_7_code 28 = .ok (.aload_n 0, 1) := by decide +kernel
theorem d_x_narrow_29 : decode prog_1_method_7_code 29 = .ok (.getfield 16, 3) := by decide +kernel
theorem d_x_narrow_32 : decode prog_1_method_7_code 32 = .ok (.aload 5, 2) := by decide +kernel
theorem d_x_narrow_34 : decode prog_1_method_7_code 34 = .ok (.invokevirtual 44, 3) := by decide +kernel
theorem d_x_narrow_37 : decode prog_1_method_7_code 37 = .ok (.aload_n 0, 1) := by decide +kernel
theorem d_x_narrow_38 : decode prog_1_method_7_code 38 = .ok (.getfield 16, 3) := by decide +kernel
theorem d_x_narrow_41 : decode prog_1_method_7_code 41 = .ok (.aload 5, 2) := by decide +kernel
theorem d_x_narrow_43 : decode prog_1_method_7_code 43 = .ok (.getfield 40, 3) := by decide +kernel
theorem d_x_narrow_46 : decode prog_1_method_7_code 46 = .ok (.putfield 56, 3) := by decide +kernel
theorem d_x_narrow_49 : decode prog_1_method_7_code 49 = .ok (.aload_n 0, 1) := by decide +kernel
theorem d_x_narrow_50 : decode prog_1_method_7_code 50 = .ok (.getfield 16, 3) := by decide +kernel
theorem d_x_narrow_53 : decode prog_1_method_7_code 53 = .ok (.lload 6, 2) := by decide +kernel
theorem d_x_narrow_55 : decode prog_1_method_7_code 55 = .ok (.ldc2_w 26, 3) := by decide +kernel
theorem d_x_narrow_58 : decode prog_1_method_7_code 58 = .ok (.land, 1) := by decide +kernel
theorem d_x_narrow_59 : decode prog_1_method_7_code 59 = .ok (.putfield 59, 3) := by decide +kernel
theorem d_x_narrow_62 : decode prog_1_method_7_code 62 = .ok (.aload_n 0, 1) := by decide +kernel
theorem d_x_narrow_63 : decode prog_1_method_7_code 63 = .ok (.getfield 16, 3) := by decide +kernel
theorem d_x_narrow_66 : decode prog_1_method_7_code 66 = .ok (.aload 5, 2) := by decide +kernel
theorem d_x_narrow_68 : decode prog_1_method_7_code 68 = .ok (.getfield 52, 3) := by decide +kernel
theorem d_x_narrow_71 : decode prog_1_method_7_code 71 = .ok (.ifCond .eq 54, 3) := by decide +kernel
theorem d_x_narrow_74 : decode prog_1_method_7_code 74 = .ok (.aload 5, 2) := by decide +kernel
theorem d_x_narrow_76 : decode prog_1_method_7_code 76 = .ok (.invokevirtual 48, 3) := by decide +kernel
theorem d_x_narrow_79 : decode prog_1_method_7_code 79 = .ok (.ifCond .ne 46, 3) := by decide +kernel
theorem d_x_narrow_82 : decode prog_1_method_7_code 82 = .ok (.aload 5, 2) := by decide +kernel
theorem d_x_narrow_84 : decode prog_1_method_7_code 84 = .ok (.getfield 40, 3) := by decide +kernel
theorem d_x_narrow_87 : decode prog_1_method_7_code 87 = .ok (.aload 5, 2) := by decide +kernel
theorem d_x_narrow_89 : decode prog_1_method_7_code 89 = .ok (.getfield 56, 3) := by decide +kernel
theorem d_x_narrow_92 : decode prog_1_method_7_code 92 = .ok (.lcmp, 1) := by decide +kernel
theorem d_x_narrow_93 : decode prog_1_method_7_code 93 = .ok (.ifCond .lt 32, 3) := by decide +kernel
theorem d_x_narrow_96 : decode prog_1_method_7_code 96 = .ok (.aload 5, 2) := by decide +kernel
theorem d_x_narrow_98 : decode prog_1_method_7_code 98 = .ok (.getfield 40, 3) := by decide +kernel
theorem d_x_narrow_101 : decode prog_1_method_7_code 101 = .ok (.aload 5, 2) := by decide +kernel
theorem d_x_narrow_103 : decode prog_1_method_7_code 103 = .ok (.getfield 59, 3) := by decide +kernel
theorem d_x_narrow_106 : decode prog_1_method_7_code 106 = .ok (.lcmp, 1) := by decide +kernel
theorem d_x_narrow_107 : decode prog_1_method_7_code 107 = .ok (.ifCond .gt 18, 3) := by decide +kernel
theorem d_x_narrow_110 : decode prog_1_method_7_code 110 = .ok (.lload 6, 2) := by decide +kernel
theorem d_x_narrow_112 : decode prog_1_method_7_code 112 = .ok (.aload 5, 2) := by decide +kernel
theorem d_x_narrow_114 : decode prog_1_method_7_code 114 = .ok (.getfield 59, 3) := by decide +kernel
theorem d_x_narrow_117 : decode prog_1_method_7_code 117 = .ok (.lcmp, 1) := by decide +kernel
theorem d_x_narrow_118 : decode prog_1_method_7_code 118 = .ok (.ifCond .gt 7, 3) := by decide +kernel
theorem d_x_narrow_121 : decode prog_1_method_7_code 121 = .ok (.iconst 1, 1) := by decide +kernel
theorem d_x_narrow_122 : decode prog_1_method_7_code 122 = .ok (.goto 4, 3) := by decide +kernel
theorem d_x_narrow_125 : decode prog_1_method_7_code 125 = .ok (.iconst 0, 1) := by decide +kernel
theorem d_x_narrow_126 : decode prog_1_method_7_code 126 = .ok (.putfield 52, 3) := by decide +kernel
theorem d_x_narrow_129 : decode prog_1_method_7_code 129 = .ok (.aload 4, 2) := by decide +kernel
theorem d_x_narrow_131 : decode prog_1_method_7_code 131 = .ok (.aload_n 0, 1) := by decide +kernel
theorem d_x_narrow_132 : decode prog_1_method_7_code 132 = .ok (.getfield 16, 3) := by decide +kernel
theorem d_x_narrow_135 : decode prog_1_method_7_code 135 = .ok (.invokevirtual 44, 3) := by decide +kernel
theorem d_x_narrow_138 : decode prog_1_method_7_code 138 = .ok (.aload 4, 2) := by decide +kernel
theorem d_x_narrow_140 : decode prog_1_method_7_code 140 = .ok (.getfield 52, 3) := by decide +kernel
theorem d_x_narrow_143 : decode prog_1_method_7_code 143 = .ok (.ireturn, 1) := by decide +kernel
theorem d_x_restrict_0 : decode prog_1_method_8_code 0 = .ok (.aload_n 0, 1) := by decide +kernel
theorem d_x_restrict_1 : decode prog_1_method_8_code 1 = .ok (.iload_n 1, 1) := by decide +kernel
theorem d_x_restrict_2 : decode prog_1_method_8_code 2 = .ok (.invokevirtual 32, 3) := by decide +kernel
theorem d_x_restrict_5 : decode prog_1_method_8_code 5 = .ok (.astore 4, 2) := by decide +kernel
theorem d_x_restrict_7 : decode prog_1_method_8_code 7 = .ok (.aload_n 0, 1) := by decide +kernel
theorem d_x_restrict_8 : decode prog_1_method_8_code 8 = .ok (.iload_n 2, 1) := by decide +kernel
theorem d_x_restrict_9 : decode prog_1_method_8_code 9 = .ok (.invokevirtual 32, 3) := by decide +kernel
theorem d_x_restrict_12 : decode prog_1_method_8_code 12 = .ok (.astore 5, 2) := by decide +kernel
theorem d_x_restrict_14 : decode prog_1_method_8_code 14 = .ok (.aload_n 0, 1) := by decide +kernel
theorem d_x_restrict_15 : decode prog_1_method_8_code 15 = .ok (.getfield 16, 3) := by decide +kernel
theorem d_x_restrict_18 : decode prog_1_method_8_code 18 = .ok (.aload 5, 2) := by decide +kernel
theorem d_x_restrict_20 : decode prog_1_method_8_code 20 = .ok (.invokevirtual 44, 3) := by decide +kernel
theorem d_x_restrict_23 : decode prog_1_method_8_code 23 = .ok (.aload_n 0, 1) := by decide +kernel
theorem d_x_restrict_24 : decode prog_1_method_8_code 24 = .ok (.getfield 16, 3) := by decide +kernel
theorem d_x_restrict_27 : decode prog_1_method_8_code 27 = .ok (.dup, 1) := by decide +kernel
theorem d_x_restrict_28 : decode prog_1_method_8_code 28 = .ok (.getfield 62, 3) := by decide +kernel
theorem d_x_restrict_31 : decode prog_1_method_8_code 31 = .ok (.iload_n 3, 1) := by decide +kernel
theorem d_x_restrict_32 : decode prog_1_method_8_code 32 = .ok (.iand, 1) := by decide +kernel
theorem d_x_restrict_33 : decode prog_1_method_8_code 33 = .ok (.putfield 62, 3) := by decide +kernel
theorem d_x_restrict_36 : decode prog_1_method_8_code 36 = .ok (.aload 5, 2) := by decide +kernel
theorem d_x_restrict_38 : decode prog_1_method_8_code 38 = .ok (.invokevirtual 48, 3) := by decide +kernel
theorem d_x_restrict_41 : decode prog_1_method_8_code 41 = .ok (.ifCond .eq 26, 3) := by decide +kernel
theorem d_x_restrict_44 : decode prog_1_method_8_code 44 = .ok (.aload_n 0, 1) := by decide +kernel
theorem d_x_restrict_45 : decode prog_1_method_8_code 45 = .ok (.getfield 16, 3) := by decide +kernel
theorem d_x_restrict_48 : decode prog_1_method_8_code 48 = .ok (.getfield 62, 3) := by decide +kernel
theorem d_x_restrict_51 : decode prog_1_method_8_code 51 = .ok (.aload 5, 2) := by decide +kernel
theorem d_x_restrict_53 : decode prog_1_method_8_code 53 = .ok (.getfield 62, 3) := by decide +kernel
theorem d_x_restrict_56 : decode prog_1_method_8_code 56 = .ok (.if_icmp .eq 11, 3) := by decide +kernel
theorem d_x_restrict_59 : decode prog_1_method_8_code 59 = .ok (.aload_n 0, 1) := by decide +kernel
theorem d_x_restrict_60 : decode prog_1_method_8_code 60 = .ok (.getfield 16, 3) := by decide +kernel
theorem d_x_restrict_63 : decode prog_1_method_8_code 63 = .ok (.iconst 0, 1) := by decide +kernel
theorem d_x_restrict_64 : decode prog_1_method_8_code 64 = .ok (.putfield 52, 3) := by decide +kernel
theorem d_x_restrict_67 : decode prog_1_method_8_code 67 = .ok (.aload 4, 2) := by decide +kernel
theorem d_x_restrict_69 : decode prog_1_method_8_code 69 = .ok (.aload_n 0, 1) := by decide +kernel
theorem d_x_restrict_70 : decode prog_1_method_8_code 70 = .ok (.getfield 16, 3) := by decide +kernel
theorem d_x_restrict_73 : decode prog_1_method_8_code 73 = .ok (.invokevirtual 44, 3) := by decide +kernel
theorem d_x_restrict_76 : decode prog_1_method_8_code 76 = .ok (.aload 4, 2) := by decide +kernel
theorem d_x_restrict_78 : decode prog_1_method_8_code 78 = .ok (.getfield 52, 3) := by decide +kernel
theorem d_x_restrict_81 : decode prog_1_method_8_code 81 = .ok (.ireturn, 1) := by decide +kernel
theorem d_x_cause_0 : decode prog_1_method_9_code 0 = .ok (.iload_n 0, 1) := by decide +kernel
theorem d_x_cause_1 : decode prog_1_method_9_code 1 = .ok (.ifCond .ne 7, 3) := by decide +kernel
theorem d_x_cause_4 : decode prog_1_method_9_code 4 = .ok (.iconst 1, 1) := by decide +kernel
theorem d_x_cause_5 : decode prog_1_method_9_code 5 = .ok (.goto 28, 3) := by decide +kernel
theorem d_x_cause_8 : decode prog_1_method_9_code 8 = .ok (.iload_n 1, 1) := by decide +kernel
theorem d_x_cause_9 : decode prog_1_method_9_code 9 = .ok (.ifCond .ne 7, 3) := by decide +kernel
theorem d_x_cause_12 : decode prog_1_method_9_code 12 = .ok (.iconst 2, 1) := by decide +kernel
theorem d_x_cause_13 : decode prog_1_method_9_code 13 = .ok (.goto 20, 3) := by decide +kernel
theorem d_x_cause_16 : decode prog_1_method_9_code 16 = .ok (.iload_n 2, 1) := by decide +kernel
theorem d_x_cause_17 : decode prog_1_method_9_code 17 = .ok (.ifCond .ne 7, 3) := by decide +kernel
theorem d_x_cause_20 : decode prog_1_method_9_code 20 = .ok (.iconst 3, 1) := by decide +kernel
theorem d_x_cause_21 : decode prog_1_method_9_code 21 = .ok (.goto 12, 3) := by decide +kernel
theorem d_x_cause_24 : decode prog_1_method_9_code 24 = .ok (.iload_n 3, 1) := by decide +kernel
theorem d_x_cause_25 : decode prog_1_method_9_code 25 = .ok (.ifCond .ne 7, 3) := by decide +kernel
theorem d_x_cause_28 : decode prog_1_method_9_code 28 = .ok (.iconst 4, 1) := by decide +kernel
theorem d_x_cause_29 : decode prog_1_method_9_code 29 = .ok (.goto 4, 3) := by decide +kernel
theorem d_x_cause_32 : decode prog_1_method_9_code 32 = .ok (.iconst 0, 1) := by decide +kernel
theorem d_x_cause_33 : decode prog_1_method_9_code 33 = .ok (.ireturn, 1) := by decide +kernel
theorem d_x_seal_0 : decode prog_1_method_10_code 0 = .ok (.aload_n 0, 1) := by decide +kernel
theorem d_x_seal_1 : decode prog_1_method_10_code 1 = .ok (.iload_n 1, 1) := by decide +kernel
theorem d_x_seal_2 : decode prog_1_method_10_code 2 = .ok (.invokevirtual 32, 3) := by decide +kernel
theorem d_x_seal_5 : decode prog_1_method_10_code 5 = .ok (.astore 4, 2) := by decide +kernel
theorem d_x_seal_7 : decode prog_1_method_10_code 7 = .ok (.aload_n 0, 1) := by decide +kernel
theorem d_x_seal_8 : decode prog_1_method_10_code 8 = .ok (.iload_n 2, 1) := by decide +kernel
theorem d_x_seal_9 : decode prog_1_method_10_code 9 = .ok (.invokevirtual 32, 3) := by decide +kernel
theorem d_x_seal_12 : decode prog_1_method_10_code 12 = .ok (.astore 5, 2) := by decide +kernel
theorem d_x_seal_14 : decode prog_1_method_10_code 14 = .ok (.aload_n 0, 1) := by decide +kernel
theorem d_x_seal_15 : decode prog_1_method_10_code 15 = .ok (.iload_n 3, 1) := by decide +kernel
theorem d_x_seal_16 : decode prog_1_method_10_code 16 = .ok (.invokevirtual 32, 3) := by decide +kernel
theorem d_x_seal_19 : decode prog_1_method_10_code 19 = .ok (.astore 6, 2) := by decide +kernel
theorem d_x_seal_21 : decode prog_1_method_10_code 21 = .ok (.aload 5, 2) := by decide +kernel
theorem d_x_seal_23 : decode prog_1_method_10_code 23 = .ok (.getfield 52, 3) := by decide +kernel
theorem d_x_seal_26 : decode prog_1_method_10_code 26 = .ok (.ifCond .eq 15, 3) := by decide +kernel
theorem d_x_seal_29 : decode prog_1_method_10_code 29 = .ok (.aload 6, 2) := by decide +kernel
theorem d_x_seal_31 : decode prog_1_method_10_code 31 = .ok (.getfield 52, 3) := by decide +kernel
theorem d_x_seal_34 : decode prog_1_method_10_code 34 = .ok (.ifCond .eq 7, 3) := by decide +kernel
theorem d_x_seal_37 : decode prog_1_method_10_code 37 = .ok (.iconst 1, 1) := by decide +kernel
theorem d_x_seal_38 : decode prog_1_method_10_code 38 = .ok (.goto 4, 3) := by decide +kernel
theorem d_x_seal_41 : decode prog_1_method_10_code 41 = .ok (.iconst 0, 1) := by decide +kernel
theorem d_x_seal_42 : decode prog_1_method_10_code 42 = .ok (.aload 5, 2) := by decide +kernel
theorem d_x_seal_44 : decode prog_1_method_10_code 44 = .ok (.invokevirtual 48, 3) := by decide +kernel
theorem d_x_seal_47 : decode prog_1_method_10_code 47 = .ok (.ifCond .ne 15, 3) := by decide +kernel
theorem d_x_seal_50 : decode prog_1_method_10_code 50 = .ok (.aload 6, 2) := by decide +kernel
theorem d_x_seal_52 : decode prog_1_method_10_code 52 = .ok (.invokevirtual 48, 3) := by decide +kernel
theorem d_x_seal_55 : decode prog_1_method_10_code 55 = .ok (.ifCond .ne 7, 3) := by decide +kernel
theorem d_x_seal_58 : decode prog_1_method_10_code 58 = .ok (.iconst 1, 1) := by decide +kernel
theorem d_x_seal_59 : decode prog_1_method_10_code 59 = .ok (.goto 4, 3) := by decide +kernel
theorem d_x_seal_62 : decode prog_1_method_10_code 62 = .ok (.iconst 0, 1) := by decide +kernel
theorem d_x_seal_63 : decode prog_1_method_10_code 63 = .ok (.aload 6, 2) := by decide +kernel
theorem d_x_seal_65 : decode prog_1_method_10_code 65 = .ok (.bipush 32, 2) := by decide +kernel
theorem d_x_seal_67 : decode prog_1_method_10_code 67 = .ok (.invokevirtual 66, 3) := by decide +kernel
theorem d_x_seal_70 : decode prog_1_method_10_code 70 = .ok (.aload 6, 2) := by decide +kernel
theorem d_x_seal_72 : decode prog_1_method_10_code 72 = .ok (.aload 6, 2) := by decide +kernel
theorem d_x_seal_74 : decode prog_1_method_10_code 74 = .ok (.getfield 40, 3) := by decide +kernel
theorem d_x_seal_77 : decode prog_1_method_10_code 77 = .ok (.iconst 1, 1) := by decide +kernel
theorem d_x_seal_78 : decode prog_1_method_10_code 78 = .ok (.invokevirtual 70, 3) := by decide +kernel
theorem d_x_seal_81 : decode prog_1_method_10_code 81 = .ok (.ifCond .eq 29, 3) := by decide +kernel
theorem d_x_seal_84 : decode prog_1_method_10_code 84 = .ok (.aload 6, 2) := by decide +kernel
theorem d_x_seal_86 : decode prog_1_method_10_code 86 = .ok (.getfield 40, 3) := by decide +kernel
theorem d_x_seal_89 : decode prog_1_method_10_code 89 = .ok (.lconst 0, 1) := by decide +kernel
theorem d_x_seal_90 : decode prog_1_method_10_code 90 = .ok (.lcmp, 1) := by decide +kernel
theorem d_x_seal_91 : decode prog_1_method_10_code 91 = .ok (.ifCond .le 19, 3) := by decide +kernel
theorem d_x_seal_94 : decode prog_1_method_10_code 94 = .ok (.aload 6, 2) := by decide +kernel
theorem d_x_seal_96 : decode prog_1_method_10_code 96 = .ok (.getfield 40, 3) := by decide +kernel
theorem d_x_seal_99 : decode prog_1_method_10_code 99 = .ok (.ldc2_w 74, 3) := by decide +kernel
theorem d_x_seal_102 : decode prog_1_method_10_code 102 = .ok (.lcmp, 1) := by decide +kernel
theorem d_x_seal_103 : decode prog_1_method_10_code 103 = .ok (.ifCond .gt 7, 3) := by decide +kernel
theorem d_x_seal_106 : decode prog_1_method_10_code 106 = .ok (.iconst 1, 1) := by decide +kernel
theorem d_x_seal_107 : decode prog_1_method_10_code 107 = .ok (.goto 4, 3) := by decide +kernel
theorem d_x_seal_110 : decode prog_1_method_10_code 110 = .ok (.iconst 0, 1) := by decide +kernel
theorem d_x_seal_111 : decode prog_1_method_10_code 111 = .ok (.invokestatic 76, 3) := by decide +kernel
theorem d_x_seal_114 : decode prog_1_method_10_code 114 = .ok (.istore 7, 2) := by decide +kernel
theorem d_x_seal_116 : decode prog_1_method_10_code 116 = .ok (.iload 7, 2) := by decide +kernel
theorem d_x_seal_118 : decode prog_1_method_10_code 118 = .ok (.ifCond .eq 6, 3) := by decide +kernel
theorem d_x_seal_121 : decode prog_1_method_10_code 121 = .ok (.iload 7, 2) := by decide +kernel
theorem d_x_seal_123 : decode prog_1_method_10_code 123 = .ok (.ireturn, 1) := by decide +kernel
theorem d_x_seal_124 : decode prog_1_method_10_code 124 = .ok (.aload_n 0, 1) := by decide +kernel
theorem d_x_seal_125 : decode prog_1_method_10_code 125 = .ok (.getfield 16, 3) := by decide +kernel
theorem d_x_seal_128 : decode prog_1_method_10_code 128 = .ok (.aload 5, 2) := by decide +kernel
theorem d_x_seal_130 : decode prog_1_method_10_code 130 = .ok (.invokevirtual 44, 3) := by decide +kernel
theorem d_x_seal_133 : decode prog_1_method_10_code 133 = .ok (.aload_n 0, 1) := by decide +kernel
theorem d_x_seal_134 : decode prog_1_method_10_code 134 = .ok (.getfield 16, 3) := by decide +kernel
theorem d_x_seal_137 : decode prog_1_method_10_code 137 = .ok (.aload 6, 2) := by decide +kernel
theorem d_x_seal_139 : decode prog_1_method_10_code 139 = .ok (.getfield 40, 3) := by decide +kernel
theorem d_x_seal_142 : decode prog_1_method_10_code 142 = .ok (.l2i, 1) := by decide +kernel
theorem d_x_seal_143 : decode prog_1_method_10_code 143 = .ok (.putfield 80, 3) := by decide +kernel
theorem d_x_seal_146 : decode prog_1_method_10_code 146 = .ok (.aload 4, 2) := by decide +kernel
theorem d_x_seal_148 : decode prog_1_method_10_code 148 = .ok (.aload_n 0, 1) := by decide +kernel
theorem d_x_seal_149 : decode prog_1_method_10_code 149 = .ok (.getfield 16, 3) := by decide +kernel
theorem d_x_seal_152 : decode prog_1_method_10_code 152 = .ok (.invokevirtual 44, 3) := by decide +kernel
theorem d_x_seal_155 : decode prog_1_method_10_code 155 = .ok (.iconst 0, 1) := by decide +kernel
theorem d_x_seal_156 : decode prog_1_method_10_code 156 = .ok (.ireturn, 1) := by decide +kernel
theorem d_x_unseal_0 : decode prog_1_method_11_code 0 = .ok (.aload_n 0, 1) := by decide +kernel
theorem d_x_unseal_1 : decode prog_1_method_11_code 1 = .ok (.iload_n 1, 1) := by decide +kernel
theorem d_x_unseal_2 : decode prog_1_method_11_code 2 = .ok (.invokevirtual 32, 3) := by decide +kernel
theorem d_x_unseal_5 : decode prog_1_method_11_code 5 = .ok (.astore 4, 2) := by decide +kernel
theorem d_x_unseal_7 : decode prog_1_method_11_code 7 = .ok (.aload_n 0, 1) := by decide +kernel
theorem d_x_unseal_8 : decode prog_1_method_11_code 8 = .ok (.iload_n 2, 1) := by decide +kernel
theorem d_x_unseal_9 : decode prog_1_method_11_code 9 = .ok (.invokevirtual 32, 3) := by decide +kernel
theorem d_x_unseal_12 : decode prog_1_method_11_code 12 = .ok (.astore 5, 2) := by decide +kernel
theorem d_x_unseal_14 : decode prog_1_method_11_code 14 = .ok (.aload_n 0, 1) := by decide +kernel
theorem d_x_unseal_15 : decode prog_1_method_11_code 15 = .ok (.iload_n 3, 1) := by decide +kernel
theorem d_x_unseal_16 : decode prog_1_method_11_code 16 = .ok (.invokevirtual 32, 3) := by decide +kernel
theorem d_x_unseal_19 : decode prog_1_method_11_code 19 = .ok (.astore 6, 2) := by decide +kernel
theorem d_x_unseal_21 : decode prog_1_method_11_code 21 = .ok (.aload 5, 2) := by decide +kernel
theorem d_x_unseal_23 : decode prog_1_method_11_code 23 = .ok (.getfield 52, 3) := by decide +kernel
theorem d_x_unseal_26 : decode prog_1_method_11_code 26 = .ok (.ifCond .eq 15, 3) := by decide +kernel
theorem d_x_unseal_29 : decode prog_1_method_11_code 29 = .ok (.aload 6, 2) := by decide +kernel
theorem d_x_unseal_31 : decode prog_1_method_11_code 31 = .ok (.getfield 52, 3) := by decide +kernel
theorem d_x_unseal_34 : decode prog_1_method_11_code 34 = .ok (.ifCond .eq 7, 3) := by decide +kernel
theorem d_x_unseal_37 : decode prog_1_method_11_code 37 = .ok (.iconst 1, 1) := by decide +kernel
theorem d_x_unseal_38 : decode prog_1_method_11_code 38 = .ok (.goto 4, 3) := by decide +kernel
theorem d_x_unseal_41 : decode prog_1_method_11_code 41 = .ok (.iconst 0, 1) := by decide +kernel
theorem d_x_unseal_42 : decode prog_1_method_11_code 42 = .ok (.aload 5, 2) := by decide +kernel
theorem d_x_unseal_44 : decode prog_1_method_11_code 44 = .ok (.invokevirtual 48, 3) := by decide +kernel
theorem d_x_unseal_47 : decode prog_1_method_11_code 47 = .ok (.ifCond .eq 15, 3) := by decide +kernel
theorem d_x_unseal_50 : decode prog_1_method_11_code 50 = .ok (.aload 6, 2) := by decide +kernel
theorem d_x_unseal_52 : decode prog_1_method_11_code 52 = .ok (.invokevirtual 48, 3) := by decide +kernel
theorem d_x_unseal_55 : decode prog_1_method_11_code 55 = .ok (.ifCond .ne 7, 3) := by decide +kernel
theorem d_x_unseal_58 : decode prog_1_method_11_code 58 = .ok (.iconst 1, 1) := by decide +kernel
theorem d_x_unseal_59 : decode prog_1_method_11_code 59 = .ok (.goto 4, 3) := by decide +kernel
theorem d_x_unseal_62 : decode prog_1_method_11_code 62 = .ok (.iconst 0, 1) := by decide +kernel
theorem d_x_unseal_63 : decode prog_1_method_11_code 63 = .ok (.aload 6, 2) := by decide +kernel
theorem d_x_unseal_65 : decode prog_1_method_11_code 65 = .ok (.bipush 64, 2) := by decide +kernel
theorem d_x_unseal_67 : decode prog_1_method_11_code 67 = .ok (.invokevirtual 66, 3) := by decide +kernel
theorem d_x_unseal_70 : decode prog_1_method_11_code 70 = .ok (.aload 6, 2) := by decide +kernel
theorem d_x_unseal_72 : decode prog_1_method_11_code 72 = .ok (.aload 6, 2) := by decide +kernel
theorem d_x_unseal_74 : decode prog_1_method_11_code 74 = .ok (.getfield 40, 3) := by decide +kernel
theorem d_x_unseal_77 : decode prog_1_method_11_code 77 = .ok (.iconst 1, 1) := by decide +kernel
theorem d_x_unseal_78 : decode prog_1_method_11_code 78 = .ok (.invokevirtual 70, 3) := by decide +kernel
theorem d_x_unseal_81 : decode prog_1_method_11_code 81 = .ok (.ifCond .eq 22, 3) := by decide +kernel
theorem d_x_unseal_84 : decode prog_1_method_11_code 84 = .ok (.aload 6, 2) := by decide +kernel
theorem d_x_unseal_86 : decode prog_1_method_11_code 86 = .ok (.getfield 40, 3) := by decide +kernel
theorem d_x_unseal_89 : decode prog_1_method_11_code 89 = .ok (.aload 5, 2) := by decide +kernel
theorem d_x_unseal_91 : decode prog_1_method_11_code 91 = .ok (.getfield 80, 3) := by decide +kernel
theorem d_x_unseal_94 : decode prog_1_method_11_code 94 = .ok (.i2l, 1) := by decide +kernel
theorem d_x_unseal_95 : decode prog_1_method_11_code 95 = .ok (.lcmp, 1) := by decide +kernel
theorem d_x_unseal_96 : decode prog_1_method_11_code 96 = .ok (.ifCond .ne 7, 3) := by decide +kernel
theorem d_x_unseal_99 : decode prog_1_method_11_code 99 = .ok (.iconst 1, 1) := by decide +kernel
theorem d_x_unseal_100 : decode prog_1_method_11_code 100 = .ok (.goto 4, 3) := by decide +kernel
theorem d_x_unseal_103 : decode prog_1_method_11_code 103 = .ok (.iconst 0, 1) := by decide +kernel
theorem d_x_unseal_104 : decode prog_1_method_11_code 104 = .ok (.invokestatic 76, 3) := by decide +kernel
theorem d_x_unseal_107 : decode prog_1_method_11_code 107 = .ok (.istore 7, 2) := by decide +kernel
theorem d_x_unseal_109 : decode prog_1_method_11_code 109 = .ok (.iload 7, 2) := by decide +kernel
theorem d_x_unseal_111 : decode prog_1_method_11_code 111 = .ok (.ifCond .eq 6, 3) := by decide +kernel
theorem d_x_unseal_114 : decode prog_1_method_11_code 114 = .ok (.iload 7, 2) := by decide +kernel
theorem d_x_unseal_116 : decode prog_1_method_11_code 116 = .ok (.ireturn, 1) := by decide +kernel
theorem d_x_unseal_117 : decode prog_1_method_11_code 117 = .ok (.aload_n 0, 1) := by decide +kernel
theorem d_x_unseal_118 : decode prog_1_method_11_code 118 = .ok (.getfield 16, 3) := by decide +kernel
theorem d_x_unseal_121 : decode prog_1_method_11_code 121 = .ok (.aload 5, 2) := by decide +kernel
theorem d_x_unseal_123 : decode prog_1_method_11_code 123 = .ok (.invokevirtual 44, 3) := by decide +kernel
theorem d_x_unseal_126 : decode prog_1_method_11_code 126 = .ok (.aload_n 0, 1) := by decide +kernel
theorem d_x_unseal_127 : decode prog_1_method_11_code 127 = .ok (.getfield 16, 3) := by decide +kernel
theorem d_x_unseal_130 : decode prog_1_method_11_code 130 = .ok (.iconst 0, 1) := by decide +kernel
theorem d_x_unseal_131 : decode prog_1_method_11_code 131 = .ok (.putfield 80, 3) := by decide +kernel
theorem d_x_unseal_134 : decode prog_1_method_11_code 134 = .ok (.aload 4, 2) := by decide +kernel
theorem d_x_unseal_136 : decode prog_1_method_11_code 136 = .ok (.aload_n 0, 1) := by decide +kernel
theorem d_x_unseal_137 : decode prog_1_method_11_code 137 = .ok (.getfield 16, 3) := by decide +kernel
theorem d_x_unseal_140 : decode prog_1_method_11_code 140 = .ok (.invokevirtual 44, 3) := by decide +kernel
theorem d_x_unseal_143 : decode prog_1_method_11_code 143 = .ok (.iconst 0, 1) := by decide +kernel
theorem d_x_unseal_144 : decode prog_1_method_11_code 144 = .ok (.ireturn, 1) := by decide +kernel
theorem d_x_allows_0 : decode prog_1_method_12_code 0 = .ok (.iload_n 3, 1) := by decide +kernel
theorem d_x_allows_1 : decode prog_1_method_12_code 1 = .ok (.ifCond .lt 13, 3) := by decide +kernel
theorem d_x_allows_4 : decode prog_1_method_12_code 4 = .ok (.iload_n 3, 1) := by decide +kernel
theorem d_x_allows_5 : decode prog_1_method_12_code 5 = .ok (.ldc 83, 2) := by decide +kernel
theorem d_x_allows_7 : decode prog_1_method_12_code 7 = .ok (.if_icmp .gt 7, 3) := by decide +kernel
theorem d_x_allows_10 : decode prog_1_method_12_code 10 = .ok (.iconst 1, 1) := by decide +kernel
theorem d_x_allows_11 : decode prog_1_method_12_code 11 = .ok (.goto 4, 3) := by decide +kernel
theorem d_x_allows_14 : decode prog_1_method_12_code 14 = .ok (.iconst 0, 1) := by decide +kernel
theorem d_x_allows_15 : decode prog_1_method_12_code 15 = .ok (.invokestatic 28, 3) := by decide +kernel
theorem d_x_allows_18 : decode prog_1_method_12_code 18 = .ok (.aload_n 0, 1) := by decide +kernel
theorem d_x_allows_19 : decode prog_1_method_12_code 19 = .ok (.iload_n 1, 1) := by decide +kernel
theorem d_x_allows_20 : decode prog_1_method_12_code 20 = .ok (.invokevirtual 32, 3) := by decide +kernel
theorem d_x_allows_23 : decode prog_1_method_12_code 23 = .ok (.astore 5, 2) := by decide +kernel
theorem d_x_allows_25 : decode prog_1_method_12_code 25 = .ok (.aload 5, 2) := by decide +kernel
theorem d_x_allows_27 : decode prog_1_method_12_code 27 = .ok (.getfield 52, 3) := by decide +kernel
theorem d_x_allows_30 : decode prog_1_method_12_code 30 = .ok (.aload 5, 2) := by decide +kernel
theorem d_x_allows_32 : decode prog_1_method_12_code 32 = .ok (.invokevirtual 48, 3) := by decide +kernel
theorem d_x_allows_35 : decode prog_1_method_12_code 35 = .ok (.ifCond .ne 7, 3) := by decide +kernel
theorem d_x_allows_38 : decode prog_1_method_12_code 38 = .ok (.iconst 1, 1) := by decide +kernel
theorem d_x_allows_39 : decode prog_1_method_12_code 39 = .ok (.goto 4, 3) := by decide +kernel
theorem d_x_allows_42 : decode prog_1_method_12_code 42 = .ok (.iconst 0, 1) := by decide +kernel
theorem d_x_allows_43 : decode prog_1_method_12_code 43 = .ok (.aload 5, 2) := by decide +kernel
theorem d_x_allows_45 : decode prog_1_method_12_code 45 = .ok (.iload 4, 2) := by decide +kernel
theorem d_x_allows_47 : decode prog_1_method_12_code 47 = .ok (.invokevirtual 66, 3) := by decide +kernel
theorem d_x_allows_50 : decode prog_1_method_12_code 50 = .ok (.aload 5, 2) := by decide +kernel
theorem d_x_allows_52 : decode prog_1_method_12_code 52 = .ok (.aload 5, 2) := by decide +kernel
theorem d_x_allows_54 : decode prog_1_method_12_code 54 = .ok (.getfield 40, 3) := by decide +kernel
theorem d_x_allows_57 : decode prog_1_method_12_code 57 = .ok (.iload_n 2, 1) := by decide +kernel
theorem d_x_allows_58 : decode prog_1_method_12_code 58 = .ok (.i2l, 1) := by decide +kernel
theorem d_x_allows_59 : decode prog_1_method_12_code 59 = .ok (.ladd, 1) := by decide +kernel
theorem d_x_allows_60 : decode prog_1_method_12_code 60 = .ok (.ldc2_w 26, 3) := by decide +kernel
theorem d_x_allows_63 : decode prog_1_method_12_code 63 = .ok (.land, 1) := by decide +kernel
theorem d_x_allows_64 : decode prog_1_method_12_code 64 = .ok (.iload_n 3, 1) := by decide +kernel
theorem d_x_allows_65 : decode prog_1_method_12_code 65 = .ok (.invokevirtual 70, 3) := by decide +kernel
theorem d_x_allows_68 : decode prog_1_method_12_code 68 = .ok (.invokestatic 76, 3) := by decide +kernel
theorem d_x_allows_71 : decode prog_1_method_12_code 71 = .ok (.ireturn, 1) := by decide +kernel
theorem d_x_within_0 : decode prog_1_method_13_code 0 = .ok (.aload_n 0, 1) := by decide +kernel
theorem d_x_within_1 : decode prog_1_method_13_code 1 = .ok (.iload_n 1, 1) := by decide +kernel
theorem d_x_within_2 : decode prog_1_method_13_code 2 = .ok (.invokevirtual 32, 3) := by decide +kernel
theorem d_x_within_5 : decode prog_1_method_13_code 5 = .ok (.astore_n 3, 1) := by decide +kernel
theorem d_x_within_6 : decode prog_1_method_13_code 6 = .ok (.aload_n 0, 1) := by decide +kernel
theorem d_x_within_7 : decode prog_1_method_13_code 7 = .ok (.iload_n 2, 1) := by decide +kernel
theorem d_x_within_8 : decode prog_1_method_13_code 8 = .ok (.invokevirtual 32, 3) := by decide +kernel
theorem d_x_within_11 : decode prog_1_method_13_code 11 = .ok (.astore 4, 2) := by decide +kernel
theorem d_x_within_13 : decode prog_1_method_13_code 13 = .ok (.aload_n 3, 1) := by decide +kernel
theorem d_x_within_14 : decode prog_1_method_13_code 14 = .ok (.getfield 52, 3) := by decide +kernel
theorem d_x_within_17 : decode prog_1_method_13_code 17 = .ok (.ifCond .eq 53, 3) := by decide +kernel
theorem d_x_within_20 : decode prog_1_method_13_code 20 = .ok (.aload 4, 2) := by decide +kernel
theorem d_x_within_22 : decode prog_1_method_13_code 22 = .ok (.getfield 52, 3) := by decide +kernel
theorem d_x_within_25 : decode prog_1_method_13_code 25 = .ok (.ifCond .eq 45, 3) := by decide +kernel
theorem d_x_within_28 : decode prog_1_method_13_code 28 = .ok (.aload_n 3, 1) := by decide +kernel
theorem d_x_within_29 : decode prog_1_method_13_code 29 = .ok (.getfield 56, 3) := by decide +kernel
theorem d_x_within_32 : decode prog_1_method_13_code 32 = .ok (.aload 4, 2) := by decide +kernel
theorem d_x_within_34 : decode prog_1_method_13_code 34 = .ok (.getfield 56, 3) := by decide +kernel
theorem d_x_within_37 : decode prog_1_method_13_code 37 = .ok (.lcmp, 1) := by decide +kernel
theorem d_x_within_38 : decode prog_1_method_13_code 38 = .ok (.ifCond .lt 32, 3) := by decide +kernel
theorem d_x_within_41 : decode prog_1_method_13_code 41 = .ok (.aload_n 3, 1) := by decide +kernel
theorem d_x_within_42 : decode prog_1_method_13_code 42 = .ok (.getfield 59, 3) := by decide +kernel
theorem d_x_within_45 : decode prog_1_method_13_code 45 = .ok (.aload 4, 2) := by decide +kernel
theorem d_x_within_47 : decode prog_1_method_13_code 47 = .ok (.getfield 59, 3) := by decide +kernel
theorem d_x_within_50 : decode prog_1_method_13_code 50 = .ok (.lcmp, 1) := by decide +kernel
theorem d_x_within_51 : decode prog_1_method_13_code 51 = .ok (.ifCond .gt 19, 3) := by decide +kernel
theorem d_x_within_54 : decode prog_1_method_13_code 54 = .ok (.aload 4, 2) := by decide +kernel
theorem d_x_within_56 : decode prog_1_method_13_code 56 = .ok (.aload_n 3, 1) := by decide +kernel
theorem d_x_within_57 : decode prog_1_method_13_code 57 = .ok (.getfield 62, 3) := by decide +kernel
theorem d_x_within_60 : decode prog_1_method_13_code 60 = .ok (.invokevirtual 66, 3) := by decide +kernel
theorem d_x_within_63 : decode prog_1_method_13_code 63 = .ok (.ifCond .eq 7, 3) := by decide +kernel
theorem d_x_within_66 : decode prog_1_method_13_code 66 = .ok (.iconst 1, 1) := by decide +kernel
theorem d_x_within_67 : decode prog_1_method_13_code 67 = .ok (.goto 4, 3) := by decide +kernel
theorem d_x_within_70 : decode prog_1_method_13_code 70 = .ok (.iconst 0, 1) := by decide +kernel
theorem d_x_within_71 : decode prog_1_method_13_code 71 = .ok (.ireturn, 1) := by decide +kernel
theorem d_x_part_0 : decode prog_1_method_14_code 0 = .ok (.iload_n 2, 1) := by decide +kernel
theorem d_x_part_1 : decode prog_1_method_14_code 1 = .ok (.ifCond .lt 12, 3) := by decide +kernel
theorem d_x_part_4 : decode prog_1_method_14_code 4 = .ok (.iload_n 2, 1) := by decide +kernel
theorem d_x_part_5 : decode prog_1_method_14_code 5 = .ok (.iconst 5, 1) := by decide +kernel
theorem d_x_part_6 : decode prog_1_method_14_code 6 = .ok (.if_icmp .gt 7, 3) := by decide +kernel
theorem d_x_part_9 : decode prog_1_method_14_code 9 = .ok (.iconst 1, 1) := by decide +kernel
theorem d_x_part_10 : decode prog_1_method_14_code 10 = .ok (.goto 4, 3) := by decide +kernel
theorem d_x_part_13 : decode prog_1_method_14_code 13 = .ok (.iconst 0, 1) := by decide +kernel
theorem d_x_part_14 : decode prog_1_method_14_code 14 = .ok (.invokestatic 28, 3) := by decide +kernel
theorem d_x_part_17 : decode prog_1_method_14_code 17 = .ok (.aload_n 0, 1) := by decide +kernel
theorem d_x_part_18 : decode prog_1_method_14_code 18 = .ok (.iload_n 1, 1) := by decide +kernel
theorem d_x_part_19 : decode prog_1_method_14_code 19 = .ok (.invokevirtual 32, 3) := by decide +kernel
theorem d_x_part_22 : decode prog_1_method_14_code 22 = .ok (.astore_n 3, 1) := by decide +kernel
theorem d_x_part_23 : decode prog_1_method_14_code 23 = .ok (.iload_n 2, 1) := by decide +kernel
theorem d_x_part_24 : decode prog_1_method_14_code 24 = .ok (.tableswitch 64 0 4 #[36, 42, 48, 54, 59], 36) := by decide +kernel
theorem d_x_part_60 : decode prog_1_method_14_code 60 = .ok (.aload_n 3, 1) := by decide +kernel
theorem d_x_part_61 : decode prog_1_method_14_code 61 = .ok (.getfield 40, 3) := by decide +kernel
theorem d_x_part_64 : decode prog_1_method_14_code 64 = .ok (.l2i, 1) := by decide +kernel
theorem d_x_part_65 : decode prog_1_method_14_code 65 = .ok (.ireturn, 1) := by decide +kernel
theorem d_x_part_66 : decode prog_1_method_14_code 66 = .ok (.aload_n 3, 1) := by decide +kernel
theorem d_x_part_67 : decode prog_1_method_14_code 67 = .ok (.getfield 56, 3) := by decide +kernel
theorem d_x_part_70 : decode prog_1_method_14_code 70 = .ok (.l2i, 1) := by decide +kernel
theorem d_x_part_71 : decode prog_1_method_14_code 71 = .ok (.ireturn, 1) := by decide +kernel
theorem d_x_part_72 : decode prog_1_method_14_code 72 = .ok (.aload_n 3, 1) := by decide +kernel
theorem d_x_part_73 : decode prog_1_method_14_code 73 = .ok (.getfield 59, 3) := by decide +kernel
theorem d_x_part_76 : decode prog_1_method_14_code 76 = .ok (.l2i, 1) := by decide +kernel
theorem d_x_part_77 : decode prog_1_method_14_code 77 = .ok (.ireturn, 1) := by decide +kernel
theorem d_x_part_78 : decode prog_1_method_14_code 78 = .ok (.aload_n 3, 1) := by decide +kernel
theorem d_x_part_79 : decode prog_1_method_14_code 79 = .ok (.getfield 62, 3) := by decide +kernel
theorem d_x_part_82 : decode prog_1_method_14_code 82 = .ok (.ireturn, 1) := by decide +kernel
theorem d_x_part_83 : decode prog_1_method_14_code 83 = .ok (.aload_n 3, 1) := by decide +kernel
theorem d_x_part_84 : decode prog_1_method_14_code 84 = .ok (.getfield 80, 3) := by decide +kernel
theorem d_x_part_87 : decode prog_1_method_14_code 87 = .ok (.ireturn, 1) := by decide +kernel
theorem d_x_part_88 : decode prog_1_method_14_code 88 = .ok (.aload_n 3, 1) := by decide +kernel
theorem d_x_part_89 : decode prog_1_method_14_code 89 = .ok (.getfield 52, 3) := by decide +kernel
theorem d_x_part_92 : decode prog_1_method_14_code 92 = .ok (.ifCond .eq 7, 3) := by decide +kernel
theorem d_x_part_95 : decode prog_1_method_14_code 95 = .ok (.iconst 1, 1) := by decide +kernel
theorem d_x_part_96 : decode prog_1_method_14_code 96 = .ok (.goto 4, 3) := by decide +kernel
theorem d_x_part_99 : decode prog_1_method_14_code 99 = .ok (.iconst 0, 1) := by decide +kernel
theorem d_x_part_100 : decode prog_1_method_14_code 100 = .ok (.ireturn, 1) := by decide +kernel
theorem d_x_count_0 : decode prog_1_method_15_code 0 = .ok (.iconst 0, 1) := by decide +kernel
theorem d_x_count_1 : decode prog_1_method_15_code 1 = .ok (.istore_n 3, 1) := by decide +kernel
theorem d_x_count_2 : decode prog_1_method_15_code 2 = .ok (.iconst 0, 1) := by decide +kernel
theorem d_x_count_3 : decode prog_1_method_15_code 3 = .ok (.istore 4, 2) := by decide +kernel
theorem d_x_count_5 : decode prog_1_method_15_code 5 = .ok (.iload 4, 2) := by decide +kernel
theorem d_x_count_7 : decode prog_1_method_15_code 7 = .ok (.bipush 16, 2) := by decide +kernel
theorem d_x_count_9 : decode prog_1_method_15_code 9 = .ok (.if_icmp .ge 74, 3) := by decide +kernel
theorem d_x_count_12 : decode prog_1_method_15_code 12 = .ok (.aload_n 0, 1) := by decide +kernel
theorem d_x_count_13 : decode prog_1_method_15_code 13 = .ok (.getfield 11, 3) := by decide +kernel
theorem d_x_count_16 : decode prog_1_method_15_code 16 = .ok (.iload 4, 2) := by decide +kernel
theorem d_x_count_18 : decode prog_1_method_15_code 18 = .ok (.aaload, 1) := by decide +kernel
theorem d_x_count_19 : decode prog_1_method_15_code 19 = .ok (.getfield 52, 3) := by decide +kernel
theorem d_x_count_22 : decode prog_1_method_15_code 22 = .ok (.aload_n 0, 1) := by decide +kernel
theorem d_x_count_23 : decode prog_1_method_15_code 23 = .ok (.getfield 11, 3) := by decide +kernel
theorem d_x_count_26 : decode prog_1_method_15_code 26 = .ok (.iload 4, 2) := by decide +kernel
theorem d_x_count_28 : decode prog_1_method_15_code 28 = .ok (.aaload, 1) := by decide +kernel
theorem d_x_count_29 : decode prog_1_method_15_code 29 = .ok (.invokevirtual 48, 3) := by decide +kernel
theorem d_x_count_32 : decode prog_1_method_15_code 32 = .ok (.ifCond .ne 7, 3) := by decide +kernel
theorem d_x_count_35 : decode prog_1_method_15_code 35 = .ok (.iconst 1, 1) := by decide +kernel
theorem d_x_count_36 : decode prog_1_method_15_code 36 = .ok (.goto 4, 3) := by decide +kernel
theorem d_x_count_39 : decode prog_1_method_15_code 39 = .ok (.iconst 0, 1) := by decide +kernel
theorem d_x_count_40 : decode prog_1_method_15_code 40 = .ok (.aload_n 0, 1) := by decide +kernel
theorem d_x_count_41 : decode prog_1_method_15_code 41 = .ok (.getfield 11, 3) := by decide +kernel
theorem d_x_count_44 : decode prog_1_method_15_code 44 = .ok (.iload 4, 2) := by decide +kernel
theorem d_x_count_46 : decode prog_1_method_15_code 46 = .ok (.aaload, 1) := by decide +kernel
theorem d_x_count_47 : decode prog_1_method_15_code 47 = .ok (.iload_n 2, 1) := by decide +kernel
theorem d_x_count_48 : decode prog_1_method_15_code 48 = .ok (.invokevirtual 66, 3) := by decide +kernel
theorem d_x_count_51 : decode prog_1_method_15_code 51 = .ok (.aload_n 0, 1) := by decide +kernel
theorem d_x_count_52 : decode prog_1_method_15_code 52 = .ok (.getfield 11, 3) := by decide +kernel
theorem d_x_count_55 : decode prog_1_method_15_code 55 = .ok (.iload 4, 2) := by decide +kernel
theorem d_x_count_57 : decode prog_1_method_15_code 57 = .ok (.aaload, 1) := by decide +kernel
theorem d_x_count_58 : decode prog_1_method_15_code 58 = .ok (.iload_n 1, 1) := by decide +kernel
theorem d_x_count_59 : decode prog_1_method_15_code 59 = .ok (.i2l, 1) := by decide +kernel
theorem d_x_count_60 : decode prog_1_method_15_code 60 = .ok (.ldc2_w 26, 3) := by decide +kernel
theorem d_x_count_63 : decode prog_1_method_15_code 63 = .ok (.land, 1) := by decide +kernel
theorem d_x_count_64 : decode prog_1_method_15_code 64 = .ok (.iconst 1, 1) := by decide +kernel
theorem d_x_count_65 : decode prog_1_method_15_code 65 = .ok (.invokevirtual 70, 3) := by decide +kernel
theorem d_x_count_68 : decode prog_1_method_15_code 68 = .ok (.invokestatic 76, 3) := by decide +kernel
theorem d_x_count_71 : decode prog_1_method_15_code 71 = .ok (.ifCond .ne 6, 3) := by decide +kernel
theorem d_x_count_74 : decode prog_1_method_15_code 74 = .ok (.iinc 3 1, 3) := by decide +kernel
theorem d_x_count_77 : decode prog_1_method_15_code 77 = .ok (.iinc 4 1, 3) := by decide +kernel
theorem d_x_count_80 : decode prog_1_method_15_code 80 = .ok (.goto (-75), 3) := by decide +kernel
theorem d_x_count_83 : decode prog_1_method_15_code 83 = .ok (.iload_n 3, 1) := by decide +kernel
theorem d_x_count_84 : decode prog_1_method_15_code 84 = .ok (.ireturn, 1) := by decide +kernel
theorem d_m_init_0 : decode prog_4_method_1_code 0 = .ok (.aload_n 0, 1) := by decide +kernel
theorem d_m_init_1 : decode prog_4_method_1_code 1 = .ok (.invokespecial 1, 3) := by decide +kernel
theorem d_m_init_4 : decode prog_4_method_1_code 4 = .ok (.aload_n 0, 1) := by decide +kernel
theorem d_m_init_5 : decode prog_4_method_1_code 5 = .ok (.bipush 16, 2) := by decide +kernel
theorem d_m_init_7 : decode prog_4_method_1_code 7 = .ok (.newarray .long, 2) := by decide +kernel
theorem d_m_init_9 : decode prog_4_method_1_code 9 = .ok (.putfield 9, 3) := by decide +kernel
theorem d_m_init_12 : decode prog_4_method_1_code 12 = .ok (.aload_n 0, 1) := by decide +kernel
theorem d_m_init_13 : decode prog_4_method_1_code 13 = .ok (.bipush 16, 2) := by decide +kernel
theorem d_m_init_15 : decode prog_4_method_1_code 15 = .ok (.newarray .long, 2) := by decide +kernel
theorem d_m_init_17 : decode prog_4_method_1_code 17 = .ok (.putfield 13, 3) := by decide +kernel
theorem d_m_init_20 : decode prog_4_method_1_code 20 = .ok (.aload_n 0, 1) := by decide +kernel
theorem d_m_init_21 : decode prog_4_method_1_code 21 = .ok (.bipush 16, 2) := by decide +kernel
theorem d_m_init_23 : decode prog_4_method_1_code 23 = .ok (.newarray .long, 2) := by decide +kernel
theorem d_m_init_25 : decode prog_4_method_1_code 25 = .ok (.putfield 16, 3) := by decide +kernel
theorem d_m_init_28 : decode prog_4_method_1_code 28 = .ok (.aload_n 0, 1) := by decide +kernel
theorem d_m_init_29 : decode prog_4_method_1_code 29 = .ok (.bipush 16, 2) := by decide +kernel
theorem d_m_init_31 : decode prog_4_method_1_code 31 = .ok (.newarray .int, 2) := by decide +kernel
theorem d_m_init_33 : decode prog_4_method_1_code 33 = .ok (.putfield 19, 3) := by decide +kernel
theorem d_m_init_36 : decode prog_4_method_1_code 36 = .ok (.aload_n 0, 1) := by decide +kernel
theorem d_m_init_37 : decode prog_4_method_1_code 37 = .ok (.bipush 16, 2) := by decide +kernel
theorem d_m_init_39 : decode prog_4_method_1_code 39 = .ok (.newarray .int, 2) := by decide +kernel
theorem d_m_init_41 : decode prog_4_method_1_code 41 = .ok (.putfield 23, 3) := by decide +kernel
theorem d_m_init_44 : decode prog_4_method_1_code 44 = .ok (.aload_n 0, 1) := by decide +kernel
theorem d_m_init_45 : decode prog_4_method_1_code 45 = .ok (.bipush 16, 2) := by decide +kernel
theorem d_m_init_47 : decode prog_4_method_1_code 47 = .ok (.newarray .boolean, 2) := by decide +kernel
theorem d_m_init_49 : decode prog_4_method_1_code 49 = .ok (.putfield 26, 3) := by decide +kernel
theorem d_m_init_52 : decode prog_4_method_1_code 52 = .ok (.return_, 1) := by decide +kernel
theorem d_m_thrown_0 : decode prog_4_method_2_code 0 = .ok (.aload_n 0, 1) := by decide +kernel
theorem d_m_thrown_1 : decode prog_4_method_2_code 1 = .ok (.getfield 30, 3) := by decide +kernel
theorem d_m_thrown_4 : decode prog_4_method_2_code 4 = .ok (.ireturn, 1) := by decide +kernel
theorem d_m_in_0 : decode prog_4_method_3_code 0 = .ok (.lload_n 0, 1) := by decide +kernel
theorem d_m_in_1 : decode prog_4_method_3_code 1 = .ok (.lload_n 2, 1) := by decide +kernel
theorem d_m_in_2 : decode prog_4_method_3_code 2 = .ok (.lcmp, 1) := by decide +kernel
theorem d_m_in_3 : decode prog_4_method_3_code 3 = .ok (.ifCond .lt 14, 3) := by decide +kernel
theorem d_m_in_6 : decode prog_4_method_3_code 6 = .ok (.lload_n 0, 1) := by decide +kernel
theorem d_m_in_7 : decode prog_4_method_3_code 7 = .ok (.lload 4, 2) := by decide +kernel
theorem d_m_in_9 : decode prog_4_method_3_code 9 = .ok (.lcmp, 1) := by decide +kernel
theorem d_m_in_10 : decode prog_4_method_3_code 10 = .ok (.ifCond .gt 7, 3) := by decide +kernel
theorem d_m_in_13 : decode prog_4_method_3_code 13 = .ok (.iconst 1, 1) := by decide +kernel
theorem d_m_in_14 : decode prog_4_method_3_code 14 = .ok (.goto 4, 3) := by decide +kernel
theorem d_m_in_17 : decode prog_4_method_3_code 17 = .ok (.iconst 0, 1) := by decide +kernel
theorem d_m_in_18 : decode prog_4_method_3_code 18 = .ok (.ireturn, 1) := by decide +kernel
theorem d_m_fails_0 : decode prog_4_method_4_code 0 = .ok (.iload_n 1, 1) := by decide +kernel
theorem d_m_fails_1 : decode prog_4_method_4_code 1 = .ok (.ifCond .eq 15, 3) := by decide +kernel
theorem d_m_fails_4 : decode prog_4_method_4_code 4 = .ok (.aload_n 0, 1) := by decide +kernel
theorem d_m_fails_5 : decode prog_4_method_4_code 5 = .ok (.getfield 30, 3) := by decide +kernel
theorem d_m_fails_8 : decode prog_4_method_4_code 8 = .ok (.ifCond .ne 8, 3) := by decide +kernel
theorem d_m_fails_11 : decode prog_4_method_4_code 11 = .ok (.aload_n 0, 1) := by decide +kernel
theorem d_m_fails_12 : decode prog_4_method_4_code 12 = .ok (.iload_n 2, 1) := by decide +kernel
theorem d_m_fails_13 : decode prog_4_method_4_code 13 = .ok (.putfield 30, 3) := by decide +kernel
theorem d_m_fails_16 : decode prog_4_method_4_code 16 = .ok (.aload_n 0, 1) := by decide +kernel
theorem d_m_fails_17 : decode prog_4_method_4_code 17 = .ok (.getfield 30, 3) := by decide +kernel
theorem d_m_fails_20 : decode prog_4_method_4_code 20 = .ok (.ifCond .eq 7, 3) := by decide +kernel
theorem d_m_fails_23 : decode prog_4_method_4_code 23 = .ok (.iconst 1, 1) := by decide +kernel
theorem d_m_fails_24 : decode prog_4_method_4_code 24 = .ok (.goto 4, 3) := by decide +kernel
theorem d_m_fails_27 : decode prog_4_method_4_code 27 = .ok (.iconst 0, 1) := by decide +kernel
theorem d_m_fails_28 : decode prog_4_method_4_code 28 = .ok (.ireturn, 1) := by decide +kernel
theorem d_m_is_0 : decode prog_4_method_5_code 0 = .ok (.iload_n 0, 1) := by decide +kernel
theorem d_m_is_1 : decode prog_4_method_5_code 1 = .ok (.i2l, 1) := by decide +kernel
theorem d_m_is_2 : decode prog_4_method_5_code 2 = .ok (.lconst 0, 1) := by decide +kernel
theorem d_m_is_3 : decode prog_4_method_5_code 3 = .ok (.ldc2_w 34, 3) := by decide +kernel
theorem d_m_is_6 : decode prog_4_method_5_code 6 = .ok (.invokestatic 36, 3) := by decide +kernel
theorem d_m_is_9 : decode prog_4_method_5_code 9 = .ok (.ireturn, 1) := by decide +kernel
theorem d_m_wide_0 : decode prog_4_method_6_code 0 = .ok (.iload_n 0, 1) := by decide +kernel
theorem d_m_wide_1 : decode prog_4_method_6_code 1 = .ok (.i2l, 1) := by decide +kernel
theorem d_m_wide_2 : decode prog_4_method_6_code 2 = .ok (.ldc2_w 40, 3) := by decide +kernel
theorem d_m_wide_5 : decode prog_4_method_6_code 5 = .ok (.lrem, 1) := by decide +kernel
theorem d_m_wide_6 : decode prog_4_method_6_code 6 = .ok (.ldc2_w 40, 3) := by decide +kernel
theorem d_m_wide_9 : decode prog_4_method_6_code 9 = .ok (.ladd, 1) := by decide +kernel
theorem d_m_wide_10 : decode prog_4_method_6_code 10 = .ok (.ldc2_w 40, 3) := by decide +kernel
theorem d_m_wide_13 : decode prog_4_method_6_code 13 = .ok (.lrem, 1) := by decide +kernel
theorem d_m_wide_14 : decode prog_4_method_6_code 14 = .ok (.lreturn, 1) := by decide +kernel
theorem d_m_give_0 : decode prog_4_method_7_code 0 = .ok (.aload_n 0, 1) := by decide +kernel
theorem d_m_give_1 : decode prog_4_method_7_code 1 = .ok (.getfield 9, 3) := by decide +kernel
theorem d_m_give_4 : decode prog_4_method_7_code 4 = .ok (.iload_n 1, 1) := by decide +kernel
theorem d_m_give_5 : decode prog_4_method_7_code 5 = .ok (.lload_n 2, 1) := by decide +kernel
theorem d_m_give_6 : decode prog_4_method_7_code 6 = .ok (.lastore, 1) := by decide +kernel
theorem d_m_give_7 : decode prog_4_method_7_code 7 = .ok (.aload_n 0, 1) := by decide +kernel
theorem d_m_give_8 : decode prog_4_method_7_code 8 = .ok (.getfield 13, 3) := by decide +kernel
theorem d_m_give_11 : decode prog_4_method_7_code 11 = .ok (.iload_n 1, 1) := by decide +kernel
theorem d_m_give_12 : decode prog_4_method_7_code 12 = .ok (.lload 4, 2) := by decide +kernel
theorem d_m_give_14 : decode prog_4_method_7_code 14 = .ok (.lastore, 1) := by decide +kernel
theorem d_m_give_15 : decode prog_4_method_7_code 15 = .ok (.aload_n 0, 1) := by decide +kernel
theorem d_m_give_16 : decode prog_4_method_7_code 16 = .ok (.getfield 16, 3) := by decide +kernel
theorem d_m_give_19 : decode prog_4_method_7_code 19 = .ok (.iload_n 1, 1) := by decide +kernel
theorem d_m_give_20 : decode prog_4_method_7_code 20 = .ok (.lload 6, 2) := by decide +kernel
theorem d_m_give_22 : decode prog_4_method_7_code 22 = .ok (.lastore, 1) := by decide +kernel
theorem d_m_give_23 : decode prog_4_method_7_code 23 = .ok (.aload_n 0, 1) := by decide +kernel
theorem d_m_give_24 : decode prog_4_method_7_code 24 = .ok (.getfield 19, 3) := by decide +kernel
theorem d_m_give_27 : decode prog_4_method_7_code 27 = .ok (.iload_n 1, 1) := by decide +kernel
theorem d_m_give_28 : decode prog_4_method_7_code 28 = .ok (.iload 8, 2) := by decide +kernel
theorem d_m_give_30 : decode prog_4_method_7_code 30 = .ok (.iastore, 1) := by decide +kernel
theorem d_m_give_31 : decode prog_4_method_7_code 31 = .ok (.aload_n 0, 1) := by decide +kernel
theorem d_m_give_32 : decode prog_4_method_7_code 32 = .ok (.getfield 23, 3) := by decide +kernel
theorem d_m_give_35 : decode prog_4_method_7_code 35 = .ok (.iload_n 1, 1) := by decide +kernel
theorem d_m_give_36 : decode prog_4_method_7_code 36 = .ok (.iload 9, 2) := by decide +kernel
theorem d_m_give_38 : decode prog_4_method_7_code 38 = .ok (.iastore, 1) := by decide +kernel
theorem d_m_give_39 : decode prog_4_method_7_code 39 = .ok (.aload_n 0, 1) := by decide +kernel
theorem d_m_give_40 : decode prog_4_method_7_code 40 = .ok (.getfield 26, 3) := by decide +kernel
theorem d_m_give_43 : decode prog_4_method_7_code 43 = .ok (.iload_n 1, 1) := by decide +kernel
theorem d_m_give_44 : decode prog_4_method_7_code 44 = .ok (.iload 10, 2) := by decide +kernel
theorem d_m_give_46 : decode prog_4_method_7_code 46 = .ok (.bastore, 1) := by decide +kernel
theorem d_m_give_47 : decode prog_4_method_7_code 47 = .ok (.return_, 1) := by decide +kernel
theorem d_m_root_0 : decode prog_4_method_8_code 0 = .ok (.aload_n 0, 1) := by decide +kernel
theorem d_m_root_1 : decode prog_4_method_8_code 1 = .ok (.iconst 0, 1) := by decide +kernel
theorem d_m_root_2 : decode prog_4_method_8_code 2 = .ok (.putfield 30, 3) := by decide +kernel
theorem d_m_root_5 : decode prog_4_method_8_code 5 = .ok (.aload_n 0, 1) := by decide +kernel
theorem d_m_root_6 : decode prog_4_method_8_code 6 = .ok (.iload_n 2, 1) := by decide +kernel
theorem d_m_root_7 : decode prog_4_method_8_code 7 = .ok (.invokestatic 42, 3) := by decide +kernel
theorem d_m_root_10 : decode prog_4_method_8_code 10 = .ok (.iload_n 3, 1) := by decide +kernel
theorem d_m_root_11 : decode prog_4_method_8_code 11 = .ok (.invokestatic 42, 3) := by decide +kernel
theorem d_m_root_14 : decode prog_4_method_8_code 14 = .ok (.lcmp, 1) := by decide +kernel
theorem d_m_root_15 : decode prog_4_method_8_code 15 = .ok (.ifCond .gt 16, 3) := by decide +kernel
theorem d_m_root_18 : decode prog_4_method_8_code 18 = .ok (.iload 4, 2) := by decide +kernel
theorem d_m_root_20 : decode prog_4_method_8_code 20 = .ok (.i2l, 1) := by decide +kernel
theorem d_m_root_21 : decode prog_4_method_8_code 21 = .ok (.lconst 0, 1) := by decide +kernel
theorem d_m_root_22 : decode prog_4_method_8_code 22 = .ok (.ldc2_w 46, 3) := by decide +kernel
theorem d_m_root_25 : decode prog_4_method_8_code 25 = .ok (.invokestatic 36, 3) := by decide +kernel
theorem d_m_root_28 : decode prog_4_method_8_code 28 = .ok (.ifCond .ne 7, 3) := by decide +kernel
theorem d_m_root_31 : decode prog_4_method_8_code 31 = .ok (.iconst 1, 1) := by decide +kernel
theorem d_m_root_32 : decode prog_4_method_8_code 32 = .ok (.goto 4, 3) := by decide +kernel
theorem d_m_root_35 : decode prog_4_method_8_code 35 = .ok (.iconst 0, 1) := by decide +kernel
theorem d_m_root_36 : decode prog_4_method_8_code 36 = .ok (.iconst 1, 1) := by decide +kernel
theorem d_m_root_37 : decode prog_4_method_8_code 37 = .ok (.invokevirtual 48, 3) := by decide +kernel
theorem d_m_root_40 : decode prog_4_method_8_code 40 = .ok (.ifCond .ne 23, 3) := by decide +kernel
theorem d_m_root_43 : decode prog_4_method_8_code 43 = .ok (.aload_n 0, 1) := by decide +kernel
theorem d_m_root_44 : decode prog_4_method_8_code 44 = .ok (.iload_n 1, 1) := by decide +kernel
theorem d_m_root_45 : decode prog_4_method_8_code 45 = .ok (.invokestatic 52, 3) := by decide +kernel
theorem d_m_root_48 : decode prog_4_method_8_code 48 = .ok (.ifCond .ne 7, 3) := by decide +kernel
theorem d_m_root_51 : decode prog_4_method_8_code 51 = .ok (.iconst 1, 1) := by decide +kernel
theorem d_m_root_52 : decode prog_4_method_8_code 52 = .ok (.goto 4, 3) := by decide +kernel
theorem d_m_root_55 : decode prog_4_method_8_code 55 = .ok (.iconst 0, 1) := by decide +kernel
theorem d_m_root_56 : decode prog_4_method_8_code 56 = .ok (.iconst 2, 1) := by decide +kernel
theorem d_m_root_57 : decode prog_4_method_8_code 57 = .ok (.invokevirtual 48, 3) := by decide +kernel
theorem d_m_root_60 : decode prog_4_method_8_code 60 = .ok (.ifCond .eq 4, 3) := by decide +kernel
theorem d_m_root_63 : decode prog_4_method_8_code 63 = .ok (.return_, 1) := by decide +kernel
theorem d_m_root_64 : decode prog_4_method_8_code 64 = .ok (.aload_n 0, 1) := by decide +kernel
theorem d_m_root_65 : decode prog_4_method_8_code 65 = .ok (.iload_n 1, 1) := by decide +kernel
theorem d_m_root_66 : decode prog_4_method_8_code 66 = .ok (.iload_n 2, 1) := by decide +kernel
theorem d_m_root_67 : decode prog_4_method_8_code 67 = .ok (.invokestatic 42, 3) := by decide +kernel
theorem d_m_root_70 : decode prog_4_method_8_code 70 = .ok (.iload_n 2, 1) := by decide +kernel
theorem d_m_root_71 : decode prog_4_method_8_code 71 = .ok (.invokestatic 42, 3) := by decide +kernel
theorem d_m_root_74 : decode prog_4_method_8_code 74 = .ok (.iload_n 3, 1) := by decide +kernel
theorem d_m_root_75 : decode prog_4_method_8_code 75 = .ok (.invokestatic 42, 3) := by decide +kernel
theorem d_m_root_78 : decode prog_4_method_8_code 78 = .ok (.iload 4, 2) := by decide +kernel
theorem d_m_root_80 : decode prog_4_method_8_code 80 = .ok (.iconst 0, 1) := by decide +kernel
theorem d_m_root_81 : decode prog_4_method_8_code 81 = .ok (.iconst 1, 1) := by decide +kernel
theorem d_m_root_82 : decode prog_4_method_8_code 82 = .ok (.invokevirtual 56, 3) := by decide +kernel
theorem d_m_root_85 : decode prog_4_method_8_code 85 = .ok (.return_, 1) := by decide +kernel
theorem d_m_number_0 : decode prog_4_method_9_code 0 = .ok (.aload_n 0, 1) := by decide +kernel
theorem d_m_number_1 : decode prog_4_method_9_code 1 = .ok (.iconst 0, 1) := by decide +kernel
theorem d_m_number_2 : decode prog_4_method_9_code 2 = .ok (.putfield 30, 3) := by decide +kernel
theorem d_m_number_5 : decode prog_4_method_9_code 5 = .ok (.aload_n 0, 1) := by decide +kernel
theorem d_m_number_6 : decode prog_4_method_9_code 6 = .ok (.iload_n 1, 1) := by decide +kernel
theorem d_m_number_7 : decode prog_4_method_9_code 7 = .ok (.invokestatic 52, 3) := by decide +kernel
theorem d_m_number_10 : decode prog_4_method_9_code 10 = .ok (.ifCond .ne 7, 3) := by decide +kernel
theorem d_m_number_13 : decode prog_4_method_9_code 13 = .ok (.iconst 1, 1) := by decide +kernel
theorem d_m_number_14 : decode prog_4_method_9_code 14 = .ok (.goto 4, 3) := by decide +kernel
theorem d_m_number_17 : decode prog_4_method_9_code 17 = .ok (.iconst 0, 1) := by decide +kernel
theorem d_m_number_18 : decode prog_4_method_9_code 18 = .ok (.iconst 1, 1) := by decide +kernel
theorem d_m_number_19 : decode prog_4_method_9_code 19 = .ok (.invokevirtual 48, 3) := by decide +kernel
theorem d_m_number_22 : decode prog_4_method_9_code 22 = .ok (.ifCond .eq 4, 3) := by decide +kernel
theorem d_m_number_25 : decode prog_4_method_9_code 25 = .ok (.return_, 1) := by decide +kernel
theorem d_m_number_26 : decode prog_4_method_9_code 26 = .ok (.aload_n 0, 1) := by decide +kernel
theorem d_m_number_27 : decode prog_4_method_9_code 27 = .ok (.iload_n 1, 1) := by decide +kernel
theorem d_m_number_28 : decode prog_4_method_9_code 28 = .ok (.iload_n 2, 1) := by decide +kernel
theorem d_m_number_29 : decode prog_4_method_9_code 29 = .ok (.invokestatic 42, 3) := by decide +kernel
theorem d_m_number_32 : decode prog_4_method_9_code 32 = .ok (.lconst 0, 1) := by decide +kernel
theorem d_m_number_33 : decode prog_4_method_9_code 33 = .ok (.lconst 0, 1) := by decide +kernel
theorem d_m_number_34 : decode prog_4_method_9_code 34 = .ok (.iconst 0, 1) := by decide +kernel
theorem d_m_number_35 : decode prog_4_method_9_code 35 = .ok (.iconst 0, 1) := by decide +kernel
theorem d_m_number_36 : decode prog_4_method_9_code 36 = .ok (.iconst 0, 1) := by decide +kernel
theorem d_m_number_37 : decode prog_4_method_9_code 37 = .ok (.invokevirtual 56, 3) := by decide +kernel
theorem d_m_number_40 : decode prog_4_method_9_code 40 = .ok (.return_, 1) := by decide +kernel
theorem d_m_isSealed_0 : decode prog_4_method_10_code 0 = .ok (.aload_n 0, 1) := by decide +kernel
theorem d_m_isSealed_1 : decode prog_4_method_10_code 1 = .ok (.getfield 23, 3) := by decide +kernel
theorem d_m_isSealed_4 : decode prog_4_method_10_code 4 = .ok (.iload_n 1, 1) := by decide +kernel
theorem d_m_isSealed_5 : decode prog_4_method_10_code 5 = .ok (.iaload, 1) := by decide +kernel
theorem d_m_isSealed_6 : decode prog_4_method_10_code 6 = .ok (.ifCond .eq 7, 3) := by decide +kernel
theorem d_m_isSealed_9 : decode prog_4_method_10_code 9 = .ok (.iconst 1, 1) := by decide +kernel
theorem d_m_isSealed_10 : decode prog_4_method_10_code 10 = .ok (.goto 4, 3) := by decide +kernel
theorem d_m_isSealed_13 : decode prog_4_method_10_code 13 = .ok (.iconst 0, 1) := by decide +kernel
theorem d_m_isSealed_14 : decode prog_4_method_10_code 14 = .ok (.ireturn, 1) := by decide +kernel
theorem d_m_move_0 : decode prog_4_method_11_code 0 = .ok (.aload_n 0, 1) := by decide +kernel
theorem d_m_move_1 : decode prog_4_method_11_code 1 = .ok (.iconst 0, 1) := by decide +kernel
theorem d_m_move_2 : decode prog_4_method_11_code 2 = .ok (.putfield 30, 3) := by decide +kernel
theorem d_m_move_5 : decode prog_4_method_11_code 5 = .ok (.aload_n 0, 1) := by decide +kernel
theorem d_m_move_6 : decode prog_4_method_11_code 6 = .ok (.iload_n 1, 1) := by decide +kernel
theorem d_m_move_7 : decode prog_4_method_11_code 7 = .ok (.invokestatic 52, 3) := by decide +kernel
theorem d_m_move_10 : decode prog_4_method_11_code 10 = .ok (.ifCond .eq 10, 3) := by decide +kernel
theorem d_m_move_13 : decode prog_4_method_11_code 13 = .ok (.iload_n 2, 1) := by decide +kernel
theorem d_m_move_14 : decode prog_4_method_11_code 14 = .ok (.invokestatic 52, 3) := by decide +kernel
theorem d_m_move_17 : decode prog_4_method_11_code 17 = .ok (.ifCond .ne 7, 3) := by decide +kernel
theorem d_m_move_20 : decode prog_4_method_11_code 20 = .ok (.iconst 1, 1) := by decide +kernel
theorem d_m_move_21 : decode prog_4_method_11_code 21 = .ok (.goto 4, 3) := by decide +kernel
theorem d_m_move_24 : decode prog_4_method_11_code 24 = .ok (.iconst 0, 1) := by decide +kernel
theorem d_m_move_25 : decode prog_4_method_11_code 25 = .ok (.iconst 1, 1) := by decide +kernel
theorem d_m_move_26 : decode prog_4_method_11_code 26 = .ok (.invokevirtual 48, 3) := by decide +kernel
theorem d_m_move_29 : decode prog_4_method_11_code 29 = .ok (.ifCond .eq 4, 3) := by decide +kernel
theorem d_m_move_32 : decode prog_4_method_11_code 32 = .ok (.return_, 1) := by decide +kernel
theorem d_m_move_33 : decode prog_4_method_11_code 33 = .ok (.aload_n 0, 1) := by decide +kernel
theorem d_m_move_34 : decode prog_4_method_11_code 34 = .ok (.iload_n 1, 1) := by decide +kernel
theorem d_m_move_35 : decode prog_4_method_11_code 35 = .ok (.aload_n 0, 1) := by decide +kernel
theorem d_m_move_36 : decode prog_4_method_11_code 36 = .ok (.getfield 9, 3) := by decide +kernel
theorem d_m_move_39 : decode prog_4_method_11_code 39 = .ok (.iload_n 2, 1) := by decide +kernel
theorem d_m_move_40 : decode prog_4_method_11_code 40 = .ok (.laload, 1) := by decide +kernel
theorem d_m_move_41 : decode prog_4_method_11_code 41 = .ok (.iload_n 3, 1) := by decide +kernel
theorem d_m_move_42 : decode prog_4_method_11_code 42 = .ok (.invokestatic 42, 3) := by decide +kernel
theorem d_m_move_45 : decode prog_4_method_11_code 45 = .ok (.ladd, 1) := by decide +kernel
theorem d_m_move_46 : decode prog_4_method_11_code 46 = .ok (.ldc2_w 40, 3) := by decide +kernel
theorem d_m_move_49 : decode prog_4_method_11_code 49 = .ok (.lrem, 1) := by decide +kernel
theorem d_m_move_50 : decode prog_4_method_11_code 50 = .ok (.aload_n 0, 1) := by decide +kernel
theorem d_m_move_51 : decode prog_4_method_11_code 51 = .ok (.getfield 13, 3) := by decide +kernel
theorem d_m_move_54 : decode prog_4_method_11_code 54 = .ok (.iload_n 2, 1) := by decide +kernel
theorem d_m_move_55 : decode prog_4_method_11_code 55 = .ok (.laload, 1) := by decide +kernel
theorem d_m_move_56 : decode prog_4_method_11_code 56 = .ok (.aload_n 0, 1) := by decide +kernel
theorem d_m_move_57 : decode prog_4_method_11_code 57 = .ok (.getfield 16, 3) := by decide +kernel
theorem d_m_move_60 : decode prog_4_method_11_code 60 = .ok (.iload_n 2, 1) := by decide +kernel
theorem d_m_move_61 : decode prog_4_method_11_code 61 = .ok (.laload, 1) := by decide +kernel
theorem d_m_move_62 : decode prog_4_method_11_code 62 = .ok (.aload_n 0, 1) := by decide +kernel
theorem d_m_move_63 : decode prog_4_method_11_code 63 = .ok (.getfield 19, 3) := by decide +kernel
theorem d_m_move_66 : decode prog_4_method_11_code 66 = .ok (.iload_n 2, 1) := by decide +kernel
theorem d_m_move_67 : decode prog_4_method_11_code 67 = .ok (.iaload, 1) := by decide +kernel
theorem d_m_move_68 : decode prog_4_method_11_code 68 = .ok (.aload_n 0, 1) := by decide +kernel
theorem d_m_move_69 : decode prog_4_method_11_code 69 = .ok (.getfield 23, 3) := by decide +kernel
theorem d_m_move_72 : decode prog_4_method_11_code 72 = .ok (.iload_n 2, 1) := by decide +kernel
theorem d_m_move_73 : decode prog_4_method_11_code 73 = .ok (.iaload, 1) := by decide +kernel
theorem d_m_move_74 : decode prog_4_method_11_code 74 = .ok (.aload_n 0, 1) := by decide +kernel
theorem d_m_move_75 : decode prog_4_method_11_code 75 = .ok (.getfield 26, 3) := by decide +kernel
theorem d_m_move_78 : decode prog_4_method_11_code 78 = .ok (.iload_n 2, 1) := by decide +kernel
theorem d_m_move_79 : decode prog_4_method_11_code 79 = .ok (.baload, 1) := by decide +kernel
theorem d_m_move_80 : decode prog_4_method_11_code 80 = .ok (.ifCond .eq 19, 3) := by decide +kernel
theorem d_m_move_83 : decode prog_4_method_11_code 83 = .ok (.aload_n 0, 1) := by decide +kernel
theorem d_m_move_84 : decode prog_4_method_11_code 84 = .ok (.iload_n 2, 1) := by decide +kernel
theorem d_m_move_85 : decode prog_4_method_11_code 85 = .ok (.invokevirtual 60, 3) := by decide +kernel
theorem d_m_move_88 : decode prog_4_method_11_code 88 = .ok (.ifCond .eq 7, 3) := by decide +kernel
theorem d_m_move_91 : decode prog_4_method_11_code 91 = .ok (.iload_n 3, 1) := by decide +kernel
theorem d_m_move_92 : decode prog_4_method_11_code 92 = .ok (.ifCond .ne 7, 3) := by decide +kernel
theorem d_m_move_95 : decode prog_4_method_11_code 95 = .ok (.iconst 1, 1) := by decide +kernel
theorem d_m_move_96 : decode prog_4_method_11_code 96 = .ok (.goto 4, 3) := by decide +kernel
theorem d_m_move_99 : decode prog_4_method_11_code 99 = .ok (.iconst 0, 1) := by decide +kernel
theorem d_m_move_100 : decode prog_4_method_11_code 100 = .ok (.invokevirtual 56, 3) := by decide +kernel
theorem d_m_move_103 : decode prog_4_method_11_code 103 = .ok (.return_, 1) := by decide +kernel
theorem d_m_narrow_0 : decode prog_4_method_12_code 0 = .ok (.aload_n 0, 1) := by decide +kernel
theorem d_m_narrow_1 : decode prog_4_method_12_code 1 = .ok (.iconst 0, 1) := by decide +kernel
theorem d_m_narrow_2 : decode prog_4_method_12_code 2 = .ok (.putfield 30, 3) := by decide +kernel
theorem d_m_narrow_5 : decode prog_4_method_12_code 5 = .ok (.aload_n 0, 1) := by decide +kernel
theorem d_m_narrow_6 : decode prog_4_method_12_code 6 = .ok (.iload_n 1, 1) := by decide +kernel
theorem d_m_narrow_7 : decode prog_4_method_12_code 7 = .ok (.invokestatic 52, 3) := by decide +kernel
theorem d_m_narrow_10 : decode prog_4_method_12_code 10 = .ok (.ifCond .eq 10, 3) := by decide +kernel
theorem d_m_narrow_13 : decode prog_4_method_12_code 13 = .ok (.iload_n 2, 1) := by decide +kernel
theorem d_m_narrow_14 : decode prog_4_method_12_code 14 = .ok (.invokestatic 52, 3) := by decide +kernel
theorem d_m_narrow_17 : decode prog_4_method_12_code 17 = .ok (.ifCond .ne 7, 3) := by decide +kernel
theorem d_m_narrow_20 : decode prog_4_method_12_code 20 = .ok (.iconst 1, 1) := by decide +kernel
theorem d_m_narrow_21 : decode prog_4_method_12_code 21 = .ok (.goto 4, 3) := by decide +kernel
theorem d_m_narrow_24 : decode prog_4_method_12_code 24 = .ok (.iconst 0, 1) := by decide +kernel
theorem d_m_narrow_25 : decode prog_4_method_12_code 25 = .ok (.iconst 1, 1) := by decide +kernel
theorem d_m_narrow_26 : decode prog_4_method_12_code 26 = .ok (.invokevirtual 48, 3) := by decide +kernel
theorem d_m_narrow_29 : decode prog_4_method_12_code 29 = .ok (.ifCond .eq 5, 3) := by decide +kernel
theorem d_m_narrow_32 : decode prog_4_method_12_code 32 = .ok (.iconst 0, 1) := by decide +kernel
theorem d_m_narrow_33 : decode prog_4_method_12_code 33 = .ok (.ireturn, 1) := by decide +kernel
theorem d_m_narrow_34 : decode prog_4_method_12_code 34 = .ok (.aload_n 0, 1) := by decide +kernel
theorem d_m_narrow_35 : decode prog_4_method_12_code 35 = .ok (.getfield 9, 3) := by decide +kernel
theorem d_m_narrow_38 : decode prog_4_method_12_code 38 = .ok (.iload_n 2, 1) := by decide +kernel
theorem d_m_narrow_39 : decode prog_4_method_12_code 39 = .ok (.laload, 1) := by decide +kernel
theorem d_m_narrow_40 : decode prog_4_method_12_code 40 = .ok (.lstore 4, 2) := by decide +kernel
theorem d_m_narrow_42 : decode prog_4_method_12_code 42 = .ok (.lload 4, 2) := by decide +kernel
theorem d_m_narrow_44 : decode prog_4_method_12_code 44 = .ok (.iload_n 3, 1) := by decide +kernel
theorem d_m_narrow_45 : decode prog_4_method_12_code 45 = .ok (.invokestatic 42, 3) := by decide +kernel
theorem d_m_narrow_48 : decode prog_4_method_12_code 48 = .ok (.ladd, 1) := by decide +kernel
theorem d_m_narrow_49 : decode prog_4_method_12_code 49 = .ok (.lstore 6, 2) := by decide +kernel
theorem d_m_narrow_51 : decode prog_4_method_12_code 51 = .ok (.aload_n 0, 1) := by decide +kernel
theorem d_m_narrow_52 : decode prog_4_method_12_code 52 = .ok (.iload_n 1, 1) := by decide +kernel
theorem d_m_narrow_53 : decode prog_4_method_12_code 53 = .ok (.lload 4, 2) := by decide +kernel
theorem d_m_narrow_55 : decode prog_4_method_12_code 55 = .ok (.lload 4, 2) := by decide +kernel
theorem d_m_narrow_57 : decode prog_4_method_12_code 57 = .ok (.lload 6, 2) := by decide +kernel
theorem d_m_narrow_59 : decode prog_4_method_12_code 59 = .ok (.ldc2_w 40, 3) := by decide +kernel
theorem d_m_narrow_62 : decode prog_4_method_12_code 62 = .ok (.lrem, 1) := by decide +kernel
theorem d_m_narrow_63 : decode prog_4_method_12_code 63 = .ok (.aload_n 0, 1) := by decide +kernel
theorem d_m_narrow_64 : decode prog_4_method_12_code 64 = .ok (.getfield 19, 3) := by decide +kernel
theorem d_m_narrow_67 : decode prog_4_method_12_code 67 = .ok (.iload_n 2, 1) := by decide +kernel
theorem d_m_narrow_68 : decode prog_4_method_12_code 68 = .ok (.iaload, 1) := by decide +kernel
theorem d_m_narrow_69 : decode prog_4_method_12_code 69 = .ok (.aload_n 0, 1) := by decide +kernel
theorem d_m_narrow_70 : decode prog_4_method_12_code 70 = .ok (.getfield 23, 3) := by decide +kernel
theorem d_m_narrow_73 : decode prog_4_method_12_code 73 = .ok (.iload_n 2, 1) := by decide +kernel
theorem d_m_narrow_74 : decode prog_4_method_12_code 74 = .ok (.iaload, 1) := by decide +kernel
theorem d_m_narrow_75 : decode prog_4_method_12_code 75 = .ok (.aload_n 0, 1) := by decide +kernel
theorem d_m_narrow_76 : decode prog_4_method_12_code 76 = .ok (.getfield 26, 3) := by decide +kernel
theorem d_m_narrow_79 : decode prog_4_method_12_code 79 = .ok (.iload_n 2, 1) := by decide +kernel
theorem d_m_narrow_80 : decode prog_4_method_12_code 80 = .ok (.baload, 1) := by decide +kernel
theorem d_m_narrow_81 : decode prog_4_method_12_code 81 = .ok (.ifCond .eq 51, 3) := by decide +kernel
theorem d_m_narrow_84 : decode prog_4_method_12_code 84 = .ok (.aload_n 0, 1) := by decide +kernel
theorem d_m_narrow_85 : decode prog_4_method_12_code 85 = .ok (.iload_n 2, 1) := by decide +kernel
theorem d_m_narrow_86 : decode prog_4_method_12_code 86 = .ok (.invokevirtual 60, 3) := by decide +kernel
theorem d_m_narrow_89 : decode prog_4_method_12_code 89 = .ok (.ifCond .ne 43, 3) := by decide +kernel
theorem d_m_narrow_92 : decode prog_4_method_12_code 92 = .ok (.lload 4, 2) := by decide +kernel
theorem d_m_narrow_94 : decode prog_4_method_12_code 94 = .ok (.aload_n 0, 1) := by decide +kernel
theorem d_m_narrow_95 : decode prog_4_method_12_code 95 = .ok (.getfield 13, 3) := by decide +kernel
theorem d_m_narrow_98 : decode prog_4_method_12_code 98 = .ok (.iload_n 2, 1) := by decide +kernel
theorem d_m_narrow_99 : decode prog_4_method_12_code 99 = .ok (.laload, 1) := by decide +kernel
theorem d_m_narrow_100 : decode prog_4_method_12_code 100 = .ok (.lcmp, 1) := by decide +kernel
theorem d_m_narrow_101 : decode prog_4_method_12_code 101 = .ok (.ifCond .lt 31, 3) := by decide +kernel
theorem d_m_narrow_104 : decode prog_4_method_12_code 104 = .ok (.lload 4, 2) := by decide +kernel
theorem d_m_narrow_106 : decode prog_4_method_12_code 106 = .ok (.aload_n 0, 1) := by decide +kernel
theorem d_m_narrow_107 : decode prog_4_method_12_code 107 = .ok (.getfield 16, 3) := by decide +kernel
theorem d_m_narrow_110 : decode prog_4_method_12_code 110 = .ok (.iload_n 2, 1) := by decide +kernel
theorem d_m_narrow_111 : decode prog_4_method_12_code 111 = .ok (.laload, 1) := by decide +kernel
theorem d_m_narrow_112 : decode prog_4_method_12_code 112 = .ok (.lcmp, 1) := by decide +kernel
theorem d_m_narrow_113 : decode prog_4_method_12_code 113 = .ok (.ifCond .gt 19, 3) := by decide +kernel
theorem d_m_narrow_116 : decode prog_4_method_12_code 116 = .ok (.lload 6, 2) := by decide +kernel
theorem d_m_narrow_118 : decode prog_4_method_12_code 118 = .ok (.aload_n 0, 1) := by decide +kernel
theorem d_m_narrow_119 : decode prog_4_method_12_code 119 = .ok (.getfield 16, 3) := by decide +kernel
theorem d_m_narrow_122 : decode prog_4_method_12_code 122 = .ok (.iload_n 2, 1) := by decide +kernel
theorem d_m_narrow_123 : decode prog_4_method_12_code 123 = .ok (.laload, 1) := by decide +kernel
theorem d_m_narrow_124 : decode prog_4_method_12_code 124 = .ok (.lcmp, 1) := by decide +kernel
theorem d_m_narrow_125 : decode prog_4_method_12_code 125 = .ok (.ifCond .gt 7, 3) := by decide +kernel
theorem d_m_narrow_128 : decode prog_4_method_12_code 128 = .ok (.iconst 1, 1) := by decide +kernel
theorem d_m_narrow_129 : decode prog_4_method_12_code 129 = .ok (.goto 4, 3) := by decide +kernel
theorem d_m_narrow_132 : decode prog_4_method_12_code 132 = .ok (.iconst 0, 1) := by decide +kernel
theorem d_m_narrow_133 : decode prog_4_method_12_code 133 = .ok (.invokevirtual 56, 3) := by decide +kernel
theorem d_m_narrow_136 : decode prog_4_method_12_code 136 = .ok (.aload_n 0, 1) := by decide +kernel
theorem d_m_narrow_137 : decode prog_4_method_12_code 137 = .ok (.getfield 26, 3) := by decide +kernel
theorem d_m_narrow_140 : decode prog_4_method_12_code 140 = .ok (.iload_n 1, 1) := by decide +kernel
theorem d_m_narrow_141 : decode prog_4_method_12_code 141 = .ok (.baload, 1) := by decide +kernel
theorem d_m_narrow_142 : decode prog_4_method_12_code 142 = .ok (.ireturn, 1) := by decide +kernel
theorem d_m_restrict_0 : decode prog_4_method_13_code 0 = .ok (.aload_n 0, 1) := by decide +kernel
theorem d_m_restrict_1 : decode prog_4_method_13_code 1 = .ok (.iconst 0, 1) := by decide +kernel
theorem d_m_restrict_2 : decode prog_4_method_13_code 2 = .ok (.putfield 30, 3) := by decide +kernel
theorem d_m_restrict_5 : decode prog_4_method_13_code 5 = .ok (.aload_n 0, 1) := by decide +kernel
theorem d_m_restrict_6 : decode prog_4_method_13_code 6 = .ok (.iload_n 1, 1) := by decide +kernel
theorem d_m_restrict_7 : decode prog_4_method_13_code 7 = .ok (.invokestatic 52, 3) := by decide +kernel
theorem d_m_restrict_10 : decode prog_4_method_13_code 10 = .ok (.ifCond .eq 10, 3) := by decide +kernel
theorem d_m_restrict_13 : decode prog_4_method_13_code 13 = .ok (.iload_n 2, 1) := by decide +kernel
theorem d_m_restrict_14 : decode prog_4_method_13_code 14 = .ok (.invokestatic 52, 3) := by decide +kernel
theorem d_m_restrict_17 : decode prog_4_method_13_code 17 = .ok (.ifCond .ne 7, 3) := by decide +kernel
theorem d_m_restrict_20 : decode prog_4_method_13_code 20 = .ok (.iconst 1, 1) := by decide +kernel
theorem d_m_restrict_21 : decode prog_4_method_13_code 21 = .ok (.goto 4, 3) := by decide +kernel
theorem d_m_restrict_24 : decode prog_4_method_13_code 24 = .ok (.iconst 0, 1) := by decide +kernel
theorem d_m_restrict_25 : decode prog_4_method_13_code 25 = .ok (.iconst 1, 1) := by decide +kernel
theorem d_m_restrict_26 : decode prog_4_method_13_code 26 = .ok (.invokevirtual 48, 3) := by decide +kernel
theorem d_m_restrict_29 : decode prog_4_method_13_code 29 = .ok (.ifCond .eq 5, 3) := by decide +kernel
theorem d_m_restrict_32 : decode prog_4_method_13_code 32 = .ok (.iconst 0, 1) := by decide +kernel
theorem d_m_restrict_33 : decode prog_4_method_13_code 33 = .ok (.ireturn, 1) := by decide +kernel
theorem d_m_restrict_34 : decode prog_4_method_13_code 34 = .ok (.iconst 0, 1) := by decide +kernel
theorem d_m_restrict_35 : decode prog_4_method_13_code 35 = .ok (.istore 4, 2) := by decide +kernel
theorem d_m_restrict_37 : decode prog_4_method_13_code 37 = .ok (.iconst 0, 1) := by decide +kernel
theorem d_m_restrict_38 : decode prog_4_method_13_code 38 = .ok (.istore 5, 2) := by decide +kernel
theorem d_m_restrict_40 : decode prog_4_method_13_code 40 = .ok (.iload 5, 2) := by decide +kernel
theorem d_m_restrict_42 : decode prog_4_method_13_code 42 = .ok (.bipush 8, 2) := by decide +kernel
theorem d_m_restrict_44 : decode prog_4_method_13_code 44 = .ok (.if_icmp .ge 43, 3) := by decide +kernel
theorem d_m_restrict_47 : decode prog_4_method_13_code 47 = .ok (.aload_n 0, 1) := by decide +kernel
theorem d_m_restrict_48 : decode prog_4_method_13_code 48 = .ok (.getfield 19, 3) := by decide +kernel
theorem d_m_restrict_51 : decode prog_4_method_13_code 51 = .ok (.iload_n 2, 1) := by decide +kernel
theorem d_m_restrict_52 : decode prog_4_method_13_code 52 = .ok (.iaload, 1) := by decide +kernel
theorem d_m_restrict_53 : decode prog_4_method_13_code 53 = .ok (.iload 5, 2) := by decide +kernel
theorem d_m_restrict_55 : decode prog_4_method_13_code 55 = .ok (.ishr, 1) := by decide +kernel
theorem d_m_restrict_56 : decode prog_4_method_13_code 56 = .ok (.iconst 1, 1) := by decide +kernel
theorem d_m_restrict_57 : decode prog_4_method_13_code 57 = .ok (.iand, 1) := by decide +kernel
theorem d_m_restrict_58 : decode prog_4_method_13_code 58 = .ok (.iconst 1, 1) := by decide +kernel
theorem d_m_restrict_59 : decode prog_4_method_13_code 59 = .ok (.if_icmp .ne 22, 3) := by decide +kernel
theorem d_m_restrict_62 : decode prog_4_method_13_code 62 = .ok (.iload_n 3, 1) := by decide +kernel
theorem d_m_restrict_63 : decode prog_4_method_13_code 63 = .ok (.iload 5, 2) := by decide +kernel
theorem d_m_restrict_65 : decode prog_4_method_13_code 65 = .ok (.ishr, 1) := by decide +kernel
theorem d_m_restrict_66 : decode prog_4_method_13_code 66 = .ok (.iconst 1, 1) := by decide +kernel
theorem d_m_restrict_67 : decode prog_4_method_13_code 67 = .ok (.iand, 1) := by decide +kernel
theorem d_m_restrict_68 : decode prog_4_method_13_code 68 = .ok (.iconst 1, 1) := by decide +kernel
theorem d_m_restrict_69 : decode prog_4_method_13_code 69 = .ok (.if_icmp .ne 12, 3) := by decide +kernel
theorem d_m_restrict_72 : decode prog_4_method_13_code 72 = .ok (.iload 4, 2) := by decide +kernel
theorem d_m_restrict_74 : decode prog_4_method_13_code 74 = .ok (.iconst 1, 1) := by decide +kernel
theorem d_m_restrict_75 : decode prog_4_method_13_code 75 = .ok (.iload 5, 2) := by decide +kernel
theorem d_m_restrict_77 : decode prog_4_method_13_code 77 = .ok (.ishl, 1) := by decide +kernel
theorem d_m_restrict_78 : decode prog_4_method_13_code 78 = .ok (.iadd, 1) := by decide +kernel
theorem d_m_restrict_79 : decode prog_4_method_13_code 79 = .ok (.istore 4, 2) := by decide +kernel
theorem d_m_restrict_81 : decode prog_4_method_13_code 81 = .ok (.iinc 5 1, 3) := by decide +kernel
theorem d_m_restrict_84 : decode prog_4_method_13_code 84 = .ok (.goto (-44), 3) := by decide +kernel
theorem d_m_restrict_87 : decode prog_4_method_13_code 87 = .ok (.aload_n 0, 1) := by decide +kernel
theorem d_m_restrict_88 : decode prog_4_method_13_code 88 = .ok (.iload_n 1, 1) := by decide +kernel
theorem d_m_restrict_89 : decode prog_4_method_13_code 89 = .ok (.aload_n 0, 1) := by decide +kernel
theorem d_m_restrict_90 : decode prog_4_method_13_code 90 = .ok (.getfield 9, 3) := by decide +kernel
theorem d_m_restrict_93 : decode prog_4_method_13_code 93 = .ok (.iload_n 2, 1) := by decide +kernel
theorem d_m_restrict_94 : decode prog_4_method_13_code 94 = .ok (.laload, 1) := by decide +kernel
theorem d_m_restrict_95 : decode prog_4_method_13_code 95 = .ok (.aload_n 0, 1) := by decide +kernel
theorem d_m_restrict_96 : decode prog_4_method_13_code 96 = .ok (.getfield 13, 3) := by decide +kernel
theorem d_m_restrict_99 : decode prog_4_method_13_code 99 = .ok (.iload_n 2, 1) := by decide +kernel
theorem d_m_restrict_100 : decode prog_4_method_13_code 100 = .ok (.laload, 1) := by decide +kernel
theorem d_m_restrict_101 : decode prog_4_method_13_code 101 = .ok (.aload_n 0, 1) := by decide +kernel
theorem d_m_restrict_102 : decode prog_4_method_13_code 102 = .ok (.getfield 16, 3) := by decide +kernel
theorem d_m_restrict_105 : decode prog_4_method_13_code 105 = .ok (.iload_n 2, 1) := by decide +kernel
theorem d_m_restrict_106 : decode prog_4_method_13_code 106 = .ok (.laload, 1) := by decide +kernel
theorem d_m_restrict_107 : decode prog_4_method_13_code 107 = .ok (.iload 4, 2) := by decide +kernel
theorem d_m_restrict_109 : decode prog_4_method_13_code 109 = .ok (.aload_n 0, 1) := by decide +kernel
theorem d_m_restrict_110 : decode prog_4_method_13_code 110 = .ok (.getfield 23, 3) := by decide +kernel
theorem d_m_restrict_113 : decode prog_4_method_13_code 113 = .ok (.iload_n 2, 1) := by decide +kernel
theorem d_m_restrict_114 : decode prog_4_method_13_code 114 = .ok (.iaload, 1) := by decide +kernel
theorem d_m_restrict_115 : decode prog_4_method_13_code 115 = .ok (.aload_n 0, 1) := by decide +kernel
theorem d_m_restrict_116 : decode prog_4_method_13_code 116 = .ok (.getfield 26, 3) := by decide +kernel
theorem d_m_restrict_119 : decode prog_4_method_13_code 119 = .ok (.iload_n 2, 1) := by decide +kernel
theorem d_m_restrict_120 : decode prog_4_method_13_code 120 = .ok (.baload, 1) := by decide +kernel
theorem d_m_restrict_121 : decode prog_4_method_13_code 121 = .ok (.ifCond .eq 26, 3) := by decide +kernel
theorem d_m_restrict_124 : decode prog_4_method_13_code 124 = .ok (.aload_n 0, 1) := by decide +kernel
theorem d_m_restrict_125 : decode prog_4_method_13_code 125 = .ok (.iload_n 2, 1) := by decide +kernel
theorem d_m_restrict_126 : decode prog_4_method_13_code 126 = .ok (.invokevirtual 60, 3) := by decide +kernel
theorem d_m_restrict_129 : decode prog_4_method_13_code 129 = .ok (.ifCond .eq 14, 3) := by decide +kernel
theorem d_m_restrict_132 : decode prog_4_method_13_code 132 = .ok (.iload 4, 2) := by decide +kernel
theorem d_m_restrict_134 : decode prog_4_method_13_code 134 = .ok (.aload_n 0, 1) := by decide +kernel
theorem d_m_restrict_135 : decode prog_4_method_13_code 135 = .ok (.getfield 19, 3) := by decide +kernel
theorem d_m_restrict_138 : decode prog_4_method_13_code 138 = .ok (.iload_n 2, 1) := by decide +kernel
theorem d_m_restrict_139 : decode prog_4_method_13_code 139 = .ok (.iaload, 1) := by decide +kernel
theorem d_m_restrict_140 : decode prog_4_method_13_code 140 = .ok (.if_icmp .ne 7, 3) := by decide +kernel
theorem d_m_restrict_143 : decode prog_4_method_13_code 143 = .ok (.iconst 1, 1) := by decide +kernel
theorem d_m_restrict_144 : decode prog_4_method_13_code 144 = .ok (.goto 4, 3) := by decide +kernel
theorem d_m_restrict_147 : decode prog_4_method_13_code 147 = .ok (.iconst 0, 1) := by decide +kernel
theorem d_m_restrict_148 : decode prog_4_method_13_code 148 = .ok (.invokevirtual 56, 3) := by decide +kernel
theorem d_m_restrict_151 : decode prog_4_method_13_code 151 = .ok (.aload_n 0, 1) := by decide +kernel
theorem d_m_restrict_152 : decode prog_4_method_13_code 152 = .ok (.getfield 26, 3) := by decide +kernel
theorem d_m_restrict_155 : decode prog_4_method_13_code 155 = .ok (.iload_n 1, 1) := by decide +kernel
theorem d_m_restrict_156 : decode prog_4_method_13_code 156 = .ok (.baload, 1) := by decide +kernel
theorem d_m_restrict_157 : decode prog_4_method_13_code 157 = .ok (.ireturn, 1) := by decide +kernel
theorem d_m_may_0 : decode prog_4_method_14_code 0 = .ok (.iconst 0, 1) := by decide +kernel
theorem d_m_may_1 : decode prog_4_method_14_code 1 = .ok (.istore_n 3, 1) := by decide +kernel
theorem d_m_may_2 : decode prog_4_method_14_code 2 = .ok (.iload_n 3, 1) := by decide +kernel
theorem d_m_may_3 : decode prog_4_method_14_code 3 = .ok (.bipush 32, 2) := by decide +kernel
theorem d_m_may_5 : decode prog_4_method_14_code 5 = .ok (.if_icmp .ge 33, 3) := by decide +kernel
theorem d_m_may_8 : decode prog_4_method_14_code 8 = .ok (.iload_n 2, 1) := by decide +kernel
theorem d_m_may_9 : decode prog_4_method_14_code 9 = .ok (.iload_n 3, 1) := by decide +kernel
theorem d_m_may_10 : decode prog_4_method_14_code 10 = .ok (.ishr, 1) := by decide +kernel
theorem d_m_may_11 : decode prog_4_method_14_code 11 = .ok (.iconst 1, 1) := by decide +kernel
theorem d_m_may_12 : decode prog_4_method_14_code 12 = .ok (.iand, 1) := by decide +kernel
theorem d_m_may_13 : decode prog_4_method_14_code 13 = .ok (.iconst 1, 1) := by decide +kernel
theorem d_m_may_14 : decode prog_4_method_14_code 14 = .ok (.if_icmp .ne 18, 3) := by decide +kernel
theorem d_m_may_17 : decode prog_4_method_14_code 17 = .ok (.aload_n 0, 1) := by decide +kernel
theorem d_m_may_18 : decode prog_4_method_14_code 18 = .ok (.getfield 19, 3) := by decide +kernel
theorem d_m_may_21 : decode prog_4_method_14_code 21 = .ok (.iload_n 1, 1) := by decide +kernel
theorem d_m_may_22 : decode prog_4_method_14_code 22 = .ok (.iaload, 1) := by decide +kernel
theorem d_m_may_23 : decode prog_4_method_14_code 23 = .ok (.iload_n 3, 1) := by decide +kernel
theorem d_m_may_24 : decode prog_4_method_14_code 24 = .ok (.ishr, 1) := by decide +kernel
theorem d_m_may_25 : decode prog_4_method_14_code 25 = .ok (.iconst 1, 1) := by decide +kernel
theorem d_m_may_26 : decode prog_4_method_14_code 26 = .ok (.iand, 1) := by decide +kernel
theorem d_m_may_27 : decode prog_4_method_14_code 27 = .ok (.ifCond .ne 5, 3) := by decide +kernel
theorem d_m_may_30 : decode prog_4_method_14_code 30 = .ok (.iconst 0, 1) := by decide +kernel
theorem d_m_may_31 : decode prog_4_method_14_code 31 = .ok (.ireturn, 1) := by decide +kernel
theorem d_m_may_32 : decode prog_4_method_14_code 32 = .ok (.iinc 3 1, 3) := by decide +kernel
theorem d_m_may_35 : decode prog_4_method_14_code 35 = .ok (.goto (-33), 3) := by decide +kernel
theorem d_m_may_38 : decode prog_4_method_14_code 38 = .ok (.iconst 1, 1) := by decide +kernel
theorem d_m_may_39 : decode prog_4_method_14_code 39 = .ok (.ireturn, 1) := by decide +kernel
theorem d_m_holds_0 : decode prog_4_method_15_code 0 = .ok (.lload 4, 2) := by decide +kernel
theorem d_m_holds_2 : decode prog_4_method_15_code 2 = .ok (.lconst 0, 1) := by decide +kernel
theorem d_m_holds_3 : decode prog_4_method_15_code 3 = .ok (.lcmp, 1) := by decide +kernel
theorem d_m_holds_4 : decode prog_4_method_15_code 4 = .ok (.ifCond .ne 31, 3) := by decide +kernel
theorem d_m_holds_7 : decode prog_4_method_15_code 7 = .ok (.lload_n 2, 1) := by decide +kernel
theorem d_m_holds_8 : decode prog_4_method_15_code 8 = .ok (.aload_n 0, 1) := by decide +kernel
theorem d_m_holds_9 : decode prog_4_method_15_code 9 = .ok (.getfield 13, 3) := by decide +kernel
theorem d_m_holds_12 : decode prog_4_method_15_code 12 = .ok (.iload_n 1, 1) := by decide +kernel
theorem d_m_holds_13 : decode prog_4_method_15_code 13 = .ok (.laload, 1) := by decide +kernel
theorem d_m_holds_14 : decode prog_4_method_15_code 14 = .ok (.lcmp, 1) := by decide +kernel
theorem d_m_holds_15 : decode prog_4_method_15_code 15 = .ok (.ifCond .lt 18, 3) := by decide +kernel
theorem d_m_holds_18 : decode prog_4_method_15_code 18 = .ok (.lload_n 2, 1) := by decide +kernel
theorem d_m_holds_19 : decode prog_4_method_15_code 19 = .ok (.aload_n 0, 1) := by decide +kernel
theorem d_m_holds_20 : decode prog_4_method_15_code 20 = .ok (.getfield 16, 3) := by decide +kernel
theorem d_m_holds_23 : decode prog_4_method_15_code 23 = .ok (.iload_n 1, 1) := by decide +kernel
theorem d_m_holds_24 : decode prog_4_method_15_code 24 = .ok (.laload, 1) := by decide +kernel
theorem d_m_holds_25 : decode prog_4_method_15_code 25 = .ok (.lcmp, 1) := by decide +kernel
theorem d_m_holds_26 : decode prog_4_method_15_code 26 = .ok (.ifCond .gt 7, 3) := by decide +kernel
theorem d_m_holds_29 : decode prog_4_method_15_code 29 = .ok (.iconst 1, 1) := by decide +kernel
theorem d_m_holds_30 : decode prog_4_method_15_code 30 = .ok (.goto 4, 3) := by decide +kernel
theorem d_m_holds_33 : decode prog_4_method_15_code 33 = .ok (.iconst 0, 1) := by decide +kernel
theorem d_m_holds_34 : decode prog_4_method_15_code 34 = .ok (.ireturn, 1) := by decide +kernel
theorem d_m_holds_35 : decode prog_4_method_15_code 35 = .ok (.iconst 0, 1) := by decide +kernel
theorem d_m_holds_36 : decode prog_4_method_15_code 36 = .ok (.istore 6, 2) := by decide +kernel
theorem d_m_holds_38 : decode prog_4_method_15_code 38 = .ok (.iload 6, 2) := by decide +kernel
theorem d_m_holds_40 : decode prog_4_method_15_code 40 = .ok (.iconst 2, 1) := by decide +kernel
theorem d_m_holds_41 : decode prog_4_method_15_code 41 = .ok (.if_icmp .ge 52, 3) := by decide +kernel
theorem d_m_holds_44 : decode prog_4_method_15_code 44 = .ok (.iload 6, 2) := by decide +kernel
theorem d_m_holds_46 : decode prog_4_method_15_code 46 = .ok (.ifCond .ne 7, 3) := by decide +kernel
theorem d_m_holds_49 : decode prog_4_method_15_code 49 = .ok (.lload_n 2, 1) := by decide +kernel
theorem d_m_holds_50 : decode prog_4_method_15_code 50 = .ok (.goto 9, 3) := by decide +kernel
theorem d_m_holds_53 : decode prog_4_method_15_code 53 = .ok (.lload_n 2, 1) := by decide +kernel
theorem d_m_holds_54 : decode prog_4_method_15_code 54 = .ok (.lload 4, 2) := by decide +kernel
theorem d_m_holds_56 : decode prog_4_method_15_code 56 = .ok (.ladd, 1) := by decide +kernel
theorem d_m_holds_57 : decode prog_4_method_15_code 57 = .ok (.lconst 1, 1) := by decide +kernel
theorem d_m_holds_58 : decode prog_4_method_15_code 58 = .ok (.lsub, 1) := by decide +kernel
theorem d_m_holds_59 : decode prog_4_method_15_code 59 = .ok (.lstore 7, 2) := by decide +kernel
theorem d_m_holds_61 : decode prog_4_method_15_code 61 = .ok (.lload 7, 2) := by decide +kernel
theorem d_m_holds_63 : decode prog_4_method_15_code 63 = .ok (.aload_n 0, 1) := by decide +kernel
theorem d_m_holds_64 : decode prog_4_method_15_code 64 = .ok (.getfield 13, 3) := by decide +kernel
theorem d_m_holds_67 : decode prog_4_method_15_code 67 = .ok (.iload_n 1, 1) := by decide +kernel
theorem d_m_holds_68 : decode prog_4_method_15_code 68 = .ok (.laload, 1) := by decide +kernel
theorem d_m_holds_69 : decode prog_4_method_15_code 69 = .ok (.lcmp, 1) := by decide +kernel
theorem d_m_holds_70 : decode prog_4_method_15_code 70 = .ok (.ifCond .lt 15, 3) := by decide +kernel
theorem d_m_holds_73 : decode prog_4_method_15_code 73 = .ok (.lload 7, 2) := by decide +kernel
theorem d_m_holds_75 : decode prog_4_method_15_code 75 = .ok (.aload_n 0, 1) := by decide +kernel
theorem d_m_holds_76 : decode prog_4_method_15_code 76 = .ok (.getfield 16, 3) := by decide +kernel
theorem d_m_holds_79 : decode prog_4_method_15_code 79 = .ok (.iload_n 1, 1) := by decide +kernel
theorem d_m_holds_80 : decode prog_4_method_15_code 80 = .ok (.laload, 1) := by decide +kernel
theorem d_m_holds_81 : decode prog_4_method_15_code 81 = .ok (.lcmp, 1) := by decide +kernel
theorem d_m_holds_82 : decode prog_4_method_15_code 82 = .ok (.ifCond .lt 5, 3) := by decide +kernel
theorem d_m_holds_85 : decode prog_4_method_15_code 85 = .ok (.iconst 0, 1) := by decide +kernel
theorem d_m_holds_86 : decode prog_4_method_15_code 86 = .ok (.ireturn, 1) := by decide +kernel
theorem d_m_holds_87 : decode prog_4_method_15_code 87 = .ok (.iinc 6 1, 3) := by decide +kernel
theorem d_m_holds_90 : decode prog_4_method_15_code 90 = .ok (.goto (-52), 3) := by decide +kernel
theorem d_m_holds_93 : decode prog_4_method_15_code 93 = .ok (.iconst 1, 1) := by decide +kernel
theorem d_m_holds_94 : decode prog_4_method_15_code 94 = .ok (.ireturn, 1) := by decide +kernel
theorem d_m_seal_0 : decode prog_4_method_16_code 0 = .ok (.aload_n 0, 1) := by decide +kernel
theorem d_m_seal_1 : decode prog_4_method_16_code 1 = .ok (.iconst 0, 1) := by decide +kernel
theorem d_m_seal_2 : decode prog_4_method_16_code 2 = .ok (.putfield 30, 3) := by decide +kernel
theorem d_m_seal_5 : decode prog_4_method_16_code 5 = .ok (.aload_n 0, 1) := by decide +kernel
theorem d_m_seal_6 : decode prog_4_method_16_code 6 = .ok (.iload_n 1, 1) := by decide +kernel
theorem d_m_seal_7 : decode prog_4_method_16_code 7 = .ok (.invokestatic 52, 3) := by decide +kernel
theorem d_m_seal_10 : decode prog_4_method_16_code 10 = .ok (.ifCond .eq 17, 3) := by decide +kernel
theorem d_m_seal_13 : decode prog_4_method_16_code 13 = .ok (.iload_n 2, 1) := by decide +kernel
theorem d_m_seal_14 : decode prog_4_method_16_code 14 = .ok (.invokestatic 52, 3) := by decide +kernel
theorem d_m_seal_17 : decode prog_4_method_16_code 17 = .ok (.ifCond .eq 10, 3) := by decide +kernel
theorem d_m_seal_20 : decode prog_4_method_16_code 20 = .ok (.iload_n 3, 1) := by decide +kernel
theorem d_m_seal_21 : decode prog_4_method_16_code 21 = .ok (.invokestatic 52, 3) := by decide +kernel
theorem d_m_seal_24 : decode prog_4_method_16_code 24 = .ok (.ifCond .ne 7, 3) := by decide +kernel
theorem d_m_seal_27 : decode prog_4_method_16_code 27 = .ok (.iconst 1, 1) := by decide +kernel
theorem d_m_seal_28 : decode prog_4_method_16_code 28 = .ok (.goto 4, 3) := by decide +kernel
theorem d_m_seal_31 : decode prog_4_method_16_code 31 = .ok (.iconst 0, 1) := by decide +kernel
theorem d_m_seal_32 : decode prog_4_method_16_code 32 = .ok (.iconst 1, 1) := by decide +kernel
theorem d_m_seal_33 : decode prog_4_method_16_code 33 = .ok (.invokevirtual 48, 3) := by decide +kernel
theorem d_m_seal_36 : decode prog_4_method_16_code 36 = .ok (.ifCond .eq 5, 3) := by decide +kernel
theorem d_m_seal_39 : decode prog_4_method_16_code 39 = .ok (.iconst 0, 1) := by decide +kernel
theorem d_m_seal_40 : decode prog_4_method_16_code 40 = .ok (.ireturn, 1) := by decide +kernel
theorem d_m_seal_41 : decode prog_4_method_16_code 41 = .ok (.aload_n 0, 1) := by decide +kernel
theorem d_m_seal_42 : decode prog_4_method_16_code 42 = .ok (.getfield 26, 3) := by decide +kernel
theorem d_m_seal_45 : decode prog_4_method_16_code 45 = .ok (.iload_n 2, 1) := by decide +kernel
theorem d_m_seal_46 : decode prog_4_method_16_code 46 = .ok (.baload, 1) := by decide +kernel
theorem d_m_seal_47 : decode prog_4_method_16_code 47 = .ok (.ifCond .eq 12, 3) := by decide +kernel
theorem d_m_seal_50 : decode prog_4_method_16_code 50 = .ok (.aload_n 0, 1) := by decide +kernel
theorem d_m_seal_51 : decode prog_4_method_16_code 51 = .ok (.getfield 26, 3) := by decide +kernel
theorem d_m_seal_54 : decode prog_4_method_16_code 54 = .ok (.iload_n 3, 1) := by decide +kernel
theorem d_m_seal_55 : decode prog_4_method_16_code 55 = .ok (.baload, 1) := by decide +kernel
theorem d_m_seal_56 : decode prog_4_method_16_code 56 = .ok (.ifCond .ne 5, 3) := by decide +kernel
theorem d_m_seal_59 : decode prog_4_method_16_code 59 = .ok (.iconst 1, 1) := by decide +kernel
theorem d_m_seal_60 : decode prog_4_method_16_code 60 = .ok (.ireturn, 1) := by decide +kernel
theorem d_m_seal_61 : decode prog_4_method_16_code 61 = .ok (.aload_n 0, 1) := by decide +kernel
theorem d_m_seal_62 : decode prog_4_method_16_code 62 = .ok (.iload_n 2, 1) := by decide +kernel
theorem d_m_seal_63 : decode prog_4_method_16_code 63 = .ok (.invokevirtual 60, 3) := by decide +kernel
theorem d_m_seal_66 : decode prog_4_method_16_code 66 = .ok (.ifCond .ne 11, 3) := by decide +kernel
theorem d_m_seal_69 : decode prog_4_method_16_code 69 = .ok (.aload_n 0, 1) := by decide +kernel
theorem d_m_seal_70 : decode prog_4_method_16_code 70 = .ok (.iload_n 3, 1) := by decide +kernel
theorem d_m_seal_71 : decode prog_4_method_16_code 71 = .ok (.invokevirtual 60, 3) := by decide +kernel
theorem d_m_seal_74 : decode prog_4_method_16_code 74 = .ok (.ifCond .eq 5, 3) := by decide +kernel
theorem d_m_seal_77 : decode prog_4_method_16_code 77 = .ok (.iconst 2, 1) := by decide +kernel
theorem d_m_seal_78 : decode prog_4_method_16_code 78 = .ok (.ireturn, 1) := by decide +kernel
theorem d_m_seal_79 : decode prog_4_method_16_code 79 = .ok (.aload_n 0, 1) := by decide +kernel
theorem d_m_seal_80 : decode prog_4_method_16_code 80 = .ok (.iload_n 3, 1) := by decide +kernel
theorem d_m_seal_81 : decode prog_4_method_16_code 81 = .ok (.bipush 32, 2) := by decide +kernel
theorem d_m_seal_83 : decode prog_4_method_16_code 83 = .ok (.invokevirtual 63, 3) := by decide +kernel
theorem d_m_seal_86 : decode prog_4_method_16_code 86 = .ok (.ifCond .ne 5, 3) := by decide +kernel
theorem d_m_seal_89 : decode prog_4_method_16_code 89 = .ok (.iconst 3, 1) := by decide +kernel
theorem d_m_seal_90 : decode prog_4_method_16_code 90 = .ok (.ireturn, 1) := by decide +kernel
theorem d_m_seal_91 : decode prog_4_method_16_code 91 = .ok (.aload_n 0, 1) := by decide +kernel
theorem d_m_seal_92 : decode prog_4_method_16_code 92 = .ok (.iload_n 3, 1) := by decide +kernel
theorem d_m_seal_93 : decode prog_4_method_16_code 93 = .ok (.aload_n 0, 1) := by decide +kernel
theorem d_m_seal_94 : decode prog_4_method_16_code 94 = .ok (.getfield 9, 3) := by decide +kernel
theorem d_m_seal_97 : decode prog_4_method_16_code 97 = .ok (.iload_n 3, 1) := by decide +kernel
theorem d_m_seal_98 : decode prog_4_method_16_code 98 = .ok (.laload, 1) := by decide +kernel
theorem d_m_seal_99 : decode prog_4_method_16_code 99 = .ok (.lconst 1, 1) := by decide +kernel
theorem d_m_seal_100 : decode prog_4_method_16_code 100 = .ok (.invokevirtual 67, 3) := by decide +kernel
theorem d_m_seal_103 : decode prog_4_method_16_code 103 = .ok (.ifCond .eq 19, 3) := by decide +kernel
theorem d_m_seal_106 : decode prog_4_method_16_code 106 = .ok (.aload_n 0, 1) := by decide +kernel
theorem d_m_seal_107 : decode prog_4_method_16_code 107 = .ok (.getfield 9, 3) := by decide +kernel
theorem d_m_seal_110 : decode prog_4_method_16_code 110 = .ok (.iload_n 3, 1) := by decide +kernel
theorem d_m_seal_111 : decode prog_4_method_16_code 111 = .ok (.laload, 1) := by decide +kernel
theorem d_m_seal_112 : decode prog_4_method_16_code 112 = .ok (.lconst 1, 1) := by decide +kernel
theorem d_m_seal_113 : decode prog_4_method_16_code 113 = .ok (.ldc2_w 71, 3) := by decide +kernel
theorem d_m_seal_116 : decode prog_4_method_16_code 116 = .ok (.invokestatic 36, 3) := by decide +kernel
theorem d_m_seal_119 : decode prog_4_method_16_code 119 = .ok (.ifCond .ne 5, 3) := by decide +kernel
theorem d_m_seal_122 : decode prog_4_method_16_code 122 = .ok (.iconst 4, 1) := by decide +kernel
theorem d_m_seal_123 : decode prog_4_method_16_code 123 = .ok (.ireturn, 1) := by decide +kernel
theorem d_m_seal_124 : decode prog_4_method_16_code 124 = .ok (.aload_n 0, 1) := by decide +kernel
theorem d_m_seal_125 : decode prog_4_method_16_code 125 = .ok (.iload_n 1, 1) := by decide +kernel
theorem d_m_seal_126 : decode prog_4_method_16_code 126 = .ok (.aload_n 0, 1) := by decide +kernel
theorem d_m_seal_127 : decode prog_4_method_16_code 127 = .ok (.getfield 9, 3) := by decide +kernel
theorem d_m_seal_130 : decode prog_4_method_16_code 130 = .ok (.iload_n 2, 1) := by decide +kernel
theorem d_m_seal_131 : decode prog_4_method_16_code 131 = .ok (.laload, 1) := by decide +kernel
theorem d_m_seal_132 : decode prog_4_method_16_code 132 = .ok (.aload_n 0, 1) := by decide +kernel
theorem d_m_seal_133 : decode prog_4_method_16_code 133 = .ok (.getfield 13, 3) := by decide +kernel
theorem d_m_seal_136 : decode prog_4_method_16_code 136 = .ok (.iload_n 2, 1) := by decide +kernel
theorem d_m_seal_137 : decode prog_4_method_16_code 137 = .ok (.laload, 1) := by decide +kernel
theorem d_m_seal_138 : decode prog_4_method_16_code 138 = .ok (.aload_n 0, 1) := by decide +kernel
theorem d_m_seal_139 : decode prog_4_method_16_code 139 = .ok (.getfield 16, 3) := by decide +kernel
theorem d_m_seal_142 : decode prog_4_method_16_code 142 = .ok (.iload_n 2, 1) := by decide +kernel
theorem d_m_seal_143 : decode prog_4_method_16_code 143 = .ok (.laload, 1) := by decide +kernel
theorem d_m_seal_144 : decode prog_4_method_16_code 144 = .ok (.aload_n 0, 1) := by decide +kernel
theorem d_m_seal_145 : decode prog_4_method_16_code 145 = .ok (.getfield 19, 3) := by decide +kernel
theorem d_m_seal_148 : decode prog_4_method_16_code 148 = .ok (.iload_n 2, 1) := by decide +kernel
theorem d_m_seal_149 : decode prog_4_method_16_code 149 = .ok (.iaload, 1) := by decide +kernel
theorem d_m_seal_150 : decode prog_4_method_16_code 150 = .ok (.aload_n 0, 1) := by decide +kernel
theorem d_m_seal_151 : decode prog_4_method_16_code 151 = .ok (.getfield 9, 3) := by decide +kernel
theorem d_m_seal_154 : decode prog_4_method_16_code 154 = .ok (.iload_n 3, 1) := by decide +kernel
theorem d_m_seal_155 : decode prog_4_method_16_code 155 = .ok (.laload, 1) := by decide +kernel
theorem d_m_seal_156 : decode prog_4_method_16_code 156 = .ok (.l2i, 1) := by decide +kernel
theorem d_m_seal_157 : decode prog_4_method_16_code 157 = .ok (.iconst 1, 1) := by decide +kernel
theorem d_m_seal_158 : decode prog_4_method_16_code 158 = .ok (.invokevirtual 56, 3) := by decide +kernel
theorem d_m_seal_161 : decode prog_4_method_16_code 161 = .ok (.iconst 0, 1) := by decide +kernel
theorem d_m_seal_162 : decode prog_4_method_16_code 162 = .ok (.ireturn, 1) := by decide +kernel
theorem d_m_unseal_0 : decode prog_4_method_17_code 0 = .ok (.aload_n 0, 1) := by decide +kernel
theorem d_m_unseal_1 : decode prog_4_method_17_code 1 = .ok (.iconst 0, 1) := by decide +kernel
theorem d_m_unseal_2 : decode prog_4_method_17_code 2 = .ok (.putfield 30, 3) := by decide +kernel
theorem d_m_unseal_5 : decode prog_4_method_17_code 5 = .ok (.aload_n 0, 1) := by decide +kernel
theorem d_m_unseal_6 : decode prog_4_method_17_code 6 = .ok (.iload_n 1, 1) := by decide +kernel
theorem d_m_unseal_7 : decode prog_4_method_17_code 7 = .ok (.invokestatic 52, 3) := by decide +kernel
theorem d_m_unseal_10 : decode prog_4_method_17_code 10 = .ok (.ifCond .eq 17, 3) := by decide +kernel
theorem d_m_unseal_13 : decode prog_4_method_17_code 13 = .ok (.iload_n 2, 1) := by decide +kernel
theorem d_m_unseal_14 : decode prog_4_method_17_code 14 = .ok (.invokestatic 52, 3) := by decide +kernel
theorem d_m_unseal_17 : decode prog_4_method_17_code 17 = .ok (.ifCond .eq 10, 3) := by decide +kernel
theorem d_m_unseal_20 : decode prog_4_method_17_code 20 = .ok (.iload_n 3, 1) := by decide +kernel
theorem d_m_unseal_21 : decode prog_4_method_17_code 21 = .ok (.invokestatic 52, 3) := by decide +kernel
theorem d_m_unseal_24 : decode prog_4_method_17_code 24 = .ok (.ifCond .ne 7, 3) := by decide +kernel
theorem d_m_unseal_27 : decode prog_4_method_17_code 27 = .ok (.iconst 1, 1) := by decide +kernel
theorem d_m_unseal_28 : decode prog_4_method_17_code 28 = .ok (.goto 4, 3) := by decide +kernel
theorem d_m_unseal_31 : decode prog_4_method_17_code 31 = .ok (.iconst 0, 1) := by decide +kernel
theorem d_m_unseal_32 : decode prog_4_method_17_code 32 = .ok (.iconst 1, 1) := by decide +kernel
theorem d_m_unseal_33 : decode prog_4_method_17_code 33 = .ok (.invokevirtual 48, 3) := by decide +kernel
theorem d_m_unseal_36 : decode prog_4_method_17_code 36 = .ok (.ifCond .eq 5, 3) := by decide +kernel
theorem d_m_unseal_39 : decode prog_4_method_17_code 39 = .ok (.iconst 0, 1) := by decide +kernel
theorem d_m_unseal_40 : decode prog_4_method_17_code 40 = .ok (.ireturn, 1) := by decide +kernel
theorem d_m_unseal_41 : decode prog_4_method_17_code 41 = .ok (.aload_n 0, 1) := by decide +kernel
theorem d_m_unseal_42 : decode prog_4_method_17_code 42 = .ok (.getfield 26, 3) := by decide +kernel
theorem d_m_unseal_45 : decode prog_4_method_17_code 45 = .ok (.iload_n 2, 1) := by decide +kernel
theorem d_m_unseal_46 : decode prog_4_method_17_code 46 = .ok (.baload, 1) := by decide +kernel
theorem d_m_unseal_47 : decode prog_4_method_17_code 47 = .ok (.ifCond .eq 12, 3) := by decide +kernel
theorem d_m_unseal_50 : decode prog_4_method_17_code 50 = .ok (.aload_n 0, 1) := by decide +kernel
theorem d_m_unseal_51 : decode prog_4_method_17_code 51 = .ok (.getfield 26, 3) := by decide +kernel
theorem d_m_unseal_54 : decode prog_4_method_17_code 54 = .ok (.iload_n 3, 1) := by decide +kernel
theorem d_m_unseal_55 : decode prog_4_method_17_code 55 = .ok (.baload, 1) := by decide +kernel
theorem d_m_unseal_56 : decode prog_4_method_17_code 56 = .ok (.ifCond .ne 5, 3) := by decide +kernel
theorem d_m_unseal_59 : decode prog_4_method_17_code 59 = .ok (.iconst 1, 1) := by decide +kernel
theorem d_m_unseal_60 : decode prog_4_method_17_code 60 = .ok (.ireturn, 1) := by decide +kernel
theorem d_m_unseal_61 : decode prog_4_method_17_code 61 = .ok (.aload_n 0, 1) := by decide +kernel
theorem d_m_unseal_62 : decode prog_4_method_17_code 62 = .ok (.iload_n 2, 1) := by decide +kernel
theorem d_m_unseal_63 : decode prog_4_method_17_code 63 = .ok (.invokevirtual 60, 3) := by decide +kernel
theorem d_m_unseal_66 : decode prog_4_method_17_code 66 = .ok (.ifCond .eq 11, 3) := by decide +kernel
theorem d_m_unseal_69 : decode prog_4_method_17_code 69 = .ok (.aload_n 0, 1) := by decide +kernel
theorem d_m_unseal_70 : decode prog_4_method_17_code 70 = .ok (.iload_n 3, 1) := by decide +kernel
theorem d_m_unseal_71 : decode prog_4_method_17_code 71 = .ok (.invokevirtual 60, 3) := by decide +kernel
theorem d_m_unseal_74 : decode prog_4_method_17_code 74 = .ok (.ifCond .eq 5, 3) := by decide +kernel
theorem d_m_unseal_77 : decode prog_4_method_17_code 77 = .ok (.iconst 2, 1) := by decide +kernel
theorem d_m_unseal_78 : decode prog_4_method_17_code 78 = .ok (.ireturn, 1) := by decide +kernel
theorem d_m_unseal_79 : decode prog_4_method_17_code 79 = .ok (.aload_n 0, 1) := by decide +kernel
theorem d_m_unseal_80 : decode prog_4_method_17_code 80 = .ok (.iload_n 3, 1) := by decide +kernel
theorem d_m_unseal_81 : decode prog_4_method_17_code 81 = .ok (.bipush 64, 2) := by decide +kernel
theorem d_m_unseal_83 : decode prog_4_method_17_code 83 = .ok (.invokevirtual 63, 3) := by decide +kernel
theorem d_m_unseal_86 : decode prog_4_method_17_code 86 = .ok (.ifCond .ne 5, 3) := by decide +kernel
theorem d_m_unseal_89 : decode prog_4_method_17_code 89 = .ok (.iconst 3, 1) := by decide +kernel
theorem d_m_unseal_90 : decode prog_4_method_17_code 90 = .ok (.ireturn, 1) := by decide +kernel
theorem d_m_unseal_91 : decode prog_4_method_17_code 91 = .ok (.aload_n 0, 1) := by decide +kernel
theorem d_m_unseal_92 : decode prog_4_method_17_code 92 = .ok (.iload_n 3, 1) := by decide +kernel
theorem d_m_unseal_93 : decode prog_4_method_17_code 93 = .ok (.aload_n 0, 1) := by decide +kernel
theorem d_m_unseal_94 : decode prog_4_method_17_code 94 = .ok (.getfield 9, 3) := by decide +kernel
theorem d_m_unseal_97 : decode prog_4_method_17_code 97 = .ok (.iload_n 3, 1) := by decide +kernel
theorem d_m_unseal_98 : decode prog_4_method_17_code 98 = .ok (.laload, 1) := by decide +kernel
theorem d_m_unseal_99 : decode prog_4_method_17_code 99 = .ok (.lconst 1, 1) := by decide +kernel
theorem d_m_unseal_100 : decode prog_4_method_17_code 100 = .ok (.invokevirtual 67, 3) := by decide +kernel
theorem d_m_unseal_103 : decode prog_4_method_17_code 103 = .ok (.ifCond .eq 20, 3) := by decide +kernel
theorem d_m_unseal_106 : decode prog_4_method_17_code 106 = .ok (.aload_n 0, 1) := by decide +kernel
theorem d_m_unseal_107 : decode prog_4_method_17_code 107 = .ok (.getfield 9, 3) := by decide +kernel
theorem d_m_unseal_110 : decode prog_4_method_17_code 110 = .ok (.iload_n 3, 1) := by decide +kernel
theorem d_m_unseal_111 : decode prog_4_method_17_code 111 = .ok (.laload, 1) := by decide +kernel
theorem d_m_unseal_112 : decode prog_4_method_17_code 112 = .ok (.aload_n 0, 1) := by decide +kernel
theorem d_m_unseal_113 : decode prog_4_method_17_code 113 = .ok (.getfield 23, 3) := by decide +kernel
theorem d_m_unseal_116 : decode prog_4_method_17_code 116 = .ok (.iload_n 2, 1) := by decide +kernel
theorem d_m_unseal_117 : decode prog_4_method_17_code 117 = .ok (.iaload, 1) := by decide +kernel
theorem d_m_unseal_118 : decode prog_4_method_17_code 118 = .ok (.i2l, 1) := by decide +kernel
theorem d_m_unseal_119 : decode prog_4_method_17_code 119 = .ok (.lcmp, 1) := by decide +kernel
theorem d_m_unseal_120 : decode prog_4_method_17_code 120 = .ok (.ifCond .eq 5, 3) := by decide +kernel
theorem d_m_unseal_123 : decode prog_4_method_17_code 123 = .ok (.iconst 4, 1) := by decide +kernel
theorem d_m_unseal_124 : decode prog_4_method_17_code 124 = .ok (.ireturn, 1) := by decide +kernel
theorem d_m_unseal_125 : decode prog_4_method_17_code 125 = .ok (.aload_n 0, 1) := by decide +kernel
theorem d_m_unseal_126 : decode prog_4_method_17_code 126 = .ok (.iload_n 1, 1) := by decide +kernel
theorem d_m_unseal_127 : decode prog_4_method_17_code 127 = .ok (.aload_n 0, 1) := by decide +kernel
theorem d_m_unseal_128 : decode prog_4_method_17_code 128 = .ok (.getfield 9, 3) := by decide +kernel
theorem d_m_unseal_131 : decode prog_4_method_17_code 131 = .ok (.iload_n 2, 1) := by decide +kernel
theorem d_m_unseal_132 : decode prog_4_method_17_code 132 = .ok (.laload, 1) := by decide +kernel
theorem d_m_unseal_133 : decode prog_4_method_17_code 133 = .ok (.aload_n 0, 1) := by decide +kernel
theorem d_m_unseal_134 : decode prog_4_method_17_code 134 = .ok (.getfield 13, 3) := by decide +kernel
theorem d_m_unseal_137 : decode prog_4_method_17_code 137 = .ok (.iload_n 2, 1) := by decide +kernel
theorem d_m_unseal_138 : decode prog_4_method_17_code 138 = .ok (.laload, 1) := by decide +kernel
theorem d_m_unseal_139 : decode prog_4_method_17_code 139 = .ok (.aload_n 0, 1) := by decide +kernel
theorem d_m_unseal_140 : decode prog_4_method_17_code 140 = .ok (.getfield 16, 3) := by decide +kernel
theorem d_m_unseal_143 : decode prog_4_method_17_code 143 = .ok (.iload_n 2, 1) := by decide +kernel
theorem d_m_unseal_144 : decode prog_4_method_17_code 144 = .ok (.laload, 1) := by decide +kernel
theorem d_m_unseal_145 : decode prog_4_method_17_code 145 = .ok (.aload_n 0, 1) := by decide +kernel
theorem d_m_unseal_146 : decode prog_4_method_17_code 146 = .ok (.getfield 19, 3) := by decide +kernel
theorem d_m_unseal_149 : decode prog_4_method_17_code 149 = .ok (.iload_n 2, 1) := by decide +kernel
theorem d_m_unseal_150 : decode prog_4_method_17_code 150 = .ok (.iaload, 1) := by decide +kernel
theorem d_m_unseal_151 : decode prog_4_method_17_code 151 = .ok (.iconst 0, 1) := by decide +kernel
theorem d_m_unseal_152 : decode prog_4_method_17_code 152 = .ok (.iconst 1, 1) := by decide +kernel
theorem d_m_unseal_153 : decode prog_4_method_17_code 153 = .ok (.invokevirtual 56, 3) := by decide +kernel
theorem d_m_unseal_156 : decode prog_4_method_17_code 156 = .ok (.iconst 0, 1) := by decide +kernel
theorem d_m_unseal_157 : decode prog_4_method_17_code 157 = .ok (.ireturn, 1) := by decide +kernel
theorem d_m_allows_0 : decode prog_4_method_18_code 0 = .ok (.aload_n 0, 1) := by decide +kernel
theorem d_m_allows_1 : decode prog_4_method_18_code 1 = .ok (.iconst 0, 1) := by decide +kernel
theorem d_m_allows_2 : decode prog_4_method_18_code 2 = .ok (.putfield 30, 3) := by decide +kernel
theorem d_m_allows_5 : decode prog_4_method_18_code 5 = .ok (.aload_n 0, 1) := by decide +kernel
theorem d_m_allows_6 : decode prog_4_method_18_code 6 = .ok (.iload_n 3, 1) := by decide +kernel
theorem d_m_allows_7 : decode prog_4_method_18_code 7 = .ok (.i2l, 1) := by decide +kernel
theorem d_m_allows_8 : decode prog_4_method_18_code 8 = .ok (.lconst 0, 1) := by decide +kernel
theorem d_m_allows_9 : decode prog_4_method_18_code 9 = .ok (.ldc2_w 73, 3) := by decide +kernel
theorem d_m_allows_12 : decode prog_4_method_18_code 12 = .ok (.invokestatic 36, 3) := by decide +kernel
theorem d_m_allows_15 : decode prog_4_method_18_code 15 = .ok (.ifCond .ne 7, 3) := by decide +kernel
theorem d_m_allows_18 : decode prog_4_method_18_code 18 = .ok (.iconst 1, 1) := by decide +kernel
theorem d_m_allows_19 : decode prog_4_method_18_code 19 = .ok (.goto 4, 3) := by decide +kernel
theorem d_m_allows_22 : decode prog_4_method_18_code 22 = .ok (.iconst 0, 1) := by decide +kernel
theorem d_m_allows_23 : decode prog_4_method_18_code 23 = .ok (.iconst 1, 1) := by decide +kernel
theorem d_m_allows_24 : decode prog_4_method_18_code 24 = .ok (.invokevirtual 48, 3) := by decide +kernel
theorem d_m_allows_27 : decode prog_4_method_18_code 27 = .ok (.ifCond .ne 23, 3) := by decide +kernel
theorem d_m_allows_30 : decode prog_4_method_18_code 30 = .ok (.aload_n 0, 1) := by decide +kernel
theorem d_m_allows_31 : decode prog_4_method_18_code 31 = .ok (.iload_n 1, 1) := by decide +kernel
theorem d_m_allows_32 : decode prog_4_method_18_code 32 = .ok (.invokestatic 52, 3) := by decide +kernel
theorem d_m_allows_35 : decode prog_4_method_18_code 35 = .ok (.ifCond .ne 7, 3) := by decide +kernel
theorem d_m_allows_38 : decode prog_4_method_18_code 38 = .ok (.iconst 1, 1) := by decide +kernel
theorem d_m_allows_39 : decode prog_4_method_18_code 39 = .ok (.goto 4, 3) := by decide +kernel
theorem d_m_allows_42 : decode prog_4_method_18_code 42 = .ok (.iconst 0, 1) := by decide +kernel
theorem d_m_allows_43 : decode prog_4_method_18_code 43 = .ok (.iconst 2, 1) := by decide +kernel
theorem d_m_allows_44 : decode prog_4_method_18_code 44 = .ok (.invokevirtual 48, 3) := by decide +kernel
theorem d_m_allows_47 : decode prog_4_method_18_code 47 = .ok (.ifCond .eq 5, 3) := by decide +kernel
theorem d_m_allows_50 : decode prog_4_method_18_code 50 = .ok (.iconst 0, 1) := by decide +kernel
theorem d_m_allows_51 : decode prog_4_method_18_code 51 = .ok (.ireturn, 1) := by decide +kernel
theorem d_m_allows_52 : decode prog_4_method_18_code 52 = .ok (.aload_n 0, 1) := by decide +kernel
theorem d_m_allows_53 : decode prog_4_method_18_code 53 = .ok (.getfield 26, 3) := by decide +kernel
theorem d_m_allows_56 : decode prog_4_method_18_code 56 = .ok (.iload_n 1, 1) := by decide +kernel
theorem d_m_allows_57 : decode prog_4_method_18_code 57 = .ok (.baload, 1) := by decide +kernel
theorem d_m_allows_58 : decode prog_4_method_18_code 58 = .ok (.ifCond .ne 7, 3) := by decide +kernel
theorem d_m_allows_61 : decode prog_4_method_18_code 61 = .ok (.iconst 1, 1) := by decide +kernel
theorem d_m_allows_62 : decode prog_4_method_18_code 62 = .ok (.goto 59, 3) := by decide +kernel
theorem d_m_allows_65 : decode prog_4_method_18_code 65 = .ok (.aload_n 0, 1) := by decide +kernel
theorem d_m_allows_66 : decode prog_4_method_18_code 66 = .ok (.iload_n 1, 1) := by decide +kernel
theorem d_m_allows_67 : decode prog_4_method_18_code 67 = .ok (.invokevirtual 60, 3) := by decide +kernel
theorem d_m_allows_70 : decode prog_4_method_18_code 70 = .ok (.ifCond .eq 7, 3) := by decide +kernel
theorem d_m_allows_73 : decode prog_4_method_18_code 73 = .ok (.iconst 2, 1) := by decide +kernel
theorem d_m_allows_74 : decode prog_4_method_18_code 74 = .ok (.goto 47, 3) := by decide +kernel
theorem d_m_allows_77 : decode prog_4_method_18_code 77 = .ok (.aload_n 0, 1) := by decide +kernel
theorem d_m_allows_78 : decode prog_4_method_18_code 78 = .ok (.iload_n 1, 1) := by decide +kernel
theorem d_m_allows_79 : decode prog_4_method_18_code 79 = .ok (.iload 4, 2) := by decide +kernel
theorem d_m_allows_81 : decode prog_4_method_18_code 81 = .ok (.invokevirtual 63, 3) := by decide +kernel
theorem d_m_allows_84 : decode prog_4_method_18_code 84 = .ok (.ifCond .ne 7, 3) := by decide +kernel
theorem d_m_allows_87 : decode prog_4_method_18_code 87 = .ok (.iconst 3, 1) := by decide +kernel
theorem d_m_allows_88 : decode prog_4_method_18_code 88 = .ok (.goto 33, 3) := by decide +kernel
theorem d_m_allows_91 : decode prog_4_method_18_code 91 = .ok (.aload_n 0, 1) := by decide +kernel
theorem d_m_allows_92 : decode prog_4_method_18_code 92 = .ok (.iload_n 1, 1) := by decide +kernel
theorem d_m_allows_93 : decode prog_4_method_18_code 93 = .ok (.aload_n 0, 1) := by decide +kernel
theorem d_m_allows_94 : decode prog_4_method_18_code 94 = .ok (.getfield 9, 3) := by decide +kernel
theorem d_m_allows_97 : decode prog_4_method_18_code 97 = .ok (.iload_n 1, 1) := by decide +kernel
theorem d_m_allows_98 : decode prog_4_method_18_code 98 = .ok (.laload, 1) := by decide +kernel
theorem d_m_allows_99 : decode prog_4_method_18_code 99 = .ok (.iload_n 2, 1) := by decide +kernel
theorem d_m_allows_100 : decode prog_4_method_18_code 100 = .ok (.invokestatic 42, 3) := by decide +kernel
theorem d_m_allows_103 : decode prog_4_method_18_code 103 = .ok (.ladd, 1) := by decide +kernel
theorem d_m_allows_104 : decode prog_4_method_18_code 104 = .ok (.ldc2_w 40, 3) := by decide +kernel
theorem d_m_allows_107 : decode prog_4_method_18_code 107 = .ok (.lrem, 1) := by decide +kernel
theorem d_m_allows_108 : decode prog_4_method_18_code 108 = .ok (.iload_n 3, 1) := by decide +kernel
theorem d_m_allows_109 : decode prog_4_method_18_code 109 = .ok (.i2l, 1) := by decide +kernel
theorem d_m_allows_110 : decode prog_4_method_18_code 110 = .ok (.invokevirtual 67, 3) := by decide +kernel
theorem d_m_allows_113 : decode prog_4_method_18_code 113 = .ok (.ifCond .eq 7, 3) := by decide +kernel
theorem d_m_allows_116 : decode prog_4_method_18_code 116 = .ok (.iconst 0, 1) := by decide +kernel
theorem d_m_allows_117 : decode prog_4_method_18_code 117 = .ok (.goto 4, 3) := by decide +kernel
theorem d_m_allows_120 : decode prog_4_method_18_code 120 = .ok (.iconst 4, 1) := by decide +kernel
theorem d_m_allows_121 : decode prog_4_method_18_code 121 = .ok (.ireturn, 1) := by decide +kernel
theorem d_m_within_0 : decode prog_4_method_19_code 0 = .ok (.aload_n 0, 1) := by decide +kernel
theorem d_m_within_1 : decode prog_4_method_19_code 1 = .ok (.iconst 0, 1) := by decide +kernel
theorem d_m_within_2 : decode prog_4_method_19_code 2 = .ok (.putfield 30, 3) := by decide +kernel
theorem d_m_within_5 : decode prog_4_method_19_code 5 = .ok (.aload_n 0, 1) := by decide +kernel
theorem d_m_within_6 : decode prog_4_method_19_code 6 = .ok (.iload_n 1, 1) := by decide +kernel
theorem d_m_within_7 : decode prog_4_method_19_code 7 = .ok (.invokestatic 52, 3) := by decide +kernel
theorem d_m_within_10 : decode prog_4_method_19_code 10 = .ok (.ifCond .eq 10, 3) := by decide +kernel
theorem d_m_within_13 : decode prog_4_method_19_code 13 = .ok (.iload_n 2, 1) := by decide +kernel
theorem d_m_within_14 : decode prog_4_method_19_code 14 = .ok (.invokestatic 52, 3) := by decide +kernel
theorem d_m_within_17 : decode prog_4_method_19_code 17 = .ok (.ifCond .ne 7, 3) := by decide +kernel
theorem d_m_within_20 : decode prog_4_method_19_code 20 = .ok (.iconst 1, 1) := by decide +kernel
theorem d_m_within_21 : decode prog_4_method_19_code 21 = .ok (.goto 4, 3) := by decide +kernel
theorem d_m_within_24 : decode prog_4_method_19_code 24 = .ok (.iconst 0, 1) := by decide +kernel
theorem d_m_within_25 : decode prog_4_method_19_code 25 = .ok (.iconst 1, 1) := by decide +kernel
theorem d_m_within_26 : decode prog_4_method_19_code 26 = .ok (.invokevirtual 48, 3) := by decide +kernel
theorem d_m_within_29 : decode prog_4_method_19_code 29 = .ok (.ifCond .eq 5, 3) := by decide +kernel
theorem d_m_within_32 : decode prog_4_method_19_code 32 = .ok (.iconst 0, 1) := by decide +kernel
theorem d_m_within_33 : decode prog_4_method_19_code 33 = .ok (.ireturn, 1) := by decide +kernel
theorem d_m_within_34 : decode prog_4_method_19_code 34 = .ok (.aload_n 0, 1) := by decide +kernel
theorem d_m_within_35 : decode prog_4_method_19_code 35 = .ok (.getfield 26, 3) := by decide +kernel
theorem d_m_within_38 : decode prog_4_method_19_code 38 = .ok (.iload_n 1, 1) := by decide +kernel
theorem d_m_within_39 : decode prog_4_method_19_code 39 = .ok (.baload, 1) := by decide +kernel
theorem d_m_within_40 : decode prog_4_method_19_code 40 = .ok (.ifCond .eq 62, 3) := by decide +kernel
theorem d_m_within_43 : decode prog_4_method_19_code 43 = .ok (.aload_n 0, 1) := by decide +kernel
theorem d_m_within_44 : decode prog_4_method_19_code 44 = .ok (.getfield 26, 3) := by decide +kernel
theorem d_m_within_47 : decode prog_4_method_19_code 47 = .ok (.iload_n 2, 1) := by decide +kernel
theorem d_m_within_48 : decode prog_4_method_19_code 48 = .ok (.baload, 1) := by decide +kernel
theorem d_m_within_49 : decode prog_4_method_19_code 49 = .ok (.ifCond .eq 53, 3) := by decide +kernel
theorem d_m_within_52 : decode prog_4_method_19_code 52 = .ok (.aload_n 0, 1) := by decide +kernel
theorem d_m_within_53 : decode prog_4_method_19_code 53 = .ok (.getfield 13, 3) := by decide +kernel
theorem d_m_within_56 : decode prog_4_method_19_code 56 = .ok (.iload_n 1, 1) := by decide +kernel
theorem d_m_within_57 : decode prog_4_method_19_code 57 = .ok (.laload, 1) := by decide +kernel
theorem d_m_within_58 : decode prog_4_method_19_code 58 = .ok (.aload_n 0, 1) := by decide +kernel
theorem d_m_within_59 : decode prog_4_method_19_code 59 = .ok (.getfield 13, 3) := by decide +kernel
theorem d_m_within_62 : decode prog_4_method_19_code 62 = .ok (.iload_n 2, 1) := by decide +kernel
theorem d_m_within_63 : decode prog_4_method_19_code 63 = .ok (.laload, 1) := by decide +kernel
theorem d_m_within_64 : decode prog_4_method_19_code 64 = .ok (.lcmp, 1) := by decide +kernel
theorem d_m_within_65 : decode prog_4_method_19_code 65 = .ok (.ifCond .lt 37, 3) := by decide +kernel
theorem d_m_within_68 : decode prog_4_method_19_code 68 = .ok (.aload_n 0, 1) := by decide +kernel
theorem d_m_within_69 : decode prog_4_method_19_code 69 = .ok (.getfield 16, 3) := by decide +kernel
theorem d_m_within_72 : decode prog_4_method_19_code 72 = .ok (.iload_n 1, 1) := by decide +kernel
theorem d_m_within_73 : decode prog_4_method_19_code 73 = .ok (.laload, 1) := by decide +kernel
theorem d_m_within_74 : decode prog_4_method_19_code 74 = .ok (.aload_n 0, 1) := by decide +kernel
theorem d_m_within_75 : decode prog_4_method_19_code 75 = .ok (.getfield 16, 3) := by decide +kernel
theorem d_m_within_78 : decode prog_4_method_19_code 78 = .ok (.iload_n 2, 1) := by decide +kernel
theorem d_m_within_79 : decode prog_4_method_19_code 79 = .ok (.laload, 1) := by decide +kernel
theorem d_m_within_80 : decode prog_4_method_19_code 80 = .ok (.lcmp, 1) := by decide +kernel
theorem d_m_within_81 : decode prog_4_method_19_code 81 = .ok (.ifCond .gt 21, 3) := by decide +kernel
theorem d_m_within_84 : decode prog_4_method_19_code 84 = .ok (.aload_n 0, 1) := by decide +kernel
theorem d_m_within_85 : decode prog_4_method_19_code 85 = .ok (.iload_n 2, 1) := by decide +kernel
theorem d_m_within_86 : decode prog_4_method_19_code 86 = .ok (.aload_n 0, 1) := by decide +kernel
theorem d_m_within_87 : decode prog_4_method_19_code 87 = .ok (.getfield 19, 3) := by decide +kernel
theorem d_m_within_90 : decode prog_4_method_19_code 90 = .ok (.iload_n 1, 1) := by decide +kernel
theorem d_m_within_91 : decode prog_4_method_19_code 91 = .ok (.iaload, 1) := by decide +kernel
theorem d_m_within_92 : decode prog_4_method_19_code 92 = .ok (.invokevirtual 63, 3) := by decide +kernel
theorem d_m_within_95 : decode prog_4_method_19_code 95 = .ok (.ifCond .eq 7, 3) := by decide +kernel
theorem d_m_within_98 : decode prog_4_method_19_code 98 = .ok (.iconst 1, 1) := by decide +kernel
theorem d_m_within_99 : decode prog_4_method_19_code 99 = .ok (.goto 4, 3) := by decide +kernel
theorem d_m_within_102 : decode prog_4_method_19_code 102 = .ok (.iconst 0, 1) := by decide +kernel
theorem d_m_within_103 : decode prog_4_method_19_code 103 = .ok (.ireturn, 1) := by decide +kernel
theorem d_m_part_0 : decode prog_4_method_20_code 0 = .ok (.aload_n 0, 1) := by decide +kernel
theorem d_m_part_1 : decode prog_4_method_20_code 1 = .ok (.iconst 0, 1) := by decide +kernel
theorem d_m_part_2 : decode prog_4_method_20_code 2 = .ok (.putfield 30, 3) := by decide +kernel
theorem d_m_part_5 : decode prog_4_method_20_code 5 = .ok (.aload_n 0, 1) := by decide +kernel
theorem d_m_part_6 : decode prog_4_method_20_code 6 = .ok (.iload_n 2, 1) := by decide +kernel
theorem d_m_part_7 : decode prog_4_method_20_code 7 = .ok (.i2l, 1) := by decide +kernel
theorem d_m_part_8 : decode prog_4_method_20_code 8 = .ok (.lconst 0, 1) := by decide +kernel
theorem d_m_part_9 : decode prog_4_method_20_code 9 = .ok (.ldc2_w 75, 3) := by decide +kernel
theorem d_m_part_12 : decode prog_4_method_20_code 12 = .ok (.invokestatic 36, 3) := by decide +kernel
theorem d_m_part_15 : decode prog_4_method_20_code 15 = .ok (.ifCond .ne 7, 3) := by decide +kernel
theorem d_m_part_18 : decode prog_4_method_20_code 18 = .ok (.iconst 1, 1) := by decide +kernel
theorem d_m_part_19 : decode prog_4_method_20_code 19 = .ok (.goto 4, 3) := by decide +kernel
theorem d_m_part_22 : decode prog_4_method_20_code 22 = .ok (.iconst 0, 1) := by decide +kernel
theorem d_m_part_23 : decode prog_4_method_20_code 23 = .ok (.iconst 1, 1) := by decide +kernel
theorem d_m_part_24 : decode prog_4_method_20_code 24 = .ok (.invokevirtual 48, 3) := by decide +kernel
theorem d_m_part_27 : decode prog_4_method_20_code 27 = .ok (.ifCond .ne 23, 3) := by decide +kernel
theorem d_m_part_30 : decode prog_4_method_20_code 30 = .ok (.aload_n 0, 1) := by decide +kernel
theorem d_m_part_31 : decode prog_4_method_20_code 31 = .ok (.iload_n 1, 1) := by decide +kernel
theorem d_m_part_32 : decode prog_4_method_20_code 32 = .ok (.invokestatic 52, 3) := by decide +kernel
theorem d_m_part_35 : decode prog_4_method_20_code 35 = .ok (.ifCond .ne 7, 3) := by decide +kernel
theorem d_m_part_38 : decode prog_4_method_20_code 38 = .ok (.iconst 1, 1) := by decide +kernel
theorem d_m_part_39 : decode prog_4_method_20_code 39 = .ok (.goto 4, 3) := by decide +kernel
theorem d_m_part_42 : decode prog_4_method_20_code 42 = .ok (.iconst 0, 1) := by decide +kernel
theorem d_m_part_43 : decode prog_4_method_20_code 43 = .ok (.iconst 2, 1) := by decide +kernel
theorem d_m_part_44 : decode prog_4_method_20_code 44 = .ok (.invokevirtual 48, 3) := by decide +kernel
theorem d_m_part_47 : decode prog_4_method_20_code 47 = .ok (.ifCond .eq 5, 3) := by decide +kernel
theorem d_m_part_50 : decode prog_4_method_20_code 50 = .ok (.iconst 0, 1) := by decide +kernel
theorem d_m_part_51 : decode prog_4_method_20_code 51 = .ok (.ireturn, 1) := by decide +kernel
theorem d_m_part_52 : decode prog_4_method_20_code 52 = .ok (.iload_n 2, 1) := by decide +kernel
theorem d_m_part_53 : decode prog_4_method_20_code 53 = .ok (.ifCond .ne 13, 3) := by decide +kernel
theorem d_m_part_56 : decode prog_4_method_20_code 56 = .ok (.aload_n 0, 1) := by decide +kernel
theorem d_m_part_57 : decode prog_4_method_20_code 57 = .ok (.getfield 9, 3) := by decide +kernel
theorem d_m_part_60 : decode prog_4_method_20_code 60 = .ok (.iload_n 1, 1) := by decide +kernel
theorem d_m_part_61 : decode prog_4_method_20_code 61 = .ok (.laload, 1) := by decide +kernel
theorem d_m_part_62 : decode prog_4_method_20_code 62 = .ok (.l2i, 1) := by decide +kernel
theorem d_m_part_63 : decode prog_4_method_20_code 63 = .ok (.goto 75, 3) := by decide +kernel
theorem d_m_part_66 : decode prog_4_method_20_code 66 = .ok (.iload_n 2, 1) := by decide +kernel
theorem d_m_part_67 : decode prog_4_method_20_code 67 = .ok (.iconst 1, 1) := by decide +kernel
theorem d_m_part_68 : decode prog_4_method_20_code 68 = .ok (.if_icmp .ne 13, 3) := by decide +kernel
theorem d_m_part_71 : decode prog_4_method_20_code 71 = .ok (.aload_n 0, 1) := by decide +kernel
theorem d_m_part_72 : decode prog_4_method_20_code 72 = .ok (.getfield 13, 3) := by decide +kernel
theorem d_m_part_75 : decode prog_4_method_20_code 75 = .ok (.iload_n 1, 1) := by decide +kernel
theorem d_m_part_76 : decode prog_4_method_20_code 76 = .ok (.laload, 1) := by decide +kernel
theorem d_m_part_77 : decode prog_4_method_20_code 77 = .ok (.l2i, 1) := by decide +kernel
theorem d_m_part_78 : decode prog_4_method_20_code 78 = .ok (.goto 60, 3) := by decide +kernel
theorem d_m_part_81 : decode prog_4_method_20_code 81 = .ok (.iload_n 2, 1) := by decide +kernel
theorem d_m_part_82 : decode prog_4_method_20_code 82 = .ok (.iconst 2, 1) := by decide +kernel
theorem d_m_part_83 : decode prog_4_method_20_code 83 = .ok (.if_icmp .ne 13, 3) := by decide +kernel
theorem d_m_part_86 : decode prog_4_method_20_code 86 = .ok (.aload_n 0, 1) := by decide +kernel
theorem d_m_part_87 : decode prog_4_method_20_code 87 = .ok (.getfield 16, 3) := by decide +kernel
theorem d_m_part_90 : decode prog_4_method_20_code 90 = .ok (.iload_n 1, 1) := by decide +kernel
theorem d_m_part_91 : decode prog_4_method_20_code 91 = .ok (.laload, 1) := by decide +kernel
theorem d_m_part_92 : decode prog_4_method_20_code 92 = .ok (.l2i, 1) := by decide +kernel
theorem d_m_part_93 : decode prog_4_method_20_code 93 = .ok (.goto 45, 3) := by decide +kernel
theorem d_m_part_96 : decode prog_4_method_20_code 96 = .ok (.iload_n 2, 1) := by decide +kernel
theorem d_m_part_97 : decode prog_4_method_20_code 97 = .ok (.iconst 3, 1) := by decide +kernel
theorem d_m_part_98 : decode prog_4_method_20_code 98 = .ok (.if_icmp .ne 12, 3) := by decide +kernel
theorem d_m_part_101 : decode prog_4_method_20_code 101 = .ok (.aload_n 0, 1) := by decide +kernel
theorem d_m_part_102 : decode prog_4_method_20_code 102 = .ok (.getfield 19, 3) := by decide +kernel
theorem d_m_part_105 : decode prog_4_method_20_code 105 = .ok (.iload_n 1, 1) := by decide +kernel
theorem d_m_part_106 : decode prog_4_method_20_code 106 = .ok (.iaload, 1) := by decide +kernel
theorem d_m_part_107 : decode prog_4_method_20_code 107 = .ok (.goto 31, 3) := by decide +kernel
theorem d_m_part_110 : decode prog_4_method_20_code 110 = .ok (.iload_n 2, 1) := by decide +kernel
theorem d_m_part_111 : decode prog_4_method_20_code 111 = .ok (.iconst 4, 1) := by decide +kernel
theorem d_m_part_112 : decode prog_4_method_20_code 112 = .ok (.if_icmp .ne 12, 3) := by decide +kernel
theorem d_m_part_115 : decode prog_4_method_20_code 115 = .ok (.aload_n 0, 1) := by decide +kernel
theorem d_m_part_116 : decode prog_4_method_20_code 116 = .ok (.getfield 23, 3) := by decide +kernel
theorem d_m_part_119 : decode prog_4_method_20_code 119 = .ok (.iload_n 1, 1) := by decide +kernel
theorem d_m_part_120 : decode prog_4_method_20_code 120 = .ok (.iaload, 1) := by decide +kernel
theorem d_m_part_121 : decode prog_4_method_20_code 121 = .ok (.goto 17, 3) := by decide +kernel
theorem d_m_part_124 : decode prog_4_method_20_code 124 = .ok (.aload_n 0, 1) := by decide +kernel
theorem d_m_part_125 : decode prog_4_method_20_code 125 = .ok (.getfield 26, 3) := by decide +kernel
theorem d_m_part_128 : decode prog_4_method_20_code 128 = .ok (.iload_n 1, 1) := by decide +kernel
theorem d_m_part_129 : decode prog_4_method_20_code 129 = .ok (.baload, 1) := by decide +kernel
theorem d_m_part_130 : decode prog_4_method_20_code 130 = .ok (.ifCond .eq 7, 3) := by decide +kernel
theorem d_m_part_133 : decode prog_4_method_20_code 133 = .ok (.iconst 1, 1) := by decide +kernel
theorem d_m_part_134 : decode prog_4_method_20_code 134 = .ok (.goto 4, 3) := by decide +kernel
theorem d_m_part_137 : decode prog_4_method_20_code 137 = .ok (.iconst 0, 1) := by decide +kernel
theorem d_m_part_138 : decode prog_4_method_20_code 138 = .ok (.ireturn, 1) := by decide +kernel
theorem d_m_count_0 : decode prog_4_method_21_code 0 = .ok (.aload_n 0, 1) := by decide +kernel
theorem d_m_count_1 : decode prog_4_method_21_code 1 = .ok (.iconst 0, 1) := by decide +kernel
theorem d_m_count_2 : decode prog_4_method_21_code 2 = .ok (.putfield 30, 3) := by decide +kernel
theorem d_m_count_5 : decode prog_4_method_21_code 5 = .ok (.iconst 0, 1) := by decide +kernel
theorem d_m_count_6 : decode prog_4_method_21_code 6 = .ok (.istore_n 3, 1) := by decide +kernel
theorem d_m_count_7 : decode prog_4_method_21_code 7 = .ok (.iconst 0, 1) := by decide +kernel
theorem d_m_count_8 : decode prog_4_method_21_code 8 = .ok (.istore 4, 2) := by decide +kernel
theorem d_m_count_10 : decode prog_4_method_21_code 10 = .ok (.iload 4, 2) := by decide +kernel
theorem d_m_count_12 : decode prog_4_method_21_code 12 = .ok (.bipush 16, 2) := by decide +kernel
theorem d_m_count_14 : decode prog_4_method_21_code 14 = .ok (.if_icmp .ge 55, 3) := by decide +kernel
theorem d_m_count_17 : decode prog_4_method_21_code 17 = .ok (.aload_n 0, 1) := by decide +kernel
theorem d_m_count_18 : decode prog_4_method_21_code 18 = .ok (.getfield 26, 3) := by decide +kernel
theorem d_m_count_21 : decode prog_4_method_21_code 21 = .ok (.iload 4, 2) := by decide +kernel
theorem d_m_count_23 : decode prog_4_method_21_code 23 = .ok (.baload, 1) := by decide +kernel
theorem d_m_count_24 : decode prog_4_method_21_code 24 = .ok (.ifCond .eq 39, 3) := by decide +kernel
theorem d_m_count_27 : decode prog_4_method_21_code 27 = .ok (.aload_n 0, 1) := by decide +kernel
theorem d_m_count_28 : decode prog_4_method_21_code 28 = .ok (.iload 4, 2) := by decide +kernel
theorem d_m_count_30 : decode prog_4_method_21_code 30 = .ok (.invokevirtual 60, 3) := by decide +kernel
theorem d_m_count_33 : decode prog_4_method_21_code 33 = .ok (.ifCond .ne 30, 3) := by decide +kernel
theorem d_m_count_36 : decode prog_4_method_21_code 36 = .ok (.aload_n 0, 1) := by decide +kernel
theorem d_m_count_37 : decode prog_4_method_21_code 37 = .ok (.iload 4, 2) := by decide +kernel
theorem d_m_count_39 : decode prog_4_method_21_code 39 = .ok (.iload_n 2, 1) := by decide +kernel
theorem d_m_count_40 : decode prog_4_method_21_code 40 = .ok (.invokevirtual 63, 3) := by decide +kernel
theorem d_m_count_43 : decode prog_4_method_21_code 43 = .ok (.ifCond .eq 20, 3) := by decide +kernel
theorem d_m_count_46 : decode prog_4_method_21_code 46 = .ok (.aload_n 0, 1) := by decide +kernel
theorem d_m_count_47 : decode prog_4_method_21_code 47 = .ok (.iload 4, 2) := by decide +kernel
theorem d_m_count_49 : decode prog_4_method_21_code 49 = .ok (.iload_n 1, 1) := by decide +kernel
theorem d_m_count_50 : decode prog_4_method_21_code 50 = .ok (.invokestatic 42, 3) := by decide +kernel
theorem d_m_count_53 : decode prog_4_method_21_code 53 = .ok (.lconst 1, 1) := by decide +kernel
theorem d_m_count_54 : decode prog_4_method_21_code 54 = .ok (.invokevirtual 67, 3) := by decide +kernel
theorem d_m_count_57 : decode prog_4_method_21_code 57 = .ok (.ifCond .eq 6, 3) := by decide +kernel
theorem d_m_count_60 : decode prog_4_method_21_code 60 = .ok (.iinc 3 1, 3) := by decide +kernel
theorem d_m_count_63 : decode prog_4_method_21_code 63 = .ok (.iinc 4 1, 3) := by decide +kernel
theorem d_m_count_66 : decode prog_4_method_21_code 66 = .ok (.goto (-56), 3) := by decide +kernel
theorem d_m_count_69 : decode prog_4_method_21_code 69 = .ok (.iload_n 3, 1) := by decide +kernel
theorem d_m_count_70 : decode prog_4_method_21_code 70 = .ok (.ireturn, 1) := by decide +kernel
theorem d_g_init_0 : decode prog_2_method_1_code 0 = .ok (.aload_n 0, 1) := by decide +kernel
theorem d_g_init_1 : decode prog_2_method_1_code 1 = .ok (.invokespecial 1, 3) := by decide +kernel
theorem d_g_init_4 : decode prog_2_method_1_code 4 = .ok (.return_, 1) := by decide +kernel
theorem d_g_take_0 : decode prog_2_method_2_code 0 = .ok (.aload_n 0, 1) := by decide +kernel
theorem d_g_take_1 : decode prog_2_method_2_code 1 = .ok (.aload_n 1, 1) := by decide +kernel
theorem d_g_take_2 : decode prog_2_method_2_code 2 = .ok (.getfield 7, 3) := by decide +kernel
theorem d_g_take_5 : decode prog_2_method_2_code 5 = .ok (.putfield 7, 3) := by decide +kernel
theorem d_g_take_8 : decode prog_2_method_2_code 8 = .ok (.aload_n 0, 1) := by decide +kernel
theorem d_g_take_9 : decode prog_2_method_2_code 9 = .ok (.aload_n 1, 1) := by decide +kernel
theorem d_g_take_10 : decode prog_2_method_2_code 10 = .ok (.getfield 13, 3) := by decide +kernel
theorem d_g_take_13 : decode prog_2_method_2_code 13 = .ok (.putfield 13, 3) := by decide +kernel
theorem d_g_take_16 : decode prog_2_method_2_code 16 = .ok (.aload_n 0, 1) := by decide +kernel
theorem d_g_take_17 : decode prog_2_method_2_code 17 = .ok (.aload_n 1, 1) := by decide +kernel
theorem d_g_take_18 : decode prog_2_method_2_code 18 = .ok (.getfield 16, 3) := by decide +kernel
theorem d_g_take_21 : decode prog_2_method_2_code 21 = .ok (.putfield 16, 3) := by decide +kernel
theorem d_g_take_24 : decode prog_2_method_2_code 24 = .ok (.aload_n 0, 1) := by decide +kernel
theorem d_g_take_25 : decode prog_2_method_2_code 25 = .ok (.aload_n 1, 1) := by decide +kernel
theorem d_g_take_26 : decode prog_2_method_2_code 26 = .ok (.getfield 19, 3) := by decide +kernel
theorem d_g_take_29 : decode prog_2_method_2_code 29 = .ok (.putfield 19, 3) := by decide +kernel
theorem d_g_take_32 : decode prog_2_method_2_code 32 = .ok (.aload_n 0, 1) := by decide +kernel
theorem d_g_take_33 : decode prog_2_method_2_code 33 = .ok (.aload_n 1, 1) := by decide +kernel
theorem d_g_take_34 : decode prog_2_method_2_code 34 = .ok (.getfield 23, 3) := by decide +kernel
theorem d_g_take_37 : decode prog_2_method_2_code 37 = .ok (.putfield 23, 3) := by decide +kernel
theorem d_g_take_40 : decode prog_2_method_2_code 40 = .ok (.aload_n 0, 1) := by decide +kernel
theorem d_g_take_41 : decode prog_2_method_2_code 41 = .ok (.aload_n 1, 1) := by decide +kernel
theorem d_g_take_42 : decode prog_2_method_2_code 42 = .ok (.getfield 26, 3) := by decide +kernel
theorem d_g_take_45 : decode prog_2_method_2_code 45 = .ok (.putfield 26, 3) := by decide +kernel
theorem d_g_take_48 : decode prog_2_method_2_code 48 = .ok (.return_, 1) := by decide +kernel
theorem d_g_set_0 : decode prog_2_method_3_code 0 = .ok (.aload_n 0, 1) := by decide +kernel
theorem d_g_set_1 : decode prog_2_method_3_code 1 = .ok (.lload_n 1, 1) := by decide +kernel
theorem d_g_set_2 : decode prog_2_method_3_code 2 = .ok (.putfield 7, 3) := by decide +kernel
theorem d_g_set_5 : decode prog_2_method_3_code 5 = .ok (.aload_n 0, 1) := by decide +kernel
theorem d_g_set_6 : decode prog_2_method_3_code 6 = .ok (.lload_n 1, 1) := by decide +kernel
theorem d_g_set_7 : decode prog_2_method_3_code 7 = .ok (.putfield 13, 3) := by decide +kernel
theorem d_g_set_10 : decode prog_2_method_3_code 10 = .ok (.aload_n 0, 1) := by decide +kernel
theorem d_g_set_11 : decode prog_2_method_3_code 11 = .ok (.lload_n 3, 1) := by decide +kernel
theorem d_g_set_12 : decode prog_2_method_3_code 12 = .ok (.putfield 16, 3) := by decide +kernel
theorem d_g_set_15 : decode prog_2_method_3_code 15 = .ok (.aload_n 0, 1) := by decide +kernel
theorem d_g_set_16 : decode prog_2_method_3_code 16 = .ok (.iload 5, 2) := by decide +kernel
theorem d_g_set_18 : decode prog_2_method_3_code 18 = .ok (.putfield 19, 3) := by decide +kernel
theorem d_g_set_21 : decode prog_2_method_3_code 21 = .ok (.aload_n 0, 1) := by decide +kernel
theorem d_g_set_22 : decode prog_2_method_3_code 22 = .ok (.iconst 0, 1) := by decide +kernel
theorem d_g_set_23 : decode prog_2_method_3_code 23 = .ok (.putfield 23, 3) := by decide +kernel
theorem d_g_set_26 : decode prog_2_method_3_code 26 = .ok (.aload_n 0, 1) := by decide +kernel
theorem d_g_set_27 : decode prog_2_method_3_code 27 = .ok (.iload 6, 2) := by decide +kernel
theorem d_g_set_29 : decode prog_2_method_3_code 29 = .ok (.putfield 26, 3) := by decide +kernel
theorem d_g_set_32 : decode prog_2_method_3_code 32 = .ok (.return_, 1) := by decide +kernel
theorem d_g_sealed_0 : decode prog_2_method_4_code 0 = .ok (.aload_n 0, 1) := by decide +kernel
theorem d_g_sealed_1 : decode prog_2_method_4_code 1 = .ok (.getfield 23, 3) := by decide +kernel
theorem d_g_sealed_4 : decode prog_2_method_4_code 4 = .ok (.ifCond .eq 7, 3) := by decide +kernel
theorem d_g_sealed_7 : decode prog_2_method_4_code 7 = .ok (.iconst 1, 1) := by decide +kernel
theorem d_g_sealed_8 : decode prog_2_method_4_code 8 = .ok (.goto 4, 3) := by decide +kernel
theorem d_g_sealed_11 : decode prog_2_method_4_code 11 = .ok (.iconst 0, 1) := by decide +kernel
theorem d_g_sealed_12 : decode prog_2_method_4_code 12 = .ok (.ireturn, 1) := by decide +kernel
theorem d_g_may_0 : decode prog_2_method_5_code 0 = .ok (.aload_n 0, 1) := by decide +kernel
theorem d_g_may_1 : decode prog_2_method_5_code 1 = .ok (.getfield 19, 3) := by decide +kernel
theorem d_g_may_4 : decode prog_2_method_5_code 4 = .ok (.iload_n 1, 1) := by decide +kernel
theorem d_g_may_5 : decode prog_2_method_5_code 5 = .ok (.iand, 1) := by decide +kernel
theorem d_g_may_6 : decode prog_2_method_5_code 6 = .ok (.iload_n 1, 1) := by decide +kernel
theorem d_g_may_7 : decode prog_2_method_5_code 7 = .ok (.if_icmp .ne 7, 3) := by decide +kernel
theorem d_g_may_10 : decode prog_2_method_5_code 10 = .ok (.iconst 1, 1) := by decide +kernel
theorem d_g_may_11 : decode prog_2_method_5_code 11 = .ok (.goto 4, 3) := by decide +kernel
theorem d_g_may_14 : decode prog_2_method_5_code 14 = .ok (.iconst 0, 1) := by decide +kernel
theorem d_g_may_15 : decode prog_2_method_5_code 15 = .ok (.ireturn, 1) := by decide +kernel
theorem d_g_has_0 : decode prog_2_method_6_code 0 = .ok (.lload_n 1, 1) := by decide +kernel
theorem d_g_has_1 : decode prog_2_method_6_code 1 = .ok (.aload_n 0, 1) := by decide +kernel
theorem d_g_has_2 : decode prog_2_method_6_code 2 = .ok (.getfield 13, 3) := by decide +kernel
theorem d_g_has_5 : decode prog_2_method_6_code 5 = .ok (.lcmp, 1) := by decide +kernel
theorem d_g_has_6 : decode prog_2_method_6_code 6 = .ok (.ifCond .lt 19, 3) := by decide +kernel
theorem d_g_has_9 : decode prog_2_method_6_code 9 = .ok (.lload_n 1, 1) := by decide +kernel
theorem d_g_has_10 : decode prog_2_method_6_code 10 = .ok (.iload_n 3, 1) := by decide +kernel
theorem d_g_has_11 : decode prog_2_method_6_code 11 = .ok (.i2l, 1) := by decide +kernel
theorem d_g_has_12 : decode prog_2_method_6_code 12 = .ok (.ladd, 1) := by decide +kernel
theorem d_g_has_13 : decode prog_2_method_6_code 13 = .ok (.aload_n 0, 1) := by decide +kernel
theorem d_g_has_14 : decode prog_2_method_6_code 14 = .ok (.getfield 16, 3) := by decide +kernel
theorem d_g_has_17 : decode prog_2_method_6_code 17 = .ok (.lcmp, 1) := by decide +kernel
theorem d_g_has_18 : decode prog_2_method_6_code 18 = .ok (.ifCond .gt 7, 3) := by decide +kernel
theorem d_g_has_21 : decode prog_2_method_6_code 21 = .ok (.iconst 1, 1) := by decide +kernel
theorem d_g_has_22 : decode prog_2_method_6_code 22 = .ok (.goto 4, 3) := by decide +kernel
theorem d_g_has_25 : decode prog_2_method_6_code 25 = .ok (.iconst 0, 1) := by decide +kernel
theorem d_g_has_26 : decode prog_2_method_6_code 26 = .ok (.ireturn, 1) := by decide +kernel
theorem d_l_root_0 : decode method_3_code 0 = .ok (.aload_n 0, 1) := by decide +kernel
theorem d_l_root_1 : decode method_3_code 1 = .ok (.iload_n 1, 1) := by decide +kernel
theorem d_l_root_2 : decode method_3_code 2 = .ok (.iload_n 2, 1) := by decide +kernel
theorem d_l_root_3 : decode method_3_code 3 = .ok (.iload_n 3, 1) := by decide +kernel
theorem d_l_root_4 : decode method_3_code 4 = .ok (.iload 4, 2) := by decide +kernel
theorem d_l_root_6 : decode method_3_code 6 = .ok (.invokevirtual 7, 3) := by decide +kernel
theorem d_l_root_9 : decode method_3_code 9 = .ok (.goto 11, 3) := by decide +kernel
theorem d_l_root_12 : decode method_3_code 12 = .ok (.astore 5, 2) := by decide +kernel
theorem d_l_root_14 : decode method_3_code 14 = .ok (.iconst 1, 1) := by decide +kernel
theorem d_l_root_15 : decode method_3_code 15 = .ok (.ireturn, 1) := by decide +kernel
theorem d_l_root_16 : decode method_3_code 16 = .ok (.astore 5, 2) := by decide +kernel
theorem d_l_root_18 : decode method_3_code 18 = .ok (.iconst 2, 1) := by decide +kernel
theorem d_l_root_19 : decode method_3_code 19 = .ok (.ireturn, 1) := by decide +kernel
theorem d_l_root_20 : decode method_3_code 20 = .ok (.iconst 0, 1) := by decide +kernel
theorem d_l_root_21 : decode method_3_code 21 = .ok (.ireturn, 1) := by decide +kernel
theorem d_l_number_0 : decode method_4_code 0 = .ok (.aload_n 0, 1) := by decide +kernel
theorem d_l_number_1 : decode method_4_code 1 = .ok (.iload_n 1, 1) := by decide +kernel
theorem d_l_number_2 : decode method_4_code 2 = .ok (.iload_n 2, 1) := by decide +kernel
theorem d_l_number_3 : decode method_4_code 3 = .ok (.invokevirtual 17, 3) := by decide +kernel
theorem d_l_number_6 : decode method_4_code 6 = .ok (.goto 6, 3) := by decide +kernel
theorem d_l_number_9 : decode method_4_code 9 = .ok (.astore_n 3, 1) := by decide +kernel
theorem d_l_number_10 : decode method_4_code 10 = .ok (.iconst 1, 1) := by decide +kernel
theorem d_l_number_11 : decode method_4_code 11 = .ok (.ireturn, 1) := by decide +kernel
theorem d_l_number_12 : decode method_4_code 12 = .ok (.iconst 0, 1) := by decide +kernel
theorem d_l_number_13 : decode method_4_code 13 = .ok (.ireturn, 1) := by decide +kernel
theorem d_l_move_0 : decode method_5_code 0 = .ok (.aload_n 0, 1) := by decide +kernel
theorem d_l_move_1 : decode method_5_code 1 = .ok (.iload_n 1, 1) := by decide +kernel
theorem d_l_move_2 : decode method_5_code 2 = .ok (.iload_n 2, 1) := by decide +kernel
theorem d_l_move_3 : decode method_5_code 3 = .ok (.iload_n 3, 1) := by decide +kernel
theorem d_l_move_4 : decode method_5_code 4 = .ok (.invokevirtual 21, 3) := by decide +kernel
theorem d_l_move_7 : decode method_5_code 7 = .ok (.goto 7, 3) := by decide +kernel
theorem d_l_move_10 : decode method_5_code 10 = .ok (.astore 4, 2) := by decide +kernel
theorem d_l_move_12 : decode method_5_code 12 = .ok (.iconst 1, 1) := by decide +kernel
theorem d_l_move_13 : decode method_5_code 13 = .ok (.ireturn, 1) := by decide +kernel
theorem d_l_move_14 : decode method_5_code 14 = .ok (.iconst 0, 1) := by decide +kernel
theorem d_l_move_15 : decode method_5_code 15 = .ok (.ireturn, 1) := by decide +kernel
theorem d_l_narrow_0 : decode method_6_code 0 = .ok (.aload 4, 2) := by decide +kernel
theorem d_l_narrow_2 : decode method_6_code 2 = .ok (.iconst 0, 1) := by decide +kernel
theorem d_l_narrow_3 : decode method_6_code 3 = .ok (.aload_n 0, 1) := by decide +kernel
theorem d_l_narrow_4 : decode method_6_code 4 = .ok (.iload_n 1, 1) := by decide +kernel
theorem d_l_narrow_5 : decode method_6_code 5 = .ok (.iload_n 2, 1) := by decide +kernel
theorem d_l_narrow_6 : decode method_6_code 6 = .ok (.iload_n 3, 1) := by decide +kernel
theorem d_l_narrow_7 : decode method_6_code 7 = .ok (.invokevirtual 25, 3) := by decide +kernel
theorem d_l_narrow_10 : decode method_6_code 10 = .ok (.ifCond .eq 7, 3) := by decide +kernel
theorem d_l_narrow_13 : decode method_6_code 13 = .ok (.lconst 1, 1) := by decide +kernel
theorem d_l_narrow_14 : decode method_6_code 14 = .ok (.goto 4, 3) := by decide +kernel
theorem d_l_narrow_17 : decode method_6_code 17 = .ok (.lconst 0, 1) := by decide +kernel
theorem d_l_narrow_18 : decode method_6_code 18 = .ok (.lastore, 1) := by decide +kernel
theorem d_l_narrow_19 : decode method_6_code 19 = .ok (.goto 7, 3) := by decide +kernel
theorem d_l_narrow_22 : decode method_6_code 22 = .ok (.astore 5, 2) := by decide +kernel
theorem d_l_narrow_24 : decode method_6_code 24 = .ok (.iconst 1, 1) := by decide +kernel
theorem d_l_narrow_25 : decode method_6_code 25 = .ok (.ireturn, 1) := by decide +kernel
theorem d_l_narrow_26 : decode method_6_code 26 = .ok (.iconst 0, 1) := by decide +kernel
theorem d_l_narrow_27 : decode method_6_code 27 = .ok (.ireturn, 1) := by decide +kernel
theorem d_l_restrict_0 : decode method_7_code 0 = .ok (.aload 4, 2) := by decide +kernel
theorem d_l_restrict_2 : decode method_7_code 2 = .ok (.iconst 0, 1) := by decide +kernel
theorem d_l_restrict_3 : decode method_7_code 3 = .ok (.aload_n 0, 1) := by decide +kernel
theorem d_l_restrict_4 : decode method_7_code 4 = .ok (.iload_n 1, 1) := by decide +kernel
theorem d_l_restrict_5 : decode method_7_code 5 = .ok (.iload_n 2, 1) := by decide +kernel
theorem d_l_restrict_6 : decode method_7_code 6 = .ok (.iload_n 3, 1) := by decide +kernel
theorem d_l_restrict_7 : decode method_7_code 7 = .ok (.invokevirtual 29, 3) := by decide +kernel
theorem d_l_restrict_10 : decode method_7_code 10 = .ok (.ifCond .eq 7, 3) := by decide +kernel
theorem d_l_restrict_13 : decode method_7_code 13 = .ok (.lconst 1, 1) := by decide +kernel
theorem d_l_restrict_14 : decode method_7_code 14 = .ok (.goto 4, 3) := by decide +kernel
theorem d_l_restrict_17 : decode method_7_code 17 = .ok (.lconst 0, 1) := by decide +kernel
theorem d_l_restrict_18 : decode method_7_code 18 = .ok (.lastore, 1) := by decide +kernel
theorem d_l_restrict_19 : decode method_7_code 19 = .ok (.goto 7, 3) := by decide +kernel
theorem d_l_restrict_22 : decode method_7_code 22 = .ok (.astore 5, 2) := by decide +kernel
theorem d_l_restrict_24 : decode method_7_code 24 = .ok (.iconst 1, 1) := by decide +kernel
theorem d_l_restrict_25 : decode method_7_code 25 = .ok (.ireturn, 1) := by decide +kernel
theorem d_l_restrict_26 : decode method_7_code 26 = .ok (.iconst 0, 1) := by decide +kernel
theorem d_l_restrict_27 : decode method_7_code 27 = .ok (.ireturn, 1) := by decide +kernel
theorem d_l_seal_0 : decode method_8_code 0 = .ok (.aload 4, 2) := by decide +kernel
theorem d_l_seal_2 : decode method_8_code 2 = .ok (.iconst 0, 1) := by decide +kernel
theorem d_l_seal_3 : decode method_8_code 3 = .ok (.aload_n 0, 1) := by decide +kernel
theorem d_l_seal_4 : decode method_8_code 4 = .ok (.iload_n 1, 1) := by decide +kernel
theorem d_l_seal_5 : decode method_8_code 5 = .ok (.iload_n 2, 1) := by decide +kernel
theorem d_l_seal_6 : decode method_8_code 6 = .ok (.iload_n 3, 1) := by decide +kernel
theorem d_l_seal_7 : decode method_8_code 7 = .ok (.invokevirtual 32, 3) := by decide +kernel
theorem d_l_seal_10 : decode method_8_code 10 = .ok (.i2l, 1) := by decide +kernel
theorem d_l_seal_11 : decode method_8_code 11 = .ok (.lastore, 1) := by decide +kernel
theorem d_l_seal_12 : decode method_8_code 12 = .ok (.goto 7, 3) := by decide +kernel
theorem d_l_seal_15 : decode method_8_code 15 = .ok (.astore 5, 2) := by decide +kernel
theorem d_l_seal_17 : decode method_8_code 17 = .ok (.iconst 1, 1) := by decide +kernel
theorem d_l_seal_18 : decode method_8_code 18 = .ok (.ireturn, 1) := by decide +kernel
theorem d_l_seal_19 : decode method_8_code 19 = .ok (.iconst 0, 1) := by decide +kernel
theorem d_l_seal_20 : decode method_8_code 20 = .ok (.ireturn, 1) := by decide +kernel
theorem d_l_unseal_0 : decode method_9_code 0 = .ok (.aload 4, 2) := by decide +kernel
theorem d_l_unseal_2 : decode method_9_code 2 = .ok (.iconst 0, 1) := by decide +kernel
theorem d_l_unseal_3 : decode method_9_code 3 = .ok (.aload_n 0, 1) := by decide +kernel
theorem d_l_unseal_4 : decode method_9_code 4 = .ok (.iload_n 1, 1) := by decide +kernel
theorem d_l_unseal_5 : decode method_9_code 5 = .ok (.iload_n 2, 1) := by decide +kernel
theorem d_l_unseal_6 : decode method_9_code 6 = .ok (.iload_n 3, 1) := by decide +kernel
theorem d_l_unseal_7 : decode method_9_code 7 = .ok (.invokevirtual 36, 3) := by decide +kernel
theorem d_l_unseal_10 : decode method_9_code 10 = .ok (.i2l, 1) := by decide +kernel
theorem d_l_unseal_11 : decode method_9_code 11 = .ok (.lastore, 1) := by decide +kernel
theorem d_l_unseal_12 : decode method_9_code 12 = .ok (.goto 7, 3) := by decide +kernel
theorem d_l_unseal_15 : decode method_9_code 15 = .ok (.astore 5, 2) := by decide +kernel
theorem d_l_unseal_17 : decode method_9_code 17 = .ok (.iconst 1, 1) := by decide +kernel
theorem d_l_unseal_18 : decode method_9_code 18 = .ok (.ireturn, 1) := by decide +kernel
theorem d_l_unseal_19 : decode method_9_code 19 = .ok (.iconst 0, 1) := by decide +kernel
theorem d_l_unseal_20 : decode method_9_code 20 = .ok (.ireturn, 1) := by decide +kernel
theorem d_l_allows_0 : decode method_10_code 0 = .ok (.aload 5, 2) := by decide +kernel
theorem d_l_allows_2 : decode method_10_code 2 = .ok (.iconst 0, 1) := by decide +kernel
theorem d_l_allows_3 : decode method_10_code 3 = .ok (.aload_n 0, 1) := by decide +kernel
theorem d_l_allows_4 : decode method_10_code 4 = .ok (.iload_n 1, 1) := by decide +kernel
theorem d_l_allows_5 : decode method_10_code 5 = .ok (.iload_n 2, 1) := by decide +kernel
theorem d_l_allows_6 : decode method_10_code 6 = .ok (.iload_n 3, 1) := by decide +kernel
theorem d_l_allows_7 : decode method_10_code 7 = .ok (.iload 4, 2) := by decide +kernel
theorem d_l_allows_9 : decode method_10_code 9 = .ok (.invokevirtual 39, 3) := by decide +kernel
theorem d_l_allows_12 : decode method_10_code 12 = .ok (.i2l, 1) := by decide +kernel
theorem d_l_allows_13 : decode method_10_code 13 = .ok (.lastore, 1) := by decide +kernel
theorem d_l_allows_14 : decode method_10_code 14 = .ok (.goto 11, 3) := by decide +kernel
theorem d_l_allows_17 : decode method_10_code 17 = .ok (.astore 6, 2) := by decide +kernel
theorem d_l_allows_19 : decode method_10_code 19 = .ok (.iconst 1, 1) := by decide +kernel
theorem d_l_allows_20 : decode method_10_code 20 = .ok (.ireturn, 1) := by decide +kernel
theorem d_l_allows_21 : decode method_10_code 21 = .ok (.astore 6, 2) := by decide +kernel
theorem d_l_allows_23 : decode method_10_code 23 = .ok (.iconst 2, 1) := by decide +kernel
theorem d_l_allows_24 : decode method_10_code 24 = .ok (.ireturn, 1) := by decide +kernel
theorem d_l_allows_25 : decode method_10_code 25 = .ok (.iconst 0, 1) := by decide +kernel
theorem d_l_allows_26 : decode method_10_code 26 = .ok (.ireturn, 1) := by decide +kernel
theorem d_l_within_0 : decode method_11_code 0 = .ok (.aload_n 3, 1) := by decide +kernel
theorem d_l_within_1 : decode method_11_code 1 = .ok (.iconst 0, 1) := by decide +kernel
theorem d_l_within_2 : decode method_11_code 2 = .ok (.aload_n 0, 1) := by decide +kernel
theorem d_l_within_3 : decode method_11_code 3 = .ok (.iload_n 1, 1) := by decide +kernel
theorem d_l_within_4 : decode method_11_code 4 = .ok (.iload_n 2, 1) := by decide +kernel
theorem d_l_within_5 : decode method_11_code 5 = .ok (.invokevirtual 43, 3) := by decide +kernel
theorem d_l_within_8 : decode method_11_code 8 = .ok (.ifCond .eq 7, 3) := by decide +kernel
theorem d_l_within_11 : decode method_11_code 11 = .ok (.lconst 1, 1) := by decide +kernel
theorem d_l_within_12 : decode method_11_code 12 = .ok (.goto 4, 3) := by decide +kernel
theorem d_l_within_15 : decode method_11_code 15 = .ok (.lconst 0, 1) := by decide +kernel
theorem d_l_within_16 : decode method_11_code 16 = .ok (.lastore, 1) := by decide +kernel
theorem d_l_within_17 : decode method_11_code 17 = .ok (.goto 7, 3) := by decide +kernel
theorem d_l_within_20 : decode method_11_code 20 = .ok (.astore 4, 2) := by decide +kernel
theorem d_l_within_22 : decode method_11_code 22 = .ok (.iconst 1, 1) := by decide +kernel
theorem d_l_within_23 : decode method_11_code 23 = .ok (.ireturn, 1) := by decide +kernel
theorem d_l_within_24 : decode method_11_code 24 = .ok (.iconst 0, 1) := by decide +kernel
theorem d_l_within_25 : decode method_11_code 25 = .ok (.ireturn, 1) := by decide +kernel
theorem d_l_part_0 : decode method_12_code 0 = .ok (.aload_n 3, 1) := by decide +kernel
theorem d_l_part_1 : decode method_12_code 1 = .ok (.iconst 0, 1) := by decide +kernel
theorem d_l_part_2 : decode method_12_code 2 = .ok (.aload_n 0, 1) := by decide +kernel
theorem d_l_part_3 : decode method_12_code 3 = .ok (.iload_n 1, 1) := by decide +kernel
theorem d_l_part_4 : decode method_12_code 4 = .ok (.iload_n 2, 1) := by decide +kernel
theorem d_l_part_5 : decode method_12_code 5 = .ok (.invokevirtual 47, 3) := by decide +kernel
theorem d_l_part_8 : decode method_12_code 8 = .ok (.i2l, 1) := by decide +kernel
theorem d_l_part_9 : decode method_12_code 9 = .ok (.lastore, 1) := by decide +kernel
theorem d_l_part_10 : decode method_12_code 10 = .ok (.goto 11, 3) := by decide +kernel
theorem d_l_part_13 : decode method_12_code 13 = .ok (.astore 4, 2) := by decide +kernel
theorem d_l_part_15 : decode method_12_code 15 = .ok (.iconst 1, 1) := by decide +kernel
theorem d_l_part_16 : decode method_12_code 16 = .ok (.ireturn, 1) := by decide +kernel
theorem d_l_part_17 : decode method_12_code 17 = .ok (.astore 4, 2) := by decide +kernel
theorem d_l_part_19 : decode method_12_code 19 = .ok (.iconst 2, 1) := by decide +kernel
theorem d_l_part_20 : decode method_12_code 20 = .ok (.ireturn, 1) := by decide +kernel
theorem d_l_part_21 : decode method_12_code 21 = .ok (.iconst 0, 1) := by decide +kernel
theorem d_l_part_22 : decode method_12_code 22 = .ok (.ireturn, 1) := by decide +kernel
end
section
/-! Plain numbers: what the machine's ints and longs are as natural numbers; the operations of the system as functions of a grant. (bt, b_ext, b_and, s_l, b_sshr, nx_and, uN.. began as rows of laws/BITS.to-paste) -/
section GmP
def bt (x : Int32) (i : Nat) : Bool := x.toBitVec.getLsbD i
theorem b_ext {x y : Int32} (h : ∀ i, i < 32 → bt x i = bt y i) : x = y := Int32.toBitVec_inj.mp (BitVec.eq_of_getLsbD_eq (fun i hi => h i hi))
theorem b_and (x y : Int32) (i : Nat) : bt (x &&& y) i = (bt x i && bt y i) := by unfold bt; rw [Int32.toBitVec_and, BitVec.getLsbD_and]
theorem s_l : ∀ n, n < 32 → ((nI n &&& 31).toBitVec.smod 32).toNat = n := by decide +kernel
theorem b_sshr (n : Nat) (hn : n < 32) (x : Int32) {i : Nat} (hi : i < 32) : bt (x >>> (nI n &&& 31)) i = if n + i < 32 then bt x (n + i) else bt x 31 := by
  unfold bt
  rw [Int32.toBitVec_shiftRight]
  show (x.toBitVec.sshiftRight ((nI n &&& 31).toBitVec.smod 32).toNat).getLsbD i = _
  rw [s_l n hn, BitVec.getLsbD_sshiftRight, BitVec.msb_eq_getLsbD_last]
  simp [hi]
theorem nx_and (a b : Nat) : nI a &&& nI b = nI (a &&& b) := by
  apply Int32.toBitVec_inj.1
  show BitVec.ofNat 32 a &&& BitVec.ofNat 32 b = BitVec.ofNat 32 (a &&& b)
  apply BitVec.eq_of_getLsbD_eq
  intro i hi
  simp [hi]
def uN (x : Int64) : Nat := x.toUInt64.toNat
theorem uN_lt (x : Int64) : uN x < 18446744073709551616 := x.toUInt64.toNat_lt
theorem uN_inj {x y : Int64} (h : uN x = uN y) : x = y := congrArg UInt64.toInt64 (UInt64.toNat_inj.mp h)
theorem uN_add (x y : Int64) : uN (x + y) = (uN x + uN y) % 18446744073709551616 := by
  show (x.toUInt64 + y.toUInt64).toNat = _
  exact UInt64.toNat_add _ _
theorem uN_lo (x : Int64) : uN (x &&& 4294967295) = uN x % 4294967296 := by
  show (x.toUInt64 &&& Int64.toUInt64 4294967295).toNat = _
  rw [UInt64.toNat_and]
  exact Nat.and_two_pow_sub_one_eq_mod _ 32
theorem uN_int (x : Int64) : x.toInt = if 2 * uN x < 18446744073709551616 then (uN x : Int) else (uN x : Int) - 18446744073709551616 := BitVec.toInt_eq_toNat_cond _
theorem uN_N {n : Nat} (h : n < 18446744073709551616) : uN (lN n) = n := by
  show (BitVec.ofNat 64 n).toNat = n
  rw [BitVec.toNat_ofNat, Nat.mod_eq_of_lt h]
/-- an int as a number without sign -/
def uw (v : Int32) : Nat := v.toBitVec.toNat
theorem uw_lt (v : Int32) : uw v < 4294967296 := v.toBitVec.isLt
theorem uw_int (v : Int32) : v.toInt = if 2 * uw v < 4294967296 then (uw v : Int) else (uw v : Int) - 4294967296 := BitVec.toInt_eq_toNat_cond _
theorem uw_N {n : Nat} (h : n < 4294967296) : uw (nI n) = n := by
  show (BitVec.ofNat 32 n).toNat = n
  rw [BitVec.toNat_ofNat, Nat.mod_eq_of_lt h]
theorem nI_uw (v : Int32) : nI (uw v) = v := by
  apply Int32.toBitVec_inj.1
  show BitVec.ofNat 32 v.toBitVec.toNat = v.toBitVec
  simp
theorem uN_i (v : Int32) : uN v.toInt64 = if 2 * uw v < 4294967296 then uw v else uw v + 18446744069414584320 := by
  have h1 := uN_int v.toInt64
  rw [Int32.toInt_toInt64, uw_int] at h1
  have h2 := uw_lt v
  have h3 := uN_lt v.toInt64
  split at h1 <;> split at h1 <;> split <;> omega
theorem u1 (v : Int32) : v.toInt64 &&& 4294967295 = lN (uw v) := by
  have h2 := uw_lt v
  apply uN_inj
  rw [uN_lo, uN_i, uN_N (by omega)]
  split <;> omega
theorem u2 {a : Nat} (ha : a < 4294967296) (n : Int32) : (lN a + n.toInt64) &&& 4294967295 = lN ((a + uw n) % 4294967296) := by
  have h2 := uw_lt n
  apply uN_inj
  rw [uN_lo, uN_add, uN_N (by omega), uN_i, uN_N (by omega)]
  split <;> omega
theorem u3 {a : Nat} (ha : a < 18446744073709551616) : lN a &&& 4294967295 = lN (a % 4294967296) := by
  apply uN_inj
  rw [uN_lo, uN_N ha, uN_N (by omega)]
theorem u_div (v : Int32) : v.toInt64 / 4294967296 = 0 := by
  apply Int64.toInt_inj.mp
  have h1 := uw_int v
  have h2 := uw_lt v
  have h3 : (v.toInt64).toInt = v.toInt := Int32.toInt_toInt64 v
  have h4 : (4294967296 : Int64).toInt = 4294967296 := by decide
  rw [Int64.toInt_div, h3, h4]
  have h5 : v.toInt.tdiv 4294967296 = 0 := by
    rcases Int.le_total 0 v.toInt with h | h
    · rw [Int.tdiv_eq_ediv_of_nonneg h]
      split at h1 <;> omega
    · have : v.toInt = -(-v.toInt) := by omega
      rw [this, Int.neg_tdiv, Int.tdiv_eq_ediv_of_nonneg (by omega)]
      split at h1 <;> omega
  rw [h5]
  decide
theorem u4 (v : Int32) : (v.toInt64 - v.toInt64 / 4294967296 * 4294967296 + 4294967296) - (v.toInt64 - v.toInt64 / 4294967296 * 4294967296 + 4294967296) / 4294967296 * 4294967296 = lN (uw v) := by
  rw [u_div]
  have h2 := uw_lt v
  have e0 : v.toInt64 - 0 * 4294967296 = v.toInt64 := by
    rw [show (0 : Int64) * 4294967296 = 0 from by decide, Int64.sub_zero]
  rw [e0]
  have e1 : v.toInt64 + 4294967296 = lN (if 2 * uw v < 4294967296 then uw v + 4294967296 else uw v) := by
    apply uN_inj
    rw [uN_add, uN_i, show uN 4294967296 = 4294967296 from by decide, uN_N (by split <;> omega)]
    split <;> omega
  rw [e1, show (4294967296 : Int64) = lN 4294967296 from by decide, pk_lRem (by split <;> omega) (by decide) (by decide)]
  congr 1
  split <;> omega
theorem u5 {a : Nat} (ha : a < 9223372036854775808) : lN a - lN a / 4294967296 * 4294967296 = lN (a % 4294967296) := by
  rw [show (4294967296 : Int64) = lN 4294967296 from by decide, pk_lRem (by omega) (by decide) (by decide)]
theorem lc_lt {a b : Nat} (ha : a < 9223372036854775808) (hb : b < 9223372036854775808) : lg_cmp (lN a) (lN b) < 0 ↔ a < b := by rw [lg_cmp_lt, pk_lLT (by omega) (by omega)]
theorem lc_gt {a b : Nat} (ha : a < 9223372036854775808) (hb : b < 9223372036854775808) : 0 < lg_cmp (lN a) (lN b) ↔ b < a := by rw [lg_cmp_gt, pk_lLT (by omega) (by omega)]
theorem lc_le {a b : Nat} (ha : a < 9223372036854775808) (hb : b < 9223372036854775808) : lg_cmp (lN a) (lN b) ≤ 0 ↔ a ≤ b := by rw [lg_cmp_le, pk_lLE (by omega) (by omega)]
theorem lc_eq {a b : Nat} (ha : a < 9223372036854775808) (hb : b < 9223372036854775808) : lg_cmp (lN a) (lN b) = 0 ↔ a = b := by rw [lg_cmp_eq, pk_lEQ (by omega) (by omega)]
/-- what holds of every grant -/
def gok (r : Gr) : Prop := qa r < 4294967296 ∧ qb r < 4294967296 ∧ qt r < 4294967296 ∧ qp r < 256 ∧ qy r < 65536
def okr (r : Int32) : Bool := decide (0 ≤ r.toInt) && decide (r.toInt < 16)
theorem okr_N {j : Nat} (h : j < 16) : okr (nI j) = true := by
  unfold okr
  rw [nI_toInt (by omega)]
  simp
  omega
theorem okr_of {r : Int32} (h : okr r = true) : ∃ j, j < 16 ∧ r = nI j := by
  unfold okr at h
  simp only [Bool.and_eq_true, decide_eq_true_eq] at h
  refine ⟨r.toInt.toNat, by omega, ?_⟩
  apply Int32.toInt_inj.mp
  rw [nI_toInt (by omega)]
  omega
theorem okr_no {r : Int32} (h : okr r = false) : r < 0 ∨ ¬ r < 16 := by
  unfold okr at h
  simp only [Bool.and_eq_false_iff, decide_eq_false_iff_not] at h
  rw [Int32.lt_iff_toInt_lt, Int32.lt_iff_toInt_lt, show (16 : Int32).toInt = 16 from by decide, show (0 : Int32).toInt = 0 from by decide]
  omega
theorem okr_64 (r : Int32) : (decide ((0 : Int64) ≤ r.toInt64) && decide (r.toInt64 ≤ 15)) = okr r := by
  unfold okr
  have h3 : (r.toInt64).toInt = r.toInt := Int32.toInt_toInt64 r
  have e1 : ((0 : Int64) ≤ r.toInt64) ↔ 0 ≤ r.toInt := by rw [Int64.le_iff_toInt_le, h3]; exact Iff.rfl
  have e2 : (r.toInt64 ≤ 15) ↔ r.toInt < 16 := by rw [Int64.le_iff_toInt_le, h3, show (15 : Int64).toInt = 15 from by decide]; omega
  rw [decide_eq_decide.mpr e1, decide_eq_decide.mpr e2]
/-- does a grant of the permissions p allow all of q -/
def mayB (p : Nat) (q : Int32) : Bool := decide (nI p &&& q = q)
def hasB (r : Gr) (a n : Nat) : Bool := decide (qb r ≤ a) && decide (a + n ≤ qt r)
def cz (a b c d : Bool) : Int32 := if a then (if b then (if c then (if d then 0 else 4) else 3) else 2) else 1
def mv (r : Gr) (n : Int32) : Gr := ((qa r + uw n) % 4294967296, qb r, qt r, qp r, qy r, qg r && !(decide (qy r ≠ 0) && decide (n ≠ 0)))
def nw (r : Gr) (n : Int32) : Gr := (qa r, qa r, (qa r + uw n) % 4294967296, qp r, qy r, qg r && decide (qy r = 0) && decide (qb r ≤ qa r) && decide (qa r ≤ qt r) && decide (qa r + uw n ≤ qt r))
def rc (r : Gr) (k : Int32) : Gr := (qa r, qb r, qt r, qp r &&& uw k, qy r, qg r && !(decide (qy r ≠ 0) && decide (qp r &&& uw k ≠ qp r)))
def slC (r b : Gr) : Int32 := cz (qg r && qg b) (decide (qy r = 0) && decide (qy b = 0)) (mayB (qp b) 32) (hasB b (qa b) 1 && decide (0 < qa b) && decide (qa b ≤ 65535))
def usC (r b : Gr) : Int32 := cz (qg r && qg b) (decide (qy r ≠ 0) && decide (qy b = 0)) (mayB (qp b) 64) (hasB b (qa b) 1 && decide (qa b = qy r))
def alC (r : Gr) (n : Int32) (k : Nat) (q : Int32) : Int32 := cz (qg r) (decide (qy r = 0)) (mayB (qp r) q) (hasB r ((qa r + uw n) % 4294967296) k)
def wiB (r b : Gr) : Bool := qg r && qg b && decide (qb b ≤ qb r) && decide (qt r ≤ qt b) && mayB (qp b) (nI (qp r))
def cnB (r : Gr) (a : Int32) (q : Int32) : Bool := qg r && decide (qy r = 0) && mayB (qp r) q && hasB r (uw a) 1
def cnt (S : Nat → Gr) (a q : Int32) : Nat → Nat
  | 0 => 0
  | k + 1 => cnt S a q k + (if cnB (S k) a q then 1 else 0)
theorem cnt_le (S : Nat → Gr) (a q : Int32) (k : Nat) : cnt S a q k ≤ k := by
  induction k with
  | zero => exact Nat.le_refl _
  | succ k ih => unfold cnt; split <;> omega
theorem cnt_eq {S S' : Nat → Gr} (a q : Int32) {k : Nat} (h : ∀ j, j < k → S j = S' j) : cnt S a q k = cnt S' a q k := by
  induction k with
  | zero => rfl
  | succ k ih => unfold cnt; rw [ih (fun j hj => h j (by omega)), h k (by omega)]
theorem cz_0 {a b c d : Bool} : cz a b c d = 0 ↔ (a && b && c && d) = true := by cases a <;> cases b <;> cases c <;> cases d <;> decide
theorem sh_bit (x : Int32) {k : Nat} (hk : k < 32) : (x >>> (nI k &&& 31)) &&& 1 = bi ((uw x).testBit k) := by
  apply b_ext
  intro i hi
  rw [b_and, b_sshr k hk x hi]
  have h1 : ∀ i, i < 32 → bt 1 i = decide (i = 0) := by decide +kernel
  rw [h1 i hi]
  have h2 : bt x k = (uw x).testBit k := rfl
  by_cases h0 : i = 0
  · subst h0
    rw [← h2]
    simp only [Nat.add_zero, hk, if_true, decide_true, Bool.and_true]
    cases bt x k <;> decide
  · simp only [h0, decide_false, Bool.and_false]
    have h3 : ∀ b : Bool, ∀ i, i < 32 → i ≠ 0 → bt (bi b) i = false := by decide +kernel
    exact (h3 _ i hi h0).symm
theorem may_iff (p : Nat) (hp : p < 256) (q : Int32) : mayB p q = true ↔ ∀ k, k < 32 → (uw q).testBit k = true → p.testBit k = true := by
  unfold mayB
  rw [decide_eq_true_eq]
  have hb : ∀ k, k < 32 → bt (nI p) k = p.testBit k := fun k hk => by
    show (nI p).toBitVec.toNat.testBit k = _
    rw [show (nI p).toBitVec.toNat = uw (nI p) from rfl, uw_N (by omega)]
  constructor
  · intro h k hk hq
    have h1 := congrArg (fun z => bt z k) h
    simp only [b_and, hb k hk] at h1
    have h2 : bt q k = true := hq
    rw [h2] at h1
    simpa using h1
  · intro h
    apply b_ext
    intro k hk
    rw [b_and, hb k hk]
    cases hq : bt q k with
    | false => simp
    | true => rw [h k hk hq]; rfl
theorem and_lt {p : Nat} (hp : p < 256) (k : Int32) : p &&& uw k < 256 := Nat.lt_of_le_of_lt Nat.and_le_left hp
theorem iand_N (p : Nat) (k : Int32) : nI p &&& k = nI (p &&& uw k) := by
  have h := nx_and p (uw k)
  rw [nI_uw] at h
  exact h
theorem pw_N : ∀ k, k < 8 → (1 : Int32) <<< (nI k &&& 31) = nI (2 ^ k) := by decide +kernel
theorem mod_s (x k : Nat) : x % 2 ^ (k + 1) = x % 2 ^ k + (if x.testBit k then 2 ^ k else 0) := by
  rw [Nat.mod_pow_succ]
  congr 1
  have h : x / 2 ^ k % 2 = (x.testBit k).toNat := by rw [Nat.testBit_eq_decide_div_mod_eq]; rcases Nat.mod_two_eq_zero_or_one (x / 2 ^ k) with h | h <;> simp [h]
  rw [h]
  cases x.testBit k <;> simp
theorem gok_mv {r : Gr} (h : gok r) (n : Int32) : gok (mv r n) := ⟨Nat.mod_lt _ (by decide), h.2.1, h.2.2.1, h.2.2.2.1, h.2.2.2.2⟩
theorem gok_nw {r : Gr} (h : gok r) (n : Int32) : gok (nw r n) := ⟨h.1, h.1, Nat.mod_lt _ (by decide), h.2.2.2.1, h.2.2.2.2⟩
theorem gok_rc {r : Gr} (h : gok r) (n : Int32) : gok (rc r n) := ⟨h.1, h.2.1, h.2.2.1, and_lt h.2.2.2.1 n, h.2.2.2.2⟩
end GmP
end
section
/-! Contracts of GrantMath$Grant, and of cause, good and grant of GrantMath (printed by gen/m_g.py) -/
theorem vw_g_has : Vw "GrantMath$Grant" y_g_has 4 2 := ⟨⟨fun _ _ h => CD.of (h _ gw_80), gw_10, by decide, by decide +kernel⟩, gw_78, gw_79⟩
theorem vw_g_may : Vw "GrantMath$Grant" y_g_may 2 1 := ⟨⟨fun _ _ h => CD.of (h _ gw_75), gw_10, by decide, by decide +kernel⟩, gw_73, gw_74⟩
theorem vw_g_sealed : Vw "GrantMath$Grant" y_g_sealed 1 0 := ⟨⟨fun _ _ h => CD.of (h _ gw_71), gw_10, by decide, by decide +kernel⟩, gw_69, gw_70⟩
theorem vw_g_set : Vw "GrantMath$Grant" y_g_set 7 4 := ⟨⟨fun _ _ h => CD.of (h _ gw_178), gw_10, by decide, by decide +kernel⟩, gw_176, gw_177⟩
theorem vw_g_take : Vw "GrantMath$Grant" y_g_take 2 1 := ⟨⟨fun _ _ h => CD.of (h _ gw_196), gw_10, by decide, by decide +kernel⟩, gw_194, gw_195⟩
theorem sw_l_allows : Sw y_l_allows 7 6 := ⟨⟨fun _ _ h => CD.ofWith (h _ gw_228), gw_8, by decide, by decide +kernel⟩, gw_227⟩
theorem sw_l_move : Sw y_l_move 5 4 := ⟨⟨fun _ _ h => CD.ofWith (h _ gw_188), gw_8, by decide, by decide +kernel⟩, gw_187⟩
theorem sw_l_narrow : Sw y_l_narrow 6 5 := ⟨⟨fun _ _ h => CD.ofWith (h _ gw_199), gw_8, by decide, by decide +kernel⟩, gw_198⟩
theorem sw_l_number : Sw y_l_number 4 3 := ⟨⟨fun _ _ h => CD.ofWith (h _ gw_181), gw_8, by decide, by decide +kernel⟩, gw_180⟩
theorem sw_l_part : Sw y_l_part 5 4 := ⟨⟨fun _ _ h => CD.ofWith (h _ gw_243), gw_8, by decide, by decide +kernel⟩, gw_242⟩
theorem sw_l_restrict : Sw y_l_restrict 6 5 := ⟨⟨fun _ _ h => CD.ofWith (h _ gw_206), gw_8, by decide, by decide +kernel⟩, gw_205⟩
theorem sw_l_root : Sw y_l_root 6 5 := ⟨⟨fun _ _ h => CD.ofWith (h _ gw_86), gw_8, by decide, by decide +kernel⟩, gw_85⟩
theorem sw_l_seal : Sw y_l_seal 6 5 := ⟨⟨fun _ _ h => CD.ofWith (h _ gw_213), gw_8, by decide, by decide +kernel⟩, gw_212⟩
theorem sw_l_unseal : Sw y_l_unseal 6 5 := ⟨⟨fun _ _ h => CD.ofWith (h _ gw_221), gw_8, by decide, by decide +kernel⟩, gw_220⟩
theorem sw_l_within : Sw y_l_within 5 4 := ⟨⟨fun _ _ h => CD.ofWith (h _ gw_236), gw_8, by decide, by decide +kernel⟩, gw_235⟩
theorem vw_m_allows : Vw "GrantMathModel" y_m_allows 5 4 := ⟨⟨fun _ _ h => CD.of (h _ gw_347), gw_11, by decide, by decide +kernel⟩, gw_345, gw_346⟩
theorem vw_m_count : Vw "GrantMathModel" y_m_count 5 2 := ⟨⟨fun _ _ h => CD.of (h _ gw_361), gw_11, by decide, by decide +kernel⟩, gw_359, gw_360⟩
theorem vw_m_fails : Vw "GrantMathModel" y_m_fails 3 2 := ⟨⟨fun _ _ h => CD.of (h _ gw_298), gw_11, by decide, by decide +kernel⟩, gw_297, gw_3⟩
theorem vw_m_give : Vw "GrantMathModel" y_m_give 11 7 := ⟨⟨fun _ _ h => CD.of (h _ gw_306), gw_11, by decide, by decide +kernel⟩, gw_305, gw_4⟩
theorem vw_m_holds : Vw "GrantMathModel" y_m_holds 9 3 := ⟨⟨fun _ _ h => CD.of (h _ gw_338), gw_11, by decide, by decide +kernel⟩, gw_337, gw_7⟩
theorem sw_m_in : Sw y_m_in 6 3 := ⟨⟨fun _ _ h => CD.of (h _ gw_294), gw_11, by decide, by decide +kernel⟩, gw_293⟩
theorem sw_m_is : Sw y_m_is 1 1 := ⟨⟨fun _ _ h => CD.of (h _ gw_301), gw_11, by decide, by decide +kernel⟩, gw_300⟩
theorem vw_m_isSealed : Vw "GrantMathModel" y_m_isSealed 2 1 := ⟨⟨fun _ _ h => CD.of (h _ gw_318), gw_11, by decide, by decide +kernel⟩, gw_317, gw_5⟩
theorem vw_m_may : Vw "GrantMathModel" y_m_may 4 2 := ⟨⟨fun _ _ h => CD.of (h _ gw_334), gw_11, by decide, by decide +kernel⟩, gw_333, gw_6⟩
theorem vw_m_move : Vw "GrantMathModel" y_m_move 4 3 := ⟨⟨fun _ _ h => CD.of (h _ gw_314), gw_11, by decide, by decide +kernel⟩, gw_312, gw_313⟩
theorem vw_m_narrow : Vw "GrantMathModel" y_m_narrow 8 3 := ⟨⟨fun _ _ h => CD.of (h _ gw_322), gw_11, by decide, by decide +kernel⟩, gw_320, gw_321⟩
theorem vw_m_number : Vw "GrantMathModel" y_m_number 3 2 := ⟨⟨fun _ _ h => CD.of (h _ gw_310), gw_11, by decide, by decide +kernel⟩, gw_308, gw_309⟩
theorem vw_m_part : Vw "GrantMathModel" y_m_part 3 2 := ⟨⟨fun _ _ h => CD.of (h _ gw_356), gw_11, by decide, by decide +kernel⟩, gw_354, gw_355⟩
theorem vw_m_restrict : Vw "GrantMathModel" y_m_restrict 6 3 := ⟨⟨fun _ _ h => CD.of (h _ gw_326), gw_11, by decide, by decide +kernel⟩, gw_324, gw_325⟩
theorem vw_m_root : Vw "GrantMathModel" y_m_root 5 4 := ⟨⟨fun _ _ h => CD.of (h _ gw_286), gw_11, by decide, by decide +kernel⟩, gw_284, gw_285⟩
theorem vw_m_seal : Vw "GrantMathModel" y_m_seal 4 3 := ⟨⟨fun _ _ h => CD.of (h _ gw_330), gw_11, by decide, by decide +kernel⟩, gw_328, gw_329⟩
theorem vw_m_thrown : Vw "GrantMathModel" y_m_thrown 1 0 := ⟨⟨fun _ _ h => CD.of (h _ gw_282), gw_11, by decide, by decide +kernel⟩, gw_280, gw_281⟩
theorem vw_m_unseal : Vw "GrantMathModel" y_m_unseal 4 3 := ⟨⟨fun _ _ h => CD.of (h _ gw_343), gw_11, by decide, by decide +kernel⟩, gw_341, gw_342⟩
theorem sw_m_wide : Sw y_m_wide 1 1 := ⟨⟨fun _ _ h => CD.of (h _ gw_289), gw_11, by decide, by decide +kernel⟩, gw_288⟩
theorem vw_m_within : Vw "GrantMathModel" y_m_within 3 2 := ⟨⟨fun _ _ h => CD.of (h _ gw_352), gw_11, by decide, by decide +kernel⟩, gw_350, gw_351⟩
theorem vw_x_allows : Vw "GrantMath" y_x_allows 6 4 := ⟨⟨fun _ _ h => CD.of (h _ gw_232), gw_9, by decide, by decide +kernel⟩, gw_230, gw_231⟩
theorem sw_x_cause : Sw y_x_cause 4 4 := ⟨⟨fun _ _ h => CD.of (h _ gw_83), gw_9, by decide, by decide +kernel⟩, gw_82⟩
theorem vw_x_count : Vw "GrantMath" y_x_count 5 2 := ⟨⟨fun _ _ h => CD.of (h _ gw_67), gw_9, by decide, by decide +kernel⟩, gw_65, gw_66⟩
theorem sw_x_good : Sw y_x_good 1 1 := ⟨⟨fun _ _ h => CD.of (h _ gw_95), gw_9, by decide, by decide +kernel⟩, gw_94⟩
theorem vw_x_grant : Vw "GrantMath" y_x_grant 2 1 := ⟨⟨fun _ _ h => CD.of (h _ gw_159), gw_9, by decide, by decide +kernel⟩, gw_158, gw_2⟩
theorem vw_x_move : Vw "GrantMath" y_x_move 5 3 := ⟨⟨fun _ _ h => CD.of (h _ gw_192), gw_9, by decide, by decide +kernel⟩, gw_190, gw_191⟩
theorem vw_x_narrow : Vw "GrantMath" y_x_narrow 8 3 := ⟨⟨fun _ _ h => CD.of (h _ gw_203), gw_9, by decide, by decide +kernel⟩, gw_201, gw_202⟩
theorem vw_x_number : Vw "GrantMath" y_x_number 4 2 := ⟨⟨fun _ _ h => CD.of (h _ gw_185), gw_9, by decide, by decide +kernel⟩, gw_183, gw_184⟩
theorem vw_x_part : Vw "GrantMath" y_x_part 4 2 := ⟨⟨fun _ _ h => CD.of (h _ gw_247), gw_9, by decide, by decide +kernel⟩, gw_245, gw_246⟩
theorem vw_x_restrict : Vw "GrantMath" y_x_restrict 6 3 := ⟨⟨fun _ _ h => CD.of (h _ gw_210), gw_9, by decide, by decide +kernel⟩, gw_208, gw_209⟩
theorem vw_x_root : Vw "GrantMath" y_x_root 5 4 := ⟨⟨fun _ _ h => CD.of (h _ gw_92), gw_9, by decide, by decide +kernel⟩, gw_90, gw_91⟩
theorem vw_x_seal : Vw "GrantMath" y_x_seal 8 3 := ⟨⟨fun _ _ h => CD.of (h _ gw_217), gw_9, by decide, by decide +kernel⟩, gw_215, gw_216⟩
theorem vw_x_unseal : Vw "GrantMath" y_x_unseal 8 3 := ⟨⟨fun _ _ h => CD.of (h _ gw_225), gw_9, by decide, by decide +kernel⟩, gw_223, gw_224⟩
theorem vw_x_within : Vw "GrantMath" y_x_within 5 2 := ⟨⟨fun _ _ h => CD.of (h _ gw_240), gw_9, by decide, by decide +kernel⟩, gw_238, gw_239⟩
set_option maxHeartbeats 4000000 in
set_option maxRecDepth 100000 in
/-- sealed -/
theorem p_sealed (l : Launch) {cx : Cx} (hC : Cg cx) (σ : Sg) {i : Nat} (hi : i < 17) {g : Gr} (hg : σ.1 i = g) (hk : gok g) : CP l cx y_g_sealed 0 0 [.ref (ad cx i)] σ (some (.int (bi (decide (qy g ≠ 0))))) := by
  refine Con.ofW (cc := prog_2_method_4_code) (maxL := 1) (ret := (some FieldType.boolean)) (by decide +kernel) gw_71 ?_
  intro p e s m args below meth c S ha hnm hno hv
  obtain ⟨rfl, hP, hK⟩ := hv
  have S : Fx p s m ([.ref (ad cx i)] : List Value).toArray meth c prog_2_method_4_code 1 R_G (some FieldType.boolean) := S
  have hO : Ok cx s σ s.heap [] := ⟨hP, va_S.rf⟩
  have hx := S.1
  have hb := S.2.1
  have hl := lv_entry ([.ref (ad cx i)]) (n := 1) (Nat.le_of_ble_eq_true rfl)
  rw [lg_entry_eq]
  generalize (lg_sl ([.ref (ad cx i)]) ++ List.replicate (1 - (lg_sl ([.ref (ad cx i)])).length) Slot.unset).toArray = ls at hl ⊢
  have hl : lv_has ls 1 [(0, .ref (ad cx i))] := hl
  refine mg_b (decide (qy g ≠ 0)) 12 ?_ (fun hm => ?_)
  · exact rp_z S (bi_nar _) d_g_sealed_12
  · refine lv_aload_n hx hb d_g_sealed_0 rfl (lv_at hl 0 rfl) ?_
    refine gg_type S hK hO hi hg gw_40 d_g_sealed_1 ?_
    refine lv_if_eq (tgt := 11) hx hb d_g_sealed_4 (by decide) (fun h => ?_) (fun h => ?_)
    · refine lv_iconst (v := 0) hx hb d_g_sealed_11 (by decide) ?_
      exact hm _ (bi_o (by simpa using (nI_eq (a := qy g) (b := 0) (by have := hk.2.2.2.2; omega) (by decide)).mp h))
    · refine lv_iconst (v := 1) hx hb d_g_sealed_7 (by decide) ?_
      refine lv_goto (tgt := 12) hx hb d_g_sealed_8 (by decide) ?_
      exact hm _ (bi_1 (by simp only [decide_eq_true_eq]; intro z; exact h (by rw [z]; rfl)))
set_option maxHeartbeats 4000000 in
set_option maxRecDepth 100000 in
/-- may -/
theorem p_may (l : Launch) {cx : Cx} (hC : Cg cx) (σ : Sg) {i : Nat} (hi : i < 17) {g : Gr} (hg : σ.1 i = g) (q : Int32) : CP l cx y_g_may 0 0 [.ref (ad cx i), .int q] σ (some (.int (bi (mayB (qp g) q)))) := by
  refine Con.ofW (cc := prog_2_method_5_code) (maxL := 2) (ret := (some FieldType.boolean)) (by decide +kernel) gw_75 ?_
  intro p e s m args below meth c S ha hnm hno hv
  obtain ⟨rfl, hP, hK⟩ := hv
  have S : Fx p s m ([.ref (ad cx i), .int q] : List Value).toArray meth c prog_2_method_5_code 2 R_G (some FieldType.boolean) := S
  have hO : Ok cx s σ s.heap [] := ⟨hP, va_S.rf⟩
  have hx := S.1
  have hb := S.2.1
  have hl := lv_entry ([.ref (ad cx i), .int q]) (n := 2) (Nat.le_of_ble_eq_true rfl)
  rw [lg_entry_eq]
  generalize (lg_sl ([.ref (ad cx i), .int q]) ++ List.replicate (2 - (lg_sl ([.ref (ad cx i), .int q])).length) Slot.unset).toArray = ls at hl ⊢
  have hl : lv_has ls 2 [(0, .ref (ad cx i)), (1, .int q)] := hl
  refine mg_b (mayB (qp g) q) 15 ?_ (fun hm => ?_)
  · exact rp_z S (bi_nar _) d_g_may_15
  · refine lv_aload_n hx hb d_g_may_0 rfl (lv_at hl 0 rfl) ?_
    refine gg_permissions S hK hO hi hg gw_38 d_g_may_1 ?_
    refine lv_iload_n hx hb d_g_may_4 rfl (lv_at hl 1 rfl) ?_
    refine lv_iand hx hb d_g_may_5 ?_
    refine lv_iload_n hx hb d_g_may_6 rfl (lv_at hl 1 rfl) ?_
    refine lv_icmp_ne (tgt := 14) hx hb d_g_may_7 (by decide) (fun h => ?_) (fun h => ?_)
    · refine lv_iconst (v := 0) hx hb d_g_may_14 (by decide) ?_
      exact hm _ (bi_o (decide_eq_false h))
    · refine lv_iconst (v := 1) hx hb d_g_may_10 (by decide) ?_
      refine lv_goto (tgt := 15) hx hb d_g_may_11 (by decide) ?_
      exact hm _ (bi_1 (decide_eq_true h))
set_option maxHeartbeats 4000000 in
set_option maxRecDepth 100000 in
/-- has -/
theorem p_has (l : Launch) {cx : Cx} (hC : Cg cx) (σ : Sg) {i : Nat} (hi : i < 17) {g : Gr} (hg : σ.1 i = g) (hk : gok g) {a k : Nat} (ha : a < 4294967296) (hk1 : k < 65537) : CP l cx y_g_has 0 0 [.ref (ad cx i), .long (lN a), .int (nI k)] σ (some (.int (bi (hasB g a k)))) := by
  refine Con.ofW (cc := prog_2_method_6_code) (maxL := 4) (ret := (some FieldType.boolean)) (by decide +kernel) gw_80 ?_
  intro p e s m args below meth c S ha hnm hno hv
  obtain ⟨rfl, hP, hK⟩ := hv
  have S : Fx p s m ([.ref (ad cx i), .long (lN a), .int (nI k)] : List Value).toArray meth c prog_2_method_6_code 4 R_G (some FieldType.boolean) := S
  have hO : Ok cx s σ s.heap [] := ⟨hP, va_S.rf⟩
  have hx := S.1
  have hb := S.2.1
  have hl := lv_entry ([.ref (ad cx i), .long (lN a), .int (nI k)]) (n := 4) (Nat.le_of_ble_eq_true rfl)
  rw [lg_entry_eq]
  generalize (lg_sl ([.ref (ad cx i), .long (lN a), .int (nI k)]) ++ List.replicate (4 - (lg_sl ([.ref (ad cx i), .long (lN a), .int (nI k)])).length) Slot.unset).toArray = ls at hl ⊢
  have hl : lv_has ls 4 [(0, .ref (ad cx i)), (1, .long (lN a)), (3, .int (nI k))] := hl
  obtain ⟨k1, k2, k3, k4, k5⟩ := hk
  have hk9 : (nI k).toInt64 = lN k := nI_l (by omega)
  refine mg_b (hasB g a k) 26 ?_ (fun hm => ?_)
  · exact rp_z S (bi_nar _) d_g_has_26
  · refine lv_lload_n hx hb d_g_has_0 rfl (lv_at hl 1 rfl) ?_
    refine lv_aload_n hx hb d_g_has_1 rfl (lv_at hl 0 rfl) ?_
    refine gg_base S hK hO hi hg gw_34 d_g_has_2 ?_
    refine W.lcmp hx hb d_g_has_5 ?_
    refine lv_if_lt (tgt := 25) hx hb d_g_has_6 (by decide) (fun h => ?_) (fun h => ?_)
    · refine lv_iconst (v := 0) hx hb d_g_has_25 (by decide) ?_
      exact hm _ (bi_o (by have h2 := (lc_lt (by omega) (by omega)).mp h; simp only [hasB, Bool.and_eq_false_iff, decide_eq_false_iff_not]; omega))
    · have h1 : qb g ≤ a := Nat.le_of_not_lt fun z => h ((lc_lt (by omega) (by omega)).mpr z)
      refine lv_lload_n hx hb d_g_has_9 rfl (lv_at hl 1 rfl) ?_
      refine lv_iload_n hx hb d_g_has_10 rfl (lv_at hl 2 rfl) ?_
      refine lv_i2l hx hb d_g_has_11 rfl ?_
      refine lv_ladd hx hb d_g_has_12 ?_
      refine tp_l (z := lN (a + k)) (by rw [hk9, lN_add]) ?_
      refine lv_aload_n hx hb d_g_has_13 rfl (lv_at hl 0 rfl) ?_
      refine gg_top S hK hO hi hg gw_36 d_g_has_14 ?_
      refine W.lcmp hx hb d_g_has_17 ?_
      refine lv_if_gt (tgt := 25) hx hb d_g_has_18 (by decide) (fun h => ?_) (fun h => ?_)
      · refine lv_iconst (v := 0) hx hb d_g_has_25 (by decide) ?_
        exact hm _ (bi_o (by have h2 := (lc_gt (by omega) (by omega)).mp h; simp only [hasB, Bool.and_eq_false_iff, decide_eq_false_iff_not]; omega))
      · refine lv_iconst (v := 1) hx hb d_g_has_21 (by decide) ?_
        refine lv_goto (tgt := 26) hx hb d_g_has_22 (by decide) ?_
        exact hm _ (bi_1 (by have h2 : ¬ qt g < a + k := fun z => h ((lc_gt (by omega) (by omega)).mpr z); simp only [hasB, Bool.and_eq_true, decide_eq_true_eq]; omega))
set_option maxHeartbeats 4000000 in
set_option maxRecDepth 100000 in
/-- take -/
theorem t_take (l : Launch) {cx : Cx} (hC : Cg cx) (σ : Sg) {i j : Nat} (hi : i < 17) (hj : j < 17) (hij : i ≠ j) : CT l cx y_g_take 0 0 0 0 [.ref (ad cx i), .ref (ad cx j)] σ (.inl none) (up σ.1 i (σ.1 j), σ.2) := by
  refine Con.ofW (cc := prog_2_method_2_code) (maxL := 2) (ret := none) (by decide +kernel) gw_196 ?_
  intro p e s m args below meth c S ha hnm hno hv
  obtain ⟨rfl, hP, hK⟩ := hv
  have S : Fx p s m ([.ref (ad cx i), .ref (ad cx j)] : List Value).toArray meth c prog_2_method_2_code 2 R_G none := S
  have hO : Ok cx s σ s.heap [] := ⟨hP, va_S.rf⟩
  have hx := S.1
  have hb := S.2.1
  have hl := lv_entry ([.ref (ad cx i), .ref (ad cx j)]) (n := 2) (Nat.le_of_ble_eq_true rfl)
  rw [lg_entry_eq]
  generalize (lg_sl ([.ref (ad cx i), .ref (ad cx j)]) ++ List.replicate (2 - (lg_sl ([.ref (ad cx i), .ref (ad cx j)])).length) Slot.unset).toArray = ls at hl ⊢
  have hl : lv_has ls 2 [(0, .ref (ad cx i)), (1, .ref (ad cx j))] := hl
  refine lv_aload_n hx hb d_g_take_0 rfl (lv_at hl 0 rfl) ?_
  refine lv_aload_n hx hb d_g_take_1 rfl (lv_at hl 1 rfl) ?_
  refine gg_address S hK hO hj rfl gw_32 d_g_take_2 ?_
  refine gp_address hC S hK hO hi rfl gw_32 d_g_take_5 (fun H locs hO => ?_)
  try dsimp only at hO
  refine lv_aload_n hx hb d_g_take_8 rfl (lv_at hl 0 rfl) ?_
  refine lv_aload_n hx hb d_g_take_9 rfl (lv_at hl 1 rfl) ?_
  refine gg_base S hK hO hj (up_n _ _ (Ne.symm hij)) gw_34 d_g_take_10 ?_
  refine gp_base hC S hK hO hi (up_s _ _ _) gw_34 d_g_take_13 (fun H locs hO => ?_)
  try dsimp only at hO
  rw [up_up] at hO
  refine lv_aload_n hx hb d_g_take_16 rfl (lv_at hl 0 rfl) ?_
  refine lv_aload_n hx hb d_g_take_17 rfl (lv_at hl 1 rfl) ?_
  refine gg_top S hK hO hj (up_n _ _ (Ne.symm hij)) gw_36 d_g_take_18 ?_
  refine gp_top hC S hK hO hi (up_s _ _ _) gw_36 d_g_take_21 (fun H locs hO => ?_)
  try dsimp only at hO
  rw [up_up] at hO
  refine lv_aload_n hx hb d_g_take_24 rfl (lv_at hl 0 rfl) ?_
  refine lv_aload_n hx hb d_g_take_25 rfl (lv_at hl 1 rfl) ?_
  refine gg_permissions S hK hO hj (up_n _ _ (Ne.symm hij)) gw_38 d_g_take_26 ?_
  refine gp_permissions hC S hK hO hi (up_s _ _ _) gw_38 d_g_take_29 (fun H locs hO => ?_)
  try dsimp only at hO
  rw [up_up] at hO
  refine lv_aload_n hx hb d_g_take_32 rfl (lv_at hl 0 rfl) ?_
  refine lv_aload_n hx hb d_g_take_33 rfl (lv_at hl 1 rfl) ?_
  refine gg_type S hK hO hj (up_n _ _ (Ne.symm hij)) gw_40 d_g_take_34 ?_
  refine gp_type hC S hK hO hi (up_s _ _ _) gw_40 d_g_take_37 (fun H locs hO => ?_)
  try dsimp only at hO
  rw [up_up] at hO
  refine lv_aload_n hx hb d_g_take_40 rfl (lv_at hl 0 rfl) ?_
  refine lv_aload_n hx hb d_g_take_41 rfl (lv_at hl 1 rfl) ?_
  refine gg_tag S hK hO hj (up_n _ _ (Ne.symm hij)) gw_42 d_g_take_42 ?_
  refine gp_tag hC S hK hO hi (up_s _ _ _) gw_42 d_g_take_45 (fun H locs hO => ?_)
  try dsimp only at hO
  rw [up_up] at hO
  exact rt_v S hO (by decide) (by decide) d_g_take_48
set_option maxHeartbeats 4000000 in
set_option maxRecDepth 100000 in
/-- set -/
theorem t_set4 (l : Launch) {cx : Cx} (hC : Cg cx) (σ : Sg) {i : Nat} (hi : i < 17) (a t q : Nat) (b : Bool) : CT l cx y_g_set 0 0 0 0 [.ref (ad cx i), .long (lN a), .long (lN t), .int (nI q), .int (bi b)] σ (.inl none) (up σ.1 i (a, a, t, q, 0, b), σ.2) := by
  refine Con.ofW (cc := prog_2_method_3_code) (maxL := 7) (ret := none) (by decide +kernel) gw_178 ?_
  intro p e s m args below meth c S ha hnm hno hv
  obtain ⟨rfl, hP, hK⟩ := hv
  have S : Fx p s m ([.ref (ad cx i), .long (lN a), .long (lN t), .int (nI q), .int (bi b)] : List Value).toArray meth c prog_2_method_3_code 7 R_G none := S
  have hO : Ok cx s σ s.heap [] := ⟨hP, va_S.rf⟩
  have hx := S.1
  have hb := S.2.1
  have hl := lv_entry ([.ref (ad cx i), .long (lN a), .long (lN t), .int (nI q), .int (bi b)]) (n := 7) (Nat.le_of_ble_eq_true rfl)
  rw [lg_entry_eq]
  generalize (lg_sl ([.ref (ad cx i), .long (lN a), .long (lN t), .int (nI q), .int (bi b)]) ++ List.replicate (7 - (lg_sl ([.ref (ad cx i), .long (lN a), .long (lN t), .int (nI q), .int (bi b)])).length) Slot.unset).toArray = ls at hl ⊢
  have hl : lv_has ls 7 [(0, .ref (ad cx i)), (1, .long (lN a)), (3, .long (lN t)), (5, .int (nI q)), (6, .int (bi b))] := hl
  refine lv_aload_n hx hb d_g_set_0 rfl (lv_at hl 0 rfl) ?_
  refine lv_lload_n hx hb d_g_set_1 rfl (lv_at hl 1 rfl) ?_
  refine gp_address hC S hK hO hi rfl gw_32 d_g_set_2 (fun H locs hO => ?_)
  try dsimp only at hO
  refine lv_aload_n hx hb d_g_set_5 rfl (lv_at hl 0 rfl) ?_
  refine lv_lload_n hx hb d_g_set_6 rfl (lv_at hl 1 rfl) ?_
  refine gp_base hC S hK hO hi (up_s _ _ _) gw_34 d_g_set_7 (fun H locs hO => ?_)
  try dsimp only at hO
  rw [up_up] at hO
  refine lv_aload_n hx hb d_g_set_10 rfl (lv_at hl 0 rfl) ?_
  refine lv_lload_n hx hb d_g_set_11 rfl (lv_at hl 2 rfl) ?_
  refine gp_top hC S hK hO hi (up_s _ _ _) gw_36 d_g_set_12 (fun H locs hO => ?_)
  try dsimp only at hO
  rw [up_up] at hO
  refine lv_aload_n hx hb d_g_set_15 rfl (lv_at hl 0 rfl) ?_
  refine lv_iload hx hb d_g_set_16 (lv_at hl 3 rfl) ?_
  refine gp_permissions hC S hK hO hi (up_s _ _ _) gw_38 d_g_set_18 (fun H locs hO => ?_)
  try dsimp only at hO
  rw [up_up] at hO
  refine lv_aload_n hx hb d_g_set_21 rfl (lv_at hl 0 rfl) ?_
  refine lv_iconst (v := 0) hx hb d_g_set_22 (by decide) ?_
  refine tp_i (z := nI 0) rfl ?_
  refine gp_type hC S hK hO hi (up_s _ _ _) gw_40 d_g_set_23 (fun H locs hO => ?_)
  try dsimp only at hO
  rw [up_up] at hO
  refine lv_aload_n hx hb d_g_set_26 rfl (lv_at hl 0 rfl) ?_
  refine lv_iload hx hb d_g_set_27 (lv_at hl 4 rfl) ?_
  refine gp_tag hC S hK hO hi (up_s _ _ _) gw_42 d_g_set_29 (fun H locs hO => ?_)
  try dsimp only at hO
  rw [up_up] at hO
  exact rt_v S hO (by decide) (by decide) d_g_set_32
set_option maxHeartbeats 4000000 in
set_option maxRecDepth 100000 in
/-- cause -/
theorem p_cause (l : Launch) {cx : Cx} (hC : Cg cx) (σ : Sg) (a b c1 d : Bool) : CP l cx y_x_cause 0 0 [.int (bi a), .int (bi b), .int (bi c1), .int (bi d)] σ (some (.int (cz a b c1 d))) := by
  refine Con.ofW (cc := prog_1_method_9_code) (maxL := 4) (ret := (some FieldType.int)) (by decide +kernel) gw_83 ?_
  intro p e s m args below meth c S ha hnm hno hv
  obtain ⟨rfl, hP, hK⟩ := hv
  have S : Fx p s m ([.int (bi a), .int (bi b), .int (bi c1), .int (bi d)] : List Value).toArray meth c prog_1_method_9_code 4 R_X (some FieldType.int) := S
  have hO : Ok cx s σ s.heap [] := ⟨hP, va_S.rf⟩
  have hx := S.1
  have hb := S.2.1
  have hl := lv_entry ([.int (bi a), .int (bi b), .int (bi c1), .int (bi d)]) (n := 4) (Nat.le_of_ble_eq_true rfl)
  rw [lg_entry_eq]
  generalize (lg_sl ([.int (bi a), .int (bi b), .int (bi c1), .int (bi d)]) ++ List.replicate (4 - (lg_sl ([.int (bi a), .int (bi b), .int (bi c1), .int (bi d)])).length) Slot.unset).toArray = ls at hl ⊢
  have hl : lv_has ls 4 [(0, .int (bi a)), (1, .int (bi b)), (2, .int (bi c1)), (3, .int (bi d))] := hl
  refine lv_iload_n hx hb d_x_cause_0 rfl (lv_at hl 0 rfl) ?_
  refine lv_if_ne (tgt := 8) hx hb d_x_cause_1 (by decide) (fun h => ?_) (fun h => ?_)
  · have h1 : a = true := bi_n.mp h
    refine lv_iload_n hx hb d_x_cause_8 rfl (lv_at hl 1 rfl) ?_
    refine lv_if_ne (tgt := 16) hx hb d_x_cause_9 (by decide) (fun h => ?_) (fun h => ?_)
    · have h2 : b = true := bi_n.mp h
      refine lv_iload_n hx hb d_x_cause_16 rfl (lv_at hl 2 rfl) ?_
      refine lv_if_ne (tgt := 24) hx hb d_x_cause_17 (by decide) (fun h => ?_) (fun h => ?_)
      · have h3 : c1 = true := bi_n.mp h
        refine lv_iload_n hx hb d_x_cause_24 rfl (lv_at hl 3 rfl) ?_
        refine lv_if_ne (tgt := 32) hx hb d_x_cause_25 (by decide) (fun h => ?_) (fun h => ?_)
        · have h4 : d = true := bi_n.mp h
          refine lv_iconst (v := 0) hx hb d_x_cause_32 (by decide) ?_
          refine tp_i (z := cz a b c1 d) (by simp [cz, *]) ?_
          exact rp_i S d_x_cause_33
        · have h4 : d = false := bi_0.mp h
          refine lv_iconst (v := 4) hx hb d_x_cause_28 (by decide) ?_
          refine lv_goto (tgt := 33) hx hb d_x_cause_29 (by decide) ?_
          refine tp_i (z := cz a b c1 d) (by simp [cz, *]) ?_
          exact rp_i S d_x_cause_33
      · have h3 : c1 = false := bi_0.mp h
        refine lv_iconst (v := 3) hx hb d_x_cause_20 (by decide) ?_
        refine lv_goto (tgt := 33) hx hb d_x_cause_21 (by decide) ?_
        refine tp_i (z := cz a b c1 d) (by simp [cz, *]) ?_
        exact rp_i S d_x_cause_33
    · have h2 : b = false := bi_0.mp h
      refine lv_iconst (v := 2) hx hb d_x_cause_12 (by decide) ?_
      refine lv_goto (tgt := 33) hx hb d_x_cause_13 (by decide) ?_
      refine tp_i (z := cz a b c1 d) (by simp [cz, *]) ?_
      exact rp_i S d_x_cause_33
  · have h1 : a = false := bi_0.mp h
    refine lv_iconst (v := 1) hx hb d_x_cause_4 (by decide) ?_
    refine lv_goto (tgt := 33) hx hb d_x_cause_5 (by decide) ?_
    refine tp_i (z := cz a b c1 d) (by simp [cz, *]) ?_
    exact rp_i S d_x_cause_33
set_option maxHeartbeats 4000000 in
set_option maxRecDepth 100000 in
/-- good: it holds -/
theorem p_good (l : Launch) {cx : Cx} (hC : Cg cx) (σ : Sg) : CP l cx y_x_good 6 90 [.int 1] σ none := by
  refine Con.ofW (cc := prog_1_method_2_code) (maxL := 1) (ret := none) (by decide +kernel) gw_95 ?_
  intro p e s m args below meth c S ha hnm hno hv
  obtain ⟨rfl, hP, hK⟩ := hv
  have S : Fx p s m ([.int 1] : List Value).toArray meth c prog_1_method_2_code 1 R_X none := S
  have hO : Ok cx s σ s.heap [] := ⟨hP, va_S.rf⟩
  have hx := S.1
  have hb := S.2.1
  have hl := lv_entry ([.int 1]) (n := 1) (Nat.le_of_ble_eq_true rfl)
  rw [lg_entry_eq]
  generalize (lg_sl ([.int 1]) ++ List.replicate (1 - (lg_sl ([.int 1])).length) Slot.unset).toArray = ls at hl ⊢
  have hl : lv_has ls 1 [(0, .int 1)] := hl
  refine lv_iload_n hx hb d_x_good_0 rfl (lv_at hl 0 rfl) ?_
  refine lv_if_ne (tgt := 12) hx hb d_x_good_1 (by decide) (fun h => ?_) (fun h => ?_)
  · exact rp_v S d_x_good_12
  · exact absurd h (by decide)
set_option maxHeartbeats 4000000 in
set_option maxRecDepth 100000 in
/-- good: it does not -/
theorem t_good (l : Launch) {cx : Cx} (hC : Cg cx) (σ : Sg) (hfl : l.flags = flags0) : CT l cx y_x_good 6 90 1 6 [.int 0] σ (.inr 0) σ := by
  refine Con.ofW (cc := prog_1_method_2_code) (maxL := 1) (ret := none) (by decide +kernel) gw_95 ?_
  intro p e s m args below meth c S ha hnm hno hv
  obtain ⟨rfl, hP, hK⟩ := hv
  have S : Fx p s m ([.int 0] : List Value).toArray meth c prog_1_method_2_code 1 R_X none := S
  have hO : Ok cx s σ s.heap [] := ⟨hP, va_S.rf⟩
  have hx := S.1
  have hb := S.2.1
  have hl := lv_entry ([.int 0]) (n := 1) (Nat.le_of_ble_eq_true rfl)
  rw [lg_entry_eq]
  generalize (lg_sl ([.int 0]) ++ List.replicate (1 - (lg_sl ([.int 0])).length) Slot.unset).toArray = ls at hl ⊢
  have hl : lv_has ls 1 [(0, .int 0)] := hl
  refine lv_iload_n hx hb d_x_good_0 rfl (lv_at hl 0 rfl) ?_
  refine lv_if_ne (tgt := 12) hx hb d_x_good_1 (by decide) (fun h => ?_) (fun h => ?_)
  · exact absurd rfl h
  · exact gm_thr S ha hfl hno hK hP 0 (ik := 20) (ic := 22) at_0 (by decide +kernel) gw_96 gw_97 gw_15 hl.1 d_x_good_4 d_x_good_7 d_x_good_8 d_x_good_11 (by decide) (by decide) (by decide) (by decide)
set_option maxHeartbeats 4000000 in
set_option maxRecDepth 100000 in
/-- grant: in range -/
theorem p_grant (l : Launch) {cx : Cx} (hC : Cg cx) (σ : Sg) {j : Nat} (hj : j < 16) : CP l cx y_x_grant 6 90 [.ref (ad cx 17), .int (nI j)] σ (some (.ref (ad cx j))) := by
  refine Con.ofW (cc := prog_1_method_3_code) (maxL := 2) (ret := (some (FieldType.object "GrantMath$Grant"))) (by decide +kernel) gw_159 ?_
  intro p e s m args below meth c S ha hnm hno hv
  obtain ⟨rfl, hP, hK⟩ := hv
  have S : Fx p s m ([.ref (ad cx 17), .int (nI j)] : List Value).toArray meth c prog_1_method_3_code 2 R_X (some (FieldType.object "GrantMath$Grant")) := S
  have hO : Ok cx s σ s.heap [] := ⟨hP, va_S.rf⟩
  have hx := S.1
  have hb := S.2.1
  have hl := lv_entry ([.ref (ad cx 17), .int (nI j)]) (n := 2) (Nat.le_of_ble_eq_true rfl)
  rw [lg_entry_eq]
  generalize (lg_sl ([.ref (ad cx 17), .int (nI j)]) ++ List.replicate (2 - (lg_sl ([.ref (ad cx 17), .int (nI j)])).length) Slot.unset).toArray = ls at hl ⊢
  have hl : lv_has ls 2 [(0, .ref (ad cx 17)), (1, .int (nI j))] := hl
  refine lv_iload_n hx hb d_x_grant_0 rfl (lv_at hl 1 rfl) ?_
  refine lv_if_lt (tgt := 10) hx hb d_x_grant_1 (by decide) (fun h => ?_) (fun h => ?_)
  · exact absurd h (nI_pos (by omega))
  · refine lv_iload_n hx hb d_x_grant_4 rfl (lv_at hl 1 rfl) ?_
    refine lv_bipush (v := 16) hx hb d_x_grant_5 (by decide) ?_
    refine lv_icmp_lt (tgt := 18) hx hb d_x_grant_7 (by decide) (fun h => ?_) (fun h => ?_)
    · refine lv_aload_n hx hb d_x_grant_18 rfl (lv_at hl 0 rfl) ?_
      refine xg_grants S hK hO gw_57 d_x_grant_19 ?_
      refine lv_iload_n hx hb d_x_grant_22 rfl (lv_at hl 1 rfl) ?_
      refine xa_ld S hK hO hj d_x_grant_23 ?_
      exact rp_a S d_x_grant_24
    · exact absurd (show nI j < 16 from nI_lt (b := 16) hj (by decide)) h
set_option maxHeartbeats 4000000 in
set_option maxRecDepth 100000 in
/-- grant: out of range -/
theorem t_grant (l : Launch) {cx : Cx} (hC : Cg cx) (σ : Sg) (hfl : l.flags = flags0) {r : Int32} (hr : okr r = false) : CT l cx y_x_grant 6 90 1 6 [.ref (ad cx 17), .int r] σ (.inr 1) σ := by
  refine Con.ofW (cc := prog_1_method_3_code) (maxL := 2) (ret := (some (FieldType.object "GrantMath$Grant"))) (by decide +kernel) gw_159 ?_
  intro p e s m args below meth c S ha hnm hno hv
  obtain ⟨rfl, hP, hK⟩ := hv
  have S : Fx p s m ([.ref (ad cx 17), .int r] : List Value).toArray meth c prog_1_method_3_code 2 R_X (some (FieldType.object "GrantMath$Grant")) := S
  have hO : Ok cx s σ s.heap [] := ⟨hP, va_S.rf⟩
  have hx := S.1
  have hb := S.2.1
  have hl := lv_entry ([.ref (ad cx 17), .int r]) (n := 2) (Nat.le_of_ble_eq_true rfl)
  rw [lg_entry_eq]
  generalize (lg_sl ([.ref (ad cx 17), .int r]) ++ List.replicate (2 - (lg_sl ([.ref (ad cx 17), .int r])).length) Slot.unset).toArray = ls at hl ⊢
  have hl : lv_has ls 2 [(0, .ref (ad cx 17)), (1, .int r)] := hl
  refine lv_iload_n hx hb d_x_grant_0 rfl (lv_at hl 1 rfl) ?_
  refine lv_if_lt (tgt := 10) hx hb d_x_grant_1 (by decide) (fun h0 => ?_) (fun h0 => ?_)
  · exact gm_thr S ha hfl hno hK hP 1 (ik := 23) (ic := 25) at_1 (by decide +kernel) gw_160 gw_161 gw_16 hl.1 d_x_grant_10 d_x_grant_13 d_x_grant_14 d_x_grant_17 (by decide) (by decide) (by decide) (by decide)
  · refine lv_iload_n hx hb d_x_grant_4 rfl (lv_at hl 1 rfl) ?_
    refine lv_bipush (v := 16) hx hb d_x_grant_5 (by decide) ?_
    refine lv_icmp_lt (tgt := 18) hx hb d_x_grant_7 (by decide) (fun h => ?_) (fun h => ?_)
    · exact (okr_no hr).elim (fun z => absurd z h0) (fun z => absurd h z)
    · exact gm_thr S ha hfl hno hK hP 1 (ik := 23) (ic := 25) at_1 (by decide +kernel) gw_160 gw_161 gw_16 hl.1 d_x_grant_10 d_x_grant_13 d_x_grant_14 d_x_grant_17 (by decide) (by decide) (by decide) (by decide)
end
section
/-! Contracts of the methods of GrantMath (printed by gen/m_x.py): _ok: arguments in range; _b0: good throws; _b1, _b2, _b3: the first, second, third call of grant throws -/
section GmX
def rtB (lo hi p : Int32) : Bool := decide (0 ≤ p.toInt) && decide (p.toInt ≤ 255) && decide (uw lo ≤ uw hi)
def alB (n : Int32) : Bool := decide (0 ≤ n.toInt) && decide (n.toInt ≤ 65536)
def ptB (n : Int32) : Bool := decide (0 ≤ n.toInt) && decide (n.toInt ≤ 5)
theorem lt0 {p : Int32} : p < 0 ↔ p.toInt < 0 := by rw [Int32.lt_iff_toInt_lt]; exact Iff.rfl
theorem mv_1 {r : Gr} {n : Int32} (h : qy r = 0 ∨ n = 0) : sA r ((qa r + uw n) % 4294967296) = mv r n := by
  have h1 : (!(decide (qy r ≠ 0) && decide (n ≠ 0))) = true := by rcases h with h | h <;> simp [h]
  unfold mv; rw [h1, Bool.and_true]; rfl
theorem mv_2 {r : Gr} {n : Int32} (h : qy r ≠ 0) (h2 : n ≠ 0) : sG (sA r ((qa r + uw n) % 4294967296)) false = mv r n := by
  have h1 : (!(decide (qy r ≠ 0) && decide (n ≠ 0))) = false := by simp [h, h2]
  unfold mv; rw [h1, Bool.and_false]; rfl
theorem rc_1 {r : Gr} {k : Int32} (h : qy r = 0 ∨ qp r &&& uw k = qp r) : sP r (qp r &&& uw k) = rc r k := by
  have h1 : (!(decide (qy r ≠ 0) && decide (qp r &&& uw k ≠ qp r))) = true := by rcases h with h | h <;> simp [h]
  unfold rc; rw [h1, Bool.and_true]; rfl
theorem rc_2 {r : Gr} {k : Int32} (h : qy r ≠ 0) (h2 : qp r &&& uw k ≠ qp r) : sG (sP r (qp r &&& uw k)) false = rc r k := by
  have h1 : (!(decide (qy r ≠ 0) && decide (qp r &&& uw k ≠ qp r))) = false := by simp [h, h2]
  unfold rc; rw [h1, Bool.and_false]; rfl
def ptV (r : Gr) (w : Nat) : Int32 := if w = 0 then nI (qa r) else if w = 1 then nI (qb r) else if w = 2 then nI (qt r) else if w = 3 then nI (qp r) else if w = 4 then nI (qy r) else bi (qg r)
end GmX
set_option maxHeartbeats 4000000 in
set_option maxRecDepth 100000 in
/-- x_number: grant 1 throws -/
theorem x_number_b1 (l : Launch) {cx : Cx} (hC : Cg cx) (σ : Sg) (hfl : l.flags = flags0) {r v : Int32} (hr : okr r = false) : CT l cx y_x_number 7 119 1 6 [.ref (ad cx 17), .int r, .int v] σ (.inr 1) σ := by
  refine Con.ofW (cc := prog_1_method_5_code) (maxL := 4) (ret := none) (by decide +kernel) gw_185 ?_
  intro p e s m args below meth c S ha hnm hno hv
  obtain ⟨rfl, hP, hK⟩ := hv
  have S : Fx p s m ([.ref (ad cx 17), .int r, .int v] : List Value).toArray meth c prog_1_method_5_code 4 R_X none := S
  have hO : Ok cx s σ s.heap [] := ⟨hP, va_S.rf⟩
  have hx := S.1
  have hb := S.2.1
  have hl := lv_entry ([.ref (ad cx 17), .int r, .int v]) (n := 4) (Nat.le_of_ble_eq_true rfl)
  rw [lg_entry_eq]
  generalize (lg_sl ([.ref (ad cx 17), .int r, .int v]) ++ List.replicate (4 - (lg_sl ([.ref (ad cx 17), .int r, .int v])).length) Slot.unset).toArray = ls at hl ⊢
  have hl : lv_has ls 4 [(0, .ref (ad cx 17)), (1, .int r), (2, .int v)] := hl
  refine lv_aload_n hx hb d_x_number_0 rfl (lv_at hl 0 rfl) ?_
  refine lv_iload_n hx hb d_x_number_1 rfl (lv_at hl 1 rfl) ?_
  exact cX1t S hK hO hno (t_grant l hC _ hfl hr) vw_x_grant gw_156 (by decide) (by decide) ⟨by decide, by decide⟩ hl.1 (Nat.le_of_ble_eq_true rfl) d_x_number_2 (by decide) (by decide)
set_option maxHeartbeats 4000000 in
set_option maxRecDepth 100000 in
/-- x_move: grant 1 throws -/
theorem x_move_b1 (l : Launch) {cx : Cx} (hC : Cg cx) (σ : Sg) (hfl : l.flags = flags0) {r u n : Int32} (hr : okr r = false) : CT l cx y_x_move 7 119 1 6 [.ref (ad cx 17), .int r, .int u, .int n] σ (.inr 1) σ := by
  refine Con.ofW (cc := prog_1_method_6_code) (maxL := 5) (ret := none) (by decide +kernel) gw_192 ?_
  intro p e s m args below meth c S ha hnm hno hv
  obtain ⟨rfl, hP, hK⟩ := hv
  have S : Fx p s m ([.ref (ad cx 17), .int r, .int u, .int n] : List Value).toArray meth c prog_1_method_6_code 5 R_X none := S
  have hO : Ok cx s σ s.heap [] := ⟨hP, va_S.rf⟩
  have hx := S.1
  have hb := S.2.1
  have hl := lv_entry ([.ref (ad cx 17), .int r, .int u, .int n]) (n := 5) (Nat.le_of_ble_eq_true rfl)
  rw [lg_entry_eq]
  generalize (lg_sl ([.ref (ad cx 17), .int r, .int u, .int n]) ++ List.replicate (5 - (lg_sl ([.ref (ad cx 17), .int r, .int u, .int n])).length) Slot.unset).toArray = ls at hl ⊢
  have hl : lv_has ls 5 [(0, .ref (ad cx 17)), (1, .int r), (2, .int u), (3, .int n)] := hl
  refine lv_aload_n hx hb d_x_move_0 rfl (lv_at hl 0 rfl) ?_
  refine lv_iload_n hx hb d_x_move_1 rfl (lv_at hl 1 rfl) ?_
  exact cX1t S hK hO hno (t_grant l hC _ hfl hr) vw_x_grant gw_156 (by decide) (by decide) ⟨by decide, by decide⟩ hl.1 (Nat.le_of_ble_eq_true rfl) d_x_move_2 (by decide) (by decide)
set_option maxHeartbeats 4000000 in
set_option maxRecDepth 100000 in
/-- x_move: grant 2 throws -/
theorem x_move_b2 (l : Launch) {cx : Cx} (hC : Cg cx) (σ : Sg) (hfl : l.flags = flags0) {i1 : Nat} (h1 : i1 < 16) {u n : Int32} (hr : okr u = false) : CT l cx y_x_move 7 119 1 6 [.ref (ad cx 17), .int (nI i1), .int u, .int n] σ (.inr 1) σ := by
  refine Con.ofW (cc := prog_1_method_6_code) (maxL := 5) (ret := none) (by decide +kernel) gw_192 ?_
  intro p e s m args below meth c S ha hnm hno hv
  obtain ⟨rfl, hP, hK⟩ := hv
  have S : Fx p s m ([.ref (ad cx 17), .int (nI i1), .int u, .int n] : List Value).toArray meth c prog_1_method_6_code 5 R_X none := S
  have hO : Ok cx s σ s.heap [] := ⟨hP, va_S.rf⟩
  have hx := S.1
  have hb := S.2.1
  have hl := lv_entry ([.ref (ad cx 17), .int (nI i1), .int u, .int n]) (n := 5) (Nat.le_of_ble_eq_true rfl)
  rw [lg_entry_eq]
  generalize (lg_sl ([.ref (ad cx 17), .int (nI i1), .int u, .int n]) ++ List.replicate (5 - (lg_sl ([.ref (ad cx 17), .int (nI i1), .int u, .int n])).length) Slot.unset).toArray = ls at hl ⊢
  have hl : lv_has ls 5 [(0, .ref (ad cx 17)), (1, .int (nI i1)), (2, .int u), (3, .int n)] := hl
  refine lv_aload_n hx hb d_x_move_0 rfl (lv_at hl 0 rfl) ?_
  refine lv_iload_n hx hb d_x_move_1 rfl (lv_at hl 1 rfl) ?_
  refine cX1p S hK hO (p_grant l hC _ h1) vw_x_grant gw_156 (by decide) (by decide) ⟨by decide, by decide⟩ hl.1 (Nat.le_of_ble_eq_true rfl) d_x_move_2 ?_
  refine lv_astore hx hb d_x_move_5 hl (by decide) rfl (fun ls hl => ?_)
  have hl : lv_has ls 5 [(4, _), (0, _), (1, _), (2, _), (3, _)] := hl
  refine lv_aload_n hx hb d_x_move_7 rfl (lv_at hl 1 rfl) ?_
  refine xg_made S hK hO gw_58 d_x_move_8 ?_
  refine lv_aload_n hx hb d_x_move_11 rfl (lv_at hl 1 rfl) ?_
  refine lv_iload_n hx hb d_x_move_12 rfl (lv_at hl 3 rfl) ?_
  exact cX1t S hK hO hno (t_grant l hC _ hfl hr) vw_x_grant gw_156 (by decide) (by decide) ⟨by decide, by decide⟩ hl.1 (Nat.le_of_ble_eq_true rfl) d_x_move_13 (by decide) (by decide)
set_option maxHeartbeats 4000000 in
set_option maxRecDepth 100000 in
/-- x_narrow: grant 1 throws -/
theorem x_narrow_b1 (l : Launch) {cx : Cx} (hC : Cg cx) (σ : Sg) (hfl : l.flags = flags0) {r u n : Int32} (hr : okr r = false) : CT l cx y_x_narrow 7 119 1 6 [.ref (ad cx 17), .int r, .int u, .int n] σ (.inr 1) σ := by
  refine Con.ofW (cc := prog_1_method_7_code) (maxL := 8) (ret := (some FieldType.boolean)) (by decide +kernel) gw_203 ?_
  intro p e s m args below meth c S ha hnm hno hv
  obtain ⟨rfl, hP, hK⟩ := hv
  have S : Fx p s m ([.ref (ad cx 17), .int r, .int u, .int n] : List Value).toArray meth c prog_1_method_7_code 8 R_X (some FieldType.boolean) := S
  have hO : Ok cx s σ s.heap [] := ⟨hP, va_S.rf⟩
  have hx := S.1
  have hb := S.2.1
  have hl := lv_entry ([.ref (ad cx 17), .int r, .int u, .int n]) (n := 8) (Nat.le_of_ble_eq_true rfl)
  rw [lg_entry_eq]
  generalize (lg_sl ([.ref (ad cx 17), .int r, .int u, .int n]) ++ List.replicate (8 - (lg_sl ([.ref (ad cx 17), .int r, .int u, .int n])).length) Slot.unset).toArray = ls at hl ⊢
  have hl : lv_has ls 8 [(0, .ref (ad cx 17)), (1, .int r), (2, .int u), (3, .int n)] := hl
  refine lv_aload_n hx hb d_x_narrow_0 rfl (lv_at hl 0 rfl) ?_
  refine lv_iload_n hx hb d_x_narrow_1 rfl (lv_at hl 1 rfl) ?_
  exact cX1t S hK hO hno (t_grant l hC _ hfl hr) vw_x_grant gw_156 (by decide) (by decide) ⟨by decide, by decide⟩ hl.1 (Nat.le_of_ble_eq_true rfl) d_x_narrow_2 (by decide) (by decide)
set_option maxHeartbeats 4000000 in
set_option maxRecDepth 100000 in
/-- x_narrow: grant 2 throws -/
theorem x_narrow_b2 (l : Launch) {cx : Cx} (hC : Cg cx) (σ : Sg) (hfl : l.flags = flags0) {i1 : Nat} (h1 : i1 < 16) {u n : Int32} (hr : okr u = false) : CT l cx y_x_narrow 7 119 1 6 [.ref (ad cx 17), .int (nI i1), .int u, .int n] σ (.inr 1) σ := by
  refine Con.ofW (cc := prog_1_method_7_code) (maxL := 8) (ret := (some FieldType.boolean)) (by decide +kernel) gw_203 ?_
  intro p e s m args below meth c S ha hnm hno hv
  obtain ⟨rfl, hP, hK⟩ := hv
  have S : Fx p s m ([.ref (ad cx 17), .int (nI i1), .int u, .int n] : List Value).toArray meth c prog_1_method_7_code 8 R_X (some FieldType.boolean) := S
  have hO : Ok cx s σ s.heap [] := ⟨hP, va_S.rf⟩
  have hx := S.1
  have hb := S.2.1
  have hl := lv_entry ([.ref (ad cx 17), .int (nI i1), .int u, .int n]) (n := 8) (Nat.le_of_ble_eq_true rfl)
  rw [lg_entry_eq]
  generalize (lg_sl ([.ref (ad cx 17), .int (nI i1), .int u, .int n]) ++ List.replicate (8 - (lg_sl ([.ref (ad cx 17), .int (nI i1), .int u, .int n])).length) Slot.unset).toArray = ls at hl ⊢
  have hl : lv_has ls 8 [(0, .ref (ad cx 17)), (1, .int (nI i1)), (2, .int u), (3, .int n)] := hl
  refine lv_aload_n hx hb d_x_narrow_0 rfl (lv_at hl 0 rfl) ?_
  refine lv_iload_n hx hb d_x_narrow_1 rfl (lv_at hl 1 rfl) ?_
  refine cX1p S hK hO (p_grant l hC _ h1) vw_x_grant gw_156 (by decide) (by decide) ⟨by decide, by decide⟩ hl.1 (Nat.le_of_ble_eq_true rfl) d_x_narrow_2 ?_
  refine lv_astore hx hb d_x_narrow_5 hl (by decide) rfl (fun ls hl => ?_)
  have hl : lv_has ls 8 [(4, _), (0, _), (1, _), (2, _), (3, _)] := hl
  refine lv_aload_n hx hb d_x_narrow_7 rfl (lv_at hl 1 rfl) ?_
  refine lv_iload_n hx hb d_x_narrow_8 rfl (lv_at hl 3 rfl) ?_
  exact cX1t S hK hO hno (t_grant l hC _ hfl hr) vw_x_grant gw_156 (by decide) (by decide) ⟨by decide, by decide⟩ hl.1 (Nat.le_of_ble_eq_true rfl) d_x_narrow_9 (by decide) (by decide)
set_option maxHeartbeats 4000000 in
set_option maxRecDepth 100000 in
/-- x_restrict: grant 1 throws -/
theorem x_restrict_b1 (l : Launch) {cx : Cx} (hC : Cg cx) (σ : Sg) (hfl : l.flags = flags0) {r u n : Int32} (hr : okr r = false) : CT l cx y_x_restrict 7 119 1 6 [.ref (ad cx 17), .int r, .int u, .int n] σ (.inr 1) σ := by
  refine Con.ofW (cc := prog_1_method_8_code) (maxL := 6) (ret := (some FieldType.boolean)) (by decide +kernel) gw_210 ?_
  intro p e s m args below meth c S ha hnm hno hv
  obtain ⟨rfl, hP, hK⟩ := hv
  have S : Fx p s m ([.ref (ad cx 17), .int r, .int u, .int n] : List Value).toArray meth c prog_1_method_8_code 6 R_X (some FieldType.boolean) := S
  have hO : Ok cx s σ s.heap [] := ⟨hP, va_S.rf⟩
  have hx := S.1
  have hb := S.2.1
  have hl := lv_entry ([.ref (ad cx 17), .int r, .int u, .int n]) (n := 6) (Nat.le_of_ble_eq_true rfl)
  rw [lg_entry_eq]
  generalize (lg_sl ([.ref (ad cx 17), .int r, .int u, .int n]) ++ List.replicate (6 - (lg_sl ([.ref (ad cx 17), .int r, .int u, .int n])).length) Slot.unset).toArray = ls at hl ⊢
  have hl : lv_has ls 6 [(0, .ref (ad cx 17)), (1, .int r), (2, .int u), (3, .int n)] := hl
  refine lv_aload_n hx hb d_x_restrict_0 rfl (lv_at hl 0 rfl) ?_
  refine lv_iload_n hx hb d_x_restrict_1 rfl (lv_at hl 1 rfl) ?_
  exact cX1t S hK hO hno (t_grant l hC _ hfl hr) vw_x_grant gw_156 (by decide) (by decide) ⟨by decide, by decide⟩ hl.1 (Nat.le_of_ble_eq_true rfl) d_x_restrict_2 (by decide) (by decide)
set_option maxHeartbeats 4000000 in
set_option maxRecDepth 100000 in
/-- x_restrict: grant 2 throws -/
theorem x_restrict_b2 (l : Launch) {cx : Cx} (hC : Cg cx) (σ : Sg) (hfl : l.flags = flags0) {i1 : Nat} (h1 : i1 < 16) {u n : Int32} (hr : okr u = false) : CT l cx y_x_restrict 7 119 1 6 [.ref (ad cx 17), .int (nI i1), .int u, .int n] σ (.inr 1) σ := by
  refine Con.ofW (cc := prog_1_method_8_code) (maxL := 6) (ret := (some FieldType.boolean)) (by decide +kernel) gw_210 ?_
  intro p e s m args below meth c S ha hnm hno hv
  obtain ⟨rfl, hP, hK⟩ := hv
  have S : Fx p s m ([.ref (ad cx 17), .int (nI i1), .int u, .int n] : List Value).toArray meth c prog_1_method_8_code 6 R_X (some FieldType.boolean) := S
  have hO : Ok cx s σ s.heap [] := ⟨hP, va_S.rf⟩
  have hx := S.1
  have hb := S.2.1
  have hl := lv_entry ([.ref (ad cx 17), .int (nI i1), .int u, .int n]) (n := 6) (Nat.le_of_ble_eq_true rfl)
  rw [lg_entry_eq]
  generalize (lg_sl ([.ref (ad cx 17), .int (nI i1), .int u, .int n]) ++ List.replicate (6 - (lg_sl ([.ref (ad cx 17), .int (nI i1), .int u, .int n])).length) Slot.unset).toArray = ls at hl ⊢
  have hl : lv_has ls 6 [(0, .ref (ad cx 17)), (1, .int (nI i1)), (2, .int u), (3, .int n)] := hl
  refine lv_aload_n hx hb d_x_restrict_0 rfl (lv_at hl 0 rfl) ?_
  refine lv_iload_n hx hb d_x_restrict_1 rfl (lv_at hl 1 rfl) ?_
  refine cX1p S hK hO (p_grant l hC _ h1) vw_x_grant gw_156 (by decide) (by decide) ⟨by decide, by decide⟩ hl.1 (Nat.le_of_ble_eq_true rfl) d_x_restrict_2 ?_
  refine lv_astore hx hb d_x_restrict_5 hl (by decide) rfl (fun ls hl => ?_)
  have hl : lv_has ls 6 [(4, _), (0, _), (1, _), (2, _), (3, _)] := hl
  refine lv_aload_n hx hb d_x_restrict_7 rfl (lv_at hl 1 rfl) ?_
  refine lv_iload_n hx hb d_x_restrict_8 rfl (lv_at hl 3 rfl) ?_
  exact cX1t S hK hO hno (t_grant l hC _ hfl hr) vw_x_grant gw_156 (by decide) (by decide) ⟨by decide, by decide⟩ hl.1 (Nat.le_of_ble_eq_true rfl) d_x_restrict_9 (by decide) (by decide)
set_option maxHeartbeats 4000000 in
set_option maxRecDepth 100000 in
/-- x_seal: grant 1 throws -/
theorem x_seal_b1 (l : Launch) {cx : Cx} (hC : Cg cx) (σ : Sg) (hfl : l.flags = flags0) {r u t : Int32} (hr : okr r = false) : CT l cx y_x_seal 7 119 1 6 [.ref (ad cx 17), .int r, .int u, .int t] σ (.inr 1) σ := by
  refine Con.ofW (cc := prog_1_method_10_code) (maxL := 8) (ret := (some FieldType.int)) (by decide +kernel) gw_217 ?_
  intro p e s m args below meth c S ha hnm hno hv
  obtain ⟨rfl, hP, hK⟩ := hv
  have S : Fx p s m ([.ref (ad cx 17), .int r, .int u, .int t] : List Value).toArray meth c prog_1_method_10_code 8 R_X (some FieldType.int) := S
  have hO : Ok cx s σ s.heap [] := ⟨hP, va_S.rf⟩
  have hx := S.1
  have hb := S.2.1
  have hl := lv_entry ([.ref (ad cx 17), .int r, .int u, .int t]) (n := 8) (Nat.le_of_ble_eq_true rfl)
  rw [lg_entry_eq]
  generalize (lg_sl ([.ref (ad cx 17), .int r, .int u, .int t]) ++ List.replicate (8 - (lg_sl ([.ref (ad cx 17), .int r, .int u, .int t])).length) Slot.unset).toArray = ls at hl ⊢
  have hl : lv_has ls 8 [(0, .ref (ad cx 17)), (1, .int r), (2, .int u), (3, .int t)] := hl
  refine lv_aload_n hx hb d_x_seal_0 rfl (lv_at hl 0 rfl) ?_
  refine lv_iload_n hx hb d_x_seal_1 rfl (lv_at hl 1 rfl) ?_
  exact cX1t S hK hO hno (t_grant l hC _ hfl hr) vw_x_grant gw_156 (by decide) (by decide) ⟨by decide, by decide⟩ hl.1 (Nat.le_of_ble_eq_true rfl) d_x_seal_2 (by decide) (by decide)
set_option maxHeartbeats 4000000 in
set_option maxRecDepth 100000 in
/-- x_seal: grant 2 throws -/
theorem x_seal_b2 (l : Launch) {cx : Cx} (hC : Cg cx) (σ : Sg) (hfl : l.flags = flags0) {i1 : Nat} (h1 : i1 < 16) {u t : Int32} (hr : okr u = false) : CT l cx y_x_seal 7 119 1 6 [.ref (ad cx 17), .int (nI i1), .int u, .int t] σ (.inr 1) σ := by
  refine Con.ofW (cc := prog_1_method_10_code) (maxL := 8) (ret := (some FieldType.int)) (by decide +kernel) gw_217 ?_
  intro p e s m args below meth c S ha hnm hno hv
  obtain ⟨rfl, hP, hK⟩ := hv
  have S : Fx p s m ([.ref (ad cx 17), .int (nI i1), .int u, .int t] : List Value).toArray meth c prog_1_method_10_code 8 R_X (some FieldType.int) := S
  have hO : Ok cx s σ s.heap [] := ⟨hP, va_S.rf⟩
  have hx := S.1
  have hb := S.2.1
  have hl := lv_entry ([.ref (ad cx 17), .int (nI i1), .int u, .int t]) (n := 8) (Nat.le_of_ble_eq_true rfl)
  rw [lg_entry_eq]
  generalize (lg_sl ([.ref (ad cx 17), .int (nI i1), .int u, .int t]) ++ List.replicate (8 - (lg_sl ([.ref (ad cx 17), .int (nI i1), .int u, .int t])).length) Slot.unset).toArray = ls at hl ⊢
  have hl : lv_has ls 8 [(0, .ref (ad cx 17)), (1, .int (nI i1)), (2, .int u), (3, .int t)] := hl
  refine lv_aload_n hx hb d_x_seal_0 rfl (lv_at hl 0 rfl) ?_
  refine lv_iload_n hx hb d_x_seal_1 rfl (lv_at hl 1 rfl) ?_
  refine cX1p S hK hO (p_grant l hC _ h1) vw_x_grant gw_156 (by decide) (by decide) ⟨by decide, by decide⟩ hl.1 (Nat.le_of_ble_eq_true rfl) d_x_seal_2 ?_
  refine lv_astore hx hb d_x_seal_5 hl (by decide) rfl (fun ls hl => ?_)
  have hl : lv_has ls 8 [(4, _), (0, _), (1, _), (2, _), (3, _)] := hl
  refine lv_aload_n hx hb d_x_seal_7 rfl (lv_at hl 1 rfl) ?_
  refine lv_iload_n hx hb d_x_seal_8 rfl (lv_at hl 3 rfl) ?_
  exact cX1t S hK hO hno (t_grant l hC _ hfl hr) vw_x_grant gw_156 (by decide) (by decide) ⟨by decide, by decide⟩ hl.1 (Nat.le_of_ble_eq_true rfl) d_x_seal_9 (by decide) (by decide)
set_option maxHeartbeats 4000000 in
set_option maxRecDepth 100000 in
/-- x_seal: grant 3 throws -/
theorem x_seal_b3 (l : Launch) {cx : Cx} (hC : Cg cx) (σ : Sg) (hfl : l.flags = flags0) {i1 : Nat} (h1 : i1 < 16) {i2 : Nat} (h2 : i2 < 16) {t : Int32} (hr : okr t = false) : CT l cx y_x_seal 7 119 1 6 [.ref (ad cx 17), .int (nI i1), .int (nI i2), .int t] σ (.inr 1) σ := by
  refine Con.ofW (cc := prog_1_method_10_code) (maxL := 8) (ret := (some FieldType.int)) (by decide +kernel) gw_217 ?_
  intro p e s m args below meth c S ha hnm hno hv
  obtain ⟨rfl, hP, hK⟩ := hv
  have S : Fx p s m ([.ref (ad cx 17), .int (nI i1), .int (nI i2), .int t] : List Value).toArray meth c prog_1_method_10_code 8 R_X (some FieldType.int) := S
  have hO : Ok cx s σ s.heap [] := ⟨hP, va_S.rf⟩
  have hx := S.1
  have hb := S.2.1
  have hl := lv_entry ([.ref (ad cx 17), .int (nI i1), .int (nI i2), .int t]) (n := 8) (Nat.le_of_ble_eq_true rfl)
  rw [lg_entry_eq]
  generalize (lg_sl ([.ref (ad cx 17), .int (nI i1), .int (nI i2), .int t]) ++ List.replicate (8 - (lg_sl ([.ref (ad cx 17), .int (nI i1), .int (nI i2), .int t])).length) Slot.unset).toArray = ls at hl ⊢
  have hl : lv_has ls 8 [(0, .ref (ad cx 17)), (1, .int (nI i1)), (2, .int (nI i2)), (3, .int t)] := hl
  refine lv_aload_n hx hb d_x_seal_0 rfl (lv_at hl 0 rfl) ?_
  refine lv_iload_n hx hb d_x_seal_1 rfl (lv_at hl 1 rfl) ?_
  refine cX1p S hK hO (p_grant l hC _ h1) vw_x_grant gw_156 (by decide) (by decide) ⟨by decide, by decide⟩ hl.1 (Nat.le_of_ble_eq_true rfl) d_x_seal_2 ?_
  refine lv_astore hx hb d_x_seal_5 hl (by decide) rfl (fun ls hl => ?_)
  have hl : lv_has ls 8 [(4, _), (0, _), (1, _), (2, _), (3, _)] := hl
  refine lv_aload_n hx hb d_x_seal_7 rfl (lv_at hl 1 rfl) ?_
  refine lv_iload_n hx hb d_x_seal_8 rfl (lv_at hl 3 rfl) ?_
  refine cX1p S hK hO (p_grant l hC _ h2) vw_x_grant gw_156 (by decide) (by decide) ⟨by decide, by decide⟩ hl.1 (Nat.le_of_ble_eq_true rfl) d_x_seal_9 ?_
  refine lv_astore hx hb d_x_seal_12 hl (by decide) rfl (fun ls hl => ?_)
  have hl : lv_has ls 8 [(5, _), (4, _), (0, _), (1, _), (2, _), (3, _)] := hl
  refine lv_aload_n hx hb d_x_seal_14 rfl (lv_at hl 2 rfl) ?_
  refine lv_iload_n hx hb d_x_seal_15 rfl (lv_at hl 5 rfl) ?_
  exact cX1t S hK hO hno (t_grant l hC _ hfl hr) vw_x_grant gw_156 (by decide) (by decide) ⟨by decide, by decide⟩ hl.1 (Nat.le_of_ble_eq_true rfl) d_x_seal_16 (by decide) (by decide)
set_option maxHeartbeats 4000000 in
set_option maxRecDepth 100000 in
/-- x_unseal: grant 1 throws -/
theorem x_unseal_b1 (l : Launch) {cx : Cx} (hC : Cg cx) (σ : Sg) (hfl : l.flags = flags0) {r u t : Int32} (hr : okr r = false) : CT l cx y_x_unseal 7 119 1 6 [.ref (ad cx 17), .int r, .int u, .int t] σ (.inr 1) σ := by
  refine Con.ofW (cc := prog_1_method_11_code) (maxL := 8) (ret := (some FieldType.int)) (by decide +kernel) gw_225 ?_
  intro p e s m args below meth c S ha hnm hno hv
  obtain ⟨rfl, hP, hK⟩ := hv
  have S : Fx p s m ([.ref (ad cx 17), .int r, .int u, .int t] : List Value).toArray meth c prog_1_method_11_code 8 R_X (some FieldType.int) := S
  have hO : Ok cx s σ s.heap [] := ⟨hP, va_S.rf⟩
  have hx := S.1
  have hb := S.2.1
  have hl := lv_entry ([.ref (ad cx 17), .int r, .int u, .int t]) (n := 8) (Nat.le_of_ble_eq_true rfl)
  rw [lg_entry_eq]
  generalize (lg_sl ([.ref (ad cx 17), .int r, .int u, .int t]) ++ List.replicate (8 - (lg_sl ([.ref (ad cx 17), .int r, .int u, .int t])).length) Slot.unset).toArray = ls at hl ⊢
  have hl : lv_has ls 8 [(0, .ref (ad cx 17)), (1, .int r), (2, .int u), (3, .int t)] := hl
  refine lv_aload_n hx hb d_x_unseal_0 rfl (lv_at hl 0 rfl) ?_
  refine lv_iload_n hx hb d_x_unseal_1 rfl (lv_at hl 1 rfl) ?_
  exact cX1t S hK hO hno (t_grant l hC _ hfl hr) vw_x_grant gw_156 (by decide) (by decide) ⟨by decide, by decide⟩ hl.1 (Nat.le_of_ble_eq_true rfl) d_x_unseal_2 (by decide) (by decide)
set_option maxHeartbeats 4000000 in
set_option maxRecDepth 100000 in
/-- x_unseal: grant 2 throws -/
theorem x_unseal_b2 (l : Launch) {cx : Cx} (hC : Cg cx) (σ : Sg) (hfl : l.flags = flags0) {i1 : Nat} (h1 : i1 < 16) {u t : Int32} (hr : okr u = false) : CT l cx y_x_unseal 7 119 1 6 [.ref (ad cx 17), .int (nI i1), .int u, .int t] σ (.inr 1) σ := by
  refine Con.ofW (cc := prog_1_method_11_code) (maxL := 8) (ret := (some FieldType.int)) (by decide +kernel) gw_225 ?_
  intro p e s m args below meth c S ha hnm hno hv
  obtain ⟨rfl, hP, hK⟩ := hv
  have S : Fx p s m ([.ref (ad cx 17), .int (nI i1), .int u, .int t] : List Value).toArray meth c prog_1_method_11_code 8 R_X (some FieldType.int) := S
  have hO : Ok cx s σ s.heap [] := ⟨hP, va_S.rf⟩
  have hx := S.1
  have hb := S.2.1
  have hl := lv_entry ([.ref (ad cx 17), .int (nI i1), .int u, .int t]) (n := 8) (Nat.le_of_ble_eq_true rfl)
  rw [lg_entry_eq]
  generalize (lg_sl ([.ref (ad cx 17), .int (nI i1), .int u, .int t]) ++ List.replicate (8 - (lg_sl ([.ref (ad cx 17), .int (nI i1), .int u, .int t])).length) Slot.unset).toArray = ls at hl ⊢
  have hl : lv_has ls 8 [(0, .ref (ad cx 17)), (1, .int (nI i1)), (2, .int u), (3, .int t)] := hl
  refine lv_aload_n hx hb d_x_unseal_0 rfl (lv_at hl 0 rfl) ?_
  refine lv_iload_n hx hb d_x_unseal_1 rfl (lv_at hl 1 rfl) ?_
  refine cX1p S hK hO (p_grant l hC _ h1) vw_x_grant gw_156 (by decide) (by decide) ⟨by decide, by decide⟩ hl.1 (Nat.le_of_ble_eq_true rfl) d_x_unseal_2 ?_
  refine lv_astore hx hb d_x_unseal_5 hl (by decide) rfl (fun ls hl => ?_)
  have hl : lv_has ls 8 [(4, _), (0, _), (1, _), (2, _), (3, _)] := hl
  refine lv_aload_n hx hb d_x_unseal_7 rfl (lv_at hl 1 rfl) ?_
  refine lv_iload_n hx hb d_x_unseal_8 rfl (lv_at hl 3 rfl) ?_
  exact cX1t S hK hO hno (t_grant l hC _ hfl hr) vw_x_grant gw_156 (by decide) (by decide) ⟨by decide, by decide⟩ hl.1 (Nat.le_of_ble_eq_true rfl) d_x_unseal_9 (by decide) (by decide)
set_option maxHeartbeats 4000000 in
set_option maxRecDepth 100000 in
/-- x_unseal: grant 3 throws -/
theorem x_unseal_b3 (l : Launch) {cx : Cx} (hC : Cg cx) (σ : Sg) (hfl : l.flags = flags0) {i1 : Nat} (h1 : i1 < 16) {i2 : Nat} (h2 : i2 < 16) {t : Int32} (hr : okr t = false) : CT l cx y_x_unseal 7 119 1 6 [.ref (ad cx 17), .int (nI i1), .int (nI i2), .int t] σ (.inr 1) σ := by
  refine Con.ofW (cc := prog_1_method_11_code) (maxL := 8) (ret := (some FieldType.int)) (by decide +kernel) gw_225 ?_
  intro p e s m args below meth c S ha hnm hno hv
  obtain ⟨rfl, hP, hK⟩ := hv
  have S : Fx p s m ([.ref (ad cx 17), .int (nI i1), .int (nI i2), .int t] : List Value).toArray meth c prog_1_method_11_code 8 R_X (some FieldType.int) := S
  have hO : Ok cx s σ s.heap [] := ⟨hP, va_S.rf⟩
  have hx := S.1
  have hb := S.2.1
  have hl := lv_entry ([.ref (ad cx 17), .int (nI i1), .int (nI i2), .int t]) (n := 8) (Nat.le_of_ble_eq_true rfl)
  rw [lg_entry_eq]
  generalize (lg_sl ([.ref (ad cx 17), .int (nI i1), .int (nI i2), .int t]) ++ List.replicate (8 - (lg_sl ([.ref (ad cx 17), .int (nI i1), .int (nI i2), .int t])).length) Slot.unset).toArray = ls at hl ⊢
  have hl : lv_has ls 8 [(0, .ref (ad cx 17)), (1, .int (nI i1)), (2, .int (nI i2)), (3, .int t)] := hl
  refine lv_aload_n hx hb d_x_unseal_0 rfl (lv_at hl 0 rfl) ?_
  refine lv_iload_n hx hb d_x_unseal_1 rfl (lv_at hl 1 rfl) ?_
  refine cX1p S hK hO (p_grant l hC _ h1) vw_x_grant gw_156 (by decide) (by decide) ⟨by decide, by decide⟩ hl.1 (Nat.le_of_ble_eq_true rfl) d_x_unseal_2 ?_
  refine lv_astore hx hb d_x_unseal_5 hl (by decide) rfl (fun ls hl => ?_)
  have hl : lv_has ls 8 [(4, _), (0, _), (1, _), (2, _), (3, _)] := hl
  refine lv_aload_n hx hb d_x_unseal_7 rfl (lv_at hl 1 rfl) ?_
  refine lv_iload_n hx hb d_x_unseal_8 rfl (lv_at hl 3 rfl) ?_
  refine cX1p S hK hO (p_grant l hC _ h2) vw_x_grant gw_156 (by decide) (by decide) ⟨by decide, by decide⟩ hl.1 (Nat.le_of_ble_eq_true rfl) d_x_unseal_9 ?_
  refine lv_astore hx hb d_x_unseal_12 hl (by decide) rfl (fun ls hl => ?_)
  have hl : lv_has ls 8 [(5, _), (4, _), (0, _), (1, _), (2, _), (3, _)] := hl
  refine lv_aload_n hx hb d_x_unseal_14 rfl (lv_at hl 2 rfl) ?_
  refine lv_iload_n hx hb d_x_unseal_15 rfl (lv_at hl 5 rfl) ?_
  exact cX1t S hK hO hno (t_grant l hC _ hfl hr) vw_x_grant gw_156 (by decide) (by decide) ⟨by decide, by decide⟩ hl.1 (Nat.le_of_ble_eq_true rfl) d_x_unseal_16 (by decide) (by decide)
set_option maxHeartbeats 4000000 in
set_option maxRecDepth 100000 in
/-- x_within: grant 1 throws -/
theorem x_within_b1 (l : Launch) {cx : Cx} (hC : Cg cx) (σ : Sg) (hfl : l.flags = flags0) {r u : Int32} (hr : okr r = false) : CT l cx y_x_within 7 119 1 6 [.ref (ad cx 17), .int r, .int u] σ (.inr 1) σ := by
  refine Con.ofW (cc := prog_1_method_13_code) (maxL := 5) (ret := (some FieldType.boolean)) (by decide +kernel) gw_240 ?_
  intro p e s m args below meth c S ha hnm hno hv
  obtain ⟨rfl, hP, hK⟩ := hv
  have S : Fx p s m ([.ref (ad cx 17), .int r, .int u] : List Value).toArray meth c prog_1_method_13_code 5 R_X (some FieldType.boolean) := S
  have hO : Ok cx s σ s.heap [] := ⟨hP, va_S.rf⟩
  have hx := S.1
  have hb := S.2.1
  have hl := lv_entry ([.ref (ad cx 17), .int r, .int u]) (n := 5) (Nat.le_of_ble_eq_true rfl)
  rw [lg_entry_eq]
  generalize (lg_sl ([.ref (ad cx 17), .int r, .int u]) ++ List.replicate (5 - (lg_sl ([.ref (ad cx 17), .int r, .int u])).length) Slot.unset).toArray = ls at hl ⊢
  have hl : lv_has ls 5 [(0, .ref (ad cx 17)), (1, .int r), (2, .int u)] := hl
  refine lv_aload_n hx hb d_x_within_0 rfl (lv_at hl 0 rfl) ?_
  refine lv_iload_n hx hb d_x_within_1 rfl (lv_at hl 1 rfl) ?_
  exact cX1t S hK hO hno (t_grant l hC _ hfl hr) vw_x_grant gw_156 (by decide) (by decide) ⟨by decide, by decide⟩ hl.1 (Nat.le_of_ble_eq_true rfl) d_x_within_2 (by decide) (by decide)
set_option maxHeartbeats 4000000 in
set_option maxRecDepth 100000 in
/-- x_within: grant 2 throws -/
theorem x_within_b2 (l : Launch) {cx : Cx} (hC : Cg cx) (σ : Sg) (hfl : l.flags = flags0) {i1 : Nat} (h1 : i1 < 16) {u : Int32} (hr : okr u = false) : CT l cx y_x_within 7 119 1 6 [.ref (ad cx 17), .int (nI i1), .int u] σ (.inr 1) σ := by
  refine Con.ofW (cc := prog_1_method_13_code) (maxL := 5) (ret := (some FieldType.boolean)) (by decide +kernel) gw_240 ?_
  intro p e s m args below meth c S ha hnm hno hv
  obtain ⟨rfl, hP, hK⟩ := hv
  have S : Fx p s m ([.ref (ad cx 17), .int (nI i1), .int u] : List Value).toArray meth c prog_1_method_13_code 5 R_X (some FieldType.boolean) := S
  have hO : Ok cx s σ s.heap [] := ⟨hP, va_S.rf⟩
  have hx := S.1
  have hb := S.2.1
  have hl := lv_entry ([.ref (ad cx 17), .int (nI i1), .int u]) (n := 5) (Nat.le_of_ble_eq_true rfl)
  rw [lg_entry_eq]
  generalize (lg_sl ([.ref (ad cx 17), .int (nI i1), .int u]) ++ List.replicate (5 - (lg_sl ([.ref (ad cx 17), .int (nI i1), .int u])).length) Slot.unset).toArray = ls at hl ⊢
  have hl : lv_has ls 5 [(0, .ref (ad cx 17)), (1, .int (nI i1)), (2, .int u)] := hl
  refine lv_aload_n hx hb d_x_within_0 rfl (lv_at hl 0 rfl) ?_
  refine lv_iload_n hx hb d_x_within_1 rfl (lv_at hl 1 rfl) ?_
  refine cX1p S hK hO (p_grant l hC _ h1) vw_x_grant gw_156 (by decide) (by decide) ⟨by decide, by decide⟩ hl.1 (Nat.le_of_ble_eq_true rfl) d_x_within_2 ?_
  refine lv_astore_n hx hb d_x_within_5 rfl hl (by decide) rfl (fun ls hl => ?_)
  have hl : lv_has ls 5 [(3, _), (0, _), (1, _), (2, _)] := hl
  refine lv_aload_n hx hb d_x_within_6 rfl (lv_at hl 1 rfl) ?_
  refine lv_iload_n hx hb d_x_within_7 rfl (lv_at hl 3 rfl) ?_
  exact cX1t S hK hO hno (t_grant l hC _ hfl hr) vw_x_grant gw_156 (by decide) (by decide) ⟨by decide, by decide⟩ hl.1 (Nat.le_of_ble_eq_true rfl) d_x_within_8 (by decide) (by decide)
set_option maxHeartbeats 4000000 in
set_option maxRecDepth 100000 in
/-- root, in range -/
theorem x_root_ok (l : Launch) {cx : Cx} (hC : Cg cx) (σ : Sg) {i : Nat} (hi0 : i < 16) {lo hi : Int32} {q : Nat} (hq : q < 256) (hle : uw lo ≤ uw hi) : CT l cx y_x_root 7 119 0 0 [.ref (ad cx 17), .int (nI i), .int lo, .int hi, .int (nI q)] σ (.inl none) (up σ.1 i (uw lo, uw lo, uw hi, q, 0, true), σ.2) := by
  refine Con.ofW (cc := prog_1_method_4_code) (maxL := 5) (ret := none) (by decide +kernel) gw_92 ?_
  intro p e s m args below meth c S ha hnm hno hv
  obtain ⟨rfl, hP, hK⟩ := hv
  have S : Fx p s m ([.ref (ad cx 17), .int (nI i), .int lo, .int hi, .int (nI q)] : List Value).toArray meth c prog_1_method_4_code 5 R_X none := S
  have hO : Ok cx s σ s.heap [] := ⟨hP, va_S.rf⟩
  have hx := S.1
  have hb := S.2.1
  have hl := lv_entry ([.ref (ad cx 17), .int (nI i), .int lo, .int hi, .int (nI q)]) (n := 5) (Nat.le_of_ble_eq_true rfl)
  rw [lg_entry_eq]
  generalize (lg_sl ([.ref (ad cx 17), .int (nI i), .int lo, .int hi, .int (nI q)]) ++ List.replicate (5 - (lg_sl ([.ref (ad cx 17), .int (nI i), .int lo, .int hi, .int (nI q)])).length) Slot.unset).toArray = ls at hl ⊢
  have hl : lv_has ls 5 [(0, .ref (ad cx 17)), (1, .int (nI i)), (2, .int lo), (3, .int hi), (4, .int (nI q))] := hl
  refine lv_iload hx hb d_x_root_0 (lv_at hl 4 rfl) ?_
  refine lv_if_lt (tgt := 33) hx hb d_x_root_2 (by decide) (fun h => ?_) (fun h => ?_)
  · exact absurd h (nI_pos (by omega))
  · refine lv_iload hx hb d_x_root_5 (lv_at hl 4 rfl) ?_
    refine lv_sipush (v := 255) hx hb d_x_root_7 (by decide) ?_
    refine lv_icmp_gt (tgt := 33) hx hb d_x_root_10 (by decide) (fun h => ?_) (fun h => ?_)
    · exact absurd (show nI q ≤ 255 from nI_le (b := 255) (by omega) (by decide)) (Int32.not_le.mpr h)
    · refine lv_iload_n hx hb d_x_root_13 rfl (lv_at hl 2 rfl) ?_
      refine lv_i2l hx hb d_x_root_14 rfl ?_
      refine lv_ldc2 (v := 4294967295) hx hb S.2.2.2.1 (S.2.2.2.2.1 _ gw_76) d_x_root_15 ?_
      have hu1 := u1 lo
      refine lv_land hx hb d_x_root_18 ?_
      refine tp_l (z := lN (uw lo)) (hu1) ?_
      refine lv_iload_n hx hb d_x_root_19 rfl (lv_at hl 3 rfl) ?_
      refine lv_i2l hx hb d_x_root_20 rfl ?_
      refine lv_ldc2 (v := 4294967295) hx hb S.2.2.2.1 (S.2.2.2.2.1 _ gw_76) d_x_root_21 ?_
      refine lv_land hx hb d_x_root_24 ?_
      refine tp_l (z := lN (uw hi)) (u1 hi) ?_
      refine W.lcmp hx hb d_x_root_25 ?_
      refine lv_if_gt (tgt := 33) hx hb d_x_root_26 (by decide) (fun h => ?_) (fun h => ?_)
      · exact absurd ((lc_gt (by have := uw_lt lo; omega) (by have := uw_lt hi; omega)).mp h) (by omega)
      · refine lv_iconst (v := 1) hx hb d_x_root_29 (by decide) ?_
        refine lv_goto (tgt := 34) hx hb d_x_root_30 (by decide) ?_
        refine cS1q S hK hO (p_good l hC _) sw_x_good gw_93 (by decide) (by decide) ⟨by decide, by decide⟩ hl.1 (Nat.le_of_ble_eq_true rfl) d_x_root_34 ?_
        refine lv_aload_n hx hb d_x_root_37 rfl (lv_at hl 0 rfl) ?_
        refine lv_iload_n hx hb d_x_root_38 rfl (lv_at hl 1 rfl) ?_
        refine cX1p S hK hO (p_grant l hC _ hi0) vw_x_grant gw_156 (by decide) (by decide) ⟨by decide, by decide⟩ hl.1 (Nat.le_of_ble_eq_true rfl) d_x_root_39 ?_
        refine lv_iload_n hx hb d_x_root_42 rfl (lv_at hl 2 rfl) ?_
        refine lv_i2l hx hb d_x_root_43 rfl ?_
        refine lv_ldc2 (v := 4294967295) hx hb S.2.2.2.1 (S.2.2.2.2.1 _ gw_76) d_x_root_44 ?_
        refine lv_land hx hb d_x_root_47 ?_
        refine tp_l (z := lN (uw lo)) (u1 lo) ?_
        refine lv_iload_n hx hb d_x_root_48 rfl (lv_at hl 3 rfl) ?_
        refine lv_i2l hx hb d_x_root_49 rfl ?_
        refine lv_ldc2 (v := 4294967295) hx hb S.2.2.2.1 (S.2.2.2.2.1 _ gw_76) d_x_root_50 ?_
        refine lv_land hx hb d_x_root_53 ?_
        refine tp_l (z := lN (uw hi)) (u1 hi) ?_
        refine lv_iload hx hb d_x_root_54 (lv_at hl 4 rfl) ?_
        refine lv_iconst (v := bi true) hx hb d_x_root_56 (by decide) ?_
        refine cG4v S hK hO (by omega) (t_set4 l hC _ (by omega) _ _ _ _) vw_g_set gw_175 (by decide) (by decide) ⟨by decide, by decide⟩ hl.1 (Nat.le_of_ble_eq_true rfl) d_x_root_57 (fun H locs hO => ?_)
        try dsimp only at hO
        exact rt_v S hO (by decide) (by decide) d_x_root_60
set_option maxHeartbeats 4000000 in
set_option maxRecDepth 100000 in
/-- root: grant throws -/
theorem x_root_b1 (l : Launch) {cx : Cx} (hC : Cg cx) (σ : Sg) (hfl : l.flags = flags0) {r : Int32} (hr : okr r = false) {lo hi : Int32} {q : Nat} (hq : q < 256) (hle : uw lo ≤ uw hi) : CT l cx y_x_root 7 119 1 6 [.ref (ad cx 17), .int r, .int lo, .int hi, .int (nI q)] σ (.inr 1) σ := by
  refine Con.ofW (cc := prog_1_method_4_code) (maxL := 5) (ret := none) (by decide +kernel) gw_92 ?_
  intro p e s m args below meth c S ha hnm hno hv
  obtain ⟨rfl, hP, hK⟩ := hv
  have S : Fx p s m ([.ref (ad cx 17), .int r, .int lo, .int hi, .int (nI q)] : List Value).toArray meth c prog_1_method_4_code 5 R_X none := S
  have hO : Ok cx s σ s.heap [] := ⟨hP, va_S.rf⟩
  have hx := S.1
  have hb := S.2.1
  have hl := lv_entry ([.ref (ad cx 17), .int r, .int lo, .int hi, .int (nI q)]) (n := 5) (Nat.le_of_ble_eq_true rfl)
  rw [lg_entry_eq]
  generalize (lg_sl ([.ref (ad cx 17), .int r, .int lo, .int hi, .int (nI q)]) ++ List.replicate (5 - (lg_sl ([.ref (ad cx 17), .int r, .int lo, .int hi, .int (nI q)])).length) Slot.unset).toArray = ls at hl ⊢
  have hl : lv_has ls 5 [(0, .ref (ad cx 17)), (1, .int r), (2, .int lo), (3, .int hi), (4, .int (nI q))] := hl
  refine lv_iload hx hb d_x_root_0 (lv_at hl 4 rfl) ?_
  refine lv_if_lt (tgt := 33) hx hb d_x_root_2 (by decide) (fun h => ?_) (fun h => ?_)
  · exact absurd h (nI_pos (by omega))
  · refine lv_iload hx hb d_x_root_5 (lv_at hl 4 rfl) ?_
    refine lv_sipush (v := 255) hx hb d_x_root_7 (by decide) ?_
    refine lv_icmp_gt (tgt := 33) hx hb d_x_root_10 (by decide) (fun h => ?_) (fun h => ?_)
    · exact absurd (show nI q ≤ 255 from nI_le (b := 255) (by omega) (by decide)) (Int32.not_le.mpr h)
    · refine lv_iload_n hx hb d_x_root_13 rfl (lv_at hl 2 rfl) ?_
      refine lv_i2l hx hb d_x_root_14 rfl ?_
      refine lv_ldc2 (v := 4294967295) hx hb S.2.2.2.1 (S.2.2.2.2.1 _ gw_76) d_x_root_15 ?_
      have hu1 := u1 lo
      refine lv_land hx hb d_x_root_18 ?_
      refine tp_l (z := lN (uw lo)) (hu1) ?_
      refine lv_iload_n hx hb d_x_root_19 rfl (lv_at hl 3 rfl) ?_
      refine lv_i2l hx hb d_x_root_20 rfl ?_
      refine lv_ldc2 (v := 4294967295) hx hb S.2.2.2.1 (S.2.2.2.2.1 _ gw_76) d_x_root_21 ?_
      refine lv_land hx hb d_x_root_24 ?_
      refine tp_l (z := lN (uw hi)) (u1 hi) ?_
      refine W.lcmp hx hb d_x_root_25 ?_
      refine lv_if_gt (tgt := 33) hx hb d_x_root_26 (by decide) (fun h => ?_) (fun h => ?_)
      · exact absurd ((lc_gt (by have := uw_lt lo; omega) (by have := uw_lt hi; omega)).mp h) (by omega)
      · refine lv_iconst (v := 1) hx hb d_x_root_29 (by decide) ?_
        refine lv_goto (tgt := 34) hx hb d_x_root_30 (by decide) ?_
        refine cS1q S hK hO (p_good l hC _) sw_x_good gw_93 (by decide) (by decide) ⟨by decide, by decide⟩ hl.1 (Nat.le_of_ble_eq_true rfl) d_x_root_34 ?_
        refine lv_aload_n hx hb d_x_root_37 rfl (lv_at hl 0 rfl) ?_
        refine lv_iload_n hx hb d_x_root_38 rfl (lv_at hl 1 rfl) ?_
        exact cX1t S hK hO hno (t_grant l hC _ hfl hr) vw_x_grant gw_156 (by decide) (by decide) ⟨by decide, by decide⟩ hl.1 (Nat.le_of_ble_eq_true rfl) d_x_root_39 (by decide) (by decide)
set_option maxHeartbeats 4000000 in
set_option maxRecDepth 100000 in
/-- root: good throws -/
theorem x_root_b0 (l : Launch) {cx : Cx} (hC : Cg cx) (σ : Sg) (hfl : l.flags = flags0) {r lo hi q : Int32} (hb0 : rtB lo hi q = false) : CT l cx y_x_root 7 119 1 6 [.ref (ad cx 17), .int r, .int lo, .int hi, .int q] σ (.inr 0) σ := by
  refine Con.ofW (cc := prog_1_method_4_code) (maxL := 5) (ret := none) (by decide +kernel) gw_92 ?_
  intro p e s m args below meth c S ha hnm hno hv
  obtain ⟨rfl, hP, hK⟩ := hv
  have S : Fx p s m ([.ref (ad cx 17), .int r, .int lo, .int hi, .int q] : List Value).toArray meth c prog_1_method_4_code 5 R_X none := S
  have hO : Ok cx s σ s.heap [] := ⟨hP, va_S.rf⟩
  have hx := S.1
  have hb := S.2.1
  have hl := lv_entry ([.ref (ad cx 17), .int r, .int lo, .int hi, .int q]) (n := 5) (Nat.le_of_ble_eq_true rfl)
  rw [lg_entry_eq]
  generalize (lg_sl ([.ref (ad cx 17), .int r, .int lo, .int hi, .int q]) ++ List.replicate (5 - (lg_sl ([.ref (ad cx 17), .int r, .int lo, .int hi, .int q])).length) Slot.unset).toArray = ls at hl ⊢
  have hl : lv_has ls 5 [(0, .ref (ad cx 17)), (1, .int r), (2, .int lo), (3, .int hi), (4, .int q)] := hl
  refine lv_iload hx hb d_x_root_0 (lv_at hl 4 rfl) ?_
  refine lv_if_lt (tgt := 33) hx hb d_x_root_2 (by decide) (fun h0 => ?_) (fun h0 => ?_)
  · refine lv_iconst (v := 0) hx hb d_x_root_33 (by decide) ?_
    exact cS1t S hK hO hno (t_good l hC _ hfl) sw_x_good gw_93 (by decide) (by decide) ⟨by decide, by decide⟩ hl.1 (Nat.le_of_ble_eq_true rfl) d_x_root_34 (by decide) (by decide)
  · refine lv_iload hx hb d_x_root_5 (lv_at hl 4 rfl) ?_
    refine lv_sipush (v := 255) hx hb d_x_root_7 (by decide) ?_
    refine lv_icmp_gt (tgt := 33) hx hb d_x_root_10 (by decide) (fun h1 => ?_) (fun h1 => ?_)
    · refine lv_iconst (v := 0) hx hb d_x_root_33 (by decide) ?_
      exact cS1t S hK hO hno (t_good l hC _ hfl) sw_x_good gw_93 (by decide) (by decide) ⟨by decide, by decide⟩ hl.1 (Nat.le_of_ble_eq_true rfl) d_x_root_34 (by decide) (by decide)
    · refine lv_iload_n hx hb d_x_root_13 rfl (lv_at hl 2 rfl) ?_
      refine lv_i2l hx hb d_x_root_14 rfl ?_
      refine lv_ldc2 (v := 4294967295) hx hb S.2.2.2.1 (S.2.2.2.2.1 _ gw_76) d_x_root_15 ?_
      refine lv_land hx hb d_x_root_18 ?_
      refine tp_l (z := lN (uw lo)) (u1 lo) ?_
      refine lv_iload_n hx hb d_x_root_19 rfl (lv_at hl 3 rfl) ?_
      refine lv_i2l hx hb d_x_root_20 rfl ?_
      refine lv_ldc2 (v := 4294967295) hx hb S.2.2.2.1 (S.2.2.2.2.1 _ gw_76) d_x_root_21 ?_
      refine lv_land hx hb d_x_root_24 ?_
      refine tp_l (z := lN (uw hi)) (u1 hi) ?_
      refine W.lcmp hx hb d_x_root_25 ?_
      refine lv_if_gt (tgt := 33) hx hb d_x_root_26 (by decide) (fun h => ?_) (fun h => ?_)
      · refine lv_iconst (v := 0) hx hb d_x_root_33 (by decide) ?_
        exact cS1t S hK hO hno (t_good l hC _ hfl) sw_x_good gw_93 (by decide) (by decide) ⟨by decide, by decide⟩ hl.1 (Nat.le_of_ble_eq_true rfl) d_x_root_34 (by decide) (by decide)
      · have g1 : 0 ≤ q.toInt := Int.not_lt.mp fun z => h0 (lt0.mpr z)
        have g2 : q.toInt ≤ 255 := by have := Int32.not_lt.mp h1; rw [Int32.le_iff_toInt_le] at this; exact this
        have g3 : uw lo ≤ uw hi := Nat.le_of_not_lt fun z => h ((lc_gt (by have := uw_lt lo; omega) (by have := uw_lt hi; omega)).mpr z)
        exact absurd hb0 (by simp [rtB, g1, g2, g3])
set_option maxHeartbeats 4000000 in
set_option maxRecDepth 100000 in
/-- number -/
theorem x_number_ok (l : Launch) {cx : Cx} (hC : Cg cx) (σ : Sg) {i : Nat} (hi : i < 16) (v : Int32) : CT l cx y_x_number 7 119 0 0 [.ref (ad cx 17), .int (nI i), .int v] σ (.inl none) (up σ.1 i (uw v, 0, 0, 0, 0, false), σ.2) := by
  refine Con.ofW (cc := prog_1_method_5_code) (maxL := 4) (ret := none) (by decide +kernel) gw_185 ?_
  intro p e s m args below meth c S ha hnm hno hv
  obtain ⟨rfl, hP, hK⟩ := hv
  have S : Fx p s m ([.ref (ad cx 17), .int (nI i), .int v] : List Value).toArray meth c prog_1_method_5_code 4 R_X none := S
  have hO : Ok cx s σ s.heap [] := ⟨hP, va_S.rf⟩
  have hx := S.1
  have hb := S.2.1
  have hl := lv_entry ([.ref (ad cx 17), .int (nI i), .int v]) (n := 4) (Nat.le_of_ble_eq_true rfl)
  rw [lg_entry_eq]
  generalize (lg_sl ([.ref (ad cx 17), .int (nI i), .int v]) ++ List.replicate (4 - (lg_sl ([.ref (ad cx 17), .int (nI i), .int v])).length) Slot.unset).toArray = ls at hl ⊢
  have hl : lv_has ls 4 [(0, .ref (ad cx 17)), (1, .int (nI i)), (2, .int v)] := hl
  refine lv_aload_n hx hb d_x_number_0 rfl (lv_at hl 0 rfl) ?_
  refine lv_iload_n hx hb d_x_number_1 rfl (lv_at hl 1 rfl) ?_
  refine cX1p S hK hO (p_grant l hC _ hi) vw_x_grant gw_156 (by decide) (by decide) ⟨by decide, by decide⟩ hl.1 (Nat.le_of_ble_eq_true rfl) d_x_number_2 ?_
  refine lv_astore_n hx hb d_x_number_5 rfl hl (by decide) rfl (fun ls hl => ?_)
  have hl : lv_has ls 4 [(3, _), (0, _), (1, _), (2, _)] := hl
  refine lv_aload_n hx hb d_x_number_6 rfl (lv_at hl 0 rfl) ?_
  refine lv_lconst (v := lN 0) hx hb d_x_number_7 rfl ?_
  refine lv_lconst (v := lN 0) hx hb d_x_number_8 rfl ?_
  refine lv_iconst (v := nI 0) hx hb d_x_number_9 (by decide) ?_
  refine lv_iconst (v := bi false) hx hb d_x_number_10 (by decide) ?_
  refine cG4v S hK hO (by omega) (t_set4 l hC _ (by omega) _ _ _ _) vw_g_set gw_175 (by decide) (by decide) ⟨by decide, by decide⟩ hl.1 (Nat.le_of_ble_eq_true rfl) d_x_number_11 (fun H locs hO => ?_)
  try dsimp only at hO
  refine lv_aload_n hx hb d_x_number_14 rfl (lv_at hl 0 rfl) ?_
  refine lv_iload_n hx hb d_x_number_15 rfl (lv_at hl 3 rfl) ?_
  refine lv_i2l hx hb d_x_number_16 rfl ?_
  refine lv_ldc2 (v := 4294967295) hx hb S.2.2.2.1 (S.2.2.2.2.1 _ gw_76) d_x_number_17 ?_
  refine lv_land hx hb d_x_number_20 ?_
  refine tp_l (z := lN (uw v)) (u1 v) ?_
  refine gp_address hC S hK hO (by omega) (up_s _ _ _) gw_33 d_x_number_21 (fun H locs hO => ?_)
  try dsimp only at hO
  rw [up_up] at hO
  exact rt_v S hO (by decide) (by decide) d_x_number_24
set_option maxHeartbeats 4000000 in
set_option maxRecDepth 100000 in
/-- move -/
theorem x_move_ok (l : Launch) {cx : Cx} (hC : Cg cx) (σ : Sg) {i j : Nat} (hi : i < 16) (hj : j < 16) (n : Int32) (hg : gok (σ.1 j)) : CT l cx y_x_move 7 119 0 0 [.ref (ad cx 17), .int (nI i), .int (nI j), .int n] σ (.inl none) (up (up σ.1 16 (mv (σ.1 j) n)) i (mv (σ.1 j) n), σ.2) := by
  refine Con.ofW (cc := prog_1_method_6_code) (maxL := 5) (ret := none) (by decide +kernel) gw_192 ?_
  intro p e s m args below meth c S ha hnm hno hv
  obtain ⟨rfl, hP, hK⟩ := hv
  have S : Fx p s m ([.ref (ad cx 17), .int (nI i), .int (nI j), .int n] : List Value).toArray meth c prog_1_method_6_code 5 R_X none := S
  have hO : Ok cx s σ s.heap [] := ⟨hP, va_S.rf⟩
  have hx := S.1
  have hb := S.2.1
  have hl := lv_entry ([.ref (ad cx 17), .int (nI i), .int (nI j), .int n]) (n := 5) (Nat.le_of_ble_eq_true rfl)
  rw [lg_entry_eq]
  generalize (lg_sl ([.ref (ad cx 17), .int (nI i), .int (nI j), .int n]) ++ List.replicate (5 - (lg_sl ([.ref (ad cx 17), .int (nI i), .int (nI j), .int n])).length) Slot.unset).toArray = ls at hl ⊢
  have hl : lv_has ls 5 [(0, .ref (ad cx 17)), (1, .int (nI i)), (2, .int (nI j)), (3, .int n)] := hl
  refine lv_aload_n hx hb d_x_move_0 rfl (lv_at hl 0 rfl) ?_
  refine lv_iload_n hx hb d_x_move_1 rfl (lv_at hl 1 rfl) ?_
  refine cX1p S hK hO (p_grant l hC _ hi) vw_x_grant gw_156 (by decide) (by decide) ⟨by decide, by decide⟩ hl.1 (Nat.le_of_ble_eq_true rfl) d_x_move_2 ?_
  refine lv_astore hx hb d_x_move_5 hl (by decide) rfl (fun ls hl => ?_)
  have hl : lv_has ls 5 [(4, _), (0, _), (1, _), (2, _), (3, _)] := hl
  refine lv_aload_n hx hb d_x_move_7 rfl (lv_at hl 1 rfl) ?_
  refine xg_made S hK hO gw_58 d_x_move_8 ?_
  refine lv_aload_n hx hb d_x_move_11 rfl (lv_at hl 1 rfl) ?_
  refine lv_iload_n hx hb d_x_move_12 rfl (lv_at hl 3 rfl) ?_
  refine cX1p S hK hO (p_grant l hC _ hj) vw_x_grant gw_156 (by decide) (by decide) ⟨by decide, by decide⟩ hl.1 (Nat.le_of_ble_eq_true rfl) d_x_move_13 ?_
  refine cG1v S hK hO (by decide) (t_take l hC _ (by decide) (by omega) (by omega)) vw_g_take gw_193 (by decide) (by decide) ⟨by decide, by decide⟩ hl.1 (Nat.le_of_ble_eq_true rfl) d_x_move_16 (fun H locs hO => ?_)
  try dsimp only at hO
  refine lv_aload_n hx hb d_x_move_19 rfl (lv_at hl 1 rfl) ?_
  refine xg_made S hK hO gw_58 d_x_move_20 ?_
  refine lv_aload_n hx hb d_x_move_23 rfl (lv_at hl 1 rfl) ?_
  refine xg_made S hK hO gw_58 d_x_move_24 ?_
  refine gg_address S hK hO (by decide) (up_s σ.1 16 (σ.1 j)) gw_33 d_x_move_27 ?_
  refine lv_iload_n hx hb d_x_move_30 rfl (lv_at hl 4 rfl) ?_
  refine lv_i2l hx hb d_x_move_31 rfl ?_
  refine lv_ladd hx hb d_x_move_32 ?_
  refine lv_ldc2 (v := 4294967295) hx hb S.2.2.2.1 (S.2.2.2.2.1 _ gw_76) d_x_move_33 ?_
  refine lv_land hx hb d_x_move_36 ?_
  refine tp_l (z := lN ((qa (σ.1 j) + uw n) % 4294967296)) (u2 hg.1 n) ?_
  refine gp_address hC S hK hO (by decide) (up_s _ _ _) gw_33 d_x_move_37 (fun H locs hO => ?_)
  try dsimp only at hO
  rw [up_up] at hO
  refine lv_aload_n hx hb d_x_move_40 rfl (lv_at hl 1 rfl) ?_
  refine xg_made S hK hO gw_58 d_x_move_41 ?_
  refine cG0p S hK hO (by decide) (p_sealed l hC _ (i := 16) (by decide) (g := sA (σ.1 j) ((qa (σ.1 j) + uw n) % 4294967296)) (up_s σ.1 16 _) ⟨Nat.mod_lt _ (by decide), hg.2⟩) vw_g_sealed gw_68 (by decide) (by decide) ⟨by decide, by decide⟩ hl.1 (Nat.le_of_ble_eq_true rfl) d_x_move_44 ?_
  refine lv_if_eq (tgt := 62) hx hb d_x_move_47 (by decide) (fun h => ?_) (fun h => ?_)
  · have hy : qy (σ.1 j) = 0 := Decidable.of_not_not (of_decide_eq_false (bi_0.mp h))
    refine lv_aload hx hb d_x_move_62 (lv_at hl 0 rfl) ?_
    refine lv_aload_n hx hb d_x_move_64 rfl (lv_at hl 1 rfl) ?_
    refine xg_made S hK hO gw_58 d_x_move_65 ?_
    refine cG1v S hK hO (by omega) (t_take l hC _ (by omega) (by decide) (by omega)) vw_g_take gw_193 (by decide) (by decide) ⟨by decide, by decide⟩ hl.1 (Nat.le_of_ble_eq_true rfl) d_x_move_68 (fun H locs hO => ?_)
    try dsimp only at hO
    rw [up_s, mv_1 (Or.inl hy)] at hO
    exact rt_v S hO (by decide) (by decide) d_x_move_71
  · have hy : qy (σ.1 j) ≠ 0 := of_decide_eq_true (bi_n.mp h)
    refine lv_iload_n hx hb d_x_move_50 rfl (lv_at hl 4 rfl) ?_
    refine lv_if_eq (tgt := 62) hx hb d_x_move_51 (by decide) (fun h => ?_) (fun h => ?_)
    · refine lv_aload hx hb d_x_move_62 (lv_at hl 0 rfl) ?_
      refine lv_aload_n hx hb d_x_move_64 rfl (lv_at hl 1 rfl) ?_
      refine xg_made S hK hO gw_58 d_x_move_65 ?_
      refine cG1v S hK hO (by omega) (t_take l hC _ (by omega) (by decide) (by omega)) vw_g_take gw_193 (by decide) (by decide) ⟨by decide, by decide⟩ hl.1 (Nat.le_of_ble_eq_true rfl) d_x_move_68 (fun H locs hO => ?_)
      try dsimp only at hO
      rw [up_s, mv_1 (Or.inr h)] at hO
      exact rt_v S hO (by decide) (by decide) d_x_move_71
    · refine lv_aload_n hx hb d_x_move_54 rfl (lv_at hl 1 rfl) ?_
      refine xg_made S hK hO gw_58 d_x_move_55 ?_
      refine lv_iconst (v := bi false) hx hb d_x_move_58 (by decide) ?_
      refine gp_tag hC S hK hO (by decide) (up_s _ _ _) gw_43 d_x_move_59 (fun H locs hO => ?_)
      try dsimp only at hO
      rw [up_up] at hO
      refine lv_aload hx hb d_x_move_62 (lv_at hl 0 rfl) ?_
      refine lv_aload_n hx hb d_x_move_64 rfl (lv_at hl 1 rfl) ?_
      refine xg_made S hK hO gw_58 d_x_move_65 ?_
      refine cG1v S hK hO (by omega) (t_take l hC _ (by omega) (by decide) (by omega)) vw_g_take gw_193 (by decide) (by decide) ⟨by decide, by decide⟩ hl.1 (Nat.le_of_ble_eq_true rfl) d_x_move_68 (fun H locs hO => ?_)
      try dsimp only at hO
      rw [up_s, mv_2 hy h] at hO
      exact rt_v S hO (by decide) (by decide) d_x_move_71
set_option maxHeartbeats 4000000 in
set_option maxRecDepth 100000 in
/-- narrow -/
theorem x_narrow_ok (l : Launch) {cx : Cx} (hC : Cg cx) (σ : Sg) {i j : Nat} (hi : i < 16) (hj : j < 16) (n : Int32) (hg : gok (σ.1 j)) : CT l cx y_x_narrow 7 119 0 0 [.ref (ad cx 17), .int (nI i), .int (nI j), .int n] σ (.inl (some (.int (bi (qg (nw (σ.1 j) n)))))) (up (up σ.1 16 (nw (σ.1 j) n)) i (nw (σ.1 j) n), σ.2) := by
  refine Con.ofW (cc := prog_1_method_7_code) (maxL := 8) (ret := (some FieldType.boolean)) (by decide +kernel) gw_203 ?_
  intro p e s m args below meth c S ha hnm hno hv
  obtain ⟨rfl, hP, hK⟩ := hv
  have S : Fx p s m ([.ref (ad cx 17), .int (nI i), .int (nI j), .int n] : List Value).toArray meth c prog_1_method_7_code 8 R_X (some FieldType.boolean) := S
  have hO : Ok cx s σ s.heap [] := ⟨hP, va_S.rf⟩
  have hx := S.1
  have hb := S.2.1
  have hl := lv_entry ([.ref (ad cx 17), .int (nI i), .int (nI j), .int n]) (n := 8) (Nat.le_of_ble_eq_true rfl)
  rw [lg_entry_eq]
  generalize (lg_sl ([.ref (ad cx 17), .int (nI i), .int (nI j), .int n]) ++ List.replicate (8 - (lg_sl ([.ref (ad cx 17), .int (nI i), .int (nI j), .int n])).length) Slot.unset).toArray = ls at hl ⊢
  have hl : lv_has ls 8 [(0, .ref (ad cx 17)), (1, .int (nI i)), (2, .int (nI j)), (3, .int n)] := hl
  obtain ⟨k1, k2, k3, k4, k5⟩ := id hg
  have hun := uw_lt n
  refine lv_aload_n hx hb d_x_narrow_0 rfl (lv_at hl 0 rfl) ?_
  refine lv_iload_n hx hb d_x_narrow_1 rfl (lv_at hl 1 rfl) ?_
  refine cX1p S hK hO (p_grant l hC _ hi) vw_x_grant gw_156 (by decide) (by decide) ⟨by decide, by decide⟩ hl.1 (Nat.le_of_ble_eq_true rfl) d_x_narrow_2 ?_
  refine lv_astore hx hb d_x_narrow_5 hl (by decide) rfl (fun ls hl => ?_)
  have hl : lv_has ls 8 [(4, _), (0, _), (1, _), (2, _), (3, _)] := hl
  refine lv_aload_n hx hb d_x_narrow_7 rfl (lv_at hl 1 rfl) ?_
  refine lv_iload_n hx hb d_x_narrow_8 rfl (lv_at hl 3 rfl) ?_
  refine cX1p S hK hO (p_grant l hC _ hj) vw_x_grant gw_156 (by decide) (by decide) ⟨by decide, by decide⟩ hl.1 (Nat.le_of_ble_eq_true rfl) d_x_narrow_9 ?_
  refine lv_astore hx hb d_x_narrow_12 hl (by decide) rfl (fun ls hl => ?_)
  have hl : lv_has ls 8 [(5, _), (4, _), (0, _), (1, _), (2, _), (3, _)] := hl
  refine lv_aload hx hb d_x_narrow_14 (lv_at hl 0 rfl) ?_
  refine gg_address S hK hO (by omega) rfl gw_33 d_x_narrow_16 ?_
  refine lv_iload_n hx hb d_x_narrow_19 rfl (lv_at hl 5 rfl) ?_
  refine lv_i2l hx hb d_x_narrow_20 rfl ?_
  refine lv_ldc2 (v := 4294967295) hx hb S.2.2.2.1 (S.2.2.2.2.1 _ gw_76) d_x_narrow_21 ?_
  refine lv_land hx hb d_x_narrow_24 ?_
  refine tp_l (z := lN (uw n)) (u1 n) ?_
  refine lv_ladd hx hb d_x_narrow_25 ?_
  refine tp_l (z := lN (qa (σ.1 j) + uw n)) (lN_add _ _) ?_
  refine lv_lstore hx hb d_x_narrow_26 hl (by decide) rfl (fun ls hl => ?_)
  have hl : lv_has ls 8 [(6, _), (5, _), (4, _), (0, _), (1, _), (2, _), (3, _)] := hl
  refine lv_aload_n hx hb d_x_narrow_28 rfl (lv_at hl 3 rfl) ?_
  refine xg_made S hK hO gw_58 d_x_narrow_29 ?_
  refine lv_aload hx hb d_x_narrow_32 (lv_at hl 1 rfl) ?_
  refine cG1v S hK hO (by decide) (t_take l hC _ (by decide) (by omega) (by omega)) vw_g_take gw_193 (by decide) (by decide) ⟨by decide, by decide⟩ hl.1 (Nat.le_of_ble_eq_true rfl) d_x_narrow_34 (fun H locs hO => ?_)
  try dsimp only at hO
  refine lv_aload_n hx hb d_x_narrow_37 rfl (lv_at hl 3 rfl) ?_
  refine xg_made S hK hO gw_58 d_x_narrow_38 ?_
  refine lv_aload hx hb d_x_narrow_41 (lv_at hl 1 rfl) ?_
  refine gg_address S hK hO (by omega) (up_n _ _ (by omega)) gw_33 d_x_narrow_43 ?_
  refine gp_base hC S hK hO (by decide) (up_s _ _ _) gw_35 d_x_narrow_46 (fun H locs hO => ?_)
  try dsimp only at hO
  rw [up_up] at hO
  refine lv_aload_n hx hb d_x_narrow_49 rfl (lv_at hl 3 rfl) ?_
  refine xg_made S hK hO gw_58 d_x_narrow_50 ?_
  refine lv_lload hx hb d_x_narrow_53 (lv_at hl 0 rfl) ?_
  refine lv_ldc2 (v := 4294967295) hx hb S.2.2.2.1 (S.2.2.2.2.1 _ gw_76) d_x_narrow_55 ?_
  refine lv_land hx hb d_x_narrow_58 ?_
  refine tp_l (z := lN ((qa (σ.1 j) + uw n) % 4294967296)) (u3 (by omega)) ?_
  refine gp_top hC S hK hO (by decide) (up_s _ _ _) gw_37 d_x_narrow_59 (fun H locs hO => ?_)
  try dsimp only at hO
  rw [up_up] at hO
  refine lv_aload_n hx hb d_x_narrow_62 rfl (lv_at hl 3 rfl) ?_
  refine xg_made S hK hO gw_58 d_x_narrow_63 ?_
  refine mg_b (qg (nw (σ.1 j) n)) 126 ?_ (fun hm => ?_)
  · refine gp_tag hC S hK hO (by decide) (up_s _ _ _) gw_43 d_x_narrow_126 (fun H locs hO => ?_)
    try dsimp only at hO
    rw [up_up] at hO
    refine lv_aload hx hb d_x_narrow_129 (lv_at hl 2 rfl) ?_
    refine lv_aload_n hx hb d_x_narrow_131 rfl (lv_at hl 3 rfl) ?_
    refine xg_made S hK hO gw_58 d_x_narrow_132 ?_
    refine cG1v S hK hO (by omega) (t_take l hC _ (by omega) (by decide) (by omega)) vw_g_take gw_193 (by decide) (by decide) ⟨by decide, by decide⟩ hl.1 (Nat.le_of_ble_eq_true rfl) d_x_narrow_135 (fun H locs hO => ?_)
    try dsimp only at hO
    rw [up_s] at hO
    refine lv_aload hx hb d_x_narrow_138 (lv_at hl 2 rfl) ?_
    refine gg_tag S hK hO (by omega) (up_s _ _ _) gw_43 d_x_narrow_140 ?_
    exact rt_z S hO (bi_nar _) (by decide) (by decide) d_x_narrow_143
  · refine lv_aload hx hb d_x_narrow_66 (lv_at hl 1 rfl) ?_
    refine gg_tag S hK hO (by omega) (up_n _ _ (by omega)) gw_43 d_x_narrow_68 ?_
    refine lv_if_eq (tgt := 125) hx hb d_x_narrow_71 (by decide) (fun h => ?_) (fun h => ?_)
    · refine lv_iconst (v := 0) hx hb d_x_narrow_125 (by decide) ?_
      exact hm _ (bi_o (by have z := bi_0.mp h; simp [nw, z]))
    · have c1 := bi_n.mp h
      refine lv_aload hx hb d_x_narrow_74 (lv_at hl 1 rfl) ?_
      refine cG0p S hK hO (by omega) (p_sealed l hC _ (by omega) (up_n _ _ (by omega)) hg) vw_g_sealed gw_68 (by decide) (by decide) ⟨by decide, by decide⟩ hl.1 (Nat.le_of_ble_eq_true rfl) d_x_narrow_76 ?_
      refine lv_if_ne (tgt := 125) hx hb d_x_narrow_79 (by decide) (fun h => ?_) (fun h => ?_)
      · refine lv_iconst (v := 0) hx hb d_x_narrow_125 (by decide) ?_
        exact hm _ (bi_o (by have z := of_decide_eq_true (bi_n.mp h); simp [nw, z]))
      · have c2 : qy (σ.1 j) = 0 := by have := bi_0.mp h; simpa using this
        refine lv_aload hx hb d_x_narrow_82 (lv_at hl 1 rfl) ?_
        refine gg_address S hK hO (by omega) (up_n _ _ (by omega)) gw_33 d_x_narrow_84 ?_
        refine lv_aload hx hb d_x_narrow_87 (lv_at hl 1 rfl) ?_
        refine gg_base S hK hO (by omega) (up_n _ _ (by omega)) gw_35 d_x_narrow_89 ?_
        refine W.lcmp hx hb d_x_narrow_92 ?_
        refine lv_if_lt (tgt := 125) hx hb d_x_narrow_93 (by decide) (fun h => ?_) (fun h => ?_)
        · refine lv_iconst (v := 0) hx hb d_x_narrow_125 (by decide) ?_
          exact hm _ (bi_o (by have z := (lc_lt (by omega) (by omega)).mp h; have z2 : ¬ qb (σ.1 j) ≤ qa (σ.1 j) := by { omega }; simp [nw, z2]))
        · have c3 : qb (σ.1 j) ≤ qa (σ.1 j) := Nat.le_of_not_lt fun z => h ((lc_lt (by omega) (by omega)).mpr z)
          refine lv_aload hx hb d_x_narrow_96 (lv_at hl 1 rfl) ?_
          refine gg_address S hK hO (by omega) (up_n _ _ (by omega)) gw_33 d_x_narrow_98 ?_
          refine lv_aload hx hb d_x_narrow_101 (lv_at hl 1 rfl) ?_
          refine gg_top S hK hO (by omega) (up_n _ _ (by omega)) gw_37 d_x_narrow_103 ?_
          refine W.lcmp hx hb d_x_narrow_106 ?_
          refine lv_if_gt (tgt := 125) hx hb d_x_narrow_107 (by decide) (fun h => ?_) (fun h => ?_)
          · refine lv_iconst (v := 0) hx hb d_x_narrow_125 (by decide) ?_
            exact hm _ (bi_o (by have z := (lc_gt (by omega) (by omega)).mp h; have z2 : ¬ qa (σ.1 j) ≤ qt (σ.1 j) := by { omega }; simp [nw, z2]))
          · have c4 : qa (σ.1 j) ≤ qt (σ.1 j) := Nat.le_of_not_lt fun z => h ((lc_gt (by omega) (by omega)).mpr z)
            refine lv_lload hx hb d_x_narrow_110 (lv_at hl 0 rfl) ?_
            refine lv_aload hx hb d_x_narrow_112 (lv_at hl 1 rfl) ?_
            refine gg_top S hK hO (by omega) (up_n _ _ (by omega)) gw_37 d_x_narrow_114 ?_
            refine W.lcmp hx hb d_x_narrow_117 ?_
            refine lv_if_gt (tgt := 125) hx hb d_x_narrow_118 (by decide) (fun h => ?_) (fun h => ?_)
            · refine lv_iconst (v := 0) hx hb d_x_narrow_125 (by decide) ?_
              exact hm _ (bi_o (by have z := (lc_gt (by omega) (by omega)).mp h; have z2 : ¬ qa (σ.1 j) + uw n ≤ qt (σ.1 j) := by { omega }; simp [nw, z2]))
            · have c5 : qa (σ.1 j) + uw n ≤ qt (σ.1 j) := Nat.le_of_not_lt fun z => h ((lc_gt (by omega) (by omega)).mpr z)
              refine lv_iconst (v := 1) hx hb d_x_narrow_121 (by decide) ?_
              refine lv_goto (tgt := 126) hx hb d_x_narrow_122 (by decide) ?_
              exact hm _ (bi_1 (by simp [nw, c1, c2, c3, c4, c5]))
set_option maxHeartbeats 4000000 in
set_option maxRecDepth 100000 in
/-- restrict -/
theorem x_restrict_ok (l : Launch) {cx : Cx} (hC : Cg cx) (σ : Sg) {i j : Nat} (hi : i < 16) (hj : j < 16) (n : Int32) (hg : gok (σ.1 j)) : CT l cx y_x_restrict 7 119 0 0 [.ref (ad cx 17), .int (nI i), .int (nI j), .int n] σ (.inl (some (.int (bi (qg (rc (σ.1 j) n)))))) (up (up σ.1 16 (rc (σ.1 j) n)) i (rc (σ.1 j) n), σ.2) := by
  refine Con.ofW (cc := prog_1_method_8_code) (maxL := 6) (ret := (some FieldType.boolean)) (by decide +kernel) gw_210 ?_
  intro p e s m args below meth c S ha hnm hno hv
  obtain ⟨rfl, hP, hK⟩ := hv
  have S : Fx p s m ([.ref (ad cx 17), .int (nI i), .int (nI j), .int n] : List Value).toArray meth c prog_1_method_8_code 6 R_X (some FieldType.boolean) := S
  have hO : Ok cx s σ s.heap [] := ⟨hP, va_S.rf⟩
  have hx := S.1
  have hb := S.2.1
  have hl := lv_entry ([.ref (ad cx 17), .int (nI i), .int (nI j), .int n]) (n := 6) (Nat.le_of_ble_eq_true rfl)
  rw [lg_entry_eq]
  generalize (lg_sl ([.ref (ad cx 17), .int (nI i), .int (nI j), .int n]) ++ List.replicate (6 - (lg_sl ([.ref (ad cx 17), .int (nI i), .int (nI j), .int n])).length) Slot.unset).toArray = ls at hl ⊢
  have hl : lv_has ls 6 [(0, .ref (ad cx 17)), (1, .int (nI i)), (2, .int (nI j)), (3, .int n)] := hl
  obtain ⟨k1, k2, k3, k4, k5⟩ := id hg
  have hun := and_lt k4 n
  refine lv_aload_n hx hb d_x_restrict_0 rfl (lv_at hl 0 rfl) ?_
  refine lv_iload_n hx hb d_x_restrict_1 rfl (lv_at hl 1 rfl) ?_
  refine cX1p S hK hO (p_grant l hC _ hi) vw_x_grant gw_156 (by decide) (by decide) ⟨by decide, by decide⟩ hl.1 (Nat.le_of_ble_eq_true rfl) d_x_restrict_2 ?_
  refine lv_astore hx hb d_x_restrict_5 hl (by decide) rfl (fun ls hl => ?_)
  have hl : lv_has ls 6 [(4, _), (0, _), (1, _), (2, _), (3, _)] := hl
  refine lv_aload_n hx hb d_x_restrict_7 rfl (lv_at hl 1 rfl) ?_
  refine lv_iload_n hx hb d_x_restrict_8 rfl (lv_at hl 3 rfl) ?_
  refine cX1p S hK hO (p_grant l hC _ hj) vw_x_grant gw_156 (by decide) (by decide) ⟨by decide, by decide⟩ hl.1 (Nat.le_of_ble_eq_true rfl) d_x_restrict_9 ?_
  refine lv_astore hx hb d_x_restrict_12 hl (by decide) rfl (fun ls hl => ?_)
  have hl : lv_has ls 6 [(5, _), (4, _), (0, _), (1, _), (2, _), (3, _)] := hl
  refine lv_aload_n hx hb d_x_restrict_14 rfl (lv_at hl 2 rfl) ?_
  refine xg_made S hK hO gw_58 d_x_restrict_15 ?_
  refine lv_aload hx hb d_x_restrict_18 (lv_at hl 0 rfl) ?_
  refine cG1v S hK hO (by decide) (t_take l hC _ (by decide) (by omega) (by omega)) vw_g_take gw_193 (by decide) (by decide) ⟨by decide, by decide⟩ hl.1 (Nat.le_of_ble_eq_true rfl) d_x_restrict_20 (fun H locs hO => ?_)
  try dsimp only at hO
  refine lv_aload_n hx hb d_x_restrict_23 rfl (lv_at hl 2 rfl) ?_
  refine xg_made S hK hO gw_58 d_x_restrict_24 ?_
  refine lv_dup hx hb d_x_restrict_27 rfl ?_
  refine gg_permissions S hK hO (by decide) (up_s σ.1 16 (σ.1 j)) gw_39 d_x_restrict_28 ?_
  refine lv_iload_n hx hb d_x_restrict_31 rfl (lv_at hl 5 rfl) ?_
  refine lv_iand hx hb d_x_restrict_32 ?_
  refine tp_i (z := nI (qp (σ.1 j) &&& uw n)) (iand_N _ _) ?_
  refine gp_permissions hC S hK hO (by decide) (up_s _ _ _) gw_39 d_x_restrict_33 (fun H locs hO => ?_)
  try dsimp only at hO
  rw [up_up] at hO
  refine lv_aload hx hb d_x_restrict_36 (lv_at hl 0 rfl) ?_
  refine cG0p S hK hO (by omega) (p_sealed l hC _ (by omega) (up_n _ _ (by omega)) hg) vw_g_sealed gw_68 (by decide) (by decide) ⟨by decide, by decide⟩ hl.1 (Nat.le_of_ble_eq_true rfl) d_x_restrict_38 ?_
  refine lv_if_eq (tgt := 67) hx hb d_x_restrict_41 (by decide) (fun h => ?_) (fun h => ?_)
  · have hy : qy (σ.1 j) = 0 := by have := bi_0.mp h; simpa using this
    refine lv_aload hx hb d_x_restrict_67 (lv_at hl 1 rfl) ?_
    refine lv_aload_n hx hb d_x_restrict_69 rfl (lv_at hl 2 rfl) ?_
    refine xg_made S hK hO gw_58 d_x_restrict_70 ?_
    refine cG1v S hK hO (by omega) (t_take l hC _ (by omega) (by decide) (by omega)) vw_g_take gw_193 (by decide) (by decide) ⟨by decide, by decide⟩ hl.1 (Nat.le_of_ble_eq_true rfl) d_x_restrict_73 (fun H locs hO => ?_)
    try dsimp only at hO
    rw [up_s, rc_1 (Or.inl hy)] at hO
    refine lv_aload hx hb d_x_restrict_76 (lv_at hl 1 rfl) ?_
    refine gg_tag S hK hO (by omega) (up_s _ _ _) gw_43 d_x_restrict_78 ?_
    exact rt_z S hO (bi_nar _) (by decide) (by decide) d_x_restrict_81
  · have hy : qy (σ.1 j) ≠ 0 := of_decide_eq_true (bi_n.mp h)
    refine lv_aload_n hx hb d_x_restrict_44 rfl (lv_at hl 2 rfl) ?_
    refine xg_made S hK hO gw_58 d_x_restrict_45 ?_
    refine gg_permissions S hK hO (by decide) (up_s σ.1 16 (sP (σ.1 j) (qp (σ.1 j) &&& uw n))) gw_39 d_x_restrict_48 ?_
    refine lv_aload hx hb d_x_restrict_51 (lv_at hl 0 rfl) ?_
    refine gg_permissions S hK hO (by omega) (up_n _ _ (by omega)) gw_39 d_x_restrict_53 ?_
    refine lv_icmp_eq (tgt := 67) hx hb d_x_restrict_56 (by decide) (fun h => ?_) (fun h => ?_)
    · have hp : qp (σ.1 j) &&& uw n = qp (σ.1 j) := (nI_eq (by omega) (by omega)).mp h
      refine lv_aload hx hb d_x_restrict_67 (lv_at hl 1 rfl) ?_
      refine lv_aload_n hx hb d_x_restrict_69 rfl (lv_at hl 2 rfl) ?_
      refine xg_made S hK hO gw_58 d_x_restrict_70 ?_
      refine cG1v S hK hO (by omega) (t_take l hC _ (by omega) (by decide) (by omega)) vw_g_take gw_193 (by decide) (by decide) ⟨by decide, by decide⟩ hl.1 (Nat.le_of_ble_eq_true rfl) d_x_restrict_73 (fun H locs hO => ?_)
      try dsimp only at hO
      rw [up_s, rc_1 (Or.inr hp)] at hO
      refine lv_aload hx hb d_x_restrict_76 (lv_at hl 1 rfl) ?_
      refine gg_tag S hK hO (by omega) (up_s _ _ _) gw_43 d_x_restrict_78 ?_
      exact rt_z S hO (bi_nar _) (by decide) (by decide) d_x_restrict_81
    · have hp : qp (σ.1 j) &&& uw n ≠ qp (σ.1 j) := fun z => h (congrArg nI z)
      refine lv_aload_n hx hb d_x_restrict_59 rfl (lv_at hl 2 rfl) ?_
      refine xg_made S hK hO gw_58 d_x_restrict_60 ?_
      refine lv_iconst (v := bi false) hx hb d_x_restrict_63 (by decide) ?_
      refine gp_tag hC S hK hO (by decide) (up_s _ _ _) gw_43 d_x_restrict_64 (fun H locs hO => ?_)
      try dsimp only at hO
      rw [up_up] at hO
      refine lv_aload hx hb d_x_restrict_67 (lv_at hl 1 rfl) ?_
      refine lv_aload_n hx hb d_x_restrict_69 rfl (lv_at hl 2 rfl) ?_
      refine xg_made S hK hO gw_58 d_x_restrict_70 ?_
      refine cG1v S hK hO (by omega) (t_take l hC _ (by omega) (by decide) (by omega)) vw_g_take gw_193 (by decide) (by decide) ⟨by decide, by decide⟩ hl.1 (Nat.le_of_ble_eq_true rfl) d_x_restrict_73 (fun H locs hO => ?_)
      try dsimp only at hO
      rw [up_s, rc_2 hy hp] at hO
      refine lv_aload hx hb d_x_restrict_76 (lv_at hl 1 rfl) ?_
      refine gg_tag S hK hO (by omega) (up_s _ _ _) gw_43 d_x_restrict_78 ?_
      exact rt_z S hO (bi_nar _) (by decide) (by decide) d_x_restrict_81
set_option maxHeartbeats 4000000 in
set_option maxRecDepth 100000 in
/-- x_seal -/
theorem x_seal_ok (l : Launch) {cx : Cx} (hC : Cg cx) (σ : Sg) {i j t : Nat} (hi : i < 16) (hj : j < 16) (ht : t < 16) (hg : gok (σ.1 j)) (hg2 : gok (σ.1 t)) : CT l cx y_x_seal 7 119 0 0 [.ref (ad cx 17), .int (nI i), .int (nI j), .int (nI t)] σ (.inl (some (.int (slC (σ.1 j) (σ.1 t))))) (if slC (σ.1 j) (σ.1 t) = 0 then (up (up σ.1 16 (sY (σ.1 j) (qa (σ.1 t)))) i (sY (σ.1 j) (qa (σ.1 t))), σ.2) else σ) := by
  refine Con.ofW (cc := prog_1_method_10_code) (maxL := 8) (ret := (some FieldType.int)) (by decide +kernel) gw_217 ?_
  intro p e s m args below meth c S ha hnm hno hv
  obtain ⟨rfl, hP, hK⟩ := hv
  have S : Fx p s m ([.ref (ad cx 17), .int (nI i), .int (nI j), .int (nI t)] : List Value).toArray meth c prog_1_method_10_code 8 R_X (some FieldType.int) := S
  have hO : Ok cx s σ s.heap [] := ⟨hP, va_S.rf⟩
  have hx := S.1
  have hb := S.2.1
  have hl := lv_entry ([.ref (ad cx 17), .int (nI i), .int (nI j), .int (nI t)]) (n := 8) (Nat.le_of_ble_eq_true rfl)
  rw [lg_entry_eq]
  generalize (lg_sl ([.ref (ad cx 17), .int (nI i), .int (nI j), .int (nI t)]) ++ List.replicate (8 - (lg_sl ([.ref (ad cx 17), .int (nI i), .int (nI j), .int (nI t)])).length) Slot.unset).toArray = ls at hl ⊢
  have hl : lv_has ls 8 [(0, .ref (ad cx 17)), (1, .int (nI i)), (2, .int (nI j)), (3, .int (nI t))] := hl
  obtain ⟨k1, k2, k3, k4, k5⟩ := id hg
  obtain ⟨m1, m2, m3, m4, m5⟩ := id hg2
  refine lv_aload_n hx hb d_x_seal_0 rfl (lv_at hl 0 rfl) ?_
  refine lv_iload_n hx hb d_x_seal_1 rfl (lv_at hl 1 rfl) ?_
  refine cX1p S hK hO (p_grant l hC _ hi) vw_x_grant gw_156 (by decide) (by decide) ⟨by decide, by decide⟩ hl.1 (Nat.le_of_ble_eq_true rfl) d_x_seal_2 ?_
  refine lv_astore hx hb d_x_seal_5 hl (by decide) rfl (fun ls hl => ?_)
  have hl : lv_has ls 8 [(4, _), (0, _), (1, _), (2, _), (3, _)] := hl
  refine lv_aload_n hx hb d_x_seal_7 rfl (lv_at hl 1 rfl) ?_
  refine lv_iload_n hx hb d_x_seal_8 rfl (lv_at hl 3 rfl) ?_
  refine cX1p S hK hO (p_grant l hC _ hj) vw_x_grant gw_156 (by decide) (by decide) ⟨by decide, by decide⟩ hl.1 (Nat.le_of_ble_eq_true rfl) d_x_seal_9 ?_
  refine lv_astore hx hb d_x_seal_12 hl (by decide) rfl (fun ls hl => ?_)
  have hl : lv_has ls 8 [(5, _), (4, _), (0, _), (1, _), (2, _), (3, _)] := hl
  refine lv_aload_n hx hb d_x_seal_14 rfl (lv_at hl 2 rfl) ?_
  refine lv_iload_n hx hb d_x_seal_15 rfl (lv_at hl 5 rfl) ?_
  refine cX1p S hK hO (p_grant l hC _ ht) vw_x_grant gw_156 (by decide) (by decide) ⟨by decide, by decide⟩ hl.1 (Nat.le_of_ble_eq_true rfl) d_x_seal_16 ?_
  refine lv_astore hx hb d_x_seal_19 hl (by decide) rfl (fun ls hl => ?_)
  have hl : lv_has ls 8 [(6, _), (5, _), (4, _), (0, _), (1, _), (2, _), (3, _)] := hl
  refine mg_b ((qg (σ.1 j) && qg (σ.1 t))) 42 ?_ (fun hm => ?_)
  · refine mg_b ((decide (qy (σ.1 j) = 0) && decide (qy (σ.1 t) = 0))) 63 ?_ (fun hm => ?_)
    · refine lv_aload hx hb d_x_seal_63 (lv_at hl 0 rfl) ?_
      refine lv_bipush (v := 32) hx hb d_x_seal_65 (by decide) ?_
      refine cG1p S hK hO (by omega) (p_may l hC _ (by omega) rfl _) vw_g_may gw_72 (by decide) (by decide) ⟨by decide, by decide⟩ hl.1 (Nat.le_of_ble_eq_true rfl) d_x_seal_67 ?_
      refine mg_b ((hasB (σ.1 t) (qa (σ.1 t)) 1 && decide (0 < qa (σ.1 t)) && decide (qa (σ.1 t) ≤ 65535))) 111 ?_ (fun hm => ?_)
      · refine cS4p S hK hO (p_cause l hC _ _ _ _ _) sw_x_cause gw_81 (by decide) (by decide) ⟨by decide, by decide⟩ hl.1 (Nat.le_of_ble_eq_true rfl) d_x_seal_111 ?_
        refine tp_i (z := slC (σ.1 j) (σ.1 t)) (rfl) ?_
        refine lv_istore hx hb d_x_seal_114 hl (by decide) rfl (fun ls hl => ?_)
        have hl : lv_has ls 8 [(7, _), (6, _), (5, _), (4, _), (0, _), (1, _), (2, _), (3, _)] := hl
        refine lv_iload hx hb d_x_seal_116 (lv_at hl 0 rfl) ?_
        refine lv_if_eq (tgt := 124) hx hb d_x_seal_118 (by decide) (fun h => ?_) (fun h => ?_)
        · rw [if_pos h]
          refine lv_aload_n hx hb d_x_seal_124 rfl (lv_at hl 4 rfl) ?_
          refine xg_made S hK hO gw_58 d_x_seal_125 ?_
          refine lv_aload hx hb d_x_seal_128 (lv_at hl 2 rfl) ?_
          refine cG1v S hK hO (by decide) (t_take l hC _ (by decide) (by omega) (by omega)) vw_g_take gw_193 (by decide) (by decide) ⟨by decide, by decide⟩ hl.1 (Nat.le_of_ble_eq_true rfl) d_x_seal_130 (fun H locs hO => ?_)
          try dsimp only at hO
          refine lv_aload_n hx hb d_x_seal_133 rfl (lv_at hl 4 rfl) ?_
          refine xg_made S hK hO gw_58 d_x_seal_134 ?_
          refine lv_aload hx hb d_x_seal_137 (lv_at hl 1 rfl) ?_
          refine gg_address S hK hO (by omega) (up_n _ _ (by omega)) gw_33 d_x_seal_139 ?_
          refine lv_l2i hx hb d_x_seal_142 rfl ?_
          refine tp_i (z := nI (qa (σ.1 t))) (lN_i _) ?_
          refine gp_type hC S hK hO (by decide) (up_s _ _ _) gw_41 d_x_seal_143 (fun H locs hO => ?_)
          try dsimp only at hO
          rw [up_up] at hO
          refine lv_aload hx hb d_x_seal_146 (lv_at hl 3 rfl) ?_
          refine lv_aload_n hx hb d_x_seal_148 rfl (lv_at hl 4 rfl) ?_
          refine xg_made S hK hO gw_58 d_x_seal_149 ?_
          refine cG1v S hK hO (by omega) (t_take l hC _ (by omega) (by decide) (by omega)) vw_g_take gw_193 (by decide) (by decide) ⟨by decide, by decide⟩ hl.1 (Nat.le_of_ble_eq_true rfl) d_x_seal_152 (fun H locs hO => ?_)
          try dsimp only at hO
          rw [up_s] at hO
          refine lv_iconst (v := 0) hx hb d_x_seal_155 (by decide) ?_
          refine tp_i (z := slC (σ.1 j) (σ.1 t)) (h.symm) ?_
          exact rt_i S hO (by decide) (by decide) d_x_seal_156
        · rw [if_neg h]
          refine lv_iload hx hb d_x_seal_121 (lv_at hl 0 rfl) ?_
          exact rt_i S hO (by decide) (by decide) d_x_seal_123
      · refine lv_aload hx hb d_x_seal_70 (lv_at hl 0 rfl) ?_
        refine lv_aload hx hb d_x_seal_72 (lv_at hl 0 rfl) ?_
        refine gg_address S hK hO (by omega) rfl gw_33 d_x_seal_74 ?_
        refine lv_iconst (v := nI 1) hx hb d_x_seal_77 (by decide) ?_
        refine cG2p S hK hO (by omega) (p_has l hC _ (by omega) rfl hg2 m1 (by decide)) vw_g_has gw_77 (by decide) (by decide) ⟨by decide, by decide⟩ hl.1 (Nat.le_of_ble_eq_true rfl) d_x_seal_78 ?_
        refine lv_if_eq (tgt := 110) hx hb d_x_seal_81 (by decide) (fun h => ?_) (fun h => ?_)
        · refine lv_iconst (v := 0) hx hb d_x_seal_110 (by decide) ?_
          exact hm _ (bi_o (by have z := bi_0.mp h; simp [z]))
        · have c1 := bi_n.mp h
          refine lv_aload hx hb d_x_seal_84 (lv_at hl 0 rfl) ?_
          refine gg_address S hK hO (by omega) rfl gw_33 d_x_seal_86 ?_
          refine lv_lconst (v := lN 0) hx hb d_x_seal_89 rfl ?_
          refine W.lcmp hx hb d_x_seal_90 ?_
          refine lv_if_le (tgt := 110) hx hb d_x_seal_91 (by decide) (fun h => ?_) (fun h => ?_)
          · refine lv_iconst (v := 0) hx hb d_x_seal_110 (by decide) ?_
            exact hm _ (bi_o (by have z := (lc_le (by omega) (by omega)).mp h; simp; omega))
          · have c2 : 0 < qa (σ.1 t) := Nat.lt_of_not_le fun z => h ((lc_le (by omega) (by omega)).mpr z)
            refine lv_aload hx hb d_x_seal_94 (lv_at hl 0 rfl) ?_
            refine gg_address S hK hO (by omega) rfl gw_33 d_x_seal_96 ?_
            refine lv_ldc2 (v := 65535) hx hb S.2.2.2.1 (S.2.2.2.2.1 _ gw_218) d_x_seal_99 ?_
            refine tp_l (z := lN 65535) (by decide) ?_
            refine W.lcmp hx hb d_x_seal_102 ?_
            refine lv_if_gt (tgt := 110) hx hb d_x_seal_103 (by decide) (fun h => ?_) (fun h => ?_)
            · refine lv_iconst (v := 0) hx hb d_x_seal_110 (by decide) ?_
              exact hm _ (bi_o (by have z := (lc_gt (by omega) (by omega)).mp h; simp; omega))
            · refine lv_iconst (v := 1) hx hb d_x_seal_106 (by decide) ?_
              refine lv_goto (tgt := 111) hx hb d_x_seal_107 (by decide) ?_
              exact hm _ (bi_1 (by have z : ¬ 65535 < qa (σ.1 t) := fun z => h ((lc_gt (by omega) (by omega)).mpr z); have z2 : qa (σ.1 t) ≤ 65535 := Nat.le_of_not_lt z; simp [c1, c2, z2]))
    · refine lv_aload hx hb d_x_seal_42 (lv_at hl 1 rfl) ?_
      refine cG0p S hK hO (by omega) (p_sealed l hC _ (by omega) rfl hg) vw_g_sealed gw_68 (by decide) (by decide) ⟨by decide, by decide⟩ hl.1 (Nat.le_of_ble_eq_true rfl) d_x_seal_44 ?_
      refine lv_if_ne (tgt := 62) hx hb d_x_seal_47 (by decide) (fun h => ?_) (fun h => ?_)
      · refine lv_iconst (v := 0) hx hb d_x_seal_62 (by decide) ?_
        exact hm _ (bi_o (by have z := of_decide_eq_true (bi_n.mp h); simp [z]))
      · have c1 : qy (σ.1 j) = 0 := by have := bi_0.mp h; simpa using this
        refine lv_aload hx hb d_x_seal_50 (lv_at hl 0 rfl) ?_
        refine cG0p S hK hO (by omega) (p_sealed l hC _ (by omega) rfl hg2) vw_g_sealed gw_68 (by decide) (by decide) ⟨by decide, by decide⟩ hl.1 (Nat.le_of_ble_eq_true rfl) d_x_seal_52 ?_
        refine lv_if_ne (tgt := 62) hx hb d_x_seal_55 (by decide) (fun h => ?_) (fun h => ?_)
        · refine lv_iconst (v := 0) hx hb d_x_seal_62 (by decide) ?_
          exact hm _ (bi_o (by have z := of_decide_eq_true (bi_n.mp h); simp [z]))
        · refine lv_iconst (v := 1) hx hb d_x_seal_58 (by decide) ?_
          refine lv_goto (tgt := 63) hx hb d_x_seal_59 (by decide) ?_
          exact hm _ (bi_1 (by have z : qy (σ.1 t) = 0 := by { have := bi_0.mp h; simpa using this }; simp [c1, z]))
  · refine lv_aload hx hb d_x_seal_21 (lv_at hl 1 rfl) ?_
    refine gg_tag S hK hO (by omega) rfl gw_43 d_x_seal_23 ?_
    refine lv_if_eq (tgt := 41) hx hb d_x_seal_26 (by decide) (fun h => ?_) (fun h => ?_)
    · refine lv_iconst (v := 0) hx hb d_x_seal_41 (by decide) ?_
      exact hm _ (bi_o (by have z := bi_0.mp h; simp [z]))
    · have c1 := bi_n.mp h
      refine lv_aload hx hb d_x_seal_29 (lv_at hl 0 rfl) ?_
      refine gg_tag S hK hO (by omega) rfl gw_43 d_x_seal_31 ?_
      refine lv_if_eq (tgt := 41) hx hb d_x_seal_34 (by decide) (fun h => ?_) (fun h => ?_)
      · refine lv_iconst (v := 0) hx hb d_x_seal_41 (by decide) ?_
        exact hm _ (bi_o (by have z := bi_0.mp h; simp [z]))
      · refine lv_iconst (v := 1) hx hb d_x_seal_37 (by decide) ?_
        refine lv_goto (tgt := 42) hx hb d_x_seal_38 (by decide) ?_
        exact hm _ (bi_1 (by have z := bi_n.mp h; simp [c1, z]))
set_option maxHeartbeats 4000000 in
set_option maxRecDepth 100000 in
/-- x_unseal -/
theorem x_unseal_ok (l : Launch) {cx : Cx} (hC : Cg cx) (σ : Sg) {i j t : Nat} (hi : i < 16) (hj : j < 16) (ht : t < 16) (hg : gok (σ.1 j)) (hg2 : gok (σ.1 t)) : CT l cx y_x_unseal 7 119 0 0 [.ref (ad cx 17), .int (nI i), .int (nI j), .int (nI t)] σ (.inl (some (.int (usC (σ.1 j) (σ.1 t))))) (if usC (σ.1 j) (σ.1 t) = 0 then (up (up σ.1 16 (sY (σ.1 j) 0)) i (sY (σ.1 j) 0), σ.2) else σ) := by
  refine Con.ofW (cc := prog_1_method_11_code) (maxL := 8) (ret := (some FieldType.int)) (by decide +kernel) gw_225 ?_
  intro p e s m args below meth c S ha hnm hno hv
  obtain ⟨rfl, hP, hK⟩ := hv
  have S : Fx p s m ([.ref (ad cx 17), .int (nI i), .int (nI j), .int (nI t)] : List Value).toArray meth c prog_1_method_11_code 8 R_X (some FieldType.int) := S
  have hO : Ok cx s σ s.heap [] := ⟨hP, va_S.rf⟩
  have hx := S.1
  have hb := S.2.1
  have hl := lv_entry ([.ref (ad cx 17), .int (nI i), .int (nI j), .int (nI t)]) (n := 8) (Nat.le_of_ble_eq_true rfl)
  rw [lg_entry_eq]
  generalize (lg_sl ([.ref (ad cx 17), .int (nI i), .int (nI j), .int (nI t)]) ++ List.replicate (8 - (lg_sl ([.ref (ad cx 17), .int (nI i), .int (nI j), .int (nI t)])).length) Slot.unset).toArray = ls at hl ⊢
  have hl : lv_has ls 8 [(0, .ref (ad cx 17)), (1, .int (nI i)), (2, .int (nI j)), (3, .int (nI t))] := hl
  obtain ⟨k1, k2, k3, k4, k5⟩ := id hg
  obtain ⟨m1, m2, m3, m4, m5⟩ := id hg2
  refine lv_aload_n hx hb d_x_unseal_0 rfl (lv_at hl 0 rfl) ?_
  refine lv_iload_n hx hb d_x_unseal_1 rfl (lv_at hl 1 rfl) ?_
  refine cX1p S hK hO (p_grant l hC _ hi) vw_x_grant gw_156 (by decide) (by decide) ⟨by decide, by decide⟩ hl.1 (Nat.le_of_ble_eq_true rfl) d_x_unseal_2 ?_
  refine lv_astore hx hb d_x_unseal_5 hl (by decide) rfl (fun ls hl => ?_)
  have hl : lv_has ls 8 [(4, _), (0, _), (1, _), (2, _), (3, _)] := hl
  refine lv_aload_n hx hb d_x_unseal_7 rfl (lv_at hl 1 rfl) ?_
  refine lv_iload_n hx hb d_x_unseal_8 rfl (lv_at hl 3 rfl) ?_
  refine cX1p S hK hO (p_grant l hC _ hj) vw_x_grant gw_156 (by decide) (by decide) ⟨by decide, by decide⟩ hl.1 (Nat.le_of_ble_eq_true rfl) d_x_unseal_9 ?_
  refine lv_astore hx hb d_x_unseal_12 hl (by decide) rfl (fun ls hl => ?_)
  have hl : lv_has ls 8 [(5, _), (4, _), (0, _), (1, _), (2, _), (3, _)] := hl
  refine lv_aload_n hx hb d_x_unseal_14 rfl (lv_at hl 2 rfl) ?_
  refine lv_iload_n hx hb d_x_unseal_15 rfl (lv_at hl 5 rfl) ?_
  refine cX1p S hK hO (p_grant l hC _ ht) vw_x_grant gw_156 (by decide) (by decide) ⟨by decide, by decide⟩ hl.1 (Nat.le_of_ble_eq_true rfl) d_x_unseal_16 ?_
  refine lv_astore hx hb d_x_unseal_19 hl (by decide) rfl (fun ls hl => ?_)
  have hl : lv_has ls 8 [(6, _), (5, _), (4, _), (0, _), (1, _), (2, _), (3, _)] := hl
  refine mg_b ((qg (σ.1 j) && qg (σ.1 t))) 42 ?_ (fun hm => ?_)
  · refine mg_b ((decide (qy (σ.1 j) ≠ 0) && decide (qy (σ.1 t) = 0))) 63 ?_ (fun hm => ?_)
    · refine lv_aload hx hb d_x_unseal_63 (lv_at hl 0 rfl) ?_
      refine lv_bipush (v := 64) hx hb d_x_unseal_65 (by decide) ?_
      refine cG1p S hK hO (by omega) (p_may l hC _ (by omega) rfl _) vw_g_may gw_72 (by decide) (by decide) ⟨by decide, by decide⟩ hl.1 (Nat.le_of_ble_eq_true rfl) d_x_unseal_67 ?_
      refine mg_b ((hasB (σ.1 t) (qa (σ.1 t)) 1 && decide (qa (σ.1 t) = qy (σ.1 j)))) 104 ?_ (fun hm => ?_)
      · refine cS4p S hK hO (p_cause l hC _ _ _ _ _) sw_x_cause gw_81 (by decide) (by decide) ⟨by decide, by decide⟩ hl.1 (Nat.le_of_ble_eq_true rfl) d_x_unseal_104 ?_
        refine tp_i (z := usC (σ.1 j) (σ.1 t)) (rfl) ?_
        refine lv_istore hx hb d_x_unseal_107 hl (by decide) rfl (fun ls hl => ?_)
        have hl : lv_has ls 8 [(7, _), (6, _), (5, _), (4, _), (0, _), (1, _), (2, _), (3, _)] := hl
        refine lv_iload hx hb d_x_unseal_109 (lv_at hl 0 rfl) ?_
        refine lv_if_eq (tgt := 117) hx hb d_x_unseal_111 (by decide) (fun h => ?_) (fun h => ?_)
        · rw [if_pos h]
          refine lv_aload_n hx hb d_x_unseal_117 rfl (lv_at hl 4 rfl) ?_
          refine xg_made S hK hO gw_58 d_x_unseal_118 ?_
          refine lv_aload hx hb d_x_unseal_121 (lv_at hl 2 rfl) ?_
          refine cG1v S hK hO (by decide) (t_take l hC _ (by decide) (by omega) (by omega)) vw_g_take gw_193 (by decide) (by decide) ⟨by decide, by decide⟩ hl.1 (Nat.le_of_ble_eq_true rfl) d_x_unseal_123 (fun H locs hO => ?_)
          try dsimp only at hO
          refine lv_aload_n hx hb d_x_unseal_126 rfl (lv_at hl 4 rfl) ?_
          refine xg_made S hK hO gw_58 d_x_unseal_127 ?_
          refine lv_iconst (v := nI 0) hx hb d_x_unseal_130 (by decide) ?_
          refine gp_type hC S hK hO (by decide) (up_s _ _ _) gw_41 d_x_unseal_131 (fun H locs hO => ?_)
          try dsimp only at hO
          rw [up_up] at hO
          refine lv_aload hx hb d_x_unseal_134 (lv_at hl 3 rfl) ?_
          refine lv_aload_n hx hb d_x_unseal_136 rfl (lv_at hl 4 rfl) ?_
          refine xg_made S hK hO gw_58 d_x_unseal_137 ?_
          refine cG1v S hK hO (by omega) (t_take l hC _ (by omega) (by decide) (by omega)) vw_g_take gw_193 (by decide) (by decide) ⟨by decide, by decide⟩ hl.1 (Nat.le_of_ble_eq_true rfl) d_x_unseal_140 (fun H locs hO => ?_)
          try dsimp only at hO
          rw [up_s] at hO
          refine lv_iconst (v := 0) hx hb d_x_unseal_143 (by decide) ?_
          refine tp_i (z := usC (σ.1 j) (σ.1 t)) (h.symm) ?_
          exact rt_i S hO (by decide) (by decide) d_x_unseal_144
        · rw [if_neg h]
          refine lv_iload hx hb d_x_unseal_114 (lv_at hl 0 rfl) ?_
          exact rt_i S hO (by decide) (by decide) d_x_unseal_116
      · refine lv_aload hx hb d_x_unseal_70 (lv_at hl 0 rfl) ?_
        refine lv_aload hx hb d_x_unseal_72 (lv_at hl 0 rfl) ?_
        refine gg_address S hK hO (by omega) rfl gw_33 d_x_unseal_74 ?_
        refine lv_iconst (v := nI 1) hx hb d_x_unseal_77 (by decide) ?_
        refine cG2p S hK hO (by omega) (p_has l hC _ (by omega) rfl hg2 m1 (by decide)) vw_g_has gw_77 (by decide) (by decide) ⟨by decide, by decide⟩ hl.1 (Nat.le_of_ble_eq_true rfl) d_x_unseal_78 ?_
        refine lv_if_eq (tgt := 103) hx hb d_x_unseal_81 (by decide) (fun h => ?_) (fun h => ?_)
        · refine lv_iconst (v := 0) hx hb d_x_unseal_103 (by decide) ?_
          exact hm _ (bi_o (by have z := bi_0.mp h; simp [z]))
        · have c1 := bi_n.mp h
          refine lv_aload hx hb d_x_unseal_84 (lv_at hl 0 rfl) ?_
          refine gg_address S hK hO (by omega) rfl gw_33 d_x_unseal_86 ?_
          refine lv_aload hx hb d_x_unseal_89 (lv_at hl 1 rfl) ?_
          refine gg_type S hK hO (by omega) rfl gw_41 d_x_unseal_91 ?_
          refine lv_i2l hx hb d_x_unseal_94 rfl ?_
          refine tp_l (z := lN (qy (σ.1 j))) (nI_l (by omega)) ?_
          refine W.lcmp hx hb d_x_unseal_95 ?_
          refine lv_if_ne (tgt := 103) hx hb d_x_unseal_96 (by decide) (fun h => ?_) (fun h => ?_)
          · refine lv_iconst (v := 0) hx hb d_x_unseal_103 (by decide) ?_
            exact hm _ (bi_o (by have z : ¬ qa (σ.1 t) = qy (σ.1 j) := fun z => h ((lc_eq (by omega) (by omega)).mpr z); simp [z]))
          · refine lv_iconst (v := 1) hx hb d_x_unseal_99 (by decide) ?_
            refine lv_goto (tgt := 104) hx hb d_x_unseal_100 (by decide) ?_
            exact hm _ (bi_1 (by have z := (lc_eq (by omega) (by omega)).mp h; rw [c1, Bool.true_and]; exact decide_eq_true z))
    · refine lv_aload hx hb d_x_unseal_42 (lv_at hl 1 rfl) ?_
      refine cG0p S hK hO (by omega) (p_sealed l hC _ (by omega) rfl hg) vw_g_sealed gw_68 (by decide) (by decide) ⟨by decide, by decide⟩ hl.1 (Nat.le_of_ble_eq_true rfl) d_x_unseal_44 ?_
      refine lv_if_eq (tgt := 62) hx hb d_x_unseal_47 (by decide) (fun h => ?_) (fun h => ?_)
      · refine lv_iconst (v := 0) hx hb d_x_unseal_62 (by decide) ?_
        exact hm _ (bi_o (by have z : qy (σ.1 j) = 0 := by { have := bi_0.mp h; simpa using this }; simp [z]))
      · have c1 : qy (σ.1 j) ≠ 0 := of_decide_eq_true (bi_n.mp h)
        refine lv_aload hx hb d_x_unseal_50 (lv_at hl 0 rfl) ?_
        refine cG0p S hK hO (by omega) (p_sealed l hC _ (by omega) rfl hg2) vw_g_sealed gw_68 (by decide) (by decide) ⟨by decide, by decide⟩ hl.1 (Nat.le_of_ble_eq_true rfl) d_x_unseal_52 ?_
        refine lv_if_ne (tgt := 62) hx hb d_x_unseal_55 (by decide) (fun h => ?_) (fun h => ?_)
        · refine lv_iconst (v := 0) hx hb d_x_unseal_62 (by decide) ?_
          exact hm _ (bi_o (by have z := of_decide_eq_true (bi_n.mp h); simp [z]))
        · refine lv_iconst (v := 1) hx hb d_x_unseal_58 (by decide) ?_
          refine lv_goto (tgt := 63) hx hb d_x_unseal_59 (by decide) ?_
          exact hm _ (bi_1 (by have z : qy (σ.1 t) = 0 := by { have := bi_0.mp h; simpa using this }; simp [c1, z]))
  · refine lv_aload hx hb d_x_unseal_21 (lv_at hl 1 rfl) ?_
    refine gg_tag S hK hO (by omega) rfl gw_43 d_x_unseal_23 ?_
    refine lv_if_eq (tgt := 41) hx hb d_x_unseal_26 (by decide) (fun h => ?_) (fun h => ?_)
    · refine lv_iconst (v := 0) hx hb d_x_unseal_41 (by decide) ?_
      exact hm _ (bi_o (by have z := bi_0.mp h; simp [z]))
    · have c1 := bi_n.mp h
      refine lv_aload hx hb d_x_unseal_29 (lv_at hl 0 rfl) ?_
      refine gg_tag S hK hO (by omega) rfl gw_43 d_x_unseal_31 ?_
      refine lv_if_eq (tgt := 41) hx hb d_x_unseal_34 (by decide) (fun h => ?_) (fun h => ?_)
      · refine lv_iconst (v := 0) hx hb d_x_unseal_41 (by decide) ?_
        exact hm _ (bi_o (by have z := bi_0.mp h; simp [z]))
      · refine lv_iconst (v := 1) hx hb d_x_unseal_37 (by decide) ?_
        refine lv_goto (tgt := 42) hx hb d_x_unseal_38 (by decide) ?_
        exact hm _ (bi_1 (by have z := bi_n.mp h; simp [c1, z]))
set_option maxHeartbeats 4000000 in
set_option maxRecDepth 100000 in
/-- allows -/
theorem x_allows_ok (l : Launch) {cx : Cx} (hC : Cg cx) (σ : Sg) {i : Nat} (hi : i < 16) (by1 : Int32) {k : Nat} (hk : k < 65537) (q : Int32) (hg : gok (σ.1 i)) : CT l cx y_x_allows 7 119 0 0 [.ref (ad cx 17), .int (nI i), .int by1, .int (nI k), .int q] σ (.inl (some (.int (alC (σ.1 i) by1 k q)))) σ := by
  refine Con.ofW (cc := prog_1_method_12_code) (maxL := 6) (ret := (some FieldType.int)) (by decide +kernel) gw_232 ?_
  intro p e s m args below meth c S ha hnm hno hv
  obtain ⟨rfl, hP, hK⟩ := hv
  have S : Fx p s m ([.ref (ad cx 17), .int (nI i), .int by1, .int (nI k), .int q] : List Value).toArray meth c prog_1_method_12_code 6 R_X (some FieldType.int) := S
  have hO : Ok cx s σ s.heap [] := ⟨hP, va_S.rf⟩
  have hx := S.1
  have hb := S.2.1
  have hl := lv_entry ([.ref (ad cx 17), .int (nI i), .int by1, .int (nI k), .int q]) (n := 6) (Nat.le_of_ble_eq_true rfl)
  rw [lg_entry_eq]
  generalize (lg_sl ([.ref (ad cx 17), .int (nI i), .int by1, .int (nI k), .int q]) ++ List.replicate (6 - (lg_sl ([.ref (ad cx 17), .int (nI i), .int by1, .int (nI k), .int q])).length) Slot.unset).toArray = ls at hl ⊢
  have hl : lv_has ls 6 [(0, .ref (ad cx 17)), (1, .int (nI i)), (2, .int by1), (3, .int (nI k)), (4, .int q)] := hl
  obtain ⟨k1, k2, k3, k4, k5⟩ := id hg
  refine lv_iload_n hx hb d_x_allows_0 rfl (lv_at hl 3 rfl) ?_
  refine lv_if_lt (tgt := 14) hx hb d_x_allows_1 (by decide) (fun h => ?_) (fun h => ?_)
  · exact absurd h (nI_pos (by omega))
  · refine lv_iload_n hx hb d_x_allows_4 rfl (lv_at hl 3 rfl) ?_
    refine lv_ldc (v := 65536) hx hb S.2.2.2.1 (S.2.2.2.2.1 _ gw_233) d_x_allows_5 ?_
    refine lv_icmp_gt (tgt := 14) hx hb d_x_allows_7 (by decide) (fun h => ?_) (fun h => ?_)
    · exact absurd (show nI k ≤ 65536 from nI_le (b := 65536) (by omega) (by decide)) (Int32.not_le.mpr h)
    · refine lv_iconst (v := 1) hx hb d_x_allows_10 (by decide) ?_
      refine lv_goto (tgt := 15) hx hb d_x_allows_11 (by decide) ?_
      refine cS1q S hK hO (p_good l hC _) sw_x_good gw_93 (by decide) (by decide) ⟨by decide, by decide⟩ hl.1 (Nat.le_of_ble_eq_true rfl) d_x_allows_15 ?_
      refine lv_aload_n hx hb d_x_allows_18 rfl (lv_at hl 0 rfl) ?_
      refine lv_iload_n hx hb d_x_allows_19 rfl (lv_at hl 1 rfl) ?_
      refine cX1p S hK hO (p_grant l hC _ hi) vw_x_grant gw_156 (by decide) (by decide) ⟨by decide, by decide⟩ hl.1 (Nat.le_of_ble_eq_true rfl) d_x_allows_20 ?_
      refine lv_astore hx hb d_x_allows_23 hl (by decide) rfl (fun ls hl => ?_)
      have hl : lv_has ls 6 [(5, _), (0, _), (1, _), (2, _), (3, _), (4, _)] := hl
      refine lv_aload hx hb d_x_allows_25 (lv_at hl 0 rfl) ?_
      refine gg_tag S hK hO (by omega) rfl gw_43 d_x_allows_27 ?_
      refine mg_b (decide (qy (σ.1 i) = 0)) 43 ?_ (fun hm => ?_)
      · refine lv_aload hx hb d_x_allows_43 (lv_at hl 0 rfl) ?_
        refine lv_iload hx hb d_x_allows_45 (lv_at hl 5 rfl) ?_
        refine cG1p S hK hO (by omega) (p_may l hC _ (by omega) rfl _) vw_g_may gw_72 (by decide) (by decide) ⟨by decide, by decide⟩ hl.1 (Nat.le_of_ble_eq_true rfl) d_x_allows_47 ?_
        refine lv_aload hx hb d_x_allows_50 (lv_at hl 0 rfl) ?_
        refine lv_aload hx hb d_x_allows_52 (lv_at hl 0 rfl) ?_
        refine gg_address S hK hO (by omega) rfl gw_33 d_x_allows_54 ?_
        refine lv_iload_n hx hb d_x_allows_57 rfl (lv_at hl 3 rfl) ?_
        refine lv_i2l hx hb d_x_allows_58 rfl ?_
        refine lv_ladd hx hb d_x_allows_59 ?_
        refine lv_ldc2 (v := 4294967295) hx hb S.2.2.2.1 (S.2.2.2.2.1 _ gw_76) d_x_allows_60 ?_
        refine lv_land hx hb d_x_allows_63 ?_
        refine tp_l (z := lN ((qa (σ.1 i) + uw by1) % 4294967296)) (u2 k1 by1) ?_
        refine lv_iload_n hx hb d_x_allows_64 rfl (lv_at hl 4 rfl) ?_
        refine cG2p S hK hO (by omega) (p_has l hC _ (by omega) rfl hg (Nat.mod_lt _ (by decide)) (by omega)) vw_g_has gw_77 (by decide) (by decide) ⟨by decide, by decide⟩ hl.1 (Nat.le_of_ble_eq_true rfl) d_x_allows_65 ?_
        refine cS4p S hK hO (p_cause l hC _ _ _ _ _) sw_x_cause gw_81 (by decide) (by decide) ⟨by decide, by decide⟩ hl.1 (Nat.le_of_ble_eq_true rfl) d_x_allows_68 ?_
        exact rt_i S hO (by decide) (by decide) d_x_allows_71
      · refine lv_aload hx hb d_x_allows_30 (lv_at hl 0 rfl) ?_
        refine cG0p S hK hO (by omega) (p_sealed l hC _ (by omega) rfl hg) vw_g_sealed gw_68 (by decide) (by decide) ⟨by decide, by decide⟩ hl.1 (Nat.le_of_ble_eq_true rfl) d_x_allows_32 ?_
        refine lv_if_ne (tgt := 42) hx hb d_x_allows_35 (by decide) (fun h => ?_) (fun h => ?_)
        · refine lv_iconst (v := 0) hx hb d_x_allows_42 (by decide) ?_
          exact hm _ (bi_o (by have z := of_decide_eq_true (bi_n.mp h); simp [z]))
        · refine lv_iconst (v := 1) hx hb d_x_allows_38 (by decide) ?_
          refine lv_goto (tgt := 43) hx hb d_x_allows_39 (by decide) ?_
          exact hm _ (bi_1 (by have z := bi_0.mp h; simpa using z))
set_option maxHeartbeats 4000000 in
set_option maxRecDepth 100000 in
/-- allows: grant throws -/
theorem x_allows_b1 (l : Launch) {cx : Cx} (hC : Cg cx) (σ : Sg) (hfl : l.flags = flags0) {r : Int32} (hr : okr r = false) (by1 : Int32) {k : Nat} (hk : k < 65537) (q : Int32) : CT l cx y_x_allows 7 119 1 6 [.ref (ad cx 17), .int r, .int by1, .int (nI k), .int q] σ (.inr 1) σ := by
  refine Con.ofW (cc := prog_1_method_12_code) (maxL := 6) (ret := (some FieldType.int)) (by decide +kernel) gw_232 ?_
  intro p e s m args below meth c S ha hnm hno hv
  obtain ⟨rfl, hP, hK⟩ := hv
  have S : Fx p s m ([.ref (ad cx 17), .int r, .int by1, .int (nI k), .int q] : List Value).toArray meth c prog_1_method_12_code 6 R_X (some FieldType.int) := S
  have hO : Ok cx s σ s.heap [] := ⟨hP, va_S.rf⟩
  have hx := S.1
  have hb := S.2.1
  have hl := lv_entry ([.ref (ad cx 17), .int r, .int by1, .int (nI k), .int q]) (n := 6) (Nat.le_of_ble_eq_true rfl)
  rw [lg_entry_eq]
  generalize (lg_sl ([.ref (ad cx 17), .int r, .int by1, .int (nI k), .int q]) ++ List.replicate (6 - (lg_sl ([.ref (ad cx 17), .int r, .int by1, .int (nI k), .int q])).length) Slot.unset).toArray = ls at hl ⊢
  have hl : lv_has ls 6 [(0, .ref (ad cx 17)), (1, .int r), (2, .int by1), (3, .int (nI k)), (4, .int q)] := hl
  refine lv_iload_n hx hb d_x_allows_0 rfl (lv_at hl 3 rfl) ?_
  refine lv_if_lt (tgt := 14) hx hb d_x_allows_1 (by decide) (fun h => ?_) (fun h => ?_)
  · exact absurd h (nI_pos (by omega))
  · refine lv_iload_n hx hb d_x_allows_4 rfl (lv_at hl 3 rfl) ?_
    refine lv_ldc (v := 65536) hx hb S.2.2.2.1 (S.2.2.2.2.1 _ gw_233) d_x_allows_5 ?_
    refine lv_icmp_gt (tgt := 14) hx hb d_x_allows_7 (by decide) (fun h => ?_) (fun h => ?_)
    · exact absurd (show nI k ≤ 65536 from nI_le (b := 65536) (by omega) (by decide)) (Int32.not_le.mpr h)
    · refine lv_iconst (v := 1) hx hb d_x_allows_10 (by decide) ?_
      refine lv_goto (tgt := 15) hx hb d_x_allows_11 (by decide) ?_
      refine cS1q S hK hO (p_good l hC _) sw_x_good gw_93 (by decide) (by decide) ⟨by decide, by decide⟩ hl.1 (Nat.le_of_ble_eq_true rfl) d_x_allows_15 ?_
      refine lv_aload_n hx hb d_x_allows_18 rfl (lv_at hl 0 rfl) ?_
      refine lv_iload_n hx hb d_x_allows_19 rfl (lv_at hl 1 rfl) ?_
      exact cX1t S hK hO hno (t_grant l hC _ hfl hr) vw_x_grant gw_156 (by decide) (by decide) ⟨by decide, by decide⟩ hl.1 (Nat.le_of_ble_eq_true rfl) d_x_allows_20 (by decide) (by decide)
set_option maxHeartbeats 4000000 in
set_option maxRecDepth 100000 in
/-- allows: good throws -/
theorem x_allows_b0 (l : Launch) {cx : Cx} (hC : Cg cx) (σ : Sg) (hfl : l.flags = flags0) (r by1 : Int32) {n : Int32} (hb0 : alB n = false) (q : Int32) : CT l cx y_x_allows 7 119 1 6 [.ref (ad cx 17), .int r, .int by1, .int n, .int q] σ (.inr 0) σ := by
  refine Con.ofW (cc := prog_1_method_12_code) (maxL := 6) (ret := (some FieldType.int)) (by decide +kernel) gw_232 ?_
  intro p e s m args below meth c S ha hnm hno hv
  obtain ⟨rfl, hP, hK⟩ := hv
  have S : Fx p s m ([.ref (ad cx 17), .int r, .int by1, .int n, .int q] : List Value).toArray meth c prog_1_method_12_code 6 R_X (some FieldType.int) := S
  have hO : Ok cx s σ s.heap [] := ⟨hP, va_S.rf⟩
  have hx := S.1
  have hb := S.2.1
  have hl := lv_entry ([.ref (ad cx 17), .int r, .int by1, .int n, .int q]) (n := 6) (Nat.le_of_ble_eq_true rfl)
  rw [lg_entry_eq]
  generalize (lg_sl ([.ref (ad cx 17), .int r, .int by1, .int n, .int q]) ++ List.replicate (6 - (lg_sl ([.ref (ad cx 17), .int r, .int by1, .int n, .int q])).length) Slot.unset).toArray = ls at hl ⊢
  have hl : lv_has ls 6 [(0, .ref (ad cx 17)), (1, .int r), (2, .int by1), (3, .int n), (4, .int q)] := hl
  refine lv_iload_n hx hb d_x_allows_0 rfl (lv_at hl 3 rfl) ?_
  refine lv_if_lt (tgt := 14) hx hb d_x_allows_1 (by decide) (fun h0 => ?_) (fun h0 => ?_)
  · refine lv_iconst (v := 0) hx hb d_x_allows_14 (by decide) ?_
    exact cS1t S hK hO hno (t_good l hC _ hfl) sw_x_good gw_93 (by decide) (by decide) ⟨by decide, by decide⟩ hl.1 (Nat.le_of_ble_eq_true rfl) d_x_allows_15 (by decide) (by decide)
  · refine lv_iload_n hx hb d_x_allows_4 rfl (lv_at hl 3 rfl) ?_
    refine lv_ldc (v := 65536) hx hb S.2.2.2.1 (S.2.2.2.2.1 _ gw_233) d_x_allows_5 ?_
    refine lv_icmp_gt (tgt := 14) hx hb d_x_allows_7 (by decide) (fun h => ?_) (fun h => ?_)
    · refine lv_iconst (v := 0) hx hb d_x_allows_14 (by decide) ?_
      exact cS1t S hK hO hno (t_good l hC _ hfl) sw_x_good gw_93 (by decide) (by decide) ⟨by decide, by decide⟩ hl.1 (Nat.le_of_ble_eq_true rfl) d_x_allows_15 (by decide) (by decide)
    · have g1 : 0 ≤ n.toInt := Int.not_lt.mp fun z => h0 (lt0.mpr z)
      have g2 : n.toInt ≤ 65536 := by have := Int32.not_lt.mp h; rw [Int32.le_iff_toInt_le] at this; exact this
      exact absurd hb0 (by simp [alB, g1, g2])
set_option maxHeartbeats 4000000 in
set_option maxRecDepth 100000 in
/-- within -/
theorem x_within_ok (l : Launch) {cx : Cx} (hC : Cg cx) (σ : Sg) {i j : Nat} (hi : i < 16) (hj : j < 16) (hg : gok (σ.1 i)) (hg2 : gok (σ.1 j)) : CT l cx y_x_within 7 119 0 0 [.ref (ad cx 17), .int (nI i), .int (nI j)] σ (.inl (some (.int (bi (wiB (σ.1 i) (σ.1 j)))))) σ := by
  refine Con.ofW (cc := prog_1_method_13_code) (maxL := 5) (ret := (some FieldType.boolean)) (by decide +kernel) gw_240 ?_
  intro p e s m args below meth c S ha hnm hno hv
  obtain ⟨rfl, hP, hK⟩ := hv
  have S : Fx p s m ([.ref (ad cx 17), .int (nI i), .int (nI j)] : List Value).toArray meth c prog_1_method_13_code 5 R_X (some FieldType.boolean) := S
  have hO : Ok cx s σ s.heap [] := ⟨hP, va_S.rf⟩
  have hx := S.1
  have hb := S.2.1
  have hl := lv_entry ([.ref (ad cx 17), .int (nI i), .int (nI j)]) (n := 5) (Nat.le_of_ble_eq_true rfl)
  rw [lg_entry_eq]
  generalize (lg_sl ([.ref (ad cx 17), .int (nI i), .int (nI j)]) ++ List.replicate (5 - (lg_sl ([.ref (ad cx 17), .int (nI i), .int (nI j)])).length) Slot.unset).toArray = ls at hl ⊢
  have hl : lv_has ls 5 [(0, .ref (ad cx 17)), (1, .int (nI i)), (2, .int (nI j))] := hl
  obtain ⟨k1, k2, k3, k4, k5⟩ := id hg
  obtain ⟨m1, m2, m3, m4, m5⟩ := id hg2
  refine lv_aload_n hx hb d_x_within_0 rfl (lv_at hl 0 rfl) ?_
  refine lv_iload_n hx hb d_x_within_1 rfl (lv_at hl 1 rfl) ?_
  refine cX1p S hK hO (p_grant l hC _ hi) vw_x_grant gw_156 (by decide) (by decide) ⟨by decide, by decide⟩ hl.1 (Nat.le_of_ble_eq_true rfl) d_x_within_2 ?_
  refine lv_astore_n hx hb d_x_within_5 rfl hl (by decide) rfl (fun ls hl => ?_)
  have hl : lv_has ls 5 [(3, _), (0, _), (1, _), (2, _)] := hl
  refine lv_aload_n hx hb d_x_within_6 rfl (lv_at hl 1 rfl) ?_
  refine lv_iload_n hx hb d_x_within_7 rfl (lv_at hl 3 rfl) ?_
  refine cX1p S hK hO (p_grant l hC _ hj) vw_x_grant gw_156 (by decide) (by decide) ⟨by decide, by decide⟩ hl.1 (Nat.le_of_ble_eq_true rfl) d_x_within_8 ?_
  refine lv_astore hx hb d_x_within_11 hl (by decide) rfl (fun ls hl => ?_)
  have hl : lv_has ls 5 [(4, _), (3, _), (0, _), (1, _), (2, _)] := hl
  refine mg_b (wiB (σ.1 i) (σ.1 j)) 71 ?_ (fun hm => ?_)
  · exact rt_z S hO (bi_nar _) (by decide) (by decide) d_x_within_71
  · refine lv_aload_n hx hb d_x_within_13 rfl (lv_at hl 1 rfl) ?_
    refine gg_tag S hK hO (by omega) rfl gw_43 d_x_within_14 ?_
    refine lv_if_eq (tgt := 70) hx hb d_x_within_17 (by decide) (fun h => ?_) (fun h => ?_)
    · refine lv_iconst (v := 0) hx hb d_x_within_70 (by decide) ?_
      exact hm _ (bi_o (by have z := bi_0.mp h; simp [wiB, z]))
    · have c1 := bi_n.mp h
      refine lv_aload hx hb d_x_within_20 (lv_at hl 0 rfl) ?_
      refine gg_tag S hK hO (by omega) rfl gw_43 d_x_within_22 ?_
      refine lv_if_eq (tgt := 70) hx hb d_x_within_25 (by decide) (fun h => ?_) (fun h => ?_)
      · refine lv_iconst (v := 0) hx hb d_x_within_70 (by decide) ?_
        exact hm _ (bi_o (by have z := bi_0.mp h; simp [wiB, z]))
      · have c2 := bi_n.mp h
        refine lv_aload_n hx hb d_x_within_28 rfl (lv_at hl 1 rfl) ?_
        refine gg_base S hK hO (by omega) rfl gw_35 d_x_within_29 ?_
        refine lv_aload hx hb d_x_within_32 (lv_at hl 0 rfl) ?_
        refine gg_base S hK hO (by omega) rfl gw_35 d_x_within_34 ?_
        refine W.lcmp hx hb d_x_within_37 ?_
        refine lv_if_lt (tgt := 70) hx hb d_x_within_38 (by decide) (fun h => ?_) (fun h => ?_)
        · refine lv_iconst (v := 0) hx hb d_x_within_70 (by decide) ?_
          exact hm _ (bi_o (by have z := (lc_lt (by omega) (by omega)).mp h; have z2 : ¬ qb (σ.1 j) ≤ qb (σ.1 i) := by { omega }; simp [wiB, z2]))
        · have c3 : qb (σ.1 j) ≤ qb (σ.1 i) := Nat.le_of_not_lt fun z => h ((lc_lt (by omega) (by omega)).mpr z)
          refine lv_aload_n hx hb d_x_within_41 rfl (lv_at hl 1 rfl) ?_
          refine gg_top S hK hO (by omega) rfl gw_37 d_x_within_42 ?_
          refine lv_aload hx hb d_x_within_45 (lv_at hl 0 rfl) ?_
          refine gg_top S hK hO (by omega) rfl gw_37 d_x_within_47 ?_
          refine W.lcmp hx hb d_x_within_50 ?_
          refine lv_if_gt (tgt := 70) hx hb d_x_within_51 (by decide) (fun h => ?_) (fun h => ?_)
          · refine lv_iconst (v := 0) hx hb d_x_within_70 (by decide) ?_
            exact hm _ (bi_o (by have z := (lc_gt (by omega) (by omega)).mp h; have z2 : ¬ qt (σ.1 i) ≤ qt (σ.1 j) := by { omega }; simp [wiB, z2]))
          · have c4 : qt (σ.1 i) ≤ qt (σ.1 j) := Nat.le_of_not_lt fun z => h ((lc_gt (by omega) (by omega)).mpr z)
            refine lv_aload hx hb d_x_within_54 (lv_at hl 0 rfl) ?_
            refine lv_aload_n hx hb d_x_within_56 rfl (lv_at hl 1 rfl) ?_
            refine gg_permissions S hK hO (by omega) rfl gw_39 d_x_within_57 ?_
            refine cG1p S hK hO (by omega) (p_may l hC _ (by omega) rfl _) vw_g_may gw_72 (by decide) (by decide) ⟨by decide, by decide⟩ hl.1 (Nat.le_of_ble_eq_true rfl) d_x_within_60 ?_
            refine lv_if_eq (tgt := 70) hx hb d_x_within_63 (by decide) (fun h => ?_) (fun h => ?_)
            · refine lv_iconst (v := 0) hx hb d_x_within_70 (by decide) ?_
              exact hm _ (bi_o (by have z := bi_0.mp h; simp [wiB, z]))
            · refine lv_iconst (v := 1) hx hb d_x_within_66 (by decide) ?_
              refine lv_goto (tgt := 71) hx hb d_x_within_67 (by decide) ?_
              exact hm _ (bi_1 (by have z := bi_n.mp h; simp [wiB, c1, c2, c3, c4, z]))
set_option maxHeartbeats 4000000 in
set_option maxRecDepth 100000 in
/-- part -/
theorem x_part_ok (l : Launch) {cx : Cx} (hC : Cg cx) (σ : Sg) {i : Nat} (hi : i < 16) {k : Nat} (hk : k < 6) : CT l cx y_x_part 7 119 0 0 [.ref (ad cx 17), .int (nI i), .int (nI k)] σ (.inl (some (.int (ptV (σ.1 i) k)))) σ := by
  refine Con.ofW (cc := prog_1_method_14_code) (maxL := 4) (ret := (some FieldType.int)) (by decide +kernel) gw_247 ?_
  intro p e s m args below meth c S ha hnm hno hv
  obtain ⟨rfl, hP, hK⟩ := hv
  have S : Fx p s m ([.ref (ad cx 17), .int (nI i), .int (nI k)] : List Value).toArray meth c prog_1_method_14_code 4 R_X (some FieldType.int) := S
  have hO : Ok cx s σ s.heap [] := ⟨hP, va_S.rf⟩
  have hx := S.1
  have hb := S.2.1
  have hl := lv_entry ([.ref (ad cx 17), .int (nI i), .int (nI k)]) (n := 4) (Nat.le_of_ble_eq_true rfl)
  rw [lg_entry_eq]
  generalize (lg_sl ([.ref (ad cx 17), .int (nI i), .int (nI k)]) ++ List.replicate (4 - (lg_sl ([.ref (ad cx 17), .int (nI i), .int (nI k)])).length) Slot.unset).toArray = ls at hl ⊢
  have hl : lv_has ls 4 [(0, .ref (ad cx 17)), (1, .int (nI i)), (2, .int (nI k))] := hl
  refine lv_iload_n hx hb d_x_part_0 rfl (lv_at hl 2 rfl) ?_
  refine lv_if_lt (tgt := 13) hx hb d_x_part_1 (by decide) (fun h => ?_) (fun h => ?_)
  · exact absurd h (nI_pos (by omega))
  · refine lv_iload_n hx hb d_x_part_4 rfl (lv_at hl 2 rfl) ?_
    refine lv_iconst (v := 5) hx hb d_x_part_5 (by decide) ?_
    refine lv_icmp_gt (tgt := 13) hx hb d_x_part_6 (by decide) (fun h => ?_) (fun h => ?_)
    · exact absurd (show nI k ≤ 5 from nI_le (b := 5) (by omega) (by decide)) (Int32.not_le.mpr h)
    · refine lv_iconst (v := 1) hx hb d_x_part_9 (by decide) ?_
      refine lv_goto (tgt := 14) hx hb d_x_part_10 (by decide) ?_
      refine cS1q S hK hO (p_good l hC _) sw_x_good gw_93 (by decide) (by decide) ⟨by decide, by decide⟩ hl.1 (Nat.le_of_ble_eq_true rfl) d_x_part_14 ?_
      refine lv_aload_n hx hb d_x_part_17 rfl (lv_at hl 0 rfl) ?_
      refine lv_iload_n hx hb d_x_part_18 rfl (lv_at hl 1 rfl) ?_
      refine cX1p S hK hO (p_grant l hC _ hi) vw_x_grant gw_156 (by decide) (by decide) ⟨by decide, by decide⟩ hl.1 (Nat.le_of_ble_eq_true rfl) d_x_part_19 ?_
      refine lv_astore_n hx hb d_x_part_22 rfl hl (by decide) rfl (fun ls hl => ?_)
      have hl : lv_has ls 4 [(3, _), (0, _), (1, _), (2, _)] := hl
      refine lv_iload_n hx hb d_x_part_23 rfl (lv_at hl 3 rfl) ?_
      rcases (show k = 0 ∨ k = 1 ∨ k = 2 ∨ k = 3 ∨ k = 4 ∨ k = 5 by omega) with rfl | rfl | rfl | rfl | rfl | rfl
      · refine lv_tableIn (off := 36) (tgt := 60) hx hb d_x_part_24 (by decide) (by decide) (by decide) (by decide) ?_
        refine lv_aload_n hx hb d_x_part_60 rfl (lv_at hl 0 rfl) ?_
        refine gg_address S hK hO (by omega) rfl gw_33 d_x_part_61 ?_
        refine lv_l2i hx hb d_x_part_64 rfl ?_
        refine tp_i (z := nI (qa (σ.1 i))) (lN_i _) ?_
        exact rt_i S hO (by decide) (by decide) d_x_part_65
      · refine lv_tableIn (off := 42) (tgt := 66) hx hb d_x_part_24 (by decide) (by decide) (by decide) (by decide) ?_
        refine lv_aload_n hx hb d_x_part_66 rfl (lv_at hl 0 rfl) ?_
        refine gg_base S hK hO (by omega) rfl gw_35 d_x_part_67 ?_
        refine lv_l2i hx hb d_x_part_70 rfl ?_
        refine tp_i (z := nI (qb (σ.1 i))) (lN_i _) ?_
        exact rt_i S hO (by decide) (by decide) d_x_part_71
      · refine lv_tableIn (off := 48) (tgt := 72) hx hb d_x_part_24 (by decide) (by decide) (by decide) (by decide) ?_
        refine lv_aload_n hx hb d_x_part_72 rfl (lv_at hl 0 rfl) ?_
        refine gg_top S hK hO (by omega) rfl gw_37 d_x_part_73 ?_
        refine lv_l2i hx hb d_x_part_76 rfl ?_
        refine tp_i (z := nI (qt (σ.1 i))) (lN_i _) ?_
        exact rt_i S hO (by decide) (by decide) d_x_part_77
      · refine lv_tableIn (off := 54) (tgt := 78) hx hb d_x_part_24 (by decide) (by decide) (by decide) (by decide) ?_
        refine lv_aload_n hx hb d_x_part_78 rfl (lv_at hl 0 rfl) ?_
        refine gg_permissions S hK hO (by omega) rfl gw_39 d_x_part_79 ?_
        exact rt_i S hO (by decide) (by decide) d_x_part_82
      · refine lv_tableIn (off := 59) (tgt := 83) hx hb d_x_part_24 (by decide) (by decide) (by decide) (by decide) ?_
        refine lv_aload_n hx hb d_x_part_83 rfl (lv_at hl 0 rfl) ?_
        refine gg_type S hK hO (by omega) rfl gw_41 d_x_part_84 ?_
        exact rt_i S hO (by decide) (by decide) d_x_part_87
      · refine lv_tableOut (tgt := 88) hx hb d_x_part_24 (by decide) (by decide) ?_
        refine lv_aload_n hx hb d_x_part_88 rfl (lv_at hl 0 rfl) ?_
        refine gg_tag S hK hO (by omega) rfl gw_43 d_x_part_89 ?_
        refine lv_if_eq (tgt := 99) hx hb d_x_part_92 (by decide) (fun h => ?_) (fun h => ?_)
        · have c1 := bi_0.mp h
          refine lv_iconst (v := 0) hx hb d_x_part_99 (by decide) ?_
          refine tp_i (z := ptV (σ.1 i) 5) (by simp [ptV, c1, bi]) ?_
          exact rt_i S hO (by decide) (by decide) d_x_part_100
        · have c1 := bi_n.mp h
          refine lv_iconst (v := 1) hx hb d_x_part_95 (by decide) ?_
          refine lv_goto (tgt := 100) hx hb d_x_part_96 (by decide) ?_
          refine tp_i (z := ptV (σ.1 i) 5) (by simp [ptV, c1, bi]) ?_
          exact rt_i S hO (by decide) (by decide) d_x_part_100
set_option maxHeartbeats 4000000 in
set_option maxRecDepth 100000 in
/-- part: grant throws -/
theorem x_part_b1 (l : Launch) {cx : Cx} (hC : Cg cx) (σ : Sg) (hfl : l.flags = flags0) {r : Int32} (hr : okr r = false) {k : Nat} (hk : k < 6) : CT l cx y_x_part 7 119 1 6 [.ref (ad cx 17), .int r, .int (nI k)] σ (.inr 1) σ := by
  refine Con.ofW (cc := prog_1_method_14_code) (maxL := 4) (ret := (some FieldType.int)) (by decide +kernel) gw_247 ?_
  intro p e s m args below meth c S ha hnm hno hv
  obtain ⟨rfl, hP, hK⟩ := hv
  have S : Fx p s m ([.ref (ad cx 17), .int r, .int (nI k)] : List Value).toArray meth c prog_1_method_14_code 4 R_X (some FieldType.int) := S
  have hO : Ok cx s σ s.heap [] := ⟨hP, va_S.rf⟩
  have hx := S.1
  have hb := S.2.1
  have hl := lv_entry ([.ref (ad cx 17), .int r, .int (nI k)]) (n := 4) (Nat.le_of_ble_eq_true rfl)
  rw [lg_entry_eq]
  generalize (lg_sl ([.ref (ad cx 17), .int r, .int (nI k)]) ++ List.replicate (4 - (lg_sl ([.ref (ad cx 17), .int r, .int (nI k)])).length) Slot.unset).toArray = ls at hl ⊢
  have hl : lv_has ls 4 [(0, .ref (ad cx 17)), (1, .int r), (2, .int (nI k))] := hl
  refine lv_iload_n hx hb d_x_part_0 rfl (lv_at hl 2 rfl) ?_
  refine lv_if_lt (tgt := 13) hx hb d_x_part_1 (by decide) (fun h => ?_) (fun h => ?_)
  · exact absurd h (nI_pos (by omega))
  · refine lv_iload_n hx hb d_x_part_4 rfl (lv_at hl 2 rfl) ?_
    refine lv_iconst (v := 5) hx hb d_x_part_5 (by decide) ?_
    refine lv_icmp_gt (tgt := 13) hx hb d_x_part_6 (by decide) (fun h => ?_) (fun h => ?_)
    · exact absurd (show nI k ≤ 5 from nI_le (b := 5) (by omega) (by decide)) (Int32.not_le.mpr h)
    · refine lv_iconst (v := 1) hx hb d_x_part_9 (by decide) ?_
      refine lv_goto (tgt := 14) hx hb d_x_part_10 (by decide) ?_
      refine cS1q S hK hO (p_good l hC _) sw_x_good gw_93 (by decide) (by decide) ⟨by decide, by decide⟩ hl.1 (Nat.le_of_ble_eq_true rfl) d_x_part_14 ?_
      refine lv_aload_n hx hb d_x_part_17 rfl (lv_at hl 0 rfl) ?_
      refine lv_iload_n hx hb d_x_part_18 rfl (lv_at hl 1 rfl) ?_
      exact cX1t S hK hO hno (t_grant l hC _ hfl hr) vw_x_grant gw_156 (by decide) (by decide) ⟨by decide, by decide⟩ hl.1 (Nat.le_of_ble_eq_true rfl) d_x_part_19 (by decide) (by decide)
set_option maxHeartbeats 4000000 in
set_option maxRecDepth 100000 in
/-- part: good throws -/
theorem x_part_b0 (l : Launch) {cx : Cx} (hC : Cg cx) (σ : Sg) (hfl : l.flags = flags0) (r : Int32) {n : Int32} (hb0 : ptB n = false) : CT l cx y_x_part 7 119 1 6 [.ref (ad cx 17), .int r, .int n] σ (.inr 0) σ := by
  refine Con.ofW (cc := prog_1_method_14_code) (maxL := 4) (ret := (some FieldType.int)) (by decide +kernel) gw_247 ?_
  intro p e s m args below meth c S ha hnm hno hv
  obtain ⟨rfl, hP, hK⟩ := hv
  have S : Fx p s m ([.ref (ad cx 17), .int r, .int n] : List Value).toArray meth c prog_1_method_14_code 4 R_X (some FieldType.int) := S
  have hO : Ok cx s σ s.heap [] := ⟨hP, va_S.rf⟩
  have hx := S.1
  have hb := S.2.1
  have hl := lv_entry ([.ref (ad cx 17), .int r, .int n]) (n := 4) (Nat.le_of_ble_eq_true rfl)
  rw [lg_entry_eq]
  generalize (lg_sl ([.ref (ad cx 17), .int r, .int n]) ++ List.replicate (4 - (lg_sl ([.ref (ad cx 17), .int r, .int n])).length) Slot.unset).toArray = ls at hl ⊢
  have hl : lv_has ls 4 [(0, .ref (ad cx 17)), (1, .int r), (2, .int n)] := hl
  refine lv_iload_n hx hb d_x_part_0 rfl (lv_at hl 2 rfl) ?_
  refine lv_if_lt (tgt := 13) hx hb d_x_part_1 (by decide) (fun h0 => ?_) (fun h0 => ?_)
  · refine lv_iconst (v := 0) hx hb d_x_part_13 (by decide) ?_
    exact cS1t S hK hO hno (t_good l hC _ hfl) sw_x_good gw_93 (by decide) (by decide) ⟨by decide, by decide⟩ hl.1 (Nat.le_of_ble_eq_true rfl) d_x_part_14 (by decide) (by decide)
  · refine lv_iload_n hx hb d_x_part_4 rfl (lv_at hl 2 rfl) ?_
    refine lv_iconst (v := 5) hx hb d_x_part_5 (by decide) ?_
    refine lv_icmp_gt (tgt := 13) hx hb d_x_part_6 (by decide) (fun h => ?_) (fun h => ?_)
    · refine lv_iconst (v := 0) hx hb d_x_part_13 (by decide) ?_
      exact cS1t S hK hO hno (t_good l hC _ hfl) sw_x_good gw_93 (by decide) (by decide) ⟨by decide, by decide⟩ hl.1 (Nat.le_of_ble_eq_true rfl) d_x_part_14 (by decide) (by decide)
    · have g1 : 0 ≤ n.toInt := Int.not_lt.mp fun z => h0 (lt0.mpr z)
      have g2 : n.toInt ≤ 5 := by have := Int32.not_lt.mp h; rw [Int32.le_iff_toInt_le] at this; exact this
      exact absurd hb0 (by simp [ptB, g1, g2])
set_option maxHeartbeats 4000000 in
set_option maxRecDepth 100000 in
/-- count -/
theorem x_count_ok (l : Launch) {cx : Cx} (hC : Cg cx) (σ : Sg) (a q : Int32) (hg : ∀ k, k < 16 → gok (σ.1 k)) : CT l cx y_x_count 7 119 0 0 [.ref (ad cx 17), .int a, .int q] σ (.inl (some (.int (nI (cnt σ.1 a q 16))))) σ := by
  refine Con.ofW (cc := prog_1_method_15_code) (maxL := 5) (ret := (some FieldType.int)) (by decide +kernel) gw_67 ?_
  intro p e s m args below meth c S ha hnm hno hv
  obtain ⟨rfl, hP, hK⟩ := hv
  have S : Fx p s m ([.ref (ad cx 17), .int a, .int q] : List Value).toArray meth c prog_1_method_15_code 5 R_X (some FieldType.int) := S
  have hO : Ok cx s σ s.heap [] := ⟨hP, va_S.rf⟩
  have hx := S.1
  have hb := S.2.1
  have hl := lv_entry ([.ref (ad cx 17), .int a, .int q]) (n := 5) (Nat.le_of_ble_eq_true rfl)
  rw [lg_entry_eq]
  generalize (lg_sl ([.ref (ad cx 17), .int a, .int q]) ++ List.replicate (5 - (lg_sl ([.ref (ad cx 17), .int a, .int q])).length) Slot.unset).toArray = ls at hl ⊢
  have hl : lv_has ls 5 [(0, .ref (ad cx 17)), (1, .int a), (2, .int q)] := hl
  refine lv_iconst (v := nI 0) hx hb d_x_count_0 (by decide) ?_
  refine lv_istore_n hx hb d_x_count_1 rfl hl (by decide) rfl (fun ls hl => ?_)
  have hl : lv_has ls 5 [(3, _), (0, _), (1, _), (2, _)] := hl
  refine lv_iconst (v := nI 0) hx hb d_x_count_2 (by decide) ?_
  refine lv_istore hx hb d_x_count_3 hl (by decide) rfl (fun ls hl => ?_)
  have hl : lv_has ls 5 [(4, _), (3, _), (0, _), (1, _), (2, _)] := hl
  refine lp_up (fun k ls => lv_has ls 5 [(4, .int (nI k)), (3, .int (nI (cnt σ.1 a q k))), (0, .ref (ad cx 17)), (1, .int a), (2, .int q)]) 16 0 (hl) (by decide) (fun k ls hk hl ih => ?_) (fun ls hl => ?_)
  · have hgk := hg k (by omega)
    refine lv_iload hx hb d_x_count_5 (lv_at hl 0 rfl) ?_
    refine lv_bipush (v := 16) hx hb d_x_count_7 (by decide) ?_
    refine lv_icmp_ge (tgt := 83) hx hb d_x_count_9 (by decide) (fun h => ?_) (fun h => ?_)
    · exact absurd h (nI_ge (b := 16) hk (by decide))
    · refine lv_aload_n hx hb d_x_count_12 rfl (lv_at hl 2 rfl) ?_
      refine xg_grants S hK hO gw_57 d_x_count_13 ?_
      refine lv_iload hx hb d_x_count_16 (lv_at hl 0 rfl) ?_
      refine xa_ld S hK hO hk d_x_count_18 ?_
      refine gg_tag S hK hO (by omega) rfl gw_43 d_x_count_19 ?_
      refine mg_b (decide (qy (σ.1 k) = 0)) 40 ?_ (fun hm => ?_)
      · refine lv_aload_n hx hb d_x_count_40 rfl (lv_at hl 2 rfl) ?_
        refine xg_grants S hK hO gw_57 d_x_count_41 ?_
        refine lv_iload hx hb d_x_count_44 (lv_at hl 0 rfl) ?_
        refine xa_ld S hK hO hk d_x_count_46 ?_
        refine lv_iload_n hx hb d_x_count_47 rfl (lv_at hl 4 rfl) ?_
        refine cG1p S hK hO (by omega) (p_may l hC _ (by omega) rfl _) vw_g_may gw_72 (by decide) (by decide) ⟨by decide, by decide⟩ hl.1 (Nat.le_of_ble_eq_true rfl) d_x_count_48 ?_
        refine lv_aload_n hx hb d_x_count_51 rfl (lv_at hl 2 rfl) ?_
        refine xg_grants S hK hO gw_57 d_x_count_52 ?_
        refine lv_iload hx hb d_x_count_55 (lv_at hl 0 rfl) ?_
        refine xa_ld S hK hO hk d_x_count_57 ?_
        refine lv_iload_n hx hb d_x_count_58 rfl (lv_at hl 3 rfl) ?_
        refine lv_i2l hx hb d_x_count_59 rfl ?_
        refine lv_ldc2 (v := 4294967295) hx hb S.2.2.2.1 (S.2.2.2.2.1 _ gw_76) d_x_count_60 ?_
        refine lv_land hx hb d_x_count_63 ?_
        refine tp_l (z := lN (uw a)) (u1 a) ?_
        refine lv_iconst (v := nI 1) hx hb d_x_count_64 (by decide) ?_
        refine cG2p S hK hO (by omega) (p_has l hC _ (by omega) rfl hgk (uw_lt a) (by decide)) vw_g_has gw_77 (by decide) (by decide) ⟨by decide, by decide⟩ hl.1 (Nat.le_of_ble_eq_true rfl) d_x_count_65 ?_
        refine cS4p S hK hO (p_cause l hC _ _ _ _ _) sw_x_cause gw_81 (by decide) (by decide) ⟨by decide, by decide⟩ hl.1 (Nat.le_of_ble_eq_true rfl) d_x_count_68 ?_
        refine lv_if_ne (tgt := 77) hx hb d_x_count_71 (by decide) (fun h => ?_) (fun h => ?_)
        · have hc : cnt σ.1 a q (k + 1) = cnt σ.1 a q k := by { have z : cnB (σ.1 k) a q = false := by { cases hz : cnB (σ.1 k) a q with | false => rfl | true => exact absurd (cz_0.mpr hz) h }; show cnt σ.1 a q k + (if cnB (σ.1 k) a q then 1 else 0) = _; rw [z]; rfl }
          refine lv_iinc (k := 0) hx hb d_x_count_77 hl rfl rfl (by decide) rfl (fun ls hl => ?_)
          have hl : lv_has ls 5 [(4, _), (3, _), (0, _), (1, _), (2, _)] := hl
          refine lv_goto (tgt := 5) hx hb d_x_count_80 (by decide) ?_
          exact ih ls (by rw [hc]; simp only [nI_succ]; exact hl)
        · have hc : cnt σ.1 a q (k + 1) = cnt σ.1 a q k + 1 := by { have z : cnB (σ.1 k) a q = true := cz_0.mp h; show cnt σ.1 a q k + (if cnB (σ.1 k) a q then 1 else 0) = _; rw [z]; rfl }
          refine lv_iinc (k := 1) hx hb d_x_count_74 hl rfl rfl (by decide) rfl (fun ls hl => ?_)
          have hl : lv_has ls 5 [(3, _), (4, _), (0, _), (1, _), (2, _)] := hl
          refine lv_iinc (k := 1) hx hb d_x_count_77 hl rfl rfl (by decide) rfl (fun ls hl => ?_)
          have hl : lv_has ls 5 [(4, _), (3, _), (0, _), (1, _), (2, _)] := hl
          refine lv_goto (tgt := 5) hx hb d_x_count_80 (by decide) ?_
          exact ih ls (by rw [hc]; simp only [nI_succ]; exact hl)
      · refine lv_aload_n hx hb d_x_count_22 rfl (lv_at hl 2 rfl) ?_
        refine xg_grants S hK hO gw_57 d_x_count_23 ?_
        refine lv_iload hx hb d_x_count_26 (lv_at hl 0 rfl) ?_
        refine xa_ld S hK hO hk d_x_count_28 ?_
        refine cG0p S hK hO (by omega) (p_sealed l hC _ (by omega) rfl hgk) vw_g_sealed gw_68 (by decide) (by decide) ⟨by decide, by decide⟩ hl.1 (Nat.le_of_ble_eq_true rfl) d_x_count_29 ?_
        refine lv_if_ne (tgt := 39) hx hb d_x_count_32 (by decide) (fun h => ?_) (fun h => ?_)
        · refine lv_iconst (v := 0) hx hb d_x_count_39 (by decide) ?_
          exact hm _ (bi_o (by have z := of_decide_eq_true (bi_n.mp h); simp [z]))
        · refine lv_iconst (v := 1) hx hb d_x_count_35 (by decide) ?_
          refine lv_goto (tgt := 40) hx hb d_x_count_36 (by decide) ?_
          exact hm _ (bi_1 (by have z := bi_0.mp h; simpa using z))
  · refine lv_iload hx hb d_x_count_5 (lv_at hl 0 rfl) ?_
    refine lv_bipush (v := 16) hx hb d_x_count_7 (by decide) ?_
    refine lv_icmp_ge (tgt := 83) hx hb d_x_count_9 (by decide) (fun h => ?_) (fun h => ?_)
    · refine lv_iload_n hx hb d_x_count_83 rfl (lv_at hl 1 rfl) ?_
      exact rt_i S hO (by decide) (by decide) d_x_count_84
    · exact absurd (show (16 : Int32) ≤ nI 16 by decide) h
end
section
/-! Contracts of GrantMathModel (printed by gen/m_m.py): _ok: arguments in range; _b..: err is set -/
set_option maxHeartbeats 4000000 in
set_option maxRecDepth 100000 in
/-- in -/
theorem p_in (l : Launch) {cx : Cx} (hC : Cg cx) (σ : Sg) (v a b : Int64) : CP l cx y_m_in 0 0 [.long v, .long a, .long b] σ (some (.int (bi (decide (a ≤ v) && decide (v ≤ b))))) := by
  refine Con.ofW (cc := prog_4_method_3_code) (maxL := 6) (ret := (some FieldType.boolean)) (by decide +kernel) gw_294 ?_
  intro p e s m args below meth c S ha hnm hno hv
  obtain ⟨rfl, hP, hK⟩ := hv
  have S : Fx p s m ([.long v, .long a, .long b] : List Value).toArray meth c prog_4_method_3_code 6 R_M (some FieldType.boolean) := S
  have hO : Ok cx s σ s.heap [] := ⟨hP, va_S.rf⟩
  have hx := S.1
  have hb := S.2.1
  have hl := lv_entry ([.long v, .long a, .long b]) (n := 6) (Nat.le_of_ble_eq_true rfl)
  rw [lg_entry_eq]
  generalize (lg_sl ([.long v, .long a, .long b]) ++ List.replicate (6 - (lg_sl ([.long v, .long a, .long b])).length) Slot.unset).toArray = ls at hl ⊢
  have hl : lv_has ls 6 [(0, .long v), (2, .long a), (4, .long b)] := hl
  refine mg_b ((decide (a ≤ v) && decide (v ≤ b))) 18 ?_ (fun hm => ?_)
  · exact rp_z S (bi_nar _) d_m_in_18
  · refine lv_lload_n hx hb d_m_in_0 rfl (lv_at hl 0 rfl) ?_
    refine lv_lload_n hx hb d_m_in_1 rfl (lv_at hl 1 rfl) ?_
    refine W.lcmp hx hb d_m_in_2 ?_
    refine lv_if_lt (tgt := 17) hx hb d_m_in_3 (by decide) (fun h => ?_) (fun h => ?_)
    · refine lv_iconst (v := 0) hx hb d_m_in_17 (by decide) ?_
      exact hm _ (bi_o (by have z := Int64.not_le.mpr ((lg_cmp_lt _ _).mp h); simp [z]))
    · have c1 : a ≤ v := Int64.not_lt.mp fun z => h ((lg_cmp_lt _ _).mpr z)
      refine lv_lload_n hx hb d_m_in_6 rfl (lv_at hl 0 rfl) ?_
      refine lv_lload hx hb d_m_in_7 (lv_at hl 2 rfl) ?_
      refine W.lcmp hx hb d_m_in_9 ?_
      refine lv_if_gt (tgt := 17) hx hb d_m_in_10 (by decide) (fun h => ?_) (fun h => ?_)
      · refine lv_iconst (v := 0) hx hb d_m_in_17 (by decide) ?_
        exact hm _ (bi_o (by have z := Int64.not_le.mpr ((lg_cmp_gt _ _).mp h); simp [z]))
      · refine lv_iconst (v := 1) hx hb d_m_in_13 (by decide) ?_
        refine lv_goto (tgt := 18) hx hb d_m_in_14 (by decide) ?_
        exact hm _ (bi_1 (by have z : v ≤ b := Int64.not_lt.mp fun z => h ((lg_cmp_gt _ _).mpr z); simp [c1, z]))
set_option maxHeartbeats 4000000 in
set_option maxRecDepth 100000 in
/-- is -/
theorem p_is (l : Launch) {cx : Cx} (hC : Cg cx) (σ : Sg) (r : Int32) : CP l cx y_m_is 1 33 [.int r] σ (some (.int (bi (okr r)))) := by
  refine Con.ofW (cc := prog_4_method_5_code) (maxL := 1) (ret := (some FieldType.boolean)) (by decide +kernel) gw_301 ?_
  intro p e s m args below meth c S ha hnm hno hv
  obtain ⟨rfl, hP, hK⟩ := hv
  have S : Fx p s m ([.int r] : List Value).toArray meth c prog_4_method_5_code 1 R_M (some FieldType.boolean) := S
  have hO : Ok cx s σ s.heap [] := ⟨hP, va_S.rf⟩
  have hx := S.1
  have hb := S.2.1
  have hl := lv_entry ([.int r]) (n := 1) (Nat.le_of_ble_eq_true rfl)
  rw [lg_entry_eq]
  generalize (lg_sl ([.int r]) ++ List.replicate (1 - (lg_sl ([.int r])).length) Slot.unset).toArray = ls at hl ⊢
  have hl : lv_has ls 1 [(0, .int r)] := hl
  refine lv_iload_n hx hb d_m_is_0 rfl (lv_at hl 0 rfl) ?_
  refine lv_i2l hx hb d_m_is_1 rfl ?_
  refine lv_lconst (v := lN 0) hx hb d_m_is_2 rfl ?_
  refine lv_ldc2 (v := 15) hx hb S.2.2.2.1 (S.2.2.2.2.1 _ gw_302) d_m_is_3 ?_
  refine cS3p S hK hO (p_in l hC _ _ _ _) sw_m_in gw_292 (by decide) (by decide) ⟨by decide, by decide⟩ hl.1 (Nat.le_of_ble_eq_true rfl) d_m_is_6 ?_
  refine tp_i (z := bi (okr r)) (by rw [show lN 0 = 0 from rfl, okr_64]) ?_
  exact rp_z S (bi_nar _) d_m_is_9
set_option maxHeartbeats 4000000 in
set_option maxRecDepth 100000 in
/-- wide -/
theorem p_wide (l : Launch) {cx : Cx} (hC : Cg cx) (σ : Sg) (v : Int32) : CP l cx y_m_wide 0 0 [.int v] σ (some (.long (lN (uw v)))) := by
  refine Con.ofW (cc := prog_4_method_6_code) (maxL := 1) (ret := (some FieldType.long)) (by decide +kernel) gw_289 ?_
  intro p e s m args below meth c S ha hnm hno hv
  obtain ⟨rfl, hP, hK⟩ := hv
  have S : Fx p s m ([.int v] : List Value).toArray meth c prog_4_method_6_code 1 R_M (some FieldType.long) := S
  have hO : Ok cx s σ s.heap [] := ⟨hP, va_S.rf⟩
  have hx := S.1
  have hb := S.2.1
  have hl := lv_entry ([.int v]) (n := 1) (Nat.le_of_ble_eq_true rfl)
  rw [lg_entry_eq]
  generalize (lg_sl ([.int v]) ++ List.replicate (1 - (lg_sl ([.int v])).length) Slot.unset).toArray = ls at hl ⊢
  have hl : lv_has ls 1 [(0, .int v)] := hl
  refine lv_iload_n hx hb d_m_wide_0 rfl (lv_at hl 0 rfl) ?_
  refine lv_i2l hx hb d_m_wide_1 rfl ?_
  refine lv_ldc2 (v := 4294967296) hx hb S.2.2.2.1 (S.2.2.2.2.1 _ gw_290) d_m_wide_2 ?_
  refine lv_lrem hx hb d_m_wide_5 (by decide) ?_
  refine lv_ldc2 (v := 4294967296) hx hb S.2.2.2.1 (S.2.2.2.2.1 _ gw_290) d_m_wide_6 ?_
  refine lv_ladd hx hb d_m_wide_9 ?_
  refine lv_ldc2 (v := 4294967296) hx hb S.2.2.2.1 (S.2.2.2.2.1 _ gw_290) d_m_wide_10 ?_
  refine lv_lrem hx hb d_m_wide_13 (by decide) ?_
  refine tp_l (z := lN (uw v)) (u4 v) ?_
  exact rp_l S d_m_wide_14
set_option maxHeartbeats 4000000 in
set_option maxRecDepth 100000 in
/-- fails: nothing -/
theorem t_fails0 (l : Launch) {cx : Cx} (hC : Cg cx) (σ : Sg) (k : Int32) (he : σ.2.2.1 = 0) : CT l cx y_m_fails 0 0 0 0 [.ref (ad cx 19), .int 0, .int k] σ (.inl (some (.int 0))) σ := by
  refine Con.ofW (cc := prog_4_method_4_code) (maxL := 3) (ret := (some FieldType.boolean)) (by decide +kernel) gw_298 ?_
  intro p e s m args below meth c S ha hnm hno hv
  obtain ⟨rfl, hP, hK⟩ := hv
  have S : Fx p s m ([.ref (ad cx 19), .int 0, .int k] : List Value).toArray meth c prog_4_method_4_code 3 R_M (some FieldType.boolean) := S
  have hO : Ok cx s σ s.heap [] := ⟨hP, va_S.rf⟩
  have hx := S.1
  have hb := S.2.1
  have hl := lv_entry ([.ref (ad cx 19), .int 0, .int k]) (n := 3) (Nat.le_of_ble_eq_true rfl)
  rw [lg_entry_eq]
  generalize (lg_sl ([.ref (ad cx 19), .int 0, .int k]) ++ List.replicate (3 - (lg_sl ([.ref (ad cx 19), .int 0, .int k])).length) Slot.unset).toArray = ls at hl ⊢
  have hl : lv_has ls 3 [(0, .ref (ad cx 19)), (1, .int 0), (2, .int k)] := hl
  refine lv_iload_n hx hb d_m_fails_0 rfl (lv_at hl 1 rfl) ?_
  refine lv_if_eq (tgt := 16) hx hb d_m_fails_1 (by decide) (fun h => ?_) (fun h => ?_)
  · refine lv_aload_n hx hb d_m_fails_16 rfl (lv_at hl 0 rfl) ?_
    refine mg_err S hK hO gw_254 d_m_fails_17 ?_
    refine lv_if_eq (tgt := 27) hx hb d_m_fails_20 (by decide) (fun h => ?_) (fun h => ?_)
    · refine lv_iconst (v := 0) hx hb d_m_fails_27 (by decide) ?_
      exact rt_z S hO rfl (by decide) (by decide) d_m_fails_28
    · exact absurd he h
  · exact absurd rfl h
set_option maxHeartbeats 4000000 in
set_option maxRecDepth 100000 in
/-- fails: the code is kept -/
theorem t_fails1 (l : Launch) {cx : Cx} (hC : Cg cx) (σ : Sg) {k : Int32} (hk : ¬ k = 0) (he : σ.2.2.1 = 0) : CT l cx y_m_fails 0 0 0 0 [.ref (ad cx 19), .int 1, .int k] σ (.inl (some (.int 1))) (σ.1, σ.2.1, k, σ.2.2.2) := by
  refine Con.ofW (cc := prog_4_method_4_code) (maxL := 3) (ret := (some FieldType.boolean)) (by decide +kernel) gw_298 ?_
  intro p e s m args below meth c S ha hnm hno hv
  obtain ⟨rfl, hP, hK⟩ := hv
  have S : Fx p s m ([.ref (ad cx 19), .int 1, .int k] : List Value).toArray meth c prog_4_method_4_code 3 R_M (some FieldType.boolean) := S
  have hO : Ok cx s σ s.heap [] := ⟨hP, va_S.rf⟩
  have hx := S.1
  have hb := S.2.1
  have hl := lv_entry ([.ref (ad cx 19), .int 1, .int k]) (n := 3) (Nat.le_of_ble_eq_true rfl)
  rw [lg_entry_eq]
  generalize (lg_sl ([.ref (ad cx 19), .int 1, .int k]) ++ List.replicate (3 - (lg_sl ([.ref (ad cx 19), .int 1, .int k])).length) Slot.unset).toArray = ls at hl ⊢
  have hl : lv_has ls 3 [(0, .ref (ad cx 19)), (1, .int 1), (2, .int k)] := hl
  refine lv_iload_n hx hb d_m_fails_0 rfl (lv_at hl 1 rfl) ?_
  refine lv_if_eq (tgt := 16) hx hb d_m_fails_1 (by decide) (fun h => ?_) (fun h => ?_)
  · exact absurd h (by decide)
  · refine lv_aload_n hx hb d_m_fails_4 rfl (lv_at hl 0 rfl) ?_
    refine mg_err S hK hO gw_254 d_m_fails_5 ?_
    refine lv_if_ne (tgt := 16) hx hb d_m_fails_8 (by decide) (fun h => ?_) (fun h => ?_)
    · exact absurd he h
    · refine lv_aload_n hx hb d_m_fails_11 rfl (lv_at hl 0 rfl) ?_
      refine lv_iload_n hx hb d_m_fails_12 rfl (lv_at hl 2 rfl) ?_
      refine mp_err hC S hK hO gw_254 d_m_fails_13 (fun H locs hO => ?_)
      try dsimp only at hO
      refine lv_aload_n hx hb d_m_fails_16 rfl (lv_at hl 0 rfl) ?_
      refine mg_err S hK hO gw_254 d_m_fails_17 ?_
      refine lv_if_eq (tgt := 27) hx hb d_m_fails_20 (by decide) (fun h => ?_) (fun h => ?_)
      · exact absurd h hk
      · refine lv_iconst (v := 1) hx hb d_m_fails_23 (by decide) ?_
        refine lv_goto (tgt := 28) hx hb d_m_fails_24 (by decide) ?_
        exact rt_z S hO rfl (by decide) (by decide) d_m_fails_28
set_option maxHeartbeats 4000000 in
set_option maxRecDepth 100000 in
/-- give -/
theorem t_give (l : Launch) {cx : Cx} (hC : Cg cx) (σ : Sg) {i : Nat} (hi : i < 16) (a b t q y : Nat) (g : Bool) : CT l cx y_m_give 0 0 0 0 [.ref (ad cx 19), .int (nI i), .long (lN a), .long (lN b), .long (lN t), .int (nI q), .int (nI y), .int (bi g)] σ (.inl none) (σ.1, up σ.2.1 i (a, b, t, q, y, g), σ.2.2) := by
  refine Con.ofW (cc := prog_4_method_7_code) (maxL := 11) (ret := none) (by decide +kernel) gw_306 ?_
  intro p e s m args below meth c S ha hnm hno hv
  obtain ⟨rfl, hP, hK⟩ := hv
  have S : Fx p s m ([.ref (ad cx 19), .int (nI i), .long (lN a), .long (lN b), .long (lN t), .int (nI q), .int (nI y), .int (bi g)] : List Value).toArray meth c prog_4_method_7_code 11 R_M none := S
  have hO : Ok cx s σ s.heap [] := ⟨hP, va_S.rf⟩
  have hx := S.1
  have hb := S.2.1
  have hl := lv_entry ([.ref (ad cx 19), .int (nI i), .long (lN a), .long (lN b), .long (lN t), .int (nI q), .int (nI y), .int (bi g)]) (n := 11) (Nat.le_of_ble_eq_true rfl)
  rw [lg_entry_eq]
  generalize (lg_sl ([.ref (ad cx 19), .int (nI i), .long (lN a), .long (lN b), .long (lN t), .int (nI q), .int (nI y), .int (bi g)]) ++ List.replicate (11 - (lg_sl ([.ref (ad cx 19), .int (nI i), .long (lN a), .long (lN b), .long (lN t), .int (nI q), .int (nI y), .int (bi g)])).length) Slot.unset).toArray = ls at hl ⊢
  have hl : lv_has ls 11 [(0, .ref (ad cx 19)), (1, .int (nI i)), (2, .long (lN a)), (4, .long (lN b)), (6, .long (lN t)), (8, .int (nI q)), (9, .int (nI y)), (10, .int (bi g))] := hl
  refine lv_aload_n hx hb d_m_give_0 rfl (lv_at hl 0 rfl) ?_
  refine mg_address S hK hO gw_255 d_m_give_1 ?_
  refine lv_iload_n hx hb d_m_give_4 rfl (lv_at hl 1 rfl) ?_
  refine lv_lload_n hx hb d_m_give_5 rfl (lv_at hl 2 rfl) ?_
  refine ms_address hC S hK hO hi d_m_give_6 (fun H locs hO => ?_)
  try dsimp only at hO
  refine lv_aload_n hx hb d_m_give_7 rfl (lv_at hl 0 rfl) ?_
  refine mg_base S hK hO gw_256 d_m_give_8 ?_
  refine lv_iload_n hx hb d_m_give_11 rfl (lv_at hl 1 rfl) ?_
  refine lv_lload hx hb d_m_give_12 (lv_at hl 3 rfl) ?_
  refine ms_base hC S hK hO hi d_m_give_14 (fun H locs hO => ?_)
  try dsimp only at hO
  rw [up_s, up_up] at hO
  refine lv_aload_n hx hb d_m_give_15 rfl (lv_at hl 0 rfl) ?_
  refine mg_top S hK hO gw_257 d_m_give_16 ?_
  refine lv_iload_n hx hb d_m_give_19 rfl (lv_at hl 1 rfl) ?_
  refine lv_lload hx hb d_m_give_20 (lv_at hl 4 rfl) ?_
  refine ms_top hC S hK hO hi d_m_give_22 (fun H locs hO => ?_)
  try dsimp only at hO
  rw [up_s, up_up] at hO
  refine lv_aload_n hx hb d_m_give_23 rfl (lv_at hl 0 rfl) ?_
  refine mg_permissions S hK hO gw_258 d_m_give_24 ?_
  refine lv_iload_n hx hb d_m_give_27 rfl (lv_at hl 1 rfl) ?_
  refine lv_iload hx hb d_m_give_28 (lv_at hl 5 rfl) ?_
  refine ms_permissions hC S hK hO hi d_m_give_30 (fun H locs hO => ?_)
  try dsimp only at hO
  rw [up_s, up_up] at hO
  refine lv_aload_n hx hb d_m_give_31 rfl (lv_at hl 0 rfl) ?_
  refine mg_type S hK hO gw_259 d_m_give_32 ?_
  refine lv_iload_n hx hb d_m_give_35 rfl (lv_at hl 1 rfl) ?_
  refine lv_iload hx hb d_m_give_36 (lv_at hl 6 rfl) ?_
  refine ms_type hC S hK hO hi d_m_give_38 (fun H locs hO => ?_)
  try dsimp only at hO
  rw [up_s, up_up] at hO
  refine lv_aload_n hx hb d_m_give_39 rfl (lv_at hl 0 rfl) ?_
  refine mg_tag S hK hO gw_260 d_m_give_40 ?_
  refine lv_iload_n hx hb d_m_give_43 rfl (lv_at hl 1 rfl) ?_
  refine lv_iload hx hb d_m_give_44 (lv_at hl 7 rfl) ?_
  refine ms_tag hC S hK hO hi d_m_give_46 (fun H locs hO => ?_)
  try dsimp only at hO
  rw [up_s, up_up] at hO
  exact rt_v S hO (by decide) (by decide) d_m_give_47
set_option maxHeartbeats 4000000 in
set_option maxRecDepth 100000 in
/-- isSealed -/
theorem p_isSealed (l : Launch) {cx : Cx} (hC : Cg cx) (σ : Sg) {j : Nat} (hj : j < 16) {g : Gr} (hg : σ.2.1 j = g) (hk : gok g) : CP l cx y_m_isSealed 0 0 [.ref (ad cx 19), .int (nI j)] σ (some (.int (bi (decide (qy g ≠ 0))))) := by
  refine Con.ofW (cc := prog_4_method_10_code) (maxL := 2) (ret := (some FieldType.boolean)) (by decide +kernel) gw_318 ?_
  intro p e s m args below meth c S ha hnm hno hv
  obtain ⟨rfl, hP, hK⟩ := hv
  have S : Fx p s m ([.ref (ad cx 19), .int (nI j)] : List Value).toArray meth c prog_4_method_10_code 2 R_M (some FieldType.boolean) := S
  have hO : Ok cx s σ s.heap [] := ⟨hP, va_S.rf⟩
  have hx := S.1
  have hb := S.2.1
  have hl := lv_entry ([.ref (ad cx 19), .int (nI j)]) (n := 2) (Nat.le_of_ble_eq_true rfl)
  rw [lg_entry_eq]
  generalize (lg_sl ([.ref (ad cx 19), .int (nI j)]) ++ List.replicate (2 - (lg_sl ([.ref (ad cx 19), .int (nI j)])).length) Slot.unset).toArray = ls at hl ⊢
  have hl : lv_has ls 2 [(0, .ref (ad cx 19)), (1, .int (nI j))] := hl
  refine mg_b (decide (qy g ≠ 0)) 14 ?_ (fun hm => ?_)
  · exact rp_z S (bi_nar _) d_m_isSealed_14
  · refine lv_aload_n hx hb d_m_isSealed_0 rfl (lv_at hl 0 rfl) ?_
    refine mg_type S hK hO gw_259 d_m_isSealed_1 ?_
    refine lv_iload_n hx hb d_m_isSealed_4 rfl (lv_at hl 1 rfl) ?_
    refine ml_type S hK hO hj hg d_m_isSealed_5 ?_
    refine lv_if_eq (tgt := 13) hx hb d_m_isSealed_6 (by decide) (fun h => ?_) (fun h => ?_)
    · refine lv_iconst (v := 0) hx hb d_m_isSealed_13 (by decide) ?_
      exact hm _ (bi_o (by have z : qy g = 0 := (nI_eq (b := 0) (by have := hk.2.2.2.2; omega) (by decide)).mp h; simp [z]))
    · refine lv_iconst (v := 1) hx hb d_m_isSealed_9 (by decide) ?_
      refine lv_goto (tgt := 14) hx hb d_m_isSealed_10 (by decide) ?_
      exact hm _ (bi_1 (by have z : qy g ≠ 0 := fun z => h (by rw [z]; rfl); simp [z]))
set_option maxHeartbeats 4000000 in
set_option maxRecDepth 100000 in
/-- may -/
theorem p_mmay (l : Launch) {cx : Cx} (hC : Cg cx) (σ : Sg) {j : Nat} (hj : j < 16) {g : Gr} (hg : σ.2.1 j = g) (hg2 : gok g) (q : Int32) : CP l cx y_m_may 0 0 [.ref (ad cx 19), .int (nI j), .int q] σ (some (.int (bi (mayB (qp g) q)))) := by
  refine Con.ofW (cc := prog_4_method_14_code) (maxL := 4) (ret := (some FieldType.boolean)) (by decide +kernel) gw_334 ?_
  intro p e s m args below meth c S ha hnm hno hv
  obtain ⟨rfl, hP, hK⟩ := hv
  have S : Fx p s m ([.ref (ad cx 19), .int (nI j), .int q] : List Value).toArray meth c prog_4_method_14_code 4 R_M (some FieldType.boolean) := S
  have hO : Ok cx s σ s.heap [] := ⟨hP, va_S.rf⟩
  have hx := S.1
  have hb := S.2.1
  have hl := lv_entry ([.ref (ad cx 19), .int (nI j), .int q]) (n := 4) (Nat.le_of_ble_eq_true rfl)
  rw [lg_entry_eq]
  generalize (lg_sl ([.ref (ad cx 19), .int (nI j), .int q]) ++ List.replicate (4 - (lg_sl ([.ref (ad cx 19), .int (nI j), .int q])).length) Slot.unset).toArray = ls at hl ⊢
  have hl : lv_has ls 4 [(0, .ref (ad cx 19)), (1, .int (nI j)), (2, .int q)] := hl
  refine lv_iconst (v := nI 0) hx hb d_m_may_0 (by decide) ?_
  refine lv_istore_n hx hb d_m_may_1 rfl hl (by decide) rfl (fun ls hl => ?_)
  have hl : lv_has ls 4 [(3, _), (0, _), (1, _), (2, _)] := hl
  refine lp_up (fun k ls => lv_has ls 4 [(3, .int (nI k)), (0, .ref (ad cx 19)), (1, .int (nI j)), (2, .int q)] ∧ ∀ i, i < k → (uw q).testBit i = true → (qp g).testBit i = true) 32 0 (⟨hl, fun i hi => absurd hi (Nat.not_lt_zero i)⟩) (by decide) (fun k ls hk hl ih => ?_) (fun ls hl => ?_)
  · obtain ⟨hl, hin⟩ := hl
    have hb1 := sh_bit q hk
    have hb2 := sh_bit (nI (qp g)) hk
    rw [uw_N (by have := hg2.2.2.2.1; omega)] at hb2
    refine lv_iload_n hx hb d_m_may_2 rfl (lv_at hl 0 rfl) ?_
    refine lv_bipush (v := 32) hx hb d_m_may_3 (by decide) ?_
    refine lv_icmp_ge (tgt := 38) hx hb d_m_may_5 (by decide) (fun h => ?_) (fun h => ?_)
    · exact absurd h (nI_ge (b := 32) hk (by decide))
    · refine lv_iload_n hx hb d_m_may_8 rfl (lv_at hl 3 rfl) ?_
      refine lv_iload_n hx hb d_m_may_9 rfl (lv_at hl 0 rfl) ?_
      refine lv_ishr hx hb d_m_may_10 ?_
      refine lv_iconst (v := 1) hx hb d_m_may_11 (by decide) ?_
      refine lv_iand hx hb d_m_may_12 ?_
      refine tp_i (z := bi ((uw q).testBit k)) (hb1) ?_
      refine lv_iconst (v := 1) hx hb d_m_may_13 (by decide) ?_
      refine lv_icmp_ne (tgt := 32) hx hb d_m_may_14 (by decide) (fun h => ?_) (fun h => ?_)
      · have hin2 : ∀ i, i < k + 1 → (uw q).testBit i = true → (qp g).testBit i = true := by { intro i hi hq; rcases Nat.lt_succ_iff_lt_or_eq.mp hi with z | z; exact hin i z hq; subst z; exact absurd (by rw [hq]; rfl) h }
        refine lv_iinc (k := 0) hx hb d_m_may_32 hl rfl rfl (by decide) rfl (fun ls hl => ?_)
        have hl : lv_has ls 4 [(3, _), (0, _), (1, _), (2, _)] := hl
        refine lv_goto (tgt := 2) hx hb d_m_may_35 (by decide) ?_
        exact ih ls ⟨by rw [nI_succ]; exact hl, hin2⟩
      · have c1 : (uw q).testBit k = true := by { cases hz : (uw q).testBit k with | true => rfl | false => rw [hz] at h; exact absurd h (by decide) }
        refine lv_aload_n hx hb d_m_may_17 rfl (lv_at hl 1 rfl) ?_
        refine mg_permissions S hK hO gw_258 d_m_may_18 ?_
        refine lv_iload_n hx hb d_m_may_21 rfl (lv_at hl 2 rfl) ?_
        refine ml_permissions S hK hO hj hg d_m_may_22 ?_
        refine lv_iload_n hx hb d_m_may_23 rfl (lv_at hl 0 rfl) ?_
        refine lv_ishr hx hb d_m_may_24 ?_
        refine lv_iconst (v := 1) hx hb d_m_may_25 (by decide) ?_
        refine lv_iand hx hb d_m_may_26 ?_
        refine tp_i (z := bi ((qp g).testBit k)) (hb2) ?_
        refine lv_if_ne (tgt := 32) hx hb d_m_may_27 (by decide) (fun h => ?_) (fun h => ?_)
        · have hin2 : ∀ i, i < k + 1 → (uw q).testBit i = true → (qp g).testBit i = true := by { intro i hi hq; rcases Nat.lt_succ_iff_lt_or_eq.mp hi with z | z; exact hin i z hq; subst z; exact bi_n.mp h }
          refine lv_iinc (k := 0) hx hb d_m_may_32 hl rfl rfl (by decide) rfl (fun ls hl => ?_)
          have hl : lv_has ls 4 [(3, _), (0, _), (1, _), (2, _)] := hl
          refine lv_goto (tgt := 2) hx hb d_m_may_35 (by decide) ?_
          exact ih ls ⟨by rw [nI_succ]; exact hl, hin2⟩
        · have c2 : (qp g).testBit k = false := bi_0.mp h
          refine lv_iconst (v := 0) hx hb d_m_may_30 (by decide) ?_
          have z : mayB (qp g) q = false := by { cases hz : mayB (qp g) q with | false => rfl | true => have z2 := (may_iff _ hg2.2.2.2.1 q).mp hz k hk c1; rw [c2] at z2; exact absurd z2 (by decide) }
          refine tp_i (z := bi (mayB (qp g) q)) (bi_o z) ?_
          exact rp_z S (bi_nar _) d_m_may_31
  · obtain ⟨hl, hin⟩ := hl
    refine lv_iload_n hx hb d_m_may_2 rfl (lv_at hl 0 rfl) ?_
    refine lv_bipush (v := 32) hx hb d_m_may_3 (by decide) ?_
    refine lv_icmp_ge (tgt := 38) hx hb d_m_may_5 (by decide) (fun h => ?_) (fun h => ?_)
    · refine lv_iconst (v := 1) hx hb d_m_may_38 (by decide) ?_
      refine tp_i (z := bi (mayB (qp g) q)) (bi_1 ((may_iff _ hg2.2.2.2.1 q).mpr hin)) ?_
      exact rp_z S (bi_nar _) d_m_may_39
    · exact absurd (show (32 : Int32) ≤ nI 32 by decide) h
set_option maxHeartbeats 4000000 in
set_option maxRecDepth 100000 in
/-- holds -/
theorem p_holds (l : Launch) {cx : Cx} (hC : Cg cx) (σ : Sg) {j : Nat} (hj : j < 16) {g : Gr} (hg : σ.2.1 j = g) (hk : gok g) {a n : Nat} (ha1 : a < 4294967296) (hn1 : n < 65537) : CP l cx y_m_holds 0 0 [.ref (ad cx 19), .int (nI j), .long (lN a), .long (lN n)] σ (some (.int (bi (hasB g a n)))) := by
  refine Con.ofW (cc := prog_4_method_15_code) (maxL := 9) (ret := (some FieldType.boolean)) (by decide +kernel) gw_338 ?_
  intro p e s m args below meth c S ha hnm hno hv
  obtain ⟨rfl, hP, hK⟩ := hv
  have S : Fx p s m ([.ref (ad cx 19), .int (nI j), .long (lN a), .long (lN n)] : List Value).toArray meth c prog_4_method_15_code 9 R_M (some FieldType.boolean) := S
  have hO : Ok cx s σ s.heap [] := ⟨hP, va_S.rf⟩
  have hx := S.1
  have hb := S.2.1
  have hl := lv_entry ([.ref (ad cx 19), .int (nI j), .long (lN a), .long (lN n)]) (n := 9) (Nat.le_of_ble_eq_true rfl)
  rw [lg_entry_eq]
  generalize (lg_sl ([.ref (ad cx 19), .int (nI j), .long (lN a), .long (lN n)]) ++ List.replicate (9 - (lg_sl ([.ref (ad cx 19), .int (nI j), .long (lN a), .long (lN n)])).length) Slot.unset).toArray = ls at hl ⊢
  have hl : lv_has ls 9 [(0, .ref (ad cx 19)), (1, .int (nI j)), (2, .long (lN a)), (4, .long (lN n))] := hl
  obtain ⟨k1, k2, k3, k4, k5⟩ := hk
  refine lv_lload hx hb d_m_holds_0 (lv_at hl 3 rfl) ?_
  refine lv_lconst (v := lN 0) hx hb d_m_holds_2 rfl ?_
  refine W.lcmp hx hb d_m_holds_3 ?_
  refine lv_if_ne (tgt := 35) hx hb d_m_holds_4 (by decide) (fun h => ?_) (fun h => ?_)
  · have hn : ¬ n = 0 := fun z => h ((lc_eq (by omega) (by omega)).mpr z)
    refine lv_iconst (v := 0) hx hb d_m_holds_35 (by decide) ?_
    refine lv_istore hx hb d_m_holds_36 hl (by decide) rfl (fun ls hl => ?_)
    have hl : lv_has ls 9 [(6, _), (0, _), (1, _), (2, _), (4, _)] := hl
    refine lv_iload hx hb d_m_holds_38 (lv_at hl 0 rfl) ?_
    refine lv_iconst (v := 2) hx hb d_m_holds_40 (by decide) ?_
    refine lv_icmp_ge (tgt := 93) hx hb d_m_holds_41 (by decide) (fun h => ?_) (fun h => ?_)
    · exact absurd h (by decide)
    · refine lv_iload hx hb d_m_holds_44 (lv_at hl 0 rfl) ?_
      refine lv_if_ne (tgt := 53) hx hb d_m_holds_46 (by decide) (fun h => ?_) (fun h => ?_)
      · exact absurd rfl h
      · refine lv_lload_n hx hb d_m_holds_49 rfl (lv_at hl 3 rfl) ?_
        refine lv_goto (tgt := 59) hx hb d_m_holds_50 (by decide) ?_
        refine lv_lstore hx hb d_m_holds_59 hl (by decide) rfl (fun ls hl => ?_)
        have hl : lv_has ls 9 [(7, _), (6, _), (0, _), (1, _), (2, _), (4, _)] := hl
        refine lv_lload hx hb d_m_holds_61 (lv_at hl 0 rfl) ?_
        refine lv_aload_n hx hb d_m_holds_63 rfl (lv_at hl 2 rfl) ?_
        refine mg_base S hK hO gw_256 d_m_holds_64 ?_
        refine lv_iload_n hx hb d_m_holds_67 rfl (lv_at hl 3 rfl) ?_
        refine ml_base S hK hO hj hg d_m_holds_68 ?_
        refine W.lcmp hx hb d_m_holds_69 ?_
        refine lv_if_lt (tgt := 85) hx hb d_m_holds_70 (by decide) (fun h => ?_) (fun h => ?_)
        · refine lv_iconst (v := 0) hx hb d_m_holds_85 (by decide) ?_
          refine tp_i (z := bi (hasB g a n)) (bi_o (by have z := (lc_lt (by omega) (by omega)).mp h; have z2 : ¬ qb g ≤ a := by { omega }; simp [hasB, z2])) ?_
          exact rp_z S (bi_nar _) d_m_holds_86
        · have c1 : qb g ≤ a := Nat.le_of_not_lt fun z => h ((lc_lt (by omega) (by omega)).mpr z)
          refine lv_lload hx hb d_m_holds_73 (lv_at hl 0 rfl) ?_
          refine lv_aload_n hx hb d_m_holds_75 rfl (lv_at hl 2 rfl) ?_
          refine mg_top S hK hO gw_257 d_m_holds_76 ?_
          refine lv_iload_n hx hb d_m_holds_79 rfl (lv_at hl 3 rfl) ?_
          refine ml_top S hK hO hj hg d_m_holds_80 ?_
          refine W.lcmp hx hb d_m_holds_81 ?_
          refine lv_if_lt (tgt := 87) hx hb d_m_holds_82 (by decide) (fun h => ?_) (fun h => ?_)
          · have c2 : a < qt g := (lc_lt (by omega) (by omega)).mp h
            refine lv_iinc (k := 1) hx hb d_m_holds_87 hl rfl rfl (by decide) rfl (fun ls hl => ?_)
            have hl : lv_has ls 9 [(6, _), (7, _), (0, _), (1, _), (2, _), (4, _)] := hl
            refine lv_goto (tgt := 38) hx hb d_m_holds_90 (by decide) ?_
            refine lv_iload hx hb d_m_holds_38 (lv_at hl 0 rfl) ?_
            refine lv_iconst (v := 2) hx hb d_m_holds_40 (by decide) ?_
            refine lv_icmp_ge (tgt := 93) hx hb d_m_holds_41 (by decide) (fun h => ?_) (fun h => ?_)
            · exact absurd h (by decide)
            · refine lv_iload hx hb d_m_holds_44 (lv_at hl 0 rfl) ?_
              refine lv_if_ne (tgt := 53) hx hb d_m_holds_46 (by decide) (fun h => ?_) (fun h => ?_)
              · refine lv_lload_n hx hb d_m_holds_53 rfl (lv_at hl 4 rfl) ?_
                refine lv_lload hx hb d_m_holds_54 (lv_at hl 5 rfl) ?_
                refine lv_ladd hx hb d_m_holds_56 ?_
                refine tp_l (z := lN (a + n)) (lN_add _ _) ?_
                refine lv_lconst (v := lN 1) hx hb d_m_holds_57 rfl ?_
                refine lv_lsub hx hb d_m_holds_58 ?_
                refine tp_l (z := lN (a + n - 1)) (lN_sub (by omega)) ?_
                refine lv_lstore hx hb d_m_holds_59 hl (by decide) rfl (fun ls hl => ?_)
                have hl : lv_has ls 9 [(7, _), (6, _), (0, _), (1, _), (2, _), (4, _)] := hl
                refine lv_lload hx hb d_m_holds_61 (lv_at hl 0 rfl) ?_
                refine lv_aload_n hx hb d_m_holds_63 rfl (lv_at hl 2 rfl) ?_
                refine mg_base S hK hO gw_256 d_m_holds_64 ?_
                refine lv_iload_n hx hb d_m_holds_67 rfl (lv_at hl 3 rfl) ?_
                refine ml_base S hK hO hj hg d_m_holds_68 ?_
                refine W.lcmp hx hb d_m_holds_69 ?_
                refine lv_if_lt (tgt := 85) hx hb d_m_holds_70 (by decide) (fun h => ?_) (fun h => ?_)
                · refine lv_iconst (v := 0) hx hb d_m_holds_85 (by decide) ?_
                  refine tp_i (z := bi (hasB g a n)) (bi_o (by have z := (lc_lt (by omega) (by omega)).mp h; exfalso; omega)) ?_
                  exact rp_z S (bi_nar _) d_m_holds_86
                · have c3 : qb g ≤ a + n - 1 := Nat.le_of_not_lt fun z => h ((lc_lt (by omega) (by omega)).mpr z)
                  refine lv_lload hx hb d_m_holds_73 (lv_at hl 0 rfl) ?_
                  refine lv_aload_n hx hb d_m_holds_75 rfl (lv_at hl 2 rfl) ?_
                  refine mg_top S hK hO gw_257 d_m_holds_76 ?_
                  refine lv_iload_n hx hb d_m_holds_79 rfl (lv_at hl 3 rfl) ?_
                  refine ml_top S hK hO hj hg d_m_holds_80 ?_
                  refine W.lcmp hx hb d_m_holds_81 ?_
                  refine lv_if_lt (tgt := 87) hx hb d_m_holds_82 (by decide) (fun h => ?_) (fun h => ?_)
                  · have c4 : a + n - 1 < qt g := (lc_lt (by omega) (by omega)).mp h
                    refine lv_iinc (k := 1) hx hb d_m_holds_87 hl rfl rfl (by decide) rfl (fun ls hl => ?_)
                    have hl : lv_has ls 9 [(6, _), (7, _), (0, _), (1, _), (2, _), (4, _)] := hl
                    refine lv_goto (tgt := 38) hx hb d_m_holds_90 (by decide) ?_
                    refine lv_iload hx hb d_m_holds_38 (lv_at hl 0 rfl) ?_
                    refine lv_iconst (v := 2) hx hb d_m_holds_40 (by decide) ?_
                    refine lv_icmp_ge (tgt := 93) hx hb d_m_holds_41 (by decide) (fun h => ?_) (fun h => ?_)
                    · refine lv_iconst (v := 1) hx hb d_m_holds_93 (by decide) ?_
                      refine tp_i (z := bi (hasB g a n)) (bi_1 (by simp only [hasB, Bool.and_eq_true, decide_eq_true_eq]; omega)) ?_
                      exact rp_z S (bi_nar _) d_m_holds_94
                    · exact absurd (by decide) h
                  · have c4 : ¬ a + n - 1 < qt g := fun z => h ((lc_lt (by omega) (by omega)).mpr z)
                    refine lv_iconst (v := 0) hx hb d_m_holds_85 (by decide) ?_
                    refine tp_i (z := bi (hasB g a n)) (bi_o (by have z2 : ¬ a + n ≤ qt g := by { omega }; simp [hasB, z2])) ?_
                    exact rp_z S (bi_nar _) d_m_holds_86
              · exact absurd h (by decide)
          · have c2 : ¬ a < qt g := fun z => h ((lc_lt (by omega) (by omega)).mpr z)
            refine lv_iconst (v := 0) hx hb d_m_holds_85 (by decide) ?_
            refine tp_i (z := bi (hasB g a n)) (bi_o (by have z2 : ¬ a + n ≤ qt g := by { omega }; simp [hasB, z2])) ?_
            exact rp_z S (bi_nar _) d_m_holds_86
  · have hn : n = 0 := (lc_eq (by omega) (by omega)).mp h
    subst hn
    refine mg_b (hasB g a 0) 34 ?_ (fun hm => ?_)
    · exact rp_z S (bi_nar _) d_m_holds_34
    · refine lv_lload_n hx hb d_m_holds_7 rfl (lv_at hl 2 rfl) ?_
      refine lv_aload_n hx hb d_m_holds_8 rfl (lv_at hl 0 rfl) ?_
      refine mg_base S hK hO gw_256 d_m_holds_9 ?_
      refine lv_iload_n hx hb d_m_holds_12 rfl (lv_at hl 1 rfl) ?_
      refine ml_base S hK hO hj hg d_m_holds_13 ?_
      refine W.lcmp hx hb d_m_holds_14 ?_
      refine lv_if_lt (tgt := 33) hx hb d_m_holds_15 (by decide) (fun h => ?_) (fun h => ?_)
      · refine lv_iconst (v := 0) hx hb d_m_holds_33 (by decide) ?_
        exact hm _ (bi_o (by have z := (lc_lt (by omega) (by omega)).mp h; have z2 : ¬ qb g ≤ a := by { omega }; simp [hasB, z2]))
      · have c1 : qb g ≤ a := Nat.le_of_not_lt fun z => h ((lc_lt (by omega) (by omega)).mpr z)
        refine lv_lload_n hx hb d_m_holds_18 rfl (lv_at hl 2 rfl) ?_
        refine lv_aload_n hx hb d_m_holds_19 rfl (lv_at hl 0 rfl) ?_
        refine mg_top S hK hO gw_257 d_m_holds_20 ?_
        refine lv_iload_n hx hb d_m_holds_23 rfl (lv_at hl 1 rfl) ?_
        refine ml_top S hK hO hj hg d_m_holds_24 ?_
        refine W.lcmp hx hb d_m_holds_25 ?_
        refine lv_if_gt (tgt := 33) hx hb d_m_holds_26 (by decide) (fun h => ?_) (fun h => ?_)
        · refine lv_iconst (v := 0) hx hb d_m_holds_33 (by decide) ?_
          exact hm _ (bi_o (by have z := (lc_gt (by omega) (by omega)).mp h; have z2 : ¬ a + 0 ≤ qt g := by { omega }; simp [hasB]; omega))
        · refine lv_iconst (v := 1) hx hb d_m_holds_29 (by decide) ?_
          refine lv_goto (tgt := 34) hx hb d_m_holds_30 (by decide) ?_
          exact hm _ (bi_1 (by have z : ¬ qt g < a := fun z => h ((lc_gt (by omega) (by omega)).mpr z); simp [hasB, c1]; omega))
set_option maxHeartbeats 4000000 in
set_option maxRecDepth 100000 in
/-- thrown -/
theorem p_thrown (l : Launch) {cx : Cx} (hC : Cg cx) (σ : Sg) : CP l cx y_m_thrown 0 0 [.ref (ad cx 19)] σ (some (.int σ.2.2.1)) := by
  refine Con.ofW (cc := prog_4_method_2_code) (maxL := 1) (ret := (some FieldType.int)) (by decide +kernel) gw_282 ?_
  intro p e s m args below meth c S ha hnm hno hv
  obtain ⟨rfl, hP, hK⟩ := hv
  have S : Fx p s m ([.ref (ad cx 19)] : List Value).toArray meth c prog_4_method_2_code 1 R_M (some FieldType.int) := S
  have hO : Ok cx s σ s.heap [] := ⟨hP, va_S.rf⟩
  have hx := S.1
  have hb := S.2.1
  have hl := lv_entry ([.ref (ad cx 19)]) (n := 1) (Nat.le_of_ble_eq_true rfl)
  rw [lg_entry_eq]
  generalize (lg_sl ([.ref (ad cx 19)]) ++ List.replicate (1 - (lg_sl ([.ref (ad cx 19)])).length) Slot.unset).toArray = ls at hl ⊢
  have hl : lv_has ls 1 [(0, .ref (ad cx 19))] := hl
  refine lv_aload_n hx hb d_m_thrown_0 rfl (lv_at hl 0 rfl) ?_
  refine mg_err S hK hO gw_254 d_m_thrown_1 ?_
  exact rp_i S d_m_thrown_4
set_option maxHeartbeats 4000000 in
set_option maxRecDepth 100000 in
/-- m_number: out of range -/
theorem m_number_b1 (l : Launch) {cx : Cx} (hC : Cg cx) (σ : Sg) {r v : Int32} (hb0 : (okr r) = false) : CT l cx y_m_number 2 61 0 0 [.ref (ad cx 19), .int r, .int v] σ (.inl none) (σ.1, σ.2.1, 1, σ.2.2.2) := by
  refine Con.ofW (cc := prog_4_method_9_code) (maxL := 3) (ret := none) (by decide +kernel) gw_310 ?_
  intro p e s m args below meth c S ha hnm hno hv
  obtain ⟨rfl, hP, hK⟩ := hv
  have S : Fx p s m ([.ref (ad cx 19), .int r, .int v] : List Value).toArray meth c prog_4_method_9_code 3 R_M none := S
  have hO : Ok cx s σ s.heap [] := ⟨hP, va_S.rf⟩
  have hx := S.1
  have hb := S.2.1
  have hl := lv_entry ([.ref (ad cx 19), .int r, .int v]) (n := 3) (Nat.le_of_ble_eq_true rfl)
  rw [lg_entry_eq]
  generalize (lg_sl ([.ref (ad cx 19), .int r, .int v]) ++ List.replicate (3 - (lg_sl ([.ref (ad cx 19), .int r, .int v])).length) Slot.unset).toArray = ls at hl ⊢
  have hl : lv_has ls 3 [(0, .ref (ad cx 19)), (1, .int r), (2, .int v)] := hl
  refine lv_aload_n hx hb d_m_number_0 rfl (lv_at hl 0 rfl) ?_
  refine lv_iconst (v := 0) hx hb d_m_number_1 (by decide) ?_
  refine mp_err hC S hK hO gw_254 d_m_number_2 (fun H locs hO => ?_)
  try dsimp only at hO
  refine lv_aload_n hx hb d_m_number_5 rfl (lv_at hl 0 rfl) ?_
  refine lv_iload_n hx hb d_m_number_6 rfl (lv_at hl 1 rfl) ?_
  refine cS1p S hK hO (p_is l hC _ _) sw_m_is gw_299 (by decide) (by decide) ⟨by decide, by decide⟩ hl.1 (Nat.le_of_ble_eq_true rfl) d_m_number_7 ?_
  refine lv_if_ne (tgt := 17) hx hb d_m_number_10 (by decide) (fun h => ?_) (fun h => ?_)
  · have c0 := bi_n.mp h
    exact absurd hb0 (by simp [c0])
  · refine lv_iconst (v := 1) hx hb d_m_number_13 (by decide) ?_
    refine lv_goto (tgt := 18) hx hb d_m_number_14 (by decide) ?_
    refine lv_iconst (v := 1) hx hb d_m_number_18 (by decide) ?_
    refine cM2r S hK hO (t_fails1 l hC _ (by decide) rfl) vw_m_fails gw_295 (by decide) (by decide) ⟨by decide, by decide⟩ hl.1 (Nat.le_of_ble_eq_true rfl) d_m_number_19 (fun H locs hO => ?_)
    try dsimp only at hO
    refine lv_if_eq (tgt := 26) hx hb d_m_number_22 (by decide) (fun h => ?_) (fun h => ?_)
    · exact absurd h (by decide)
    · exact rt_v S hO (by decide) (by decide) d_m_number_25
set_option maxHeartbeats 4000000 in
set_option maxRecDepth 100000 in
/-- m_move: out of range -/
theorem m_move_b1 (l : Launch) {cx : Cx} (hC : Cg cx) (σ : Sg) {r u n : Int32} (hb0 : (okr r && okr u) = false) : CT l cx y_m_move 2 61 0 0 [.ref (ad cx 19), .int r, .int u, .int n] σ (.inl none) (σ.1, σ.2.1, 1, σ.2.2.2) := by
  refine Con.ofW (cc := prog_4_method_11_code) (maxL := 4) (ret := none) (by decide +kernel) gw_314 ?_
  intro p e s m args below meth c S ha hnm hno hv
  obtain ⟨rfl, hP, hK⟩ := hv
  have S : Fx p s m ([.ref (ad cx 19), .int r, .int u, .int n] : List Value).toArray meth c prog_4_method_11_code 4 R_M none := S
  have hO : Ok cx s σ s.heap [] := ⟨hP, va_S.rf⟩
  have hx := S.1
  have hb := S.2.1
  have hl := lv_entry ([.ref (ad cx 19), .int r, .int u, .int n]) (n := 4) (Nat.le_of_ble_eq_true rfl)
  rw [lg_entry_eq]
  generalize (lg_sl ([.ref (ad cx 19), .int r, .int u, .int n]) ++ List.replicate (4 - (lg_sl ([.ref (ad cx 19), .int r, .int u, .int n])).length) Slot.unset).toArray = ls at hl ⊢
  have hl : lv_has ls 4 [(0, .ref (ad cx 19)), (1, .int r), (2, .int u), (3, .int n)] := hl
  refine lv_aload_n hx hb d_m_move_0 rfl (lv_at hl 0 rfl) ?_
  refine lv_iconst (v := 0) hx hb d_m_move_1 (by decide) ?_
  refine mp_err hC S hK hO gw_254 d_m_move_2 (fun H locs hO => ?_)
  try dsimp only at hO
  refine lv_aload_n hx hb d_m_move_5 rfl (lv_at hl 0 rfl) ?_
  refine lv_iload_n hx hb d_m_move_6 rfl (lv_at hl 1 rfl) ?_
  refine cS1p S hK hO (p_is l hC _ _) sw_m_is gw_299 (by decide) (by decide) ⟨by decide, by decide⟩ hl.1 (Nat.le_of_ble_eq_true rfl) d_m_move_7 ?_
  refine lv_if_eq (tgt := 20) hx hb d_m_move_10 (by decide) (fun h => ?_) (fun h => ?_)
  · refine lv_iconst (v := 1) hx hb d_m_move_20 (by decide) ?_
    refine lv_goto (tgt := 25) hx hb d_m_move_21 (by decide) ?_
    refine lv_iconst (v := 1) hx hb d_m_move_25 (by decide) ?_
    refine cM2r S hK hO (t_fails1 l hC _ (by decide) rfl) vw_m_fails gw_295 (by decide) (by decide) ⟨by decide, by decide⟩ hl.1 (Nat.le_of_ble_eq_true rfl) d_m_move_26 (fun H locs hO => ?_)
    try dsimp only at hO
    refine lv_if_eq (tgt := 33) hx hb d_m_move_29 (by decide) (fun h => ?_) (fun h => ?_)
    · exact absurd h (by decide)
    · exact rt_v S hO (by decide) (by decide) d_m_move_32
  · have c0 := bi_n.mp h
    refine lv_iload_n hx hb d_m_move_13 rfl (lv_at hl 2 rfl) ?_
    refine cS1p S hK hO (p_is l hC _ _) sw_m_is gw_299 (by decide) (by decide) ⟨by decide, by decide⟩ hl.1 (Nat.le_of_ble_eq_true rfl) d_m_move_14 ?_
    refine lv_if_ne (tgt := 24) hx hb d_m_move_17 (by decide) (fun h => ?_) (fun h => ?_)
    · have c1 := bi_n.mp h
      exact absurd hb0 (by simp [c0, c1])
    · refine lv_iconst (v := 1) hx hb d_m_move_20 (by decide) ?_
      refine lv_goto (tgt := 25) hx hb d_m_move_21 (by decide) ?_
      refine lv_iconst (v := 1) hx hb d_m_move_25 (by decide) ?_
      refine cM2r S hK hO (t_fails1 l hC _ (by decide) rfl) vw_m_fails gw_295 (by decide) (by decide) ⟨by decide, by decide⟩ hl.1 (Nat.le_of_ble_eq_true rfl) d_m_move_26 (fun H locs hO => ?_)
      try dsimp only at hO
      refine lv_if_eq (tgt := 33) hx hb d_m_move_29 (by decide) (fun h => ?_) (fun h => ?_)
      · exact absurd h (by decide)
      · exact rt_v S hO (by decide) (by decide) d_m_move_32
set_option maxHeartbeats 4000000 in
set_option maxRecDepth 100000 in
/-- m_narrow: out of range -/
theorem m_narrow_b1 (l : Launch) {cx : Cx} (hC : Cg cx) (σ : Sg) {r u n : Int32} (hb0 : (okr r && okr u) = false) : CT l cx y_m_narrow 2 61 0 0 [.ref (ad cx 19), .int r, .int u, .int n] σ (.inl (some (.int 0))) (σ.1, σ.2.1, 1, σ.2.2.2) := by
  refine Con.ofW (cc := prog_4_method_12_code) (maxL := 8) (ret := (some FieldType.boolean)) (by decide +kernel) gw_322 ?_
  intro p e s m args below meth c S ha hnm hno hv
  obtain ⟨rfl, hP, hK⟩ := hv
  have S : Fx p s m ([.ref (ad cx 19), .int r, .int u, .int n] : List Value).toArray meth c prog_4_method_12_code 8 R_M (some FieldType.boolean) := S
  have hO : Ok cx s σ s.heap [] := ⟨hP, va_S.rf⟩
  have hx := S.1
  have hb := S.2.1
  have hl := lv_entry ([.ref (ad cx 19), .int r, .int u, .int n]) (n := 8) (Nat.le_of_ble_eq_true rfl)
  rw [lg_entry_eq]
  generalize (lg_sl ([.ref (ad cx 19), .int r, .int u, .int n]) ++ List.replicate (8 - (lg_sl ([.ref (ad cx 19), .int r, .int u, .int n])).length) Slot.unset).toArray = ls at hl ⊢
  have hl : lv_has ls 8 [(0, .ref (ad cx 19)), (1, .int r), (2, .int u), (3, .int n)] := hl
  refine lv_aload_n hx hb d_m_narrow_0 rfl (lv_at hl 0 rfl) ?_
  refine lv_iconst (v := 0) hx hb d_m_narrow_1 (by decide) ?_
  refine mp_err hC S hK hO gw_254 d_m_narrow_2 (fun H locs hO => ?_)
  try dsimp only at hO
  refine lv_aload_n hx hb d_m_narrow_5 rfl (lv_at hl 0 rfl) ?_
  refine lv_iload_n hx hb d_m_narrow_6 rfl (lv_at hl 1 rfl) ?_
  refine cS1p S hK hO (p_is l hC _ _) sw_m_is gw_299 (by decide) (by decide) ⟨by decide, by decide⟩ hl.1 (Nat.le_of_ble_eq_true rfl) d_m_narrow_7 ?_
  refine lv_if_eq (tgt := 20) hx hb d_m_narrow_10 (by decide) (fun h => ?_) (fun h => ?_)
  · refine lv_iconst (v := 1) hx hb d_m_narrow_20 (by decide) ?_
    refine lv_goto (tgt := 25) hx hb d_m_narrow_21 (by decide) ?_
    refine lv_iconst (v := 1) hx hb d_m_narrow_25 (by decide) ?_
    refine cM2r S hK hO (t_fails1 l hC _ (by decide) rfl) vw_m_fails gw_295 (by decide) (by decide) ⟨by decide, by decide⟩ hl.1 (Nat.le_of_ble_eq_true rfl) d_m_narrow_26 (fun H locs hO => ?_)
    try dsimp only at hO
    refine lv_if_eq (tgt := 34) hx hb d_m_narrow_29 (by decide) (fun h => ?_) (fun h => ?_)
    · exact absurd h (by decide)
    · refine lv_iconst (v := 0) hx hb d_m_narrow_32 (by decide) ?_
      exact rt_z S hO rfl (by decide) (by decide) d_m_narrow_33
  · have c0 := bi_n.mp h
    refine lv_iload_n hx hb d_m_narrow_13 rfl (lv_at hl 2 rfl) ?_
    refine cS1p S hK hO (p_is l hC _ _) sw_m_is gw_299 (by decide) (by decide) ⟨by decide, by decide⟩ hl.1 (Nat.le_of_ble_eq_true rfl) d_m_narrow_14 ?_
    refine lv_if_ne (tgt := 24) hx hb d_m_narrow_17 (by decide) (fun h => ?_) (fun h => ?_)
    · have c1 := bi_n.mp h
      exact absurd hb0 (by simp [c0, c1])
    · refine lv_iconst (v := 1) hx hb d_m_narrow_20 (by decide) ?_
      refine lv_goto (tgt := 25) hx hb d_m_narrow_21 (by decide) ?_
      refine lv_iconst (v := 1) hx hb d_m_narrow_25 (by decide) ?_
      refine cM2r S hK hO (t_fails1 l hC _ (by decide) rfl) vw_m_fails gw_295 (by decide) (by decide) ⟨by decide, by decide⟩ hl.1 (Nat.le_of_ble_eq_true rfl) d_m_narrow_26 (fun H locs hO => ?_)
      try dsimp only at hO
      refine lv_if_eq (tgt := 34) hx hb d_m_narrow_29 (by decide) (fun h => ?_) (fun h => ?_)
      · exact absurd h (by decide)
      · refine lv_iconst (v := 0) hx hb d_m_narrow_32 (by decide) ?_
        exact rt_z S hO rfl (by decide) (by decide) d_m_narrow_33
set_option maxHeartbeats 4000000 in
set_option maxRecDepth 100000 in
/-- m_restrict: out of range -/
theorem m_restrict_b1 (l : Launch) {cx : Cx} (hC : Cg cx) (σ : Sg) {r u n : Int32} (hb0 : (okr r && okr u) = false) : CT l cx y_m_restrict 2 61 0 0 [.ref (ad cx 19), .int r, .int u, .int n] σ (.inl (some (.int 0))) (σ.1, σ.2.1, 1, σ.2.2.2) := by
  refine Con.ofW (cc := prog_4_method_13_code) (maxL := 6) (ret := (some FieldType.boolean)) (by decide +kernel) gw_326 ?_
  intro p e s m args below meth c S ha hnm hno hv
  obtain ⟨rfl, hP, hK⟩ := hv
  have S : Fx p s m ([.ref (ad cx 19), .int r, .int u, .int n] : List Value).toArray meth c prog_4_method_13_code 6 R_M (some FieldType.boolean) := S
  have hO : Ok cx s σ s.heap [] := ⟨hP, va_S.rf⟩
  have hx := S.1
  have hb := S.2.1
  have hl := lv_entry ([.ref (ad cx 19), .int r, .int u, .int n]) (n := 6) (Nat.le_of_ble_eq_true rfl)
  rw [lg_entry_eq]
  generalize (lg_sl ([.ref (ad cx 19), .int r, .int u, .int n]) ++ List.replicate (6 - (lg_sl ([.ref (ad cx 19), .int r, .int u, .int n])).length) Slot.unset).toArray = ls at hl ⊢
  have hl : lv_has ls 6 [(0, .ref (ad cx 19)), (1, .int r), (2, .int u), (3, .int n)] := hl
  refine lv_aload_n hx hb d_m_restrict_0 rfl (lv_at hl 0 rfl) ?_
  refine lv_iconst (v := 0) hx hb d_m_restrict_1 (by decide) ?_
  refine mp_err hC S hK hO gw_254 d_m_restrict_2 (fun H locs hO => ?_)
  try dsimp only at hO
  refine lv_aload_n hx hb d_m_restrict_5 rfl (lv_at hl 0 rfl) ?_
  refine lv_iload_n hx hb d_m_restrict_6 rfl (lv_at hl 1 rfl) ?_
  refine cS1p S hK hO (p_is l hC _ _) sw_m_is gw_299 (by decide) (by decide) ⟨by decide, by decide⟩ hl.1 (Nat.le_of_ble_eq_true rfl) d_m_restrict_7 ?_
  refine lv_if_eq (tgt := 20) hx hb d_m_restrict_10 (by decide) (fun h => ?_) (fun h => ?_)
  · refine lv_iconst (v := 1) hx hb d_m_restrict_20 (by decide) ?_
    refine lv_goto (tgt := 25) hx hb d_m_restrict_21 (by decide) ?_
    refine lv_iconst (v := 1) hx hb d_m_restrict_25 (by decide) ?_
    refine cM2r S hK hO (t_fails1 l hC _ (by decide) rfl) vw_m_fails gw_295 (by decide) (by decide) ⟨by decide, by decide⟩ hl.1 (Nat.le_of_ble_eq_true rfl) d_m_restrict_26 (fun H locs hO => ?_)
    try dsimp only at hO
    refine lv_if_eq (tgt := 34) hx hb d_m_restrict_29 (by decide) (fun h => ?_) (fun h => ?_)
    · exact absurd h (by decide)
    · refine lv_iconst (v := 0) hx hb d_m_restrict_32 (by decide) ?_
      exact rt_z S hO rfl (by decide) (by decide) d_m_restrict_33
  · have c0 := bi_n.mp h
    refine lv_iload_n hx hb d_m_restrict_13 rfl (lv_at hl 2 rfl) ?_
    refine cS1p S hK hO (p_is l hC _ _) sw_m_is gw_299 (by decide) (by decide) ⟨by decide, by decide⟩ hl.1 (Nat.le_of_ble_eq_true rfl) d_m_restrict_14 ?_
    refine lv_if_ne (tgt := 24) hx hb d_m_restrict_17 (by decide) (fun h => ?_) (fun h => ?_)
    · have c1 := bi_n.mp h
      exact absurd hb0 (by simp [c0, c1])
    · refine lv_iconst (v := 1) hx hb d_m_restrict_20 (by decide) ?_
      refine lv_goto (tgt := 25) hx hb d_m_restrict_21 (by decide) ?_
      refine lv_iconst (v := 1) hx hb d_m_restrict_25 (by decide) ?_
      refine cM2r S hK hO (t_fails1 l hC _ (by decide) rfl) vw_m_fails gw_295 (by decide) (by decide) ⟨by decide, by decide⟩ hl.1 (Nat.le_of_ble_eq_true rfl) d_m_restrict_26 (fun H locs hO => ?_)
      try dsimp only at hO
      refine lv_if_eq (tgt := 34) hx hb d_m_restrict_29 (by decide) (fun h => ?_) (fun h => ?_)
      · exact absurd h (by decide)
      · refine lv_iconst (v := 0) hx hb d_m_restrict_32 (by decide) ?_
        exact rt_z S hO rfl (by decide) (by decide) d_m_restrict_33
set_option maxHeartbeats 4000000 in
set_option maxRecDepth 100000 in
/-- m_seal: out of range -/
theorem m_seal_b1 (l : Launch) {cx : Cx} (hC : Cg cx) (σ : Sg) {r u t : Int32} (hb0 : (okr r && okr u && okr t) = false) : CT l cx y_m_seal 2 61 0 0 [.ref (ad cx 19), .int r, .int u, .int t] σ (.inl (some (.int 0))) (σ.1, σ.2.1, 1, σ.2.2.2) := by
  refine Con.ofW (cc := prog_4_method_16_code) (maxL := 4) (ret := (some FieldType.int)) (by decide +kernel) gw_330 ?_
  intro p e s m args below meth c S ha hnm hno hv
  obtain ⟨rfl, hP, hK⟩ := hv
  have S : Fx p s m ([.ref (ad cx 19), .int r, .int u, .int t] : List Value).toArray meth c prog_4_method_16_code 4 R_M (some FieldType.int) := S
  have hO : Ok cx s σ s.heap [] := ⟨hP, va_S.rf⟩
  have hx := S.1
  have hb := S.2.1
  have hl := lv_entry ([.ref (ad cx 19), .int r, .int u, .int t]) (n := 4) (Nat.le_of_ble_eq_true rfl)
  rw [lg_entry_eq]
  generalize (lg_sl ([.ref (ad cx 19), .int r, .int u, .int t]) ++ List.replicate (4 - (lg_sl ([.ref (ad cx 19), .int r, .int u, .int t])).length) Slot.unset).toArray = ls at hl ⊢
  have hl : lv_has ls 4 [(0, .ref (ad cx 19)), (1, .int r), (2, .int u), (3, .int t)] := hl
  refine lv_aload_n hx hb d_m_seal_0 rfl (lv_at hl 0 rfl) ?_
  refine lv_iconst (v := 0) hx hb d_m_seal_1 (by decide) ?_
  refine mp_err hC S hK hO gw_254 d_m_seal_2 (fun H locs hO => ?_)
  try dsimp only at hO
  refine lv_aload_n hx hb d_m_seal_5 rfl (lv_at hl 0 rfl) ?_
  refine lv_iload_n hx hb d_m_seal_6 rfl (lv_at hl 1 rfl) ?_
  refine cS1p S hK hO (p_is l hC _ _) sw_m_is gw_299 (by decide) (by decide) ⟨by decide, by decide⟩ hl.1 (Nat.le_of_ble_eq_true rfl) d_m_seal_7 ?_
  refine lv_if_eq (tgt := 27) hx hb d_m_seal_10 (by decide) (fun h => ?_) (fun h => ?_)
  · refine lv_iconst (v := 1) hx hb d_m_seal_27 (by decide) ?_
    refine lv_goto (tgt := 32) hx hb d_m_seal_28 (by decide) ?_
    refine lv_iconst (v := 1) hx hb d_m_seal_32 (by decide) ?_
    refine cM2r S hK hO (t_fails1 l hC _ (by decide) rfl) vw_m_fails gw_295 (by decide) (by decide) ⟨by decide, by decide⟩ hl.1 (Nat.le_of_ble_eq_true rfl) d_m_seal_33 (fun H locs hO => ?_)
    try dsimp only at hO
    refine lv_if_eq (tgt := 41) hx hb d_m_seal_36 (by decide) (fun h => ?_) (fun h => ?_)
    · exact absurd h (by decide)
    · refine lv_iconst (v := 0) hx hb d_m_seal_39 (by decide) ?_
      exact rt_i S hO (by decide) (by decide) d_m_seal_40
  · have c0 := bi_n.mp h
    refine lv_iload_n hx hb d_m_seal_13 rfl (lv_at hl 2 rfl) ?_
    refine cS1p S hK hO (p_is l hC _ _) sw_m_is gw_299 (by decide) (by decide) ⟨by decide, by decide⟩ hl.1 (Nat.le_of_ble_eq_true rfl) d_m_seal_14 ?_
    refine lv_if_eq (tgt := 27) hx hb d_m_seal_17 (by decide) (fun h => ?_) (fun h => ?_)
    · refine lv_iconst (v := 1) hx hb d_m_seal_27 (by decide) ?_
      refine lv_goto (tgt := 32) hx hb d_m_seal_28 (by decide) ?_
      refine lv_iconst (v := 1) hx hb d_m_seal_32 (by decide) ?_
      refine cM2r S hK hO (t_fails1 l hC _ (by decide) rfl) vw_m_fails gw_295 (by decide) (by decide) ⟨by decide, by decide⟩ hl.1 (Nat.le_of_ble_eq_true rfl) d_m_seal_33 (fun H locs hO => ?_)
      try dsimp only at hO
      refine lv_if_eq (tgt := 41) hx hb d_m_seal_36 (by decide) (fun h => ?_) (fun h => ?_)
      · exact absurd h (by decide)
      · refine lv_iconst (v := 0) hx hb d_m_seal_39 (by decide) ?_
        exact rt_i S hO (by decide) (by decide) d_m_seal_40
    · have c1 := bi_n.mp h
      refine lv_iload_n hx hb d_m_seal_20 rfl (lv_at hl 3 rfl) ?_
      refine cS1p S hK hO (p_is l hC _ _) sw_m_is gw_299 (by decide) (by decide) ⟨by decide, by decide⟩ hl.1 (Nat.le_of_ble_eq_true rfl) d_m_seal_21 ?_
      refine lv_if_ne (tgt := 31) hx hb d_m_seal_24 (by decide) (fun h => ?_) (fun h => ?_)
      · have c2 := bi_n.mp h
        exact absurd hb0 (by simp [c0, c1, c2])
      · refine lv_iconst (v := 1) hx hb d_m_seal_27 (by decide) ?_
        refine lv_goto (tgt := 32) hx hb d_m_seal_28 (by decide) ?_
        refine lv_iconst (v := 1) hx hb d_m_seal_32 (by decide) ?_
        refine cM2r S hK hO (t_fails1 l hC _ (by decide) rfl) vw_m_fails gw_295 (by decide) (by decide) ⟨by decide, by decide⟩ hl.1 (Nat.le_of_ble_eq_true rfl) d_m_seal_33 (fun H locs hO => ?_)
        try dsimp only at hO
        refine lv_if_eq (tgt := 41) hx hb d_m_seal_36 (by decide) (fun h => ?_) (fun h => ?_)
        · exact absurd h (by decide)
        · refine lv_iconst (v := 0) hx hb d_m_seal_39 (by decide) ?_
          exact rt_i S hO (by decide) (by decide) d_m_seal_40
set_option maxHeartbeats 4000000 in
set_option maxRecDepth 100000 in
/-- m_unseal: out of range -/
theorem m_unseal_b1 (l : Launch) {cx : Cx} (hC : Cg cx) (σ : Sg) {r u t : Int32} (hb0 : (okr r && okr u && okr t) = false) : CT l cx y_m_unseal 2 61 0 0 [.ref (ad cx 19), .int r, .int u, .int t] σ (.inl (some (.int 0))) (σ.1, σ.2.1, 1, σ.2.2.2) := by
  refine Con.ofW (cc := prog_4_method_17_code) (maxL := 4) (ret := (some FieldType.int)) (by decide +kernel) gw_343 ?_
  intro p e s m args below meth c S ha hnm hno hv
  obtain ⟨rfl, hP, hK⟩ := hv
  have S : Fx p s m ([.ref (ad cx 19), .int r, .int u, .int t] : List Value).toArray meth c prog_4_method_17_code 4 R_M (some FieldType.int) := S
  have hO : Ok cx s σ s.heap [] := ⟨hP, va_S.rf⟩
  have hx := S.1
  have hb := S.2.1
  have hl := lv_entry ([.ref (ad cx 19), .int r, .int u, .int t]) (n := 4) (Nat.le_of_ble_eq_true rfl)
  rw [lg_entry_eq]
  generalize (lg_sl ([.ref (ad cx 19), .int r, .int u, .int t]) ++ List.replicate (4 - (lg_sl ([.ref (ad cx 19), .int r, .int u, .int t])).length) Slot.unset).toArray = ls at hl ⊢
  have hl : lv_has ls 4 [(0, .ref (ad cx 19)), (1, .int r), (2, .int u), (3, .int t)] := hl
  refine lv_aload_n hx hb d_m_unseal_0 rfl (lv_at hl 0 rfl) ?_
  refine lv_iconst (v := 0) hx hb d_m_unseal_1 (by decide) ?_
  refine mp_err hC S hK hO gw_254 d_m_unseal_2 (fun H locs hO => ?_)
  try dsimp only at hO
  refine lv_aload_n hx hb d_m_unseal_5 rfl (lv_at hl 0 rfl) ?_
  refine lv_iload_n hx hb d_m_unseal_6 rfl (lv_at hl 1 rfl) ?_
  refine cS1p S hK hO (p_is l hC _ _) sw_m_is gw_299 (by decide) (by decide) ⟨by decide, by decide⟩ hl.1 (Nat.le_of_ble_eq_true rfl) d_m_unseal_7 ?_
  refine lv_if_eq (tgt := 27) hx hb d_m_unseal_10 (by decide) (fun h => ?_) (fun h => ?_)
  · refine lv_iconst (v := 1) hx hb d_m_unseal_27 (by decide) ?_
    refine lv_goto (tgt := 32) hx hb d_m_unseal_28 (by decide) ?_
    refine lv_iconst (v := 1) hx hb d_m_unseal_32 (by decide) ?_
    refine cM2r S hK hO (t_fails1 l hC _ (by decide) rfl) vw_m_fails gw_295 (by decide) (by decide) ⟨by decide, by decide⟩ hl.1 (Nat.le_of_ble_eq_true rfl) d_m_unseal_33 (fun H locs hO => ?_)
    try dsimp only at hO
    refine lv_if_eq (tgt := 41) hx hb d_m_unseal_36 (by decide) (fun h => ?_) (fun h => ?_)
    · exact absurd h (by decide)
    · refine lv_iconst (v := 0) hx hb d_m_unseal_39 (by decide) ?_
      exact rt_i S hO (by decide) (by decide) d_m_unseal_40
  · have c0 := bi_n.mp h
    refine lv_iload_n hx hb d_m_unseal_13 rfl (lv_at hl 2 rfl) ?_
    refine cS1p S hK hO (p_is l hC _ _) sw_m_is gw_299 (by decide) (by decide) ⟨by decide, by decide⟩ hl.1 (Nat.le_of_ble_eq_true rfl) d_m_unseal_14 ?_
    refine lv_if_eq (tgt := 27) hx hb d_m_unseal_17 (by decide) (fun h => ?_) (fun h => ?_)
    · refine lv_iconst (v := 1) hx hb d_m_unseal_27 (by decide) ?_
      refine lv_goto (tgt := 32) hx hb d_m_unseal_28 (by decide) ?_
      refine lv_iconst (v := 1) hx hb d_m_unseal_32 (by decide) ?_
      refine cM2r S hK hO (t_fails1 l hC _ (by decide) rfl) vw_m_fails gw_295 (by decide) (by decide) ⟨by decide, by decide⟩ hl.1 (Nat.le_of_ble_eq_true rfl) d_m_unseal_33 (fun H locs hO => ?_)
      try dsimp only at hO
      refine lv_if_eq (tgt := 41) hx hb d_m_unseal_36 (by decide) (fun h => ?_) (fun h => ?_)
      · exact absurd h (by decide)
      · refine lv_iconst (v := 0) hx hb d_m_unseal_39 (by decide) ?_
        exact rt_i S hO (by decide) (by decide) d_m_unseal_40
    · have c1 := bi_n.mp h
      refine lv_iload_n hx hb d_m_unseal_20 rfl (lv_at hl 3 rfl) ?_
      refine cS1p S hK hO (p_is l hC _ _) sw_m_is gw_299 (by decide) (by decide) ⟨by decide, by decide⟩ hl.1 (Nat.le_of_ble_eq_true rfl) d_m_unseal_21 ?_
      refine lv_if_ne (tgt := 31) hx hb d_m_unseal_24 (by decide) (fun h => ?_) (fun h => ?_)
      · have c2 := bi_n.mp h
        exact absurd hb0 (by simp [c0, c1, c2])
      · refine lv_iconst (v := 1) hx hb d_m_unseal_27 (by decide) ?_
        refine lv_goto (tgt := 32) hx hb d_m_unseal_28 (by decide) ?_
        refine lv_iconst (v := 1) hx hb d_m_unseal_32 (by decide) ?_
        refine cM2r S hK hO (t_fails1 l hC _ (by decide) rfl) vw_m_fails gw_295 (by decide) (by decide) ⟨by decide, by decide⟩ hl.1 (Nat.le_of_ble_eq_true rfl) d_m_unseal_33 (fun H locs hO => ?_)
        try dsimp only at hO
        refine lv_if_eq (tgt := 41) hx hb d_m_unseal_36 (by decide) (fun h => ?_) (fun h => ?_)
        · exact absurd h (by decide)
        · refine lv_iconst (v := 0) hx hb d_m_unseal_39 (by decide) ?_
          exact rt_i S hO (by decide) (by decide) d_m_unseal_40
set_option maxHeartbeats 4000000 in
set_option maxRecDepth 100000 in
/-- m_within: out of range -/
theorem m_within_b1 (l : Launch) {cx : Cx} (hC : Cg cx) (σ : Sg) {r u : Int32} (hb0 : (okr r && okr u) = false) : CT l cx y_m_within 2 61 0 0 [.ref (ad cx 19), .int r, .int u] σ (.inl (some (.int 0))) (σ.1, σ.2.1, 1, σ.2.2.2) := by
  refine Con.ofW (cc := prog_4_method_19_code) (maxL := 3) (ret := (some FieldType.boolean)) (by decide +kernel) gw_352 ?_
  intro p e s m args below meth c S ha hnm hno hv
  obtain ⟨rfl, hP, hK⟩ := hv
  have S : Fx p s m ([.ref (ad cx 19), .int r, .int u] : List Value).toArray meth c prog_4_method_19_code 3 R_M (some FieldType.boolean) := S
  have hO : Ok cx s σ s.heap [] := ⟨hP, va_S.rf⟩
  have hx := S.1
  have hb := S.2.1
  have hl := lv_entry ([.ref (ad cx 19), .int r, .int u]) (n := 3) (Nat.le_of_ble_eq_true rfl)
  rw [lg_entry_eq]
  generalize (lg_sl ([.ref (ad cx 19), .int r, .int u]) ++ List.replicate (3 - (lg_sl ([.ref (ad cx 19), .int r, .int u])).length) Slot.unset).toArray = ls at hl ⊢
  have hl : lv_has ls 3 [(0, .ref (ad cx 19)), (1, .int r), (2, .int u)] := hl
  refine lv_aload_n hx hb d_m_within_0 rfl (lv_at hl 0 rfl) ?_
  refine lv_iconst (v := 0) hx hb d_m_within_1 (by decide) ?_
  refine mp_err hC S hK hO gw_254 d_m_within_2 (fun H locs hO => ?_)
  try dsimp only at hO
  refine lv_aload_n hx hb d_m_within_5 rfl (lv_at hl 0 rfl) ?_
  refine lv_iload_n hx hb d_m_within_6 rfl (lv_at hl 1 rfl) ?_
  refine cS1p S hK hO (p_is l hC _ _) sw_m_is gw_299 (by decide) (by decide) ⟨by decide, by decide⟩ hl.1 (Nat.le_of_ble_eq_true rfl) d_m_within_7 ?_
  refine lv_if_eq (tgt := 20) hx hb d_m_within_10 (by decide) (fun h => ?_) (fun h => ?_)
  · refine lv_iconst (v := 1) hx hb d_m_within_20 (by decide) ?_
    refine lv_goto (tgt := 25) hx hb d_m_within_21 (by decide) ?_
    refine lv_iconst (v := 1) hx hb d_m_within_25 (by decide) ?_
    refine cM2r S hK hO (t_fails1 l hC _ (by decide) rfl) vw_m_fails gw_295 (by decide) (by decide) ⟨by decide, by decide⟩ hl.1 (Nat.le_of_ble_eq_true rfl) d_m_within_26 (fun H locs hO => ?_)
    try dsimp only at hO
    refine lv_if_eq (tgt := 34) hx hb d_m_within_29 (by decide) (fun h => ?_) (fun h => ?_)
    · exact absurd h (by decide)
    · refine lv_iconst (v := 0) hx hb d_m_within_32 (by decide) ?_
      exact rt_z S hO rfl (by decide) (by decide) d_m_within_33
  · have c0 := bi_n.mp h
    refine lv_iload_n hx hb d_m_within_13 rfl (lv_at hl 2 rfl) ?_
    refine cS1p S hK hO (p_is l hC _ _) sw_m_is gw_299 (by decide) (by decide) ⟨by decide, by decide⟩ hl.1 (Nat.le_of_ble_eq_true rfl) d_m_within_14 ?_
    refine lv_if_ne (tgt := 24) hx hb d_m_within_17 (by decide) (fun h => ?_) (fun h => ?_)
    · have c1 := bi_n.mp h
      exact absurd hb0 (by simp [c0, c1])
    · refine lv_iconst (v := 1) hx hb d_m_within_20 (by decide) ?_
      refine lv_goto (tgt := 25) hx hb d_m_within_21 (by decide) ?_
      refine lv_iconst (v := 1) hx hb d_m_within_25 (by decide) ?_
      refine cM2r S hK hO (t_fails1 l hC _ (by decide) rfl) vw_m_fails gw_295 (by decide) (by decide) ⟨by decide, by decide⟩ hl.1 (Nat.le_of_ble_eq_true rfl) d_m_within_26 (fun H locs hO => ?_)
      try dsimp only at hO
      refine lv_if_eq (tgt := 34) hx hb d_m_within_29 (by decide) (fun h => ?_) (fun h => ?_)
      · exact absurd h (by decide)
      · refine lv_iconst (v := 0) hx hb d_m_within_32 (by decide) ?_
        exact rt_z S hO rfl (by decide) (by decide) d_m_within_33
set_option maxHeartbeats 4000000 in
set_option maxRecDepth 100000 in
/-- number -/
theorem m_number_ok (l : Launch) {cx : Cx} (hC : Cg cx) (σ : Sg) {i : Nat} (hi : i < 16) (v : Int32) : CT l cx y_m_number 2 61 0 0 [.ref (ad cx 19), .int (nI i), .int v] σ (.inl none) (σ.1, up σ.2.1 i (uw v, 0, 0, 0, 0, false), 0, σ.2.2.2) := by
  refine Con.ofW (cc := prog_4_method_9_code) (maxL := 3) (ret := none) (by decide +kernel) gw_310 ?_
  intro p e s m args below meth c S ha hnm hno hv
  obtain ⟨rfl, hP, hK⟩ := hv
  have S : Fx p s m ([.ref (ad cx 19), .int (nI i), .int v] : List Value).toArray meth c prog_4_method_9_code 3 R_M none := S
  have hO : Ok cx s σ s.heap [] := ⟨hP, va_S.rf⟩
  have hx := S.1
  have hb := S.2.1
  have hl := lv_entry ([.ref (ad cx 19), .int (nI i), .int v]) (n := 3) (Nat.le_of_ble_eq_true rfl)
  rw [lg_entry_eq]
  generalize (lg_sl ([.ref (ad cx 19), .int (nI i), .int v]) ++ List.replicate (3 - (lg_sl ([.ref (ad cx 19), .int (nI i), .int v])).length) Slot.unset).toArray = ls at hl ⊢
  have hl : lv_has ls 3 [(0, .ref (ad cx 19)), (1, .int (nI i)), (2, .int v)] := hl
  refine lv_aload_n hx hb d_m_number_0 rfl (lv_at hl 0 rfl) ?_
  refine lv_iconst (v := 0) hx hb d_m_number_1 (by decide) ?_
  refine mp_err hC S hK hO gw_254 d_m_number_2 (fun H locs hO => ?_)
  try dsimp only at hO
  refine lv_aload_n hx hb d_m_number_5 rfl (lv_at hl 0 rfl) ?_
  refine lv_iload_n hx hb d_m_number_6 rfl (lv_at hl 1 rfl) ?_
  refine cS1p S hK hO (p_is l hC _ _) sw_m_is gw_299 (by decide) (by decide) ⟨by decide, by decide⟩ hl.1 (Nat.le_of_ble_eq_true rfl) d_m_number_7 ?_
  refine tp_i (z := 1) (by rw [okr_N hi]; rfl) ?_
  refine lv_if_ne (tgt := 17) hx hb d_m_number_10 (by decide) (fun h => ?_) (fun h => ?_)
  · refine lv_iconst (v := 0) hx hb d_m_number_17 (by decide) ?_
    refine lv_iconst (v := 1) hx hb d_m_number_18 (by decide) ?_
    refine cM2r S hK hO (t_fails0 l hC _ _ rfl) vw_m_fails gw_295 (by decide) (by decide) ⟨by decide, by decide⟩ hl.1 (Nat.le_of_ble_eq_true rfl) d_m_number_19 (fun H locs hO => ?_)
    try dsimp only at hO
    refine lv_if_eq (tgt := 26) hx hb d_m_number_22 (by decide) (fun h => ?_) (fun h => ?_)
    · refine lv_aload_n hx hb d_m_number_26 rfl (lv_at hl 0 rfl) ?_
      refine lv_iload_n hx hb d_m_number_27 rfl (lv_at hl 1 rfl) ?_
      refine lv_iload_n hx hb d_m_number_28 rfl (lv_at hl 2 rfl) ?_
      refine cS1p S hK hO (p_wide l hC _ _) sw_m_wide gw_287 (by decide) (by decide) ⟨by decide, by decide⟩ hl.1 (Nat.le_of_ble_eq_true rfl) d_m_number_29 ?_
      refine lv_lconst (v := lN 0) hx hb d_m_number_32 rfl ?_
      refine lv_lconst (v := lN 0) hx hb d_m_number_33 rfl ?_
      refine lv_iconst (v := nI 0) hx hb d_m_number_34 (by decide) ?_
      refine lv_iconst (v := nI 0) hx hb d_m_number_35 (by decide) ?_
      refine lv_iconst (v := bi false) hx hb d_m_number_36 (by decide) ?_
      refine cM7v S hK hO (t_give l hC _ hi _ _ _ _ _ _) vw_m_give gw_303 (by decide) (by decide) ⟨by decide, by decide⟩ hl.1 (Nat.le_of_ble_eq_true rfl) d_m_number_37 (fun H locs hO => ?_)
      try dsimp only at hO
      exact rt_v S hO (by decide) (by decide) d_m_number_40
    · exact absurd rfl h
  · exact absurd h (by decide)
set_option maxHeartbeats 4000000 in
set_option maxRecDepth 100000 in
/-- move -/
theorem m_move_ok (l : Launch) {cx : Cx} (hC : Cg cx) (σ : Sg) {i j : Nat} (hi : i < 16) (hj : j < 16) (n : Int32) (hg : gok (σ.2.1 j)) : CT l cx y_m_move 2 61 0 0 [.ref (ad cx 19), .int (nI i), .int (nI j), .int n] σ (.inl none) (σ.1, up σ.2.1 i (mv (σ.2.1 j) n), 0, σ.2.2.2) := by
  refine Con.ofW (cc := prog_4_method_11_code) (maxL := 4) (ret := none) (by decide +kernel) gw_314 ?_
  intro p e s m args below meth c S ha hnm hno hv
  obtain ⟨rfl, hP, hK⟩ := hv
  have S : Fx p s m ([.ref (ad cx 19), .int (nI i), .int (nI j), .int n] : List Value).toArray meth c prog_4_method_11_code 4 R_M none := S
  have hO : Ok cx s σ s.heap [] := ⟨hP, va_S.rf⟩
  have hx := S.1
  have hb := S.2.1
  have hl := lv_entry ([.ref (ad cx 19), .int (nI i), .int (nI j), .int n]) (n := 4) (Nat.le_of_ble_eq_true rfl)
  rw [lg_entry_eq]
  generalize (lg_sl ([.ref (ad cx 19), .int (nI i), .int (nI j), .int n]) ++ List.replicate (4 - (lg_sl ([.ref (ad cx 19), .int (nI i), .int (nI j), .int n])).length) Slot.unset).toArray = ls at hl ⊢
  have hl : lv_has ls 4 [(0, .ref (ad cx 19)), (1, .int (nI i)), (2, .int (nI j)), (3, .int n)] := hl
  obtain ⟨k1, k2, k3, k4, k5⟩ := id hg
  have hun := uw_lt n
  refine lv_aload_n hx hb d_m_move_0 rfl (lv_at hl 0 rfl) ?_
  refine lv_iconst (v := 0) hx hb d_m_move_1 (by decide) ?_
  refine mp_err hC S hK hO gw_254 d_m_move_2 (fun H locs hO => ?_)
  try dsimp only at hO
  refine lv_aload_n hx hb d_m_move_5 rfl (lv_at hl 0 rfl) ?_
  refine lv_iload_n hx hb d_m_move_6 rfl (lv_at hl 1 rfl) ?_
  refine cS1p S hK hO (p_is l hC _ _) sw_m_is gw_299 (by decide) (by decide) ⟨by decide, by decide⟩ hl.1 (Nat.le_of_ble_eq_true rfl) d_m_move_7 ?_
  refine tp_i (z := 1) (by rw [okr_N hi]; rfl) ?_
  refine lv_if_eq (tgt := 20) hx hb d_m_move_10 (by decide) (fun h => ?_) (fun h => ?_)
  · exact absurd h (by decide)
  · refine lv_iload_n hx hb d_m_move_13 rfl (lv_at hl 2 rfl) ?_
    refine cS1p S hK hO (p_is l hC _ _) sw_m_is gw_299 (by decide) (by decide) ⟨by decide, by decide⟩ hl.1 (Nat.le_of_ble_eq_true rfl) d_m_move_14 ?_
    refine tp_i (z := 1) (by rw [okr_N hj]; rfl) ?_
    refine lv_if_ne (tgt := 24) hx hb d_m_move_17 (by decide) (fun h => ?_) (fun h => ?_)
    · refine lv_iconst (v := 0) hx hb d_m_move_24 (by decide) ?_
      refine lv_iconst (v := 1) hx hb d_m_move_25 (by decide) ?_
      refine cM2r S hK hO (t_fails0 l hC _ _ rfl) vw_m_fails gw_295 (by decide) (by decide) ⟨by decide, by decide⟩ hl.1 (Nat.le_of_ble_eq_true rfl) d_m_move_26 (fun H locs hO => ?_)
      try dsimp only at hO
      refine lv_if_eq (tgt := 33) hx hb d_m_move_29 (by decide) (fun h => ?_) (fun h => ?_)
      · refine lv_aload_n hx hb d_m_move_33 rfl (lv_at hl 0 rfl) ?_
        refine lv_iload_n hx hb d_m_move_34 rfl (lv_at hl 1 rfl) ?_
        refine lv_aload_n hx hb d_m_move_35 rfl (lv_at hl 0 rfl) ?_
        refine mg_address S hK hO gw_255 d_m_move_36 ?_
        refine lv_iload_n hx hb d_m_move_39 rfl (lv_at hl 2 rfl) ?_
        refine ml_address S hK hO hj (rfl : _ = σ.2.1 j) d_m_move_40 ?_
        refine lv_iload_n hx hb d_m_move_41 rfl (lv_at hl 3 rfl) ?_
        refine cS1p S hK hO (p_wide l hC _ _) sw_m_wide gw_287 (by decide) (by decide) ⟨by decide, by decide⟩ hl.1 (Nat.le_of_ble_eq_true rfl) d_m_move_42 ?_
        refine lv_ladd hx hb d_m_move_45 ?_
        refine tp_l (z := lN (qa (σ.2.1 j) + uw n)) (lN_add _ _) ?_
        refine lv_ldc2 (v := 4294967296) hx hb S.2.2.2.1 (S.2.2.2.2.1 _ gw_290) d_m_move_46 ?_
        refine lv_lrem hx hb d_m_move_49 (by decide) ?_
        refine tp_l (z := lN ((qa (σ.2.1 j) + uw n) % 4294967296)) (u5 (by omega)) ?_
        refine lv_aload_n hx hb d_m_move_50 rfl (lv_at hl 0 rfl) ?_
        refine mg_base S hK hO gw_256 d_m_move_51 ?_
        refine lv_iload_n hx hb d_m_move_54 rfl (lv_at hl 2 rfl) ?_
        refine ml_base S hK hO hj (rfl : _ = σ.2.1 j) d_m_move_55 ?_
        refine lv_aload_n hx hb d_m_move_56 rfl (lv_at hl 0 rfl) ?_
        refine mg_top S hK hO gw_257 d_m_move_57 ?_
        refine lv_iload_n hx hb d_m_move_60 rfl (lv_at hl 2 rfl) ?_
        refine ml_top S hK hO hj (rfl : _ = σ.2.1 j) d_m_move_61 ?_
        refine lv_aload_n hx hb d_m_move_62 rfl (lv_at hl 0 rfl) ?_
        refine mg_permissions S hK hO gw_258 d_m_move_63 ?_
        refine lv_iload_n hx hb d_m_move_66 rfl (lv_at hl 2 rfl) ?_
        refine ml_permissions S hK hO hj (rfl : _ = σ.2.1 j) d_m_move_67 ?_
        refine lv_aload_n hx hb d_m_move_68 rfl (lv_at hl 0 rfl) ?_
        refine mg_type S hK hO gw_259 d_m_move_69 ?_
        refine lv_iload_n hx hb d_m_move_72 rfl (lv_at hl 2 rfl) ?_
        refine ml_type S hK hO hj (rfl : _ = σ.2.1 j) d_m_move_73 ?_
        refine mg_b (qg (mv (σ.2.1 j) n)) 100 ?_ (fun hm => ?_)
        · refine cM7v S hK hO (t_give l hC _ hi _ _ _ _ _ _) vw_m_give gw_303 (by decide) (by decide) ⟨by decide, by decide⟩ hl.1 (Nat.le_of_ble_eq_true rfl) d_m_move_100 (fun H locs hO => ?_)
          try dsimp only at hO
          exact rt_v S hO (by decide) (by decide) d_m_move_103
        · refine lv_aload_n hx hb d_m_move_74 rfl (lv_at hl 0 rfl) ?_
          refine mg_tag S hK hO gw_260 d_m_move_75 ?_
          refine lv_iload_n hx hb d_m_move_78 rfl (lv_at hl 2 rfl) ?_
          refine ml_tag S hK hO hj (rfl : _ = σ.2.1 j) d_m_move_79 ?_
          refine lv_if_eq (tgt := 99) hx hb d_m_move_80 (by decide) (fun h => ?_) (fun h => ?_)
          · refine lv_iconst (v := 0) hx hb d_m_move_99 (by decide) ?_
            exact hm _ (bi_o (by have z := bi_0.mp h; simp [mv, z]))
          · have c1 := bi_n.mp h
            refine lv_aload_n hx hb d_m_move_83 rfl (lv_at hl 0 rfl) ?_
            refine lv_iload_n hx hb d_m_move_84 rfl (lv_at hl 2 rfl) ?_
            refine cM1p S hK hO (p_isSealed l hC (σ.1, σ.2.1, 0, σ.2.2.2) hj (rfl : _ = σ.2.1 j) hg) vw_m_isSealed gw_315 (by decide) (by decide) ⟨by decide, by decide⟩ hl.1 (Nat.le_of_ble_eq_true rfl) d_m_move_85 ?_
            refine lv_if_eq (tgt := 95) hx hb d_m_move_88 (by decide) (fun h => ?_) (fun h => ?_)
            · refine lv_iconst (v := 1) hx hb d_m_move_95 (by decide) ?_
              refine lv_goto (tgt := 100) hx hb d_m_move_96 (by decide) ?_
              exact hm _ (bi_1 (by have z : qy (σ.2.1 j) = 0 := Decidable.of_not_not (of_decide_eq_false (bi_0.mp h)); simp [mv, c1, z]))
            · have c2 : qy (σ.2.1 j) ≠ 0 := of_decide_eq_true (bi_n.mp h)
              refine lv_iload_n hx hb d_m_move_91 rfl (lv_at hl 3 rfl) ?_
              refine lv_if_ne (tgt := 99) hx hb d_m_move_92 (by decide) (fun h => ?_) (fun h => ?_)
              · refine lv_iconst (v := 0) hx hb d_m_move_99 (by decide) ?_
                exact hm _ (bi_o (by simp [mv, c2, h]))
              · refine lv_iconst (v := 1) hx hb d_m_move_95 (by decide) ?_
                refine lv_goto (tgt := 100) hx hb d_m_move_96 (by decide) ?_
                exact hm _ (bi_1 (by simp [mv, c1, h]))
      · exact absurd rfl h
    · exact absurd h (by decide)
set_option maxHeartbeats 4000000 in
set_option maxRecDepth 100000 in
/-- narrow -/
theorem m_narrow_ok (l : Launch) {cx : Cx} (hC : Cg cx) (σ : Sg) {i j : Nat} (hi : i < 16) (hj : j < 16) (n : Int32) (hg : gok (σ.2.1 j)) : CT l cx y_m_narrow 2 61 0 0 [.ref (ad cx 19), .int (nI i), .int (nI j), .int n] σ (.inl (some (.int (bi (qg (nw (σ.2.1 j) n)))))) (σ.1, up σ.2.1 i (nw (σ.2.1 j) n), 0, σ.2.2.2) := by
  refine Con.ofW (cc := prog_4_method_12_code) (maxL := 8) (ret := (some FieldType.boolean)) (by decide +kernel) gw_322 ?_
  intro p e s m args below meth c S ha hnm hno hv
  obtain ⟨rfl, hP, hK⟩ := hv
  have S : Fx p s m ([.ref (ad cx 19), .int (nI i), .int (nI j), .int n] : List Value).toArray meth c prog_4_method_12_code 8 R_M (some FieldType.boolean) := S
  have hO : Ok cx s σ s.heap [] := ⟨hP, va_S.rf⟩
  have hx := S.1
  have hb := S.2.1
  have hl := lv_entry ([.ref (ad cx 19), .int (nI i), .int (nI j), .int n]) (n := 8) (Nat.le_of_ble_eq_true rfl)
  rw [lg_entry_eq]
  generalize (lg_sl ([.ref (ad cx 19), .int (nI i), .int (nI j), .int n]) ++ List.replicate (8 - (lg_sl ([.ref (ad cx 19), .int (nI i), .int (nI j), .int n])).length) Slot.unset).toArray = ls at hl ⊢
  have hl : lv_has ls 8 [(0, .ref (ad cx 19)), (1, .int (nI i)), (2, .int (nI j)), (3, .int n)] := hl
  obtain ⟨k1, k2, k3, k4, k5⟩ := id hg
  have hun := uw_lt n
  refine lv_aload_n hx hb d_m_narrow_0 rfl (lv_at hl 0 rfl) ?_
  refine lv_iconst (v := 0) hx hb d_m_narrow_1 (by decide) ?_
  refine mp_err hC S hK hO gw_254 d_m_narrow_2 (fun H locs hO => ?_)
  try dsimp only at hO
  refine lv_aload_n hx hb d_m_narrow_5 rfl (lv_at hl 0 rfl) ?_
  refine lv_iload_n hx hb d_m_narrow_6 rfl (lv_at hl 1 rfl) ?_
  refine cS1p S hK hO (p_is l hC _ _) sw_m_is gw_299 (by decide) (by decide) ⟨by decide, by decide⟩ hl.1 (Nat.le_of_ble_eq_true rfl) d_m_narrow_7 ?_
  refine tp_i (z := 1) (by rw [okr_N hi]; rfl) ?_
  refine lv_if_eq (tgt := 20) hx hb d_m_narrow_10 (by decide) (fun h => ?_) (fun h => ?_)
  · exact absurd h (by decide)
  · refine lv_iload_n hx hb d_m_narrow_13 rfl (lv_at hl 2 rfl) ?_
    refine cS1p S hK hO (p_is l hC _ _) sw_m_is gw_299 (by decide) (by decide) ⟨by decide, by decide⟩ hl.1 (Nat.le_of_ble_eq_true rfl) d_m_narrow_14 ?_
    refine tp_i (z := 1) (by rw [okr_N hj]; rfl) ?_
    refine lv_if_ne (tgt := 24) hx hb d_m_narrow_17 (by decide) (fun h => ?_) (fun h => ?_)
    · refine lv_iconst (v := 0) hx hb d_m_narrow_24 (by decide) ?_
      refine lv_iconst (v := 1) hx hb d_m_narrow_25 (by decide) ?_
      refine cM2r S hK hO (t_fails0 l hC _ _ rfl) vw_m_fails gw_295 (by decide) (by decide) ⟨by decide, by decide⟩ hl.1 (Nat.le_of_ble_eq_true rfl) d_m_narrow_26 (fun H locs hO => ?_)
      try dsimp only at hO
      refine lv_if_eq (tgt := 34) hx hb d_m_narrow_29 (by decide) (fun h => ?_) (fun h => ?_)
      · refine lv_aload_n hx hb d_m_narrow_34 rfl (lv_at hl 0 rfl) ?_
        refine mg_address S hK hO gw_255 d_m_narrow_35 ?_
        refine lv_iload_n hx hb d_m_narrow_38 rfl (lv_at hl 2 rfl) ?_
        refine ml_address S hK hO hj (rfl : _ = σ.2.1 j) d_m_narrow_39 ?_
        refine lv_lstore hx hb d_m_narrow_40 hl (by decide) rfl (fun ls hl => ?_)
        have hl : lv_has ls 8 [(4, _), (0, _), (1, _), (2, _), (3, _)] := hl
        refine lv_lload hx hb d_m_narrow_42 (lv_at hl 0 rfl) ?_
        refine lv_iload_n hx hb d_m_narrow_44 rfl (lv_at hl 4 rfl) ?_
        refine cS1p S hK hO (p_wide l hC _ _) sw_m_wide gw_287 (by decide) (by decide) ⟨by decide, by decide⟩ hl.1 (Nat.le_of_ble_eq_true rfl) d_m_narrow_45 ?_
        refine lv_ladd hx hb d_m_narrow_48 ?_
        refine tp_l (z := lN (qa (σ.2.1 j) + uw n)) (lN_add _ _) ?_
        refine lv_lstore hx hb d_m_narrow_49 hl (by decide) rfl (fun ls hl => ?_)
        have hl : lv_has ls 8 [(6, _), (4, _), (0, _), (1, _), (2, _), (3, _)] := hl
        refine lv_aload_n hx hb d_m_narrow_51 rfl (lv_at hl 2 rfl) ?_
        refine lv_iload_n hx hb d_m_narrow_52 rfl (lv_at hl 3 rfl) ?_
        refine lv_lload hx hb d_m_narrow_53 (lv_at hl 1 rfl) ?_
        refine lv_lload hx hb d_m_narrow_55 (lv_at hl 1 rfl) ?_
        refine lv_lload hx hb d_m_narrow_57 (lv_at hl 0 rfl) ?_
        refine lv_ldc2 (v := 4294967296) hx hb S.2.2.2.1 (S.2.2.2.2.1 _ gw_290) d_m_narrow_59 ?_
        refine lv_lrem hx hb d_m_narrow_62 (by decide) ?_
        refine tp_l (z := lN ((qa (σ.2.1 j) + uw n) % 4294967296)) (u5 (by omega)) ?_
        refine lv_aload_n hx hb d_m_narrow_63 rfl (lv_at hl 2 rfl) ?_
        refine mg_permissions S hK hO gw_258 d_m_narrow_64 ?_
        refine lv_iload_n hx hb d_m_narrow_67 rfl (lv_at hl 4 rfl) ?_
        refine ml_permissions S hK hO hj (rfl : _ = σ.2.1 j) d_m_narrow_68 ?_
        refine lv_aload_n hx hb d_m_narrow_69 rfl (lv_at hl 2 rfl) ?_
        refine mg_type S hK hO gw_259 d_m_narrow_70 ?_
        refine lv_iload_n hx hb d_m_narrow_73 rfl (lv_at hl 4 rfl) ?_
        refine ml_type S hK hO hj (rfl : _ = σ.2.1 j) d_m_narrow_74 ?_
        refine mg_b (qg (nw (σ.2.1 j) n)) 133 ?_ (fun hm => ?_)
        · refine cM7v S hK hO (t_give l hC _ hi _ _ _ _ _ _) vw_m_give gw_303 (by decide) (by decide) ⟨by decide, by decide⟩ hl.1 (Nat.le_of_ble_eq_true rfl) d_m_narrow_133 (fun H locs hO => ?_)
          try dsimp only at hO
          refine lv_aload_n hx hb d_m_narrow_136 rfl (lv_at hl 2 rfl) ?_
          refine mg_tag S hK hO gw_260 d_m_narrow_137 ?_
          refine lv_iload_n hx hb d_m_narrow_140 rfl (lv_at hl 3 rfl) ?_
          refine ml_tag S hK hO hi (up_s σ.2.1 i _) d_m_narrow_141 ?_
          exact rt_z S hO (bi_nar _) (by decide) (by decide) d_m_narrow_142
        · refine lv_aload_n hx hb d_m_narrow_75 rfl (lv_at hl 2 rfl) ?_
          refine mg_tag S hK hO gw_260 d_m_narrow_76 ?_
          refine lv_iload_n hx hb d_m_narrow_79 rfl (lv_at hl 4 rfl) ?_
          refine ml_tag S hK hO hj (rfl : _ = σ.2.1 j) d_m_narrow_80 ?_
          refine lv_if_eq (tgt := 132) hx hb d_m_narrow_81 (by decide) (fun h => ?_) (fun h => ?_)
          · refine lv_iconst (v := 0) hx hb d_m_narrow_132 (by decide) ?_
            exact hm _ (bi_o (by have z := bi_0.mp h; simp [nw, z]))
          · have c1 := bi_n.mp h
            refine lv_aload_n hx hb d_m_narrow_84 rfl (lv_at hl 2 rfl) ?_
            refine lv_iload_n hx hb d_m_narrow_85 rfl (lv_at hl 4 rfl) ?_
            refine cM1p S hK hO (p_isSealed l hC (σ.1, σ.2.1, 0, σ.2.2.2) hj (rfl : _ = σ.2.1 j) hg) vw_m_isSealed gw_315 (by decide) (by decide) ⟨by decide, by decide⟩ hl.1 (Nat.le_of_ble_eq_true rfl) d_m_narrow_86 ?_
            refine lv_if_ne (tgt := 132) hx hb d_m_narrow_89 (by decide) (fun h => ?_) (fun h => ?_)
            · refine lv_iconst (v := 0) hx hb d_m_narrow_132 (by decide) ?_
              exact hm _ (bi_o (by have z : qy (σ.2.1 j) ≠ 0 := of_decide_eq_true (bi_n.mp h); simp [nw, z]))
            · have c2 : qy (σ.2.1 j) = 0 := Decidable.of_not_not (of_decide_eq_false (bi_0.mp h))
              refine lv_lload hx hb d_m_narrow_92 (lv_at hl 1 rfl) ?_
              refine lv_aload_n hx hb d_m_narrow_94 rfl (lv_at hl 2 rfl) ?_
              refine mg_base S hK hO gw_256 d_m_narrow_95 ?_
              refine lv_iload_n hx hb d_m_narrow_98 rfl (lv_at hl 4 rfl) ?_
              refine ml_base S hK hO hj (rfl : _ = σ.2.1 j) d_m_narrow_99 ?_
              refine W.lcmp hx hb d_m_narrow_100 ?_
              refine lv_if_lt (tgt := 132) hx hb d_m_narrow_101 (by decide) (fun h => ?_) (fun h => ?_)
              · refine lv_iconst (v := 0) hx hb d_m_narrow_132 (by decide) ?_
                exact hm _ (bi_o (by have z := (lc_lt (by omega) (by omega)).mp h; have z2 : ¬ qb (σ.2.1 j) ≤ qa (σ.2.1 j) := by { omega }; simp [nw, z2]))
              · have c3 : qb (σ.2.1 j) ≤ qa (σ.2.1 j) := Nat.le_of_not_lt fun z => h ((lc_lt (by omega) (by omega)).mpr z)
                refine lv_lload hx hb d_m_narrow_104 (lv_at hl 1 rfl) ?_
                refine lv_aload_n hx hb d_m_narrow_106 rfl (lv_at hl 2 rfl) ?_
                refine mg_top S hK hO gw_257 d_m_narrow_107 ?_
                refine lv_iload_n hx hb d_m_narrow_110 rfl (lv_at hl 4 rfl) ?_
                refine ml_top S hK hO hj (rfl : _ = σ.2.1 j) d_m_narrow_111 ?_
                refine W.lcmp hx hb d_m_narrow_112 ?_
                refine lv_if_gt (tgt := 132) hx hb d_m_narrow_113 (by decide) (fun h => ?_) (fun h => ?_)
                · refine lv_iconst (v := 0) hx hb d_m_narrow_132 (by decide) ?_
                  exact hm _ (bi_o (by have z := (lc_gt (by omega) (by omega)).mp h; have z2 : ¬ qa (σ.2.1 j) ≤ qt (σ.2.1 j) := by { omega }; simp [nw, z2]))
                · have c4 : qa (σ.2.1 j) ≤ qt (σ.2.1 j) := Nat.le_of_not_lt fun z => h ((lc_gt (by omega) (by omega)).mpr z)
                  refine lv_lload hx hb d_m_narrow_116 (lv_at hl 0 rfl) ?_
                  refine lv_aload_n hx hb d_m_narrow_118 rfl (lv_at hl 2 rfl) ?_
                  refine mg_top S hK hO gw_257 d_m_narrow_119 ?_
                  refine lv_iload_n hx hb d_m_narrow_122 rfl (lv_at hl 4 rfl) ?_
                  refine ml_top S hK hO hj (rfl : _ = σ.2.1 j) d_m_narrow_123 ?_
                  refine W.lcmp hx hb d_m_narrow_124 ?_
                  refine lv_if_gt (tgt := 132) hx hb d_m_narrow_125 (by decide) (fun h => ?_) (fun h => ?_)
                  · refine lv_iconst (v := 0) hx hb d_m_narrow_132 (by decide) ?_
                    exact hm _ (bi_o (by have z := (lc_gt (by omega) (by omega)).mp h; have z2 : ¬ qa (σ.2.1 j) + uw n ≤ qt (σ.2.1 j) := by { omega }; simp [nw, z2]))
                  · have c5 : qa (σ.2.1 j) + uw n ≤ qt (σ.2.1 j) := Nat.le_of_not_lt fun z => h ((lc_gt (by omega) (by omega)).mpr z)
                    refine lv_iconst (v := 1) hx hb d_m_narrow_128 (by decide) ?_
                    refine lv_goto (tgt := 133) hx hb d_m_narrow_129 (by decide) ?_
                    exact hm _ (bi_1 (by simp [nw, c1, c2, c3, c4, c5]))
      · exact absurd rfl h
    · exact absurd h (by decide)
set_option maxHeartbeats 4000000 in
set_option maxRecDepth 100000 in
/-- restrict -/
theorem m_restrict_ok (l : Launch) {cx : Cx} (hC : Cg cx) (σ : Sg) {i j : Nat} (hi : i < 16) (hj : j < 16) (n : Int32) (hg : gok (σ.2.1 j)) : CT l cx y_m_restrict 2 61 0 0 [.ref (ad cx 19), .int (nI i), .int (nI j), .int n] σ (.inl (some (.int (bi (qg (rc (σ.2.1 j) n)))))) (σ.1, up σ.2.1 i (rc (σ.2.1 j) n), 0, σ.2.2.2) := by
  refine Con.ofW (cc := prog_4_method_13_code) (maxL := 6) (ret := (some FieldType.boolean)) (by decide +kernel) gw_326 ?_
  intro p e s m args below meth c S ha hnm hno hv
  obtain ⟨rfl, hP, hK⟩ := hv
  have S : Fx p s m ([.ref (ad cx 19), .int (nI i), .int (nI j), .int n] : List Value).toArray meth c prog_4_method_13_code 6 R_M (some FieldType.boolean) := S
  have hO : Ok cx s σ s.heap [] := ⟨hP, va_S.rf⟩
  have hx := S.1
  have hb := S.2.1
  have hl := lv_entry ([.ref (ad cx 19), .int (nI i), .int (nI j), .int n]) (n := 6) (Nat.le_of_ble_eq_true rfl)
  rw [lg_entry_eq]
  generalize (lg_sl ([.ref (ad cx 19), .int (nI i), .int (nI j), .int n]) ++ List.replicate (6 - (lg_sl ([.ref (ad cx 19), .int (nI i), .int (nI j), .int n])).length) Slot.unset).toArray = ls at hl ⊢
  have hl : lv_has ls 6 [(0, .ref (ad cx 19)), (1, .int (nI i)), (2, .int (nI j)), (3, .int n)] := hl
  obtain ⟨k1, k2, k3, k4, k5⟩ := id hg
  have hun := and_lt k4 n
  refine lv_aload_n hx hb d_m_restrict_0 rfl (lv_at hl 0 rfl) ?_
  refine lv_iconst (v := 0) hx hb d_m_restrict_1 (by decide) ?_
  refine mp_err hC S hK hO gw_254 d_m_restrict_2 (fun H locs hO => ?_)
  try dsimp only at hO
  refine lv_aload_n hx hb d_m_restrict_5 rfl (lv_at hl 0 rfl) ?_
  refine lv_iload_n hx hb d_m_restrict_6 rfl (lv_at hl 1 rfl) ?_
  refine cS1p S hK hO (p_is l hC _ _) sw_m_is gw_299 (by decide) (by decide) ⟨by decide, by decide⟩ hl.1 (Nat.le_of_ble_eq_true rfl) d_m_restrict_7 ?_
  refine tp_i (z := 1) (by rw [okr_N hi]; rfl) ?_
  refine lv_if_eq (tgt := 20) hx hb d_m_restrict_10 (by decide) (fun h => ?_) (fun h => ?_)
  · exact absurd h (by decide)
  · refine lv_iload_n hx hb d_m_restrict_13 rfl (lv_at hl 2 rfl) ?_
    refine cS1p S hK hO (p_is l hC _ _) sw_m_is gw_299 (by decide) (by decide) ⟨by decide, by decide⟩ hl.1 (Nat.le_of_ble_eq_true rfl) d_m_restrict_14 ?_
    refine tp_i (z := 1) (by rw [okr_N hj]; rfl) ?_
    refine lv_if_ne (tgt := 24) hx hb d_m_restrict_17 (by decide) (fun h => ?_) (fun h => ?_)
    · refine lv_iconst (v := 0) hx hb d_m_restrict_24 (by decide) ?_
      refine lv_iconst (v := 1) hx hb d_m_restrict_25 (by decide) ?_
      refine cM2r S hK hO (t_fails0 l hC _ _ rfl) vw_m_fails gw_295 (by decide) (by decide) ⟨by decide, by decide⟩ hl.1 (Nat.le_of_ble_eq_true rfl) d_m_restrict_26 (fun H locs hO => ?_)
      try dsimp only at hO
      refine lv_if_eq (tgt := 34) hx hb d_m_restrict_29 (by decide) (fun h => ?_) (fun h => ?_)
      · have hz0 : (qp (σ.2.1 j) &&& uw n) % 2 ^ 0 = 0 := Nat.mod_one _
        refine lv_iconst (v := nI ((qp (σ.2.1 j) &&& uw n) % 2 ^ 0)) hx hb d_m_restrict_34 (by rw [hz0]; decide) ?_
        refine lv_istore hx hb d_m_restrict_35 hl (by decide) rfl (fun ls hl => ?_)
        have hl : lv_has ls 6 [(4, _), (0, _), (1, _), (2, _), (3, _)] := hl
        refine lv_iconst (v := nI 0) hx hb d_m_restrict_37 (by decide) ?_
        refine lv_istore hx hb d_m_restrict_38 hl (by decide) rfl (fun ls hl => ?_)
        have hl : lv_has ls 6 [(5, _), (4, _), (0, _), (1, _), (2, _), (3, _)] := hl
        refine lp_up (fun k ls => lv_has ls 6 [(5, .int (nI k)), (4, .int (nI ((qp (σ.2.1 j) &&& uw n) % 2 ^ k))), (0, .ref (ad cx 19)), (1, .int (nI i)), (2, .int (nI j)), (3, .int n)]) 8 0 (hl) (by decide) (fun k ls hk hl ih => ?_) (fun ls hl => ?_)
        · have hb1 := sh_bit (nI (qp (σ.2.1 j))) (k := k) (by omega)
          rw [uw_N (by omega)] at hb1
          have hb2 := sh_bit n (k := k) (by omega)
          have hms := mod_s (qp (σ.2.1 j) &&& uw n) k
          rw [Nat.testBit_and] at hms
          refine lv_iload hx hb d_m_restrict_40 (lv_at hl 0 rfl) ?_
          refine lv_bipush (v := 8) hx hb d_m_restrict_42 (by decide) ?_
          refine lv_icmp_ge (tgt := 87) hx hb d_m_restrict_44 (by decide) (fun h => ?_) (fun h => ?_)
          · exact absurd h (nI_ge (b := 8) hk (by decide))
          · refine lv_aload_n hx hb d_m_restrict_47 rfl (lv_at hl 2 rfl) ?_
            refine mg_permissions S hK hO gw_258 d_m_restrict_48 ?_
            refine lv_iload_n hx hb d_m_restrict_51 rfl (lv_at hl 4 rfl) ?_
            refine ml_permissions S hK hO hj (rfl : _ = σ.2.1 j) d_m_restrict_52 ?_
            refine lv_iload hx hb d_m_restrict_53 (lv_at hl 0 rfl) ?_
            refine lv_ishr hx hb d_m_restrict_55 ?_
            refine lv_iconst (v := 1) hx hb d_m_restrict_56 (by decide) ?_
            refine lv_iand hx hb d_m_restrict_57 ?_
            refine tp_i (z := bi ((qp (σ.2.1 j)).testBit k)) (hb1) ?_
            refine lv_iconst (v := 1) hx hb d_m_restrict_58 (by decide) ?_
            refine lv_icmp_ne (tgt := 81) hx hb d_m_restrict_59 (by decide) (fun h => ?_) (fun h => ?_)
            · have hc : (qp (σ.2.1 j) &&& uw n) % 2 ^ (k + 1) = (qp (σ.2.1 j) &&& uw n) % 2 ^ k := by { have z : (qp (σ.2.1 j)).testBit k = false := by { cases hz : (qp (σ.2.1 j)).testBit k with | false => rfl | true => rw [hz] at h; exact absurd rfl h }; rw [hms]; simp [z] }
              refine lv_iinc (k := 0) hx hb d_m_restrict_81 hl rfl rfl (by decide) rfl (fun ls hl => ?_)
              have hl : lv_has ls 6 [(5, _), (4, _), (0, _), (1, _), (2, _), (3, _)] := hl
              refine lv_goto (tgt := 40) hx hb d_m_restrict_84 (by decide) ?_
              exact ih ls (by rw [hc, nI_succ k]; exact hl)
            · have c1 : (qp (σ.2.1 j)).testBit k = true := by { cases hz : (qp (σ.2.1 j)).testBit k with | true => rfl | false => rw [hz] at h; exact absurd h (by decide) }
              refine lv_iload_n hx hb d_m_restrict_62 rfl (lv_at hl 5 rfl) ?_
              refine lv_iload hx hb d_m_restrict_63 (lv_at hl 0 rfl) ?_
              refine lv_ishr hx hb d_m_restrict_65 ?_
              refine lv_iconst (v := 1) hx hb d_m_restrict_66 (by decide) ?_
              refine lv_iand hx hb d_m_restrict_67 ?_
              refine tp_i (z := bi ((uw n).testBit k)) (hb2) ?_
              refine lv_iconst (v := 1) hx hb d_m_restrict_68 (by decide) ?_
              refine lv_icmp_ne (tgt := 81) hx hb d_m_restrict_69 (by decide) (fun h => ?_) (fun h => ?_)
              · have hc : (qp (σ.2.1 j) &&& uw n) % 2 ^ (k + 1) = (qp (σ.2.1 j) &&& uw n) % 2 ^ k := by { have z : (uw n).testBit k = false := by { cases hz : (uw n).testBit k with | false => rfl | true => rw [hz] at h; exact absurd rfl h }; rw [hms]; simp [z] }
                refine lv_iinc (k := 0) hx hb d_m_restrict_81 hl rfl rfl (by decide) rfl (fun ls hl => ?_)
                have hl : lv_has ls 6 [(5, _), (4, _), (0, _), (1, _), (2, _), (3, _)] := hl
                refine lv_goto (tgt := 40) hx hb d_m_restrict_84 (by decide) ?_
                exact ih ls (by rw [hc, nI_succ k]; exact hl)
              · have c2 : (uw n).testBit k = true := by { cases hz : (uw n).testBit k with | true => rfl | false => rw [hz] at h; exact absurd h (by decide) }
                have hc : (qp (σ.2.1 j) &&& uw n) % 2 ^ (k + 1) = (qp (σ.2.1 j) &&& uw n) % 2 ^ k + 2 ^ k := by { rw [hms]; simp [c1, c2] }
                refine lv_iload hx hb d_m_restrict_72 (lv_at hl 1 rfl) ?_
                refine lv_iconst (v := 1) hx hb d_m_restrict_74 (by decide) ?_
                refine lv_iload hx hb d_m_restrict_75 (lv_at hl 0 rfl) ?_
                refine lv_ishl hx hb d_m_restrict_77 ?_
                refine tp_i (z := nI (2 ^ k)) (pw_N k hk) ?_
                refine lv_iadd hx hb d_m_restrict_78 ?_
                refine tp_i (z := nI ((qp (σ.2.1 j) &&& uw n) % 2 ^ (k + 1))) (by rw [nI_add, hc]) ?_
                refine lv_istore hx hb d_m_restrict_79 hl (by decide) rfl (fun ls hl => ?_)
                have hl : lv_has ls 6 [(4, _), (5, _), (0, _), (1, _), (2, _), (3, _)] := hl
                refine lv_iinc (k := 1) hx hb d_m_restrict_81 hl rfl rfl (by decide) rfl (fun ls hl => ?_)
                have hl : lv_has ls 6 [(5, _), (4, _), (0, _), (1, _), (2, _), (3, _)] := hl
                refine lv_goto (tgt := 40) hx hb d_m_restrict_84 (by decide) ?_
                exact ih ls (by rw [nI_succ k]; exact hl)
        · have hm8 : (qp (σ.2.1 j) &&& uw n) % 2 ^ 8 = qp (σ.2.1 j) &&& uw n := Nat.mod_eq_of_lt (by omega)
          rw [hm8] at hl
          refine lv_iload hx hb d_m_restrict_40 (lv_at hl 0 rfl) ?_
          refine lv_bipush (v := 8) hx hb d_m_restrict_42 (by decide) ?_
          refine lv_icmp_ge (tgt := 87) hx hb d_m_restrict_44 (by decide) (fun h => ?_) (fun h => ?_)
          · refine lv_aload_n hx hb d_m_restrict_87 rfl (lv_at hl 2 rfl) ?_
            refine lv_iload_n hx hb d_m_restrict_88 rfl (lv_at hl 3 rfl) ?_
            refine lv_aload_n hx hb d_m_restrict_89 rfl (lv_at hl 2 rfl) ?_
            refine mg_address S hK hO gw_255 d_m_restrict_90 ?_
            refine lv_iload_n hx hb d_m_restrict_93 rfl (lv_at hl 4 rfl) ?_
            refine ml_address S hK hO hj (rfl : _ = σ.2.1 j) d_m_restrict_94 ?_
            refine lv_aload_n hx hb d_m_restrict_95 rfl (lv_at hl 2 rfl) ?_
            refine mg_base S hK hO gw_256 d_m_restrict_96 ?_
            refine lv_iload_n hx hb d_m_restrict_99 rfl (lv_at hl 4 rfl) ?_
            refine ml_base S hK hO hj (rfl : _ = σ.2.1 j) d_m_restrict_100 ?_
            refine lv_aload_n hx hb d_m_restrict_101 rfl (lv_at hl 2 rfl) ?_
            refine mg_top S hK hO gw_257 d_m_restrict_102 ?_
            refine lv_iload_n hx hb d_m_restrict_105 rfl (lv_at hl 4 rfl) ?_
            refine ml_top S hK hO hj (rfl : _ = σ.2.1 j) d_m_restrict_106 ?_
            refine lv_iload hx hb d_m_restrict_107 (lv_at hl 1 rfl) ?_
            refine lv_aload_n hx hb d_m_restrict_109 rfl (lv_at hl 2 rfl) ?_
            refine mg_type S hK hO gw_259 d_m_restrict_110 ?_
            refine lv_iload_n hx hb d_m_restrict_113 rfl (lv_at hl 4 rfl) ?_
            refine ml_type S hK hO hj (rfl : _ = σ.2.1 j) d_m_restrict_114 ?_
            refine mg_b (qg (rc (σ.2.1 j) n)) 148 ?_ (fun hm => ?_)
            · refine cM7v S hK hO (t_give l hC _ hi _ _ _ _ _ _) vw_m_give gw_303 (by decide) (by decide) ⟨by decide, by decide⟩ hl.1 (Nat.le_of_ble_eq_true rfl) d_m_restrict_148 (fun H locs hO => ?_)
              try dsimp only at hO
              refine lv_aload_n hx hb d_m_restrict_151 rfl (lv_at hl 2 rfl) ?_
              refine mg_tag S hK hO gw_260 d_m_restrict_152 ?_
              refine lv_iload_n hx hb d_m_restrict_155 rfl (lv_at hl 3 rfl) ?_
              refine ml_tag S hK hO hi (up_s σ.2.1 i _) d_m_restrict_156 ?_
              exact rt_z S hO (bi_nar _) (by decide) (by decide) d_m_restrict_157
            · refine lv_aload_n hx hb d_m_restrict_115 rfl (lv_at hl 2 rfl) ?_
              refine mg_tag S hK hO gw_260 d_m_restrict_116 ?_
              refine lv_iload_n hx hb d_m_restrict_119 rfl (lv_at hl 4 rfl) ?_
              refine ml_tag S hK hO hj (rfl : _ = σ.2.1 j) d_m_restrict_120 ?_
              refine lv_if_eq (tgt := 147) hx hb d_m_restrict_121 (by decide) (fun h => ?_) (fun h => ?_)
              · refine lv_iconst (v := 0) hx hb d_m_restrict_147 (by decide) ?_
                exact hm _ (bi_o (by have z := bi_0.mp h; simp [rc, z]))
              · have c1 := bi_n.mp h
                refine lv_aload_n hx hb d_m_restrict_124 rfl (lv_at hl 2 rfl) ?_
                refine lv_iload_n hx hb d_m_restrict_125 rfl (lv_at hl 4 rfl) ?_
                refine cM1p S hK hO (p_isSealed l hC (σ.1, σ.2.1, 0, σ.2.2.2) hj (rfl : _ = σ.2.1 j) hg) vw_m_isSealed gw_315 (by decide) (by decide) ⟨by decide, by decide⟩ hl.1 (Nat.le_of_ble_eq_true rfl) d_m_restrict_126 ?_
                refine lv_if_eq (tgt := 143) hx hb d_m_restrict_129 (by decide) (fun h => ?_) (fun h => ?_)
                · refine lv_iconst (v := 1) hx hb d_m_restrict_143 (by decide) ?_
                  refine lv_goto (tgt := 148) hx hb d_m_restrict_144 (by decide) ?_
                  exact hm _ (bi_1 (by have z : qy (σ.2.1 j) = 0 := Decidable.of_not_not (of_decide_eq_false (bi_0.mp h)); simp [rc, c1, z]))
                · have c2 : qy (σ.2.1 j) ≠ 0 := of_decide_eq_true (bi_n.mp h)
                  refine lv_iload hx hb d_m_restrict_132 (lv_at hl 1 rfl) ?_
                  refine lv_aload_n hx hb d_m_restrict_134 rfl (lv_at hl 2 rfl) ?_
                  refine mg_permissions S hK hO gw_258 d_m_restrict_135 ?_
                  refine lv_iload_n hx hb d_m_restrict_138 rfl (lv_at hl 4 rfl) ?_
                  refine ml_permissions S hK hO hj (rfl : _ = σ.2.1 j) d_m_restrict_139 ?_
                  refine lv_icmp_ne (tgt := 147) hx hb d_m_restrict_140 (by decide) (fun h => ?_) (fun h => ?_)
                  · refine lv_iconst (v := 0) hx hb d_m_restrict_147 (by decide) ?_
                    exact hm _ (bi_o (by have z : qp (σ.2.1 j) &&& uw n ≠ qp (σ.2.1 j) := fun z => h (congrArg nI z); simp [rc, c2, z]))
                  · refine lv_iconst (v := 1) hx hb d_m_restrict_143 (by decide) ?_
                    refine lv_goto (tgt := 148) hx hb d_m_restrict_144 (by decide) ?_
                    exact hm _ (bi_1 (by have z : qp (σ.2.1 j) &&& uw n = qp (σ.2.1 j) := (nI_eq (by omega) (by omega)).mp h; simp [rc, c1, z]))
          · exact absurd (show (8 : Int32) ≤ nI 8 by decide) h
      · exact absurd rfl h
    · exact absurd h (by decide)
set_option maxHeartbeats 4000000 in
set_option maxRecDepth 100000 in
/-- m_seal -/
theorem m_seal_ok (l : Launch) {cx : Cx} (hC : Cg cx) (σ : Sg) {i j t : Nat} (hi : i < 16) (hj : j < 16) (ht : t < 16) (hg : gok (σ.2.1 j)) (hg2 : gok (σ.2.1 t)) : CT l cx y_m_seal 2 61 0 0 [.ref (ad cx 19), .int (nI i), .int (nI j), .int (nI t)] σ (.inl (some (.int (slC (σ.2.1 j) (σ.2.1 t))))) (if slC (σ.2.1 j) (σ.2.1 t) = 0 then (σ.1, up σ.2.1 i (sY (σ.2.1 j) (qa (σ.2.1 t))), 0, σ.2.2.2) else (σ.1, σ.2.1, 0, σ.2.2.2)) := by
  refine Con.ofW (cc := prog_4_method_16_code) (maxL := 4) (ret := (some FieldType.int)) (by decide +kernel) gw_330 ?_
  intro p e s m args below meth c S ha hnm hno hv
  obtain ⟨rfl, hP, hK⟩ := hv
  have S : Fx p s m ([.ref (ad cx 19), .int (nI i), .int (nI j), .int (nI t)] : List Value).toArray meth c prog_4_method_16_code 4 R_M (some FieldType.int) := S
  have hO : Ok cx s σ s.heap [] := ⟨hP, va_S.rf⟩
  have hx := S.1
  have hb := S.2.1
  have hl := lv_entry ([.ref (ad cx 19), .int (nI i), .int (nI j), .int (nI t)]) (n := 4) (Nat.le_of_ble_eq_true rfl)
  rw [lg_entry_eq]
  generalize (lg_sl ([.ref (ad cx 19), .int (nI i), .int (nI j), .int (nI t)]) ++ List.replicate (4 - (lg_sl ([.ref (ad cx 19), .int (nI i), .int (nI j), .int (nI t)])).length) Slot.unset).toArray = ls at hl ⊢
  have hl : lv_has ls 4 [(0, .ref (ad cx 19)), (1, .int (nI i)), (2, .int (nI j)), (3, .int (nI t))] := hl
  obtain ⟨k1, k2, k3, k4, k5⟩ := id hg
  obtain ⟨m1, m2, m3, m4, m5⟩ := id hg2
  refine lv_aload_n hx hb d_m_seal_0 rfl (lv_at hl 0 rfl) ?_
  refine lv_iconst (v := 0) hx hb d_m_seal_1 (by decide) ?_
  refine mp_err hC S hK hO gw_254 d_m_seal_2 (fun H locs hO => ?_)
  try dsimp only at hO
  refine lv_aload_n hx hb d_m_seal_5 rfl (lv_at hl 0 rfl) ?_
  refine lv_iload_n hx hb d_m_seal_6 rfl (lv_at hl 1 rfl) ?_
  refine cS1p S hK hO (p_is l hC _ _) sw_m_is gw_299 (by decide) (by decide) ⟨by decide, by decide⟩ hl.1 (Nat.le_of_ble_eq_true rfl) d_m_seal_7 ?_
  refine tp_i (z := 1) (by rw [okr_N hi]; rfl) ?_
  refine lv_if_eq (tgt := 27) hx hb d_m_seal_10 (by decide) (fun h => ?_) (fun h => ?_)
  · exact absurd h (by decide)
  · refine lv_iload_n hx hb d_m_seal_13 rfl (lv_at hl 2 rfl) ?_
    refine cS1p S hK hO (p_is l hC _ _) sw_m_is gw_299 (by decide) (by decide) ⟨by decide, by decide⟩ hl.1 (Nat.le_of_ble_eq_true rfl) d_m_seal_14 ?_
    refine tp_i (z := 1) (by rw [okr_N hj]; rfl) ?_
    refine lv_if_eq (tgt := 27) hx hb d_m_seal_17 (by decide) (fun h => ?_) (fun h => ?_)
    · exact absurd h (by decide)
    · refine lv_iload_n hx hb d_m_seal_20 rfl (lv_at hl 3 rfl) ?_
      refine cS1p S hK hO (p_is l hC _ _) sw_m_is gw_299 (by decide) (by decide) ⟨by decide, by decide⟩ hl.1 (Nat.le_of_ble_eq_true rfl) d_m_seal_21 ?_
      refine tp_i (z := 1) (by rw [okr_N ht]; rfl) ?_
      refine lv_if_ne (tgt := 31) hx hb d_m_seal_24 (by decide) (fun h => ?_) (fun h => ?_)
      · refine lv_iconst (v := 0) hx hb d_m_seal_31 (by decide) ?_
        refine lv_iconst (v := 1) hx hb d_m_seal_32 (by decide) ?_
        refine cM2r S hK hO (t_fails0 l hC _ _ rfl) vw_m_fails gw_295 (by decide) (by decide) ⟨by decide, by decide⟩ hl.1 (Nat.le_of_ble_eq_true rfl) d_m_seal_33 (fun H locs hO => ?_)
        try dsimp only at hO
        refine lv_if_eq (tgt := 41) hx hb d_m_seal_36 (by decide) (fun h => ?_) (fun h => ?_)
        · refine lv_aload_n hx hb d_m_seal_41 rfl (lv_at hl 0 rfl) ?_
          refine mg_tag S hK hO gw_260 d_m_seal_42 ?_
          refine lv_iload_n hx hb d_m_seal_45 rfl (lv_at hl 2 rfl) ?_
          refine ml_tag S hK hO hj (rfl : _ = σ.2.1 j) d_m_seal_46 ?_
          refine lv_if_eq (tgt := 59) hx hb d_m_seal_47 (by decide) (fun h => ?_) (fun h => ?_)
          · have hv : slC (σ.2.1 j) (σ.2.1 t) = 1 := by have z := bi_0.mp h; simp [slC, cz, z]
            rw [if_neg (by rw [hv]; decide)]
            refine lv_iconst (v := 1) hx hb d_m_seal_59 (by decide) ?_
            refine tp_i (z := slC (σ.2.1 j) (σ.2.1 t)) (hv.symm) ?_
            exact rt_i S hO (by decide) (by decide) d_m_seal_60
          · have c1 := bi_n.mp h
            refine lv_aload_n hx hb d_m_seal_50 rfl (lv_at hl 0 rfl) ?_
            refine mg_tag S hK hO gw_260 d_m_seal_51 ?_
            refine lv_iload_n hx hb d_m_seal_54 rfl (lv_at hl 3 rfl) ?_
            refine ml_tag S hK hO ht (rfl : _ = σ.2.1 t) d_m_seal_55 ?_
            refine lv_if_ne (tgt := 61) hx hb d_m_seal_56 (by decide) (fun h => ?_) (fun h => ?_)
            · have c2 := bi_n.mp h
              refine lv_aload_n hx hb d_m_seal_61 rfl (lv_at hl 0 rfl) ?_
              refine lv_iload_n hx hb d_m_seal_62 rfl (lv_at hl 2 rfl) ?_
              refine cM1p S hK hO (p_isSealed l hC (σ.1, σ.2.1, 0, σ.2.2.2) hj (rfl : _ = σ.2.1 j) hg) vw_m_isSealed gw_315 (by decide) (by decide) ⟨by decide, by decide⟩ hl.1 (Nat.le_of_ble_eq_true rfl) d_m_seal_63 ?_
              refine lv_if_ne (tgt := 77) hx hb d_m_seal_66 (by decide) (fun h => ?_) (fun h => ?_)
              · have hv : slC (σ.2.1 j) (σ.2.1 t) = 2 := by have z : qy (σ.2.1 j) ≠ 0 := of_decide_eq_true (bi_n.mp h); simp [slC, cz, c1, c2, z]
                rw [if_neg (by rw [hv]; decide)]
                refine lv_iconst (v := 2) hx hb d_m_seal_77 (by decide) ?_
                refine tp_i (z := slC (σ.2.1 j) (σ.2.1 t)) (hv.symm) ?_
                exact rt_i S hO (by decide) (by decide) d_m_seal_78
              · have c3 : qy (σ.2.1 j) = 0 := Decidable.of_not_not (of_decide_eq_false (bi_0.mp h))
                refine lv_aload_n hx hb d_m_seal_69 rfl (lv_at hl 0 rfl) ?_
                refine lv_iload_n hx hb d_m_seal_70 rfl (lv_at hl 3 rfl) ?_
                refine cM1p S hK hO (p_isSealed l hC (σ.1, σ.2.1, 0, σ.2.2.2) ht (rfl : _ = σ.2.1 t) hg2) vw_m_isSealed gw_315 (by decide) (by decide) ⟨by decide, by decide⟩ hl.1 (Nat.le_of_ble_eq_true rfl) d_m_seal_71 ?_
                refine lv_if_eq (tgt := 79) hx hb d_m_seal_74 (by decide) (fun h => ?_) (fun h => ?_)
                · have c4 : qy (σ.2.1 t) = 0 := Decidable.of_not_not (of_decide_eq_false (bi_0.mp h))
                  refine lv_aload_n hx hb d_m_seal_79 rfl (lv_at hl 0 rfl) ?_
                  refine lv_iload_n hx hb d_m_seal_80 rfl (lv_at hl 3 rfl) ?_
                  refine lv_bipush (v := 32) hx hb d_m_seal_81 (by decide) ?_
                  refine cM2p S hK hO (p_mmay l hC (σ.1, σ.2.1, 0, σ.2.2.2) ht (rfl : _ = σ.2.1 t) hg2 _) vw_m_may gw_331 (by decide) (by decide) ⟨by decide, by decide⟩ hl.1 (Nat.le_of_ble_eq_true rfl) d_m_seal_83 ?_
                  refine lv_if_ne (tgt := 91) hx hb d_m_seal_86 (by decide) (fun h => ?_) (fun h => ?_)
                  · have c5 := bi_n.mp h
                    refine lv_aload_n hx hb d_m_seal_91 rfl (lv_at hl 0 rfl) ?_
                    refine lv_iload_n hx hb d_m_seal_92 rfl (lv_at hl 3 rfl) ?_
                    refine lv_aload_n hx hb d_m_seal_93 rfl (lv_at hl 0 rfl) ?_
                    refine mg_address S hK hO gw_255 d_m_seal_94 ?_
                    refine lv_iload_n hx hb d_m_seal_97 rfl (lv_at hl 3 rfl) ?_
                    refine ml_address S hK hO ht (rfl : _ = σ.2.1 t) d_m_seal_98 ?_
                    refine lv_lconst (v := lN 1) hx hb d_m_seal_99 rfl ?_
                    refine cM3p S hK hO (p_holds l hC (σ.1, σ.2.1, 0, σ.2.2.2) ht (rfl : _ = σ.2.1 t) hg2 m1 (by decide)) vw_m_holds gw_335 (by decide) (by decide) ⟨by decide, by decide⟩ hl.1 (Nat.le_of_ble_eq_true rfl) d_m_seal_100 ?_
                    refine lv_if_eq (tgt := 122) hx hb d_m_seal_103 (by decide) (fun h => ?_) (fun h => ?_)
                    · have hv : slC (σ.2.1 j) (σ.2.1 t) = 4 := by have z := bi_0.mp h; simp [slC, cz, c1, c2, c3, c4, c5, z]
                      rw [if_neg (by rw [hv]; decide)]
                      refine lv_iconst (v := 4) hx hb d_m_seal_122 (by decide) ?_
                      refine tp_i (z := slC (σ.2.1 j) (σ.2.1 t)) (hv.symm) ?_
                      exact rt_i S hO (by decide) (by decide) d_m_seal_123
                    · have c6 := bi_n.mp h
                      refine lv_aload_n hx hb d_m_seal_106 rfl (lv_at hl 0 rfl) ?_
                      refine mg_address S hK hO gw_255 d_m_seal_107 ?_
                      refine lv_iload_n hx hb d_m_seal_110 rfl (lv_at hl 3 rfl) ?_
                      refine ml_address S hK hO ht (rfl : _ = σ.2.1 t) d_m_seal_111 ?_
                      refine lv_lconst (v := lN 1) hx hb d_m_seal_112 rfl ?_
                      refine lv_ldc2 (v := 65535) hx hb S.2.2.2.1 (S.2.2.2.2.1 _ gw_339) d_m_seal_113 ?_
                      refine cS3p S hK hO (p_in l hC _ _ _ _) sw_m_in gw_292 (by decide) (by decide) ⟨by decide, by decide⟩ hl.1 (Nat.le_of_ble_eq_true rfl) d_m_seal_116 ?_
                      refine tp_i (z := bi (decide (0 < qa (σ.2.1 t)) && decide (qa (σ.2.1 t) ≤ 65535))) (by rw [show (65535 : Int64) = lN 65535 from by decide, decide_eq_decide.mpr (pk_lLE (a := 1) (b := qa (σ.2.1 t)) (by decide) (by omega)), decide_eq_decide.mpr (pk_lLE (a := qa (σ.2.1 t)) (b := 65535) (by omega) (by decide))]; rfl) ?_
                      refine lv_if_ne (tgt := 124) hx hb d_m_seal_119 (by decide) (fun h => ?_) (fun h => ?_)
                      · have c7 := bi_n.mp h
                        simp only [Bool.and_eq_true, decide_eq_true_eq] at c7
                        have hv : slC (σ.2.1 j) (σ.2.1 t) = 0 := by simp [slC, cz, c1, c2, c3, c4, c5, c6, c7.1, c7.2]
                        rw [if_pos hv]
                        refine lv_aload_n hx hb d_m_seal_124 rfl (lv_at hl 0 rfl) ?_
                        refine lv_iload_n hx hb d_m_seal_125 rfl (lv_at hl 1 rfl) ?_
                        refine lv_aload_n hx hb d_m_seal_126 rfl (lv_at hl 0 rfl) ?_
                        refine mg_address S hK hO gw_255 d_m_seal_127 ?_
                        refine lv_iload_n hx hb d_m_seal_130 rfl (lv_at hl 2 rfl) ?_
                        refine ml_address S hK hO hj (rfl : _ = σ.2.1 j) d_m_seal_131 ?_
                        refine lv_aload_n hx hb d_m_seal_132 rfl (lv_at hl 0 rfl) ?_
                        refine mg_base S hK hO gw_256 d_m_seal_133 ?_
                        refine lv_iload_n hx hb d_m_seal_136 rfl (lv_at hl 2 rfl) ?_
                        refine ml_base S hK hO hj (rfl : _ = σ.2.1 j) d_m_seal_137 ?_
                        refine lv_aload_n hx hb d_m_seal_138 rfl (lv_at hl 0 rfl) ?_
                        refine mg_top S hK hO gw_257 d_m_seal_139 ?_
                        refine lv_iload_n hx hb d_m_seal_142 rfl (lv_at hl 2 rfl) ?_
                        refine ml_top S hK hO hj (rfl : _ = σ.2.1 j) d_m_seal_143 ?_
                        refine lv_aload_n hx hb d_m_seal_144 rfl (lv_at hl 0 rfl) ?_
                        refine mg_permissions S hK hO gw_258 d_m_seal_145 ?_
                        refine lv_iload_n hx hb d_m_seal_148 rfl (lv_at hl 2 rfl) ?_
                        refine ml_permissions S hK hO hj (rfl : _ = σ.2.1 j) d_m_seal_149 ?_
                        refine lv_aload_n hx hb d_m_seal_150 rfl (lv_at hl 0 rfl) ?_
                        refine mg_address S hK hO gw_255 d_m_seal_151 ?_
                        refine lv_iload_n hx hb d_m_seal_154 rfl (lv_at hl 3 rfl) ?_
                        refine ml_address S hK hO ht (rfl : _ = σ.2.1 t) d_m_seal_155 ?_
                        refine lv_l2i hx hb d_m_seal_156 rfl ?_
                        refine tp_i (z := nI (qa (σ.2.1 t))) (lN_i _) ?_
                        refine lv_iconst (v := bi true) hx hb d_m_seal_157 (by decide) ?_
                        refine cM7v S hK hO (t_give l hC _ hi _ _ _ _ _ _) vw_m_give gw_303 (by decide) (by decide) ⟨by decide, by decide⟩ hl.1 (Nat.le_of_ble_eq_true rfl) d_m_seal_158 (fun H locs hO => ?_)
                        try dsimp only at hO
                        have hO := ok_eq (show _ = (σ.1, up σ.2.1 i (sY (σ.2.1 j) (qa (σ.2.1 t))), 0, σ.2.2.2) by rw [← c1]; rfl) hO
                        refine lv_iconst (v := 0) hx hb d_m_seal_161 (by decide) ?_
                        refine tp_i (z := slC (σ.2.1 j) (σ.2.1 t)) (hv.symm) ?_
                        exact rt_i S hO (by decide) (by decide) d_m_seal_162
                      · have c7 := bi_0.mp h
                        have c8 : (hasB (σ.2.1 t) (qa (σ.2.1 t)) 1 && decide (0 < qa (σ.2.1 t)) && decide (qa (σ.2.1 t) ≤ 65535)) = false := by rw [Bool.and_assoc, c7, Bool.and_false]
                        have hv : slC (σ.2.1 j) (σ.2.1 t) = 4 := by unfold slC; rw [c8]; simp [cz, c1, c2, c3, c4, c5]
                        rw [if_neg (by rw [hv]; decide)]
                        refine lv_iconst (v := 4) hx hb d_m_seal_122 (by decide) ?_
                        refine tp_i (z := slC (σ.2.1 j) (σ.2.1 t)) (hv.symm) ?_
                        exact rt_i S hO (by decide) (by decide) d_m_seal_123
                  · have hv : slC (σ.2.1 j) (σ.2.1 t) = 3 := by have z := bi_0.mp h; simp [slC, cz, c1, c2, c3, c4, z]
                    rw [if_neg (by rw [hv]; decide)]
                    refine lv_iconst (v := 3) hx hb d_m_seal_89 (by decide) ?_
                    refine tp_i (z := slC (σ.2.1 j) (σ.2.1 t)) (hv.symm) ?_
                    exact rt_i S hO (by decide) (by decide) d_m_seal_90
                · have hv : slC (σ.2.1 j) (σ.2.1 t) = 2 := by have z : qy (σ.2.1 t) ≠ 0 := of_decide_eq_true (bi_n.mp h); simp [slC, cz, c1, c2, c3, z]
                  rw [if_neg (by rw [hv]; decide)]
                  refine lv_iconst (v := 2) hx hb d_m_seal_77 (by decide) ?_
                  refine tp_i (z := slC (σ.2.1 j) (σ.2.1 t)) (hv.symm) ?_
                  exact rt_i S hO (by decide) (by decide) d_m_seal_78
            · have hv : slC (σ.2.1 j) (σ.2.1 t) = 1 := by have z := bi_0.mp h; simp [slC, cz, z]
              rw [if_neg (by rw [hv]; decide)]
              refine lv_iconst (v := 1) hx hb d_m_seal_59 (by decide) ?_
              refine tp_i (z := slC (σ.2.1 j) (σ.2.1 t)) (hv.symm) ?_
              exact rt_i S hO (by decide) (by decide) d_m_seal_60
        · exact absurd rfl h
      · exact absurd h (by decide)
set_option maxHeartbeats 4000000 in
set_option maxRecDepth 100000 in
/-- m_unseal -/
theorem m_unseal_ok (l : Launch) {cx : Cx} (hC : Cg cx) (σ : Sg) {i j t : Nat} (hi : i < 16) (hj : j < 16) (ht : t < 16) (hg : gok (σ.2.1 j)) (hg2 : gok (σ.2.1 t)) : CT l cx y_m_unseal 2 61 0 0 [.ref (ad cx 19), .int (nI i), .int (nI j), .int (nI t)] σ (.inl (some (.int (usC (σ.2.1 j) (σ.2.1 t))))) (if usC (σ.2.1 j) (σ.2.1 t) = 0 then (σ.1, up σ.2.1 i (sY (σ.2.1 j) 0), 0, σ.2.2.2) else (σ.1, σ.2.1, 0, σ.2.2.2)) := by
  refine Con.ofW (cc := prog_4_method_17_code) (maxL := 4) (ret := (some FieldType.int)) (by decide +kernel) gw_343 ?_
  intro p e s m args below meth c S ha hnm hno hv
  obtain ⟨rfl, hP, hK⟩ := hv
  have S : Fx p s m ([.ref (ad cx 19), .int (nI i), .int (nI j), .int (nI t)] : List Value).toArray meth c prog_4_method_17_code 4 R_M (some FieldType.int) := S
  have hO : Ok cx s σ s.heap [] := ⟨hP, va_S.rf⟩
  have hx := S.1
  have hb := S.2.1
  have hl := lv_entry ([.ref (ad cx 19), .int (nI i), .int (nI j), .int (nI t)]) (n := 4) (Nat.le_of_ble_eq_true rfl)
  rw [lg_entry_eq]
  generalize (lg_sl ([.ref (ad cx 19), .int (nI i), .int (nI j), .int (nI t)]) ++ List.replicate (4 - (lg_sl ([.ref (ad cx 19), .int (nI i), .int (nI j), .int (nI t)])).length) Slot.unset).toArray = ls at hl ⊢
  have hl : lv_has ls 4 [(0, .ref (ad cx 19)), (1, .int (nI i)), (2, .int (nI j)), (3, .int (nI t))] := hl
  obtain ⟨k1, k2, k3, k4, k5⟩ := id hg
  obtain ⟨m1, m2, m3, m4, m5⟩ := id hg2
  refine lv_aload_n hx hb d_m_unseal_0 rfl (lv_at hl 0 rfl) ?_
  refine lv_iconst (v := 0) hx hb d_m_unseal_1 (by decide) ?_
  refine mp_err hC S hK hO gw_254 d_m_unseal_2 (fun H locs hO => ?_)
  try dsimp only at hO
  refine lv_aload_n hx hb d_m_unseal_5 rfl (lv_at hl 0 rfl) ?_
  refine lv_iload_n hx hb d_m_unseal_6 rfl (lv_at hl 1 rfl) ?_
  refine cS1p S hK hO (p_is l hC _ _) sw_m_is gw_299 (by decide) (by decide) ⟨by decide, by decide⟩ hl.1 (Nat.le_of_ble_eq_true rfl) d_m_unseal_7 ?_
  refine tp_i (z := 1) (by rw [okr_N hi]; rfl) ?_
  refine lv_if_eq (tgt := 27) hx hb d_m_unseal_10 (by decide) (fun h => ?_) (fun h => ?_)
  · exact absurd h (by decide)
  · refine lv_iload_n hx hb d_m_unseal_13 rfl (lv_at hl 2 rfl) ?_
    refine cS1p S hK hO (p_is l hC _ _) sw_m_is gw_299 (by decide) (by decide) ⟨by decide, by decide⟩ hl.1 (Nat.le_of_ble_eq_true rfl) d_m_unseal_14 ?_
    refine tp_i (z := 1) (by rw [okr_N hj]; rfl) ?_
    refine lv_if_eq (tgt := 27) hx hb d_m_unseal_17 (by decide) (fun h => ?_) (fun h => ?_)
    · exact absurd h (by decide)
    · refine lv_iload_n hx hb d_m_unseal_20 rfl (lv_at hl 3 rfl) ?_
      refine cS1p S hK hO (p_is l hC _ _) sw_m_is gw_299 (by decide) (by decide) ⟨by decide, by decide⟩ hl.1 (Nat.le_of_ble_eq_true rfl) d_m_unseal_21 ?_
      refine tp_i (z := 1) (by rw [okr_N ht]; rfl) ?_
      refine lv_if_ne (tgt := 31) hx hb d_m_unseal_24 (by decide) (fun h => ?_) (fun h => ?_)
      · refine lv_iconst (v := 0) hx hb d_m_unseal_31 (by decide) ?_
        refine lv_iconst (v := 1) hx hb d_m_unseal_32 (by decide) ?_
        refine cM2r S hK hO (t_fails0 l hC _ _ rfl) vw_m_fails gw_295 (by decide) (by decide) ⟨by decide, by decide⟩ hl.1 (Nat.le_of_ble_eq_true rfl) d_m_unseal_33 (fun H locs hO => ?_)
        try dsimp only at hO
        refine lv_if_eq (tgt := 41) hx hb d_m_unseal_36 (by decide) (fun h => ?_) (fun h => ?_)
        · refine lv_aload_n hx hb d_m_unseal_41 rfl (lv_at hl 0 rfl) ?_
          refine mg_tag S hK hO gw_260 d_m_unseal_42 ?_
          refine lv_iload_n hx hb d_m_unseal_45 rfl (lv_at hl 2 rfl) ?_
          refine ml_tag S hK hO hj (rfl : _ = σ.2.1 j) d_m_unseal_46 ?_
          refine lv_if_eq (tgt := 59) hx hb d_m_unseal_47 (by decide) (fun h => ?_) (fun h => ?_)
          · have hv : usC (σ.2.1 j) (σ.2.1 t) = 1 := by have z := bi_0.mp h; simp [usC, cz, z]
            rw [if_neg (by rw [hv]; decide)]
            refine lv_iconst (v := 1) hx hb d_m_unseal_59 (by decide) ?_
            refine tp_i (z := usC (σ.2.1 j) (σ.2.1 t)) (hv.symm) ?_
            exact rt_i S hO (by decide) (by decide) d_m_unseal_60
          · have c1 := bi_n.mp h
            refine lv_aload_n hx hb d_m_unseal_50 rfl (lv_at hl 0 rfl) ?_
            refine mg_tag S hK hO gw_260 d_m_unseal_51 ?_
            refine lv_iload_n hx hb d_m_unseal_54 rfl (lv_at hl 3 rfl) ?_
            refine ml_tag S hK hO ht (rfl : _ = σ.2.1 t) d_m_unseal_55 ?_
            refine lv_if_ne (tgt := 61) hx hb d_m_unseal_56 (by decide) (fun h => ?_) (fun h => ?_)
            · have c2 := bi_n.mp h
              refine lv_aload_n hx hb d_m_unseal_61 rfl (lv_at hl 0 rfl) ?_
              refine lv_iload_n hx hb d_m_unseal_62 rfl (lv_at hl 2 rfl) ?_
              refine cM1p S hK hO (p_isSealed l hC (σ.1, σ.2.1, 0, σ.2.2.2) hj (rfl : _ = σ.2.1 j) hg) vw_m_isSealed gw_315 (by decide) (by decide) ⟨by decide, by decide⟩ hl.1 (Nat.le_of_ble_eq_true rfl) d_m_unseal_63 ?_
              refine lv_if_eq (tgt := 77) hx hb d_m_unseal_66 (by decide) (fun h => ?_) (fun h => ?_)
              · have hv : usC (σ.2.1 j) (σ.2.1 t) = 2 := by have z : qy (σ.2.1 j) = 0 := Decidable.of_not_not (of_decide_eq_false (bi_0.mp h)); simp [usC, cz, c1, c2, z]
                rw [if_neg (by rw [hv]; decide)]
                refine lv_iconst (v := 2) hx hb d_m_unseal_77 (by decide) ?_
                refine tp_i (z := usC (σ.2.1 j) (σ.2.1 t)) (hv.symm) ?_
                exact rt_i S hO (by decide) (by decide) d_m_unseal_78
              · have c3 : qy (σ.2.1 j) ≠ 0 := of_decide_eq_true (bi_n.mp h)
                refine lv_aload_n hx hb d_m_unseal_69 rfl (lv_at hl 0 rfl) ?_
                refine lv_iload_n hx hb d_m_unseal_70 rfl (lv_at hl 3 rfl) ?_
                refine cM1p S hK hO (p_isSealed l hC (σ.1, σ.2.1, 0, σ.2.2.2) ht (rfl : _ = σ.2.1 t) hg2) vw_m_isSealed gw_315 (by decide) (by decide) ⟨by decide, by decide⟩ hl.1 (Nat.le_of_ble_eq_true rfl) d_m_unseal_71 ?_
                refine lv_if_eq (tgt := 79) hx hb d_m_unseal_74 (by decide) (fun h => ?_) (fun h => ?_)
                · have c4 : qy (σ.2.1 t) = 0 := Decidable.of_not_not (of_decide_eq_false (bi_0.mp h))
                  refine lv_aload_n hx hb d_m_unseal_79 rfl (lv_at hl 0 rfl) ?_
                  refine lv_iload_n hx hb d_m_unseal_80 rfl (lv_at hl 3 rfl) ?_
                  refine lv_bipush (v := 64) hx hb d_m_unseal_81 (by decide) ?_
                  refine cM2p S hK hO (p_mmay l hC (σ.1, σ.2.1, 0, σ.2.2.2) ht (rfl : _ = σ.2.1 t) hg2 _) vw_m_may gw_331 (by decide) (by decide) ⟨by decide, by decide⟩ hl.1 (Nat.le_of_ble_eq_true rfl) d_m_unseal_83 ?_
                  refine lv_if_ne (tgt := 91) hx hb d_m_unseal_86 (by decide) (fun h => ?_) (fun h => ?_)
                  · have c5 := bi_n.mp h
                    refine lv_aload_n hx hb d_m_unseal_91 rfl (lv_at hl 0 rfl) ?_
                    refine lv_iload_n hx hb d_m_unseal_92 rfl (lv_at hl 3 rfl) ?_
                    refine lv_aload_n hx hb d_m_unseal_93 rfl (lv_at hl 0 rfl) ?_
                    refine mg_address S hK hO gw_255 d_m_unseal_94 ?_
                    refine lv_iload_n hx hb d_m_unseal_97 rfl (lv_at hl 3 rfl) ?_
                    refine ml_address S hK hO ht (rfl : _ = σ.2.1 t) d_m_unseal_98 ?_
                    refine lv_lconst (v := lN 1) hx hb d_m_unseal_99 rfl ?_
                    refine cM3p S hK hO (p_holds l hC (σ.1, σ.2.1, 0, σ.2.2.2) ht (rfl : _ = σ.2.1 t) hg2 m1 (by decide)) vw_m_holds gw_335 (by decide) (by decide) ⟨by decide, by decide⟩ hl.1 (Nat.le_of_ble_eq_true rfl) d_m_unseal_100 ?_
                    refine lv_if_eq (tgt := 123) hx hb d_m_unseal_103 (by decide) (fun h => ?_) (fun h => ?_)
                    · have hv : usC (σ.2.1 j) (σ.2.1 t) = 4 := by have z := bi_0.mp h; simp [usC, cz, c1, c2, c3, c4, c5, z]
                      rw [if_neg (by rw [hv]; decide)]
                      refine lv_iconst (v := 4) hx hb d_m_unseal_123 (by decide) ?_
                      refine tp_i (z := usC (σ.2.1 j) (σ.2.1 t)) (hv.symm) ?_
                      exact rt_i S hO (by decide) (by decide) d_m_unseal_124
                    · have c6 := bi_n.mp h
                      refine lv_aload_n hx hb d_m_unseal_106 rfl (lv_at hl 0 rfl) ?_
                      refine mg_address S hK hO gw_255 d_m_unseal_107 ?_
                      refine lv_iload_n hx hb d_m_unseal_110 rfl (lv_at hl 3 rfl) ?_
                      refine ml_address S hK hO ht (rfl : _ = σ.2.1 t) d_m_unseal_111 ?_
                      refine lv_aload_n hx hb d_m_unseal_112 rfl (lv_at hl 0 rfl) ?_
                      refine mg_type S hK hO gw_259 d_m_unseal_113 ?_
                      refine lv_iload_n hx hb d_m_unseal_116 rfl (lv_at hl 2 rfl) ?_
                      refine ml_type S hK hO hj (rfl : _ = σ.2.1 j) d_m_unseal_117 ?_
                      refine lv_i2l hx hb d_m_unseal_118 rfl ?_
                      refine tp_l (z := lN (qy (σ.2.1 j))) (nI_l (by omega)) ?_
                      refine W.lcmp hx hb d_m_unseal_119 ?_
                      refine lv_if_eq (tgt := 125) hx hb d_m_unseal_120 (by decide) (fun h => ?_) (fun h => ?_)
                      · have c7 : qa (σ.2.1 t) = qy (σ.2.1 j) := (lc_eq (by omega) (by omega)).mp h
                        have c8 : (hasB (σ.2.1 t) (qa (σ.2.1 t)) 1 && decide (qa (σ.2.1 t) = qy (σ.2.1 j))) = true := by rw [c6, Bool.true_and]; exact decide_eq_true c7
                        have hv : usC (σ.2.1 j) (σ.2.1 t) = 0 := by simp [usC, cz, c1, c2, c3, c4, c5, c8]
                        rw [if_pos hv]
                        refine lv_aload_n hx hb d_m_unseal_125 rfl (lv_at hl 0 rfl) ?_
                        refine lv_iload_n hx hb d_m_unseal_126 rfl (lv_at hl 1 rfl) ?_
                        refine lv_aload_n hx hb d_m_unseal_127 rfl (lv_at hl 0 rfl) ?_
                        refine mg_address S hK hO gw_255 d_m_unseal_128 ?_
                        refine lv_iload_n hx hb d_m_unseal_131 rfl (lv_at hl 2 rfl) ?_
                        refine ml_address S hK hO hj (rfl : _ = σ.2.1 j) d_m_unseal_132 ?_
                        refine lv_aload_n hx hb d_m_unseal_133 rfl (lv_at hl 0 rfl) ?_
                        refine mg_base S hK hO gw_256 d_m_unseal_134 ?_
                        refine lv_iload_n hx hb d_m_unseal_137 rfl (lv_at hl 2 rfl) ?_
                        refine ml_base S hK hO hj (rfl : _ = σ.2.1 j) d_m_unseal_138 ?_
                        refine lv_aload_n hx hb d_m_unseal_139 rfl (lv_at hl 0 rfl) ?_
                        refine mg_top S hK hO gw_257 d_m_unseal_140 ?_
                        refine lv_iload_n hx hb d_m_unseal_143 rfl (lv_at hl 2 rfl) ?_
                        refine ml_top S hK hO hj (rfl : _ = σ.2.1 j) d_m_unseal_144 ?_
                        refine lv_aload_n hx hb d_m_unseal_145 rfl (lv_at hl 0 rfl) ?_
                        refine mg_permissions S hK hO gw_258 d_m_unseal_146 ?_
                        refine lv_iload_n hx hb d_m_unseal_149 rfl (lv_at hl 2 rfl) ?_
                        refine ml_permissions S hK hO hj (rfl : _ = σ.2.1 j) d_m_unseal_150 ?_
                        refine lv_iconst (v := nI 0) hx hb d_m_unseal_151 (by decide) ?_
                        refine lv_iconst (v := bi true) hx hb d_m_unseal_152 (by decide) ?_
                        refine cM7v S hK hO (t_give l hC _ hi _ _ _ _ _ _) vw_m_give gw_303 (by decide) (by decide) ⟨by decide, by decide⟩ hl.1 (Nat.le_of_ble_eq_true rfl) d_m_unseal_153 (fun H locs hO => ?_)
                        try dsimp only at hO
                        have hO := ok_eq (show _ = (σ.1, up σ.2.1 i (sY (σ.2.1 j) 0), 0, σ.2.2.2) by rw [← c1]; rfl) hO
                        refine lv_iconst (v := 0) hx hb d_m_unseal_156 (by decide) ?_
                        refine tp_i (z := usC (σ.2.1 j) (σ.2.1 t)) (hv.symm) ?_
                        exact rt_i S hO (by decide) (by decide) d_m_unseal_157
                      · have c7 : ¬ qa (σ.2.1 t) = qy (σ.2.1 j) := fun z => h ((lc_eq (by omega) (by omega)).mpr z)
                        have hv : usC (σ.2.1 j) (σ.2.1 t) = 4 := by simp [usC, cz, c1, c2, c3, c4, c5, c7]
                        rw [if_neg (by rw [hv]; decide)]
                        refine lv_iconst (v := 4) hx hb d_m_unseal_123 (by decide) ?_
                        refine tp_i (z := usC (σ.2.1 j) (σ.2.1 t)) (hv.symm) ?_
                        exact rt_i S hO (by decide) (by decide) d_m_unseal_124
                  · have hv : usC (σ.2.1 j) (σ.2.1 t) = 3 := by have z := bi_0.mp h; simp [usC, cz, c1, c2, c3, c4, z]
                    rw [if_neg (by rw [hv]; decide)]
                    refine lv_iconst (v := 3) hx hb d_m_unseal_89 (by decide) ?_
                    refine tp_i (z := usC (σ.2.1 j) (σ.2.1 t)) (hv.symm) ?_
                    exact rt_i S hO (by decide) (by decide) d_m_unseal_90
                · have hv : usC (σ.2.1 j) (σ.2.1 t) = 2 := by have z : qy (σ.2.1 t) ≠ 0 := of_decide_eq_true (bi_n.mp h); simp [usC, cz, c1, c2, c3, z]
                  rw [if_neg (by rw [hv]; decide)]
                  refine lv_iconst (v := 2) hx hb d_m_unseal_77 (by decide) ?_
                  refine tp_i (z := usC (σ.2.1 j) (σ.2.1 t)) (hv.symm) ?_
                  exact rt_i S hO (by decide) (by decide) d_m_unseal_78
            · have hv : usC (σ.2.1 j) (σ.2.1 t) = 1 := by have z := bi_0.mp h; simp [usC, cz, z]
              rw [if_neg (by rw [hv]; decide)]
              refine lv_iconst (v := 1) hx hb d_m_unseal_59 (by decide) ?_
              refine tp_i (z := usC (σ.2.1 j) (σ.2.1 t)) (hv.symm) ?_
              exact rt_i S hO (by decide) (by decide) d_m_unseal_60
        · exact absurd rfl h
      · exact absurd h (by decide)
set_option maxHeartbeats 4000000 in
set_option maxRecDepth 100000 in
/-- within -/
theorem m_within_ok (l : Launch) {cx : Cx} (hC : Cg cx) (σ : Sg) {i j : Nat} (hi : i < 16) (hj : j < 16) (hg : gok (σ.2.1 i)) (hg2 : gok (σ.2.1 j)) : CT l cx y_m_within 2 61 0 0 [.ref (ad cx 19), .int (nI i), .int (nI j)] σ (.inl (some (.int (bi (wiB (σ.2.1 i) (σ.2.1 j)))))) (σ.1, σ.2.1, 0, σ.2.2.2) := by
  refine Con.ofW (cc := prog_4_method_19_code) (maxL := 3) (ret := (some FieldType.boolean)) (by decide +kernel) gw_352 ?_
  intro p e s m args below meth c S ha hnm hno hv
  obtain ⟨rfl, hP, hK⟩ := hv
  have S : Fx p s m ([.ref (ad cx 19), .int (nI i), .int (nI j)] : List Value).toArray meth c prog_4_method_19_code 3 R_M (some FieldType.boolean) := S
  have hO : Ok cx s σ s.heap [] := ⟨hP, va_S.rf⟩
  have hx := S.1
  have hb := S.2.1
  have hl := lv_entry ([.ref (ad cx 19), .int (nI i), .int (nI j)]) (n := 3) (Nat.le_of_ble_eq_true rfl)
  rw [lg_entry_eq]
  generalize (lg_sl ([.ref (ad cx 19), .int (nI i), .int (nI j)]) ++ List.replicate (3 - (lg_sl ([.ref (ad cx 19), .int (nI i), .int (nI j)])).length) Slot.unset).toArray = ls at hl ⊢
  have hl : lv_has ls 3 [(0, .ref (ad cx 19)), (1, .int (nI i)), (2, .int (nI j))] := hl
  obtain ⟨k1, k2, k3, k4, k5⟩ := id hg
  obtain ⟨m1, m2, m3, m4, m5⟩ := id hg2
  refine lv_aload_n hx hb d_m_within_0 rfl (lv_at hl 0 rfl) ?_
  refine lv_iconst (v := 0) hx hb d_m_within_1 (by decide) ?_
  refine mp_err hC S hK hO gw_254 d_m_within_2 (fun H locs hO => ?_)
  try dsimp only at hO
  refine lv_aload_n hx hb d_m_within_5 rfl (lv_at hl 0 rfl) ?_
  refine lv_iload_n hx hb d_m_within_6 rfl (lv_at hl 1 rfl) ?_
  refine cS1p S hK hO (p_is l hC _ _) sw_m_is gw_299 (by decide) (by decide) ⟨by decide, by decide⟩ hl.1 (Nat.le_of_ble_eq_true rfl) d_m_within_7 ?_
  refine tp_i (z := 1) (by rw [okr_N hi]; rfl) ?_
  refine lv_if_eq (tgt := 20) hx hb d_m_within_10 (by decide) (fun h => ?_) (fun h => ?_)
  · exact absurd h (by decide)
  · refine lv_iload_n hx hb d_m_within_13 rfl (lv_at hl 2 rfl) ?_
    refine cS1p S hK hO (p_is l hC _ _) sw_m_is gw_299 (by decide) (by decide) ⟨by decide, by decide⟩ hl.1 (Nat.le_of_ble_eq_true rfl) d_m_within_14 ?_
    refine tp_i (z := 1) (by rw [okr_N hj]; rfl) ?_
    refine lv_if_ne (tgt := 24) hx hb d_m_within_17 (by decide) (fun h => ?_) (fun h => ?_)
    · refine lv_iconst (v := 0) hx hb d_m_within_24 (by decide) ?_
      refine lv_iconst (v := 1) hx hb d_m_within_25 (by decide) ?_
      refine cM2r S hK hO (t_fails0 l hC _ _ rfl) vw_m_fails gw_295 (by decide) (by decide) ⟨by decide, by decide⟩ hl.1 (Nat.le_of_ble_eq_true rfl) d_m_within_26 (fun H locs hO => ?_)
      try dsimp only at hO
      refine lv_if_eq (tgt := 34) hx hb d_m_within_29 (by decide) (fun h => ?_) (fun h => ?_)
      · refine mg_b (wiB (σ.2.1 i) (σ.2.1 j)) 103 ?_ (fun hm => ?_)
        · exact rt_z S hO (bi_nar _) (by decide) (by decide) d_m_within_103
        · refine lv_aload_n hx hb d_m_within_34 rfl (lv_at hl 0 rfl) ?_
          refine mg_tag S hK hO gw_260 d_m_within_35 ?_
          refine lv_iload_n hx hb d_m_within_38 rfl (lv_at hl 1 rfl) ?_
          refine ml_tag S hK hO hi (rfl : _ = σ.2.1 i) d_m_within_39 ?_
          refine lv_if_eq (tgt := 102) hx hb d_m_within_40 (by decide) (fun h => ?_) (fun h => ?_)
          · refine lv_iconst (v := 0) hx hb d_m_within_102 (by decide) ?_
            exact hm _ (bi_o (by have z := bi_0.mp h; simp [wiB, z]))
          · have c1 := bi_n.mp h
            refine lv_aload_n hx hb d_m_within_43 rfl (lv_at hl 0 rfl) ?_
            refine mg_tag S hK hO gw_260 d_m_within_44 ?_
            refine lv_iload_n hx hb d_m_within_47 rfl (lv_at hl 2 rfl) ?_
            refine ml_tag S hK hO hj (rfl : _ = σ.2.1 j) d_m_within_48 ?_
            refine lv_if_eq (tgt := 102) hx hb d_m_within_49 (by decide) (fun h => ?_) (fun h => ?_)
            · refine lv_iconst (v := 0) hx hb d_m_within_102 (by decide) ?_
              exact hm _ (bi_o (by have z := bi_0.mp h; simp [wiB, z]))
            · have c2 := bi_n.mp h
              refine lv_aload_n hx hb d_m_within_52 rfl (lv_at hl 0 rfl) ?_
              refine mg_base S hK hO gw_256 d_m_within_53 ?_
              refine lv_iload_n hx hb d_m_within_56 rfl (lv_at hl 1 rfl) ?_
              refine ml_base S hK hO hi (rfl : _ = σ.2.1 i) d_m_within_57 ?_
              refine lv_aload_n hx hb d_m_within_58 rfl (lv_at hl 0 rfl) ?_
              refine mg_base S hK hO gw_256 d_m_within_59 ?_
              refine lv_iload_n hx hb d_m_within_62 rfl (lv_at hl 2 rfl) ?_
              refine ml_base S hK hO hj (rfl : _ = σ.2.1 j) d_m_within_63 ?_
              refine W.lcmp hx hb d_m_within_64 ?_
              refine lv_if_lt (tgt := 102) hx hb d_m_within_65 (by decide) (fun h => ?_) (fun h => ?_)
              · refine lv_iconst (v := 0) hx hb d_m_within_102 (by decide) ?_
                exact hm _ (bi_o (by have z := (lc_lt (by omega) (by omega)).mp h; have z2 : ¬ qb (σ.2.1 j) ≤ qb (σ.2.1 i) := by { omega }; simp [wiB, z2]))
              · have c3 : qb (σ.2.1 j) ≤ qb (σ.2.1 i) := Nat.le_of_not_lt fun z => h ((lc_lt (by omega) (by omega)).mpr z)
                refine lv_aload_n hx hb d_m_within_68 rfl (lv_at hl 0 rfl) ?_
                refine mg_top S hK hO gw_257 d_m_within_69 ?_
                refine lv_iload_n hx hb d_m_within_72 rfl (lv_at hl 1 rfl) ?_
                refine ml_top S hK hO hi (rfl : _ = σ.2.1 i) d_m_within_73 ?_
                refine lv_aload_n hx hb d_m_within_74 rfl (lv_at hl 0 rfl) ?_
                refine mg_top S hK hO gw_257 d_m_within_75 ?_
                refine lv_iload_n hx hb d_m_within_78 rfl (lv_at hl 2 rfl) ?_
                refine ml_top S hK hO hj (rfl : _ = σ.2.1 j) d_m_within_79 ?_
                refine W.lcmp hx hb d_m_within_80 ?_
                refine lv_if_gt (tgt := 102) hx hb d_m_within_81 (by decide) (fun h => ?_) (fun h => ?_)
                · refine lv_iconst (v := 0) hx hb d_m_within_102 (by decide) ?_
                  exact hm _ (bi_o (by have z := (lc_gt (by omega) (by omega)).mp h; have z2 : ¬ qt (σ.2.1 i) ≤ qt (σ.2.1 j) := by { omega }; simp [wiB, z2]))
                · have c4 : qt (σ.2.1 i) ≤ qt (σ.2.1 j) := Nat.le_of_not_lt fun z => h ((lc_gt (by omega) (by omega)).mpr z)
                  refine lv_aload_n hx hb d_m_within_84 rfl (lv_at hl 0 rfl) ?_
                  refine lv_iload_n hx hb d_m_within_85 rfl (lv_at hl 2 rfl) ?_
                  refine lv_aload_n hx hb d_m_within_86 rfl (lv_at hl 0 rfl) ?_
                  refine mg_permissions S hK hO gw_258 d_m_within_87 ?_
                  refine lv_iload_n hx hb d_m_within_90 rfl (lv_at hl 1 rfl) ?_
                  refine ml_permissions S hK hO hi (rfl : _ = σ.2.1 i) d_m_within_91 ?_
                  refine cM2p S hK hO (p_mmay l hC (σ.1, σ.2.1, 0, σ.2.2.2) hj (rfl : _ = σ.2.1 j) hg2 _) vw_m_may gw_331 (by decide) (by decide) ⟨by decide, by decide⟩ hl.1 (Nat.le_of_ble_eq_true rfl) d_m_within_92 ?_
                  refine lv_if_eq (tgt := 102) hx hb d_m_within_95 (by decide) (fun h => ?_) (fun h => ?_)
                  · refine lv_iconst (v := 0) hx hb d_m_within_102 (by decide) ?_
                    exact hm _ (bi_o (by have z := bi_0.mp h; simp [wiB, z]))
                  · refine lv_iconst (v := 1) hx hb d_m_within_98 (by decide) ?_
                    refine lv_goto (tgt := 103) hx hb d_m_within_99 (by decide) ?_
                    exact hm _ (bi_1 (by have z := bi_n.mp h; simp [wiB, c1, c2, c3, c4, z]))
      · exact absurd rfl h
    · exact absurd h (by decide)
theorem in_q {k c : Nat} (hk : k ≤ c) (hc : c < 2147483648) : (decide (lN 0 ≤ (nI k).toInt64) && decide ((nI k).toInt64 ≤ lN c)) = true := by
  rw [nI_l (by omega), decide_eq_true ((pk_lLE (by decide) (by omega)).mpr (Nat.zero_le _)), decide_eq_true ((pk_lLE (by omega) (by omega)).mpr hk)]; rfl
theorem in_z {v : Int32} {c : Nat} (hc : c < 2147483648) : (decide (lN 0 ≤ v.toInt64) && decide (v.toInt64 ≤ lN c)) = (decide (0 ≤ v.toInt) && decide (v.toInt ≤ c)) := by
  have h3 : (v.toInt64).toInt = v.toInt := Int32.toInt_toInt64 v
  have e1 : (lN 0 ≤ v.toInt64) ↔ 0 ≤ v.toInt := by rw [Int64.le_iff_toInt_le, h3, pk_lT (by decide)]; exact Iff.rfl
  have e2 : (v.toInt64 ≤ lN c) ↔ v.toInt ≤ c := by rw [Int64.le_iff_toInt_le, h3, pk_lT (by omega)]
  rw [decide_eq_decide.mpr e1, decide_eq_decide.mpr e2]
set_option maxHeartbeats 4000000 in
set_option maxRecDepth 100000 in
/-- root -/
theorem m_root_ok (l : Launch) {cx : Cx} (hC : Cg cx) (σ : Sg) {i : Nat} (hi0 : i < 16) {lo hi : Int32} {q : Nat} (hq : q < 256) (hle : uw lo ≤ uw hi) : CT l cx y_m_root 2 61 0 0 [.ref (ad cx 19), .int (nI i), .int lo, .int hi, .int (nI q)] σ (.inl none) (σ.1, up σ.2.1 i (uw lo, uw lo, uw hi, q, 0, true), 0, σ.2.2.2) := by
  refine Con.ofW (cc := prog_4_method_8_code) (maxL := 5) (ret := none) (by decide +kernel) gw_286 ?_
  intro p e s m args below meth c S ha hnm hno hv
  obtain ⟨rfl, hP, hK⟩ := hv
  have S : Fx p s m ([.ref (ad cx 19), .int (nI i), .int lo, .int hi, .int (nI q)] : List Value).toArray meth c prog_4_method_8_code 5 R_M none := S
  have hO : Ok cx s σ s.heap [] := ⟨hP, va_S.rf⟩
  have hx := S.1
  have hb := S.2.1
  have hl := lv_entry ([.ref (ad cx 19), .int (nI i), .int lo, .int hi, .int (nI q)]) (n := 5) (Nat.le_of_ble_eq_true rfl)
  rw [lg_entry_eq]
  generalize (lg_sl ([.ref (ad cx 19), .int (nI i), .int lo, .int hi, .int (nI q)]) ++ List.replicate (5 - (lg_sl ([.ref (ad cx 19), .int (nI i), .int lo, .int hi, .int (nI q)])).length) Slot.unset).toArray = ls at hl ⊢
  have hl : lv_has ls 5 [(0, .ref (ad cx 19)), (1, .int (nI i)), (2, .int lo), (3, .int hi), (4, .int (nI q))] := hl
  refine lv_aload_n hx hb d_m_root_0 rfl (lv_at hl 0 rfl) ?_
  refine lv_iconst (v := 0) hx hb d_m_root_1 (by decide) ?_
  refine mp_err hC S hK hO gw_254 d_m_root_2 (fun H locs hO => ?_)
  try dsimp only at hO
  refine lv_aload_n hx hb d_m_root_5 rfl (lv_at hl 0 rfl) ?_
  refine lv_iload_n hx hb d_m_root_6 rfl (lv_at hl 2 rfl) ?_
  refine cS1p S hK hO (p_wide l hC _ _) sw_m_wide gw_287 (by decide) (by decide) ⟨by decide, by decide⟩ hl.1 (Nat.le_of_ble_eq_true rfl) d_m_root_7 ?_
  refine lv_iload_n hx hb d_m_root_10 rfl (lv_at hl 3 rfl) ?_
  refine cS1p S hK hO (p_wide l hC _ _) sw_m_wide gw_287 (by decide) (by decide) ⟨by decide, by decide⟩ hl.1 (Nat.le_of_ble_eq_true rfl) d_m_root_11 ?_
  refine W.lcmp hx hb d_m_root_14 ?_
  refine lv_if_gt (tgt := 31) hx hb d_m_root_15 (by decide) (fun h => ?_) (fun h => ?_)
  · exact absurd ((lc_gt (by have := uw_lt lo; omega) (by have := uw_lt hi; omega)).mp h) (by omega)
  · refine lv_iload hx hb d_m_root_18 (lv_at hl 4 rfl) ?_
    refine lv_i2l hx hb d_m_root_20 rfl ?_
    refine lv_lconst (v := lN 0) hx hb d_m_root_21 rfl ?_
    refine lv_ldc2 (v := 255) hx hb S.2.2.2.1 (S.2.2.2.2.1 _ gw_291) d_m_root_22 ?_
    refine cS3p S hK hO (p_in l hC _ _ _ _) sw_m_in gw_292 (by decide) (by decide) ⟨by decide, by decide⟩ hl.1 (Nat.le_of_ble_eq_true rfl) d_m_root_25 ?_
    refine tp_i (z := 1) (by rw [show (255 : Int64) = lN 255 from by decide, in_q (by omega) (by decide)]; rfl) ?_
    refine lv_if_ne (tgt := 35) hx hb d_m_root_28 (by decide) (fun h => ?_) (fun h => ?_)
    · refine lv_iconst (v := 0) hx hb d_m_root_35 (by decide) ?_
      refine lv_iconst (v := 1) hx hb d_m_root_36 (by decide) ?_
      refine cM2r S hK hO (t_fails0 l hC _ _ rfl) vw_m_fails gw_295 (by decide) (by decide) ⟨by decide, by decide⟩ hl.1 (Nat.le_of_ble_eq_true rfl) d_m_root_37 (fun H locs hO => ?_)
      try dsimp only at hO
      refine lv_if_ne (tgt := 63) hx hb d_m_root_40 (by decide) (fun h => ?_) (fun h => ?_)
      · exact absurd rfl h
      · refine lv_aload_n hx hb d_m_root_43 rfl (lv_at hl 0 rfl) ?_
        refine lv_iload_n hx hb d_m_root_44 rfl (lv_at hl 1 rfl) ?_
        refine cS1p S hK hO (p_is l hC _ _) sw_m_is gw_299 (by decide) (by decide) ⟨by decide, by decide⟩ hl.1 (Nat.le_of_ble_eq_true rfl) d_m_root_45 ?_
        refine tp_i (z := 1) (by rw [okr_N hi0]; rfl) ?_
        refine lv_if_ne (tgt := 55) hx hb d_m_root_48 (by decide) (fun h => ?_) (fun h => ?_)
        · refine lv_iconst (v := 0) hx hb d_m_root_55 (by decide) ?_
          refine lv_iconst (v := 2) hx hb d_m_root_56 (by decide) ?_
          refine cM2r S hK hO (t_fails0 l hC _ _ rfl) vw_m_fails gw_295 (by decide) (by decide) ⟨by decide, by decide⟩ hl.1 (Nat.le_of_ble_eq_true rfl) d_m_root_57 (fun H locs hO => ?_)
          try dsimp only at hO
          refine lv_if_eq (tgt := 64) hx hb d_m_root_60 (by decide) (fun h => ?_) (fun h => ?_)
          · refine lv_aload_n hx hb d_m_root_64 rfl (lv_at hl 0 rfl) ?_
            refine lv_iload_n hx hb d_m_root_65 rfl (lv_at hl 1 rfl) ?_
            refine lv_iload_n hx hb d_m_root_66 rfl (lv_at hl 2 rfl) ?_
            refine cS1p S hK hO (p_wide l hC _ _) sw_m_wide gw_287 (by decide) (by decide) ⟨by decide, by decide⟩ hl.1 (Nat.le_of_ble_eq_true rfl) d_m_root_67 ?_
            refine lv_iload_n hx hb d_m_root_70 rfl (lv_at hl 2 rfl) ?_
            refine cS1p S hK hO (p_wide l hC _ _) sw_m_wide gw_287 (by decide) (by decide) ⟨by decide, by decide⟩ hl.1 (Nat.le_of_ble_eq_true rfl) d_m_root_71 ?_
            refine lv_iload_n hx hb d_m_root_74 rfl (lv_at hl 3 rfl) ?_
            refine cS1p S hK hO (p_wide l hC _ _) sw_m_wide gw_287 (by decide) (by decide) ⟨by decide, by decide⟩ hl.1 (Nat.le_of_ble_eq_true rfl) d_m_root_75 ?_
            refine lv_iload hx hb d_m_root_78 (lv_at hl 4 rfl) ?_
            refine lv_iconst (v := nI 0) hx hb d_m_root_80 (by decide) ?_
            refine lv_iconst (v := bi true) hx hb d_m_root_81 (by decide) ?_
            refine cM7v S hK hO (t_give l hC _ hi0 _ _ _ _ _ _) vw_m_give gw_303 (by decide) (by decide) ⟨by decide, by decide⟩ hl.1 (Nat.le_of_ble_eq_true rfl) d_m_root_82 (fun H locs hO => ?_)
            try dsimp only at hO
            exact rt_v S hO (by decide) (by decide) d_m_root_85
          · exact absurd rfl h
        · exact absurd h (by decide)
    · exact absurd h (by decide)
set_option maxHeartbeats 4000000 in
set_option maxRecDepth 100000 in
/-- root: r out of range -/
theorem m_root_b1 (l : Launch) {cx : Cx} (hC : Cg cx) (σ : Sg) {r : Int32} (hr : okr r = false) {lo hi : Int32} {q : Nat} (hq : q < 256) (hle : uw lo ≤ uw hi) : CT l cx y_m_root 2 61 0 0 [.ref (ad cx 19), .int r, .int lo, .int hi, .int (nI q)] σ (.inl none) (σ.1, σ.2.1, 2, σ.2.2.2) := by
  refine Con.ofW (cc := prog_4_method_8_code) (maxL := 5) (ret := none) (by decide +kernel) gw_286 ?_
  intro p e s m args below meth c S ha hnm hno hv
  obtain ⟨rfl, hP, hK⟩ := hv
  have S : Fx p s m ([.ref (ad cx 19), .int r, .int lo, .int hi, .int (nI q)] : List Value).toArray meth c prog_4_method_8_code 5 R_M none := S
  have hO : Ok cx s σ s.heap [] := ⟨hP, va_S.rf⟩
  have hx := S.1
  have hb := S.2.1
  have hl := lv_entry ([.ref (ad cx 19), .int r, .int lo, .int hi, .int (nI q)]) (n := 5) (Nat.le_of_ble_eq_true rfl)
  rw [lg_entry_eq]
  generalize (lg_sl ([.ref (ad cx 19), .int r, .int lo, .int hi, .int (nI q)]) ++ List.replicate (5 - (lg_sl ([.ref (ad cx 19), .int r, .int lo, .int hi, .int (nI q)])).length) Slot.unset).toArray = ls at hl ⊢
  have hl : lv_has ls 5 [(0, .ref (ad cx 19)), (1, .int r), (2, .int lo), (3, .int hi), (4, .int (nI q))] := hl
  refine lv_aload_n hx hb d_m_root_0 rfl (lv_at hl 0 rfl) ?_
  refine lv_iconst (v := 0) hx hb d_m_root_1 (by decide) ?_
  refine mp_err hC S hK hO gw_254 d_m_root_2 (fun H locs hO => ?_)
  try dsimp only at hO
  refine lv_aload_n hx hb d_m_root_5 rfl (lv_at hl 0 rfl) ?_
  refine lv_iload_n hx hb d_m_root_6 rfl (lv_at hl 2 rfl) ?_
  refine cS1p S hK hO (p_wide l hC _ _) sw_m_wide gw_287 (by decide) (by decide) ⟨by decide, by decide⟩ hl.1 (Nat.le_of_ble_eq_true rfl) d_m_root_7 ?_
  refine lv_iload_n hx hb d_m_root_10 rfl (lv_at hl 3 rfl) ?_
  refine cS1p S hK hO (p_wide l hC _ _) sw_m_wide gw_287 (by decide) (by decide) ⟨by decide, by decide⟩ hl.1 (Nat.le_of_ble_eq_true rfl) d_m_root_11 ?_
  refine W.lcmp hx hb d_m_root_14 ?_
  refine lv_if_gt (tgt := 31) hx hb d_m_root_15 (by decide) (fun h => ?_) (fun h => ?_)
  · exact absurd ((lc_gt (by have := uw_lt lo; omega) (by have := uw_lt hi; omega)).mp h) (by omega)
  · refine lv_iload hx hb d_m_root_18 (lv_at hl 4 rfl) ?_
    refine lv_i2l hx hb d_m_root_20 rfl ?_
    refine lv_lconst (v := lN 0) hx hb d_m_root_21 rfl ?_
    refine lv_ldc2 (v := 255) hx hb S.2.2.2.1 (S.2.2.2.2.1 _ gw_291) d_m_root_22 ?_
    refine cS3p S hK hO (p_in l hC _ _ _ _) sw_m_in gw_292 (by decide) (by decide) ⟨by decide, by decide⟩ hl.1 (Nat.le_of_ble_eq_true rfl) d_m_root_25 ?_
    refine tp_i (z := 1) (by rw [show (255 : Int64) = lN 255 from by decide, in_q (by omega) (by decide)]; rfl) ?_
    refine lv_if_ne (tgt := 35) hx hb d_m_root_28 (by decide) (fun h => ?_) (fun h => ?_)
    · refine lv_iconst (v := 0) hx hb d_m_root_35 (by decide) ?_
      refine lv_iconst (v := 1) hx hb d_m_root_36 (by decide) ?_
      refine cM2r S hK hO (t_fails0 l hC _ _ rfl) vw_m_fails gw_295 (by decide) (by decide) ⟨by decide, by decide⟩ hl.1 (Nat.le_of_ble_eq_true rfl) d_m_root_37 (fun H locs hO => ?_)
      try dsimp only at hO
      refine lv_if_ne (tgt := 63) hx hb d_m_root_40 (by decide) (fun h => ?_) (fun h => ?_)
      · exact absurd rfl h
      · refine lv_aload_n hx hb d_m_root_43 rfl (lv_at hl 0 rfl) ?_
        refine lv_iload_n hx hb d_m_root_44 rfl (lv_at hl 1 rfl) ?_
        refine cS1p S hK hO (p_is l hC _ _) sw_m_is gw_299 (by decide) (by decide) ⟨by decide, by decide⟩ hl.1 (Nat.le_of_ble_eq_true rfl) d_m_root_45 ?_
        refine tp_i (z := 0) (by rw [hr]; rfl) ?_
        refine lv_if_ne (tgt := 55) hx hb d_m_root_48 (by decide) (fun h => ?_) (fun h => ?_)
        · exact absurd rfl h
        · refine lv_iconst (v := 1) hx hb d_m_root_51 (by decide) ?_
          refine lv_goto (tgt := 56) hx hb d_m_root_52 (by decide) ?_
          refine lv_iconst (v := 2) hx hb d_m_root_56 (by decide) ?_
          refine cM2r S hK hO (t_fails1 l hC _ (by decide) rfl) vw_m_fails gw_295 (by decide) (by decide) ⟨by decide, by decide⟩ hl.1 (Nat.le_of_ble_eq_true rfl) d_m_root_57 (fun H locs hO => ?_)
          try dsimp only at hO
          refine lv_if_eq (tgt := 64) hx hb d_m_root_60 (by decide) (fun h => ?_) (fun h => ?_)
          · exact absurd h (by decide)
          · exact rt_v S hO (by decide) (by decide) d_m_root_63
    · exact absurd h (by decide)
set_option maxHeartbeats 4000000 in
set_option maxRecDepth 100000 in
/-- root: bad arguments -/
theorem m_root_b0 (l : Launch) {cx : Cx} (hC : Cg cx) (σ : Sg) {r lo hi q : Int32} (hb0 : rtB lo hi q = false) : CT l cx y_m_root 2 61 0 0 [.ref (ad cx 19), .int r, .int lo, .int hi, .int q] σ (.inl none) (σ.1, σ.2.1, 1, σ.2.2.2) := by
  refine Con.ofW (cc := prog_4_method_8_code) (maxL := 5) (ret := none) (by decide +kernel) gw_286 ?_
  intro p e s m args below meth c S ha hnm hno hv
  obtain ⟨rfl, hP, hK⟩ := hv
  have S : Fx p s m ([.ref (ad cx 19), .int r, .int lo, .int hi, .int q] : List Value).toArray meth c prog_4_method_8_code 5 R_M none := S
  have hO : Ok cx s σ s.heap [] := ⟨hP, va_S.rf⟩
  have hx := S.1
  have hb := S.2.1
  have hl := lv_entry ([.ref (ad cx 19), .int r, .int lo, .int hi, .int q]) (n := 5) (Nat.le_of_ble_eq_true rfl)
  rw [lg_entry_eq]
  generalize (lg_sl ([.ref (ad cx 19), .int r, .int lo, .int hi, .int q]) ++ List.replicate (5 - (lg_sl ([.ref (ad cx 19), .int r, .int lo, .int hi, .int q])).length) Slot.unset).toArray = ls at hl ⊢
  have hl : lv_has ls 5 [(0, .ref (ad cx 19)), (1, .int r), (2, .int lo), (3, .int hi), (4, .int q)] := hl
  refine lv_aload_n hx hb d_m_root_0 rfl (lv_at hl 0 rfl) ?_
  refine lv_iconst (v := 0) hx hb d_m_root_1 (by decide) ?_
  refine mp_err hC S hK hO gw_254 d_m_root_2 (fun H locs hO => ?_)
  try dsimp only at hO
  refine lv_aload_n hx hb d_m_root_5 rfl (lv_at hl 0 rfl) ?_
  refine lv_iload_n hx hb d_m_root_6 rfl (lv_at hl 2 rfl) ?_
  refine cS1p S hK hO (p_wide l hC _ _) sw_m_wide gw_287 (by decide) (by decide) ⟨by decide, by decide⟩ hl.1 (Nat.le_of_ble_eq_true rfl) d_m_root_7 ?_
  refine lv_iload_n hx hb d_m_root_10 rfl (lv_at hl 3 rfl) ?_
  refine cS1p S hK hO (p_wide l hC _ _) sw_m_wide gw_287 (by decide) (by decide) ⟨by decide, by decide⟩ hl.1 (Nat.le_of_ble_eq_true rfl) d_m_root_11 ?_
  refine W.lcmp hx hb d_m_root_14 ?_
  refine lv_if_gt (tgt := 31) hx hb d_m_root_15 (by decide) (fun h => ?_) (fun h => ?_)
  · refine lv_iconst (v := 1) hx hb d_m_root_31 (by decide) ?_
    refine lv_goto (tgt := 36) hx hb d_m_root_32 (by decide) ?_
    refine lv_iconst (v := 1) hx hb d_m_root_36 (by decide) ?_
    refine cM2r S hK hO (t_fails1 l hC _ (by decide) rfl) vw_m_fails gw_295 (by decide) (by decide) ⟨by decide, by decide⟩ hl.1 (Nat.le_of_ble_eq_true rfl) d_m_root_37 (fun H locs hO => ?_)
    try dsimp only at hO
    refine lv_if_ne (tgt := 63) hx hb d_m_root_40 (by decide) (fun h => ?_) (fun h => ?_)
    · exact rt_v S hO (by decide) (by decide) d_m_root_63
    · exact absurd h (by decide)
  · have g3 : uw lo ≤ uw hi := Nat.le_of_not_lt fun z => h ((lc_gt (by have := uw_lt lo; omega) (by have := uw_lt hi; omega)).mpr z)
    refine lv_iload hx hb d_m_root_18 (lv_at hl 4 rfl) ?_
    refine lv_i2l hx hb d_m_root_20 rfl ?_
    refine lv_lconst (v := lN 0) hx hb d_m_root_21 rfl ?_
    refine lv_ldc2 (v := 255) hx hb S.2.2.2.1 (S.2.2.2.2.1 _ gw_291) d_m_root_22 ?_
    refine cS3p S hK hO (p_in l hC _ _ _ _) sw_m_in gw_292 (by decide) (by decide) ⟨by decide, by decide⟩ hl.1 (Nat.le_of_ble_eq_true rfl) d_m_root_25 ?_
    refine tp_i (z := 0) (by rw [show (255 : Int64) = lN 255 from by decide, in_z (by decide), show (decide (0 ≤ q.toInt) && decide (q.toInt ≤ ((255 : Nat) : Int))) = false from by { have z := hb0; unfold rtB at z; rw [decide_eq_true g3, Bool.and_true] at z; exact z }]; rfl) ?_
    refine lv_if_ne (tgt := 35) hx hb d_m_root_28 (by decide) (fun h => ?_) (fun h => ?_)
    · exact absurd rfl h
    · refine lv_iconst (v := 1) hx hb d_m_root_31 (by decide) ?_
      refine lv_goto (tgt := 36) hx hb d_m_root_32 (by decide) ?_
      refine lv_iconst (v := 1) hx hb d_m_root_36 (by decide) ?_
      refine cM2r S hK hO (t_fails1 l hC _ (by decide) rfl) vw_m_fails gw_295 (by decide) (by decide) ⟨by decide, by decide⟩ hl.1 (Nat.le_of_ble_eq_true rfl) d_m_root_37 (fun H locs hO => ?_)
      try dsimp only at hO
      refine lv_if_ne (tgt := 63) hx hb d_m_root_40 (by decide) (fun h => ?_) (fun h => ?_)
      · exact rt_v S hO (by decide) (by decide) d_m_root_63
      · exact absurd h (by decide)
set_option maxHeartbeats 4000000 in
set_option maxRecDepth 100000 in
/-- allows -/
theorem m_allows_ok (l : Launch) {cx : Cx} (hC : Cg cx) (σ : Sg) {i : Nat} (hi : i < 16) (by1 : Int32) {k : Nat} (hk : k < 65537) (q : Int32) (hg : gok (σ.2.1 i)) : CT l cx y_m_allows 2 61 0 0 [.ref (ad cx 19), .int (nI i), .int by1, .int (nI k), .int q] σ (.inl (some (.int (alC (σ.2.1 i) by1 k q)))) (σ.1, σ.2.1, 0, σ.2.2.2) := by
  refine Con.ofW (cc := prog_4_method_18_code) (maxL := 5) (ret := (some FieldType.int)) (by decide +kernel) gw_347 ?_
  intro p e s m args below meth c S ha hnm hno hv
  obtain ⟨rfl, hP, hK⟩ := hv
  have S : Fx p s m ([.ref (ad cx 19), .int (nI i), .int by1, .int (nI k), .int q] : List Value).toArray meth c prog_4_method_18_code 5 R_M (some FieldType.int) := S
  have hO : Ok cx s σ s.heap [] := ⟨hP, va_S.rf⟩
  have hx := S.1
  have hb := S.2.1
  have hl := lv_entry ([.ref (ad cx 19), .int (nI i), .int by1, .int (nI k), .int q]) (n := 5) (Nat.le_of_ble_eq_true rfl)
  rw [lg_entry_eq]
  generalize (lg_sl ([.ref (ad cx 19), .int (nI i), .int by1, .int (nI k), .int q]) ++ List.replicate (5 - (lg_sl ([.ref (ad cx 19), .int (nI i), .int by1, .int (nI k), .int q])).length) Slot.unset).toArray = ls at hl ⊢
  have hl : lv_has ls 5 [(0, .ref (ad cx 19)), (1, .int (nI i)), (2, .int by1), (3, .int (nI k)), (4, .int q)] := hl
  obtain ⟨k1, k2, k3, k4, k5⟩ := id hg
  have hun := uw_lt by1
  refine lv_aload_n hx hb d_m_allows_0 rfl (lv_at hl 0 rfl) ?_
  refine lv_iconst (v := 0) hx hb d_m_allows_1 (by decide) ?_
  refine mp_err hC S hK hO gw_254 d_m_allows_2 (fun H locs hO => ?_)
  try dsimp only at hO
  refine lv_aload_n hx hb d_m_allows_5 rfl (lv_at hl 0 rfl) ?_
  refine lv_iload_n hx hb d_m_allows_6 rfl (lv_at hl 3 rfl) ?_
  refine lv_i2l hx hb d_m_allows_7 rfl ?_
  refine lv_lconst (v := lN 0) hx hb d_m_allows_8 rfl ?_
  refine lv_ldc2 (v := 65536) hx hb S.2.2.2.1 (S.2.2.2.2.1 _ gw_348) d_m_allows_9 ?_
  refine cS3p S hK hO (p_in l hC _ _ _ _) sw_m_in gw_292 (by decide) (by decide) ⟨by decide, by decide⟩ hl.1 (Nat.le_of_ble_eq_true rfl) d_m_allows_12 ?_
  refine tp_i (z := 1) (by rw [show (65536 : Int64) = lN 65536 from by decide, in_q (by omega) (by decide)]; rfl) ?_
  refine lv_if_ne (tgt := 22) hx hb d_m_allows_15 (by decide) (fun h => ?_) (fun h => ?_)
  · refine lv_iconst (v := 0) hx hb d_m_allows_22 (by decide) ?_
    refine lv_iconst (v := 1) hx hb d_m_allows_23 (by decide) ?_
    refine cM2r S hK hO (t_fails0 l hC _ _ rfl) vw_m_fails gw_295 (by decide) (by decide) ⟨by decide, by decide⟩ hl.1 (Nat.le_of_ble_eq_true rfl) d_m_allows_24 (fun H locs hO => ?_)
    try dsimp only at hO
    refine lv_if_ne (tgt := 50) hx hb d_m_allows_27 (by decide) (fun h => ?_) (fun h => ?_)
    · exact absurd rfl h
    · refine lv_aload_n hx hb d_m_allows_30 rfl (lv_at hl 0 rfl) ?_
      refine lv_iload_n hx hb d_m_allows_31 rfl (lv_at hl 1 rfl) ?_
      refine cS1p S hK hO (p_is l hC _ _) sw_m_is gw_299 (by decide) (by decide) ⟨by decide, by decide⟩ hl.1 (Nat.le_of_ble_eq_true rfl) d_m_allows_32 ?_
      refine tp_i (z := 1) (by rw [okr_N hi]; rfl) ?_
      refine lv_if_ne (tgt := 42) hx hb d_m_allows_35 (by decide) (fun h => ?_) (fun h => ?_)
      · refine lv_iconst (v := 0) hx hb d_m_allows_42 (by decide) ?_
        refine lv_iconst (v := 2) hx hb d_m_allows_43 (by decide) ?_
        refine cM2r S hK hO (t_fails0 l hC _ _ rfl) vw_m_fails gw_295 (by decide) (by decide) ⟨by decide, by decide⟩ hl.1 (Nat.le_of_ble_eq_true rfl) d_m_allows_44 (fun H locs hO => ?_)
        try dsimp only at hO
        refine lv_if_eq (tgt := 52) hx hb d_m_allows_47 (by decide) (fun h => ?_) (fun h => ?_)
        · refine lv_aload_n hx hb d_m_allows_52 rfl (lv_at hl 0 rfl) ?_
          refine mg_tag S hK hO gw_260 d_m_allows_53 ?_
          refine lv_iload_n hx hb d_m_allows_56 rfl (lv_at hl 1 rfl) ?_
          refine ml_tag S hK hO hi (rfl : _ = σ.2.1 i) d_m_allows_57 ?_
          refine lv_if_ne (tgt := 65) hx hb d_m_allows_58 (by decide) (fun h => ?_) (fun h => ?_)
          · have c1 := bi_n.mp h
            refine lv_aload_n hx hb d_m_allows_65 rfl (lv_at hl 0 rfl) ?_
            refine lv_iload_n hx hb d_m_allows_66 rfl (lv_at hl 1 rfl) ?_
            refine cM1p S hK hO (p_isSealed l hC (σ.1, σ.2.1, 0, σ.2.2.2) hi (rfl : _ = σ.2.1 i) hg) vw_m_isSealed gw_315 (by decide) (by decide) ⟨by decide, by decide⟩ hl.1 (Nat.le_of_ble_eq_true rfl) d_m_allows_67 ?_
            refine lv_if_eq (tgt := 77) hx hb d_m_allows_70 (by decide) (fun h => ?_) (fun h => ?_)
            · have c2 : qy (σ.2.1 i) = 0 := Decidable.of_not_not (of_decide_eq_false (bi_0.mp h))
              refine lv_aload_n hx hb d_m_allows_77 rfl (lv_at hl 0 rfl) ?_
              refine lv_iload_n hx hb d_m_allows_78 rfl (lv_at hl 1 rfl) ?_
              refine lv_iload hx hb d_m_allows_79 (lv_at hl 4 rfl) ?_
              refine cM2p S hK hO (p_mmay l hC (σ.1, σ.2.1, 0, σ.2.2.2) hi (rfl : _ = σ.2.1 i) hg _) vw_m_may gw_331 (by decide) (by decide) ⟨by decide, by decide⟩ hl.1 (Nat.le_of_ble_eq_true rfl) d_m_allows_81 ?_
              refine lv_if_ne (tgt := 91) hx hb d_m_allows_84 (by decide) (fun h => ?_) (fun h => ?_)
              · have c3 := bi_n.mp h
                refine lv_aload_n hx hb d_m_allows_91 rfl (lv_at hl 0 rfl) ?_
                refine lv_iload_n hx hb d_m_allows_92 rfl (lv_at hl 1 rfl) ?_
                refine lv_aload_n hx hb d_m_allows_93 rfl (lv_at hl 0 rfl) ?_
                refine mg_address S hK hO gw_255 d_m_allows_94 ?_
                refine lv_iload_n hx hb d_m_allows_97 rfl (lv_at hl 1 rfl) ?_
                refine ml_address S hK hO hi (rfl : _ = σ.2.1 i) d_m_allows_98 ?_
                refine lv_iload_n hx hb d_m_allows_99 rfl (lv_at hl 2 rfl) ?_
                refine cS1p S hK hO (p_wide l hC _ _) sw_m_wide gw_287 (by decide) (by decide) ⟨by decide, by decide⟩ hl.1 (Nat.le_of_ble_eq_true rfl) d_m_allows_100 ?_
                refine lv_ladd hx hb d_m_allows_103 ?_
                refine tp_l (z := lN (qa (σ.2.1 i) + uw by1)) (lN_add _ _) ?_
                refine lv_ldc2 (v := 4294967296) hx hb S.2.2.2.1 (S.2.2.2.2.1 _ gw_290) d_m_allows_104 ?_
                refine lv_lrem hx hb d_m_allows_107 (by decide) ?_
                refine tp_l (z := lN ((qa (σ.2.1 i) + uw by1) % 4294967296)) (u5 (by omega)) ?_
                refine lv_iload_n hx hb d_m_allows_108 rfl (lv_at hl 3 rfl) ?_
                refine lv_i2l hx hb d_m_allows_109 rfl ?_
                refine tp_l (z := lN k) (nI_l (by omega)) ?_
                refine cM3p S hK hO (p_holds l hC (σ.1, σ.2.1, 0, σ.2.2.2) hi (rfl : _ = σ.2.1 i) hg (Nat.mod_lt _ (by decide)) (by omega)) vw_m_holds gw_335 (by decide) (by decide) ⟨by decide, by decide⟩ hl.1 (Nat.le_of_ble_eq_true rfl) d_m_allows_110 ?_
                refine lv_if_eq (tgt := 120) hx hb d_m_allows_113 (by decide) (fun h => ?_) (fun h => ?_)
                · refine lv_iconst (v := 4) hx hb d_m_allows_120 (by decide) ?_
                  refine tp_i (z := alC (σ.2.1 i) by1 k q) (by have z := bi_0.mp h; simp [alC, cz, c1, c2, c3, z]) ?_
                  exact rt_i S hO (by decide) (by decide) d_m_allows_121
                · refine lv_iconst (v := 0) hx hb d_m_allows_116 (by decide) ?_
                  refine lv_goto (tgt := 121) hx hb d_m_allows_117 (by decide) ?_
                  refine tp_i (z := alC (σ.2.1 i) by1 k q) (by have z := bi_n.mp h; simp [alC, cz, c1, c2, c3, z]) ?_
                  exact rt_i S hO (by decide) (by decide) d_m_allows_121
              · refine lv_iconst (v := 3) hx hb d_m_allows_87 (by decide) ?_
                refine lv_goto (tgt := 121) hx hb d_m_allows_88 (by decide) ?_
                refine tp_i (z := alC (σ.2.1 i) by1 k q) (by have z := bi_0.mp h; simp [alC, cz, c1, c2, z]) ?_
                exact rt_i S hO (by decide) (by decide) d_m_allows_121
            · refine lv_iconst (v := 2) hx hb d_m_allows_73 (by decide) ?_
              refine lv_goto (tgt := 121) hx hb d_m_allows_74 (by decide) ?_
              refine tp_i (z := alC (σ.2.1 i) by1 k q) (by have z : qy (σ.2.1 i) ≠ 0 := of_decide_eq_true (bi_n.mp h); simp [alC, cz, c1, z]) ?_
              exact rt_i S hO (by decide) (by decide) d_m_allows_121
          · refine lv_iconst (v := 1) hx hb d_m_allows_61 (by decide) ?_
            refine lv_goto (tgt := 121) hx hb d_m_allows_62 (by decide) ?_
            refine tp_i (z := alC (σ.2.1 i) by1 k q) (by have z := bi_0.mp h; simp [alC, cz, z]) ?_
            exact rt_i S hO (by decide) (by decide) d_m_allows_121
        · exact absurd rfl h
      · exact absurd h (by decide)
  · exact absurd h (by decide)
set_option maxHeartbeats 4000000 in
set_option maxRecDepth 100000 in
/-- allows: r out of range -/
theorem m_allows_b1 (l : Launch) {cx : Cx} (hC : Cg cx) (σ : Sg) {r : Int32} (hr : okr r = false) (by1 : Int32) {k : Nat} (hk : k < 65537) (q : Int32) : CT l cx y_m_allows 2 61 0 0 [.ref (ad cx 19), .int r, .int by1, .int (nI k), .int q] σ (.inl (some (.int 0))) (σ.1, σ.2.1, 2, σ.2.2.2) := by
  refine Con.ofW (cc := prog_4_method_18_code) (maxL := 5) (ret := (some FieldType.int)) (by decide +kernel) gw_347 ?_
  intro p e s m args below meth c S ha hnm hno hv
  obtain ⟨rfl, hP, hK⟩ := hv
  have S : Fx p s m ([.ref (ad cx 19), .int r, .int by1, .int (nI k), .int q] : List Value).toArray meth c prog_4_method_18_code 5 R_M (some FieldType.int) := S
  have hO : Ok cx s σ s.heap [] := ⟨hP, va_S.rf⟩
  have hx := S.1
  have hb := S.2.1
  have hl := lv_entry ([.ref (ad cx 19), .int r, .int by1, .int (nI k), .int q]) (n := 5) (Nat.le_of_ble_eq_true rfl)
  rw [lg_entry_eq]
  generalize (lg_sl ([.ref (ad cx 19), .int r, .int by1, .int (nI k), .int q]) ++ List.replicate (5 - (lg_sl ([.ref (ad cx 19), .int r, .int by1, .int (nI k), .int q])).length) Slot.unset).toArray = ls at hl ⊢
  have hl : lv_has ls 5 [(0, .ref (ad cx 19)), (1, .int r), (2, .int by1), (3, .int (nI k)), (4, .int q)] := hl
  refine lv_aload_n hx hb d_m_allows_0 rfl (lv_at hl 0 rfl) ?_
  refine lv_iconst (v := 0) hx hb d_m_allows_1 (by decide) ?_
  refine mp_err hC S hK hO gw_254 d_m_allows_2 (fun H locs hO => ?_)
  try dsimp only at hO
  refine lv_aload_n hx hb d_m_allows_5 rfl (lv_at hl 0 rfl) ?_
  refine lv_iload_n hx hb d_m_allows_6 rfl (lv_at hl 3 rfl) ?_
  refine lv_i2l hx hb d_m_allows_7 rfl ?_
  refine lv_lconst (v := lN 0) hx hb d_m_allows_8 rfl ?_
  refine lv_ldc2 (v := 65536) hx hb S.2.2.2.1 (S.2.2.2.2.1 _ gw_348) d_m_allows_9 ?_
  refine cS3p S hK hO (p_in l hC _ _ _ _) sw_m_in gw_292 (by decide) (by decide) ⟨by decide, by decide⟩ hl.1 (Nat.le_of_ble_eq_true rfl) d_m_allows_12 ?_
  refine tp_i (z := 1) (by rw [show (65536 : Int64) = lN 65536 from by decide, in_q (by omega) (by decide)]; rfl) ?_
  refine lv_if_ne (tgt := 22) hx hb d_m_allows_15 (by decide) (fun h => ?_) (fun h => ?_)
  · refine lv_iconst (v := 0) hx hb d_m_allows_22 (by decide) ?_
    refine lv_iconst (v := 1) hx hb d_m_allows_23 (by decide) ?_
    refine cM2r S hK hO (t_fails0 l hC _ _ rfl) vw_m_fails gw_295 (by decide) (by decide) ⟨by decide, by decide⟩ hl.1 (Nat.le_of_ble_eq_true rfl) d_m_allows_24 (fun H locs hO => ?_)
    try dsimp only at hO
    refine lv_if_ne (tgt := 50) hx hb d_m_allows_27 (by decide) (fun h => ?_) (fun h => ?_)
    · exact absurd rfl h
    · refine lv_aload_n hx hb d_m_allows_30 rfl (lv_at hl 0 rfl) ?_
      refine lv_iload_n hx hb d_m_allows_31 rfl (lv_at hl 1 rfl) ?_
      refine cS1p S hK hO (p_is l hC _ _) sw_m_is gw_299 (by decide) (by decide) ⟨by decide, by decide⟩ hl.1 (Nat.le_of_ble_eq_true rfl) d_m_allows_32 ?_
      refine tp_i (z := 0) (by rw [hr]; rfl) ?_
      refine lv_if_ne (tgt := 42) hx hb d_m_allows_35 (by decide) (fun h => ?_) (fun h => ?_)
      · exact absurd rfl h
      · refine lv_iconst (v := 1) hx hb d_m_allows_38 (by decide) ?_
        refine lv_goto (tgt := 43) hx hb d_m_allows_39 (by decide) ?_
        refine lv_iconst (v := 2) hx hb d_m_allows_43 (by decide) ?_
        refine cM2r S hK hO (t_fails1 l hC _ (by decide) rfl) vw_m_fails gw_295 (by decide) (by decide) ⟨by decide, by decide⟩ hl.1 (Nat.le_of_ble_eq_true rfl) d_m_allows_44 (fun H locs hO => ?_)
        try dsimp only at hO
        refine lv_if_eq (tgt := 52) hx hb d_m_allows_47 (by decide) (fun h => ?_) (fun h => ?_)
        · exact absurd h (by decide)
        · refine lv_iconst (v := 0) hx hb d_m_allows_50 (by decide) ?_
          exact rt_i S hO (by decide) (by decide) d_m_allows_51
  · exact absurd h (by decide)
set_option maxHeartbeats 4000000 in
set_option maxRecDepth 100000 in
/-- allows: n out of range -/
theorem m_allows_b0 (l : Launch) {cx : Cx} (hC : Cg cx) (σ : Sg) (r by1 : Int32) {n : Int32} (hb0 : alB n = false) (q : Int32) : CT l cx y_m_allows 2 61 0 0 [.ref (ad cx 19), .int r, .int by1, .int n, .int q] σ (.inl (some (.int 0))) (σ.1, σ.2.1, 1, σ.2.2.2) := by
  refine Con.ofW (cc := prog_4_method_18_code) (maxL := 5) (ret := (some FieldType.int)) (by decide +kernel) gw_347 ?_
  intro p e s m args below meth c S ha hnm hno hv
  obtain ⟨rfl, hP, hK⟩ := hv
  have S : Fx p s m ([.ref (ad cx 19), .int r, .int by1, .int n, .int q] : List Value).toArray meth c prog_4_method_18_code 5 R_M (some FieldType.int) := S
  have hO : Ok cx s σ s.heap [] := ⟨hP, va_S.rf⟩
  have hx := S.1
  have hb := S.2.1
  have hl := lv_entry ([.ref (ad cx 19), .int r, .int by1, .int n, .int q]) (n := 5) (Nat.le_of_ble_eq_true rfl)
  rw [lg_entry_eq]
  generalize (lg_sl ([.ref (ad cx 19), .int r, .int by1, .int n, .int q]) ++ List.replicate (5 - (lg_sl ([.ref (ad cx 19), .int r, .int by1, .int n, .int q])).length) Slot.unset).toArray = ls at hl ⊢
  have hl : lv_has ls 5 [(0, .ref (ad cx 19)), (1, .int r), (2, .int by1), (3, .int n), (4, .int q)] := hl
  refine lv_aload_n hx hb d_m_allows_0 rfl (lv_at hl 0 rfl) ?_
  refine lv_iconst (v := 0) hx hb d_m_allows_1 (by decide) ?_
  refine mp_err hC S hK hO gw_254 d_m_allows_2 (fun H locs hO => ?_)
  try dsimp only at hO
  refine lv_aload_n hx hb d_m_allows_5 rfl (lv_at hl 0 rfl) ?_
  refine lv_iload_n hx hb d_m_allows_6 rfl (lv_at hl 3 rfl) ?_
  refine lv_i2l hx hb d_m_allows_7 rfl ?_
  refine lv_lconst (v := lN 0) hx hb d_m_allows_8 rfl ?_
  refine lv_ldc2 (v := 65536) hx hb S.2.2.2.1 (S.2.2.2.2.1 _ gw_348) d_m_allows_9 ?_
  refine cS3p S hK hO (p_in l hC _ _ _ _) sw_m_in gw_292 (by decide) (by decide) ⟨by decide, by decide⟩ hl.1 (Nat.le_of_ble_eq_true rfl) d_m_allows_12 ?_
  refine tp_i (z := 0) (by rw [show (65536 : Int64) = lN 65536 from by decide, in_z (by decide), show (decide (0 ≤ n.toInt) && decide (n.toInt ≤ ((65536 : Nat) : Int))) = false from hb0]; rfl) ?_
  refine lv_if_ne (tgt := 22) hx hb d_m_allows_15 (by decide) (fun h => ?_) (fun h => ?_)
  · exact absurd rfl h
  · refine lv_iconst (v := 1) hx hb d_m_allows_18 (by decide) ?_
    refine lv_goto (tgt := 23) hx hb d_m_allows_19 (by decide) ?_
    refine lv_iconst (v := 1) hx hb d_m_allows_23 (by decide) ?_
    refine cM2r S hK hO (t_fails1 l hC _ (by decide) rfl) vw_m_fails gw_295 (by decide) (by decide) ⟨by decide, by decide⟩ hl.1 (Nat.le_of_ble_eq_true rfl) d_m_allows_24 (fun H locs hO => ?_)
    try dsimp only at hO
    refine lv_if_ne (tgt := 50) hx hb d_m_allows_27 (by decide) (fun h => ?_) (fun h => ?_)
    · refine lv_iconst (v := 0) hx hb d_m_allows_50 (by decide) ?_
      exact rt_i S hO (by decide) (by decide) d_m_allows_51
    · exact absurd h (by decide)
set_option maxHeartbeats 4000000 in
set_option maxRecDepth 100000 in
/-- part -/
theorem m_part_ok (l : Launch) {cx : Cx} (hC : Cg cx) (σ : Sg) {i : Nat} (hi : i < 16) {k : Nat} (hk : k < 6) : CT l cx y_m_part 2 61 0 0 [.ref (ad cx 19), .int (nI i), .int (nI k)] σ (.inl (some (.int (ptV (σ.2.1 i) k)))) (σ.1, σ.2.1, 0, σ.2.2.2) := by
  refine Con.ofW (cc := prog_4_method_20_code) (maxL := 3) (ret := (some FieldType.int)) (by decide +kernel) gw_356 ?_
  intro p e s m args below meth c S ha hnm hno hv
  obtain ⟨rfl, hP, hK⟩ := hv
  have S : Fx p s m ([.ref (ad cx 19), .int (nI i), .int (nI k)] : List Value).toArray meth c prog_4_method_20_code 3 R_M (some FieldType.int) := S
  have hO : Ok cx s σ s.heap [] := ⟨hP, va_S.rf⟩
  have hx := S.1
  have hb := S.2.1
  have hl := lv_entry ([.ref (ad cx 19), .int (nI i), .int (nI k)]) (n := 3) (Nat.le_of_ble_eq_true rfl)
  rw [lg_entry_eq]
  generalize (lg_sl ([.ref (ad cx 19), .int (nI i), .int (nI k)]) ++ List.replicate (3 - (lg_sl ([.ref (ad cx 19), .int (nI i), .int (nI k)])).length) Slot.unset).toArray = ls at hl ⊢
  have hl : lv_has ls 3 [(0, .ref (ad cx 19)), (1, .int (nI i)), (2, .int (nI k))] := hl
  refine lv_aload_n hx hb d_m_part_0 rfl (lv_at hl 0 rfl) ?_
  refine lv_iconst (v := 0) hx hb d_m_part_1 (by decide) ?_
  refine mp_err hC S hK hO gw_254 d_m_part_2 (fun H locs hO => ?_)
  try dsimp only at hO
  refine lv_aload_n hx hb d_m_part_5 rfl (lv_at hl 0 rfl) ?_
  refine lv_iload_n hx hb d_m_part_6 rfl (lv_at hl 2 rfl) ?_
  refine lv_i2l hx hb d_m_part_7 rfl ?_
  refine lv_lconst (v := lN 0) hx hb d_m_part_8 rfl ?_
  refine lv_ldc2 (v := 5) hx hb S.2.2.2.1 (S.2.2.2.2.1 _ gw_357) d_m_part_9 ?_
  refine cS3p S hK hO (p_in l hC _ _ _ _) sw_m_in gw_292 (by decide) (by decide) ⟨by decide, by decide⟩ hl.1 (Nat.le_of_ble_eq_true rfl) d_m_part_12 ?_
  refine tp_i (z := 1) (by rw [show (5 : Int64) = lN 5 from by decide, in_q (by omega) (by decide)]; rfl) ?_
  refine lv_if_ne (tgt := 22) hx hb d_m_part_15 (by decide) (fun h => ?_) (fun h => ?_)
  · refine lv_iconst (v := 0) hx hb d_m_part_22 (by decide) ?_
    refine lv_iconst (v := 1) hx hb d_m_part_23 (by decide) ?_
    refine cM2r S hK hO (t_fails0 l hC _ _ rfl) vw_m_fails gw_295 (by decide) (by decide) ⟨by decide, by decide⟩ hl.1 (Nat.le_of_ble_eq_true rfl) d_m_part_24 (fun H locs hO => ?_)
    try dsimp only at hO
    refine lv_if_ne (tgt := 50) hx hb d_m_part_27 (by decide) (fun h => ?_) (fun h => ?_)
    · exact absurd rfl h
    · refine lv_aload_n hx hb d_m_part_30 rfl (lv_at hl 0 rfl) ?_
      refine lv_iload_n hx hb d_m_part_31 rfl (lv_at hl 1 rfl) ?_
      refine cS1p S hK hO (p_is l hC _ _) sw_m_is gw_299 (by decide) (by decide) ⟨by decide, by decide⟩ hl.1 (Nat.le_of_ble_eq_true rfl) d_m_part_32 ?_
      refine tp_i (z := 1) (by rw [okr_N hi]; rfl) ?_
      refine lv_if_ne (tgt := 42) hx hb d_m_part_35 (by decide) (fun h => ?_) (fun h => ?_)
      · refine lv_iconst (v := 0) hx hb d_m_part_42 (by decide) ?_
        refine lv_iconst (v := 2) hx hb d_m_part_43 (by decide) ?_
        refine cM2r S hK hO (t_fails0 l hC _ _ rfl) vw_m_fails gw_295 (by decide) (by decide) ⟨by decide, by decide⟩ hl.1 (Nat.le_of_ble_eq_true rfl) d_m_part_44 (fun H locs hO => ?_)
        try dsimp only at hO
        refine lv_if_eq (tgt := 52) hx hb d_m_part_47 (by decide) (fun h => ?_) (fun h => ?_)
        · rcases (show k = 0 ∨ k = 1 ∨ k = 2 ∨ k = 3 ∨ k = 4 ∨ k = 5 by omega) with rfl | rfl | rfl | rfl | rfl | rfl
          · refine lv_iload_n hx hb d_m_part_52 rfl (lv_at hl 2 rfl) ?_
            refine lv_if_ne (tgt := 66) hx hb d_m_part_53 (by decide) (fun h => ?_) (fun h => ?_)
            · exact absurd (by decide) h
            · refine lv_aload_n hx hb d_m_part_56 rfl (lv_at hl 0 rfl) ?_
              refine mg_address S hK hO gw_255 d_m_part_57 ?_
              refine lv_iload_n hx hb d_m_part_60 rfl (lv_at hl 1 rfl) ?_
              refine ml_address S hK hO hi (rfl : _ = σ.2.1 i) d_m_part_61 ?_
              refine lv_l2i hx hb d_m_part_62 rfl ?_
              refine tp_i (z := nI (qa (σ.2.1 i))) (lN_i _) ?_
              refine lv_goto (tgt := 138) hx hb d_m_part_63 (by decide) ?_
              exact rt_i S hO (by decide) (by decide) d_m_part_138
          · refine lv_iload_n hx hb d_m_part_52 rfl (lv_at hl 2 rfl) ?_
            refine lv_if_ne (tgt := 66) hx hb d_m_part_53 (by decide) (fun h => ?_) (fun h => ?_)
            · refine lv_iload_n hx hb d_m_part_66 rfl (lv_at hl 2 rfl) ?_
              refine lv_iconst (v := 1) hx hb d_m_part_67 (by decide) ?_
              refine lv_icmp_ne (tgt := 81) hx hb d_m_part_68 (by decide) (fun h => ?_) (fun h => ?_)
              · exact absurd (by decide) h
              · refine lv_aload_n hx hb d_m_part_71 rfl (lv_at hl 0 rfl) ?_
                refine mg_base S hK hO gw_256 d_m_part_72 ?_
                refine lv_iload_n hx hb d_m_part_75 rfl (lv_at hl 1 rfl) ?_
                refine ml_base S hK hO hi (rfl : _ = σ.2.1 i) d_m_part_76 ?_
                refine lv_l2i hx hb d_m_part_77 rfl ?_
                refine tp_i (z := nI (qb (σ.2.1 i))) (lN_i _) ?_
                refine lv_goto (tgt := 138) hx hb d_m_part_78 (by decide) ?_
                exact rt_i S hO (by decide) (by decide) d_m_part_138
            · exact absurd h (by decide)
          · refine lv_iload_n hx hb d_m_part_52 rfl (lv_at hl 2 rfl) ?_
            refine lv_if_ne (tgt := 66) hx hb d_m_part_53 (by decide) (fun h => ?_) (fun h => ?_)
            · refine lv_iload_n hx hb d_m_part_66 rfl (lv_at hl 2 rfl) ?_
              refine lv_iconst (v := 1) hx hb d_m_part_67 (by decide) ?_
              refine lv_icmp_ne (tgt := 81) hx hb d_m_part_68 (by decide) (fun h => ?_) (fun h => ?_)
              · refine lv_iload_n hx hb d_m_part_81 rfl (lv_at hl 2 rfl) ?_
                refine lv_iconst (v := 2) hx hb d_m_part_82 (by decide) ?_
                refine lv_icmp_ne (tgt := 96) hx hb d_m_part_83 (by decide) (fun h => ?_) (fun h => ?_)
                · exact absurd (by decide) h
                · refine lv_aload_n hx hb d_m_part_86 rfl (lv_at hl 0 rfl) ?_
                  refine mg_top S hK hO gw_257 d_m_part_87 ?_
                  refine lv_iload_n hx hb d_m_part_90 rfl (lv_at hl 1 rfl) ?_
                  refine ml_top S hK hO hi (rfl : _ = σ.2.1 i) d_m_part_91 ?_
                  refine lv_l2i hx hb d_m_part_92 rfl ?_
                  refine tp_i (z := nI (qt (σ.2.1 i))) (lN_i _) ?_
                  refine lv_goto (tgt := 138) hx hb d_m_part_93 (by decide) ?_
                  exact rt_i S hO (by decide) (by decide) d_m_part_138
              · exact absurd h (by decide)
            · exact absurd h (by decide)
          · refine lv_iload_n hx hb d_m_part_52 rfl (lv_at hl 2 rfl) ?_
            refine lv_if_ne (tgt := 66) hx hb d_m_part_53 (by decide) (fun h => ?_) (fun h => ?_)
            · refine lv_iload_n hx hb d_m_part_66 rfl (lv_at hl 2 rfl) ?_
              refine lv_iconst (v := 1) hx hb d_m_part_67 (by decide) ?_
              refine lv_icmp_ne (tgt := 81) hx hb d_m_part_68 (by decide) (fun h => ?_) (fun h => ?_)
              · refine lv_iload_n hx hb d_m_part_81 rfl (lv_at hl 2 rfl) ?_
                refine lv_iconst (v := 2) hx hb d_m_part_82 (by decide) ?_
                refine lv_icmp_ne (tgt := 96) hx hb d_m_part_83 (by decide) (fun h => ?_) (fun h => ?_)
                · refine lv_iload_n hx hb d_m_part_96 rfl (lv_at hl 2 rfl) ?_
                  refine lv_iconst (v := 3) hx hb d_m_part_97 (by decide) ?_
                  refine lv_icmp_ne (tgt := 110) hx hb d_m_part_98 (by decide) (fun h => ?_) (fun h => ?_)
                  · exact absurd (by decide) h
                  · refine lv_aload_n hx hb d_m_part_101 rfl (lv_at hl 0 rfl) ?_
                    refine mg_permissions S hK hO gw_258 d_m_part_102 ?_
                    refine lv_iload_n hx hb d_m_part_105 rfl (lv_at hl 1 rfl) ?_
                    refine ml_permissions S hK hO hi (rfl : _ = σ.2.1 i) d_m_part_106 ?_
                    refine lv_goto (tgt := 138) hx hb d_m_part_107 (by decide) ?_
                    exact rt_i S hO (by decide) (by decide) d_m_part_138
                · exact absurd h (by decide)
              · exact absurd h (by decide)
            · exact absurd h (by decide)
          · refine lv_iload_n hx hb d_m_part_52 rfl (lv_at hl 2 rfl) ?_
            refine lv_if_ne (tgt := 66) hx hb d_m_part_53 (by decide) (fun h => ?_) (fun h => ?_)
            · refine lv_iload_n hx hb d_m_part_66 rfl (lv_at hl 2 rfl) ?_
              refine lv_iconst (v := 1) hx hb d_m_part_67 (by decide) ?_
              refine lv_icmp_ne (tgt := 81) hx hb d_m_part_68 (by decide) (fun h => ?_) (fun h => ?_)
              · refine lv_iload_n hx hb d_m_part_81 rfl (lv_at hl 2 rfl) ?_
                refine lv_iconst (v := 2) hx hb d_m_part_82 (by decide) ?_
                refine lv_icmp_ne (tgt := 96) hx hb d_m_part_83 (by decide) (fun h => ?_) (fun h => ?_)
                · refine lv_iload_n hx hb d_m_part_96 rfl (lv_at hl 2 rfl) ?_
                  refine lv_iconst (v := 3) hx hb d_m_part_97 (by decide) ?_
                  refine lv_icmp_ne (tgt := 110) hx hb d_m_part_98 (by decide) (fun h => ?_) (fun h => ?_)
                  · refine lv_iload_n hx hb d_m_part_110 rfl (lv_at hl 2 rfl) ?_
                    refine lv_iconst (v := 4) hx hb d_m_part_111 (by decide) ?_
                    refine lv_icmp_ne (tgt := 124) hx hb d_m_part_112 (by decide) (fun h => ?_) (fun h => ?_)
                    · exact absurd (by decide) h
                    · refine lv_aload_n hx hb d_m_part_115 rfl (lv_at hl 0 rfl) ?_
                      refine mg_type S hK hO gw_259 d_m_part_116 ?_
                      refine lv_iload_n hx hb d_m_part_119 rfl (lv_at hl 1 rfl) ?_
                      refine ml_type S hK hO hi (rfl : _ = σ.2.1 i) d_m_part_120 ?_
                      refine lv_goto (tgt := 138) hx hb d_m_part_121 (by decide) ?_
                      exact rt_i S hO (by decide) (by decide) d_m_part_138
                  · exact absurd h (by decide)
                · exact absurd h (by decide)
              · exact absurd h (by decide)
            · exact absurd h (by decide)
          · refine lv_iload_n hx hb d_m_part_52 rfl (lv_at hl 2 rfl) ?_
            refine lv_if_ne (tgt := 66) hx hb d_m_part_53 (by decide) (fun h => ?_) (fun h => ?_)
            · refine lv_iload_n hx hb d_m_part_66 rfl (lv_at hl 2 rfl) ?_
              refine lv_iconst (v := 1) hx hb d_m_part_67 (by decide) ?_
              refine lv_icmp_ne (tgt := 81) hx hb d_m_part_68 (by decide) (fun h => ?_) (fun h => ?_)
              · refine lv_iload_n hx hb d_m_part_81 rfl (lv_at hl 2 rfl) ?_
                refine lv_iconst (v := 2) hx hb d_m_part_82 (by decide) ?_
                refine lv_icmp_ne (tgt := 96) hx hb d_m_part_83 (by decide) (fun h => ?_) (fun h => ?_)
                · refine lv_iload_n hx hb d_m_part_96 rfl (lv_at hl 2 rfl) ?_
                  refine lv_iconst (v := 3) hx hb d_m_part_97 (by decide) ?_
                  refine lv_icmp_ne (tgt := 110) hx hb d_m_part_98 (by decide) (fun h => ?_) (fun h => ?_)
                  · refine lv_iload_n hx hb d_m_part_110 rfl (lv_at hl 2 rfl) ?_
                    refine lv_iconst (v := 4) hx hb d_m_part_111 (by decide) ?_
                    refine lv_icmp_ne (tgt := 124) hx hb d_m_part_112 (by decide) (fun h => ?_) (fun h => ?_)
                    · refine lv_aload_n hx hb d_m_part_124 rfl (lv_at hl 0 rfl) ?_
                      refine mg_tag S hK hO gw_260 d_m_part_125 ?_
                      refine lv_iload_n hx hb d_m_part_128 rfl (lv_at hl 1 rfl) ?_
                      refine ml_tag S hK hO hi (rfl : _ = σ.2.1 i) d_m_part_129 ?_
                      refine lv_if_eq (tgt := 137) hx hb d_m_part_130 (by decide) (fun h => ?_) (fun h => ?_)
                      · have c1 := bi_0.mp h
                        refine lv_iconst (v := 0) hx hb d_m_part_137 (by decide) ?_
                        refine tp_i (z := ptV (σ.2.1 i) 5) (by simp [ptV, c1, bi]) ?_
                        exact rt_i S hO (by decide) (by decide) d_m_part_138
                      · have c1 := bi_n.mp h
                        refine lv_iconst (v := 1) hx hb d_m_part_133 (by decide) ?_
                        refine lv_goto (tgt := 138) hx hb d_m_part_134 (by decide) ?_
                        refine tp_i (z := ptV (σ.2.1 i) 5) (by simp [ptV, c1, bi]) ?_
                        exact rt_i S hO (by decide) (by decide) d_m_part_138
                    · exact absurd h (by decide)
                  · exact absurd h (by decide)
                · exact absurd h (by decide)
              · exact absurd h (by decide)
            · exact absurd h (by decide)
        · exact absurd rfl h
      · exact absurd h (by decide)
  · exact absurd h (by decide)
set_option maxHeartbeats 4000000 in
set_option maxRecDepth 100000 in
/-- part: r out of range -/
theorem m_part_b1 (l : Launch) {cx : Cx} (hC : Cg cx) (σ : Sg) {r : Int32} (hr : okr r = false) {k : Nat} (hk : k < 6) : CT l cx y_m_part 2 61 0 0 [.ref (ad cx 19), .int r, .int (nI k)] σ (.inl (some (.int 0))) (σ.1, σ.2.1, 2, σ.2.2.2) := by
  refine Con.ofW (cc := prog_4_method_20_code) (maxL := 3) (ret := (some FieldType.int)) (by decide +kernel) gw_356 ?_
  intro p e s m args below meth c S ha hnm hno hv
  obtain ⟨rfl, hP, hK⟩ := hv
  have S : Fx p s m ([.ref (ad cx 19), .int r, .int (nI k)] : List Value).toArray meth c prog_4_method_20_code 3 R_M (some FieldType.int) := S
  have hO : Ok cx s σ s.heap [] := ⟨hP, va_S.rf⟩
  have hx := S.1
  have hb := S.2.1
  have hl := lv_entry ([.ref (ad cx 19), .int r, .int (nI k)]) (n := 3) (Nat.le_of_ble_eq_true rfl)
  rw [lg_entry_eq]
  generalize (lg_sl ([.ref (ad cx 19), .int r, .int (nI k)]) ++ List.replicate (3 - (lg_sl ([.ref (ad cx 19), .int r, .int (nI k)])).length) Slot.unset).toArray = ls at hl ⊢
  have hl : lv_has ls 3 [(0, .ref (ad cx 19)), (1, .int r), (2, .int (nI k))] := hl
  refine lv_aload_n hx hb d_m_part_0 rfl (lv_at hl 0 rfl) ?_
  refine lv_iconst (v := 0) hx hb d_m_part_1 (by decide) ?_
  refine mp_err hC S hK hO gw_254 d_m_part_2 (fun H locs hO => ?_)
  try dsimp only at hO
  refine lv_aload_n hx hb d_m_part_5 rfl (lv_at hl 0 rfl) ?_
  refine lv_iload_n hx hb d_m_part_6 rfl (lv_at hl 2 rfl) ?_
  refine lv_i2l hx hb d_m_part_7 rfl ?_
  refine lv_lconst (v := lN 0) hx hb d_m_part_8 rfl ?_
  refine lv_ldc2 (v := 5) hx hb S.2.2.2.1 (S.2.2.2.2.1 _ gw_357) d_m_part_9 ?_
  refine cS3p S hK hO (p_in l hC _ _ _ _) sw_m_in gw_292 (by decide) (by decide) ⟨by decide, by decide⟩ hl.1 (Nat.le_of_ble_eq_true rfl) d_m_part_12 ?_
  refine tp_i (z := 1) (by rw [show (5 : Int64) = lN 5 from by decide, in_q (by omega) (by decide)]; rfl) ?_
  refine lv_if_ne (tgt := 22) hx hb d_m_part_15 (by decide) (fun h => ?_) (fun h => ?_)
  · refine lv_iconst (v := 0) hx hb d_m_part_22 (by decide) ?_
    refine lv_iconst (v := 1) hx hb d_m_part_23 (by decide) ?_
    refine cM2r S hK hO (t_fails0 l hC _ _ rfl) vw_m_fails gw_295 (by decide) (by decide) ⟨by decide, by decide⟩ hl.1 (Nat.le_of_ble_eq_true rfl) d_m_part_24 (fun H locs hO => ?_)
    try dsimp only at hO
    refine lv_if_ne (tgt := 50) hx hb d_m_part_27 (by decide) (fun h => ?_) (fun h => ?_)
    · exact absurd rfl h
    · refine lv_aload_n hx hb d_m_part_30 rfl (lv_at hl 0 rfl) ?_
      refine lv_iload_n hx hb d_m_part_31 rfl (lv_at hl 1 rfl) ?_
      refine cS1p S hK hO (p_is l hC _ _) sw_m_is gw_299 (by decide) (by decide) ⟨by decide, by decide⟩ hl.1 (Nat.le_of_ble_eq_true rfl) d_m_part_32 ?_
      refine tp_i (z := 0) (by rw [hr]; rfl) ?_
      refine lv_if_ne (tgt := 42) hx hb d_m_part_35 (by decide) (fun h => ?_) (fun h => ?_)
      · exact absurd rfl h
      · refine lv_iconst (v := 1) hx hb d_m_part_38 (by decide) ?_
        refine lv_goto (tgt := 43) hx hb d_m_part_39 (by decide) ?_
        refine lv_iconst (v := 2) hx hb d_m_part_43 (by decide) ?_
        refine cM2r S hK hO (t_fails1 l hC _ (by decide) rfl) vw_m_fails gw_295 (by decide) (by decide) ⟨by decide, by decide⟩ hl.1 (Nat.le_of_ble_eq_true rfl) d_m_part_44 (fun H locs hO => ?_)
        try dsimp only at hO
        refine lv_if_eq (tgt := 52) hx hb d_m_part_47 (by decide) (fun h => ?_) (fun h => ?_)
        · exact absurd h (by decide)
        · refine lv_iconst (v := 0) hx hb d_m_part_50 (by decide) ?_
          exact rt_i S hO (by decide) (by decide) d_m_part_51
  · exact absurd h (by decide)
set_option maxHeartbeats 4000000 in
set_option maxRecDepth 100000 in
/-- part: no such part -/
theorem m_part_b0 (l : Launch) {cx : Cx} (hC : Cg cx) (σ : Sg) (r : Int32) {n : Int32} (hb0 : ptB n = false) : CT l cx y_m_part 2 61 0 0 [.ref (ad cx 19), .int r, .int n] σ (.inl (some (.int 0))) (σ.1, σ.2.1, 1, σ.2.2.2) := by
  refine Con.ofW (cc := prog_4_method_20_code) (maxL := 3) (ret := (some FieldType.int)) (by decide +kernel) gw_356 ?_
  intro p e s m args below meth c S ha hnm hno hv
  obtain ⟨rfl, hP, hK⟩ := hv
  have S : Fx p s m ([.ref (ad cx 19), .int r, .int n] : List Value).toArray meth c prog_4_method_20_code 3 R_M (some FieldType.int) := S
  have hO : Ok cx s σ s.heap [] := ⟨hP, va_S.rf⟩
  have hx := S.1
  have hb := S.2.1
  have hl := lv_entry ([.ref (ad cx 19), .int r, .int n]) (n := 3) (Nat.le_of_ble_eq_true rfl)
  rw [lg_entry_eq]
  generalize (lg_sl ([.ref (ad cx 19), .int r, .int n]) ++ List.replicate (3 - (lg_sl ([.ref (ad cx 19), .int r, .int n])).length) Slot.unset).toArray = ls at hl ⊢
  have hl : lv_has ls 3 [(0, .ref (ad cx 19)), (1, .int r), (2, .int n)] := hl
  refine lv_aload_n hx hb d_m_part_0 rfl (lv_at hl 0 rfl) ?_
  refine lv_iconst (v := 0) hx hb d_m_part_1 (by decide) ?_
  refine mp_err hC S hK hO gw_254 d_m_part_2 (fun H locs hO => ?_)
  try dsimp only at hO
  refine lv_aload_n hx hb d_m_part_5 rfl (lv_at hl 0 rfl) ?_
  refine lv_iload_n hx hb d_m_part_6 rfl (lv_at hl 2 rfl) ?_
  refine lv_i2l hx hb d_m_part_7 rfl ?_
  refine lv_lconst (v := lN 0) hx hb d_m_part_8 rfl ?_
  refine lv_ldc2 (v := 5) hx hb S.2.2.2.1 (S.2.2.2.2.1 _ gw_357) d_m_part_9 ?_
  refine cS3p S hK hO (p_in l hC _ _ _ _) sw_m_in gw_292 (by decide) (by decide) ⟨by decide, by decide⟩ hl.1 (Nat.le_of_ble_eq_true rfl) d_m_part_12 ?_
  refine tp_i (z := 0) (by rw [show (5 : Int64) = lN 5 from by decide, in_z (by decide), show (decide (0 ≤ n.toInt) && decide (n.toInt ≤ ((5 : Nat) : Int))) = false from hb0]; rfl) ?_
  refine lv_if_ne (tgt := 22) hx hb d_m_part_15 (by decide) (fun h => ?_) (fun h => ?_)
  · exact absurd rfl h
  · refine lv_iconst (v := 1) hx hb d_m_part_18 (by decide) ?_
    refine lv_goto (tgt := 23) hx hb d_m_part_19 (by decide) ?_
    refine lv_iconst (v := 1) hx hb d_m_part_23 (by decide) ?_
    refine cM2r S hK hO (t_fails1 l hC _ (by decide) rfl) vw_m_fails gw_295 (by decide) (by decide) ⟨by decide, by decide⟩ hl.1 (Nat.le_of_ble_eq_true rfl) d_m_part_24 (fun H locs hO => ?_)
    try dsimp only at hO
    refine lv_if_ne (tgt := 50) hx hb d_m_part_27 (by decide) (fun h => ?_) (fun h => ?_)
    · refine lv_iconst (v := 0) hx hb d_m_part_50 (by decide) ?_
      exact rt_i S hO (by decide) (by decide) d_m_part_51
    · exact absurd h (by decide)
set_option maxHeartbeats 4000000 in
set_option maxRecDepth 100000 in
/-- count -/
theorem m_count_ok (l : Launch) {cx : Cx} (hC : Cg cx) (σ : Sg) (a q : Int32) (hg : ∀ k, k < 16 → gok (σ.2.1 k)) : CT l cx y_m_count 2 61 0 0 [.ref (ad cx 19), .int a, .int q] σ (.inl (some (.int (nI (cnt σ.2.1 a q 16))))) (σ.1, σ.2.1, 0, σ.2.2.2) := by
  refine Con.ofW (cc := prog_4_method_21_code) (maxL := 5) (ret := (some FieldType.int)) (by decide +kernel) gw_361 ?_
  intro p e s m args below meth c S ha hnm hno hv
  obtain ⟨rfl, hP, hK⟩ := hv
  have S : Fx p s m ([.ref (ad cx 19), .int a, .int q] : List Value).toArray meth c prog_4_method_21_code 5 R_M (some FieldType.int) := S
  have hO : Ok cx s σ s.heap [] := ⟨hP, va_S.rf⟩
  have hx := S.1
  have hb := S.2.1
  have hl := lv_entry ([.ref (ad cx 19), .int a, .int q]) (n := 5) (Nat.le_of_ble_eq_true rfl)
  rw [lg_entry_eq]
  generalize (lg_sl ([.ref (ad cx 19), .int a, .int q]) ++ List.replicate (5 - (lg_sl ([.ref (ad cx 19), .int a, .int q])).length) Slot.unset).toArray = ls at hl ⊢
  have hl : lv_has ls 5 [(0, .ref (ad cx 19)), (1, .int a), (2, .int q)] := hl
  refine lv_aload_n hx hb d_m_count_0 rfl (lv_at hl 0 rfl) ?_
  refine lv_iconst (v := 0) hx hb d_m_count_1 (by decide) ?_
  refine mp_err hC S hK hO gw_254 d_m_count_2 (fun H locs hO => ?_)
  try dsimp only at hO
  refine lv_iconst (v := nI 0) hx hb d_m_count_5 (by decide) ?_
  refine lv_istore_n hx hb d_m_count_6 rfl hl (by decide) rfl (fun ls hl => ?_)
  have hl : lv_has ls 5 [(3, _), (0, _), (1, _), (2, _)] := hl
  refine lv_iconst (v := nI 0) hx hb d_m_count_7 (by decide) ?_
  refine lv_istore hx hb d_m_count_8 hl (by decide) rfl (fun ls hl => ?_)
  have hl : lv_has ls 5 [(4, _), (3, _), (0, _), (1, _), (2, _)] := hl
  refine lp_up (fun k ls => lv_has ls 5 [(4, .int (nI k)), (3, .int (nI (cnt σ.2.1 a q k))), (0, .ref (ad cx 19)), (1, .int a), (2, .int q)]) 16 0 (hl) (by decide) (fun k ls hk hl ih => ?_) (fun ls hl => ?_)
  · have hgk := hg k (by omega)
    refine lv_iload hx hb d_m_count_10 (lv_at hl 0 rfl) ?_
    refine lv_bipush (v := 16) hx hb d_m_count_12 (by decide) ?_
    refine lv_icmp_ge (tgt := 69) hx hb d_m_count_14 (by decide) (fun h => ?_) (fun h => ?_)
    · exact absurd h (nI_ge (b := 16) hk (by decide))
    · refine lv_aload_n hx hb d_m_count_17 rfl (lv_at hl 2 rfl) ?_
      refine mg_tag S hK hO gw_260 d_m_count_18 ?_
      refine lv_iload hx hb d_m_count_21 (lv_at hl 0 rfl) ?_
      refine ml_tag S hK hO hk (rfl : _ = σ.2.1 k) d_m_count_23 ?_
      refine lv_if_eq (tgt := 63) hx hb d_m_count_24 (by decide) (fun h => ?_) (fun h => ?_)
      · have hc : cnt σ.2.1 a q (k + 1) = cnt σ.2.1 a q k := by { have z : cnB (σ.2.1 k) a q = false := by { have z := bi_0.mp h; simp [cnB, z] }; show cnt σ.2.1 a q k + (if cnB (σ.2.1 k) a q then 1 else 0) = _; rw [z]; rfl }
        refine lv_iinc (k := 0) hx hb d_m_count_63 hl rfl rfl (by decide) rfl (fun ls hl => ?_)
        have hl : lv_has ls 5 [(4, _), (3, _), (0, _), (1, _), (2, _)] := hl
        refine lv_goto (tgt := 10) hx hb d_m_count_66 (by decide) ?_
        exact ih ls (by rw [hc]; simp only [nI_succ]; exact hl)
      · have c1 := bi_n.mp h
        refine lv_aload_n hx hb d_m_count_27 rfl (lv_at hl 2 rfl) ?_
        refine lv_iload hx hb d_m_count_28 (lv_at hl 0 rfl) ?_
        refine cM1p S hK hO (p_isSealed l hC (σ.1, σ.2.1, 0, σ.2.2.2) hk (rfl : _ = σ.2.1 k) hgk) vw_m_isSealed gw_315 (by decide) (by decide) ⟨by decide, by decide⟩ hl.1 (Nat.le_of_ble_eq_true rfl) d_m_count_30 ?_
        refine lv_if_ne (tgt := 63) hx hb d_m_count_33 (by decide) (fun h => ?_) (fun h => ?_)
        · have hc : cnt σ.2.1 a q (k + 1) = cnt σ.2.1 a q k := by { have z : cnB (σ.2.1 k) a q = false := by { have z : qy (σ.2.1 k) ≠ 0 := of_decide_eq_true (bi_n.mp h); simp [cnB, z] }; show cnt σ.2.1 a q k + (if cnB (σ.2.1 k) a q then 1 else 0) = _; rw [z]; rfl }
          refine lv_iinc (k := 0) hx hb d_m_count_63 hl rfl rfl (by decide) rfl (fun ls hl => ?_)
          have hl : lv_has ls 5 [(4, _), (3, _), (0, _), (1, _), (2, _)] := hl
          refine lv_goto (tgt := 10) hx hb d_m_count_66 (by decide) ?_
          exact ih ls (by rw [hc]; simp only [nI_succ]; exact hl)
        · have c2 : qy (σ.2.1 k) = 0 := Decidable.of_not_not (of_decide_eq_false (bi_0.mp h))
          refine lv_aload_n hx hb d_m_count_36 rfl (lv_at hl 2 rfl) ?_
          refine lv_iload hx hb d_m_count_37 (lv_at hl 0 rfl) ?_
          refine lv_iload_n hx hb d_m_count_39 rfl (lv_at hl 4 rfl) ?_
          refine cM2p S hK hO (p_mmay l hC (σ.1, σ.2.1, 0, σ.2.2.2) hk (rfl : _ = σ.2.1 k) hgk _) vw_m_may gw_331 (by decide) (by decide) ⟨by decide, by decide⟩ hl.1 (Nat.le_of_ble_eq_true rfl) d_m_count_40 ?_
          refine lv_if_eq (tgt := 63) hx hb d_m_count_43 (by decide) (fun h => ?_) (fun h => ?_)
          · have hc : cnt σ.2.1 a q (k + 1) = cnt σ.2.1 a q k := by { have z : cnB (σ.2.1 k) a q = false := by { have z := bi_0.mp h; simp [cnB, z] }; show cnt σ.2.1 a q k + (if cnB (σ.2.1 k) a q then 1 else 0) = _; rw [z]; rfl }
            refine lv_iinc (k := 0) hx hb d_m_count_63 hl rfl rfl (by decide) rfl (fun ls hl => ?_)
            have hl : lv_has ls 5 [(4, _), (3, _), (0, _), (1, _), (2, _)] := hl
            refine lv_goto (tgt := 10) hx hb d_m_count_66 (by decide) ?_
            exact ih ls (by rw [hc]; simp only [nI_succ]; exact hl)
          · have c3 := bi_n.mp h
            refine lv_aload_n hx hb d_m_count_46 rfl (lv_at hl 2 rfl) ?_
            refine lv_iload hx hb d_m_count_47 (lv_at hl 0 rfl) ?_
            refine lv_iload_n hx hb d_m_count_49 rfl (lv_at hl 3 rfl) ?_
            refine cS1p S hK hO (p_wide l hC _ _) sw_m_wide gw_287 (by decide) (by decide) ⟨by decide, by decide⟩ hl.1 (Nat.le_of_ble_eq_true rfl) d_m_count_50 ?_
            refine lv_lconst (v := lN 1) hx hb d_m_count_53 rfl ?_
            refine cM3p S hK hO (p_holds l hC (σ.1, σ.2.1, 0, σ.2.2.2) hk (rfl : _ = σ.2.1 k) hgk (uw_lt a) (by decide)) vw_m_holds gw_335 (by decide) (by decide) ⟨by decide, by decide⟩ hl.1 (Nat.le_of_ble_eq_true rfl) d_m_count_54 ?_
            refine lv_if_eq (tgt := 63) hx hb d_m_count_57 (by decide) (fun h => ?_) (fun h => ?_)
            · have hc : cnt σ.2.1 a q (k + 1) = cnt σ.2.1 a q k := by { have z : cnB (σ.2.1 k) a q = false := by { have z := bi_0.mp h; simp [cnB, z] }; show cnt σ.2.1 a q k + (if cnB (σ.2.1 k) a q then 1 else 0) = _; rw [z]; rfl }
              refine lv_iinc (k := 0) hx hb d_m_count_63 hl rfl rfl (by decide) rfl (fun ls hl => ?_)
              have hl : lv_has ls 5 [(4, _), (3, _), (0, _), (1, _), (2, _)] := hl
              refine lv_goto (tgt := 10) hx hb d_m_count_66 (by decide) ?_
              exact ih ls (by rw [hc]; simp only [nI_succ]; exact hl)
            · have c4 := bi_n.mp h
              have hc : cnt σ.2.1 a q (k + 1) = cnt σ.2.1 a q k + 1 := by { have z : cnB (σ.2.1 k) a q = true := by { simp [cnB, c1, c2, c3, c4] }; show cnt σ.2.1 a q k + (if cnB (σ.2.1 k) a q then 1 else 0) = _; rw [z]; rfl }
              refine lv_iinc (k := 1) hx hb d_m_count_60 hl rfl rfl (by decide) rfl (fun ls hl => ?_)
              have hl : lv_has ls 5 [(3, _), (4, _), (0, _), (1, _), (2, _)] := hl
              refine lv_iinc (k := 1) hx hb d_m_count_63 hl rfl rfl (by decide) rfl (fun ls hl => ?_)
              have hl : lv_has ls 5 [(4, _), (3, _), (0, _), (1, _), (2, _)] := hl
              refine lv_goto (tgt := 10) hx hb d_m_count_66 (by decide) ?_
              exact ih ls (by rw [hc]; simp only [nI_succ]; exact hl)
  · refine lv_iload hx hb d_m_count_10 (lv_at hl 0 rfl) ?_
    refine lv_bipush (v := 16) hx hb d_m_count_12 (by decide) ?_
    refine lv_icmp_ge (tgt := 69) hx hb d_m_count_14 (by decide) (fun h => ?_) (fun h => ?_)
    · refine lv_iload_n hx hb d_m_count_69 rfl (lv_at hl 1 rfl) ?_
      exact rt_i S hO (by decide) (by decide) d_m_count_70
    · exact absurd (show (16 : Int32) ≤ nI 16 by decide) h
end
section
/-! Contracts of the law's ten helpers: 0 when the method returns (its answer in out[0]), 1 or 2 when its exception is caught (printed by gen/m_l.py) -/
section GmL
def bl (b : Bool) : Int64 := lN (if b then 1 else 0)
theorem as_self {args : Array Value} {s : State} {N : String} {k : ClassId} (hts : ∀ w ∈ gw, w.before args s = true) (hw : Cond.castable N N ∈ gw) (hc : s.vm.findClass N = some k) : s.vm.assignable k k = true := by
  obtain ⟨c3, c4, h3, h4, h⟩ := Cond.castable_spec (hts _ hw)
  cases hc.symm.trans h3
  cases hc.symm.trans h4
  exact h
theorem as_not {args : Array Value} {s : State} {A B : String} {a : ClassId} (h : (Cond.not (Cond.castable A B)).before args s = true) (hA : s.vm.findClass A = some a) : ∃ b, s.vm.findClass B = some b ∧ s.vm.assignable a b = false := by
  simp only [Cond.before, Cond.holds, Cond.value, hA] at h
  cases hb : s.vm.findClass B with
  | none => simp [hb] at h
  | some b =>
    simp only [hb] at h
    refine ⟨b, rfl, ?_⟩
    cases hz : s.vm.assignable a b with
    | false => rfl
    | true => simp [hz] at h
end GmL
set_option maxHeartbeats 4000000 in
set_option maxRecDepth 100000 in
/-- root -/
theorem l_root_ok (l : Launch) {cx : Cx} (hC : Cg cx) (σ : Sg) {i : Nat} (hi0 : i < 16) {lo hi : Int32} {q : Nat} (hq : q < 256) (hle : uw lo ≤ uw hi) : CT l cx y_l_root 8 154 1 6 [.ref (ad cx 17), .int (nI i), .int lo, .int hi, .int (nI q)] σ (.inl (some (.int 0))) (up σ.1 i (uw lo, uw lo, uw hi, q, 0, true), σ.2) := by
  refine Con.ofWith (cc := method_3_code) (maxL := 6) (ret := (some FieldType.int)) (tab := [(0, 9, 12, 13), (0, 9, 16, 15)]) (by decide +kernel) gw_86 ?_
  intro p e s m args below meth c S ha htab hv
  obtain ⟨rfl, hP, hK⟩ := hv
  have S : Fx p s m ([.ref (ad cx 17), .int (nI i), .int lo, .int hi, .int (nI q)] : List Value).toArray meth c method_3_code 6 "GrantMathLaw" (some FieldType.int) := S
  have hO : Ok cx s σ s.heap [] := ⟨hP, va_S.rf⟩
  have hx := S.1
  have hb := S.2.1
  have hl := lv_entry ([.ref (ad cx 17), .int (nI i), .int lo, .int hi, .int (nI q)]) (n := 6) (Nat.le_of_ble_eq_true rfl)
  rw [lg_entry_eq]
  generalize (lg_sl ([.ref (ad cx 17), .int (nI i), .int lo, .int hi, .int (nI q)]) ++ List.replicate (6 - (lg_sl ([.ref (ad cx 17), .int (nI i), .int lo, .int hi, .int (nI q)])).length) Slot.unset).toArray = ls at hl ⊢
  have hl : lv_has ls 6 [(0, .ref (ad cx 17)), (1, .int (nI i)), (2, .int lo), (3, .int hi), (4, .int (nI q))] := hl
  refine lv_aload_n hx hb d_l_root_0 rfl (lv_at hl 0 rfl) ?_
  refine lv_iload_n hx hb d_l_root_1 rfl (lv_at hl 1 rfl) ?_
  refine lv_iload_n hx hb d_l_root_2 rfl (lv_at hl 2 rfl) ?_
  refine lv_iload_n hx hb d_l_root_3 rfl (lv_at hl 3 rfl) ?_
  refine lv_iload hx hb d_l_root_4 (lv_at hl 4 rfl) ?_
  refine cX4v S hK hO (x_root_ok l hC _ hi0 hq hle) vw_x_root gw_89 (by decide) (by decide) ⟨by decide, by decide⟩ hl.1 (Nat.le_of_ble_eq_true rfl) d_l_root_6 (fun H locs hO => ?_)
  try dsimp only at hO
  refine lv_goto (tgt := 20) hx hb d_l_root_9 (by decide) ?_
  refine lv_iconst (v := 0) hx hb d_l_root_20 (by decide) ?_
  exact rt_i S hO (by decide) (by decide) d_l_root_21
set_option maxHeartbeats 4000000 in
set_option maxRecDepth 100000 in
/-- root: caught -/
theorem l_root_b0 (l : Launch) {cx : Cx} (hC : Cg cx) (σ : Sg) (hfl : l.flags = flags0) {r lo hi q : Int32} (hb0 : rtB lo hi q = false) : CT l cx y_l_root 8 154 1 6 [.ref (ad cx 17), .int r, .int lo, .int hi, .int q] σ (.inl (some (.int 1))) σ := by
  refine Con.ofWith (cc := method_3_code) (maxL := 6) (ret := (some FieldType.int)) (tab := [(0, 9, 12, 13), (0, 9, 16, 15)]) (by decide +kernel) gw_86 ?_
  intro p e s m args below meth c S ha htab hv
  obtain ⟨rfl, hP, hK⟩ := hv
  have S : Fx p s m ([.ref (ad cx 17), .int r, .int lo, .int hi, .int q] : List Value).toArray meth c method_3_code 6 "GrantMathLaw" (some FieldType.int) := S
  have hO : Ok cx s σ s.heap [] := ⟨hP, va_S.rf⟩
  have hx := S.1
  have hb := S.2.1
  have hl := lv_entry ([.ref (ad cx 17), .int r, .int lo, .int hi, .int q]) (n := 6) (Nat.le_of_ble_eq_true rfl)
  rw [lg_entry_eq]
  generalize (lg_sl ([.ref (ad cx 17), .int r, .int lo, .int hi, .int q]) ++ List.replicate (6 - (lg_sl ([.ref (ad cx 17), .int r, .int lo, .int hi, .int q])).length) Slot.unset).toArray = ls at hl ⊢
  have hl : lv_has ls 6 [(0, .ref (ad cx 17)), (1, .int r), (2, .int lo), (3, .int hi), (4, .int q)] := hl
  refine lv_aload_n hx hb d_l_root_0 rfl (lv_at hl 0 rfl) ?_
  refine lv_iload_n hx hb d_l_root_1 rfl (lv_at hl 1 rfl) ?_
  refine lv_iload_n hx hb d_l_root_2 rfl (lv_at hl 2 rfl) ?_
  refine lv_iload_n hx hb d_l_root_3 rfl (lv_at hl 3 rfl) ?_
  refine lv_iload hx hb d_l_root_4 (lv_at hl 4 rfl) ?_
  refine cX4k S hK hO (x_root_b0 l hC _ hfl hb0) vw_x_root gw_89 (by decide) (by decide) ⟨by decide, by decide⟩ hl.1 (Nat.le_of_ble_eq_true rfl) d_l_root_6 (fun x cell H locs hO hxc hvm hcl => ?_)
  try dsimp only at hO
  refine WT.catch1 S htab (by decide) (by decide) gw_87 hxc hvm hcl (as_self S.2.2.2.2.1 gw_98 hcl) ?_
  refine lv_astore hx hb d_l_root_12 hl (by decide) rfl (fun ls hl => ?_)
  have hl : lv_has ls 6 [(5, _), (0, _), (1, _), (2, _), (3, _), (4, _)] := hl
  refine lv_iconst (v := 1) hx hb d_l_root_14 (by decide) ?_
  exact rt_i S hO (by decide) (by decide) d_l_root_15
set_option maxHeartbeats 4000000 in
set_option maxRecDepth 100000 in
/-- root: caught -/
theorem l_root_b1 (l : Launch) {cx : Cx} (hC : Cg cx) (σ : Sg) (hfl : l.flags = flags0) {r : Int32} (hr : okr r = false) {lo hi : Int32} {q : Nat} (hq : q < 256) (hle : uw lo ≤ uw hi) : CT l cx y_l_root 8 154 1 6 [.ref (ad cx 17), .int r, .int lo, .int hi, .int (nI q)] σ (.inl (some (.int 2))) σ := by
  refine Con.ofWith (cc := method_3_code) (maxL := 6) (ret := (some FieldType.int)) (tab := [(0, 9, 12, 13), (0, 9, 16, 15)]) (by decide +kernel) gw_86 ?_
  intro p e s m args below meth c S ha htab hv
  obtain ⟨rfl, hP, hK⟩ := hv
  have S : Fx p s m ([.ref (ad cx 17), .int r, .int lo, .int hi, .int (nI q)] : List Value).toArray meth c method_3_code 6 "GrantMathLaw" (some FieldType.int) := S
  have hO : Ok cx s σ s.heap [] := ⟨hP, va_S.rf⟩
  have hx := S.1
  have hb := S.2.1
  have hl := lv_entry ([.ref (ad cx 17), .int r, .int lo, .int hi, .int (nI q)]) (n := 6) (Nat.le_of_ble_eq_true rfl)
  rw [lg_entry_eq]
  generalize (lg_sl ([.ref (ad cx 17), .int r, .int lo, .int hi, .int (nI q)]) ++ List.replicate (6 - (lg_sl ([.ref (ad cx 17), .int r, .int lo, .int hi, .int (nI q)])).length) Slot.unset).toArray = ls at hl ⊢
  have hl : lv_has ls 6 [(0, .ref (ad cx 17)), (1, .int r), (2, .int lo), (3, .int hi), (4, .int (nI q))] := hl
  refine lv_aload_n hx hb d_l_root_0 rfl (lv_at hl 0 rfl) ?_
  refine lv_iload_n hx hb d_l_root_1 rfl (lv_at hl 1 rfl) ?_
  refine lv_iload_n hx hb d_l_root_2 rfl (lv_at hl 2 rfl) ?_
  refine lv_iload_n hx hb d_l_root_3 rfl (lv_at hl 3 rfl) ?_
  refine lv_iload hx hb d_l_root_4 (lv_at hl 4 rfl) ?_
  refine cX4k S hK hO (x_root_b1 l hC _ hfl hr hq hle) vw_x_root gw_89 (by decide) (by decide) ⟨by decide, by decide⟩ hl.1 (Nat.le_of_ble_eq_true rfl) d_l_root_6 (fun x cell H locs hO hxc hvm hcl => ?_)
  try dsimp only at hO
  obtain ⟨k1, hk1, hno1⟩ := as_not (S.2.2.2.2.1 _ gw_0) hcl
  refine WT.catch2 S htab (by decide) (by decide) (by decide) (by decide) gw_87 gw_88 hxc hvm hk1 hno1 hcl (as_self S.2.2.2.2.1 gw_162 hcl) ?_
  refine lv_astore hx hb d_l_root_16 hl (by decide) rfl (fun ls hl => ?_)
  have hl : lv_has ls 6 [(5, _), (0, _), (1, _), (2, _), (3, _), (4, _)] := hl
  refine lv_iconst (v := 2) hx hb d_l_root_18 (by decide) ?_
  exact rt_i S hO (by decide) (by decide) d_l_root_19
set_option maxHeartbeats 4000000 in
set_option maxRecDepth 100000 in
/-- number -/
theorem l_number_ok (l : Launch) {cx : Cx} (hC : Cg cx) (σ : Sg) {i : Nat} (hi : i < 16) (v : Int32) : CT l cx y_l_number 8 154 1 6 [.ref (ad cx 17), .int (nI i), .int v] σ (.inl (some (.int 0))) (up σ.1 i (uw v, 0, 0, 0, 0, false), σ.2) := by
  refine Con.ofWith (cc := method_4_code) (maxL := 4) (ret := (some FieldType.int)) (tab := [(0, 6, 9, 15)]) (by decide +kernel) gw_181 ?_
  intro p e s m args below meth c S ha htab hv
  obtain ⟨rfl, hP, hK⟩ := hv
  have S : Fx p s m ([.ref (ad cx 17), .int (nI i), .int v] : List Value).toArray meth c method_4_code 4 "GrantMathLaw" (some FieldType.int) := S
  have hO : Ok cx s σ s.heap [] := ⟨hP, va_S.rf⟩
  have hx := S.1
  have hb := S.2.1
  have hl := lv_entry ([.ref (ad cx 17), .int (nI i), .int v]) (n := 4) (Nat.le_of_ble_eq_true rfl)
  rw [lg_entry_eq]
  generalize (lg_sl ([.ref (ad cx 17), .int (nI i), .int v]) ++ List.replicate (4 - (lg_sl ([.ref (ad cx 17), .int (nI i), .int v])).length) Slot.unset).toArray = ls at hl ⊢
  have hl : lv_has ls 4 [(0, .ref (ad cx 17)), (1, .int (nI i)), (2, .int v)] := hl
  refine lv_aload_n hx hb d_l_number_0 rfl (lv_at hl 0 rfl) ?_
  refine lv_iload_n hx hb d_l_number_1 rfl (lv_at hl 1 rfl) ?_
  refine lv_iload_n hx hb d_l_number_2 rfl (lv_at hl 2 rfl) ?_
  refine cX2v S hK hO (x_number_ok l hC _ hi v) vw_x_number gw_182 (by decide) (by decide) ⟨by decide, by decide⟩ hl.1 (Nat.le_of_ble_eq_true rfl) d_l_number_3 (fun H locs hO => ?_)
  try dsimp only at hO
  refine lv_goto (tgt := 12) hx hb d_l_number_6 (by decide) ?_
  refine lv_iconst (v := 0) hx hb d_l_number_12 (by decide) ?_
  exact rt_i S hO (by decide) (by decide) d_l_number_13
set_option maxHeartbeats 4000000 in
set_option maxRecDepth 100000 in
/-- number: caught -/
theorem l_number_b1 (l : Launch) {cx : Cx} (hC : Cg cx) (σ : Sg) (hfl : l.flags = flags0) {r v : Int32} (hr : okr r = false) : CT l cx y_l_number 8 154 1 6 [.ref (ad cx 17), .int r, .int v] σ (.inl (some (.int 1))) σ := by
  refine Con.ofWith (cc := method_4_code) (maxL := 4) (ret := (some FieldType.int)) (tab := [(0, 6, 9, 15)]) (by decide +kernel) gw_181 ?_
  intro p e s m args below meth c S ha htab hv
  obtain ⟨rfl, hP, hK⟩ := hv
  have S : Fx p s m ([.ref (ad cx 17), .int r, .int v] : List Value).toArray meth c method_4_code 4 "GrantMathLaw" (some FieldType.int) := S
  have hO : Ok cx s σ s.heap [] := ⟨hP, va_S.rf⟩
  have hx := S.1
  have hb := S.2.1
  have hl := lv_entry ([.ref (ad cx 17), .int r, .int v]) (n := 4) (Nat.le_of_ble_eq_true rfl)
  rw [lg_entry_eq]
  generalize (lg_sl ([.ref (ad cx 17), .int r, .int v]) ++ List.replicate (4 - (lg_sl ([.ref (ad cx 17), .int r, .int v])).length) Slot.unset).toArray = ls at hl ⊢
  have hl : lv_has ls 4 [(0, .ref (ad cx 17)), (1, .int r), (2, .int v)] := hl
  refine lv_aload_n hx hb d_l_number_0 rfl (lv_at hl 0 rfl) ?_
  refine lv_iload_n hx hb d_l_number_1 rfl (lv_at hl 1 rfl) ?_
  refine lv_iload_n hx hb d_l_number_2 rfl (lv_at hl 2 rfl) ?_
  refine cX2k S hK hO (x_number_b1 l hC _ hfl hr) vw_x_number gw_182 (by decide) (by decide) ⟨by decide, by decide⟩ hl.1 (Nat.le_of_ble_eq_true rfl) d_l_number_3 (fun x cell H locs hO hxc hvm hcl => ?_)
  try dsimp only at hO
  refine WT.catch1 S htab (by decide) (by decide) gw_88 hxc hvm hcl (as_self S.2.2.2.2.1 gw_162 hcl) ?_
  refine lv_astore_n hx hb d_l_number_9 rfl hl (by decide) rfl (fun ls hl => ?_)
  have hl : lv_has ls 4 [(3, _), (0, _), (1, _), (2, _)] := hl
  refine lv_iconst (v := 1) hx hb d_l_number_10 (by decide) ?_
  exact rt_i S hO (by decide) (by decide) d_l_number_11
set_option maxHeartbeats 4000000 in
set_option maxRecDepth 100000 in
/-- move -/
theorem l_move_ok (l : Launch) {cx : Cx} (hC : Cg cx) (σ : Sg) {i j : Nat} (hi : i < 16) (hj : j < 16) (n : Int32) (hg : gok (σ.1 j)) : CT l cx y_l_move 8 154 1 6 [.ref (ad cx 17), .int (nI i), .int (nI j), .int n] σ (.inl (some (.int 0))) (up (up σ.1 16 (mv (σ.1 j) n)) i (mv (σ.1 j) n), σ.2) := by
  refine Con.ofWith (cc := method_5_code) (maxL := 5) (ret := (some FieldType.int)) (tab := [(0, 7, 10, 15)]) (by decide +kernel) gw_188 ?_
  intro p e s m args below meth c S ha htab hv
  obtain ⟨rfl, hP, hK⟩ := hv
  have S : Fx p s m ([.ref (ad cx 17), .int (nI i), .int (nI j), .int n] : List Value).toArray meth c method_5_code 5 "GrantMathLaw" (some FieldType.int) := S
  have hO : Ok cx s σ s.heap [] := ⟨hP, va_S.rf⟩
  have hx := S.1
  have hb := S.2.1
  have hl := lv_entry ([.ref (ad cx 17), .int (nI i), .int (nI j), .int n]) (n := 5) (Nat.le_of_ble_eq_true rfl)
  rw [lg_entry_eq]
  generalize (lg_sl ([.ref (ad cx 17), .int (nI i), .int (nI j), .int n]) ++ List.replicate (5 - (lg_sl ([.ref (ad cx 17), .int (nI i), .int (nI j), .int n])).length) Slot.unset).toArray = ls at hl ⊢
  have hl : lv_has ls 5 [(0, .ref (ad cx 17)), (1, .int (nI i)), (2, .int (nI j)), (3, .int n)] := hl
  refine lv_aload_n hx hb d_l_move_0 rfl (lv_at hl 0 rfl) ?_
  refine lv_iload_n hx hb d_l_move_1 rfl (lv_at hl 1 rfl) ?_
  refine lv_iload_n hx hb d_l_move_2 rfl (lv_at hl 2 rfl) ?_
  refine lv_iload_n hx hb d_l_move_3 rfl (lv_at hl 3 rfl) ?_
  refine cX3v S hK hO (x_move_ok l hC _ hi hj n hg) vw_x_move gw_189 (by decide) (by decide) ⟨by decide, by decide⟩ hl.1 (Nat.le_of_ble_eq_true rfl) d_l_move_4 (fun H locs hO => ?_)
  try dsimp only at hO
  refine lv_goto (tgt := 14) hx hb d_l_move_7 (by decide) ?_
  refine lv_iconst (v := 0) hx hb d_l_move_14 (by decide) ?_
  exact rt_i S hO (by decide) (by decide) d_l_move_15
set_option maxHeartbeats 4000000 in
set_option maxRecDepth 100000 in
/-- move: caught -/
theorem l_move_b1 (l : Launch) {cx : Cx} (hC : Cg cx) (σ : Sg) (hfl : l.flags = flags0) {r u n : Int32} (hr : okr r = false) : CT l cx y_l_move 8 154 1 6 [.ref (ad cx 17), .int r, .int u, .int n] σ (.inl (some (.int 1))) σ := by
  refine Con.ofWith (cc := method_5_code) (maxL := 5) (ret := (some FieldType.int)) (tab := [(0, 7, 10, 15)]) (by decide +kernel) gw_188 ?_
  intro p e s m args below meth c S ha htab hv
  obtain ⟨rfl, hP, hK⟩ := hv
  have S : Fx p s m ([.ref (ad cx 17), .int r, .int u, .int n] : List Value).toArray meth c method_5_code 5 "GrantMathLaw" (some FieldType.int) := S
  have hO : Ok cx s σ s.heap [] := ⟨hP, va_S.rf⟩
  have hx := S.1
  have hb := S.2.1
  have hl := lv_entry ([.ref (ad cx 17), .int r, .int u, .int n]) (n := 5) (Nat.le_of_ble_eq_true rfl)
  rw [lg_entry_eq]
  generalize (lg_sl ([.ref (ad cx 17), .int r, .int u, .int n]) ++ List.replicate (5 - (lg_sl ([.ref (ad cx 17), .int r, .int u, .int n])).length) Slot.unset).toArray = ls at hl ⊢
  have hl : lv_has ls 5 [(0, .ref (ad cx 17)), (1, .int r), (2, .int u), (3, .int n)] := hl
  refine lv_aload_n hx hb d_l_move_0 rfl (lv_at hl 0 rfl) ?_
  refine lv_iload_n hx hb d_l_move_1 rfl (lv_at hl 1 rfl) ?_
  refine lv_iload_n hx hb d_l_move_2 rfl (lv_at hl 2 rfl) ?_
  refine lv_iload_n hx hb d_l_move_3 rfl (lv_at hl 3 rfl) ?_
  refine cX3k S hK hO (x_move_b1 l hC _ hfl hr) vw_x_move gw_189 (by decide) (by decide) ⟨by decide, by decide⟩ hl.1 (Nat.le_of_ble_eq_true rfl) d_l_move_4 (fun x cell H locs hO hxc hvm hcl => ?_)
  try dsimp only at hO
  refine WT.catch1 S htab (by decide) (by decide) gw_88 hxc hvm hcl (as_self S.2.2.2.2.1 gw_162 hcl) ?_
  refine lv_astore hx hb d_l_move_10 hl (by decide) rfl (fun ls hl => ?_)
  have hl : lv_has ls 5 [(4, _), (0, _), (1, _), (2, _), (3, _)] := hl
  refine lv_iconst (v := 1) hx hb d_l_move_12 (by decide) ?_
  exact rt_i S hO (by decide) (by decide) d_l_move_13
set_option maxHeartbeats 4000000 in
set_option maxRecDepth 100000 in
/-- move: caught -/
theorem l_move_b2 (l : Launch) {cx : Cx} (hC : Cg cx) (σ : Sg) (hfl : l.flags = flags0) {i1 : Nat} (h1 : i1 < 16) {u n : Int32} (hr : okr u = false) : CT l cx y_l_move 8 154 1 6 [.ref (ad cx 17), .int (nI i1), .int u, .int n] σ (.inl (some (.int 1))) σ := by
  refine Con.ofWith (cc := method_5_code) (maxL := 5) (ret := (some FieldType.int)) (tab := [(0, 7, 10, 15)]) (by decide +kernel) gw_188 ?_
  intro p e s m args below meth c S ha htab hv
  obtain ⟨rfl, hP, hK⟩ := hv
  have S : Fx p s m ([.ref (ad cx 17), .int (nI i1), .int u, .int n] : List Value).toArray meth c method_5_code 5 "GrantMathLaw" (some FieldType.int) := S
  have hO : Ok cx s σ s.heap [] := ⟨hP, va_S.rf⟩
  have hx := S.1
  have hb := S.2.1
  have hl := lv_entry ([.ref (ad cx 17), .int (nI i1), .int u, .int n]) (n := 5) (Nat.le_of_ble_eq_true rfl)
  rw [lg_entry_eq]
  generalize (lg_sl ([.ref (ad cx 17), .int (nI i1), .int u, .int n]) ++ List.replicate (5 - (lg_sl ([.ref (ad cx 17), .int (nI i1), .int u, .int n])).length) Slot.unset).toArray = ls at hl ⊢
  have hl : lv_has ls 5 [(0, .ref (ad cx 17)), (1, .int (nI i1)), (2, .int u), (3, .int n)] := hl
  refine lv_aload_n hx hb d_l_move_0 rfl (lv_at hl 0 rfl) ?_
  refine lv_iload_n hx hb d_l_move_1 rfl (lv_at hl 1 rfl) ?_
  refine lv_iload_n hx hb d_l_move_2 rfl (lv_at hl 2 rfl) ?_
  refine lv_iload_n hx hb d_l_move_3 rfl (lv_at hl 3 rfl) ?_
  refine cX3k S hK hO (x_move_b2 l hC _ hfl h1 hr) vw_x_move gw_189 (by decide) (by decide) ⟨by decide, by decide⟩ hl.1 (Nat.le_of_ble_eq_true rfl) d_l_move_4 (fun x cell H locs hO hxc hvm hcl => ?_)
  try dsimp only at hO
  refine WT.catch1 S htab (by decide) (by decide) gw_88 hxc hvm hcl (as_self S.2.2.2.2.1 gw_162 hcl) ?_
  refine lv_astore hx hb d_l_move_10 hl (by decide) rfl (fun ls hl => ?_)
  have hl : lv_has ls 5 [(4, _), (0, _), (1, _), (2, _), (3, _)] := hl
  refine lv_iconst (v := 1) hx hb d_l_move_12 (by decide) ?_
  exact rt_i S hO (by decide) (by decide) d_l_move_13
set_option maxHeartbeats 4000000 in
set_option maxRecDepth 100000 in
/-- narrow -/
theorem l_narrow_ok (l : Launch) {cx : Cx} (hC : Cg cx) (σ : Sg) {i j : Nat} (hi : i < 16) (hj : j < 16) (n : Int32) (hg : gok (σ.1 j)) : CT l cx y_l_narrow 8 154 1 6 [.ref (ad cx 17), .int (nI i), .int (nI j), .int n, .ref (ad cx 26)] σ (.inl (some (.int 0))) (up (up σ.1 16 (nw (σ.1 j) n)) i (nw (σ.1 j) n), σ.2.1, σ.2.2.1, bl (qg (nw (σ.1 j) n))) := by
  refine Con.ofWith (cc := method_6_code) (maxL := 6) (ret := (some FieldType.int)) (tab := [(0, 19, 22, 15)]) (by decide +kernel) gw_199 ?_
  intro p e s m args below meth c S ha htab hv
  obtain ⟨rfl, hP, hK⟩ := hv
  have S : Fx p s m ([.ref (ad cx 17), .int (nI i), .int (nI j), .int n, .ref (ad cx 26)] : List Value).toArray meth c method_6_code 6 "GrantMathLaw" (some FieldType.int) := S
  have hO : Ok cx s σ s.heap [] := ⟨hP, va_S.rf⟩
  have hx := S.1
  have hb := S.2.1
  have hl := lv_entry ([.ref (ad cx 17), .int (nI i), .int (nI j), .int n, .ref (ad cx 26)]) (n := 6) (Nat.le_of_ble_eq_true rfl)
  rw [lg_entry_eq]
  generalize (lg_sl ([.ref (ad cx 17), .int (nI i), .int (nI j), .int n, .ref (ad cx 26)]) ++ List.replicate (6 - (lg_sl ([.ref (ad cx 17), .int (nI i), .int (nI j), .int n, .ref (ad cx 26)])).length) Slot.unset).toArray = ls at hl ⊢
  have hl : lv_has ls 6 [(0, .ref (ad cx 17)), (1, .int (nI i)), (2, .int (nI j)), (3, .int n), (4, .ref (ad cx 26))] := hl
  refine lv_aload hx hb d_l_narrow_0 (lv_at hl 4 rfl) ?_
  refine lv_iconst (v := 0) hx hb d_l_narrow_2 (by decide) ?_
  refine lv_aload_n hx hb d_l_narrow_3 rfl (lv_at hl 0 rfl) ?_
  refine lv_iload_n hx hb d_l_narrow_4 rfl (lv_at hl 1 rfl) ?_
  refine lv_iload_n hx hb d_l_narrow_5 rfl (lv_at hl 2 rfl) ?_
  refine lv_iload_n hx hb d_l_narrow_6 rfl (lv_at hl 3 rfl) ?_
  refine cX3r S hK hO (x_narrow_ok l hC _ hi hj n hg) vw_x_narrow gw_200 (by decide) (by decide) ⟨by decide, by decide⟩ hl.1 (Nat.le_of_ble_eq_true rfl) d_l_narrow_7 (fun H locs hO => ?_)
  try dsimp only at hO
  refine lv_if_eq (tgt := 17) hx hb d_l_narrow_10 (by decide) (fun h => ?_) (fun h => ?_)
  · refine lv_lconst (v := lN 0) hx hb d_l_narrow_17 rfl ?_
    refine tp_l (z := bl (qg (nw (σ.1 j) n))) (by have z := bi_0.mp h; simp [bl, z]) ?_
    refine ol_st hC S hK hO d_l_narrow_18 (fun H locs hO => ?_)
    try dsimp only at hO
    refine lv_goto (tgt := 26) hx hb d_l_narrow_19 (by decide) ?_
    refine lv_iconst (v := 0) hx hb d_l_narrow_26 (by decide) ?_
    exact rt_i S hO (by decide) (by decide) d_l_narrow_27
  · refine lv_lconst (v := lN 1) hx hb d_l_narrow_13 rfl ?_
    refine lv_goto (tgt := 18) hx hb d_l_narrow_14 (by decide) ?_
    refine tp_l (z := bl (qg (nw (σ.1 j) n))) (by have z := bi_n.mp h; simp [bl, z]) ?_
    refine ol_st hC S hK hO d_l_narrow_18 (fun H locs hO => ?_)
    try dsimp only at hO
    refine lv_goto (tgt := 26) hx hb d_l_narrow_19 (by decide) ?_
    refine lv_iconst (v := 0) hx hb d_l_narrow_26 (by decide) ?_
    exact rt_i S hO (by decide) (by decide) d_l_narrow_27
set_option maxHeartbeats 4000000 in
set_option maxRecDepth 100000 in
/-- narrow: caught -/
theorem l_narrow_b1 (l : Launch) {cx : Cx} (hC : Cg cx) (σ : Sg) (hfl : l.flags = flags0) {r u n : Int32} (hr : okr r = false) : CT l cx y_l_narrow 8 154 1 6 [.ref (ad cx 17), .int r, .int u, .int n, .ref (ad cx 26)] σ (.inl (some (.int 1))) σ := by
  refine Con.ofWith (cc := method_6_code) (maxL := 6) (ret := (some FieldType.int)) (tab := [(0, 19, 22, 15)]) (by decide +kernel) gw_199 ?_
  intro p e s m args below meth c S ha htab hv
  obtain ⟨rfl, hP, hK⟩ := hv
  have S : Fx p s m ([.ref (ad cx 17), .int r, .int u, .int n, .ref (ad cx 26)] : List Value).toArray meth c method_6_code 6 "GrantMathLaw" (some FieldType.int) := S
  have hO : Ok cx s σ s.heap [] := ⟨hP, va_S.rf⟩
  have hx := S.1
  have hb := S.2.1
  have hl := lv_entry ([.ref (ad cx 17), .int r, .int u, .int n, .ref (ad cx 26)]) (n := 6) (Nat.le_of_ble_eq_true rfl)
  rw [lg_entry_eq]
  generalize (lg_sl ([.ref (ad cx 17), .int r, .int u, .int n, .ref (ad cx 26)]) ++ List.replicate (6 - (lg_sl ([.ref (ad cx 17), .int r, .int u, .int n, .ref (ad cx 26)])).length) Slot.unset).toArray = ls at hl ⊢
  have hl : lv_has ls 6 [(0, .ref (ad cx 17)), (1, .int r), (2, .int u), (3, .int n), (4, .ref (ad cx 26))] := hl
  refine lv_aload hx hb d_l_narrow_0 (lv_at hl 4 rfl) ?_
  refine lv_iconst (v := 0) hx hb d_l_narrow_2 (by decide) ?_
  refine lv_aload_n hx hb d_l_narrow_3 rfl (lv_at hl 0 rfl) ?_
  refine lv_iload_n hx hb d_l_narrow_4 rfl (lv_at hl 1 rfl) ?_
  refine lv_iload_n hx hb d_l_narrow_5 rfl (lv_at hl 2 rfl) ?_
  refine lv_iload_n hx hb d_l_narrow_6 rfl (lv_at hl 3 rfl) ?_
  refine cX3k S hK hO (x_narrow_b1 l hC _ hfl hr) vw_x_narrow gw_200 (by decide) (by decide) ⟨by decide, by decide⟩ hl.1 (Nat.le_of_ble_eq_true rfl) d_l_narrow_7 (fun x cell H locs hO hxc hvm hcl => ?_)
  try dsimp only at hO
  refine WT.catch1 S htab (by decide) (by decide) gw_88 hxc hvm hcl (as_self S.2.2.2.2.1 gw_162 hcl) ?_
  refine lv_astore hx hb d_l_narrow_22 hl (by decide) rfl (fun ls hl => ?_)
  have hl : lv_has ls 6 [(5, _), (0, _), (1, _), (2, _), (3, _), (4, _)] := hl
  refine lv_iconst (v := 1) hx hb d_l_narrow_24 (by decide) ?_
  exact rt_i S hO (by decide) (by decide) d_l_narrow_25
set_option maxHeartbeats 4000000 in
set_option maxRecDepth 100000 in
/-- narrow: caught -/
theorem l_narrow_b2 (l : Launch) {cx : Cx} (hC : Cg cx) (σ : Sg) (hfl : l.flags = flags0) {i1 : Nat} (h1 : i1 < 16) {u n : Int32} (hr : okr u = false) : CT l cx y_l_narrow 8 154 1 6 [.ref (ad cx 17), .int (nI i1), .int u, .int n, .ref (ad cx 26)] σ (.inl (some (.int 1))) σ := by
  refine Con.ofWith (cc := method_6_code) (maxL := 6) (ret := (some FieldType.int)) (tab := [(0, 19, 22, 15)]) (by decide +kernel) gw_199 ?_
  intro p e s m args below meth c S ha htab hv
  obtain ⟨rfl, hP, hK⟩ := hv
  have S : Fx p s m ([.ref (ad cx 17), .int (nI i1), .int u, .int n, .ref (ad cx 26)] : List Value).toArray meth c method_6_code 6 "GrantMathLaw" (some FieldType.int) := S
  have hO : Ok cx s σ s.heap [] := ⟨hP, va_S.rf⟩
  have hx := S.1
  have hb := S.2.1
  have hl := lv_entry ([.ref (ad cx 17), .int (nI i1), .int u, .int n, .ref (ad cx 26)]) (n := 6) (Nat.le_of_ble_eq_true rfl)
  rw [lg_entry_eq]
  generalize (lg_sl ([.ref (ad cx 17), .int (nI i1), .int u, .int n, .ref (ad cx 26)]) ++ List.replicate (6 - (lg_sl ([.ref (ad cx 17), .int (nI i1), .int u, .int n, .ref (ad cx 26)])).length) Slot.unset).toArray = ls at hl ⊢
  have hl : lv_has ls 6 [(0, .ref (ad cx 17)), (1, .int (nI i1)), (2, .int u), (3, .int n), (4, .ref (ad cx 26))] := hl
  refine lv_aload hx hb d_l_narrow_0 (lv_at hl 4 rfl) ?_
  refine lv_iconst (v := 0) hx hb d_l_narrow_2 (by decide) ?_
  refine lv_aload_n hx hb d_l_narrow_3 rfl (lv_at hl 0 rfl) ?_
  refine lv_iload_n hx hb d_l_narrow_4 rfl (lv_at hl 1 rfl) ?_
  refine lv_iload_n hx hb d_l_narrow_5 rfl (lv_at hl 2 rfl) ?_
  refine lv_iload_n hx hb d_l_narrow_6 rfl (lv_at hl 3 rfl) ?_
  refine cX3k S hK hO (x_narrow_b2 l hC _ hfl h1 hr) vw_x_narrow gw_200 (by decide) (by decide) ⟨by decide, by decide⟩ hl.1 (Nat.le_of_ble_eq_true rfl) d_l_narrow_7 (fun x cell H locs hO hxc hvm hcl => ?_)
  try dsimp only at hO
  refine WT.catch1 S htab (by decide) (by decide) gw_88 hxc hvm hcl (as_self S.2.2.2.2.1 gw_162 hcl) ?_
  refine lv_astore hx hb d_l_narrow_22 hl (by decide) rfl (fun ls hl => ?_)
  have hl : lv_has ls 6 [(5, _), (0, _), (1, _), (2, _), (3, _), (4, _)] := hl
  refine lv_iconst (v := 1) hx hb d_l_narrow_24 (by decide) ?_
  exact rt_i S hO (by decide) (by decide) d_l_narrow_25
set_option maxHeartbeats 4000000 in
set_option maxRecDepth 100000 in
/-- restrict -/
theorem l_restrict_ok (l : Launch) {cx : Cx} (hC : Cg cx) (σ : Sg) {i j : Nat} (hi : i < 16) (hj : j < 16) (n : Int32) (hg : gok (σ.1 j)) : CT l cx y_l_restrict 8 154 1 6 [.ref (ad cx 17), .int (nI i), .int (nI j), .int n, .ref (ad cx 26)] σ (.inl (some (.int 0))) (up (up σ.1 16 (rc (σ.1 j) n)) i (rc (σ.1 j) n), σ.2.1, σ.2.2.1, bl (qg (rc (σ.1 j) n))) := by
  refine Con.ofWith (cc := method_7_code) (maxL := 6) (ret := (some FieldType.int)) (tab := [(0, 19, 22, 15)]) (by decide +kernel) gw_206 ?_
  intro p e s m args below meth c S ha htab hv
  obtain ⟨rfl, hP, hK⟩ := hv
  have S : Fx p s m ([.ref (ad cx 17), .int (nI i), .int (nI j), .int n, .ref (ad cx 26)] : List Value).toArray meth c method_7_code 6 "GrantMathLaw" (some FieldType.int) := S
  have hO : Ok cx s σ s.heap [] := ⟨hP, va_S.rf⟩
  have hx := S.1
  have hb := S.2.1
  have hl := lv_entry ([.ref (ad cx 17), .int (nI i), .int (nI j), .int n, .ref (ad cx 26)]) (n := 6) (Nat.le_of_ble_eq_true rfl)
  rw [lg_entry_eq]
  generalize (lg_sl ([.ref (ad cx 17), .int (nI i), .int (nI j), .int n, .ref (ad cx 26)]) ++ List.replicate (6 - (lg_sl ([.ref (ad cx 17), .int (nI i), .int (nI j), .int n, .ref (ad cx 26)])).length) Slot.unset).toArray = ls at hl ⊢
  have hl : lv_has ls 6 [(0, .ref (ad cx 17)), (1, .int (nI i)), (2, .int (nI j)), (3, .int n), (4, .ref (ad cx 26))] := hl
  refine lv_aload hx hb d_l_restrict_0 (lv_at hl 4 rfl) ?_
  refine lv_iconst (v := 0) hx hb d_l_restrict_2 (by decide) ?_
  refine lv_aload_n hx hb d_l_restrict_3 rfl (lv_at hl 0 rfl) ?_
  refine lv_iload_n hx hb d_l_restrict_4 rfl (lv_at hl 1 rfl) ?_
  refine lv_iload_n hx hb d_l_restrict_5 rfl (lv_at hl 2 rfl) ?_
  refine lv_iload_n hx hb d_l_restrict_6 rfl (lv_at hl 3 rfl) ?_
  refine cX3r S hK hO (x_restrict_ok l hC _ hi hj n hg) vw_x_restrict gw_207 (by decide) (by decide) ⟨by decide, by decide⟩ hl.1 (Nat.le_of_ble_eq_true rfl) d_l_restrict_7 (fun H locs hO => ?_)
  try dsimp only at hO
  refine lv_if_eq (tgt := 17) hx hb d_l_restrict_10 (by decide) (fun h => ?_) (fun h => ?_)
  · refine lv_lconst (v := lN 0) hx hb d_l_restrict_17 rfl ?_
    refine tp_l (z := bl (qg (rc (σ.1 j) n))) (by have z := bi_0.mp h; simp [bl, z]) ?_
    refine ol_st hC S hK hO d_l_restrict_18 (fun H locs hO => ?_)
    try dsimp only at hO
    refine lv_goto (tgt := 26) hx hb d_l_restrict_19 (by decide) ?_
    refine lv_iconst (v := 0) hx hb d_l_restrict_26 (by decide) ?_
    exact rt_i S hO (by decide) (by decide) d_l_restrict_27
  · refine lv_lconst (v := lN 1) hx hb d_l_restrict_13 rfl ?_
    refine lv_goto (tgt := 18) hx hb d_l_restrict_14 (by decide) ?_
    refine tp_l (z := bl (qg (rc (σ.1 j) n))) (by have z := bi_n.mp h; simp [bl, z]) ?_
    refine ol_st hC S hK hO d_l_restrict_18 (fun H locs hO => ?_)
    try dsimp only at hO
    refine lv_goto (tgt := 26) hx hb d_l_restrict_19 (by decide) ?_
    refine lv_iconst (v := 0) hx hb d_l_restrict_26 (by decide) ?_
    exact rt_i S hO (by decide) (by decide) d_l_restrict_27
set_option maxHeartbeats 4000000 in
set_option maxRecDepth 100000 in
/-- restrict: caught -/
theorem l_restrict_b1 (l : Launch) {cx : Cx} (hC : Cg cx) (σ : Sg) (hfl : l.flags = flags0) {r u n : Int32} (hr : okr r = false) : CT l cx y_l_restrict 8 154 1 6 [.ref (ad cx 17), .int r, .int u, .int n, .ref (ad cx 26)] σ (.inl (some (.int 1))) σ := by
  refine Con.ofWith (cc := method_7_code) (maxL := 6) (ret := (some FieldType.int)) (tab := [(0, 19, 22, 15)]) (by decide +kernel) gw_206 ?_
  intro p e s m args below meth c S ha htab hv
  obtain ⟨rfl, hP, hK⟩ := hv
  have S : Fx p s m ([.ref (ad cx 17), .int r, .int u, .int n, .ref (ad cx 26)] : List Value).toArray meth c method_7_code 6 "GrantMathLaw" (some FieldType.int) := S
  have hO : Ok cx s σ s.heap [] := ⟨hP, va_S.rf⟩
  have hx := S.1
  have hb := S.2.1
  have hl := lv_entry ([.ref (ad cx 17), .int r, .int u, .int n, .ref (ad cx 26)]) (n := 6) (Nat.le_of_ble_eq_true rfl)
  rw [lg_entry_eq]
  generalize (lg_sl ([.ref (ad cx 17), .int r, .int u, .int n, .ref (ad cx 26)]) ++ List.replicate (6 - (lg_sl ([.ref (ad cx 17), .int r, .int u, .int n, .ref (ad cx 26)])).length) Slot.unset).toArray = ls at hl ⊢
  have hl : lv_has ls 6 [(0, .ref (ad cx 17)), (1, .int r), (2, .int u), (3, .int n), (4, .ref (ad cx 26))] := hl
  refine lv_aload hx hb d_l_restrict_0 (lv_at hl 4 rfl) ?_
  refine lv_iconst (v := 0) hx hb d_l_restrict_2 (by decide) ?_
  refine lv_aload_n hx hb d_l_restrict_3 rfl (lv_at hl 0 rfl) ?_
  refine lv_iload_n hx hb d_l_restrict_4 rfl (lv_at hl 1 rfl) ?_
  refine lv_iload_n hx hb d_l_restrict_5 rfl (lv_at hl 2 rfl) ?_
  refine lv_iload_n hx hb d_l_restrict_6 rfl (lv_at hl 3 rfl) ?_
  refine cX3k S hK hO (x_restrict_b1 l hC _ hfl hr) vw_x_restrict gw_207 (by decide) (by decide) ⟨by decide, by decide⟩ hl.1 (Nat.le_of_ble_eq_true rfl) d_l_restrict_7 (fun x cell H locs hO hxc hvm hcl => ?_)
  try dsimp only at hO
  refine WT.catch1 S htab (by decide) (by decide) gw_88 hxc hvm hcl (as_self S.2.2.2.2.1 gw_162 hcl) ?_
  refine lv_astore hx hb d_l_restrict_22 hl (by decide) rfl (fun ls hl => ?_)
  have hl : lv_has ls 6 [(5, _), (0, _), (1, _), (2, _), (3, _), (4, _)] := hl
  refine lv_iconst (v := 1) hx hb d_l_restrict_24 (by decide) ?_
  exact rt_i S hO (by decide) (by decide) d_l_restrict_25
set_option maxHeartbeats 4000000 in
set_option maxRecDepth 100000 in
/-- restrict: caught -/
theorem l_restrict_b2 (l : Launch) {cx : Cx} (hC : Cg cx) (σ : Sg) (hfl : l.flags = flags0) {i1 : Nat} (h1 : i1 < 16) {u n : Int32} (hr : okr u = false) : CT l cx y_l_restrict 8 154 1 6 [.ref (ad cx 17), .int (nI i1), .int u, .int n, .ref (ad cx 26)] σ (.inl (some (.int 1))) σ := by
  refine Con.ofWith (cc := method_7_code) (maxL := 6) (ret := (some FieldType.int)) (tab := [(0, 19, 22, 15)]) (by decide +kernel) gw_206 ?_
  intro p e s m args below meth c S ha htab hv
  obtain ⟨rfl, hP, hK⟩ := hv
  have S : Fx p s m ([.ref (ad cx 17), .int (nI i1), .int u, .int n, .ref (ad cx 26)] : List Value).toArray meth c method_7_code 6 "GrantMathLaw" (some FieldType.int) := S
  have hO : Ok cx s σ s.heap [] := ⟨hP, va_S.rf⟩
  have hx := S.1
  have hb := S.2.1
  have hl := lv_entry ([.ref (ad cx 17), .int (nI i1), .int u, .int n, .ref (ad cx 26)]) (n := 6) (Nat.le_of_ble_eq_true rfl)
  rw [lg_entry_eq]
  generalize (lg_sl ([.ref (ad cx 17), .int (nI i1), .int u, .int n, .ref (ad cx 26)]) ++ List.replicate (6 - (lg_sl ([.ref (ad cx 17), .int (nI i1), .int u, .int n, .ref (ad cx 26)])).length) Slot.unset).toArray = ls at hl ⊢
  have hl : lv_has ls 6 [(0, .ref (ad cx 17)), (1, .int (nI i1)), (2, .int u), (3, .int n), (4, .ref (ad cx 26))] := hl
  refine lv_aload hx hb d_l_restrict_0 (lv_at hl 4 rfl) ?_
  refine lv_iconst (v := 0) hx hb d_l_restrict_2 (by decide) ?_
  refine lv_aload_n hx hb d_l_restrict_3 rfl (lv_at hl 0 rfl) ?_
  refine lv_iload_n hx hb d_l_restrict_4 rfl (lv_at hl 1 rfl) ?_
  refine lv_iload_n hx hb d_l_restrict_5 rfl (lv_at hl 2 rfl) ?_
  refine lv_iload_n hx hb d_l_restrict_6 rfl (lv_at hl 3 rfl) ?_
  refine cX3k S hK hO (x_restrict_b2 l hC _ hfl h1 hr) vw_x_restrict gw_207 (by decide) (by decide) ⟨by decide, by decide⟩ hl.1 (Nat.le_of_ble_eq_true rfl) d_l_restrict_7 (fun x cell H locs hO hxc hvm hcl => ?_)
  try dsimp only at hO
  refine WT.catch1 S htab (by decide) (by decide) gw_88 hxc hvm hcl (as_self S.2.2.2.2.1 gw_162 hcl) ?_
  refine lv_astore hx hb d_l_restrict_22 hl (by decide) rfl (fun ls hl => ?_)
  have hl : lv_has ls 6 [(5, _), (0, _), (1, _), (2, _), (3, _), (4, _)] := hl
  refine lv_iconst (v := 1) hx hb d_l_restrict_24 (by decide) ?_
  exact rt_i S hO (by decide) (by decide) d_l_restrict_25
set_option maxHeartbeats 4000000 in
set_option maxRecDepth 100000 in
/-- seal -/
theorem l_seal_ok (l : Launch) {cx : Cx} (hC : Cg cx) (σ : Sg) {i j t : Nat} (hi : i < 16) (hj : j < 16) (ht : t < 16) (hg : gok (σ.1 j)) (hg2 : gok (σ.1 t)) : CT l cx y_l_seal 8 154 1 6 [.ref (ad cx 17), .int (nI i), .int (nI j), .int (nI t), .ref (ad cx 26)] σ (.inl (some (.int 0))) ((if slC (σ.1 j) (σ.1 t) = 0 then (up (up σ.1 16 (sY (σ.1 j) (qa (σ.1 t)))) i (sY (σ.1 j) (qa (σ.1 t))), σ.2) else σ).1, (if slC (σ.1 j) (σ.1 t) = 0 then (up (up σ.1 16 (sY (σ.1 j) (qa (σ.1 t)))) i (sY (σ.1 j) (qa (σ.1 t))), σ.2) else σ).2.1, (if slC (σ.1 j) (σ.1 t) = 0 then (up (up σ.1 16 (sY (σ.1 j) (qa (σ.1 t)))) i (sY (σ.1 j) (qa (σ.1 t))), σ.2) else σ).2.2.1, (slC (σ.1 j) (σ.1 t)).toInt64) := by
  refine Con.ofWith (cc := method_8_code) (maxL := 6) (ret := (some FieldType.int)) (tab := [(0, 12, 15, 15)]) (by decide +kernel) gw_213 ?_
  intro p e s m args below meth c S ha htab hv
  obtain ⟨rfl, hP, hK⟩ := hv
  have S : Fx p s m ([.ref (ad cx 17), .int (nI i), .int (nI j), .int (nI t), .ref (ad cx 26)] : List Value).toArray meth c method_8_code 6 "GrantMathLaw" (some FieldType.int) := S
  have hO : Ok cx s σ s.heap [] := ⟨hP, va_S.rf⟩
  have hx := S.1
  have hb := S.2.1
  have hl := lv_entry ([.ref (ad cx 17), .int (nI i), .int (nI j), .int (nI t), .ref (ad cx 26)]) (n := 6) (Nat.le_of_ble_eq_true rfl)
  rw [lg_entry_eq]
  generalize (lg_sl ([.ref (ad cx 17), .int (nI i), .int (nI j), .int (nI t), .ref (ad cx 26)]) ++ List.replicate (6 - (lg_sl ([.ref (ad cx 17), .int (nI i), .int (nI j), .int (nI t), .ref (ad cx 26)])).length) Slot.unset).toArray = ls at hl ⊢
  have hl : lv_has ls 6 [(0, .ref (ad cx 17)), (1, .int (nI i)), (2, .int (nI j)), (3, .int (nI t)), (4, .ref (ad cx 26))] := hl
  refine lv_aload hx hb d_l_seal_0 (lv_at hl 4 rfl) ?_
  refine lv_iconst (v := 0) hx hb d_l_seal_2 (by decide) ?_
  refine lv_aload_n hx hb d_l_seal_3 rfl (lv_at hl 0 rfl) ?_
  refine lv_iload_n hx hb d_l_seal_4 rfl (lv_at hl 1 rfl) ?_
  refine lv_iload_n hx hb d_l_seal_5 rfl (lv_at hl 2 rfl) ?_
  refine lv_iload_n hx hb d_l_seal_6 rfl (lv_at hl 3 rfl) ?_
  refine cX3r S hK hO (x_seal_ok l hC _ hi hj ht hg hg2) vw_x_seal gw_214 (by decide) (by decide) ⟨by decide, by decide⟩ hl.1 (Nat.le_of_ble_eq_true rfl) d_l_seal_7 (fun H locs hO => ?_)
  try dsimp only at hO
  refine lv_i2l hx hb d_l_seal_10 rfl ?_
  refine ol_st hC S hK hO d_l_seal_11 (fun H locs hO => ?_)
  try dsimp only at hO
  refine lv_goto (tgt := 19) hx hb d_l_seal_12 (by decide) ?_
  refine lv_iconst (v := 0) hx hb d_l_seal_19 (by decide) ?_
  exact rt_i S hO (by decide) (by decide) d_l_seal_20
set_option maxHeartbeats 4000000 in
set_option maxRecDepth 100000 in
/-- seal: caught -/
theorem l_seal_b1 (l : Launch) {cx : Cx} (hC : Cg cx) (σ : Sg) (hfl : l.flags = flags0) {r u t : Int32} (hr : okr r = false) : CT l cx y_l_seal 8 154 1 6 [.ref (ad cx 17), .int r, .int u, .int t, .ref (ad cx 26)] σ (.inl (some (.int 1))) σ := by
  refine Con.ofWith (cc := method_8_code) (maxL := 6) (ret := (some FieldType.int)) (tab := [(0, 12, 15, 15)]) (by decide +kernel) gw_213 ?_
  intro p e s m args below meth c S ha htab hv
  obtain ⟨rfl, hP, hK⟩ := hv
  have S : Fx p s m ([.ref (ad cx 17), .int r, .int u, .int t, .ref (ad cx 26)] : List Value).toArray meth c method_8_code 6 "GrantMathLaw" (some FieldType.int) := S
  have hO : Ok cx s σ s.heap [] := ⟨hP, va_S.rf⟩
  have hx := S.1
  have hb := S.2.1
  have hl := lv_entry ([.ref (ad cx 17), .int r, .int u, .int t, .ref (ad cx 26)]) (n := 6) (Nat.le_of_ble_eq_true rfl)
  rw [lg_entry_eq]
  generalize (lg_sl ([.ref (ad cx 17), .int r, .int u, .int t, .ref (ad cx 26)]) ++ List.replicate (6 - (lg_sl ([.ref (ad cx 17), .int r, .int u, .int t, .ref (ad cx 26)])).length) Slot.unset).toArray = ls at hl ⊢
  have hl : lv_has ls 6 [(0, .ref (ad cx 17)), (1, .int r), (2, .int u), (3, .int t), (4, .ref (ad cx 26))] := hl
  refine lv_aload hx hb d_l_seal_0 (lv_at hl 4 rfl) ?_
  refine lv_iconst (v := 0) hx hb d_l_seal_2 (by decide) ?_
  refine lv_aload_n hx hb d_l_seal_3 rfl (lv_at hl 0 rfl) ?_
  refine lv_iload_n hx hb d_l_seal_4 rfl (lv_at hl 1 rfl) ?_
  refine lv_iload_n hx hb d_l_seal_5 rfl (lv_at hl 2 rfl) ?_
  refine lv_iload_n hx hb d_l_seal_6 rfl (lv_at hl 3 rfl) ?_
  refine cX3k S hK hO (x_seal_b1 l hC _ hfl hr) vw_x_seal gw_214 (by decide) (by decide) ⟨by decide, by decide⟩ hl.1 (Nat.le_of_ble_eq_true rfl) d_l_seal_7 (fun x cell H locs hO hxc hvm hcl => ?_)
  try dsimp only at hO
  refine WT.catch1 S htab (by decide) (by decide) gw_88 hxc hvm hcl (as_self S.2.2.2.2.1 gw_162 hcl) ?_
  refine lv_astore hx hb d_l_seal_15 hl (by decide) rfl (fun ls hl => ?_)
  have hl : lv_has ls 6 [(5, _), (0, _), (1, _), (2, _), (3, _), (4, _)] := hl
  refine lv_iconst (v := 1) hx hb d_l_seal_17 (by decide) ?_
  exact rt_i S hO (by decide) (by decide) d_l_seal_18
set_option maxHeartbeats 4000000 in
set_option maxRecDepth 100000 in
/-- seal: caught -/
theorem l_seal_b2 (l : Launch) {cx : Cx} (hC : Cg cx) (σ : Sg) (hfl : l.flags = flags0) {i1 : Nat} (h1 : i1 < 16) {u t : Int32} (hr : okr u = false) : CT l cx y_l_seal 8 154 1 6 [.ref (ad cx 17), .int (nI i1), .int u, .int t, .ref (ad cx 26)] σ (.inl (some (.int 1))) σ := by
  refine Con.ofWith (cc := method_8_code) (maxL := 6) (ret := (some FieldType.int)) (tab := [(0, 12, 15, 15)]) (by decide +kernel) gw_213 ?_
  intro p e s m args below meth c S ha htab hv
  obtain ⟨rfl, hP, hK⟩ := hv
  have S : Fx p s m ([.ref (ad cx 17), .int (nI i1), .int u, .int t, .ref (ad cx 26)] : List Value).toArray meth c method_8_code 6 "GrantMathLaw" (some FieldType.int) := S
  have hO : Ok cx s σ s.heap [] := ⟨hP, va_S.rf⟩
  have hx := S.1
  have hb := S.2.1
  have hl := lv_entry ([.ref (ad cx 17), .int (nI i1), .int u, .int t, .ref (ad cx 26)]) (n := 6) (Nat.le_of_ble_eq_true rfl)
  rw [lg_entry_eq]
  generalize (lg_sl ([.ref (ad cx 17), .int (nI i1), .int u, .int t, .ref (ad cx 26)]) ++ List.replicate (6 - (lg_sl ([.ref (ad cx 17), .int (nI i1), .int u, .int t, .ref (ad cx 26)])).length) Slot.unset).toArray = ls at hl ⊢
  have hl : lv_has ls 6 [(0, .ref (ad cx 17)), (1, .int (nI i1)), (2, .int u), (3, .int t), (4, .ref (ad cx 26))] := hl
  refine lv_aload hx hb d_l_seal_0 (lv_at hl 4 rfl) ?_
  refine lv_iconst (v := 0) hx hb d_l_seal_2 (by decide) ?_
  refine lv_aload_n hx hb d_l_seal_3 rfl (lv_at hl 0 rfl) ?_
  refine lv_iload_n hx hb d_l_seal_4 rfl (lv_at hl 1 rfl) ?_
  refine lv_iload_n hx hb d_l_seal_5 rfl (lv_at hl 2 rfl) ?_
  refine lv_iload_n hx hb d_l_seal_6 rfl (lv_at hl 3 rfl) ?_
  refine cX3k S hK hO (x_seal_b2 l hC _ hfl h1 hr) vw_x_seal gw_214 (by decide) (by decide) ⟨by decide, by decide⟩ hl.1 (Nat.le_of_ble_eq_true rfl) d_l_seal_7 (fun x cell H locs hO hxc hvm hcl => ?_)
  try dsimp only at hO
  refine WT.catch1 S htab (by decide) (by decide) gw_88 hxc hvm hcl (as_self S.2.2.2.2.1 gw_162 hcl) ?_
  refine lv_astore hx hb d_l_seal_15 hl (by decide) rfl (fun ls hl => ?_)
  have hl : lv_has ls 6 [(5, _), (0, _), (1, _), (2, _), (3, _), (4, _)] := hl
  refine lv_iconst (v := 1) hx hb d_l_seal_17 (by decide) ?_
  exact rt_i S hO (by decide) (by decide) d_l_seal_18
set_option maxHeartbeats 4000000 in
set_option maxRecDepth 100000 in
/-- seal: caught -/
theorem l_seal_b3 (l : Launch) {cx : Cx} (hC : Cg cx) (σ : Sg) (hfl : l.flags = flags0) {i1 : Nat} (h1 : i1 < 16) {i2 : Nat} (h2 : i2 < 16) {t : Int32} (hr : okr t = false) : CT l cx y_l_seal 8 154 1 6 [.ref (ad cx 17), .int (nI i1), .int (nI i2), .int t, .ref (ad cx 26)] σ (.inl (some (.int 1))) σ := by
  refine Con.ofWith (cc := method_8_code) (maxL := 6) (ret := (some FieldType.int)) (tab := [(0, 12, 15, 15)]) (by decide +kernel) gw_213 ?_
  intro p e s m args below meth c S ha htab hv
  obtain ⟨rfl, hP, hK⟩ := hv
  have S : Fx p s m ([.ref (ad cx 17), .int (nI i1), .int (nI i2), .int t, .ref (ad cx 26)] : List Value).toArray meth c method_8_code 6 "GrantMathLaw" (some FieldType.int) := S
  have hO : Ok cx s σ s.heap [] := ⟨hP, va_S.rf⟩
  have hx := S.1
  have hb := S.2.1
  have hl := lv_entry ([.ref (ad cx 17), .int (nI i1), .int (nI i2), .int t, .ref (ad cx 26)]) (n := 6) (Nat.le_of_ble_eq_true rfl)
  rw [lg_entry_eq]
  generalize (lg_sl ([.ref (ad cx 17), .int (nI i1), .int (nI i2), .int t, .ref (ad cx 26)]) ++ List.replicate (6 - (lg_sl ([.ref (ad cx 17), .int (nI i1), .int (nI i2), .int t, .ref (ad cx 26)])).length) Slot.unset).toArray = ls at hl ⊢
  have hl : lv_has ls 6 [(0, .ref (ad cx 17)), (1, .int (nI i1)), (2, .int (nI i2)), (3, .int t), (4, .ref (ad cx 26))] := hl
  refine lv_aload hx hb d_l_seal_0 (lv_at hl 4 rfl) ?_
  refine lv_iconst (v := 0) hx hb d_l_seal_2 (by decide) ?_
  refine lv_aload_n hx hb d_l_seal_3 rfl (lv_at hl 0 rfl) ?_
  refine lv_iload_n hx hb d_l_seal_4 rfl (lv_at hl 1 rfl) ?_
  refine lv_iload_n hx hb d_l_seal_5 rfl (lv_at hl 2 rfl) ?_
  refine lv_iload_n hx hb d_l_seal_6 rfl (lv_at hl 3 rfl) ?_
  refine cX3k S hK hO (x_seal_b3 l hC _ hfl h1 h2 hr) vw_x_seal gw_214 (by decide) (by decide) ⟨by decide, by decide⟩ hl.1 (Nat.le_of_ble_eq_true rfl) d_l_seal_7 (fun x cell H locs hO hxc hvm hcl => ?_)
  try dsimp only at hO
  refine WT.catch1 S htab (by decide) (by decide) gw_88 hxc hvm hcl (as_self S.2.2.2.2.1 gw_162 hcl) ?_
  refine lv_astore hx hb d_l_seal_15 hl (by decide) rfl (fun ls hl => ?_)
  have hl : lv_has ls 6 [(5, _), (0, _), (1, _), (2, _), (3, _), (4, _)] := hl
  refine lv_iconst (v := 1) hx hb d_l_seal_17 (by decide) ?_
  exact rt_i S hO (by decide) (by decide) d_l_seal_18
set_option maxHeartbeats 4000000 in
set_option maxRecDepth 100000 in
/-- unseal -/
theorem l_unseal_ok (l : Launch) {cx : Cx} (hC : Cg cx) (σ : Sg) {i j t : Nat} (hi : i < 16) (hj : j < 16) (ht : t < 16) (hg : gok (σ.1 j)) (hg2 : gok (σ.1 t)) : CT l cx y_l_unseal 8 154 1 6 [.ref (ad cx 17), .int (nI i), .int (nI j), .int (nI t), .ref (ad cx 26)] σ (.inl (some (.int 0))) ((if usC (σ.1 j) (σ.1 t) = 0 then (up (up σ.1 16 (sY (σ.1 j) 0)) i (sY (σ.1 j) 0), σ.2) else σ).1, (if usC (σ.1 j) (σ.1 t) = 0 then (up (up σ.1 16 (sY (σ.1 j) 0)) i (sY (σ.1 j) 0), σ.2) else σ).2.1, (if usC (σ.1 j) (σ.1 t) = 0 then (up (up σ.1 16 (sY (σ.1 j) 0)) i (sY (σ.1 j) 0), σ.2) else σ).2.2.1, (usC (σ.1 j) (σ.1 t)).toInt64) := by
  refine Con.ofWith (cc := method_9_code) (maxL := 6) (ret := (some FieldType.int)) (tab := [(0, 12, 15, 15)]) (by decide +kernel) gw_221 ?_
  intro p e s m args below meth c S ha htab hv
  obtain ⟨rfl, hP, hK⟩ := hv
  have S : Fx p s m ([.ref (ad cx 17), .int (nI i), .int (nI j), .int (nI t), .ref (ad cx 26)] : List Value).toArray meth c method_9_code 6 "GrantMathLaw" (some FieldType.int) := S
  have hO : Ok cx s σ s.heap [] := ⟨hP, va_S.rf⟩
  have hx := S.1
  have hb := S.2.1
  have hl := lv_entry ([.ref (ad cx 17), .int (nI i), .int (nI j), .int (nI t), .ref (ad cx 26)]) (n := 6) (Nat.le_of_ble_eq_true rfl)
  rw [lg_entry_eq]
  generalize (lg_sl ([.ref (ad cx 17), .int (nI i), .int (nI j), .int (nI t), .ref (ad cx 26)]) ++ List.replicate (6 - (lg_sl ([.ref (ad cx 17), .int (nI i), .int (nI j), .int (nI t), .ref (ad cx 26)])).length) Slot.unset).toArray = ls at hl ⊢
  have hl : lv_has ls 6 [(0, .ref (ad cx 17)), (1, .int (nI i)), (2, .int (nI j)), (3, .int (nI t)), (4, .ref (ad cx 26))] := hl
  refine lv_aload hx hb d_l_unseal_0 (lv_at hl 4 rfl) ?_
  refine lv_iconst (v := 0) hx hb d_l_unseal_2 (by decide) ?_
  refine lv_aload_n hx hb d_l_unseal_3 rfl (lv_at hl 0 rfl) ?_
  refine lv_iload_n hx hb d_l_unseal_4 rfl (lv_at hl 1 rfl) ?_
  refine lv_iload_n hx hb d_l_unseal_5 rfl (lv_at hl 2 rfl) ?_
  refine lv_iload_n hx hb d_l_unseal_6 rfl (lv_at hl 3 rfl) ?_
  refine cX3r S hK hO (x_unseal_ok l hC _ hi hj ht hg hg2) vw_x_unseal gw_222 (by decide) (by decide) ⟨by decide, by decide⟩ hl.1 (Nat.le_of_ble_eq_true rfl) d_l_unseal_7 (fun H locs hO => ?_)
  try dsimp only at hO
  refine lv_i2l hx hb d_l_unseal_10 rfl ?_
  refine ol_st hC S hK hO d_l_unseal_11 (fun H locs hO => ?_)
  try dsimp only at hO
  refine lv_goto (tgt := 19) hx hb d_l_unseal_12 (by decide) ?_
  refine lv_iconst (v := 0) hx hb d_l_unseal_19 (by decide) ?_
  exact rt_i S hO (by decide) (by decide) d_l_unseal_20
set_option maxHeartbeats 4000000 in
set_option maxRecDepth 100000 in
/-- unseal: caught -/
theorem l_unseal_b1 (l : Launch) {cx : Cx} (hC : Cg cx) (σ : Sg) (hfl : l.flags = flags0) {r u t : Int32} (hr : okr r = false) : CT l cx y_l_unseal 8 154 1 6 [.ref (ad cx 17), .int r, .int u, .int t, .ref (ad cx 26)] σ (.inl (some (.int 1))) σ := by
  refine Con.ofWith (cc := method_9_code) (maxL := 6) (ret := (some FieldType.int)) (tab := [(0, 12, 15, 15)]) (by decide +kernel) gw_221 ?_
  intro p e s m args below meth c S ha htab hv
  obtain ⟨rfl, hP, hK⟩ := hv
  have S : Fx p s m ([.ref (ad cx 17), .int r, .int u, .int t, .ref (ad cx 26)] : List Value).toArray meth c method_9_code 6 "GrantMathLaw" (some FieldType.int) := S
  have hO : Ok cx s σ s.heap [] := ⟨hP, va_S.rf⟩
  have hx := S.1
  have hb := S.2.1
  have hl := lv_entry ([.ref (ad cx 17), .int r, .int u, .int t, .ref (ad cx 26)]) (n := 6) (Nat.le_of_ble_eq_true rfl)
  rw [lg_entry_eq]
  generalize (lg_sl ([.ref (ad cx 17), .int r, .int u, .int t, .ref (ad cx 26)]) ++ List.replicate (6 - (lg_sl ([.ref (ad cx 17), .int r, .int u, .int t, .ref (ad cx 26)])).length) Slot.unset).toArray = ls at hl ⊢
  have hl : lv_has ls 6 [(0, .ref (ad cx 17)), (1, .int r), (2, .int u), (3, .int t), (4, .ref (ad cx 26))] := hl
  refine lv_aload hx hb d_l_unseal_0 (lv_at hl 4 rfl) ?_
  refine lv_iconst (v := 0) hx hb d_l_unseal_2 (by decide) ?_
  refine lv_aload_n hx hb d_l_unseal_3 rfl (lv_at hl 0 rfl) ?_
  refine lv_iload_n hx hb d_l_unseal_4 rfl (lv_at hl 1 rfl) ?_
  refine lv_iload_n hx hb d_l_unseal_5 rfl (lv_at hl 2 rfl) ?_
  refine lv_iload_n hx hb d_l_unseal_6 rfl (lv_at hl 3 rfl) ?_
  refine cX3k S hK hO (x_unseal_b1 l hC _ hfl hr) vw_x_unseal gw_222 (by decide) (by decide) ⟨by decide, by decide⟩ hl.1 (Nat.le_of_ble_eq_true rfl) d_l_unseal_7 (fun x cell H locs hO hxc hvm hcl => ?_)
  try dsimp only at hO
  refine WT.catch1 S htab (by decide) (by decide) gw_88 hxc hvm hcl (as_self S.2.2.2.2.1 gw_162 hcl) ?_
  refine lv_astore hx hb d_l_unseal_15 hl (by decide) rfl (fun ls hl => ?_)
  have hl : lv_has ls 6 [(5, _), (0, _), (1, _), (2, _), (3, _), (4, _)] := hl
  refine lv_iconst (v := 1) hx hb d_l_unseal_17 (by decide) ?_
  exact rt_i S hO (by decide) (by decide) d_l_unseal_18
set_option maxHeartbeats 4000000 in
set_option maxRecDepth 100000 in
/-- unseal: caught -/
theorem l_unseal_b2 (l : Launch) {cx : Cx} (hC : Cg cx) (σ : Sg) (hfl : l.flags = flags0) {i1 : Nat} (h1 : i1 < 16) {u t : Int32} (hr : okr u = false) : CT l cx y_l_unseal 8 154 1 6 [.ref (ad cx 17), .int (nI i1), .int u, .int t, .ref (ad cx 26)] σ (.inl (some (.int 1))) σ := by
  refine Con.ofWith (cc := method_9_code) (maxL := 6) (ret := (some FieldType.int)) (tab := [(0, 12, 15, 15)]) (by decide +kernel) gw_221 ?_
  intro p e s m args below meth c S ha htab hv
  obtain ⟨rfl, hP, hK⟩ := hv
  have S : Fx p s m ([.ref (ad cx 17), .int (nI i1), .int u, .int t, .ref (ad cx 26)] : List Value).toArray meth c method_9_code 6 "GrantMathLaw" (some FieldType.int) := S
  have hO : Ok cx s σ s.heap [] := ⟨hP, va_S.rf⟩
  have hx := S.1
  have hb := S.2.1
  have hl := lv_entry ([.ref (ad cx 17), .int (nI i1), .int u, .int t, .ref (ad cx 26)]) (n := 6) (Nat.le_of_ble_eq_true rfl)
  rw [lg_entry_eq]
  generalize (lg_sl ([.ref (ad cx 17), .int (nI i1), .int u, .int t, .ref (ad cx 26)]) ++ List.replicate (6 - (lg_sl ([.ref (ad cx 17), .int (nI i1), .int u, .int t, .ref (ad cx 26)])).length) Slot.unset).toArray = ls at hl ⊢
  have hl : lv_has ls 6 [(0, .ref (ad cx 17)), (1, .int (nI i1)), (2, .int u), (3, .int t), (4, .ref (ad cx 26))] := hl
  refine lv_aload hx hb d_l_unseal_0 (lv_at hl 4 rfl) ?_
  refine lv_iconst (v := 0) hx hb d_l_unseal_2 (by decide) ?_
  refine lv_aload_n hx hb d_l_unseal_3 rfl (lv_at hl 0 rfl) ?_
  refine lv_iload_n hx hb d_l_unseal_4 rfl (lv_at hl 1 rfl) ?_
  refine lv_iload_n hx hb d_l_unseal_5 rfl (lv_at hl 2 rfl) ?_
  refine lv_iload_n hx hb d_l_unseal_6 rfl (lv_at hl 3 rfl) ?_
  refine cX3k S hK hO (x_unseal_b2 l hC _ hfl h1 hr) vw_x_unseal gw_222 (by decide) (by decide) ⟨by decide, by decide⟩ hl.1 (Nat.le_of_ble_eq_true rfl) d_l_unseal_7 (fun x cell H locs hO hxc hvm hcl => ?_)
  try dsimp only at hO
  refine WT.catch1 S htab (by decide) (by decide) gw_88 hxc hvm hcl (as_self S.2.2.2.2.1 gw_162 hcl) ?_
  refine lv_astore hx hb d_l_unseal_15 hl (by decide) rfl (fun ls hl => ?_)
  have hl : lv_has ls 6 [(5, _), (0, _), (1, _), (2, _), (3, _), (4, _)] := hl
  refine lv_iconst (v := 1) hx hb d_l_unseal_17 (by decide) ?_
  exact rt_i S hO (by decide) (by decide) d_l_unseal_18
set_option maxHeartbeats 4000000 in
set_option maxRecDepth 100000 in
/-- unseal: caught -/
theorem l_unseal_b3 (l : Launch) {cx : Cx} (hC : Cg cx) (σ : Sg) (hfl : l.flags = flags0) {i1 : Nat} (h1 : i1 < 16) {i2 : Nat} (h2 : i2 < 16) {t : Int32} (hr : okr t = false) : CT l cx y_l_unseal 8 154 1 6 [.ref (ad cx 17), .int (nI i1), .int (nI i2), .int t, .ref (ad cx 26)] σ (.inl (some (.int 1))) σ := by
  refine Con.ofWith (cc := method_9_code) (maxL := 6) (ret := (some FieldType.int)) (tab := [(0, 12, 15, 15)]) (by decide +kernel) gw_221 ?_
  intro p e s m args below meth c S ha htab hv
  obtain ⟨rfl, hP, hK⟩ := hv
  have S : Fx p s m ([.ref (ad cx 17), .int (nI i1), .int (nI i2), .int t, .ref (ad cx 26)] : List Value).toArray meth c method_9_code 6 "GrantMathLaw" (some FieldType.int) := S
  have hO : Ok cx s σ s.heap [] := ⟨hP, va_S.rf⟩
  have hx := S.1
  have hb := S.2.1
  have hl := lv_entry ([.ref (ad cx 17), .int (nI i1), .int (nI i2), .int t, .ref (ad cx 26)]) (n := 6) (Nat.le_of_ble_eq_true rfl)
  rw [lg_entry_eq]
  generalize (lg_sl ([.ref (ad cx 17), .int (nI i1), .int (nI i2), .int t, .ref (ad cx 26)]) ++ List.replicate (6 - (lg_sl ([.ref (ad cx 17), .int (nI i1), .int (nI i2), .int t, .ref (ad cx 26)])).length) Slot.unset).toArray = ls at hl ⊢
  have hl : lv_has ls 6 [(0, .ref (ad cx 17)), (1, .int (nI i1)), (2, .int (nI i2)), (3, .int t), (4, .ref (ad cx 26))] := hl
  refine lv_aload hx hb d_l_unseal_0 (lv_at hl 4 rfl) ?_
  refine lv_iconst (v := 0) hx hb d_l_unseal_2 (by decide) ?_
  refine lv_aload_n hx hb d_l_unseal_3 rfl (lv_at hl 0 rfl) ?_
  refine lv_iload_n hx hb d_l_unseal_4 rfl (lv_at hl 1 rfl) ?_
  refine lv_iload_n hx hb d_l_unseal_5 rfl (lv_at hl 2 rfl) ?_
  refine lv_iload_n hx hb d_l_unseal_6 rfl (lv_at hl 3 rfl) ?_
  refine cX3k S hK hO (x_unseal_b3 l hC _ hfl h1 h2 hr) vw_x_unseal gw_222 (by decide) (by decide) ⟨by decide, by decide⟩ hl.1 (Nat.le_of_ble_eq_true rfl) d_l_unseal_7 (fun x cell H locs hO hxc hvm hcl => ?_)
  try dsimp only at hO
  refine WT.catch1 S htab (by decide) (by decide) gw_88 hxc hvm hcl (as_self S.2.2.2.2.1 gw_162 hcl) ?_
  refine lv_astore hx hb d_l_unseal_15 hl (by decide) rfl (fun ls hl => ?_)
  have hl : lv_has ls 6 [(5, _), (0, _), (1, _), (2, _), (3, _), (4, _)] := hl
  refine lv_iconst (v := 1) hx hb d_l_unseal_17 (by decide) ?_
  exact rt_i S hO (by decide) (by decide) d_l_unseal_18
set_option maxHeartbeats 4000000 in
set_option maxRecDepth 100000 in
/-- allows -/
theorem l_allows_ok (l : Launch) {cx : Cx} (hC : Cg cx) (σ : Sg) {i : Nat} (hi : i < 16) (by1 : Int32) {k : Nat} (hk : k < 65537) (q : Int32) (hg : gok (σ.1 i)) : CT l cx y_l_allows 8 154 1 6 [.ref (ad cx 17), .int (nI i), .int by1, .int (nI k), .int q, .ref (ad cx 26)] σ (.inl (some (.int 0))) (σ.1, σ.2.1, σ.2.2.1, (alC (σ.1 i) by1 k q).toInt64) := by
  refine Con.ofWith (cc := method_10_code) (maxL := 7) (ret := (some FieldType.int)) (tab := [(0, 14, 17, 13), (0, 14, 21, 15)]) (by decide +kernel) gw_228 ?_
  intro p e s m args below meth c S ha htab hv
  obtain ⟨rfl, hP, hK⟩ := hv
  have S : Fx p s m ([.ref (ad cx 17), .int (nI i), .int by1, .int (nI k), .int q, .ref (ad cx 26)] : List Value).toArray meth c method_10_code 7 "GrantMathLaw" (some FieldType.int) := S
  have hO : Ok cx s σ s.heap [] := ⟨hP, va_S.rf⟩
  have hx := S.1
  have hb := S.2.1
  have hl := lv_entry ([.ref (ad cx 17), .int (nI i), .int by1, .int (nI k), .int q, .ref (ad cx 26)]) (n := 7) (Nat.le_of_ble_eq_true rfl)
  rw [lg_entry_eq]
  generalize (lg_sl ([.ref (ad cx 17), .int (nI i), .int by1, .int (nI k), .int q, .ref (ad cx 26)]) ++ List.replicate (7 - (lg_sl ([.ref (ad cx 17), .int (nI i), .int by1, .int (nI k), .int q, .ref (ad cx 26)])).length) Slot.unset).toArray = ls at hl ⊢
  have hl : lv_has ls 7 [(0, .ref (ad cx 17)), (1, .int (nI i)), (2, .int by1), (3, .int (nI k)), (4, .int q), (5, .ref (ad cx 26))] := hl
  refine lv_aload hx hb d_l_allows_0 (lv_at hl 5 rfl) ?_
  refine lv_iconst (v := 0) hx hb d_l_allows_2 (by decide) ?_
  refine lv_aload_n hx hb d_l_allows_3 rfl (lv_at hl 0 rfl) ?_
  refine lv_iload_n hx hb d_l_allows_4 rfl (lv_at hl 1 rfl) ?_
  refine lv_iload_n hx hb d_l_allows_5 rfl (lv_at hl 2 rfl) ?_
  refine lv_iload_n hx hb d_l_allows_6 rfl (lv_at hl 3 rfl) ?_
  refine lv_iload hx hb d_l_allows_7 (lv_at hl 4 rfl) ?_
  refine cX4r S hK hO (x_allows_ok l hC _ hi by1 hk q hg) vw_x_allows gw_229 (by decide) (by decide) ⟨by decide, by decide⟩ hl.1 (Nat.le_of_ble_eq_true rfl) d_l_allows_9 (fun H locs hO => ?_)
  try dsimp only at hO
  refine lv_i2l hx hb d_l_allows_12 rfl ?_
  refine ol_st hC S hK hO d_l_allows_13 (fun H locs hO => ?_)
  try dsimp only at hO
  refine lv_goto (tgt := 25) hx hb d_l_allows_14 (by decide) ?_
  refine lv_iconst (v := 0) hx hb d_l_allows_25 (by decide) ?_
  exact rt_i S hO (by decide) (by decide) d_l_allows_26
set_option maxHeartbeats 4000000 in
set_option maxRecDepth 100000 in
/-- allows: caught -/
theorem l_allows_b0 (l : Launch) {cx : Cx} (hC : Cg cx) (σ : Sg) (hfl : l.flags = flags0) (r by1 : Int32) {n : Int32} (hb0 : alB n = false) (q : Int32) : CT l cx y_l_allows 8 154 1 6 [.ref (ad cx 17), .int r, .int by1, .int n, .int q, .ref (ad cx 26)] σ (.inl (some (.int 1))) σ := by
  refine Con.ofWith (cc := method_10_code) (maxL := 7) (ret := (some FieldType.int)) (tab := [(0, 14, 17, 13), (0, 14, 21, 15)]) (by decide +kernel) gw_228 ?_
  intro p e s m args below meth c S ha htab hv
  obtain ⟨rfl, hP, hK⟩ := hv
  have S : Fx p s m ([.ref (ad cx 17), .int r, .int by1, .int n, .int q, .ref (ad cx 26)] : List Value).toArray meth c method_10_code 7 "GrantMathLaw" (some FieldType.int) := S
  have hO : Ok cx s σ s.heap [] := ⟨hP, va_S.rf⟩
  have hx := S.1
  have hb := S.2.1
  have hl := lv_entry ([.ref (ad cx 17), .int r, .int by1, .int n, .int q, .ref (ad cx 26)]) (n := 7) (Nat.le_of_ble_eq_true rfl)
  rw [lg_entry_eq]
  generalize (lg_sl ([.ref (ad cx 17), .int r, .int by1, .int n, .int q, .ref (ad cx 26)]) ++ List.replicate (7 - (lg_sl ([.ref (ad cx 17), .int r, .int by1, .int n, .int q, .ref (ad cx 26)])).length) Slot.unset).toArray = ls at hl ⊢
  have hl : lv_has ls 7 [(0, .ref (ad cx 17)), (1, .int r), (2, .int by1), (3, .int n), (4, .int q), (5, .ref (ad cx 26))] := hl
  refine lv_aload hx hb d_l_allows_0 (lv_at hl 5 rfl) ?_
  refine lv_iconst (v := 0) hx hb d_l_allows_2 (by decide) ?_
  refine lv_aload_n hx hb d_l_allows_3 rfl (lv_at hl 0 rfl) ?_
  refine lv_iload_n hx hb d_l_allows_4 rfl (lv_at hl 1 rfl) ?_
  refine lv_iload_n hx hb d_l_allows_5 rfl (lv_at hl 2 rfl) ?_
  refine lv_iload_n hx hb d_l_allows_6 rfl (lv_at hl 3 rfl) ?_
  refine lv_iload hx hb d_l_allows_7 (lv_at hl 4 rfl) ?_
  refine cX4k S hK hO (x_allows_b0 l hC _ hfl r by1 hb0 q) vw_x_allows gw_229 (by decide) (by decide) ⟨by decide, by decide⟩ hl.1 (Nat.le_of_ble_eq_true rfl) d_l_allows_9 (fun x cell H locs hO hxc hvm hcl => ?_)
  try dsimp only at hO
  refine WT.catch1 S htab (by decide) (by decide) gw_87 hxc hvm hcl (as_self S.2.2.2.2.1 gw_98 hcl) ?_
  refine lv_astore hx hb d_l_allows_17 hl (by decide) rfl (fun ls hl => ?_)
  have hl : lv_has ls 7 [(6, _), (0, _), (1, _), (2, _), (3, _), (4, _), (5, _)] := hl
  refine lv_iconst (v := 1) hx hb d_l_allows_19 (by decide) ?_
  exact rt_i S hO (by decide) (by decide) d_l_allows_20
set_option maxHeartbeats 4000000 in
set_option maxRecDepth 100000 in
/-- allows: caught -/
theorem l_allows_b1 (l : Launch) {cx : Cx} (hC : Cg cx) (σ : Sg) (hfl : l.flags = flags0) {r : Int32} (hr : okr r = false) (by1 : Int32) {k : Nat} (hk : k < 65537) (q : Int32) : CT l cx y_l_allows 8 154 1 6 [.ref (ad cx 17), .int r, .int by1, .int (nI k), .int q, .ref (ad cx 26)] σ (.inl (some (.int 2))) σ := by
  refine Con.ofWith (cc := method_10_code) (maxL := 7) (ret := (some FieldType.int)) (tab := [(0, 14, 17, 13), (0, 14, 21, 15)]) (by decide +kernel) gw_228 ?_
  intro p e s m args below meth c S ha htab hv
  obtain ⟨rfl, hP, hK⟩ := hv
  have S : Fx p s m ([.ref (ad cx 17), .int r, .int by1, .int (nI k), .int q, .ref (ad cx 26)] : List Value).toArray meth c method_10_code 7 "GrantMathLaw" (some FieldType.int) := S
  have hO : Ok cx s σ s.heap [] := ⟨hP, va_S.rf⟩
  have hx := S.1
  have hb := S.2.1
  have hl := lv_entry ([.ref (ad cx 17), .int r, .int by1, .int (nI k), .int q, .ref (ad cx 26)]) (n := 7) (Nat.le_of_ble_eq_true rfl)
  rw [lg_entry_eq]
  generalize (lg_sl ([.ref (ad cx 17), .int r, .int by1, .int (nI k), .int q, .ref (ad cx 26)]) ++ List.replicate (7 - (lg_sl ([.ref (ad cx 17), .int r, .int by1, .int (nI k), .int q, .ref (ad cx 26)])).length) Slot.unset).toArray = ls at hl ⊢
  have hl : lv_has ls 7 [(0, .ref (ad cx 17)), (1, .int r), (2, .int by1), (3, .int (nI k)), (4, .int q), (5, .ref (ad cx 26))] := hl
  refine lv_aload hx hb d_l_allows_0 (lv_at hl 5 rfl) ?_
  refine lv_iconst (v := 0) hx hb d_l_allows_2 (by decide) ?_
  refine lv_aload_n hx hb d_l_allows_3 rfl (lv_at hl 0 rfl) ?_
  refine lv_iload_n hx hb d_l_allows_4 rfl (lv_at hl 1 rfl) ?_
  refine lv_iload_n hx hb d_l_allows_5 rfl (lv_at hl 2 rfl) ?_
  refine lv_iload_n hx hb d_l_allows_6 rfl (lv_at hl 3 rfl) ?_
  refine lv_iload hx hb d_l_allows_7 (lv_at hl 4 rfl) ?_
  refine cX4k S hK hO (x_allows_b1 l hC _ hfl hr by1 hk q) vw_x_allows gw_229 (by decide) (by decide) ⟨by decide, by decide⟩ hl.1 (Nat.le_of_ble_eq_true rfl) d_l_allows_9 (fun x cell H locs hO hxc hvm hcl => ?_)
  try dsimp only at hO
  obtain ⟨k1, hk1, hno1⟩ := as_not (S.2.2.2.2.1 _ gw_0) hcl
  refine WT.catch2 S htab (by decide) (by decide) (by decide) (by decide) gw_87 gw_88 hxc hvm hk1 hno1 hcl (as_self S.2.2.2.2.1 gw_162 hcl) ?_
  refine lv_astore hx hb d_l_allows_21 hl (by decide) rfl (fun ls hl => ?_)
  have hl : lv_has ls 7 [(6, _), (0, _), (1, _), (2, _), (3, _), (4, _), (5, _)] := hl
  refine lv_iconst (v := 2) hx hb d_l_allows_23 (by decide) ?_
  exact rt_i S hO (by decide) (by decide) d_l_allows_24
set_option maxHeartbeats 4000000 in
set_option maxRecDepth 100000 in
/-- within -/
theorem l_within_ok (l : Launch) {cx : Cx} (hC : Cg cx) (σ : Sg) {i j : Nat} (hi : i < 16) (hj : j < 16) (hg : gok (σ.1 i)) (hg2 : gok (σ.1 j)) : CT l cx y_l_within 8 154 1 6 [.ref (ad cx 17), .int (nI i), .int (nI j), .ref (ad cx 26)] σ (.inl (some (.int 0))) (σ.1, σ.2.1, σ.2.2.1, bl (wiB (σ.1 i) (σ.1 j))) := by
  refine Con.ofWith (cc := method_11_code) (maxL := 5) (ret := (some FieldType.int)) (tab := [(0, 17, 20, 15)]) (by decide +kernel) gw_236 ?_
  intro p e s m args below meth c S ha htab hv
  obtain ⟨rfl, hP, hK⟩ := hv
  have S : Fx p s m ([.ref (ad cx 17), .int (nI i), .int (nI j), .ref (ad cx 26)] : List Value).toArray meth c method_11_code 5 "GrantMathLaw" (some FieldType.int) := S
  have hO : Ok cx s σ s.heap [] := ⟨hP, va_S.rf⟩
  have hx := S.1
  have hb := S.2.1
  have hl := lv_entry ([.ref (ad cx 17), .int (nI i), .int (nI j), .ref (ad cx 26)]) (n := 5) (Nat.le_of_ble_eq_true rfl)
  rw [lg_entry_eq]
  generalize (lg_sl ([.ref (ad cx 17), .int (nI i), .int (nI j), .ref (ad cx 26)]) ++ List.replicate (5 - (lg_sl ([.ref (ad cx 17), .int (nI i), .int (nI j), .ref (ad cx 26)])).length) Slot.unset).toArray = ls at hl ⊢
  have hl : lv_has ls 5 [(0, .ref (ad cx 17)), (1, .int (nI i)), (2, .int (nI j)), (3, .ref (ad cx 26))] := hl
  refine lv_aload_n hx hb d_l_within_0 rfl (lv_at hl 3 rfl) ?_
  refine lv_iconst (v := 0) hx hb d_l_within_1 (by decide) ?_
  refine lv_aload_n hx hb d_l_within_2 rfl (lv_at hl 0 rfl) ?_
  refine lv_iload_n hx hb d_l_within_3 rfl (lv_at hl 1 rfl) ?_
  refine lv_iload_n hx hb d_l_within_4 rfl (lv_at hl 2 rfl) ?_
  refine cX2r S hK hO (x_within_ok l hC _ hi hj hg hg2) vw_x_within gw_237 (by decide) (by decide) ⟨by decide, by decide⟩ hl.1 (Nat.le_of_ble_eq_true rfl) d_l_within_5 (fun H locs hO => ?_)
  try dsimp only at hO
  refine lv_if_eq (tgt := 15) hx hb d_l_within_8 (by decide) (fun h => ?_) (fun h => ?_)
  · refine lv_lconst (v := lN 0) hx hb d_l_within_15 rfl ?_
    refine tp_l (z := bl (wiB (σ.1 i) (σ.1 j))) (by have z := bi_0.mp h; simp [bl, z]) ?_
    refine ol_st hC S hK hO d_l_within_16 (fun H locs hO => ?_)
    try dsimp only at hO
    refine lv_goto (tgt := 24) hx hb d_l_within_17 (by decide) ?_
    refine lv_iconst (v := 0) hx hb d_l_within_24 (by decide) ?_
    exact rt_i S hO (by decide) (by decide) d_l_within_25
  · refine lv_lconst (v := lN 1) hx hb d_l_within_11 rfl ?_
    refine lv_goto (tgt := 16) hx hb d_l_within_12 (by decide) ?_
    refine tp_l (z := bl (wiB (σ.1 i) (σ.1 j))) (by have z := bi_n.mp h; simp [bl, z]) ?_
    refine ol_st hC S hK hO d_l_within_16 (fun H locs hO => ?_)
    try dsimp only at hO
    refine lv_goto (tgt := 24) hx hb d_l_within_17 (by decide) ?_
    refine lv_iconst (v := 0) hx hb d_l_within_24 (by decide) ?_
    exact rt_i S hO (by decide) (by decide) d_l_within_25
set_option maxHeartbeats 4000000 in
set_option maxRecDepth 100000 in
/-- within: caught -/
theorem l_within_b1 (l : Launch) {cx : Cx} (hC : Cg cx) (σ : Sg) (hfl : l.flags = flags0) {r u : Int32} (hr : okr r = false) : CT l cx y_l_within 8 154 1 6 [.ref (ad cx 17), .int r, .int u, .ref (ad cx 26)] σ (.inl (some (.int 1))) σ := by
  refine Con.ofWith (cc := method_11_code) (maxL := 5) (ret := (some FieldType.int)) (tab := [(0, 17, 20, 15)]) (by decide +kernel) gw_236 ?_
  intro p e s m args below meth c S ha htab hv
  obtain ⟨rfl, hP, hK⟩ := hv
  have S : Fx p s m ([.ref (ad cx 17), .int r, .int u, .ref (ad cx 26)] : List Value).toArray meth c method_11_code 5 "GrantMathLaw" (some FieldType.int) := S
  have hO : Ok cx s σ s.heap [] := ⟨hP, va_S.rf⟩
  have hx := S.1
  have hb := S.2.1
  have hl := lv_entry ([.ref (ad cx 17), .int r, .int u, .ref (ad cx 26)]) (n := 5) (Nat.le_of_ble_eq_true rfl)
  rw [lg_entry_eq]
  generalize (lg_sl ([.ref (ad cx 17), .int r, .int u, .ref (ad cx 26)]) ++ List.replicate (5 - (lg_sl ([.ref (ad cx 17), .int r, .int u, .ref (ad cx 26)])).length) Slot.unset).toArray = ls at hl ⊢
  have hl : lv_has ls 5 [(0, .ref (ad cx 17)), (1, .int r), (2, .int u), (3, .ref (ad cx 26))] := hl
  refine lv_aload_n hx hb d_l_within_0 rfl (lv_at hl 3 rfl) ?_
  refine lv_iconst (v := 0) hx hb d_l_within_1 (by decide) ?_
  refine lv_aload_n hx hb d_l_within_2 rfl (lv_at hl 0 rfl) ?_
  refine lv_iload_n hx hb d_l_within_3 rfl (lv_at hl 1 rfl) ?_
  refine lv_iload_n hx hb d_l_within_4 rfl (lv_at hl 2 rfl) ?_
  refine cX2k S hK hO (x_within_b1 l hC _ hfl hr) vw_x_within gw_237 (by decide) (by decide) ⟨by decide, by decide⟩ hl.1 (Nat.le_of_ble_eq_true rfl) d_l_within_5 (fun x cell H locs hO hxc hvm hcl => ?_)
  try dsimp only at hO
  refine WT.catch1 S htab (by decide) (by decide) gw_88 hxc hvm hcl (as_self S.2.2.2.2.1 gw_162 hcl) ?_
  refine lv_astore hx hb d_l_within_20 hl (by decide) rfl (fun ls hl => ?_)
  have hl : lv_has ls 5 [(4, _), (0, _), (1, _), (2, _), (3, _)] := hl
  refine lv_iconst (v := 1) hx hb d_l_within_22 (by decide) ?_
  exact rt_i S hO (by decide) (by decide) d_l_within_23
set_option maxHeartbeats 4000000 in
set_option maxRecDepth 100000 in
/-- within: caught -/
theorem l_within_b2 (l : Launch) {cx : Cx} (hC : Cg cx) (σ : Sg) (hfl : l.flags = flags0) {i1 : Nat} (h1 : i1 < 16) {u : Int32} (hr : okr u = false) : CT l cx y_l_within 8 154 1 6 [.ref (ad cx 17), .int (nI i1), .int u, .ref (ad cx 26)] σ (.inl (some (.int 1))) σ := by
  refine Con.ofWith (cc := method_11_code) (maxL := 5) (ret := (some FieldType.int)) (tab := [(0, 17, 20, 15)]) (by decide +kernel) gw_236 ?_
  intro p e s m args below meth c S ha htab hv
  obtain ⟨rfl, hP, hK⟩ := hv
  have S : Fx p s m ([.ref (ad cx 17), .int (nI i1), .int u, .ref (ad cx 26)] : List Value).toArray meth c method_11_code 5 "GrantMathLaw" (some FieldType.int) := S
  have hO : Ok cx s σ s.heap [] := ⟨hP, va_S.rf⟩
  have hx := S.1
  have hb := S.2.1
  have hl := lv_entry ([.ref (ad cx 17), .int (nI i1), .int u, .ref (ad cx 26)]) (n := 5) (Nat.le_of_ble_eq_true rfl)
  rw [lg_entry_eq]
  generalize (lg_sl ([.ref (ad cx 17), .int (nI i1), .int u, .ref (ad cx 26)]) ++ List.replicate (5 - (lg_sl ([.ref (ad cx 17), .int (nI i1), .int u, .ref (ad cx 26)])).length) Slot.unset).toArray = ls at hl ⊢
  have hl : lv_has ls 5 [(0, .ref (ad cx 17)), (1, .int (nI i1)), (2, .int u), (3, .ref (ad cx 26))] := hl
  refine lv_aload_n hx hb d_l_within_0 rfl (lv_at hl 3 rfl) ?_
  refine lv_iconst (v := 0) hx hb d_l_within_1 (by decide) ?_
  refine lv_aload_n hx hb d_l_within_2 rfl (lv_at hl 0 rfl) ?_
  refine lv_iload_n hx hb d_l_within_3 rfl (lv_at hl 1 rfl) ?_
  refine lv_iload_n hx hb d_l_within_4 rfl (lv_at hl 2 rfl) ?_
  refine cX2k S hK hO (x_within_b2 l hC _ hfl h1 hr) vw_x_within gw_237 (by decide) (by decide) ⟨by decide, by decide⟩ hl.1 (Nat.le_of_ble_eq_true rfl) d_l_within_5 (fun x cell H locs hO hxc hvm hcl => ?_)
  try dsimp only at hO
  refine WT.catch1 S htab (by decide) (by decide) gw_88 hxc hvm hcl (as_self S.2.2.2.2.1 gw_162 hcl) ?_
  refine lv_astore hx hb d_l_within_20 hl (by decide) rfl (fun ls hl => ?_)
  have hl : lv_has ls 5 [(4, _), (0, _), (1, _), (2, _), (3, _)] := hl
  refine lv_iconst (v := 1) hx hb d_l_within_22 (by decide) ?_
  exact rt_i S hO (by decide) (by decide) d_l_within_23
set_option maxHeartbeats 4000000 in
set_option maxRecDepth 100000 in
/-- part -/
theorem l_part_ok (l : Launch) {cx : Cx} (hC : Cg cx) (σ : Sg) {i : Nat} (hi : i < 16) {k : Nat} (hk : k < 6) : CT l cx y_l_part 8 154 1 6 [.ref (ad cx 17), .int (nI i), .int (nI k), .ref (ad cx 26)] σ (.inl (some (.int 0))) (σ.1, σ.2.1, σ.2.2.1, (ptV (σ.1 i) k).toInt64) := by
  refine Con.ofWith (cc := method_12_code) (maxL := 5) (ret := (some FieldType.int)) (tab := [(0, 10, 13, 13), (0, 10, 17, 15)]) (by decide +kernel) gw_243 ?_
  intro p e s m args below meth c S ha htab hv
  obtain ⟨rfl, hP, hK⟩ := hv
  have S : Fx p s m ([.ref (ad cx 17), .int (nI i), .int (nI k), .ref (ad cx 26)] : List Value).toArray meth c method_12_code 5 "GrantMathLaw" (some FieldType.int) := S
  have hO : Ok cx s σ s.heap [] := ⟨hP, va_S.rf⟩
  have hx := S.1
  have hb := S.2.1
  have hl := lv_entry ([.ref (ad cx 17), .int (nI i), .int (nI k), .ref (ad cx 26)]) (n := 5) (Nat.le_of_ble_eq_true rfl)
  rw [lg_entry_eq]
  generalize (lg_sl ([.ref (ad cx 17), .int (nI i), .int (nI k), .ref (ad cx 26)]) ++ List.replicate (5 - (lg_sl ([.ref (ad cx 17), .int (nI i), .int (nI k), .ref (ad cx 26)])).length) Slot.unset).toArray = ls at hl ⊢
  have hl : lv_has ls 5 [(0, .ref (ad cx 17)), (1, .int (nI i)), (2, .int (nI k)), (3, .ref (ad cx 26))] := hl
  refine lv_aload_n hx hb d_l_part_0 rfl (lv_at hl 3 rfl) ?_
  refine lv_iconst (v := 0) hx hb d_l_part_1 (by decide) ?_
  refine lv_aload_n hx hb d_l_part_2 rfl (lv_at hl 0 rfl) ?_
  refine lv_iload_n hx hb d_l_part_3 rfl (lv_at hl 1 rfl) ?_
  refine lv_iload_n hx hb d_l_part_4 rfl (lv_at hl 2 rfl) ?_
  refine cX2r S hK hO (x_part_ok l hC _ hi hk) vw_x_part gw_244 (by decide) (by decide) ⟨by decide, by decide⟩ hl.1 (Nat.le_of_ble_eq_true rfl) d_l_part_5 (fun H locs hO => ?_)
  try dsimp only at hO
  refine lv_i2l hx hb d_l_part_8 rfl ?_
  refine ol_st hC S hK hO d_l_part_9 (fun H locs hO => ?_)
  try dsimp only at hO
  refine lv_goto (tgt := 21) hx hb d_l_part_10 (by decide) ?_
  refine lv_iconst (v := 0) hx hb d_l_part_21 (by decide) ?_
  exact rt_i S hO (by decide) (by decide) d_l_part_22
set_option maxHeartbeats 4000000 in
set_option maxRecDepth 100000 in
/-- part: caught -/
theorem l_part_b0 (l : Launch) {cx : Cx} (hC : Cg cx) (σ : Sg) (hfl : l.flags = flags0) (r : Int32) {n : Int32} (hb0 : ptB n = false) : CT l cx y_l_part 8 154 1 6 [.ref (ad cx 17), .int r, .int n, .ref (ad cx 26)] σ (.inl (some (.int 1))) σ := by
  refine Con.ofWith (cc := method_12_code) (maxL := 5) (ret := (some FieldType.int)) (tab := [(0, 10, 13, 13), (0, 10, 17, 15)]) (by decide +kernel) gw_243 ?_
  intro p e s m args below meth c S ha htab hv
  obtain ⟨rfl, hP, hK⟩ := hv
  have S : Fx p s m ([.ref (ad cx 17), .int r, .int n, .ref (ad cx 26)] : List Value).toArray meth c method_12_code 5 "GrantMathLaw" (some FieldType.int) := S
  have hO : Ok cx s σ s.heap [] := ⟨hP, va_S.rf⟩
  have hx := S.1
  have hb := S.2.1
  have hl := lv_entry ([.ref (ad cx 17), .int r, .int n, .ref (ad cx 26)]) (n := 5) (Nat.le_of_ble_eq_true rfl)
  rw [lg_entry_eq]
  generalize (lg_sl ([.ref (ad cx 17), .int r, .int n, .ref (ad cx 26)]) ++ List.replicate (5 - (lg_sl ([.ref (ad cx 17), .int r, .int n, .ref (ad cx 26)])).length) Slot.unset).toArray = ls at hl ⊢
  have hl : lv_has ls 5 [(0, .ref (ad cx 17)), (1, .int r), (2, .int n), (3, .ref (ad cx 26))] := hl
  refine lv_aload_n hx hb d_l_part_0 rfl (lv_at hl 3 rfl) ?_
  refine lv_iconst (v := 0) hx hb d_l_part_1 (by decide) ?_
  refine lv_aload_n hx hb d_l_part_2 rfl (lv_at hl 0 rfl) ?_
  refine lv_iload_n hx hb d_l_part_3 rfl (lv_at hl 1 rfl) ?_
  refine lv_iload_n hx hb d_l_part_4 rfl (lv_at hl 2 rfl) ?_
  refine cX2k S hK hO (x_part_b0 l hC _ hfl r hb0) vw_x_part gw_244 (by decide) (by decide) ⟨by decide, by decide⟩ hl.1 (Nat.le_of_ble_eq_true rfl) d_l_part_5 (fun x cell H locs hO hxc hvm hcl => ?_)
  try dsimp only at hO
  refine WT.catch1 S htab (by decide) (by decide) gw_87 hxc hvm hcl (as_self S.2.2.2.2.1 gw_98 hcl) ?_
  refine lv_astore hx hb d_l_part_13 hl (by decide) rfl (fun ls hl => ?_)
  have hl : lv_has ls 5 [(4, _), (0, _), (1, _), (2, _), (3, _)] := hl
  refine lv_iconst (v := 1) hx hb d_l_part_15 (by decide) ?_
  exact rt_i S hO (by decide) (by decide) d_l_part_16
set_option maxHeartbeats 4000000 in
set_option maxRecDepth 100000 in
/-- part: caught -/
theorem l_part_b1 (l : Launch) {cx : Cx} (hC : Cg cx) (σ : Sg) (hfl : l.flags = flags0) {r : Int32} (hr : okr r = false) {k : Nat} (hk : k < 6) : CT l cx y_l_part 8 154 1 6 [.ref (ad cx 17), .int r, .int (nI k), .ref (ad cx 26)] σ (.inl (some (.int 2))) σ := by
  refine Con.ofWith (cc := method_12_code) (maxL := 5) (ret := (some FieldType.int)) (tab := [(0, 10, 13, 13), (0, 10, 17, 15)]) (by decide +kernel) gw_243 ?_
  intro p e s m args below meth c S ha htab hv
  obtain ⟨rfl, hP, hK⟩ := hv
  have S : Fx p s m ([.ref (ad cx 17), .int r, .int (nI k), .ref (ad cx 26)] : List Value).toArray meth c method_12_code 5 "GrantMathLaw" (some FieldType.int) := S
  have hO : Ok cx s σ s.heap [] := ⟨hP, va_S.rf⟩
  have hx := S.1
  have hb := S.2.1
  have hl := lv_entry ([.ref (ad cx 17), .int r, .int (nI k), .ref (ad cx 26)]) (n := 5) (Nat.le_of_ble_eq_true rfl)
  rw [lg_entry_eq]
  generalize (lg_sl ([.ref (ad cx 17), .int r, .int (nI k), .ref (ad cx 26)]) ++ List.replicate (5 - (lg_sl ([.ref (ad cx 17), .int r, .int (nI k), .ref (ad cx 26)])).length) Slot.unset).toArray = ls at hl ⊢
  have hl : lv_has ls 5 [(0, .ref (ad cx 17)), (1, .int r), (2, .int (nI k)), (3, .ref (ad cx 26))] := hl
  refine lv_aload_n hx hb d_l_part_0 rfl (lv_at hl 3 rfl) ?_
  refine lv_iconst (v := 0) hx hb d_l_part_1 (by decide) ?_
  refine lv_aload_n hx hb d_l_part_2 rfl (lv_at hl 0 rfl) ?_
  refine lv_iload_n hx hb d_l_part_3 rfl (lv_at hl 1 rfl) ?_
  refine lv_iload_n hx hb d_l_part_4 rfl (lv_at hl 2 rfl) ?_
  refine cX2k S hK hO (x_part_b1 l hC _ hfl hr hk) vw_x_part gw_244 (by decide) (by decide) ⟨by decide, by decide⟩ hl.1 (Nat.le_of_ble_eq_true rfl) d_l_part_5 (fun x cell H locs hO hxc hvm hcl => ?_)
  try dsimp only at hO
  obtain ⟨k1, hk1, hno1⟩ := as_not (S.2.2.2.2.1 _ gw_0) hcl
  refine WT.catch2 S htab (by decide) (by decide) (by decide) (by decide) gw_87 gw_88 hxc hvm hk1 hno1 hcl (as_self S.2.2.2.2.1 gw_162 hcl) ?_
  refine lv_astore hx hb d_l_part_17 hl (by decide) rfl (fun ls hl => ?_)
  have hl : lv_has ls 5 [(4, _), (0, _), (1, _), (2, _), (3, _)] := hl
  refine lv_iconst (v := 2) hx hb d_l_part_19 (by decide) ?_
  exact rt_i S hO (by decide) (by decide) d_l_part_20
end
section
/-! decode rows of the law, 1 of 2 (printed by gen/decode_law.py) -/
theorem d_l_law_0 : decode code 0 = .ok (.new 8, 3) := by decide +kernel
theorem d_l_law_3 : decode code 3 = .ok (.dup, 1) := by decide +kernel
theorem d_l_law_4 : decode code 4 = .ok (.invokespecial 51, 3) := by decide +kernel
theorem d_l_law_7 : decode code 7 = .ok (.astore_n 1, 1) := by decide +kernel
theorem d_l_law_8 : decode code 8 = .ok (.new 52, 3) := by decide +kernel
theorem d_l_law_11 : decode code 11 = .ok (.dup, 1) := by decide +kernel
theorem d_l_law_12 : decode code 12 = .ok (.invokespecial 54, 3) := by decide +kernel
theorem d_l_law_15 : decode code 15 = .ok (.astore_n 2, 1) := by decide +kernel
theorem d_l_law_16 : decode code 16 = .ok (.iconst 1, 1) := by decide +kernel
theorem d_l_law_17 : decode code 17 = .ok (.newarray .long, 2) := by decide +kernel
theorem d_l_law_19 : decode code 19 = .ok (.astore_n 3, 1) := by decide +kernel
theorem d_l_law_20 : decode code 20 = .ok (.iconst 0, 1) := by decide +kernel
theorem d_l_law_21 : decode code 21 = .ok (.istore 4, 2) := by decide +kernel
theorem d_l_law_23 : decode code 23 = .ok (.iload 4, 2) := by decide +kernel
theorem d_l_law_25 : decode code 25 = .ok (.aload_n 0, 1) := by decide +kernel
theorem d_l_law_26 : decode code 26 = .ok (.arraylength, 1) := by decide +kernel
theorem d_l_law_27 : decode code 27 = .ok (.iconst 5, 1) := by decide +kernel
theorem d_l_law_28 : decode code 28 = .ok (.isub, 1) := by decide +kernel
theorem d_l_law_29 : decode code 29 = .ok (.if_icmp .gt 859, 3) := by decide +kernel
theorem d_l_law_32 : decode code 32 = .ok (.aload_n 0, 1) := by decide +kernel
theorem d_l_law_33 : decode code 33 = .ok (.iload 4, 2) := by decide +kernel
theorem d_l_law_35 : decode code 35 = .ok (.iaload, 1) := by decide +kernel
theorem d_l_law_36 : decode code 36 = .ok (.bipush 15, 2) := by decide +kernel
theorem d_l_law_38 : decode code 38 = .ok (.iand, 1) := by decide +kernel
theorem d_l_law_39 : decode code 39 = .ok (.tableswitch 843 0 10 #[57, 129, 177, 237, 324, 411, 491, 571, 663, 738, 806], 57) := by decide +kernel
theorem d_l_law_96 : decode code 96 = .ok (.aload_n 1, 1) := by decide +kernel
theorem d_l_law_97 : decode code 97 = .ok (.aload_n 0, 1) := by decide +kernel
theorem d_l_law_98 : decode code 98 = .ok (.iload 4, 2) := by decide +kernel
theorem d_l_law_100 : decode code 100 = .ok (.iconst 1, 1) := by decide +kernel
theorem d_l_law_101 : decode code 101 = .ok (.iadd, 1) := by decide +kernel
theorem d_l_law_102 : decode code 102 = .ok (.iaload, 1) := by decide +kernel
theorem d_l_law_103 : decode code 103 = .ok (.aload_n 0, 1) := by decide +kernel
theorem d_l_law_104 : decode code 104 = .ok (.iload 4, 2) := by decide +kernel
theorem d_l_law_106 : decode code 106 = .ok (.iconst 2, 1) := by decide +kernel
theorem d_l_law_107 : decode code 107 = .ok (.iadd, 1) := by decide +kernel
theorem d_l_law_108 : decode code 108 = .ok (.iaload, 1) := by decide +kernel
theorem d_l_law_109 : decode code 109 = .ok (.aload_n 0, 1) := by decide +kernel
theorem d_l_law_110 : decode code 110 = .ok (.iload 4, 2) := by decide +kernel
theorem d_l_law_112 : decode code 112 = .ok (.iconst 3, 1) := by decide +kernel
theorem d_l_law_113 : decode code 113 = .ok (.iadd, 1) := by decide +kernel
theorem d_l_law_114 : decode code 114 = .ok (.iaload, 1) := by decide +kernel
theorem d_l_law_115 : decode code 115 = .ok (.aload_n 0, 1) := by decide +kernel
theorem d_l_law_116 : decode code 116 = .ok (.iload 4, 2) := by decide +kernel
theorem d_l_law_118 : decode code 118 = .ok (.iconst 4, 1) := by decide +kernel
theorem d_l_law_119 : decode code 119 = .ok (.iadd, 1) := by decide +kernel
theorem d_l_law_120 : decode code 120 = .ok (.iaload, 1) := by decide +kernel
theorem d_l_law_121 : decode code 121 = .ok (.invokestatic 55, 3) := by decide +kernel
theorem d_l_law_124 : decode code 124 = .ok (.istore 5, 2) := by decide +kernel
theorem d_l_law_126 : decode code 126 = .ok (.aload_n 2, 1) := by decide +kernel
theorem d_l_law_127 : decode code 127 = .ok (.aload_n 0, 1) := by decide +kernel
theorem d_l_law_128 : decode code 128 = .ok (.iload 4, 2) := by decide +kernel
theorem d_l_law_130 : decode code 130 = .ok (.iconst 1, 1) := by decide +kernel
theorem d_l_law_131 : decode code 131 = .ok (.iadd, 1) := by decide +kernel
theorem d_l_law_132 : decode code 132 = .ok (.iaload, 1) := by decide +kernel
theorem d_l_law_133 : decode code 133 = .ok (.aload_n 0, 1) := by decide +kernel
theorem d_l_law_134 : decode code 134 = .ok (.iload 4, 2) := by decide +kernel
theorem d_l_law_136 : decode code 136 = .ok (.iconst 2, 1) := by decide +kernel
theorem d_l_law_137 : decode code 137 = .ok (.iadd, 1) := by decide +kernel
theorem d_l_law_138 : decode code 138 = .ok (.iaload, 1) := by decide +kernel
theorem d_l_law_139 : decode code 139 = .ok (.aload_n 0, 1) := by decide +kernel
theorem d_l_law_140 : decode code 140 = .ok (.iload 4, 2) := by decide +kernel
theorem d_l_law_142 : decode code 142 = .ok (.iconst 3, 1) := by decide +kernel
theorem d_l_law_143 : decode code 143 = .ok (.iadd, 1) := by decide +kernel
theorem d_l_law_144 : decode code 144 = .ok (.iaload, 1) := by decide +kernel
theorem d_l_law_145 : decode code 145 = .ok (.aload_n 0, 1) := by decide +kernel
theorem d_l_law_146 : decode code 146 = .ok (.iload 4, 2) := by decide +kernel
theorem d_l_law_148 : decode code 148 = .ok (.iconst 4, 1) := by decide +kernel
theorem d_l_law_149 : decode code 149 = .ok (.iadd, 1) := by decide +kernel
theorem d_l_law_150 : decode code 150 = .ok (.iaload, 1) := by decide +kernel
theorem d_l_law_151 : decode code 151 = .ok (.invokevirtual 60, 3) := by decide +kernel
theorem d_l_law_154 : decode code 154 = .ok (.aload_n 2, 1) := by decide +kernel
theorem d_l_law_155 : decode code 155 = .ok (.invokevirtual 61, 3) := by decide +kernel
theorem d_l_law_158 : decode code 158 = .ok (.iload 5, 2) := by decide +kernel
theorem d_l_law_160 : decode code 160 = .ok (.if_icmp .eq 5, 3) := by decide +kernel
theorem d_l_law_163 : decode code 163 = .ok (.iconst 0, 1) := by decide +kernel
theorem d_l_law_164 : decode code 164 = .ok (.ireturn, 1) := by decide +kernel
theorem d_l_law_165 : decode code 165 = .ok (.goto 717, 3) := by decide +kernel
theorem d_l_law_168 : decode code 168 = .ok (.aload_n 1, 1) := by decide +kernel
theorem d_l_law_169 : decode code 169 = .ok (.aload_n 0, 1) := by decide +kernel
theorem d_l_law_170 : decode code 170 = .ok (.iload 4, 2) := by decide +kernel
theorem d_l_law_172 : decode code 172 = .ok (.iconst 1, 1) := by decide +kernel
theorem d_l_law_173 : decode code 173 = .ok (.iadd, 1) := by decide +kernel
theorem d_l_law_174 : decode code 174 = .ok (.iaload, 1) := by decide +kernel
theorem d_l_law_175 : decode code 175 = .ok (.aload_n 0, 1) := by decide +kernel
theorem d_l_law_176 : decode code 176 = .ok (.iload 4, 2) := by decide +kernel
theorem d_l_law_178 : decode code 178 = .ok (.iconst 2, 1) := by decide +kernel
theorem d_l_law_179 : decode code 179 = .ok (.iadd, 1) := by decide +kernel
theorem d_l_law_180 : decode code 180 = .ok (.iaload, 1) := by decide +kernel
theorem d_l_law_181 : decode code 181 = .ok (.invokestatic 65, 3) := by decide +kernel
theorem d_l_law_184 : decode code 184 = .ok (.istore 5, 2) := by decide +kernel
theorem d_l_law_186 : decode code 186 = .ok (.aload_n 2, 1) := by decide +kernel
theorem d_l_law_187 : decode code 187 = .ok (.aload_n 0, 1) := by decide +kernel
theorem d_l_law_188 : decode code 188 = .ok (.iload 4, 2) := by decide +kernel
theorem d_l_law_190 : decode code 190 = .ok (.iconst 1, 1) := by decide +kernel
theorem d_l_law_191 : decode code 191 = .ok (.iadd, 1) := by decide +kernel
theorem d_l_law_192 : decode code 192 = .ok (.iaload, 1) := by decide +kernel
theorem d_l_law_193 : decode code 193 = .ok (.aload_n 0, 1) := by decide +kernel
theorem d_l_law_194 : decode code 194 = .ok (.iload 4, 2) := by decide +kernel
theorem d_l_law_196 : decode code 196 = .ok (.iconst 2, 1) := by decide +kernel
theorem d_l_law_197 : decode code 197 = .ok (.iadd, 1) := by decide +kernel
theorem d_l_law_198 : decode code 198 = .ok (.iaload, 1) := by decide +kernel
theorem d_l_law_199 : decode code 199 = .ok (.invokevirtual 68, 3) := by decide +kernel
theorem d_l_law_202 : decode code 202 = .ok (.aload_n 2, 1) := by decide +kernel
theorem d_l_law_203 : decode code 203 = .ok (.invokevirtual 61, 3) := by decide +kernel
theorem d_l_law_206 : decode code 206 = .ok (.iload 5, 2) := by decide +kernel
theorem d_l_law_208 : decode code 208 = .ok (.if_icmp .eq 5, 3) := by decide +kernel
theorem d_l_law_211 : decode code 211 = .ok (.iconst 0, 1) := by decide +kernel
theorem d_l_law_212 : decode code 212 = .ok (.ireturn, 1) := by decide +kernel
theorem d_l_law_213 : decode code 213 = .ok (.goto 669, 3) := by decide +kernel
theorem d_l_law_216 : decode code 216 = .ok (.aload_n 1, 1) := by decide +kernel
theorem d_l_law_217 : decode code 217 = .ok (.aload_n 0, 1) := by decide +kernel
theorem d_l_law_218 : decode code 218 = .ok (.iload 4, 2) := by decide +kernel
theorem d_l_law_220 : decode code 220 = .ok (.iconst 1, 1) := by decide +kernel
theorem d_l_law_221 : decode code 221 = .ok (.iadd, 1) := by decide +kernel
theorem d_l_law_222 : decode code 222 = .ok (.iaload, 1) := by decide +kernel
theorem d_l_law_223 : decode code 223 = .ok (.aload_n 0, 1) := by decide +kernel
theorem d_l_law_224 : decode code 224 = .ok (.iload 4, 2) := by decide +kernel
theorem d_l_law_226 : decode code 226 = .ok (.iconst 2, 1) := by decide +kernel
theorem d_l_law_227 : decode code 227 = .ok (.iadd, 1) := by decide +kernel
theorem d_l_law_228 : decode code 228 = .ok (.iaload, 1) := by decide +kernel
theorem d_l_law_229 : decode code 229 = .ok (.aload_n 0, 1) := by decide +kernel
theorem d_l_law_230 : decode code 230 = .ok (.iload 4, 2) := by decide +kernel
theorem d_l_law_232 : decode code 232 = .ok (.iconst 3, 1) := by decide +kernel
theorem d_l_law_233 : decode code 233 = .ok (.iadd, 1) := by decide +kernel
theorem d_l_law_234 : decode code 234 = .ok (.iaload, 1) := by decide +kernel
theorem d_l_law_235 : decode code 235 = .ok (.invokestatic 69, 3) := by decide +kernel
theorem d_l_law_238 : decode code 238 = .ok (.istore 5, 2) := by decide +kernel
theorem d_l_law_240 : decode code 240 = .ok (.aload_n 2, 1) := by decide +kernel
theorem d_l_law_241 : decode code 241 = .ok (.aload_n 0, 1) := by decide +kernel
theorem d_l_law_242 : decode code 242 = .ok (.iload 4, 2) := by decide +kernel
theorem d_l_law_244 : decode code 244 = .ok (.iconst 1, 1) := by decide +kernel
theorem d_l_law_245 : decode code 245 = .ok (.iadd, 1) := by decide +kernel
theorem d_l_law_246 : decode code 246 = .ok (.iaload, 1) := by decide +kernel
theorem d_l_law_247 : decode code 247 = .ok (.aload_n 0, 1) := by decide +kernel
theorem d_l_law_248 : decode code 248 = .ok (.iload 4, 2) := by decide +kernel
theorem d_l_law_250 : decode code 250 = .ok (.iconst 2, 1) := by decide +kernel
theorem d_l_law_251 : decode code 251 = .ok (.iadd, 1) := by decide +kernel
theorem d_l_law_252 : decode code 252 = .ok (.iaload, 1) := by decide +kernel
theorem d_l_law_253 : decode code 253 = .ok (.aload_n 0, 1) := by decide +kernel
theorem d_l_law_254 : decode code 254 = .ok (.iload 4, 2) := by decide +kernel
theorem d_l_law_256 : decode code 256 = .ok (.iconst 3, 1) := by decide +kernel
theorem d_l_law_257 : decode code 257 = .ok (.iadd, 1) := by decide +kernel
theorem d_l_law_258 : decode code 258 = .ok (.iaload, 1) := by decide +kernel
theorem d_l_law_259 : decode code 259 = .ok (.invokevirtual 72, 3) := by decide +kernel
theorem d_l_law_262 : decode code 262 = .ok (.aload_n 2, 1) := by decide +kernel
theorem d_l_law_263 : decode code 263 = .ok (.invokevirtual 61, 3) := by decide +kernel
theorem d_l_law_266 : decode code 266 = .ok (.iload 5, 2) := by decide +kernel
theorem d_l_law_268 : decode code 268 = .ok (.if_icmp .eq 5, 3) := by decide +kernel
theorem d_l_law_271 : decode code 271 = .ok (.iconst 0, 1) := by decide +kernel
theorem d_l_law_272 : decode code 272 = .ok (.ireturn, 1) := by decide +kernel
theorem d_l_law_273 : decode code 273 = .ok (.goto 609, 3) := by decide +kernel
theorem d_l_law_276 : decode code 276 = .ok (.aload_n 1, 1) := by decide +kernel
theorem d_l_law_277 : decode code 277 = .ok (.aload_n 0, 1) := by decide +kernel
theorem d_l_law_278 : decode code 278 = .ok (.iload 4, 2) := by decide +kernel
theorem d_l_law_280 : decode code 280 = .ok (.iconst 1, 1) := by decide +kernel
theorem d_l_law_281 : decode code 281 = .ok (.iadd, 1) := by decide +kernel
theorem d_l_law_282 : decode code 282 = .ok (.iaload, 1) := by decide +kernel
theorem d_l_law_283 : decode code 283 = .ok (.aload_n 0, 1) := by decide +kernel
theorem d_l_law_284 : decode code 284 = .ok (.iload 4, 2) := by decide +kernel
theorem d_l_law_286 : decode code 286 = .ok (.iconst 2, 1) := by decide +kernel
theorem d_l_law_287 : decode code 287 = .ok (.iadd, 1) := by decide +kernel
theorem d_l_law_288 : decode code 288 = .ok (.iaload, 1) := by decide +kernel
theorem d_l_law_289 : decode code 289 = .ok (.aload_n 0, 1) := by decide +kernel
theorem d_l_law_290 : decode code 290 = .ok (.iload 4, 2) := by decide +kernel
theorem d_l_law_292 : decode code 292 = .ok (.iconst 3, 1) := by decide +kernel
theorem d_l_law_293 : decode code 293 = .ok (.iadd, 1) := by decide +kernel
theorem d_l_law_294 : decode code 294 = .ok (.iaload, 1) := by decide +kernel
theorem d_l_law_295 : decode code 295 = .ok (.aload_n 3, 1) := by decide +kernel
theorem d_l_law_296 : decode code 296 = .ok (.invokestatic 73, 3) := by decide +kernel
theorem d_l_law_299 : decode code 299 = .ok (.istore 5, 2) := by decide +kernel
theorem d_l_law_301 : decode code 301 = .ok (.aload_n 2, 1) := by decide +kernel
theorem d_l_law_302 : decode code 302 = .ok (.aload_n 0, 1) := by decide +kernel
theorem d_l_law_303 : decode code 303 = .ok (.iload 4, 2) := by decide +kernel
theorem d_l_law_305 : decode code 305 = .ok (.iconst 1, 1) := by decide +kernel
theorem d_l_law_306 : decode code 306 = .ok (.iadd, 1) := by decide +kernel
theorem d_l_law_307 : decode code 307 = .ok (.iaload, 1) := by decide +kernel
theorem d_l_law_308 : decode code 308 = .ok (.aload_n 0, 1) := by decide +kernel
theorem d_l_law_309 : decode code 309 = .ok (.iload 4, 2) := by decide +kernel
theorem d_l_law_311 : decode code 311 = .ok (.iconst 2, 1) := by decide +kernel
theorem d_l_law_312 : decode code 312 = .ok (.iadd, 1) := by decide +kernel
theorem d_l_law_313 : decode code 313 = .ok (.iaload, 1) := by decide +kernel
theorem d_l_law_314 : decode code 314 = .ok (.aload_n 0, 1) := by decide +kernel
theorem d_l_law_315 : decode code 315 = .ok (.iload 4, 2) := by decide +kernel
theorem d_l_law_317 : decode code 317 = .ok (.iconst 3, 1) := by decide +kernel
theorem d_l_law_318 : decode code 318 = .ok (.iadd, 1) := by decide +kernel
theorem d_l_law_319 : decode code 319 = .ok (.iaload, 1) := by decide +kernel
theorem d_l_law_320 : decode code 320 = .ok (.invokevirtual 76, 3) := by decide +kernel
theorem d_l_law_323 : decode code 323 = .ok (.istore 6, 2) := by decide +kernel
theorem d_l_law_325 : decode code 325 = .ok (.aload_n 2, 1) := by decide +kernel
theorem d_l_law_326 : decode code 326 = .ok (.invokevirtual 61, 3) := by decide +kernel
theorem d_l_law_329 : decode code 329 = .ok (.iload 5, 2) := by decide +kernel
theorem d_l_law_331 : decode code 331 = .ok (.if_icmp .eq 5, 3) := by decide +kernel
theorem d_l_law_334 : decode code 334 = .ok (.iconst 0, 1) := by decide +kernel
theorem d_l_law_335 : decode code 335 = .ok (.ireturn, 1) := by decide +kernel
theorem d_l_law_336 : decode code 336 = .ok (.iload 5, 2) := by decide +kernel
theorem d_l_law_338 : decode code 338 = .ok (.ifCond .ne 22, 3) := by decide +kernel
theorem d_l_law_341 : decode code 341 = .ok (.aload_n 3, 1) := by decide +kernel
theorem d_l_law_342 : decode code 342 = .ok (.iconst 0, 1) := by decide +kernel
theorem d_l_law_343 : decode code 343 = .ok (.laload, 1) := by decide +kernel
theorem d_l_law_344 : decode code 344 = .ok (.iload 6, 2) := by decide +kernel
theorem d_l_law_346 : decode code 346 = .ok (.ifCond .eq 7, 3) := by decide +kernel
theorem d_l_law_349 : decode code 349 = .ok (.lconst 1, 1) := by decide +kernel
theorem d_l_law_350 : decode code 350 = .ok (.goto 4, 3) := by decide +kernel
theorem d_l_law_353 : decode code 353 = .ok (.lconst 0, 1) := by decide +kernel
theorem d_l_law_354 : decode code 354 = .ok (.lcmp, 1) := by decide +kernel
theorem d_l_law_355 : decode code 355 = .ok (.ifCond .eq 5, 3) := by decide +kernel
theorem d_l_law_358 : decode code 358 = .ok (.iconst 0, 1) := by decide +kernel
theorem d_l_law_359 : decode code 359 = .ok (.ireturn, 1) := by decide +kernel
theorem d_l_law_360 : decode code 360 = .ok (.goto 522, 3) := by decide +kernel
theorem d_l_law_363 : decode code 363 = .ok (.aload_n 1, 1) := by decide +kernel
theorem d_l_law_364 : decode code 364 = .ok (.aload_n 0, 1) := by decide +kernel
theorem d_l_law_365 : decode code 365 = .ok (.iload 4, 2) := by decide +kernel
theorem d_l_law_367 : decode code 367 = .ok (.iconst 1, 1) := by decide +kernel
theorem d_l_law_368 : decode code 368 = .ok (.iadd, 1) := by decide +kernel
theorem d_l_law_369 : decode code 369 = .ok (.iaload, 1) := by decide +kernel
theorem d_l_law_370 : decode code 370 = .ok (.aload_n 0, 1) := by decide +kernel
theorem d_l_law_371 : decode code 371 = .ok (.iload 4, 2) := by decide +kernel
theorem d_l_law_373 : decode code 373 = .ok (.iconst 2, 1) := by decide +kernel
theorem d_l_law_374 : decode code 374 = .ok (.iadd, 1) := by decide +kernel
theorem d_l_law_375 : decode code 375 = .ok (.iaload, 1) := by decide +kernel
theorem d_l_law_376 : decode code 376 = .ok (.aload_n 0, 1) := by decide +kernel
theorem d_l_law_377 : decode code 377 = .ok (.iload 4, 2) := by decide +kernel
theorem d_l_law_379 : decode code 379 = .ok (.iconst 3, 1) := by decide +kernel
theorem d_l_law_380 : decode code 380 = .ok (.iadd, 1) := by decide +kernel
theorem d_l_law_381 : decode code 381 = .ok (.iaload, 1) := by decide +kernel
theorem d_l_law_382 : decode code 382 = .ok (.aload_n 3, 1) := by decide +kernel
theorem d_l_law_383 : decode code 383 = .ok (.invokestatic 77, 3) := by decide +kernel
theorem d_l_law_386 : decode code 386 = .ok (.istore 5, 2) := by decide +kernel
theorem d_l_law_388 : decode code 388 = .ok (.aload_n 2, 1) := by decide +kernel
theorem d_l_law_389 : decode code 389 = .ok (.aload_n 0, 1) := by decide +kernel
theorem d_l_law_390 : decode code 390 = .ok (.iload 4, 2) := by decide +kernel
theorem d_l_law_392 : decode code 392 = .ok (.iconst 1, 1) := by decide +kernel
theorem d_l_law_393 : decode code 393 = .ok (.iadd, 1) := by decide +kernel
theorem d_l_law_394 : decode code 394 = .ok (.iaload, 1) := by decide +kernel
theorem d_l_law_395 : decode code 395 = .ok (.aload_n 0, 1) := by decide +kernel
theorem d_l_law_396 : decode code 396 = .ok (.iload 4, 2) := by decide +kernel
theorem d_l_law_398 : decode code 398 = .ok (.iconst 2, 1) := by decide +kernel
theorem d_l_law_399 : decode code 399 = .ok (.iadd, 1) := by decide +kernel
theorem d_l_law_400 : decode code 400 = .ok (.iaload, 1) := by decide +kernel
theorem d_l_law_401 : decode code 401 = .ok (.aload_n 0, 1) := by decide +kernel
theorem d_l_law_402 : decode code 402 = .ok (.iload 4, 2) := by decide +kernel
theorem d_l_law_404 : decode code 404 = .ok (.iconst 3, 1) := by decide +kernel
theorem d_l_law_405 : decode code 405 = .ok (.iadd, 1) := by decide +kernel
theorem d_l_law_406 : decode code 406 = .ok (.iaload, 1) := by decide +kernel
theorem d_l_law_407 : decode code 407 = .ok (.invokevirtual 79, 3) := by decide +kernel
theorem d_l_law_410 : decode code 410 = .ok (.istore 6, 2) := by decide +kernel
theorem d_l_law_412 : decode code 412 = .ok (.aload_n 2, 1) := by decide +kernel
theorem d_l_law_413 : decode code 413 = .ok (.invokevirtual 61, 3) := by decide +kernel
theorem d_l_law_416 : decode code 416 = .ok (.iload 5, 2) := by decide +kernel
theorem d_l_law_418 : decode code 418 = .ok (.if_icmp .eq 5, 3) := by decide +kernel
theorem d_l_law_421 : decode code 421 = .ok (.iconst 0, 1) := by decide +kernel
theorem d_l_law_422 : decode code 422 = .ok (.ireturn, 1) := by decide +kernel
theorem d_l_law_423 : decode code 423 = .ok (.iload 5, 2) := by decide +kernel
theorem d_l_law_425 : decode code 425 = .ok (.ifCond .ne 22, 3) := by decide +kernel
theorem d_l_law_428 : decode code 428 = .ok (.aload_n 3, 1) := by decide +kernel
theorem d_l_law_429 : decode code 429 = .ok (.iconst 0, 1) := by decide +kernel
theorem d_l_law_430 : decode code 430 = .ok (.laload, 1) := by decide +kernel
theorem d_l_law_431 : decode code 431 = .ok (.iload 6, 2) := by decide +kernel
theorem d_l_law_433 : decode code 433 = .ok (.ifCond .eq 7, 3) := by decide +kernel
theorem d_l_law_436 : decode code 436 = .ok (.lconst 1, 1) := by decide +kernel
theorem d_l_law_437 : decode code 437 = .ok (.goto 4, 3) := by decide +kernel
theorem d_l_law_440 : decode code 440 = .ok (.lconst 0, 1) := by decide +kernel
theorem d_l_law_441 : decode code 441 = .ok (.lcmp, 1) := by decide +kernel
theorem d_l_law_442 : decode code 442 = .ok (.ifCond .eq 5, 3) := by decide +kernel
theorem d_l_law_445 : decode code 445 = .ok (.iconst 0, 1) := by decide +kernel
theorem d_l_law_446 : decode code 446 = .ok (.ireturn, 1) := by decide +kernel
theorem d_l_law_447 : decode code 447 = .ok (.goto 435, 3) := by decide +kernel
theorem d_l_law_450 : decode code 450 = .ok (.aload_n 1, 1) := by decide +kernel
theorem d_l_law_451 : decode code 451 = .ok (.aload_n 0, 1) := by decide +kernel
theorem d_l_law_452 : decode code 452 = .ok (.iload 4, 2) := by decide +kernel
theorem d_l_law_454 : decode code 454 = .ok (.iconst 1, 1) := by decide +kernel
theorem d_l_law_455 : decode code 455 = .ok (.iadd, 1) := by decide +kernel
theorem d_l_law_456 : decode code 456 = .ok (.iaload, 1) := by decide +kernel
theorem d_l_law_457 : decode code 457 = .ok (.aload_n 0, 1) := by decide +kernel
theorem d_l_law_458 : decode code 458 = .ok (.iload 4, 2) := by decide +kernel
theorem d_l_law_460 : decode code 460 = .ok (.iconst 2, 1) := by decide +kernel
theorem d_l_law_461 : decode code 461 = .ok (.iadd, 1) := by decide +kernel
theorem d_l_law_462 : decode code 462 = .ok (.iaload, 1) := by decide +kernel
theorem d_l_law_463 : decode code 463 = .ok (.aload_n 0, 1) := by decide +kernel
theorem d_l_law_464 : decode code 464 = .ok (.iload 4, 2) := by decide +kernel
theorem d_l_law_466 : decode code 466 = .ok (.iconst 3, 1) := by decide +kernel
theorem d_l_law_467 : decode code 467 = .ok (.iadd, 1) := by decide +kernel
theorem d_l_law_468 : decode code 468 = .ok (.iaload, 1) := by decide +kernel
end
section
/-! decode rows of the law, 2 of 2 (printed by gen/decode_law.py) -/
theorem d_l_law_469 : decode code 469 = .ok (.aload_n 3, 1) := by decide +kernel
theorem d_l_law_470 : decode code 470 = .ok (.invokestatic 80, 3) := by decide +kernel
theorem d_l_law_473 : decode code 473 = .ok (.istore 5, 2) := by decide +kernel
theorem d_l_law_475 : decode code 475 = .ok (.aload_n 2, 1) := by decide +kernel
theorem d_l_law_476 : decode code 476 = .ok (.aload_n 0, 1) := by decide +kernel
theorem d_l_law_477 : decode code 477 = .ok (.iload 4, 2) := by decide +kernel
theorem d_l_law_479 : decode code 479 = .ok (.iconst 1, 1) := by decide +kernel
theorem d_l_law_480 : decode code 480 = .ok (.iadd, 1) := by decide +kernel
theorem d_l_law_481 : decode code 481 = .ok (.iaload, 1) := by decide +kernel
theorem d_l_law_482 : decode code 482 = .ok (.aload_n 0, 1) := by decide +kernel
theorem d_l_law_483 : decode code 483 = .ok (.iload 4, 2) := by decide +kernel
theorem d_l_law_485 : decode code 485 = .ok (.iconst 2, 1) := by decide +kernel
theorem d_l_law_486 : decode code 486 = .ok (.iadd, 1) := by decide +kernel
theorem d_l_law_487 : decode code 487 = .ok (.iaload, 1) := by decide +kernel
theorem d_l_law_488 : decode code 488 = .ok (.aload_n 0, 1) := by decide +kernel
theorem d_l_law_489 : decode code 489 = .ok (.iload 4, 2) := by decide +kernel
theorem d_l_law_491 : decode code 491 = .ok (.iconst 3, 1) := by decide +kernel
theorem d_l_law_492 : decode code 492 = .ok (.iadd, 1) := by decide +kernel
theorem d_l_law_493 : decode code 493 = .ok (.iaload, 1) := by decide +kernel
theorem d_l_law_494 : decode code 494 = .ok (.invokevirtual 82, 3) := by decide +kernel
theorem d_l_law_497 : decode code 497 = .ok (.istore 6, 2) := by decide +kernel
theorem d_l_law_499 : decode code 499 = .ok (.aload_n 2, 1) := by decide +kernel
theorem d_l_law_500 : decode code 500 = .ok (.invokevirtual 61, 3) := by decide +kernel
theorem d_l_law_503 : decode code 503 = .ok (.iload 5, 2) := by decide +kernel
theorem d_l_law_505 : decode code 505 = .ok (.if_icmp .eq 5, 3) := by decide +kernel
theorem d_l_law_508 : decode code 508 = .ok (.iconst 0, 1) := by decide +kernel
theorem d_l_law_509 : decode code 509 = .ok (.ireturn, 1) := by decide +kernel
theorem d_l_law_510 : decode code 510 = .ok (.iload 5, 2) := by decide +kernel
theorem d_l_law_512 : decode code 512 = .ok (.ifCond .ne 15, 3) := by decide +kernel
theorem d_l_law_515 : decode code 515 = .ok (.aload_n 3, 1) := by decide +kernel
theorem d_l_law_516 : decode code 516 = .ok (.iconst 0, 1) := by decide +kernel
theorem d_l_law_517 : decode code 517 = .ok (.laload, 1) := by decide +kernel
theorem d_l_law_518 : decode code 518 = .ok (.iload 6, 2) := by decide +kernel
theorem d_l_law_520 : decode code 520 = .ok (.i2l, 1) := by decide +kernel
theorem d_l_law_521 : decode code 521 = .ok (.lcmp, 1) := by decide +kernel
theorem d_l_law_522 : decode code 522 = .ok (.ifCond .eq 5, 3) := by decide +kernel
theorem d_l_law_525 : decode code 525 = .ok (.iconst 0, 1) := by decide +kernel
theorem d_l_law_526 : decode code 526 = .ok (.ireturn, 1) := by decide +kernel
theorem d_l_law_527 : decode code 527 = .ok (.goto 355, 3) := by decide +kernel
theorem d_l_law_530 : decode code 530 = .ok (.aload_n 1, 1) := by decide +kernel
theorem d_l_law_531 : decode code 531 = .ok (.aload_n 0, 1) := by decide +kernel
theorem d_l_law_532 : decode code 532 = .ok (.iload 4, 2) := by decide +kernel
theorem d_l_law_534 : decode code 534 = .ok (.iconst 1, 1) := by decide +kernel
theorem d_l_law_535 : decode code 535 = .ok (.iadd, 1) := by decide +kernel
theorem d_l_law_536 : decode code 536 = .ok (.iaload, 1) := by decide +kernel
theorem d_l_law_537 : decode code 537 = .ok (.aload_n 0, 1) := by decide +kernel
theorem d_l_law_538 : decode code 538 = .ok (.iload 4, 2) := by decide +kernel
theorem d_l_law_540 : decode code 540 = .ok (.iconst 2, 1) := by decide +kernel
theorem d_l_law_541 : decode code 541 = .ok (.iadd, 1) := by decide +kernel
theorem d_l_law_542 : decode code 542 = .ok (.iaload, 1) := by decide +kernel
theorem d_l_law_543 : decode code 543 = .ok (.aload_n 0, 1) := by decide +kernel
theorem d_l_law_544 : decode code 544 = .ok (.iload 4, 2) := by decide +kernel
theorem d_l_law_546 : decode code 546 = .ok (.iconst 3, 1) := by decide +kernel
theorem d_l_law_547 : decode code 547 = .ok (.iadd, 1) := by decide +kernel
theorem d_l_law_548 : decode code 548 = .ok (.iaload, 1) := by decide +kernel
theorem d_l_law_549 : decode code 549 = .ok (.aload_n 3, 1) := by decide +kernel
theorem d_l_law_550 : decode code 550 = .ok (.invokestatic 83, 3) := by decide +kernel
theorem d_l_law_553 : decode code 553 = .ok (.istore 5, 2) := by decide +kernel
theorem d_l_law_555 : decode code 555 = .ok (.aload_n 2, 1) := by decide +kernel
theorem d_l_law_556 : decode code 556 = .ok (.aload_n 0, 1) := by decide +kernel
theorem d_l_law_557 : decode code 557 = .ok (.iload 4, 2) := by decide +kernel
theorem d_l_law_559 : decode code 559 = .ok (.iconst 1, 1) := by decide +kernel
theorem d_l_law_560 : decode code 560 = .ok (.iadd, 1) := by decide +kernel
theorem d_l_law_561 : decode code 561 = .ok (.iaload, 1) := by decide +kernel
theorem d_l_law_562 : decode code 562 = .ok (.aload_n 0, 1) := by decide +kernel
theorem d_l_law_563 : decode code 563 = .ok (.iload 4, 2) := by decide +kernel
theorem d_l_law_565 : decode code 565 = .ok (.iconst 2, 1) := by decide +kernel
theorem d_l_law_566 : decode code 566 = .ok (.iadd, 1) := by decide +kernel
theorem d_l_law_567 : decode code 567 = .ok (.iaload, 1) := by decide +kernel
theorem d_l_law_568 : decode code 568 = .ok (.aload_n 0, 1) := by decide +kernel
theorem d_l_law_569 : decode code 569 = .ok (.iload 4, 2) := by decide +kernel
theorem d_l_law_571 : decode code 571 = .ok (.iconst 3, 1) := by decide +kernel
theorem d_l_law_572 : decode code 572 = .ok (.iadd, 1) := by decide +kernel
theorem d_l_law_573 : decode code 573 = .ok (.iaload, 1) := by decide +kernel
theorem d_l_law_574 : decode code 574 = .ok (.invokevirtual 85, 3) := by decide +kernel
theorem d_l_law_577 : decode code 577 = .ok (.istore 6, 2) := by decide +kernel
theorem d_l_law_579 : decode code 579 = .ok (.aload_n 2, 1) := by decide +kernel
theorem d_l_law_580 : decode code 580 = .ok (.invokevirtual 61, 3) := by decide +kernel
theorem d_l_law_583 : decode code 583 = .ok (.iload 5, 2) := by decide +kernel
theorem d_l_law_585 : decode code 585 = .ok (.if_icmp .eq 5, 3) := by decide +kernel
theorem d_l_law_588 : decode code 588 = .ok (.iconst 0, 1) := by decide +kernel
theorem d_l_law_589 : decode code 589 = .ok (.ireturn, 1) := by decide +kernel
theorem d_l_law_590 : decode code 590 = .ok (.iload 5, 2) := by decide +kernel
theorem d_l_law_592 : decode code 592 = .ok (.ifCond .ne 15, 3) := by decide +kernel
theorem d_l_law_595 : decode code 595 = .ok (.aload_n 3, 1) := by decide +kernel
theorem d_l_law_596 : decode code 596 = .ok (.iconst 0, 1) := by decide +kernel
theorem d_l_law_597 : decode code 597 = .ok (.laload, 1) := by decide +kernel
theorem d_l_law_598 : decode code 598 = .ok (.iload 6, 2) := by decide +kernel
theorem d_l_law_600 : decode code 600 = .ok (.i2l, 1) := by decide +kernel
theorem d_l_law_601 : decode code 601 = .ok (.lcmp, 1) := by decide +kernel
theorem d_l_law_602 : decode code 602 = .ok (.ifCond .eq 5, 3) := by decide +kernel
theorem d_l_law_605 : decode code 605 = .ok (.iconst 0, 1) := by decide +kernel
theorem d_l_law_606 : decode code 606 = .ok (.ireturn, 1) := by decide +kernel
theorem d_l_law_607 : decode code 607 = .ok (.goto 275, 3) := by decide +kernel
theorem d_l_law_610 : decode code 610 = .ok (.aload_n 1, 1) := by decide +kernel
theorem d_l_law_611 : decode code 611 = .ok (.aload_n 0, 1) := by decide +kernel
theorem d_l_law_612 : decode code 612 = .ok (.iload 4, 2) := by decide +kernel
theorem d_l_law_614 : decode code 614 = .ok (.iconst 1, 1) := by decide +kernel
theorem d_l_law_615 : decode code 615 = .ok (.iadd, 1) := by decide +kernel
theorem d_l_law_616 : decode code 616 = .ok (.iaload, 1) := by decide +kernel
theorem d_l_law_617 : decode code 617 = .ok (.aload_n 0, 1) := by decide +kernel
theorem d_l_law_618 : decode code 618 = .ok (.iload 4, 2) := by decide +kernel
theorem d_l_law_620 : decode code 620 = .ok (.iconst 2, 1) := by decide +kernel
theorem d_l_law_621 : decode code 621 = .ok (.iadd, 1) := by decide +kernel
theorem d_l_law_622 : decode code 622 = .ok (.iaload, 1) := by decide +kernel
theorem d_l_law_623 : decode code 623 = .ok (.aload_n 0, 1) := by decide +kernel
theorem d_l_law_624 : decode code 624 = .ok (.iload 4, 2) := by decide +kernel
theorem d_l_law_626 : decode code 626 = .ok (.iconst 3, 1) := by decide +kernel
theorem d_l_law_627 : decode code 627 = .ok (.iadd, 1) := by decide +kernel
theorem d_l_law_628 : decode code 628 = .ok (.iaload, 1) := by decide +kernel
theorem d_l_law_629 : decode code 629 = .ok (.aload_n 0, 1) := by decide +kernel
theorem d_l_law_630 : decode code 630 = .ok (.iload 4, 2) := by decide +kernel
theorem d_l_law_632 : decode code 632 = .ok (.iconst 4, 1) := by decide +kernel
theorem d_l_law_633 : decode code 633 = .ok (.iadd, 1) := by decide +kernel
theorem d_l_law_634 : decode code 634 = .ok (.iaload, 1) := by decide +kernel
theorem d_l_law_635 : decode code 635 = .ok (.aload_n 3, 1) := by decide +kernel
theorem d_l_law_636 : decode code 636 = .ok (.invokestatic 86, 3) := by decide +kernel
theorem d_l_law_639 : decode code 639 = .ok (.istore 5, 2) := by decide +kernel
theorem d_l_law_641 : decode code 641 = .ok (.aload_n 2, 1) := by decide +kernel
theorem d_l_law_642 : decode code 642 = .ok (.aload_n 0, 1) := by decide +kernel
theorem d_l_law_643 : decode code 643 = .ok (.iload 4, 2) := by decide +kernel
theorem d_l_law_645 : decode code 645 = .ok (.iconst 1, 1) := by decide +kernel
theorem d_l_law_646 : decode code 646 = .ok (.iadd, 1) := by decide +kernel
theorem d_l_law_647 : decode code 647 = .ok (.iaload, 1) := by decide +kernel
theorem d_l_law_648 : decode code 648 = .ok (.aload_n 0, 1) := by decide +kernel
theorem d_l_law_649 : decode code 649 = .ok (.iload 4, 2) := by decide +kernel
theorem d_l_law_651 : decode code 651 = .ok (.iconst 2, 1) := by decide +kernel
theorem d_l_law_652 : decode code 652 = .ok (.iadd, 1) := by decide +kernel
theorem d_l_law_653 : decode code 653 = .ok (.iaload, 1) := by decide +kernel
theorem d_l_law_654 : decode code 654 = .ok (.aload_n 0, 1) := by decide +kernel
theorem d_l_law_655 : decode code 655 = .ok (.iload 4, 2) := by decide +kernel
theorem d_l_law_657 : decode code 657 = .ok (.iconst 3, 1) := by decide +kernel
theorem d_l_law_658 : decode code 658 = .ok (.iadd, 1) := by decide +kernel
theorem d_l_law_659 : decode code 659 = .ok (.iaload, 1) := by decide +kernel
theorem d_l_law_660 : decode code 660 = .ok (.aload_n 0, 1) := by decide +kernel
theorem d_l_law_661 : decode code 661 = .ok (.iload 4, 2) := by decide +kernel
theorem d_l_law_663 : decode code 663 = .ok (.iconst 4, 1) := by decide +kernel
theorem d_l_law_664 : decode code 664 = .ok (.iadd, 1) := by decide +kernel
theorem d_l_law_665 : decode code 665 = .ok (.iaload, 1) := by decide +kernel
theorem d_l_law_666 : decode code 666 = .ok (.invokevirtual 89, 3) := by decide +kernel
theorem d_l_law_669 : decode code 669 = .ok (.istore 6, 2) := by decide +kernel
theorem d_l_law_671 : decode code 671 = .ok (.aload_n 2, 1) := by decide +kernel
theorem d_l_law_672 : decode code 672 = .ok (.invokevirtual 61, 3) := by decide +kernel
theorem d_l_law_675 : decode code 675 = .ok (.iload 5, 2) := by decide +kernel
theorem d_l_law_677 : decode code 677 = .ok (.if_icmp .eq 5, 3) := by decide +kernel
theorem d_l_law_680 : decode code 680 = .ok (.iconst 0, 1) := by decide +kernel
theorem d_l_law_681 : decode code 681 = .ok (.ireturn, 1) := by decide +kernel
theorem d_l_law_682 : decode code 682 = .ok (.iload 5, 2) := by decide +kernel
theorem d_l_law_684 : decode code 684 = .ok (.ifCond .ne 15, 3) := by decide +kernel
theorem d_l_law_687 : decode code 687 = .ok (.aload_n 3, 1) := by decide +kernel
theorem d_l_law_688 : decode code 688 = .ok (.iconst 0, 1) := by decide +kernel
theorem d_l_law_689 : decode code 689 = .ok (.laload, 1) := by decide +kernel
theorem d_l_law_690 : decode code 690 = .ok (.iload 6, 2) := by decide +kernel
theorem d_l_law_692 : decode code 692 = .ok (.i2l, 1) := by decide +kernel
theorem d_l_law_693 : decode code 693 = .ok (.lcmp, 1) := by decide +kernel
theorem d_l_law_694 : decode code 694 = .ok (.ifCond .eq 5, 3) := by decide +kernel
theorem d_l_law_697 : decode code 697 = .ok (.iconst 0, 1) := by decide +kernel
theorem d_l_law_698 : decode code 698 = .ok (.ireturn, 1) := by decide +kernel
theorem d_l_law_699 : decode code 699 = .ok (.goto 183, 3) := by decide +kernel
theorem d_l_law_702 : decode code 702 = .ok (.aload_n 1, 1) := by decide +kernel
theorem d_l_law_703 : decode code 703 = .ok (.aload_n 0, 1) := by decide +kernel
theorem d_l_law_704 : decode code 704 = .ok (.iload 4, 2) := by decide +kernel
theorem d_l_law_706 : decode code 706 = .ok (.iconst 1, 1) := by decide +kernel
theorem d_l_law_707 : decode code 707 = .ok (.iadd, 1) := by decide +kernel
theorem d_l_law_708 : decode code 708 = .ok (.iaload, 1) := by decide +kernel
theorem d_l_law_709 : decode code 709 = .ok (.aload_n 0, 1) := by decide +kernel
theorem d_l_law_710 : decode code 710 = .ok (.iload 4, 2) := by decide +kernel
theorem d_l_law_712 : decode code 712 = .ok (.iconst 2, 1) := by decide +kernel
theorem d_l_law_713 : decode code 713 = .ok (.iadd, 1) := by decide +kernel
theorem d_l_law_714 : decode code 714 = .ok (.iaload, 1) := by decide +kernel
theorem d_l_law_715 : decode code 715 = .ok (.aload_n 3, 1) := by decide +kernel
theorem d_l_law_716 : decode code 716 = .ok (.invokestatic 90, 3) := by decide +kernel
theorem d_l_law_719 : decode code 719 = .ok (.istore 5, 2) := by decide +kernel
theorem d_l_law_721 : decode code 721 = .ok (.aload_n 2, 1) := by decide +kernel
theorem d_l_law_722 : decode code 722 = .ok (.aload_n 0, 1) := by decide +kernel
theorem d_l_law_723 : decode code 723 = .ok (.iload 4, 2) := by decide +kernel
theorem d_l_law_725 : decode code 725 = .ok (.iconst 1, 1) := by decide +kernel
theorem d_l_law_726 : decode code 726 = .ok (.iadd, 1) := by decide +kernel
theorem d_l_law_727 : decode code 727 = .ok (.iaload, 1) := by decide +kernel
theorem d_l_law_728 : decode code 728 = .ok (.aload_n 0, 1) := by decide +kernel
theorem d_l_law_729 : decode code 729 = .ok (.iload 4, 2) := by decide +kernel
theorem d_l_law_731 : decode code 731 = .ok (.iconst 2, 1) := by decide +kernel
theorem d_l_law_732 : decode code 732 = .ok (.iadd, 1) := by decide +kernel
theorem d_l_law_733 : decode code 733 = .ok (.iaload, 1) := by decide +kernel
theorem d_l_law_734 : decode code 734 = .ok (.invokevirtual 93, 3) := by decide +kernel
theorem d_l_law_737 : decode code 737 = .ok (.istore 6, 2) := by decide +kernel
theorem d_l_law_739 : decode code 739 = .ok (.aload_n 2, 1) := by decide +kernel
theorem d_l_law_740 : decode code 740 = .ok (.invokevirtual 61, 3) := by decide +kernel
theorem d_l_law_743 : decode code 743 = .ok (.iload 5, 2) := by decide +kernel
theorem d_l_law_745 : decode code 745 = .ok (.if_icmp .eq 5, 3) := by decide +kernel
theorem d_l_law_748 : decode code 748 = .ok (.iconst 0, 1) := by decide +kernel
theorem d_l_law_749 : decode code 749 = .ok (.ireturn, 1) := by decide +kernel
theorem d_l_law_750 : decode code 750 = .ok (.iload 5, 2) := by decide +kernel
theorem d_l_law_752 : decode code 752 = .ok (.ifCond .ne 22, 3) := by decide +kernel
theorem d_l_law_755 : decode code 755 = .ok (.aload_n 3, 1) := by decide +kernel
theorem d_l_law_756 : decode code 756 = .ok (.iconst 0, 1) := by decide +kernel
theorem d_l_law_757 : decode code 757 = .ok (.laload, 1) := by decide +kernel
theorem d_l_law_758 : decode code 758 = .ok (.iload 6, 2) := by decide +kernel
theorem d_l_law_760 : decode code 760 = .ok (.ifCond .eq 7, 3) := by decide +kernel
theorem d_l_law_763 : decode code 763 = .ok (.lconst 1, 1) := by decide +kernel
theorem d_l_law_764 : decode code 764 = .ok (.goto 4, 3) := by decide +kernel
theorem d_l_law_767 : decode code 767 = .ok (.lconst 0, 1) := by decide +kernel
theorem d_l_law_768 : decode code 768 = .ok (.lcmp, 1) := by decide +kernel
theorem d_l_law_769 : decode code 769 = .ok (.ifCond .eq 5, 3) := by decide +kernel
theorem d_l_law_772 : decode code 772 = .ok (.iconst 0, 1) := by decide +kernel
theorem d_l_law_773 : decode code 773 = .ok (.ireturn, 1) := by decide +kernel
theorem d_l_law_774 : decode code 774 = .ok (.goto 108, 3) := by decide +kernel
theorem d_l_law_777 : decode code 777 = .ok (.aload_n 1, 1) := by decide +kernel
theorem d_l_law_778 : decode code 778 = .ok (.aload_n 0, 1) := by decide +kernel
theorem d_l_law_779 : decode code 779 = .ok (.iload 4, 2) := by decide +kernel
theorem d_l_law_781 : decode code 781 = .ok (.iconst 1, 1) := by decide +kernel
theorem d_l_law_782 : decode code 782 = .ok (.iadd, 1) := by decide +kernel
theorem d_l_law_783 : decode code 783 = .ok (.iaload, 1) := by decide +kernel
theorem d_l_law_784 : decode code 784 = .ok (.aload_n 0, 1) := by decide +kernel
theorem d_l_law_785 : decode code 785 = .ok (.iload 4, 2) := by decide +kernel
theorem d_l_law_787 : decode code 787 = .ok (.iconst 2, 1) := by decide +kernel
theorem d_l_law_788 : decode code 788 = .ok (.iadd, 1) := by decide +kernel
theorem d_l_law_789 : decode code 789 = .ok (.iaload, 1) := by decide +kernel
theorem d_l_law_790 : decode code 790 = .ok (.aload_n 3, 1) := by decide +kernel
theorem d_l_law_791 : decode code 791 = .ok (.invokestatic 94, 3) := by decide +kernel
theorem d_l_law_794 : decode code 794 = .ok (.istore 5, 2) := by decide +kernel
theorem d_l_law_796 : decode code 796 = .ok (.aload_n 2, 1) := by decide +kernel
theorem d_l_law_797 : decode code 797 = .ok (.aload_n 0, 1) := by decide +kernel
theorem d_l_law_798 : decode code 798 = .ok (.iload 4, 2) := by decide +kernel
theorem d_l_law_800 : decode code 800 = .ok (.iconst 1, 1) := by decide +kernel
theorem d_l_law_801 : decode code 801 = .ok (.iadd, 1) := by decide +kernel
theorem d_l_law_802 : decode code 802 = .ok (.iaload, 1) := by decide +kernel
theorem d_l_law_803 : decode code 803 = .ok (.aload_n 0, 1) := by decide +kernel
theorem d_l_law_804 : decode code 804 = .ok (.iload 4, 2) := by decide +kernel
theorem d_l_law_806 : decode code 806 = .ok (.iconst 2, 1) := by decide +kernel
theorem d_l_law_807 : decode code 807 = .ok (.iadd, 1) := by decide +kernel
theorem d_l_law_808 : decode code 808 = .ok (.iaload, 1) := by decide +kernel
theorem d_l_law_809 : decode code 809 = .ok (.invokevirtual 96, 3) := by decide +kernel
theorem d_l_law_812 : decode code 812 = .ok (.istore 6, 2) := by decide +kernel
theorem d_l_law_814 : decode code 814 = .ok (.aload_n 2, 1) := by decide +kernel
theorem d_l_law_815 : decode code 815 = .ok (.invokevirtual 61, 3) := by decide +kernel
theorem d_l_law_818 : decode code 818 = .ok (.iload 5, 2) := by decide +kernel
theorem d_l_law_820 : decode code 820 = .ok (.if_icmp .eq 5, 3) := by decide +kernel
theorem d_l_law_823 : decode code 823 = .ok (.iconst 0, 1) := by decide +kernel
theorem d_l_law_824 : decode code 824 = .ok (.ireturn, 1) := by decide +kernel
theorem d_l_law_825 : decode code 825 = .ok (.iload 5, 2) := by decide +kernel
theorem d_l_law_827 : decode code 827 = .ok (.ifCond .ne 15, 3) := by decide +kernel
theorem d_l_law_830 : decode code 830 = .ok (.aload_n 3, 1) := by decide +kernel
theorem d_l_law_831 : decode code 831 = .ok (.iconst 0, 1) := by decide +kernel
theorem d_l_law_832 : decode code 832 = .ok (.laload, 1) := by decide +kernel
theorem d_l_law_833 : decode code 833 = .ok (.iload 6, 2) := by decide +kernel
theorem d_l_law_835 : decode code 835 = .ok (.i2l, 1) := by decide +kernel
theorem d_l_law_836 : decode code 836 = .ok (.lcmp, 1) := by decide +kernel
theorem d_l_law_837 : decode code 837 = .ok (.ifCond .eq 5, 3) := by decide +kernel
theorem d_l_law_840 : decode code 840 = .ok (.iconst 0, 1) := by decide +kernel
theorem d_l_law_841 : decode code 841 = .ok (.ireturn, 1) := by decide +kernel
theorem d_l_law_842 : decode code 842 = .ok (.goto 40, 3) := by decide +kernel
theorem d_l_law_845 : decode code 845 = .ok (.aload_n 1, 1) := by decide +kernel
theorem d_l_law_846 : decode code 846 = .ok (.aload_n 0, 1) := by decide +kernel
theorem d_l_law_847 : decode code 847 = .ok (.iload 4, 2) := by decide +kernel
theorem d_l_law_849 : decode code 849 = .ok (.iconst 1, 1) := by decide +kernel
theorem d_l_law_850 : decode code 850 = .ok (.iadd, 1) := by decide +kernel
theorem d_l_law_851 : decode code 851 = .ok (.iaload, 1) := by decide +kernel
theorem d_l_law_852 : decode code 852 = .ok (.aload_n 0, 1) := by decide +kernel
theorem d_l_law_853 : decode code 853 = .ok (.iload 4, 2) := by decide +kernel
theorem d_l_law_855 : decode code 855 = .ok (.iconst 2, 1) := by decide +kernel
theorem d_l_law_856 : decode code 856 = .ok (.iadd, 1) := by decide +kernel
theorem d_l_law_857 : decode code 857 = .ok (.iaload, 1) := by decide +kernel
theorem d_l_law_858 : decode code 858 = .ok (.invokevirtual 97, 3) := by decide +kernel
theorem d_l_law_861 : decode code 861 = .ok (.aload_n 2, 1) := by decide +kernel
theorem d_l_law_862 : decode code 862 = .ok (.aload_n 0, 1) := by decide +kernel
theorem d_l_law_863 : decode code 863 = .ok (.iload 4, 2) := by decide +kernel
theorem d_l_law_865 : decode code 865 = .ok (.iconst 1, 1) := by decide +kernel
theorem d_l_law_866 : decode code 866 = .ok (.iadd, 1) := by decide +kernel
theorem d_l_law_867 : decode code 867 = .ok (.iaload, 1) := by decide +kernel
theorem d_l_law_868 : decode code 868 = .ok (.aload_n 0, 1) := by decide +kernel
theorem d_l_law_869 : decode code 869 = .ok (.iload 4, 2) := by decide +kernel
theorem d_l_law_871 : decode code 871 = .ok (.iconst 2, 1) := by decide +kernel
theorem d_l_law_872 : decode code 872 = .ok (.iadd, 1) := by decide +kernel
theorem d_l_law_873 : decode code 873 = .ok (.iaload, 1) := by decide +kernel
theorem d_l_law_874 : decode code 874 = .ok (.invokevirtual 100, 3) := by decide +kernel
theorem d_l_law_877 : decode code 877 = .ok (.if_icmp .eq 5, 3) := by decide +kernel
theorem d_l_law_880 : decode code 880 = .ok (.iconst 0, 1) := by decide +kernel
theorem d_l_law_881 : decode code 881 = .ok (.ireturn, 1) := by decide +kernel
theorem d_l_law_882 : decode code 882 = .ok (.iinc 4 5, 3) := by decide +kernel
theorem d_l_law_885 : decode code 885 = .ok (.goto (-862), 3) := by decide +kernel
theorem d_l_law_888 : decode code 888 = .ok (.iconst 1, 1) := by decide +kernel
theorem d_l_law_889 : decode code 889 = .ok (.ireturn, 1) := by decide +kernel
end
section
/-! The constructors: of a grant (nothing but Object's), of GrantMath (array, made, sixteen grants), of the model (six arrays) (printed by gen/m_c.py) -/
section GmI
variable {p : Program} {l : Launch} {e : Env} {R : Room} {s : State} {m : MethodId} {args : Array Value} {below : List Frame} {meth : Method} {c : Code} {T : State} {H : Heap} {locs : List Loc} {cells slots : Nat} {Q : State → Prop}
variable {y : MethodName} {f lo mc ms maxL n nL index pc : Nat} {fr : Nat → Prop} {Pc : Array Value → State → Prop} {Qc : Array Value → State → Outcome → State → Prop} {cc : ByteArray} {own host : String} {ret : Option FieldType} {ls : Array Slot} {rest st : List Value}
/-- a nest mate's constructor -/
theorem gm_runIN {b : Addr} {As : List Value} {bytes : ByteArray} (S : Fx p s m args meth c cc nL own ret) (hM : Con l y f lo mc ms fr Pc Qc) (hbl : FrameBlind Pc) (V : Cn y maxL n) (hy1 : y.name = "<init>") (hcode : Cond.code y bytes maxL none ∈ gw) (hin : Cond.instanceMethod y ∈ gw) (hlink : Cond.methodLinkNest own index y host ∈ gw)
    (hPc : ∀ U : State, U.heap = H → s.WarmedH U.vm → Pc (Value.ref b :: As).toArray U)
    (hfr : f + 1 ≤ R.frames) (hlo : 16 + (maxL + 11) + lo ≤ R.locals) (hf : cells + mc ≤ R.cells ∧ slots + ms ≤ R.slots)
    (hn : As.length = n) (hsize : ls.size = nL) (hst : st = As.reverse ++ .ref b :: rest) (hW : (rest.map fun v => v.category).sum ≤ 16) (hdg : decode cc pc = .ok (.invokespecial index, 3)) :
    GR p l e R s m args below meth c H locs cells slots mc ms fr pc ls st rest (Qc (Value.ref b :: As).toArray) := by
  intro T hT X
  obtain ⟨hcd, hini, hy, hlen⟩ := V
  obtain ⟨hx, hb, hml, ho, hts, -, -⟩ := S
  have hpl : e.platform.magicAccessors = ({} : Platform).magicAccessors := by rw [X.admits.platform]
  obtain ⟨mk, methM, cM, kP, vm₁, hnamed, hmethM, hcM, -, hlM, -, hkP, -, hW₁, hstep₁⟩ := Steps.initColdArgsNest (e := e) X.here hx X.warmed hpl ho hy1 hy (hts _ hlink) (hts _ hin) (hts _ hcode) (f := F0 m pc ls st) rfl (fun sig h => hn.trans (cn_len ⟨hcd, hini, hy, hlen⟩ h)) hst (by rw [hb]; exact hdg)
  have X₁ := X.noted hW₁
  obtain ⟨o, t, T', L, X', hL, e1, e2, hq, hsteps, h1, h2⟩ := gm_go X₁ hM hbl hts hnamed hmethM hcM hlM hini hfr hlo hf.1 hf.2 (g := F0 m pc ls rest) rfl (hsize.trans hml.symm) (ig := .invokespecial index) (len := 3) (by rw [hb]; exact hdg) (by show 2 * 0 + (rest.map fun v => v.category).sum ≤ 16; omega) (a := (Value.ref b :: As).toArray) (hPc (T.setVm vm₁) hT X₁.warmed)
  refine ⟨o, (T.setVm vm₁).calling (F0 m pc ls rest) mk (Value.ref b :: As).toArray, t, T', L, hT, X₁.warmed, X', hL, e1, e2, hq, fun v hv tg hg => ?_, fun x hv tg hg => ?_⟩
  · rw [h1 v hv] at hsteps
    exact hstep₁ _ fun acts => by rw [doInvoke_state]; exact hsteps.trans hg
  · rw [h2 x hv] at hsteps
    exact hstep₁ _ fun acts => by rw [doInvoke_state]; exact hsteps.trans hg
theorem cn_ginit : Cn y_g_init 1 0 := ⟨fun _ _ h => CD.of (h _ gw_30), gw_10, by decide, by decide +kernel⟩
theorem cn_xinit : Cn y_x_init 2 0 := ⟨fun _ _ h => CD.of (h _ gw_21), gw_9, by decide, by decide +kernel⟩
theorem cn_minit : Cn y_m_init 1 0 := ⟨fun _ _ h => CD.of (h _ gw_252), gw_11, by decide, by decide +kernel⟩
/-- the constructor of a grant: the heap stays -/
theorem p_ginit (l : Launch) (a : Nat) : Con l y_g_init 1 12 0 0 (fun _ => False) (fun v _ => v = ([.ref a] : List Value).toArray) (Pq none) := by
  refine Con.ofW (cc := prog_2_method_1_code) (maxL := 1) (ret := none) (by decide +kernel) gw_30 ?_
  intro p e s m args below meth c S ha hnm hno hv
  obtain rfl := hv
  have S : Fx p s m ([.ref a] : List Value).toArray meth c prog_2_method_1_code 1 R_G none := S
  have hx := S.1
  have hb := S.2.1
  have hl := lv_entry ([.ref a]) (n := 1) (Nat.le_of_ble_eq_true rfl)
  rw [lg_entry_eq]
  generalize (lg_sl ([.ref a]) ++ List.replicate (1 - (lg_sl ([.ref a])).length) Slot.unset).toArray = ls at hl ⊢
  have hl : lv_has ls 1 [(0, .ref a)] := hl
  refine lv_aload_n hx hb d_g_init_0 rfl (lv_at hl 0 rfl) ?_
  refine W.objInit hx hb S.2.2.2.1 (S.2.2.2.2.1 _ gw_31) (S.2.2.2.2.1 _ gw_23) (S.2.2.2.2.1 _ gw_24) rfl (by rw [S.2.2.1]; exact hl.1) rfl d_g_init_1 (Nat.le_of_ble_eq_true rfl) (Nat.le_of_ble_eq_true rfl) ?_
  exact rp_v S d_g_init_4
/-- 'new Grant(); dup; <init>': a blank grant more -/
theorem gm_newG {D : va_G} {A : Nat → Prop} {ws : va_W} {tys : List (ClassId × FieldType)} {H0 : Heap} (S : Fx p s m args meth c cc nL R_X ret) (hK : va_K D cls0 tys s) (hP : va_P D cls0 ws H) (hD : va_D A ws) (hS : va_S A H0 H locs) (hA : ∀ q, H0.size ≤ q → A q)
    (hsize : ls.size = nL) (hc : cells + 1 ≤ R.cells) (hs : slots + 6 ≤ R.slots) (hfr : 2 ≤ R.frames) (hlo : 40 ≤ R.locals) (hW : (rest.map fun v => v.category).sum ≤ 15) (d0 : decode cc pc = .ok (.new 9, 3)) (d3 : decode cc (pc + 3) = .ok (.dup, 1)) (d4 : decode cc (pc + 4) = .ok (.invokespecial 15, 3))
    (kk : ∀ (q : Nat) (H1 : Heap), va_P D cls0 (ws ++ [(q, .inr (0, gl (0, 0, 0, 0, 0, false)))]) H1 → va_D A (ws ++ [(q, .inr (0, gl (0, 0, 0, 0, 0, false)))]) → va_S A H0 H1 locs → W p l e R s m args below meth c H1 locs (cells + 1) (slots + 6) Q (F0 m (pc + 7) ls (.ref q :: rest))) :
    W p l e R s m args below meth c H locs cells slots Q (F0 m pc ls rest) := by
  refine va_new (ci := 0) (fs := gl (0, 0, 0, 0, 0, false)) (C := R_G) (T := F_G) (N := 6) S.1 S.2.1 S.2.2.2.2.1 in_G t_G t_G_ok S.2.2.2.1 (S.2.2.2.2.1 _ gw_25) (S.2.2.2.2.1 _ gw_27) (S.2.2.2.2.1 _ gw_10) hK hP hD hS hA rfl (fun j hj => by rcases (show j = 0 ∨ j = 1 ∨ j = 2 ∨ j = 3 ∨ j = 4 ∨ j = 5 by omega) with rfl | rfl | rfl | rfl | rfl | rfl <;> rfl) hc hs d0 (fun q H1 hP hD hS => ?_)
  refine lv_dup S.1 S.2.1 d3 rfl ?_
  refine gr_pure (gm_runIN (As := []) S (p_ginit l q) (fun a U g mk h => h) cn_ginit rfl gw_30 gw_29 gw_28 (fun U _ _ => rfl) (by omega) (by omega) (by omega) rfl hsize rfl (by show (Value.ref q).category + (rest.map fun v => v.category).sum ≤ 16; have hq : (Value.ref q).category = 1 := rfl; omega) d4) ?_
  exact kk q H1 hP hD hS
end GmI
section GmN
abbrev zg : Gr := (0, 0, 0, 0, 0, false)
def wX (h ga md : Nat) (cR : ClassId) (q : Nat → Nat) (k : Nat) : va_W := [(h, .inr (1, [.ref ga, .ref md])), (ga, .inl (cR, 16, .inr (.inr (.inr (.inr (fun j => if j < k then some (q j) else none)))))), (md, .inr (0, gl zg))] ++ (List.range k).map (fun j => (q j, .inr (0, gl zg)))
theorem wX_s {h ga md : Nat} {cR : ClassId} {q : Nat → Nat} {k a : Nat} : (wX h ga md cR q k ++ [((a, .inr (0, gl zg)) : Nat × va_E)]).set 1 (ga, .inl (cR, 16, .inr (.inr (.inr (.inr (va_up (fun j => if j < k then some (q j) else none) k (some a))))))) = wX h ga md cR (up q k a) (k + 1) := by
  have h1 : va_up (fun j => if j < k then some (q j) else none) k (some a) = fun j => if j < k + 1 then some (up q k a j) else none := by
    funext j
    by_cases hj : j = k
    · subst hj; simp [va_up, up]
    · by_cases hl : j < k
      · simp [va_up, up, hj, hl, Nat.lt_succ_of_lt hl]
      · simp [va_up, hj, hl, show ¬ j < k + 1 by omega]
  have h2 : (List.range k).map (fun j => ((q j, .inr (0, gl zg)) : Nat × va_E)) = (List.range k).map (fun j => (up q k a j, .inr (0, gl zg))) := by
    apply List.map_congr_left
    intro j hj
    rw [up_n _ _ (Nat.ne_of_lt (List.mem_range.mp hj))]
  unfold wX
  rw [h1, h2, List.range_succ, List.map_append, List.map_singleton, up_s]
  rfl
def xP (D : va_G) (h : Nat) : Array Value → State → Prop := fun v U => v = ([.ref h] : List Value).toArray ∧ va_P D cls0 [(h, .inr (1, [.null, .null]))] U.heap ∧ va_K D cls0 [] U
def xQ (D : va_G) (h : Nat) : Array Value → State → Outcome → State → Prop := fun _ st o t => o = .returned none ∧ (∃ (ga md : Nat) (cR : ClassId) (q : Nat → Nat), va_P D cls0 (wX h ga md cR q 16) t.heap ∧ va_D (gA h) (wX h ga md cR q 16) ∧ va_K D cls0 [(cR, .object R_G)] t) ∧ va_F (gA h) st t
theorem va_D1 {A : Nat → Prop} {a : Nat} {x : va_E} (h : A a) : va_D A [(a, x)] := by
  refine ⟨fun i j p q hi hj _ => ?_, fun k q hk => ?_⟩
  · have h1 : i < 1 := (List.getElem?_eq_some_iff.mp hi).1
    have h2 : j < 1 := (List.getElem?_eq_some_iff.mp hj).1
    omega
  · have h1 : k < 1 := (List.getElem?_eq_some_iff.mp hk).1
    rw [show k = 0 by omega] at hk
    cases hk
    exact h
set_option maxHeartbeats 4000000 in
set_option maxRecDepth 100000 in
/-- the constructor of GrantMath -/
theorem t_xinit (l : Launch) (D : va_G) (h : Nat) : Con l y_x_init 2 60 18 118 (gA h) (xP D h) (xQ D h) := by
  refine Con.ofW (cc := prog_1_method_1_code) (maxL := 2) (ret := none) (by decide +kernel) gw_21 ?_
  intro p e s m args below meth c S ha hnm hno hv
  obtain ⟨rfl, hP, hK⟩ := hv
  have S : Fx p s m ([.ref h] : List Value).toArray meth c prog_1_method_1_code 2 R_X none := S
  have hx := S.1
  have hb := S.2.1
  have hlt : h < s.heap.size := (hP 0 _ rfl).lt
  have hA : ∀ q, s.heap.size ≤ q → gA h q := fun q hq => Nat.le_trans (Nat.le_of_lt hlt) hq
  have hD : va_D (gA h) [(h, .inr (1, [.null, .null]))] := va_D1 (Nat.le_refl h)
  have hS : va_S (gA h) s.heap s.heap [] := va_S.rf
  have hl := lv_entry ([.ref h]) (n := 2) (Nat.le_of_ble_eq_true rfl)
  rw [lg_entry_eq]
  generalize (lg_sl ([.ref h]) ++ List.replicate (2 - (lg_sl ([.ref h])).length) Slot.unset).toArray = ls at hl ⊢
  have hl : lv_has ls 2 [(0, .ref h)] := hl
  refine lv_aload_n hx hb d_x_init_0 rfl (lv_at hl 0 rfl) ?_
  refine W.objInit hx hb S.2.2.2.1 (S.2.2.2.2.1 _ gw_22) (S.2.2.2.2.1 _ gw_23) (S.2.2.2.2.1 _ gw_24) rfl (by rw [S.2.2.1]; exact hl.1) rfl d_x_init_1 (Nat.le_of_ble_eq_true rfl) (Nat.le_of_ble_eq_true rfl) ?_
  refine lv_aload_n hx hb d_x_init_4 rfl (lv_at hl 0 rfl) ?_
  refine lv_bipush (v := 16) hx hb d_x_init_5 (by decide) ?_
  refine va_newq (C := R_G) (N' := 16) hx hb S.2.2.2.1 (S.2.2.2.2.1 _ gw_25) (va_AO.of (S.2.2.2.2.1 _ gw_26)) hK hP hD hS hA (by decide) (by decide) (by decide) (by decide) (by decide) d_x_init_7 (fun ga cR H hK hP hD hS => ?_)
  have hP : va_P D cls0 [(h, .inr (1, [.null, .null])), (ga, .inl (cR, 16, .inr (.inr (.inr (.inr (fun _ => none))))))] H := hP
  have hD : va_D (gA h) [(h, .inr (1, [.null, .null])), (ga, .inl (cR, 16, .inr (.inr (.inr (.inr (fun _ => none))))))] := hD
  refine va_putF (D := D) (ci := 1) (v := .ref ga) (ty := .array (.object R_G)) (C := R_X) (T := F_X) (N := 2) hx hb S.2.2.2.2.1 in_X t_X t_X_ok n_X S.2.2.2.1 hK hP hD hS 0 rfl rfl 0 (by decide) (S.2.2.2.2.1 _ gw_57) (fun _ h9 => h9) rfl hnm rfl (by decide +kernel) rfl rfl (Nat.le_of_ble_eq_true rfl) d_x_init_10 (fun H locs hP hD hS => ?_)
  have hP : va_P D cls0 [(h, .inr (1, [.ref ga, .null])), (ga, .inl (cR, 16, .inr (.inr (.inr (.inr (fun _ => none))))))] H := hP
  have hD : va_D (gA h) [(h, .inr (1, [.ref ga, .null])), (ga, .inl (cR, 16, .inr (.inr (.inr (.inr (fun _ => none))))))] := hD
  refine lv_aload_n hx hb d_x_init_13 rfl (lv_at hl 0 rfl) ?_
  refine gm_newG (pc := 14) S hK hP hD hS hA hl.1 (by decide) (by decide) (by decide) (by decide) (Nat.le_of_ble_eq_true rfl) d_x_init_14 d_x_init_17 d_x_init_18 (fun md H hP hD hS => ?_)
  have hP : va_P D cls0 [(h, .inr (1, [.ref ga, .null])), (ga, .inl (cR, 16, .inr (.inr (.inr (.inr (fun _ => none)))))), (md, .inr (0, gl zg))] H := hP
  have hD : va_D (gA h) [(h, .inr (1, [.ref ga, .null])), (ga, .inl (cR, 16, .inr (.inr (.inr (.inr (fun _ => none)))))), (md, .inr (0, gl zg))] := hD
  refine va_putF (D := D) (ci := 1) (v := .ref md) (ty := .object R_G) (C := R_X) (T := F_X) (N := 2) hx hb S.2.2.2.2.1 in_X t_X t_X_ok n_X S.2.2.2.1 hK hP hD hS 0 rfl rfl 1 (by decide) (S.2.2.2.2.1 _ gw_58) (fun _ h9 => h9) rfl hnm rfl (by decide +kernel) rfl rfl (Nat.le_of_ble_eq_true rfl) d_x_init_21 (fun H locs hP hD hS => ?_)
  have hf0 : (fun j : Nat => if j < 0 then some ((fun _ => 0 : Nat → Nat) j) else none) = fun _ => none := by funext j; simp
  have hw0 : wX h ga md cR (fun _ => 0) 0 = [(h, .inr (1, [.ref ga, .ref md])), (ga, .inl (cR, 16, .inr (.inr (.inr (.inr (fun _ => none)))))), (md, .inr (0, gl zg))] := by unfold wX; rw [hf0]; rfl
  have hP : va_P D cls0 (wX h ga md cR (fun _ => 0) 0) H := by rw [hw0]; exact hP
  have hD : va_D (gA h) (wX h ga md cR (fun _ => 0) 0) := by rw [hw0]; exact hD
  refine lv_iconst (v := nI 0) hx hb d_x_init_24 (by decide) ?_
  refine lv_istore_n hx hb d_x_init_25 rfl hl (by decide) rfl (fun ls hl => ?_)
  have hl : lv_has ls 2 [(1, .int (nI 0)), (0, .ref h)] := hl
  have key : ∀ (d k : Nat) (q : Nat → Nat) (ls : Array Slot) (H : Heap) (locs : List Loc), k + d = 16 → lv_has ls 2 [(1, .int (nI k)), (0, .ref h)] → va_P D cls0 (wX h ga md cR q k) H → va_D (gA h) (wX h ga md cR q k) → va_S (gA h) s.heap H locs →
      W p l e (gRm 2 60 18 118) s m ([.ref h] : List Value).toArray below meth c H locs (2 + k) (22 + 6 * k) (MX below (xQ D h) ([.ref h] : List Value).toArray s 18 118 (gA h)) (F0 m 26 ls []) := by
    intro d
    induction d with
    | zero =>
      intro k q ls H locs hk hl hP hD hS
      obtain rfl : k = 16 := by omega
      refine lv_iload_n hx hb d_x_init_26 rfl (lv_at hl 0 rfl) ?_
      refine lv_bipush (v := 16) hx hb d_x_init_27 (by decide) ?_
      refine lv_icmp_ge (tgt := 51) hx hb d_x_init_29 (by decide) (fun hh => ?_) (fun hh => ?_)
      · refine W.mono MQ.toMX ?_
        refine W.vret hx hb S.2.2.2.2.2.1 (fun t ht hW => ⟨rfl, ⟨ga, md, cR, q, by rw [ht]; exact hP, hD, va_K.moved hW.alike hK⟩, hS.F ht⟩) hS.2.2 d_x_init_51 S.2.2.2.2.2.2
      · exact absurd (show (16 : Int32) ≤ nI 16 by decide) hh
    | succ d ih =>
      intro k q ls H locs hk hl hP hD hS
      have hk16 : k < 16 := by omega
      refine lv_iload_n hx hb d_x_init_26 rfl (lv_at hl 0 rfl) ?_
      refine lv_bipush (v := 16) hx hb d_x_init_27 (by decide) ?_
      refine lv_icmp_ge (tgt := 51) hx hb d_x_init_29 (by decide) (fun hh => ?_) (fun hh => ?_)
      · exact absurd hh (nI_ge (b := 16) hk16 (by decide))
      · refine lv_aload_n hx hb d_x_init_32 rfl (lv_at hl 1 rfl) ?_
        refine va_get (D := D) (ci := 1) (v := .ref ga) (C := R_X) (T := F_X) (N := 2) hx hb S.2.2.2.2.1 in_X S.2.2.2.1 hK hP 0 rfl rfl 0 (by decide) (S.2.2.2.2.1 _ gw_57) (fun _ h9 => h9) rfl d_x_init_33 ?_
        refine lv_iload_n hx hb d_x_init_36 rfl (lv_at hl 0 rfl) ?_
        refine gm_newG (pc := 37) S hK hP hD hS hA hl.1 (by show 2 + k + 1 ≤ 18; omega) (by show 22 + 6 * k + 6 ≤ 118; omega) (by decide) (by decide) (Nat.le_of_ble_eq_true rfl) d_x_init_37 d_x_init_40 d_x_init_41 (fun a H hP hD hS => ?_)
        have hat : (wX h ga md cR q k ++ [(a, .inr (0, gl zg))])[3 + k]? = some (a, .inr (0, gl zg)) := by
          have hlen : (wX h ga md cR q k).length = 3 + k := by simp [wX]; omega
          rw [List.getElem?_append_right (by omega), hlen, Nat.sub_self]
          rfl
        refine va_astq (r := (R_G, F_G, 6)) (vs := gl zg) hx hb hK hP hD hS 1 0 (3 + k) 0 (f := fun j => if j < k then some (q j) else none) rfl rfl hat rfl (vp_in_nI hk16 (by decide)) d_x_init_44 (fun H locs hP hD hS => ?_)
        rw [nI_clamp (by omega), wX_s] at hP hD
        refine lv_iinc (k := 0) hx hb d_x_init_45 hl rfl rfl (by decide) rfl (fun ls hl => ?_)
        have hl : lv_has ls 2 [(1, .int (nI (k + 1))), (0, .ref h)] := by rw [nI_succ]; exact hl
        refine lv_goto (tgt := 26) hx hb d_x_init_48 (by decide) ?_
        refine W.cs (show 2 + k + 1 = 2 + (k + 1) by omega) (show 22 + 6 * k + 6 = 22 + 6 * (k + 1) by omega) ?_
        exact ih (k + 1) (up q k a) ls H locs (by omega) hl hP hD hS
  exact key 16 0 (fun _ => 0) ls H locs (by decide) hl hP hD hS

def wM (h : Nat) (a : Nat → Nat) (cL cI cZ : ClassId) : va_W := [(h, .inr (2, [.int 0, .ref (a 1), .ref (a 2), .ref (a 3), .ref (a 4), .ref (a 5), .ref (a 6)])), (a 1, .inl (cL, 16, .inr (.inl (fun _ => 0)))), (a 2, .inl (cL, 16, .inr (.inl (fun _ => 0)))), (a 3, .inl (cL, 16, .inr (.inl (fun _ => 0)))), (a 4, .inl (cI, 16, .inl (fun _ => 0))), (a 5, .inl (cI, 16, .inl (fun _ => 0))), (a 6, .inl (cZ, 16, .inl (fun _ => 0)))]
def mP (D : va_G) (h : Nat) : Array Value → State → Prop := fun v U => v = ([.ref h] : List Value).toArray ∧ va_P D cls0 [(h, .inr (2, [.int 0, .null, .null, .null, .null, .null, .null]))] U.heap ∧ va_K D cls0 [] U
def mQ (D : va_G) (h : Nat) : Array Value → State → Outcome → State → Prop := fun _ st o t => o = .returned none ∧ (∃ (a : Nat → Nat) (cL cI cZ : ClassId), va_P D cls0 (wM h a cL cI cZ) t.heap ∧ va_D (gA h) (wM h a cL cI cZ) ∧ va_K D cls0 [(cL, .long), (cI, .int), (cZ, .boolean)] t) ∧ va_F (gA h) st t
set_option maxHeartbeats 4000000 in
set_option maxRecDepth 100000 in
/-- the constructor of the model -/
theorem t_minit (l : Launch) (D : va_G) (h : Nat) : Con l y_m_init 1 12 6 96 (gA h) (mP D h) (mQ D h) := by
  refine Con.ofW (cc := prog_4_method_1_code) (maxL := 1) (ret := none) (by decide +kernel) gw_252 ?_
  intro p e s m args below meth c S ha hnm hno hv
  obtain ⟨rfl, hP, hK⟩ := hv
  have S : Fx p s m ([.ref h] : List Value).toArray meth c prog_4_method_1_code 1 R_M none := S
  have hx := S.1
  have hb := S.2.1
  have hlt : h < s.heap.size := (hP 0 _ rfl).lt
  have hA : ∀ q, s.heap.size ≤ q → gA h q := fun q hq => Nat.le_trans (Nat.le_of_lt hlt) hq
  have hD : va_D (gA h) [(h, .inr (2, [.int 0, .null, .null, .null, .null, .null, .null]))] := va_D1 (Nat.le_refl h)
  have hS : va_S (gA h) s.heap s.heap [] := va_S.rf
  have hl := lv_entry ([.ref h]) (n := 1) (Nat.le_of_ble_eq_true rfl)
  rw [lg_entry_eq]
  generalize (lg_sl ([.ref h]) ++ List.replicate (1 - (lg_sl ([.ref h])).length) Slot.unset).toArray = ls at hl ⊢
  have hl : lv_has ls 1 [(0, .ref h)] := hl
  refine lv_aload_n hx hb d_m_init_0 rfl (lv_at hl 0 rfl) ?_
  refine W.objInit hx hb S.2.2.2.1 (S.2.2.2.2.1 _ gw_253) (S.2.2.2.2.1 _ gw_23) (S.2.2.2.2.1 _ gw_24) rfl (by rw [S.2.2.1]; exact hl.1) rfl d_m_init_1 (Nat.le_of_ble_eq_true rfl) (Nat.le_of_ble_eq_true rfl) ?_
  refine lv_aload_n hx hb d_m_init_4 rfl (lv_at hl 0 rfl) ?_
  refine lv_bipush (v := 16) hx hb d_m_init_5 (by decide) ?_
  refine va_newa (atype := .long) (ty := .long) (N' := 16) (a0 := (16, .inr (.inl (fun _ => 0)))) hx hb (S.2.2.2.2.1 _ gw_276) rfl hK hP hD hS hA (fun _ => rfl) (by decide) (by decide) (by decide) (by decide) (by decide) d_m_init_7 (fun a1 c1 H hK hP hD hS => ?_)
  have hP : va_P D cls0 [(h, .inr (2, [.int 0, .null, .null, .null, .null, .null, .null])), (a1, .inl (c1, 16, .inr (.inl (fun _ => 0))))] H := hP
  have hD : va_D (gA h) [(h, .inr (2, [.int 0, .null, .null, .null, .null, .null, .null])), (a1, .inl (c1, 16, .inr (.inl (fun _ => 0))))] := hD
  refine va_putF (D := D) (ci := 2) (v := .ref a1) (ty := .array .long) (C := R_M) (T := F_M) (N := 7) hx hb S.2.2.2.2.1 in_M t_M t_M_ok n_M S.2.2.2.1 hK hP hD hS 0 rfl rfl 1 (by decide) (S.2.2.2.2.1 _ gw_255) (fun _ h9 => h9) rfl hnm rfl (by decide +kernel) rfl rfl (Nat.le_of_ble_eq_true rfl) d_m_init_9 (fun H locs hP hD hS => ?_)
  have hP : va_P D cls0 [(h, .inr (2, [.int 0, .ref a1, .null, .null, .null, .null, .null])), (a1, .inl (c1, 16, .inr (.inl (fun _ => 0))))] H := hP
  have hD : va_D (gA h) [(h, .inr (2, [.int 0, .ref a1, .null, .null, .null, .null, .null])), (a1, .inl (c1, 16, .inr (.inl (fun _ => 0))))] := hD
  refine lv_aload_n hx hb d_m_init_12 rfl (lv_at hl 0 rfl) ?_
  refine lv_bipush (v := 16) hx hb d_m_init_13 (by decide) ?_
  refine va_newa (atype := .long) (ty := .long) (N' := 16) (a0 := (16, .inr (.inl (fun _ => 0)))) hx hb (S.2.2.2.2.1 _ gw_276) rfl hK hP hD hS hA (fun _ => rfl) (by decide) (by decide) (by decide) (by decide) (by decide) d_m_init_15 (fun a2 c2 H hK hP hD hS => ?_)
  have hP : va_P D cls0 [(h, .inr (2, [.int 0, .ref a1, .null, .null, .null, .null, .null])), (a1, .inl (c1, 16, .inr (.inl (fun _ => 0)))), (a2, .inl (c2, 16, .inr (.inl (fun _ => 0))))] H := hP
  have hD : va_D (gA h) [(h, .inr (2, [.int 0, .ref a1, .null, .null, .null, .null, .null])), (a1, .inl (c1, 16, .inr (.inl (fun _ => 0)))), (a2, .inl (c2, 16, .inr (.inl (fun _ => 0))))] := hD
  refine va_putF (D := D) (ci := 2) (v := .ref a2) (ty := .array .long) (C := R_M) (T := F_M) (N := 7) hx hb S.2.2.2.2.1 in_M t_M t_M_ok n_M S.2.2.2.1 hK hP hD hS 0 rfl rfl 2 (by decide) (S.2.2.2.2.1 _ gw_256) (fun _ h9 => h9) rfl hnm rfl (by decide +kernel) rfl rfl (Nat.le_of_ble_eq_true rfl) d_m_init_17 (fun H locs hP hD hS => ?_)
  have hP : va_P D cls0 [(h, .inr (2, [.int 0, .ref a1, .ref a2, .null, .null, .null, .null])), (a1, .inl (c1, 16, .inr (.inl (fun _ => 0)))), (a2, .inl (c2, 16, .inr (.inl (fun _ => 0))))] H := hP
  have hD : va_D (gA h) [(h, .inr (2, [.int 0, .ref a1, .ref a2, .null, .null, .null, .null])), (a1, .inl (c1, 16, .inr (.inl (fun _ => 0)))), (a2, .inl (c2, 16, .inr (.inl (fun _ => 0))))] := hD
  refine lv_aload_n hx hb d_m_init_20 rfl (lv_at hl 0 rfl) ?_
  refine lv_bipush (v := 16) hx hb d_m_init_21 (by decide) ?_
  refine va_newa (atype := .long) (ty := .long) (N' := 16) (a0 := (16, .inr (.inl (fun _ => 0)))) hx hb (S.2.2.2.2.1 _ gw_276) rfl hK hP hD hS hA (fun _ => rfl) (by decide) (by decide) (by decide) (by decide) (by decide) d_m_init_23 (fun a3 c3 H hK hP hD hS => ?_)
  have hP : va_P D cls0 [(h, .inr (2, [.int 0, .ref a1, .ref a2, .null, .null, .null, .null])), (a1, .inl (c1, 16, .inr (.inl (fun _ => 0)))), (a2, .inl (c2, 16, .inr (.inl (fun _ => 0)))), (a3, .inl (c3, 16, .inr (.inl (fun _ => 0))))] H := hP
  have hD : va_D (gA h) [(h, .inr (2, [.int 0, .ref a1, .ref a2, .null, .null, .null, .null])), (a1, .inl (c1, 16, .inr (.inl (fun _ => 0)))), (a2, .inl (c2, 16, .inr (.inl (fun _ => 0)))), (a3, .inl (c3, 16, .inr (.inl (fun _ => 0))))] := hD
  refine va_putF (D := D) (ci := 2) (v := .ref a3) (ty := .array .long) (C := R_M) (T := F_M) (N := 7) hx hb S.2.2.2.2.1 in_M t_M t_M_ok n_M S.2.2.2.1 hK hP hD hS 0 rfl rfl 3 (by decide) (S.2.2.2.2.1 _ gw_257) (fun _ h9 => h9) rfl hnm rfl (by decide +kernel) rfl rfl (Nat.le_of_ble_eq_true rfl) d_m_init_25 (fun H locs hP hD hS => ?_)
  have hP : va_P D cls0 [(h, .inr (2, [.int 0, .ref a1, .ref a2, .ref a3, .null, .null, .null])), (a1, .inl (c1, 16, .inr (.inl (fun _ => 0)))), (a2, .inl (c2, 16, .inr (.inl (fun _ => 0)))), (a3, .inl (c3, 16, .inr (.inl (fun _ => 0))))] H := hP
  have hD : va_D (gA h) [(h, .inr (2, [.int 0, .ref a1, .ref a2, .ref a3, .null, .null, .null])), (a1, .inl (c1, 16, .inr (.inl (fun _ => 0)))), (a2, .inl (c2, 16, .inr (.inl (fun _ => 0)))), (a3, .inl (c3, 16, .inr (.inl (fun _ => 0))))] := hD
  refine lv_aload_n hx hb d_m_init_28 rfl (lv_at hl 0 rfl) ?_
  refine lv_bipush (v := 16) hx hb d_m_init_29 (by decide) ?_
  refine va_newa (atype := .int) (ty := .int) (N' := 16) (a0 := (16, .inl (fun _ => 0))) hx hb (S.2.2.2.2.1 _ gw_277) rfl hK hP hD hS hA (fun _ => rfl) (by decide) (by decide) (by decide) (by decide) (by decide) d_m_init_31 (fun a4 c4 H hK hP hD hS => ?_)
  have hP : va_P D cls0 [(h, .inr (2, [.int 0, .ref a1, .ref a2, .ref a3, .null, .null, .null])), (a1, .inl (c1, 16, .inr (.inl (fun _ => 0)))), (a2, .inl (c2, 16, .inr (.inl (fun _ => 0)))), (a3, .inl (c3, 16, .inr (.inl (fun _ => 0)))), (a4, .inl (c4, 16, .inl (fun _ => 0)))] H := hP
  have hD : va_D (gA h) [(h, .inr (2, [.int 0, .ref a1, .ref a2, .ref a3, .null, .null, .null])), (a1, .inl (c1, 16, .inr (.inl (fun _ => 0)))), (a2, .inl (c2, 16, .inr (.inl (fun _ => 0)))), (a3, .inl (c3, 16, .inr (.inl (fun _ => 0)))), (a4, .inl (c4, 16, .inl (fun _ => 0)))] := hD
  refine va_putF (D := D) (ci := 2) (v := .ref a4) (ty := .array .int) (C := R_M) (T := F_M) (N := 7) hx hb S.2.2.2.2.1 in_M t_M t_M_ok n_M S.2.2.2.1 hK hP hD hS 0 rfl rfl 4 (by decide) (S.2.2.2.2.1 _ gw_258) (fun _ h9 => h9) rfl hnm rfl (by decide +kernel) rfl rfl (Nat.le_of_ble_eq_true rfl) d_m_init_33 (fun H locs hP hD hS => ?_)
  have hP : va_P D cls0 [(h, .inr (2, [.int 0, .ref a1, .ref a2, .ref a3, .ref a4, .null, .null])), (a1, .inl (c1, 16, .inr (.inl (fun _ => 0)))), (a2, .inl (c2, 16, .inr (.inl (fun _ => 0)))), (a3, .inl (c3, 16, .inr (.inl (fun _ => 0)))), (a4, .inl (c4, 16, .inl (fun _ => 0)))] H := hP
  have hD : va_D (gA h) [(h, .inr (2, [.int 0, .ref a1, .ref a2, .ref a3, .ref a4, .null, .null])), (a1, .inl (c1, 16, .inr (.inl (fun _ => 0)))), (a2, .inl (c2, 16, .inr (.inl (fun _ => 0)))), (a3, .inl (c3, 16, .inr (.inl (fun _ => 0)))), (a4, .inl (c4, 16, .inl (fun _ => 0)))] := hD
  refine lv_aload_n hx hb d_m_init_36 rfl (lv_at hl 0 rfl) ?_
  refine lv_bipush (v := 16) hx hb d_m_init_37 (by decide) ?_
  refine va_newa (atype := .int) (ty := .int) (N' := 16) (a0 := (16, .inl (fun _ => 0))) hx hb (S.2.2.2.2.1 _ gw_277) rfl hK hP hD hS hA (fun _ => rfl) (by decide) (by decide) (by decide) (by decide) (by decide) d_m_init_39 (fun a5 c5 H hK hP hD hS => ?_)
  have hP : va_P D cls0 [(h, .inr (2, [.int 0, .ref a1, .ref a2, .ref a3, .ref a4, .null, .null])), (a1, .inl (c1, 16, .inr (.inl (fun _ => 0)))), (a2, .inl (c2, 16, .inr (.inl (fun _ => 0)))), (a3, .inl (c3, 16, .inr (.inl (fun _ => 0)))), (a4, .inl (c4, 16, .inl (fun _ => 0))), (a5, .inl (c5, 16, .inl (fun _ => 0)))] H := hP
  have hD : va_D (gA h) [(h, .inr (2, [.int 0, .ref a1, .ref a2, .ref a3, .ref a4, .null, .null])), (a1, .inl (c1, 16, .inr (.inl (fun _ => 0)))), (a2, .inl (c2, 16, .inr (.inl (fun _ => 0)))), (a3, .inl (c3, 16, .inr (.inl (fun _ => 0)))), (a4, .inl (c4, 16, .inl (fun _ => 0))), (a5, .inl (c5, 16, .inl (fun _ => 0)))] := hD
  refine va_putF (D := D) (ci := 2) (v := .ref a5) (ty := .array .int) (C := R_M) (T := F_M) (N := 7) hx hb S.2.2.2.2.1 in_M t_M t_M_ok n_M S.2.2.2.1 hK hP hD hS 0 rfl rfl 5 (by decide) (S.2.2.2.2.1 _ gw_259) (fun _ h9 => h9) rfl hnm rfl (by decide +kernel) rfl rfl (Nat.le_of_ble_eq_true rfl) d_m_init_41 (fun H locs hP hD hS => ?_)
  have hP : va_P D cls0 [(h, .inr (2, [.int 0, .ref a1, .ref a2, .ref a3, .ref a4, .ref a5, .null])), (a1, .inl (c1, 16, .inr (.inl (fun _ => 0)))), (a2, .inl (c2, 16, .inr (.inl (fun _ => 0)))), (a3, .inl (c3, 16, .inr (.inl (fun _ => 0)))), (a4, .inl (c4, 16, .inl (fun _ => 0))), (a5, .inl (c5, 16, .inl (fun _ => 0)))] H := hP
  have hD : va_D (gA h) [(h, .inr (2, [.int 0, .ref a1, .ref a2, .ref a3, .ref a4, .ref a5, .null])), (a1, .inl (c1, 16, .inr (.inl (fun _ => 0)))), (a2, .inl (c2, 16, .inr (.inl (fun _ => 0)))), (a3, .inl (c3, 16, .inr (.inl (fun _ => 0)))), (a4, .inl (c4, 16, .inl (fun _ => 0))), (a5, .inl (c5, 16, .inl (fun _ => 0)))] := hD
  refine lv_aload_n hx hb d_m_init_44 rfl (lv_at hl 0 rfl) ?_
  refine lv_bipush (v := 16) hx hb d_m_init_45 (by decide) ?_
  refine va_newa (atype := .boolean) (ty := .boolean) (N' := 16) (a0 := (16, .inl (fun _ => 0))) hx hb (S.2.2.2.2.1 _ gw_278) rfl hK hP hD hS hA (fun _ => rfl) (by decide) (by decide) (by decide) (by decide) (by decide) d_m_init_47 (fun a6 c6 H hK hP hD hS => ?_)
  have hP : va_P D cls0 [(h, .inr (2, [.int 0, .ref a1, .ref a2, .ref a3, .ref a4, .ref a5, .null])), (a1, .inl (c1, 16, .inr (.inl (fun _ => 0)))), (a2, .inl (c2, 16, .inr (.inl (fun _ => 0)))), (a3, .inl (c3, 16, .inr (.inl (fun _ => 0)))), (a4, .inl (c4, 16, .inl (fun _ => 0))), (a5, .inl (c5, 16, .inl (fun _ => 0))), (a6, .inl (c6, 16, .inl (fun _ => 0)))] H := hP
  have hD : va_D (gA h) [(h, .inr (2, [.int 0, .ref a1, .ref a2, .ref a3, .ref a4, .ref a5, .null])), (a1, .inl (c1, 16, .inr (.inl (fun _ => 0)))), (a2, .inl (c2, 16, .inr (.inl (fun _ => 0)))), (a3, .inl (c3, 16, .inr (.inl (fun _ => 0)))), (a4, .inl (c4, 16, .inl (fun _ => 0))), (a5, .inl (c5, 16, .inl (fun _ => 0))), (a6, .inl (c6, 16, .inl (fun _ => 0)))] := hD
  refine va_putF (D := D) (ci := 2) (v := .ref a6) (ty := .array .boolean) (C := R_M) (T := F_M) (N := 7) hx hb S.2.2.2.2.1 in_M t_M t_M_ok n_M S.2.2.2.1 hK hP hD hS 0 rfl rfl 6 (by decide) (S.2.2.2.2.1 _ gw_260) (fun _ h9 => h9) rfl hnm rfl (by decide +kernel) rfl rfl (Nat.le_of_ble_eq_true rfl) d_m_init_49 (fun H locs hP hD hS => ?_)
  have hP : va_P D cls0 [(h, .inr (2, [.int 0, .ref a1, .ref a2, .ref a3, .ref a4, .ref a5, .ref a6])), (a1, .inl (c1, 16, .inr (.inl (fun _ => 0)))), (a2, .inl (c2, 16, .inr (.inl (fun _ => 0)))), (a3, .inl (c3, 16, .inr (.inl (fun _ => 0)))), (a4, .inl (c4, 16, .inl (fun _ => 0))), (a5, .inl (c5, 16, .inl (fun _ => 0))), (a6, .inl (c6, 16, .inl (fun _ => 0)))] H := hP
  have hD : va_D (gA h) [(h, .inr (2, [.int 0, .ref a1, .ref a2, .ref a3, .ref a4, .ref a5, .ref a6])), (a1, .inl (c1, 16, .inr (.inl (fun _ => 0)))), (a2, .inl (c2, 16, .inr (.inl (fun _ => 0)))), (a3, .inl (c3, 16, .inr (.inl (fun _ => 0)))), (a4, .inl (c4, 16, .inl (fun _ => 0))), (a5, .inl (c5, 16, .inl (fun _ => 0))), (a6, .inl (c6, 16, .inl (fun _ => 0)))] := hD
  have hK : va_K D cls0 [(c1, .long), (c2, .long), (c3, .long), (c4, .int), (c5, .int), (c6, .boolean)] s := hK
  obtain rfl : c1 = c2 := Option.some.inj ((hK.2 0 _ rfl).2.symm.trans (hK.2 1 _ rfl).2)
  obtain rfl : c1 = c3 := Option.some.inj ((hK.2 0 _ rfl).2.symm.trans (hK.2 2 _ rfl).2)
  obtain rfl : c4 = c5 := Option.some.inj ((hK.2 3 _ rfl).2.symm.trans (hK.2 4 _ rfl).2)
  refine W.mono MQ.toMX ?_
  refine W.vret hx hb S.2.2.2.2.2.1 (fun t ht hW => ⟨rfl, ⟨fun k => if k = 1 then a1 else if k = 2 then a2 else if k = 3 then a3 else if k = 4 then a4 else if k = 5 then a5 else a6, c1, c4, c6, by rw [ht]; exact hP, hD, va_K.moved hW.alike (hK.sub (tys' := [(c1, .long), (c4, .int), (c6, .boolean)]) [0, 3, 5] rfl)⟩, hS.F ht⟩) hS.2.2 d_m_init_52 S.2.2.2.2.2.2
end GmN
end
section
/-! The plain law: what GrantMath's helper and the model answer at the same arguments, and that both sides go on agreeing; the row for a word of the script -/
section GmT
/-- both sides hold the same sixteen grants, all of them in range -/
def Rl (σ : Sg) : Prop := (∀ k, k < 16 → σ.1 k = σ.2.1 k) ∧ ∀ k, k < 16 → gok (σ.1 k)
theorem Rl_e {σ : Sg} (h : Rl σ) (e : Int32) (o : Int64) : Rl (σ.1, σ.2.1, e, o) := h
theorem Rl_up1 {X M : Nat → Gr} {x e : Int32} {o y : Int64} (h : Rl (X, M, x, y)) {i : Nat} {g g' : Gr} (hg : g = g') (hk : gok g) : Rl (up X i g, up M i g', e, o) := by
  subst hg
  refine ⟨fun k hk1 => ?_, fun k hk1 => ?_⟩
  · show up X i g k = up M i g k
    by_cases hik : k = i
    · subst hik; rw [up_s, up_s]
    · rw [up_n _ _ hik, up_n _ _ hik]; exact h.1 k hk1
  · show gok (up X i g k)
    by_cases hik : k = i
    · subst hik; rw [up_s]; exact hk
    · rw [up_n _ _ hik]; exact h.2 k hk1
theorem Rl_16 {X M : Nat → Gr} {x : Int32} {y : Int64} (h : Rl (X, M, x, y)) (g : Gr) : Rl (up X 16 g, M, x, y) := by
  refine ⟨fun k hk1 => ?_, fun k hk1 => ?_⟩
  · show up X 16 g k = M k
    rw [up_n _ _ (by omega)]; exact h.1 k hk1
  · show gok (up X 16 g k)
    rw [up_n _ _ (by omega)]; exact h.2 k hk1
theorem Rl_up2 {σ : Sg} {e : Int32} {o : Int64} (h : Rl σ) {i : Nat} {g g' : Gr} (hg : g = g') (hk : gok g) : Rl (up (up σ.1 16 g) i g, up σ.2.1 i g', e, o) := Rl_up1 (x := σ.2.2.1) (y := σ.2.2.2) (Rl_16 h g) hg hk
theorem nI_le_of {v : Int32} {n : Nat} (h0 : 0 ≤ v.toInt) (h1 : v.toInt ≤ n) (hn : n < 2147483648) : ∃ k, k ≤ n ∧ v = nI k := by
  refine ⟨v.toInt.toNat, by omega, ?_⟩
  apply Int32.toInt_inj.mp
  rw [nI_toInt (by omega)]
  omega
theorem rtB_of {lo hi q : Int32} (h : rtB lo hi q = true) : ∃ k, k < 256 ∧ q = nI k ∧ uw lo ≤ uw hi := by
  simp only [rtB, Bool.and_eq_true, decide_eq_true_eq] at h
  obtain ⟨k, hk, e⟩ := nI_le_of (n := 255) h.1.1 h.1.2 (by decide)
  exact ⟨k, by omega, e, h.2⟩
theorem alB_of {n : Int32} (h : alB n = true) : ∃ k, k < 65537 ∧ n = nI k := by
  simp only [alB, Bool.and_eq_true, decide_eq_true_eq] at h
  obtain ⟨k, hk, e⟩ := nI_le_of (n := 65536) h.1 h.2 (by decide)
  exact ⟨k, by omega, e⟩
theorem ptB_of {n : Int32} (h : ptB n = true) : ∃ k, k < 6 ∧ n = nI k := by
  simp only [ptB, Bool.and_eq_true, decide_eq_true_eq] at h
  obtain ⟨k, hk, e⟩ := nI_le_of (n := 5) h.1 h.2 (by decide)
  exact ⟨k, by omega, e⟩
theorem sl_0 {r b : Gr} (h : slC r b = 0) : qa b < 65536 := by
  unfold slC at h
  rw [cz_0] at h
  simp only [Bool.and_eq_true, decide_eq_true_eq] at h
  omega
theorem gok_sY {r : Gr} (h : gok r) {v : Nat} (hv : v < 65536) : gok (sY r v) := ⟨h.1, h.2.1, h.2.2.1, h.2.2.2.1, hv⟩
theorem bl_bi (b : Bool) : bl b = if bi b = 0 then lN 0 else lN 1 := by cases b <;> decide
abbrev vI (x : Int32) : Value := .int x
/-- a pair of a helper and a model's method without an answer: both go, with the same code, and agree behind it -/
def PV (l : Launch) (cx : Cx) (yl ym : MethodName) (as : List Value) (σ : Sg) : Prop :=
  ∃ (x : Int32) (σ1 σ2 : Sg), CT l cx yl 8 154 1 6 (.ref (ad cx 17) :: as) σ (.inl (some (.int x))) σ1 ∧ CT l cx ym 2 61 0 0 (.ref (ad cx 19) :: as) σ1 (.inl none) σ2 ∧ σ2.2.2.1 = x ∧ Rl σ2
/-- the same with an answer: out[0] holds what the model answers -/
def PI (l : Launch) (cx : Cx) (yl ym : MethodName) (as : List Value) (fv : Int32 → Int64) (σ : Sg) : Prop :=
  ∃ (x v : Int32) (σ1 σ2 : Sg), CT l cx yl 8 154 1 6 (.ref (ad cx 17) :: (as ++ [.ref (ad cx 26)])) σ (.inl (some (.int x))) σ1 ∧ CT l cx ym 2 61 0 0 (.ref (ad cx 19) :: as) σ1 (.inl (some (.int v))) σ2 ∧ σ2.2.2.1 = x ∧ (x = 0 → σ2.2.2.2 = fv v) ∧ Rl σ2
def fZ (v : Int32) : Int64 := if v = 0 then lN 0 else lN 1
theorem r_root (l : Launch) {cx : Cx} (hC : Cg cx) (hfl : l.flags = flags0) {σ : Sg} (hR : Rl σ) (r lo hi q : Int32) : PV l cx y_l_root y_m_root [.int r, .int lo, .int hi, .int q] σ := by
  cases hq : rtB lo hi q with
  | false => exact ⟨1, _, _, l_root_b0 l hC σ hfl hq, m_root_b0 l hC σ hq, rfl, hR⟩
  | true =>
    obtain ⟨k, hk, rfl, hle⟩ := rtB_of hq
    cases hr : okr r with
    | false => exact ⟨2, _, _, l_root_b1 l hC σ hfl hr hk hle, m_root_b1 l hC σ hr hk hle, rfl, hR⟩
    | true =>
      obtain ⟨i, hi0, rfl⟩ := okr_of hr
      exact ⟨0, _, _, l_root_ok l hC σ hi0 hk hle, m_root_ok l hC _ hi0 hk hle, rfl, Rl_up1 (x := σ.2.2.1) (y := σ.2.2.2) hR rfl ⟨uw_lt _, uw_lt _, uw_lt _, hk, (show (0 : Nat) < 65536 by decide)⟩⟩
theorem r_number (l : Launch) {cx : Cx} (hC : Cg cx) (hfl : l.flags = flags0) {σ : Sg} (hR : Rl σ) (r v : Int32) : PV l cx y_l_number y_m_number [.int r, .int v] σ := by
  cases hr : okr r with
  | false => exact ⟨1, _, _, l_number_b1 l hC σ hfl hr, m_number_b1 l hC σ hr, rfl, hR⟩
  | true =>
    obtain ⟨i, hi, rfl⟩ := okr_of hr
    exact ⟨0, _, _, l_number_ok l hC σ hi v, m_number_ok l hC _ hi v, rfl, Rl_up1 (x := σ.2.2.1) (y := σ.2.2.2) hR rfl ⟨uw_lt _, (show (0 : Nat) < 4294967296 by decide), (show (0 : Nat) < 4294967296 by decide), (show (0 : Nat) < 256 by decide), (show (0 : Nat) < 65536 by decide)⟩⟩
theorem r_move (l : Launch) {cx : Cx} (hC : Cg cx) (hfl : l.flags = flags0) {σ : Sg} (hR : Rl σ) (r u n : Int32) : PV l cx y_l_move y_m_move [.int r, .int u, .int n] σ := by
  cases hr : okr r with
  | false => exact ⟨1, _, _, l_move_b1 l hC σ hfl hr, m_move_b1 l hC σ (by rw [hr]; rfl), rfl, hR⟩
  | true =>
    obtain ⟨i, hi, rfl⟩ := okr_of hr
    cases hu : okr u with
    | false => exact ⟨1, _, _, l_move_b2 l hC σ hfl hi hu, m_move_b1 l hC σ (by rw [hu, Bool.and_false]), rfl, hR⟩
    | true =>
      obtain ⟨j, hj, rfl⟩ := okr_of hu
      have e1 := hR.1 j hj
      exact ⟨0, _, _, l_move_ok l hC σ hi hj n (hR.2 j hj), m_move_ok l hC _ hi hj n (show gok (σ.2.1 j) from e1 ▸ hR.2 j hj), rfl, Rl_up2 hR (show mv (σ.1 j) n = mv (σ.2.1 j) n by rw [e1]) (gok_mv (hR.2 j hj) n)⟩
theorem r_narrow (l : Launch) {cx : Cx} (hC : Cg cx) (hfl : l.flags = flags0) {σ : Sg} (hR : Rl σ) (r u n : Int32) : PI l cx y_l_narrow y_m_narrow [.int r, .int u, .int n] fZ σ := by
  cases hr : okr r with
  | false => exact ⟨1, _, _, _, l_narrow_b1 l hC σ hfl hr, m_narrow_b1 l hC σ (by rw [hr]; rfl), rfl, fun h => absurd h (by decide), hR⟩
  | true =>
    obtain ⟨i, hi, rfl⟩ := okr_of hr
    cases hu : okr u with
    | false => exact ⟨1, _, _, _, l_narrow_b2 l hC σ hfl hi hu, m_narrow_b1 l hC σ (by rw [hu, Bool.and_false]), rfl, fun h => absurd h (by decide), hR⟩
    | true =>
      obtain ⟨j, hj, rfl⟩ := okr_of hu
      have e1 := hR.1 j hj
      have e2 : nw (σ.1 j) n = nw (σ.2.1 j) n := by rw [e1]
      exact ⟨0, _, _, _, l_narrow_ok l hC σ hi hj n (hR.2 j hj), m_narrow_ok l hC _ hi hj n (show gok (σ.2.1 j) from e1 ▸ hR.2 j hj), rfl, fun _ => (show bl (qg (nw (σ.1 j) n)) = fZ (bi (qg (nw (σ.2.1 j) n))) by rw [e2]; exact bl_bi _), Rl_up2 hR e2 (gok_nw (hR.2 j hj) n)⟩
theorem r_restrict (l : Launch) {cx : Cx} (hC : Cg cx) (hfl : l.flags = flags0) {σ : Sg} (hR : Rl σ) (r u n : Int32) : PI l cx y_l_restrict y_m_restrict [.int r, .int u, .int n] fZ σ := by
  cases hr : okr r with
  | false => exact ⟨1, _, _, _, l_restrict_b1 l hC σ hfl hr, m_restrict_b1 l hC σ (by rw [hr]; rfl), rfl, fun h => absurd h (by decide), hR⟩
  | true =>
    obtain ⟨i, hi, rfl⟩ := okr_of hr
    cases hu : okr u with
    | false => exact ⟨1, _, _, _, l_restrict_b2 l hC σ hfl hi hu, m_restrict_b1 l hC σ (by rw [hu, Bool.and_false]), rfl, fun h => absurd h (by decide), hR⟩
    | true =>
      obtain ⟨j, hj, rfl⟩ := okr_of hu
      have e1 := hR.1 j hj
      have e2 : rc (σ.1 j) n = rc (σ.2.1 j) n := by rw [e1]
      exact ⟨0, _, _, _, l_restrict_ok l hC σ hi hj n (hR.2 j hj), m_restrict_ok l hC _ hi hj n (show gok (σ.2.1 j) from e1 ▸ hR.2 j hj), rfl, fun _ => (show bl (qg (rc (σ.1 j) n)) = fZ (bi (qg (rc (σ.2.1 j) n))) by rw [e2]; exact bl_bi _), Rl_up2 hR e2 (gok_rc (hR.2 j hj) n)⟩
theorem r_seal (l : Launch) {cx : Cx} (hC : Cg cx) (hfl : l.flags = flags0) {σ : Sg} (hR : Rl σ) (r u t : Int32) : PI l cx y_l_seal y_m_seal [.int r, .int u, .int t] Int32.toInt64 σ := by
  cases hr : okr r with
  | false => exact ⟨1, _, _, _, l_seal_b1 l hC σ hfl hr, m_seal_b1 l hC σ (by rw [hr]; rfl), rfl, fun h => absurd h (by decide), hR⟩
  | true =>
    obtain ⟨i, hi, rfl⟩ := okr_of hr
    cases hu : okr u with
    | false => exact ⟨1, _, _, _, l_seal_b2 l hC σ hfl hi hu, m_seal_b1 l hC σ (by rw [hu, Bool.and_false]; rfl), rfl, fun h => absurd h (by decide), hR⟩
    | true =>
      obtain ⟨j, hj, rfl⟩ := okr_of hu
      cases ht0 : okr t with
      | false => exact ⟨1, _, _, _, l_seal_b3 l hC σ hfl hi hj ht0, m_seal_b1 l hC σ (by rw [ht0, Bool.and_false]), rfl, fun h => absurd h (by decide), hR⟩
      | true =>
        obtain ⟨t, ht, rfl⟩ := okr_of ht0
        have e1 := hR.1 j hj
        have e2 := hR.1 t ht
        have hL := l_seal_ok l hC σ hi hj ht (hR.2 j hj) (hR.2 t ht)
        have g1 : gok (σ.2.1 j) := e1 ▸ hR.2 j hj
        have g2 : gok (σ.2.1 t) := e2 ▸ hR.2 t ht
        by_cases hz : slC (σ.1 j) (σ.1 t) = 0
        · simp only [if_pos hz] at hL
          have hM := m_seal_ok l hC (up (up σ.1 16 (sY (σ.1 j) (qa (σ.1 t)))) i (sY (σ.1 j) (qa (σ.1 t))), σ.2.1, σ.2.2.1, (slC (σ.1 j) (σ.1 t)).toInt64) hi hj ht g1 g2
          dsimp only at hM
          rw [← e1, ← e2, if_pos hz] at hM
          exact ⟨0, _, _, _, hL, hM, rfl, fun _ => rfl, Rl_up2 hR rfl (gok_sY (hR.2 j hj) (sl_0 hz))⟩
        · simp only [if_neg hz] at hL
          have hM := m_seal_ok l hC (σ.1, σ.2.1, σ.2.2.1, (slC (σ.1 j) (σ.1 t)).toInt64) hi hj ht g1 g2
          dsimp only at hM
          rw [← e1, ← e2, if_neg hz] at hM
          exact ⟨0, _, _, _, hL, hM, rfl, fun _ => rfl, hR⟩
theorem r_unseal (l : Launch) {cx : Cx} (hC : Cg cx) (hfl : l.flags = flags0) {σ : Sg} (hR : Rl σ) (r u t : Int32) : PI l cx y_l_unseal y_m_unseal [.int r, .int u, .int t] Int32.toInt64 σ := by
  cases hr : okr r with
  | false => exact ⟨1, _, _, _, l_unseal_b1 l hC σ hfl hr, m_unseal_b1 l hC σ (by rw [hr]; rfl), rfl, fun h => absurd h (by decide), hR⟩
  | true =>
    obtain ⟨i, hi, rfl⟩ := okr_of hr
    cases hu : okr u with
    | false => exact ⟨1, _, _, _, l_unseal_b2 l hC σ hfl hi hu, m_unseal_b1 l hC σ (by rw [hu, Bool.and_false]; rfl), rfl, fun h => absurd h (by decide), hR⟩
    | true =>
      obtain ⟨j, hj, rfl⟩ := okr_of hu
      cases ht0 : okr t with
      | false => exact ⟨1, _, _, _, l_unseal_b3 l hC σ hfl hi hj ht0, m_unseal_b1 l hC σ (by rw [ht0, Bool.and_false]), rfl, fun h => absurd h (by decide), hR⟩
      | true =>
        obtain ⟨t, ht, rfl⟩ := okr_of ht0
        have e1 := hR.1 j hj
        have e2 := hR.1 t ht
        have hL := l_unseal_ok l hC σ hi hj ht (hR.2 j hj) (hR.2 t ht)
        have g1 : gok (σ.2.1 j) := e1 ▸ hR.2 j hj
        have g2 : gok (σ.2.1 t) := e2 ▸ hR.2 t ht
        by_cases hz : usC (σ.1 j) (σ.1 t) = 0
        · simp only [if_pos hz] at hL
          have hM := m_unseal_ok l hC (up (up σ.1 16 (sY (σ.1 j) 0)) i (sY (σ.1 j) 0), σ.2.1, σ.2.2.1, (usC (σ.1 j) (σ.1 t)).toInt64) hi hj ht g1 g2
          dsimp only at hM
          rw [← e1, ← e2, if_pos hz] at hM
          exact ⟨0, _, _, _, hL, hM, rfl, fun _ => rfl, Rl_up2 hR rfl (gok_sY (hR.2 j hj) (by decide))⟩
        · simp only [if_neg hz] at hL
          have hM := m_unseal_ok l hC (σ.1, σ.2.1, σ.2.2.1, (usC (σ.1 j) (σ.1 t)).toInt64) hi hj ht g1 g2
          dsimp only at hM
          rw [← e1, ← e2, if_neg hz] at hM
          exact ⟨0, _, _, _, hL, hM, rfl, fun _ => rfl, hR⟩
theorem r_allows (l : Launch) {cx : Cx} (hC : Cg cx) (hfl : l.flags = flags0) {σ : Sg} (hR : Rl σ) (r a n q : Int32) : PI l cx y_l_allows y_m_allows [.int r, .int a, .int n, .int q] Int32.toInt64 σ := by
  cases hn : alB n with
  | false => exact ⟨1, _, _, _, l_allows_b0 l hC σ hfl r a hn q, m_allows_b0 l hC σ r a hn q, rfl, fun h => absurd h (by decide), hR⟩
  | true =>
    obtain ⟨k, hk, rfl⟩ := alB_of hn
    cases hr : okr r with
    | false => exact ⟨2, _, _, _, l_allows_b1 l hC σ hfl hr a hk q, m_allows_b1 l hC σ hr a hk q, rfl, fun h => absurd h (by decide), hR⟩
    | true =>
      obtain ⟨i, hi, rfl⟩ := okr_of hr
      have e1 := hR.1 i hi
      exact ⟨0, _, _, _, l_allows_ok l hC σ hi a hk q (hR.2 i hi), m_allows_ok l hC _ hi a hk q (show gok (σ.2.1 i) from e1 ▸ hR.2 i hi), rfl, fun _ => (show (alC (σ.1 i) a k q).toInt64 = (alC (σ.2.1 i) a k q).toInt64 by rw [e1]), hR⟩
theorem r_within (l : Launch) {cx : Cx} (hC : Cg cx) (hfl : l.flags = flags0) {σ : Sg} (hR : Rl σ) (r u : Int32) : PI l cx y_l_within y_m_within [.int r, .int u] fZ σ := by
  cases hr : okr r with
  | false => exact ⟨1, _, _, _, l_within_b1 l hC σ hfl hr, m_within_b1 l hC σ (by rw [hr]; rfl), rfl, fun h => absurd h (by decide), hR⟩
  | true =>
    obtain ⟨i, hi, rfl⟩ := okr_of hr
    cases hu : okr u with
    | false => exact ⟨1, _, _, _, l_within_b2 l hC σ hfl hi hu, m_within_b1 l hC σ (by rw [hu, Bool.and_false]), rfl, fun h => absurd h (by decide), hR⟩
    | true =>
      obtain ⟨j, hj, rfl⟩ := okr_of hu
      have e1 := hR.1 i hi
      have e2 := hR.1 j hj
      exact ⟨0, _, _, _, l_within_ok l hC σ hi hj (hR.2 i hi) (hR.2 j hj), m_within_ok l hC _ hi hj (show gok (σ.2.1 i) from e1 ▸ hR.2 i hi) (show gok (σ.2.1 j) from e2 ▸ hR.2 j hj), rfl, fun _ => (show bl (wiB (σ.1 i) (σ.1 j)) = fZ (bi (wiB (σ.2.1 i) (σ.2.1 j))) by rw [e1, e2]; exact bl_bi _), hR⟩
theorem r_part (l : Launch) {cx : Cx} (hC : Cg cx) (hfl : l.flags = flags0) {σ : Sg} (hR : Rl σ) (r n : Int32) : PI l cx y_l_part y_m_part [.int r, .int n] Int32.toInt64 σ := by
  cases hn : ptB n with
  | false => exact ⟨1, _, _, _, l_part_b0 l hC σ hfl r hn, m_part_b0 l hC σ r hn, rfl, fun h => absurd h (by decide), hR⟩
  | true =>
    obtain ⟨k, hk, rfl⟩ := ptB_of hn
    cases hr : okr r with
    | false => exact ⟨2, _, _, _, l_part_b1 l hC σ hfl hr hk, m_part_b1 l hC σ hr hk, rfl, fun h => absurd h (by decide), hR⟩
    | true =>
      obtain ⟨i, hi, rfl⟩ := okr_of hr
      have e1 := hR.1 i hi
      exact ⟨0, _, _, _, l_part_ok l hC σ hi hk, m_part_ok l hC _ hi hk, rfl, fun _ => (show (ptV (σ.1 i) k).toInt64 = (ptV (σ.2.1 i) k).toInt64 by rw [e1]), hR⟩
end GmT
section GmB
variable {p : Program} {l : Launch} {e : Env} {R : Room} {s : State} {m : MethodId} {args : Array Value} {below : List Frame} {meth : Method} {c : Code} {H : Heap} {locs : List Loc} {cells slots : Nat} {Q : State → Prop}
variable {own : String} {ret : Option FieldType} {nL pc : Nat} {ls : Array Slot} {rest : List Value} {cx : Cx} {σ : Sg}
/-- 'script[at + k]' -/
theorem ls_rd {cc : ByteArray} (S : Fx p s m args meth c cc nL own ret) {b L : Nat} {xs : Nat → Int32} (hX : va_X b L xs s s.heap) (hbl : b < s.heap.size) (hbs : s.heap.size ≤ cx.2.2.2) (hO : Ok cx s σ H locs) {i k : Nat} (h0 : ls[0]? = some (.val (.ref b))) (h4 : ls[4]? = some (.val (.int (nI i)))) (hk : i + k < L) (hL : L ≤ 2560) {n : Int} (hn : Int32.ofInt n = nI k)
    (d0 : decode cc pc = .ok (.aload_n 0, 1)) (d1 : decode cc (pc + 1) = .ok (.iload 4, 2)) (d3 : decode cc (pc + 3) = .ok (.iconst n, 1)) (d4 : decode cc (pc + 4) = .ok (.iadd, 1)) (d5 : decode cc (pc + 5) = .ok (.iaload, 1))
    (kk : W p l e R s m args below meth c H locs cells slots Q (F0 m (pc + 6) ls (.int (xs (i + k)) :: rest))) : W p l e R s m args below meth c H locs cells slots Q (F0 m pc ls rest) := by
  refine lv_aload_n S.1 S.2.1 d0 rfl h0 ?_
  refine lv_iload S.1 S.2.1 d1 h4 ?_
  refine lv_iconst S.1 S.2.1 d3 hn ?_
  refine lv_iadd S.1 S.2.1 d4 ?_
  refine tp_i (z := nI (i + k)) (nI_add i k) ?_
  have hv : xs (nI (i + k)).toNatClampNeg = xs (i + k) := by rw [nI_clamp (by omega)]
  refine va_sld S.1 S.2.1 hX hbl (A := gA cx.2.2.2) (fun h => absurd (Nat.lt_of_lt_of_le hbl hbs) (Nat.not_lt.mpr h)) hO.2 (vp_in_nI hk (by omega)) d5 ?_
  rw [hv]
  exact kk
end GmB
end
section
/-! The eleven cases of the law's switch: from the case to its end, 882 (printed by gen/m_law.py) -/
section GmK
variable {p : Program} {l : Launch} {e : Env} {s : State} {m : MethodId} {below : List Frame} {meth : Method} {c : Code} {H : Heap} {locs : List Loc} {cells slots : Nat} {Q : State → Prop} {ls : Array Slot} {cx : Cx} {σ : Sg} {b L i : Nat} {xs : Nat → Int32}
abbrev lwL (cx : Cx) (b i : Nat) : List (Nat × Value) := [(4, .int (nI i)), (3, .ref (ad cx 26)), (2, .ref (ad cx 19)), (1, .ref (ad cx 17)), (0, .ref b)]
set_option maxHeartbeats 4000000 in
set_option maxRecDepth 100000 in
/-- case root -/
theorem w_root (hfl : l.flags = flags0) (hC : Cg cx) (S : Fx p s m #[Value.ref b] meth c code 7 "GrantMathLaw" (some .boolean)) (hK : Sk cx s s.heap) (hbs : s.heap.size ≤ cx.2.2.2) (hX : va_X b L xs s s.heap) (hbl : b < s.heap.size) (hi : i + 5 ≤ L) (hL : L ≤ 2560) (hO : Ok cx s σ H locs) (hR : Rl σ) (hc : cells + 1 ≤ 966277) (hs : slots + 6 ≤ 6197274) (hl : lv_has ls 7 (lwL cx b i)) (kk : ∀ (σ' : Sg) (H' : Heap) (locs' : List Loc) (ls' : Array Slot), Ok cx s σ' H' locs' → Rl σ' → lv_has ls' 7 (lwL cx b i) → W p l e room_1 s m #[Value.ref b] below meth c H' locs' (cells + 1) (slots + 6) Q (F0 m 882 ls' [])) : W p l e room_1 s m #[Value.ref b] below meth c H locs cells slots Q (F0 m 96 ls []) := by
  have hx := S.1
  have hb := S.2.1
  obtain ⟨x, σ1, σ2, h1, h2, h3, h4⟩ := r_root l hC hfl hR (xs (i + 1)) (xs (i + 2)) (xs (i + 3)) (xs (i + 4))
  refine lv_aload_n hx hb d_l_law_96 rfl (lv_at hl 3 rfl) ?_
  refine ls_rd (k := 1) S hX hbl hbs hO (lv_at hl 4 rfl) (lv_at hl 0 rfl) (by omega) hL (by decide) d_l_law_97 d_l_law_98 d_l_law_100 d_l_law_101 d_l_law_102 ?_
  refine ls_rd (k := 2) S hX hbl hbs hO (lv_at hl 4 rfl) (lv_at hl 0 rfl) (by omega) hL (by decide) d_l_law_103 d_l_law_104 d_l_law_106 d_l_law_107 d_l_law_108 ?_
  refine ls_rd (k := 3) S hX hbl hbs hO (lv_at hl 4 rfl) (lv_at hl 0 rfl) (by omega) hL (by decide) d_l_law_109 d_l_law_110 d_l_law_112 d_l_law_113 d_l_law_114 ?_
  refine ls_rd (k := 4) S hX hbl hbs hO (lv_at hl 4 rfl) (lv_at hl 0 rfl) (by omega) hL (by decide) d_l_law_115 d_l_law_116 d_l_law_118 d_l_law_119 d_l_law_120 ?_
  refine cS5r S hK hO (h1) sw_l_root gw_84 (by decide) (by decide) ⟨hc, hs⟩ hl.1 (Nat.le_of_ble_eq_true rfl) d_l_law_121 (fun H locs hO => ?_)
  try dsimp only at hO
  refine lv_istore hx hb d_l_law_124 hl (by decide) rfl (fun ls hl => ?_)
  have hl : lv_has ls 7 [(5, _), (4, _), (3, _), (2, _), (1, _), (0, _)] := hl
  refine lv_aload_n hx hb d_l_law_126 rfl (lv_at hl 3 rfl) ?_
  refine ls_rd (k := 1) S hX hbl hbs hO (lv_at hl 5 rfl) (lv_at hl 1 rfl) (by omega) hL (by decide) d_l_law_127 d_l_law_128 d_l_law_130 d_l_law_131 d_l_law_132 ?_
  refine ls_rd (k := 2) S hX hbl hbs hO (lv_at hl 5 rfl) (lv_at hl 1 rfl) (by omega) hL (by decide) d_l_law_133 d_l_law_134 d_l_law_136 d_l_law_137 d_l_law_138 ?_
  refine ls_rd (k := 3) S hX hbl hbs hO (lv_at hl 5 rfl) (lv_at hl 1 rfl) (by omega) hL (by decide) d_l_law_139 d_l_law_140 d_l_law_142 d_l_law_143 d_l_law_144 ?_
  refine ls_rd (k := 4) S hX hbl hbs hO (lv_at hl 5 rfl) (lv_at hl 1 rfl) (by omega) hL (by decide) d_l_law_145 d_l_law_146 d_l_law_148 d_l_law_149 d_l_law_150 ?_
  refine cM4v S hK hO (h2) vw_m_root gw_283 (by decide) (by decide) ⟨hc, hs⟩ hl.1 (Nat.le_of_ble_eq_true rfl) d_l_law_151 (fun H locs hO => ?_)
  try dsimp only at hO
  refine lv_aload_n hx hb d_l_law_154 rfl (lv_at hl 3 rfl) ?_
  refine cM0p S hK hO (p_thrown l hC _) vw_m_thrown gw_279 (by decide) (by decide) ⟨hc, hs⟩ hl.1 (Nat.le_of_ble_eq_true rfl) d_l_law_155 ?_
  refine lv_iload hx hb d_l_law_158 (lv_at hl 0 rfl) ?_
  refine lv_icmp_eq (tgt := 165) hx hb d_l_law_160 (by decide) (fun h => ?_) (fun h => ?_)
  · refine lv_goto (tgt := 882) hx hb d_l_law_165 (by decide) ?_
    exact kk σ2 _ _ _ hO h4 (lv_sub hl [1, 2, 3, 4, 5] rfl)
  · exact absurd h3 h
set_option maxHeartbeats 4000000 in
set_option maxRecDepth 100000 in
/-- case number -/
theorem w_number (hfl : l.flags = flags0) (hC : Cg cx) (S : Fx p s m #[Value.ref b] meth c code 7 "GrantMathLaw" (some .boolean)) (hK : Sk cx s s.heap) (hbs : s.heap.size ≤ cx.2.2.2) (hX : va_X b L xs s s.heap) (hbl : b < s.heap.size) (hi : i + 5 ≤ L) (hL : L ≤ 2560) (hO : Ok cx s σ H locs) (hR : Rl σ) (hc : cells + 1 ≤ 966277) (hs : slots + 6 ≤ 6197274) (hl : lv_has ls 7 (lwL cx b i)) (kk : ∀ (σ' : Sg) (H' : Heap) (locs' : List Loc) (ls' : Array Slot), Ok cx s σ' H' locs' → Rl σ' → lv_has ls' 7 (lwL cx b i) → W p l e room_1 s m #[Value.ref b] below meth c H' locs' (cells + 1) (slots + 6) Q (F0 m 882 ls' [])) : W p l e room_1 s m #[Value.ref b] below meth c H locs cells slots Q (F0 m 168 ls []) := by
  have hx := S.1
  have hb := S.2.1
  obtain ⟨x, σ1, σ2, h1, h2, h3, h4⟩ := r_number l hC hfl hR (xs (i + 1)) (xs (i + 2))
  refine lv_aload_n hx hb d_l_law_168 rfl (lv_at hl 3 rfl) ?_
  refine ls_rd (k := 1) S hX hbl hbs hO (lv_at hl 4 rfl) (lv_at hl 0 rfl) (by omega) hL (by decide) d_l_law_169 d_l_law_170 d_l_law_172 d_l_law_173 d_l_law_174 ?_
  refine ls_rd (k := 2) S hX hbl hbs hO (lv_at hl 4 rfl) (lv_at hl 0 rfl) (by omega) hL (by decide) d_l_law_175 d_l_law_176 d_l_law_178 d_l_law_179 d_l_law_180 ?_
  refine cS3r S hK hO (h1) sw_l_number gw_179 (by decide) (by decide) ⟨hc, hs⟩ hl.1 (Nat.le_of_ble_eq_true rfl) d_l_law_181 (fun H locs hO => ?_)
  try dsimp only at hO
  refine lv_istore hx hb d_l_law_184 hl (by decide) rfl (fun ls hl => ?_)
  have hl : lv_has ls 7 [(5, _), (4, _), (3, _), (2, _), (1, _), (0, _)] := hl
  refine lv_aload_n hx hb d_l_law_186 rfl (lv_at hl 3 rfl) ?_
  refine ls_rd (k := 1) S hX hbl hbs hO (lv_at hl 5 rfl) (lv_at hl 1 rfl) (by omega) hL (by decide) d_l_law_187 d_l_law_188 d_l_law_190 d_l_law_191 d_l_law_192 ?_
  refine ls_rd (k := 2) S hX hbl hbs hO (lv_at hl 5 rfl) (lv_at hl 1 rfl) (by omega) hL (by decide) d_l_law_193 d_l_law_194 d_l_law_196 d_l_law_197 d_l_law_198 ?_
  refine cM2v S hK hO (h2) vw_m_number gw_307 (by decide) (by decide) ⟨hc, hs⟩ hl.1 (Nat.le_of_ble_eq_true rfl) d_l_law_199 (fun H locs hO => ?_)
  try dsimp only at hO
  refine lv_aload_n hx hb d_l_law_202 rfl (lv_at hl 3 rfl) ?_
  refine cM0p S hK hO (p_thrown l hC _) vw_m_thrown gw_279 (by decide) (by decide) ⟨hc, hs⟩ hl.1 (Nat.le_of_ble_eq_true rfl) d_l_law_203 ?_
  refine lv_iload hx hb d_l_law_206 (lv_at hl 0 rfl) ?_
  refine lv_icmp_eq (tgt := 213) hx hb d_l_law_208 (by decide) (fun h => ?_) (fun h => ?_)
  · refine lv_goto (tgt := 882) hx hb d_l_law_213 (by decide) ?_
    exact kk σ2 _ _ _ hO h4 (lv_sub hl [1, 2, 3, 4, 5] rfl)
  · exact absurd h3 h
set_option maxHeartbeats 4000000 in
set_option maxRecDepth 100000 in
/-- case move -/
theorem w_move (hfl : l.flags = flags0) (hC : Cg cx) (S : Fx p s m #[Value.ref b] meth c code 7 "GrantMathLaw" (some .boolean)) (hK : Sk cx s s.heap) (hbs : s.heap.size ≤ cx.2.2.2) (hX : va_X b L xs s s.heap) (hbl : b < s.heap.size) (hi : i + 5 ≤ L) (hL : L ≤ 2560) (hO : Ok cx s σ H locs) (hR : Rl σ) (hc : cells + 1 ≤ 966277) (hs : slots + 6 ≤ 6197274) (hl : lv_has ls 7 (lwL cx b i)) (kk : ∀ (σ' : Sg) (H' : Heap) (locs' : List Loc) (ls' : Array Slot), Ok cx s σ' H' locs' → Rl σ' → lv_has ls' 7 (lwL cx b i) → W p l e room_1 s m #[Value.ref b] below meth c H' locs' (cells + 1) (slots + 6) Q (F0 m 882 ls' [])) : W p l e room_1 s m #[Value.ref b] below meth c H locs cells slots Q (F0 m 216 ls []) := by
  have hx := S.1
  have hb := S.2.1
  obtain ⟨x, σ1, σ2, h1, h2, h3, h4⟩ := r_move l hC hfl hR (xs (i + 1)) (xs (i + 2)) (xs (i + 3))
  refine lv_aload_n hx hb d_l_law_216 rfl (lv_at hl 3 rfl) ?_
  refine ls_rd (k := 1) S hX hbl hbs hO (lv_at hl 4 rfl) (lv_at hl 0 rfl) (by omega) hL (by decide) d_l_law_217 d_l_law_218 d_l_law_220 d_l_law_221 d_l_law_222 ?_
  refine ls_rd (k := 2) S hX hbl hbs hO (lv_at hl 4 rfl) (lv_at hl 0 rfl) (by omega) hL (by decide) d_l_law_223 d_l_law_224 d_l_law_226 d_l_law_227 d_l_law_228 ?_
  refine ls_rd (k := 3) S hX hbl hbs hO (lv_at hl 4 rfl) (lv_at hl 0 rfl) (by omega) hL (by decide) d_l_law_229 d_l_law_230 d_l_law_232 d_l_law_233 d_l_law_234 ?_
  refine cS4r S hK hO (h1) sw_l_move gw_186 (by decide) (by decide) ⟨hc, hs⟩ hl.1 (Nat.le_of_ble_eq_true rfl) d_l_law_235 (fun H locs hO => ?_)
  try dsimp only at hO
  refine lv_istore hx hb d_l_law_238 hl (by decide) rfl (fun ls hl => ?_)
  have hl : lv_has ls 7 [(5, _), (4, _), (3, _), (2, _), (1, _), (0, _)] := hl
  refine lv_aload_n hx hb d_l_law_240 rfl (lv_at hl 3 rfl) ?_
  refine ls_rd (k := 1) S hX hbl hbs hO (lv_at hl 5 rfl) (lv_at hl 1 rfl) (by omega) hL (by decide) d_l_law_241 d_l_law_242 d_l_law_244 d_l_law_245 d_l_law_246 ?_
  refine ls_rd (k := 2) S hX hbl hbs hO (lv_at hl 5 rfl) (lv_at hl 1 rfl) (by omega) hL (by decide) d_l_law_247 d_l_law_248 d_l_law_250 d_l_law_251 d_l_law_252 ?_
  refine ls_rd (k := 3) S hX hbl hbs hO (lv_at hl 5 rfl) (lv_at hl 1 rfl) (by omega) hL (by decide) d_l_law_253 d_l_law_254 d_l_law_256 d_l_law_257 d_l_law_258 ?_
  refine cM3v S hK hO (h2) vw_m_move gw_311 (by decide) (by decide) ⟨hc, hs⟩ hl.1 (Nat.le_of_ble_eq_true rfl) d_l_law_259 (fun H locs hO => ?_)
  try dsimp only at hO
  refine lv_aload_n hx hb d_l_law_262 rfl (lv_at hl 3 rfl) ?_
  refine cM0p S hK hO (p_thrown l hC _) vw_m_thrown gw_279 (by decide) (by decide) ⟨hc, hs⟩ hl.1 (Nat.le_of_ble_eq_true rfl) d_l_law_263 ?_
  refine lv_iload hx hb d_l_law_266 (lv_at hl 0 rfl) ?_
  refine lv_icmp_eq (tgt := 273) hx hb d_l_law_268 (by decide) (fun h => ?_) (fun h => ?_)
  · refine lv_goto (tgt := 882) hx hb d_l_law_273 (by decide) ?_
    exact kk σ2 _ _ _ hO h4 (lv_sub hl [1, 2, 3, 4, 5] rfl)
  · exact absurd h3 h
set_option maxHeartbeats 4000000 in
set_option maxRecDepth 100000 in
/-- case narrow -/
theorem w_narrow (hfl : l.flags = flags0) (hC : Cg cx) (S : Fx p s m #[Value.ref b] meth c code 7 "GrantMathLaw" (some .boolean)) (hK : Sk cx s s.heap) (hbs : s.heap.size ≤ cx.2.2.2) (hX : va_X b L xs s s.heap) (hbl : b < s.heap.size) (hi : i + 5 ≤ L) (hL : L ≤ 2560) (hO : Ok cx s σ H locs) (hR : Rl σ) (hc : cells + 1 ≤ 966277) (hs : slots + 6 ≤ 6197274) (hl : lv_has ls 7 (lwL cx b i)) (kk : ∀ (σ' : Sg) (H' : Heap) (locs' : List Loc) (ls' : Array Slot), Ok cx s σ' H' locs' → Rl σ' → lv_has ls' 7 (lwL cx b i) → W p l e room_1 s m #[Value.ref b] below meth c H' locs' (cells + 1) (slots + 6) Q (F0 m 882 ls' [])) : W p l e room_1 s m #[Value.ref b] below meth c H locs cells slots Q (F0 m 276 ls []) := by
  have hx := S.1
  have hb := S.2.1
  obtain ⟨x, v, σ1, σ2, h1, h2, h3, h5, h4⟩ := r_narrow l hC hfl hR (xs (i + 1)) (xs (i + 2)) (xs (i + 3))
  refine lv_aload_n hx hb d_l_law_276 rfl (lv_at hl 3 rfl) ?_
  refine ls_rd (k := 1) S hX hbl hbs hO (lv_at hl 4 rfl) (lv_at hl 0 rfl) (by omega) hL (by decide) d_l_law_277 d_l_law_278 d_l_law_280 d_l_law_281 d_l_law_282 ?_
  refine ls_rd (k := 2) S hX hbl hbs hO (lv_at hl 4 rfl) (lv_at hl 0 rfl) (by omega) hL (by decide) d_l_law_283 d_l_law_284 d_l_law_286 d_l_law_287 d_l_law_288 ?_
  refine ls_rd (k := 3) S hX hbl hbs hO (lv_at hl 4 rfl) (lv_at hl 0 rfl) (by omega) hL (by decide) d_l_law_289 d_l_law_290 d_l_law_292 d_l_law_293 d_l_law_294 ?_
  refine lv_aload_n hx hb d_l_law_295 rfl (lv_at hl 1 rfl) ?_
  refine cS5r S hK hO (h1) sw_l_narrow gw_197 (by decide) (by decide) ⟨hc, hs⟩ hl.1 (Nat.le_of_ble_eq_true rfl) d_l_law_296 (fun H locs hO => ?_)
  try dsimp only at hO
  refine lv_istore hx hb d_l_law_299 hl (by decide) rfl (fun ls hl => ?_)
  have hl : lv_has ls 7 [(5, _), (4, _), (3, _), (2, _), (1, _), (0, _)] := hl
  refine lv_aload_n hx hb d_l_law_301 rfl (lv_at hl 3 rfl) ?_
  refine ls_rd (k := 1) S hX hbl hbs hO (lv_at hl 5 rfl) (lv_at hl 1 rfl) (by omega) hL (by decide) d_l_law_302 d_l_law_303 d_l_law_305 d_l_law_306 d_l_law_307 ?_
  refine ls_rd (k := 2) S hX hbl hbs hO (lv_at hl 5 rfl) (lv_at hl 1 rfl) (by omega) hL (by decide) d_l_law_308 d_l_law_309 d_l_law_311 d_l_law_312 d_l_law_313 ?_
  refine ls_rd (k := 3) S hX hbl hbs hO (lv_at hl 5 rfl) (lv_at hl 1 rfl) (by omega) hL (by decide) d_l_law_314 d_l_law_315 d_l_law_317 d_l_law_318 d_l_law_319 ?_
  refine cM3r S hK hO (h2) vw_m_narrow gw_319 (by decide) (by decide) ⟨hc, hs⟩ hl.1 (Nat.le_of_ble_eq_true rfl) d_l_law_320 (fun H locs hO => ?_)
  try dsimp only at hO
  refine lv_istore hx hb d_l_law_323 hl (by decide) rfl (fun ls hl => ?_)
  have hl : lv_has ls 7 [(6, _), (5, _), (4, _), (3, _), (2, _), (1, _), (0, _)] := hl
  refine lv_aload_n hx hb d_l_law_325 rfl (lv_at hl 4 rfl) ?_
  refine cM0p S hK hO (p_thrown l hC _) vw_m_thrown gw_279 (by decide) (by decide) ⟨hc, hs⟩ hl.1 (Nat.le_of_ble_eq_true rfl) d_l_law_326 ?_
  refine lv_iload hx hb d_l_law_329 (lv_at hl 1 rfl) ?_
  refine lv_icmp_eq (tgt := 336) hx hb d_l_law_331 (by decide) (fun h => ?_) (fun h => ?_)
  · refine lv_iload hx hb d_l_law_336 (lv_at hl 1 rfl) ?_
    refine lv_if_ne (tgt := 360) hx hb d_l_law_338 (by decide) (fun h0 => ?_) (fun h0 => ?_)
    · refine lv_goto (tgt := 882) hx hb d_l_law_360 (by decide) ?_
      exact kk σ2 _ _ _ hO h4 (lv_sub hl [2, 3, 4, 5, 6] rfl)
    · refine lv_aload_n hx hb d_l_law_341 rfl (lv_at hl 3 rfl) ?_
      refine lv_iconst (v := 0) hx hb d_l_law_342 (by decide) ?_
      refine ol_ld S hK hO d_l_law_343 ?_
      refine lv_iload hx hb d_l_law_344 (lv_at hl 0 rfl) ?_
      refine lv_if_eq (tgt := 353) hx hb d_l_law_346 (by decide) (fun hv => ?_) (fun hv => ?_)
      · refine lv_lconst (v := lN 0) hx hb d_l_law_353 rfl ?_
        refine W.lcmp hx hb d_l_law_354 ?_
        refine lv_if_eq (tgt := 360) hx hb d_l_law_355 (by decide) (fun h => ?_) (fun h => ?_)
        · refine lv_goto (tgt := 882) hx hb d_l_law_360 (by decide) ?_
          exact kk σ2 _ _ _ hO h4 (lv_sub hl [2, 3, 4, 5, 6] rfl)
        · exact absurd ((lg_cmp_eq _ _).mpr (by rw [h5 h0]; unfold fZ; rw [if_pos hv])) h
      · refine lv_lconst (v := lN 1) hx hb d_l_law_349 rfl ?_
        refine lv_goto (tgt := 354) hx hb d_l_law_350 (by decide) ?_
        refine W.lcmp hx hb d_l_law_354 ?_
        refine lv_if_eq (tgt := 360) hx hb d_l_law_355 (by decide) (fun h => ?_) (fun h => ?_)
        · refine lv_goto (tgt := 882) hx hb d_l_law_360 (by decide) ?_
          exact kk σ2 _ _ _ hO h4 (lv_sub hl [2, 3, 4, 5, 6] rfl)
        · exact absurd ((lg_cmp_eq _ _).mpr (by rw [h5 h0]; unfold fZ; rw [if_neg hv])) h
  · exact absurd h3 h
set_option maxHeartbeats 4000000 in
set_option maxRecDepth 100000 in
/-- case restrict -/
theorem w_restrict (hfl : l.flags = flags0) (hC : Cg cx) (S : Fx p s m #[Value.ref b] meth c code 7 "GrantMathLaw" (some .boolean)) (hK : Sk cx s s.heap) (hbs : s.heap.size ≤ cx.2.2.2) (hX : va_X b L xs s s.heap) (hbl : b < s.heap.size) (hi : i + 5 ≤ L) (hL : L ≤ 2560) (hO : Ok cx s σ H locs) (hR : Rl σ) (hc : cells + 1 ≤ 966277) (hs : slots + 6 ≤ 6197274) (hl : lv_has ls 7 (lwL cx b i)) (kk : ∀ (σ' : Sg) (H' : Heap) (locs' : List Loc) (ls' : Array Slot), Ok cx s σ' H' locs' → Rl σ' → lv_has ls' 7 (lwL cx b i) → W p l e room_1 s m #[Value.ref b] below meth c H' locs' (cells + 1) (slots + 6) Q (F0 m 882 ls' [])) : W p l e room_1 s m #[Value.ref b] below meth c H locs cells slots Q (F0 m 363 ls []) := by
  have hx := S.1
  have hb := S.2.1
  obtain ⟨x, v, σ1, σ2, h1, h2, h3, h5, h4⟩ := r_restrict l hC hfl hR (xs (i + 1)) (xs (i + 2)) (xs (i + 3))
  refine lv_aload_n hx hb d_l_law_363 rfl (lv_at hl 3 rfl) ?_
  refine ls_rd (k := 1) S hX hbl hbs hO (lv_at hl 4 rfl) (lv_at hl 0 rfl) (by omega) hL (by decide) d_l_law_364 d_l_law_365 d_l_law_367 d_l_law_368 d_l_law_369 ?_
  refine ls_rd (k := 2) S hX hbl hbs hO (lv_at hl 4 rfl) (lv_at hl 0 rfl) (by omega) hL (by decide) d_l_law_370 d_l_law_371 d_l_law_373 d_l_law_374 d_l_law_375 ?_
  refine ls_rd (k := 3) S hX hbl hbs hO (lv_at hl 4 rfl) (lv_at hl 0 rfl) (by omega) hL (by decide) d_l_law_376 d_l_law_377 d_l_law_379 d_l_law_380 d_l_law_381 ?_
  refine lv_aload_n hx hb d_l_law_382 rfl (lv_at hl 1 rfl) ?_
  refine cS5r S hK hO (h1) sw_l_restrict gw_204 (by decide) (by decide) ⟨hc, hs⟩ hl.1 (Nat.le_of_ble_eq_true rfl) d_l_law_383 (fun H locs hO => ?_)
  try dsimp only at hO
  refine lv_istore hx hb d_l_law_386 hl (by decide) rfl (fun ls hl => ?_)
  have hl : lv_has ls 7 [(5, _), (4, _), (3, _), (2, _), (1, _), (0, _)] := hl
  refine lv_aload_n hx hb d_l_law_388 rfl (lv_at hl 3 rfl) ?_
  refine ls_rd (k := 1) S hX hbl hbs hO (lv_at hl 5 rfl) (lv_at hl 1 rfl) (by omega) hL (by decide) d_l_law_389 d_l_law_390 d_l_law_392 d_l_law_393 d_l_law_394 ?_
  refine ls_rd (k := 2) S hX hbl hbs hO (lv_at hl 5 rfl) (lv_at hl 1 rfl) (by omega) hL (by decide) d_l_law_395 d_l_law_396 d_l_law_398 d_l_law_399 d_l_law_400 ?_
  refine ls_rd (k := 3) S hX hbl hbs hO (lv_at hl 5 rfl) (lv_at hl 1 rfl) (by omega) hL (by decide) d_l_law_401 d_l_law_402 d_l_law_404 d_l_law_405 d_l_law_406 ?_
  refine cM3r S hK hO (h2) vw_m_restrict gw_323 (by decide) (by decide) ⟨hc, hs⟩ hl.1 (Nat.le_of_ble_eq_true rfl) d_l_law_407 (fun H locs hO => ?_)
  try dsimp only at hO
  refine lv_istore hx hb d_l_law_410 hl (by decide) rfl (fun ls hl => ?_)
  have hl : lv_has ls 7 [(6, _), (5, _), (4, _), (3, _), (2, _), (1, _), (0, _)] := hl
  refine lv_aload_n hx hb d_l_law_412 rfl (lv_at hl 4 rfl) ?_
  refine cM0p S hK hO (p_thrown l hC _) vw_m_thrown gw_279 (by decide) (by decide) ⟨hc, hs⟩ hl.1 (Nat.le_of_ble_eq_true rfl) d_l_law_413 ?_
  refine lv_iload hx hb d_l_law_416 (lv_at hl 1 rfl) ?_
  refine lv_icmp_eq (tgt := 423) hx hb d_l_law_418 (by decide) (fun h => ?_) (fun h => ?_)
  · refine lv_iload hx hb d_l_law_423 (lv_at hl 1 rfl) ?_
    refine lv_if_ne (tgt := 447) hx hb d_l_law_425 (by decide) (fun h0 => ?_) (fun h0 => ?_)
    · refine lv_goto (tgt := 882) hx hb d_l_law_447 (by decide) ?_
      exact kk σ2 _ _ _ hO h4 (lv_sub hl [2, 3, 4, 5, 6] rfl)
    · refine lv_aload_n hx hb d_l_law_428 rfl (lv_at hl 3 rfl) ?_
      refine lv_iconst (v := 0) hx hb d_l_law_429 (by decide) ?_
      refine ol_ld S hK hO d_l_law_430 ?_
      refine lv_iload hx hb d_l_law_431 (lv_at hl 0 rfl) ?_
      refine lv_if_eq (tgt := 440) hx hb d_l_law_433 (by decide) (fun hv => ?_) (fun hv => ?_)
      · refine lv_lconst (v := lN 0) hx hb d_l_law_440 rfl ?_
        refine W.lcmp hx hb d_l_law_441 ?_
        refine lv_if_eq (tgt := 447) hx hb d_l_law_442 (by decide) (fun h => ?_) (fun h => ?_)
        · refine lv_goto (tgt := 882) hx hb d_l_law_447 (by decide) ?_
          exact kk σ2 _ _ _ hO h4 (lv_sub hl [2, 3, 4, 5, 6] rfl)
        · exact absurd ((lg_cmp_eq _ _).mpr (by rw [h5 h0]; unfold fZ; rw [if_pos hv])) h
      · refine lv_lconst (v := lN 1) hx hb d_l_law_436 rfl ?_
        refine lv_goto (tgt := 441) hx hb d_l_law_437 (by decide) ?_
        refine W.lcmp hx hb d_l_law_441 ?_
        refine lv_if_eq (tgt := 447) hx hb d_l_law_442 (by decide) (fun h => ?_) (fun h => ?_)
        · refine lv_goto (tgt := 882) hx hb d_l_law_447 (by decide) ?_
          exact kk σ2 _ _ _ hO h4 (lv_sub hl [2, 3, 4, 5, 6] rfl)
        · exact absurd ((lg_cmp_eq _ _).mpr (by rw [h5 h0]; unfold fZ; rw [if_neg hv])) h
  · exact absurd h3 h
set_option maxHeartbeats 4000000 in
set_option maxRecDepth 100000 in
/-- case seal -/
theorem w_seal (hfl : l.flags = flags0) (hC : Cg cx) (S : Fx p s m #[Value.ref b] meth c code 7 "GrantMathLaw" (some .boolean)) (hK : Sk cx s s.heap) (hbs : s.heap.size ≤ cx.2.2.2) (hX : va_X b L xs s s.heap) (hbl : b < s.heap.size) (hi : i + 5 ≤ L) (hL : L ≤ 2560) (hO : Ok cx s σ H locs) (hR : Rl σ) (hc : cells + 1 ≤ 966277) (hs : slots + 6 ≤ 6197274) (hl : lv_has ls 7 (lwL cx b i)) (kk : ∀ (σ' : Sg) (H' : Heap) (locs' : List Loc) (ls' : Array Slot), Ok cx s σ' H' locs' → Rl σ' → lv_has ls' 7 (lwL cx b i) → W p l e room_1 s m #[Value.ref b] below meth c H' locs' (cells + 1) (slots + 6) Q (F0 m 882 ls' [])) : W p l e room_1 s m #[Value.ref b] below meth c H locs cells slots Q (F0 m 450 ls []) := by
  have hx := S.1
  have hb := S.2.1
  obtain ⟨x, v, σ1, σ2, h1, h2, h3, h5, h4⟩ := r_seal l hC hfl hR (xs (i + 1)) (xs (i + 2)) (xs (i + 3))
  refine lv_aload_n hx hb d_l_law_450 rfl (lv_at hl 3 rfl) ?_
  refine ls_rd (k := 1) S hX hbl hbs hO (lv_at hl 4 rfl) (lv_at hl 0 rfl) (by omega) hL (by decide) d_l_law_451 d_l_law_452 d_l_law_454 d_l_law_455 d_l_law_456 ?_
  refine ls_rd (k := 2) S hX hbl hbs hO (lv_at hl 4 rfl) (lv_at hl 0 rfl) (by omega) hL (by decide) d_l_law_457 d_l_law_458 d_l_law_460 d_l_law_461 d_l_law_462 ?_
  refine ls_rd (k := 3) S hX hbl hbs hO (lv_at hl 4 rfl) (lv_at hl 0 rfl) (by omega) hL (by decide) d_l_law_463 d_l_law_464 d_l_law_466 d_l_law_467 d_l_law_468 ?_
  refine lv_aload_n hx hb d_l_law_469 rfl (lv_at hl 1 rfl) ?_
  refine cS5r S hK hO (h1) sw_l_seal gw_211 (by decide) (by decide) ⟨hc, hs⟩ hl.1 (Nat.le_of_ble_eq_true rfl) d_l_law_470 (fun H locs hO => ?_)
  try dsimp only at hO
  refine lv_istore hx hb d_l_law_473 hl (by decide) rfl (fun ls hl => ?_)
  have hl : lv_has ls 7 [(5, _), (4, _), (3, _), (2, _), (1, _), (0, _)] := hl
  refine lv_aload_n hx hb d_l_law_475 rfl (lv_at hl 3 rfl) ?_
  refine ls_rd (k := 1) S hX hbl hbs hO (lv_at hl 5 rfl) (lv_at hl 1 rfl) (by omega) hL (by decide) d_l_law_476 d_l_law_477 d_l_law_479 d_l_law_480 d_l_law_481 ?_
  refine ls_rd (k := 2) S hX hbl hbs hO (lv_at hl 5 rfl) (lv_at hl 1 rfl) (by omega) hL (by decide) d_l_law_482 d_l_law_483 d_l_law_485 d_l_law_486 d_l_law_487 ?_
  refine ls_rd (k := 3) S hX hbl hbs hO (lv_at hl 5 rfl) (lv_at hl 1 rfl) (by omega) hL (by decide) d_l_law_488 d_l_law_489 d_l_law_491 d_l_law_492 d_l_law_493 ?_
  refine cM3r S hK hO (h2) vw_m_seal gw_327 (by decide) (by decide) ⟨hc, hs⟩ hl.1 (Nat.le_of_ble_eq_true rfl) d_l_law_494 (fun H locs hO => ?_)
  try dsimp only at hO
  refine lv_istore hx hb d_l_law_497 hl (by decide) rfl (fun ls hl => ?_)
  have hl : lv_has ls 7 [(6, _), (5, _), (4, _), (3, _), (2, _), (1, _), (0, _)] := hl
  refine lv_aload_n hx hb d_l_law_499 rfl (lv_at hl 4 rfl) ?_
  refine cM0p S hK hO (p_thrown l hC _) vw_m_thrown gw_279 (by decide) (by decide) ⟨hc, hs⟩ hl.1 (Nat.le_of_ble_eq_true rfl) d_l_law_500 ?_
  refine lv_iload hx hb d_l_law_503 (lv_at hl 1 rfl) ?_
  refine lv_icmp_eq (tgt := 510) hx hb d_l_law_505 (by decide) (fun h => ?_) (fun h => ?_)
  · refine lv_iload hx hb d_l_law_510 (lv_at hl 1 rfl) ?_
    refine lv_if_ne (tgt := 527) hx hb d_l_law_512 (by decide) (fun h0 => ?_) (fun h0 => ?_)
    · refine lv_goto (tgt := 882) hx hb d_l_law_527 (by decide) ?_
      exact kk σ2 _ _ _ hO h4 (lv_sub hl [2, 3, 4, 5, 6] rfl)
    · refine lv_aload_n hx hb d_l_law_515 rfl (lv_at hl 3 rfl) ?_
      refine lv_iconst (v := 0) hx hb d_l_law_516 (by decide) ?_
      refine ol_ld S hK hO d_l_law_517 ?_
      refine lv_iload hx hb d_l_law_518 (lv_at hl 0 rfl) ?_
      refine lv_i2l hx hb d_l_law_520 rfl ?_
      refine W.lcmp hx hb d_l_law_521 ?_
      refine lv_if_eq (tgt := 527) hx hb d_l_law_522 (by decide) (fun h => ?_) (fun h => ?_)
      · refine lv_goto (tgt := 882) hx hb d_l_law_527 (by decide) ?_
        exact kk σ2 _ _ _ hO h4 (lv_sub hl [2, 3, 4, 5, 6] rfl)
      · exact absurd ((lg_cmp_eq _ _).mpr (h5 h0)) h
  · exact absurd h3 h
set_option maxHeartbeats 4000000 in
set_option maxRecDepth 100000 in
/-- case unseal -/
theorem w_unseal (hfl : l.flags = flags0) (hC : Cg cx) (S : Fx p s m #[Value.ref b] meth c code 7 "GrantMathLaw" (some .boolean)) (hK : Sk cx s s.heap) (hbs : s.heap.size ≤ cx.2.2.2) (hX : va_X b L xs s s.heap) (hbl : b < s.heap.size) (hi : i + 5 ≤ L) (hL : L ≤ 2560) (hO : Ok cx s σ H locs) (hR : Rl σ) (hc : cells + 1 ≤ 966277) (hs : slots + 6 ≤ 6197274) (hl : lv_has ls 7 (lwL cx b i)) (kk : ∀ (σ' : Sg) (H' : Heap) (locs' : List Loc) (ls' : Array Slot), Ok cx s σ' H' locs' → Rl σ' → lv_has ls' 7 (lwL cx b i) → W p l e room_1 s m #[Value.ref b] below meth c H' locs' (cells + 1) (slots + 6) Q (F0 m 882 ls' [])) : W p l e room_1 s m #[Value.ref b] below meth c H locs cells slots Q (F0 m 530 ls []) := by
  have hx := S.1
  have hb := S.2.1
  obtain ⟨x, v, σ1, σ2, h1, h2, h3, h5, h4⟩ := r_unseal l hC hfl hR (xs (i + 1)) (xs (i + 2)) (xs (i + 3))
  refine lv_aload_n hx hb d_l_law_530 rfl (lv_at hl 3 rfl) ?_
  refine ls_rd (k := 1) S hX hbl hbs hO (lv_at hl 4 rfl) (lv_at hl 0 rfl) (by omega) hL (by decide) d_l_law_531 d_l_law_532 d_l_law_534 d_l_law_535 d_l_law_536 ?_
  refine ls_rd (k := 2) S hX hbl hbs hO (lv_at hl 4 rfl) (lv_at hl 0 rfl) (by omega) hL (by decide) d_l_law_537 d_l_law_538 d_l_law_540 d_l_law_541 d_l_law_542 ?_
  refine ls_rd (k := 3) S hX hbl hbs hO (lv_at hl 4 rfl) (lv_at hl 0 rfl) (by omega) hL (by decide) d_l_law_543 d_l_law_544 d_l_law_546 d_l_law_547 d_l_law_548 ?_
  refine lv_aload_n hx hb d_l_law_549 rfl (lv_at hl 1 rfl) ?_
  refine cS5r S hK hO (h1) sw_l_unseal gw_219 (by decide) (by decide) ⟨hc, hs⟩ hl.1 (Nat.le_of_ble_eq_true rfl) d_l_law_550 (fun H locs hO => ?_)
  try dsimp only at hO
  refine lv_istore hx hb d_l_law_553 hl (by decide) rfl (fun ls hl => ?_)
  have hl : lv_has ls 7 [(5, _), (4, _), (3, _), (2, _), (1, _), (0, _)] := hl
  refine lv_aload_n hx hb d_l_law_555 rfl (lv_at hl 3 rfl) ?_
  refine ls_rd (k := 1) S hX hbl hbs hO (lv_at hl 5 rfl) (lv_at hl 1 rfl) (by omega) hL (by decide) d_l_law_556 d_l_law_557 d_l_law_559 d_l_law_560 d_l_law_561 ?_
  refine ls_rd (k := 2) S hX hbl hbs hO (lv_at hl 5 rfl) (lv_at hl 1 rfl) (by omega) hL (by decide) d_l_law_562 d_l_law_563 d_l_law_565 d_l_law_566 d_l_law_567 ?_
  refine ls_rd (k := 3) S hX hbl hbs hO (lv_at hl 5 rfl) (lv_at hl 1 rfl) (by omega) hL (by decide) d_l_law_568 d_l_law_569 d_l_law_571 d_l_law_572 d_l_law_573 ?_
  refine cM3r S hK hO (h2) vw_m_unseal gw_340 (by decide) (by decide) ⟨hc, hs⟩ hl.1 (Nat.le_of_ble_eq_true rfl) d_l_law_574 (fun H locs hO => ?_)
  try dsimp only at hO
  refine lv_istore hx hb d_l_law_577 hl (by decide) rfl (fun ls hl => ?_)
  have hl : lv_has ls 7 [(6, _), (5, _), (4, _), (3, _), (2, _), (1, _), (0, _)] := hl
  refine lv_aload_n hx hb d_l_law_579 rfl (lv_at hl 4 rfl) ?_
  refine cM0p S hK hO (p_thrown l hC _) vw_m_thrown gw_279 (by decide) (by decide) ⟨hc, hs⟩ hl.1 (Nat.le_of_ble_eq_true rfl) d_l_law_580 ?_
  refine lv_iload hx hb d_l_law_583 (lv_at hl 1 rfl) ?_
  refine lv_icmp_eq (tgt := 590) hx hb d_l_law_585 (by decide) (fun h => ?_) (fun h => ?_)
  · refine lv_iload hx hb d_l_law_590 (lv_at hl 1 rfl) ?_
    refine lv_if_ne (tgt := 607) hx hb d_l_law_592 (by decide) (fun h0 => ?_) (fun h0 => ?_)
    · refine lv_goto (tgt := 882) hx hb d_l_law_607 (by decide) ?_
      exact kk σ2 _ _ _ hO h4 (lv_sub hl [2, 3, 4, 5, 6] rfl)
    · refine lv_aload_n hx hb d_l_law_595 rfl (lv_at hl 3 rfl) ?_
      refine lv_iconst (v := 0) hx hb d_l_law_596 (by decide) ?_
      refine ol_ld S hK hO d_l_law_597 ?_
      refine lv_iload hx hb d_l_law_598 (lv_at hl 0 rfl) ?_
      refine lv_i2l hx hb d_l_law_600 rfl ?_
      refine W.lcmp hx hb d_l_law_601 ?_
      refine lv_if_eq (tgt := 607) hx hb d_l_law_602 (by decide) (fun h => ?_) (fun h => ?_)
      · refine lv_goto (tgt := 882) hx hb d_l_law_607 (by decide) ?_
        exact kk σ2 _ _ _ hO h4 (lv_sub hl [2, 3, 4, 5, 6] rfl)
      · exact absurd ((lg_cmp_eq _ _).mpr (h5 h0)) h
  · exact absurd h3 h
set_option maxHeartbeats 4000000 in
set_option maxRecDepth 100000 in
/-- case allows -/
theorem w_allows (hfl : l.flags = flags0) (hC : Cg cx) (S : Fx p s m #[Value.ref b] meth c code 7 "GrantMathLaw" (some .boolean)) (hK : Sk cx s s.heap) (hbs : s.heap.size ≤ cx.2.2.2) (hX : va_X b L xs s s.heap) (hbl : b < s.heap.size) (hi : i + 5 ≤ L) (hL : L ≤ 2560) (hO : Ok cx s σ H locs) (hR : Rl σ) (hc : cells + 1 ≤ 966277) (hs : slots + 6 ≤ 6197274) (hl : lv_has ls 7 (lwL cx b i)) (kk : ∀ (σ' : Sg) (H' : Heap) (locs' : List Loc) (ls' : Array Slot), Ok cx s σ' H' locs' → Rl σ' → lv_has ls' 7 (lwL cx b i) → W p l e room_1 s m #[Value.ref b] below meth c H' locs' (cells + 1) (slots + 6) Q (F0 m 882 ls' [])) : W p l e room_1 s m #[Value.ref b] below meth c H locs cells slots Q (F0 m 610 ls []) := by
  have hx := S.1
  have hb := S.2.1
  obtain ⟨x, v, σ1, σ2, h1, h2, h3, h5, h4⟩ := r_allows l hC hfl hR (xs (i + 1)) (xs (i + 2)) (xs (i + 3)) (xs (i + 4))
  refine lv_aload_n hx hb d_l_law_610 rfl (lv_at hl 3 rfl) ?_
  refine ls_rd (k := 1) S hX hbl hbs hO (lv_at hl 4 rfl) (lv_at hl 0 rfl) (by omega) hL (by decide) d_l_law_611 d_l_law_612 d_l_law_614 d_l_law_615 d_l_law_616 ?_
  refine ls_rd (k := 2) S hX hbl hbs hO (lv_at hl 4 rfl) (lv_at hl 0 rfl) (by omega) hL (by decide) d_l_law_617 d_l_law_618 d_l_law_620 d_l_law_621 d_l_law_622 ?_
  refine ls_rd (k := 3) S hX hbl hbs hO (lv_at hl 4 rfl) (lv_at hl 0 rfl) (by omega) hL (by decide) d_l_law_623 d_l_law_624 d_l_law_626 d_l_law_627 d_l_law_628 ?_
  refine ls_rd (k := 4) S hX hbl hbs hO (lv_at hl 4 rfl) (lv_at hl 0 rfl) (by omega) hL (by decide) d_l_law_629 d_l_law_630 d_l_law_632 d_l_law_633 d_l_law_634 ?_
  refine lv_aload_n hx hb d_l_law_635 rfl (lv_at hl 1 rfl) ?_
  refine cS6r S hK hO (h1) sw_l_allows gw_226 (by decide) (by decide) ⟨hc, hs⟩ hl.1 (Nat.le_of_ble_eq_true rfl) d_l_law_636 (fun H locs hO => ?_)
  try dsimp only at hO
  refine lv_istore hx hb d_l_law_639 hl (by decide) rfl (fun ls hl => ?_)
  have hl : lv_has ls 7 [(5, _), (4, _), (3, _), (2, _), (1, _), (0, _)] := hl
  refine lv_aload_n hx hb d_l_law_641 rfl (lv_at hl 3 rfl) ?_
  refine ls_rd (k := 1) S hX hbl hbs hO (lv_at hl 5 rfl) (lv_at hl 1 rfl) (by omega) hL (by decide) d_l_law_642 d_l_law_643 d_l_law_645 d_l_law_646 d_l_law_647 ?_
  refine ls_rd (k := 2) S hX hbl hbs hO (lv_at hl 5 rfl) (lv_at hl 1 rfl) (by omega) hL (by decide) d_l_law_648 d_l_law_649 d_l_law_651 d_l_law_652 d_l_law_653 ?_
  refine ls_rd (k := 3) S hX hbl hbs hO (lv_at hl 5 rfl) (lv_at hl 1 rfl) (by omega) hL (by decide) d_l_law_654 d_l_law_655 d_l_law_657 d_l_law_658 d_l_law_659 ?_
  refine ls_rd (k := 4) S hX hbl hbs hO (lv_at hl 5 rfl) (lv_at hl 1 rfl) (by omega) hL (by decide) d_l_law_660 d_l_law_661 d_l_law_663 d_l_law_664 d_l_law_665 ?_
  refine cM4r S hK hO (h2) vw_m_allows gw_344 (by decide) (by decide) ⟨hc, hs⟩ hl.1 (Nat.le_of_ble_eq_true rfl) d_l_law_666 (fun H locs hO => ?_)
  try dsimp only at hO
  refine lv_istore hx hb d_l_law_669 hl (by decide) rfl (fun ls hl => ?_)
  have hl : lv_has ls 7 [(6, _), (5, _), (4, _), (3, _), (2, _), (1, _), (0, _)] := hl
  refine lv_aload_n hx hb d_l_law_671 rfl (lv_at hl 4 rfl) ?_
  refine cM0p S hK hO (p_thrown l hC _) vw_m_thrown gw_279 (by decide) (by decide) ⟨hc, hs⟩ hl.1 (Nat.le_of_ble_eq_true rfl) d_l_law_672 ?_
  refine lv_iload hx hb d_l_law_675 (lv_at hl 1 rfl) ?_
  refine lv_icmp_eq (tgt := 682) hx hb d_l_law_677 (by decide) (fun h => ?_) (fun h => ?_)
  · refine lv_iload hx hb d_l_law_682 (lv_at hl 1 rfl) ?_
    refine lv_if_ne (tgt := 699) hx hb d_l_law_684 (by decide) (fun h0 => ?_) (fun h0 => ?_)
    · refine lv_goto (tgt := 882) hx hb d_l_law_699 (by decide) ?_
      exact kk σ2 _ _ _ hO h4 (lv_sub hl [2, 3, 4, 5, 6] rfl)
    · refine lv_aload_n hx hb d_l_law_687 rfl (lv_at hl 3 rfl) ?_
      refine lv_iconst (v := 0) hx hb d_l_law_688 (by decide) ?_
      refine ol_ld S hK hO d_l_law_689 ?_
      refine lv_iload hx hb d_l_law_690 (lv_at hl 0 rfl) ?_
      refine lv_i2l hx hb d_l_law_692 rfl ?_
      refine W.lcmp hx hb d_l_law_693 ?_
      refine lv_if_eq (tgt := 699) hx hb d_l_law_694 (by decide) (fun h => ?_) (fun h => ?_)
      · refine lv_goto (tgt := 882) hx hb d_l_law_699 (by decide) ?_
        exact kk σ2 _ _ _ hO h4 (lv_sub hl [2, 3, 4, 5, 6] rfl)
      · exact absurd ((lg_cmp_eq _ _).mpr (h5 h0)) h
  · exact absurd h3 h
set_option maxHeartbeats 4000000 in
set_option maxRecDepth 100000 in
/-- case within -/
theorem w_within (hfl : l.flags = flags0) (hC : Cg cx) (S : Fx p s m #[Value.ref b] meth c code 7 "GrantMathLaw" (some .boolean)) (hK : Sk cx s s.heap) (hbs : s.heap.size ≤ cx.2.2.2) (hX : va_X b L xs s s.heap) (hbl : b < s.heap.size) (hi : i + 5 ≤ L) (hL : L ≤ 2560) (hO : Ok cx s σ H locs) (hR : Rl σ) (hc : cells + 1 ≤ 966277) (hs : slots + 6 ≤ 6197274) (hl : lv_has ls 7 (lwL cx b i)) (kk : ∀ (σ' : Sg) (H' : Heap) (locs' : List Loc) (ls' : Array Slot), Ok cx s σ' H' locs' → Rl σ' → lv_has ls' 7 (lwL cx b i) → W p l e room_1 s m #[Value.ref b] below meth c H' locs' (cells + 1) (slots + 6) Q (F0 m 882 ls' [])) : W p l e room_1 s m #[Value.ref b] below meth c H locs cells slots Q (F0 m 702 ls []) := by
  have hx := S.1
  have hb := S.2.1
  obtain ⟨x, v, σ1, σ2, h1, h2, h3, h5, h4⟩ := r_within l hC hfl hR (xs (i + 1)) (xs (i + 2))
  refine lv_aload_n hx hb d_l_law_702 rfl (lv_at hl 3 rfl) ?_
  refine ls_rd (k := 1) S hX hbl hbs hO (lv_at hl 4 rfl) (lv_at hl 0 rfl) (by omega) hL (by decide) d_l_law_703 d_l_law_704 d_l_law_706 d_l_law_707 d_l_law_708 ?_
  refine ls_rd (k := 2) S hX hbl hbs hO (lv_at hl 4 rfl) (lv_at hl 0 rfl) (by omega) hL (by decide) d_l_law_709 d_l_law_710 d_l_law_712 d_l_law_713 d_l_law_714 ?_
  refine lv_aload_n hx hb d_l_law_715 rfl (lv_at hl 1 rfl) ?_
  refine cS4r S hK hO (h1) sw_l_within gw_234 (by decide) (by decide) ⟨hc, hs⟩ hl.1 (Nat.le_of_ble_eq_true rfl) d_l_law_716 (fun H locs hO => ?_)
  try dsimp only at hO
  refine lv_istore hx hb d_l_law_719 hl (by decide) rfl (fun ls hl => ?_)
  have hl : lv_has ls 7 [(5, _), (4, _), (3, _), (2, _), (1, _), (0, _)] := hl
  refine lv_aload_n hx hb d_l_law_721 rfl (lv_at hl 3 rfl) ?_
  refine ls_rd (k := 1) S hX hbl hbs hO (lv_at hl 5 rfl) (lv_at hl 1 rfl) (by omega) hL (by decide) d_l_law_722 d_l_law_723 d_l_law_725 d_l_law_726 d_l_law_727 ?_
  refine ls_rd (k := 2) S hX hbl hbs hO (lv_at hl 5 rfl) (lv_at hl 1 rfl) (by omega) hL (by decide) d_l_law_728 d_l_law_729 d_l_law_731 d_l_law_732 d_l_law_733 ?_
  refine cM2r S hK hO (h2) vw_m_within gw_349 (by decide) (by decide) ⟨hc, hs⟩ hl.1 (Nat.le_of_ble_eq_true rfl) d_l_law_734 (fun H locs hO => ?_)
  try dsimp only at hO
  refine lv_istore hx hb d_l_law_737 hl (by decide) rfl (fun ls hl => ?_)
  have hl : lv_has ls 7 [(6, _), (5, _), (4, _), (3, _), (2, _), (1, _), (0, _)] := hl
  refine lv_aload_n hx hb d_l_law_739 rfl (lv_at hl 4 rfl) ?_
  refine cM0p S hK hO (p_thrown l hC _) vw_m_thrown gw_279 (by decide) (by decide) ⟨hc, hs⟩ hl.1 (Nat.le_of_ble_eq_true rfl) d_l_law_740 ?_
  refine lv_iload hx hb d_l_law_743 (lv_at hl 1 rfl) ?_
  refine lv_icmp_eq (tgt := 750) hx hb d_l_law_745 (by decide) (fun h => ?_) (fun h => ?_)
  · refine lv_iload hx hb d_l_law_750 (lv_at hl 1 rfl) ?_
    refine lv_if_ne (tgt := 774) hx hb d_l_law_752 (by decide) (fun h0 => ?_) (fun h0 => ?_)
    · refine lv_goto (tgt := 882) hx hb d_l_law_774 (by decide) ?_
      exact kk σ2 _ _ _ hO h4 (lv_sub hl [2, 3, 4, 5, 6] rfl)
    · refine lv_aload_n hx hb d_l_law_755 rfl (lv_at hl 3 rfl) ?_
      refine lv_iconst (v := 0) hx hb d_l_law_756 (by decide) ?_
      refine ol_ld S hK hO d_l_law_757 ?_
      refine lv_iload hx hb d_l_law_758 (lv_at hl 0 rfl) ?_
      refine lv_if_eq (tgt := 767) hx hb d_l_law_760 (by decide) (fun hv => ?_) (fun hv => ?_)
      · refine lv_lconst (v := lN 0) hx hb d_l_law_767 rfl ?_
        refine W.lcmp hx hb d_l_law_768 ?_
        refine lv_if_eq (tgt := 774) hx hb d_l_law_769 (by decide) (fun h => ?_) (fun h => ?_)
        · refine lv_goto (tgt := 882) hx hb d_l_law_774 (by decide) ?_
          exact kk σ2 _ _ _ hO h4 (lv_sub hl [2, 3, 4, 5, 6] rfl)
        · exact absurd ((lg_cmp_eq _ _).mpr (by rw [h5 h0]; unfold fZ; rw [if_pos hv])) h
      · refine lv_lconst (v := lN 1) hx hb d_l_law_763 rfl ?_
        refine lv_goto (tgt := 768) hx hb d_l_law_764 (by decide) ?_
        refine W.lcmp hx hb d_l_law_768 ?_
        refine lv_if_eq (tgt := 774) hx hb d_l_law_769 (by decide) (fun h => ?_) (fun h => ?_)
        · refine lv_goto (tgt := 882) hx hb d_l_law_774 (by decide) ?_
          exact kk σ2 _ _ _ hO h4 (lv_sub hl [2, 3, 4, 5, 6] rfl)
        · exact absurd ((lg_cmp_eq _ _).mpr (by rw [h5 h0]; unfold fZ; rw [if_neg hv])) h
  · exact absurd h3 h
set_option maxHeartbeats 4000000 in
set_option maxRecDepth 100000 in
/-- case part -/
theorem w_part (hfl : l.flags = flags0) (hC : Cg cx) (S : Fx p s m #[Value.ref b] meth c code 7 "GrantMathLaw" (some .boolean)) (hK : Sk cx s s.heap) (hbs : s.heap.size ≤ cx.2.2.2) (hX : va_X b L xs s s.heap) (hbl : b < s.heap.size) (hi : i + 5 ≤ L) (hL : L ≤ 2560) (hO : Ok cx s σ H locs) (hR : Rl σ) (hc : cells + 1 ≤ 966277) (hs : slots + 6 ≤ 6197274) (hl : lv_has ls 7 (lwL cx b i)) (kk : ∀ (σ' : Sg) (H' : Heap) (locs' : List Loc) (ls' : Array Slot), Ok cx s σ' H' locs' → Rl σ' → lv_has ls' 7 (lwL cx b i) → W p l e room_1 s m #[Value.ref b] below meth c H' locs' (cells + 1) (slots + 6) Q (F0 m 882 ls' [])) : W p l e room_1 s m #[Value.ref b] below meth c H locs cells slots Q (F0 m 777 ls []) := by
  have hx := S.1
  have hb := S.2.1
  obtain ⟨x, v, σ1, σ2, h1, h2, h3, h5, h4⟩ := r_part l hC hfl hR (xs (i + 1)) (xs (i + 2))
  refine lv_aload_n hx hb d_l_law_777 rfl (lv_at hl 3 rfl) ?_
  refine ls_rd (k := 1) S hX hbl hbs hO (lv_at hl 4 rfl) (lv_at hl 0 rfl) (by omega) hL (by decide) d_l_law_778 d_l_law_779 d_l_law_781 d_l_law_782 d_l_law_783 ?_
  refine ls_rd (k := 2) S hX hbl hbs hO (lv_at hl 4 rfl) (lv_at hl 0 rfl) (by omega) hL (by decide) d_l_law_784 d_l_law_785 d_l_law_787 d_l_law_788 d_l_law_789 ?_
  refine lv_aload_n hx hb d_l_law_790 rfl (lv_at hl 1 rfl) ?_
  refine cS4r S hK hO (h1) sw_l_part gw_241 (by decide) (by decide) ⟨hc, hs⟩ hl.1 (Nat.le_of_ble_eq_true rfl) d_l_law_791 (fun H locs hO => ?_)
  try dsimp only at hO
  refine lv_istore hx hb d_l_law_794 hl (by decide) rfl (fun ls hl => ?_)
  have hl : lv_has ls 7 [(5, _), (4, _), (3, _), (2, _), (1, _), (0, _)] := hl
  refine lv_aload_n hx hb d_l_law_796 rfl (lv_at hl 3 rfl) ?_
  refine ls_rd (k := 1) S hX hbl hbs hO (lv_at hl 5 rfl) (lv_at hl 1 rfl) (by omega) hL (by decide) d_l_law_797 d_l_law_798 d_l_law_800 d_l_law_801 d_l_law_802 ?_
  refine ls_rd (k := 2) S hX hbl hbs hO (lv_at hl 5 rfl) (lv_at hl 1 rfl) (by omega) hL (by decide) d_l_law_803 d_l_law_804 d_l_law_806 d_l_law_807 d_l_law_808 ?_
  refine cM2r S hK hO (h2) vw_m_part gw_353 (by decide) (by decide) ⟨hc, hs⟩ hl.1 (Nat.le_of_ble_eq_true rfl) d_l_law_809 (fun H locs hO => ?_)
  try dsimp only at hO
  refine lv_istore hx hb d_l_law_812 hl (by decide) rfl (fun ls hl => ?_)
  have hl : lv_has ls 7 [(6, _), (5, _), (4, _), (3, _), (2, _), (1, _), (0, _)] := hl
  refine lv_aload_n hx hb d_l_law_814 rfl (lv_at hl 4 rfl) ?_
  refine cM0p S hK hO (p_thrown l hC _) vw_m_thrown gw_279 (by decide) (by decide) ⟨hc, hs⟩ hl.1 (Nat.le_of_ble_eq_true rfl) d_l_law_815 ?_
  refine lv_iload hx hb d_l_law_818 (lv_at hl 1 rfl) ?_
  refine lv_icmp_eq (tgt := 825) hx hb d_l_law_820 (by decide) (fun h => ?_) (fun h => ?_)
  · refine lv_iload hx hb d_l_law_825 (lv_at hl 1 rfl) ?_
    refine lv_if_ne (tgt := 842) hx hb d_l_law_827 (by decide) (fun h0 => ?_) (fun h0 => ?_)
    · refine lv_goto (tgt := 882) hx hb d_l_law_842 (by decide) ?_
      exact kk σ2 _ _ _ hO h4 (lv_sub hl [2, 3, 4, 5, 6] rfl)
    · refine lv_aload_n hx hb d_l_law_830 rfl (lv_at hl 3 rfl) ?_
      refine lv_iconst (v := 0) hx hb d_l_law_831 (by decide) ?_
      refine ol_ld S hK hO d_l_law_832 ?_
      refine lv_iload hx hb d_l_law_833 (lv_at hl 0 rfl) ?_
      refine lv_i2l hx hb d_l_law_835 rfl ?_
      refine W.lcmp hx hb d_l_law_836 ?_
      refine lv_if_eq (tgt := 842) hx hb d_l_law_837 (by decide) (fun h => ?_) (fun h => ?_)
      · refine lv_goto (tgt := 882) hx hb d_l_law_842 (by decide) ?_
        exact kk σ2 _ _ _ hO h4 (lv_sub hl [2, 3, 4, 5, 6] rfl)
      · exact absurd ((lg_cmp_eq _ _).mpr (h5 h0)) h
  · exact absurd h3 h
set_option maxHeartbeats 4000000 in
set_option maxRecDepth 100000 in
/-- case count -/
theorem w_count (hfl : l.flags = flags0) (hC : Cg cx) (S : Fx p s m #[Value.ref b] meth c code 7 "GrantMathLaw" (some .boolean)) (hK : Sk cx s s.heap) (hbs : s.heap.size ≤ cx.2.2.2) (hX : va_X b L xs s s.heap) (hbl : b < s.heap.size) (hi : i + 5 ≤ L) (hL : L ≤ 2560) (hO : Ok cx s σ H locs) (hR : Rl σ) (hc : cells + 1 ≤ 966277) (hs : slots + 6 ≤ 6197274) (hl : lv_has ls 7 (lwL cx b i)) (kk : ∀ (σ' : Sg) (H' : Heap) (locs' : List Loc) (ls' : Array Slot), Ok cx s σ' H' locs' → Rl σ' → lv_has ls' 7 (lwL cx b i) → W p l e room_1 s m #[Value.ref b] below meth c H' locs' (cells + 1) (slots + 6) Q (F0 m 882 ls' [])) : W p l e room_1 s m #[Value.ref b] below meth c H locs cells slots Q (F0 m 845 ls []) := by
  have hx := S.1
  have hb := S.2.1
  refine lv_aload_n hx hb d_l_law_845 rfl (lv_at hl 3 rfl) ?_
  refine ls_rd (k := 1) S hX hbl hbs hO (lv_at hl 4 rfl) (lv_at hl 0 rfl) (by omega) hL (by decide) d_l_law_846 d_l_law_847 d_l_law_849 d_l_law_850 d_l_law_851 ?_
  refine ls_rd (k := 2) S hX hbl hbs hO (lv_at hl 4 rfl) (lv_at hl 0 rfl) (by omega) hL (by decide) d_l_law_852 d_l_law_853 d_l_law_855 d_l_law_856 d_l_law_857 ?_
  refine cX2r S hK hO (x_count_ok l hC σ (xs (i + 1)) (xs (i + 2)) hR.2) vw_x_count gw_64 (by decide) (by decide) ⟨Nat.le_of_succ_le hc, show slots ≤ 6197274 by omega⟩ hl.1 (Nat.le_of_ble_eq_true rfl) d_l_law_858 (fun H locs hO => ?_)
  try dsimp only at hO
  refine lv_aload_n hx hb d_l_law_861 rfl (lv_at hl 2 rfl) ?_
  refine ls_rd (k := 1) S hX hbl hbs hO (lv_at hl 4 rfl) (lv_at hl 0 rfl) (by omega) hL (by decide) d_l_law_862 d_l_law_863 d_l_law_865 d_l_law_866 d_l_law_867 ?_
  refine ls_rd (k := 2) S hX hbl hbs hO (lv_at hl 4 rfl) (lv_at hl 0 rfl) (by omega) hL (by decide) d_l_law_868 d_l_law_869 d_l_law_871 d_l_law_872 d_l_law_873 ?_
  refine cM2r S hK hO (m_count_ok l hC σ (xs (i + 1)) (xs (i + 2)) (fun k hk => hR.1 k hk ▸ hR.2 k hk)) vw_m_count gw_358 (by decide) (by decide) ⟨Nat.le_of_succ_le hc, show slots ≤ 6197274 by omega⟩ hl.1 (Nat.le_of_ble_eq_true rfl) d_l_law_874 (fun H locs hO => ?_)
  try dsimp only at hO
  refine lv_icmp_eq (tgt := 882) hx hb d_l_law_877 (by decide) (fun h => ?_) (fun h => ?_)
  · exact W.widen (by omega) (by omega) (kk _ _ _ _ hO hR hl)
  · exact absurd (congrArg nI (cnt_eq _ _ hR.1)) h
end GmK
end
section
/-! The law's whole walk (the rows from R_law to lw_At began as the skeleton's) -/
def R_law : String := "GrantMathLaw"
def lw_P (b : Addr) (xs : List Int32) (args : Array Value) (s : State) : Prop := args = #[.ref b] ∧ s.IntsAt b xs ∧ xs.length ≤ 2560 ∧ (Jvm.Cond.and given_1 narrow_1).before args s = true
def lw_Q (_ : Array Value) (s : State) (o : Outcome) (t : State) : Prop := o = .returned (some (.int 1)) ∧ Framed s o t [] 966277 6197274
def lw_Z (below : List Frame) (a : Array Value) (s : State) : State → Prop := fun t => ∃ o, t.status = .running ∧ Ended t below o ∧ lw_Q a s o t
/-- the law's own end, with 1 on the stack, nothing written that was there before, its room as the claim has it -/
theorem lw_ret {p : Program} {l : Launch} {e : Env} {s : State} {m : MethodId} {below : List Frame} {meth : Method} {c : Code} {b : Nat} (hx : p.tables.exec = Jvm.exec) (hb : c.code = code) (hr : meth.sig.returnType = ret) (hlocks : meth.locks = false) {pc : Nat} {H : Heap} {ls : Array Slot} (hdg : decode code pc = .ok (.ireturn, 1)) : W p l e room_1 s m #[Value.ref b] below meth c H [] 966277 6197274 (lw_Z below #[Value.ref b] s) (F0 m pc ls [.int 1]) := by
  intro T hT X
  obtain ⟨fs, hret, hrun, hended, hW, hframe⟩ := X.leave (v := some (.int 1)) (hlocks := hlocks) (fun h => by rw [hr] at h; cases h)
  have hmeth' : T.vm.method? m = some meth := X.method'
  refine ⟨T.setFrames fs, ?_, .returned (some (.int 1)), hrun, hended, rfl, ⟨_, rfl⟩, hW, hframe⟩
  jvm_step X.here [X.here.top, hx, hb, hdg, hmeth', hr, ret, narrow_b1]
  (try refine ⟨rfl, ?_⟩); (try refine ⟨rfl, ?_⟩)
  first | (intro acts; rw [hret _ acts rfl rfl rfl]) | rw [hret _ _ rfl rfl rfl]
  exact Steps.refl _
/-- what holds at the law's entry: the machine, the code, the tables' words (any of lw_tbl by 'hts w (by decide +kernel)'), the script of L ints xs at the cell b, what the Statement gives of the start (any of its parts by flat_of_before) -/
def lw_At (p : Program) (s : State) (m : MethodId) (meth : Method) (c : Code) (b L : Nat) (xs : Nat → Int32) : Prop :=
  p.tables.exec = Jvm.exec ∧ c.code = code ∧ meth.sig.returnType = ret ∧ c.maxLocals = 7 ∧ s.vm.findClass R_law = some m.cls ∧ (∀ w ∈ lw_tbl, w.before #[Value.ref b] s = true) ∧ va_X b L xs s s.heap ∧ b < s.heap.size ∧ meth.locks = false ∧ (Jvm.Cond.and given_1 narrow_1).before #[Value.ref b] s = true
section GmQ
theorem arr_c {cA : ClassId} {n : Nat} {f g : Nat → Value} (h : ∀ j, j < n → f j = g j) : arrV cA n f = arrV cA n g := by
  unfold arrV
  congr 1
  apply Array.ext
  · simp
  · intro i h1 h2
    simp only [Array.size_ofFn] at h1
    simp [h i h1]
def cx0 (D : va_G) (cL cI cZ cR : ClassId) (q a : Nat → Nat) (md h ga hm ho base : Nat) : Cx :=
  (D, (fun k => if k = 0 then cL else if k = 1 then cI else if k = 2 then cZ else cR), (fun k => if k < 16 then q k else if k = 16 then md else if k = 17 then h else if k = 18 then ga else if k = 19 then hm else if k < 26 then a (k - 19) else ho), base)
def σ0 : Sg := (fun _ => zg, fun _ => zg, 0, 0)
theorem Rl0 : Rl σ0 := ⟨fun _ _ => rfl, fun _ _ => (by decide : (0 : Nat) < 4294967296 ∧ (0 : Nat) < 4294967296 ∧ (0 : Nat) < 4294967296 ∧ (0 : Nat) < 256 ∧ (0 : Nat) < 65536)⟩
variable {D : va_G} {cL cI cZ cR : ClassId} {q a : Nat → Nat} {md h ga hm ho base : Nat} {H : Heap}
theorem asm_sys (hX : va_P D cls0 (wX h ga md cR q 16) H) (hM : va_P D cls0 (wM hm a cL cI cZ) H) (hO : H[ho]? = some (arrV cL 1 (fun _ => .long 0))) : sys (cx0 D cL cI cZ cR q a md h ga hm ho base) σ0 H := by
  intro k e hk
  have h27 := wl_lt hk
  rw [wl_at h27] at hk
  cases hk
  by_cases h16 : k < 16
  · have h1 : (wX h ga md cR q 16)[3 + k]? = some (q k, .inr (0, gl zg)) := by
      unfold wX
      rw [List.getElem?_append_right (by simp)]
      simp [h16]
    have h2 := hX _ _ h1
    have h3 : ad (cx0 D cL cI cZ cR q a md h ga hm ho base) k = q k := by simp [ad, cx0, h16]
    rw [ent_G (by omega), h3]
    exact h2
  · rcases (show k = 16 ∨ k = 17 ∨ k = 18 ∨ k = 19 ∨ k = 20 ∨ k = 21 ∨ k = 22 ∨ k = 23 ∨ k = 24 ∨ k = 25 ∨ k = 26 by omega) with rfl | rfl | rfl | rfl | rfl | rfl | rfl | rfl | rfl | rfl | rfl
    · exact hX 2 _ rfl
    · exact hX 0 _ rfl
    · have h2 : H[ga]? = some (vp_cell cR (16, .inr (.inr (.inr (.inr (fun j => if j < 16 then some (q j) else none)))))) := hX 1 _ rfl
      show H[ga]? = some (vp_cell cR (16, .inr (.inr (.inr (.inr (fun j => some (ad (cx0 D cL cI cZ cR q a md h ga hm ho base) j)))))))
      rw [h2, vp_cell_q, vp_cell_q]
      exact congrArg some (arr_c (fun j hj => by simp [ad, cx0, hj]))
    · exact hM 0 _ rfl
    · exact hM 1 _ rfl
    · exact hM 2 _ rfl
    · exact hM 3 _ rfl
    · exact hM 4 _ rfl
    · exact hM 5 _ rfl
    · exact hM 6 _ rfl
    · show H[ho]? = some (vp_cell cL (1, .inr (.inl (fun j => if j = 0 then 0 else 0))))
      rw [hO, vp_cell_l]
      exact congrArg some (arr_c (fun j hj => by simp))
def pos (k : Nat) : Nat := if k < 16 then k + 3 else if k = 16 then 2 else if k = 17 then 0 else if k = 18 then 1 else k
theorem pos_all : ∀ i, i < 27 → ∀ j, j < 27 → pos i = pos j → i = j := by decide +kernel
theorem pos_inj {i j : Nat} (hi : i < 27) (hj : j < 27) (h : pos i = pos j) : i = j := pos_all i hi j hj h
theorem asm_Cg (hX : va_D (gA h) (wX h ga md cR q 16)) (hb : base ≤ h) (lX : ∀ (k : Nat) (x : Nat × va_E), (wX h ga md cR q 16)[k]? = some x → x.1 < hm) (hM : va_D (gA hm) (wM hm a cL cI cZ)) (lM : ∀ (k : Nat) (x : Nat × va_E), (wM hm a cL cI cZ)[k]? = some x → x.1 < ho) : Cg (cx0 D cL cI cZ cR q a md h ga hm ho base) := by
  have hh : h < hm := lX 0 _ rfl
  have hm' : hm < ho := lM 0 _ rfl
  have h1 : va_D (gA base) (wX h ga md cR q 16) := hX.weaken (fun _ _ _ z => Nat.le_trans hb z)
  have h2 : va_D (gA base) (wM hm a cL cI cZ) := hM.weaken (fun _ _ _ z => Nat.le_trans (Nat.le_trans hb (Nat.le_of_lt hh)) z)
  have h3 : va_D (gA base) (wX h ga md cR q 16 ++ wM hm a cL cI cZ) := h1.app h2 (fun i j x y hi hj hxy => by
    have l1 := lX i x hi
    have l2 : hm ≤ y.1 := hM.2 j y hj
    omega)
  have h4 : va_D (gA base) ((wX h ga md cR q 16 ++ wM hm a cL cI cZ) ++ [((ho, .inl (cL, 1, .inr (.inl (fun _ => 0)))) : Nat × va_E)]) := h3.app (va_D1 (show base ≤ ho by omega)) (fun i j x y hi hj hxy => by
    have hy : y.1 = ho := by
      have hz : j < 1 := (List.getElem?_eq_some_iff.mp hj).1
      rw [show j = 0 by omega] at hj
      cases hj
      rfl
    rcases List.mem_append.mp (List.mem_of_getElem? hi) with hm1 | hm1
    · obtain ⟨k, hk⟩ := List.getElem?_of_mem hm1
      have := lX k x hk
      omega
    · obtain ⟨k, hk⟩ := List.getElem?_of_mem hm1
      have := lM k x hk
      omega)
  have hpos : ∀ k, k < 27 → ∃ e, ((wX h ga md cR q 16 ++ wM hm a cL cI cZ) ++ [((ho, .inl (cL, 1, .inr (.inl (fun _ => 0)))) : Nat × va_E)])[pos k]? = some (ad (cx0 D cL cI cZ cR q a md h ga hm ho base) k, e) := by
    intro k hk
    by_cases h16 : k < 16
    · refine ⟨.inr (0, gl zg), ?_⟩
      have h3 : ad (cx0 D cL cI cZ cR q a md h ga hm ho base) k = q k := by simp [ad, cx0, h16]
      have hl : (wX h ga md cR q 16).length = 19 := by simp [wX]
      rw [h3, show pos k = k + 3 by simp [pos, h16], List.getElem?_append_left (by simp [hl]; omega), List.getElem?_append_left (by omega)]
      unfold wX
      rw [List.getElem?_append_right (by simp)]
      simp [h16]
    · rcases (show k = 16 ∨ k = 17 ∨ k = 18 ∨ k = 19 ∨ k = 20 ∨ k = 21 ∨ k = 22 ∨ k = 23 ∨ k = 24 ∨ k = 25 ∨ k = 26 by omega) with rfl | rfl | rfl | rfl | rfl | rfl | rfl | rfl | rfl | rfl | rfl <;> exact ⟨_, rfl⟩
  refine ⟨fun i j hi hj hij => ?_, fun i hi => ?_⟩
  · obtain ⟨e1, p1⟩ := hpos i hi
    obtain ⟨e2, p2⟩ := hpos j hj
    exact pos_inj hi hj (h4.1 _ _ _ _ p1 p2 hij)
  · obtain ⟨e1, p1⟩ := hpos i hi
    exact h4.2 _ _ p1
end GmQ
section GmO
variable {p : Program} {l : Launch} {e : Env} {R : Room} {s : State} {m : MethodId} {args : Array Value} {below : List Frame} {meth : Method} {c : Code} {H : Heap} {locs : List Loc} {cells slots mc ms : Nat} {Q : State → Prop}
variable {cc : ByteArray} {own : String} {ret : Option FieldType} {nL index pc : Nat} {ls : Array Slot} {rest st : List Value}
/-- a new object: at the heap's end, blank -/
theorem gm_newO (S : Fx p s m args meth c cc nL own ret) {C : String} {T : u_T} {N ci : Nat} {D : va_G} {tys : List (ClassId × FieldType)} (hin : ∀ w ∈ u_ws C T N, w ∈ gw) (ty : Nat → FieldType) (hty : ∀ k, k < N → parseFieldDescriptor (T k).2.2.1 = some (ty k)) (hcl : Cond.classLink own index C ∈ gw) (hinst : Cond.instantiable C N ∈ gw) (hini : Cond.initialized C ∈ gw) (hK : va_K D cls0 tys s) (hc : cls0[ci]? = some (C, T, N)) {fs : List Value} (hfs : ∀ j, j < N → defaultValue (ty j) = vp_V fs j) (hcells : cells + 1 ≤ R.cells) (hslots : slots + N ≤ R.slots) (hdg : decode cc pc = .ok (.new index, 3))
    (kk : ∀ H1 : Heap, va_P D cls0 [(H.size, .inr (ci, fs))] H1 → H1.size = H.size + 1 → (∀ q, q < H.size → H1[q]? = H[q]?) → W p l e R s m args below meth c H1 locs (cells + 1) (slots + N) Q (F0 m (pc + 3) ls (.ref H.size :: rest))) : W p l e R s m args below meth c H locs cells slots Q (F0 m pc ls rest) := by
  have hKn := hK.1 ci _ hc
  refine W.newcK S.1 S.2.1 S.2.2.2.1 (S.2.2.2.2.1 _ hcl) (S.2.2.2.2.1 _ hinst) (S.2.2.2.2.1 _ hini) rfl hdg hcells hslots hKn.2.1 rfl fun H1 kC hkC e1 z1 o1 => ?_
  refine kk H1 (fun k x hx => ?_) z1 o1
  have hz : k < 1 := (List.getElem?_eq_some_iff.mp hx).1
  rw [show k = 0 by omega] at hx
  cases hx
  exact ⟨_, hc, (u_born ty S.2.2.2.2.1 hin hKn hkC e1 hty).to hfs⟩
theorem gr_init {fr : Nat → Prop} {Qa : State → Outcome → State → Prop} (hr : GR p l e R s m args below meth c H locs cells slots mc ms fr pc ls st rest Qa) (hq : ∀ (u t : State) (o : Outcome), Qa u o t → o = .returned none)
    (kk : ∀ (u t : State) (L : List Loc), u.heap = H → s.vm.Alike t.vm → Qa u (.returned none) t → (∀ q ∈ L, fr q.base) → W p l e R s m args below meth c t.heap (locs ++ L) (cells + mc) (slots + ms) Q (F0 m (pc + 3) ls rest)) : W p l e R s m args below meth c H locs cells slots Q (F0 m pc ls st) := by
  intro T hT X
  obtain ⟨o, st₀, t, T', L, h0, -, X', hL, e1, e2, hQ, hret, -⟩ := hr T hT X
  obtain rfl := hq _ _ _ hQ
  obtain ⟨t2, a1, b1⟩ := kk st₀ t L h0 (by rw [← e2]; exact X'.warmed.alike) hQ hL T' e1 X'
  exact ⟨t2, hret none rfl t2 a1, b1⟩
end GmO
end
section
/-! The loop, the start, the claim (printed by gen/m_end.py; the rows from lw_walk on began as the skeleton's, with l.flags handed on) -/
section GmH
variable {p : Program} {l : Launch} {e : Env} {s : State} {m : MethodId} {below : List Frame} {meth : Method} {c : Code} {H : Heap} {locs : List Loc} {cells slots : Nat} {Q : State → Prop} {ls : Array Slot} {cx : Cx} {σ : Sg} {b L i : Nat} {xs : Nat → Int32}
theorem nI_sub5 {L : Nat} (hL : L ≤ 2560) : (nI L - nI 5).toInt = (L : Int) - 5 := by
  rw [Int32.toInt_sub, nI_toInt (by omega), nI_toInt (by omega)]
  exact Int.bmod_eq_of_le (by omega) (by omega)
/-- the loop's head -/
theorem lw_head (S : Fx p s m #[Value.ref b] meth c code 7 "GrantMathLaw" (some .boolean)) (hbs : s.heap.size ≤ cx.2.2.2) (hX : va_X b L xs s s.heap) (hbl : b < s.heap.size) (hiL : i ≤ L) (hL : L ≤ 2560) (hO : Ok cx s σ H locs) (hl : lv_has ls 7 (lwL cx b i))
    (kt : W p l e room_1 s m #[Value.ref b] below meth c H locs cells slots Q (F0 m 888 ls [])) (kf : i + 5 ≤ L → W p l e room_1 s m #[Value.ref b] below meth c H locs cells slots Q (F0 m 32 ls [])) : W p l e room_1 s m #[Value.ref b] below meth c H locs cells slots Q (F0 m 23 ls []) := by
  have hx := S.1
  have hb := S.2.1
  refine lv_iload hx hb d_l_law_23 (lv_at hl 0 rfl) ?_
  refine lv_aload_n hx hb d_l_law_25 rfl (lv_at hl 4 rfl) ?_
  refine va_slen hx hb hX hbl (A := gA cx.2.2.2) (fun h => absurd (Nat.lt_of_lt_of_le hbl hbs) (Nat.not_lt.mpr h)) hO.2 d_l_law_26 ?_
  refine lv_iconst (v := nI 5) hx hb d_l_law_27 (by decide) ?_
  refine lv_isub hx hb d_l_law_28 ?_
  refine lv_icmp_gt (tgt := 888) hx hb d_l_law_29 (by decide) (fun h => kt) (fun h => kf ?_)
  rw [Int32.lt_iff_toInt_lt, show Int32.ofNat L - nI 5 = nI L - nI 5 from rfl, nI_sub5 hL, nI_toInt (by omega)] at h
  omega
/-- the loop's end, and the law's -/
theorem lw_end (S : Fx p s m #[Value.ref b] meth c code 7 "GrantMathLaw" (some .boolean)) (hbs : s.heap.size ≤ cx.2.2.2) (hO : Ok cx s σ H locs) (hc : cells ≤ 966277) (hs : slots ≤ 6197274) : W p l e room_1 s m #[Value.ref b] below meth c H locs cells slots (lw_Z below #[Value.ref b] s) (F0 m 888 ls []) := by
  refine lv_iconst (v := 1) S.1 S.2.1 d_l_law_888 (by decide) ?_
  refine W.widen hc hs ?_
  refine va_forget (fun q hq => Nat.le_trans hbs (hO.2.2.2 q hq)) ?_
  exact lw_ret S.1 S.2.1 S.2.2.2.2.2.1 S.2.2.2.2.2.2 d_l_law_889

set_option maxHeartbeats 4000000 in
/-- the switch: every case comes to 882 -/
theorem lw_switch (hfl : l.flags = flags0) (hC : Cg cx) (S : Fx p s m #[Value.ref b] meth c code 7 "GrantMathLaw" (some .boolean)) (hK : Sk cx s s.heap) (hbs : s.heap.size ≤ cx.2.2.2) (hX : va_X b L xs s s.heap) (hbl : b < s.heap.size) (hi : i + 5 ≤ L) (hL : L ≤ 2560) (hO : Ok cx s σ H locs) (hR : Rl σ) (hc : cells + 1 ≤ 966277) (hs : slots + 6 ≤ 6197274) (hl : lv_has ls 7 (lwL cx b i)) (kk : ∀ (σ' : Sg) (H' : Heap) (locs' : List Loc) (ls' : Array Slot), Ok cx s σ' H' locs' → Rl σ' → lv_has ls' 7 (lwL cx b i) → W p l e room_1 s m #[Value.ref b] below meth c H' locs' (cells + 1) (slots + 6) Q (F0 m 882 ls' [])) : W p l e room_1 s m #[Value.ref b] below meth c H locs cells slots Q (F0 m 32 ls []) := by
  have hx := S.1
  have hb := S.2.1
  refine lv_aload_n hx hb d_l_law_32 rfl (lv_at hl 4 rfl) ?_
  refine lv_iload hx hb d_l_law_33 (lv_at hl 0 rfl) ?_
  refine va_sld hx hb hX hbl (A := gA cx.2.2.2) (fun h => absurd (Nat.lt_of_lt_of_le hbl hbs) (Nat.not_lt.mpr h)) hO.2 (vp_in_nI (show i < L by omega) (by omega)) d_l_law_35 ?_
  refine lv_bipush (v := 15) hx hb d_l_law_36 (by decide) ?_
  refine lv_iand hx hb d_l_law_38 ?_
  obtain ⟨j, hj, ej⟩ := pk_andE (xs (nI i).toNatClampNeg) (m := 15) 4 (by decide)
  refine tp_i (z := nI j) ej ?_
  have hj : j < 16 := hj
  have hjt : (nI j).toInt = (j : Int) := nI_toInt (by omega)
  by_cases h10 : j ≤ 10
  · rcases (show j = 0 ∨ j = 1 ∨ j = 2 ∨ j = 3 ∨ j = 4 ∨ j = 5 ∨ j = 6 ∨ j = 7 ∨ j = 8 ∨ j = 9 ∨ j = 10 by omega) with rfl | rfl | rfl | rfl | rfl | rfl | rfl | rfl | rfl | rfl | rfl
    · exact lv_tableIn (tgt := 96) (off := 57) hx hb d_l_law_39 (by decide) (by decide) (by decide) (by decide) (w_root hfl hC S hK hbs hX hbl hi hL hO hR hc hs hl kk)
    · exact lv_tableIn (tgt := 168) (off := 129) hx hb d_l_law_39 (by decide) (by decide) (by decide) (by decide) (w_number hfl hC S hK hbs hX hbl hi hL hO hR hc hs hl kk)
    · exact lv_tableIn (tgt := 216) (off := 177) hx hb d_l_law_39 (by decide) (by decide) (by decide) (by decide) (w_move hfl hC S hK hbs hX hbl hi hL hO hR hc hs hl kk)
    · exact lv_tableIn (tgt := 276) (off := 237) hx hb d_l_law_39 (by decide) (by decide) (by decide) (by decide) (w_narrow hfl hC S hK hbs hX hbl hi hL hO hR hc hs hl kk)
    · exact lv_tableIn (tgt := 363) (off := 324) hx hb d_l_law_39 (by decide) (by decide) (by decide) (by decide) (w_restrict hfl hC S hK hbs hX hbl hi hL hO hR hc hs hl kk)
    · exact lv_tableIn (tgt := 450) (off := 411) hx hb d_l_law_39 (by decide) (by decide) (by decide) (by decide) (w_seal hfl hC S hK hbs hX hbl hi hL hO hR hc hs hl kk)
    · exact lv_tableIn (tgt := 530) (off := 491) hx hb d_l_law_39 (by decide) (by decide) (by decide) (by decide) (w_unseal hfl hC S hK hbs hX hbl hi hL hO hR hc hs hl kk)
    · exact lv_tableIn (tgt := 610) (off := 571) hx hb d_l_law_39 (by decide) (by decide) (by decide) (by decide) (w_allows hfl hC S hK hbs hX hbl hi hL hO hR hc hs hl kk)
    · exact lv_tableIn (tgt := 702) (off := 663) hx hb d_l_law_39 (by decide) (by decide) (by decide) (by decide) (w_within hfl hC S hK hbs hX hbl hi hL hO hR hc hs hl kk)
    · exact lv_tableIn (tgt := 777) (off := 738) hx hb d_l_law_39 (by decide) (by decide) (by decide) (by decide) (w_part hfl hC S hK hbs hX hbl hi hL hO hR hc hs hl kk)
    · exact lv_tableIn (tgt := 845) (off := 806) hx hb d_l_law_39 (by decide) (by decide) (by decide) (by decide) (w_count hfl hC S hK hbs hX hbl hi hL hO hR hc hs hl kk)
  · exact lv_tableOut (tgt := 882) hx hb d_l_law_39 (Or.inr (by rw [hjt]; omega)) (by decide) (W.widen (by omega) (by omega) (kk _ _ _ _ hO hR hl))
/-- the loop: any number of commands -/
theorem lw_loop (hfl : l.flags = flags0) (hC : Cg cx) (S : Fx p s m #[Value.ref b] meth c code 7 "GrantMathLaw" (some .boolean)) (hK : Sk cx s s.heap) (hbs : s.heap.size ≤ cx.2.2.2) (hX : va_X b L xs s s.heap) (hbl : b < s.heap.size) (hL : L ≤ 2560) :
    ∀ (d i : Nat) (σ : Sg) (H : Heap) (locs : List Loc) (ls : Array Slot) (cells slots : Nat), L ≤ i + d → i ≤ L → cells + (L - i) ≤ 966277 → slots + 6 * (L - i) ≤ 6197274 → Ok cx s σ H locs → Rl σ → lv_has ls 7 (lwL cx b i) →
      W p l e room_1 s m #[Value.ref b] below meth c H locs cells slots (lw_Z below #[Value.ref b] s) (F0 m 23 ls []) := by
  intro d
  induction d with
  | zero =>
    intro i σ H locs ls cells slots hd hiL hc hs hO hR hl
    exact lw_head S hbs hX hbl hiL hL hO hl (lw_end S hbs hO (by omega) (by omega)) (fun h5 => absurd h5 (by omega))
  | succ d ih =>
    intro i σ H locs ls cells slots hd hiL hc hs hO hR hl
    refine lw_head S hbs hX hbl hiL hL hO hl (lw_end S hbs hO (by omega) (by omega)) (fun h5 => ?_)
    refine lw_switch hfl hC S hK hbs hX hbl h5 hL hO hR (by omega) (by omega) hl (fun σ' H' locs' ls' hO' hR' hl' => ?_)
    refine lv_iinc (k := 0) (v := nI (i + 5)) S.1 S.2.1 d_l_law_882 hl' rfl (nI_add i 5) (by decide) rfl (fun ls hl => ?_)
    refine lv_goto (tgt := 23) S.1 S.2.1 d_l_law_885 (by decide) ?_
    exact ih (i + 5) σ' H' locs' ls (cells + 1) (slots + 6) (by omega) h5 (by omega) (by omega) hO' hR' hl
end GmH
theorem xP_blind {D : va_G} {h : Nat} : FrameBlind (xP D h) := fun a U g mk z => ⟨z.1, z.2.1, va_K.moved (U := U.calling g mk a) (Vm.Alike.refl U.vm) z.2.2⟩
theorem mP_blind {D : va_G} {h : Nat} : FrameBlind (mP D h) := fun a U g mk z => ⟨z.1, z.2.1, va_K.moved (U := U.calling g mk a) (Vm.Alike.refl U.vm) z.2.2⟩
set_option maxHeartbeats 4000000 in
set_option maxRecDepth 100000 in
/-- from the entry, for every script of at most 2560 ints, the law comes to its end with true -/
theorem whole_start {p : Program} {e : Env} {s : State} {m : MethodId} {below : List Frame} {meth : Method} {c : Code} (l : Launch) (hfl : l.flags = flags0) {b L : Nat} {xs : Nat → Int32} (hL : L ≤ 2560) (C0 : lw_At p s m meth c b L xs) : W p l e room_1 s m #[Value.ref b] below meth c s.heap [] 0 0 (lw_Z below #[Value.ref b] s) (entryFrame m ([Value.ref b] : List Value).toArray 7) := by
  obtain ⟨hx, hb, hr, hml, hown, hts, hX, hbl, hlocks, hgv⟩ := C0
  have hgw : ∀ w ∈ gw, w.before #[Value.ref b] s = true := gw_of (flat_of_before _ hgv _ (by decide +kernel)) hts
  have S : Fx p s m #[Value.ref b] meth c code 7 "GrantMathLaw" (some .boolean) := ⟨hx, hb, hml, hown, hgw, hr, hlocks⟩
  obtain ⟨cG, iG, kG⟩ := u_known hgw in_G (hgw _ gw_27)
  obtain ⟨cX, iX, kX⟩ := u_known hgw in_X (hgw _ gw_18)
  obtain ⟨cM, iM, kM⟩ := u_known hgw in_M (hgw _ gw_249)
  have hK0 : ∃ D : va_G, va_K D cls0 [] s := ⟨(fun c => if c = 0 then cG else if c = 1 then cX else cM, fun c => if c = 0 then iG else if c = 1 then iX else iM), fun k x hk => by
    have hz : k < 3 := (List.getElem?_eq_some_iff.mp hk).1
    rcases (show k = 0 ∨ k = 1 ∨ k = 2 by omega) with rfl | rfl | rfl
    · cases hk; exact kG
    · cases hk; exact kX
    · cases hk; exact kM, fun k x hk => absurd (List.getElem?_eq_some_iff.mp hk).1 (Nat.not_lt_zero k)⟩
  obtain ⟨D, hK0⟩ := hK0
  have hl := lv_entry ([.ref b]) (n := 7) (Nat.le_of_ble_eq_true rfl)
  rw [lg_entry_eq]
  generalize (lg_sl ([.ref b]) ++ List.replicate (7 - (lg_sl ([.ref b])).length) Slot.unset).toArray = ls at hl ⊢
  have hl : lv_has ls 7 [(0, .ref b)] := hl
  refine gm_newO (ci := 1) (fs := [.null, .null]) (C := R_X) (T := F_X) (N := 2) S in_X t_X t_X_ok gw_17 gw_18 gw_9 hK0 rfl (fun j hj => by rcases (show j = 0 ∨ j = 1 by omega) with rfl | rfl <;> rfl) (by decide) (by decide) d_l_law_0 (fun H1 hP1 z1 o1 => ?_)
  refine lv_dup hx hb d_l_law_3 rfl ?_
  refine gr_init (gm_runI (As := []) S (t_xinit l D s.heap.size) xP_blind cn_xinit rfl gw_21 gw_20 gw_19 (fun U hU hW => ⟨rfl, by rw [hU]; exact hP1, va_K.moved hW.alike hK0⟩) (by decide) (by decide) ⟨by decide, by decide⟩ rfl hl.1 rfl (Nat.le_of_ble_eq_true rfl) d_l_law_4) (fun u t o h => h.1) (fun u1 t1 L1 e1 al1 hQ1 hL1 => ?_)
  obtain ⟨-, ⟨ga, md, cR, q, hPX, hDX, hKX⟩, hF1⟩ := hQ1
  have hKX : va_K D cls0 [(cR, .object R_G)] s := va_K.moved al1.symm hKX
  have s1 : s.heap.size + 1 ≤ t1.heap.size := by
    have := hF1.1
    rw [e1] at this
    omega
  have o1' : ∀ y, y < s.heap.size → t1.heap[y]? = s.heap[y]? := fun y hy => by
    have h2 := hF1.2 y (by rw [e1]; omega) (show ¬ s.heap.size ≤ y by omega)
    rw [h2, e1]
    exact o1 y hy
  have lX1 : ∀ (k : Nat) (x : Nat × va_E), (wX s.heap.size ga md cR q 16)[k]? = some x → x.1 < t1.heap.size := fun k x hk => (hPX k x hk).lt
  refine lv_astore_n hx hb d_l_law_7 rfl hl (by decide) rfl (fun ls hl => ?_)
  have hl : lv_has ls 7 [(1, .ref s.heap.size), (0, .ref b)] := hl
  refine gm_newO (ci := 2) (fs := [.int 0, .null, .null, .null, .null, .null, .null]) (C := R_M) (T := F_M) (N := 7) S in_M t_M t_M_ok gw_248 gw_249 gw_11 hK0 rfl (fun j hj => by rcases (show j = 0 ∨ j = 1 ∨ j = 2 ∨ j = 3 ∨ j = 4 ∨ j = 5 ∨ j = 6 by omega) with rfl | rfl | rfl | rfl | rfl | rfl | rfl <;> rfl) (by decide) (by decide) d_l_law_8 (fun H2 hP2 z2 o2 => ?_)
  refine lv_dup hx hb d_l_law_11 rfl ?_
  refine gr_init (gm_runI (As := []) S (t_minit l D t1.heap.size) mP_blind cn_minit rfl gw_252 gw_251 gw_250 (fun U hU hW => ⟨rfl, by rw [hU]; exact hP2, va_K.moved hW.alike hK0⟩) (by decide) (by decide) ⟨by decide, by decide⟩ rfl hl.1 rfl (Nat.le_of_ble_eq_true rfl) d_l_law_12) (fun u t o h => h.1) (fun u2 t2 L2 e2 al2 hQ2 hL2 => ?_)
  obtain ⟨-, ⟨a, cL, cI, cZ, hPM, hDM, hKM⟩, hF2⟩ := hQ2
  have hKM : va_K D cls0 [(cL, .long), (cI, .int), (cZ, .boolean)] s := va_K.moved al2.symm hKM
  have s2 : t1.heap.size + 1 ≤ t2.heap.size := by
    have := hF2.1
    rw [e2] at this
    omega
  have o2' : ∀ y, y < t1.heap.size → t2.heap[y]? = t1.heap[y]? := fun y hy => by
    have h2 := hF2.2 y (by rw [e2]; omega) (show ¬ t1.heap.size ≤ y by omega)
    rw [h2, e2]
    exact o2 y hy
  have hPX : va_P D cls0 (wX s.heap.size ga md cR q 16) t2.heap := hPX.kept (fun k x hk => o2' x.1 (lX1 k x hk))
  have lM1 : ∀ (k : Nat) (x : Nat × va_E), (wM t1.heap.size a cL cI cZ)[k]? = some x → x.1 < t2.heap.size := fun k x hk => (hPM k x hk).lt
  refine lv_astore_n hx hb d_l_law_15 rfl hl (by decide) rfl (fun ls hl => ?_)
  have hl : lv_has ls 7 [(2, .ref t1.heap.size), (1, .ref s.heap.size), (0, .ref b)] := hl
  refine lv_iconst (v := 1) hx hb d_l_law_16 (by decide) ?_
  refine va_newaK (atype := .long) (N := 1) hx hb (hgw _ gw_276) rfl d_l_law_17 rfl (by decide) (by decide) (by decide) (by decide) (by decide) rfl fun H3 cA e3 z3 o3 hAr hNm => ?_
  obtain rfl : cA = cL := Option.some.inj (hNm.symm.trans (hKM.2 0 _ rfl).2)
  have hPX : va_P D cls0 (wX s.heap.size ga md cR q 16) H3 := hPX.kept (fun k x hk => o3 x.1 (Nat.lt_trans (lX1 k x hk) (by omega)))
  have hPM : va_P D cls0 (wM t1.heap.size a cA cI cZ) H3 := hPM.kept (fun k x hk => o3 x.1 (lM1 k x hk))
  have hC := asm_Cg (D := D) (base := s.heap.size) hDX (Nat.le_refl _) lX1 hDM lM1
  have hsy := asm_sys (base := s.heap.size) hPX hPM e3
  have hKA : va_K D cls0 [(cA, .long), (cI, .int), (cZ, .boolean), (cR, .object R_G)] s := hKM.app hKX
  have hK : Sk (cx0 D cA cI cZ cR q a md s.heap.size ga t1.heap.size t2.heap.size s.heap.size) s s.heap := ⟨hKA, Zf.of (hts _ (by decide +kernel)) (flat_of_before _ hgv _ (by decide +kernel)) (Nat.le_refl _), Zf.of (hts _ (by decide +kernel)) (flat_of_before _ hgv _ (by decide +kernel)) (Nat.le_refl _)⟩
  have hO : Ok (cx0 D cA cI cZ cR q a md s.heap.size ga t1.heap.size t2.heap.size s.heap.size) s σ0 H3 (([] ++ L1) ++ L2) := by
    refine ⟨hsy, by omega, fun y hy _ => ?_, fun y hy => ?_⟩
    · rw [o3 y (by omega), o2' y (by omega), o1' y hy]
    · rcases List.mem_append.mp hy with h | h
      · exact hL1 y h
      · exact Nat.le_trans (show s.heap.size ≤ t1.heap.size by omega) (hL2 y h)
  refine lv_astore_n hx hb d_l_law_19 rfl hl (by decide) rfl (fun ls hl => ?_)
  refine lv_iconst (v := nI 0) hx hb d_l_law_20 (by decide) ?_
  refine lv_istore hx hb d_l_law_21 hl (by decide) rfl (fun ls hl => ?_)
  exact lw_loop hfl hC S hK (Nat.le_refl _) hX hbl hL L 0 σ0 H3 _ ls _ _ (by omega) (by omega) (by omega) (by omega) hO Rl0 hl
set_option maxHeartbeats 4000000 in
theorem lw_walk (l : Launch) (hfl : l.flags = flags0) (b : Addr) (xs : List Int32) : MetFree l x (headSpec (Jvm.Cond.code x code maxLocals ret :: tables_1) room_1) (lw_P b xs) (fun _ _ _ _ _ => True) lw_Q := by
  refine MetFree.of_bodyS (code := code) (maxLocals := maxLocals) (ret := ret) (by decide) ?_ ?_
  · intro args s m h hn
    obtain ⟨meth, c, h1, h2, h3, h4, h5, h6, -, -⟩ := Cond.code_spec hn (atoms_spec (ws := Jvm.Cond.code x code maxLocals ret :: tables_1) h _ List.mem_cons_self)
    exact ⟨meth, c, h1, h2, h3, h4, h5, h6⟩
  · intro p e s m args below meth c s₁ B hml0 hP _
    obtain ⟨rfl, hx, hbd, hgv⟩ := hP
    obtain ⟨scr, harrAt, hlist, hof, hsmall⟩ := hx
    obtain ⟨hcb, hkn, -, -⟩ := State.arrayAt?_spec harrAt
    have hown : s.vm.findClass R_law = some m.cls := findClass_of_methodNamed B.named
    have hts0 : ∀ c ∈ (Jvm.Cond.code x code maxLocals ret :: tables_1), c.before #[Value.ref b] s = true := atoms_spec (ws := Jvm.Cond.code x code maxLocals ret :: tables_1) B.pre
    have hts : ∀ w ∈ lw_tbl, w.before #[Value.ref b] s = true := k2_hts_sels lw_privs (fun w hw => hts0 w (List.mem_cons_of_mem _ hw)) lw_privs_ok
    have hml : c.maxLocals = 7 := B.maxLocals_eq (hts0 _ List.mem_cons_self)
    have X₀ : Stand p l e room_1 s m #[Value.ref b] below meth c s₁ [] 0 0 := Stand.of_body B
    have hh0 : s₁.heap = s.heap := by rw [B.state]; rfl
    have hsz : scr.slots.size = xs.length := by rw [← Array.length_toList, hlist, List.length_map]
    have hval : ∀ j : Nat, j < xs.length → scr.slots[j]? = some (.int (xs.getD j 0)) := fun j hj => by
      rw [← Array.getElem?_toList, hlist]
      simp [hj]
    have hbl : b < s.heap.size := (Array.getElem?_eq_some_iff.mp hcb).1
    have hX : va_X b xs.length (fun j => xs.getD j 0) s s.heap := ⟨scr, hcb, hof, hkn, hsz, hval⟩
    have K : W p l e room_1 s m #[Value.ref b] below meth c s₁.heap [] 0 0 (lw_Z below #[Value.ref b] s) (entryFrame m ([Value.ref b] : List Value).toArray 7) := by
      rw [hh0]
      exact whole_start l hfl hbd ⟨B.exec, B.bytes, B.returns, hml, hown, hts, hX, hbl, B.notSynchronized, hgv⟩
    obtain ⟨t, a1, o, b1, b2, b3⟩ := K s₁ rfl X₀
    exact ⟨t, o, a1, b1, b2, b3⟩
theorem lw_pre_spec {args : Array Value} {s : State} (h : (Jvm.Cond.and given_1 narrow_1).before args s = true) (hr : rest_1_c.before args s = true) : ∃ (b : Addr) (xs : List Int32), lw_P b xs args s := by
  have hs := flat_of_before _ h
  have hq := flat_of_before _ hr
  have hc : (Cond.count 1).before args s = true := hs _ (by decide +kernel)
  have harr : (Cond.arrayOf (.arg 0) .int).before args s = true := hs _ (by decide +kernel)
  have hle : (Cond.le (.length (.arg 0)) (.int 2560)).before args s = true := hs _ (by decide +kernel)
  have hlen : (Cond.isInt (.length (.arg 0))).before args s = true := hq _ (by decide +kernel)
  have hall : (Cond.all (.arg 0) (.isInt (.elem (.arg 0) (.index 0)))).before args s = true := hq _ (by decide +kernel)
  obtain ⟨b, xs, hb, hx⟩ := State.ints_of_pre rfl harr hlen hall
  have hsm : xs.length < 2 ^ 31 := hx.choose_spec.2.2.2
  have hev : (Term.length (.arg 0)).eval args s none [] s = some (.int xs.length.toInt32) := hx.length_eval hb
  have hv := Cond.le_ints hev (show (Term.int 2560).eval args s none [] s = some (.int 2560) from rfl)
  have hd : xs.length.toInt32 ≤ 2560 := by
    simpa [Cond.before, Cond.holds, hv] using hle
  have hN : xs.length ≤ 2560 := (Int32.ofNat_le_ofNat hsm (by decide)).mp (show Int32.ofNat xs.length ≤ Int32.ofNat 2560 from hd)
  exact ⟨b, xs, Cond.one_arg hc (show args[0]? = some (.ref b) from hb), hx, hN, h⟩
theorem lw_comes (l : Launch) (hfl : l.flags = flags0) : Comes l x (Jvm.Cond.code x code maxLocals ret :: tables_1) room_1 (fun tb e args s => Calls_1 tb e args s ∧ rest_1 tb e args s ∧ Pre_1 tb e args s)
    (fun _ _ args s o t => lw_Q args s o t) := by
  intro p e ha hc hk s m args below hf hfit hheap happ hpre
  obtain ⟨b, xs, hP⟩ := lw_pre_spec hpre.2.2 hpre.2.1
  obtain ⟨k, o, h1, h2, h3, hQ⟩ := lw_walk l hfl b xs p e ha hc hk s m args below hf ((Spec.applies_iff_loose hf).mp happ).1 hP trivial
  exact ⟨k, o, h1, h2, h3, hQ⟩
theorem lw_frame {s t : State} {o : Outcome} {args : Array Value} (h : Framed s o t [] 966277 6197274) :
    Framed s o t (fieldLocs frame_1_writes args s ++ arrayLocs frame_1_arrays args s ++ staticLocs frame_1_statics s) 966277 6197274 := h
theorem lw_limb (L : Cond) (hL : ∀ (args : Array Value) (s t : State), L.after args s (.returned (some (.int 1))) t = true) :
    ArmFor flags0 classFile x code maxLocals ret World_1 tables_1 room_1 Calls_1 rest_1 Pre_1
      (fun tb e a s o t => postC L tb e a s o t ∧ Framed s o t (fieldLocs frame_1_writes a s ++ arrayLocs frame_1_arrays a s ++ staticLocs frame_1_statics s) 966277 6197274) := by
  intro l hfl _ _ p e ha hc hk s m args below hf hfit hheap happ hpre
  obtain ⟨k, o, h1, h2, h3, rfl, hF⟩ := lw_comes l hfl p e ha hc hk s m args below hf hfit hheap happ hpre
  exact ⟨k, _, h1, h2, h3, hL args s _, lw_frame hF⟩
theorem i_vc : Claimed_1_1 ∧ Claimed_1_2 := ⟨lw_limb limb_1_1 (fun args s t => by simp [limb_1_1, Cond.after, Cond.holds, Cond.value]), lw_limb limb_1_2 (fun args s t => Cond.after_iff.mpr (by
  first | (rw [show limb_1_2 = Cond.eq .result (.int 1) from rfl, Cond.eq_ints (x := 1) (y := 1) rfl rfl]; simp; done) | (simp [limb_1_2, Cond.value, Term.eval]; done)))⟩
end
