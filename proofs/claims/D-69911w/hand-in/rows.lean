section
-- ===== PART A: goes FIRST, ahead of the names: the tables' words, and 'selects' of the private methods out of them =====
/-- a private method of a class that the tables say can be made, by its rows of tables_1 -/
def lw_okq (q : MethodName × Nat) : Prop := (q.1.cls ≠ "java/lang/invoke/MethodHandle" ∧ q.1.cls ≠ "java/lang/invoke/VarHandle") ∧ Cond.instantiable q.1.cls q.2 ∈ tables_1 ∧ Cond.privateMethod q.1 ∈ tables_1 ∧ Cond.instanceMethod q.1 ∈ tables_1
theorem lw_p0 : lw_okq (⟨"java/lang/Throwable", "fillInStackTrace", "(I)Ljava/lang/Throwable;"⟩, 6) := ⟨⟨by decide +kernel, by decide +kernel⟩, List.mem_of_getElem? (i := 105) (by decide +kernel), List.mem_of_getElem? (i := 103) (by decide +kernel), List.mem_of_getElem? (i := 104) (by decide +kernel)⟩
theorem lw_p1 : lw_okq (⟨"GrowForms", "fits", "(I)Z"⟩, 11) := ⟨⟨by decide +kernel, by decide +kernel⟩, List.mem_of_getElem? (i := 11) (by decide +kernel), List.mem_of_getElem? (i := 193) (by decide +kernel), List.mem_of_getElem? (i := 194) (by decide +kernel)⟩
theorem lw_p2 : lw_okq (⟨"GrowForms", "valueOf", "(I)J"⟩, 11) := ⟨⟨by decide +kernel, by decide +kernel⟩, List.mem_of_getElem? (i := 11) (by decide +kernel), List.mem_of_getElem? (i := 197) (by decide +kernel), List.mem_of_getElem? (i := 198) (by decide +kernel)⟩
theorem lw_p3 : lw_okq (⟨"GrowForms", "grow", "(I)V"⟩, 11) := ⟨⟨by decide +kernel, by decide +kernel⟩, List.mem_of_getElem? (i := 11) (by decide +kernel), List.mem_of_getElem? (i := 217) (by decide +kernel), List.mem_of_getElem? (i := 218) (by decide +kernel)⟩
theorem lw_p4 : lw_okq (⟨"GrowForms", "isSettled", "()V"⟩, 11) := ⟨⟨by decide +kernel, by decide +kernel⟩, List.mem_of_getElem? (i := 11) (by decide +kernel), List.mem_of_getElem? (i := 228) (by decide +kernel), List.mem_of_getElem? (i := 229) (by decide +kernel)⟩
theorem lw_p5 : lw_okq (⟨"GrowFormsModel", "address", "(I)I"⟩, 11) := ⟨⟨by decide +kernel, by decide +kernel⟩, List.mem_of_getElem? (i := 246) (by decide +kernel), List.mem_of_getElem? (i := 311) (by decide +kernel), List.mem_of_getElem? (i := 312) (by decide +kernel)⟩
theorem lw_p6 : lw_okq (⟨"GrowFormsModel", "isFitting", "(I)Z"⟩, 11) := ⟨⟨by decide +kernel, by decide +kernel⟩, List.mem_of_getElem? (i := 246) (by decide +kernel), List.mem_of_getElem? (i := 315) (by decide +kernel), List.mem_of_getElem? (i := 316) (by decide +kernel)⟩
theorem lw_p7 : lw_okq (⟨"GrowFormsModel", "worth", "(I)J"⟩, 11) := ⟨⟨by decide +kernel, by decide +kernel⟩, List.mem_of_getElem? (i := 246) (by decide +kernel), List.mem_of_getElem? (i := 319) (by decide +kernel), List.mem_of_getElem? (i := 320) (by decide +kernel)⟩
def lw_privs_1 : List (MethodName × Nat) := [(⟨"java/lang/Throwable", "fillInStackTrace", "(I)Ljava/lang/Throwable;"⟩, 6), (⟨"GrowForms", "fits", "(I)Z"⟩, 11), (⟨"GrowForms", "valueOf", "(I)J"⟩, 11), (⟨"GrowForms", "grow", "(I)V"⟩, 11), (⟨"GrowForms", "isSettled", "()V"⟩, 11), (⟨"GrowFormsModel", "address", "(I)I"⟩, 11), (⟨"GrowFormsModel", "isFitting", "(I)Z"⟩, 11), (⟨"GrowFormsModel", "worth", "(I)J"⟩, 11)]
theorem lw_r1 : ∀ q ∈ lw_privs_1, lw_okq q := List.forall_mem_cons.mpr ⟨lw_p0, List.forall_mem_cons.mpr ⟨lw_p1, List.forall_mem_cons.mpr ⟨lw_p2, List.forall_mem_cons.mpr ⟨lw_p3, List.forall_mem_cons.mpr ⟨lw_p4, List.forall_mem_cons.mpr ⟨lw_p5, List.forall_mem_cons.mpr ⟨lw_p6, List.forall_mem_cons.mpr ⟨lw_p7, fun _ h => absurd h List.not_mem_nil⟩⟩⟩⟩⟩⟩⟩⟩
def lw_privs : List (MethodName × Nat) := lw_privs_1
def lw_tbl : List Cond := k2_sels lw_privs ++ tables_1
theorem lw_privs_ok : ∀ q ∈ lw_privs, lw_okq q := lw_r1
-- ===== the steady words, one list for every method =====
def gwl : List Cond := lw_tbl.filter goodWord
theorem gw_in {w : Cond} (i : Nat) (h : lw_tbl[i]? = some w) (hg : goodWord w = true) : w ∈ gwl := List.mem_filter.mpr ⟨List.mem_of_getElem? h, hg⟩
theorem gw_good {w : Cond} (h : w ∈ gwl) : (w.onTables && w.keeps) = true ∨ ∃ ty, w = .arrayClass ty := good_of_word (List.mem_filter.mp h).2
theorem tw_0 : (.selects "java/lang/Throwable" ⟨"java/lang/Throwable", "fillInStackTrace", "(I)Ljava/lang/Throwable;"⟩ ⟨"java/lang/Throwable", "fillInStackTrace", "(I)Ljava/lang/Throwable;"⟩ : Cond) ∈ gwl := gw_in 0 (by decide +kernel) rfl
theorem tw_1 : (.selects "GrowForms" ⟨"GrowForms", "fits", "(I)Z"⟩ ⟨"GrowForms", "fits", "(I)Z"⟩ : Cond) ∈ gwl := gw_in 1 (by decide +kernel) rfl
theorem tw_2 : (.selects "GrowForms" ⟨"GrowForms", "valueOf", "(I)J"⟩ ⟨"GrowForms", "valueOf", "(I)J"⟩ : Cond) ∈ gwl := gw_in 2 (by decide +kernel) rfl
theorem tw_3 : (.selects "GrowForms" ⟨"GrowForms", "grow", "(I)V"⟩ ⟨"GrowForms", "grow", "(I)V"⟩ : Cond) ∈ gwl := gw_in 3 (by decide +kernel) rfl
theorem tw_4 : (.selects "GrowForms" ⟨"GrowForms", "isSettled", "()V"⟩ ⟨"GrowForms", "isSettled", "()V"⟩ : Cond) ∈ gwl := gw_in 4 (by decide +kernel) rfl
theorem tw_5 : (.selects "GrowFormsModel" ⟨"GrowFormsModel", "address", "(I)I"⟩ ⟨"GrowFormsModel", "address", "(I)I"⟩ : Cond) ∈ gwl := gw_in 5 (by decide +kernel) rfl
theorem tw_6 : (.selects "GrowFormsModel" ⟨"GrowFormsModel", "isFitting", "(I)Z"⟩ ⟨"GrowFormsModel", "isFitting", "(I)Z"⟩ : Cond) ∈ gwl := gw_in 6 (by decide +kernel) rfl
theorem tw_7 : (.selects "GrowFormsModel" ⟨"GrowFormsModel", "worth", "(I)J"⟩ ⟨"GrowFormsModel", "worth", "(I)J"⟩ : Cond) ∈ gwl := gw_in 7 (by decide +kernel) rfl
theorem tw_8 : (.initialized "GrowFormsLaw" : Cond) ∈ gwl := gw_in 8 (by decide +kernel) rfl
theorem tw_9 : (.initialized "GrowForms" : Cond) ∈ gwl := gw_in 9 (by decide +kernel) rfl
theorem tw_10 : (.initialized "GrowFormsModel" : Cond) ∈ gwl := gw_in 10 (by decide +kernel) rfl
theorem tw_11 : (.initialized "java/lang/Throwable" : Cond) ∈ gwl := gw_in 11 (by decide +kernel) rfl
theorem tw_12 : (.initialized "java/lang/Exception" : Cond) ∈ gwl := gw_in 12 (by decide +kernel) rfl
theorem tw_13 : (.initialized "java/lang/RuntimeException" : Cond) ∈ gwl := gw_in 13 (by decide +kernel) rfl
theorem tw_14 : (.initialized "java/lang/IllegalStateException" : Cond) ∈ gwl := gw_in 14 (by decide +kernel) rfl
theorem tw_15 : (.initialized "java/lang/IllegalArgumentException" : Cond) ∈ gwl := gw_in 15 (by decide +kernel) rfl
theorem tw_16 : (.initialized "java/lang/IndexOutOfBoundsException" : Cond) ∈ gwl := gw_in 16 (by decide +kernel) rfl
theorem tw_17 : (.initialized "java/lang/UnsupportedOperationException" : Cond) ∈ gwl := gw_in 17 (by decide +kernel) rfl
theorem tw_18 : (.classLink "GrowFormsLaw" 8 "GrowForms" : Cond) ∈ gwl := gw_in 18 (by decide +kernel) rfl
theorem tw_19 : (.instantiable "GrowForms" 11 : Cond) ∈ gwl := gw_in 19 (by decide +kernel) rfl
theorem tw_20 : (.methodLink "GrowFormsLaw" 43 ⟨"GrowForms", "<init>", "()V"⟩ : Cond) ∈ gwl := gw_in 20 (by decide +kernel) rfl
theorem tw_21 : (.instanceMethod ⟨"GrowForms", "<init>", "()V"⟩ : Cond) ∈ gwl := gw_in 21 (by decide +kernel) rfl
theorem tw_22 : (.code ⟨"GrowForms", "<init>", "()V"⟩ prog_1_method_1_code 1 none : Cond) ∈ gwl := gw_in 22 (by decide +kernel) rfl
theorem tw_23 : (.methodLink "GrowForms" 1 ⟨"java/lang/Object", "<init>", "()V"⟩ : Cond) ∈ gwl := gw_in 23 (by decide +kernel) rfl
theorem tw_24 : (.instanceMethod ⟨"java/lang/Object", "<init>", "()V"⟩ : Cond) ∈ gwl := gw_in 24 (by decide +kernel) rfl
theorem tw_25 : (.code ⟨"java/lang/Object", "<init>", "()V"⟩ object_method_1_code 1 none : Cond) ∈ gwl := gw_in 25 (by decide +kernel) rfl
theorem tw_26 : (.fieldLink "GrowForms" 9 "GrowForms" "forms" "[I" : Cond) ∈ gwl := gw_in 26 (by decide +kernel) rfl
theorem tw_27 : (.fieldLink "GrowForms" 13 "GrowForms" "size" "[I" : Cond) ∈ gwl := gw_in 27 (by decide +kernel) rfl
theorem tw_28 : (.fieldLink "GrowForms" 16 "GrowForms" "bits" "[I" : Cond) ∈ gwl := gw_in 28 (by decide +kernel) rfl
theorem tw_29 : (.fieldLink "GrowForms" 19 "GrowForms" "sort" "[I" : Cond) ∈ gwl := gw_in 29 (by decide +kernel) rfl
theorem tw_30 : (.fieldLink "GrowForms" 22 "GrowForms" "target" "[I" : Cond) ∈ gwl := gw_in 30 (by decide +kernel) rfl
theorem tw_31 : (.fieldLink "GrowForms" 25 "GrowForms" "offset" "[I" : Cond) ∈ gwl := gw_in 31 (by decide +kernel) rfl
theorem tw_32 : (.fieldLink "GrowForms" 47 "GrowForms" "lines" "I" : Cond) ∈ gwl := gw_in 32 (by decide +kernel) rfl
theorem tw_33 : (.fieldLink "GrowForms" 40 "GrowForms" "settled" "Z" : Cond) ∈ gwl := gw_in 33 (by decide +kernel) rfl
theorem tw_34 : (.fieldLink "GrowForms" 28 "GrowForms" "has" "[I" : Cond) ∈ gwl := gw_in 34 (by decide +kernel) rfl
theorem tw_35 : (.fieldLink "GrowForms" 31 "GrowForms" "address" "[I" : Cond) ∈ gwl := gw_in 35 (by decide +kernel) rfl
theorem tw_36 : (.fieldLink "GrowForms" 34 "GrowForms" "grows" "[I" : Cond) ∈ gwl := gw_in 36 (by decide +kernel) rfl
theorem tw_37 : (.laysFinal "GrowForms" "GrowForms" "forms" "[I" : Cond) ∈ gwl := gw_in 37 (by decide +kernel) rfl
theorem tw_38 : (.soleField "GrowForms" "forms" : Cond) ∈ gwl := gw_in 38 (by decide +kernel) rfl
theorem tw_39 : (.laysFinal "GrowForms" "GrowForms" "size" "[I" : Cond) ∈ gwl := gw_in 39 (by decide +kernel) rfl
theorem tw_40 : (.soleField "GrowForms" "size" : Cond) ∈ gwl := gw_in 40 (by decide +kernel) rfl
theorem tw_41 : (.laysFinal "GrowForms" "GrowForms" "bits" "[I" : Cond) ∈ gwl := gw_in 41 (by decide +kernel) rfl
theorem tw_42 : (.soleField "GrowForms" "bits" : Cond) ∈ gwl := gw_in 42 (by decide +kernel) rfl
theorem tw_43 : (.laysFinal "GrowForms" "GrowForms" "sort" "[I" : Cond) ∈ gwl := gw_in 43 (by decide +kernel) rfl
theorem tw_44 : (.soleField "GrowForms" "sort" : Cond) ∈ gwl := gw_in 44 (by decide +kernel) rfl
theorem tw_45 : (.laysFinal "GrowForms" "GrowForms" "target" "[I" : Cond) ∈ gwl := gw_in 45 (by decide +kernel) rfl
theorem tw_46 : (.soleField "GrowForms" "target" : Cond) ∈ gwl := gw_in 46 (by decide +kernel) rfl
theorem tw_47 : (.laysFinal "GrowForms" "GrowForms" "offset" "[I" : Cond) ∈ gwl := gw_in 47 (by decide +kernel) rfl
theorem tw_48 : (.soleField "GrowForms" "offset" : Cond) ∈ gwl := gw_in 48 (by decide +kernel) rfl
theorem tw_49 : (.lays "GrowForms" "GrowForms" "lines" "I" : Cond) ∈ gwl := gw_in 49 (by decide +kernel) rfl
theorem tw_50 : (.soleField "GrowForms" "lines" : Cond) ∈ gwl := gw_in 50 (by decide +kernel) rfl
theorem tw_51 : (.lays "GrowForms" "GrowForms" "settled" "Z" : Cond) ∈ gwl := gw_in 51 (by decide +kernel) rfl
theorem tw_52 : (.soleField "GrowForms" "settled" : Cond) ∈ gwl := gw_in 52 (by decide +kernel) rfl
theorem tw_53 : (.laysFinal "GrowForms" "GrowForms" "has" "[I" : Cond) ∈ gwl := gw_in 53 (by decide +kernel) rfl
theorem tw_54 : (.soleField "GrowForms" "has" : Cond) ∈ gwl := gw_in 54 (by decide +kernel) rfl
theorem tw_55 : (.laysFinal "GrowForms" "GrowForms" "address" "[I" : Cond) ∈ gwl := gw_in 55 (by decide +kernel) rfl
theorem tw_56 : (.soleField "GrowForms" "address" : Cond) ∈ gwl := gw_in 56 (by decide +kernel) rfl
theorem tw_57 : (.laysFinal "GrowForms" "GrowForms" "grows" "[I" : Cond) ∈ gwl := gw_in 57 (by decide +kernel) rfl
theorem tw_58 : (.soleField "GrowForms" "grows" : Cond) ∈ gwl := gw_in 58 (by decide +kernel) rfl
theorem tw_59 : (.superclass "GrowForms" "java/lang/Object" : Cond) ∈ gwl := gw_in 59 (by decide +kernel) rfl
theorem tw_60 : (.arrayClass .int : Cond) ∈ gwl := gw_in 60 (by decide +kernel) rfl
theorem tw_61 : (.methodLink "GrowFormsLaw" 64 ⟨"GrowForms", "clear", "()I"⟩ : Cond) ∈ gwl := gw_in 61 (by decide +kernel) rfl
theorem tw_62 : (.instanceMethod ⟨"GrowForms", "clear", "()I"⟩ : Cond) ∈ gwl := gw_in 62 (by decide +kernel) rfl
theorem tw_63 : (.selects "GrowForms" ⟨"GrowForms", "clear", "()I"⟩ ⟨"GrowForms", "clear", "()I"⟩ : Cond) ∈ gwl := gw_in 63 (by decide +kernel) rfl
theorem tw_64 : (.code ⟨"GrowForms", "clear", "()I"⟩ prog_1_method_8_code 2 (some .int) : Cond) ∈ gwl := gw_in 64 (by decide +kernel) rfl
theorem tw_65 : (.methodLink "GrowFormsLaw" 47 ⟨"GrowFormsLaw", "line", "(LGrowForms;[J)I"⟩ : Cond) ∈ gwl := gw_in 65 (by decide +kernel) rfl
theorem tw_66 : (.static ⟨"GrowFormsLaw", "line", "(LGrowForms;[J)I"⟩ : Cond) ∈ gwl := gw_in 66 (by decide +kernel) rfl
theorem tw_67 : (.codeWith ⟨"GrowFormsLaw", "line", "(LGrowForms;[J)I"⟩ method_3_code 3 (some .int) [(0, 8, 11, 13)] : Cond) ∈ gwl := gw_in 67 (by decide +kernel) rfl
theorem tw_68 : (.classLink "GrowFormsLaw" 13 "java/lang/IllegalStateException" : Cond) ∈ gwl := gw_in 68 (by decide +kernel) rfl
theorem tw_69 : (.methodLink "GrowFormsLaw" 7 ⟨"GrowForms", "line", "()I"⟩ : Cond) ∈ gwl := gw_in 69 (by decide +kernel) rfl
theorem tw_70 : (.instanceMethod ⟨"GrowForms", "line", "()I"⟩ : Cond) ∈ gwl := gw_in 70 (by decide +kernel) rfl
theorem tw_71 : (.selects "GrowForms" ⟨"GrowForms", "line", "()I"⟩ ⟨"GrowForms", "line", "()I"⟩ : Cond) ∈ gwl := gw_in 71 (by decide +kernel) rfl
theorem tw_72 : (.code ⟨"GrowForms", "line", "()I"⟩ prog_1_method_5_code 1 (some .int) : Cond) ∈ gwl := gw_in 72 (by decide +kernel) rfl
theorem tw_73 : (.classLink "GrowForms" 44 "java/lang/IllegalStateException" : Cond) ∈ gwl := gw_in 73 (by decide +kernel) rfl
theorem tw_74 : (.instantiable "java/lang/IllegalStateException" 6 : Cond) ∈ gwl := gw_in 74 (by decide +kernel) rfl
theorem tw_82 : (.selects "java/lang/IllegalStateException" ⟨"java/lang/Throwable", "fillInStackTrace", "(I)Ljava/lang/Throwable;"⟩ ⟨"java/lang/Throwable", "fillInStackTrace", "(I)Ljava/lang/Throwable;"⟩ : Cond) ∈ gwl := gw_in 82 (by decide +kernel) rfl
theorem tw_83 : (.selects "java/lang/IllegalStateException" ⟨"java/lang/Throwable", "fillInStackTrace", "()Ljava/lang/Throwable;"⟩ ⟨"java/lang/Throwable", "fillInStackTrace", "()Ljava/lang/Throwable;"⟩ : Cond) ∈ gwl := gw_in 83 (by decide +kernel) rfl
theorem tw_84 : (.lays "java/lang/IllegalStateException" "java/lang/Throwable" "cause" "Ljava/lang/Throwable;" : Cond) ∈ gwl := gw_in 84 (by decide +kernel) rfl
theorem tw_85 : (.lays "java/lang/Throwable" "java/lang/Throwable" "cause" "Ljava/lang/Throwable;" : Cond) ∈ gwl := gw_in 85 (by decide +kernel) rfl
theorem tw_86 : (.lays "java/lang/IllegalStateException" "java/lang/Throwable" "stackTrace" "[Ljava/lang/StackTraceElement;" : Cond) ∈ gwl := gw_in 86 (by decide +kernel) rfl
theorem tw_87 : (.lays "java/lang/Throwable" "java/lang/Throwable" "stackTrace" "[Ljava/lang/StackTraceElement;" : Cond) ∈ gwl := gw_in 87 (by decide +kernel) rfl
theorem tw_88 : (.lays "java/lang/IllegalStateException" "java/lang/Throwable" "suppressedExceptions" "Ljava/util/List;" : Cond) ∈ gwl := gw_in 88 (by decide +kernel) rfl
theorem tw_89 : (.lays "java/lang/Throwable" "java/lang/Throwable" "suppressedExceptions" "Ljava/util/List;" : Cond) ∈ gwl := gw_in 89 (by decide +kernel) rfl
theorem tw_90 : (.lays "java/lang/IllegalStateException" "java/lang/Throwable" "detailMessage" "Ljava/lang/String;" : Cond) ∈ gwl := gw_in 90 (by decide +kernel) rfl
theorem tw_91 : (.lays "java/lang/Throwable" "java/lang/Throwable" "detailMessage" "Ljava/lang/String;" : Cond) ∈ gwl := gw_in 91 (by decide +kernel) rfl
theorem tw_92 : (.lays "java/lang/IllegalStateException" "java/lang/Throwable" "backtrace" "Ljava/lang/Object;" : Cond) ∈ gwl := gw_in 92 (by decide +kernel) rfl
theorem tw_93 : (.lays "java/lang/Throwable" "java/lang/Throwable" "backtrace" "Ljava/lang/Object;" : Cond) ∈ gwl := gw_in 93 (by decide +kernel) rfl
theorem tw_94 : (.fieldLink "java/lang/Throwable" 198 "java/lang/Throwable" "backtrace" "Ljava/lang/Object;" : Cond) ∈ gwl := gw_in 94 (by decide +kernel) rfl
theorem tw_95 : (.superclass "java/lang/Throwable" "java/lang/Object" : Cond) ∈ gwl := gw_in 95 (by decide +kernel) rfl
theorem tw_96 : (.instanceMethod ⟨"java/lang/Throwable", "<init>", "()V"⟩ : Cond) ∈ gwl := gw_in 96 (by decide +kernel) rfl
theorem tw_97 : (.code ⟨"java/lang/Throwable", "<init>", "()V"⟩ prog_9_method_1_code 1 none : Cond) ∈ gwl := gw_in 97 (by decide +kernel) rfl
theorem tw_98 : (.methodLink "java/lang/Throwable" 1 ⟨"java/lang/Object", "<init>", "()V"⟩ : Cond) ∈ gwl := gw_in 98 (by decide +kernel) rfl
theorem tw_99 : (.fieldLink "java/lang/Throwable" 13 "java/lang/Throwable" "UNASSIGNED_STACK" "[Ljava/lang/StackTraceElement;" : Cond) ∈ gwl := gw_in 99 (by decide +kernel) rfl
theorem tw_101 : (.fieldLink "java/lang/Throwable" 20 "java/lang/Throwable" "SUPPRESSED_SENTINEL" "Ljava/util/List;" : Cond) ∈ gwl := gw_in 101 (by decide +kernel) rfl
theorem tw_103 : (.methodLink "java/lang/Throwable" 27 ⟨"java/lang/Throwable", "fillInStackTrace", "()Ljava/lang/Throwable;"⟩ : Cond) ∈ gwl := gw_in 103 (by decide +kernel) rfl
theorem tw_104 : (.instanceMethod ⟨"java/lang/Throwable", "fillInStackTrace", "()Ljava/lang/Throwable;"⟩ : Cond) ∈ gwl := gw_in 104 (by decide +kernel) rfl
theorem tw_105 : (.sameMethod "java/lang/Throwable" "java/lang/Throwable" "fillInStackTrace" "()Ljava/lang/Throwable;" : Cond) ∈ gwl := gw_in 105 (by decide +kernel) rfl
theorem tw_106 : (.selects "java/lang/IllegalArgumentException" ⟨"java/lang/Throwable", "fillInStackTrace", "()Ljava/lang/Throwable;"⟩ ⟨"java/lang/Throwable", "fillInStackTrace", "()Ljava/lang/Throwable;"⟩ : Cond) ∈ gwl := gw_in 106 (by decide +kernel) rfl
theorem tw_107 : (.selects "java/lang/IndexOutOfBoundsException" ⟨"java/lang/Throwable", "fillInStackTrace", "()Ljava/lang/Throwable;"⟩ ⟨"java/lang/Throwable", "fillInStackTrace", "()Ljava/lang/Throwable;"⟩ : Cond) ∈ gwl := gw_in 107 (by decide +kernel) rfl
theorem tw_108 : (.selects "java/lang/UnsupportedOperationException" ⟨"java/lang/Throwable", "fillInStackTrace", "()Ljava/lang/Throwable;"⟩ ⟨"java/lang/Throwable", "fillInStackTrace", "()Ljava/lang/Throwable;"⟩ : Cond) ∈ gwl := gw_in 108 (by decide +kernel) rfl
theorem tw_109 : (.codeSync ⟨"java/lang/Throwable", "fillInStackTrace", "()Ljava/lang/Throwable;"⟩ prog_9_method_18_code 1 (some (.object "java/lang/Throwable")) : Cond) ∈ gwl := gw_in 109 (by decide +kernel) rfl
theorem tw_110 : (.methodLink "java/lang/Throwable" 202 ⟨"java/lang/Throwable", "fillInStackTrace", "(I)Ljava/lang/Throwable;"⟩ : Cond) ∈ gwl := gw_in 110 (by decide +kernel) rfl
theorem tw_112 : (.instanceMethod ⟨"java/lang/Throwable", "fillInStackTrace", "(I)Ljava/lang/Throwable;"⟩ : Cond) ∈ gwl := gw_in 112 (by decide +kernel) rfl
theorem tw_113 : (.instantiable "java/lang/Throwable" 6 : Cond) ∈ gwl := gw_in 113 (by decide +kernel) rfl
theorem tw_114 : (.native ⟨"java/lang/Throwable", "fillInStackTrace", "(I)Ljava/lang/Throwable;"⟩ : Cond) ∈ gwl := gw_in 114 (by decide +kernel) rfl
theorem tw_115 : (.methodLink "GrowForms" 46 ⟨"java/lang/IllegalStateException", "<init>", "()V"⟩ : Cond) ∈ gwl := gw_in 115 (by decide +kernel) rfl
theorem tw_116 : (.instanceMethod ⟨"java/lang/IllegalStateException", "<init>", "()V"⟩ : Cond) ∈ gwl := gw_in 116 (by decide +kernel) rfl
theorem tw_117 : (.code ⟨"java/lang/IllegalStateException", "<init>", "()V"⟩ prog_6_method_1_code 1 none : Cond) ∈ gwl := gw_in 117 (by decide +kernel) rfl
theorem tw_118 : (.methodLink "java/lang/IllegalStateException" 1 ⟨"java/lang/RuntimeException", "<init>", "()V"⟩ : Cond) ∈ gwl := gw_in 118 (by decide +kernel) rfl
theorem tw_119 : (.instanceMethod ⟨"java/lang/RuntimeException", "<init>", "()V"⟩ : Cond) ∈ gwl := gw_in 119 (by decide +kernel) rfl
theorem tw_120 : (.code ⟨"java/lang/RuntimeException", "<init>", "()V"⟩ prog_8_method_1_code 1 none : Cond) ∈ gwl := gw_in 120 (by decide +kernel) rfl
theorem tw_121 : (.methodLink "java/lang/RuntimeException" 1 ⟨"java/lang/Exception", "<init>", "()V"⟩ : Cond) ∈ gwl := gw_in 121 (by decide +kernel) rfl
theorem tw_122 : (.instanceMethod ⟨"java/lang/Exception", "<init>", "()V"⟩ : Cond) ∈ gwl := gw_in 122 (by decide +kernel) rfl
theorem tw_123 : (.code ⟨"java/lang/Exception", "<init>", "()V"⟩ prog_4_method_1_code 1 none : Cond) ∈ gwl := gw_in 123 (by decide +kernel) rfl
theorem tw_124 : (.methodLink "java/lang/Exception" 1 ⟨"java/lang/Throwable", "<init>", "()V"⟩ : Cond) ∈ gwl := gw_in 124 (by decide +kernel) rfl
theorem tw_125 : (.fieldLink "java/lang/Throwable" 198 "java/lang/Throwable" "backtrace" "Ljava/lang/Object;" : Cond) ∈ gwl := gw_in 125 (by decide +kernel) rfl
theorem tw_126 : (.fieldLink "java/lang/Throwable" 7 "java/lang/Throwable" "cause" "Ljava/lang/Throwable;" : Cond) ∈ gwl := gw_in 126 (by decide +kernel) rfl
theorem tw_127 : (.fieldLink "java/lang/Throwable" 17 "java/lang/Throwable" "stackTrace" "[Ljava/lang/StackTraceElement;" : Cond) ∈ gwl := gw_in 127 (by decide +kernel) rfl
theorem tw_128 : (.fieldLink "java/lang/Throwable" 24 "java/lang/Throwable" "suppressedExceptions" "Ljava/util/List;" : Cond) ∈ gwl := gw_in 128 (by decide +kernel) rfl
theorem tw_129 : (.soleField "java/lang/Throwable" "backtrace" : Cond) ∈ gwl := gw_in 129 (by decide +kernel) rfl
theorem tw_130 : (.soleField "java/lang/Throwable" "detailMessage" : Cond) ∈ gwl := gw_in 130 (by decide +kernel) rfl
theorem tw_131 : (.soleField "java/lang/Throwable" "cause" : Cond) ∈ gwl := gw_in 131 (by decide +kernel) rfl
theorem tw_132 : (.soleField "java/lang/Throwable" "stackTrace" : Cond) ∈ gwl := gw_in 132 (by decide +kernel) rfl
theorem tw_133 : (.lays "java/lang/IllegalStateException" "java/lang/Throwable" "depth" "I" : Cond) ∈ gwl := gw_in 133 (by decide +kernel) rfl
theorem tw_134 : (.soleField "java/lang/Throwable" "depth" : Cond) ∈ gwl := gw_in 134 (by decide +kernel) rfl
theorem tw_135 : (.soleField "java/lang/Throwable" "suppressedExceptions" : Cond) ∈ gwl := gw_in 135 (by decide +kernel) rfl
theorem tw_136 : (.superclass "java/lang/IllegalStateException" "java/lang/RuntimeException" : Cond) ∈ gwl := gw_in 136 (by decide +kernel) rfl
theorem tw_137 : (.methodLink "GrowFormsLaw" 56 ⟨"GrowFormsLaw", "form", "(LGrowForms;III[J)I"⟩ : Cond) ∈ gwl := gw_in 137 (by decide +kernel) rfl
theorem tw_138 : (.static ⟨"GrowFormsLaw", "form", "(LGrowForms;III[J)I"⟩ : Cond) ∈ gwl := gw_in 138 (by decide +kernel) rfl
theorem tw_139 : (.codeWith ⟨"GrowFormsLaw", "form", "(LGrowForms;III[J)I"⟩ method_4_code 6 (some .int) [(0, 12, 15, 19), (0, 12, 19, 13)] : Cond) ∈ gwl := gw_in 139 (by decide +kernel) rfl
theorem tw_140 : (.classLink "GrowFormsLaw" 19 "java/lang/IllegalArgumentException" : Cond) ∈ gwl := gw_in 140 (by decide +kernel) rfl
theorem tw_141 : (.methodLink "GrowFormsLaw" 15 ⟨"GrowForms", "form", "(III)I"⟩ : Cond) ∈ gwl := gw_in 141 (by decide +kernel) rfl
theorem tw_142 : (.instanceMethod ⟨"GrowForms", "form", "(III)I"⟩ : Cond) ∈ gwl := gw_in 142 (by decide +kernel) rfl
theorem tw_143 : (.selects "GrowForms" ⟨"GrowForms", "form", "(III)I"⟩ ⟨"GrowForms", "form", "(III)I"⟩ : Cond) ∈ gwl := gw_in 143 (by decide +kernel) rfl
theorem tw_144 : (.code ⟨"GrowForms", "form", "(III)I"⟩ prog_1_method_6_code 5 (some .int) : Cond) ∈ gwl := gw_in 144 (by decide +kernel) rfl
theorem tw_145 : (.constantLong "GrowForms" 51 (64) : Cond) ∈ gwl := gw_in 145 (by decide +kernel) rfl
theorem tw_146 : (.methodLink "GrowForms" 53 ⟨"GrowForms", "in", "(JJJ)Z"⟩ : Cond) ∈ gwl := gw_in 146 (by decide +kernel) rfl
theorem tw_147 : (.static ⟨"GrowForms", "in", "(JJJ)Z"⟩ : Cond) ∈ gwl := gw_in 147 (by decide +kernel) rfl
theorem tw_148 : (.code ⟨"GrowForms", "in", "(JJJ)Z"⟩ prog_1_method_2_code 6 (some .boolean) : Cond) ∈ gwl := gw_in 148 (by decide +kernel) rfl
theorem tw_149 : (.constantLong "GrowForms" 57 (32) : Cond) ∈ gwl := gw_in 149 (by decide +kernel) rfl
theorem tw_150 : (.constantLong "GrowForms" 59 (2) : Cond) ∈ gwl := gw_in 150 (by decide +kernel) rfl
theorem tw_151 : (.classLink "GrowForms" 61 "java/lang/IllegalArgumentException" : Cond) ∈ gwl := gw_in 151 (by decide +kernel) rfl
theorem tw_152 : (.instantiable "java/lang/IllegalArgumentException" 6 : Cond) ∈ gwl := gw_in 152 (by decide +kernel) rfl
theorem tw_154 : (.selects "java/lang/IllegalArgumentException" ⟨"java/lang/Throwable", "fillInStackTrace", "(I)Ljava/lang/Throwable;"⟩ ⟨"java/lang/Throwable", "fillInStackTrace", "(I)Ljava/lang/Throwable;"⟩ : Cond) ∈ gwl := gw_in 154 (by decide +kernel) rfl
theorem tw_155 : (.lays "java/lang/IllegalArgumentException" "java/lang/Throwable" "cause" "Ljava/lang/Throwable;" : Cond) ∈ gwl := gw_in 155 (by decide +kernel) rfl
theorem tw_156 : (.lays "java/lang/IllegalArgumentException" "java/lang/Throwable" "stackTrace" "[Ljava/lang/StackTraceElement;" : Cond) ∈ gwl := gw_in 156 (by decide +kernel) rfl
theorem tw_157 : (.lays "java/lang/IllegalArgumentException" "java/lang/Throwable" "suppressedExceptions" "Ljava/util/List;" : Cond) ∈ gwl := gw_in 157 (by decide +kernel) rfl
theorem tw_158 : (.lays "java/lang/IllegalArgumentException" "java/lang/Throwable" "detailMessage" "Ljava/lang/String;" : Cond) ∈ gwl := gw_in 158 (by decide +kernel) rfl
theorem tw_159 : (.lays "java/lang/IllegalArgumentException" "java/lang/Throwable" "backtrace" "Ljava/lang/Object;" : Cond) ∈ gwl := gw_in 159 (by decide +kernel) rfl
theorem tw_160 : (.methodLink "GrowForms" 63 ⟨"java/lang/IllegalArgumentException", "<init>", "()V"⟩ : Cond) ∈ gwl := gw_in 160 (by decide +kernel) rfl
theorem tw_161 : (.instanceMethod ⟨"java/lang/IllegalArgumentException", "<init>", "()V"⟩ : Cond) ∈ gwl := gw_in 161 (by decide +kernel) rfl
theorem tw_162 : (.code ⟨"java/lang/IllegalArgumentException", "<init>", "()V"⟩ prog_5_method_1_code 1 none : Cond) ∈ gwl := gw_in 162 (by decide +kernel) rfl
theorem tw_163 : (.methodLink "java/lang/IllegalArgumentException" 1 ⟨"java/lang/RuntimeException", "<init>", "()V"⟩ : Cond) ∈ gwl := gw_in 163 (by decide +kernel) rfl
theorem tw_164 : (.lays "java/lang/IllegalArgumentException" "java/lang/Throwable" "depth" "I" : Cond) ∈ gwl := gw_in 164 (by decide +kernel) rfl
theorem tw_165 : (.superclass "java/lang/IllegalArgumentException" "java/lang/RuntimeException" : Cond) ∈ gwl := gw_in 165 (by decide +kernel) rfl
theorem tw_166 : (.methodLink "GrowFormsLaw" 60 ⟨"GrowFormsLaw", "aim", "(LGrowForms;III)I"⟩ : Cond) ∈ gwl := gw_in 166 (by decide +kernel) rfl
theorem tw_167 : (.static ⟨"GrowFormsLaw", "aim", "(LGrowForms;III)I"⟩ : Cond) ∈ gwl := gw_in 167 (by decide +kernel) rfl
theorem tw_168 : (.codeWith ⟨"GrowFormsLaw", "aim", "(LGrowForms;III)I"⟩ method_5_code 5 (some .int) [(0, 7, 10, 25)] : Cond) ∈ gwl := gw_in 168 (by decide +kernel) rfl
theorem tw_169 : (.classLink "GrowFormsLaw" 25 "java/lang/IndexOutOfBoundsException" : Cond) ∈ gwl := gw_in 169 (by decide +kernel) rfl
theorem tw_170 : (.methodLink "GrowFormsLaw" 21 ⟨"GrowForms", "aim", "(III)V"⟩ : Cond) ∈ gwl := gw_in 170 (by decide +kernel) rfl
theorem tw_171 : (.instanceMethod ⟨"GrowForms", "aim", "(III)V"⟩ : Cond) ∈ gwl := gw_in 171 (by decide +kernel) rfl
theorem tw_172 : (.selects "GrowForms" ⟨"GrowForms", "aim", "(III)V"⟩ ⟨"GrowForms", "aim", "(III)V"⟩ : Cond) ∈ gwl := gw_in 172 (by decide +kernel) rfl
theorem tw_173 : (.code ⟨"GrowForms", "aim", "(III)V"⟩ prog_1_method_7_code 4 none : Cond) ∈ gwl := gw_in 173 (by decide +kernel) rfl
theorem tw_174 : (.methodLink "GrowForms" 64 ⟨"GrowForms", "there", "(Z)V"⟩ : Cond) ∈ gwl := gw_in 174 (by decide +kernel) rfl
theorem tw_175 : (.static ⟨"GrowForms", "there", "(Z)V"⟩ : Cond) ∈ gwl := gw_in 175 (by decide +kernel) rfl
theorem tw_176 : (.code ⟨"GrowForms", "there", "(Z)V"⟩ prog_1_method_3_code 1 none : Cond) ∈ gwl := gw_in 176 (by decide +kernel) rfl
theorem tw_177 : (.classLink "GrowForms" 37 "java/lang/IndexOutOfBoundsException" : Cond) ∈ gwl := gw_in 177 (by decide +kernel) rfl
theorem tw_178 : (.instantiable "java/lang/IndexOutOfBoundsException" 6 : Cond) ∈ gwl := gw_in 178 (by decide +kernel) rfl
theorem tw_180 : (.selects "java/lang/IndexOutOfBoundsException" ⟨"java/lang/Throwable", "fillInStackTrace", "(I)Ljava/lang/Throwable;"⟩ ⟨"java/lang/Throwable", "fillInStackTrace", "(I)Ljava/lang/Throwable;"⟩ : Cond) ∈ gwl := gw_in 180 (by decide +kernel) rfl
theorem tw_181 : (.lays "java/lang/IndexOutOfBoundsException" "java/lang/Throwable" "cause" "Ljava/lang/Throwable;" : Cond) ∈ gwl := gw_in 181 (by decide +kernel) rfl
theorem tw_182 : (.lays "java/lang/IndexOutOfBoundsException" "java/lang/Throwable" "stackTrace" "[Ljava/lang/StackTraceElement;" : Cond) ∈ gwl := gw_in 182 (by decide +kernel) rfl
theorem tw_183 : (.lays "java/lang/IndexOutOfBoundsException" "java/lang/Throwable" "suppressedExceptions" "Ljava/util/List;" : Cond) ∈ gwl := gw_in 183 (by decide +kernel) rfl
theorem tw_184 : (.lays "java/lang/IndexOutOfBoundsException" "java/lang/Throwable" "detailMessage" "Ljava/lang/String;" : Cond) ∈ gwl := gw_in 184 (by decide +kernel) rfl
theorem tw_185 : (.lays "java/lang/IndexOutOfBoundsException" "java/lang/Throwable" "backtrace" "Ljava/lang/Object;" : Cond) ∈ gwl := gw_in 185 (by decide +kernel) rfl
theorem tw_186 : (.methodLink "GrowForms" 39 ⟨"java/lang/IndexOutOfBoundsException", "<init>", "()V"⟩ : Cond) ∈ gwl := gw_in 186 (by decide +kernel) rfl
theorem tw_187 : (.instanceMethod ⟨"java/lang/IndexOutOfBoundsException", "<init>", "()V"⟩ : Cond) ∈ gwl := gw_in 187 (by decide +kernel) rfl
theorem tw_188 : (.code ⟨"java/lang/IndexOutOfBoundsException", "<init>", "()V"⟩ prog_7_method_1_code 1 none : Cond) ∈ gwl := gw_in 188 (by decide +kernel) rfl
theorem tw_189 : (.methodLink "java/lang/IndexOutOfBoundsException" 1 ⟨"java/lang/RuntimeException", "<init>", "()V"⟩ : Cond) ∈ gwl := gw_in 189 (by decide +kernel) rfl
theorem tw_190 : (.lays "java/lang/IndexOutOfBoundsException" "java/lang/Throwable" "depth" "I" : Cond) ∈ gwl := gw_in 190 (by decide +kernel) rfl
theorem tw_191 : (.superclass "java/lang/IndexOutOfBoundsException" "java/lang/RuntimeException" : Cond) ∈ gwl := gw_in 191 (by decide +kernel) rfl
theorem tw_192 : (.methodLink "GrowFormsLaw" 68 ⟨"GrowFormsLaw", "settle", "(LGrowForms;[J)I"⟩ : Cond) ∈ gwl := gw_in 192 (by decide +kernel) rfl
theorem tw_193 : (.static ⟨"GrowFormsLaw", "settle", "(LGrowForms;[J)I"⟩ : Cond) ∈ gwl := gw_in 193 (by decide +kernel) rfl
theorem tw_194 : (.codeWith ⟨"GrowFormsLaw", "settle", "(LGrowForms;[J)I"⟩ method_6_code 3 (some .int) [(0, 8, 11, 13), (0, 8, 14, 30)] : Cond) ∈ gwl := gw_in 194 (by decide +kernel) rfl
theorem tw_195 : (.classLink "GrowFormsLaw" 30 "java/lang/UnsupportedOperationException" : Cond) ∈ gwl := gw_in 195 (by decide +kernel) rfl
theorem tw_196 : (.methodLink "GrowFormsLaw" 27 ⟨"GrowForms", "settle", "()I"⟩ : Cond) ∈ gwl := gw_in 196 (by decide +kernel) rfl
theorem tw_197 : (.instanceMethod ⟨"GrowForms", "settle", "()I"⟩ : Cond) ∈ gwl := gw_in 197 (by decide +kernel) rfl
theorem tw_198 : (.selects "GrowForms" ⟨"GrowForms", "settle", "()I"⟩ ⟨"GrowForms", "settle", "()I"⟩ : Cond) ∈ gwl := gw_in 198 (by decide +kernel) rfl
theorem tw_199 : (.code ⟨"GrowForms", "settle", "()I"⟩ prog_1_method_11_code 6 (some .int) : Cond) ∈ gwl := gw_in 199 (by decide +kernel) rfl
theorem tw_200 : (.methodLink "GrowForms" 74 ⟨"GrowForms", "fits", "(I)Z"⟩ : Cond) ∈ gwl := gw_in 200 (by decide +kernel) rfl
theorem tw_202 : (.instanceMethod ⟨"GrowForms", "fits", "(I)Z"⟩ : Cond) ∈ gwl := gw_in 202 (by decide +kernel) rfl
theorem tw_203 : (.code ⟨"GrowForms", "fits", "(I)Z"⟩ prog_1_method_10_code 5 (some .boolean) : Cond) ∈ gwl := gw_in 203 (by decide +kernel) rfl
theorem tw_204 : (.methodLink "GrowForms" 68 ⟨"GrowForms", "valueOf", "(I)J"⟩ : Cond) ∈ gwl := gw_in 204 (by decide +kernel) rfl
theorem tw_206 : (.instanceMethod ⟨"GrowForms", "valueOf", "(I)J"⟩ : Cond) ∈ gwl := gw_in 206 (by decide +kernel) rfl
theorem tw_207 : (.code ⟨"GrowForms", "valueOf", "(I)J"⟩ prog_1_method_9_code 4 (some .long) : Cond) ∈ gwl := gw_in 207 (by decide +kernel) rfl
theorem tw_208 : (.constantLong "GrowForms" 72 (-1) : Cond) ∈ gwl := gw_in 208 (by decide +kernel) rfl
theorem tw_209 : (.classLink "GrowForms" 78 "java/lang/UnsupportedOperationException" : Cond) ∈ gwl := gw_in 209 (by decide +kernel) rfl
theorem tw_210 : (.instantiable "java/lang/UnsupportedOperationException" 6 : Cond) ∈ gwl := gw_in 210 (by decide +kernel) rfl
theorem tw_212 : (.selects "java/lang/UnsupportedOperationException" ⟨"java/lang/Throwable", "fillInStackTrace", "(I)Ljava/lang/Throwable;"⟩ ⟨"java/lang/Throwable", "fillInStackTrace", "(I)Ljava/lang/Throwable;"⟩ : Cond) ∈ gwl := gw_in 212 (by decide +kernel) rfl
theorem tw_213 : (.lays "java/lang/UnsupportedOperationException" "java/lang/Throwable" "cause" "Ljava/lang/Throwable;" : Cond) ∈ gwl := gw_in 213 (by decide +kernel) rfl
theorem tw_214 : (.lays "java/lang/UnsupportedOperationException" "java/lang/Throwable" "stackTrace" "[Ljava/lang/StackTraceElement;" : Cond) ∈ gwl := gw_in 214 (by decide +kernel) rfl
theorem tw_215 : (.lays "java/lang/UnsupportedOperationException" "java/lang/Throwable" "suppressedExceptions" "Ljava/util/List;" : Cond) ∈ gwl := gw_in 215 (by decide +kernel) rfl
theorem tw_216 : (.lays "java/lang/UnsupportedOperationException" "java/lang/Throwable" "detailMessage" "Ljava/lang/String;" : Cond) ∈ gwl := gw_in 216 (by decide +kernel) rfl
theorem tw_217 : (.lays "java/lang/UnsupportedOperationException" "java/lang/Throwable" "backtrace" "Ljava/lang/Object;" : Cond) ∈ gwl := gw_in 217 (by decide +kernel) rfl
theorem tw_218 : (.methodLink "GrowForms" 80 ⟨"java/lang/UnsupportedOperationException", "<init>", "()V"⟩ : Cond) ∈ gwl := gw_in 218 (by decide +kernel) rfl
theorem tw_219 : (.instanceMethod ⟨"java/lang/UnsupportedOperationException", "<init>", "()V"⟩ : Cond) ∈ gwl := gw_in 219 (by decide +kernel) rfl
theorem tw_220 : (.code ⟨"java/lang/UnsupportedOperationException", "<init>", "()V"⟩ prog_10_method_1_code 1 none : Cond) ∈ gwl := gw_in 220 (by decide +kernel) rfl
theorem tw_221 : (.methodLink "java/lang/UnsupportedOperationException" 1 ⟨"java/lang/RuntimeException", "<init>", "()V"⟩ : Cond) ∈ gwl := gw_in 221 (by decide +kernel) rfl
theorem tw_222 : (.lays "java/lang/UnsupportedOperationException" "java/lang/Throwable" "depth" "I" : Cond) ∈ gwl := gw_in 222 (by decide +kernel) rfl
theorem tw_223 : (.superclass "java/lang/UnsupportedOperationException" "java/lang/RuntimeException" : Cond) ∈ gwl := gw_in 223 (by decide +kernel) rfl
theorem tw_224 : (.methodLink "GrowForms" 81 ⟨"GrowForms", "grow", "(I)V"⟩ : Cond) ∈ gwl := gw_in 224 (by decide +kernel) rfl
theorem tw_226 : (.instanceMethod ⟨"GrowForms", "grow", "(I)V"⟩ : Cond) ∈ gwl := gw_in 226 (by decide +kernel) rfl
theorem tw_227 : (.code ⟨"GrowForms", "grow", "(I)V"⟩ prog_1_method_12_code 6 none : Cond) ∈ gwl := gw_in 227 (by decide +kernel) rfl
theorem tw_228 : (.methodLink "GrowFormsLaw" 71 ⟨"GrowFormsLaw", "told", "(LGrowForms;II[J)I"⟩ : Cond) ∈ gwl := gw_in 228 (by decide +kernel) rfl
theorem tw_229 : (.static ⟨"GrowFormsLaw", "told", "(LGrowForms;II[J)I"⟩ : Cond) ∈ gwl := gw_in 229 (by decide +kernel) rfl
theorem tw_230 : (.codeWith ⟨"GrowFormsLaw", "told", "(LGrowForms;II[J)I"⟩ method_7_code 5 (some .int) [(0, 10, 13, 13), (0, 10, 17, 25), (0, 10, 21, 19)] : Cond) ∈ gwl := gw_in 230 (by decide +kernel) rfl
theorem tw_231 : (.methodLink "GrowFormsLaw" 32 ⟨"GrowForms", "told", "(II)I"⟩ : Cond) ∈ gwl := gw_in 231 (by decide +kernel) rfl
theorem tw_232 : (.instanceMethod ⟨"GrowForms", "told", "(II)I"⟩ : Cond) ∈ gwl := gw_in 232 (by decide +kernel) rfl
theorem tw_233 : (.selects "GrowForms" ⟨"GrowForms", "told", "(II)I"⟩ ⟨"GrowForms", "told", "(II)I"⟩ : Cond) ∈ gwl := gw_in 233 (by decide +kernel) rfl
theorem tw_234 : (.code ⟨"GrowForms", "told", "(II)I"⟩ prog_1_method_13_code 3 (some .int) : Cond) ∈ gwl := gw_in 234 (by decide +kernel) rfl
theorem tw_235 : (.methodLink "GrowForms" 85 ⟨"GrowForms", "isSettled", "()V"⟩ : Cond) ∈ gwl := gw_in 235 (by decide +kernel) rfl
theorem tw_237 : (.instanceMethod ⟨"GrowForms", "isSettled", "()V"⟩ : Cond) ∈ gwl := gw_in 237 (by decide +kernel) rfl
theorem tw_238 : (.code ⟨"GrowForms", "isSettled", "()V"⟩ prog_1_method_4_code 1 none : Cond) ∈ gwl := gw_in 238 (by decide +kernel) rfl
theorem tw_239 : (.methodLink "GrowFormsLaw" 75 ⟨"GrowFormsLaw", "value", "(LGrowForms;I[J)I"⟩ : Cond) ∈ gwl := gw_in 239 (by decide +kernel) rfl
theorem tw_240 : (.static ⟨"GrowFormsLaw", "value", "(LGrowForms;I[J)I"⟩ : Cond) ∈ gwl := gw_in 240 (by decide +kernel) rfl
theorem tw_241 : (.codeWith ⟨"GrowFormsLaw", "value", "(LGrowForms;I[J)I"⟩ method_8_code 4 (some .int) [(0, 8, 11, 13), (0, 8, 14, 25)] : Cond) ∈ gwl := gw_in 241 (by decide +kernel) rfl
theorem tw_242 : (.methodLink "GrowFormsLaw" 36 ⟨"GrowForms", "value", "(I)J"⟩ : Cond) ∈ gwl := gw_in 242 (by decide +kernel) rfl
theorem tw_243 : (.instanceMethod ⟨"GrowForms", "value", "(I)J"⟩ : Cond) ∈ gwl := gw_in 243 (by decide +kernel) rfl
theorem tw_244 : (.selects "GrowForms" ⟨"GrowForms", "value", "(I)J"⟩ ⟨"GrowForms", "value", "(I)J"⟩ : Cond) ∈ gwl := gw_in 244 (by decide +kernel) rfl
theorem tw_245 : (.code ⟨"GrowForms", "value", "(I)J"⟩ prog_1_method_14_code 2 (some .long) : Cond) ∈ gwl := gw_in 245 (by decide +kernel) rfl
theorem tw_246 : (.methodLink "GrowFormsLaw" 79 ⟨"GrowFormsLaw", "wrong", "(LGrowForms;[J)I"⟩ : Cond) ∈ gwl := gw_in 246 (by decide +kernel) rfl
theorem tw_247 : (.static ⟨"GrowFormsLaw", "wrong", "(LGrowForms;[J)I"⟩ : Cond) ∈ gwl := gw_in 247 (by decide +kernel) rfl
theorem tw_248 : (.codeWith ⟨"GrowFormsLaw", "wrong", "(LGrowForms;[J)I"⟩ method_9_code 3 (some .int) [(0, 8, 11, 13)] : Cond) ∈ gwl := gw_in 248 (by decide +kernel) rfl
theorem tw_249 : (.methodLink "GrowFormsLaw" 40 ⟨"GrowForms", "wrong", "()I"⟩ : Cond) ∈ gwl := gw_in 249 (by decide +kernel) rfl
theorem tw_250 : (.instanceMethod ⟨"GrowForms", "wrong", "()I"⟩ : Cond) ∈ gwl := gw_in 250 (by decide +kernel) rfl
theorem tw_251 : (.selects "GrowForms" ⟨"GrowForms", "wrong", "()I"⟩ ⟨"GrowForms", "wrong", "()I"⟩ : Cond) ∈ gwl := gw_in 251 (by decide +kernel) rfl
theorem tw_252 : (.code ⟨"GrowForms", "wrong", "()I"⟩ prog_1_method_15_code 2 (some .int) : Cond) ∈ gwl := gw_in 252 (by decide +kernel) rfl
theorem tw_253 : (.classLink "GrowFormsLaw" 44 "GrowFormsModel" : Cond) ∈ gwl := gw_in 253 (by decide +kernel) rfl
theorem tw_254 : (.instantiable "GrowFormsModel" 11 : Cond) ∈ gwl := gw_in 254 (by decide +kernel) rfl
theorem tw_255 : (.methodLink "GrowFormsLaw" 46 ⟨"GrowFormsModel", "<init>", "()V"⟩ : Cond) ∈ gwl := gw_in 255 (by decide +kernel) rfl
theorem tw_256 : (.instanceMethod ⟨"GrowFormsModel", "<init>", "()V"⟩ : Cond) ∈ gwl := gw_in 256 (by decide +kernel) rfl
theorem tw_257 : (.code ⟨"GrowFormsModel", "<init>", "()V"⟩ prog_3_method_1_code 1 none : Cond) ∈ gwl := gw_in 257 (by decide +kernel) rfl
theorem tw_258 : (.methodLink "GrowFormsModel" 1 ⟨"java/lang/Object", "<init>", "()V"⟩ : Cond) ∈ gwl := gw_in 258 (by decide +kernel) rfl
theorem tw_259 : (.fieldLink "GrowFormsModel" 9 "GrowFormsModel" "many" "[I" : Cond) ∈ gwl := gw_in 259 (by decide +kernel) rfl
theorem tw_260 : (.fieldLink "GrowFormsModel" 13 "GrowFormsModel" "size" "[I" : Cond) ∈ gwl := gw_in 260 (by decide +kernel) rfl
theorem tw_261 : (.fieldLink "GrowFormsModel" 16 "GrowFormsModel" "bits" "[I" : Cond) ∈ gwl := gw_in 261 (by decide +kernel) rfl
theorem tw_262 : (.fieldLink "GrowFormsModel" 19 "GrowFormsModel" "sort" "[I" : Cond) ∈ gwl := gw_in 262 (by decide +kernel) rfl
theorem tw_263 : (.fieldLink "GrowFormsModel" 22 "GrowFormsModel" "target" "[I" : Cond) ∈ gwl := gw_in 263 (by decide +kernel) rfl
theorem tw_264 : (.fieldLink "GrowFormsModel" 25 "GrowFormsModel" "offset" "[I" : Cond) ∈ gwl := gw_in 264 (by decide +kernel) rfl
theorem tw_265 : (.fieldLink "GrowFormsModel" 28 "GrowFormsModel" "now" "[I" : Cond) ∈ gwl := gw_in 265 (by decide +kernel) rfl
theorem tw_266 : (.fieldLink "GrowFormsModel" 39 "GrowFormsModel" "lines" "I" : Cond) ∈ gwl := gw_in 266 (by decide +kernel) rfl
theorem tw_267 : (.fieldLink "GrowFormsModel" 35 "GrowFormsModel" "thrown" "I" : Cond) ∈ gwl := gw_in 267 (by decide +kernel) rfl
theorem tw_268 : (.fieldLink "GrowFormsModel" 42 "GrowFormsModel" "isSettled" "Z" : Cond) ∈ gwl := gw_in 268 (by decide +kernel) rfl
theorem tw_269 : (.fieldLink "GrowFormsModel" 31 "GrowFormsModel" "grows" "[Z" : Cond) ∈ gwl := gw_in 269 (by decide +kernel) rfl
theorem tw_270 : (.laysFinal "GrowFormsModel" "GrowFormsModel" "many" "[I" : Cond) ∈ gwl := gw_in 270 (by decide +kernel) rfl
theorem tw_271 : (.soleField "GrowFormsModel" "many" : Cond) ∈ gwl := gw_in 271 (by decide +kernel) rfl
theorem tw_272 : (.laysFinal "GrowFormsModel" "GrowFormsModel" "size" "[I" : Cond) ∈ gwl := gw_in 272 (by decide +kernel) rfl
theorem tw_273 : (.soleField "GrowFormsModel" "size" : Cond) ∈ gwl := gw_in 273 (by decide +kernel) rfl
theorem tw_274 : (.laysFinal "GrowFormsModel" "GrowFormsModel" "bits" "[I" : Cond) ∈ gwl := gw_in 274 (by decide +kernel) rfl
theorem tw_275 : (.soleField "GrowFormsModel" "bits" : Cond) ∈ gwl := gw_in 275 (by decide +kernel) rfl
theorem tw_276 : (.laysFinal "GrowFormsModel" "GrowFormsModel" "sort" "[I" : Cond) ∈ gwl := gw_in 276 (by decide +kernel) rfl
theorem tw_277 : (.soleField "GrowFormsModel" "sort" : Cond) ∈ gwl := gw_in 277 (by decide +kernel) rfl
theorem tw_278 : (.laysFinal "GrowFormsModel" "GrowFormsModel" "target" "[I" : Cond) ∈ gwl := gw_in 278 (by decide +kernel) rfl
theorem tw_279 : (.soleField "GrowFormsModel" "target" : Cond) ∈ gwl := gw_in 279 (by decide +kernel) rfl
theorem tw_280 : (.laysFinal "GrowFormsModel" "GrowFormsModel" "offset" "[I" : Cond) ∈ gwl := gw_in 280 (by decide +kernel) rfl
theorem tw_281 : (.soleField "GrowFormsModel" "offset" : Cond) ∈ gwl := gw_in 281 (by decide +kernel) rfl
theorem tw_282 : (.laysFinal "GrowFormsModel" "GrowFormsModel" "now" "[I" : Cond) ∈ gwl := gw_in 282 (by decide +kernel) rfl
theorem tw_283 : (.soleField "GrowFormsModel" "now" : Cond) ∈ gwl := gw_in 283 (by decide +kernel) rfl
theorem tw_284 : (.lays "GrowFormsModel" "GrowFormsModel" "lines" "I" : Cond) ∈ gwl := gw_in 284 (by decide +kernel) rfl
theorem tw_285 : (.soleField "GrowFormsModel" "lines" : Cond) ∈ gwl := gw_in 285 (by decide +kernel) rfl
theorem tw_286 : (.lays "GrowFormsModel" "GrowFormsModel" "thrown" "I" : Cond) ∈ gwl := gw_in 286 (by decide +kernel) rfl
theorem tw_287 : (.soleField "GrowFormsModel" "thrown" : Cond) ∈ gwl := gw_in 287 (by decide +kernel) rfl
theorem tw_288 : (.lays "GrowFormsModel" "GrowFormsModel" "isSettled" "Z" : Cond) ∈ gwl := gw_in 288 (by decide +kernel) rfl
theorem tw_289 : (.soleField "GrowFormsModel" "isSettled" : Cond) ∈ gwl := gw_in 289 (by decide +kernel) rfl
theorem tw_290 : (.laysFinal "GrowFormsModel" "GrowFormsModel" "grows" "[Z" : Cond) ∈ gwl := gw_in 290 (by decide +kernel) rfl
theorem tw_291 : (.soleField "GrowFormsModel" "grows" : Cond) ∈ gwl := gw_in 291 (by decide +kernel) rfl
theorem tw_292 : (.superclass "GrowFormsModel" "java/lang/Object" : Cond) ∈ gwl := gw_in 292 (by decide +kernel) rfl
theorem tw_293 : (.arrayClass .boolean : Cond) ∈ gwl := gw_in 293 (by decide +kernel) rfl
theorem tw_294 : (.methodLink "GrowFormsLaw" 53 ⟨"GrowFormsModel", "thrown", "()I"⟩ : Cond) ∈ gwl := gw_in 294 (by decide +kernel) rfl
theorem tw_295 : (.instanceMethod ⟨"GrowFormsModel", "thrown", "()I"⟩ : Cond) ∈ gwl := gw_in 295 (by decide +kernel) rfl
theorem tw_296 : (.selects "GrowFormsModel" ⟨"GrowFormsModel", "thrown", "()I"⟩ ⟨"GrowFormsModel", "thrown", "()I"⟩ : Cond) ∈ gwl := gw_in 296 (by decide +kernel) rfl
theorem tw_297 : (.code ⟨"GrowFormsModel", "thrown", "()I"⟩ prog_3_method_2_code 1 (some .int) : Cond) ∈ gwl := gw_in 297 (by decide +kernel) rfl
theorem tw_298 : (.methodLink "GrowFormsLaw" 52 ⟨"GrowFormsModel", "line", "()I"⟩ : Cond) ∈ gwl := gw_in 298 (by decide +kernel) rfl
theorem tw_299 : (.instanceMethod ⟨"GrowFormsModel", "line", "()I"⟩ : Cond) ∈ gwl := gw_in 299 (by decide +kernel) rfl
theorem tw_300 : (.selects "GrowFormsModel" ⟨"GrowFormsModel", "line", "()I"⟩ ⟨"GrowFormsModel", "line", "()I"⟩ : Cond) ∈ gwl := gw_in 300 (by decide +kernel) rfl
theorem tw_301 : (.code ⟨"GrowFormsModel", "line", "()I"⟩ prog_3_method_3_code 1 (some .int) : Cond) ∈ gwl := gw_in 301 (by decide +kernel) rfl
theorem tw_302 : (.methodLink "GrowFormsLaw" 59 ⟨"GrowFormsModel", "form", "(III)I"⟩ : Cond) ∈ gwl := gw_in 302 (by decide +kernel) rfl
theorem tw_303 : (.instanceMethod ⟨"GrowFormsModel", "form", "(III)I"⟩ : Cond) ∈ gwl := gw_in 303 (by decide +kernel) rfl
theorem tw_304 : (.selects "GrowFormsModel" ⟨"GrowFormsModel", "form", "(III)I"⟩ ⟨"GrowFormsModel", "form", "(III)I"⟩ : Cond) ∈ gwl := gw_in 304 (by decide +kernel) rfl
theorem tw_305 : (.code ⟨"GrowFormsModel", "form", "(III)I"⟩ prog_3_method_4_code 7 (some .int) : Cond) ∈ gwl := gw_in 305 (by decide +kernel) rfl
theorem tw_306 : (.methodLink "GrowFormsLaw" 63 ⟨"GrowFormsModel", "aim", "(III)V"⟩ : Cond) ∈ gwl := gw_in 306 (by decide +kernel) rfl
theorem tw_307 : (.instanceMethod ⟨"GrowFormsModel", "aim", "(III)V"⟩ : Cond) ∈ gwl := gw_in 307 (by decide +kernel) rfl
theorem tw_308 : (.selects "GrowFormsModel" ⟨"GrowFormsModel", "aim", "(III)V"⟩ ⟨"GrowFormsModel", "aim", "(III)V"⟩ : Cond) ∈ gwl := gw_in 308 (by decide +kernel) rfl
theorem tw_309 : (.code ⟨"GrowFormsModel", "aim", "(III)V"⟩ prog_3_method_5_code 4 none : Cond) ∈ gwl := gw_in 309 (by decide +kernel) rfl
theorem tw_310 : (.methodLink "GrowFormsLaw" 67 ⟨"GrowFormsModel", "clear", "()I"⟩ : Cond) ∈ gwl := gw_in 310 (by decide +kernel) rfl
theorem tw_311 : (.instanceMethod ⟨"GrowFormsModel", "clear", "()I"⟩ : Cond) ∈ gwl := gw_in 311 (by decide +kernel) rfl
theorem tw_312 : (.selects "GrowFormsModel" ⟨"GrowFormsModel", "clear", "()I"⟩ ⟨"GrowFormsModel", "clear", "()I"⟩ : Cond) ∈ gwl := gw_in 312 (by decide +kernel) rfl
theorem tw_313 : (.code ⟨"GrowFormsModel", "clear", "()I"⟩ prog_3_method_6_code 2 (some .int) : Cond) ∈ gwl := gw_in 313 (by decide +kernel) rfl
theorem tw_314 : (.methodLink "GrowFormsLaw" 70 ⟨"GrowFormsModel", "settle", "()I"⟩ : Cond) ∈ gwl := gw_in 314 (by decide +kernel) rfl
theorem tw_315 : (.instanceMethod ⟨"GrowFormsModel", "settle", "()I"⟩ : Cond) ∈ gwl := gw_in 315 (by decide +kernel) rfl
theorem tw_316 : (.selects "GrowFormsModel" ⟨"GrowFormsModel", "settle", "()I"⟩ ⟨"GrowFormsModel", "settle", "()I"⟩ : Cond) ∈ gwl := gw_in 316 (by decide +kernel) rfl
theorem tw_317 : (.code ⟨"GrowFormsModel", "settle", "()I"⟩ prog_3_method_10_code 4 (some .int) : Cond) ∈ gwl := gw_in 317 (by decide +kernel) rfl
theorem tw_318 : (.methodLink "GrowFormsModel" 46 ⟨"GrowFormsModel", "address", "(I)I"⟩ : Cond) ∈ gwl := gw_in 318 (by decide +kernel) rfl
theorem tw_320 : (.instanceMethod ⟨"GrowFormsModel", "address", "(I)I"⟩ : Cond) ∈ gwl := gw_in 320 (by decide +kernel) rfl
theorem tw_321 : (.code ⟨"GrowFormsModel", "address", "(I)I"⟩ prog_3_method_7_code 4 (some .int) : Cond) ∈ gwl := gw_in 321 (by decide +kernel) rfl
theorem tw_322 : (.methodLink "GrowFormsModel" 56 ⟨"GrowFormsModel", "isFitting", "(I)Z"⟩ : Cond) ∈ gwl := gw_in 322 (by decide +kernel) rfl
theorem tw_324 : (.instanceMethod ⟨"GrowFormsModel", "isFitting", "(I)Z"⟩ : Cond) ∈ gwl := gw_in 324 (by decide +kernel) rfl
theorem tw_325 : (.code ⟨"GrowFormsModel", "isFitting", "(I)Z"⟩ prog_3_method_9_code 7 (some .boolean) : Cond) ∈ gwl := gw_in 325 (by decide +kernel) rfl
theorem tw_326 : (.methodLink "GrowFormsModel" 50 ⟨"GrowFormsModel", "worth", "(I)J"⟩ : Cond) ∈ gwl := gw_in 326 (by decide +kernel) rfl
theorem tw_328 : (.instanceMethod ⟨"GrowFormsModel", "worth", "(I)J"⟩ : Cond) ∈ gwl := gw_in 328 (by decide +kernel) rfl
theorem tw_329 : (.code ⟨"GrowFormsModel", "worth", "(I)J"⟩ prog_3_method_8_code 4 (some .long) : Cond) ∈ gwl := gw_in 329 (by decide +kernel) rfl
theorem tw_330 : (.constantLong "GrowFormsModel" 54 (2) : Cond) ∈ gwl := gw_in 330 (by decide +kernel) rfl
theorem tw_331 : (.methodLink "GrowFormsLaw" 74 ⟨"GrowFormsModel", "told", "(II)I"⟩ : Cond) ∈ gwl := gw_in 331 (by decide +kernel) rfl
theorem tw_332 : (.instanceMethod ⟨"GrowFormsModel", "told", "(II)I"⟩ : Cond) ∈ gwl := gw_in 332 (by decide +kernel) rfl
theorem tw_333 : (.selects "GrowFormsModel" ⟨"GrowFormsModel", "told", "(II)I"⟩ ⟨"GrowFormsModel", "told", "(II)I"⟩ : Cond) ∈ gwl := gw_in 333 (by decide +kernel) rfl
theorem tw_334 : (.code ⟨"GrowFormsModel", "told", "(II)I"⟩ prog_3_method_11_code 3 (some .int) : Cond) ∈ gwl := gw_in 334 (by decide +kernel) rfl
theorem tw_335 : (.methodLink "GrowFormsLaw" 78 ⟨"GrowFormsModel", "value", "(I)J"⟩ : Cond) ∈ gwl := gw_in 335 (by decide +kernel) rfl
theorem tw_336 : (.instanceMethod ⟨"GrowFormsModel", "value", "(I)J"⟩ : Cond) ∈ gwl := gw_in 336 (by decide +kernel) rfl
theorem tw_337 : (.selects "GrowFormsModel" ⟨"GrowFormsModel", "value", "(I)J"⟩ ⟨"GrowFormsModel", "value", "(I)J"⟩ : Cond) ∈ gwl := gw_in 337 (by decide +kernel) rfl
theorem tw_338 : (.code ⟨"GrowFormsModel", "value", "(I)J"⟩ prog_3_method_12_code 2 (some .long) : Cond) ∈ gwl := gw_in 338 (by decide +kernel) rfl
theorem tw_339 : (.methodLink "GrowFormsLaw" 81 ⟨"GrowFormsModel", "wrong", "()I"⟩ : Cond) ∈ gwl := gw_in 339 (by decide +kernel) rfl
theorem tw_340 : (.instanceMethod ⟨"GrowFormsModel", "wrong", "()I"⟩ : Cond) ∈ gwl := gw_in 340 (by decide +kernel) rfl
theorem tw_341 : (.selects "GrowFormsModel" ⟨"GrowFormsModel", "wrong", "()I"⟩ ⟨"GrowFormsModel", "wrong", "()I"⟩ : Cond) ∈ gwl := gw_in 341 (by decide +kernel) rfl
theorem tw_342 : (.code ⟨"GrowFormsModel", "wrong", "()I"⟩ prog_3_method_13_code 2 (some .int) : Cond) ∈ gwl := gw_in 342 (by decide +kernel) rfl
theorem tw_343 : (.arrayClass .long : Cond) ∈ gwl := gw_in 343 (by decide +kernel) rfl
theorem tw_344 : (.sameMethod "java/lang/Throwable" "java/lang/Throwable" "fillInStackTrace" "(I)Ljava/lang/Throwable;" : Cond) ∈ gwl := gw_in 344 (by decide +kernel) rfl
-- ===== the words that aren't steady, and the two statics =====
def gxa : List Cond := [.castable "java/lang/IllegalStateException" "java/lang/IllegalStateException", .castable "java/lang/IllegalArgumentException" "java/lang/IllegalArgumentException", .castable "java/lang/IndexOutOfBoundsException" "java/lang/IndexOutOfBoundsException", .castable "java/lang/UnsupportedOperationException" "java/lang/UnsupportedOperationException", .declares ⟨"java/lang/RuntimeException", "<init>", "()V"⟩, .declares ⟨"java/lang/Exception", "<init>", "()V"⟩, .declares ⟨"java/lang/Throwable", "<init>", "()V"⟩]
abbrev gs_st : String := "[Ljava/lang/StackTraceElement;"
abbrev gs_li : String := "Ljava/util/List;"
abbrev gs_T : String := "java/lang/Throwable"
def gxb : List Cond := [.laysStatic gs_T "UNASSIGNED_STACK" gs_st, .laysStatic gs_T "SUPPRESSED_SENTINEL" gs_li, .isRef (.static gs_T "UNASSIGNED_STACK" gs_st), .isRef (.static gs_T "SUPPRESSED_SENTINEL" gs_li)]
-- ===== methods =====
abbrev y_gf_init : MethodName := ⟨"GrowForms", "<init>", "()V"⟩
abbrev y_gf_clear : MethodName := ⟨"GrowForms", "clear", "()I"⟩
abbrev y_gl_line : MethodName := ⟨"GrowFormsLaw", "line", "(LGrowForms;[J)I"⟩
abbrev y_gf_line : MethodName := ⟨"GrowForms", "line", "()I"⟩
abbrev y_gl_form : MethodName := ⟨"GrowFormsLaw", "form", "(LGrowForms;III[J)I"⟩
abbrev y_gf_form : MethodName := ⟨"GrowForms", "form", "(III)I"⟩
abbrev y_gf_in : MethodName := ⟨"GrowForms", "in", "(JJJ)Z"⟩
abbrev y_gl_aim : MethodName := ⟨"GrowFormsLaw", "aim", "(LGrowForms;III)I"⟩
abbrev y_gf_aim : MethodName := ⟨"GrowForms", "aim", "(III)V"⟩
abbrev y_gf_there : MethodName := ⟨"GrowForms", "there", "(Z)V"⟩
abbrev y_gl_settle : MethodName := ⟨"GrowFormsLaw", "settle", "(LGrowForms;[J)I"⟩
abbrev y_gf_settle : MethodName := ⟨"GrowForms", "settle", "()I"⟩
abbrev y_gf_fits : MethodName := ⟨"GrowForms", "fits", "(I)Z"⟩
abbrev y_gf_valueOf : MethodName := ⟨"GrowForms", "valueOf", "(I)J"⟩
abbrev y_gf_grow : MethodName := ⟨"GrowForms", "grow", "(I)V"⟩
abbrev y_gl_told : MethodName := ⟨"GrowFormsLaw", "told", "(LGrowForms;II[J)I"⟩
abbrev y_gf_told : MethodName := ⟨"GrowForms", "told", "(II)I"⟩
abbrev y_gf_isSettled : MethodName := ⟨"GrowForms", "isSettled", "()V"⟩
abbrev y_gl_value : MethodName := ⟨"GrowFormsLaw", "value", "(LGrowForms;I[J)I"⟩
abbrev y_gf_value : MethodName := ⟨"GrowForms", "value", "(I)J"⟩
abbrev y_gl_wrong : MethodName := ⟨"GrowFormsLaw", "wrong", "(LGrowForms;[J)I"⟩
abbrev y_gf_wrong : MethodName := ⟨"GrowForms", "wrong", "()I"⟩
abbrev y_gm_init : MethodName := ⟨"GrowFormsModel", "<init>", "()V"⟩
abbrev y_gm_thrown : MethodName := ⟨"GrowFormsModel", "thrown", "()I"⟩
abbrev y_gm_line : MethodName := ⟨"GrowFormsModel", "line", "()I"⟩
abbrev y_gm_form : MethodName := ⟨"GrowFormsModel", "form", "(III)I"⟩
abbrev y_gm_aim : MethodName := ⟨"GrowFormsModel", "aim", "(III)V"⟩
abbrev y_gm_clear : MethodName := ⟨"GrowFormsModel", "clear", "()I"⟩
abbrev y_gm_settle : MethodName := ⟨"GrowFormsModel", "settle", "()I"⟩
abbrev y_gm_address : MethodName := ⟨"GrowFormsModel", "address", "(I)I"⟩
abbrev y_gm_isFitting : MethodName := ⟨"GrowFormsModel", "isFitting", "(I)Z"⟩
abbrev y_gm_worth : MethodName := ⟨"GrowFormsModel", "worth", "(I)J"⟩
abbrev y_gm_told : MethodName := ⟨"GrowFormsModel", "told", "(II)I"⟩
abbrev y_gm_value : MethodName := ⟨"GrowFormsModel", "value", "(I)J"⟩
abbrev y_gm_wrong : MethodName := ⟨"GrowFormsModel", "wrong", "()I"⟩
def F_GF : u_T := fun k => match k with
  | 0 => ("GrowForms", "forms", "[I", true)
  | 1 => ("GrowForms", "size", "[I", true)
  | 2 => ("GrowForms", "bits", "[I", true)
  | 3 => ("GrowForms", "sort", "[I", true)
  | 4 => ("GrowForms", "target", "[I", true)
  | 5 => ("GrowForms", "offset", "[I", true)
  | 6 => ("GrowForms", "has", "[I", true)
  | 7 => ("GrowForms", "address", "[I", true)
  | 8 => ("GrowForms", "grows", "[I", true)
  | 9 => ("GrowForms", "lines", "I", false)
  | _ => ("GrowForms", "settled", "Z", false)
def t_GF : Nat → FieldType := fun k => match k with
  | 0 => .array .int
  | 1 => .array .int
  | 2 => .array .int
  | 3 => .array .int
  | 4 => .array .int
  | 5 => .array .int
  | 6 => .array .int
  | 7 => .array .int
  | 8 => .array .int
  | 9 => .int
  | _ => .boolean
def x_GF : Nat → Nat := fun k => match k with
  | 0 => 9
  | 1 => 13
  | 2 => 16
  | 3 => 19
  | 4 => 22
  | 5 => 25
  | 6 => 28
  | 7 => 31
  | 8 => 34
  | 9 => 47
  | _ => 40
def F_GM : u_T := fun k => match k with
  | 0 => ("GrowFormsModel", "many", "[I", true)
  | 1 => ("GrowFormsModel", "size", "[I", true)
  | 2 => ("GrowFormsModel", "bits", "[I", true)
  | 3 => ("GrowFormsModel", "sort", "[I", true)
  | 4 => ("GrowFormsModel", "target", "[I", true)
  | 5 => ("GrowFormsModel", "offset", "[I", true)
  | 6 => ("GrowFormsModel", "now", "[I", true)
  | 7 => ("GrowFormsModel", "grows", "[Z", true)
  | 8 => ("GrowFormsModel", "lines", "I", false)
  | 9 => ("GrowFormsModel", "thrown", "I", false)
  | _ => ("GrowFormsModel", "isSettled", "Z", false)
def t_GM : Nat → FieldType := fun k => match k with
  | 0 => .array .int
  | 1 => .array .int
  | 2 => .array .int
  | 3 => .array .int
  | 4 => .array .int
  | 5 => .array .int
  | 6 => .array .int
  | 7 => .array .boolean
  | 8 => .int
  | 9 => .int
  | _ => .boolean
def x_GM : Nat → Nat := fun k => match k with
  | 0 => 9
  | 1 => 13
  | 2 => 16
  | 3 => 19
  | 4 => 22
  | 5 => 25
  | 6 => 28
  | 7 => 31
  | 8 => 39
  | 9 => 35
  | _ => 42
def F_00 : u_T := fun _ => ("", "", "", false)
theorem n_GF : ∀ a, a < 11 → ∀ b, b < 11 → a ≠ b → (F_GF a).2.1 ≠ (F_GF b).2.1 := by decide +kernel
theorem n_GM : ∀ a, a < 11 → ∀ b, b < 11 → a ≠ b → (F_GM a).2.1 ≠ (F_GM b).2.1 := by decide +kernel
theorem t_GF_ok : ∀ k, k < 11 → parseFieldDescriptor (F_GF k).2.2.1 = some (t_GF k) := by decide +kernel
theorem t_GM_ok : ∀ k, k < 11 → parseFieldDescriptor (F_GM k).2.2.1 = some (t_GM k) := by decide +kernel
theorem u_GF_in : ∀ w ∈ u_ws "GrowForms" F_GF 11, w ∈ gwl := by decide +kernel
theorem u_GM_in : ∀ w ∈ u_ws "GrowFormsModel" F_GM 11, w ∈ gwl := by decide +kernel
theorem x_GF_in : ∀ k, k < 11 → Cond.fieldLink "GrowForms" (x_GF k) "GrowForms" (F_GF k).2.1 (F_GF k).2.2.1 ∈ gwl := by decide +kernel
theorem x_GM_in : ∀ k, k < 11 → Cond.fieldLink "GrowFormsModel" (x_GM k) "GrowFormsModel" (F_GM k).2.1 (F_GM k).2.2.1 ∈ gwl := by decide +kernel
abbrev gs_I : String := "java/lang/IllegalStateException"
abbrev gs_A : String := "java/lang/IllegalArgumentException"
abbrev gs_O : String := "java/lang/IndexOutOfBoundsException"
abbrev gs_U : String := "java/lang/UnsupportedOperationException"
abbrev gcl : List vw_C := [("GrowForms", F_GF, 11), ("GrowFormsModel", F_GM, 11), (gs_I, F_00, 0), (gs_A, F_00, 0), (gs_O, F_00, 0), (gs_U, F_00, 0)]
end
section
-- ===== contracts that may end by a throw; calls, throws and catches (the kit has rows for returns alone) =====
/-- an end of either kind: the frame of it -/
def gx_End (st : State) (o : Outcome) (t : State) (L : List Loc) (k n : Nat) : Prop :=
  ((∃ v, o = .returned v) ∨ ∃ x, o = .threw x) ∧ st.WarmedH t.vm ∧ st.sameButNew ({ t with vm := st.vm } : State) L k n
def gx_MQ (below : List Frame) (Po : Heap → Outcome → Heap → Prop) (s : State) (mc ms : Nat) (free : Addr → Prop) : State → Prop := fun t =>
  ∃ o, t.status = .running ∧ Ended t below o ∧ Po s.heap o t.heap ∧ ∃ L, gx_End s o t L mc ms ∧ ∀ q ∈ L, free q.base
abbrev gx_Tab (c : Code) : List (Nat × Nat × Nat × Nat) := c.exceptionTable.toList.map (fun h => (h.startPc, h.endPc, h.handlerPc, h.catchType))
/-- what is known of a method at its entry -/
def gF (y : MethodName) (cc : ByteArray) (maxL : Nat) (ret : Option FieldType) (hs : List (Nat × Nat × Nat × Nat)) (p : Program) (s : State) (m : MethodId) (meth : Method) (c : Code) : Prop :=
  p.tables.exec = Jvm.exec ∧ c.code = cc ∧ c.maxLocals = maxL ∧ meth.sig.returnType = ret ∧ meth.locks = false ∧ s.vm.findClass y.cls = some m.cls ∧ meth.name = y.name ∧ gx_Tab c = hs
/-- a method's contract: from its entry, with the room rm, wherever Pc holds, it comes to an end with Po; at most mc cells of ms slots are new; of the old ones only those of 'free' are written -/
def GMet (l : Launch) (y : MethodName) (cc : ByteArray) (maxL : Nat) (ret : Option FieldType) (hs : List (Nat × Nat × Nat × Nat)) (rm : Room) (Pc : Array Value → State → Prop) (Po : Heap → Outcome → Heap → Prop) (mc ms : Nat) (free : Addr → Prop) : Prop :=
  ∀ (p : Program) (e : Env) (s : State) (m : MethodId) (args : Array Value) (below : List Frame) (meth : Method) (c : Code), gF y cc maxL ret hs p s m meth c → Pc args s →
    W p l e rm s m args below meth c s.heap [] 0 0 (gx_MQ below Po s mc ms free) (entryFrame m args maxL)
/-- the walk with an exception x in flight over the frame g -/
def gx_WT (p : Program) (l : Launch) (e : Env) (R : Room) (s : State) (m : MethodId) (args : Array Value) (below : List Frame) (meth : Method) (c : Code) (H : Heap) (locs : List Loc) (cells slots : Nat) (Q : State → Prop) (g : JFrame) (x : Addr) : Prop :=
  ∀ T : State, T.heap = H → Stand p l e R s m args below meth c T locs cells slots → ∃ t, Steps p.tables e below ((T.setTop g).pushFrame (.throwing x)) t ∧ Q t
def gMd (y : MethodName) (cc : ByteArray) (maxL : Nat) (ret : Option FieldType) (hs : List (Nat × Nat × Nat × Nat)) (U : State) : Prop :=
  ∃ (mk : MethodId) (methk : Method) (ck : Code), U.methodNamed? y = some mk ∧ U.vm.method? mk = some methk ∧ methk.code = some ck ∧ ck.code = cc ∧ ck.maxLocals = maxL ∧ gx_Tab ck = hs ∧ methk.sig.returnType = ret ∧ methk.locks = false ∧ parseMethodDescriptor y.desc = some methk.sig
theorem gMd_code {y : MethodName} {cc : ByteArray} {maxL : Nat} {ret : Option FieldType} {U : State} {a : Array Value} (h : (Cond.code y cc maxL ret).before a U = true) : gMd y cc maxL ret [] U := by
  obtain ⟨mk, hn⟩ := Cond.code_named h
  obtain ⟨methk, ck, h1, h2, h3, h4, h5, h6, h7, h8⟩ := Cond.code_spec hn h
  refine ⟨mk, methk, ck, hn, h1, h2, h3, h4, ?_, h5, h6, h8⟩
  have h0 : ck.exceptionTable.size = 0 := by simpa [Array.isEmpty] using h7
  have h9 : ck.exceptionTable.toList = [] := List.eq_nil_of_length_eq_zero (by simpa using h0)
  show ck.exceptionTable.toList.map _ = []
  rw [h9]; rfl
theorem gMd_with {y : MethodName} {cc : ByteArray} {maxL : Nat} {ret : Option FieldType} {hs : List (Nat × Nat × Nat × Nat)} {U : State} {a : Array Value} (h : (Cond.codeWith y cc maxL ret hs).before a U = true) : gMd y cc maxL ret hs U := by
  obtain ⟨mk, methk, ck, h1, h2, h3, h4, h5, h6, h7, h8, h9⟩ := Cond.codeWith_spec h
  exact ⟨mk, methk, ck, h1, h2, h3, h4, h5, h6, h7, h8, h9⟩
theorem gx_weaken {tb : Tables} {e : Env} {g : Frame} {below : List Frame} {a b : State} (h : Steps tb e (g :: below) a b) : Steps tb e below a b := by
  obtain ⟨n, h1, h2⟩ := h
  refine ⟨n, h1, fun k hk => ?_⟩
  obtain ⟨ab, e1, e2, e3⟩ := h2 k hk
  refine ⟨ab ++ [g], by rw [e1]; simp, by simp, fun a ha => ?_⟩
  cases ab with
  | nil => exact e2 rfl
  | cons x xs => simp at ha
section GX1
variable {p : Program} {l : Launch} {e : Env} {R : Room} {s : State} {m : MethodId} {args : Array Value} {below : List Frame} {meth : Method} {c : Code} {H : Heap} {locs : List Loc} {cells slots : Nat} {Q : State → Prop}
theorem gx_mono {Q' : State → Prop} {g : JFrame} (h : ∀ t, Q t → Q' t) (k : W p l e R s m args below meth c H locs cells slots Q g) : W p l e R s m args below meth c H locs cells slots Q' g := by
  intro T hT X
  obtain ⟨t, a, b⟩ := k T hT X
  exact ⟨t, a, h t b⟩
theorem gx_ofMQ {Po : Heap → Outcome → Heap → Prop} {mc ms : Nat} {free : Addr → Prop} (t : State) (h : MQ below (fun _ st o t => Po st.heap o t.heap) args s mc ms free t) : gx_MQ below Po s mc ms free t := by
  obtain ⟨o, h1, h2, h3, L, ⟨h4, h5, h6⟩, h7⟩ := h
  exact ⟨o, h1, h2, h3, L, ⟨Or.inl h4, h5, h6⟩, h7⟩
variable {cc : ByteArray} {pc : Nat} {ls : Array Slot} {Po : Heap → Outcome → Heap → Prop} {free : Addr → Prop}
theorem gx_iret {v : Int32} (hx : p.tables.exec = Jvm.exec) (hb : c.code = cc) (hr : meth.sig.returnType = some .int) (hlocks : meth.locks = false) (hdg : decode cc pc = .ok (.ireturn, 1)) (hf : ∀ q ∈ locs, free q.base)
    (hq : Po s.heap (.returned (some (.int v))) H) : W p l e R s m args below meth c H locs cells slots (gx_MQ below Po s cells slots free) (F0 m pc ls [.int v]) :=
  gx_mono (fun t h => gx_ofMQ (args := args) t h) (W.iret (Qc := fun _ st o t => Po st.heap o t.heap) hx hb hr (fun t ht _ => by rw [ht]; exact hq) hf hdg hlocks)
theorem gx_zret {v : Int32} (hx : p.tables.exec = Jvm.exec) (hb : c.code = cc) (hr : meth.sig.returnType = some .boolean) (hn : narrow .boolean (.int v) = .int v) (hlocks : meth.locks = false) (hdg : decode cc pc = .ok (.ireturn, 1)) (hf : ∀ q ∈ locs, free q.base)
    (hq : Po s.heap (.returned (some (.int v))) H) : W p l e R s m args below meth c H locs cells slots (gx_MQ below Po s cells slots free) (F0 m pc ls [.int v]) :=
  gx_mono (fun t h => gx_ofMQ (args := args) t h) (W.zret (Qc := fun _ st o t => Po st.heap o t.heap) hx hb hr hn (fun t ht _ => by rw [ht]; exact hq) hf hdg hlocks)
theorem gx_lret {v : Int64} (hx : p.tables.exec = Jvm.exec) (hb : c.code = cc) (hr : meth.sig.returnType = some .long) (hlocks : meth.locks = false) (hdg : decode cc pc = .ok (.lreturn, 1)) (hf : ∀ q ∈ locs, free q.base)
    (hq : Po s.heap (.returned (some (.long v))) H) : W p l e R s m args below meth c H locs cells slots (gx_MQ below Po s cells slots free) (F0 m pc ls [.long v]) :=
  gx_mono (fun t h => gx_ofMQ (args := args) t h) (W.lret (Qc := fun _ st o t => Po st.heap o t.heap) hx hb hr (fun t ht _ => by rw [ht]; exact hq) hf hdg hlocks)
theorem gx_vret (hx : p.tables.exec = Jvm.exec) (hb : c.code = cc) (hr : meth.sig.returnType = none) (hlocks : meth.locks = false) (hdg : decode cc pc = .ok (.return_, 1)) (hf : ∀ q ∈ locs, free q.base)
    (hq : Po s.heap (.returned none) H) : W p l e R s m args below meth c H locs cells slots (gx_MQ below Po s cells slots free) (F0 m pc ls []) :=
  gx_mono (fun t h => gx_ofMQ (args := args) t h) (W.vret (Qc := fun _ st o t => Po st.heap o t.heap) hx hb hr (fun t ht _ => by rw [ht]; exact hq) hf hdg hlocks)
/-- an exception leaves a method that has no handlers -/
theorem gx_leave {x : Addr} {st : List Value} (hlocks : meth.locks = false) (hex : gx_Tab c = []) (hf : ∀ q ∈ locs, free q.base) (hq : Po s.heap (.threw x) H) : gx_WT p l e R s m args below meth c H locs cells slots (gx_MQ below Po s cells slots free) (F0 m pc ls st) x := by
  intro T hT X
  have hex2 : c.exceptionTable.toList = [] := List.map_eq_nil_iff.mp hex
  obtain ⟨h1, h2, h3, h4, h5⟩ := X.leaveThrown x (g := F0 m pc ls st) rfl rfl rfl (by rw [hex2]; intro y hy; cases hy) hlocks
  refine ⟨_, h1, .threw x, h2, h3, ?_, locs, ⟨Or.inr ⟨x, rfl⟩, h4, h5⟩, hf⟩
  show Po s.heap (.threw x) T.heap
  rw [hT]; exact hq
theorem gx_widenT {g : JFrame} {x : Addr} {k n : Nat} (h1 : cells ≤ k) (h2 : slots ≤ n) (kk : gx_WT p l e R s m args below meth c H locs k n Q g x) : gx_WT p l e R s m args below meth c H locs cells slots Q g x := fun T hT X => kk T hT (stand_widen X h1 h2)
theorem gx_enter {y : MethodName} {cy : ByteArray} {maxL : Nat} {ret : Option FieldType} {hs : List (Nat × Nat × Nat × Nat)} {rm : Room} {Pc : Array Value → State → Prop} {mc ms : Nat} {U : State}
    (hM : GMet l y cy maxL ret hs rm Pc Po mc ms free) (X : Stand p l e R s m args below meth c U locs cells slots) (hx : p.tables.exec = Jvm.exec)
    {g : JFrame} (hg : g.method = m) (hsize : g.locals.size = c.maxLocals) {ig : Instr} {len : Nat} (hdg : decode c.code g.pc = .ok (ig, len))
    {mk : MethodId} {methk : Method} {ck : Code} (hn : s.methodNamed? y = some mk) (hmk : s.vm.method? mk = some methk) (hck : methk.code = some ck) (hcc : ck.code = cy) (hml : ck.maxLocals = maxL) (hhs : gx_Tab ck = hs) (hret : methk.sig.returnType = ret) (hlk : methk.locks = false)
    (hpl : plainName y.cls = true) (hW : 2 * g.monitorRoom + (g.stack.map fun v => v.category).sum ≤ 8) (hRf : rm.frames + 1 ≤ R.frames) (hRl : 8 + (maxL + 11) + rm.locals ≤ R.locals) (hRc : cells + rm.cells ≤ R.cells) (hRs : slots + rm.slots ≤ R.slots)
    (a : Array Value) (hP : Pc a (U.calling g mk a)) :
    (∃ (v : Option Value) (T' : State) (L : List Loc), Stand p l e R s m args below meth c T' (locs ++ L) (cells + mc) (slots + ms) ∧ (∀ q ∈ L, free q.base) ∧ Po U.heap (.returned v) T'.heap ∧ Steps p.tables e below (doInvoke e (U.setTop g) [] mk a).1 (T'.setTop { g with pc := g.pc + len, stack := v.toList ++ g.stack })) ∨
    (∃ (x : Addr) (T' : State) (L : List Loc), Stand p l e R s m args below meth c T' (locs ++ L) (cells + mc) (slots + ms) ∧ (∀ q ∈ L, free q.base) ∧ Po U.heap (.threw x) T'.heap ∧ Steps p.tables e below (doInvoke e (U.setTop g) [] mk a).1 ((T'.setTop g).pushFrame (.throwing x))) := by
  subst hml
  obtain ⟨kk, hkk, hkn⟩ := className_of_methodNamed hn
  have hal := X.warmed.alike
  have hmk' : U.vm.method? mk = some methk := by rw [hal.method?]; exact hmk
  have hpk : U.plainMethod mk := State.plainMethod.of_name (fun k' hk' => by
    obtain ⟨k2, hk2, he2⟩ := hal.2.2 _ _ hkk
    cases hk'.symm.trans hk2
    rw [he2]
    show plainName kk.name = true
    rw [hkn]; exact hpl)
  obtain ⟨Y, hst⟩ := X.into hg hsize hdg a (R' := rm) hmk' hck hlk hpk hRf (by omega) hRc hRs
  have hF : gF y cy ck.maxLocals ret hs p (U.calling g mk a) mk methk ck := ⟨hx, hcc, rfl, hret, hlk, (by
    show U.vm.findClass y.cls = some mk.cls
    rw [hal.findClass]; exact findClass_of_methodNamed hn), (name_of_methodNamed hn hmk).1, hhs⟩
  obtain ⟨t, hs1, o, hrun, hend, hpo, L, ⟨hk, hWt, hsame⟩, hL⟩ := hM p e (U.calling g mk a) mk a (.java g :: below) methk ck hF hP ((U.setTop g).pushFrame (.java (entryFrame mk a ck.maxLocals))) rfl Y
  have hs2 : Steps p.tables e below (doInvoke e (U.setTop g) [] mk a).1 t := by
    rw [hst]
    exact gx_weaken hs1
  rcases hk with ⟨v, rfl⟩ | ⟨x, rfl⟩
  · obtain ⟨T', X', hW', hB, ht⟩ := X.outOf hg hdg hend hWt hsame
    have hh : t.heap = T'.heap := by
      have h1 := congrArg State.heap ht
      simpa using h1
    refine Or.inl ⟨v, T', L, X', hL, ?_, by rw [← ht]; exact hs2⟩
    rw [← hh]; exact hpo
  · obtain ⟨T', X', hW', hB, ht⟩ := X.outOfThrown hg hend hWt hsame
    have hh : t.heap = T'.heap := by
      have h1 := congrArg State.heap ht
      rw [Stand.throwing_heap] at h1
      exact h1
    refine Or.inr ⟨x, T', L, X', hL, ?_, by rw [← ht]; exact hs2⟩
    rw [← hh]; exact hpo
variable {y : MethodName} {cy : ByteArray} {maxL : Nat} {ret : Option FieldType} {hs : List (Nat × Nat × Nat × Nat)} {rm : Room} {Pc : Array Value → State → Prop} {mc ms : Nat} {own : String} {index : Nat} {st0 : List Value}
theorem gx_virt (hM : GMet l y cy maxL ret hs rm Pc Po mc ms free) (As : List Value) (b : Nat) (rest : List Value) (hx : p.tables.exec = Jvm.exec) (hb : c.code = cc) (hml : c.maxLocals = ls.size) (hown : s.vm.findClass own = some m.cls)
    (hd : gMd y cy maxL ret hs s) (hlink : (Cond.methodLink own index y).before args s = true) (hinst : (Cond.instanceMethod y).before args s = true) (hsel : (Cond.selects y.cls y y).before args s = true)
    (hy : y.cls ≠ "java/lang/invoke/MethodHandle" ∧ y.cls ≠ "java/lang/invoke/VarHandle") (hpl : plainName y.cls = true) (hn : (parseMethodDescriptor y.desc).map (fun d => d.parameters.length) = some As.length)
    (hrecv : ∃ cellB : Cell, H[b]? = some cellB ∧ cellB.vm.isStatics = false ∧ s.vm.findClass y.cls = some cellB.cls)
    (hP : ∀ U : State, U.heap = H → s.WarmedH U.vm → Pc (Value.ref b :: As).toArray U)
    (hW : (rest.map fun v => v.category).sum ≤ 8) (hR : rm.frames + 1 ≤ R.frames ∧ 8 + (maxL + 11) + rm.locals ≤ R.locals) (hc : cells + rm.cells ≤ R.cells ∧ slots + rm.slots ≤ R.slots)
    (hdg : decode cc pc = .ok (.invokevirtual index, 3)) (hst : st0 = As.reverse ++ .ref b :: rest)
    (kr : ∀ (v : Option Value) (H1 : Heap) (L : List Loc), Po H (.returned v) H1 → (∀ q ∈ L, free q.base) → W p l e R s m args below meth c H1 (locs ++ L) (cells + mc) (slots + ms) Q (F0 m (pc + 3) ls (v.toList ++ rest)))
    (kt : ∀ (x : Addr) (H1 : Heap) (L : List Loc), Po H (.threw x) H1 → (∀ q ∈ L, free q.base) → gx_WT p l e R s m args below meth c H1 (locs ++ L) (cells + mc) (slots + ms) Q (F0 m pc ls rest) x) :
    W p l e R s m args below meth c H locs cells slots Q (F0 m pc ls st0) := by
  intro T hT X
  obtain ⟨mk, methM, cM, hnamed, hmethM, hcM, hccM, hmlM, hhsM, hretM, hlkM, hsigM⟩ := hd
  obtain ⟨mk', methM', hnamed', hmethM', hstM, habM⟩ := Cond.instanceMethod_spec hinst
  cases hnamed.symm.trans hnamed'
  cases hmethM.symm.trans hmethM'
  obtain ⟨cellB, hcB, hoB, hclB⟩ := hrecv
  obtain ⟨c2, r2, m2, q1, q2, q3, q4, kP, hkP, hkPi⟩ := Cond.selects_spec hsel
  cases hclB.symm.trans q1
  cases (State.methodFound?_of_named hnamed hy).symm.trans q2
  cases hnamed.symm.trans q3
  have hselP : selectMethod e.platform s.vm cellB.cls mk = .method mk := by rw [Launch.admits_selectMethod X.admits]; exact q4
  have hlen : As.length = methM.sig.parameters.length := by rw [hsigM] at hn; exact (Option.some.inj hn).symm
  subst hb
  obtain ⟨vm₁, X₁, hstep₁⟩ := X.invokevirtual hx hown hlink hnamed hmethM hstM hkP hkPi hy (a := b) (cell := cellB) (by rw [hT]; exact hcB) (fun z h => by rw [h] at hoB; cases hoB) hselP hmethM habM hkP hkPi (g := F0 m pc ls st0) rfl (argsL := As) (rest := rest) hlen hst hdg
  rcases gx_enter hM X₁ hx (g := F0 m pc ls rest) rfl hml.symm hdg hnamed hmethM hcM hccM hmlM hhsM hretM hlkM hpl (lv_room hW) hR.1 hR.2 hc.1 hc.2 (Value.ref b :: As).toArray (hP _ hT X₁.warmed) with ⟨v, T', L, X', hL, hpo, hs⟩ | ⟨x, T', L, X', hL, hpo, hs⟩
  · obtain ⟨t, a1, b1⟩ := kr v T'.heap L (by rw [← hT]; exact hpo) hL T' rfl X'
    exact ⟨t, hstep₁ _ (fun acts => by rw [doInvoke_state]; exact hs.trans a1), b1⟩
  · obtain ⟨t, a1, b1⟩ := kt x T'.heap L (by rw [← hT]; exact hpo) hL T' rfl X'
    exact ⟨t, hstep₁ _ (fun acts => by rw [doInvoke_state]; exact hs.trans a1), b1⟩
theorem gx_stat (hM : GMet l y cy maxL ret hs rm Pc Po mc ms free) (As : List Value) (rest : List Value) (hx : p.tables.exec = Jvm.exec) (hb : c.code = cc) (hml : c.maxLocals = ls.size) (hown : s.vm.findClass own = some m.cls)
    (hd : gMd y cy maxL ret hs s) (hlink : (Cond.methodLink own index y).before args s = true) (hstat : (Cond.static y).before args s = true) (hini : (Cond.initialized y.cls).before args s = true)
    (hy : y.cls ≠ "java/lang/invoke/MethodHandle" ∧ y.cls ≠ "java/lang/invoke/VarHandle") (hpl : plainName y.cls = true) (hn : (parseMethodDescriptor y.desc).map (fun d => d.parameters.length) = some As.length)
    (hP : ∀ U : State, U.heap = H → s.WarmedH U.vm → Pc As.toArray U)
    (hW : (rest.map fun v => v.category).sum ≤ 8) (hR : rm.frames + 1 ≤ R.frames ∧ 8 + (maxL + 11) + rm.locals ≤ R.locals) (hc : cells + rm.cells ≤ R.cells ∧ slots + rm.slots ≤ R.slots)
    (hdg : decode cc pc = .ok (.invokestatic index, 3)) (hst : st0 = As.reverse ++ rest)
    (kr : ∀ (v : Option Value) (H1 : Heap) (L : List Loc), Po H (.returned v) H1 → (∀ q ∈ L, free q.base) → W p l e R s m args below meth c H1 (locs ++ L) (cells + mc) (slots + ms) Q (F0 m (pc + 3) ls (v.toList ++ rest)))
    (kt : ∀ (x : Addr) (H1 : Heap) (L : List Loc), Po H (.threw x) H1 → (∀ q ∈ L, free q.base) → gx_WT p l e R s m args below meth c H1 (locs ++ L) (cells + mc) (slots + ms) Q (F0 m pc ls rest) x) :
    W p l e R s m args below meth c H locs cells slots Q (F0 m pc ls st0) := by
  intro T hT X
  obtain ⟨mk, methM, cM, hnamed, hmethM, hcM, hccM, hmlM, hhsM, hretM, hlkM, hsigM⟩ := hd
  have hstatic : methM.isStatic = true := Cond.static_spec hnamed hmethM hstat
  obtain ⟨kP, hkP, -⟩ := className_of_methodNamed hnamed
  have hinitP : kP.init = .initialized := Cond.initialized_spec (findClass_of_methodNamed hnamed) hkP hini
  have hlen : As.length = methM.sig.parameters.length := by rw [hsigM] at hn; exact (Option.some.inj hn).symm
  subst hb
  obtain ⟨vm₁, X₁, hstep₁⟩ := X.invokestatic hx hown hlink hnamed hmethM hstatic hkP hinitP hy (g := F0 m pc ls st0) rfl (argsL := As) (rest := rest) hlen hst hdg
  rcases gx_enter hM X₁ hx (g := F0 m pc ls rest) rfl hml.symm hdg hnamed hmethM hcM hccM hmlM hhsM hretM hlkM hpl (lv_room hW) hR.1 hR.2 hc.1 hc.2 As.toArray (hP _ hT X₁.warmed) with ⟨v, T', L, X', hL, hpo, hs⟩ | ⟨x, T', L, X', hL, hpo, hs⟩
  · obtain ⟨t, a1, b1⟩ := kr v T'.heap L (by rw [← hT]; exact hpo) hL T' rfl X'
    exact ⟨t, hstep₁ _ (fun acts => by rw [doInvoke_state]; exact hs.trans a1), b1⟩
  · obtain ⟨t, a1, b1⟩ := kt x T'.heap L (by rw [← hT]; exact hpo) hL T' rfl X'
    exact ⟨t, hstep₁ _ (fun acts => by rw [doInvoke_state]; exact hs.trans a1), b1⟩
theorem gx_init (hM : GMet l y cy maxL none [] rm Pc Po mc ms free) (As : List Value) (b : Nat) (rest : List Value) (hx : p.tables.exec = Jvm.exec) (hb : c.code = cc) (hml : c.maxLocals = ls.size) (hown : s.vm.findClass own = some m.cls)
    (hcode : (Cond.code y cy maxL none).before args s = true) (hlink : (Cond.methodLink own index y).before args s = true) (hinst : (Cond.instanceMethod y).before args s = true) (hy1 : y.name = "<init>")
    (hy : y.cls ≠ "java/lang/invoke/MethodHandle" ∧ y.cls ≠ "java/lang/invoke/VarHandle") (hpl : plainName y.cls = true) (hn : (parseMethodDescriptor y.desc).map (fun d => d.parameters.length) = some As.length)
    (hP : ∀ U : State, U.heap = H → s.WarmedH U.vm → Pc (Value.ref b :: As).toArray U)
    (hW : (rest.map fun v => v.category).sum ≤ 8) (hR : rm.frames + 1 ≤ R.frames ∧ 8 + (maxL + 11) + rm.locals ≤ R.locals) (hc : cells + rm.cells ≤ R.cells ∧ slots + rm.slots ≤ R.slots)
    (hdg : decode cc pc = .ok (.invokespecial index, 3)) (hst : st0 = As.reverse ++ .ref b :: rest)
    (kr : ∀ (v : Option Value) (H1 : Heap) (L : List Loc), Po H (.returned v) H1 → (∀ q ∈ L, free q.base) → W p l e R s m args below meth c H1 (locs ++ L) (cells + mc) (slots + ms) Q (F0 m (pc + 3) ls (v.toList ++ rest)))
    (kt : ∀ (x : Addr) (H1 : Heap) (L : List Loc), Po H (.threw x) H1 → (∀ q ∈ L, free q.base) → gx_WT p l e R s m args below meth c H1 (locs ++ L) (cells + mc) (slots + ms) Q (F0 m pc ls rest) x) :
    W p l e R s m args below meth c H locs cells slots Q (F0 m pc ls st0) := by
  intro T hT X
  have hpl0 : e.platform.magicAccessors = ({} : Platform).magicAccessors := by rw [X.admits.platform]
  subst hb
  obtain ⟨mk, methM, cM, kP, vm₁, hnamed, hmethM, hcM, hccM, hmlM, hlkM, hkP, -, hW₁, hstep₁⟩ := Steps.initColdArgs (e := e) X.here hx X.warmed hpl0 hown hy1 hy hlink hinst hcode (f := F0 m pc ls st0) rfl (argsL := As) (rest := rest) (fun sig h => by rw [h] at hn; exact (Option.some.inj hn).symm) hst hdg
  obtain ⟨mk', methM', cM', hnamed', hmethM', hcM', -, -, hhsM, hretM, -, -⟩ := gMd_code hcode
  cases hnamed.symm.trans hnamed'
  cases hmethM.symm.trans hmethM'
  cases hcM.symm.trans hcM'
  have X₁ := X.noted hW₁
  rcases gx_enter hM X₁ hx (g := F0 m pc ls rest) rfl hml.symm hdg hnamed hmethM hcM hccM hmlM hhsM hretM hlkM hpl (lv_room hW) hR.1 hR.2 hc.1 hc.2 (Value.ref b :: As).toArray (hP _ hT X₁.warmed) with ⟨v, T', L, X', hL, hpo, hs⟩ | ⟨x, T', L, X', hL, hpo, hs⟩
  · obtain ⟨t, a1, b1⟩ := kr v T'.heap L (by rw [← hT]; exact hpo) hL T' rfl X'
    exact ⟨t, hstep₁ _ (fun acts => by rw [doInvoke_state]; exact hs.trans a1), b1⟩
  · obtain ⟨t, a1, b1⟩ := kt x T'.heap L (by rw [← hT]; exact hpo) hL T' rfl X'
    exact ⟨t, hstep₁ _ (fun acts => by rw [doInvoke_state]; exact hs.trans a1), b1⟩
end GX1
-- ===== the catch, cold or warm =====
theorem gx_stepCatch {e : Env} {s s' : State} {a : Addr} {f : JFrame} {r : List Frame} {pc : Nat} (hfind : ∀ (Q : Handler → Pre) (E : CtlPost) (d : Bool) (acts : List Action), wp (findHandler f a) Q E e d acts s ↔ Q (.found pc) d acts s') :
    (stepThrowing e s a (.java f :: r)).Is (s'.setFrames (.java { f with pc := pc, stack := [.ref a] } :: r)) [] := by
  simp only [stepThrowing, searchFrame, vmDo]
  generalize hr : Sem.go _ e false [] s = res
  obtain ⟨as, rfl, ha⟩ := Sem.eq_ok_of hr (a := Handler.found pc) (s' := s') (acts' := []) (by simp [hfind _ _ _ _])
  exact ⟨rfl, ha⟩
theorem gx_caught {tb : Tables} {e : Env} {s target : State} {g : JFrame} {c : Code} {below : List Frame} {a : Addr} (h : At s g.method c below) {pc : Nat} {vm' : Vm}
    (hfind : ∀ (Q : Handler → Pre) (E : CtlPost) (d : Bool) (acts : List Action), wp (findHandler g a) Q E e d acts ((s.setTop g).pushFrame (.throwing a)) ↔ Q (.found pc) d acts (((s.setTop g).pushFrame (.throwing a)).setVm vm'))
    (hrest : Steps tb e below ((s.setVm vm').setTop { g with pc := pc, stack := [.ref a] }) target) : Steps tb e below ((s.setTop g).pushFrame (.throwing a)) target := by
  obtain ⟨hgo, hw⟩ := h.throwing a
  refine Steps.head hgo hw ?_
  rw [stepThread_throwing (frames_entered h.top _), (gx_stepCatch (s := (s.setTop g).pushFrame (.throwing a)) hfind).1]
  obtain ⟨g₀, hg⟩ := Option.isSome_iff_exists.mp h.top
  obtain ⟨r, hr⟩ := State.topJava?_eq_some.mp hg
  have hr' : (s.setVm vm').frames = .java g₀ :: r := hr
  rw [State.setTop_of_frames _ hr'] at hrest
  rw [State.pushFrame, State.setTop_of_frames _ hr, hr]
  have e1 : (((s.setFrames (.java g :: r)).setFrames (.throwing a :: (s.setFrames (.java g :: r)).frames)).setVm vm').setFrames (.java { g with pc := pc, stack := [.ref a] } :: r) = (s.setVm vm').setFrames (.java { g with pc := pc, stack := [.ref a] } :: r) := by
    show (((s.setFrames (.java g :: r)).setFrames (.throwing a :: (s.setFrames (.java g :: r)).frames)).setFrames (.java { g with pc := pc, stack := [.ref a] } :: r)).setVm vm' = (s.setFrames (.java { g with pc := pc, stack := [.ref a] } :: r)).setVm vm'
    rw [State.setFrames_setFrames, State.setFrames_setFrames]
  first | (rw [e1]; exact hrest) | (simp only [List.tail_cons]; rw [e1]; exact hrest)
/-- the row of the table that takes an exception of this kind -/
def gx_hit (s : State) (own : String) (args : Array Value) (cE : ClassId) (pc tgt : Nat) : List (Nat × Nat × Nat × Nat) → Prop
  | [] => False
  | (a, b, h, ct) :: t => (a ≤ pc ∧ pc < b) ∧ ct ≠ 0 ∧ ∃ (name : String) (cT : ClassId), (Cond.classLink own ct name).before args s = true ∧ s.vm.findClass name = some cT ∧ ((s.vm.assignable cE cT = true ∧ tgt = h) ∨ (s.vm.assignable cE cT = false ∧ gx_hit s own args cE pc tgt t))
theorem gx_find {e : Env} {s : State} {args : Array Value} {own : String} {f : JFrame} {a : Addr} {cell : Cell} {ks : Class} {tgt : Nat} (hpl : e.platform.magicAccessors = ({} : Platform).magicAccessors) (hown : s.vm.findClass own = some f.method.cls)
    (hobj : ∀ k, cell.vm ≠ .statics k) (hks : s.vm.classes[cell.cls]? = some ks) : ∀ (L : List ExceptionTableEntry) (U : State), s.WarmedH U.vm → U.heap[a]? = some cell → gx_hit s own args cell.cls f.pc tgt (L.map (fun h => (h.startPc, h.endPc, h.handlerPc, h.catchType))) →
    ∃ vm', s.WarmedH vm' ∧ ∀ (Q : Handler → Pre) (E : CtlPost) (d : Bool) (acts : List Action), wp (findHandler.go f a L) Q E e d acts U ↔ Q (.found tgt) d acts (U.setVm vm') := by
  intro L
  induction L with
  | nil => intro U _ _ h; exact h.elim
  | cons x t ih =>
    intro U hW hcell h
    obtain ⟨⟨c1, c2⟩, h0, name, cT, hlink, hcT, hor⟩ := h
    obtain ⟨c', hc', hcl⟩ := Cond.classLink_spec hown hlink e.platform hpl
    cases hcT.symm.trans hc'
    obtain ⟨dk, _, _, kt, hd, _, _, _, _, hkt, _, hopen⟩ := hcl.here
    have hcl₀ := hW.classLinks hcl
    have hW' : s.WarmedH (U.vm.noted f.method.cls x.catchType (.cls cT)) := hW.noted hd hopen (State.rightAt_cls hcl)
    have hg := resolveClass_links e.toSetting hcl₀
    have hsz : (U.vm.noted f.method.cls x.catchType (.cls cT)).classes.size ≤ U.vm.classes.size := by no_record
    obtain ⟨ks', hks', -⟩ := hW'.alike.2.2 _ _ hks
    obtain ⟨kt', hkt', -⟩ := hW'.alike.2.2 _ _ hkt
    have h1 : (U.vm.noted f.method.cls x.catchType (.cls cT)).assignable cell.cls cT = s.vm.assignable cell.cls cT := hW'.alike.assignable ..
    generalize U.vm.noted f.method.cls x.catchType (.cls cT) = vm1 at hW' hg hsz hks' hkt' h1
    have step : ∀ (Q : Handler → Pre) (E : CtlPost) (d : Bool) (acts : List Action), wp (findHandler.go f a (x :: t)) Q E e d acts U ↔
        if s.vm.assignable cell.cls cT = true then Q (.found x.handlerPc) d acts (U.setVm vm1) else wp (findHandler.go f a t) Q E e d acts (U.setVm vm1) := by
      intro Q E d acts
      obtain ⟨ha, ht⟩ := hg.op (op := VmOp.resolveClass f.method.cls x.catchType) rfl
      have hcell1 : (U.setVm vm1).heap[a]? = some cell := hcell
      have hks1 : (U.setVm vm1).vm.classes[cell.cls]? = some ks' := hks'
      have hkt1 : (U.setVm vm1).vm.classes[cT]? = some kt' := hkt'
      cases hfit : s.vm.assignable cell.cls cT <;> rw [hfit] at h1 <;>
        simp [findHandler.go, c1, c2, h0, ha, ht, hsz, hcell, hcell1, hobj, hks', hkt', hks1, hkt1, h1, VmOp.dirties, VmOp.acts]
    rcases hor with ⟨hy, rfl⟩ | ⟨hno, hrec⟩
    · exact ⟨vm1, hW', fun Q E d acts => (step Q E d acts).trans (by rw [if_pos hy])⟩
    · obtain ⟨vm', hW2, h2⟩ := ih (U.setVm vm1) hW' hcell hrec
      exact ⟨vm', hW2, fun Q E d acts => (step Q E d acts).trans (by rw [if_neg (by rw [hno]; decide)]; exact h2 Q E d acts)⟩
section GX2
variable {p : Program} {l : Launch} {e : Env} {R : Room} {s : State} {m : MethodId} {args : Array Value} {below : List Frame} {meth : Method} {c : Code} {H : Heap} {locs : List Loc} {cells slots : Nat} {Q : State → Prop}
theorem gx_catch {pc tgt : Nat} {ls : Array Slot} {st : List Value} {x : Addr} {cell : Cell} {ks : Class} {own : String} (hown : s.vm.findClass own = some m.cls) (hcell : H[x]? = some cell) (hobj : ∀ k, cell.vm ≠ .statics k) (hks : s.vm.classes[cell.cls]? = some ks)
    (hhit : gx_hit s own args cell.cls pc tgt (gx_Tab c)) (kk : W p l e R s m args below meth c H locs cells slots Q (F0 m tgt ls [.ref x])) : gx_WT p l e R s m args below meth c H locs cells slots Q (F0 m pc ls st) x := by
  intro T hT X
  have hpl : e.platform.magicAccessors = ({} : Platform).magicAccessors := by rw [X.admits.platform]
  obtain ⟨vm', hW', hf⟩ := gx_find (f := F0 m pc ls st) (a := x) (e := e) hpl hown hobj hks c.exceptionTable.toList ((T.setTop (F0 m pc ls st)).pushFrame (.throwing x)) (by rw [Stand.throwing_vm]; exact X.warmed) (by rw [Stand.throwing_heap, hT]; exact hcell) hhit
  obtain ⟨t, a1, b1⟩ := kk (T.setVm vm') hT (X.noted hW')
  refine ⟨t, gx_caught (g := F0 m pc ls st) X.here (fun Q E d acts => ?_) a1, b1⟩
  rw [_root_.Jvm.W.findHandler_eq (meth := meth) (code := c) (by rw [Stand.throwing_vm]; exact X.method') X.code]
  exact hf Q E d acts
end GX2
end
section
-- ===== what every method knows of the tables; throws =====
abbrev gE : Type := va_G × ClassId × ClassId × ClassId
def gK (E : gE) (U : State) : Prop := va_K E.1 gcl [(E.2.1, .int), (E.2.2.1, .boolean), (E.2.2.2, .long)] U
def gT (E : gE) (U : State) : Prop := (∀ w ∈ gwl, ∀ a : Array Value, w.before a U = true) ∧ gK E U
theorem gT.moved {E : gE} {s U : State} (hW : s.WarmedH U.vm) (h : gT E s) : gT E U :=
  ⟨fun w hw a => word_at (args := #[]) hW (gw_good hw) (h.1 w hw #[]), va_K.moved hW.alike h.2⟩
theorem gK.cls {E : gE} {U : State} (h : gK E U) {k : Nat} {q : vw_C} (hk : gcl[k]? = some q) : ClassAt U q.1 (E.1.1 k) := (h.1 k q hk).2
/-- statics are never written here -/
def gx_keep (H H1 : Heap) : Prop := ∀ (a : Nat) (cell : Cell), H[a]? = some cell → cell.vm.isStatics = true → H1[a]? = some cell
theorem gx_keep.rf {H : Heap} : gx_keep H H := fun _ _ h _ => h
theorem gx_keep.tr {H H1 H2 : Heap} (h1 : gx_keep H H1) (h2 : gx_keep H1 H2) : gx_keep H H2 := fun a cell h hi => h2 a cell (h1 a cell h hi) hi
theorem gx_keep_of {A : Nat → Prop} {H H1 : Heap} (hA : ∀ (q : Nat) (cell : Cell), A q → H[q]? = some cell → cell.vm.isStatics = false) (hf : ∀ q : Nat, q < H.size → ¬ A q → H1[q]? = H[q]?) : gx_keep H H1 := fun a cell h hi => by
  have hlt := (Array.getElem?_eq_some_iff.mp h).1
  have hn : ¬ A a := fun z => by rw [hA a cell z h] at hi; cases hi
  rw [hf a hlt hn]; exact h
theorem gx_cellvm (cA : ClassId) (x : vp_A) : (vp_cell cA x).vm = .none := by
  obtain ⟨n, f⟩ := x
  rcases f with f | f | f | f | f <;> rfl
theorem gx_dyn {D : va_G} {cl : List vw_C} {ws : va_W} {H : Heap} (hP : va_P D cl ws H) {q : Nat} {cell : Cell} (h : va_A ws H.size q) (hc : H[q]? = some cell) : cell.vm.isStatics = false := by
  rcases h with ⟨k, e, h⟩ | h
  · have h1 := hP k (q, e) h
    cases e with
    | inl x =>
      have h2 : H[q]? = some (vp_cell x.1 x.2) := h1
      cases h2.symm.trans hc
      rw [gx_cellvm]; rfl
    | inr o =>
      obtain ⟨r, -, cell', h3, h4, h5, -⟩ := h1
      cases h3.symm.trans hc
      rw [h5]; rfl
  · exact absurd (Array.getElem?_eq_some_iff.mp hc).1 (Nat.not_lt.mpr h)
/-- what isn't steady, but true all the same: needed for throws and catches -/
def gN (U : State) : Prop := va_Nc gs_I gs_A U ∧ va_Nc gs_U gs_I U ∧ va_Nc gs_O gs_I U ∧ va_Nc gs_A gs_I U ∧ va_Nc gs_A gs_O U
def gX (U : State) : Prop := (∀ w ∈ gxa, ∀ a : Array Value, w.before a U = true) ∧ (∀ w ∈ gxb, ∀ a : Array Value, w.before a U = true) ∧ gN U
theorem gN.moved {s U : State} (hvm : s.vm.Alike U.vm) (h : gN s) : gN U := ⟨h.1.moved hvm, h.2.1.moved hvm, h.2.2.1.moved hvm, h.2.2.2.1.moved hvm, h.2.2.2.2.moved hvm⟩
theorem gx_trT {u U : State} {c : Cond} {a : Array Value} (hc : c.onTables = true) (h : c.before #[] (u.setVm U.vm) = true) : c.before a U = true := by
  have e := Cond.onTables_vm (A := #[]) (A' := a) (U := u) (U' := U) U.vm c hc
  have hU : U.setVm U.vm = U := rfl
  rw [hU] at e
  rw [← e]
  exact h
theorem gx_castM {s U : State} (hvm : s.vm.Alike U.vm) {C T : String} (h : ∀ a : Array Value, (Cond.castable C T).before a s = true) (a : Array Value) : (Cond.castable C T).before a U = true :=
  gx_trT (u := s) rfl (by rw [Cond.castable_setVm hvm]; exact h #[])
theorem gx_declM {s U : State} (hvm : s.vm.Alike U.vm) {x : MethodName} (h : ∀ a : Array Value, (Cond.declares x).before a s = true) (a : Array Value) : (Cond.declares x).before a U = true :=
  gx_trT (u := s) rfl (by rw [Cond.declares_setVm hvm]; exact h #[])
theorem gx_laysM {s U : State} (hvm : s.vm.Alike U.vm) (hk : gx_keep s.heap U.heap) {O f d : String} (h : ∀ a : Array Value, (Cond.laysStatic O f d).before a s = true) (a : Array Value) : (Cond.laysStatic O f d).before a U = true := by
  obtain ⟨c, k, i, fd, a1, cell, hc, hf, hst, hsta, hcell, hiss, hcls, hlt, hty⟩ := Cond.laysStatic_spec (h #[])
  obtain ⟨k', hi', he⟩ := State.fieldFound?_setVm hvm hf
  have hi2 : U.fieldFound? O f d = some (c, k', i, fd) := hi'
  have hc' : U.vm.findClass O = some c := by rw [hvm.findClass]; exact hc
  have hcell' : U.heap[a1]? = some cell := hk a1 cell hcell hiss
  have hs' : k'.statics = some a1 := by rw [he]; exact hsta
  have hty' : k'.staticTypes[fd.slot]? = some fd.type := by rw [he]; exact hty
  simp [Cond.before, Cond.holds, Cond.value, hc', hi2, hst, hs', hcell', hiss, hcls, hlt, hty']
theorem gx_refM {s U : State} (hvm : s.vm.Alike U.vm) (hk : gx_keep s.heap U.heap) {O f d : String} (h : ∀ a : Array Value, (Cond.laysStatic O f d).before a s = true) (h2 : ∀ a : Array Value, (Cond.isRef (.static O f d)).before a s = true) (a : Array Value) : (Cond.isRef (.static O f d)).before a U = true := by
  obtain ⟨c, k, i, fd, a1, cell, hc, hf, hst, hsta, hcell, hiss, hcls, hlt, hty⟩ := Cond.laysStatic_spec (h #[])
  obtain ⟨⟨v, hv⟩, hsl⟩ := Cond.staticRefV hf hst hsta hcell hiss (h2 #[])
  have hsl2 : cell.slots[fd.slot]? = some v := hsl
  obtain ⟨k', hi', he⟩ := State.fieldFound?_setVm hvm hf
  have hi2 : U.fieldFound? O f d = some (c, k', i, fd) := hi'
  have hcell' : U.heap[a1]? = some cell := hk a1 cell hcell hiss
  have hs' : k'.statics = some a1 := by rw [he]; exact hsta
  have hev : (Term.static O f d).eval a U none [] U = some v := by
    simp [Term.eval, State.fieldNamed?, hi2, hst, hs', hcell', hiss, hsl2]
  simp only [Cond.before, Cond.holds, Cond.value, hev]
  cases v <;> simp [Value.isRef] at hv ⊢
theorem gX.moved {s U : State} (hvm : s.vm.Alike U.vm) (hk : gx_keep s.heap U.heap) (h : gX s) : gX U := by
  obtain ⟨h1, h2, h3⟩ := h
  refine ⟨?_, ?_, h3.moved hvm⟩
  · simp only [gxa, List.forall_mem_cons] at h1 ⊢
    obtain ⟨c1, c2, c3, c4, d1, d2, d3, -⟩ := h1
    exact ⟨gx_castM hvm c1, gx_castM hvm c2, gx_castM hvm c3, gx_castM hvm c4, gx_declM hvm d1, gx_declM hvm d2, gx_declM hvm d3, fun _ hw => by cases hw⟩
  · simp only [gxb, List.forall_mem_cons] at h2 ⊢
    obtain ⟨c1, c2, c3, c4, -⟩ := h2
    exact ⟨gx_laysM hvm hk c1, gx_laysM hvm hk c2, gx_refM hvm hk c1 c3, gx_refM hvm hk c2 c4, fun _ hw => by cases hw⟩
theorem gx_off {l : Launch} {e : Env} (hf : l.flags = flags0) (ha : l.admits e) : e.platform.stackTraces = false := by
  obtain ⟨-, -, -, -, hp, -⟩ := ha
  rw [hp]
  show l.stackTraces = false
  unfold Launch.stackTraces
  rw [hf]
  decide +kernel
def gx_names : List String := ["java/lang/RuntimeException", "java/lang/Exception"]
def gx_at (ic : Nat) (cls : String) : Prop := ∀ a ∈ Bundle.ownAtoms0 "GrowForms" ic cls gx_names, a ∈ gwl ∨ a ∈ gxa ∨ a ∈ gxb
theorem ga_I : gx_at 46 gs_I := by unfold gx_at; decide +kernel
theorem ga_A : gx_at 63 gs_A := by unfold gx_at; decide +kernel
theorem ga_O : gx_at 39 gs_O := by unfold gx_at; decide +kernel
theorem ga_U : gx_at 80 gs_U := by unfold gx_at; decide +kernel
section GX3
variable {p : Program} {l : Launch} {e : Env} {R : Room} {s : State} {m : MethodId} {args : Array Value} {below : List Frame} {meth : Method} {c : Code} {H : Heap} {locs : List Loc} {cells slots : Nat} {Q : State → Prop}
/-- a walk's present state as another walk's beginning -/
theorem gx_rebase {T : State} (X : Stand p l e R s m args below meth c T locs cells slots) (hc : cells ≤ R.cells) (hs : slots ≤ R.slots) :
    ∃ (s' : State) (R' : Room), s'.heap = T.heap ∧ s'.vm = T.vm ∧ R'.frames = R.frames ∧ R'.locals = R.locals ∧ (∀ k, cells + k ≤ R.cells → k ≤ R'.cells) ∧ (∀ k, slots + k ≤ R.slots → k ≤ R'.slots) ∧
      Stand p l e R' s' m args below meth c T [] 0 0 ∧
      ∀ (t : State) (L : List Loc) (k n : Nat), s'.WarmedH t.vm → s'.sameButNew ({ t with vm := s'.vm } : State) L k n → s.WarmedH t.vm ∧ s.sameButNew ({ t with vm := s.vm } : State) (locs ++ L) (cells + k) (slots + n) := by
  have hal := X.warmed.alike
  obtain ⟨e2, q2, q3, q4, q5, q6⟩ := id X.same
  have hX1 := X.heapSize
  have hX2 := X.used
  obtain ⟨th, hth, -⟩ := State.frames_cons X.frames
  refine ⟨({ s with heap := T.heap, slotsUsed := T.slotsUsed } : State).setVm T.vm, { R with cells := R.cells - cells, slots := R.slots - slots }, rfl, rfl, rfl, rfl, fun k h => by show k ≤ R.cells - cells; omega, fun k h => by show k ≤ R.slots - slots; omega,
    ⟨X.admits, X.cas, X.clock, X.frames, ?_, ?_, X.method', X.code, X.here, X.tail, State.WarmedH.refl (({ s with heap := T.heap, slotsUsed := T.slotsUsed } : State).setVm T.vm), X.limits, X.bytes, ?_⟩, ?_⟩
  · have h := X.room
    have e1 : (({ s with heap := T.heap, slotsUsed := T.slotsUsed } : State).setVm T.vm).localsInUse = s.localsInUse := by
      rw [State.localsInUse_invoking X.frames X.method X.code]
      exact State.localsInUse_invoking (s := ({ s with heap := T.heap, slotsUsed := T.slotsUsed } : State).setVm T.vm) X.frames X.method' X.code
    have hbk : (({ s with heap := T.heap, slotsUsed := T.slotsUsed } : State).setVm T.vm).slotsTrue = true := X.book
    unfold State.hasRoom at h ⊢
    rw [e1]
    simp only [Bool.and_eq_true, decide_eq_true_eq] at h ⊢
    obtain ⟨⟨⟨⟨h1, h2⟩, h3⟩, h4⟩, h5⟩ := h
    refine ⟨⟨⟨⟨h1, h2⟩, ?_⟩, ?_⟩, hbk⟩
    · show T.heap.size + (R.cells - cells) ≤ _
      omega
    · show T.slotsUsed + (R.slots - slots) ≤ _
      omega
  · have h := X.hears
    have ec : ∀ mm, (({ s with heap := T.heap, slotsUsed := T.slotsUsed } : State).setVm T.vm).code? mm = s.code? mm := fun mm => by
      rw [State.code?_eq, State.code?_eq]
      show (T.vm.method? mm).bind _ = _
      rw [hal.method?]
    have em : (({ s with heap := T.heap, slotsUsed := T.slotsUsed } : State).setVm T.vm).vm.method? m = s.vm.method? m := by
      show T.vm.method? m = _
      rw [hal.method?]
    cases below with
    | nil => simp only [State.hears, em] at h ⊢; exact h
    | cons f r => cases f <;> simp only [State.hears, em, ec] at h ⊢ <;> exact h
  · have hT : T = (({ s with heap := T.heap, slotsUsed := T.slotsUsed } : State).setVm T.vm).setFrames T.frames := by
      have h1 := congrArg (fun z : State => z.setVm T.vm) e2
      exact h1
    have h := (State.sameButNew.refl (({ s with heap := T.heap, slotsUsed := T.slotsUsed } : State).setVm T.vm) hth).setFrames T.frames X.cur
    rw [← hT] at h
    exact h
  · intro t L k n hW1 hS
    refine ⟨State.WarmedH.trans X.warmed hW1, X.same.trans ?_⟩
    obtain ⟨g1, g2, g3, g4, g5, g6⟩ := hS
    refine ⟨?_, g2, g3, g4, g5, g6⟩
    have h1 := congrArg (fun z : State => z.setVm s.vm) g1
    refine Eq.trans h1 ?_
    rw [e2]
    show ({ s.setFrames t.frames with heap := t.heap, slotsUsed := t.slotsUsed } : State) = { (({ s.setFrames T.frames with heap := T.heap, slotsUsed := T.slotsUsed } : State).setFrames t.frames) with heap := t.heap, slotsUsed := t.slotsUsed }
    have h2 : (s.setFrames T.frames).setFrames t.frames = s.setFrames t.frames := State.setFrames_setFrames ..
    rw [← h2]
    rfl
/-- new X; dup; X.<init>(); athrow: the method ends by that throw; nothing else in the heap has changed -/
theorem gx_throw {cc : ByteArray} {pc : Nat} {ls : Array Slot} {Po : Heap → Outcome → Heap → Prop} {free : Addr → Prop} {E : gE} (cls : String) (ic ia k : Nat) (hfl : l.flags = flags0) (hx : p.tables.exec = Jvm.exec) (hb : c.code = cc) (hml : c.maxLocals = ls.size) (hex : gx_Tab c = []) (hlocks : meth.locks = false)
    (hown : s.vm.findClass "GrowForms" = some m.cls) (hT : gT E s) (hX : gX s) (hkeep : gx_keep s.heap H) (hk : gcl[k]? = some (cls, F_00, 0)) (hat : gx_at ic cls) (hcl : Cond.classLink "GrowForms" ia cls ∈ gwl) (hins : Cond.instantiable cls 6 ∈ gwl) (hini : Cond.initialized cls ∈ gwl) (hfit : Bundle.fit cls = true)
    (hd0 : decode cc pc = .ok (.new ia, 3)) (hd3 : decode cc (pc + 3) = .ok (.dup, 1)) (hd4 : decode cc (pc + 4) = .ok (.invokespecial ic, 3)) (hd7 : decode cc (pc + 7) = .ok (.athrow, 1))
    (hRf : 6 ≤ R.frames) (hRl : 81 ≤ R.locals) (hc : cells + 1 ≤ R.cells) (hs : slots + 6 ≤ R.slots) (hf : ∀ q ∈ locs, free q.base)
    (hq : ∀ (x : Nat) (H1 : Heap) (ce : Cell), H1[x]? = some ce → ce.cls = E.1.1 k → ce.vm = .none → H.size ≤ H1.size → (∀ q : Nat, q < H.size → H1[q]? = H[q]?) → Po s.heap (.threw x) H1) :
    W p l e R s m args below meth c H locs cells slots (gx_MQ below Po s (cells + 1) (slots + 6) free) (F0 m pc ls []) := by
  intro T hT0 X
  have htr := gx_off hfl X.admits
  obtain ⟨s', R', hs'h, hs'v, hR1, hR2, hR3, hR4, X', hback⟩ := gx_rebase X (by omega) (by omega)
  have hW' : s.WarmedH s'.vm := by rw [hs'v]; exact X.warmed
  have hT' : gT E s' := hT.moved hW'
  have hX' : gX s' := hX.moved hW'.alike (by rw [hs'h, hT0]; exact hkeep)
  have hown' : s'.vm.findClass "GrowForms" = some m.cls := by rw [hW'.alike.findClass]; exact hown
  have hex2 : c.exceptionTable.toList = [] := List.map_eq_nil_iff.mp hex
  have K : W p l e R' s' m args below meth c T.heap [] 0 0 (gx_MQ below Po s (cells + 1) (slots + 6) free) (F0 m pc ls []) := by
    refine W.newc (n := 6) hx hb hown' (hT'.1 _ hcl args) (hT'.1 _ hins args) (hT'.1 _ hini args) rfl hd0 (hR3 1 hc) (hR4 6 hs) (fun cC kC h1 h2 h3 h4 => ?_)
    refine lv_dup hx hb hd3 rfl ?_
    intro T2 hT2 X2
    have hcell : T2.heap[T.heap.size]? = some (freshCell cC kC) := by
      rw [hT2]
      simp
    obtain ⟨U, hst, hrun, hend, hWU, hsame, ce, hce, hO⟩ := X2.ctorThrow0 hx htr (own := "GrowForms") (cls := cls) (names := gx_names) (ic := ic) hown' hfit (by decide +kernel)
      (fun a ha => by
        rcases hat a ha with h | h | h
        · exact hT'.1 a h args
        · exact hX'.1 a h args
        · exact hX'.2.1 a h args)
      (fun y hy => by cases hy) h1 h2 hcell (by rw [hs'h]; exact Nat.le_refl _) (g := F0 m (pc + 3 + 1) ls [.ref T.heap.size, .ref T.heap.size]) rfl hml.symm rfl rfl (rest := []) rfl (by rw [hb]; exact hd4) (by rw [hb]; exact hd7)
      (by rw [hex2]; intro y hy; cases hy) (by rw [hR1]; show 2 + 3 < R.frames; omega) (by rw [hR2]; show 2 * 0 + (1 + 0) + (13 * (2 + 1) + 41) ≤ R.locals; omega) hlocks
    obtain ⟨w1, w2⟩ := hback U _ _ _ hWU hsame
    refine ⟨U, hst, .threw T.heap.size, hrun, hend, ?_, _, ⟨Or.inr ⟨_, rfl⟩, w1, w2⟩, by simpa using hf⟩
    have hcE : ce.cls = E.1.1 k := by
      have a1 := (hT'.2.cls hk).1
      exact Option.some.inj (hO.cls.symm.trans a1)
    refine hq T.heap.size U.heap ce hce hcE hO.vm ?_ (fun q hq' => ?_)
    · have := hsame.2.1
      rw [hs'h, hT0] at this
      exact this
    · rw [← hT0, ← hs'h]
      have hlt : q < s'.heap.size := by rw [hs'h, hT0]; exact hq'
      have h0 : s'.heap[q]? = some s'.heap[q] := Array.getElem?_eq_getElem hlt
      rw [h0]
      exact State.sameButNew.old_cell hsame h0
  exact K T rfl X'
end GX3
end
section
-- ===== the worlds and their rows =====
abbrev gA : Type := Nat → Nat → Int32
/-- how long the arrays are (the Model's 7 is its boolean array, of 120; its addresses aren't kept) -/
def gz (k : Nat) : Nat := match k with
  | 1 => 480 | 2 => 480 | 3 => 480 | 7 => 121 | _ => 120
def mz (k : Nat) : Nat := match k with
  | 1 => 480 | 2 => 480 | 3 => 480 | _ => 120
theorem gz_le (k : Nat) : gz k < 2 ^ 31 := by unfold gz; split <;> decide
theorem mz_le (k : Nat) : mz k < 2 ^ 31 := by unfold mz; split <;> decide
abbrev gFs (q : Nat → Nat) (ln st : Int32) : List Value := [.ref (q 0), .ref (q 1), .ref (q 2), .ref (q 3), .ref (q 4), .ref (q 5), .ref (q 6), .ref (q 7), .ref (q 8), .int ln, .int st]
def gW (h : Nat) (q : Nat → Nat) (cI : ClassId) (a : gA) (ln st : Int32) : va_W :=
  [(h, .inr (0, gFs q ln st)), (q 0, .inl (cI, 120, .inl (a 0))), (q 1, .inl (cI, 480, .inl (a 1))), (q 2, .inl (cI, 480, .inl (a 2))), (q 3, .inl (cI, 480, .inl (a 3))), (q 4, .inl (cI, 120, .inl (a 4))), (q 5, .inl (cI, 120, .inl (a 5))), (q 6, .inl (cI, 120, .inl (a 6))), (q 7, .inl (cI, 121, .inl (a 7))), (q 8, .inl (cI, 120, .inl (a 8)))]
abbrev mFs (q : Nat → Nat) (ln th st : Int32) : List Value := [.ref (q 0), .ref (q 1), .ref (q 2), .ref (q 3), .ref (q 4), .ref (q 5), .ref (q 6), .ref (q 7), .int ln, .int th, .int st]
def mW (h : Nat) (q : Nat → Nat) (cI cZ : ClassId) (b : gA) (ln th st : Int32) : va_W :=
  [(h, .inr (1, mFs q ln th st)), (q 0, .inl (cI, 120, .inl (b 0))), (q 1, .inl (cI, 480, .inl (b 1))), (q 2, .inl (cI, 480, .inl (b 2))), (q 3, .inl (cI, 480, .inl (b 3))), (q 4, .inl (cI, 120, .inl (b 4))), (q 5, .inl (cI, 120, .inl (b 5))), (q 6, .inl (cI, 120, .inl (b 6))), (q 7, .inl (cZ, 120, .inl (b 7)))]
def oW (o : Nat) (cJ : ClassId) (f : Nat → Int64) : va_W := [(o, .inl (cJ, 1, .inr (.inl f)))]
theorem gx_D {A : Nat → Prop} {ws ws' : va_W} (h : va_D A ws) (he : ws.map (·.1) = ws'.map (·.1)) : va_D A ws' := by
  have key : ∀ (k : Nat) (q : Nat × va_E), ws'[k]? = some q → ∃ q0, ws[k]? = some q0 ∧ q0.1 = q.1 := by
    intro k q hk
    have h1 : (ws.map (·.1))[k]? = some q.1 := by rw [he, List.getElem?_map, hk]; rfl
    rw [List.getElem?_map] at h1
    cases hq : ws[k]? with
    | none => rw [hq] at h1; cases h1
    | some q0 => rw [hq] at h1; exact ⟨q0, rfl, Option.some.inj h1⟩
  refine ⟨fun i j x y hi hj hxy => ?_, fun k q hk => ?_⟩
  · obtain ⟨x0, a1, a2⟩ := key i x hi
    obtain ⟨y0, b1, b2⟩ := key j y hj
    exact h.1 i j x0 y0 a1 b1 (by rw [a2, b2]; exact hxy)
  · obtain ⟨q0, a1, a2⟩ := key k q hk
    rw [← a2]
    exact h.2 k q0 a1
theorem gW_D {A : Nat → Prop} {h : Nat} {q : Nat → Nat} {cI : ClassId} {a a' : gA} {ln st ln' st' : Int32} (hD : va_D A (gW h q cI a ln st)) : va_D A (gW h q cI a' ln' st') := gx_D hD rfl
theorem mW_D {A : Nat → Prop} {h : Nat} {q : Nat → Nat} {cI cZ : ClassId} {b b' : gA} {ln th st ln' th' st' : Int32} (hD : va_D A (mW h q cI cZ b ln th st)) : va_D A (mW h q cI cZ b' ln' th' st') := gx_D hD rfl
theorem gW_at (h : Nat) (q : Nat → Nat) (cI : ClassId) (a : gA) (ln st : Int32) : ∀ k, k < 9 → (gW h q cI a ln st)[k + 1]? = some (q k, .inl (cI, gz k, .inl (a k)))
  | 0, _ => rfl | 1, _ => rfl | 2, _ => rfl | 3, _ => rfl | 4, _ => rfl | 5, _ => rfl | 6, _ => rfl | 7, _ => rfl | 8, _ => rfl
  | k + 9, hk => absurd hk (by omega)
theorem gW_set (h : Nat) (q : Nat → Nat) (cI : ClassId) (a : gA) (ln st : Int32) (f : Nat → Int32) : ∀ k, k < 9 → (gW h q cI a ln st).set (k + 1) (q k, .inl (cI, gz k, .inl f)) = gW h q cI (va_up a k f) ln st
  | 0, _ => rfl | 1, _ => rfl | 2, _ => rfl | 3, _ => rfl | 4, _ => rfl | 5, _ => rfl | 6, _ => rfl | 7, _ => rfl | 8, _ => rfl
  | k + 9, hk => absurd hk (by omega)
theorem mW_at (h : Nat) (q : Nat → Nat) (cI cZ : ClassId) (b : gA) (ln th st : Int32) : ∀ k, k < 7 → (mW h q cI cZ b ln th st)[k + 1]? = some (q k, .inl (cI, mz k, .inl (b k)))
  | 0, _ => rfl | 1, _ => rfl | 2, _ => rfl | 3, _ => rfl | 4, _ => rfl | 5, _ => rfl | 6, _ => rfl
  | k + 7, hk => absurd hk (by omega)
theorem mW_set (h : Nat) (q : Nat → Nat) (cI cZ : ClassId) (b : gA) (ln th st : Int32) (f : Nat → Int32) : ∀ k, k < 7 → (mW h q cI cZ b ln th st).set (k + 1) (q k, .inl (cI, mz k, .inl f)) = mW h q cI cZ (va_up b k f) ln th st
  | 0, _ => rfl | 1, _ => rfl | 2, _ => rfl | 3, _ => rfl | 4, _ => rfl | 5, _ => rfl | 6, _ => rfl
  | k + 7, hk => absurd hk (by omega)
theorem mW_set7 (h : Nat) (q : Nat → Nat) (cI cZ : ClassId) (b : gA) (ln th st : Int32) (f : Nat → Int32) : (mW h q cI cZ b ln th st).set 8 (q 7, .inl (cZ, 120, .inl f)) = mW h q cI cZ (va_up b 7 f) ln th st := rfl
theorem F_GF_1 : ∀ k, (F_GF k).1 = "GrowForms" := by intro k; unfold F_GF; split <;> rfl
theorem F_GM_1 : ∀ k, (F_GM k).1 = "GrowFormsModel" := by intro k; unfold F_GM; split <;> rfl
/-- what the rows ask of a method's walk -/
def gC (E : gE) (own : String) (cc : ByteArray) (p : Program) (s : State) (m : MethodId) (c : Code) : Prop := p.tables.exec = Jvm.exec ∧ c.code = cc ∧ s.vm.findClass own = some m.cls ∧ gT E s
theorem gC.wd {E : gE} {own : String} {cc : ByteArray} {p : Program} {s : State} {m : MethodId} {c : Code} {args : Array Value} (h : gC E own cc p s m c) : ∀ w ∈ gwl, w.before args s = true := fun w hw => h.2.2.2.1 w hw args
section GW
variable {p : Program} {l : Launch} {e : Env} {R : Room} {s : State} {m : MethodId} {args : Array Value} {below : List Frame} {meth : Method} {c : Code} {H : Heap} {locs : List Loc} {cells slots : Nat} {Q : State → Prop}
variable {cc : ByteArray} {pc : Nat} {ls : Array Slot} {rest : List Value} {E : gE} {A : Nat → Prop} {H0 : Heap} {h : Nat} {q : Nat → Nat} {a a0 : gA} {ln st th ln0 st0 th0 : Int32}
-- GrowForms
theorem gf_get (C : gC E "GrowForms" cc p s m c) (hP : va_P E.1 gcl (gW h q E.2.1 a ln st) H) (k : Nat) (hk : k < 11) {v : Value} (hv : (gFs q ln st)[k]? = some v) (hdg : decode cc pc = .ok (.getfield (x_GF k), 3))
    (kk : W p l e R s m args below meth c H locs cells slots Q (F0 m (pc + 3) ls (v :: rest))) : W p l e R s m args below meth c H locs cells slots Q (F0 m pc ls (.ref h :: rest)) :=
  va_get (D := E.1) (ci := 0) (C := "GrowForms") (T := F_GF) (N := 11) (Ts := gwl) (own := "GrowForms") (ref := "GrowForms") C.1 C.2.1 C.wd u_GF_in C.2.2.1 C.2.2.2.2 hP 0 rfl rfl k hk (C.wd _ (x_GF_in k hk)) (fun x hx => by rw [F_GF_1] at hx; exact hx) hv hdg kk
theorem gf_putln (C : gC E "GrowForms" cc p s m c) (hP : va_P E.1 gcl (gW h q E.2.1 a ln st) H) (hD : va_D A (gW h q E.2.1 a0 ln0 st0)) (hS : va_S A H0 H locs) {v : Int32} (hdg : decode cc pc = .ok (.putfield 47, 3))
    (kk : ∀ (H1 : Heap) (locs1 : List Loc), va_P E.1 gcl (gW h q E.2.1 a v st) H1 → va_S A H0 H1 locs1 → W p l e R s m args below meth c H1 locs1 cells slots Q (F0 m (pc + 3) ls rest)) : W p l e R s m args below meth c H locs cells slots Q (F0 m pc ls (.int v :: .ref h :: rest)) :=
  va_put (D := E.1) (ci := 0) (v := .int v) (ty := .int) (C := "GrowForms") (T := F_GF) (N := 11) (Ts := gwl) (own := "GrowForms") (ref := "GrowForms") C.1 C.2.1 C.wd u_GF_in t_GF t_GF_ok n_GF C.2.2.1 C.2.2.2.2 hP (gW_D hD) hS 0 rfl rfl 9 (by decide) (C.wd _ (x_GF_in 9 (by decide))) (fun x hx => hx) rfl (by decide +kernel) rfl rfl (Nat.le_of_ble_eq_true rfl) hdg (fun H1 locs1 hP1 _ hS1 => kk H1 locs1 hP1 hS1)
theorem gf_putst (C : gC E "GrowForms" cc p s m c) (hP : va_P E.1 gcl (gW h q E.2.1 a ln st) H) (hD : va_D A (gW h q E.2.1 a0 ln0 st0)) (hS : va_S A H0 H locs) {v : Int32} (hn : narrow .boolean (.int v) = .int v) (hf : fits .boolean (.int v) = true) (hdg : decode cc pc = .ok (.putfield 40, 3))
    (kk : ∀ (H1 : Heap) (locs1 : List Loc), va_P E.1 gcl (gW h q E.2.1 a ln v) H1 → va_S A H0 H1 locs1 → W p l e R s m args below meth c H1 locs1 cells slots Q (F0 m (pc + 3) ls rest)) : W p l e R s m args below meth c H locs cells slots Q (F0 m pc ls (.int v :: .ref h :: rest)) :=
  va_put (D := E.1) (ci := 0) (v := .int v) (ty := .boolean) (C := "GrowForms") (T := F_GF) (N := 11) (Ts := gwl) (own := "GrowForms") (ref := "GrowForms") C.1 C.2.1 C.wd u_GF_in t_GF t_GF_ok n_GF C.2.2.1 C.2.2.2.2 hP (gW_D hD) hS 0 rfl rfl 10 (by decide) (C.wd _ (x_GF_in 10 (by decide))) (fun x hx => hx) rfl (by decide +kernel) hn hf (Nat.le_of_ble_eq_true rfl) hdg (fun H1 locs1 hP1 _ hS1 => kk H1 locs1 hP1 hS1)
theorem gf_ald (C : gC E "GrowForms" cc p s m c) (hP : va_P E.1 gcl (gW h q E.2.1 a ln st) H) (k : Nat) (hk : k < 9) (i : Nat) {x v : Int32} (hi : x = nI i) (hlt : i < gz k) (hv : a k i = v) (hdg : decode cc pc = .ok (.iaload, 1))
    (kk : W p l e R s m args below meth c H locs cells slots Q (F0 m (pc + 1) ls (.int v :: rest))) : W p l e R s m args below meth c H locs cells slots Q (F0 m pc ls (.int x :: .ref (q k) :: rest)) := by
  subst hi; subst hv
  have hb := gz_le k
  refine va_iald C.1 C.2.1 C.2.2.2.2 hP (k + 1) 0 (gW_at h q E.2.1 a ln st k hk) rfl (vp_in_nI hlt hb) hdg ?_
  rw [nI_clamp (by omega)]
  exact kk
theorem gf_ast (C : gC E "GrowForms" cc p s m c) (hP : va_P E.1 gcl (gW h q E.2.1 a ln st) H) (hD : va_D A (gW h q E.2.1 a0 ln0 st0)) (hS : va_S A H0 H locs) (k : Nat) (hk : k < 9) (i : Nat) {x v : Int32} (hi : x = nI i) (hlt : i < gz k) (hdg : decode cc pc = .ok (.iastore, 1))
    (kk : ∀ (H1 : Heap) (locs1 : List Loc), va_P E.1 gcl (gW h q E.2.1 (va_up a k (upd (a k) i v)) ln st) H1 → va_S A H0 H1 locs1 → W p l e R s m args below meth c H1 locs1 cells slots Q (F0 m (pc + 1) ls rest)) : W p l e R s m args below meth c H locs cells slots Q (F0 m pc ls (.int v :: .int x :: .ref (q k) :: rest)) := by
  subst hi
  have hb := gz_le k
  refine va_iast C.1 C.2.1 C.2.2.2.2 hP (gW_D hD) hS (k + 1) 0 (gW_at h q E.2.1 a ln st k hk) rfl (vp_in_nI hlt hb) hdg (fun H1 locs1 hP1 _ hS1 => kk H1 locs1 ?_ hS1)
  rw [nI_clamp (by omega), gW_set h q E.2.1 a ln st _ k hk] at hP1
  exact hP1
theorem gf_recv (C : gT E s) (hP : va_P E.1 gcl (gW h q E.2.1 a ln st) H) : ∃ cell : Cell, H[h]? = some cell ∧ cell.vm.isStatics = false ∧ s.vm.findClass "GrowForms" = some cell.cls :=
  va_recv (q := ("GrowForms", F_GF, 11)) (q0 := 0) (ci := 0) (fs := gFs q ln st) C.2 hP rfl rfl
-- GrowFormsModel
theorem gm_get (C : gC E "GrowFormsModel" cc p s m c) (hP : va_P E.1 gcl (mW h q E.2.1 E.2.2.1 a ln th st) H) (k : Nat) (hk : k < 11) {v : Value} (hv : (mFs q ln th st)[k]? = some v) (hdg : decode cc pc = .ok (.getfield (x_GM k), 3))
    (kk : W p l e R s m args below meth c H locs cells slots Q (F0 m (pc + 3) ls (v :: rest))) : W p l e R s m args below meth c H locs cells slots Q (F0 m pc ls (.ref h :: rest)) :=
  va_get (D := E.1) (ci := 1) (C := "GrowFormsModel") (T := F_GM) (N := 11) (Ts := gwl) (own := "GrowFormsModel") (ref := "GrowFormsModel") C.1 C.2.1 C.wd u_GM_in C.2.2.1 C.2.2.2.2 hP 0 rfl rfl k hk (C.wd _ (x_GM_in k hk)) (fun x hx => by rw [F_GM_1] at hx; exact hx) hv hdg kk
theorem gm_putln (C : gC E "GrowFormsModel" cc p s m c) (hP : va_P E.1 gcl (mW h q E.2.1 E.2.2.1 a ln th st) H) (hD : va_D A (mW h q E.2.1 E.2.2.1 a0 ln0 th0 st0)) (hS : va_S A H0 H locs) {v : Int32} (hdg : decode cc pc = .ok (.putfield 39, 3))
    (kk : ∀ (H1 : Heap) (locs1 : List Loc), va_P E.1 gcl (mW h q E.2.1 E.2.2.1 a v th st) H1 → va_S A H0 H1 locs1 → W p l e R s m args below meth c H1 locs1 cells slots Q (F0 m (pc + 3) ls rest)) : W p l e R s m args below meth c H locs cells slots Q (F0 m pc ls (.int v :: .ref h :: rest)) :=
  va_put (D := E.1) (ci := 1) (v := .int v) (ty := .int) (C := "GrowFormsModel") (T := F_GM) (N := 11) (Ts := gwl) (own := "GrowFormsModel") (ref := "GrowFormsModel") C.1 C.2.1 C.wd u_GM_in t_GM t_GM_ok n_GM C.2.2.1 C.2.2.2.2 hP (mW_D hD) hS 0 rfl rfl 8 (by decide) (C.wd _ (x_GM_in 8 (by decide))) (fun x hx => hx) rfl (by decide +kernel) rfl rfl (Nat.le_of_ble_eq_true rfl) hdg (fun H1 locs1 hP1 _ hS1 => kk H1 locs1 hP1 hS1)
theorem gm_putth (C : gC E "GrowFormsModel" cc p s m c) (hP : va_P E.1 gcl (mW h q E.2.1 E.2.2.1 a ln th st) H) (hD : va_D A (mW h q E.2.1 E.2.2.1 a0 ln0 th0 st0)) (hS : va_S A H0 H locs) {v : Int32} (hdg : decode cc pc = .ok (.putfield 35, 3))
    (kk : ∀ (H1 : Heap) (locs1 : List Loc), va_P E.1 gcl (mW h q E.2.1 E.2.2.1 a ln v st) H1 → va_S A H0 H1 locs1 → W p l e R s m args below meth c H1 locs1 cells slots Q (F0 m (pc + 3) ls rest)) : W p l e R s m args below meth c H locs cells slots Q (F0 m pc ls (.int v :: .ref h :: rest)) :=
  va_put (D := E.1) (ci := 1) (v := .int v) (ty := .int) (C := "GrowFormsModel") (T := F_GM) (N := 11) (Ts := gwl) (own := "GrowFormsModel") (ref := "GrowFormsModel") C.1 C.2.1 C.wd u_GM_in t_GM t_GM_ok n_GM C.2.2.1 C.2.2.2.2 hP (mW_D hD) hS 0 rfl rfl 9 (by decide) (C.wd _ (x_GM_in 9 (by decide))) (fun x hx => hx) rfl (by decide +kernel) rfl rfl (Nat.le_of_ble_eq_true rfl) hdg (fun H1 locs1 hP1 _ hS1 => kk H1 locs1 hP1 hS1)
theorem gm_putst (C : gC E "GrowFormsModel" cc p s m c) (hP : va_P E.1 gcl (mW h q E.2.1 E.2.2.1 a ln th st) H) (hD : va_D A (mW h q E.2.1 E.2.2.1 a0 ln0 th0 st0)) (hS : va_S A H0 H locs) {v : Int32} (hn : narrow .boolean (.int v) = .int v) (hf : fits .boolean (.int v) = true) (hdg : decode cc pc = .ok (.putfield 42, 3))
    (kk : ∀ (H1 : Heap) (locs1 : List Loc), va_P E.1 gcl (mW h q E.2.1 E.2.2.1 a ln th v) H1 → va_S A H0 H1 locs1 → W p l e R s m args below meth c H1 locs1 cells slots Q (F0 m (pc + 3) ls rest)) : W p l e R s m args below meth c H locs cells slots Q (F0 m pc ls (.int v :: .ref h :: rest)) :=
  va_put (D := E.1) (ci := 1) (v := .int v) (ty := .boolean) (C := "GrowFormsModel") (T := F_GM) (N := 11) (Ts := gwl) (own := "GrowFormsModel") (ref := "GrowFormsModel") C.1 C.2.1 C.wd u_GM_in t_GM t_GM_ok n_GM C.2.2.1 C.2.2.2.2 hP (mW_D hD) hS 0 rfl rfl 10 (by decide) (C.wd _ (x_GM_in 10 (by decide))) (fun x hx => hx) rfl (by decide +kernel) hn hf (Nat.le_of_ble_eq_true rfl) hdg (fun H1 locs1 hP1 _ hS1 => kk H1 locs1 hP1 hS1)
theorem gm_ald (C : gC E "GrowFormsModel" cc p s m c) (hP : va_P E.1 gcl (mW h q E.2.1 E.2.2.1 a ln th st) H) (k : Nat) (hk : k < 7) (i : Nat) {x v : Int32} (hi : x = nI i) (hlt : i < mz k) (hv : a k i = v) (hdg : decode cc pc = .ok (.iaload, 1))
    (kk : W p l e R s m args below meth c H locs cells slots Q (F0 m (pc + 1) ls (.int v :: rest))) : W p l e R s m args below meth c H locs cells slots Q (F0 m pc ls (.int x :: .ref (q k) :: rest)) := by
  subst hi; subst hv
  have hb := mz_le k
  refine va_iald C.1 C.2.1 C.2.2.2.2 hP (k + 1) 0 (mW_at h q E.2.1 E.2.2.1 a ln th st k hk) rfl (vp_in_nI hlt hb) hdg ?_
  rw [nI_clamp (by omega)]
  exact kk
theorem gm_ast (C : gC E "GrowFormsModel" cc p s m c) (hP : va_P E.1 gcl (mW h q E.2.1 E.2.2.1 a ln th st) H) (hD : va_D A (mW h q E.2.1 E.2.2.1 a0 ln0 th0 st0)) (hS : va_S A H0 H locs) (k : Nat) (hk : k < 7) (i : Nat) {x v : Int32} (hi : x = nI i) (hlt : i < mz k) (hdg : decode cc pc = .ok (.iastore, 1))
    (kk : ∀ (H1 : Heap) (locs1 : List Loc), va_P E.1 gcl (mW h q E.2.1 E.2.2.1 (va_up a k (upd (a k) i v)) ln th st) H1 → va_S A H0 H1 locs1 → W p l e R s m args below meth c H1 locs1 cells slots Q (F0 m (pc + 1) ls rest)) : W p l e R s m args below meth c H locs cells slots Q (F0 m pc ls (.int v :: .int x :: .ref (q k) :: rest)) := by
  subst hi
  have hb := mz_le k
  refine va_iast C.1 C.2.1 C.2.2.2.2 hP (mW_D hD) hS (k + 1) 0 (mW_at h q E.2.1 E.2.2.1 a ln th st k hk) rfl (vp_in_nI hlt hb) hdg (fun H1 locs1 hP1 _ hS1 => kk H1 locs1 ?_ hS1)
  rw [nI_clamp (by omega), mW_set h q E.2.1 E.2.2.1 a ln th st _ k hk] at hP1
  exact hP1
theorem gm_zld (C : gC E "GrowFormsModel" cc p s m c) (hP : va_P E.1 gcl (mW h q E.2.1 E.2.2.1 a ln th st) H) (i : Nat) {x v : Int32} (hi : x = nI i) (hlt : i < 120) (hv : a 7 i = v) (hdg : decode cc pc = .ok (.baload, 1))
    (kk : W p l e R s m args below meth c H locs cells slots Q (F0 m (pc + 1) ls (.int v :: rest))) : W p l e R s m args below meth c H locs cells slots Q (F0 m pc ls (.int x :: .ref (q 7) :: rest)) := by
  subst hi; subst hv
  refine va_zald C.1 C.2.1 C.2.2.2.2 hP 8 1 rfl rfl (vp_in_nI hlt (by decide)) hdg ?_
  rw [nI_clamp (by omega)]
  exact kk
theorem gm_zst (C : gC E "GrowFormsModel" cc p s m c) (hP : va_P E.1 gcl (mW h q E.2.1 E.2.2.1 a ln th st) H) (hD : va_D A (mW h q E.2.1 E.2.2.1 a0 ln0 th0 st0)) (hS : va_S A H0 H locs) (i : Nat) {x v : Int32} (hi : x = nI i) (hlt : i < 120) (hn : vp_nar .boolean v = v) (hdg : decode cc pc = .ok (.bastore, 1))
    (kk : ∀ (H1 : Heap) (locs1 : List Loc), va_P E.1 gcl (mW h q E.2.1 E.2.2.1 (va_up a 7 (upd (a 7) i v)) ln th st) H1 → va_S A H0 H1 locs1 → W p l e R s m args below meth c H1 locs1 cells slots Q (F0 m (pc + 1) ls rest)) : W p l e R s m args below meth c H locs cells slots Q (F0 m pc ls (.int v :: .int x :: .ref (q 7) :: rest)) := by
  subst hi
  refine va_zast C.1 C.2.1 C.2.2.2.2 hP (mW_D hD) hS 8 1 (f := a 7) rfl rfl (vp_in_nI hlt (by decide)) hdg (fun H1 locs1 hP1 _ hS1 => kk H1 locs1 ?_ hS1)
  rw [nI_clamp (by omega), hn] at hP1
  exact hP1
theorem gm_recv (C : gT E s) (hP : va_P E.1 gcl (mW h q E.2.1 E.2.2.1 a ln th st) H) : ∃ cell : Cell, H[h]? = some cell ∧ cell.vm.isStatics = false ∧ s.vm.findClass "GrowFormsModel" = some cell.cls :=
  va_recv (q := ("GrowFormsModel", F_GM, 11)) (q0 := 0) (ci := 1) (fs := mFs q ln th st) C.2 hP rfl rfl
-- the law's long[1]
theorem gl_lld {own : String} {o : Nat} {f : Nat → Int64} (C : gC E own cc p s m c) (hP : va_P E.1 gcl (oW o E.2.2.2 f) H) (hdg : decode cc pc = .ok (.laload, 1))
    (kk : W p l e R s m args below meth c H locs cells slots Q (F0 m (pc + 1) ls (.long (f 0) :: rest))) : W p l e R s m args below meth c H locs cells slots Q (F0 m pc ls (.int 0 :: .ref o :: rest)) := by
  refine va_lald (i := 0) C.1 C.2.1 C.2.2.2.2 hP 0 2 rfl rfl (by unfold vp_in; decide +kernel) hdg ?_
  exact kk
theorem gl_lst {own : String} {o : Nat} {f : Nat → Int64} {ws : va_W} {v : Int64} (C : gC E own cc p s m c) (hP : va_P E.1 gcl (oW o E.2.2.2 f ++ ws) H) (hD : va_D A (oW o E.2.2.2 f ++ ws)) (hS : va_S A H0 H locs) (hdg : decode cc pc = .ok (.lastore, 1))
    (kk : ∀ (H1 : Heap) (locs1 : List Loc), va_P E.1 gcl (oW o E.2.2.2 (vp_updL f 0 v) ++ ws) H1 → va_S A H0 H1 locs1 → W p l e R s m args below meth c H1 locs1 cells slots Q (F0 m (pc + 1) ls rest)) : W p l e R s m args below meth c H locs cells slots Q (F0 m pc ls (.long v :: .int 0 :: .ref o :: rest)) :=
  va_last (i := 0) C.1 C.2.1 C.2.2.2.2 hP hD hS 0 2 (n := 1) (f := f) rfl rfl (by unfold vp_in; decide +kernel) hdg (fun H1 locs1 hP1 _ hS1 => kk H1 locs1 hP1 hS1)
end GW
theorem gx_Pl {D : va_G} {cl : List vw_C} {w1 w2 : va_W} {H : Heap} (h : va_P D cl (w1 ++ w2) H) : va_P D cl w1 H := fun k q hk => h k q (by rw [List.getElem?_append_left (List.getElem?_eq_some_iff.mp hk).1]; exact hk)
theorem gx_Pr {D : va_G} {cl : List vw_C} {w1 w2 : va_W} {H : Heap} (h : va_P D cl (w1 ++ w2) H) : va_P D cl w2 H := fun k q hk => h (w1.length + k) q (by rw [List.getElem?_append_right (Nat.le_add_right _ _), Nat.add_sub_cancel_left]; exact hk)
end
section
-- gf_init
theorem d_gf_init_0 : decode prog_1_method_1_code 0 = .ok (.aload_n 0, 1) := by decide +kernel
theorem d_gf_init_1 : decode prog_1_method_1_code 1 = .ok (.invokespecial 1, 3) := by decide +kernel
theorem d_gf_init_4 : decode prog_1_method_1_code 4 = .ok (.aload_n 0, 1) := by decide +kernel
theorem d_gf_init_5 : decode prog_1_method_1_code 5 = .ok (.bipush 120, 2) := by decide +kernel
theorem d_gf_init_7 : decode prog_1_method_1_code 7 = .ok (.newarray .int, 2) := by decide +kernel
theorem d_gf_init_9 : decode prog_1_method_1_code 9 = .ok (.putfield 9, 3) := by decide +kernel
theorem d_gf_init_12 : decode prog_1_method_1_code 12 = .ok (.aload_n 0, 1) := by decide +kernel
theorem d_gf_init_13 : decode prog_1_method_1_code 13 = .ok (.sipush 480, 3) := by decide +kernel
theorem d_gf_init_16 : decode prog_1_method_1_code 16 = .ok (.newarray .int, 2) := by decide +kernel
theorem d_gf_init_18 : decode prog_1_method_1_code 18 = .ok (.putfield 13, 3) := by decide +kernel
theorem d_gf_init_21 : decode prog_1_method_1_code 21 = .ok (.aload_n 0, 1) := by decide +kernel
theorem d_gf_init_22 : decode prog_1_method_1_code 22 = .ok (.sipush 480, 3) := by decide +kernel
theorem d_gf_init_25 : decode prog_1_method_1_code 25 = .ok (.newarray .int, 2) := by decide +kernel
theorem d_gf_init_27 : decode prog_1_method_1_code 27 = .ok (.putfield 16, 3) := by decide +kernel
theorem d_gf_init_30 : decode prog_1_method_1_code 30 = .ok (.aload_n 0, 1) := by decide +kernel
theorem d_gf_init_31 : decode prog_1_method_1_code 31 = .ok (.sipush 480, 3) := by decide +kernel
theorem d_gf_init_34 : decode prog_1_method_1_code 34 = .ok (.newarray .int, 2) := by decide +kernel
theorem d_gf_init_36 : decode prog_1_method_1_code 36 = .ok (.putfield 19, 3) := by decide +kernel
theorem d_gf_init_39 : decode prog_1_method_1_code 39 = .ok (.aload_n 0, 1) := by decide +kernel
theorem d_gf_init_40 : decode prog_1_method_1_code 40 = .ok (.bipush 120, 2) := by decide +kernel
theorem d_gf_init_42 : decode prog_1_method_1_code 42 = .ok (.newarray .int, 2) := by decide +kernel
theorem d_gf_init_44 : decode prog_1_method_1_code 44 = .ok (.putfield 22, 3) := by decide +kernel
theorem d_gf_init_47 : decode prog_1_method_1_code 47 = .ok (.aload_n 0, 1) := by decide +kernel
theorem d_gf_init_48 : decode prog_1_method_1_code 48 = .ok (.bipush 120, 2) := by decide +kernel
theorem d_gf_init_50 : decode prog_1_method_1_code 50 = .ok (.newarray .int, 2) := by decide +kernel
theorem d_gf_init_52 : decode prog_1_method_1_code 52 = .ok (.putfield 25, 3) := by decide +kernel
theorem d_gf_init_55 : decode prog_1_method_1_code 55 = .ok (.aload_n 0, 1) := by decide +kernel
theorem d_gf_init_56 : decode prog_1_method_1_code 56 = .ok (.bipush 120, 2) := by decide +kernel
theorem d_gf_init_58 : decode prog_1_method_1_code 58 = .ok (.newarray .int, 2) := by decide +kernel
theorem d_gf_init_60 : decode prog_1_method_1_code 60 = .ok (.putfield 28, 3) := by decide +kernel
theorem d_gf_init_63 : decode prog_1_method_1_code 63 = .ok (.aload_n 0, 1) := by decide +kernel
theorem d_gf_init_64 : decode prog_1_method_1_code 64 = .ok (.bipush 121, 2) := by decide +kernel
theorem d_gf_init_66 : decode prog_1_method_1_code 66 = .ok (.newarray .int, 2) := by decide +kernel
theorem d_gf_init_68 : decode prog_1_method_1_code 68 = .ok (.putfield 31, 3) := by decide +kernel
theorem d_gf_init_71 : decode prog_1_method_1_code 71 = .ok (.aload_n 0, 1) := by decide +kernel
theorem d_gf_init_72 : decode prog_1_method_1_code 72 = .ok (.bipush 120, 2) := by decide +kernel
theorem d_gf_init_74 : decode prog_1_method_1_code 74 = .ok (.newarray .int, 2) := by decide +kernel
theorem d_gf_init_76 : decode prog_1_method_1_code 76 = .ok (.putfield 34, 3) := by decide +kernel
theorem d_gf_init_79 : decode prog_1_method_1_code 79 = .ok (.return_, 1) := by decide +kernel
-- gf_clear
theorem d_gf_clear_0 : decode prog_1_method_8_code 0 = .ok (.aload_n 0, 1) := by decide +kernel
theorem d_gf_clear_1 : decode prog_1_method_8_code 1 = .ok (.getfield 47, 3) := by decide +kernel
theorem d_gf_clear_4 : decode prog_1_method_8_code 4 = .ok (.istore_n 1, 1) := by decide +kernel
theorem d_gf_clear_5 : decode prog_1_method_8_code 5 = .ok (.aload_n 0, 1) := by decide +kernel
theorem d_gf_clear_6 : decode prog_1_method_8_code 6 = .ok (.iconst 0, 1) := by decide +kernel
theorem d_gf_clear_7 : decode prog_1_method_8_code 7 = .ok (.putfield 47, 3) := by decide +kernel
theorem d_gf_clear_10 : decode prog_1_method_8_code 10 = .ok (.aload_n 0, 1) := by decide +kernel
theorem d_gf_clear_11 : decode prog_1_method_8_code 11 = .ok (.iconst 0, 1) := by decide +kernel
theorem d_gf_clear_12 : decode prog_1_method_8_code 12 = .ok (.putfield 40, 3) := by decide +kernel
theorem d_gf_clear_15 : decode prog_1_method_8_code 15 = .ok (.iload_n 1, 1) := by decide +kernel
theorem d_gf_clear_16 : decode prog_1_method_8_code 16 = .ok (.ireturn, 1) := by decide +kernel
-- gf_line
theorem d_gf_line_0 : decode prog_1_method_5_code 0 = .ok (.aload_n 0, 1) := by decide +kernel
theorem d_gf_line_1 : decode prog_1_method_5_code 1 = .ok (.getfield 47, 3) := by decide +kernel
theorem d_gf_line_4 : decode prog_1_method_5_code 4 = .ok (.bipush 120, 2) := by decide +kernel
theorem d_gf_line_6 : decode prog_1_method_5_code 6 = .ok (.if_icmp .ne 11, 3) := by decide +kernel
theorem d_gf_line_9 : decode prog_1_method_5_code 9 = .ok (.new 44, 3) := by decide +kernel
theorem d_gf_line_12 : decode prog_1_method_5_code 12 = .ok (.dup, 1) := by decide +kernel
theorem d_gf_line_13 : decode prog_1_method_5_code 13 = .ok (.invokespecial 46, 3) := by decide +kernel
theorem d_gf_line_16 : decode prog_1_method_5_code 16 = .ok (.athrow, 1) := by decide +kernel
theorem d_gf_line_17 : decode prog_1_method_5_code 17 = .ok (.aload_n 0, 1) := by decide +kernel
theorem d_gf_line_18 : decode prog_1_method_5_code 18 = .ok (.getfield 9, 3) := by decide +kernel
theorem d_gf_line_21 : decode prog_1_method_5_code 21 = .ok (.aload_n 0, 1) := by decide +kernel
theorem d_gf_line_22 : decode prog_1_method_5_code 22 = .ok (.getfield 47, 3) := by decide +kernel
theorem d_gf_line_25 : decode prog_1_method_5_code 25 = .ok (.iconst 0, 1) := by decide +kernel
theorem d_gf_line_26 : decode prog_1_method_5_code 26 = .ok (.iastore, 1) := by decide +kernel
theorem d_gf_line_27 : decode prog_1_method_5_code 27 = .ok (.aload_n 0, 1) := by decide +kernel
theorem d_gf_line_28 : decode prog_1_method_5_code 28 = .ok (.getfield 22, 3) := by decide +kernel
theorem d_gf_line_31 : decode prog_1_method_5_code 31 = .ok (.aload_n 0, 1) := by decide +kernel
theorem d_gf_line_32 : decode prog_1_method_5_code 32 = .ok (.getfield 47, 3) := by decide +kernel
theorem d_gf_line_35 : decode prog_1_method_5_code 35 = .ok (.iconst 0, 1) := by decide +kernel
theorem d_gf_line_36 : decode prog_1_method_5_code 36 = .ok (.iastore, 1) := by decide +kernel
theorem d_gf_line_37 : decode prog_1_method_5_code 37 = .ok (.aload_n 0, 1) := by decide +kernel
theorem d_gf_line_38 : decode prog_1_method_5_code 38 = .ok (.getfield 25, 3) := by decide +kernel
theorem d_gf_line_41 : decode prog_1_method_5_code 41 = .ok (.aload_n 0, 1) := by decide +kernel
theorem d_gf_line_42 : decode prog_1_method_5_code 42 = .ok (.getfield 47, 3) := by decide +kernel
theorem d_gf_line_45 : decode prog_1_method_5_code 45 = .ok (.iconst 0, 1) := by decide +kernel
theorem d_gf_line_46 : decode prog_1_method_5_code 46 = .ok (.iastore, 1) := by decide +kernel
theorem d_gf_line_47 : decode prog_1_method_5_code 47 = .ok (.aload_n 0, 1) := by decide +kernel
theorem d_gf_line_48 : decode prog_1_method_5_code 48 = .ok (.dup, 1) := by decide +kernel
theorem d_gf_line_49 : decode prog_1_method_5_code 49 = .ok (.getfield 47, 3) := by decide +kernel
theorem d_gf_line_52 : decode prog_1_method_5_code 52 = .ok (.iconst 1, 1) := by decide +kernel
theorem d_gf_line_53 : decode prog_1_method_5_code 53 = .ok (.iadd, 1) := by decide +kernel
theorem d_gf_line_54 : decode prog_1_method_5_code 54 = .ok (.putfield 47, 3) := by decide +kernel
theorem d_gf_line_57 : decode prog_1_method_5_code 57 = .ok (.aload_n 0, 1) := by decide +kernel
theorem d_gf_line_58 : decode prog_1_method_5_code 58 = .ok (.iconst 0, 1) := by decide +kernel
theorem d_gf_line_59 : decode prog_1_method_5_code 59 = .ok (.putfield 40, 3) := by decide +kernel
theorem d_gf_line_62 : decode prog_1_method_5_code 62 = .ok (.aload_n 0, 1) := by decide +kernel
theorem d_gf_line_63 : decode prog_1_method_5_code 63 = .ok (.getfield 47, 3) := by decide +kernel
theorem d_gf_line_66 : decode prog_1_method_5_code 66 = .ok (.iconst 1, 1) := by decide +kernel
theorem d_gf_line_67 : decode prog_1_method_5_code 67 = .ok (.isub, 1) := by decide +kernel
theorem d_gf_line_68 : decode prog_1_method_5_code 68 = .ok (.ireturn, 1) := by decide +kernel
-- gf_form
theorem d_gf_form_0 : decode prog_1_method_6_code 0 = .ok (.iload_n 1, 1) := by decide +kernel
theorem d_gf_form_1 : decode prog_1_method_6_code 1 = .ok (.i2l, 1) := by decide +kernel
theorem d_gf_form_2 : decode prog_1_method_6_code 2 = .ok (.lconst 1, 1) := by decide +kernel
theorem d_gf_form_3 : decode prog_1_method_6_code 3 = .ok (.ldc2_w 51, 3) := by decide +kernel
theorem d_gf_form_6 : decode prog_1_method_6_code 6 = .ok (.invokestatic 53, 3) := by decide +kernel
theorem d_gf_form_9 : decode prog_1_method_6_code 9 = .ok (.ifCond .eq 27, 3) := by decide +kernel
theorem d_gf_form_12 : decode prog_1_method_6_code 12 = .ok (.iload_n 2, 1) := by decide +kernel
theorem d_gf_form_13 : decode prog_1_method_6_code 13 = .ok (.i2l, 1) := by decide +kernel
theorem d_gf_form_14 : decode prog_1_method_6_code 14 = .ok (.lconst 1, 1) := by decide +kernel
theorem d_gf_form_15 : decode prog_1_method_6_code 15 = .ok (.ldc2_w 57, 3) := by decide +kernel
theorem d_gf_form_18 : decode prog_1_method_6_code 18 = .ok (.invokestatic 53, 3) := by decide +kernel
theorem d_gf_form_21 : decode prog_1_method_6_code 21 = .ok (.ifCond .eq 15, 3) := by decide +kernel
theorem d_gf_form_24 : decode prog_1_method_6_code 24 = .ok (.iload_n 3, 1) := by decide +kernel
theorem d_gf_form_25 : decode prog_1_method_6_code 25 = .ok (.i2l, 1) := by decide +kernel
theorem d_gf_form_26 : decode prog_1_method_6_code 26 = .ok (.lconst 0, 1) := by decide +kernel
theorem d_gf_form_27 : decode prog_1_method_6_code 27 = .ok (.ldc2_w 59, 3) := by decide +kernel
theorem d_gf_form_30 : decode prog_1_method_6_code 30 = .ok (.invokestatic 53, 3) := by decide +kernel
theorem d_gf_form_33 : decode prog_1_method_6_code 33 = .ok (.ifCond .ne 11, 3) := by decide +kernel
theorem d_gf_form_36 : decode prog_1_method_6_code 36 = .ok (.new 61, 3) := by decide +kernel
theorem d_gf_form_39 : decode prog_1_method_6_code 39 = .ok (.dup, 1) := by decide +kernel
theorem d_gf_form_40 : decode prog_1_method_6_code 40 = .ok (.invokespecial 63, 3) := by decide +kernel
theorem d_gf_form_43 : decode prog_1_method_6_code 43 = .ok (.athrow, 1) := by decide +kernel
theorem d_gf_form_44 : decode prog_1_method_6_code 44 = .ok (.aload_n 0, 1) := by decide +kernel
theorem d_gf_form_45 : decode prog_1_method_6_code 45 = .ok (.getfield 47, 3) := by decide +kernel
theorem d_gf_form_48 : decode prog_1_method_6_code 48 = .ok (.ifCond .eq 18, 3) := by decide +kernel
theorem d_gf_form_51 : decode prog_1_method_6_code 51 = .ok (.aload_n 0, 1) := by decide +kernel
theorem d_gf_form_52 : decode prog_1_method_6_code 52 = .ok (.getfield 9, 3) := by decide +kernel
theorem d_gf_form_55 : decode prog_1_method_6_code 55 = .ok (.aload_n 0, 1) := by decide +kernel
theorem d_gf_form_56 : decode prog_1_method_6_code 56 = .ok (.getfield 47, 3) := by decide +kernel
theorem d_gf_form_59 : decode prog_1_method_6_code 59 = .ok (.iconst 1, 1) := by decide +kernel
theorem d_gf_form_60 : decode prog_1_method_6_code 60 = .ok (.isub, 1) := by decide +kernel
theorem d_gf_form_61 : decode prog_1_method_6_code 61 = .ok (.iaload, 1) := by decide +kernel
theorem d_gf_form_62 : decode prog_1_method_6_code 62 = .ok (.iconst 4, 1) := by decide +kernel
theorem d_gf_form_63 : decode prog_1_method_6_code 63 = .ok (.if_icmp .ne 11, 3) := by decide +kernel
theorem d_gf_form_66 : decode prog_1_method_6_code 66 = .ok (.new 44, 3) := by decide +kernel
theorem d_gf_form_69 : decode prog_1_method_6_code 69 = .ok (.dup, 1) := by decide +kernel
theorem d_gf_form_70 : decode prog_1_method_6_code 70 = .ok (.invokespecial 46, 3) := by decide +kernel
theorem d_gf_form_73 : decode prog_1_method_6_code 73 = .ok (.athrow, 1) := by decide +kernel
theorem d_gf_form_74 : decode prog_1_method_6_code 74 = .ok (.aload_n 0, 1) := by decide +kernel
theorem d_gf_form_75 : decode prog_1_method_6_code 75 = .ok (.getfield 47, 3) := by decide +kernel
theorem d_gf_form_78 : decode prog_1_method_6_code 78 = .ok (.iconst 1, 1) := by decide +kernel
theorem d_gf_form_79 : decode prog_1_method_6_code 79 = .ok (.isub, 1) := by decide +kernel
theorem d_gf_form_80 : decode prog_1_method_6_code 80 = .ok (.iconst 4, 1) := by decide +kernel
theorem d_gf_form_81 : decode prog_1_method_6_code 81 = .ok (.imul, 1) := by decide +kernel
theorem d_gf_form_82 : decode prog_1_method_6_code 82 = .ok (.aload_n 0, 1) := by decide +kernel
theorem d_gf_form_83 : decode prog_1_method_6_code 83 = .ok (.getfield 9, 3) := by decide +kernel
theorem d_gf_form_86 : decode prog_1_method_6_code 86 = .ok (.aload_n 0, 1) := by decide +kernel
theorem d_gf_form_87 : decode prog_1_method_6_code 87 = .ok (.getfield 47, 3) := by decide +kernel
theorem d_gf_form_90 : decode prog_1_method_6_code 90 = .ok (.iconst 1, 1) := by decide +kernel
theorem d_gf_form_91 : decode prog_1_method_6_code 91 = .ok (.isub, 1) := by decide +kernel
theorem d_gf_form_92 : decode prog_1_method_6_code 92 = .ok (.iaload, 1) := by decide +kernel
theorem d_gf_form_93 : decode prog_1_method_6_code 93 = .ok (.iadd, 1) := by decide +kernel
theorem d_gf_form_94 : decode prog_1_method_6_code 94 = .ok (.istore 4, 2) := by decide +kernel
theorem d_gf_form_96 : decode prog_1_method_6_code 96 = .ok (.aload_n 0, 1) := by decide +kernel
theorem d_gf_form_97 : decode prog_1_method_6_code 97 = .ok (.getfield 13, 3) := by decide +kernel
theorem d_gf_form_100 : decode prog_1_method_6_code 100 = .ok (.iload 4, 2) := by decide +kernel
theorem d_gf_form_102 : decode prog_1_method_6_code 102 = .ok (.iload_n 1, 1) := by decide +kernel
theorem d_gf_form_103 : decode prog_1_method_6_code 103 = .ok (.iastore, 1) := by decide +kernel
theorem d_gf_form_104 : decode prog_1_method_6_code 104 = .ok (.aload_n 0, 1) := by decide +kernel
theorem d_gf_form_105 : decode prog_1_method_6_code 105 = .ok (.getfield 16, 3) := by decide +kernel
theorem d_gf_form_108 : decode prog_1_method_6_code 108 = .ok (.iload 4, 2) := by decide +kernel
theorem d_gf_form_110 : decode prog_1_method_6_code 110 = .ok (.iload_n 2, 1) := by decide +kernel
theorem d_gf_form_111 : decode prog_1_method_6_code 111 = .ok (.iastore, 1) := by decide +kernel
theorem d_gf_form_112 : decode prog_1_method_6_code 112 = .ok (.aload_n 0, 1) := by decide +kernel
theorem d_gf_form_113 : decode prog_1_method_6_code 113 = .ok (.getfield 19, 3) := by decide +kernel
theorem d_gf_form_116 : decode prog_1_method_6_code 116 = .ok (.iload 4, 2) := by decide +kernel
theorem d_gf_form_118 : decode prog_1_method_6_code 118 = .ok (.iload_n 3, 1) := by decide +kernel
theorem d_gf_form_119 : decode prog_1_method_6_code 119 = .ok (.iastore, 1) := by decide +kernel
theorem d_gf_form_120 : decode prog_1_method_6_code 120 = .ok (.aload_n 0, 1) := by decide +kernel
theorem d_gf_form_121 : decode prog_1_method_6_code 121 = .ok (.getfield 9, 3) := by decide +kernel
theorem d_gf_form_124 : decode prog_1_method_6_code 124 = .ok (.aload_n 0, 1) := by decide +kernel
theorem d_gf_form_125 : decode prog_1_method_6_code 125 = .ok (.getfield 47, 3) := by decide +kernel
theorem d_gf_form_128 : decode prog_1_method_6_code 128 = .ok (.iconst 1, 1) := by decide +kernel
theorem d_gf_form_129 : decode prog_1_method_6_code 129 = .ok (.isub, 1) := by decide +kernel
theorem d_gf_form_130 : decode prog_1_method_6_code 130 = .ok (.dup2, 1) := by decide +kernel
theorem d_gf_form_131 : decode prog_1_method_6_code 131 = .ok (.iaload, 1) := by decide +kernel
theorem d_gf_form_132 : decode prog_1_method_6_code 132 = .ok (.iconst 1, 1) := by decide +kernel
theorem d_gf_form_133 : decode prog_1_method_6_code 133 = .ok (.iadd, 1) := by decide +kernel
theorem d_gf_form_134 : decode prog_1_method_6_code 134 = .ok (.iastore, 1) := by decide +kernel
theorem d_gf_form_135 : decode prog_1_method_6_code 135 = .ok (.aload_n 0, 1) := by decide +kernel
theorem d_gf_form_136 : decode prog_1_method_6_code 136 = .ok (.iconst 0, 1) := by decide +kernel
theorem d_gf_form_137 : decode prog_1_method_6_code 137 = .ok (.putfield 40, 3) := by decide +kernel
theorem d_gf_form_140 : decode prog_1_method_6_code 140 = .ok (.aload_n 0, 1) := by decide +kernel
theorem d_gf_form_141 : decode prog_1_method_6_code 141 = .ok (.getfield 9, 3) := by decide +kernel
theorem d_gf_form_144 : decode prog_1_method_6_code 144 = .ok (.aload_n 0, 1) := by decide +kernel
theorem d_gf_form_145 : decode prog_1_method_6_code 145 = .ok (.getfield 47, 3) := by decide +kernel
theorem d_gf_form_148 : decode prog_1_method_6_code 148 = .ok (.iconst 1, 1) := by decide +kernel
theorem d_gf_form_149 : decode prog_1_method_6_code 149 = .ok (.isub, 1) := by decide +kernel
theorem d_gf_form_150 : decode prog_1_method_6_code 150 = .ok (.iaload, 1) := by decide +kernel
theorem d_gf_form_151 : decode prog_1_method_6_code 151 = .ok (.ireturn, 1) := by decide +kernel
-- gf_in
theorem d_gf_in_0 : decode prog_1_method_2_code 0 = .ok (.lload_n 0, 1) := by decide +kernel
theorem d_gf_in_1 : decode prog_1_method_2_code 1 = .ok (.lload_n 2, 1) := by decide +kernel
theorem d_gf_in_2 : decode prog_1_method_2_code 2 = .ok (.lcmp, 1) := by decide +kernel
theorem d_gf_in_3 : decode prog_1_method_2_code 3 = .ok (.ifCond .lt 14, 3) := by decide +kernel
theorem d_gf_in_6 : decode prog_1_method_2_code 6 = .ok (.lload_n 0, 1) := by decide +kernel
theorem d_gf_in_7 : decode prog_1_method_2_code 7 = .ok (.lload 4, 2) := by decide +kernel
theorem d_gf_in_9 : decode prog_1_method_2_code 9 = .ok (.lcmp, 1) := by decide +kernel
theorem d_gf_in_10 : decode prog_1_method_2_code 10 = .ok (.ifCond .gt 7, 3) := by decide +kernel
theorem d_gf_in_13 : decode prog_1_method_2_code 13 = .ok (.iconst 1, 1) := by decide +kernel
theorem d_gf_in_14 : decode prog_1_method_2_code 14 = .ok (.goto 4, 3) := by decide +kernel
theorem d_gf_in_17 : decode prog_1_method_2_code 17 = .ok (.iconst 0, 1) := by decide +kernel
theorem d_gf_in_18 : decode prog_1_method_2_code 18 = .ok (.ireturn, 1) := by decide +kernel
-- gf_aim
theorem d_gf_aim_0 : decode prog_1_method_7_code 0 = .ok (.iload_n 1, 1) := by decide +kernel
theorem d_gf_aim_1 : decode prog_1_method_7_code 1 = .ok (.i2l, 1) := by decide +kernel
theorem d_gf_aim_2 : decode prog_1_method_7_code 2 = .ok (.lconst 0, 1) := by decide +kernel
theorem d_gf_aim_3 : decode prog_1_method_7_code 3 = .ok (.aload_n 0, 1) := by decide +kernel
theorem d_gf_aim_4 : decode prog_1_method_7_code 4 = .ok (.getfield 47, 3) := by decide +kernel
theorem d_gf_aim_7 : decode prog_1_method_7_code 7 = .ok (.iconst 1, 1) := by decide +kernel
theorem d_gf_aim_8 : decode prog_1_method_7_code 8 = .ok (.isub, 1) := by decide +kernel
theorem d_gf_aim_9 : decode prog_1_method_7_code 9 = .ok (.i2l, 1) := by decide +kernel
theorem d_gf_aim_10 : decode prog_1_method_7_code 10 = .ok (.invokestatic 53, 3) := by decide +kernel
theorem d_gf_aim_13 : decode prog_1_method_7_code 13 = .ok (.ifCond .eq 21, 3) := by decide +kernel
theorem d_gf_aim_16 : decode prog_1_method_7_code 16 = .ok (.iload_n 2, 1) := by decide +kernel
theorem d_gf_aim_17 : decode prog_1_method_7_code 17 = .ok (.i2l, 1) := by decide +kernel
theorem d_gf_aim_18 : decode prog_1_method_7_code 18 = .ok (.lconst 0, 1) := by decide +kernel
theorem d_gf_aim_19 : decode prog_1_method_7_code 19 = .ok (.aload_n 0, 1) := by decide +kernel
theorem d_gf_aim_20 : decode prog_1_method_7_code 20 = .ok (.getfield 47, 3) := by decide +kernel
theorem d_gf_aim_23 : decode prog_1_method_7_code 23 = .ok (.i2l, 1) := by decide +kernel
theorem d_gf_aim_24 : decode prog_1_method_7_code 24 = .ok (.invokestatic 53, 3) := by decide +kernel
theorem d_gf_aim_27 : decode prog_1_method_7_code 27 = .ok (.ifCond .eq 7, 3) := by decide +kernel
theorem d_gf_aim_30 : decode prog_1_method_7_code 30 = .ok (.iconst 1, 1) := by decide +kernel
theorem d_gf_aim_31 : decode prog_1_method_7_code 31 = .ok (.goto 4, 3) := by decide +kernel
theorem d_gf_aim_34 : decode prog_1_method_7_code 34 = .ok (.iconst 0, 1) := by decide +kernel
theorem d_gf_aim_35 : decode prog_1_method_7_code 35 = .ok (.invokestatic 64, 3) := by decide +kernel
theorem d_gf_aim_38 : decode prog_1_method_7_code 38 = .ok (.aload_n 0, 1) := by decide +kernel
theorem d_gf_aim_39 : decode prog_1_method_7_code 39 = .ok (.getfield 22, 3) := by decide +kernel
theorem d_gf_aim_42 : decode prog_1_method_7_code 42 = .ok (.iload_n 1, 1) := by decide +kernel
theorem d_gf_aim_43 : decode prog_1_method_7_code 43 = .ok (.iload_n 2, 1) := by decide +kernel
theorem d_gf_aim_44 : decode prog_1_method_7_code 44 = .ok (.iastore, 1) := by decide +kernel
theorem d_gf_aim_45 : decode prog_1_method_7_code 45 = .ok (.aload_n 0, 1) := by decide +kernel
theorem d_gf_aim_46 : decode prog_1_method_7_code 46 = .ok (.getfield 25, 3) := by decide +kernel
theorem d_gf_aim_49 : decode prog_1_method_7_code 49 = .ok (.iload_n 1, 1) := by decide +kernel
theorem d_gf_aim_50 : decode prog_1_method_7_code 50 = .ok (.iload_n 3, 1) := by decide +kernel
theorem d_gf_aim_51 : decode prog_1_method_7_code 51 = .ok (.iastore, 1) := by decide +kernel
theorem d_gf_aim_52 : decode prog_1_method_7_code 52 = .ok (.aload_n 0, 1) := by decide +kernel
theorem d_gf_aim_53 : decode prog_1_method_7_code 53 = .ok (.iconst 0, 1) := by decide +kernel
theorem d_gf_aim_54 : decode prog_1_method_7_code 54 = .ok (.putfield 40, 3) := by decide +kernel
theorem d_gf_aim_57 : decode prog_1_method_7_code 57 = .ok (.return_, 1) := by decide +kernel
-- gf_there
theorem d_gf_there_0 : decode prog_1_method_3_code 0 = .ok (.iload_n 0, 1) := by decide +kernel
theorem d_gf_there_1 : decode prog_1_method_3_code 1 = .ok (.ifCond .ne 11, 3) := by decide +kernel
theorem d_gf_there_4 : decode prog_1_method_3_code 4 = .ok (.new 37, 3) := by decide +kernel
theorem d_gf_there_7 : decode prog_1_method_3_code 7 = .ok (.dup, 1) := by decide +kernel
theorem d_gf_there_8 : decode prog_1_method_3_code 8 = .ok (.invokespecial 39, 3) := by decide +kernel
theorem d_gf_there_11 : decode prog_1_method_3_code 11 = .ok (.athrow, 1) := by decide +kernel
theorem d_gf_there_12 : decode prog_1_method_3_code 12 = .ok (.return_, 1) := by decide +kernel
-- gf_settle
theorem d_gf_settle_0 : decode prog_1_method_11_code 0 = .ok (.aload_n 0, 1) := by decide +kernel
theorem d_gf_settle_1 : decode prog_1_method_11_code 1 = .ok (.iconst 1, 1) := by decide +kernel
theorem d_gf_settle_2 : decode prog_1_method_11_code 2 = .ok (.putfield 40, 3) := by decide +kernel
theorem d_gf_settle_5 : decode prog_1_method_11_code 5 = .ok (.iconst 0, 1) := by decide +kernel
theorem d_gf_settle_6 : decode prog_1_method_11_code 6 = .ok (.istore_n 1, 1) := by decide +kernel
theorem d_gf_settle_7 : decode prog_1_method_11_code 7 = .ok (.iconst 0, 1) := by decide +kernel
theorem d_gf_settle_8 : decode prog_1_method_11_code 8 = .ok (.istore_n 2, 1) := by decide +kernel
theorem d_gf_settle_9 : decode prog_1_method_11_code 9 = .ok (.iload_n 2, 1) := by decide +kernel
theorem d_gf_settle_10 : decode prog_1_method_11_code 10 = .ok (.aload_n 0, 1) := by decide +kernel
theorem d_gf_settle_11 : decode prog_1_method_11_code 11 = .ok (.getfield 47, 3) := by decide +kernel
theorem d_gf_settle_14 : decode prog_1_method_11_code 14 = .ok (.if_icmp .ge 56, 3) := by decide +kernel
theorem d_gf_settle_17 : decode prog_1_method_11_code 17 = .ok (.aload_n 0, 1) := by decide +kernel
theorem d_gf_settle_18 : decode prog_1_method_11_code 18 = .ok (.getfield 28, 3) := by decide +kernel
theorem d_gf_settle_21 : decode prog_1_method_11_code 21 = .ok (.iload_n 2, 1) := by decide +kernel
theorem d_gf_settle_22 : decode prog_1_method_11_code 22 = .ok (.aload_n 0, 1) := by decide +kernel
theorem d_gf_settle_23 : decode prog_1_method_11_code 23 = .ok (.getfield 9, 3) := by decide +kernel
theorem d_gf_settle_26 : decode prog_1_method_11_code 26 = .ok (.iload_n 2, 1) := by decide +kernel
theorem d_gf_settle_27 : decode prog_1_method_11_code 27 = .ok (.iaload, 1) := by decide +kernel
theorem d_gf_settle_28 : decode prog_1_method_11_code 28 = .ok (.ifCond .ne 7, 3) := by decide +kernel
theorem d_gf_settle_31 : decode prog_1_method_11_code 31 = .ok (.iconst (-1), 1) := by decide +kernel
theorem d_gf_settle_32 : decode prog_1_method_11_code 32 = .ok (.goto 4, 3) := by decide +kernel
theorem d_gf_settle_35 : decode prog_1_method_11_code 35 = .ok (.iconst 0, 1) := by decide +kernel
theorem d_gf_settle_36 : decode prog_1_method_11_code 36 = .ok (.iastore, 1) := by decide +kernel
theorem d_gf_settle_37 : decode prog_1_method_11_code 37 = .ok (.aload_n 0, 1) := by decide +kernel
theorem d_gf_settle_38 : decode prog_1_method_11_code 38 = .ok (.getfield 31, 3) := by decide +kernel
theorem d_gf_settle_41 : decode prog_1_method_11_code 41 = .ok (.iload_n 2, 1) := by decide +kernel
theorem d_gf_settle_42 : decode prog_1_method_11_code 42 = .ok (.iload_n 1, 1) := by decide +kernel
theorem d_gf_settle_43 : decode prog_1_method_11_code 43 = .ok (.iastore, 1) := by decide +kernel
theorem d_gf_settle_44 : decode prog_1_method_11_code 44 = .ok (.aload_n 0, 1) := by decide +kernel
theorem d_gf_settle_45 : decode prog_1_method_11_code 45 = .ok (.getfield 9, 3) := by decide +kernel
theorem d_gf_settle_48 : decode prog_1_method_11_code 48 = .ok (.iload_n 2, 1) := by decide +kernel
theorem d_gf_settle_49 : decode prog_1_method_11_code 49 = .ok (.iaload, 1) := by decide +kernel
theorem d_gf_settle_50 : decode prog_1_method_11_code 50 = .ok (.ifCond .le 14, 3) := by decide +kernel
theorem d_gf_settle_53 : decode prog_1_method_11_code 53 = .ok (.iload_n 1, 1) := by decide +kernel
theorem d_gf_settle_54 : decode prog_1_method_11_code 54 = .ok (.aload_n 0, 1) := by decide +kernel
theorem d_gf_settle_55 : decode prog_1_method_11_code 55 = .ok (.getfield 13, 3) := by decide +kernel
theorem d_gf_settle_58 : decode prog_1_method_11_code 58 = .ok (.iload_n 2, 1) := by decide +kernel
theorem d_gf_settle_59 : decode prog_1_method_11_code 59 = .ok (.iconst 4, 1) := by decide +kernel
theorem d_gf_settle_60 : decode prog_1_method_11_code 60 = .ok (.imul, 1) := by decide +kernel
theorem d_gf_settle_61 : decode prog_1_method_11_code 61 = .ok (.iaload, 1) := by decide +kernel
theorem d_gf_settle_62 : decode prog_1_method_11_code 62 = .ok (.iadd, 1) := by decide +kernel
theorem d_gf_settle_63 : decode prog_1_method_11_code 63 = .ok (.istore_n 1, 1) := by decide +kernel
theorem d_gf_settle_64 : decode prog_1_method_11_code 64 = .ok (.iinc 2 1, 3) := by decide +kernel
theorem d_gf_settle_67 : decode prog_1_method_11_code 67 = .ok (.goto (-58), 3) := by decide +kernel
theorem d_gf_settle_70 : decode prog_1_method_11_code 70 = .ok (.aload_n 0, 1) := by decide +kernel
theorem d_gf_settle_71 : decode prog_1_method_11_code 71 = .ok (.getfield 31, 3) := by decide +kernel
theorem d_gf_settle_74 : decode prog_1_method_11_code 74 = .ok (.aload_n 0, 1) := by decide +kernel
theorem d_gf_settle_75 : decode prog_1_method_11_code 75 = .ok (.getfield 47, 3) := by decide +kernel
theorem d_gf_settle_78 : decode prog_1_method_11_code 78 = .ok (.iload_n 1, 1) := by decide +kernel
theorem d_gf_settle_79 : decode prog_1_method_11_code 79 = .ok (.iastore, 1) := by decide +kernel
theorem d_gf_settle_80 : decode prog_1_method_11_code 80 = .ok (.iconst 0, 1) := by decide +kernel
theorem d_gf_settle_81 : decode prog_1_method_11_code 81 = .ok (.istore_n 2, 1) := by decide +kernel
theorem d_gf_settle_82 : decode prog_1_method_11_code 82 = .ok (.aload_n 0, 1) := by decide +kernel
theorem d_gf_settle_83 : decode prog_1_method_11_code 83 = .ok (.getfield 31, 3) := by decide +kernel
theorem d_gf_settle_86 : decode prog_1_method_11_code 86 = .ok (.aload_n 0, 1) := by decide +kernel
theorem d_gf_settle_87 : decode prog_1_method_11_code 87 = .ok (.getfield 47, 3) := by decide +kernel
theorem d_gf_settle_90 : decode prog_1_method_11_code 90 = .ok (.iaload, 1) := by decide +kernel
theorem d_gf_settle_91 : decode prog_1_method_11_code 91 = .ok (.sipush 4096, 3) := by decide +kernel
theorem d_gf_settle_94 : decode prog_1_method_11_code 94 = .ok (.if_icmp .le 11, 3) := by decide +kernel
theorem d_gf_settle_97 : decode prog_1_method_11_code 97 = .ok (.new 44, 3) := by decide +kernel
theorem d_gf_settle_100 : decode prog_1_method_11_code 100 = .ok (.dup, 1) := by decide +kernel
theorem d_gf_settle_101 : decode prog_1_method_11_code 101 = .ok (.invokespecial 46, 3) := by decide +kernel
theorem d_gf_settle_104 : decode prog_1_method_11_code 104 = .ok (.athrow, 1) := by decide +kernel
theorem d_gf_settle_105 : decode prog_1_method_11_code 105 = .ok (.iconst 0, 1) := by decide +kernel
theorem d_gf_settle_106 : decode prog_1_method_11_code 106 = .ok (.istore_n 3, 1) := by decide +kernel
theorem d_gf_settle_107 : decode prog_1_method_11_code 107 = .ok (.iconst 0, 1) := by decide +kernel
theorem d_gf_settle_108 : decode prog_1_method_11_code 108 = .ok (.istore 4, 2) := by decide +kernel
theorem d_gf_settle_110 : decode prog_1_method_11_code 110 = .ok (.iconst 0, 1) := by decide +kernel
theorem d_gf_settle_111 : decode prog_1_method_11_code 111 = .ok (.istore 5, 2) := by decide +kernel
theorem d_gf_settle_113 : decode prog_1_method_11_code 113 = .ok (.iload 5, 2) := by decide +kernel
theorem d_gf_settle_115 : decode prog_1_method_11_code 115 = .ok (.aload_n 0, 1) := by decide +kernel
theorem d_gf_settle_116 : decode prog_1_method_11_code 116 = .ok (.getfield 47, 3) := by decide +kernel
theorem d_gf_settle_119 : decode prog_1_method_11_code 119 = .ok (.if_icmp .ge 63, 3) := by decide +kernel
theorem d_gf_settle_122 : decode prog_1_method_11_code 122 = .ok (.aload_n 0, 1) := by decide +kernel
theorem d_gf_settle_123 : decode prog_1_method_11_code 123 = .ok (.iload 5, 2) := by decide +kernel
theorem d_gf_settle_125 : decode prog_1_method_11_code 125 = .ok (.invokevirtual 74, 3) := by decide +kernel
theorem d_gf_settle_128 : decode prog_1_method_11_code 128 = .ok (.ifCond .eq 6, 3) := by decide +kernel
theorem d_gf_settle_131 : decode prog_1_method_11_code 131 = .ok (.goto 45, 3) := by decide +kernel
theorem d_gf_settle_134 : decode prog_1_method_11_code 134 = .ok (.aload_n 0, 1) := by decide +kernel
theorem d_gf_settle_135 : decode prog_1_method_11_code 135 = .ok (.getfield 34, 3) := by decide +kernel
theorem d_gf_settle_138 : decode prog_1_method_11_code 138 = .ok (.iload_n 3, 1) := by decide +kernel
theorem d_gf_settle_139 : decode prog_1_method_11_code 139 = .ok (.iload 5, 2) := by decide +kernel
theorem d_gf_settle_141 : decode prog_1_method_11_code 141 = .ok (.iastore, 1) := by decide +kernel
theorem d_gf_settle_142 : decode prog_1_method_11_code 142 = .ok (.iinc 3 1, 3) := by decide +kernel
theorem d_gf_settle_145 : decode prog_1_method_11_code 145 = .ok (.iload 4, 2) := by decide +kernel
theorem d_gf_settle_147 : decode prog_1_method_11_code 147 = .ok (.ifCond .ne 22, 3) := by decide +kernel
theorem d_gf_settle_150 : decode prog_1_method_11_code 150 = .ok (.aload_n 0, 1) := by decide +kernel
theorem d_gf_settle_151 : decode prog_1_method_11_code 151 = .ok (.getfield 28, 3) := by decide +kernel
theorem d_gf_settle_154 : decode prog_1_method_11_code 154 = .ok (.iload 5, 2) := by decide +kernel
theorem d_gf_settle_156 : decode prog_1_method_11_code 156 = .ok (.iaload, 1) := by decide +kernel
theorem d_gf_settle_157 : decode prog_1_method_11_code 157 = .ok (.aload_n 0, 1) := by decide +kernel
theorem d_gf_settle_158 : decode prog_1_method_11_code 158 = .ok (.getfield 9, 3) := by decide +kernel
theorem d_gf_settle_161 : decode prog_1_method_11_code 161 = .ok (.iload 5, 2) := by decide +kernel
theorem d_gf_settle_163 : decode prog_1_method_11_code 163 = .ok (.iaload, 1) := by decide +kernel
theorem d_gf_settle_164 : decode prog_1_method_11_code 164 = .ok (.iconst 1, 1) := by decide +kernel
theorem d_gf_settle_165 : decode prog_1_method_11_code 165 = .ok (.isub, 1) := by decide +kernel
theorem d_gf_settle_166 : decode prog_1_method_11_code 166 = .ok (.if_icmp .ne 7, 3) := by decide +kernel
theorem d_gf_settle_169 : decode prog_1_method_11_code 169 = .ok (.iconst 1, 1) := by decide +kernel
theorem d_gf_settle_170 : decode prog_1_method_11_code 170 = .ok (.goto 4, 3) := by decide +kernel
theorem d_gf_settle_173 : decode prog_1_method_11_code 173 = .ok (.iconst 0, 1) := by decide +kernel
theorem d_gf_settle_174 : decode prog_1_method_11_code 174 = .ok (.istore 4, 2) := by decide +kernel
theorem d_gf_settle_176 : decode prog_1_method_11_code 176 = .ok (.iinc 5 1, 3) := by decide +kernel
theorem d_gf_settle_179 : decode prog_1_method_11_code 179 = .ok (.goto (-66), 3) := by decide +kernel
theorem d_gf_settle_182 : decode prog_1_method_11_code 182 = .ok (.iload_n 3, 1) := by decide +kernel
theorem d_gf_settle_183 : decode prog_1_method_11_code 183 = .ok (.ifCond .ne 5, 3) := by decide +kernel
theorem d_gf_settle_186 : decode prog_1_method_11_code 186 = .ok (.iload_n 2, 1) := by decide +kernel
theorem d_gf_settle_187 : decode prog_1_method_11_code 187 = .ok (.ireturn, 1) := by decide +kernel
theorem d_gf_settle_188 : decode prog_1_method_11_code 188 = .ok (.iload 4, 2) := by decide +kernel
theorem d_gf_settle_190 : decode prog_1_method_11_code 190 = .ok (.ifCond .eq 11, 3) := by decide +kernel
theorem d_gf_settle_193 : decode prog_1_method_11_code 193 = .ok (.new 78, 3) := by decide +kernel
theorem d_gf_settle_196 : decode prog_1_method_11_code 196 = .ok (.dup, 1) := by decide +kernel
theorem d_gf_settle_197 : decode prog_1_method_11_code 197 = .ok (.invokespecial 80, 3) := by decide +kernel
theorem d_gf_settle_200 : decode prog_1_method_11_code 200 = .ok (.athrow, 1) := by decide +kernel
theorem d_gf_settle_201 : decode prog_1_method_11_code 201 = .ok (.aload_n 0, 1) := by decide +kernel
theorem d_gf_settle_202 : decode prog_1_method_11_code 202 = .ok (.iload_n 3, 1) := by decide +kernel
theorem d_gf_settle_203 : decode prog_1_method_11_code 203 = .ok (.invokevirtual 81, 3) := by decide +kernel
theorem d_gf_settle_206 : decode prog_1_method_11_code 206 = .ok (.iinc 2 1, 3) := by decide +kernel
theorem d_gf_settle_209 : decode prog_1_method_11_code 209 = .ok (.goto (-127), 3) := by decide +kernel
-- gf_fits
theorem d_gf_fits_0 : decode prog_1_method_10_code 0 = .ok (.aload_n 0, 1) := by decide +kernel
theorem d_gf_fits_1 : decode prog_1_method_10_code 1 = .ok (.getfield 28, 3) := by decide +kernel
theorem d_gf_fits_4 : decode prog_1_method_10_code 4 = .ok (.iload_n 1, 1) := by decide +kernel
theorem d_gf_fits_5 : decode prog_1_method_10_code 5 = .ok (.iaload, 1) := by decide +kernel
theorem d_gf_fits_6 : decode prog_1_method_10_code 6 = .ok (.ifCond .ge 5, 3) := by decide +kernel
theorem d_gf_fits_9 : decode prog_1_method_10_code 9 = .ok (.iconst 1, 1) := by decide +kernel
theorem d_gf_fits_10 : decode prog_1_method_10_code 10 = .ok (.ireturn, 1) := by decide +kernel
theorem d_gf_fits_11 : decode prog_1_method_10_code 11 = .ok (.iload_n 1, 1) := by decide +kernel
theorem d_gf_fits_12 : decode prog_1_method_10_code 12 = .ok (.iconst 4, 1) := by decide +kernel
theorem d_gf_fits_13 : decode prog_1_method_10_code 13 = .ok (.imul, 1) := by decide +kernel
theorem d_gf_fits_14 : decode prog_1_method_10_code 14 = .ok (.aload_n 0, 1) := by decide +kernel
theorem d_gf_fits_15 : decode prog_1_method_10_code 15 = .ok (.getfield 28, 3) := by decide +kernel
theorem d_gf_fits_18 : decode prog_1_method_10_code 18 = .ok (.iload_n 1, 1) := by decide +kernel
theorem d_gf_fits_19 : decode prog_1_method_10_code 19 = .ok (.iaload, 1) := by decide +kernel
theorem d_gf_fits_20 : decode prog_1_method_10_code 20 = .ok (.iadd, 1) := by decide +kernel
theorem d_gf_fits_21 : decode prog_1_method_10_code 21 = .ok (.istore_n 2, 1) := by decide +kernel
theorem d_gf_fits_22 : decode prog_1_method_10_code 22 = .ok (.aload_n 0, 1) := by decide +kernel
theorem d_gf_fits_23 : decode prog_1_method_10_code 23 = .ok (.iload_n 1, 1) := by decide +kernel
theorem d_gf_fits_24 : decode prog_1_method_10_code 24 = .ok (.invokevirtual 68, 3) := by decide +kernel
theorem d_gf_fits_27 : decode prog_1_method_10_code 27 = .ok (.lstore_n 3, 1) := by decide +kernel
theorem d_gf_fits_28 : decode prog_1_method_10_code 28 = .ok (.aload_n 0, 1) := by decide +kernel
theorem d_gf_fits_29 : decode prog_1_method_10_code 29 = .ok (.getfield 19, 3) := by decide +kernel
theorem d_gf_fits_32 : decode prog_1_method_10_code 32 = .ok (.iload_n 2, 1) := by decide +kernel
theorem d_gf_fits_33 : decode prog_1_method_10_code 33 = .ok (.iaload, 1) := by decide +kernel
theorem d_gf_fits_34 : decode prog_1_method_10_code 34 = .ok (.ifCond .ne 24, 3) := by decide +kernel
theorem d_gf_fits_37 : decode prog_1_method_10_code 37 = .ok (.lload_n 3, 1) := by decide +kernel
theorem d_gf_fits_38 : decode prog_1_method_10_code 38 = .ok (.aload_n 0, 1) := by decide +kernel
theorem d_gf_fits_39 : decode prog_1_method_10_code 39 = .ok (.getfield 16, 3) := by decide +kernel
theorem d_gf_fits_42 : decode prog_1_method_10_code 42 = .ok (.iload_n 2, 1) := by decide +kernel
theorem d_gf_fits_43 : decode prog_1_method_10_code 43 = .ok (.iaload, 1) := by decide +kernel
theorem d_gf_fits_44 : decode prog_1_method_10_code 44 = .ok (.lshr, 1) := by decide +kernel
theorem d_gf_fits_45 : decode prog_1_method_10_code 45 = .ok (.lconst 0, 1) := by decide +kernel
theorem d_gf_fits_46 : decode prog_1_method_10_code 46 = .ok (.lcmp, 1) := by decide +kernel
theorem d_gf_fits_47 : decode prog_1_method_10_code 47 = .ok (.ifCond .ne 7, 3) := by decide +kernel
theorem d_gf_fits_50 : decode prog_1_method_10_code 50 = .ok (.iconst 1, 1) := by decide +kernel
theorem d_gf_fits_51 : decode prog_1_method_10_code 51 = .ok (.goto 44, 3) := by decide +kernel
theorem d_gf_fits_54 : decode prog_1_method_10_code 54 = .ok (.iconst 0, 1) := by decide +kernel
theorem d_gf_fits_55 : decode prog_1_method_10_code 55 = .ok (.goto 40, 3) := by decide +kernel
theorem d_gf_fits_58 : decode prog_1_method_10_code 58 = .ok (.lload_n 3, 1) := by decide +kernel
theorem d_gf_fits_59 : decode prog_1_method_10_code 59 = .ok (.aload_n 0, 1) := by decide +kernel
theorem d_gf_fits_60 : decode prog_1_method_10_code 60 = .ok (.getfield 16, 3) := by decide +kernel
theorem d_gf_fits_63 : decode prog_1_method_10_code 63 = .ok (.iload_n 2, 1) := by decide +kernel
theorem d_gf_fits_64 : decode prog_1_method_10_code 64 = .ok (.iaload, 1) := by decide +kernel
theorem d_gf_fits_65 : decode prog_1_method_10_code 65 = .ok (.iconst 1, 1) := by decide +kernel
theorem d_gf_fits_66 : decode prog_1_method_10_code 66 = .ok (.isub, 1) := by decide +kernel
theorem d_gf_fits_67 : decode prog_1_method_10_code 67 = .ok (.lshr, 1) := by decide +kernel
theorem d_gf_fits_68 : decode prog_1_method_10_code 68 = .ok (.lconst 0, 1) := by decide +kernel
theorem d_gf_fits_69 : decode prog_1_method_10_code 69 = .ok (.lcmp, 1) := by decide +kernel
theorem d_gf_fits_70 : decode prog_1_method_10_code 70 = .ok (.ifCond .eq 20, 3) := by decide +kernel
theorem d_gf_fits_73 : decode prog_1_method_10_code 73 = .ok (.lload_n 3, 1) := by decide +kernel
theorem d_gf_fits_74 : decode prog_1_method_10_code 74 = .ok (.aload_n 0, 1) := by decide +kernel
theorem d_gf_fits_75 : decode prog_1_method_10_code 75 = .ok (.getfield 16, 3) := by decide +kernel
theorem d_gf_fits_78 : decode prog_1_method_10_code 78 = .ok (.iload_n 2, 1) := by decide +kernel
theorem d_gf_fits_79 : decode prog_1_method_10_code 79 = .ok (.iaload, 1) := by decide +kernel
theorem d_gf_fits_80 : decode prog_1_method_10_code 80 = .ok (.iconst 1, 1) := by decide +kernel
theorem d_gf_fits_81 : decode prog_1_method_10_code 81 = .ok (.isub, 1) := by decide +kernel
theorem d_gf_fits_82 : decode prog_1_method_10_code 82 = .ok (.lshr, 1) := by decide +kernel
theorem d_gf_fits_83 : decode prog_1_method_10_code 83 = .ok (.ldc2_w 72, 3) := by decide +kernel
theorem d_gf_fits_86 : decode prog_1_method_10_code 86 = .ok (.lcmp, 1) := by decide +kernel
theorem d_gf_fits_87 : decode prog_1_method_10_code 87 = .ok (.ifCond .ne 7, 3) := by decide +kernel
theorem d_gf_fits_90 : decode prog_1_method_10_code 90 = .ok (.iconst 1, 1) := by decide +kernel
theorem d_gf_fits_91 : decode prog_1_method_10_code 91 = .ok (.goto 4, 3) := by decide +kernel
theorem d_gf_fits_94 : decode prog_1_method_10_code 94 = .ok (.iconst 0, 1) := by decide +kernel
theorem d_gf_fits_95 : decode prog_1_method_10_code 95 = .ok (.ireturn, 1) := by decide +kernel
-- gf_valueOf
theorem d_gf_valueOf_0 : decode prog_1_method_9_code 0 = .ok (.aload_n 0, 1) := by decide +kernel
theorem d_gf_valueOf_1 : decode prog_1_method_9_code 1 = .ok (.getfield 31, 3) := by decide +kernel
theorem d_gf_valueOf_4 : decode prog_1_method_9_code 4 = .ok (.aload_n 0, 1) := by decide +kernel
theorem d_gf_valueOf_5 : decode prog_1_method_9_code 5 = .ok (.getfield 22, 3) := by decide +kernel
theorem d_gf_valueOf_8 : decode prog_1_method_9_code 8 = .ok (.iload_n 1, 1) := by decide +kernel
theorem d_gf_valueOf_9 : decode prog_1_method_9_code 9 = .ok (.iaload, 1) := by decide +kernel
theorem d_gf_valueOf_10 : decode prog_1_method_9_code 10 = .ok (.iaload, 1) := by decide +kernel
theorem d_gf_valueOf_11 : decode prog_1_method_9_code 11 = .ok (.i2l, 1) := by decide +kernel
theorem d_gf_valueOf_12 : decode prog_1_method_9_code 12 = .ok (.aload_n 0, 1) := by decide +kernel
theorem d_gf_valueOf_13 : decode prog_1_method_9_code 13 = .ok (.getfield 25, 3) := by decide +kernel
theorem d_gf_valueOf_16 : decode prog_1_method_9_code 16 = .ok (.iload_n 1, 1) := by decide +kernel
theorem d_gf_valueOf_17 : decode prog_1_method_9_code 17 = .ok (.iaload, 1) := by decide +kernel
theorem d_gf_valueOf_18 : decode prog_1_method_9_code 18 = .ok (.i2l, 1) := by decide +kernel
theorem d_gf_valueOf_19 : decode prog_1_method_9_code 19 = .ok (.ladd, 1) := by decide +kernel
theorem d_gf_valueOf_20 : decode prog_1_method_9_code 20 = .ok (.lstore_n 2, 1) := by decide +kernel
theorem d_gf_valueOf_21 : decode prog_1_method_9_code 21 = .ok (.aload_n 0, 1) := by decide +kernel
theorem d_gf_valueOf_22 : decode prog_1_method_9_code 22 = .ok (.getfield 28, 3) := by decide +kernel
theorem d_gf_valueOf_25 : decode prog_1_method_9_code 25 = .ok (.iload_n 1, 1) := by decide +kernel
theorem d_gf_valueOf_26 : decode prog_1_method_9_code 26 = .ok (.iaload, 1) := by decide +kernel
theorem d_gf_valueOf_27 : decode prog_1_method_9_code 27 = .ok (.ifCond .lt 34, 3) := by decide +kernel
theorem d_gf_valueOf_30 : decode prog_1_method_9_code 30 = .ok (.aload_n 0, 1) := by decide +kernel
theorem d_gf_valueOf_31 : decode prog_1_method_9_code 31 = .ok (.getfield 19, 3) := by decide +kernel
theorem d_gf_valueOf_34 : decode prog_1_method_9_code 34 = .ok (.iload_n 1, 1) := by decide +kernel
theorem d_gf_valueOf_35 : decode prog_1_method_9_code 35 = .ok (.iconst 4, 1) := by decide +kernel
theorem d_gf_valueOf_36 : decode prog_1_method_9_code 36 = .ok (.imul, 1) := by decide +kernel
theorem d_gf_valueOf_37 : decode prog_1_method_9_code 37 = .ok (.aload_n 0, 1) := by decide +kernel
theorem d_gf_valueOf_38 : decode prog_1_method_9_code 38 = .ok (.getfield 28, 3) := by decide +kernel
theorem d_gf_valueOf_41 : decode prog_1_method_9_code 41 = .ok (.iload_n 1, 1) := by decide +kernel
theorem d_gf_valueOf_42 : decode prog_1_method_9_code 42 = .ok (.iaload, 1) := by decide +kernel
theorem d_gf_valueOf_43 : decode prog_1_method_9_code 43 = .ok (.iadd, 1) := by decide +kernel
theorem d_gf_valueOf_44 : decode prog_1_method_9_code 44 = .ok (.iaload, 1) := by decide +kernel
theorem d_gf_valueOf_45 : decode prog_1_method_9_code 45 = .ok (.iconst 2, 1) := by decide +kernel
theorem d_gf_valueOf_46 : decode prog_1_method_9_code 46 = .ok (.if_icmp .ne 15, 3) := by decide +kernel
theorem d_gf_valueOf_49 : decode prog_1_method_9_code 49 = .ok (.lload_n 2, 1) := by decide +kernel
theorem d_gf_valueOf_50 : decode prog_1_method_9_code 50 = .ok (.aload_n 0, 1) := by decide +kernel
theorem d_gf_valueOf_51 : decode prog_1_method_9_code 51 = .ok (.getfield 31, 3) := by decide +kernel
theorem d_gf_valueOf_54 : decode prog_1_method_9_code 54 = .ok (.iload_n 1, 1) := by decide +kernel
theorem d_gf_valueOf_55 : decode prog_1_method_9_code 55 = .ok (.iaload, 1) := by decide +kernel
theorem d_gf_valueOf_56 : decode prog_1_method_9_code 56 = .ok (.i2l, 1) := by decide +kernel
theorem d_gf_valueOf_57 : decode prog_1_method_9_code 57 = .ok (.lsub, 1) := by decide +kernel
theorem d_gf_valueOf_58 : decode prog_1_method_9_code 58 = .ok (.goto 4, 3) := by decide +kernel
theorem d_gf_valueOf_61 : decode prog_1_method_9_code 61 = .ok (.lload_n 2, 1) := by decide +kernel
theorem d_gf_valueOf_62 : decode prog_1_method_9_code 62 = .ok (.lreturn, 1) := by decide +kernel
-- gf_grow
theorem d_gf_grow_0 : decode prog_1_method_12_code 0 = .ok (.iconst 0, 1) := by decide +kernel
theorem d_gf_grow_1 : decode prog_1_method_12_code 1 = .ok (.istore_n 2, 1) := by decide +kernel
theorem d_gf_grow_2 : decode prog_1_method_12_code 2 = .ok (.iconst 0, 1) := by decide +kernel
theorem d_gf_grow_3 : decode prog_1_method_12_code 3 = .ok (.istore_n 3, 1) := by decide +kernel
theorem d_gf_grow_4 : decode prog_1_method_12_code 4 = .ok (.aload_n 0, 1) := by decide +kernel
theorem d_gf_grow_5 : decode prog_1_method_12_code 5 = .ok (.getfield 34, 3) := by decide +kernel
theorem d_gf_grow_8 : decode prog_1_method_12_code 8 = .ok (.iconst 0, 1) := by decide +kernel
theorem d_gf_grow_9 : decode prog_1_method_12_code 9 = .ok (.iaload, 1) := by decide +kernel
theorem d_gf_grow_10 : decode prog_1_method_12_code 10 = .ok (.istore 4, 2) := by decide +kernel
theorem d_gf_grow_12 : decode prog_1_method_12_code 12 = .ok (.iload 4, 2) := by decide +kernel
theorem d_gf_grow_14 : decode prog_1_method_12_code 14 = .ok (.aload_n 0, 1) := by decide +kernel
theorem d_gf_grow_15 : decode prog_1_method_12_code 15 = .ok (.getfield 47, 3) := by decide +kernel
theorem d_gf_grow_18 : decode prog_1_method_12_code 18 = .ok (.if_icmp .gt 87, 3) := by decide +kernel
theorem d_gf_grow_21 : decode prog_1_method_12_code 21 = .ok (.aload_n 0, 1) := by decide +kernel
theorem d_gf_grow_22 : decode prog_1_method_12_code 22 = .ok (.getfield 31, 3) := by decide +kernel
theorem d_gf_grow_25 : decode prog_1_method_12_code 25 = .ok (.iload 4, 2) := by decide +kernel
theorem d_gf_grow_27 : decode prog_1_method_12_code 27 = .ok (.dup2, 1) := by decide +kernel
theorem d_gf_grow_28 : decode prog_1_method_12_code 28 = .ok (.iaload, 1) := by decide +kernel
theorem d_gf_grow_29 : decode prog_1_method_12_code 29 = .ok (.iload_n 2, 1) := by decide +kernel
theorem d_gf_grow_30 : decode prog_1_method_12_code 30 = .ok (.iadd, 1) := by decide +kernel
theorem d_gf_grow_31 : decode prog_1_method_12_code 31 = .ok (.iastore, 1) := by decide +kernel
theorem d_gf_grow_32 : decode prog_1_method_12_code 32 = .ok (.iload_n 3, 1) := by decide +kernel
theorem d_gf_grow_33 : decode prog_1_method_12_code 33 = .ok (.iload_n 1, 1) := by decide +kernel
theorem d_gf_grow_34 : decode prog_1_method_12_code 34 = .ok (.if_icmp .eq 65, 3) := by decide +kernel
theorem d_gf_grow_37 : decode prog_1_method_12_code 37 = .ok (.aload_n 0, 1) := by decide +kernel
theorem d_gf_grow_38 : decode prog_1_method_12_code 38 = .ok (.getfield 34, 3) := by decide +kernel
theorem d_gf_grow_41 : decode prog_1_method_12_code 41 = .ok (.iload_n 3, 1) := by decide +kernel
theorem d_gf_grow_42 : decode prog_1_method_12_code 42 = .ok (.iaload, 1) := by decide +kernel
theorem d_gf_grow_43 : decode prog_1_method_12_code 43 = .ok (.iload 4, 2) := by decide +kernel
theorem d_gf_grow_45 : decode prog_1_method_12_code 45 = .ok (.if_icmp .eq 6, 3) := by decide +kernel
theorem d_gf_grow_48 : decode prog_1_method_12_code 48 = .ok (.goto 51, 3) := by decide +kernel
theorem d_gf_grow_51 : decode prog_1_method_12_code 51 = .ok (.iload 4, 2) := by decide +kernel
theorem d_gf_grow_53 : decode prog_1_method_12_code 53 = .ok (.iconst 4, 1) := by decide +kernel
theorem d_gf_grow_54 : decode prog_1_method_12_code 54 = .ok (.imul, 1) := by decide +kernel
theorem d_gf_grow_55 : decode prog_1_method_12_code 55 = .ok (.aload_n 0, 1) := by decide +kernel
theorem d_gf_grow_56 : decode prog_1_method_12_code 56 = .ok (.getfield 28, 3) := by decide +kernel
theorem d_gf_grow_59 : decode prog_1_method_12_code 59 = .ok (.iload 4, 2) := by decide +kernel
theorem d_gf_grow_61 : decode prog_1_method_12_code 61 = .ok (.iaload, 1) := by decide +kernel
theorem d_gf_grow_62 : decode prog_1_method_12_code 62 = .ok (.iadd, 1) := by decide +kernel
theorem d_gf_grow_63 : decode prog_1_method_12_code 63 = .ok (.istore 5, 2) := by decide +kernel
theorem d_gf_grow_65 : decode prog_1_method_12_code 65 = .ok (.iload_n 2, 1) := by decide +kernel
theorem d_gf_grow_66 : decode prog_1_method_12_code 66 = .ok (.aload_n 0, 1) := by decide +kernel
theorem d_gf_grow_67 : decode prog_1_method_12_code 67 = .ok (.getfield 13, 3) := by decide +kernel
theorem d_gf_grow_70 : decode prog_1_method_12_code 70 = .ok (.iload 5, 2) := by decide +kernel
theorem d_gf_grow_72 : decode prog_1_method_12_code 72 = .ok (.iconst 1, 1) := by decide +kernel
theorem d_gf_grow_73 : decode prog_1_method_12_code 73 = .ok (.iadd, 1) := by decide +kernel
theorem d_gf_grow_74 : decode prog_1_method_12_code 74 = .ok (.iaload, 1) := by decide +kernel
theorem d_gf_grow_75 : decode prog_1_method_12_code 75 = .ok (.aload_n 0, 1) := by decide +kernel
theorem d_gf_grow_76 : decode prog_1_method_12_code 76 = .ok (.getfield 13, 3) := by decide +kernel
theorem d_gf_grow_79 : decode prog_1_method_12_code 79 = .ok (.iload 5, 2) := by decide +kernel
theorem d_gf_grow_81 : decode prog_1_method_12_code 81 = .ok (.iaload, 1) := by decide +kernel
theorem d_gf_grow_82 : decode prog_1_method_12_code 82 = .ok (.isub, 1) := by decide +kernel
theorem d_gf_grow_83 : decode prog_1_method_12_code 83 = .ok (.iadd, 1) := by decide +kernel
theorem d_gf_grow_84 : decode prog_1_method_12_code 84 = .ok (.istore_n 2, 1) := by decide +kernel
theorem d_gf_grow_85 : decode prog_1_method_12_code 85 = .ok (.aload_n 0, 1) := by decide +kernel
theorem d_gf_grow_86 : decode prog_1_method_12_code 86 = .ok (.getfield 28, 3) := by decide +kernel
theorem d_gf_grow_89 : decode prog_1_method_12_code 89 = .ok (.iload 4, 2) := by decide +kernel
theorem d_gf_grow_91 : decode prog_1_method_12_code 91 = .ok (.dup2, 1) := by decide +kernel
theorem d_gf_grow_92 : decode prog_1_method_12_code 92 = .ok (.iaload, 1) := by decide +kernel
theorem d_gf_grow_93 : decode prog_1_method_12_code 93 = .ok (.iconst 1, 1) := by decide +kernel
theorem d_gf_grow_94 : decode prog_1_method_12_code 94 = .ok (.iadd, 1) := by decide +kernel
theorem d_gf_grow_95 : decode prog_1_method_12_code 95 = .ok (.iastore, 1) := by decide +kernel
theorem d_gf_grow_96 : decode prog_1_method_12_code 96 = .ok (.iinc 3 1, 3) := by decide +kernel
theorem d_gf_grow_99 : decode prog_1_method_12_code 99 = .ok (.iinc 4 1, 3) := by decide +kernel
theorem d_gf_grow_102 : decode prog_1_method_12_code 102 = .ok (.goto (-90), 3) := by decide +kernel
theorem d_gf_grow_105 : decode prog_1_method_12_code 105 = .ok (.return_, 1) := by decide +kernel
-- gf_told
theorem d_gf_told_0 : decode prog_1_method_13_code 0 = .ok (.iload_n 2, 1) := by decide +kernel
theorem d_gf_told_1 : decode prog_1_method_13_code 1 = .ok (.i2l, 1) := by decide +kernel
theorem d_gf_told_2 : decode prog_1_method_13_code 2 = .ok (.lconst 0, 1) := by decide +kernel
theorem d_gf_told_3 : decode prog_1_method_13_code 3 = .ok (.ldc2_w 59, 3) := by decide +kernel
theorem d_gf_told_6 : decode prog_1_method_13_code 6 = .ok (.invokestatic 53, 3) := by decide +kernel
theorem d_gf_told_9 : decode prog_1_method_13_code 9 = .ok (.ifCond .ne 11, 3) := by decide +kernel
theorem d_gf_told_12 : decode prog_1_method_13_code 12 = .ok (.new 61, 3) := by decide +kernel
theorem d_gf_told_15 : decode prog_1_method_13_code 15 = .ok (.dup, 1) := by decide +kernel
theorem d_gf_told_16 : decode prog_1_method_13_code 16 = .ok (.invokespecial 63, 3) := by decide +kernel
theorem d_gf_told_19 : decode prog_1_method_13_code 19 = .ok (.athrow, 1) := by decide +kernel
theorem d_gf_told_20 : decode prog_1_method_13_code 20 = .ok (.aload_n 0, 1) := by decide +kernel
theorem d_gf_told_21 : decode prog_1_method_13_code 21 = .ok (.invokevirtual 85, 3) := by decide +kernel
theorem d_gf_told_24 : decode prog_1_method_13_code 24 = .ok (.iload_n 1, 1) := by decide +kernel
theorem d_gf_told_25 : decode prog_1_method_13_code 25 = .ok (.i2l, 1) := by decide +kernel
theorem d_gf_told_26 : decode prog_1_method_13_code 26 = .ok (.lconst 0, 1) := by decide +kernel
theorem d_gf_told_27 : decode prog_1_method_13_code 27 = .ok (.iload_n 2, 1) := by decide +kernel
theorem d_gf_told_28 : decode prog_1_method_13_code 28 = .ok (.ifCond .ne 11, 3) := by decide +kernel
theorem d_gf_told_31 : decode prog_1_method_13_code 31 = .ok (.aload_n 0, 1) := by decide +kernel
theorem d_gf_told_32 : decode prog_1_method_13_code 32 = .ok (.getfield 47, 3) := by decide +kernel
theorem d_gf_told_35 : decode prog_1_method_13_code 35 = .ok (.i2l, 1) := by decide +kernel
theorem d_gf_told_36 : decode prog_1_method_13_code 36 = .ok (.goto 10, 3) := by decide +kernel
theorem d_gf_told_39 : decode prog_1_method_13_code 39 = .ok (.aload_n 0, 1) := by decide +kernel
theorem d_gf_told_40 : decode prog_1_method_13_code 40 = .ok (.getfield 47, 3) := by decide +kernel
theorem d_gf_told_43 : decode prog_1_method_13_code 43 = .ok (.iconst 1, 1) := by decide +kernel
theorem d_gf_told_44 : decode prog_1_method_13_code 44 = .ok (.isub, 1) := by decide +kernel
theorem d_gf_told_45 : decode prog_1_method_13_code 45 = .ok (.i2l, 1) := by decide +kernel
theorem d_gf_told_46 : decode prog_1_method_13_code 46 = .ok (.invokestatic 53, 3) := by decide +kernel
theorem d_gf_told_49 : decode prog_1_method_13_code 49 = .ok (.invokestatic 64, 3) := by decide +kernel
theorem d_gf_told_52 : decode prog_1_method_13_code 52 = .ok (.iload_n 2, 1) := by decide +kernel
theorem d_gf_told_53 : decode prog_1_method_13_code 53 = .ok (.ifCond .ne 12, 3) := by decide +kernel
theorem d_gf_told_56 : decode prog_1_method_13_code 56 = .ok (.aload_n 0, 1) := by decide +kernel
theorem d_gf_told_57 : decode prog_1_method_13_code 57 = .ok (.getfield 31, 3) := by decide +kernel
theorem d_gf_told_60 : decode prog_1_method_13_code 60 = .ok (.iload_n 1, 1) := by decide +kernel
theorem d_gf_told_61 : decode prog_1_method_13_code 61 = .ok (.iaload, 1) := by decide +kernel
theorem d_gf_told_62 : decode prog_1_method_13_code 62 = .ok (.goto 30, 3) := by decide +kernel
theorem d_gf_told_65 : decode prog_1_method_13_code 65 = .ok (.iload_n 2, 1) := by decide +kernel
theorem d_gf_told_66 : decode prog_1_method_13_code 66 = .ok (.iconst 1, 1) := by decide +kernel
theorem d_gf_told_67 : decode prog_1_method_13_code 67 = .ok (.if_icmp .ne 12, 3) := by decide +kernel
theorem d_gf_told_70 : decode prog_1_method_13_code 70 = .ok (.aload_n 0, 1) := by decide +kernel
theorem d_gf_told_71 : decode prog_1_method_13_code 71 = .ok (.getfield 28, 3) := by decide +kernel
theorem d_gf_told_74 : decode prog_1_method_13_code 74 = .ok (.iload_n 1, 1) := by decide +kernel
theorem d_gf_told_75 : decode prog_1_method_13_code 75 = .ok (.iaload, 1) := by decide +kernel
theorem d_gf_told_76 : decode prog_1_method_13_code 76 = .ok (.goto 16, 3) := by decide +kernel
theorem d_gf_told_79 : decode prog_1_method_13_code 79 = .ok (.aload_n 0, 1) := by decide +kernel
theorem d_gf_told_80 : decode prog_1_method_13_code 80 = .ok (.iload_n 1, 1) := by decide +kernel
theorem d_gf_told_81 : decode prog_1_method_13_code 81 = .ok (.invokevirtual 74, 3) := by decide +kernel
theorem d_gf_told_84 : decode prog_1_method_13_code 84 = .ok (.ifCond .eq 7, 3) := by decide +kernel
theorem d_gf_told_87 : decode prog_1_method_13_code 87 = .ok (.iconst 1, 1) := by decide +kernel
theorem d_gf_told_88 : decode prog_1_method_13_code 88 = .ok (.goto 4, 3) := by decide +kernel
theorem d_gf_told_91 : decode prog_1_method_13_code 91 = .ok (.iconst 0, 1) := by decide +kernel
theorem d_gf_told_92 : decode prog_1_method_13_code 92 = .ok (.ireturn, 1) := by decide +kernel
-- gf_isSettled
theorem d_gf_isSettled_0 : decode prog_1_method_4_code 0 = .ok (.aload_n 0, 1) := by decide +kernel
theorem d_gf_isSettled_1 : decode prog_1_method_4_code 1 = .ok (.getfield 40, 3) := by decide +kernel
theorem d_gf_isSettled_4 : decode prog_1_method_4_code 4 = .ok (.ifCond .ne 11, 3) := by decide +kernel
theorem d_gf_isSettled_7 : decode prog_1_method_4_code 7 = .ok (.new 44, 3) := by decide +kernel
theorem d_gf_isSettled_10 : decode prog_1_method_4_code 10 = .ok (.dup, 1) := by decide +kernel
theorem d_gf_isSettled_11 : decode prog_1_method_4_code 11 = .ok (.invokespecial 46, 3) := by decide +kernel
theorem d_gf_isSettled_14 : decode prog_1_method_4_code 14 = .ok (.athrow, 1) := by decide +kernel
theorem d_gf_isSettled_15 : decode prog_1_method_4_code 15 = .ok (.return_, 1) := by decide +kernel
-- gf_value
theorem d_gf_value_0 : decode prog_1_method_14_code 0 = .ok (.aload_n 0, 1) := by decide +kernel
theorem d_gf_value_1 : decode prog_1_method_14_code 1 = .ok (.invokevirtual 85, 3) := by decide +kernel
theorem d_gf_value_4 : decode prog_1_method_14_code 4 = .ok (.iload_n 1, 1) := by decide +kernel
theorem d_gf_value_5 : decode prog_1_method_14_code 5 = .ok (.i2l, 1) := by decide +kernel
theorem d_gf_value_6 : decode prog_1_method_14_code 6 = .ok (.lconst 0, 1) := by decide +kernel
theorem d_gf_value_7 : decode prog_1_method_14_code 7 = .ok (.aload_n 0, 1) := by decide +kernel
theorem d_gf_value_8 : decode prog_1_method_14_code 8 = .ok (.getfield 47, 3) := by decide +kernel
theorem d_gf_value_11 : decode prog_1_method_14_code 11 = .ok (.iconst 1, 1) := by decide +kernel
theorem d_gf_value_12 : decode prog_1_method_14_code 12 = .ok (.isub, 1) := by decide +kernel
theorem d_gf_value_13 : decode prog_1_method_14_code 13 = .ok (.i2l, 1) := by decide +kernel
theorem d_gf_value_14 : decode prog_1_method_14_code 14 = .ok (.invokestatic 53, 3) := by decide +kernel
theorem d_gf_value_17 : decode prog_1_method_14_code 17 = .ok (.invokestatic 64, 3) := by decide +kernel
theorem d_gf_value_20 : decode prog_1_method_14_code 20 = .ok (.aload_n 0, 1) := by decide +kernel
theorem d_gf_value_21 : decode prog_1_method_14_code 21 = .ok (.iload_n 1, 1) := by decide +kernel
theorem d_gf_value_22 : decode prog_1_method_14_code 22 = .ok (.invokevirtual 68, 3) := by decide +kernel
theorem d_gf_value_25 : decode prog_1_method_14_code 25 = .ok (.lreturn, 1) := by decide +kernel
-- gf_wrong
theorem d_gf_wrong_0 : decode prog_1_method_15_code 0 = .ok (.aload_n 0, 1) := by decide +kernel
theorem d_gf_wrong_1 : decode prog_1_method_15_code 1 = .ok (.invokevirtual 85, 3) := by decide +kernel
theorem d_gf_wrong_4 : decode prog_1_method_15_code 4 = .ok (.iconst 0, 1) := by decide +kernel
theorem d_gf_wrong_5 : decode prog_1_method_15_code 5 = .ok (.istore_n 1, 1) := by decide +kernel
theorem d_gf_wrong_6 : decode prog_1_method_15_code 6 = .ok (.iload_n 1, 1) := by decide +kernel
theorem d_gf_wrong_7 : decode prog_1_method_15_code 7 = .ok (.aload_n 0, 1) := by decide +kernel
theorem d_gf_wrong_8 : decode prog_1_method_15_code 8 = .ok (.getfield 47, 3) := by decide +kernel
theorem d_gf_wrong_11 : decode prog_1_method_15_code 11 = .ok (.if_icmp .ge 19, 3) := by decide +kernel
theorem d_gf_wrong_14 : decode prog_1_method_15_code 14 = .ok (.aload_n 0, 1) := by decide +kernel
theorem d_gf_wrong_15 : decode prog_1_method_15_code 15 = .ok (.iload_n 1, 1) := by decide +kernel
theorem d_gf_wrong_16 : decode prog_1_method_15_code 16 = .ok (.invokevirtual 74, 3) := by decide +kernel
theorem d_gf_wrong_19 : decode prog_1_method_15_code 19 = .ok (.ifCond .ne 5, 3) := by decide +kernel
theorem d_gf_wrong_22 : decode prog_1_method_15_code 22 = .ok (.iload_n 1, 1) := by decide +kernel
theorem d_gf_wrong_23 : decode prog_1_method_15_code 23 = .ok (.ireturn, 1) := by decide +kernel
theorem d_gf_wrong_24 : decode prog_1_method_15_code 24 = .ok (.iinc 1 1, 3) := by decide +kernel
theorem d_gf_wrong_27 : decode prog_1_method_15_code 27 = .ok (.goto (-21), 3) := by decide +kernel
theorem d_gf_wrong_30 : decode prog_1_method_15_code 30 = .ok (.iconst (-1), 1) := by decide +kernel
theorem d_gf_wrong_31 : decode prog_1_method_15_code 31 = .ok (.ireturn, 1) := by decide +kernel
end
section
-- gm_init
theorem d_gm_init_0 : decode prog_3_method_1_code 0 = .ok (.aload_n 0, 1) := by decide +kernel
theorem d_gm_init_1 : decode prog_3_method_1_code 1 = .ok (.invokespecial 1, 3) := by decide +kernel
theorem d_gm_init_4 : decode prog_3_method_1_code 4 = .ok (.aload_n 0, 1) := by decide +kernel
theorem d_gm_init_5 : decode prog_3_method_1_code 5 = .ok (.bipush 120, 2) := by decide +kernel
theorem d_gm_init_7 : decode prog_3_method_1_code 7 = .ok (.newarray .int, 2) := by decide +kernel
theorem d_gm_init_9 : decode prog_3_method_1_code 9 = .ok (.putfield 9, 3) := by decide +kernel
theorem d_gm_init_12 : decode prog_3_method_1_code 12 = .ok (.aload_n 0, 1) := by decide +kernel
theorem d_gm_init_13 : decode prog_3_method_1_code 13 = .ok (.sipush 480, 3) := by decide +kernel
theorem d_gm_init_16 : decode prog_3_method_1_code 16 = .ok (.newarray .int, 2) := by decide +kernel
theorem d_gm_init_18 : decode prog_3_method_1_code 18 = .ok (.putfield 13, 3) := by decide +kernel
theorem d_gm_init_21 : decode prog_3_method_1_code 21 = .ok (.aload_n 0, 1) := by decide +kernel
theorem d_gm_init_22 : decode prog_3_method_1_code 22 = .ok (.sipush 480, 3) := by decide +kernel
theorem d_gm_init_25 : decode prog_3_method_1_code 25 = .ok (.newarray .int, 2) := by decide +kernel
theorem d_gm_init_27 : decode prog_3_method_1_code 27 = .ok (.putfield 16, 3) := by decide +kernel
theorem d_gm_init_30 : decode prog_3_method_1_code 30 = .ok (.aload_n 0, 1) := by decide +kernel
theorem d_gm_init_31 : decode prog_3_method_1_code 31 = .ok (.sipush 480, 3) := by decide +kernel
theorem d_gm_init_34 : decode prog_3_method_1_code 34 = .ok (.newarray .int, 2) := by decide +kernel
theorem d_gm_init_36 : decode prog_3_method_1_code 36 = .ok (.putfield 19, 3) := by decide +kernel
theorem d_gm_init_39 : decode prog_3_method_1_code 39 = .ok (.aload_n 0, 1) := by decide +kernel
theorem d_gm_init_40 : decode prog_3_method_1_code 40 = .ok (.bipush 120, 2) := by decide +kernel
theorem d_gm_init_42 : decode prog_3_method_1_code 42 = .ok (.newarray .int, 2) := by decide +kernel
theorem d_gm_init_44 : decode prog_3_method_1_code 44 = .ok (.putfield 22, 3) := by decide +kernel
theorem d_gm_init_47 : decode prog_3_method_1_code 47 = .ok (.aload_n 0, 1) := by decide +kernel
theorem d_gm_init_48 : decode prog_3_method_1_code 48 = .ok (.bipush 120, 2) := by decide +kernel
theorem d_gm_init_50 : decode prog_3_method_1_code 50 = .ok (.newarray .int, 2) := by decide +kernel
theorem d_gm_init_52 : decode prog_3_method_1_code 52 = .ok (.putfield 25, 3) := by decide +kernel
theorem d_gm_init_55 : decode prog_3_method_1_code 55 = .ok (.aload_n 0, 1) := by decide +kernel
theorem d_gm_init_56 : decode prog_3_method_1_code 56 = .ok (.bipush 120, 2) := by decide +kernel
theorem d_gm_init_58 : decode prog_3_method_1_code 58 = .ok (.newarray .int, 2) := by decide +kernel
theorem d_gm_init_60 : decode prog_3_method_1_code 60 = .ok (.putfield 28, 3) := by decide +kernel
theorem d_gm_init_63 : decode prog_3_method_1_code 63 = .ok (.aload_n 0, 1) := by decide +kernel
theorem d_gm_init_64 : decode prog_3_method_1_code 64 = .ok (.bipush 120, 2) := by decide +kernel
theorem d_gm_init_66 : decode prog_3_method_1_code 66 = .ok (.newarray .boolean, 2) := by decide +kernel
theorem d_gm_init_68 : decode prog_3_method_1_code 68 = .ok (.putfield 31, 3) := by decide +kernel
theorem d_gm_init_71 : decode prog_3_method_1_code 71 = .ok (.return_, 1) := by decide +kernel
-- gm_thrown
theorem d_gm_thrown_0 : decode prog_3_method_2_code 0 = .ok (.aload_n 0, 1) := by decide +kernel
theorem d_gm_thrown_1 : decode prog_3_method_2_code 1 = .ok (.getfield 35, 3) := by decide +kernel
theorem d_gm_thrown_4 : decode prog_3_method_2_code 4 = .ok (.ireturn, 1) := by decide +kernel
-- gm_line
theorem d_gm_line_0 : decode prog_3_method_3_code 0 = .ok (.aload_n 0, 1) := by decide +kernel
theorem d_gm_line_1 : decode prog_3_method_3_code 1 = .ok (.aload_n 0, 1) := by decide +kernel
theorem d_gm_line_2 : decode prog_3_method_3_code 2 = .ok (.getfield 39, 3) := by decide +kernel
theorem d_gm_line_5 : decode prog_3_method_3_code 5 = .ok (.bipush 120, 2) := by decide +kernel
theorem d_gm_line_7 : decode prog_3_method_3_code 7 = .ok (.if_icmp .ne 7, 3) := by decide +kernel
theorem d_gm_line_10 : decode prog_3_method_3_code 10 = .ok (.iconst 1, 1) := by decide +kernel
theorem d_gm_line_11 : decode prog_3_method_3_code 11 = .ok (.goto 4, 3) := by decide +kernel
theorem d_gm_line_14 : decode prog_3_method_3_code 14 = .ok (.iconst 0, 1) := by decide +kernel
theorem d_gm_line_15 : decode prog_3_method_3_code 15 = .ok (.putfield 35, 3) := by decide +kernel
theorem d_gm_line_18 : decode prog_3_method_3_code 18 = .ok (.aload_n 0, 1) := by decide +kernel
theorem d_gm_line_19 : decode prog_3_method_3_code 19 = .ok (.getfield 35, 3) := by decide +kernel
theorem d_gm_line_22 : decode prog_3_method_3_code 22 = .ok (.ifCond .le 5, 3) := by decide +kernel
theorem d_gm_line_25 : decode prog_3_method_3_code 25 = .ok (.iconst 0, 1) := by decide +kernel
theorem d_gm_line_26 : decode prog_3_method_3_code 26 = .ok (.ireturn, 1) := by decide +kernel
theorem d_gm_line_27 : decode prog_3_method_3_code 27 = .ok (.aload_n 0, 1) := by decide +kernel
theorem d_gm_line_28 : decode prog_3_method_3_code 28 = .ok (.getfield 9, 3) := by decide +kernel
theorem d_gm_line_31 : decode prog_3_method_3_code 31 = .ok (.aload_n 0, 1) := by decide +kernel
theorem d_gm_line_32 : decode prog_3_method_3_code 32 = .ok (.getfield 39, 3) := by decide +kernel
theorem d_gm_line_35 : decode prog_3_method_3_code 35 = .ok (.iconst 0, 1) := by decide +kernel
theorem d_gm_line_36 : decode prog_3_method_3_code 36 = .ok (.iastore, 1) := by decide +kernel
theorem d_gm_line_37 : decode prog_3_method_3_code 37 = .ok (.aload_n 0, 1) := by decide +kernel
theorem d_gm_line_38 : decode prog_3_method_3_code 38 = .ok (.getfield 22, 3) := by decide +kernel
theorem d_gm_line_41 : decode prog_3_method_3_code 41 = .ok (.aload_n 0, 1) := by decide +kernel
theorem d_gm_line_42 : decode prog_3_method_3_code 42 = .ok (.getfield 39, 3) := by decide +kernel
theorem d_gm_line_45 : decode prog_3_method_3_code 45 = .ok (.iconst 0, 1) := by decide +kernel
theorem d_gm_line_46 : decode prog_3_method_3_code 46 = .ok (.iastore, 1) := by decide +kernel
theorem d_gm_line_47 : decode prog_3_method_3_code 47 = .ok (.aload_n 0, 1) := by decide +kernel
theorem d_gm_line_48 : decode prog_3_method_3_code 48 = .ok (.getfield 25, 3) := by decide +kernel
theorem d_gm_line_51 : decode prog_3_method_3_code 51 = .ok (.aload_n 0, 1) := by decide +kernel
theorem d_gm_line_52 : decode prog_3_method_3_code 52 = .ok (.getfield 39, 3) := by decide +kernel
theorem d_gm_line_55 : decode prog_3_method_3_code 55 = .ok (.iconst 0, 1) := by decide +kernel
theorem d_gm_line_56 : decode prog_3_method_3_code 56 = .ok (.iastore, 1) := by decide +kernel
theorem d_gm_line_57 : decode prog_3_method_3_code 57 = .ok (.aload_n 0, 1) := by decide +kernel
theorem d_gm_line_58 : decode prog_3_method_3_code 58 = .ok (.dup, 1) := by decide +kernel
theorem d_gm_line_59 : decode prog_3_method_3_code 59 = .ok (.getfield 39, 3) := by decide +kernel
theorem d_gm_line_62 : decode prog_3_method_3_code 62 = .ok (.iconst 1, 1) := by decide +kernel
theorem d_gm_line_63 : decode prog_3_method_3_code 63 = .ok (.iadd, 1) := by decide +kernel
theorem d_gm_line_64 : decode prog_3_method_3_code 64 = .ok (.putfield 39, 3) := by decide +kernel
theorem d_gm_line_67 : decode prog_3_method_3_code 67 = .ok (.aload_n 0, 1) := by decide +kernel
theorem d_gm_line_68 : decode prog_3_method_3_code 68 = .ok (.iconst 0, 1) := by decide +kernel
theorem d_gm_line_69 : decode prog_3_method_3_code 69 = .ok (.putfield 42, 3) := by decide +kernel
theorem d_gm_line_72 : decode prog_3_method_3_code 72 = .ok (.aload_n 0, 1) := by decide +kernel
theorem d_gm_line_73 : decode prog_3_method_3_code 73 = .ok (.getfield 39, 3) := by decide +kernel
theorem d_gm_line_76 : decode prog_3_method_3_code 76 = .ok (.iconst 1, 1) := by decide +kernel
theorem d_gm_line_77 : decode prog_3_method_3_code 77 = .ok (.isub, 1) := by decide +kernel
theorem d_gm_line_78 : decode prog_3_method_3_code 78 = .ok (.ireturn, 1) := by decide +kernel
-- gm_form
theorem d_gm_form_0 : decode prog_3_method_4_code 0 = .ok (.iload_n 1, 1) := by decide +kernel
theorem d_gm_form_1 : decode prog_3_method_4_code 1 = .ok (.iconst 1, 1) := by decide +kernel
theorem d_gm_form_2 : decode prog_3_method_4_code 2 = .ok (.if_icmp .lt 33, 3) := by decide +kernel
theorem d_gm_form_5 : decode prog_3_method_4_code 5 = .ok (.iload_n 1, 1) := by decide +kernel
theorem d_gm_form_6 : decode prog_3_method_4_code 6 = .ok (.bipush 64, 2) := by decide +kernel
theorem d_gm_form_8 : decode prog_3_method_4_code 8 = .ok (.if_icmp .gt 27, 3) := by decide +kernel
theorem d_gm_form_11 : decode prog_3_method_4_code 11 = .ok (.iload_n 2, 1) := by decide +kernel
theorem d_gm_form_12 : decode prog_3_method_4_code 12 = .ok (.iconst 1, 1) := by decide +kernel
theorem d_gm_form_13 : decode prog_3_method_4_code 13 = .ok (.if_icmp .lt 22, 3) := by decide +kernel
theorem d_gm_form_16 : decode prog_3_method_4_code 16 = .ok (.iload_n 2, 1) := by decide +kernel
theorem d_gm_form_17 : decode prog_3_method_4_code 17 = .ok (.bipush 32, 2) := by decide +kernel
theorem d_gm_form_19 : decode prog_3_method_4_code 19 = .ok (.if_icmp .gt 16, 3) := by decide +kernel
theorem d_gm_form_22 : decode prog_3_method_4_code 22 = .ok (.iload_n 3, 1) := by decide +kernel
theorem d_gm_form_23 : decode prog_3_method_4_code 23 = .ok (.ifCond .lt 12, 3) := by decide +kernel
theorem d_gm_form_26 : decode prog_3_method_4_code 26 = .ok (.iload_n 3, 1) := by decide +kernel
theorem d_gm_form_27 : decode prog_3_method_4_code 27 = .ok (.iconst 2, 1) := by decide +kernel
theorem d_gm_form_28 : decode prog_3_method_4_code 28 = .ok (.if_icmp .gt 7, 3) := by decide +kernel
theorem d_gm_form_31 : decode prog_3_method_4_code 31 = .ok (.iconst 1, 1) := by decide +kernel
theorem d_gm_form_32 : decode prog_3_method_4_code 32 = .ok (.goto 4, 3) := by decide +kernel
theorem d_gm_form_35 : decode prog_3_method_4_code 35 = .ok (.iconst 0, 1) := by decide +kernel
theorem d_gm_form_36 : decode prog_3_method_4_code 36 = .ok (.istore 4, 2) := by decide +kernel
theorem d_gm_form_38 : decode prog_3_method_4_code 38 = .ok (.aload_n 0, 1) := by decide +kernel
theorem d_gm_form_39 : decode prog_3_method_4_code 39 = .ok (.iload 4, 2) := by decide +kernel
theorem d_gm_form_41 : decode prog_3_method_4_code 41 = .ok (.ifCond .ne 7, 3) := by decide +kernel
theorem d_gm_form_44 : decode prog_3_method_4_code 44 = .ok (.iconst 1, 1) := by decide +kernel
theorem d_gm_form_45 : decode prog_3_method_4_code 45 = .ok (.goto 30, 3) := by decide +kernel
theorem d_gm_form_48 : decode prog_3_method_4_code 48 = .ok (.aload_n 0, 1) := by decide +kernel
theorem d_gm_form_49 : decode prog_3_method_4_code 49 = .ok (.getfield 39, 3) := by decide +kernel
theorem d_gm_form_52 : decode prog_3_method_4_code 52 = .ok (.ifCond .eq 18, 3) := by decide +kernel
theorem d_gm_form_55 : decode prog_3_method_4_code 55 = .ok (.aload_n 0, 1) := by decide +kernel
theorem d_gm_form_56 : decode prog_3_method_4_code 56 = .ok (.getfield 9, 3) := by decide +kernel
theorem d_gm_form_59 : decode prog_3_method_4_code 59 = .ok (.aload_n 0, 1) := by decide +kernel
theorem d_gm_form_60 : decode prog_3_method_4_code 60 = .ok (.getfield 39, 3) := by decide +kernel
theorem d_gm_form_63 : decode prog_3_method_4_code 63 = .ok (.iconst 1, 1) := by decide +kernel
theorem d_gm_form_64 : decode prog_3_method_4_code 64 = .ok (.isub, 1) := by decide +kernel
theorem d_gm_form_65 : decode prog_3_method_4_code 65 = .ok (.iaload, 1) := by decide +kernel
theorem d_gm_form_66 : decode prog_3_method_4_code 66 = .ok (.iconst 4, 1) := by decide +kernel
theorem d_gm_form_67 : decode prog_3_method_4_code 67 = .ok (.if_icmp .ne 7, 3) := by decide +kernel
theorem d_gm_form_70 : decode prog_3_method_4_code 70 = .ok (.iconst 2, 1) := by decide +kernel
theorem d_gm_form_71 : decode prog_3_method_4_code 71 = .ok (.goto 4, 3) := by decide +kernel
theorem d_gm_form_74 : decode prog_3_method_4_code 74 = .ok (.iconst 0, 1) := by decide +kernel
theorem d_gm_form_75 : decode prog_3_method_4_code 75 = .ok (.putfield 35, 3) := by decide +kernel
theorem d_gm_form_78 : decode prog_3_method_4_code 78 = .ok (.aload_n 0, 1) := by decide +kernel
theorem d_gm_form_79 : decode prog_3_method_4_code 79 = .ok (.getfield 35, 3) := by decide +kernel
theorem d_gm_form_82 : decode prog_3_method_4_code 82 = .ok (.ifCond .le 5, 3) := by decide +kernel
theorem d_gm_form_85 : decode prog_3_method_4_code 85 = .ok (.iconst 0, 1) := by decide +kernel
theorem d_gm_form_86 : decode prog_3_method_4_code 86 = .ok (.ireturn, 1) := by decide +kernel
theorem d_gm_form_87 : decode prog_3_method_4_code 87 = .ok (.aload_n 0, 1) := by decide +kernel
theorem d_gm_form_88 : decode prog_3_method_4_code 88 = .ok (.getfield 39, 3) := by decide +kernel
theorem d_gm_form_91 : decode prog_3_method_4_code 91 = .ok (.iconst 1, 1) := by decide +kernel
theorem d_gm_form_92 : decode prog_3_method_4_code 92 = .ok (.isub, 1) := by decide +kernel
theorem d_gm_form_93 : decode prog_3_method_4_code 93 = .ok (.istore 5, 2) := by decide +kernel
theorem d_gm_form_95 : decode prog_3_method_4_code 95 = .ok (.iconst 4, 1) := by decide +kernel
theorem d_gm_form_96 : decode prog_3_method_4_code 96 = .ok (.iload 5, 2) := by decide +kernel
theorem d_gm_form_98 : decode prog_3_method_4_code 98 = .ok (.imul, 1) := by decide +kernel
theorem d_gm_form_99 : decode prog_3_method_4_code 99 = .ok (.aload_n 0, 1) := by decide +kernel
theorem d_gm_form_100 : decode prog_3_method_4_code 100 = .ok (.getfield 9, 3) := by decide +kernel
theorem d_gm_form_103 : decode prog_3_method_4_code 103 = .ok (.iload 5, 2) := by decide +kernel
theorem d_gm_form_105 : decode prog_3_method_4_code 105 = .ok (.iaload, 1) := by decide +kernel
theorem d_gm_form_106 : decode prog_3_method_4_code 106 = .ok (.iadd, 1) := by decide +kernel
theorem d_gm_form_107 : decode prog_3_method_4_code 107 = .ok (.istore 6, 2) := by decide +kernel
theorem d_gm_form_109 : decode prog_3_method_4_code 109 = .ok (.aload_n 0, 1) := by decide +kernel
theorem d_gm_form_110 : decode prog_3_method_4_code 110 = .ok (.getfield 13, 3) := by decide +kernel
theorem d_gm_form_113 : decode prog_3_method_4_code 113 = .ok (.iload 6, 2) := by decide +kernel
theorem d_gm_form_115 : decode prog_3_method_4_code 115 = .ok (.iload_n 1, 1) := by decide +kernel
theorem d_gm_form_116 : decode prog_3_method_4_code 116 = .ok (.iastore, 1) := by decide +kernel
theorem d_gm_form_117 : decode prog_3_method_4_code 117 = .ok (.aload_n 0, 1) := by decide +kernel
theorem d_gm_form_118 : decode prog_3_method_4_code 118 = .ok (.getfield 16, 3) := by decide +kernel
theorem d_gm_form_121 : decode prog_3_method_4_code 121 = .ok (.iload 6, 2) := by decide +kernel
theorem d_gm_form_123 : decode prog_3_method_4_code 123 = .ok (.iload_n 2, 1) := by decide +kernel
theorem d_gm_form_124 : decode prog_3_method_4_code 124 = .ok (.iastore, 1) := by decide +kernel
theorem d_gm_form_125 : decode prog_3_method_4_code 125 = .ok (.aload_n 0, 1) := by decide +kernel
theorem d_gm_form_126 : decode prog_3_method_4_code 126 = .ok (.getfield 19, 3) := by decide +kernel
theorem d_gm_form_129 : decode prog_3_method_4_code 129 = .ok (.iload 6, 2) := by decide +kernel
theorem d_gm_form_131 : decode prog_3_method_4_code 131 = .ok (.iload_n 3, 1) := by decide +kernel
theorem d_gm_form_132 : decode prog_3_method_4_code 132 = .ok (.iastore, 1) := by decide +kernel
theorem d_gm_form_133 : decode prog_3_method_4_code 133 = .ok (.aload_n 0, 1) := by decide +kernel
theorem d_gm_form_134 : decode prog_3_method_4_code 134 = .ok (.getfield 9, 3) := by decide +kernel
theorem d_gm_form_137 : decode prog_3_method_4_code 137 = .ok (.iload 5, 2) := by decide +kernel
theorem d_gm_form_139 : decode prog_3_method_4_code 139 = .ok (.dup2, 1) := by decide +kernel
theorem d_gm_form_140 : decode prog_3_method_4_code 140 = .ok (.iaload, 1) := by decide +kernel
theorem d_gm_form_141 : decode prog_3_method_4_code 141 = .ok (.iconst 1, 1) := by decide +kernel
theorem d_gm_form_142 : decode prog_3_method_4_code 142 = .ok (.iadd, 1) := by decide +kernel
theorem d_gm_form_143 : decode prog_3_method_4_code 143 = .ok (.iastore, 1) := by decide +kernel
theorem d_gm_form_144 : decode prog_3_method_4_code 144 = .ok (.aload_n 0, 1) := by decide +kernel
theorem d_gm_form_145 : decode prog_3_method_4_code 145 = .ok (.iconst 0, 1) := by decide +kernel
theorem d_gm_form_146 : decode prog_3_method_4_code 146 = .ok (.putfield 42, 3) := by decide +kernel
theorem d_gm_form_149 : decode prog_3_method_4_code 149 = .ok (.aload_n 0, 1) := by decide +kernel
theorem d_gm_form_150 : decode prog_3_method_4_code 150 = .ok (.getfield 9, 3) := by decide +kernel
theorem d_gm_form_153 : decode prog_3_method_4_code 153 = .ok (.iload 5, 2) := by decide +kernel
theorem d_gm_form_155 : decode prog_3_method_4_code 155 = .ok (.iaload, 1) := by decide +kernel
theorem d_gm_form_156 : decode prog_3_method_4_code 156 = .ok (.ireturn, 1) := by decide +kernel
-- gm_aim
theorem d_gm_aim_0 : decode prog_3_method_5_code 0 = .ok (.aload_n 0, 1) := by decide +kernel
theorem d_gm_aim_1 : decode prog_3_method_5_code 1 = .ok (.iload_n 1, 1) := by decide +kernel
theorem d_gm_aim_2 : decode prog_3_method_5_code 2 = .ok (.ifCond .lt 23, 3) := by decide +kernel
theorem d_gm_aim_5 : decode prog_3_method_5_code 5 = .ok (.iload_n 1, 1) := by decide +kernel
theorem d_gm_aim_6 : decode prog_3_method_5_code 6 = .ok (.aload_n 0, 1) := by decide +kernel
theorem d_gm_aim_7 : decode prog_3_method_5_code 7 = .ok (.getfield 39, 3) := by decide +kernel
theorem d_gm_aim_10 : decode prog_3_method_5_code 10 = .ok (.if_icmp .ge 15, 3) := by decide +kernel
theorem d_gm_aim_13 : decode prog_3_method_5_code 13 = .ok (.iload_n 2, 1) := by decide +kernel
theorem d_gm_aim_14 : decode prog_3_method_5_code 14 = .ok (.ifCond .lt 11, 3) := by decide +kernel
theorem d_gm_aim_17 : decode prog_3_method_5_code 17 = .ok (.iload_n 2, 1) := by decide +kernel
theorem d_gm_aim_18 : decode prog_3_method_5_code 18 = .ok (.aload_n 0, 1) := by decide +kernel
theorem d_gm_aim_19 : decode prog_3_method_5_code 19 = .ok (.getfield 39, 3) := by decide +kernel
theorem d_gm_aim_22 : decode prog_3_method_5_code 22 = .ok (.if_icmp .le 7, 3) := by decide +kernel
theorem d_gm_aim_25 : decode prog_3_method_5_code 25 = .ok (.iconst 1, 1) := by decide +kernel
theorem d_gm_aim_26 : decode prog_3_method_5_code 26 = .ok (.goto 4, 3) := by decide +kernel
theorem d_gm_aim_29 : decode prog_3_method_5_code 29 = .ok (.iconst 0, 1) := by decide +kernel
theorem d_gm_aim_30 : decode prog_3_method_5_code 30 = .ok (.putfield 35, 3) := by decide +kernel
theorem d_gm_aim_33 : decode prog_3_method_5_code 33 = .ok (.aload_n 0, 1) := by decide +kernel
theorem d_gm_aim_34 : decode prog_3_method_5_code 34 = .ok (.getfield 35, 3) := by decide +kernel
theorem d_gm_aim_37 : decode prog_3_method_5_code 37 = .ok (.ifCond .le 4, 3) := by decide +kernel
theorem d_gm_aim_40 : decode prog_3_method_5_code 40 = .ok (.return_, 1) := by decide +kernel
theorem d_gm_aim_41 : decode prog_3_method_5_code 41 = .ok (.aload_n 0, 1) := by decide +kernel
theorem d_gm_aim_42 : decode prog_3_method_5_code 42 = .ok (.getfield 22, 3) := by decide +kernel
theorem d_gm_aim_45 : decode prog_3_method_5_code 45 = .ok (.iload_n 1, 1) := by decide +kernel
theorem d_gm_aim_46 : decode prog_3_method_5_code 46 = .ok (.iload_n 2, 1) := by decide +kernel
theorem d_gm_aim_47 : decode prog_3_method_5_code 47 = .ok (.iastore, 1) := by decide +kernel
theorem d_gm_aim_48 : decode prog_3_method_5_code 48 = .ok (.aload_n 0, 1) := by decide +kernel
theorem d_gm_aim_49 : decode prog_3_method_5_code 49 = .ok (.getfield 25, 3) := by decide +kernel
theorem d_gm_aim_52 : decode prog_3_method_5_code 52 = .ok (.iload_n 1, 1) := by decide +kernel
theorem d_gm_aim_53 : decode prog_3_method_5_code 53 = .ok (.iload_n 3, 1) := by decide +kernel
theorem d_gm_aim_54 : decode prog_3_method_5_code 54 = .ok (.iastore, 1) := by decide +kernel
theorem d_gm_aim_55 : decode prog_3_method_5_code 55 = .ok (.aload_n 0, 1) := by decide +kernel
theorem d_gm_aim_56 : decode prog_3_method_5_code 56 = .ok (.iconst 0, 1) := by decide +kernel
theorem d_gm_aim_57 : decode prog_3_method_5_code 57 = .ok (.putfield 42, 3) := by decide +kernel
theorem d_gm_aim_60 : decode prog_3_method_5_code 60 = .ok (.return_, 1) := by decide +kernel
-- gm_clear
theorem d_gm_clear_0 : decode prog_3_method_6_code 0 = .ok (.aload_n 0, 1) := by decide +kernel
theorem d_gm_clear_1 : decode prog_3_method_6_code 1 = .ok (.iconst 0, 1) := by decide +kernel
theorem d_gm_clear_2 : decode prog_3_method_6_code 2 = .ok (.putfield 35, 3) := by decide +kernel
theorem d_gm_clear_5 : decode prog_3_method_6_code 5 = .ok (.aload_n 0, 1) := by decide +kernel
theorem d_gm_clear_6 : decode prog_3_method_6_code 6 = .ok (.getfield 39, 3) := by decide +kernel
theorem d_gm_clear_9 : decode prog_3_method_6_code 9 = .ok (.istore_n 1, 1) := by decide +kernel
theorem d_gm_clear_10 : decode prog_3_method_6_code 10 = .ok (.aload_n 0, 1) := by decide +kernel
theorem d_gm_clear_11 : decode prog_3_method_6_code 11 = .ok (.iconst 0, 1) := by decide +kernel
theorem d_gm_clear_12 : decode prog_3_method_6_code 12 = .ok (.putfield 39, 3) := by decide +kernel
theorem d_gm_clear_15 : decode prog_3_method_6_code 15 = .ok (.aload_n 0, 1) := by decide +kernel
theorem d_gm_clear_16 : decode prog_3_method_6_code 16 = .ok (.iconst 0, 1) := by decide +kernel
theorem d_gm_clear_17 : decode prog_3_method_6_code 17 = .ok (.putfield 42, 3) := by decide +kernel
theorem d_gm_clear_20 : decode prog_3_method_6_code 20 = .ok (.iload_n 1, 1) := by decide +kernel
theorem d_gm_clear_21 : decode prog_3_method_6_code 21 = .ok (.ireturn, 1) := by decide +kernel
-- gm_settle
theorem d_gm_settle_0 : decode prog_3_method_10_code 0 = .ok (.aload_n 0, 1) := by decide +kernel
theorem d_gm_settle_1 : decode prog_3_method_10_code 1 = .ok (.iconst 0, 1) := by decide +kernel
theorem d_gm_settle_2 : decode prog_3_method_10_code 2 = .ok (.putfield 35, 3) := by decide +kernel
theorem d_gm_settle_5 : decode prog_3_method_10_code 5 = .ok (.aload_n 0, 1) := by decide +kernel
theorem d_gm_settle_6 : decode prog_3_method_10_code 6 = .ok (.iconst 1, 1) := by decide +kernel
theorem d_gm_settle_7 : decode prog_3_method_10_code 7 = .ok (.putfield 42, 3) := by decide +kernel
theorem d_gm_settle_10 : decode prog_3_method_10_code 10 = .ok (.iconst 0, 1) := by decide +kernel
theorem d_gm_settle_11 : decode prog_3_method_10_code 11 = .ok (.istore_n 1, 1) := by decide +kernel
theorem d_gm_settle_12 : decode prog_3_method_10_code 12 = .ok (.iload_n 1, 1) := by decide +kernel
theorem d_gm_settle_13 : decode prog_3_method_10_code 13 = .ok (.aload_n 0, 1) := by decide +kernel
theorem d_gm_settle_14 : decode prog_3_method_10_code 14 = .ok (.getfield 39, 3) := by decide +kernel
theorem d_gm_settle_17 : decode prog_3_method_10_code 17 = .ok (.if_icmp .ge 16, 3) := by decide +kernel
theorem d_gm_settle_20 : decode prog_3_method_10_code 20 = .ok (.aload_n 0, 1) := by decide +kernel
theorem d_gm_settle_21 : decode prog_3_method_10_code 21 = .ok (.getfield 28, 3) := by decide +kernel
theorem d_gm_settle_24 : decode prog_3_method_10_code 24 = .ok (.iload_n 1, 1) := by decide +kernel
theorem d_gm_settle_25 : decode prog_3_method_10_code 25 = .ok (.iconst 0, 1) := by decide +kernel
theorem d_gm_settle_26 : decode prog_3_method_10_code 26 = .ok (.iastore, 1) := by decide +kernel
theorem d_gm_settle_27 : decode prog_3_method_10_code 27 = .ok (.iinc 1 1, 3) := by decide +kernel
theorem d_gm_settle_30 : decode prog_3_method_10_code 30 = .ok (.goto (-18), 3) := by decide +kernel
theorem d_gm_settle_33 : decode prog_3_method_10_code 33 = .ok (.iconst 0, 1) := by decide +kernel
theorem d_gm_settle_34 : decode prog_3_method_10_code 34 = .ok (.istore_n 1, 1) := by decide +kernel
theorem d_gm_settle_35 : decode prog_3_method_10_code 35 = .ok (.iconst 0, 1) := by decide +kernel
theorem d_gm_settle_36 : decode prog_3_method_10_code 36 = .ok (.istore_n 2, 1) := by decide +kernel
theorem d_gm_settle_37 : decode prog_3_method_10_code 37 = .ok (.aload_n 0, 1) := by decide +kernel
theorem d_gm_settle_38 : decode prog_3_method_10_code 38 = .ok (.aload_n 0, 1) := by decide +kernel
theorem d_gm_settle_39 : decode prog_3_method_10_code 39 = .ok (.getfield 39, 3) := by decide +kernel
theorem d_gm_settle_42 : decode prog_3_method_10_code 42 = .ok (.invokevirtual 46, 3) := by decide +kernel
theorem d_gm_settle_45 : decode prog_3_method_10_code 45 = .ok (.sipush 4096, 3) := by decide +kernel
theorem d_gm_settle_48 : decode prog_3_method_10_code 48 = .ok (.if_icmp .le 10, 3) := by decide +kernel
theorem d_gm_settle_51 : decode prog_3_method_10_code 51 = .ok (.aload_n 0, 1) := by decide +kernel
theorem d_gm_settle_52 : decode prog_3_method_10_code 52 = .ok (.iconst 1, 1) := by decide +kernel
theorem d_gm_settle_53 : decode prog_3_method_10_code 53 = .ok (.putfield 35, 3) := by decide +kernel
theorem d_gm_settle_56 : decode prog_3_method_10_code 56 = .ok (.iconst 0, 1) := by decide +kernel
theorem d_gm_settle_57 : decode prog_3_method_10_code 57 = .ok (.ireturn, 1) := by decide +kernel
theorem d_gm_settle_58 : decode prog_3_method_10_code 58 = .ok (.iconst 0, 1) := by decide +kernel
theorem d_gm_settle_59 : decode prog_3_method_10_code 59 = .ok (.istore_n 3, 1) := by decide +kernel
theorem d_gm_settle_60 : decode prog_3_method_10_code 60 = .ok (.iload_n 3, 1) := by decide +kernel
theorem d_gm_settle_61 : decode prog_3_method_10_code 61 = .ok (.aload_n 0, 1) := by decide +kernel
theorem d_gm_settle_62 : decode prog_3_method_10_code 62 = .ok (.getfield 39, 3) := by decide +kernel
theorem d_gm_settle_65 : decode prog_3_method_10_code 65 = .ok (.if_icmp .ge 68, 3) := by decide +kernel
theorem d_gm_settle_68 : decode prog_3_method_10_code 68 = .ok (.aload_n 0, 1) := by decide +kernel
theorem d_gm_settle_69 : decode prog_3_method_10_code 69 = .ok (.getfield 31, 3) := by decide +kernel
theorem d_gm_settle_72 : decode prog_3_method_10_code 72 = .ok (.iload_n 3, 1) := by decide +kernel
theorem d_gm_settle_73 : decode prog_3_method_10_code 73 = .ok (.aload_n 0, 1) := by decide +kernel
theorem d_gm_settle_74 : decode prog_3_method_10_code 74 = .ok (.iload_n 3, 1) := by decide +kernel
theorem d_gm_settle_75 : decode prog_3_method_10_code 75 = .ok (.invokevirtual 56, 3) := by decide +kernel
theorem d_gm_settle_78 : decode prog_3_method_10_code 78 = .ok (.ifCond .ne 7, 3) := by decide +kernel
theorem d_gm_settle_81 : decode prog_3_method_10_code 81 = .ok (.iconst 1, 1) := by decide +kernel
theorem d_gm_settle_82 : decode prog_3_method_10_code 82 = .ok (.goto 4, 3) := by decide +kernel
theorem d_gm_settle_85 : decode prog_3_method_10_code 85 = .ok (.iconst 0, 1) := by decide +kernel
theorem d_gm_settle_86 : decode prog_3_method_10_code 86 = .ok (.bastore, 1) := by decide +kernel
theorem d_gm_settle_87 : decode prog_3_method_10_code 87 = .ok (.iload_n 2, 1) := by decide +kernel
theorem d_gm_settle_88 : decode prog_3_method_10_code 88 = .ok (.aload_n 0, 1) := by decide +kernel
theorem d_gm_settle_89 : decode prog_3_method_10_code 89 = .ok (.getfield 31, 3) := by decide +kernel
theorem d_gm_settle_92 : decode prog_3_method_10_code 92 = .ok (.iload_n 3, 1) := by decide +kernel
theorem d_gm_settle_93 : decode prog_3_method_10_code 93 = .ok (.baload, 1) := by decide +kernel
theorem d_gm_settle_94 : decode prog_3_method_10_code 94 = .ok (.ior, 1) := by decide +kernel
theorem d_gm_settle_95 : decode prog_3_method_10_code 95 = .ok (.istore_n 2, 1) := by decide +kernel
theorem d_gm_settle_96 : decode prog_3_method_10_code 96 = .ok (.aload_n 0, 1) := by decide +kernel
theorem d_gm_settle_97 : decode prog_3_method_10_code 97 = .ok (.getfield 31, 3) := by decide +kernel
theorem d_gm_settle_100 : decode prog_3_method_10_code 100 = .ok (.iload_n 3, 1) := by decide +kernel
theorem d_gm_settle_101 : decode prog_3_method_10_code 101 = .ok (.baload, 1) := by decide +kernel
theorem d_gm_settle_102 : decode prog_3_method_10_code 102 = .ok (.ifCond .eq 25, 3) := by decide +kernel
theorem d_gm_settle_105 : decode prog_3_method_10_code 105 = .ok (.aload_n 0, 1) := by decide +kernel
theorem d_gm_settle_106 : decode prog_3_method_10_code 106 = .ok (.getfield 28, 3) := by decide +kernel
theorem d_gm_settle_109 : decode prog_3_method_10_code 109 = .ok (.iload_n 3, 1) := by decide +kernel
theorem d_gm_settle_110 : decode prog_3_method_10_code 110 = .ok (.iaload, 1) := by decide +kernel
theorem d_gm_settle_111 : decode prog_3_method_10_code 111 = .ok (.aload_n 0, 1) := by decide +kernel
theorem d_gm_settle_112 : decode prog_3_method_10_code 112 = .ok (.getfield 9, 3) := by decide +kernel
theorem d_gm_settle_115 : decode prog_3_method_10_code 115 = .ok (.iload_n 3, 1) := by decide +kernel
theorem d_gm_settle_116 : decode prog_3_method_10_code 116 = .ok (.iaload, 1) := by decide +kernel
theorem d_gm_settle_117 : decode prog_3_method_10_code 117 = .ok (.iconst 1, 1) := by decide +kernel
theorem d_gm_settle_118 : decode prog_3_method_10_code 118 = .ok (.isub, 1) := by decide +kernel
theorem d_gm_settle_119 : decode prog_3_method_10_code 119 = .ok (.if_icmp .ne 8, 3) := by decide +kernel
theorem d_gm_settle_122 : decode prog_3_method_10_code 122 = .ok (.aload_n 0, 1) := by decide +kernel
theorem d_gm_settle_123 : decode prog_3_method_10_code 123 = .ok (.iconst 2, 1) := by decide +kernel
theorem d_gm_settle_124 : decode prog_3_method_10_code 124 = .ok (.putfield 35, 3) := by decide +kernel
theorem d_gm_settle_127 : decode prog_3_method_10_code 127 = .ok (.iinc 3 1, 3) := by decide +kernel
theorem d_gm_settle_130 : decode prog_3_method_10_code 130 = .ok (.goto (-70), 3) := by decide +kernel
theorem d_gm_settle_133 : decode prog_3_method_10_code 133 = .ok (.aload_n 0, 1) := by decide +kernel
theorem d_gm_settle_134 : decode prog_3_method_10_code 134 = .ok (.getfield 35, 3) := by decide +kernel
theorem d_gm_settle_137 : decode prog_3_method_10_code 137 = .ok (.ifCond .le 5, 3) := by decide +kernel
theorem d_gm_settle_140 : decode prog_3_method_10_code 140 = .ok (.iconst 0, 1) := by decide +kernel
theorem d_gm_settle_141 : decode prog_3_method_10_code 141 = .ok (.ireturn, 1) := by decide +kernel
theorem d_gm_settle_142 : decode prog_3_method_10_code 142 = .ok (.iload_n 2, 1) := by decide +kernel
theorem d_gm_settle_143 : decode prog_3_method_10_code 143 = .ok (.ifCond .ne 5, 3) := by decide +kernel
theorem d_gm_settle_146 : decode prog_3_method_10_code 146 = .ok (.iload_n 1, 1) := by decide +kernel
theorem d_gm_settle_147 : decode prog_3_method_10_code 147 = .ok (.ireturn, 1) := by decide +kernel
theorem d_gm_settle_148 : decode prog_3_method_10_code 148 = .ok (.iconst 0, 1) := by decide +kernel
theorem d_gm_settle_149 : decode prog_3_method_10_code 149 = .ok (.istore_n 3, 1) := by decide +kernel
theorem d_gm_settle_150 : decode prog_3_method_10_code 150 = .ok (.iload_n 3, 1) := by decide +kernel
theorem d_gm_settle_151 : decode prog_3_method_10_code 151 = .ok (.aload_n 0, 1) := by decide +kernel
theorem d_gm_settle_152 : decode prog_3_method_10_code 152 = .ok (.getfield 39, 3) := by decide +kernel
theorem d_gm_settle_155 : decode prog_3_method_10_code 155 = .ok (.if_icmp .ge 28, 3) := by decide +kernel
theorem d_gm_settle_158 : decode prog_3_method_10_code 158 = .ok (.aload_n 0, 1) := by decide +kernel
theorem d_gm_settle_159 : decode prog_3_method_10_code 159 = .ok (.getfield 31, 3) := by decide +kernel
theorem d_gm_settle_162 : decode prog_3_method_10_code 162 = .ok (.iload_n 3, 1) := by decide +kernel
theorem d_gm_settle_163 : decode prog_3_method_10_code 163 = .ok (.baload, 1) := by decide +kernel
theorem d_gm_settle_164 : decode prog_3_method_10_code 164 = .ok (.ifCond .eq 13, 3) := by decide +kernel
theorem d_gm_settle_167 : decode prog_3_method_10_code 167 = .ok (.aload_n 0, 1) := by decide +kernel
theorem d_gm_settle_168 : decode prog_3_method_10_code 168 = .ok (.getfield 28, 3) := by decide +kernel
theorem d_gm_settle_171 : decode prog_3_method_10_code 171 = .ok (.iload_n 3, 1) := by decide +kernel
theorem d_gm_settle_172 : decode prog_3_method_10_code 172 = .ok (.dup2, 1) := by decide +kernel
theorem d_gm_settle_173 : decode prog_3_method_10_code 173 = .ok (.iaload, 1) := by decide +kernel
theorem d_gm_settle_174 : decode prog_3_method_10_code 174 = .ok (.iconst 1, 1) := by decide +kernel
theorem d_gm_settle_175 : decode prog_3_method_10_code 175 = .ok (.iadd, 1) := by decide +kernel
theorem d_gm_settle_176 : decode prog_3_method_10_code 176 = .ok (.iastore, 1) := by decide +kernel
theorem d_gm_settle_177 : decode prog_3_method_10_code 177 = .ok (.iinc 3 1, 3) := by decide +kernel
theorem d_gm_settle_180 : decode prog_3_method_10_code 180 = .ok (.goto (-30), 3) := by decide +kernel
theorem d_gm_settle_183 : decode prog_3_method_10_code 183 = .ok (.iinc 1 1, 3) := by decide +kernel
theorem d_gm_settle_186 : decode prog_3_method_10_code 186 = .ok (.goto (-151), 3) := by decide +kernel
-- gm_address
theorem d_gm_address_0 : decode prog_3_method_7_code 0 = .ok (.iconst 0, 1) := by decide +kernel
theorem d_gm_address_1 : decode prog_3_method_7_code 1 = .ok (.istore_n 2, 1) := by decide +kernel
theorem d_gm_address_2 : decode prog_3_method_7_code 2 = .ok (.iconst 0, 1) := by decide +kernel
theorem d_gm_address_3 : decode prog_3_method_7_code 3 = .ok (.istore_n 3, 1) := by decide +kernel
theorem d_gm_address_4 : decode prog_3_method_7_code 4 = .ok (.iload_n 3, 1) := by decide +kernel
theorem d_gm_address_5 : decode prog_3_method_7_code 5 = .ok (.iload_n 1, 1) := by decide +kernel
theorem d_gm_address_6 : decode prog_3_method_7_code 6 = .ok (.if_icmp .ge 36, 3) := by decide +kernel
theorem d_gm_address_9 : decode prog_3_method_7_code 9 = .ok (.aload_n 0, 1) := by decide +kernel
theorem d_gm_address_10 : decode prog_3_method_7_code 10 = .ok (.getfield 9, 3) := by decide +kernel
theorem d_gm_address_13 : decode prog_3_method_7_code 13 = .ok (.iload_n 3, 1) := by decide +kernel
theorem d_gm_address_14 : decode prog_3_method_7_code 14 = .ok (.iaload, 1) := by decide +kernel
theorem d_gm_address_15 : decode prog_3_method_7_code 15 = .ok (.ifCond .le 21, 3) := by decide +kernel
theorem d_gm_address_18 : decode prog_3_method_7_code 18 = .ok (.iload_n 2, 1) := by decide +kernel
theorem d_gm_address_19 : decode prog_3_method_7_code 19 = .ok (.aload_n 0, 1) := by decide +kernel
theorem d_gm_address_20 : decode prog_3_method_7_code 20 = .ok (.getfield 13, 3) := by decide +kernel
theorem d_gm_address_23 : decode prog_3_method_7_code 23 = .ok (.iconst 4, 1) := by decide +kernel
theorem d_gm_address_24 : decode prog_3_method_7_code 24 = .ok (.iload_n 3, 1) := by decide +kernel
theorem d_gm_address_25 : decode prog_3_method_7_code 25 = .ok (.imul, 1) := by decide +kernel
theorem d_gm_address_26 : decode prog_3_method_7_code 26 = .ok (.aload_n 0, 1) := by decide +kernel
theorem d_gm_address_27 : decode prog_3_method_7_code 27 = .ok (.getfield 28, 3) := by decide +kernel
theorem d_gm_address_30 : decode prog_3_method_7_code 30 = .ok (.iload_n 3, 1) := by decide +kernel
theorem d_gm_address_31 : decode prog_3_method_7_code 31 = .ok (.iaload, 1) := by decide +kernel
theorem d_gm_address_32 : decode prog_3_method_7_code 32 = .ok (.iadd, 1) := by decide +kernel
theorem d_gm_address_33 : decode prog_3_method_7_code 33 = .ok (.iaload, 1) := by decide +kernel
theorem d_gm_address_34 : decode prog_3_method_7_code 34 = .ok (.iadd, 1) := by decide +kernel
theorem d_gm_address_35 : decode prog_3_method_7_code 35 = .ok (.istore_n 2, 1) := by decide +kernel
theorem d_gm_address_36 : decode prog_3_method_7_code 36 = .ok (.iinc 3 1, 3) := by decide +kernel
theorem d_gm_address_39 : decode prog_3_method_7_code 39 = .ok (.goto (-35), 3) := by decide +kernel
theorem d_gm_address_42 : decode prog_3_method_7_code 42 = .ok (.iload_n 2, 1) := by decide +kernel
theorem d_gm_address_43 : decode prog_3_method_7_code 43 = .ok (.ireturn, 1) := by decide +kernel
-- gm_isFitting
theorem d_gm_isFitting_0 : decode prog_3_method_9_code 0 = .ok (.aload_n 0, 1) := by decide +kernel
theorem d_gm_isFitting_1 : decode prog_3_method_9_code 1 = .ok (.getfield 9, 3) := by decide +kernel
theorem d_gm_isFitting_4 : decode prog_3_method_9_code 4 = .ok (.iload_n 1, 1) := by decide +kernel
theorem d_gm_isFitting_5 : decode prog_3_method_9_code 5 = .ok (.iaload, 1) := by decide +kernel
theorem d_gm_isFitting_6 : decode prog_3_method_9_code 6 = .ok (.ifCond .ne 5, 3) := by decide +kernel
theorem d_gm_isFitting_9 : decode prog_3_method_9_code 9 = .ok (.iconst 1, 1) := by decide +kernel
theorem d_gm_isFitting_10 : decode prog_3_method_9_code 10 = .ok (.ireturn, 1) := by decide +kernel
theorem d_gm_isFitting_11 : decode prog_3_method_9_code 11 = .ok (.iconst 4, 1) := by decide +kernel
theorem d_gm_isFitting_12 : decode prog_3_method_9_code 12 = .ok (.iload_n 1, 1) := by decide +kernel
theorem d_gm_isFitting_13 : decode prog_3_method_9_code 13 = .ok (.imul, 1) := by decide +kernel
theorem d_gm_isFitting_14 : decode prog_3_method_9_code 14 = .ok (.aload_n 0, 1) := by decide +kernel
theorem d_gm_isFitting_15 : decode prog_3_method_9_code 15 = .ok (.getfield 28, 3) := by decide +kernel
theorem d_gm_isFitting_18 : decode prog_3_method_9_code 18 = .ok (.iload_n 1, 1) := by decide +kernel
theorem d_gm_isFitting_19 : decode prog_3_method_9_code 19 = .ok (.iaload, 1) := by decide +kernel
theorem d_gm_isFitting_20 : decode prog_3_method_9_code 20 = .ok (.iadd, 1) := by decide +kernel
theorem d_gm_isFitting_21 : decode prog_3_method_9_code 21 = .ok (.istore_n 2, 1) := by decide +kernel
theorem d_gm_isFitting_22 : decode prog_3_method_9_code 22 = .ok (.aload_n 0, 1) := by decide +kernel
theorem d_gm_isFitting_23 : decode prog_3_method_9_code 23 = .ok (.iload_n 1, 1) := by decide +kernel
theorem d_gm_isFitting_24 : decode prog_3_method_9_code 24 = .ok (.invokevirtual 50, 3) := by decide +kernel
theorem d_gm_isFitting_27 : decode prog_3_method_9_code 27 = .ok (.lstore_n 3, 1) := by decide +kernel
theorem d_gm_isFitting_28 : decode prog_3_method_9_code 28 = .ok (.lconst 1, 1) := by decide +kernel
theorem d_gm_isFitting_29 : decode prog_3_method_9_code 29 = .ok (.aload_n 0, 1) := by decide +kernel
theorem d_gm_isFitting_30 : decode prog_3_method_9_code 30 = .ok (.getfield 16, 3) := by decide +kernel
theorem d_gm_isFitting_33 : decode prog_3_method_9_code 33 = .ok (.iload_n 2, 1) := by decide +kernel
theorem d_gm_isFitting_34 : decode prog_3_method_9_code 34 = .ok (.iaload, 1) := by decide +kernel
theorem d_gm_isFitting_35 : decode prog_3_method_9_code 35 = .ok (.iconst 1, 1) := by decide +kernel
theorem d_gm_isFitting_36 : decode prog_3_method_9_code 36 = .ok (.isub, 1) := by decide +kernel
theorem d_gm_isFitting_37 : decode prog_3_method_9_code 37 = .ok (.lshl, 1) := by decide +kernel
theorem d_gm_isFitting_38 : decode prog_3_method_9_code 38 = .ok (.lstore 5, 2) := by decide +kernel
theorem d_gm_isFitting_40 : decode prog_3_method_9_code 40 = .ok (.aload_n 0, 1) := by decide +kernel
theorem d_gm_isFitting_41 : decode prog_3_method_9_code 41 = .ok (.getfield 19, 3) := by decide +kernel
theorem d_gm_isFitting_44 : decode prog_3_method_9_code 44 = .ok (.iload_n 2, 1) := by decide +kernel
theorem d_gm_isFitting_45 : decode prog_3_method_9_code 45 = .ok (.iaload, 1) := by decide +kernel
theorem d_gm_isFitting_46 : decode prog_3_method_9_code 46 = .ok (.ifCond .ne 28, 3) := by decide +kernel
theorem d_gm_isFitting_49 : decode prog_3_method_9_code 49 = .ok (.lload_n 3, 1) := by decide +kernel
theorem d_gm_isFitting_50 : decode prog_3_method_9_code 50 = .ok (.lconst 0, 1) := by decide +kernel
theorem d_gm_isFitting_51 : decode prog_3_method_9_code 51 = .ok (.lcmp, 1) := by decide +kernel
theorem d_gm_isFitting_52 : decode prog_3_method_9_code 52 = .ok (.ifCond .lt 18, 3) := by decide +kernel
theorem d_gm_isFitting_55 : decode prog_3_method_9_code 55 = .ok (.lload_n 3, 1) := by decide +kernel
theorem d_gm_isFitting_56 : decode prog_3_method_9_code 56 = .ok (.ldc2_w 54, 3) := by decide +kernel
theorem d_gm_isFitting_59 : decode prog_3_method_9_code 59 = .ok (.lload 5, 2) := by decide +kernel
theorem d_gm_isFitting_61 : decode prog_3_method_9_code 61 = .ok (.lmul, 1) := by decide +kernel
theorem d_gm_isFitting_62 : decode prog_3_method_9_code 62 = .ok (.lcmp, 1) := by decide +kernel
theorem d_gm_isFitting_63 : decode prog_3_method_9_code 63 = .ok (.ifCond .ge 7, 3) := by decide +kernel
theorem d_gm_isFitting_66 : decode prog_3_method_9_code 66 = .ok (.iconst 1, 1) := by decide +kernel
theorem d_gm_isFitting_67 : decode prog_3_method_9_code 67 = .ok (.goto 27, 3) := by decide +kernel
theorem d_gm_isFitting_70 : decode prog_3_method_9_code 70 = .ok (.iconst 0, 1) := by decide +kernel
theorem d_gm_isFitting_71 : decode prog_3_method_9_code 71 = .ok (.goto 23, 3) := by decide +kernel
theorem d_gm_isFitting_74 : decode prog_3_method_9_code 74 = .ok (.lload_n 3, 1) := by decide +kernel
theorem d_gm_isFitting_75 : decode prog_3_method_9_code 75 = .ok (.lload 5, 2) := by decide +kernel
theorem d_gm_isFitting_77 : decode prog_3_method_9_code 77 = .ok (.lneg, 1) := by decide +kernel
theorem d_gm_isFitting_78 : decode prog_3_method_9_code 78 = .ok (.lcmp, 1) := by decide +kernel
theorem d_gm_isFitting_79 : decode prog_3_method_9_code 79 = .ok (.ifCond .lt 14, 3) := by decide +kernel
theorem d_gm_isFitting_82 : decode prog_3_method_9_code 82 = .ok (.lload_n 3, 1) := by decide +kernel
theorem d_gm_isFitting_83 : decode prog_3_method_9_code 83 = .ok (.lload 5, 2) := by decide +kernel
theorem d_gm_isFitting_85 : decode prog_3_method_9_code 85 = .ok (.lcmp, 1) := by decide +kernel
theorem d_gm_isFitting_86 : decode prog_3_method_9_code 86 = .ok (.ifCond .ge 7, 3) := by decide +kernel
theorem d_gm_isFitting_89 : decode prog_3_method_9_code 89 = .ok (.iconst 1, 1) := by decide +kernel
theorem d_gm_isFitting_90 : decode prog_3_method_9_code 90 = .ok (.goto 4, 3) := by decide +kernel
theorem d_gm_isFitting_93 : decode prog_3_method_9_code 93 = .ok (.iconst 0, 1) := by decide +kernel
theorem d_gm_isFitting_94 : decode prog_3_method_9_code 94 = .ok (.ireturn, 1) := by decide +kernel
-- gm_worth
theorem d_gm_worth_0 : decode prog_3_method_8_code 0 = .ok (.aload_n 0, 1) := by decide +kernel
theorem d_gm_worth_1 : decode prog_3_method_8_code 1 = .ok (.aload_n 0, 1) := by decide +kernel
theorem d_gm_worth_2 : decode prog_3_method_8_code 2 = .ok (.getfield 22, 3) := by decide +kernel
theorem d_gm_worth_5 : decode prog_3_method_8_code 5 = .ok (.iload_n 1, 1) := by decide +kernel
theorem d_gm_worth_6 : decode prog_3_method_8_code 6 = .ok (.iaload, 1) := by decide +kernel
theorem d_gm_worth_7 : decode prog_3_method_8_code 7 = .ok (.invokevirtual 46, 3) := by decide +kernel
theorem d_gm_worth_10 : decode prog_3_method_8_code 10 = .ok (.i2l, 1) := by decide +kernel
theorem d_gm_worth_11 : decode prog_3_method_8_code 11 = .ok (.aload_n 0, 1) := by decide +kernel
theorem d_gm_worth_12 : decode prog_3_method_8_code 12 = .ok (.getfield 25, 3) := by decide +kernel
theorem d_gm_worth_15 : decode prog_3_method_8_code 15 = .ok (.iload_n 1, 1) := by decide +kernel
theorem d_gm_worth_16 : decode prog_3_method_8_code 16 = .ok (.iaload, 1) := by decide +kernel
theorem d_gm_worth_17 : decode prog_3_method_8_code 17 = .ok (.i2l, 1) := by decide +kernel
theorem d_gm_worth_18 : decode prog_3_method_8_code 18 = .ok (.ladd, 1) := by decide +kernel
theorem d_gm_worth_19 : decode prog_3_method_8_code 19 = .ok (.lstore_n 2, 1) := by decide +kernel
theorem d_gm_worth_20 : decode prog_3_method_8_code 20 = .ok (.aload_n 0, 1) := by decide +kernel
theorem d_gm_worth_21 : decode prog_3_method_8_code 21 = .ok (.getfield 9, 3) := by decide +kernel
theorem d_gm_worth_24 : decode prog_3_method_8_code 24 = .ok (.iload_n 1, 1) := by decide +kernel
theorem d_gm_worth_25 : decode prog_3_method_8_code 25 = .ok (.iaload, 1) := by decide +kernel
theorem d_gm_worth_26 : decode prog_3_method_8_code 26 = .ok (.ifCond .le 33, 3) := by decide +kernel
theorem d_gm_worth_29 : decode prog_3_method_8_code 29 = .ok (.aload_n 0, 1) := by decide +kernel
theorem d_gm_worth_30 : decode prog_3_method_8_code 30 = .ok (.getfield 19, 3) := by decide +kernel
theorem d_gm_worth_33 : decode prog_3_method_8_code 33 = .ok (.iconst 4, 1) := by decide +kernel
theorem d_gm_worth_34 : decode prog_3_method_8_code 34 = .ok (.iload_n 1, 1) := by decide +kernel
theorem d_gm_worth_35 : decode prog_3_method_8_code 35 = .ok (.imul, 1) := by decide +kernel
theorem d_gm_worth_36 : decode prog_3_method_8_code 36 = .ok (.aload_n 0, 1) := by decide +kernel
theorem d_gm_worth_37 : decode prog_3_method_8_code 37 = .ok (.getfield 28, 3) := by decide +kernel
theorem d_gm_worth_40 : decode prog_3_method_8_code 40 = .ok (.iload_n 1, 1) := by decide +kernel
theorem d_gm_worth_41 : decode prog_3_method_8_code 41 = .ok (.iaload, 1) := by decide +kernel
theorem d_gm_worth_42 : decode prog_3_method_8_code 42 = .ok (.iadd, 1) := by decide +kernel
theorem d_gm_worth_43 : decode prog_3_method_8_code 43 = .ok (.iaload, 1) := by decide +kernel
theorem d_gm_worth_44 : decode prog_3_method_8_code 44 = .ok (.iconst 2, 1) := by decide +kernel
theorem d_gm_worth_45 : decode prog_3_method_8_code 45 = .ok (.if_icmp .ne 14, 3) := by decide +kernel
theorem d_gm_worth_48 : decode prog_3_method_8_code 48 = .ok (.lload_n 2, 1) := by decide +kernel
theorem d_gm_worth_49 : decode prog_3_method_8_code 49 = .ok (.aload_n 0, 1) := by decide +kernel
theorem d_gm_worth_50 : decode prog_3_method_8_code 50 = .ok (.iload_n 1, 1) := by decide +kernel
theorem d_gm_worth_51 : decode prog_3_method_8_code 51 = .ok (.invokevirtual 46, 3) := by decide +kernel
theorem d_gm_worth_54 : decode prog_3_method_8_code 54 = .ok (.i2l, 1) := by decide +kernel
theorem d_gm_worth_55 : decode prog_3_method_8_code 55 = .ok (.lsub, 1) := by decide +kernel
theorem d_gm_worth_56 : decode prog_3_method_8_code 56 = .ok (.goto 4, 3) := by decide +kernel
theorem d_gm_worth_59 : decode prog_3_method_8_code 59 = .ok (.lload_n 2, 1) := by decide +kernel
theorem d_gm_worth_60 : decode prog_3_method_8_code 60 = .ok (.lreturn, 1) := by decide +kernel
-- gm_told
theorem d_gm_told_0 : decode prog_3_method_11_code 0 = .ok (.aload_n 0, 1) := by decide +kernel
theorem d_gm_told_1 : decode prog_3_method_11_code 1 = .ok (.iload_n 2, 1) := by decide +kernel
theorem d_gm_told_2 : decode prog_3_method_11_code 2 = .ok (.ifCond .lt 8, 3) := by decide +kernel
theorem d_gm_told_5 : decode prog_3_method_11_code 5 = .ok (.iload_n 2, 1) := by decide +kernel
theorem d_gm_told_6 : decode prog_3_method_11_code 6 = .ok (.iconst 2, 1) := by decide +kernel
theorem d_gm_told_7 : decode prog_3_method_11_code 7 = .ok (.if_icmp .le 7, 3) := by decide +kernel
theorem d_gm_told_10 : decode prog_3_method_11_code 10 = .ok (.iconst 3, 1) := by decide +kernel
theorem d_gm_told_11 : decode prog_3_method_11_code 11 = .ok (.goto 43, 3) := by decide +kernel
theorem d_gm_told_14 : decode prog_3_method_11_code 14 = .ok (.aload_n 0, 1) := by decide +kernel
theorem d_gm_told_15 : decode prog_3_method_11_code 15 = .ok (.getfield 42, 3) := by decide +kernel
theorem d_gm_told_18 : decode prog_3_method_11_code 18 = .ok (.ifCond .ne 7, 3) := by decide +kernel
theorem d_gm_told_21 : decode prog_3_method_11_code 21 = .ok (.iconst 1, 1) := by decide +kernel
theorem d_gm_told_22 : decode prog_3_method_11_code 22 = .ok (.goto 32, 3) := by decide +kernel
theorem d_gm_told_25 : decode prog_3_method_11_code 25 = .ok (.iload_n 1, 1) := by decide +kernel
theorem d_gm_told_26 : decode prog_3_method_11_code 26 = .ok (.ifCond .lt 23, 3) := by decide +kernel
theorem d_gm_told_29 : decode prog_3_method_11_code 29 = .ok (.iload_n 1, 1) := by decide +kernel
theorem d_gm_told_30 : decode prog_3_method_11_code 30 = .ok (.aload_n 0, 1) := by decide +kernel
theorem d_gm_told_31 : decode prog_3_method_11_code 31 = .ok (.getfield 39, 3) := by decide +kernel
theorem d_gm_told_34 : decode prog_3_method_11_code 34 = .ok (.if_icmp .gt 15, 3) := by decide +kernel
theorem d_gm_told_37 : decode prog_3_method_11_code 37 = .ok (.iload_n 1, 1) := by decide +kernel
theorem d_gm_told_38 : decode prog_3_method_11_code 38 = .ok (.aload_n 0, 1) := by decide +kernel
theorem d_gm_told_39 : decode prog_3_method_11_code 39 = .ok (.getfield 39, 3) := by decide +kernel
theorem d_gm_told_42 : decode prog_3_method_11_code 42 = .ok (.if_icmp .ne 11, 3) := by decide +kernel
theorem d_gm_told_45 : decode prog_3_method_11_code 45 = .ok (.iload_n 2, 1) := by decide +kernel
theorem d_gm_told_46 : decode prog_3_method_11_code 46 = .ok (.ifCond .le 7, 3) := by decide +kernel
theorem d_gm_told_49 : decode prog_3_method_11_code 49 = .ok (.iconst 2, 1) := by decide +kernel
theorem d_gm_told_50 : decode prog_3_method_11_code 50 = .ok (.goto 4, 3) := by decide +kernel
theorem d_gm_told_53 : decode prog_3_method_11_code 53 = .ok (.iconst 0, 1) := by decide +kernel
theorem d_gm_told_54 : decode prog_3_method_11_code 54 = .ok (.putfield 35, 3) := by decide +kernel
theorem d_gm_told_57 : decode prog_3_method_11_code 57 = .ok (.aload_n 0, 1) := by decide +kernel
theorem d_gm_told_58 : decode prog_3_method_11_code 58 = .ok (.getfield 35, 3) := by decide +kernel
theorem d_gm_told_61 : decode prog_3_method_11_code 61 = .ok (.ifCond .le 5, 3) := by decide +kernel
theorem d_gm_told_64 : decode prog_3_method_11_code 64 = .ok (.iconst 0, 1) := by decide +kernel
theorem d_gm_told_65 : decode prog_3_method_11_code 65 = .ok (.ireturn, 1) := by decide +kernel
theorem d_gm_told_66 : decode prog_3_method_11_code 66 = .ok (.iload_n 2, 1) := by decide +kernel
theorem d_gm_told_67 : decode prog_3_method_11_code 67 = .ok (.ifCond .ne 9, 3) := by decide +kernel
theorem d_gm_told_70 : decode prog_3_method_11_code 70 = .ok (.aload_n 0, 1) := by decide +kernel
theorem d_gm_told_71 : decode prog_3_method_11_code 71 = .ok (.iload_n 1, 1) := by decide +kernel
theorem d_gm_told_72 : decode prog_3_method_11_code 72 = .ok (.invokevirtual 46, 3) := by decide +kernel
theorem d_gm_told_75 : decode prog_3_method_11_code 75 = .ok (.ireturn, 1) := by decide +kernel
theorem d_gm_told_76 : decode prog_3_method_11_code 76 = .ok (.iload_n 2, 1) := by decide +kernel
theorem d_gm_told_77 : decode prog_3_method_11_code 77 = .ok (.iconst 1, 1) := by decide +kernel
theorem d_gm_told_78 : decode prog_3_method_11_code 78 = .ok (.if_icmp .ne 23, 3) := by decide +kernel
theorem d_gm_told_81 : decode prog_3_method_11_code 81 = .ok (.aload_n 0, 1) := by decide +kernel
theorem d_gm_told_82 : decode prog_3_method_11_code 82 = .ok (.getfield 9, 3) := by decide +kernel
theorem d_gm_told_85 : decode prog_3_method_11_code 85 = .ok (.iload_n 1, 1) := by decide +kernel
theorem d_gm_told_86 : decode prog_3_method_11_code 86 = .ok (.iaload, 1) := by decide +kernel
theorem d_gm_told_87 : decode prog_3_method_11_code 87 = .ok (.ifCond .ne 7, 3) := by decide +kernel
theorem d_gm_told_90 : decode prog_3_method_11_code 90 = .ok (.iconst (-1), 1) := by decide +kernel
theorem d_gm_told_91 : decode prog_3_method_11_code 91 = .ok (.goto 9, 3) := by decide +kernel
theorem d_gm_told_94 : decode prog_3_method_11_code 94 = .ok (.aload_n 0, 1) := by decide +kernel
theorem d_gm_told_95 : decode prog_3_method_11_code 95 = .ok (.getfield 28, 3) := by decide +kernel
theorem d_gm_told_98 : decode prog_3_method_11_code 98 = .ok (.iload_n 1, 1) := by decide +kernel
theorem d_gm_told_99 : decode prog_3_method_11_code 99 = .ok (.iaload, 1) := by decide +kernel
theorem d_gm_told_100 : decode prog_3_method_11_code 100 = .ok (.ireturn, 1) := by decide +kernel
theorem d_gm_told_101 : decode prog_3_method_11_code 101 = .ok (.aload_n 0, 1) := by decide +kernel
theorem d_gm_told_102 : decode prog_3_method_11_code 102 = .ok (.iload_n 1, 1) := by decide +kernel
theorem d_gm_told_103 : decode prog_3_method_11_code 103 = .ok (.invokevirtual 56, 3) := by decide +kernel
theorem d_gm_told_106 : decode prog_3_method_11_code 106 = .ok (.ifCond .eq 7, 3) := by decide +kernel
theorem d_gm_told_109 : decode prog_3_method_11_code 109 = .ok (.iconst 1, 1) := by decide +kernel
theorem d_gm_told_110 : decode prog_3_method_11_code 110 = .ok (.goto 4, 3) := by decide +kernel
theorem d_gm_told_113 : decode prog_3_method_11_code 113 = .ok (.iconst 0, 1) := by decide +kernel
theorem d_gm_told_114 : decode prog_3_method_11_code 114 = .ok (.ireturn, 1) := by decide +kernel
-- gm_value
theorem d_gm_value_0 : decode prog_3_method_12_code 0 = .ok (.aload_n 0, 1) := by decide +kernel
theorem d_gm_value_1 : decode prog_3_method_12_code 1 = .ok (.aload_n 0, 1) := by decide +kernel
theorem d_gm_value_2 : decode prog_3_method_12_code 2 = .ok (.getfield 42, 3) := by decide +kernel
theorem d_gm_value_5 : decode prog_3_method_12_code 5 = .ok (.ifCond .ne 7, 3) := by decide +kernel
theorem d_gm_value_8 : decode prog_3_method_12_code 8 = .ok (.iconst 1, 1) := by decide +kernel
theorem d_gm_value_9 : decode prog_3_method_12_code 9 = .ok (.goto 20, 3) := by decide +kernel
theorem d_gm_value_12 : decode prog_3_method_12_code 12 = .ok (.iload_n 1, 1) := by decide +kernel
theorem d_gm_value_13 : decode prog_3_method_12_code 13 = .ok (.ifCond .lt 11, 3) := by decide +kernel
theorem d_gm_value_16 : decode prog_3_method_12_code 16 = .ok (.iload_n 1, 1) := by decide +kernel
theorem d_gm_value_17 : decode prog_3_method_12_code 17 = .ok (.aload_n 0, 1) := by decide +kernel
theorem d_gm_value_18 : decode prog_3_method_12_code 18 = .ok (.getfield 39, 3) := by decide +kernel
theorem d_gm_value_21 : decode prog_3_method_12_code 21 = .ok (.if_icmp .lt 7, 3) := by decide +kernel
theorem d_gm_value_24 : decode prog_3_method_12_code 24 = .ok (.iconst 2, 1) := by decide +kernel
theorem d_gm_value_25 : decode prog_3_method_12_code 25 = .ok (.goto 4, 3) := by decide +kernel
theorem d_gm_value_28 : decode prog_3_method_12_code 28 = .ok (.iconst 0, 1) := by decide +kernel
theorem d_gm_value_29 : decode prog_3_method_12_code 29 = .ok (.putfield 35, 3) := by decide +kernel
theorem d_gm_value_32 : decode prog_3_method_12_code 32 = .ok (.aload_n 0, 1) := by decide +kernel
theorem d_gm_value_33 : decode prog_3_method_12_code 33 = .ok (.getfield 35, 3) := by decide +kernel
theorem d_gm_value_36 : decode prog_3_method_12_code 36 = .ok (.ifCond .le 7, 3) := by decide +kernel
theorem d_gm_value_39 : decode prog_3_method_12_code 39 = .ok (.lconst 0, 1) := by decide +kernel
theorem d_gm_value_40 : decode prog_3_method_12_code 40 = .ok (.goto 8, 3) := by decide +kernel
theorem d_gm_value_43 : decode prog_3_method_12_code 43 = .ok (.aload_n 0, 1) := by decide +kernel
theorem d_gm_value_44 : decode prog_3_method_12_code 44 = .ok (.iload_n 1, 1) := by decide +kernel
theorem d_gm_value_45 : decode prog_3_method_12_code 45 = .ok (.invokevirtual 50, 3) := by decide +kernel
theorem d_gm_value_48 : decode prog_3_method_12_code 48 = .ok (.lreturn, 1) := by decide +kernel
-- gm_wrong
theorem d_gm_wrong_0 : decode prog_3_method_13_code 0 = .ok (.aload_n 0, 1) := by decide +kernel
theorem d_gm_wrong_1 : decode prog_3_method_13_code 1 = .ok (.aload_n 0, 1) := by decide +kernel
theorem d_gm_wrong_2 : decode prog_3_method_13_code 2 = .ok (.getfield 42, 3) := by decide +kernel
theorem d_gm_wrong_5 : decode prog_3_method_13_code 5 = .ok (.ifCond .eq 7, 3) := by decide +kernel
theorem d_gm_wrong_8 : decode prog_3_method_13_code 8 = .ok (.iconst 0, 1) := by decide +kernel
theorem d_gm_wrong_9 : decode prog_3_method_13_code 9 = .ok (.goto 4, 3) := by decide +kernel
theorem d_gm_wrong_12 : decode prog_3_method_13_code 12 = .ok (.iconst 1, 1) := by decide +kernel
theorem d_gm_wrong_13 : decode prog_3_method_13_code 13 = .ok (.putfield 35, 3) := by decide +kernel
theorem d_gm_wrong_16 : decode prog_3_method_13_code 16 = .ok (.aload_n 0, 1) := by decide +kernel
theorem d_gm_wrong_17 : decode prog_3_method_13_code 17 = .ok (.getfield 35, 3) := by decide +kernel
theorem d_gm_wrong_20 : decode prog_3_method_13_code 20 = .ok (.ifCond .le 5, 3) := by decide +kernel
theorem d_gm_wrong_23 : decode prog_3_method_13_code 23 = .ok (.iconst 0, 1) := by decide +kernel
theorem d_gm_wrong_24 : decode prog_3_method_13_code 24 = .ok (.ireturn, 1) := by decide +kernel
theorem d_gm_wrong_25 : decode prog_3_method_13_code 25 = .ok (.iconst 0, 1) := by decide +kernel
theorem d_gm_wrong_26 : decode prog_3_method_13_code 26 = .ok (.istore_n 1, 1) := by decide +kernel
theorem d_gm_wrong_27 : decode prog_3_method_13_code 27 = .ok (.iload_n 1, 1) := by decide +kernel
theorem d_gm_wrong_28 : decode prog_3_method_13_code 28 = .ok (.aload_n 0, 1) := by decide +kernel
theorem d_gm_wrong_29 : decode prog_3_method_13_code 29 = .ok (.getfield 39, 3) := by decide +kernel
theorem d_gm_wrong_32 : decode prog_3_method_13_code 32 = .ok (.if_icmp .ge 19, 3) := by decide +kernel
theorem d_gm_wrong_35 : decode prog_3_method_13_code 35 = .ok (.aload_n 0, 1) := by decide +kernel
theorem d_gm_wrong_36 : decode prog_3_method_13_code 36 = .ok (.iload_n 1, 1) := by decide +kernel
theorem d_gm_wrong_37 : decode prog_3_method_13_code 37 = .ok (.invokevirtual 56, 3) := by decide +kernel
theorem d_gm_wrong_40 : decode prog_3_method_13_code 40 = .ok (.ifCond .ne 5, 3) := by decide +kernel
theorem d_gm_wrong_43 : decode prog_3_method_13_code 43 = .ok (.iload_n 1, 1) := by decide +kernel
theorem d_gm_wrong_44 : decode prog_3_method_13_code 44 = .ok (.ireturn, 1) := by decide +kernel
theorem d_gm_wrong_45 : decode prog_3_method_13_code 45 = .ok (.iinc 1 1, 3) := by decide +kernel
theorem d_gm_wrong_48 : decode prog_3_method_13_code 48 = .ok (.goto (-21), 3) := by decide +kernel
theorem d_gm_wrong_51 : decode prog_3_method_13_code 51 = .ok (.iconst (-1), 1) := by decide +kernel
theorem d_gm_wrong_52 : decode prog_3_method_13_code 52 = .ok (.ireturn, 1) := by decide +kernel
end
section
-- gl_line
theorem d_gl_line_0 : decode method_3_code 0 = .ok (.aload_n 1, 1) := by decide +kernel
theorem d_gl_line_1 : decode method_3_code 1 = .ok (.iconst 0, 1) := by decide +kernel
theorem d_gl_line_2 : decode method_3_code 2 = .ok (.aload_n 0, 1) := by decide +kernel
theorem d_gl_line_3 : decode method_3_code 3 = .ok (.invokevirtual 7, 3) := by decide +kernel
theorem d_gl_line_6 : decode method_3_code 6 = .ok (.i2l, 1) := by decide +kernel
theorem d_gl_line_7 : decode method_3_code 7 = .ok (.lastore, 1) := by decide +kernel
theorem d_gl_line_8 : decode method_3_code 8 = .ok (.goto 6, 3) := by decide +kernel
theorem d_gl_line_11 : decode method_3_code 11 = .ok (.astore_n 2, 1) := by decide +kernel
theorem d_gl_line_12 : decode method_3_code 12 = .ok (.iconst 1, 1) := by decide +kernel
theorem d_gl_line_13 : decode method_3_code 13 = .ok (.ireturn, 1) := by decide +kernel
theorem d_gl_line_14 : decode method_3_code 14 = .ok (.iconst 0, 1) := by decide +kernel
theorem d_gl_line_15 : decode method_3_code 15 = .ok (.ireturn, 1) := by decide +kernel
-- gl_form
theorem d_gl_form_0 : decode method_4_code 0 = .ok (.aload 4, 2) := by decide +kernel
theorem d_gl_form_2 : decode method_4_code 2 = .ok (.iconst 0, 1) := by decide +kernel
theorem d_gl_form_3 : decode method_4_code 3 = .ok (.aload_n 0, 1) := by decide +kernel
theorem d_gl_form_4 : decode method_4_code 4 = .ok (.iload_n 1, 1) := by decide +kernel
theorem d_gl_form_5 : decode method_4_code 5 = .ok (.iload_n 2, 1) := by decide +kernel
theorem d_gl_form_6 : decode method_4_code 6 = .ok (.iload_n 3, 1) := by decide +kernel
theorem d_gl_form_7 : decode method_4_code 7 = .ok (.invokevirtual 15, 3) := by decide +kernel
theorem d_gl_form_10 : decode method_4_code 10 = .ok (.i2l, 1) := by decide +kernel
theorem d_gl_form_11 : decode method_4_code 11 = .ok (.lastore, 1) := by decide +kernel
theorem d_gl_form_12 : decode method_4_code 12 = .ok (.goto 11, 3) := by decide +kernel
theorem d_gl_form_15 : decode method_4_code 15 = .ok (.astore 5, 2) := by decide +kernel
theorem d_gl_form_17 : decode method_4_code 17 = .ok (.iconst 1, 1) := by decide +kernel
theorem d_gl_form_18 : decode method_4_code 18 = .ok (.ireturn, 1) := by decide +kernel
theorem d_gl_form_19 : decode method_4_code 19 = .ok (.astore 5, 2) := by decide +kernel
theorem d_gl_form_21 : decode method_4_code 21 = .ok (.iconst 2, 1) := by decide +kernel
theorem d_gl_form_22 : decode method_4_code 22 = .ok (.ireturn, 1) := by decide +kernel
theorem d_gl_form_23 : decode method_4_code 23 = .ok (.iconst 0, 1) := by decide +kernel
theorem d_gl_form_24 : decode method_4_code 24 = .ok (.ireturn, 1) := by decide +kernel
-- gl_aim
theorem d_gl_aim_0 : decode method_5_code 0 = .ok (.aload_n 0, 1) := by decide +kernel
theorem d_gl_aim_1 : decode method_5_code 1 = .ok (.iload_n 1, 1) := by decide +kernel
theorem d_gl_aim_2 : decode method_5_code 2 = .ok (.iload_n 2, 1) := by decide +kernel
theorem d_gl_aim_3 : decode method_5_code 3 = .ok (.iload_n 3, 1) := by decide +kernel
theorem d_gl_aim_4 : decode method_5_code 4 = .ok (.invokevirtual 21, 3) := by decide +kernel
theorem d_gl_aim_7 : decode method_5_code 7 = .ok (.goto 7, 3) := by decide +kernel
theorem d_gl_aim_10 : decode method_5_code 10 = .ok (.astore 4, 2) := by decide +kernel
theorem d_gl_aim_12 : decode method_5_code 12 = .ok (.iconst 1, 1) := by decide +kernel
theorem d_gl_aim_13 : decode method_5_code 13 = .ok (.ireturn, 1) := by decide +kernel
theorem d_gl_aim_14 : decode method_5_code 14 = .ok (.iconst 0, 1) := by decide +kernel
theorem d_gl_aim_15 : decode method_5_code 15 = .ok (.ireturn, 1) := by decide +kernel
-- gl_settle
theorem d_gl_settle_0 : decode method_6_code 0 = .ok (.aload_n 1, 1) := by decide +kernel
theorem d_gl_settle_1 : decode method_6_code 1 = .ok (.iconst 0, 1) := by decide +kernel
theorem d_gl_settle_2 : decode method_6_code 2 = .ok (.aload_n 0, 1) := by decide +kernel
theorem d_gl_settle_3 : decode method_6_code 3 = .ok (.invokevirtual 27, 3) := by decide +kernel
theorem d_gl_settle_6 : decode method_6_code 6 = .ok (.i2l, 1) := by decide +kernel
theorem d_gl_settle_7 : decode method_6_code 7 = .ok (.lastore, 1) := by decide +kernel
theorem d_gl_settle_8 : decode method_6_code 8 = .ok (.goto 9, 3) := by decide +kernel
theorem d_gl_settle_11 : decode method_6_code 11 = .ok (.astore_n 2, 1) := by decide +kernel
theorem d_gl_settle_12 : decode method_6_code 12 = .ok (.iconst 1, 1) := by decide +kernel
theorem d_gl_settle_13 : decode method_6_code 13 = .ok (.ireturn, 1) := by decide +kernel
theorem d_gl_settle_14 : decode method_6_code 14 = .ok (.astore_n 2, 1) := by decide +kernel
theorem d_gl_settle_15 : decode method_6_code 15 = .ok (.iconst 2, 1) := by decide +kernel
theorem d_gl_settle_16 : decode method_6_code 16 = .ok (.ireturn, 1) := by decide +kernel
theorem d_gl_settle_17 : decode method_6_code 17 = .ok (.iconst 0, 1) := by decide +kernel
theorem d_gl_settle_18 : decode method_6_code 18 = .ok (.ireturn, 1) := by decide +kernel
-- gl_told
theorem d_gl_told_0 : decode method_7_code 0 = .ok (.aload_n 3, 1) := by decide +kernel
theorem d_gl_told_1 : decode method_7_code 1 = .ok (.iconst 0, 1) := by decide +kernel
theorem d_gl_told_2 : decode method_7_code 2 = .ok (.aload_n 0, 1) := by decide +kernel
theorem d_gl_told_3 : decode method_7_code 3 = .ok (.iload_n 1, 1) := by decide +kernel
theorem d_gl_told_4 : decode method_7_code 4 = .ok (.iload_n 2, 1) := by decide +kernel
theorem d_gl_told_5 : decode method_7_code 5 = .ok (.invokevirtual 32, 3) := by decide +kernel
theorem d_gl_told_8 : decode method_7_code 8 = .ok (.i2l, 1) := by decide +kernel
theorem d_gl_told_9 : decode method_7_code 9 = .ok (.lastore, 1) := by decide +kernel
theorem d_gl_told_10 : decode method_7_code 10 = .ok (.goto 15, 3) := by decide +kernel
theorem d_gl_told_13 : decode method_7_code 13 = .ok (.astore 4, 2) := by decide +kernel
theorem d_gl_told_15 : decode method_7_code 15 = .ok (.iconst 1, 1) := by decide +kernel
theorem d_gl_told_16 : decode method_7_code 16 = .ok (.ireturn, 1) := by decide +kernel
theorem d_gl_told_17 : decode method_7_code 17 = .ok (.astore 4, 2) := by decide +kernel
theorem d_gl_told_19 : decode method_7_code 19 = .ok (.iconst 2, 1) := by decide +kernel
theorem d_gl_told_20 : decode method_7_code 20 = .ok (.ireturn, 1) := by decide +kernel
theorem d_gl_told_21 : decode method_7_code 21 = .ok (.astore 4, 2) := by decide +kernel
theorem d_gl_told_23 : decode method_7_code 23 = .ok (.iconst 3, 1) := by decide +kernel
theorem d_gl_told_24 : decode method_7_code 24 = .ok (.ireturn, 1) := by decide +kernel
theorem d_gl_told_25 : decode method_7_code 25 = .ok (.iconst 0, 1) := by decide +kernel
theorem d_gl_told_26 : decode method_7_code 26 = .ok (.ireturn, 1) := by decide +kernel
-- gl_value
theorem d_gl_value_0 : decode method_8_code 0 = .ok (.aload_n 2, 1) := by decide +kernel
theorem d_gl_value_1 : decode method_8_code 1 = .ok (.iconst 0, 1) := by decide +kernel
theorem d_gl_value_2 : decode method_8_code 2 = .ok (.aload_n 0, 1) := by decide +kernel
theorem d_gl_value_3 : decode method_8_code 3 = .ok (.iload_n 1, 1) := by decide +kernel
theorem d_gl_value_4 : decode method_8_code 4 = .ok (.invokevirtual 36, 3) := by decide +kernel
theorem d_gl_value_7 : decode method_8_code 7 = .ok (.lastore, 1) := by decide +kernel
theorem d_gl_value_8 : decode method_8_code 8 = .ok (.goto 9, 3) := by decide +kernel
theorem d_gl_value_11 : decode method_8_code 11 = .ok (.astore_n 3, 1) := by decide +kernel
theorem d_gl_value_12 : decode method_8_code 12 = .ok (.iconst 1, 1) := by decide +kernel
theorem d_gl_value_13 : decode method_8_code 13 = .ok (.ireturn, 1) := by decide +kernel
theorem d_gl_value_14 : decode method_8_code 14 = .ok (.astore_n 3, 1) := by decide +kernel
theorem d_gl_value_15 : decode method_8_code 15 = .ok (.iconst 2, 1) := by decide +kernel
theorem d_gl_value_16 : decode method_8_code 16 = .ok (.ireturn, 1) := by decide +kernel
theorem d_gl_value_17 : decode method_8_code 17 = .ok (.iconst 0, 1) := by decide +kernel
theorem d_gl_value_18 : decode method_8_code 18 = .ok (.ireturn, 1) := by decide +kernel
-- gl_wrong
theorem d_gl_wrong_0 : decode method_9_code 0 = .ok (.aload_n 1, 1) := by decide +kernel
theorem d_gl_wrong_1 : decode method_9_code 1 = .ok (.iconst 0, 1) := by decide +kernel
theorem d_gl_wrong_2 : decode method_9_code 2 = .ok (.aload_n 0, 1) := by decide +kernel
theorem d_gl_wrong_3 : decode method_9_code 3 = .ok (.invokevirtual 40, 3) := by decide +kernel
theorem d_gl_wrong_6 : decode method_9_code 6 = .ok (.i2l, 1) := by decide +kernel
theorem d_gl_wrong_7 : decode method_9_code 7 = .ok (.lastore, 1) := by decide +kernel
theorem d_gl_wrong_8 : decode method_9_code 8 = .ok (.goto 6, 3) := by decide +kernel
theorem d_gl_wrong_11 : decode method_9_code 11 = .ok (.astore_n 2, 1) := by decide +kernel
theorem d_gl_wrong_12 : decode method_9_code 12 = .ok (.iconst 1, 1) := by decide +kernel
theorem d_gl_wrong_13 : decode method_9_code 13 = .ok (.ireturn, 1) := by decide +kernel
theorem d_gl_wrong_14 : decode method_9_code 14 = .ok (.iconst 0, 1) := by decide +kernel
theorem d_gl_wrong_15 : decode method_9_code 15 = .ok (.ireturn, 1) := by decide +kernel
-- gl_law
theorem d_gl_law_0 : decode code 0 = .ok (.new 8, 3) := by decide +kernel
theorem d_gl_law_3 : decode code 3 = .ok (.dup, 1) := by decide +kernel
theorem d_gl_law_4 : decode code 4 = .ok (.invokespecial 43, 3) := by decide +kernel
theorem d_gl_law_7 : decode code 7 = .ok (.astore_n 1, 1) := by decide +kernel
theorem d_gl_law_8 : decode code 8 = .ok (.new 44, 3) := by decide +kernel
theorem d_gl_law_11 : decode code 11 = .ok (.dup, 1) := by decide +kernel
theorem d_gl_law_12 : decode code 12 = .ok (.invokespecial 46, 3) := by decide +kernel
theorem d_gl_law_15 : decode code 15 = .ok (.astore_n 2, 1) := by decide +kernel
theorem d_gl_law_16 : decode code 16 = .ok (.iconst 1, 1) := by decide +kernel
theorem d_gl_law_17 : decode code 17 = .ok (.newarray .long, 2) := by decide +kernel
theorem d_gl_law_19 : decode code 19 = .ok (.astore_n 3, 1) := by decide +kernel
theorem d_gl_law_20 : decode code 20 = .ok (.iconst 0, 1) := by decide +kernel
theorem d_gl_law_21 : decode code 21 = .ok (.istore 4, 2) := by decide +kernel
theorem d_gl_law_23 : decode code 23 = .ok (.iload 4, 2) := by decide +kernel
theorem d_gl_law_25 : decode code 25 = .ok (.aload_n 0, 1) := by decide +kernel
theorem d_gl_law_26 : decode code 26 = .ok (.arraylength, 1) := by decide +kernel
theorem d_gl_law_27 : decode code 27 = .ok (.iconst 4, 1) := by decide +kernel
theorem d_gl_law_28 : decode code 28 = .ok (.isub, 1) := by decide +kernel
theorem d_gl_law_29 : decode code 29 = .ok (.if_icmp .gt 469, 3) := by decide +kernel
theorem d_gl_law_32 : decode code 32 = .ok (.aload_n 0, 1) := by decide +kernel
theorem d_gl_law_33 : decode code 33 = .ok (.iload 4, 2) := by decide +kernel
theorem d_gl_law_35 : decode code 35 = .ok (.iaload, 1) := by decide +kernel
theorem d_gl_law_36 : decode code 36 = .ok (.bipush 7, 2) := by decide +kernel
theorem d_gl_law_38 : decode code 38 = .ok (.iand, 1) := by decide +kernel
theorem d_gl_law_39 : decode code 39 = .ok (.tableswitch 453 0 7 #[45, 89, 169, 229, 242, 286, 354, 409], 45) := by decide +kernel
theorem d_gl_law_84 : decode code 84 = .ok (.aload_n 1, 1) := by decide +kernel
theorem d_gl_law_85 : decode code 85 = .ok (.aload_n 3, 1) := by decide +kernel
theorem d_gl_law_86 : decode code 86 = .ok (.invokestatic 47, 3) := by decide +kernel
theorem d_gl_law_89 : decode code 89 = .ok (.istore 5, 2) := by decide +kernel
theorem d_gl_law_91 : decode code 91 = .ok (.aload_n 2, 1) := by decide +kernel
theorem d_gl_law_92 : decode code 92 = .ok (.invokevirtual 52, 3) := by decide +kernel
theorem d_gl_law_95 : decode code 95 = .ok (.istore 6, 2) := by decide +kernel
theorem d_gl_law_97 : decode code 97 = .ok (.aload_n 2, 1) := by decide +kernel
theorem d_gl_law_98 : decode code 98 = .ok (.invokevirtual 53, 3) := by decide +kernel
theorem d_gl_law_101 : decode code 101 = .ok (.iload 5, 2) := by decide +kernel
theorem d_gl_law_103 : decode code 103 = .ok (.if_icmp .eq 5, 3) := by decide +kernel
theorem d_gl_law_106 : decode code 106 = .ok (.iconst 0, 1) := by decide +kernel
theorem d_gl_law_107 : decode code 107 = .ok (.ireturn, 1) := by decide +kernel
theorem d_gl_law_108 : decode code 108 = .ok (.iload 5, 2) := by decide +kernel
theorem d_gl_law_110 : decode code 110 = .ok (.ifCond .ne 15, 3) := by decide +kernel
theorem d_gl_law_113 : decode code 113 = .ok (.aload_n 3, 1) := by decide +kernel
theorem d_gl_law_114 : decode code 114 = .ok (.iconst 0, 1) := by decide +kernel
theorem d_gl_law_115 : decode code 115 = .ok (.laload, 1) := by decide +kernel
theorem d_gl_law_116 : decode code 116 = .ok (.iload 6, 2) := by decide +kernel
theorem d_gl_law_118 : decode code 118 = .ok (.i2l, 1) := by decide +kernel
theorem d_gl_law_119 : decode code 119 = .ok (.lcmp, 1) := by decide +kernel
theorem d_gl_law_120 : decode code 120 = .ok (.ifCond .eq 5, 3) := by decide +kernel
theorem d_gl_law_123 : decode code 123 = .ok (.iconst 0, 1) := by decide +kernel
theorem d_gl_law_124 : decode code 124 = .ok (.ireturn, 1) := by decide +kernel
theorem d_gl_law_125 : decode code 125 = .ok (.goto 367, 3) := by decide +kernel
theorem d_gl_law_128 : decode code 128 = .ok (.aload_n 1, 1) := by decide +kernel
theorem d_gl_law_129 : decode code 129 = .ok (.aload_n 0, 1) := by decide +kernel
theorem d_gl_law_130 : decode code 130 = .ok (.iload 4, 2) := by decide +kernel
theorem d_gl_law_132 : decode code 132 = .ok (.iconst 1, 1) := by decide +kernel
theorem d_gl_law_133 : decode code 133 = .ok (.iadd, 1) := by decide +kernel
theorem d_gl_law_134 : decode code 134 = .ok (.iaload, 1) := by decide +kernel
theorem d_gl_law_135 : decode code 135 = .ok (.aload_n 0, 1) := by decide +kernel
theorem d_gl_law_136 : decode code 136 = .ok (.iload 4, 2) := by decide +kernel
theorem d_gl_law_138 : decode code 138 = .ok (.iconst 2, 1) := by decide +kernel
theorem d_gl_law_139 : decode code 139 = .ok (.iadd, 1) := by decide +kernel
theorem d_gl_law_140 : decode code 140 = .ok (.iaload, 1) := by decide +kernel
theorem d_gl_law_141 : decode code 141 = .ok (.aload_n 0, 1) := by decide +kernel
theorem d_gl_law_142 : decode code 142 = .ok (.iload 4, 2) := by decide +kernel
theorem d_gl_law_144 : decode code 144 = .ok (.iconst 3, 1) := by decide +kernel
theorem d_gl_law_145 : decode code 145 = .ok (.iadd, 1) := by decide +kernel
theorem d_gl_law_146 : decode code 146 = .ok (.iaload, 1) := by decide +kernel
theorem d_gl_law_147 : decode code 147 = .ok (.aload_n 3, 1) := by decide +kernel
theorem d_gl_law_148 : decode code 148 = .ok (.invokestatic 56, 3) := by decide +kernel
theorem d_gl_law_151 : decode code 151 = .ok (.istore 5, 2) := by decide +kernel
theorem d_gl_law_153 : decode code 153 = .ok (.aload_n 2, 1) := by decide +kernel
theorem d_gl_law_154 : decode code 154 = .ok (.aload_n 0, 1) := by decide +kernel
theorem d_gl_law_155 : decode code 155 = .ok (.iload 4, 2) := by decide +kernel
theorem d_gl_law_157 : decode code 157 = .ok (.iconst 1, 1) := by decide +kernel
theorem d_gl_law_158 : decode code 158 = .ok (.iadd, 1) := by decide +kernel
theorem d_gl_law_159 : decode code 159 = .ok (.iaload, 1) := by decide +kernel
theorem d_gl_law_160 : decode code 160 = .ok (.aload_n 0, 1) := by decide +kernel
theorem d_gl_law_161 : decode code 161 = .ok (.iload 4, 2) := by decide +kernel
theorem d_gl_law_163 : decode code 163 = .ok (.iconst 2, 1) := by decide +kernel
theorem d_gl_law_164 : decode code 164 = .ok (.iadd, 1) := by decide +kernel
theorem d_gl_law_165 : decode code 165 = .ok (.iaload, 1) := by decide +kernel
theorem d_gl_law_166 : decode code 166 = .ok (.aload_n 0, 1) := by decide +kernel
theorem d_gl_law_167 : decode code 167 = .ok (.iload 4, 2) := by decide +kernel
theorem d_gl_law_169 : decode code 169 = .ok (.iconst 3, 1) := by decide +kernel
theorem d_gl_law_170 : decode code 170 = .ok (.iadd, 1) := by decide +kernel
theorem d_gl_law_171 : decode code 171 = .ok (.iaload, 1) := by decide +kernel
theorem d_gl_law_172 : decode code 172 = .ok (.invokevirtual 59, 3) := by decide +kernel
theorem d_gl_law_175 : decode code 175 = .ok (.istore 6, 2) := by decide +kernel
theorem d_gl_law_177 : decode code 177 = .ok (.aload_n 2, 1) := by decide +kernel
theorem d_gl_law_178 : decode code 178 = .ok (.invokevirtual 53, 3) := by decide +kernel
theorem d_gl_law_181 : decode code 181 = .ok (.iload 5, 2) := by decide +kernel
theorem d_gl_law_183 : decode code 183 = .ok (.if_icmp .eq 5, 3) := by decide +kernel
theorem d_gl_law_186 : decode code 186 = .ok (.iconst 0, 1) := by decide +kernel
theorem d_gl_law_187 : decode code 187 = .ok (.ireturn, 1) := by decide +kernel
theorem d_gl_law_188 : decode code 188 = .ok (.iload 5, 2) := by decide +kernel
theorem d_gl_law_190 : decode code 190 = .ok (.ifCond .ne 15, 3) := by decide +kernel
theorem d_gl_law_193 : decode code 193 = .ok (.aload_n 3, 1) := by decide +kernel
theorem d_gl_law_194 : decode code 194 = .ok (.iconst 0, 1) := by decide +kernel
theorem d_gl_law_195 : decode code 195 = .ok (.laload, 1) := by decide +kernel
theorem d_gl_law_196 : decode code 196 = .ok (.iload 6, 2) := by decide +kernel
theorem d_gl_law_198 : decode code 198 = .ok (.i2l, 1) := by decide +kernel
theorem d_gl_law_199 : decode code 199 = .ok (.lcmp, 1) := by decide +kernel
theorem d_gl_law_200 : decode code 200 = .ok (.ifCond .eq 5, 3) := by decide +kernel
theorem d_gl_law_203 : decode code 203 = .ok (.iconst 0, 1) := by decide +kernel
theorem d_gl_law_204 : decode code 204 = .ok (.ireturn, 1) := by decide +kernel
theorem d_gl_law_205 : decode code 205 = .ok (.goto 287, 3) := by decide +kernel
theorem d_gl_law_208 : decode code 208 = .ok (.aload_n 1, 1) := by decide +kernel
theorem d_gl_law_209 : decode code 209 = .ok (.aload_n 0, 1) := by decide +kernel
theorem d_gl_law_210 : decode code 210 = .ok (.iload 4, 2) := by decide +kernel
theorem d_gl_law_212 : decode code 212 = .ok (.iconst 1, 1) := by decide +kernel
theorem d_gl_law_213 : decode code 213 = .ok (.iadd, 1) := by decide +kernel
theorem d_gl_law_214 : decode code 214 = .ok (.iaload, 1) := by decide +kernel
theorem d_gl_law_215 : decode code 215 = .ok (.aload_n 0, 1) := by decide +kernel
theorem d_gl_law_216 : decode code 216 = .ok (.iload 4, 2) := by decide +kernel
theorem d_gl_law_218 : decode code 218 = .ok (.iconst 2, 1) := by decide +kernel
theorem d_gl_law_219 : decode code 219 = .ok (.iadd, 1) := by decide +kernel
theorem d_gl_law_220 : decode code 220 = .ok (.iaload, 1) := by decide +kernel
theorem d_gl_law_221 : decode code 221 = .ok (.aload_n 0, 1) := by decide +kernel
theorem d_gl_law_222 : decode code 222 = .ok (.iload 4, 2) := by decide +kernel
theorem d_gl_law_224 : decode code 224 = .ok (.iconst 3, 1) := by decide +kernel
theorem d_gl_law_225 : decode code 225 = .ok (.iadd, 1) := by decide +kernel
theorem d_gl_law_226 : decode code 226 = .ok (.iaload, 1) := by decide +kernel
theorem d_gl_law_227 : decode code 227 = .ok (.invokestatic 60, 3) := by decide +kernel
theorem d_gl_law_230 : decode code 230 = .ok (.istore 5, 2) := by decide +kernel
theorem d_gl_law_232 : decode code 232 = .ok (.aload_n 2, 1) := by decide +kernel
theorem d_gl_law_233 : decode code 233 = .ok (.aload_n 0, 1) := by decide +kernel
theorem d_gl_law_234 : decode code 234 = .ok (.iload 4, 2) := by decide +kernel
theorem d_gl_law_236 : decode code 236 = .ok (.iconst 1, 1) := by decide +kernel
theorem d_gl_law_237 : decode code 237 = .ok (.iadd, 1) := by decide +kernel
theorem d_gl_law_238 : decode code 238 = .ok (.iaload, 1) := by decide +kernel
theorem d_gl_law_239 : decode code 239 = .ok (.aload_n 0, 1) := by decide +kernel
theorem d_gl_law_240 : decode code 240 = .ok (.iload 4, 2) := by decide +kernel
theorem d_gl_law_242 : decode code 242 = .ok (.iconst 2, 1) := by decide +kernel
theorem d_gl_law_243 : decode code 243 = .ok (.iadd, 1) := by decide +kernel
theorem d_gl_law_244 : decode code 244 = .ok (.iaload, 1) := by decide +kernel
theorem d_gl_law_245 : decode code 245 = .ok (.aload_n 0, 1) := by decide +kernel
theorem d_gl_law_246 : decode code 246 = .ok (.iload 4, 2) := by decide +kernel
theorem d_gl_law_248 : decode code 248 = .ok (.iconst 3, 1) := by decide +kernel
theorem d_gl_law_249 : decode code 249 = .ok (.iadd, 1) := by decide +kernel
theorem d_gl_law_250 : decode code 250 = .ok (.iaload, 1) := by decide +kernel
theorem d_gl_law_251 : decode code 251 = .ok (.invokevirtual 63, 3) := by decide +kernel
theorem d_gl_law_254 : decode code 254 = .ok (.aload_n 2, 1) := by decide +kernel
theorem d_gl_law_255 : decode code 255 = .ok (.invokevirtual 53, 3) := by decide +kernel
theorem d_gl_law_258 : decode code 258 = .ok (.iload 5, 2) := by decide +kernel
theorem d_gl_law_260 : decode code 260 = .ok (.if_icmp .eq 5, 3) := by decide +kernel
theorem d_gl_law_263 : decode code 263 = .ok (.iconst 0, 1) := by decide +kernel
theorem d_gl_law_264 : decode code 264 = .ok (.ireturn, 1) := by decide +kernel
theorem d_gl_law_265 : decode code 265 = .ok (.goto 227, 3) := by decide +kernel
theorem d_gl_law_268 : decode code 268 = .ok (.aload_n 1, 1) := by decide +kernel
theorem d_gl_law_269 : decode code 269 = .ok (.invokevirtual 64, 3) := by decide +kernel
theorem d_gl_law_272 : decode code 272 = .ok (.aload_n 2, 1) := by decide +kernel
theorem d_gl_law_273 : decode code 273 = .ok (.invokevirtual 67, 3) := by decide +kernel
theorem d_gl_law_276 : decode code 276 = .ok (.if_icmp .eq 216, 3) := by decide +kernel
theorem d_gl_law_279 : decode code 279 = .ok (.iconst 0, 1) := by decide +kernel
theorem d_gl_law_280 : decode code 280 = .ok (.ireturn, 1) := by decide +kernel
theorem d_gl_law_281 : decode code 281 = .ok (.aload_n 1, 1) := by decide +kernel
theorem d_gl_law_282 : decode code 282 = .ok (.aload_n 3, 1) := by decide +kernel
theorem d_gl_law_283 : decode code 283 = .ok (.invokestatic 68, 3) := by decide +kernel
theorem d_gl_law_286 : decode code 286 = .ok (.istore 5, 2) := by decide +kernel
theorem d_gl_law_288 : decode code 288 = .ok (.aload_n 2, 1) := by decide +kernel
theorem d_gl_law_289 : decode code 289 = .ok (.invokevirtual 70, 3) := by decide +kernel
theorem d_gl_law_292 : decode code 292 = .ok (.istore 6, 2) := by decide +kernel
theorem d_gl_law_294 : decode code 294 = .ok (.aload_n 2, 1) := by decide +kernel
theorem d_gl_law_295 : decode code 295 = .ok (.invokevirtual 53, 3) := by decide +kernel
theorem d_gl_law_298 : decode code 298 = .ok (.iload 5, 2) := by decide +kernel
theorem d_gl_law_300 : decode code 300 = .ok (.if_icmp .eq 5, 3) := by decide +kernel
theorem d_gl_law_303 : decode code 303 = .ok (.iconst 0, 1) := by decide +kernel
theorem d_gl_law_304 : decode code 304 = .ok (.ireturn, 1) := by decide +kernel
theorem d_gl_law_305 : decode code 305 = .ok (.iload 5, 2) := by decide +kernel
theorem d_gl_law_307 : decode code 307 = .ok (.ifCond .ne 15, 3) := by decide +kernel
theorem d_gl_law_310 : decode code 310 = .ok (.aload_n 3, 1) := by decide +kernel
theorem d_gl_law_311 : decode code 311 = .ok (.iconst 0, 1) := by decide +kernel
theorem d_gl_law_312 : decode code 312 = .ok (.laload, 1) := by decide +kernel
theorem d_gl_law_313 : decode code 313 = .ok (.iload 6, 2) := by decide +kernel
theorem d_gl_law_315 : decode code 315 = .ok (.i2l, 1) := by decide +kernel
theorem d_gl_law_316 : decode code 316 = .ok (.lcmp, 1) := by decide +kernel
theorem d_gl_law_317 : decode code 317 = .ok (.ifCond .eq 5, 3) := by decide +kernel
theorem d_gl_law_320 : decode code 320 = .ok (.iconst 0, 1) := by decide +kernel
theorem d_gl_law_321 : decode code 321 = .ok (.ireturn, 1) := by decide +kernel
theorem d_gl_law_322 : decode code 322 = .ok (.goto 170, 3) := by decide +kernel
theorem d_gl_law_325 : decode code 325 = .ok (.aload_n 1, 1) := by decide +kernel
theorem d_gl_law_326 : decode code 326 = .ok (.aload_n 0, 1) := by decide +kernel
theorem d_gl_law_327 : decode code 327 = .ok (.iload 4, 2) := by decide +kernel
theorem d_gl_law_329 : decode code 329 = .ok (.iconst 1, 1) := by decide +kernel
theorem d_gl_law_330 : decode code 330 = .ok (.iadd, 1) := by decide +kernel
theorem d_gl_law_331 : decode code 331 = .ok (.iaload, 1) := by decide +kernel
theorem d_gl_law_332 : decode code 332 = .ok (.aload_n 0, 1) := by decide +kernel
theorem d_gl_law_333 : decode code 333 = .ok (.iload 4, 2) := by decide +kernel
theorem d_gl_law_335 : decode code 335 = .ok (.iconst 2, 1) := by decide +kernel
theorem d_gl_law_336 : decode code 336 = .ok (.iadd, 1) := by decide +kernel
theorem d_gl_law_337 : decode code 337 = .ok (.iaload, 1) := by decide +kernel
theorem d_gl_law_338 : decode code 338 = .ok (.aload_n 3, 1) := by decide +kernel
theorem d_gl_law_339 : decode code 339 = .ok (.invokestatic 71, 3) := by decide +kernel
theorem d_gl_law_342 : decode code 342 = .ok (.istore 5, 2) := by decide +kernel
theorem d_gl_law_344 : decode code 344 = .ok (.aload_n 2, 1) := by decide +kernel
theorem d_gl_law_345 : decode code 345 = .ok (.aload_n 0, 1) := by decide +kernel
theorem d_gl_law_346 : decode code 346 = .ok (.iload 4, 2) := by decide +kernel
theorem d_gl_law_348 : decode code 348 = .ok (.iconst 1, 1) := by decide +kernel
theorem d_gl_law_349 : decode code 349 = .ok (.iadd, 1) := by decide +kernel
theorem d_gl_law_350 : decode code 350 = .ok (.iaload, 1) := by decide +kernel
theorem d_gl_law_351 : decode code 351 = .ok (.aload_n 0, 1) := by decide +kernel
theorem d_gl_law_352 : decode code 352 = .ok (.iload 4, 2) := by decide +kernel
theorem d_gl_law_354 : decode code 354 = .ok (.iconst 2, 1) := by decide +kernel
theorem d_gl_law_355 : decode code 355 = .ok (.iadd, 1) := by decide +kernel
theorem d_gl_law_356 : decode code 356 = .ok (.iaload, 1) := by decide +kernel
theorem d_gl_law_357 : decode code 357 = .ok (.invokevirtual 74, 3) := by decide +kernel
theorem d_gl_law_360 : decode code 360 = .ok (.istore 6, 2) := by decide +kernel
theorem d_gl_law_362 : decode code 362 = .ok (.aload_n 2, 1) := by decide +kernel
theorem d_gl_law_363 : decode code 363 = .ok (.invokevirtual 53, 3) := by decide +kernel
theorem d_gl_law_366 : decode code 366 = .ok (.iload 5, 2) := by decide +kernel
theorem d_gl_law_368 : decode code 368 = .ok (.if_icmp .eq 5, 3) := by decide +kernel
theorem d_gl_law_371 : decode code 371 = .ok (.iconst 0, 1) := by decide +kernel
theorem d_gl_law_372 : decode code 372 = .ok (.ireturn, 1) := by decide +kernel
theorem d_gl_law_373 : decode code 373 = .ok (.iload 5, 2) := by decide +kernel
theorem d_gl_law_375 : decode code 375 = .ok (.ifCond .ne 15, 3) := by decide +kernel
theorem d_gl_law_378 : decode code 378 = .ok (.aload_n 3, 1) := by decide +kernel
theorem d_gl_law_379 : decode code 379 = .ok (.iconst 0, 1) := by decide +kernel
theorem d_gl_law_380 : decode code 380 = .ok (.laload, 1) := by decide +kernel
theorem d_gl_law_381 : decode code 381 = .ok (.iload 6, 2) := by decide +kernel
theorem d_gl_law_383 : decode code 383 = .ok (.i2l, 1) := by decide +kernel
theorem d_gl_law_384 : decode code 384 = .ok (.lcmp, 1) := by decide +kernel
theorem d_gl_law_385 : decode code 385 = .ok (.ifCond .eq 5, 3) := by decide +kernel
theorem d_gl_law_388 : decode code 388 = .ok (.iconst 0, 1) := by decide +kernel
theorem d_gl_law_389 : decode code 389 = .ok (.ireturn, 1) := by decide +kernel
theorem d_gl_law_390 : decode code 390 = .ok (.goto 102, 3) := by decide +kernel
theorem d_gl_law_393 : decode code 393 = .ok (.aload_n 1, 1) := by decide +kernel
theorem d_gl_law_394 : decode code 394 = .ok (.aload_n 0, 1) := by decide +kernel
theorem d_gl_law_395 : decode code 395 = .ok (.iload 4, 2) := by decide +kernel
theorem d_gl_law_397 : decode code 397 = .ok (.iconst 1, 1) := by decide +kernel
theorem d_gl_law_398 : decode code 398 = .ok (.iadd, 1) := by decide +kernel
theorem d_gl_law_399 : decode code 399 = .ok (.iaload, 1) := by decide +kernel
theorem d_gl_law_400 : decode code 400 = .ok (.aload_n 3, 1) := by decide +kernel
theorem d_gl_law_401 : decode code 401 = .ok (.invokestatic 75, 3) := by decide +kernel
theorem d_gl_law_404 : decode code 404 = .ok (.istore 5, 2) := by decide +kernel
theorem d_gl_law_406 : decode code 406 = .ok (.aload_n 2, 1) := by decide +kernel
theorem d_gl_law_407 : decode code 407 = .ok (.aload_n 0, 1) := by decide +kernel
theorem d_gl_law_408 : decode code 408 = .ok (.iload 4, 2) := by decide +kernel
theorem d_gl_law_410 : decode code 410 = .ok (.iconst 1, 1) := by decide +kernel
theorem d_gl_law_411 : decode code 411 = .ok (.iadd, 1) := by decide +kernel
theorem d_gl_law_412 : decode code 412 = .ok (.iaload, 1) := by decide +kernel
theorem d_gl_law_413 : decode code 413 = .ok (.invokevirtual 78, 3) := by decide +kernel
theorem d_gl_law_416 : decode code 416 = .ok (.lstore 6, 2) := by decide +kernel
theorem d_gl_law_418 : decode code 418 = .ok (.aload_n 2, 1) := by decide +kernel
theorem d_gl_law_419 : decode code 419 = .ok (.invokevirtual 53, 3) := by decide +kernel
theorem d_gl_law_422 : decode code 422 = .ok (.iload 5, 2) := by decide +kernel
theorem d_gl_law_424 : decode code 424 = .ok (.if_icmp .eq 5, 3) := by decide +kernel
theorem d_gl_law_427 : decode code 427 = .ok (.iconst 0, 1) := by decide +kernel
theorem d_gl_law_428 : decode code 428 = .ok (.ireturn, 1) := by decide +kernel
theorem d_gl_law_429 : decode code 429 = .ok (.iload 5, 2) := by decide +kernel
theorem d_gl_law_431 : decode code 431 = .ok (.ifCond .ne 14, 3) := by decide +kernel
theorem d_gl_law_434 : decode code 434 = .ok (.aload_n 3, 1) := by decide +kernel
theorem d_gl_law_435 : decode code 435 = .ok (.iconst 0, 1) := by decide +kernel
theorem d_gl_law_436 : decode code 436 = .ok (.laload, 1) := by decide +kernel
theorem d_gl_law_437 : decode code 437 = .ok (.lload 6, 2) := by decide +kernel
theorem d_gl_law_439 : decode code 439 = .ok (.lcmp, 1) := by decide +kernel
theorem d_gl_law_440 : decode code 440 = .ok (.ifCond .eq 5, 3) := by decide +kernel
theorem d_gl_law_443 : decode code 443 = .ok (.iconst 0, 1) := by decide +kernel
theorem d_gl_law_444 : decode code 444 = .ok (.ireturn, 1) := by decide +kernel
theorem d_gl_law_445 : decode code 445 = .ok (.goto 47, 3) := by decide +kernel
theorem d_gl_law_448 : decode code 448 = .ok (.aload_n 1, 1) := by decide +kernel
theorem d_gl_law_449 : decode code 449 = .ok (.aload_n 3, 1) := by decide +kernel
theorem d_gl_law_450 : decode code 450 = .ok (.invokestatic 79, 3) := by decide +kernel
theorem d_gl_law_453 : decode code 453 = .ok (.istore 5, 2) := by decide +kernel
theorem d_gl_law_455 : decode code 455 = .ok (.aload_n 2, 1) := by decide +kernel
theorem d_gl_law_456 : decode code 456 = .ok (.invokevirtual 81, 3) := by decide +kernel
theorem d_gl_law_459 : decode code 459 = .ok (.istore 6, 2) := by decide +kernel
theorem d_gl_law_461 : decode code 461 = .ok (.aload_n 2, 1) := by decide +kernel
theorem d_gl_law_462 : decode code 462 = .ok (.invokevirtual 53, 3) := by decide +kernel
theorem d_gl_law_465 : decode code 465 = .ok (.iload 5, 2) := by decide +kernel
theorem d_gl_law_467 : decode code 467 = .ok (.if_icmp .eq 5, 3) := by decide +kernel
theorem d_gl_law_470 : decode code 470 = .ok (.iconst 0, 1) := by decide +kernel
theorem d_gl_law_471 : decode code 471 = .ok (.ireturn, 1) := by decide +kernel
theorem d_gl_law_472 : decode code 472 = .ok (.iload 5, 2) := by decide +kernel
theorem d_gl_law_474 : decode code 474 = .ok (.ifCond .ne 15, 3) := by decide +kernel
theorem d_gl_law_477 : decode code 477 = .ok (.aload_n 3, 1) := by decide +kernel
theorem d_gl_law_478 : decode code 478 = .ok (.iconst 0, 1) := by decide +kernel
theorem d_gl_law_479 : decode code 479 = .ok (.laload, 1) := by decide +kernel
theorem d_gl_law_480 : decode code 480 = .ok (.iload 6, 2) := by decide +kernel
theorem d_gl_law_482 : decode code 482 = .ok (.i2l, 1) := by decide +kernel
theorem d_gl_law_483 : decode code 483 = .ok (.lcmp, 1) := by decide +kernel
theorem d_gl_law_484 : decode code 484 = .ok (.ifCond .eq 5, 3) := by decide +kernel
theorem d_gl_law_487 : decode code 487 = .ok (.iconst 0, 1) := by decide +kernel
theorem d_gl_law_488 : decode code 488 = .ok (.ireturn, 1) := by decide +kernel
theorem d_gl_law_489 : decode code 489 = .ok (.goto 3, 3) := by decide +kernel
theorem d_gl_law_492 : decode code 492 = .ok (.iinc 4 4, 3) := by decide +kernel
theorem d_gl_law_495 : decode code 495 = .ok (.goto (-472), 3) := by decide +kernel
theorem d_gl_law_498 : decode code 498 = .ok (.iconst 1, 1) := by decide +kernel
theorem d_gl_law_499 : decode code 499 = .ok (.ireturn, 1) := by decide +kernel
end
section
-- ===== what the methods compute, in machine ints =====
def gPv (r : Value) : Heap → Outcome → Heap → Prop := fun H o H1 => H1 = H ∧ o = .returned (some r)
def gFr (A : Nat → Prop) (H H1 : Heap) : Prop := H.size ≤ H1.size ∧ ∀ z : Nat, z < H.size → ¬ A z → H1[z]? = H[z]?
def gTh (E : gE) (k : Nat) : Heap → Outcome → Heap → Prop := fun H o H1 => ∃ (x : Nat) (ce : Cell), o = .threw x ∧ H1[x]? = some ce ∧ ce.cls = E.1.1 k ∧ ce.vm = .none ∧ H.size ≤ H1.size ∧ ∀ z : Nat, z < H.size → H1[z]? = H[z]?
/-- a throw, and the world behind it -/
def gTw (E : gE) (k : Nat) (A : Nat → Prop) (ws : va_W) : Heap → Outcome → Heap → Prop := fun H o H1 => ∃ (x : Nat) (ce : Cell), o = .threw x ∧ H1[x]? = some ce ∧ ce.cls = E.1.1 k ∧ ce.vm = .none ∧ va_P E.1 gcl ws H1 ∧ gFr A H H1
def gIG (h : Nat) (q : Nat → Nat) : Nat → Prop := fun z => z = h ∨ ∃ k, k < 9 ∧ z = q k
def gIM (h : Nat) (q : Nat → Nat) : Nat → Prop := fun z => z = h ∨ ∃ k, k < 8 ∧ z = q k
/-- the cells are apart -/
def gDG (h : Nat) (q : Nat → Nat) : Prop := va_D (gIG h q) (gW h q 0 (fun _ _ => 0) 0 0)
def gDM (h : Nat) (q : Nat → Nat) : Prop := va_D (gIM h q) (mW h q 0 0 (fun _ _ => 0) 0 0 0)
theorem gDG.to {h : Nat} {q : Nat → Nat} (hD : gDG h q) (cI : ClassId) (a : gA) (ln st : Int32) : va_D (gIG h q) (gW h q cI a ln st) := gx_D hD rfl
theorem gDM.to {h : Nat} {q : Nat → Nat} (hD : gDM h q) (cI cZ : ClassId) (b : gA) (ln th st : Int32) : va_D (gIM h q) (mW h q cI cZ b ln th st) := gx_D hD rfl
def gPw (E : gE) (av : List Value) (ws : va_W) : Array Value → State → Prop := fun v U => v = av.toArray ∧ gT E U ∧ va_P E.1 gcl ws U.heap
def gPx (E : gE) (av : List Value) (ws : va_W) : Array Value → State → Prop := fun v U => v = av.toArray ∧ gT E U ∧ gX U ∧ va_P E.1 gcl ws U.heap
theorem gFr.rf {A : Nat → Prop} {H : Heap} : gFr A H H := ⟨Nat.le_refl _, fun _ _ _ => rfl⟩
theorem gFr.of {A : Nat → Prop} {H0 H : Heap} {locs : List Loc} (h : va_S A H0 H locs) : gFr A H0 H := ⟨h.1, h.2.1⟩
theorem gFr.tr {A : Nat → Prop} {H H1 H2 : Heap} (h1 : gFr A H H1) (h2 : gFr A H1 H2) : gFr A H H2 := ⟨Nat.le_trans h1.1 h2.1, fun z hz hA => by rw [h2.2 z (Nat.lt_of_lt_of_le hz h1.1) hA]; exact h1.2 z hz hA⟩
theorem gFr.wk {A B : Nat → Prop} {H H1 : Heap} (h : gFr A H H1) (hAB : ∀ z, A z → B z) : gFr B H H1 := ⟨h.1, fun z hz hB => h.2 z hz (fun hA => hB (hAB z hA))⟩
theorem gFr.S {A : Nat → Prop} {H0 H H1 : Heap} {locs L : List Loc} (hS : va_S A H0 H locs) (h : gFr A H H1) (hL : ∀ l ∈ L, A l.base) : va_S A H0 H1 (locs ++ L) :=
  ⟨Nat.le_trans hS.1 h.1, fun z hz hA => by rw [h.2 z (Nat.lt_of_lt_of_le hz hS.1) hA]; exact hS.2.1 z hz hA, t_lL hS.2.2 hL⟩
theorem gW_lt {D : va_G} {cl : List vw_C} {ws : va_W} {H H1 : Heap} (hP : va_P D cl ws H) (h : ∀ z : Nat, z < H.size → H1[z]? = H[z]?) : va_P D cl ws H1 := hP.kept (fun k x hk => h x.1 (hP k x hk).lt)
theorem gIG_dyn {D : va_G} {h : Nat} {q : Nat → Nat} {cI : ClassId} {a : gA} {ln st : Int32} {H : Heap} (hP : va_P D gcl (gW h q cI a ln st) H) (z : Nat) (cell : Cell) (hz : gIG h q z) (hc : H[z]? = some cell) : cell.vm.isStatics = false := by
  refine gx_dyn hP (q := z) ?_ hc
  rcases hz with rfl | ⟨k, hk, rfl⟩
  · exact Or.inl ⟨0, _, rfl⟩
  · exact Or.inl ⟨k + 1, _, gW_at h q cI a ln st k hk⟩
theorem gx_keepG {D : va_G} {h : Nat} {q : Nat → Nat} {cI : ClassId} {a : gA} {ln st : Int32} {H H1 : Heap} (hP : va_P D gcl (gW h q cI a ln st) H) (hF : gFr (gIG h q) H H1) : gx_keep H H1 := gx_keep_of (gIG_dyn hP) hF.2
section GP
variable {p : Program} {l : Launch} {e : Env} {R : Room} {s : State} {m : MethodId} {args : Array Value} {below : List Frame} {meth : Method} {c : Code} {H : Heap} {locs : List Loc} {cells slots : Nat} {Q : State → Prop}
variable {cc : ByteArray} {pc : Nat} {ls : Array Slot} {y : MethodName} {cy : ByteArray} {maxL : Nat} {ret : Option FieldType} {hs : List (Nat × Nat × Nat × Nat)} {rm : Room} {Pc : Array Value → State → Prop} {own : String} {index : Nat} {st0 : List Value} {r : Value}
theorem gx_nil {L : List Loc} (hL : ∀ q ∈ L, (fun _ : Addr => False) q.base) : L = [] := by
  cases L with
  | nil => rfl
  | cons x t => exact (hL x List.mem_cons_self).elim
/-- a call of a method that only answers -/
theorem gx_virtP (hM : GMet l y cy maxL ret hs rm Pc (gPv r) 0 0 (fun _ => False)) (As : List Value) (b : Nat) (rest : List Value) (hx : p.tables.exec = Jvm.exec) (hb : c.code = cc) (hml : c.maxLocals = ls.size) (hown : s.vm.findClass own = some m.cls)
    (hd : gMd y cy maxL ret hs s) (hlink : (Cond.methodLink own index y).before args s = true) (hinst : (Cond.instanceMethod y).before args s = true) (hsel : (Cond.selects y.cls y y).before args s = true)
    (hy : y.cls ≠ "java/lang/invoke/MethodHandle" ∧ y.cls ≠ "java/lang/invoke/VarHandle") (hpl : plainName y.cls = true) (hn : (parseMethodDescriptor y.desc).map (fun d => d.parameters.length) = some As.length)
    (hrecv : ∃ cellB : Cell, H[b]? = some cellB ∧ cellB.vm.isStatics = false ∧ s.vm.findClass y.cls = some cellB.cls)
    (hP : ∀ U : State, U.heap = H → s.WarmedH U.vm → Pc (Value.ref b :: As).toArray U)
    (hW : (rest.map fun v => v.category).sum ≤ 8) (hR : rm.frames + 1 ≤ R.frames ∧ 8 + (maxL + 11) + rm.locals ≤ R.locals) (hc : cells + rm.cells ≤ R.cells ∧ slots + rm.slots ≤ R.slots)
    (hdg : decode cc pc = .ok (.invokevirtual index, 3)) (hst : st0 = As.reverse ++ .ref b :: rest)
    (kk : W p l e R s m args below meth c H locs cells slots Q (F0 m (pc + 3) ls (r :: rest))) : W p l e R s m args below meth c H locs cells slots Q (F0 m pc ls st0) := by
  refine gx_virt hM As b rest hx hb hml hown hd hlink hinst hsel hy hpl hn hrecv hP hW hR hc hdg hst (fun v H1 L hpo hL => ?_) (fun x H1 L hpo hL => ?_)
  · obtain ⟨rfl, hv⟩ := hpo
    cases hv
    rw [gx_nil hL, List.append_nil]
    exact kk
  · cases hpo.2
theorem gx_statP (hM : GMet l y cy maxL ret hs rm Pc (gPv r) 0 0 (fun _ => False)) (As : List Value) (rest : List Value) (hx : p.tables.exec = Jvm.exec) (hb : c.code = cc) (hml : c.maxLocals = ls.size) (hown : s.vm.findClass own = some m.cls)
    (hd : gMd y cy maxL ret hs s) (hlink : (Cond.methodLink own index y).before args s = true) (hstat : (Cond.static y).before args s = true) (hini : (Cond.initialized y.cls).before args s = true)
    (hy : y.cls ≠ "java/lang/invoke/MethodHandle" ∧ y.cls ≠ "java/lang/invoke/VarHandle") (hpl : plainName y.cls = true) (hn : (parseMethodDescriptor y.desc).map (fun d => d.parameters.length) = some As.length)
    (hP : ∀ U : State, U.heap = H → s.WarmedH U.vm → Pc As.toArray U)
    (hW : (rest.map fun v => v.category).sum ≤ 8) (hR : rm.frames + 1 ≤ R.frames ∧ 8 + (maxL + 11) + rm.locals ≤ R.locals) (hc : cells + rm.cells ≤ R.cells ∧ slots + rm.slots ≤ R.slots)
    (hdg : decode cc pc = .ok (.invokestatic index, 3)) (hst : st0 = As.reverse ++ rest)
    (kk : W p l e R s m args below meth c H locs cells slots Q (F0 m (pc + 3) ls (r :: rest))) : W p l e R s m args below meth c H locs cells slots Q (F0 m pc ls st0) := by
  refine gx_stat hM As rest hx hb hml hown hd hlink hstat hini hy hpl hn hP hW hR hc hdg hst (fun v H1 L hpo hL => ?_) (fun x H1 L hpo hL => ?_)
  · obtain ⟨rfl, hv⟩ := hpo
    cases hv
    rw [gx_nil hL, List.append_nil]
    exact kk
  · cases hpo.2
end GP
theorem gf0 {free : Addr → Prop} : ∀ q ∈ ([] : List Loc), free q.base := fun q hq => by cases hq
-- numbers
theorem g_inc (i : Nat) : nI i + Int32.ofInt 1 = nI (i + 1) := nI_1 i
theorem g_ix (l k : Nat) : nI l * 4 + nI k = nI (4 * l + k) := by
  rw [show (4 : Int32) = nI 4 from rfl, pk_mul, nI_add, Nat.mul_comm l 4]
theorem g_ix' (l k : Nat) : 4 * nI l + nI k = nI (4 * l + k) := by
  rw [show (4 : Int32) = nI 4 from rfl, pk_mul, nI_add]
theorem g_ix0 (l : Nat) : nI l * 4 = nI (4 * l) := by
  rw [show (4 : Int32) = nI 4 from rfl, pk_mul, Nat.mul_comm l 4]
-- in(v, a, b)
def g_in (v a b : Int64) : Int32 := if v < a then 0 else if b < v then 0 else 1
/-- the address of a line: the sizes of the lines ahead of it, each in the form that it has now -/
def adr (a : gA) (nw : Nat → Nat) : Nat → Int32
  | 0 => 0
  | l + 1 => if 0 < a 0 l then adr a nw l + a 1 (4 * l + nw l) else adr a nw l
def gv0 (a : gA) (nw : Nat → Nat) (l : Nat) : Int64 := (adr a nw (a 4 l).toNatClampNeg).toInt64 + (a 5 l).toInt64
def gv (a : gA) (nw : Nat → Nat) (l : Nat) : Int64 := if ¬ a 0 l = 0 ∧ a 3 (4 * l + nw l) = 2 then gv0 a nw l - (adr a nw l).toInt64 else gv0 a nw l
/-- does it fit? by shifts, as GrowForms asks -/
def gfit (a : gA) (nw : Nat → Nat) (l : Nat) : Bool :=
  if a 0 l = 0 then true
  else if a 3 (4 * l + nw l) = 0 then decide (gv a nw l >>> ((a 2 (4 * l + nw l)).toInt64 &&& 63) = 0)
  else decide (gv a nw l >>> ((a 2 (4 * l + nw l) - 1).toInt64 &&& 63) = 0) || decide (gv a nw l >>> ((a 2 (4 * l + nw l) - 1).toInt64 &&& 63) = -1)
/-- and by bounds, as the Model asks -/
def gfitM (a : gA) (nw : Nat → Nat) (l : Nat) : Bool :=
  if a 0 l = 0 then true
  else if a 3 (4 * l + nw l) = 0 then decide (0 ≤ gv a nw l) && decide (gv a nw l < 2 * ((1 : Int64) <<< ((a 2 (4 * l + nw l) - 1).toInt64 &&& 63)))
  else decide (-((1 : Int64) <<< ((a 2 (4 * l + nw l) - 1).toInt64 &&& 63)) ≤ gv a nw l) && decide (gv a nw l < (1 : Int64) <<< ((a 2 (4 * l + nw l) - 1).toInt64 &&& 63))
def gb (b : Bool) : Int32 := if b then 1 else 0
/-- the data are in order -/
def gWf (a : gA) (n : Nat) : Prop := n ≤ 120 ∧ ∀ l, l < n → ∃ f t : Nat, f ≤ 4 ∧ a 0 l = nI f ∧ t ≤ n ∧ a 4 l = nI t ∧ ∀ k, k < f → ∃ b : Nat, 1 ≤ b ∧ b ≤ 32 ∧ a 2 (4 * l + k) = nI b
/-- each line that has forms has one now -/
def gNw (a : gA) (nw : Nat → Nat) (n : Nat) : Prop := ∀ l, l < n → ∀ f : Nat, f ≤ 4 → a 0 l = nI f → 0 < f → nw l < f
/-- GrowForms' has and address agree with nw -/
def gS (a : gA) (nw : Nat → Nat) (n : Nat) : Prop := (∀ l, l < n → (a 0 l = 0 → a 6 l = -1) ∧ (¬ a 0 l = 0 → a 6 l = nI (nw l))) ∧ ∀ i, i ≤ n → a 7 i = adr a nw i
/-- the Model's now agrees with nw -/
def gM (b : gA) (nw : Nat → Nat) (n : Nat) : Prop := ∀ l, l < n → b 6 l = nI (nw l)
end
section
def rmT : Room := { frames := 6, cells := 1, slots := 6, locals := 81 }
set_option maxHeartbeats 4000000 in
set_option maxRecDepth 100000 in
theorem c_gf_in (l : Launch) (v a b : Int64) : GMet l y_gf_in prog_1_method_2_code 6 (some .boolean) [] rm0 (fun av _ => av = [Value.long v, .long a, .long b].toArray) (gPv (.int (g_in v a b))) 0 0 (fun _ => False) := by
  intro p e s m args below meth c hF hP0
  obtain ⟨hx, hb, hml, hr, hlk, hown, hnm, hex⟩ := hF
  subst hP0
  have hl := lv_entry ([.long v, .long a, .long b]) (n := 6) (Nat.le_of_ble_eq_true rfl)
  rw [lg_entry_eq]
  generalize (lg_sl ([.long v, .long a, .long b]) ++ List.replicate (6 - (lg_sl ([.long v, .long a, .long b])).length) Slot.unset).toArray = ls at hl ⊢
  have hl : lv_has ls 6 [(0, .long v), (2, .long a), (4, .long b)] := hl
  refine lv_lload_n hx hb d_gf_in_0 rfl (lv_at hl 0 rfl) ?_
  refine lv_lload_n hx hb d_gf_in_1 rfl (lv_at hl 1 rfl) ?_
  refine W.lcmp hx hb d_gf_in_2 ?_
  refine lv_if_lt (tgt := 17) hx hb d_gf_in_3 rfl (fun h1 => ?_) (fun h1 => ?_)
  · skip
    refine lv_iconst (v := 0) hx hb d_gf_in_17 (by decide) ?_
    exact gx_zret hx hb hr (by decide) hlk d_gf_in_18 (fun _ z => by cases z) ⟨rfl, by rw [g_in, if_pos ((lg_cmp_lt _ _).mp h1)]⟩
  · skip
    refine lv_lload_n hx hb d_gf_in_6 rfl (lv_at hl 0 rfl) ?_
    refine lv_lload hx hb d_gf_in_7 (lv_at hl 2 rfl) ?_
    refine W.lcmp hx hb d_gf_in_9 ?_
    refine lv_if_gt (tgt := 17) hx hb d_gf_in_10 rfl (fun h2 => ?_) (fun h2 => ?_)
    · skip
      refine lv_iconst (v := 0) hx hb d_gf_in_17 (by decide) ?_
      exact gx_zret hx hb hr (by decide) hlk d_gf_in_18 (fun _ z => by cases z) ⟨rfl, by rw [g_in, if_neg (fun z => h1 ((lg_cmp_lt _ _).mpr z)), if_pos ((lg_cmp_gt _ _).mp h2)]⟩
    · skip
      refine lv_iconst (v := 1) hx hb d_gf_in_13 (by decide) ?_
      refine lv_goto (tgt := 18) hx hb d_gf_in_14 rfl ?_
      exact gx_zret hx hb hr (by decide) hlk d_gf_in_18 (fun _ z => by cases z) ⟨rfl, by rw [g_in, if_neg (fun z => h1 ((lg_cmp_lt _ _).mpr z)), if_neg (fun z => h2 ((lg_cmp_gt _ _).mpr z))]⟩
set_option maxHeartbeats 4000000 in
set_option maxRecDepth 100000 in
theorem c_gf_there (l : Launch) (hfl : l.flags = flags0) (E : gE) (z : Int32) : GMet l y_gf_there prog_1_method_3_code 1 none [] rmT (fun av U => av = [Value.int z].toArray ∧ gT E U ∧ gX U) (fun H o H1 => (¬ z = 0 ∧ H1 = H ∧ o = .returned none) ∨ (z = 0 ∧ gTh E 4 H o H1)) 1 6 (fun _ => False) := by
  intro p e s m args below meth c hF hP0
  obtain ⟨hx, hb, hml, hr, hlk, hown, hnm, hex⟩ := hF
  obtain ⟨rfl, hT, hX⟩ := hP0
  have hl := lv_entry ([.int z]) (n := 1) (Nat.le_of_ble_eq_true rfl)
  rw [lg_entry_eq]
  generalize (lg_sl ([.int z]) ++ List.replicate (1 - (lg_sl ([.int z])).length) Slot.unset).toArray = ls at hl ⊢
  have hl : lv_has ls 1 [(0, .int z)] := hl
  refine lv_iload_n hx hb d_gf_there_0 rfl (lv_at hl 0 rfl) ?_
  refine lv_if_ne (tgt := 12) hx hb d_gf_there_1 rfl (fun h1 => ?_) (fun h1 => ?_)
  · skip
    refine W.widen (k := 1) (n := 6) (by omega) (by omega) ?_
    exact gx_vret hx hb hr hlk d_gf_there_12 (fun _ z => by cases z) (Or.inl ⟨h1, rfl, rfl⟩)
  · skip
    exact gx_throw gs_O 39 37 4 hfl hx hb (hml.trans hl.1.symm) hex hlk hown hT hX gx_keep.rf rfl ga_O tw_177 tw_178 tw_16 (by decide +kernel) d_gf_there_4 d_gf_there_7 d_gf_there_8 d_gf_there_11 (by decide) (by decide) (by decide) (by decide) (fun _ z => by cases z) (fun x H1 ce e1 e2 e3 e4 e5 => Or.inr ⟨h1, x, ce, rfl, e1, e2, e3, e4, e5⟩)
set_option maxHeartbeats 4000000 in
set_option maxRecDepth 100000 in
theorem c_gf_isSettled (l : Launch) (hfl : l.flags = flags0) (E : gE) (h : Nat) (q : Nat → Nat) (a : gA) (ln st : Int32) : GMet l y_gf_isSettled prog_1_method_4_code 1 none [] rmT (gPx E [.ref h] (gW h q E.2.1 a ln st)) (fun H o H1 => (¬ st = 0 ∧ H1 = H ∧ o = .returned none) ∨ (st = 0 ∧ gTh E 2 H o H1)) 1 6 (fun _ => False) := by
  intro p e s m args below meth c hF hP0
  obtain ⟨hx, hb, hml, hr, hlk, hown, hnm, hex⟩ := hF
  obtain ⟨rfl, hT, hX, hP⟩ := hP0
  have C : gC E "GrowForms" prog_1_method_4_code p s m c := ⟨hx, hb, hown, hT⟩
  have hl := lv_entry ([.ref h]) (n := 1) (Nat.le_of_ble_eq_true rfl)
  rw [lg_entry_eq]
  generalize (lg_sl ([.ref h]) ++ List.replicate (1 - (lg_sl ([.ref h])).length) Slot.unset).toArray = ls at hl ⊢
  have hl : lv_has ls 1 [(0, .ref h)] := hl
  refine lv_aload_n hx hb d_gf_isSettled_0 rfl (lv_at hl 0 rfl) ?_
  refine gf_get C hP 10 (by decide) rfl d_gf_isSettled_1 ?_
  refine lv_if_ne (tgt := 15) hx hb d_gf_isSettled_4 rfl (fun h1 => ?_) (fun h1 => ?_)
  · skip
    refine W.widen (k := 1) (n := 6) (by omega) (by omega) ?_
    exact gx_vret hx hb hr hlk d_gf_isSettled_15 (fun _ z => by cases z) (Or.inl ⟨h1, rfl, rfl⟩)
  · skip
    exact gx_throw gs_I 46 44 2 hfl hx hb (hml.trans hl.1.symm) hex hlk hown hT hX gx_keep.rf rfl ga_I tw_73 tw_74 tw_14 (by decide +kernel) d_gf_isSettled_7 d_gf_isSettled_10 d_gf_isSettled_11 d_gf_isSettled_14 (by decide) (by decide) (by decide) (by decide) (fun _ z => by cases z) (fun x H1 ce e1 e2 e3 e4 e5 => Or.inr ⟨h1, x, ce, rfl, e1, e2, e3, e4, e5⟩)
set_option maxHeartbeats 4000000 in
set_option maxRecDepth 100000 in
theorem c_gf_valueOf (l : Launch) (E : gE) (h : Nat) (q : Nat → Nat) (a : gA) (nw : Nat → Nat) (n i : Nat) (ln st : Int32) (hwf : gWf a n) (hnw : gNw a nw n) (hgs : gS a nw n) (hi : i < n) : GMet l y_gf_valueOf prog_1_method_9_code 4 (some .long) [] rm0 (gPw E [.ref h, .int (nI i)] (gW h q E.2.1 a ln st)) (gPv (.long (gv a nw i))) 0 0 (fun _ => False) := by
  intro p e s m args below meth c hF hP0
  obtain ⟨hx, hb, hml, hr, hlk, hown, hnm, hex⟩ := hF
  obtain ⟨rfl, hT, hP⟩ := hP0
  have C : gC E "GrowForms" prog_1_method_9_code p s m c := ⟨hx, hb, hown, hT⟩
  obtain ⟨hn120, hlines⟩ := hwf
  obtain ⟨f, t, hf4, hf, ht, htt, hbits⟩ := hlines i hi
  have hi120 : i < 120 := by omega
  have ht121 : t < 121 := by omega
  have hcl : (a 4 i).toNatClampNeg = t := by rw [htt]; exact nI_clamp (by omega)
  have hv0 : gv0 a nw i = (adr a nw t).toInt64 + (a 5 i).toInt64 := by unfold gv0; rw [hcl]
  have hl := lv_entry ([.ref h, .int (nI i)]) (n := 4) (Nat.le_of_ble_eq_true rfl)
  rw [lg_entry_eq]
  generalize (lg_sl ([.ref h, .int (nI i)]) ++ List.replicate (4 - (lg_sl ([.ref h, .int (nI i)])).length) Slot.unset).toArray = ls at hl ⊢
  have hl : lv_has ls 4 [(0, .ref h), (1, .int (nI i))] := hl
  refine lv_aload_n hx hb d_gf_valueOf_0 rfl (lv_at hl 0 rfl) ?_
  refine gf_get C hP 7 (by decide) rfl d_gf_valueOf_1 ?_
  refine lv_aload_n hx hb d_gf_valueOf_4 rfl (lv_at hl 0 rfl) ?_
  refine gf_get C hP 4 (by decide) rfl d_gf_valueOf_5 ?_
  refine lv_iload_n hx hb d_gf_valueOf_8 rfl (lv_at hl 1 rfl) ?_
  refine gf_ald C hP 4 (by decide) i (v := (nI t)) rfl hi120 htt d_gf_valueOf_9 ?_
  refine gf_ald C hP 7 (by decide) t (v := (adr a nw t)) rfl ht121 (hgs.2 t ht) d_gf_valueOf_10 ?_
  refine lv_i2l hx hb d_gf_valueOf_11 rfl ?_
  refine lv_aload_n hx hb d_gf_valueOf_12 rfl (lv_at hl 0 rfl) ?_
  refine gf_get C hP 5 (by decide) rfl d_gf_valueOf_13 ?_
  refine lv_iload_n hx hb d_gf_valueOf_16 rfl (lv_at hl 1 rfl) ?_
  refine gf_ald C hP 5 (by decide) i (v := (a 5 i)) rfl hi120 rfl d_gf_valueOf_17 ?_
  refine lv_i2l hx hb d_gf_valueOf_18 rfl ?_
  refine lv_ladd hx hb d_gf_valueOf_19 ?_
  rw [show ((((adr a nw t)).toInt64 + ((a 5 i)).toInt64) : Int64) = (gv0 a nw i) from hv0.symm]
  refine lv_lstore_n hx hb d_gf_valueOf_20 rfl hl (by decide) rfl (fun ls hl => ?_)
  have hl : lv_has ls 4 [(2, .long (gv0 a nw i)), (0, .ref h), (1, .int (nI i))] := hl
  refine lv_aload_n hx hb d_gf_valueOf_21 rfl (lv_at hl 1 rfl) ?_
  refine gf_get C hP 6 (by decide) rfl d_gf_valueOf_22 ?_
  refine lv_iload_n hx hb d_gf_valueOf_25 rfl (lv_at hl 2 rfl) ?_
  by_cases h0 : a 0 i = 0
  · skip
    refine gf_ald C hP 6 (by decide) i (v := (-1)) rfl hi120 ((hgs.1 i hi).1 h0) d_gf_valueOf_26 ?_
    refine lv_if_lt (tgt := 61) hx hb d_gf_valueOf_27 rfl (fun _ => ?_) (fun hN => absurd (by decide) hN)
    refine lv_lload_n hx hb d_gf_valueOf_61 rfl (lv_at hl 0 rfl) ?_
    exact gx_lret hx hb hr hlk d_gf_valueOf_62 (fun _ z => by cases z) ⟨rfl, by rw [gv, if_neg (fun z => z.1 h0)]⟩
  · skip
    have hfp : 0 < f := Nat.pos_of_ne_zero (fun z => h0 (by rw [hf, z]; rfl))
    have hnf := hnw i hi f hf4 hf hfp
    have h6 : a 6 i = nI (nw i) := (hgs.1 i hi).2 h0
    refine gf_ald C hP 6 (by decide) i (v := (nI (nw i))) rfl hi120 h6 d_gf_valueOf_26 ?_
    refine lv_if_lt (tgt := 61) hx hb d_gf_valueOf_27 rfl (fun hN => absurd hN (nI_pos (by omega))) (fun _ => ?_)
    refine lv_aload_n hx hb d_gf_valueOf_30 rfl (lv_at hl 1 rfl) ?_
    refine gf_get C hP 3 (by decide) rfl d_gf_valueOf_31 ?_
    refine lv_iload_n hx hb d_gf_valueOf_34 rfl (lv_at hl 2 rfl) ?_
    refine lv_iconst (v := 4) hx hb d_gf_valueOf_35 (by decide) ?_
    refine lv_imul hx hb d_gf_valueOf_36 ?_
    refine lv_aload_n hx hb d_gf_valueOf_37 rfl (lv_at hl 1 rfl) ?_
    refine gf_get C hP 6 (by decide) rfl d_gf_valueOf_38 ?_
    refine lv_iload_n hx hb d_gf_valueOf_41 rfl (lv_at hl 2 rfl) ?_
    refine gf_ald C hP 6 (by decide) i (v := (nI (nw i))) rfl hi120 h6 d_gf_valueOf_42 ?_
    refine lv_iadd hx hb d_gf_valueOf_43 ?_
    refine gf_ald C hP 3 (by decide) (4 * i + nw i) (v := (a 3 (4 * i + nw i))) (g_ix i (nw i)) (show 4 * i + nw i < 480 by omega) rfl d_gf_valueOf_44 ?_
    refine lv_iconst (v := 2) hx hb d_gf_valueOf_45 (by decide) ?_
    refine lv_icmp_ne (tgt := 61) hx hb d_gf_valueOf_46 rfl (fun h3 => ?_) (fun h3 => ?_)
    · skip
      refine lv_lload_n hx hb d_gf_valueOf_61 rfl (lv_at hl 0 rfl) ?_
      exact gx_lret hx hb hr hlk d_gf_valueOf_62 (fun _ z => by cases z) ⟨rfl, by rw [gv, if_neg (fun z => h3 z.2)]⟩
    · skip
      refine lv_lload_n hx hb d_gf_valueOf_49 rfl (lv_at hl 0 rfl) ?_
      refine lv_aload_n hx hb d_gf_valueOf_50 rfl (lv_at hl 1 rfl) ?_
      refine gf_get C hP 7 (by decide) rfl d_gf_valueOf_51 ?_
      refine lv_iload_n hx hb d_gf_valueOf_54 rfl (lv_at hl 2 rfl) ?_
      refine gf_ald C hP 7 (by decide) i (v := (adr a nw i)) rfl (show i < 121 by omega) (hgs.2 i (by omega)) d_gf_valueOf_55 ?_
      refine lv_i2l hx hb d_gf_valueOf_56 rfl ?_
      refine lv_lsub hx hb d_gf_valueOf_57 ?_
      refine lv_goto (tgt := 62) hx hb d_gf_valueOf_58 rfl ?_
      exact gx_lret hx hb hr hlk d_gf_valueOf_62 (fun _ z => by cases z) ⟨rfl, by rw [gv, if_pos ⟨h0, h3⟩]⟩
def rmF : Room := { frames := 1, cells := 0, slots := 0, locals := 23 }
set_option maxHeartbeats 4000000 in
set_option maxRecDepth 100000 in
theorem c_gf_fits (l : Launch) (E : gE) (h : Nat) (q : Nat → Nat) (a : gA) (nw : Nat → Nat) (n i : Nat) (ln st : Int32) (hwf : gWf a n) (hnw : gNw a nw n) (hgs : gS a nw n) (hi : i < n) : GMet l y_gf_fits prog_1_method_10_code 5 (some .boolean) [] rmF (gPw E [.ref h, .int (nI i)] (gW h q E.2.1 a ln st)) (gPv (.int (gb (gfit a nw i)))) 0 0 (fun _ => False) := by
  intro p e s m args below meth c hF hP0
  obtain ⟨hx, hb, hml, hr, hlk, hown, hnm, hex⟩ := hF
  obtain ⟨rfl, hT, hP⟩ := hP0
  have C : gC E "GrowForms" prog_1_method_10_code p s m c := ⟨hx, hb, hown, hT⟩
  obtain ⟨f, t, hf4, hf, ht, htt, hbits⟩ := hwf.2 i hi
  have hn120 := hwf.1
  have hi120 : i < 120 := by omega
  have hl := lv_entry ([.ref h, .int (nI i)]) (n := 5) (Nat.le_of_ble_eq_true rfl)
  rw [lg_entry_eq]
  generalize (lg_sl ([.ref h, .int (nI i)]) ++ List.replicate (5 - (lg_sl ([.ref h, .int (nI i)])).length) Slot.unset).toArray = ls at hl ⊢
  have hl : lv_has ls 5 [(0, .ref h), (1, .int (nI i))] := hl
  refine lv_aload_n hx hb d_gf_fits_0 rfl (lv_at hl 0 rfl) ?_
  refine gf_get C hP 6 (by decide) rfl d_gf_fits_1 ?_
  refine lv_iload_n hx hb d_gf_fits_4 rfl (lv_at hl 1 rfl) ?_
  by_cases h0 : a 0 i = 0
  · skip
    refine gf_ald C hP 6 (by decide) i (v := (-1)) rfl hi120 ((hgs.1 i hi).1 h0) d_gf_fits_5 ?_
    refine lv_if_ge (tgt := 11) hx hb d_gf_fits_6 rfl (fun hN => absurd hN (by decide)) (fun _ => ?_)
    refine lv_iconst (v := 1) hx hb d_gf_fits_9 (by decide) ?_
    exact gx_zret hx hb hr (by decide) hlk d_gf_fits_10 (fun _ z => by cases z) ⟨rfl, by rw [gfit, if_pos h0]; rfl⟩
  · skip
    have hfp : 0 < f := Nat.pos_of_ne_zero (fun z => h0 (by rw [hf, z]; rfl))
    have hnf := hnw i hi f hf4 hf hfp
    have h6 : a 6 i = nI (nw i) := (hgs.1 i hi).2 h0
    refine gf_ald C hP 6 (by decide) i (v := (nI (nw i))) rfl hi120 h6 d_gf_fits_5 ?_
    refine lv_if_ge (tgt := 11) hx hb d_gf_fits_6 rfl (fun _ => ?_) (fun hN => absurd (nI_pos' (by omega)) hN)
    refine lv_iload_n hx hb d_gf_fits_11 rfl (lv_at hl 1 rfl) ?_
    refine lv_iconst (v := 4) hx hb d_gf_fits_12 (by decide) ?_
    refine lv_imul hx hb d_gf_fits_13 ?_
    refine lv_aload_n hx hb d_gf_fits_14 rfl (lv_at hl 0 rfl) ?_
    refine gf_get C hP 6 (by decide) rfl d_gf_fits_15 ?_
    refine lv_iload_n hx hb d_gf_fits_18 rfl (lv_at hl 1 rfl) ?_
    refine gf_ald C hP 6 (by decide) i (v := (nI (nw i))) rfl hi120 h6 d_gf_fits_19 ?_
    refine lv_iadd hx hb d_gf_fits_20 ?_
    rw [show ((((nI i) * 4) + (nI (nw i))) : Int32) = (nI (4 * i + nw i)) from g_ix i (nw i)]
    refine lv_istore_n hx hb d_gf_fits_21 rfl hl (by decide) rfl (fun ls hl => ?_)
    have hl : lv_has ls 5 [(2, .int (nI (4 * i + nw i))), (0, .ref h), (1, .int (nI i))] := hl
    refine lv_aload_n hx hb d_gf_fits_22 rfl (lv_at hl 1 rfl) ?_
    refine lv_iload_n hx hb d_gf_fits_23 rfl (lv_at hl 2 rfl) ?_
    refine gx_virtP (c_gf_valueOf l E h q a nw n i ln st hwf hnw hgs hi) [.int (nI i)] h [] hx hb (hml.trans hl.1.symm) C.2.2.1 (gMd_code (a := #[]) (C.wd _ tw_207)) (C.wd _ tw_204) (C.wd _ tw_206) (C.wd _ tw_2) ⟨by decide +kernel, by decide +kernel⟩ (by decide +kernel) (show (parseMethodDescriptor y_gf_valueOf.desc).map (fun d => d.parameters.length) = some 1 by decide +kernel) (gf_recv hT hP) (fun U hU hW => ⟨rfl, hT.moved hW, by rw [hU]; exact hP⟩) (Nat.le_of_ble_eq_true rfl) ⟨by decide, by decide⟩ ⟨by decide, by decide⟩ d_gf_fits_24 rfl ?_
    refine lv_lstore_n hx hb d_gf_fits_27 rfl hl (by decide) rfl (fun ls hl => ?_)
    have hl : lv_has ls 5 [(3, .long (gv a nw i)), (2, .int (nI (4 * i + nw i))), (0, .ref h), (1, .int (nI i))] := hl
    refine lv_aload_n hx hb d_gf_fits_28 rfl (lv_at hl 2 rfl) ?_
    refine gf_get C hP 3 (by decide) rfl d_gf_fits_29 ?_
    refine lv_iload_n hx hb d_gf_fits_32 rfl (lv_at hl 1 rfl) ?_
    refine gf_ald C hP 3 (by decide) (4 * i + nw i) (v := (a 3 (4 * i + nw i))) rfl (show 4 * i + nw i < 480 by omega) rfl d_gf_fits_33 ?_
    refine lv_if_ne (tgt := 58) hx hb d_gf_fits_34 rfl (fun h3 => ?_) (fun h3 => ?_)
    · skip
      refine lv_lload_n hx hb d_gf_fits_58 rfl (lv_at hl 0 rfl) ?_
      refine lv_aload_n hx hb d_gf_fits_59 rfl (lv_at hl 2 rfl) ?_
      refine gf_get C hP 2 (by decide) rfl d_gf_fits_60 ?_
      refine lv_iload_n hx hb d_gf_fits_63 rfl (lv_at hl 1 rfl) ?_
      refine gf_ald C hP 2 (by decide) (4 * i + nw i) (v := (a 2 (4 * i + nw i))) rfl (show 4 * i + nw i < 480 by omega) rfl d_gf_fits_64 ?_
      refine lv_iconst (v := 1) hx hb d_gf_fits_65 (by decide) ?_
      refine lv_isub hx hb d_gf_fits_66 ?_
      refine lv_lshr hx hb d_gf_fits_67 rfl ?_
      refine lv_lconst (v := 0) hx hb d_gf_fits_68 rfl ?_
      refine W.lcmp hx hb d_gf_fits_69 ?_
      refine lv_if_eq (tgt := 90) hx hb d_gf_fits_70 rfl (fun h4 => ?_) (fun h4 => ?_)
      · skip
        refine lv_iconst (v := 1) hx hb d_gf_fits_90 (by decide) ?_
        refine lv_goto (tgt := 95) hx hb d_gf_fits_91 rfl ?_
        exact gx_zret hx hb hr (by decide) hlk d_gf_fits_95 (fun _ z => by cases z) ⟨rfl, by rw [gfit, if_neg h0, if_neg h3, show gv a nw i >>> ((a 2 (4 * i + nw i) - 1).toInt64 &&& 63) = 0 from (lg_cmp_eq _ _).mp h4]; rfl⟩
      · skip
        refine lv_lload_n hx hb d_gf_fits_73 rfl (lv_at hl 0 rfl) ?_
        refine lv_aload_n hx hb d_gf_fits_74 rfl (lv_at hl 2 rfl) ?_
        refine gf_get C hP 2 (by decide) rfl d_gf_fits_75 ?_
        refine lv_iload_n hx hb d_gf_fits_78 rfl (lv_at hl 1 rfl) ?_
        refine gf_ald C hP 2 (by decide) (4 * i + nw i) (v := (a 2 (4 * i + nw i))) rfl (show 4 * i + nw i < 480 by omega) rfl d_gf_fits_79 ?_
        refine lv_iconst (v := 1) hx hb d_gf_fits_80 (by decide) ?_
        refine lv_isub hx hb d_gf_fits_81 ?_
        refine lv_lshr hx hb d_gf_fits_82 rfl ?_
        refine lv_ldc2 (v := (-1)) hx hb C.2.2.1 (C.wd _ tw_208) d_gf_fits_83 ?_
        refine W.lcmp hx hb d_gf_fits_86 ?_
        refine lv_if_ne (tgt := 94) hx hb d_gf_fits_87 rfl (fun h5 => ?_) (fun h5 => ?_)
        · skip
          refine lv_iconst (v := 0) hx hb d_gf_fits_94 (by decide) ?_
          exact gx_zret hx hb hr (by decide) hlk d_gf_fits_95 (fun _ z => by cases z) ⟨rfl, by rw [gfit, if_neg h0, if_neg h3, decide_eq_false (fun z => h4 ((lg_cmp_eq _ _).mpr z)), decide_eq_false (fun z => h5 ((lg_cmp_eq _ _).mpr z))]; rfl⟩
        · skip
          refine lv_iconst (v := 1) hx hb d_gf_fits_90 (by decide) ?_
          refine lv_goto (tgt := 95) hx hb d_gf_fits_91 rfl ?_
          exact gx_zret hx hb hr (by decide) hlk d_gf_fits_95 (fun _ z => by cases z) ⟨rfl, by rw [gfit, if_neg h0, if_neg h3, decide_eq_false (fun z => h4 ((lg_cmp_eq _ _).mpr z)), decide_eq_true ((lg_cmp_eq _ _).mp h5)]; rfl⟩
    · skip
      refine lv_lload_n hx hb d_gf_fits_37 rfl (lv_at hl 0 rfl) ?_
      refine lv_aload_n hx hb d_gf_fits_38 rfl (lv_at hl 2 rfl) ?_
      refine gf_get C hP 2 (by decide) rfl d_gf_fits_39 ?_
      refine lv_iload_n hx hb d_gf_fits_42 rfl (lv_at hl 1 rfl) ?_
      refine gf_ald C hP 2 (by decide) (4 * i + nw i) (v := (a 2 (4 * i + nw i))) rfl (show 4 * i + nw i < 480 by omega) rfl d_gf_fits_43 ?_
      refine lv_lshr hx hb d_gf_fits_44 rfl ?_
      refine lv_lconst (v := 0) hx hb d_gf_fits_45 rfl ?_
      refine W.lcmp hx hb d_gf_fits_46 ?_
      refine lv_if_ne (tgt := 54) hx hb d_gf_fits_47 rfl (fun h4 => ?_) (fun h4 => ?_)
      · skip
        refine lv_iconst (v := 0) hx hb d_gf_fits_54 (by decide) ?_
        refine lv_goto (tgt := 95) hx hb d_gf_fits_55 rfl ?_
        exact gx_zret hx hb hr (by decide) hlk d_gf_fits_95 (fun _ z => by cases z) ⟨rfl, by rw [gfit, if_neg h0, if_pos h3, decide_eq_false (fun z => h4 ((lg_cmp_eq _ _).mpr z))]; rfl⟩
      · skip
        refine lv_iconst (v := 1) hx hb d_gf_fits_50 (by decide) ?_
        refine lv_goto (tgt := 95) hx hb d_gf_fits_51 rfl ?_
        exact gx_zret hx hb hr (by decide) hlk d_gf_fits_95 (fun _ z => by cases z) ⟨rfl, by rw [gfit, if_neg h0, if_pos h3, decide_eq_true ((lg_cmp_eq _ _).mp h4)]; rfl⟩
end
section
-- ===== ranges =====
theorem g_in_or (v a b : Int64) : (g_in v a b = 1 ∧ a ≤ v ∧ v ≤ b) ∨ (g_in v a b = 0 ∧ ¬ (a ≤ v ∧ v ≤ b)) := by
  unfold g_in
  by_cases h1 : v < a
  · rw [if_pos h1]
    exact Or.inr ⟨rfl, fun h => lg_lt_not_le h1 h.1⟩
  · rw [if_neg h1]
    by_cases h2 : b < v
    · rw [if_pos h2]
      exact Or.inr ⟨rfl, fun h => lg_lt_not_le h2 h.2⟩
    · rw [if_neg h2]
      exact Or.inl ⟨rfl, Int64.not_lt.mp h1, Int64.not_lt.mp h2⟩
theorem g_le64 (x y : Int32) : x.toInt64 ≤ y.toInt64 ↔ x ≤ y := by
  rw [Int64.le_iff_toInt_le, Int32.le_iff_toInt_le, Int32.toInt_toInt64, Int32.toInt_toInt64]
theorem g_inC (x lo hi : Int32) : (g_in x.toInt64 lo.toInt64 hi.toInt64 = 1 ∧ lo ≤ x ∧ x ≤ hi) ∨ (g_in x.toInt64 lo.toInt64 hi.toInt64 = 0 ∧ ¬ (lo ≤ x ∧ x ≤ hi)) := by
  have h := g_in_or x.toInt64 lo.toInt64 hi.toInt64
  rw [g_le64, g_le64] at h
  exact h
theorem g_in_s (x : Int32) : (g_in x.toInt64 1 64 = 1 ∧ 1 ≤ x ∧ x ≤ 64) ∨ (g_in x.toInt64 1 64 = 0 ∧ ¬ (1 ≤ x ∧ x ≤ 64)) := by
  have h := g_inC x 1 64
  rw [show (1 : Int32).toInt64 = 1 from by decide, show (64 : Int32).toInt64 = 64 from by decide] at h
  exact h
theorem g_in_b (x : Int32) : (g_in x.toInt64 1 32 = 1 ∧ 1 ≤ x ∧ x ≤ 32) ∨ (g_in x.toInt64 1 32 = 0 ∧ ¬ (1 ≤ x ∧ x ≤ 32)) := by
  have h := g_inC x 1 32
  rw [show (1 : Int32).toInt64 = 1 from by decide, show (32 : Int32).toInt64 = 32 from by decide] at h
  exact h
theorem g_in_w (x : Int32) : (g_in x.toInt64 0 2 = 1 ∧ 0 ≤ x ∧ x ≤ 2) ∨ (g_in x.toInt64 0 2 = 0 ∧ ¬ (0 ≤ x ∧ x ≤ 2)) := by
  have h := g_inC x 0 2
  rw [show (0 : Int32).toInt64 = 0 from by decide, show (2 : Int32).toInt64 = 2 from by decide] at h
  exact h
theorem g_rng (x : Int32) {M : Int32} {N : Nat} (hM : M.toInt = (N : Int) - 1) (hN : N < 2 ^ 30) : (0 ≤ x ∧ x ≤ M) ↔ ∃ i, i < N ∧ x = nI i := by
  constructor
  · intro h
    obtain ⟨j, hj, rfl⟩ := nI_of (Int32.not_lt.mpr h.1)
    have h2 := Int32.le_iff_toInt_le.mp h.2
    rw [nI_toInt hj, hM] at h2
    exact ⟨j, by omega, rfl⟩
  · rintro ⟨i, hi, rfl⟩
    refine ⟨nI_pos' (by omega), ?_⟩
    rw [Int32.le_iff_toInt_le, nI_toInt (by omega), hM]
    omega
theorem g_m1 (n : Nat) (hn : n < 2 ^ 30) : (nI n - 1).toInt = (n : Int) - 1 := by
  have h := pk_sub_toInt (a := n) (b := 1) hn (by decide)
  exact h
theorem g_inA (x : Int32) (n : Nat) (hn : n ≤ 120) : (g_in x.toInt64 0 (nI n - 1).toInt64 = 1 ∧ ∃ i, i < n ∧ x = nI i) ∨ (g_in x.toInt64 0 (nI n - 1).toInt64 = 0 ∧ ¬ ∃ i, i < n ∧ x = nI i) := by
  have h := g_inC x 0 (nI n - 1)
  rw [show (0 : Int32).toInt64 = 0 from by decide, g_rng x (g_m1 n (by omega)) (by omega)] at h
  exact h
theorem g_inB (x : Int32) (n : Nat) (hn : n ≤ 120) : (g_in x.toInt64 0 (nI n).toInt64 = 1 ∧ ∃ i, i < n + 1 ∧ x = nI i) ∨ (g_in x.toInt64 0 (nI n).toInt64 = 0 ∧ ¬ ∃ i, i < n + 1 ∧ x = nI i) := by
  have h := g_inC x 0 (nI n)
  rw [show (0 : Int32).toInt64 = 0 from by decide, g_rng x (N := n + 1) (by rw [nI_toInt (by omega)]; omega) (by omega)] at h
  exact h
/-- the checks of form() -/
def gok (x y z : Int32) : Prop := (1 ≤ x ∧ x ≤ 64) ∧ (1 ≤ y ∧ y ≤ 32) ∧ 0 ≤ z ∧ z ≤ 2
-- what the writers do to the data
def g_wr (a : gA) (k i : Nat) (v : Int32) : gA := va_up a k (upd (a k) i v)
def g_form (a : gA) (l f : Nat) (x y z : Int32) : gA := g_wr (g_wr (g_wr (g_wr a 1 (4 * l + f) x) 2 (4 * l + f) y) 3 (4 * l + f) z) 0 l (nI (f + 1))
def g_aim (a : gA) (i : Nat) (t o : Int32) : gA := g_wr (g_wr a 4 i t) 5 i o
def g_line (a : gA) (n : Nat) : gA := g_wr (g_wr (g_wr a 0 n 0) 4 n 0) 5 n 0
-- what the readers answer: the code of the throw (0: none) and the answer
def gRg (x : Int32) (n : Nat) : Prop := ∃ i, i < n ∧ x = nI i
def gToldR (a : gA) (nw : Nat → Nat) (n : Nat) (st x w k r : Int32) : Prop :=
  (k = 3 ∧ ¬ (0 ≤ w ∧ w ≤ 2)) ∨ (k = 1 ∧ (0 ≤ w ∧ w ≤ 2) ∧ st = 0) ∨ (k = 2 ∧ (0 ≤ w ∧ w ≤ 2) ∧ ¬ st = 0 ∧ ((w = 0 ∧ ¬ gRg x (n + 1)) ∨ (¬ w = 0 ∧ ¬ gRg x n))) ∨
  (k = 0 ∧ (0 ≤ w ∧ w ≤ 2) ∧ ¬ st = 0 ∧ ∃ i, x = nI i ∧ ((w = 0 ∧ i < n + 1 ∧ r = adr a nw i) ∨ (w = 1 ∧ i < n ∧ r = (if a 0 i = 0 then -1 else nI (nw i))) ∨ (w = 2 ∧ i < n ∧ r = gb (gfit a nw i))))
def gValR (a : gA) (nw : Nat → Nat) (n : Nat) (st x k : Int32) (r : Int64) : Prop :=
  (k = 1 ∧ st = 0) ∨ (k = 2 ∧ ¬ st = 0 ∧ ¬ gRg x n) ∨ (k = 0 ∧ ¬ st = 0 ∧ ∃ i, i < n ∧ x = nI i ∧ r = gv a nw i)
/-- the first line that doesn't fit, from i on, among d lines -/
def gwr (a : gA) (nw : Nat → Nat) : Nat → Nat → Int32
  | 0, _ => -1
  | d + 1, i => if gfit a nw i = true then gwr a nw d (i + 1) else nI i
theorem g_012 {w : Int32} (h : 0 ≤ w ∧ w ≤ 2) : w = 0 ∨ w = 1 ∨ w = 2 := by
  obtain ⟨i, hi, rfl⟩ := (g_rng w (M := 2) (N := 3) (by decide) (by decide)).mp h
  have : i = 0 ∨ i = 1 ∨ i = 2 := by omega
  rcases this with rfl | rfl | rfl
  · exact Or.inl rfl
  · exact Or.inr (Or.inl rfl)
  · exact Or.inr (Or.inr rfl)
theorem gb_nar (b : Bool) : narrow .boolean (.int (gb b)) = .int (gb b) := by cases b <;> rfl
theorem gb_ne {b : Bool} : ¬ gb b = 0 ↔ b = true := by cases b <;> simp [gb]
theorem gb_eq {b : Bool} : gb b = 0 ↔ b = false := by cases b <;> simp [gb]
theorem nI_n120 {n : Nat} (hn : n ≤ 120) : nI n = 120 ↔ n = 120 := by
  rw [show (120 : Int32) = nI 120 from rfl]
  exact nI_eq (by omega) (by omega)
end
section
def rmU : Room := { frames := 7, cells := 1, slots := 6, locals := 101 }
def rmV : Room := { frames := 7, cells := 2, slots := 12, locals := 101 }
set_option maxHeartbeats 4000000 in
set_option maxRecDepth 100000 in
theorem c_gf_clear (l : Launch) (E : gE) (h : Nat) (q : Nat → Nat) (a : gA) (ln st : Int32) (hDg : gDG h q) : GMet l y_gf_clear prog_1_method_8_code 2 (some .int) [] rm0 (gPw E [.ref h] (gW h q E.2.1 a ln st)) (fun H o H1 => o = .returned (some (.int ln)) ∧ va_P E.1 gcl (gW h q E.2.1 a 0 0) H1 ∧ gFr (gIG h q) H H1) 0 0 (gIG h q) := by
  intro p e s m args below meth c hF hP0
  obtain ⟨hx, hb, hml, hr, hlk, hown, hnm, hex⟩ := hF
  obtain ⟨rfl, hT, hP⟩ := hP0
  have C : gC E "GrowForms" prog_1_method_8_code p s m c := ⟨hx, hb, hown, hT⟩
  have hD := hDg.to E.2.1 a ln st
  have hS : va_S (gIG h q) s.heap s.heap [] := va_S.rf
  have hl := lv_entry ([.ref h]) (n := 2) (Nat.le_of_ble_eq_true rfl)
  rw [lg_entry_eq]
  generalize (lg_sl ([.ref h]) ++ List.replicate (2 - (lg_sl ([.ref h])).length) Slot.unset).toArray = ls at hl ⊢
  have hl : lv_has ls 2 [(0, .ref h)] := hl
  refine lv_aload_n hx hb d_gf_clear_0 rfl (lv_at hl 0 rfl) ?_
  refine gf_get C hP 9 (by decide) rfl d_gf_clear_1 ?_
  refine lv_istore_n hx hb d_gf_clear_4 rfl hl (by decide) rfl (fun ls hl => ?_)
  have hl : lv_has ls 2 [(1, .int ln), (0, .ref h)] := hl
  refine lv_aload_n hx hb d_gf_clear_5 rfl (lv_at hl 1 rfl) ?_
  refine lv_iconst (v := 0) hx hb d_gf_clear_6 (by decide) ?_
  refine gf_putln C hP hD hS d_gf_clear_7 (fun H locs hP hS => ?_)
  refine lv_aload_n hx hb d_gf_clear_10 rfl (lv_at hl 1 rfl) ?_
  refine lv_iconst (v := 0) hx hb d_gf_clear_11 (by decide) ?_
  refine gf_putst C hP hD hS (by decide) (by decide) d_gf_clear_12 (fun H locs hP hS => ?_)
  refine lv_iload_n hx hb d_gf_clear_15 rfl (lv_at hl 0 rfl) ?_
  exact gx_iret hx hb hr hlk d_gf_clear_16 hS.2.2 ⟨rfl, hP, gFr.of hS⟩
set_option maxHeartbeats 4000000 in
set_option maxRecDepth 100000 in
theorem c_gf_line (l : Launch) (hfl : l.flags = flags0) (E : gE) (h : Nat) (q : Nat → Nat) (a : gA) (n : Nat) (st : Int32) (hDg : gDG h q) (hn : n ≤ 120) : GMet l y_gf_line prog_1_method_5_code 1 (some .int) [] rmT (gPx E [.ref h] (gW h q E.2.1 a (nI n) st)) (fun H o H1 => (n < 120 ∧ o = .returned (some (.int (nI n))) ∧ va_P E.1 gcl (gW h q E.2.1 (g_line a n) (nI (n + 1)) 0) H1 ∧ gFr (gIG h q) H H1) ∨ (n = 120 ∧ gTw E 2 (gIG h q) (gW h q E.2.1 a (nI n) st) H o H1)) 1 6 (gIG h q) := by
  intro p e s m args below meth c hF hP0
  obtain ⟨hx, hb, hml, hr, hlk, hown, hnm, hex⟩ := hF
  obtain ⟨rfl, hT, hX, hP⟩ := hP0
  have C : gC E "GrowForms" prog_1_method_5_code p s m c := ⟨hx, hb, hown, hT⟩
  have hD := hDg.to E.2.1 a (nI n) st
  have hS : va_S (gIG h q) s.heap s.heap [] := va_S.rf
  have hl := lv_entry ([.ref h]) (n := 1) (Nat.le_of_ble_eq_true rfl)
  rw [lg_entry_eq]
  generalize (lg_sl ([.ref h]) ++ List.replicate (1 - (lg_sl ([.ref h])).length) Slot.unset).toArray = ls at hl ⊢
  have hl : lv_has ls 1 [(0, .ref h)] := hl
  refine lv_aload_n hx hb d_gf_line_0 rfl (lv_at hl 0 rfl) ?_
  refine gf_get C hP 9 (by decide) rfl d_gf_line_1 ?_
  refine lv_bipush (v := 120) hx hb d_gf_line_4 (by decide) ?_
  refine lv_icmp_ne (tgt := 17) hx hb d_gf_line_6 rfl (fun h1 => ?_) (fun h1 => ?_)
  · skip
    have hn1 : n < 120 := by have := mt (nI_n120 hn).mpr h1; omega
    refine lv_aload_n hx hb d_gf_line_17 rfl (lv_at hl 0 rfl) ?_
    refine gf_get C hP 0 (by decide) rfl d_gf_line_18 ?_
    refine lv_aload_n hx hb d_gf_line_21 rfl (lv_at hl 0 rfl) ?_
    refine gf_get C hP 9 (by decide) rfl d_gf_line_22 ?_
    refine lv_iconst (v := 0) hx hb d_gf_line_25 (by decide) ?_
    refine gf_ast C hP hD hS 0 (by decide) n rfl (show n < 120 from hn1) d_gf_line_26 (fun H locs hP hS => ?_)
    refine lv_aload_n hx hb d_gf_line_27 rfl (lv_at hl 0 rfl) ?_
    refine gf_get C hP 4 (by decide) rfl d_gf_line_28 ?_
    refine lv_aload_n hx hb d_gf_line_31 rfl (lv_at hl 0 rfl) ?_
    refine gf_get C hP 9 (by decide) rfl d_gf_line_32 ?_
    refine lv_iconst (v := 0) hx hb d_gf_line_35 (by decide) ?_
    refine gf_ast C hP hD hS 4 (by decide) n rfl (show n < 120 from hn1) d_gf_line_36 (fun H locs hP hS => ?_)
    refine lv_aload_n hx hb d_gf_line_37 rfl (lv_at hl 0 rfl) ?_
    refine gf_get C hP 5 (by decide) rfl d_gf_line_38 ?_
    refine lv_aload_n hx hb d_gf_line_41 rfl (lv_at hl 0 rfl) ?_
    refine gf_get C hP 9 (by decide) rfl d_gf_line_42 ?_
    refine lv_iconst (v := 0) hx hb d_gf_line_45 (by decide) ?_
    refine gf_ast C hP hD hS 5 (by decide) n rfl (show n < 120 from hn1) d_gf_line_46 (fun H locs hP hS => ?_)
    refine lv_aload_n hx hb d_gf_line_47 rfl (lv_at hl 0 rfl) ?_
    refine lv_dup hx hb d_gf_line_48 rfl ?_
    refine gf_get C hP 9 (by decide) rfl d_gf_line_49 ?_
    refine lv_iconst (v := 1) hx hb d_gf_line_52 (by decide) ?_
    refine lv_iadd hx hb d_gf_line_53 ?_
    rw [show (((nI n) + 1) : Int32) = (nI (n + 1)) from nI_1 n]
    refine gf_putln C hP hD hS d_gf_line_54 (fun H locs hP hS => ?_)
    refine lv_aload_n hx hb d_gf_line_57 rfl (lv_at hl 0 rfl) ?_
    refine lv_iconst (v := 0) hx hb d_gf_line_58 (by decide) ?_
    refine gf_putst C hP hD hS (by decide) (by decide) d_gf_line_59 (fun H locs hP hS => ?_)
    refine lv_aload_n hx hb d_gf_line_62 rfl (lv_at hl 0 rfl) ?_
    refine gf_get C hP 9 (by decide) rfl d_gf_line_63 ?_
    refine lv_iconst (v := 1) hx hb d_gf_line_66 (by decide) ?_
    refine lv_isub hx hb d_gf_line_67 ?_
    rw [show (((nI (n + 1)) - 1) : Int32) = (nI n) from nI_pred n]
    refine W.widen (k := 1) (n := 6) (by omega) (by omega) ?_
    exact gx_iret hx hb hr hlk d_gf_line_68 hS.2.2 (Or.inl ⟨hn1, rfl, hP, gFr.of hS⟩)
  · skip
    exact gx_throw gs_I 46 44 2 hfl hx hb (hml.trans hl.1.symm) hex hlk hown hT hX gx_keep.rf rfl ga_I tw_73 tw_74 tw_14 (by decide +kernel) d_gf_line_9 d_gf_line_12 d_gf_line_13 d_gf_line_16 (by decide) (by decide) (by decide) (by decide) (fun _ z => by cases z) (fun x H1 ce e1 e2 e3 e4 e5 => Or.inr ⟨(nI_n120 hn).mp h1, x, ce, rfl, e1, e2, e3, gW_lt hP e5, e4, fun z hz _ => e5 z hz⟩)
set_option maxHeartbeats 4000000 in
set_option maxRecDepth 100000 in
theorem c_gf_form (l : Launch) (hfl : l.flags = flags0) (E : gE) (h : Nat) (q : Nat → Nat) (a : gA) (n : Nat) (st x y z : Int32) (hDg : gDG h q) (hwf : gWf a n) : GMet l y_gf_form prog_1_method_6_code 5 (some .int) [] rmT (gPx E [.ref h, .int x, .int y, .int z] (gW h q E.2.1 a (nI n) st)) (fun H o H1 => (¬ gok x y z ∧ gTw E 3 (gIG h q) (gW h q E.2.1 a (nI n) st) H o H1) ∨ (gok x y z ∧ (n = 0 ∨ ∃ k, n = k + 1 ∧ a 0 k = 4) ∧ gTw E 2 (gIG h q) (gW h q E.2.1 a (nI n) st) H o H1) ∨ (gok x y z ∧ ∃ k f, n = k + 1 ∧ f < 4 ∧ a 0 k = nI f ∧ o = .returned (some (.int (nI (f + 1)))) ∧ va_P E.1 gcl (gW h q E.2.1 (g_form a k f x y z) (nI n) 0) H1 ∧ gFr (gIG h q) H H1)) 1 6 (gIG h q) := by
  intro p e s m args below meth c hF hP0
  obtain ⟨hx, hb, hml, hr, hlk, hown, hnm, hex⟩ := hF
  obtain ⟨rfl, hT, hX, hP⟩ := hP0
  have C : gC E "GrowForms" prog_1_method_6_code p s m c := ⟨hx, hb, hown, hT⟩
  have hD := hDg.to E.2.1 a (nI n) st
  have hS : va_S (gIG h q) s.heap s.heap [] := va_S.rf
  have hl := lv_entry ([.ref h, .int x, .int y, .int z]) (n := 5) (Nat.le_of_ble_eq_true rfl)
  rw [lg_entry_eq]
  generalize (lg_sl ([.ref h, .int x, .int y, .int z]) ++ List.replicate (5 - (lg_sl ([.ref h, .int x, .int y, .int z])).length) Slot.unset).toArray = ls at hl ⊢
  have hl : lv_has ls 5 [(0, .ref h), (1, .int x), (2, .int y), (3, .int z)] := hl
  refine lv_iload_n hx hb d_gf_form_0 rfl (lv_at hl 1 rfl) ?_
  refine lv_i2l hx hb d_gf_form_1 rfl ?_
  refine lv_lconst (v := 1) hx hb d_gf_form_2 rfl ?_
  refine lv_ldc2 (v := (64)) hx hb C.2.2.1 (C.wd _ tw_145) d_gf_form_3 ?_
  rcases g_in_s x with ⟨hc, h1⟩ | ⟨hc, h1⟩
  · skip
    refine gx_statP (c_gf_in l x.toInt64 1 64) [.long x.toInt64, .long 1, .long 64] [] hx hb (hml.trans hl.1.symm) C.2.2.1 (gMd_code (a := #[]) (C.wd _ tw_148)) (C.wd _ tw_146) (C.wd _ tw_147) (C.wd _ tw_9) ⟨by decide +kernel, by decide +kernel⟩ (by decide +kernel) (show (parseMethodDescriptor y_gf_in.desc).map (fun d => d.parameters.length) = some 3 by decide +kernel) (fun U _ _ => rfl) (by decide) ⟨by decide, by decide⟩ ⟨by decide, by decide⟩ d_gf_form_6 rfl ?_
    rw [hc]
    refine lv_if_eq (tgt := 36) hx hb d_gf_form_9 rfl (fun hN => absurd hN (by decide)) (fun _ => ?_)
    refine lv_iload_n hx hb d_gf_form_12 rfl (lv_at hl 2 rfl) ?_
    refine lv_i2l hx hb d_gf_form_13 rfl ?_
    refine lv_lconst (v := 1) hx hb d_gf_form_14 rfl ?_
    refine lv_ldc2 (v := (32)) hx hb C.2.2.1 (C.wd _ tw_149) d_gf_form_15 ?_
    rcases g_in_b y with ⟨hc, h2⟩ | ⟨hc, h2⟩
    · skip
      refine gx_statP (c_gf_in l y.toInt64 1 32) [.long y.toInt64, .long 1, .long 32] [] hx hb (hml.trans hl.1.symm) C.2.2.1 (gMd_code (a := #[]) (C.wd _ tw_148)) (C.wd _ tw_146) (C.wd _ tw_147) (C.wd _ tw_9) ⟨by decide +kernel, by decide +kernel⟩ (by decide +kernel) (show (parseMethodDescriptor y_gf_in.desc).map (fun d => d.parameters.length) = some 3 by decide +kernel) (fun U _ _ => rfl) (by decide) ⟨by decide, by decide⟩ ⟨by decide, by decide⟩ d_gf_form_18 rfl ?_
      rw [hc]
      refine lv_if_eq (tgt := 36) hx hb d_gf_form_21 rfl (fun hN => absurd hN (by decide)) (fun _ => ?_)
      refine lv_iload_n hx hb d_gf_form_24 rfl (lv_at hl 3 rfl) ?_
      refine lv_i2l hx hb d_gf_form_25 rfl ?_
      refine lv_lconst (v := 0) hx hb d_gf_form_26 rfl ?_
      refine lv_ldc2 (v := (2)) hx hb C.2.2.1 (C.wd _ tw_150) d_gf_form_27 ?_
      rcases g_in_w z with ⟨hc, h3⟩ | ⟨hc, h3⟩
      · skip
        refine gx_statP (c_gf_in l z.toInt64 0 2) [.long z.toInt64, .long 0, .long 2] [] hx hb (hml.trans hl.1.symm) C.2.2.1 (gMd_code (a := #[]) (C.wd _ tw_148)) (C.wd _ tw_146) (C.wd _ tw_147) (C.wd _ tw_9) ⟨by decide +kernel, by decide +kernel⟩ (by decide +kernel) (show (parseMethodDescriptor y_gf_in.desc).map (fun d => d.parameters.length) = some 3 by decide +kernel) (fun U _ _ => rfl) (by decide) ⟨by decide, by decide⟩ ⟨by decide, by decide⟩ d_gf_form_30 rfl ?_
        rw [hc]
        refine lv_if_ne (tgt := 44) hx hb d_gf_form_33 rfl (fun _ => ?_) (fun hN => absurd hN (by decide))
        refine lv_aload_n hx hb d_gf_form_44 rfl (lv_at hl 0 rfl) ?_
        refine gf_get C hP 9 (by decide) rfl d_gf_form_45 ?_
        cases n with
        | zero =>
          refine lv_if_eq (tgt := 66) hx hb d_gf_form_48 rfl (fun _ => ?_) (fun hN => absurd (show nI 0 = 0 from rfl) hN)
          exact gx_throw gs_I 46 44 2 hfl hx hb (hml.trans hl.1.symm) hex hlk hown hT hX gx_keep.rf rfl ga_I tw_73 tw_74 tw_14 (by decide +kernel) d_gf_form_66 d_gf_form_69 d_gf_form_70 d_gf_form_73 (by decide) (by decide) (by decide) (by decide) (fun _ z => by cases z) (fun x' H1 ce e1 e2 e3 e4 e5 => Or.inr (Or.inl ⟨⟨h1, h2, h3⟩, Or.inl rfl, x', ce, rfl, e1, e2, e3, gW_lt hP e5, e4, fun u hu _ => e5 u hu⟩))
        | succ k =>
          have hn120 := hwf.1
          obtain ⟨f, t, hf4, hf, -, -, -⟩ := hwf.2 k (by omega)
          refine lv_if_eq (tgt := 66) hx hb d_gf_form_48 rfl (fun hN => absurd hN (nI_ne0 (by omega) (by omega))) (fun _ => ?_)
          refine lv_aload_n hx hb d_gf_form_51 rfl (lv_at hl 0 rfl) ?_
          refine gf_get C hP 0 (by decide) rfl d_gf_form_52 ?_
          refine lv_aload_n hx hb d_gf_form_55 rfl (lv_at hl 0 rfl) ?_
          refine gf_get C hP 9 (by decide) rfl d_gf_form_56 ?_
          refine lv_iconst (v := 1) hx hb d_gf_form_59 (by decide) ?_
          refine lv_isub hx hb d_gf_form_60 ?_
          rw [show (((nI (k + 1)) - 1) : Int32) = (nI k) from nI_pred k]
          refine gf_ald C hP 0 (by decide) k (v := (nI f)) rfl (show k < 120 by omega) hf d_gf_form_61 ?_
          refine lv_iconst (v := 4) hx hb d_gf_form_62 (by decide) ?_
          have hfe : nI f = 4 ↔ f = 4 := by rw [show (4 : Int32) = nI 4 from rfl]; exact nI_eq (by omega) (by omega)
          refine lv_icmp_ne (tgt := 74) hx hb d_gf_form_63 rfl (fun h4 => ?_) (fun h4 => ?_)
          · skip
            have hf3 : f < 4 := by have := mt hfe.mpr h4; omega
            refine lv_aload_n hx hb d_gf_form_74 rfl (lv_at hl 0 rfl) ?_
            refine gf_get C hP 9 (by decide) rfl d_gf_form_75 ?_
            refine lv_iconst (v := 1) hx hb d_gf_form_78 (by decide) ?_
            refine lv_isub hx hb d_gf_form_79 ?_
            rw [show (((nI (k + 1)) - 1) : Int32) = (nI k) from nI_pred k]
            refine lv_iconst (v := 4) hx hb d_gf_form_80 (by decide) ?_
            refine lv_imul hx hb d_gf_form_81 ?_
            refine lv_aload_n hx hb d_gf_form_82 rfl (lv_at hl 0 rfl) ?_
            refine gf_get C hP 0 (by decide) rfl d_gf_form_83 ?_
            refine lv_aload_n hx hb d_gf_form_86 rfl (lv_at hl 0 rfl) ?_
            refine gf_get C hP 9 (by decide) rfl d_gf_form_87 ?_
            refine lv_iconst (v := 1) hx hb d_gf_form_90 (by decide) ?_
            refine lv_isub hx hb d_gf_form_91 ?_
            rw [show (((nI (k + 1)) - 1) : Int32) = (nI k) from nI_pred k]
            refine gf_ald C hP 0 (by decide) k (v := (nI f)) rfl (show k < 120 by omega) hf d_gf_form_92 ?_
            refine lv_iadd hx hb d_gf_form_93 ?_
            rw [show ((((nI k) * 4) + (nI f)) : Int32) = (nI (4 * k + f)) from g_ix k f]
            refine lv_istore hx hb d_gf_form_94 hl (by decide) rfl (fun ls hl => ?_)
            have hl : lv_has ls 5 [(4, .int (nI (4 * k + f))), (0, .ref h), (1, .int x), (2, .int y), (3, .int z)] := hl
            refine lv_aload_n hx hb d_gf_form_96 rfl (lv_at hl 1 rfl) ?_
            refine gf_get C hP 1 (by decide) rfl d_gf_form_97 ?_
            refine lv_iload hx hb d_gf_form_100 (lv_at hl 0 rfl) ?_
            refine lv_iload_n hx hb d_gf_form_102 rfl (lv_at hl 2 rfl) ?_
            refine gf_ast C hP hD hS 1 (by decide) (4 * k + f) rfl (show 4 * k + f < 480 by omega) d_gf_form_103 (fun H locs hP hS => ?_)
            refine lv_aload_n hx hb d_gf_form_104 rfl (lv_at hl 1 rfl) ?_
            refine gf_get C hP 2 (by decide) rfl d_gf_form_105 ?_
            refine lv_iload hx hb d_gf_form_108 (lv_at hl 0 rfl) ?_
            refine lv_iload_n hx hb d_gf_form_110 rfl (lv_at hl 3 rfl) ?_
            refine gf_ast C hP hD hS 2 (by decide) (4 * k + f) rfl (show 4 * k + f < 480 by omega) d_gf_form_111 (fun H locs hP hS => ?_)
            refine lv_aload_n hx hb d_gf_form_112 rfl (lv_at hl 1 rfl) ?_
            refine gf_get C hP 3 (by decide) rfl d_gf_form_113 ?_
            refine lv_iload hx hb d_gf_form_116 (lv_at hl 0 rfl) ?_
            refine lv_iload_n hx hb d_gf_form_118 rfl (lv_at hl 4 rfl) ?_
            refine gf_ast C hP hD hS 3 (by decide) (4 * k + f) rfl (show 4 * k + f < 480 by omega) d_gf_form_119 (fun H locs hP hS => ?_)
            refine lv_aload_n hx hb d_gf_form_120 rfl (lv_at hl 1 rfl) ?_
            refine gf_get C hP 0 (by decide) rfl d_gf_form_121 ?_
            refine lv_aload_n hx hb d_gf_form_124 rfl (lv_at hl 1 rfl) ?_
            refine gf_get C hP 9 (by decide) rfl d_gf_form_125 ?_
            refine lv_iconst (v := 1) hx hb d_gf_form_128 (by decide) ?_
            refine lv_isub hx hb d_gf_form_129 ?_
            rw [show (((nI (k + 1)) - 1) : Int32) = (nI k) from nI_pred k]
            refine lv_dup2_11 hx hb d_gf_form_130 rfl rfl ?_
            refine gf_ald C hP 0 (by decide) k (v := (nI f)) rfl (show k < 120 by omega) hf d_gf_form_131 ?_
            refine lv_iconst (v := 1) hx hb d_gf_form_132 (by decide) ?_
            refine lv_iadd hx hb d_gf_form_133 ?_
            rw [show (((nI f) + 1) : Int32) = (nI (f + 1)) from nI_1 f]
            refine gf_ast C hP hD hS 0 (by decide) k rfl (show k < 120 by omega) d_gf_form_134 (fun H locs hP hS => ?_)
            refine lv_aload_n hx hb d_gf_form_135 rfl (lv_at hl 1 rfl) ?_
            refine lv_iconst (v := 0) hx hb d_gf_form_136 (by decide) ?_
            refine gf_putst C hP hD hS (by decide) (by decide) d_gf_form_137 (fun H locs hP hS => ?_)
            refine lv_aload_n hx hb d_gf_form_140 rfl (lv_at hl 1 rfl) ?_
            refine gf_get C hP 0 (by decide) rfl d_gf_form_141 ?_
            refine lv_aload_n hx hb d_gf_form_144 rfl (lv_at hl 1 rfl) ?_
            refine gf_get C hP 9 (by decide) rfl d_gf_form_145 ?_
            refine lv_iconst (v := 1) hx hb d_gf_form_148 (by decide) ?_
            refine lv_isub hx hb d_gf_form_149 ?_
            rw [show (((nI (k + 1)) - 1) : Int32) = (nI k) from nI_pred k]
            refine gf_ald C hP 0 (by decide) k (v := (nI (f + 1))) rfl (show k < 120 by omega) (by simp [va_up, upd]) d_gf_form_150 ?_
            refine W.widen (k := 1) (n := 6) (by omega) (by omega) ?_
            exact gx_iret hx hb hr hlk d_gf_form_151 hS.2.2 (Or.inr (Or.inr ⟨⟨h1, h2, h3⟩, k, f, rfl, hf3, hf, rfl, hP, gFr.of hS⟩))
          · skip
            exact gx_throw gs_I 46 44 2 hfl hx hb (hml.trans hl.1.symm) hex hlk hown hT hX gx_keep.rf rfl ga_I tw_73 tw_74 tw_14 (by decide +kernel) d_gf_form_66 d_gf_form_69 d_gf_form_70 d_gf_form_73 (by decide) (by decide) (by decide) (by decide) (fun _ z => by cases z) (fun x' H1 ce e1 e2 e3 e4 e5 => Or.inr (Or.inl ⟨⟨h1, h2, h3⟩, Or.inr ⟨k, rfl, by rw [hf]; exact h4⟩, x', ce, rfl, e1, e2, e3, gW_lt hP e5, e4, fun u hu _ => e5 u hu⟩))
      · skip
        refine gx_statP (c_gf_in l z.toInt64 0 2) [.long z.toInt64, .long 0, .long 2] [] hx hb (hml.trans hl.1.symm) C.2.2.1 (gMd_code (a := #[]) (C.wd _ tw_148)) (C.wd _ tw_146) (C.wd _ tw_147) (C.wd _ tw_9) ⟨by decide +kernel, by decide +kernel⟩ (by decide +kernel) (show (parseMethodDescriptor y_gf_in.desc).map (fun d => d.parameters.length) = some 3 by decide +kernel) (fun U _ _ => rfl) (by decide) ⟨by decide, by decide⟩ ⟨by decide, by decide⟩ d_gf_form_30 rfl ?_
        rw [hc]
        refine lv_if_ne (tgt := 44) hx hb d_gf_form_33 rfl (fun hN => absurd rfl hN) (fun _ => ?_)
        exact gx_throw gs_A 63 61 3 hfl hx hb (hml.trans hl.1.symm) hex hlk hown hT hX gx_keep.rf rfl ga_A tw_151 tw_152 tw_15 (by decide +kernel) d_gf_form_36 d_gf_form_39 d_gf_form_40 d_gf_form_43 (by decide) (by decide) (by decide) (by decide) (fun _ z => by cases z) (fun x' H1 ce e1 e2 e3 e4 e5 => Or.inl ⟨fun g => h3 g.2.2, x', ce, rfl, e1, e2, e3, gW_lt hP e5, e4, fun u hu _ => e5 u hu⟩)
    · skip
      refine gx_statP (c_gf_in l y.toInt64 1 32) [.long y.toInt64, .long 1, .long 32] [] hx hb (hml.trans hl.1.symm) C.2.2.1 (gMd_code (a := #[]) (C.wd _ tw_148)) (C.wd _ tw_146) (C.wd _ tw_147) (C.wd _ tw_9) ⟨by decide +kernel, by decide +kernel⟩ (by decide +kernel) (show (parseMethodDescriptor y_gf_in.desc).map (fun d => d.parameters.length) = some 3 by decide +kernel) (fun U _ _ => rfl) (by decide) ⟨by decide, by decide⟩ ⟨by decide, by decide⟩ d_gf_form_18 rfl ?_
      rw [hc]
      refine lv_if_eq (tgt := 36) hx hb d_gf_form_21 rfl (fun _ => ?_) (fun hN => absurd rfl hN)
      exact gx_throw gs_A 63 61 3 hfl hx hb (hml.trans hl.1.symm) hex hlk hown hT hX gx_keep.rf rfl ga_A tw_151 tw_152 tw_15 (by decide +kernel) d_gf_form_36 d_gf_form_39 d_gf_form_40 d_gf_form_43 (by decide) (by decide) (by decide) (by decide) (fun _ z => by cases z) (fun x' H1 ce e1 e2 e3 e4 e5 => Or.inl ⟨fun g => h2 g.2.1, x', ce, rfl, e1, e2, e3, gW_lt hP e5, e4, fun u hu _ => e5 u hu⟩)
  · skip
    refine gx_statP (c_gf_in l x.toInt64 1 64) [.long x.toInt64, .long 1, .long 64] [] hx hb (hml.trans hl.1.symm) C.2.2.1 (gMd_code (a := #[]) (C.wd _ tw_148)) (C.wd _ tw_146) (C.wd _ tw_147) (C.wd _ tw_9) ⟨by decide +kernel, by decide +kernel⟩ (by decide +kernel) (show (parseMethodDescriptor y_gf_in.desc).map (fun d => d.parameters.length) = some 3 by decide +kernel) (fun U _ _ => rfl) (by decide) ⟨by decide, by decide⟩ ⟨by decide, by decide⟩ d_gf_form_6 rfl ?_
    rw [hc]
    refine lv_if_eq (tgt := 36) hx hb d_gf_form_9 rfl (fun _ => ?_) (fun hN => absurd rfl hN)
    exact gx_throw gs_A 63 61 3 hfl hx hb (hml.trans hl.1.symm) hex hlk hown hT hX gx_keep.rf rfl ga_A tw_151 tw_152 tw_15 (by decide +kernel) d_gf_form_36 d_gf_form_39 d_gf_form_40 d_gf_form_43 (by decide) (by decide) (by decide) (by decide) (fun _ z => by cases z) (fun x' H1 ce e1 e2 e3 e4 e5 => Or.inl ⟨fun g => h1 g.1, x', ce, rfl, e1, e2, e3, gW_lt hP e5, e4, fun u hu _ => e5 u hu⟩)
set_option maxHeartbeats 4000000 in
set_option maxRecDepth 100000 in
theorem c_gf_aim (l : Launch) (hfl : l.flags = flags0) (E : gE) (h : Nat) (q : Nat → Nat) (a : gA) (n : Nat) (st x t v : Int32) (hDg : gDG h q) (hn : n ≤ 120) : GMet l y_gf_aim prog_1_method_7_code 4 none [] rmU (gPx E [.ref h, .int x, .int t, .int v] (gW h q E.2.1 a (nI n) st)) (fun H o H1 => (¬ (gRg x n ∧ gRg t (n + 1)) ∧ gTw E 4 (gIG h q) (gW h q E.2.1 a (nI n) st) H o H1) ∨ (gRg t (n + 1) ∧ ∃ i, i < n ∧ x = nI i ∧ o = .returned none ∧ va_P E.1 gcl (gW h q E.2.1 (g_aim a i t v) (nI n) 0) H1 ∧ gFr (gIG h q) H H1)) 1 6 (gIG h q) := by
  intro p e s m args below meth c hF hP0
  obtain ⟨hx, hb, hml, hr, hlk, hown, hnm, hex⟩ := hF
  obtain ⟨rfl, hT, hX, hP⟩ := hP0
  have C : gC E "GrowForms" prog_1_method_7_code p s m c := ⟨hx, hb, hown, hT⟩
  have hD := hDg.to E.2.1 a (nI n) st
  have hS : va_S (gIG h q) s.heap s.heap [] := va_S.rf
  have hl := lv_entry ([.ref h, .int x, .int t, .int v]) (n := 4) (Nat.le_of_ble_eq_true rfl)
  rw [lg_entry_eq]
  generalize (lg_sl ([.ref h, .int x, .int t, .int v]) ++ List.replicate (4 - (lg_sl ([.ref h, .int x, .int t, .int v])).length) Slot.unset).toArray = ls at hl ⊢
  have hl : lv_has ls 4 [(0, .ref h), (1, .int x), (2, .int t), (3, .int v)] := hl
  refine lv_iload_n hx hb d_gf_aim_0 rfl (lv_at hl 1 rfl) ?_
  refine lv_i2l hx hb d_gf_aim_1 rfl ?_
  refine lv_lconst (v := 0) hx hb d_gf_aim_2 rfl ?_
  refine lv_aload_n hx hb d_gf_aim_3 rfl (lv_at hl 0 rfl) ?_
  refine gf_get C hP 9 (by decide) rfl d_gf_aim_4 ?_
  refine lv_iconst (v := 1) hx hb d_gf_aim_7 (by decide) ?_
  refine lv_isub hx hb d_gf_aim_8 ?_
  refine lv_i2l hx hb d_gf_aim_9 rfl ?_
  rcases g_inA x n hn with ⟨hc, h1⟩ | ⟨hc, h1⟩
  · skip
    refine gx_statP (c_gf_in l x.toInt64 0 (nI n - 1).toInt64) [.long x.toInt64, .long 0, .long (nI n - 1).toInt64] [] hx hb (hml.trans hl.1.symm) C.2.2.1 (gMd_code (a := #[]) (C.wd _ tw_148)) (C.wd _ tw_146) (C.wd _ tw_147) (C.wd _ tw_9) ⟨by decide +kernel, by decide +kernel⟩ (by decide +kernel) (show (parseMethodDescriptor y_gf_in.desc).map (fun d => d.parameters.length) = some 3 by decide +kernel) (fun U _ _ => rfl) (by decide) ⟨by decide, by decide⟩ ⟨by decide, by decide⟩ d_gf_aim_10 rfl ?_
    rw [hc]
    refine lv_if_eq (tgt := 34) hx hb d_gf_aim_13 rfl (fun hN => absurd hN (by decide)) (fun _ => ?_)
    refine lv_iload_n hx hb d_gf_aim_16 rfl (lv_at hl 2 rfl) ?_
    refine lv_i2l hx hb d_gf_aim_17 rfl ?_
    refine lv_lconst (v := 0) hx hb d_gf_aim_18 rfl ?_
    refine lv_aload_n hx hb d_gf_aim_19 rfl (lv_at hl 0 rfl) ?_
    refine gf_get C hP 9 (by decide) rfl d_gf_aim_20 ?_
    refine lv_i2l hx hb d_gf_aim_23 rfl ?_
    rcases g_inB t n hn with ⟨hc, h2⟩ | ⟨hc, h2⟩
    · skip
      refine gx_statP (c_gf_in l t.toInt64 0 (nI n).toInt64) [.long t.toInt64, .long 0, .long (nI n).toInt64] [] hx hb (hml.trans hl.1.symm) C.2.2.1 (gMd_code (a := #[]) (C.wd _ tw_148)) (C.wd _ tw_146) (C.wd _ tw_147) (C.wd _ tw_9) ⟨by decide +kernel, by decide +kernel⟩ (by decide +kernel) (show (parseMethodDescriptor y_gf_in.desc).map (fun d => d.parameters.length) = some 3 by decide +kernel) (fun U _ _ => rfl) (by decide) ⟨by decide, by decide⟩ ⟨by decide, by decide⟩ d_gf_aim_24 rfl ?_
      rw [hc]
      refine lv_if_eq (tgt := 34) hx hb d_gf_aim_27 rfl (fun hN => absurd hN (by decide)) (fun _ => ?_)
      refine lv_iconst (v := 1) hx hb d_gf_aim_30 (by decide) ?_
      refine lv_goto (tgt := 35) hx hb d_gf_aim_31 rfl ?_
      refine gx_stat (c_gf_there l hfl E 1) [.int 1] [] hx hb (hml.trans hl.1.symm) C.2.2.1 (gMd_code (a := #[]) (C.wd _ tw_176)) (C.wd _ tw_174) (C.wd _ tw_175) (C.wd _ tw_9) ⟨by decide +kernel, by decide +kernel⟩ (by decide +kernel) (show (parseMethodDescriptor y_gf_there.desc).map (fun d => d.parameters.length) = some 1 by decide +kernel) (fun U hU hW => ⟨rfl, hT.moved hW, hX.moved hW.alike (by rw [hU]; exact gx_keep.rf)⟩) (by decide) ⟨by decide, by decide⟩ ⟨by decide, by decide⟩ d_gf_aim_35 rfl (fun v' H1 L hpo hL => ?_) (fun x' H1 L hpo hL => ?_)
      rotate_left
      · rcases hpo with ⟨-, -, h9⟩ | ⟨h9, -⟩
        · cases h9
        · exact absurd h9 (by decide)
      obtain ⟨-, rfl, h9⟩ := hpo.resolve_right (fun z => absurd z.1 (by decide))
      cases h9
      rw [gx_nil hL, List.append_nil]
      refine W.eq (g2 := F0 m 38 ls []) rfl ?_
      obtain ⟨i, hi, rfl⟩ := h1
      refine lv_aload_n hx hb d_gf_aim_38 rfl (lv_at hl 0 rfl) ?_
      refine gf_get C hP 4 (by decide) rfl d_gf_aim_39 ?_
      refine lv_iload_n hx hb d_gf_aim_42 rfl (lv_at hl 1 rfl) ?_
      refine lv_iload_n hx hb d_gf_aim_43 rfl (lv_at hl 2 rfl) ?_
      refine gf_ast C hP hD hS 4 (by decide) i rfl (show i < 120 by omega) d_gf_aim_44 (fun H locs hP hS => ?_)
      refine lv_aload_n hx hb d_gf_aim_45 rfl (lv_at hl 0 rfl) ?_
      refine gf_get C hP 5 (by decide) rfl d_gf_aim_46 ?_
      refine lv_iload_n hx hb d_gf_aim_49 rfl (lv_at hl 1 rfl) ?_
      refine lv_iload_n hx hb d_gf_aim_50 rfl (lv_at hl 3 rfl) ?_
      refine gf_ast C hP hD hS 5 (by decide) i rfl (show i < 120 by omega) d_gf_aim_51 (fun H locs hP hS => ?_)
      refine lv_aload_n hx hb d_gf_aim_52 rfl (lv_at hl 0 rfl) ?_
      refine lv_iconst (v := 0) hx hb d_gf_aim_53 (by decide) ?_
      refine gf_putst C hP hD hS (by decide) (by decide) d_gf_aim_54 (fun H locs hP hS => ?_)
      exact gx_vret hx hb hr hlk d_gf_aim_57 hS.2.2 (Or.inr ⟨h2, i, hi, rfl, rfl, hP, gFr.of hS⟩)
    · skip
      refine gx_statP (c_gf_in l t.toInt64 0 (nI n).toInt64) [.long t.toInt64, .long 0, .long (nI n).toInt64] [] hx hb (hml.trans hl.1.symm) C.2.2.1 (gMd_code (a := #[]) (C.wd _ tw_148)) (C.wd _ tw_146) (C.wd _ tw_147) (C.wd _ tw_9) ⟨by decide +kernel, by decide +kernel⟩ (by decide +kernel) (show (parseMethodDescriptor y_gf_in.desc).map (fun d => d.parameters.length) = some 3 by decide +kernel) (fun U _ _ => rfl) (by decide) ⟨by decide, by decide⟩ ⟨by decide, by decide⟩ d_gf_aim_24 rfl ?_
      rw [hc]
      refine lv_if_eq (tgt := 34) hx hb d_gf_aim_27 rfl (fun _ => ?_) (fun hN => absurd rfl hN)
      refine lv_iconst (v := 0) hx hb d_gf_aim_34 (by decide) ?_
      refine gx_stat (c_gf_there l hfl E 0) [.int 0] [] hx hb (hml.trans hl.1.symm) C.2.2.1 (gMd_code (a := #[]) (C.wd _ tw_176)) (C.wd _ tw_174) (C.wd _ tw_175) (C.wd _ tw_9) ⟨by decide +kernel, by decide +kernel⟩ (by decide +kernel) (show (parseMethodDescriptor y_gf_there.desc).map (fun d => d.parameters.length) = some 1 by decide +kernel) (fun U hU hW => ⟨rfl, hT.moved hW, hX.moved hW.alike (by rw [hU]; exact gx_keep.rf)⟩) (by decide) ⟨by decide, by decide⟩ ⟨by decide, by decide⟩ d_gf_aim_35 rfl (fun v' H1 L hpo hL => ?_) (fun x' H1 L hpo hL => ?_)
      · rcases hpo with ⟨h9, -⟩ | ⟨-, x9, ce, h9, -⟩
        · exact absurd rfl h9
        · cases h9
      · rcases hpo with ⟨-, -, h9⟩ | ⟨-, x9, ce, h9, e1, e2, e3, e4, e5⟩
        · cases h9
        · cases h9
          rw [gx_nil hL, List.append_nil]
          exact gx_leave hlk hex (fun _ z => by cases z) (Or.inl ⟨fun g => h2 g.2, _, ce, rfl, e1, e2, e3, gW_lt hP e5, e4, fun u hu _ => e5 u hu⟩)
  · skip
    refine gx_statP (c_gf_in l x.toInt64 0 (nI n - 1).toInt64) [.long x.toInt64, .long 0, .long (nI n - 1).toInt64] [] hx hb (hml.trans hl.1.symm) C.2.2.1 (gMd_code (a := #[]) (C.wd _ tw_148)) (C.wd _ tw_146) (C.wd _ tw_147) (C.wd _ tw_9) ⟨by decide +kernel, by decide +kernel⟩ (by decide +kernel) (show (parseMethodDescriptor y_gf_in.desc).map (fun d => d.parameters.length) = some 3 by decide +kernel) (fun U _ _ => rfl) (by decide) ⟨by decide, by decide⟩ ⟨by decide, by decide⟩ d_gf_aim_10 rfl ?_
    rw [hc]
    refine lv_if_eq (tgt := 34) hx hb d_gf_aim_13 rfl (fun _ => ?_) (fun hN => absurd rfl hN)
    refine lv_iconst (v := 0) hx hb d_gf_aim_34 (by decide) ?_
    refine gx_stat (c_gf_there l hfl E 0) [.int 0] [] hx hb (hml.trans hl.1.symm) C.2.2.1 (gMd_code (a := #[]) (C.wd _ tw_176)) (C.wd _ tw_174) (C.wd _ tw_175) (C.wd _ tw_9) ⟨by decide +kernel, by decide +kernel⟩ (by decide +kernel) (show (parseMethodDescriptor y_gf_there.desc).map (fun d => d.parameters.length) = some 1 by decide +kernel) (fun U hU hW => ⟨rfl, hT.moved hW, hX.moved hW.alike (by rw [hU]; exact gx_keep.rf)⟩) (by decide) ⟨by decide, by decide⟩ ⟨by decide, by decide⟩ d_gf_aim_35 rfl (fun v' H1 L hpo hL => ?_) (fun x' H1 L hpo hL => ?_)
    · rcases hpo with ⟨h9, -⟩ | ⟨-, x9, ce, h9, -⟩
      · exact absurd rfl h9
      · cases h9
    · rcases hpo with ⟨-, -, h9⟩ | ⟨-, x9, ce, h9, e1, e2, e3, e4, e5⟩
      · cases h9
      · cases h9
        rw [gx_nil hL, List.append_nil]
        exact gx_leave hlk hex (fun _ z => by cases z) (Or.inl ⟨fun g => h1 g.1, _, ce, rfl, e1, e2, e3, gW_lt hP e5, e4, fun u hu _ => e5 u hu⟩)
set_option maxHeartbeats 4000000 in
set_option maxRecDepth 100000 in
theorem c_gf_value (l : Launch) (hfl : l.flags = flags0) (E : gE) (h : Nat) (q : Nat → Nat) (a : gA) (nw : Nat → Nat) (n : Nat) (st x : Int32) (hwf : gWf a n) (hset : ¬ st = 0 → gNw a nw n ∧ gS a nw n) : GMet l y_gf_value prog_1_method_14_code 2 (some .long) [] rmV (gPx E [.ref h, .int x] (gW h q E.2.1 a (nI n) st)) (fun H o H1 => ∃ (k : Int32) (r : Int64), gValR a nw n st x k r ∧ ((k = 0 ∧ H1 = H ∧ o = .returned (some (.long r))) ∨ (k = 1 ∧ gTw E 2 (gIG h q) (gW h q E.2.1 a (nI n) st) H o H1) ∨ (k = 2 ∧ gTw E 4 (gIG h q) (gW h q E.2.1 a (nI n) st) H o H1))) 2 12 (fun _ => False) := by
  intro p e s m args below meth c hF hP0
  obtain ⟨hx, hb, hml, hr, hlk, hown, hnm, hex⟩ := hF
  obtain ⟨rfl, hT, hX, hP⟩ := hP0
  have C : gC E "GrowForms" prog_1_method_14_code p s m c := ⟨hx, hb, hown, hT⟩
  have hn := hwf.1
  have hl := lv_entry ([.ref h, .int x]) (n := 2) (Nat.le_of_ble_eq_true rfl)
  rw [lg_entry_eq]
  generalize (lg_sl ([.ref h, .int x]) ++ List.replicate (2 - (lg_sl ([.ref h, .int x])).length) Slot.unset).toArray = ls at hl ⊢
  have hl : lv_has ls 2 [(0, .ref h), (1, .int x)] := hl
  refine lv_aload_n hx hb d_gf_value_0 rfl (lv_at hl 0 rfl) ?_
  refine gx_virt (c_gf_isSettled l hfl E h q a (nI n) st) [] h [] hx hb (hml.trans hl.1.symm) C.2.2.1 (gMd_code (a := #[]) (C.wd _ tw_238)) (C.wd _ tw_235) (C.wd _ tw_237) (C.wd _ tw_4) ⟨by decide +kernel, by decide +kernel⟩ (by decide +kernel) (show (parseMethodDescriptor y_gf_isSettled.desc).map (fun d => d.parameters.length) = some 0 by decide +kernel) (gf_recv hT hP) (fun U hU hW => ⟨rfl, hT.moved hW, hX.moved hW.alike (by rw [hU]; exact gx_keep.rf), by rw [hU]; exact hP⟩) (by decide) ⟨by decide, by decide⟩ ⟨by decide, by decide⟩ d_gf_value_1 rfl (fun v' H1 L hpo hL => ?_) (fun x' H1 L hpo hL => ?_)
  rotate_left
  · rcases hpo with ⟨-, -, h9⟩ | ⟨hst, x9, ce, h9, e1, e2, e3, e4, e5⟩
    · cases h9
    · cases h9
      rw [gx_nil hL, List.append_nil]
      refine gx_widenT (k := 2) (n := 12) (by omega) (by omega) ?_; exact gx_leave hlk hex (fun _ z => by cases z) (⟨1, 0, Or.inl ⟨rfl, hst⟩, Or.inr (Or.inl ⟨rfl, _, ce, rfl, e1, e2, e3, gW_lt hP e5, e4, fun u hu _ => e5 u hu⟩)⟩)
  rcases hpo with ⟨hst, rfl, h9⟩ | ⟨-, x9, ce, h9, -⟩
  rotate_left
  · cases h9
  cases h9
  rw [gx_nil hL, List.append_nil]
  refine W.eq (g2 := F0 m 4 ls []) rfl ?_
  obtain ⟨hnw, hgs⟩ := hset hst
  refine lv_iload_n hx hb d_gf_value_4 rfl (lv_at hl 1 rfl) ?_
  refine lv_i2l hx hb d_gf_value_5 rfl ?_
  refine lv_lconst (v := 0) hx hb d_gf_value_6 rfl ?_
  refine lv_aload_n hx hb d_gf_value_7 rfl (lv_at hl 0 rfl) ?_
  refine gf_get C hP 9 (by decide) rfl d_gf_value_8 ?_
  refine lv_iconst (v := 1) hx hb d_gf_value_11 (by decide) ?_
  refine lv_isub hx hb d_gf_value_12 ?_
  refine lv_i2l hx hb d_gf_value_13 rfl ?_
  rcases g_inA x n hn with ⟨hc, h1⟩ | ⟨hc, h1⟩
  · skip
    refine gx_statP (c_gf_in l x.toInt64 0 (nI n - 1).toInt64) [.long x.toInt64, .long 0, .long (nI n - 1).toInt64] [] hx hb (hml.trans hl.1.symm) C.2.2.1 (gMd_code (a := #[]) (C.wd _ tw_148)) (C.wd _ tw_146) (C.wd _ tw_147) (C.wd _ tw_9) ⟨by decide +kernel, by decide +kernel⟩ (by decide +kernel) (show (parseMethodDescriptor y_gf_in.desc).map (fun d => d.parameters.length) = some 3 by decide +kernel) (fun U _ _ => rfl) (by decide) ⟨by decide, by decide⟩ ⟨by decide, by decide⟩ d_gf_value_14 rfl ?_
    rw [hc]
    refine gx_stat (c_gf_there l hfl E 1) [.int 1] [] hx hb (hml.trans hl.1.symm) C.2.2.1 (gMd_code (a := #[]) (C.wd _ tw_176)) (C.wd _ tw_174) (C.wd _ tw_175) (C.wd _ tw_9) ⟨by decide +kernel, by decide +kernel⟩ (by decide +kernel) (show (parseMethodDescriptor y_gf_there.desc).map (fun d => d.parameters.length) = some 1 by decide +kernel) (fun U hU hW => ⟨rfl, hT.moved hW, hX.moved hW.alike (by rw [hU]; exact gx_keep.rf)⟩) (by decide) ⟨by decide, by decide⟩ ⟨by decide, by decide⟩ d_gf_value_17 rfl (fun v' H1 L hpo hL => ?_) (fun x' H1 L hpo hL => ?_)
    rotate_left
    · rcases hpo with ⟨-, -, h9⟩ | ⟨h9, -⟩
      · cases h9
      · exact absurd h9 (by decide)
    obtain ⟨-, rfl, h9⟩ := hpo.resolve_right (fun z => absurd z.1 (by decide))
    cases h9
    rw [gx_nil hL, List.append_nil]
    refine W.eq (g2 := F0 m 20 ls []) rfl ?_
    obtain ⟨i, hi, rfl⟩ := h1
    refine lv_aload_n hx hb d_gf_value_20 rfl (lv_at hl 0 rfl) ?_
    refine lv_iload_n hx hb d_gf_value_21 rfl (lv_at hl 1 rfl) ?_
    refine gx_virtP (c_gf_valueOf l E h q a nw n i (nI n) st hwf hnw hgs hi) [.int (nI i)] h [] hx hb (hml.trans hl.1.symm) C.2.2.1 (gMd_code (a := #[]) (C.wd _ tw_207)) (C.wd _ tw_204) (C.wd _ tw_206) (C.wd _ tw_2) ⟨by decide +kernel, by decide +kernel⟩ (by decide +kernel) (show (parseMethodDescriptor y_gf_valueOf.desc).map (fun d => d.parameters.length) = some 1 by decide +kernel) (gf_recv hT hP) (fun U hU hW => ⟨rfl, hT.moved hW, by rw [hU]; exact hP⟩) (by decide) ⟨by decide, by decide⟩ ⟨by decide, by decide⟩ d_gf_value_22 rfl ?_
    exact gx_lret hx hb hr hlk d_gf_value_25 (fun _ z => by cases z) ⟨0, gv a nw i, Or.inr (Or.inr ⟨rfl, hst, i, hi, rfl, rfl⟩), Or.inl ⟨rfl, rfl, rfl⟩⟩
  · skip
    refine gx_statP (c_gf_in l x.toInt64 0 (nI n - 1).toInt64) [.long x.toInt64, .long 0, .long (nI n - 1).toInt64] [] hx hb (hml.trans hl.1.symm) C.2.2.1 (gMd_code (a := #[]) (C.wd _ tw_148)) (C.wd _ tw_146) (C.wd _ tw_147) (C.wd _ tw_9) ⟨by decide +kernel, by decide +kernel⟩ (by decide +kernel) (show (parseMethodDescriptor y_gf_in.desc).map (fun d => d.parameters.length) = some 3 by decide +kernel) (fun U _ _ => rfl) (by decide) ⟨by decide, by decide⟩ ⟨by decide, by decide⟩ d_gf_value_14 rfl ?_
    rw [hc]
    refine gx_stat (c_gf_there l hfl E 0) [.int 0] [] hx hb (hml.trans hl.1.symm) C.2.2.1 (gMd_code (a := #[]) (C.wd _ tw_176)) (C.wd _ tw_174) (C.wd _ tw_175) (C.wd _ tw_9) ⟨by decide +kernel, by decide +kernel⟩ (by decide +kernel) (show (parseMethodDescriptor y_gf_there.desc).map (fun d => d.parameters.length) = some 1 by decide +kernel) (fun U hU hW => ⟨rfl, hT.moved hW, hX.moved hW.alike (by rw [hU]; exact gx_keep.rf)⟩) (by decide) ⟨by decide, by decide⟩ ⟨by decide, by decide⟩ d_gf_value_17 rfl (fun v' H1 L hpo hL => ?_) (fun x' H1 L hpo hL => ?_)
    · rcases hpo with ⟨h9, -⟩ | ⟨-, x9, ce, h9, -⟩
      · exact absurd rfl h9
      · cases h9
    · rcases hpo with ⟨-, -, h9⟩ | ⟨-, x9, ce, h9, e1, e2, e3, e4, e5⟩
      · cases h9
      · cases h9
        rw [gx_nil hL, List.append_nil]
        exact gx_leave hlk hex (fun _ z => by cases z) (⟨2, 0, Or.inr (Or.inl ⟨rfl, hst, h1⟩), Or.inr (Or.inr ⟨rfl, _, ce, rfl, e1, e2, e3, gW_lt hP e5, e4, fun u hu _ => e5 u hu⟩)⟩)
set_option maxHeartbeats 4000000 in
set_option maxRecDepth 100000 in
theorem c_gf_told (l : Launch) (hfl : l.flags = flags0) (E : gE) (h : Nat) (q : Nat → Nat) (a : gA) (nw : Nat → Nat) (n : Nat) (st x w : Int32) (hwf : gWf a n) (hset : ¬ st = 0 → gNw a nw n ∧ gS a nw n) : GMet l y_gf_told prog_1_method_13_code 3 (some .int) [] rmV (gPx E [.ref h, .int x, .int w] (gW h q E.2.1 a (nI n) st)) (fun H o H1 => ∃ (k r : Int32), gToldR a nw n st x w k r ∧ ((k = 0 ∧ H1 = H ∧ o = .returned (some (.int r))) ∨ (k = 1 ∧ gTw E 2 (gIG h q) (gW h q E.2.1 a (nI n) st) H o H1) ∨ (k = 2 ∧ gTw E 4 (gIG h q) (gW h q E.2.1 a (nI n) st) H o H1) ∨ (k = 3 ∧ gTw E 3 (gIG h q) (gW h q E.2.1 a (nI n) st) H o H1))) 2 12 (fun _ => False) := by
  intro p e s m args below meth c hF hP0
  obtain ⟨hx, hb, hml, hr, hlk, hown, hnm, hex⟩ := hF
  obtain ⟨rfl, hT, hX, hP⟩ := hP0
  have C : gC E "GrowForms" prog_1_method_13_code p s m c := ⟨hx, hb, hown, hT⟩
  have hn := hwf.1
  have hl := lv_entry ([.ref h, .int x, .int w]) (n := 3) (Nat.le_of_ble_eq_true rfl)
  rw [lg_entry_eq]
  generalize (lg_sl ([.ref h, .int x, .int w]) ++ List.replicate (3 - (lg_sl ([.ref h, .int x, .int w])).length) Slot.unset).toArray = ls at hl ⊢
  have hl : lv_has ls 3 [(0, .ref h), (1, .int x), (2, .int w)] := hl
  refine lv_iload_n hx hb d_gf_told_0 rfl (lv_at hl 2 rfl) ?_
  refine lv_i2l hx hb d_gf_told_1 rfl ?_
  refine lv_lconst (v := 0) hx hb d_gf_told_2 rfl ?_
  refine lv_ldc2 (v := (2)) hx hb C.2.2.1 (C.wd _ tw_150) d_gf_told_3 ?_
  rcases g_in_w w with ⟨hc, h0⟩ | ⟨hc, h0⟩
  · skip
    refine gx_statP (c_gf_in l w.toInt64 0 2) [.long w.toInt64, .long 0, .long 2] [] hx hb (hml.trans hl.1.symm) C.2.2.1 (gMd_code (a := #[]) (C.wd _ tw_148)) (C.wd _ tw_146) (C.wd _ tw_147) (C.wd _ tw_9) ⟨by decide +kernel, by decide +kernel⟩ (by decide +kernel) (show (parseMethodDescriptor y_gf_in.desc).map (fun d => d.parameters.length) = some 3 by decide +kernel) (fun U _ _ => rfl) (by decide) ⟨by decide, by decide⟩ ⟨by decide, by decide⟩ d_gf_told_6 rfl ?_
    rw [hc]
    refine lv_if_ne (tgt := 20) hx hb d_gf_told_9 rfl (fun _ => ?_) (fun hN => absurd hN (by decide))
    refine lv_aload_n hx hb d_gf_told_20 rfl (lv_at hl 0 rfl) ?_
    refine gx_virt (c_gf_isSettled l hfl E h q a (nI n) st) [] h [] hx hb (hml.trans hl.1.symm) C.2.2.1 (gMd_code (a := #[]) (C.wd _ tw_238)) (C.wd _ tw_235) (C.wd _ tw_237) (C.wd _ tw_4) ⟨by decide +kernel, by decide +kernel⟩ (by decide +kernel) (show (parseMethodDescriptor y_gf_isSettled.desc).map (fun d => d.parameters.length) = some 0 by decide +kernel) (gf_recv hT hP) (fun U hU hW => ⟨rfl, hT.moved hW, hX.moved hW.alike (by rw [hU]; exact gx_keep.rf), by rw [hU]; exact hP⟩) (by decide) ⟨by decide, by decide⟩ ⟨by decide, by decide⟩ d_gf_told_21 rfl (fun v' H1 L hpo hL => ?_) (fun x' H1 L hpo hL => ?_)
    rotate_left
    · rcases hpo with ⟨-, -, h9⟩ | ⟨hst, x9, ce, h9, e1, e2, e3, e4, e5⟩
      · cases h9
      · cases h9
        rw [gx_nil hL, List.append_nil]
        refine gx_widenT (k := 2) (n := 12) (by omega) (by omega) ?_; exact gx_leave hlk hex (fun _ z => by cases z) (⟨1, 0, Or.inr (Or.inl ⟨rfl, h0, hst⟩), Or.inr (Or.inl ⟨rfl, _, ce, rfl, e1, e2, e3, gW_lt hP e5, e4, fun u hu _ => e5 u hu⟩)⟩)
    rcases hpo with ⟨hst, rfl, h9⟩ | ⟨-, x9, ce, h9, -⟩
    rotate_left
    · cases h9
    cases h9
    rw [gx_nil hL, List.append_nil]
    refine W.eq (g2 := F0 m 24 ls []) rfl ?_
    obtain ⟨hnw, hgs⟩ := hset hst
    refine lv_iload_n hx hb d_gf_told_24 rfl (lv_at hl 1 rfl) ?_
    refine lv_i2l hx hb d_gf_told_25 rfl ?_
    refine lv_lconst (v := 0) hx hb d_gf_told_26 rfl ?_
    refine lv_iload_n hx hb d_gf_told_27 rfl (lv_at hl 2 rfl) ?_
    rcases g_012 h0 with rfl | rfl | rfl
    · skip
      refine lv_if_ne (tgt := 39) hx hb d_gf_told_28 rfl (fun hN => absurd rfl hN) (fun _ => ?_)
      refine lv_aload_n hx hb d_gf_told_31 rfl (lv_at hl 0 rfl) ?_
      refine gf_get C hP 9 (by decide) rfl d_gf_told_32 ?_
      refine lv_i2l hx hb d_gf_told_35 rfl ?_
      refine lv_goto (tgt := 46) hx hb d_gf_told_36 rfl ?_
      rcases g_inB x n hn with ⟨hc, h1⟩ | ⟨hc, h1⟩
      · skip
        refine gx_statP (c_gf_in l x.toInt64 0 (nI n).toInt64) [.long x.toInt64, .long 0, .long (nI n).toInt64] [] hx hb (hml.trans hl.1.symm) C.2.2.1 (gMd_code (a := #[]) (C.wd _ tw_148)) (C.wd _ tw_146) (C.wd _ tw_147) (C.wd _ tw_9) ⟨by decide +kernel, by decide +kernel⟩ (by decide +kernel) (show (parseMethodDescriptor y_gf_in.desc).map (fun d => d.parameters.length) = some 3 by decide +kernel) (fun U _ _ => rfl) (by decide) ⟨by decide, by decide⟩ ⟨by decide, by decide⟩ d_gf_told_46 rfl ?_
        rw [hc]
        refine gx_stat (c_gf_there l hfl E 1) [.int 1] [] hx hb (hml.trans hl.1.symm) C.2.2.1 (gMd_code (a := #[]) (C.wd _ tw_176)) (C.wd _ tw_174) (C.wd _ tw_175) (C.wd _ tw_9) ⟨by decide +kernel, by decide +kernel⟩ (by decide +kernel) (show (parseMethodDescriptor y_gf_there.desc).map (fun d => d.parameters.length) = some 1 by decide +kernel) (fun U hU hW => ⟨rfl, hT.moved hW, hX.moved hW.alike (by rw [hU]; exact gx_keep.rf)⟩) (by decide) ⟨by decide, by decide⟩ ⟨by decide, by decide⟩ d_gf_told_49 rfl (fun v' H1 L hpo hL => ?_) (fun x' H1 L hpo hL => ?_)
        rotate_left
        · rcases hpo with ⟨-, -, h9⟩ | ⟨h9, -⟩
          · cases h9
          · exact absurd h9 (by decide)
        obtain ⟨-, rfl, h9⟩ := hpo.resolve_right (fun z => absurd z.1 (by decide))
        cases h9
        rw [gx_nil hL, List.append_nil]
        refine W.eq (g2 := F0 m 52 ls []) rfl ?_
        obtain ⟨i, hi, rfl⟩ := h1
        refine lv_iload_n hx hb d_gf_told_52 rfl (lv_at hl 2 rfl) ?_
        refine lv_if_ne (tgt := 65) hx hb d_gf_told_53 rfl (fun hN => absurd rfl hN) (fun _ => ?_)
        refine lv_aload_n hx hb d_gf_told_56 rfl (lv_at hl 0 rfl) ?_
        refine gf_get C hP 7 (by decide) rfl d_gf_told_57 ?_
        refine lv_iload_n hx hb d_gf_told_60 rfl (lv_at hl 1 rfl) ?_
        refine gf_ald C hP 7 (by decide) i (v := (adr a nw i)) rfl (show i < 121 by omega) (hgs.2 i (by omega)) d_gf_told_61 ?_
        refine lv_goto (tgt := 92) hx hb d_gf_told_62 rfl ?_
        exact gx_iret hx hb hr hlk d_gf_told_92 (fun _ z => by cases z) ⟨0, adr a nw i, Or.inr (Or.inr (Or.inr ⟨rfl, h0, hst, i, rfl, Or.inl ⟨rfl, hi, rfl⟩⟩)), Or.inl ⟨rfl, rfl, rfl⟩⟩
      · skip
        refine gx_statP (c_gf_in l x.toInt64 0 (nI n).toInt64) [.long x.toInt64, .long 0, .long (nI n).toInt64] [] hx hb (hml.trans hl.1.symm) C.2.2.1 (gMd_code (a := #[]) (C.wd _ tw_148)) (C.wd _ tw_146) (C.wd _ tw_147) (C.wd _ tw_9) ⟨by decide +kernel, by decide +kernel⟩ (by decide +kernel) (show (parseMethodDescriptor y_gf_in.desc).map (fun d => d.parameters.length) = some 3 by decide +kernel) (fun U _ _ => rfl) (by decide) ⟨by decide, by decide⟩ ⟨by decide, by decide⟩ d_gf_told_46 rfl ?_
        rw [hc]
        refine gx_stat (c_gf_there l hfl E 0) [.int 0] [] hx hb (hml.trans hl.1.symm) C.2.2.1 (gMd_code (a := #[]) (C.wd _ tw_176)) (C.wd _ tw_174) (C.wd _ tw_175) (C.wd _ tw_9) ⟨by decide +kernel, by decide +kernel⟩ (by decide +kernel) (show (parseMethodDescriptor y_gf_there.desc).map (fun d => d.parameters.length) = some 1 by decide +kernel) (fun U hU hW => ⟨rfl, hT.moved hW, hX.moved hW.alike (by rw [hU]; exact gx_keep.rf)⟩) (by decide) ⟨by decide, by decide⟩ ⟨by decide, by decide⟩ d_gf_told_49 rfl (fun v' H1 L hpo hL => ?_) (fun x' H1 L hpo hL => ?_)
        · rcases hpo with ⟨h9, -⟩ | ⟨-, x9, ce, h9, -⟩
          · exact absurd rfl h9
          · cases h9
        · rcases hpo with ⟨-, -, h9⟩ | ⟨-, x9, ce, h9, e1, e2, e3, e4, e5⟩
          · cases h9
          · cases h9
            rw [gx_nil hL, List.append_nil]
            exact gx_leave hlk hex (fun _ z => by cases z) (⟨2, 0, Or.inr (Or.inr (Or.inl ⟨rfl, h0, hst, Or.inl ⟨rfl, h1⟩⟩)), Or.inr (Or.inr (Or.inl ⟨rfl, _, ce, rfl, e1, e2, e3, gW_lt hP e5, e4, fun u hu _ => e5 u hu⟩))⟩)
    · skip
      refine lv_if_ne (tgt := 39) hx hb d_gf_told_28 rfl (fun _ => ?_) (fun hN => absurd hN (by decide))
      refine lv_aload_n hx hb d_gf_told_39 rfl (lv_at hl 0 rfl) ?_
      refine gf_get C hP 9 (by decide) rfl d_gf_told_40 ?_
      refine lv_iconst (v := 1) hx hb d_gf_told_43 (by decide) ?_
      refine lv_isub hx hb d_gf_told_44 ?_
      refine lv_i2l hx hb d_gf_told_45 rfl ?_
      rcases g_inA x n hn with ⟨hc, h1⟩ | ⟨hc, h1⟩
      · skip
        refine gx_statP (c_gf_in l x.toInt64 0 (nI n - 1).toInt64) [.long x.toInt64, .long 0, .long (nI n - 1).toInt64] [] hx hb (hml.trans hl.1.symm) C.2.2.1 (gMd_code (a := #[]) (C.wd _ tw_148)) (C.wd _ tw_146) (C.wd _ tw_147) (C.wd _ tw_9) ⟨by decide +kernel, by decide +kernel⟩ (by decide +kernel) (show (parseMethodDescriptor y_gf_in.desc).map (fun d => d.parameters.length) = some 3 by decide +kernel) (fun U _ _ => rfl) (by decide) ⟨by decide, by decide⟩ ⟨by decide, by decide⟩ d_gf_told_46 rfl ?_
        rw [hc]
        refine gx_stat (c_gf_there l hfl E 1) [.int 1] [] hx hb (hml.trans hl.1.symm) C.2.2.1 (gMd_code (a := #[]) (C.wd _ tw_176)) (C.wd _ tw_174) (C.wd _ tw_175) (C.wd _ tw_9) ⟨by decide +kernel, by decide +kernel⟩ (by decide +kernel) (show (parseMethodDescriptor y_gf_there.desc).map (fun d => d.parameters.length) = some 1 by decide +kernel) (fun U hU hW => ⟨rfl, hT.moved hW, hX.moved hW.alike (by rw [hU]; exact gx_keep.rf)⟩) (by decide) ⟨by decide, by decide⟩ ⟨by decide, by decide⟩ d_gf_told_49 rfl (fun v' H1 L hpo hL => ?_) (fun x' H1 L hpo hL => ?_)
        rotate_left
        · rcases hpo with ⟨-, -, h9⟩ | ⟨h9, -⟩
          · cases h9
          · exact absurd h9 (by decide)
        obtain ⟨-, rfl, h9⟩ := hpo.resolve_right (fun z => absurd z.1 (by decide))
        cases h9
        rw [gx_nil hL, List.append_nil]
        refine W.eq (g2 := F0 m 52 ls []) rfl ?_
        obtain ⟨i, hi, rfl⟩ := h1
        refine lv_iload_n hx hb d_gf_told_52 rfl (lv_at hl 2 rfl) ?_
        refine lv_if_ne (tgt := 65) hx hb d_gf_told_53 rfl (fun _ => ?_) (fun hN => absurd hN (by decide))
        refine lv_iload_n hx hb d_gf_told_65 rfl (lv_at hl 2 rfl) ?_
        refine lv_iconst (v := 1) hx hb d_gf_told_66 (by decide) ?_
        refine lv_icmp_ne (tgt := 79) hx hb d_gf_told_67 rfl (fun hN => absurd rfl hN) (fun _ => ?_)
        have h6v : a 6 i = if a 0 i = 0 then -1 else nI (nw i) := by
          by_cases g0 : a 0 i = 0
          · rw [if_pos g0]; exact (hgs.1 i hi).1 g0
          · rw [if_neg g0]; exact (hgs.1 i hi).2 g0
        refine lv_aload_n hx hb d_gf_told_70 rfl (lv_at hl 0 rfl) ?_
        refine gf_get C hP 6 (by decide) rfl d_gf_told_71 ?_
        refine lv_iload_n hx hb d_gf_told_74 rfl (lv_at hl 1 rfl) ?_
        refine gf_ald C hP 6 (by decide) i (v := (if a 0 i = 0 then -1 else nI (nw i))) rfl (show i < 120 by omega) h6v d_gf_told_75 ?_
        refine lv_goto (tgt := 92) hx hb d_gf_told_76 rfl ?_
        exact gx_iret hx hb hr hlk d_gf_told_92 (fun _ z => by cases z) ⟨0, _, Or.inr (Or.inr (Or.inr ⟨rfl, h0, hst, i, rfl, Or.inr (Or.inl ⟨rfl, hi, rfl⟩)⟩)), Or.inl ⟨rfl, rfl, rfl⟩⟩
      · skip
        refine gx_statP (c_gf_in l x.toInt64 0 (nI n - 1).toInt64) [.long x.toInt64, .long 0, .long (nI n - 1).toInt64] [] hx hb (hml.trans hl.1.symm) C.2.2.1 (gMd_code (a := #[]) (C.wd _ tw_148)) (C.wd _ tw_146) (C.wd _ tw_147) (C.wd _ tw_9) ⟨by decide +kernel, by decide +kernel⟩ (by decide +kernel) (show (parseMethodDescriptor y_gf_in.desc).map (fun d => d.parameters.length) = some 3 by decide +kernel) (fun U _ _ => rfl) (by decide) ⟨by decide, by decide⟩ ⟨by decide, by decide⟩ d_gf_told_46 rfl ?_
        rw [hc]
        refine gx_stat (c_gf_there l hfl E 0) [.int 0] [] hx hb (hml.trans hl.1.symm) C.2.2.1 (gMd_code (a := #[]) (C.wd _ tw_176)) (C.wd _ tw_174) (C.wd _ tw_175) (C.wd _ tw_9) ⟨by decide +kernel, by decide +kernel⟩ (by decide +kernel) (show (parseMethodDescriptor y_gf_there.desc).map (fun d => d.parameters.length) = some 1 by decide +kernel) (fun U hU hW => ⟨rfl, hT.moved hW, hX.moved hW.alike (by rw [hU]; exact gx_keep.rf)⟩) (by decide) ⟨by decide, by decide⟩ ⟨by decide, by decide⟩ d_gf_told_49 rfl (fun v' H1 L hpo hL => ?_) (fun x' H1 L hpo hL => ?_)
        · rcases hpo with ⟨h9, -⟩ | ⟨-, x9, ce, h9, -⟩
          · exact absurd rfl h9
          · cases h9
        · rcases hpo with ⟨-, -, h9⟩ | ⟨-, x9, ce, h9, e1, e2, e3, e4, e5⟩
          · cases h9
          · cases h9
            rw [gx_nil hL, List.append_nil]
            exact gx_leave hlk hex (fun _ z => by cases z) (⟨2, 0, Or.inr (Or.inr (Or.inl ⟨rfl, h0, hst, Or.inr ⟨by decide, h1⟩⟩)), Or.inr (Or.inr (Or.inl ⟨rfl, _, ce, rfl, e1, e2, e3, gW_lt hP e5, e4, fun u hu _ => e5 u hu⟩))⟩)
    · skip
      refine lv_if_ne (tgt := 39) hx hb d_gf_told_28 rfl (fun _ => ?_) (fun hN => absurd hN (by decide))
      refine lv_aload_n hx hb d_gf_told_39 rfl (lv_at hl 0 rfl) ?_
      refine gf_get C hP 9 (by decide) rfl d_gf_told_40 ?_
      refine lv_iconst (v := 1) hx hb d_gf_told_43 (by decide) ?_
      refine lv_isub hx hb d_gf_told_44 ?_
      refine lv_i2l hx hb d_gf_told_45 rfl ?_
      rcases g_inA x n hn with ⟨hc, h1⟩ | ⟨hc, h1⟩
      · skip
        refine gx_statP (c_gf_in l x.toInt64 0 (nI n - 1).toInt64) [.long x.toInt64, .long 0, .long (nI n - 1).toInt64] [] hx hb (hml.trans hl.1.symm) C.2.2.1 (gMd_code (a := #[]) (C.wd _ tw_148)) (C.wd _ tw_146) (C.wd _ tw_147) (C.wd _ tw_9) ⟨by decide +kernel, by decide +kernel⟩ (by decide +kernel) (show (parseMethodDescriptor y_gf_in.desc).map (fun d => d.parameters.length) = some 3 by decide +kernel) (fun U _ _ => rfl) (by decide) ⟨by decide, by decide⟩ ⟨by decide, by decide⟩ d_gf_told_46 rfl ?_
        rw [hc]
        refine gx_stat (c_gf_there l hfl E 1) [.int 1] [] hx hb (hml.trans hl.1.symm) C.2.2.1 (gMd_code (a := #[]) (C.wd _ tw_176)) (C.wd _ tw_174) (C.wd _ tw_175) (C.wd _ tw_9) ⟨by decide +kernel, by decide +kernel⟩ (by decide +kernel) (show (parseMethodDescriptor y_gf_there.desc).map (fun d => d.parameters.length) = some 1 by decide +kernel) (fun U hU hW => ⟨rfl, hT.moved hW, hX.moved hW.alike (by rw [hU]; exact gx_keep.rf)⟩) (by decide) ⟨by decide, by decide⟩ ⟨by decide, by decide⟩ d_gf_told_49 rfl (fun v' H1 L hpo hL => ?_) (fun x' H1 L hpo hL => ?_)
        rotate_left
        · rcases hpo with ⟨-, -, h9⟩ | ⟨h9, -⟩
          · cases h9
          · exact absurd h9 (by decide)
        obtain ⟨-, rfl, h9⟩ := hpo.resolve_right (fun z => absurd z.1 (by decide))
        cases h9
        rw [gx_nil hL, List.append_nil]
        refine W.eq (g2 := F0 m 52 ls []) rfl ?_
        obtain ⟨i, hi, rfl⟩ := h1
        refine lv_iload_n hx hb d_gf_told_52 rfl (lv_at hl 2 rfl) ?_
        refine lv_if_ne (tgt := 65) hx hb d_gf_told_53 rfl (fun _ => ?_) (fun hN => absurd hN (by decide))
        refine lv_iload_n hx hb d_gf_told_65 rfl (lv_at hl 2 rfl) ?_
        refine lv_iconst (v := 1) hx hb d_gf_told_66 (by decide) ?_
        refine lv_icmp_ne (tgt := 79) hx hb d_gf_told_67 rfl (fun _ => ?_) (fun hN => absurd hN (by decide))
        refine lv_aload_n hx hb d_gf_told_79 rfl (lv_at hl 0 rfl) ?_
        refine lv_iload_n hx hb d_gf_told_80 rfl (lv_at hl 1 rfl) ?_
        refine gx_virtP (c_gf_fits l E h q a nw n i (nI n) st hwf hnw hgs hi) [.int (nI i)] h [] hx hb (hml.trans hl.1.symm) C.2.2.1 (gMd_code (a := #[]) (C.wd _ tw_203)) (C.wd _ tw_200) (C.wd _ tw_202) (C.wd _ tw_1) ⟨by decide +kernel, by decide +kernel⟩ (by decide +kernel) (show (parseMethodDescriptor y_gf_fits.desc).map (fun d => d.parameters.length) = some 1 by decide +kernel) (gf_recv hT hP) (fun U hU hW => ⟨rfl, hT.moved hW, by rw [hU]; exact hP⟩) (by decide) ⟨by decide, by decide⟩ ⟨by decide, by decide⟩ d_gf_told_81 rfl ?_
        refine lv_if_eq (tgt := 91) hx hb d_gf_told_84 rfl (fun h4 => ?_) (fun h4 => ?_)
        · skip
          refine lv_iconst (v := 0) hx hb d_gf_told_91 (by decide) ?_
          exact gx_iret hx hb hr hlk d_gf_told_92 (fun _ z => by cases z) ⟨0, 0, Or.inr (Or.inr (Or.inr ⟨rfl, h0, hst, i, rfl, Or.inr (Or.inr ⟨rfl, hi, h4.symm⟩)⟩)), Or.inl ⟨rfl, rfl, rfl⟩⟩
        · skip
          refine lv_iconst (v := 1) hx hb d_gf_told_87 (by decide) ?_
          refine lv_goto (tgt := 92) hx hb d_gf_told_88 rfl ?_
          exact gx_iret hx hb hr hlk d_gf_told_92 (fun _ z => by cases z) ⟨0, 1, Or.inr (Or.inr (Or.inr ⟨rfl, h0, hst, i, rfl, Or.inr (Or.inr ⟨rfl, hi, by rw [gb_ne.mp h4]; rfl⟩)⟩)), Or.inl ⟨rfl, rfl, rfl⟩⟩
      · skip
        refine gx_statP (c_gf_in l x.toInt64 0 (nI n - 1).toInt64) [.long x.toInt64, .long 0, .long (nI n - 1).toInt64] [] hx hb (hml.trans hl.1.symm) C.2.2.1 (gMd_code (a := #[]) (C.wd _ tw_148)) (C.wd _ tw_146) (C.wd _ tw_147) (C.wd _ tw_9) ⟨by decide +kernel, by decide +kernel⟩ (by decide +kernel) (show (parseMethodDescriptor y_gf_in.desc).map (fun d => d.parameters.length) = some 3 by decide +kernel) (fun U _ _ => rfl) (by decide) ⟨by decide, by decide⟩ ⟨by decide, by decide⟩ d_gf_told_46 rfl ?_
        rw [hc]
        refine gx_stat (c_gf_there l hfl E 0) [.int 0] [] hx hb (hml.trans hl.1.symm) C.2.2.1 (gMd_code (a := #[]) (C.wd _ tw_176)) (C.wd _ tw_174) (C.wd _ tw_175) (C.wd _ tw_9) ⟨by decide +kernel, by decide +kernel⟩ (by decide +kernel) (show (parseMethodDescriptor y_gf_there.desc).map (fun d => d.parameters.length) = some 1 by decide +kernel) (fun U hU hW => ⟨rfl, hT.moved hW, hX.moved hW.alike (by rw [hU]; exact gx_keep.rf)⟩) (by decide) ⟨by decide, by decide⟩ ⟨by decide, by decide⟩ d_gf_told_49 rfl (fun v' H1 L hpo hL => ?_) (fun x' H1 L hpo hL => ?_)
        · rcases hpo with ⟨h9, -⟩ | ⟨-, x9, ce, h9, -⟩
          · exact absurd rfl h9
          · cases h9
        · rcases hpo with ⟨-, -, h9⟩ | ⟨-, x9, ce, h9, e1, e2, e3, e4, e5⟩
          · cases h9
          · cases h9
            rw [gx_nil hL, List.append_nil]
            exact gx_leave hlk hex (fun _ z => by cases z) (⟨2, 0, Or.inr (Or.inr (Or.inl ⟨rfl, h0, hst, Or.inr ⟨by decide, h1⟩⟩)), Or.inr (Or.inr (Or.inl ⟨rfl, _, ce, rfl, e1, e2, e3, gW_lt hP e5, e4, fun u hu _ => e5 u hu⟩))⟩)
  · skip
    refine gx_statP (c_gf_in l w.toInt64 0 2) [.long w.toInt64, .long 0, .long 2] [] hx hb (hml.trans hl.1.symm) C.2.2.1 (gMd_code (a := #[]) (C.wd _ tw_148)) (C.wd _ tw_146) (C.wd _ tw_147) (C.wd _ tw_9) ⟨by decide +kernel, by decide +kernel⟩ (by decide +kernel) (show (parseMethodDescriptor y_gf_in.desc).map (fun d => d.parameters.length) = some 3 by decide +kernel) (fun U _ _ => rfl) (by decide) ⟨by decide, by decide⟩ ⟨by decide, by decide⟩ d_gf_told_6 rfl ?_
    rw [hc]
    refine lv_if_ne (tgt := 20) hx hb d_gf_told_9 rfl (fun hN => absurd rfl hN) (fun _ => ?_)
    refine W.widen (k := 1) (n := 6) (by omega) (by omega) ?_
    exact gx_throw gs_A 63 61 3 hfl hx hb (hml.trans hl.1.symm) hex hlk hown hT hX gx_keep.rf rfl ga_A tw_151 tw_152 tw_15 (by decide +kernel) d_gf_told_12 d_gf_told_15 d_gf_told_16 d_gf_told_19 (by decide) (by decide) (by decide) (by decide) (fun _ z => by cases z) (fun x9 H1 ce e1 e2 e3 e4 e5 => ⟨3, 0, Or.inl ⟨rfl, h0⟩, Or.inr (Or.inr (Or.inr ⟨rfl, _, ce, rfl, e1, e2, e3, gW_lt hP e5, e4, fun u hu _ => e5 u hu⟩))⟩)
set_option maxHeartbeats 4000000 in
set_option maxRecDepth 100000 in
theorem w_gf_wrong {p : Program} {l : Launch} {e : Env} {R : Room} {s : State} {m : MethodId} {args : Array Value} {below : List Frame} {meth : Method} {c : Code} {H : Heap} {locs : List Loc} {cells slots : Nat} {Q : State → Prop} {E : gE} {h : Nat} {q : Nat → Nat} {a : gA} {nw : Nat → Nat} {n : Nat} {st : Int32} (C : gC E "GrowForms" prog_1_method_15_code p s m c) (hml : c.maxLocals = 2) (hP : va_P E.1 gcl (gW h q E.2.1 a (nI n) st) H) (hwf : gWf a n) (hnw : gNw a nw n) (hgs : gS a nw n) (hR : rmF.frames + 1 ≤ R.frames ∧ 8 + (5 + 11) + rmF.locals ≤ R.locals) (hcs : cells + rmF.cells ≤ R.cells ∧ slots + rmF.slots ≤ R.slots)
    (kk : ∀ (pc : Nat) (ls : Array Slot), decode prog_1_method_15_code pc = .ok (.ireturn, 1) → W p l e R s m args below meth c H locs cells slots Q (F0 m pc ls [.int (gwr a nw n 0)])) :
    ∀ (d i : Nat) (ls : Array Slot), i + d = n → gwr a nw d i = gwr a nw n 0 → lv_has ls 2 [(1, .int (nI i)), (0, .ref h)] → W p l e R s m args below meth c H locs cells slots Q (F0 m 6 ls []) := by
  have hx := C.1
  have hb := C.2.1
  have hT := C.2.2.2
  have hn := hwf.1
  intro d
  induction d with
  | zero =>
    intro i ls hd hg hl
    refine lv_iload_n hx hb d_gf_wrong_6 rfl (lv_at hl 0 rfl) ?_
    refine lv_aload_n hx hb d_gf_wrong_7 rfl (lv_at hl 1 rfl) ?_
    refine gf_get C hP 9 (by decide) rfl d_gf_wrong_8 ?_
    refine lv_icmp_ge (tgt := 30) hx hb d_gf_wrong_11 rfl (fun _ => ?_) (fun hN => absurd (nI_le (by omega) (by omega)) hN)
    refine lv_iconst (v := (-1)) hx hb d_gf_wrong_30 (by decide) ?_
    rw [show ((-1 : Int32)) = gwr a nw n 0 from hg]
    exact kk 31 ls d_gf_wrong_31
  | succ d ih =>
    intro i ls hd hg hl
    have hi : i < n := by omega
    refine lv_iload_n hx hb d_gf_wrong_6 rfl (lv_at hl 0 rfl) ?_
    refine lv_aload_n hx hb d_gf_wrong_7 rfl (lv_at hl 1 rfl) ?_
    refine gf_get C hP 9 (by decide) rfl d_gf_wrong_8 ?_
    refine lv_icmp_ge (tgt := 30) hx hb d_gf_wrong_11 rfl (fun hN => absurd hN (nI_ge (by omega) (by omega))) (fun _ => ?_)
    refine lv_aload_n hx hb d_gf_wrong_14 rfl (lv_at hl 1 rfl) ?_
    refine lv_iload_n hx hb d_gf_wrong_15 rfl (lv_at hl 0 rfl) ?_
    refine gx_virtP (c_gf_fits l E h q a nw n i (nI n) st hwf hnw hgs hi) [.int (nI i)] h [] hx hb (hml.trans hl.1.symm) C.2.2.1 (gMd_code (a := #[]) (C.wd _ tw_203)) (C.wd _ tw_200) (C.wd _ tw_202) (C.wd _ tw_1) ⟨by decide +kernel, by decide +kernel⟩ (by decide +kernel) (show (parseMethodDescriptor y_gf_fits.desc).map (fun d => d.parameters.length) = some 1 by decide +kernel) (gf_recv hT hP) (fun U hU hW => ⟨rfl, hT.moved hW, by rw [hU]; exact hP⟩) (by decide) hR hcs d_gf_wrong_16 rfl ?_
    refine lv_if_ne (tgt := 24) hx hb d_gf_wrong_19 rfl (fun h4 => ?_) (fun h4 => ?_)
    · skip
      refine lv_iinc (k := 0) (v := (nI (i + 1))) hx hb d_gf_wrong_24 hl rfl (g_inc i) (by decide) rfl (fun ls hl => ?_)
      have hl : lv_has ls 2 [(1, .int (nI (i + 1))), (0, .ref h)] := hl
      refine lv_goto (tgt := 6) hx hb d_gf_wrong_27 rfl ?_
      exact ih (i + 1) ls (by omega) (by rw [← hg, gwr, if_pos (gb_ne.mp h4)]) hl
    · skip
      refine lv_iload_n hx hb d_gf_wrong_22 rfl (lv_at hl 0 rfl) ?_
      rw [show nI i = gwr a nw n 0 from by rw [← hg, gwr, if_neg (by rw [gb_eq.mp h4]; decide)]]
      exact kk 23 ls d_gf_wrong_23
set_option maxHeartbeats 4000000 in
set_option maxRecDepth 100000 in
theorem c_gf_wrong (l : Launch) (hfl : l.flags = flags0) (E : gE) (h : Nat) (q : Nat → Nat) (a : gA) (nw : Nat → Nat) (n : Nat) (st : Int32) (hwf : gWf a n) (hset : ¬ st = 0 → gNw a nw n ∧ gS a nw n) : GMet l y_gf_wrong prog_1_method_15_code 2 (some .int) [] rmU (gPx E [.ref h] (gW h q E.2.1 a (nI n) st)) (fun H o H1 => (¬ st = 0 ∧ H1 = H ∧ o = .returned (some (.int (gwr a nw n 0)))) ∨ (st = 0 ∧ gTw E 2 (gIG h q) (gW h q E.2.1 a (nI n) st) H o H1)) 1 6 (fun _ => False) := by
  intro p e s m args below meth c hF hP0
  obtain ⟨hx, hb, hml, hr, hlk, hown, hnm, hex⟩ := hF
  obtain ⟨rfl, hT, hX, hP⟩ := hP0
  have C : gC E "GrowForms" prog_1_method_15_code p s m c := ⟨hx, hb, hown, hT⟩
  have hn := hwf.1
  have hl := lv_entry ([.ref h]) (n := 2) (Nat.le_of_ble_eq_true rfl)
  rw [lg_entry_eq]
  generalize (lg_sl ([.ref h]) ++ List.replicate (2 - (lg_sl ([.ref h])).length) Slot.unset).toArray = ls at hl ⊢
  have hl : lv_has ls 2 [(0, .ref h)] := hl
  refine lv_aload_n hx hb d_gf_wrong_0 rfl (lv_at hl 0 rfl) ?_
  refine gx_virt (c_gf_isSettled l hfl E h q a (nI n) st) [] h [] hx hb (hml.trans hl.1.symm) C.2.2.1 (gMd_code (a := #[]) (C.wd _ tw_238)) (C.wd _ tw_235) (C.wd _ tw_237) (C.wd _ tw_4) ⟨by decide +kernel, by decide +kernel⟩ (by decide +kernel) (show (parseMethodDescriptor y_gf_isSettled.desc).map (fun d => d.parameters.length) = some 0 by decide +kernel) (gf_recv hT hP) (fun U hU hW => ⟨rfl, hT.moved hW, hX.moved hW.alike (by rw [hU]; exact gx_keep.rf), by rw [hU]; exact hP⟩) (by decide) ⟨by decide, by decide⟩ ⟨by decide, by decide⟩ d_gf_wrong_1 rfl (fun v' H1 L hpo hL => ?_) (fun x' H1 L hpo hL => ?_)
  rotate_left
  · rcases hpo with ⟨-, -, h9⟩ | ⟨hst, x9, ce, h9, e1, e2, e3, e4, e5⟩
    · cases h9
    · cases h9
      rw [gx_nil hL, List.append_nil]
      exact gx_leave hlk hex (fun _ z => by cases z) (Or.inr ⟨hst, _, ce, rfl, e1, e2, e3, gW_lt hP e5, e4, fun u hu _ => e5 u hu⟩)
  rcases hpo with ⟨hst, rfl, h9⟩ | ⟨-, x9, ce, h9, -⟩
  rotate_left
  · cases h9
  cases h9
  rw [gx_nil hL, List.append_nil]
  refine W.eq (g2 := F0 m 4 ls []) rfl ?_
  obtain ⟨hnw, hgs⟩ := hset hst
  refine lv_iconst (v := 0) hx hb d_gf_wrong_4 (by decide) ?_
  refine lv_istore_n hx hb d_gf_wrong_5 rfl hl (by decide) rfl (fun ls hl => ?_)
  have hl : lv_has ls 2 [(1, .int 0), (0, .ref h)] := hl
  refine w_gf_wrong C hml hP hwf hnw hgs ⟨by decide, by decide⟩ ⟨by decide, by decide⟩ (fun pc ls hd => ?_) n 0 ls (by omega) rfl hl
  exact gx_iret hx hb hr hlk hd (fun _ z => by cases z) (Or.inl ⟨hst, rfl, rfl⟩)
end
section
set_option maxHeartbeats 4000000 in
set_option maxRecDepth 100000 in
theorem c_gm_thrown (l : Launch) (E : gE) (h : Nat) (q : Nat → Nat) (b : gA) (ln th st : Int32) : GMet l y_gm_thrown prog_3_method_2_code 1 (some .int) [] rm0 (gPw E [.ref h] (mW h q E.2.1 E.2.2.1 b ln th st)) (gPv (.int th)) 0 0 (fun _ => False) := by
  intro p e s m args below meth c hF hP0
  obtain ⟨hx, hb, hml, hr, hlk, hown, hnm, hex⟩ := hF
  obtain ⟨rfl, hT, hP⟩ := hP0
  have C : gC E "GrowFormsModel" prog_3_method_2_code p s m c := ⟨hx, hb, hown, hT⟩
  have hl := lv_entry ([.ref h]) (n := 1) (Nat.le_of_ble_eq_true rfl)
  rw [lg_entry_eq]
  generalize (lg_sl ([.ref h]) ++ List.replicate (1 - (lg_sl ([.ref h])).length) Slot.unset).toArray = ls at hl ⊢
  have hl : lv_has ls 1 [(0, .ref h)] := hl
  refine lv_aload_n hx hb d_gm_thrown_0 rfl (lv_at hl 0 rfl) ?_
  refine gm_get C hP 9 (by decide) rfl d_gm_thrown_1 ?_
  exact gx_iret hx hb hr hlk d_gm_thrown_4 (fun _ z => by cases z) ⟨rfl, rfl⟩
set_option maxHeartbeats 4000000 in
set_option maxRecDepth 100000 in
theorem w_gm_address {p : Program} {l : Launch} {e : Env} {R : Room} {s : State} {m : MethodId} {args : Array Value} {below : List Frame} {meth : Method} {c : Code} {H : Heap} {locs : List Loc} {cells slots : Nat} {Q : State → Prop} {E : gE} {h : Nat} {q : Nat → Nat} {b : gA} {nw : Nat → Nat} {n i : Nat} {ln th st : Int32} (C : gC E "GrowFormsModel" prog_3_method_7_code p s m c) (hP : va_P E.1 gcl (mW h q E.2.1 E.2.2.1 b ln th st) H) (hwf : gWf b n) (hnw : gNw b nw n) (hgm : gM b nw n) (hi : i ≤ n)
    (kk : ∀ ls : Array Slot, W p l e R s m args below meth c H locs cells slots Q (F0 m 43 ls [.int (adr b nw i)])) :
    ∀ (d j : Nat) (ls : Array Slot), j + d = i → lv_has ls 4 [(3, .int (nI j)), (2, .int (adr b nw j)), (1, .int (nI i)), (0, .ref h)] → W p l e R s m args below meth c H locs cells slots Q (F0 m 4 ls []) := by
  have hx := C.1
  have hb := C.2.1
  have hn := hwf.1
  intro d
  induction d with
  | zero =>
    intro j ls hd hl
    obtain rfl : j = i := by omega
    refine lv_iload_n hx hb d_gm_address_4 rfl (lv_at hl 0 rfl) ?_
    refine lv_iload_n hx hb d_gm_address_5 rfl (lv_at hl 2 rfl) ?_
    refine lv_icmp_ge (tgt := 42) hx hb d_gm_address_6 rfl (fun _ => ?_) (fun hN => absurd (nI_le (Nat.le_refl _) (by omega)) hN)
    refine lv_iload_n hx hb d_gm_address_42 rfl (lv_at hl 1 rfl) ?_
    exact kk ls
  | succ d ih =>
    intro j ls hd hl
    obtain ⟨f, t, hf4, hf, -, -, -⟩ := hwf.2 j (by omega)
    refine lv_iload_n hx hb d_gm_address_4 rfl (lv_at hl 0 rfl) ?_
    refine lv_iload_n hx hb d_gm_address_5 rfl (lv_at hl 2 rfl) ?_
    refine lv_icmp_ge (tgt := 42) hx hb d_gm_address_6 rfl (fun hN => absurd hN (nI_ge (by omega) (by omega))) (fun _ => ?_)
    refine lv_aload_n hx hb d_gm_address_9 rfl (lv_at hl 3 rfl) ?_
    refine gm_get C hP 0 (by decide) rfl d_gm_address_10 ?_
    refine lv_iload_n hx hb d_gm_address_13 rfl (lv_at hl 0 rfl) ?_
    refine gm_ald C hP 0 (by decide) j (v := (b 0 j)) rfl (show j < 120 by omega) rfl d_gm_address_14 ?_
    refine lv_if_le (tgt := 36) hx hb d_gm_address_15 rfl (fun h1 => ?_) (fun h1 => ?_)
    · skip
      have e1 : adr b nw (j + 1) = adr b nw j := by rw [adr, if_neg (fun z => (Int32.not_le.mpr z) h1)]
      refine lv_iinc (k := 0) (v := (nI (j + 1))) hx hb d_gm_address_36 hl rfl (g_inc j) (by decide) rfl (fun ls hl => ?_)
      have hl : lv_has ls 4 [(3, .int (nI (j + 1))), (2, .int (adr b nw j)), (1, .int (nI i)), (0, .ref h)] := hl
      refine lv_goto (tgt := 4) hx hb d_gm_address_39 rfl ?_
      exact ih (j + 1) ls (by omega) (by rw [e1]; exact hl)
    · skip
      have hfp : 0 < f := Nat.pos_of_ne_zero (fun z => h1 (by rw [hf, z]; decide))
      have hnf := hnw j (by omega) f hf4 hf hfp
      have e1 : adr b nw j + b 1 (4 * j + nw j) = adr b nw (j + 1) := by rw [adr, if_pos (Int32.not_le.mp h1)]
      refine lv_iload_n hx hb d_gm_address_18 rfl (lv_at hl 1 rfl) ?_
      refine lv_aload_n hx hb d_gm_address_19 rfl (lv_at hl 3 rfl) ?_
      refine gm_get C hP 1 (by decide) rfl d_gm_address_20 ?_
      refine lv_iconst (v := 4) hx hb d_gm_address_23 (by decide) ?_
      refine lv_iload_n hx hb d_gm_address_24 rfl (lv_at hl 0 rfl) ?_
      refine lv_imul hx hb d_gm_address_25 ?_
      refine lv_aload_n hx hb d_gm_address_26 rfl (lv_at hl 3 rfl) ?_
      refine gm_get C hP 6 (by decide) rfl d_gm_address_27 ?_
      refine lv_iload_n hx hb d_gm_address_30 rfl (lv_at hl 0 rfl) ?_
      refine gm_ald C hP 6 (by decide) j (v := (nI (nw j))) rfl (show j < 120 by omega) (hgm j (by omega)) d_gm_address_31 ?_
      refine lv_iadd hx hb d_gm_address_32 ?_
      refine gm_ald C hP 1 (by decide) (4 * j + nw j) (v := (b 1 (4 * j + nw j))) (g_ix' j (nw j)) (show 4 * j + nw j < 480 by omega) rfl d_gm_address_33 ?_
      refine lv_iadd hx hb d_gm_address_34 ?_
      rw [show (((adr b nw j) + (b 1 (4 * j + nw j))) : Int32) = (adr b nw (j + 1)) from e1]
      refine lv_istore_n hx hb d_gm_address_35 rfl hl (by decide) rfl (fun ls hl => ?_)
      have hl : lv_has ls 4 [(2, .int (adr b nw (j + 1))), (3, .int (nI j)), (1, .int (nI i)), (0, .ref h)] := hl
      refine lv_iinc (k := 1) (v := (nI (j + 1))) hx hb d_gm_address_36 hl rfl (g_inc j) (by decide) rfl (fun ls hl => ?_)
      have hl : lv_has ls 4 [(3, .int (nI (j + 1))), (2, .int (adr b nw (j + 1))), (1, .int (nI i)), (0, .ref h)] := hl
      refine lv_goto (tgt := 4) hx hb d_gm_address_39 rfl ?_
      exact ih (j + 1) ls (by omega) hl
set_option maxHeartbeats 4000000 in
set_option maxRecDepth 100000 in
theorem c_gm_address (l : Launch) (E : gE) (h : Nat) (q : Nat → Nat) (b : gA) (nw : Nat → Nat) (n i : Nat) (ln th st : Int32) (hwf : gWf b n) (hnw : gNw b nw n) (hgm : gM b nw n) (hi : i ≤ n) : GMet l y_gm_address prog_3_method_7_code 4 (some .int) [] rm0 (gPw E [.ref h, .int (nI i)] (mW h q E.2.1 E.2.2.1 b ln th st)) (gPv (.int (adr b nw i))) 0 0 (fun _ => False) := by
  intro p e s m args below meth c hF hP0
  obtain ⟨hx, hb, hml, hr, hlk, hown, hnm, hex⟩ := hF
  obtain ⟨rfl, hT, hP⟩ := hP0
  have C : gC E "GrowFormsModel" prog_3_method_7_code p s m c := ⟨hx, hb, hown, hT⟩
  have hl := lv_entry ([.ref h, .int (nI i)]) (n := 4) (Nat.le_of_ble_eq_true rfl)
  rw [lg_entry_eq]
  generalize (lg_sl ([.ref h, .int (nI i)]) ++ List.replicate (4 - (lg_sl ([.ref h, .int (nI i)])).length) Slot.unset).toArray = ls at hl ⊢
  have hl : lv_has ls 4 [(0, .ref h), (1, .int (nI i))] := hl
  refine lv_iconst (v := 0) hx hb d_gm_address_0 (by decide) ?_
  refine lv_istore_n hx hb d_gm_address_1 rfl hl (by decide) rfl (fun ls hl => ?_)
  have hl : lv_has ls 4 [(2, .int 0), (0, .ref h), (1, .int (nI i))] := hl
  refine lv_iconst (v := 0) hx hb d_gm_address_2 (by decide) ?_
  refine lv_istore_n hx hb d_gm_address_3 rfl hl (by decide) rfl (fun ls hl => ?_)
  have hl : lv_has ls 4 [(3, .int 0), (2, .int 0), (0, .ref h), (1, .int (nI i))] := hl
  refine w_gm_address C hP hwf hnw hgm hi (fun ls => ?_) i 0 ls (by omega) (lv_sub hl [0, 1, 3, 2] rfl)
  exact gx_iret hx hb hr hlk d_gm_address_43 (fun _ z => by cases z) ⟨rfl, rfl⟩
set_option maxHeartbeats 4000000 in
set_option maxRecDepth 100000 in
theorem c_gm_worth (l : Launch) (E : gE) (h : Nat) (q : Nat → Nat) (b : gA) (nw : Nat → Nat) (n i : Nat) (ln th st : Int32) (hwf : gWf b n) (hnw : gNw b nw n) (hgm : gM b nw n) (hi : i < n) : GMet l y_gm_worth prog_3_method_8_code 4 (some .long) [] rmF (gPw E [.ref h, .int (nI i)] (mW h q E.2.1 E.2.2.1 b ln th st)) (gPv (.long (gv b nw i))) 0 0 (fun _ => False) := by
  intro p e s m args below meth c hF hP0
  obtain ⟨hx, hb, hml, hr, hlk, hown, hnm, hex⟩ := hF
  obtain ⟨rfl, hT, hP⟩ := hP0
  have C : gC E "GrowFormsModel" prog_3_method_8_code p s m c := ⟨hx, hb, hown, hT⟩
  have hn120 := hwf.1
  obtain ⟨f, t, hf4, hf, ht, htt, hbits⟩ := hwf.2 i hi
  have hi120 : i < 120 := by omega
  have hcl : (b 4 i).toNatClampNeg = t := by rw [htt]; exact nI_clamp (by omega)
  have hv0 : gv0 b nw i = (adr b nw t).toInt64 + (b 5 i).toInt64 := by unfold gv0; rw [hcl]
  have hl := lv_entry ([.ref h, .int (nI i)]) (n := 4) (Nat.le_of_ble_eq_true rfl)
  rw [lg_entry_eq]
  generalize (lg_sl ([.ref h, .int (nI i)]) ++ List.replicate (4 - (lg_sl ([.ref h, .int (nI i)])).length) Slot.unset).toArray = ls at hl ⊢
  have hl : lv_has ls 4 [(0, .ref h), (1, .int (nI i))] := hl
  refine lv_aload_n hx hb d_gm_worth_0 rfl (lv_at hl 0 rfl) ?_
  refine lv_aload_n hx hb d_gm_worth_1 rfl (lv_at hl 0 rfl) ?_
  refine gm_get C hP 4 (by decide) rfl d_gm_worth_2 ?_
  refine lv_iload_n hx hb d_gm_worth_5 rfl (lv_at hl 1 rfl) ?_
  refine gm_ald C hP 4 (by decide) i (v := (nI t)) rfl hi120 htt d_gm_worth_6 ?_
  refine gx_virtP (c_gm_address l E h q b nw n t ln th st hwf hnw hgm ht) [.int (nI t)] h [] hx hb (hml.trans hl.1.symm) C.2.2.1 (gMd_code (a := #[]) (C.wd _ tw_321)) (C.wd _ tw_318) (C.wd _ tw_320) (C.wd _ tw_5) ⟨by decide +kernel, by decide +kernel⟩ (by decide +kernel) (show (parseMethodDescriptor y_gm_address.desc).map (fun d => d.parameters.length) = some 1 by decide +kernel) (gm_recv hT hP) (fun U hU hW => ⟨rfl, hT.moved hW, by rw [hU]; exact hP⟩) (Nat.le_of_ble_eq_true rfl) ⟨by decide, by decide⟩ ⟨by decide, by decide⟩ d_gm_worth_7 rfl ?_
  refine lv_i2l hx hb d_gm_worth_10 rfl ?_
  refine lv_aload_n hx hb d_gm_worth_11 rfl (lv_at hl 0 rfl) ?_
  refine gm_get C hP 5 (by decide) rfl d_gm_worth_12 ?_
  refine lv_iload_n hx hb d_gm_worth_15 rfl (lv_at hl 1 rfl) ?_
  refine gm_ald C hP 5 (by decide) i (v := (b 5 i)) rfl hi120 rfl d_gm_worth_16 ?_
  refine lv_i2l hx hb d_gm_worth_17 rfl ?_
  refine lv_ladd hx hb d_gm_worth_18 ?_
  rw [show ((((adr b nw t)).toInt64 + ((b 5 i)).toInt64) : Int64) = (gv0 b nw i) from hv0.symm]
  refine lv_lstore_n hx hb d_gm_worth_19 rfl hl (by decide) rfl (fun ls hl => ?_)
  have hl : lv_has ls 4 [(2, .long (gv0 b nw i)), (0, .ref h), (1, .int (nI i))] := hl
  refine lv_aload_n hx hb d_gm_worth_20 rfl (lv_at hl 1 rfl) ?_
  refine gm_get C hP 0 (by decide) rfl d_gm_worth_21 ?_
  refine lv_iload_n hx hb d_gm_worth_24 rfl (lv_at hl 2 rfl) ?_
  refine gm_ald C hP 0 (by decide) i (v := (b 0 i)) rfl hi120 rfl d_gm_worth_25 ?_
  have hz : b 0 i ≤ 0 ↔ b 0 i = 0 := by
    rw [hf, show (0 : Int32) = nI 0 from rfl, nI_leI (by omega) (by omega), nI_eq (by omega) (by omega)]; omega
  refine lv_if_le (tgt := 59) hx hb d_gm_worth_26 rfl (fun h1 => ?_) (fun h1 => ?_)
  · skip
    refine lv_lload_n hx hb d_gm_worth_59 rfl (lv_at hl 0 rfl) ?_
    exact gx_lret hx hb hr hlk d_gm_worth_60 (fun _ z => by cases z) ⟨rfl, by rw [gv, if_neg (fun z => z.1 (hz.mp h1))]⟩
  · skip
    have h0 : ¬ b 0 i = 0 := fun z => h1 (hz.mpr z)
    have hfp : 0 < f := Nat.pos_of_ne_zero (fun z => h0 (by rw [hf, z]; rfl))
    have hnf := hnw i hi f hf4 hf hfp
    refine lv_aload_n hx hb d_gm_worth_29 rfl (lv_at hl 1 rfl) ?_
    refine gm_get C hP 3 (by decide) rfl d_gm_worth_30 ?_
    refine lv_iconst (v := 4) hx hb d_gm_worth_33 (by decide) ?_
    refine lv_iload_n hx hb d_gm_worth_34 rfl (lv_at hl 2 rfl) ?_
    refine lv_imul hx hb d_gm_worth_35 ?_
    refine lv_aload_n hx hb d_gm_worth_36 rfl (lv_at hl 1 rfl) ?_
    refine gm_get C hP 6 (by decide) rfl d_gm_worth_37 ?_
    refine lv_iload_n hx hb d_gm_worth_40 rfl (lv_at hl 2 rfl) ?_
    refine gm_ald C hP 6 (by decide) i (v := (nI (nw i))) rfl hi120 (hgm i hi) d_gm_worth_41 ?_
    refine lv_iadd hx hb d_gm_worth_42 ?_
    refine gm_ald C hP 3 (by decide) (4 * i + nw i) (v := (b 3 (4 * i + nw i))) (g_ix' i (nw i)) (show 4 * i + nw i < 480 by omega) rfl d_gm_worth_43 ?_
    refine lv_iconst (v := 2) hx hb d_gm_worth_44 (by decide) ?_
    refine lv_icmp_ne (tgt := 59) hx hb d_gm_worth_45 rfl (fun h3 => ?_) (fun h3 => ?_)
    · skip
      refine lv_lload_n hx hb d_gm_worth_59 rfl (lv_at hl 0 rfl) ?_
      exact gx_lret hx hb hr hlk d_gm_worth_60 (fun _ z => by cases z) ⟨rfl, by rw [gv, if_neg (fun z => h3 z.2)]⟩
    · skip
      refine lv_lload_n hx hb d_gm_worth_48 rfl (lv_at hl 0 rfl) ?_
      refine lv_aload_n hx hb d_gm_worth_49 rfl (lv_at hl 1 rfl) ?_
      refine lv_iload_n hx hb d_gm_worth_50 rfl (lv_at hl 2 rfl) ?_
      refine gx_virtP (c_gm_address l E h q b nw n i ln th st hwf hnw hgm (Nat.le_of_lt hi)) [.int (nI i)] h [.long (gv0 b nw i)] hx hb (hml.trans hl.1.symm) C.2.2.1 (gMd_code (a := #[]) (C.wd _ tw_321)) (C.wd _ tw_318) (C.wd _ tw_320) (C.wd _ tw_5) ⟨by decide +kernel, by decide +kernel⟩ (by decide +kernel) (show (parseMethodDescriptor y_gm_address.desc).map (fun d => d.parameters.length) = some 1 by decide +kernel) (gm_recv hT hP) (fun U hU hW => ⟨rfl, hT.moved hW, by rw [hU]; exact hP⟩) (Nat.le_of_ble_eq_true rfl) ⟨by decide, by decide⟩ ⟨by decide, by decide⟩ d_gm_worth_51 rfl ?_
      refine lv_i2l hx hb d_gm_worth_54 rfl ?_
      refine lv_lsub hx hb d_gm_worth_55 ?_
      refine lv_goto (tgt := 60) hx hb d_gm_worth_56 rfl ?_
      exact gx_lret hx hb hr hlk d_gm_worth_60 (fun _ z => by cases z) ⟨rfl, by rw [gv, if_pos ⟨h0, h3⟩]⟩
def rmG : Room := { frames := 2, cells := 0, slots := 0, locals := 46 }
set_option maxHeartbeats 4000000 in
set_option maxRecDepth 100000 in
theorem c_gm_isFitting (l : Launch) (E : gE) (h : Nat) (q : Nat → Nat) (b : gA) (nw : Nat → Nat) (n i : Nat) (ln th st : Int32) (hwf : gWf b n) (hnw : gNw b nw n) (hgm : gM b nw n) (hi : i < n) : GMet l y_gm_isFitting prog_3_method_9_code 7 (some .boolean) [] rmG (gPw E [.ref h, .int (nI i)] (mW h q E.2.1 E.2.2.1 b ln th st)) (gPv (.int (gb (gfitM b nw i)))) 0 0 (fun _ => False) := by
  intro p e s m args below meth c hF hP0
  obtain ⟨hx, hb, hml, hr, hlk, hown, hnm, hex⟩ := hF
  obtain ⟨rfl, hT, hP⟩ := hP0
  have C : gC E "GrowFormsModel" prog_3_method_9_code p s m c := ⟨hx, hb, hown, hT⟩
  have hn120 := hwf.1
  obtain ⟨f, t, hf4, hf, ht, htt, hbits⟩ := hwf.2 i hi
  have hi120 : i < 120 := by omega
  have hl := lv_entry ([.ref h, .int (nI i)]) (n := 7) (Nat.le_of_ble_eq_true rfl)
  rw [lg_entry_eq]
  generalize (lg_sl ([.ref h, .int (nI i)]) ++ List.replicate (7 - (lg_sl ([.ref h, .int (nI i)])).length) Slot.unset).toArray = ls at hl ⊢
  have hl : lv_has ls 7 [(0, .ref h), (1, .int (nI i))] := hl
  refine lv_aload_n hx hb d_gm_isFitting_0 rfl (lv_at hl 0 rfl) ?_
  refine gm_get C hP 0 (by decide) rfl d_gm_isFitting_1 ?_
  refine lv_iload_n hx hb d_gm_isFitting_4 rfl (lv_at hl 1 rfl) ?_
  refine gm_ald C hP 0 (by decide) i (v := (b 0 i)) rfl hi120 rfl d_gm_isFitting_5 ?_
  refine lv_if_ne (tgt := 11) hx hb d_gm_isFitting_6 rfl (fun h0 => ?_) (fun h0 => ?_)
  · skip
    have hfp : 0 < f := Nat.pos_of_ne_zero (fun z => h0 (by rw [hf, z]; rfl))
    have hnf := hnw i hi f hf4 hf hfp
    refine lv_iconst (v := 4) hx hb d_gm_isFitting_11 (by decide) ?_
    refine lv_iload_n hx hb d_gm_isFitting_12 rfl (lv_at hl 1 rfl) ?_
    refine lv_imul hx hb d_gm_isFitting_13 ?_
    refine lv_aload_n hx hb d_gm_isFitting_14 rfl (lv_at hl 0 rfl) ?_
    refine gm_get C hP 6 (by decide) rfl d_gm_isFitting_15 ?_
    refine lv_iload_n hx hb d_gm_isFitting_18 rfl (lv_at hl 1 rfl) ?_
    refine gm_ald C hP 6 (by decide) i (v := (nI (nw i))) rfl hi120 (hgm i hi) d_gm_isFitting_19 ?_
    refine lv_iadd hx hb d_gm_isFitting_20 ?_
    rw [show (((4 * (nI i)) + (nI (nw i))) : Int32) = (nI (4 * i + nw i)) from g_ix' i (nw i)]
    refine lv_istore_n hx hb d_gm_isFitting_21 rfl hl (by decide) rfl (fun ls hl => ?_)
    have hl : lv_has ls 7 [(2, .int (nI (4 * i + nw i))), (0, .ref h), (1, .int (nI i))] := hl
    refine lv_aload_n hx hb d_gm_isFitting_22 rfl (lv_at hl 1 rfl) ?_
    refine lv_iload_n hx hb d_gm_isFitting_23 rfl (lv_at hl 2 rfl) ?_
    refine gx_virtP (c_gm_worth l E h q b nw n i ln th st hwf hnw hgm hi) [.int (nI i)] h [] hx hb (hml.trans hl.1.symm) C.2.2.1 (gMd_code (a := #[]) (C.wd _ tw_329)) (C.wd _ tw_326) (C.wd _ tw_328) (C.wd _ tw_7) ⟨by decide +kernel, by decide +kernel⟩ (by decide +kernel) (show (parseMethodDescriptor y_gm_worth.desc).map (fun d => d.parameters.length) = some 1 by decide +kernel) (gm_recv hT hP) (fun U hU hW => ⟨rfl, hT.moved hW, by rw [hU]; exact hP⟩) (Nat.le_of_ble_eq_true rfl) ⟨by decide, by decide⟩ ⟨by decide, by decide⟩ d_gm_isFitting_24 rfl ?_
    refine lv_lstore_n hx hb d_gm_isFitting_27 rfl hl (by decide) rfl (fun ls hl => ?_)
    have hl : lv_has ls 7 [(3, .long (gv b nw i)), (2, .int (nI (4 * i + nw i))), (0, .ref h), (1, .int (nI i))] := hl
    refine lv_lconst (v := 1) hx hb d_gm_isFitting_28 rfl ?_
    refine lv_aload_n hx hb d_gm_isFitting_29 rfl (lv_at hl 2 rfl) ?_
    refine gm_get C hP 2 (by decide) rfl d_gm_isFitting_30 ?_
    refine lv_iload_n hx hb d_gm_isFitting_33 rfl (lv_at hl 1 rfl) ?_
    refine gm_ald C hP 2 (by decide) (4 * i + nw i) (v := (b 2 (4 * i + nw i))) rfl (show 4 * i + nw i < 480 by omega) rfl d_gm_isFitting_34 ?_
    refine lv_iconst (v := 1) hx hb d_gm_isFitting_35 (by decide) ?_
    refine lv_isub hx hb d_gm_isFitting_36 ?_
    refine lv_lshl hx hb d_gm_isFitting_37 rfl ?_
    refine lv_lstore hx hb d_gm_isFitting_38 hl (by decide) rfl (fun ls hl => ?_)
    have hl : lv_has ls 7 [(5, .long ((1 : Int64) <<< ((b 2 (4 * i + nw i) - 1).toInt64 &&& 63))), (3, .long (gv b nw i)), (2, .int (nI (4 * i + nw i))), (0, .ref h), (1, .int (nI i))] := hl
    refine lv_aload_n hx hb d_gm_isFitting_40 rfl (lv_at hl 3 rfl) ?_
    refine gm_get C hP 3 (by decide) rfl d_gm_isFitting_41 ?_
    refine lv_iload_n hx hb d_gm_isFitting_44 rfl (lv_at hl 2 rfl) ?_
    refine gm_ald C hP 3 (by decide) (4 * i + nw i) (v := (b 3 (4 * i + nw i))) rfl (show 4 * i + nw i < 480 by omega) rfl d_gm_isFitting_45 ?_
    refine lv_if_ne (tgt := 74) hx hb d_gm_isFitting_46 rfl (fun h3 => ?_) (fun h3 => ?_)
    · skip
      refine lv_lload_n hx hb d_gm_isFitting_74 rfl (lv_at hl 1 rfl) ?_
      refine lv_lload hx hb d_gm_isFitting_75 (lv_at hl 0 rfl) ?_
      refine lv_lneg hx hb d_gm_isFitting_77 ?_
      refine W.lcmp hx hb d_gm_isFitting_78 ?_
      refine lv_if_lt (tgt := 93) hx hb d_gm_isFitting_79 rfl (fun h4 => ?_) (fun h4 => ?_)
      · skip
        refine lv_iconst (v := 0) hx hb d_gm_isFitting_93 (by decide) ?_
        exact gx_zret hx hb hr (by decide) hlk d_gm_isFitting_94 (fun _ z => by cases z) ⟨rfl, by rw [gfitM, if_neg h0, if_neg h3, decide_eq_false (lg_lt_not_le ((lg_cmp_lt _ _).mp h4))]; rfl⟩
      · skip
        refine lv_lload_n hx hb d_gm_isFitting_82 rfl (lv_at hl 1 rfl) ?_
        refine lv_lload hx hb d_gm_isFitting_83 (lv_at hl 0 rfl) ?_
        refine W.lcmp hx hb d_gm_isFitting_85 ?_
        refine lv_if_ge (tgt := 93) hx hb d_gm_isFitting_86 rfl (fun h5 => ?_) (fun h5 => ?_)
        · skip
          refine lv_iconst (v := 0) hx hb d_gm_isFitting_93 (by decide) ?_
          exact gx_zret hx hb hr (by decide) hlk d_gm_isFitting_94 (fun _ z => by cases z) ⟨rfl, by rw [gfitM, if_neg h0, if_neg h3, decide_eq_false (lg_le_not_lt ((lg_cmp_ge _ _).mp h5)), Bool.and_false]; rfl⟩
        · skip
          refine lv_iconst (v := 1) hx hb d_gm_isFitting_89 (by decide) ?_
          refine lv_goto (tgt := 94) hx hb d_gm_isFitting_90 rfl ?_
          exact gx_zret hx hb hr (by decide) hlk d_gm_isFitting_94 (fun _ z => by cases z) ⟨rfl, by rw [gfitM, if_neg h0, if_neg h3, decide_eq_true (Int64.not_lt.mp (fun z => h4 ((lg_cmp_lt _ _).mpr z))), decide_eq_true (Int64.not_le.mp (fun z => h5 ((lg_cmp_ge _ _).mpr z)))]; rfl⟩
    · skip
      refine lv_lload_n hx hb d_gm_isFitting_49 rfl (lv_at hl 1 rfl) ?_
      refine lv_lconst (v := 0) hx hb d_gm_isFitting_50 rfl ?_
      refine W.lcmp hx hb d_gm_isFitting_51 ?_
      refine lv_if_lt (tgt := 70) hx hb d_gm_isFitting_52 rfl (fun h4 => ?_) (fun h4 => ?_)
      · skip
        refine lv_iconst (v := 0) hx hb d_gm_isFitting_70 (by decide) ?_
        refine lv_goto (tgt := 94) hx hb d_gm_isFitting_71 rfl ?_
        exact gx_zret hx hb hr (by decide) hlk d_gm_isFitting_94 (fun _ z => by cases z) ⟨rfl, by rw [gfitM, if_neg h0, if_pos h3, decide_eq_false (lg_lt_not_le ((lg_cmp_lt _ _).mp h4))]; rfl⟩
      · skip
        refine lv_lload_n hx hb d_gm_isFitting_55 rfl (lv_at hl 1 rfl) ?_
        refine lv_ldc2 (v := (2)) hx hb C.2.2.1 (C.wd _ tw_330) d_gm_isFitting_56 ?_
        refine lv_lload hx hb d_gm_isFitting_59 (lv_at hl 0 rfl) ?_
        refine lv_lmul hx hb d_gm_isFitting_61 ?_
        refine W.lcmp hx hb d_gm_isFitting_62 ?_
        refine lv_if_ge (tgt := 70) hx hb d_gm_isFitting_63 rfl (fun h5 => ?_) (fun h5 => ?_)
        · skip
          refine lv_iconst (v := 0) hx hb d_gm_isFitting_70 (by decide) ?_
          refine lv_goto (tgt := 94) hx hb d_gm_isFitting_71 rfl ?_
          exact gx_zret hx hb hr (by decide) hlk d_gm_isFitting_94 (fun _ z => by cases z) ⟨rfl, by rw [gfitM, if_neg h0, if_pos h3, decide_eq_false (lg_le_not_lt ((lg_cmp_ge _ _).mp h5)), Bool.and_false]; rfl⟩
        · skip
          refine lv_iconst (v := 1) hx hb d_gm_isFitting_66 (by decide) ?_
          refine lv_goto (tgt := 94) hx hb d_gm_isFitting_67 rfl ?_
          exact gx_zret hx hb hr (by decide) hlk d_gm_isFitting_94 (fun _ z => by cases z) ⟨rfl, by rw [gfitM, if_neg h0, if_pos h3, decide_eq_true (Int64.not_lt.mp (fun z => h4 ((lg_cmp_lt _ _).mpr z))), decide_eq_true (Int64.not_le.mp (fun z => h5 ((lg_cmp_ge _ _).mpr z)))]; rfl⟩
  · skip
    refine lv_iconst (v := 1) hx hb d_gm_isFitting_9 (by decide) ?_
    exact gx_zret hx hb hr (by decide) hlk d_gm_isFitting_10 (fun _ z => by cases z) ⟨rfl, by rw [gfitM, if_pos h0]; rfl⟩
set_option maxHeartbeats 4000000 in
set_option maxRecDepth 100000 in
theorem c_gm_clear (l : Launch) (E : gE) (h : Nat) (q : Nat → Nat) (b : gA) (ln th st : Int32) (hDm : gDM h q) : GMet l y_gm_clear prog_3_method_6_code 2 (some .int) [] rm0 (gPw E [.ref h] (mW h q E.2.1 E.2.2.1 b ln th st)) (fun H o H1 => o = .returned (some (.int ln)) ∧ va_P E.1 gcl (mW h q E.2.1 E.2.2.1 b 0 0 0) H1 ∧ gFr (gIM h q) H H1) 0 0 (gIM h q) := by
  intro p e s m args below meth c hF hP0
  obtain ⟨hx, hb, hml, hr, hlk, hown, hnm, hex⟩ := hF
  obtain ⟨rfl, hT, hP⟩ := hP0
  have C : gC E "GrowFormsModel" prog_3_method_6_code p s m c := ⟨hx, hb, hown, hT⟩
  have hD := hDm.to E.2.1 E.2.2.1 b ln th st
  have hS : va_S (gIM h q) s.heap s.heap [] := va_S.rf
  have hl := lv_entry ([.ref h]) (n := 2) (Nat.le_of_ble_eq_true rfl)
  rw [lg_entry_eq]
  generalize (lg_sl ([.ref h]) ++ List.replicate (2 - (lg_sl ([.ref h])).length) Slot.unset).toArray = ls at hl ⊢
  have hl : lv_has ls 2 [(0, .ref h)] := hl
  refine lv_aload_n hx hb d_gm_clear_0 rfl (lv_at hl 0 rfl) ?_
  refine lv_iconst (v := 0) hx hb d_gm_clear_1 (by decide) ?_
  refine gm_putth C hP hD hS d_gm_clear_2 (fun H locs hP hS => ?_)
  refine lv_aload_n hx hb d_gm_clear_5 rfl (lv_at hl 0 rfl) ?_
  refine gm_get C hP 8 (by decide) rfl d_gm_clear_6 ?_
  refine lv_istore_n hx hb d_gm_clear_9 rfl hl (by decide) rfl (fun ls hl => ?_)
  have hl : lv_has ls 2 [(1, .int ln), (0, .ref h)] := hl
  refine lv_aload_n hx hb d_gm_clear_10 rfl (lv_at hl 1 rfl) ?_
  refine lv_iconst (v := 0) hx hb d_gm_clear_11 (by decide) ?_
  refine gm_putln C hP hD hS d_gm_clear_12 (fun H locs hP hS => ?_)
  refine lv_aload_n hx hb d_gm_clear_15 rfl (lv_at hl 1 rfl) ?_
  refine lv_iconst (v := 0) hx hb d_gm_clear_16 (by decide) ?_
  refine gm_putst C hP hD hS (by decide) (by decide) d_gm_clear_17 (fun H locs hP hS => ?_)
  refine lv_iload_n hx hb d_gm_clear_20 rfl (lv_at hl 0 rfl) ?_
  exact gx_iret hx hb hr hlk d_gm_clear_21 hS.2.2 ⟨rfl, hP, gFr.of hS⟩
set_option maxHeartbeats 4000000 in
set_option maxRecDepth 100000 in
theorem c_gm_line (l : Launch) (E : gE) (h : Nat) (q : Nat → Nat) (b : gA) (n : Nat) (th st : Int32) (hDm : gDM h q) (hn : n ≤ 120) : GMet l y_gm_line prog_3_method_3_code 1 (some .int) [] rm0 (gPw E [.ref h] (mW h q E.2.1 E.2.2.1 b (nI n) th st)) (fun H o H1 => (n < 120 ∧ o = .returned (some (.int (nI n))) ∧ va_P E.1 gcl (mW h q E.2.1 E.2.2.1 (g_line b n) (nI (n + 1)) 0 0) H1 ∧ gFr (gIM h q) H H1) ∨ (n = 120 ∧ o = .returned (some (.int 0)) ∧ va_P E.1 gcl (mW h q E.2.1 E.2.2.1 b (nI n) 1 st) H1 ∧ gFr (gIM h q) H H1)) 0 0 (gIM h q) := by
  intro p e s m args below meth c hF hP0
  obtain ⟨hx, hb, hml, hr, hlk, hown, hnm, hex⟩ := hF
  obtain ⟨rfl, hT, hP⟩ := hP0
  have C : gC E "GrowFormsModel" prog_3_method_3_code p s m c := ⟨hx, hb, hown, hT⟩
  have hD := hDm.to E.2.1 E.2.2.1 b (nI n) th st
  have hS : va_S (gIM h q) s.heap s.heap [] := va_S.rf
  have hl := lv_entry ([.ref h]) (n := 1) (Nat.le_of_ble_eq_true rfl)
  rw [lg_entry_eq]
  generalize (lg_sl ([.ref h]) ++ List.replicate (1 - (lg_sl ([.ref h])).length) Slot.unset).toArray = ls at hl ⊢
  have hl : lv_has ls 1 [(0, .ref h)] := hl
  refine lv_aload_n hx hb d_gm_line_0 rfl (lv_at hl 0 rfl) ?_
  refine lv_aload_n hx hb d_gm_line_1 rfl (lv_at hl 0 rfl) ?_
  refine gm_get C hP 8 (by decide) rfl d_gm_line_2 ?_
  refine lv_bipush (v := 120) hx hb d_gm_line_5 (by decide) ?_
  refine lv_icmp_ne (tgt := 14) hx hb d_gm_line_7 rfl (fun h1 => ?_) (fun h1 => ?_)
  · skip
    have hn1 : n < 120 := by have := mt (nI_n120 hn).mpr h1; omega
    refine lv_iconst (v := 0) hx hb d_gm_line_14 (by decide) ?_
    refine gm_putth C hP hD hS d_gm_line_15 (fun H locs hP hS => ?_)
    refine lv_aload_n hx hb d_gm_line_18 rfl (lv_at hl 0 rfl) ?_
    refine gm_get C hP 9 (by decide) rfl d_gm_line_19 ?_
    refine lv_if_le (tgt := 27) hx hb d_gm_line_22 rfl (fun _ => ?_) (fun hN => absurd (by decide) hN)
    refine lv_aload_n hx hb d_gm_line_27 rfl (lv_at hl 0 rfl) ?_
    refine gm_get C hP 0 (by decide) rfl d_gm_line_28 ?_
    refine lv_aload_n hx hb d_gm_line_31 rfl (lv_at hl 0 rfl) ?_
    refine gm_get C hP 8 (by decide) rfl d_gm_line_32 ?_
    refine lv_iconst (v := 0) hx hb d_gm_line_35 (by decide) ?_
    refine gm_ast C hP hD hS 0 (by decide) n rfl (show n < 120 from hn1) d_gm_line_36 (fun H locs hP hS => ?_)
    refine lv_aload_n hx hb d_gm_line_37 rfl (lv_at hl 0 rfl) ?_
    refine gm_get C hP 4 (by decide) rfl d_gm_line_38 ?_
    refine lv_aload_n hx hb d_gm_line_41 rfl (lv_at hl 0 rfl) ?_
    refine gm_get C hP 8 (by decide) rfl d_gm_line_42 ?_
    refine lv_iconst (v := 0) hx hb d_gm_line_45 (by decide) ?_
    refine gm_ast C hP hD hS 4 (by decide) n rfl (show n < 120 from hn1) d_gm_line_46 (fun H locs hP hS => ?_)
    refine lv_aload_n hx hb d_gm_line_47 rfl (lv_at hl 0 rfl) ?_
    refine gm_get C hP 5 (by decide) rfl d_gm_line_48 ?_
    refine lv_aload_n hx hb d_gm_line_51 rfl (lv_at hl 0 rfl) ?_
    refine gm_get C hP 8 (by decide) rfl d_gm_line_52 ?_
    refine lv_iconst (v := 0) hx hb d_gm_line_55 (by decide) ?_
    refine gm_ast C hP hD hS 5 (by decide) n rfl (show n < 120 from hn1) d_gm_line_56 (fun H locs hP hS => ?_)
    refine lv_aload_n hx hb d_gm_line_57 rfl (lv_at hl 0 rfl) ?_
    refine lv_dup hx hb d_gm_line_58 rfl ?_
    refine gm_get C hP 8 (by decide) rfl d_gm_line_59 ?_
    refine lv_iconst (v := 1) hx hb d_gm_line_62 (by decide) ?_
    refine lv_iadd hx hb d_gm_line_63 ?_
    rw [show (((nI n) + 1) : Int32) = (nI (n + 1)) from nI_1 n]
    refine gm_putln C hP hD hS d_gm_line_64 (fun H locs hP hS => ?_)
    refine lv_aload_n hx hb d_gm_line_67 rfl (lv_at hl 0 rfl) ?_
    refine lv_iconst (v := 0) hx hb d_gm_line_68 (by decide) ?_
    refine gm_putst C hP hD hS (by decide) (by decide) d_gm_line_69 (fun H locs hP hS => ?_)
    refine lv_aload_n hx hb d_gm_line_72 rfl (lv_at hl 0 rfl) ?_
    refine gm_get C hP 8 (by decide) rfl d_gm_line_73 ?_
    refine lv_iconst (v := 1) hx hb d_gm_line_76 (by decide) ?_
    refine lv_isub hx hb d_gm_line_77 ?_
    rw [show (((nI (n + 1)) - 1) : Int32) = (nI n) from nI_pred n]
    exact gx_iret hx hb hr hlk d_gm_line_78 hS.2.2 (Or.inl ⟨hn1, rfl, hP, gFr.of hS⟩)
  · skip
    refine lv_iconst (v := 1) hx hb d_gm_line_10 (by decide) ?_
    refine lv_goto (tgt := 15) hx hb d_gm_line_11 rfl ?_
    refine gm_putth C hP hD hS d_gm_line_15 (fun H locs hP hS => ?_)
    refine lv_aload_n hx hb d_gm_line_18 rfl (lv_at hl 0 rfl) ?_
    refine gm_get C hP 9 (by decide) rfl d_gm_line_19 ?_
    refine lv_if_le (tgt := 27) hx hb d_gm_line_22 rfl (fun hN => absurd hN (by decide)) (fun _ => ?_)
    refine lv_iconst (v := 0) hx hb d_gm_line_25 (by decide) ?_
    exact gx_iret hx hb hr hlk d_gm_line_26 hS.2.2 (Or.inr ⟨(nI_n120 hn).mp h1, rfl, hP, gFr.of hS⟩)
set_option maxHeartbeats 4000000 in
set_option maxRecDepth 100000 in
theorem c_gm_form (l : Launch) (E : gE) (h : Nat) (q : Nat → Nat) (b : gA) (n : Nat) (th st x y z : Int32) (hDm : gDM h q) (hwf : gWf b n) : GMet l y_gm_form prog_3_method_4_code 7 (some .int) [] rm0 (gPw E [.ref h, .int x, .int y, .int z] (mW h q E.2.1 E.2.2.1 b (nI n) th st)) (fun H o H1 => (¬ gok x y z ∧ o = .returned (some (.int 0)) ∧ va_P E.1 gcl (mW h q E.2.1 E.2.2.1 b (nI n) 1 st) H1 ∧ gFr (gIM h q) H H1) ∨ (gok x y z ∧ (n = 0 ∨ ∃ k, n = k + 1 ∧ b 0 k = 4) ∧ o = .returned (some (.int 0)) ∧ va_P E.1 gcl (mW h q E.2.1 E.2.2.1 b (nI n) 2 st) H1 ∧ gFr (gIM h q) H H1) ∨ (gok x y z ∧ ∃ k f, n = k + 1 ∧ f < 4 ∧ b 0 k = nI f ∧ o = .returned (some (.int (nI (f + 1)))) ∧ va_P E.1 gcl (mW h q E.2.1 E.2.2.1 (g_form b k f x y z) (nI n) 0 0) H1 ∧ gFr (gIM h q) H H1)) 0 0 (gIM h q) := by
  intro p e s m args below meth c hF hP0
  obtain ⟨hx, hb, hml, hr, hlk, hown, hnm, hex⟩ := hF
  obtain ⟨rfl, hT, hP⟩ := hP0
  have C : gC E "GrowFormsModel" prog_3_method_4_code p s m c := ⟨hx, hb, hown, hT⟩
  have hD := hDm.to E.2.1 E.2.2.1 b (nI n) th st
  have hS : va_S (gIM h q) s.heap s.heap [] := va_S.rf
  have hl := lv_entry ([.ref h, .int x, .int y, .int z]) (n := 7) (Nat.le_of_ble_eq_true rfl)
  rw [lg_entry_eq]
  generalize (lg_sl ([.ref h, .int x, .int y, .int z]) ++ List.replicate (7 - (lg_sl ([.ref h, .int x, .int y, .int z])).length) Slot.unset).toArray = ls at hl ⊢
  have hl : lv_has ls 7 [(0, .ref h), (1, .int x), (2, .int y), (3, .int z)] := hl
  refine lv_iload_n hx hb d_gm_form_0 rfl (lv_at hl 1 rfl) ?_
  refine lv_iconst (v := 1) hx hb d_gm_form_1 (by decide) ?_
  refine lv_icmp_lt (tgt := 35) hx hb d_gm_form_2 rfl (fun h1 => ?_) (fun h1 => ?_)
  · skip
    refine lv_iconst (v := 0) hx hb d_gm_form_35 (by decide) ?_
    refine lv_istore hx hb d_gm_form_36 hl (by decide) rfl (fun ls hl => ?_)
    have hl : lv_has ls 7 [(4, .int 0), (0, .ref h), (1, .int x), (2, .int y), (3, .int z)] := hl
    refine lv_aload_n hx hb d_gm_form_38 rfl (lv_at hl 1 rfl) ?_
    refine lv_iload hx hb d_gm_form_39 (lv_at hl 0 rfl) ?_
    refine lv_if_ne (tgt := 48) hx hb d_gm_form_41 rfl (fun hN => absurd rfl hN) (fun _ => ?_)
    refine lv_iconst (v := 1) hx hb d_gm_form_44 (by decide) ?_
    refine lv_goto (tgt := 75) hx hb d_gm_form_45 rfl ?_
    refine gm_putth C hP hD hS d_gm_form_75 (fun H locs hP hS => ?_)
    refine lv_aload_n hx hb d_gm_form_78 rfl (lv_at hl 1 rfl) ?_
    refine gm_get C hP 9 (by decide) rfl d_gm_form_79 ?_
    refine lv_if_le (tgt := 87) hx hb d_gm_form_82 rfl (fun hN => absurd hN (by decide)) (fun _ => ?_)
    refine lv_iconst (v := 0) hx hb d_gm_form_85 (by decide) ?_
    exact gx_iret hx hb hr hlk d_gm_form_86 hS.2.2 (Or.inl ⟨fun g => absurd g.1.1 (Int32.not_le.mpr h1), rfl, hP, gFr.of hS⟩)
  · skip
    refine lv_iload_n hx hb d_gm_form_5 rfl (lv_at hl 1 rfl) ?_
    refine lv_bipush (v := 64) hx hb d_gm_form_6 (by decide) ?_
    refine lv_icmp_gt (tgt := 35) hx hb d_gm_form_8 rfl (fun h2 => ?_) (fun h2 => ?_)
    · skip
      refine lv_iconst (v := 0) hx hb d_gm_form_35 (by decide) ?_
      refine lv_istore hx hb d_gm_form_36 hl (by decide) rfl (fun ls hl => ?_)
      have hl : lv_has ls 7 [(4, .int 0), (0, .ref h), (1, .int x), (2, .int y), (3, .int z)] := hl
      refine lv_aload_n hx hb d_gm_form_38 rfl (lv_at hl 1 rfl) ?_
      refine lv_iload hx hb d_gm_form_39 (lv_at hl 0 rfl) ?_
      refine lv_if_ne (tgt := 48) hx hb d_gm_form_41 rfl (fun hN => absurd rfl hN) (fun _ => ?_)
      refine lv_iconst (v := 1) hx hb d_gm_form_44 (by decide) ?_
      refine lv_goto (tgt := 75) hx hb d_gm_form_45 rfl ?_
      refine gm_putth C hP hD hS d_gm_form_75 (fun H locs hP hS => ?_)
      refine lv_aload_n hx hb d_gm_form_78 rfl (lv_at hl 1 rfl) ?_
      refine gm_get C hP 9 (by decide) rfl d_gm_form_79 ?_
      refine lv_if_le (tgt := 87) hx hb d_gm_form_82 rfl (fun hN => absurd hN (by decide)) (fun _ => ?_)
      refine lv_iconst (v := 0) hx hb d_gm_form_85 (by decide) ?_
      exact gx_iret hx hb hr hlk d_gm_form_86 hS.2.2 (Or.inl ⟨fun g => absurd g.1.2 (Int32.not_le.mpr h2), rfl, hP, gFr.of hS⟩)
    · skip
      refine lv_iload_n hx hb d_gm_form_11 rfl (lv_at hl 2 rfl) ?_
      refine lv_iconst (v := 1) hx hb d_gm_form_12 (by decide) ?_
      refine lv_icmp_lt (tgt := 35) hx hb d_gm_form_13 rfl (fun h3 => ?_) (fun h3 => ?_)
      · skip
        refine lv_iconst (v := 0) hx hb d_gm_form_35 (by decide) ?_
        refine lv_istore hx hb d_gm_form_36 hl (by decide) rfl (fun ls hl => ?_)
        have hl : lv_has ls 7 [(4, .int 0), (0, .ref h), (1, .int x), (2, .int y), (3, .int z)] := hl
        refine lv_aload_n hx hb d_gm_form_38 rfl (lv_at hl 1 rfl) ?_
        refine lv_iload hx hb d_gm_form_39 (lv_at hl 0 rfl) ?_
        refine lv_if_ne (tgt := 48) hx hb d_gm_form_41 rfl (fun hN => absurd rfl hN) (fun _ => ?_)
        refine lv_iconst (v := 1) hx hb d_gm_form_44 (by decide) ?_
        refine lv_goto (tgt := 75) hx hb d_gm_form_45 rfl ?_
        refine gm_putth C hP hD hS d_gm_form_75 (fun H locs hP hS => ?_)
        refine lv_aload_n hx hb d_gm_form_78 rfl (lv_at hl 1 rfl) ?_
        refine gm_get C hP 9 (by decide) rfl d_gm_form_79 ?_
        refine lv_if_le (tgt := 87) hx hb d_gm_form_82 rfl (fun hN => absurd hN (by decide)) (fun _ => ?_)
        refine lv_iconst (v := 0) hx hb d_gm_form_85 (by decide) ?_
        exact gx_iret hx hb hr hlk d_gm_form_86 hS.2.2 (Or.inl ⟨fun g => absurd g.2.1.1 (Int32.not_le.mpr h3), rfl, hP, gFr.of hS⟩)
      · skip
        refine lv_iload_n hx hb d_gm_form_16 rfl (lv_at hl 2 rfl) ?_
        refine lv_bipush (v := 32) hx hb d_gm_form_17 (by decide) ?_
        refine lv_icmp_gt (tgt := 35) hx hb d_gm_form_19 rfl (fun h4 => ?_) (fun h4 => ?_)
        · skip
          refine lv_iconst (v := 0) hx hb d_gm_form_35 (by decide) ?_
          refine lv_istore hx hb d_gm_form_36 hl (by decide) rfl (fun ls hl => ?_)
          have hl : lv_has ls 7 [(4, .int 0), (0, .ref h), (1, .int x), (2, .int y), (3, .int z)] := hl
          refine lv_aload_n hx hb d_gm_form_38 rfl (lv_at hl 1 rfl) ?_
          refine lv_iload hx hb d_gm_form_39 (lv_at hl 0 rfl) ?_
          refine lv_if_ne (tgt := 48) hx hb d_gm_form_41 rfl (fun hN => absurd rfl hN) (fun _ => ?_)
          refine lv_iconst (v := 1) hx hb d_gm_form_44 (by decide) ?_
          refine lv_goto (tgt := 75) hx hb d_gm_form_45 rfl ?_
          refine gm_putth C hP hD hS d_gm_form_75 (fun H locs hP hS => ?_)
          refine lv_aload_n hx hb d_gm_form_78 rfl (lv_at hl 1 rfl) ?_
          refine gm_get C hP 9 (by decide) rfl d_gm_form_79 ?_
          refine lv_if_le (tgt := 87) hx hb d_gm_form_82 rfl (fun hN => absurd hN (by decide)) (fun _ => ?_)
          refine lv_iconst (v := 0) hx hb d_gm_form_85 (by decide) ?_
          exact gx_iret hx hb hr hlk d_gm_form_86 hS.2.2 (Or.inl ⟨fun g => absurd g.2.1.2 (Int32.not_le.mpr h4), rfl, hP, gFr.of hS⟩)
        · skip
          refine lv_iload_n hx hb d_gm_form_22 rfl (lv_at hl 3 rfl) ?_
          refine lv_if_lt (tgt := 35) hx hb d_gm_form_23 rfl (fun h5 => ?_) (fun h5 => ?_)
          · skip
            refine lv_iconst (v := 0) hx hb d_gm_form_35 (by decide) ?_
            refine lv_istore hx hb d_gm_form_36 hl (by decide) rfl (fun ls hl => ?_)
            have hl : lv_has ls 7 [(4, .int 0), (0, .ref h), (1, .int x), (2, .int y), (3, .int z)] := hl
            refine lv_aload_n hx hb d_gm_form_38 rfl (lv_at hl 1 rfl) ?_
            refine lv_iload hx hb d_gm_form_39 (lv_at hl 0 rfl) ?_
            refine lv_if_ne (tgt := 48) hx hb d_gm_form_41 rfl (fun hN => absurd rfl hN) (fun _ => ?_)
            refine lv_iconst (v := 1) hx hb d_gm_form_44 (by decide) ?_
            refine lv_goto (tgt := 75) hx hb d_gm_form_45 rfl ?_
            refine gm_putth C hP hD hS d_gm_form_75 (fun H locs hP hS => ?_)
            refine lv_aload_n hx hb d_gm_form_78 rfl (lv_at hl 1 rfl) ?_
            refine gm_get C hP 9 (by decide) rfl d_gm_form_79 ?_
            refine lv_if_le (tgt := 87) hx hb d_gm_form_82 rfl (fun hN => absurd hN (by decide)) (fun _ => ?_)
            refine lv_iconst (v := 0) hx hb d_gm_form_85 (by decide) ?_
            exact gx_iret hx hb hr hlk d_gm_form_86 hS.2.2 (Or.inl ⟨fun g => absurd g.2.2.1 (Int32.not_le.mpr h5), rfl, hP, gFr.of hS⟩)
          · skip
            refine lv_iload_n hx hb d_gm_form_26 rfl (lv_at hl 3 rfl) ?_
            refine lv_iconst (v := 2) hx hb d_gm_form_27 (by decide) ?_
            refine lv_icmp_gt (tgt := 35) hx hb d_gm_form_28 rfl (fun h6 => ?_) (fun h6 => ?_)
            · skip
              refine lv_iconst (v := 0) hx hb d_gm_form_35 (by decide) ?_
              refine lv_istore hx hb d_gm_form_36 hl (by decide) rfl (fun ls hl => ?_)
              have hl : lv_has ls 7 [(4, .int 0), (0, .ref h), (1, .int x), (2, .int y), (3, .int z)] := hl
              refine lv_aload_n hx hb d_gm_form_38 rfl (lv_at hl 1 rfl) ?_
              refine lv_iload hx hb d_gm_form_39 (lv_at hl 0 rfl) ?_
              refine lv_if_ne (tgt := 48) hx hb d_gm_form_41 rfl (fun hN => absurd rfl hN) (fun _ => ?_)
              refine lv_iconst (v := 1) hx hb d_gm_form_44 (by decide) ?_
              refine lv_goto (tgt := 75) hx hb d_gm_form_45 rfl ?_
              refine gm_putth C hP hD hS d_gm_form_75 (fun H locs hP hS => ?_)
              refine lv_aload_n hx hb d_gm_form_78 rfl (lv_at hl 1 rfl) ?_
              refine gm_get C hP 9 (by decide) rfl d_gm_form_79 ?_
              refine lv_if_le (tgt := 87) hx hb d_gm_form_82 rfl (fun hN => absurd hN (by decide)) (fun _ => ?_)
              refine lv_iconst (v := 0) hx hb d_gm_form_85 (by decide) ?_
              exact gx_iret hx hb hr hlk d_gm_form_86 hS.2.2 (Or.inl ⟨fun g => absurd g.2.2.2 (Int32.not_le.mpr h6), rfl, hP, gFr.of hS⟩)
            · skip
              have hg : gok x y z := ⟨⟨Int32.not_lt.mp h1, Int32.not_lt.mp h2⟩, ⟨Int32.not_lt.mp h3, Int32.not_lt.mp h4⟩, Int32.not_lt.mp h5, Int32.not_lt.mp h6⟩
              refine lv_iconst (v := 1) hx hb d_gm_form_31 (by decide) ?_
              refine lv_goto (tgt := 36) hx hb d_gm_form_32 rfl ?_
              refine lv_istore hx hb d_gm_form_36 hl (by decide) rfl (fun ls hl => ?_)
              have hl : lv_has ls 7 [(4, .int 1), (0, .ref h), (1, .int x), (2, .int y), (3, .int z)] := hl
              refine lv_aload_n hx hb d_gm_form_38 rfl (lv_at hl 1 rfl) ?_
              refine lv_iload hx hb d_gm_form_39 (lv_at hl 0 rfl) ?_
              refine lv_if_ne (tgt := 48) hx hb d_gm_form_41 rfl (fun _ => ?_) (fun hN => absurd hN (by decide))
              refine lv_aload_n hx hb d_gm_form_48 rfl (lv_at hl 1 rfl) ?_
              refine gm_get C hP 8 (by decide) rfl d_gm_form_49 ?_
              cases n with
              | zero =>
                refine lv_if_eq (tgt := 70) hx hb d_gm_form_52 rfl (fun _ => ?_) (fun hN => absurd (show nI 0 = 0 from rfl) hN)
                refine lv_iconst (v := 2) hx hb d_gm_form_70 (by decide) ?_
                refine lv_goto (tgt := 75) hx hb d_gm_form_71 rfl ?_
                refine gm_putth C hP hD hS d_gm_form_75 (fun H locs hP hS => ?_)
                refine lv_aload_n hx hb d_gm_form_78 rfl (lv_at hl 1 rfl) ?_
                refine gm_get C hP 9 (by decide) rfl d_gm_form_79 ?_
                refine lv_if_le (tgt := 87) hx hb d_gm_form_82 rfl (fun hN => absurd hN (by decide)) (fun _ => ?_)
                refine lv_iconst (v := 0) hx hb d_gm_form_85 (by decide) ?_
                exact gx_iret hx hb hr hlk d_gm_form_86 hS.2.2 (Or.inr (Or.inl ⟨hg, Or.inl rfl, rfl, hP, gFr.of hS⟩))
              | succ k =>
                have hn120 := hwf.1
                obtain ⟨f, t, hf4, hf, -, -, -⟩ := hwf.2 k (by omega)
                refine lv_if_eq (tgt := 70) hx hb d_gm_form_52 rfl (fun hN => absurd hN (nI_ne0 (by omega) (by omega))) (fun _ => ?_)
                refine lv_aload_n hx hb d_gm_form_55 rfl (lv_at hl 1 rfl) ?_
                refine gm_get C hP 0 (by decide) rfl d_gm_form_56 ?_
                refine lv_aload_n hx hb d_gm_form_59 rfl (lv_at hl 1 rfl) ?_
                refine gm_get C hP 8 (by decide) rfl d_gm_form_60 ?_
                refine lv_iconst (v := 1) hx hb d_gm_form_63 (by decide) ?_
                refine lv_isub hx hb d_gm_form_64 ?_
                rw [show (((nI (k + 1)) - 1) : Int32) = (nI k) from nI_pred k]
                refine gm_ald C hP 0 (by decide) k (v := (nI f)) rfl (show k < 120 by omega) hf d_gm_form_65 ?_
                refine lv_iconst (v := 4) hx hb d_gm_form_66 (by decide) ?_
                have hfe : nI f = 4 ↔ f = 4 := by rw [show (4 : Int32) = nI 4 from rfl]; exact nI_eq (by omega) (by omega)
                refine lv_icmp_ne (tgt := 74) hx hb d_gm_form_67 rfl (fun h7 => ?_) (fun h7 => ?_)
                · skip
                  have hf3 : f < 4 := by have := mt hfe.mpr h7; omega
                  refine lv_iconst (v := 0) hx hb d_gm_form_74 (by decide) ?_
                  refine gm_putth C hP hD hS d_gm_form_75 (fun H locs hP hS => ?_)
                  refine lv_aload_n hx hb d_gm_form_78 rfl (lv_at hl 1 rfl) ?_
                  refine gm_get C hP 9 (by decide) rfl d_gm_form_79 ?_
                  refine lv_if_le (tgt := 87) hx hb d_gm_form_82 rfl (fun _ => ?_) (fun hN => absurd (by decide) hN)
                  refine lv_aload_n hx hb d_gm_form_87 rfl (lv_at hl 1 rfl) ?_
                  refine gm_get C hP 8 (by decide) rfl d_gm_form_88 ?_
                  refine lv_iconst (v := 1) hx hb d_gm_form_91 (by decide) ?_
                  refine lv_isub hx hb d_gm_form_92 ?_
                  rw [show (((nI (k + 1)) - 1) : Int32) = (nI k) from nI_pred k]
                  refine lv_istore hx hb d_gm_form_93 hl (by decide) rfl (fun ls hl => ?_)
                  have hl : lv_has ls 7 [(5, .int (nI k)), (4, .int 1), (0, .ref h), (1, .int x), (2, .int y), (3, .int z)] := hl
                  refine lv_iconst (v := 4) hx hb d_gm_form_95 (by decide) ?_
                  refine lv_iload hx hb d_gm_form_96 (lv_at hl 0 rfl) ?_
                  refine lv_imul hx hb d_gm_form_98 ?_
                  refine lv_aload_n hx hb d_gm_form_99 rfl (lv_at hl 2 rfl) ?_
                  refine gm_get C hP 0 (by decide) rfl d_gm_form_100 ?_
                  refine lv_iload hx hb d_gm_form_103 (lv_at hl 0 rfl) ?_
                  refine gm_ald C hP 0 (by decide) k (v := (nI f)) rfl (show k < 120 by omega) hf d_gm_form_105 ?_
                  refine lv_iadd hx hb d_gm_form_106 ?_
                  rw [show (((4 * (nI k)) + (nI f)) : Int32) = (nI (4 * k + f)) from g_ix' k f]
                  refine lv_istore hx hb d_gm_form_107 hl (by decide) rfl (fun ls hl => ?_)
                  have hl : lv_has ls 7 [(6, .int (nI (4 * k + f))), (5, .int (nI k)), (4, .int 1), (0, .ref h), (1, .int x), (2, .int y), (3, .int z)] := hl
                  refine lv_aload_n hx hb d_gm_form_109 rfl (lv_at hl 3 rfl) ?_
                  refine gm_get C hP 1 (by decide) rfl d_gm_form_110 ?_
                  refine lv_iload hx hb d_gm_form_113 (lv_at hl 0 rfl) ?_
                  refine lv_iload_n hx hb d_gm_form_115 rfl (lv_at hl 4 rfl) ?_
                  refine gm_ast C hP hD hS 1 (by decide) (4 * k + f) rfl (show 4 * k + f < 480 by omega) d_gm_form_116 (fun H locs hP hS => ?_)
                  refine lv_aload_n hx hb d_gm_form_117 rfl (lv_at hl 3 rfl) ?_
                  refine gm_get C hP 2 (by decide) rfl d_gm_form_118 ?_
                  refine lv_iload hx hb d_gm_form_121 (lv_at hl 0 rfl) ?_
                  refine lv_iload_n hx hb d_gm_form_123 rfl (lv_at hl 5 rfl) ?_
                  refine gm_ast C hP hD hS 2 (by decide) (4 * k + f) rfl (show 4 * k + f < 480 by omega) d_gm_form_124 (fun H locs hP hS => ?_)
                  refine lv_aload_n hx hb d_gm_form_125 rfl (lv_at hl 3 rfl) ?_
                  refine gm_get C hP 3 (by decide) rfl d_gm_form_126 ?_
                  refine lv_iload hx hb d_gm_form_129 (lv_at hl 0 rfl) ?_
                  refine lv_iload_n hx hb d_gm_form_131 rfl (lv_at hl 6 rfl) ?_
                  refine gm_ast C hP hD hS 3 (by decide) (4 * k + f) rfl (show 4 * k + f < 480 by omega) d_gm_form_132 (fun H locs hP hS => ?_)
                  refine lv_aload_n hx hb d_gm_form_133 rfl (lv_at hl 3 rfl) ?_
                  refine gm_get C hP 0 (by decide) rfl d_gm_form_134 ?_
                  refine lv_iload hx hb d_gm_form_137 (lv_at hl 1 rfl) ?_
                  refine lv_dup2_11 hx hb d_gm_form_139 rfl rfl ?_
                  refine gm_ald C hP 0 (by decide) k (v := (nI f)) rfl (show k < 120 by omega) hf d_gm_form_140 ?_
                  refine lv_iconst (v := 1) hx hb d_gm_form_141 (by decide) ?_
                  refine lv_iadd hx hb d_gm_form_142 ?_
                  rw [show (((nI f) + 1) : Int32) = (nI (f + 1)) from nI_1 f]
                  refine gm_ast C hP hD hS 0 (by decide) k rfl (show k < 120 by omega) d_gm_form_143 (fun H locs hP hS => ?_)
                  refine lv_aload_n hx hb d_gm_form_144 rfl (lv_at hl 3 rfl) ?_
                  refine lv_iconst (v := 0) hx hb d_gm_form_145 (by decide) ?_
                  refine gm_putst C hP hD hS (by decide) (by decide) d_gm_form_146 (fun H locs hP hS => ?_)
                  refine lv_aload_n hx hb d_gm_form_149 rfl (lv_at hl 3 rfl) ?_
                  refine gm_get C hP 0 (by decide) rfl d_gm_form_150 ?_
                  refine lv_iload hx hb d_gm_form_153 (lv_at hl 1 rfl) ?_
                  refine gm_ald C hP 0 (by decide) k (v := (nI (f + 1))) rfl (show k < 120 by omega) (by simp [va_up, upd]) d_gm_form_155 ?_
                  exact gx_iret hx hb hr hlk d_gm_form_156 hS.2.2 (Or.inr (Or.inr ⟨hg, k, f, rfl, hf3, hf, rfl, hP, gFr.of hS⟩))
                · skip
                  refine lv_iconst (v := 2) hx hb d_gm_form_70 (by decide) ?_
                  refine lv_goto (tgt := 75) hx hb d_gm_form_71 rfl ?_
                  refine gm_putth C hP hD hS d_gm_form_75 (fun H locs hP hS => ?_)
                  refine lv_aload_n hx hb d_gm_form_78 rfl (lv_at hl 1 rfl) ?_
                  refine gm_get C hP 9 (by decide) rfl d_gm_form_79 ?_
                  refine lv_if_le (tgt := 87) hx hb d_gm_form_82 rfl (fun hN => absurd hN (by decide)) (fun _ => ?_)
                  refine lv_iconst (v := 0) hx hb d_gm_form_85 (by decide) ?_
                  exact gx_iret hx hb hr hlk d_gm_form_86 hS.2.2 (Or.inr (Or.inl ⟨hg, Or.inr ⟨k, rfl, by rw [hf]; exact h7⟩, rfl, hP, gFr.of hS⟩))
theorem gRg_neg {x : Int32} {n : Nat} (hn : n < 2 ^ 31) (h : x < 0) : ¬ gRg x n := by
  rintro ⟨i, hi, rfl⟩
  exact nI_pos (by omega) h
theorem gRg_big {x : Int32} {n : Nat} (hn : n < 2 ^ 31) (h : nI n ≤ x) : ¬ gRg x n := by
  rintro ⟨i, hi, rfl⟩
  exact nI_ge hi hn h
theorem g_big0 {x : Int32} {n : Nat} (hn : n < 2 ^ 31) (h : nI n ≤ x) : ¬ x < 0 := by
  intro h2
  have h1 := Int32.le_iff_toInt_le.mp h
  have h3 := Int32.lt_iff_toInt_lt.mp h2
  rw [nI_toInt hn] at h1
  simp at h3
  omega
theorem g_big1 {x : Int32} {n : Nat} (hn : n + 1 < 2 ^ 31) (h : nI (n + 1) ≤ x) : ¬ x ≤ nI n := by
  intro h2
  have h1 := Int32.le_iff_toInt_le.mp h
  have h3 := Int32.le_iff_toInt_le.mp h2
  rw [nI_toInt hn] at h1
  rw [nI_toInt (by omega)] at h3
  omega
set_option maxHeartbeats 4000000 in
set_option maxRecDepth 100000 in
theorem c_gm_aim (l : Launch) (E : gE) (h : Nat) (q : Nat → Nat) (b : gA) (n : Nat) (th st x t v : Int32) (hDm : gDM h q) (hn : n ≤ 120) : GMet l y_gm_aim prog_3_method_5_code 4 none [] rm0 (gPw E [.ref h, .int x, .int t, .int v] (mW h q E.2.1 E.2.2.1 b (nI n) th st)) (fun H o H1 => (¬ (gRg x n ∧ gRg t (n + 1)) ∧ o = .returned none ∧ va_P E.1 gcl (mW h q E.2.1 E.2.2.1 b (nI n) 1 st) H1 ∧ gFr (gIM h q) H H1) ∨ (gRg t (n + 1) ∧ ∃ i, i < n ∧ x = nI i ∧ o = .returned none ∧ va_P E.1 gcl (mW h q E.2.1 E.2.2.1 (g_aim b i t v) (nI n) 0 0) H1 ∧ gFr (gIM h q) H H1)) 0 0 (gIM h q) := by
  intro p e s m args below meth c hF hP0
  obtain ⟨hx, hb, hml, hr, hlk, hown, hnm, hex⟩ := hF
  obtain ⟨rfl, hT, hP⟩ := hP0
  have C : gC E "GrowFormsModel" prog_3_method_5_code p s m c := ⟨hx, hb, hown, hT⟩
  have hD := hDm.to E.2.1 E.2.2.1 b (nI n) th st
  have hS : va_S (gIM h q) s.heap s.heap [] := va_S.rf
  have hl := lv_entry ([.ref h, .int x, .int t, .int v]) (n := 4) (Nat.le_of_ble_eq_true rfl)
  rw [lg_entry_eq]
  generalize (lg_sl ([.ref h, .int x, .int t, .int v]) ++ List.replicate (4 - (lg_sl ([.ref h, .int x, .int t, .int v])).length) Slot.unset).toArray = ls at hl ⊢
  have hl : lv_has ls 4 [(0, .ref h), (1, .int x), (2, .int t), (3, .int v)] := hl
  refine lv_aload_n hx hb d_gm_aim_0 rfl (lv_at hl 0 rfl) ?_
  refine lv_iload_n hx hb d_gm_aim_1 rfl (lv_at hl 1 rfl) ?_
  rcases pk_ix x (n := n) (by omega) with h1 | h1 | ⟨i, hi, rfl⟩
  · skip
    refine lv_if_lt (tgt := 25) hx hb d_gm_aim_2 rfl (fun _ => ?_) (fun hN => absurd h1 hN)
    refine lv_iconst (v := 1) hx hb d_gm_aim_25 (by decide) ?_
    refine lv_goto (tgt := 30) hx hb d_gm_aim_26 rfl ?_
    refine gm_putth C hP hD hS d_gm_aim_30 (fun H locs hP hS => ?_)
    refine lv_aload_n hx hb d_gm_aim_33 rfl (lv_at hl 0 rfl) ?_
    refine gm_get C hP 9 (by decide) rfl d_gm_aim_34 ?_
    refine lv_if_le (tgt := 41) hx hb d_gm_aim_37 rfl (fun hN => absurd hN (by decide)) (fun _ => ?_)
    exact gx_vret hx hb hr hlk d_gm_aim_40 hS.2.2 (Or.inl ⟨fun g => gRg_neg (by omega) h1 g.1, rfl, hP, gFr.of hS⟩)
  · skip
    refine lv_if_lt (tgt := 25) hx hb d_gm_aim_2 rfl (fun hN => absurd hN (g_big0 (by omega) h1)) (fun _ => ?_)
    refine lv_iload_n hx hb d_gm_aim_5 rfl (lv_at hl 1 rfl) ?_
    refine lv_aload_n hx hb d_gm_aim_6 rfl (lv_at hl 0 rfl) ?_
    refine gm_get C hP 8 (by decide) rfl d_gm_aim_7 ?_
    refine lv_icmp_ge (tgt := 25) hx hb d_gm_aim_10 rfl (fun _ => ?_) (fun hN => absurd h1 hN)
    refine lv_iconst (v := 1) hx hb d_gm_aim_25 (by decide) ?_
    refine lv_goto (tgt := 30) hx hb d_gm_aim_26 rfl ?_
    refine gm_putth C hP hD hS d_gm_aim_30 (fun H locs hP hS => ?_)
    refine lv_aload_n hx hb d_gm_aim_33 rfl (lv_at hl 0 rfl) ?_
    refine gm_get C hP 9 (by decide) rfl d_gm_aim_34 ?_
    refine lv_if_le (tgt := 41) hx hb d_gm_aim_37 rfl (fun hN => absurd hN (by decide)) (fun _ => ?_)
    exact gx_vret hx hb hr hlk d_gm_aim_40 hS.2.2 (Or.inl ⟨fun g => gRg_big (by omega) h1 g.1, rfl, hP, gFr.of hS⟩)
  · skip
    refine lv_if_lt (tgt := 25) hx hb d_gm_aim_2 rfl (fun hN => absurd hN (nI_pos (by omega))) (fun _ => ?_)
    refine lv_iload_n hx hb d_gm_aim_5 rfl (lv_at hl 1 rfl) ?_
    refine lv_aload_n hx hb d_gm_aim_6 rfl (lv_at hl 0 rfl) ?_
    refine gm_get C hP 8 (by decide) rfl d_gm_aim_7 ?_
    refine lv_icmp_ge (tgt := 25) hx hb d_gm_aim_10 rfl (fun hN => absurd hN (nI_ge hi (by omega))) (fun _ => ?_)
    refine lv_iload_n hx hb d_gm_aim_13 rfl (lv_at hl 2 rfl) ?_
    rcases pk_ix t (n := n + 1) (by omega) with h1 | h1 | ⟨j, hj, rfl⟩
    · skip
      refine lv_if_lt (tgt := 25) hx hb d_gm_aim_14 rfl (fun _ => ?_) (fun hN => absurd h1 hN)
      refine lv_iconst (v := 1) hx hb d_gm_aim_25 (by decide) ?_
      refine lv_goto (tgt := 30) hx hb d_gm_aim_26 rfl ?_
      refine gm_putth C hP hD hS d_gm_aim_30 (fun H locs hP hS => ?_)
      refine lv_aload_n hx hb d_gm_aim_33 rfl (lv_at hl 0 rfl) ?_
      refine gm_get C hP 9 (by decide) rfl d_gm_aim_34 ?_
      refine lv_if_le (tgt := 41) hx hb d_gm_aim_37 rfl (fun hN => absurd hN (by decide)) (fun _ => ?_)
      exact gx_vret hx hb hr hlk d_gm_aim_40 hS.2.2 (Or.inl ⟨fun g => gRg_neg (by omega) h1 g.2, rfl, hP, gFr.of hS⟩)
    · skip
      refine lv_if_lt (tgt := 25) hx hb d_gm_aim_14 rfl (fun hN => absurd hN (g_big0 (by omega) h1)) (fun _ => ?_)
      refine lv_iload_n hx hb d_gm_aim_17 rfl (lv_at hl 2 rfl) ?_
      refine lv_aload_n hx hb d_gm_aim_18 rfl (lv_at hl 0 rfl) ?_
      refine gm_get C hP 8 (by decide) rfl d_gm_aim_19 ?_
      refine lv_icmp_le (tgt := 29) hx hb d_gm_aim_22 rfl (fun hN => absurd hN (g_big1 (by omega) h1)) (fun _ => ?_)
      refine lv_iconst (v := 1) hx hb d_gm_aim_25 (by decide) ?_
      refine lv_goto (tgt := 30) hx hb d_gm_aim_26 rfl ?_
      refine gm_putth C hP hD hS d_gm_aim_30 (fun H locs hP hS => ?_)
      refine lv_aload_n hx hb d_gm_aim_33 rfl (lv_at hl 0 rfl) ?_
      refine gm_get C hP 9 (by decide) rfl d_gm_aim_34 ?_
      refine lv_if_le (tgt := 41) hx hb d_gm_aim_37 rfl (fun hN => absurd hN (by decide)) (fun _ => ?_)
      exact gx_vret hx hb hr hlk d_gm_aim_40 hS.2.2 (Or.inl ⟨fun g => gRg_big (by omega) h1 g.2, rfl, hP, gFr.of hS⟩)
    · skip
      refine lv_if_lt (tgt := 25) hx hb d_gm_aim_14 rfl (fun hN => absurd hN (nI_pos (by omega))) (fun _ => ?_)
      refine lv_iload_n hx hb d_gm_aim_17 rfl (lv_at hl 2 rfl) ?_
      refine lv_aload_n hx hb d_gm_aim_18 rfl (lv_at hl 0 rfl) ?_
      refine gm_get C hP 8 (by decide) rfl d_gm_aim_19 ?_
      refine lv_icmp_le (tgt := 29) hx hb d_gm_aim_22 rfl (fun _ => ?_) (fun hN => absurd (nI_le (by omega) (by omega)) hN)
      refine lv_iconst (v := 0) hx hb d_gm_aim_29 (by decide) ?_
      refine gm_putth C hP hD hS d_gm_aim_30 (fun H locs hP hS => ?_)
      refine lv_aload_n hx hb d_gm_aim_33 rfl (lv_at hl 0 rfl) ?_
      refine gm_get C hP 9 (by decide) rfl d_gm_aim_34 ?_
      refine lv_if_le (tgt := 41) hx hb d_gm_aim_37 rfl (fun _ => ?_) (fun hN => absurd (by decide) hN)
      refine lv_aload_n hx hb d_gm_aim_41 rfl (lv_at hl 0 rfl) ?_
      refine gm_get C hP 4 (by decide) rfl d_gm_aim_42 ?_
      refine lv_iload_n hx hb d_gm_aim_45 rfl (lv_at hl 1 rfl) ?_
      refine lv_iload_n hx hb d_gm_aim_46 rfl (lv_at hl 2 rfl) ?_
      refine gm_ast C hP hD hS 4 (by decide) i rfl (show i < 120 by omega) d_gm_aim_47 (fun H locs hP hS => ?_)
      refine lv_aload_n hx hb d_gm_aim_48 rfl (lv_at hl 0 rfl) ?_
      refine gm_get C hP 5 (by decide) rfl d_gm_aim_49 ?_
      refine lv_iload_n hx hb d_gm_aim_52 rfl (lv_at hl 1 rfl) ?_
      refine lv_iload_n hx hb d_gm_aim_53 rfl (lv_at hl 3 rfl) ?_
      refine gm_ast C hP hD hS 5 (by decide) i rfl (show i < 120 by omega) d_gm_aim_54 (fun H locs hP hS => ?_)
      refine lv_aload_n hx hb d_gm_aim_55 rfl (lv_at hl 0 rfl) ?_
      refine lv_iconst (v := 0) hx hb d_gm_aim_56 (by decide) ?_
      refine gm_putst C hP hD hS (by decide) (by decide) d_gm_aim_57 (fun H locs hP hS => ?_)
      exact gx_vret hx hb hr hlk d_gm_aim_60 hS.2.2 (Or.inr ⟨⟨j, hj, rfl⟩, i, hi, rfl, rfl, hP, gFr.of hS⟩)
set_option maxHeartbeats 4000000 in
set_option maxRecDepth 100000 in
theorem c_gm_value (l : Launch) (E : gE) (h : Nat) (q : Nat → Nat) (b : gA) (nw : Nat → Nat) (n : Nat) (th st x : Int32) (hDm : gDM h q) (hwf : gWf b n) (hset : ¬ st = 0 → gNw b nw n ∧ gM b nw n) : GMet l y_gm_value prog_3_method_12_code 2 (some .long) [] rmG (gPw E [.ref h, .int x] (mW h q E.2.1 E.2.2.1 b (nI n) th st)) (fun H o H1 => ∃ (k : Int32) (r r' : Int64), gValR b nw n st x k r ∧ (k = 0 → r' = r) ∧ o = .returned (some (.long r')) ∧ va_P E.1 gcl (mW h q E.2.1 E.2.2.1 b (nI n) k st) H1 ∧ gFr (gIM h q) H H1) 0 0 (gIM h q) := by
  intro p e s m args below meth c hF hP0
  obtain ⟨hx, hb, hml, hr, hlk, hown, hnm, hex⟩ := hF
  obtain ⟨rfl, hT, hP⟩ := hP0
  have C : gC E "GrowFormsModel" prog_3_method_12_code p s m c := ⟨hx, hb, hown, hT⟩
  have hD := hDm.to E.2.1 E.2.2.1 b (nI n) th st
  have hS : va_S (gIM h q) s.heap s.heap [] := va_S.rf
  have hn := hwf.1
  have hl := lv_entry ([.ref h, .int x]) (n := 2) (Nat.le_of_ble_eq_true rfl)
  rw [lg_entry_eq]
  generalize (lg_sl ([.ref h, .int x]) ++ List.replicate (2 - (lg_sl ([.ref h, .int x])).length) Slot.unset).toArray = ls at hl ⊢
  have hl : lv_has ls 2 [(0, .ref h), (1, .int x)] := hl
  refine lv_aload_n hx hb d_gm_value_0 rfl (lv_at hl 0 rfl) ?_
  refine lv_aload_n hx hb d_gm_value_1 rfl (lv_at hl 0 rfl) ?_
  refine gm_get C hP 10 (by decide) rfl d_gm_value_2 ?_
  refine lv_if_ne (tgt := 12) hx hb d_gm_value_5 rfl (fun hst => ?_) (fun hst => ?_)
  · skip
    obtain ⟨hnw, hgm⟩ := hset hst
    refine lv_iload_n hx hb d_gm_value_12 rfl (lv_at hl 1 rfl) ?_
    rcases pk_ix x (n := n) (by omega) with h1 | h1 | ⟨i, hi, rfl⟩
    · skip
      refine lv_if_lt (tgt := 24) hx hb d_gm_value_13 rfl (fun _ => ?_) (fun hN => absurd h1 hN)
      refine lv_iconst (v := 2) hx hb d_gm_value_24 (by decide) ?_
      refine lv_goto (tgt := 29) hx hb d_gm_value_25 rfl ?_
      refine gm_putth C hP hD hS d_gm_value_29 (fun H locs hP hS => ?_)
      refine lv_aload_n hx hb d_gm_value_32 rfl (lv_at hl 0 rfl) ?_
      refine gm_get C hP 9 (by decide) rfl d_gm_value_33 ?_
      refine lv_if_le (tgt := 43) hx hb d_gm_value_36 rfl (fun hN => absurd hN (by decide)) (fun _ => ?_)
      refine lv_lconst (v := 0) hx hb d_gm_value_39 rfl ?_
      refine lv_goto (tgt := 48) hx hb d_gm_value_40 rfl ?_
      exact gx_lret hx hb hr hlk d_gm_value_48 hS.2.2 ⟨2, 0, 0, Or.inr (Or.inl ⟨rfl, hst, gRg_neg (by omega) h1⟩), fun _ => rfl, rfl, hP, gFr.of hS⟩
    · skip
      refine lv_if_lt (tgt := 24) hx hb d_gm_value_13 rfl (fun hN => absurd hN (g_big0 (by omega) h1)) (fun _ => ?_)
      refine lv_iload_n hx hb d_gm_value_16 rfl (lv_at hl 1 rfl) ?_
      refine lv_aload_n hx hb d_gm_value_17 rfl (lv_at hl 0 rfl) ?_
      refine gm_get C hP 8 (by decide) rfl d_gm_value_18 ?_
      refine lv_icmp_lt (tgt := 28) hx hb d_gm_value_21 rfl (fun hN => absurd hN (Int32.not_lt.mpr h1)) (fun _ => ?_)
      refine lv_iconst (v := 2) hx hb d_gm_value_24 (by decide) ?_
      refine lv_goto (tgt := 29) hx hb d_gm_value_25 rfl ?_
      refine gm_putth C hP hD hS d_gm_value_29 (fun H locs hP hS => ?_)
      refine lv_aload_n hx hb d_gm_value_32 rfl (lv_at hl 0 rfl) ?_
      refine gm_get C hP 9 (by decide) rfl d_gm_value_33 ?_
      refine lv_if_le (tgt := 43) hx hb d_gm_value_36 rfl (fun hN => absurd hN (by decide)) (fun _ => ?_)
      refine lv_lconst (v := 0) hx hb d_gm_value_39 rfl ?_
      refine lv_goto (tgt := 48) hx hb d_gm_value_40 rfl ?_
      exact gx_lret hx hb hr hlk d_gm_value_48 hS.2.2 ⟨2, 0, 0, Or.inr (Or.inl ⟨rfl, hst, gRg_big (by omega) h1⟩), fun _ => rfl, rfl, hP, gFr.of hS⟩
    · skip
      refine lv_if_lt (tgt := 24) hx hb d_gm_value_13 rfl (fun hN => absurd hN (nI_pos (by omega))) (fun _ => ?_)
      refine lv_iload_n hx hb d_gm_value_16 rfl (lv_at hl 1 rfl) ?_
      refine lv_aload_n hx hb d_gm_value_17 rfl (lv_at hl 0 rfl) ?_
      refine gm_get C hP 8 (by decide) rfl d_gm_value_18 ?_
      refine lv_icmp_lt (tgt := 28) hx hb d_gm_value_21 rfl (fun _ => ?_) (fun hN => absurd (nI_lt hi (by omega)) hN)
      refine lv_iconst (v := 0) hx hb d_gm_value_28 (by decide) ?_
      refine gm_putth C hP hD hS d_gm_value_29 (fun H locs hP hS => ?_)
      refine lv_aload_n hx hb d_gm_value_32 rfl (lv_at hl 0 rfl) ?_
      refine gm_get C hP 9 (by decide) rfl d_gm_value_33 ?_
      refine lv_if_le (tgt := 43) hx hb d_gm_value_36 rfl (fun _ => ?_) (fun hN => absurd (by decide) hN)
      refine lv_aload_n hx hb d_gm_value_43 rfl (lv_at hl 0 rfl) ?_
      refine lv_iload_n hx hb d_gm_value_44 rfl (lv_at hl 1 rfl) ?_
      refine gx_virtP (c_gm_worth l E h q b nw n i (nI n) 0 st hwf hnw hgm hi) [.int (nI i)] h [] hx hb (hml.trans hl.1.symm) C.2.2.1 (gMd_code (a := #[]) (C.wd _ tw_329)) (C.wd _ tw_326) (C.wd _ tw_328) (C.wd _ tw_7) ⟨by decide +kernel, by decide +kernel⟩ (by decide +kernel) (show (parseMethodDescriptor y_gm_worth.desc).map (fun d => d.parameters.length) = some 1 by decide +kernel) (gm_recv hT hP) (fun U hU hW => ⟨rfl, hT.moved hW, by rw [hU]; exact hP⟩) (Nat.le_of_ble_eq_true rfl) ⟨by decide, by decide⟩ ⟨by decide, by decide⟩ d_gm_value_45 rfl ?_
      exact gx_lret hx hb hr hlk d_gm_value_48 hS.2.2 ⟨0, gv b nw i, gv b nw i, Or.inr (Or.inr ⟨rfl, hst, i, hi, rfl, rfl⟩), fun _ => rfl, rfl, hP, gFr.of hS⟩
  · skip
    refine lv_iconst (v := 1) hx hb d_gm_value_8 (by decide) ?_
    refine lv_goto (tgt := 29) hx hb d_gm_value_9 rfl ?_
    refine gm_putth C hP hD hS d_gm_value_29 (fun H locs hP hS => ?_)
    refine lv_aload_n hx hb d_gm_value_32 rfl (lv_at hl 0 rfl) ?_
    refine gm_get C hP 9 (by decide) rfl d_gm_value_33 ?_
    refine lv_if_le (tgt := 43) hx hb d_gm_value_36 rfl (fun hN => absurd hN (by decide)) (fun _ => ?_)
    refine lv_lconst (v := 0) hx hb d_gm_value_39 rfl ?_
    refine lv_goto (tgt := 48) hx hb d_gm_value_40 rfl ?_
    exact gx_lret hx hb hr hlk d_gm_value_48 hS.2.2 ⟨1, 0, 0, Or.inl ⟨rfl, hst⟩, fun _ => rfl, rfl, hP, gFr.of hS⟩
def rmH : Room := { frames := 3, cells := 0, slots := 0, locals := 72 }
set_option maxHeartbeats 4000000 in
set_option maxRecDepth 100000 in
theorem c_gm_told (l : Launch) (E : gE) (h : Nat) (q : Nat → Nat) (b : gA) (nw : Nat → Nat) (n : Nat) (th st x w : Int32) (hDm : gDM h q) (hwf : gWf b n) (hset : ¬ st = 0 → gNw b nw n ∧ gM b nw n) (hfm : ∀ i, i < n → ¬ st = 0 → gfitM b nw i = gfit b nw i) : GMet l y_gm_told prog_3_method_11_code 3 (some .int) [] rmH (gPw E [.ref h, .int x, .int w] (mW h q E.2.1 E.2.2.1 b (nI n) th st)) (fun H o H1 => ∃ (k r r' : Int32), gToldR b nw n st x w k r ∧ (k = 0 → r' = r) ∧ o = .returned (some (.int r')) ∧ va_P E.1 gcl (mW h q E.2.1 E.2.2.1 b (nI n) k st) H1 ∧ gFr (gIM h q) H H1) 0 0 (gIM h q) := by
  intro p e s m args below meth c hF hP0
  obtain ⟨hx, hb, hml, hr, hlk, hown, hnm, hex⟩ := hF
  obtain ⟨rfl, hT, hP⟩ := hP0
  have C : gC E "GrowFormsModel" prog_3_method_11_code p s m c := ⟨hx, hb, hown, hT⟩
  have hD := hDm.to E.2.1 E.2.2.1 b (nI n) th st
  have hS : va_S (gIM h q) s.heap s.heap [] := va_S.rf
  have hn := hwf.1
  have hl := lv_entry ([.ref h, .int x, .int w]) (n := 3) (Nat.le_of_ble_eq_true rfl)
  rw [lg_entry_eq]
  generalize (lg_sl ([.ref h, .int x, .int w]) ++ List.replicate (3 - (lg_sl ([.ref h, .int x, .int w])).length) Slot.unset).toArray = ls at hl ⊢
  have hl : lv_has ls 3 [(0, .ref h), (1, .int x), (2, .int w)] := hl
  refine lv_aload_n hx hb d_gm_told_0 rfl (lv_at hl 0 rfl) ?_
  refine lv_iload_n hx hb d_gm_told_1 rfl (lv_at hl 2 rfl) ?_
  refine lv_if_lt (tgt := 10) hx hb d_gm_told_2 rfl (fun h1 => ?_) (fun h1 => ?_)
  · skip
    refine lv_iconst (v := 3) hx hb d_gm_told_10 (by decide) ?_
    refine lv_goto (tgt := 54) hx hb d_gm_told_11 rfl ?_
    refine gm_putth C hP hD hS d_gm_told_54 (fun H locs hP hS => ?_)
    refine lv_aload_n hx hb d_gm_told_57 rfl (lv_at hl 0 rfl) ?_
    refine gm_get C hP 9 (by decide) rfl d_gm_told_58 ?_
    refine lv_if_le (tgt := 66) hx hb d_gm_told_61 rfl (fun hN => absurd hN (by decide)) (fun _ => ?_)
    refine lv_iconst (v := 0) hx hb d_gm_told_64 (by decide) ?_
    exact gx_iret hx hb hr hlk d_gm_told_65 hS.2.2 ⟨3, 0, 0, Or.inl ⟨rfl, fun g => absurd g.1 (Int32.not_le.mpr h1)⟩, fun _ => rfl, rfl, hP, gFr.of hS⟩
  · skip
    refine lv_iload_n hx hb d_gm_told_5 rfl (lv_at hl 2 rfl) ?_
    refine lv_iconst (v := 2) hx hb d_gm_told_6 (by decide) ?_
    refine lv_icmp_le (tgt := 14) hx hb d_gm_told_7 rfl (fun h2 => ?_) (fun h2 => ?_)
    · skip
      have h0 : 0 ≤ w ∧ w ≤ 2 := ⟨Int32.not_lt.mp h1, h2⟩
      refine lv_aload_n hx hb d_gm_told_14 rfl (lv_at hl 0 rfl) ?_
      refine gm_get C hP 10 (by decide) rfl d_gm_told_15 ?_
      refine lv_if_ne (tgt := 25) hx hb d_gm_told_18 rfl (fun hst => ?_) (fun hst => ?_)
      · skip
        obtain ⟨hnw, hgm⟩ := hset hst
        refine lv_iload_n hx hb d_gm_told_25 rfl (lv_at hl 1 rfl) ?_
        rcases g_012 h0 with rfl | rfl | rfl
        · skip
          rcases pk_ix x (n := n + 1) (by omega) with h3 | h3 | ⟨i, hi, rfl⟩
          · skip
            refine lv_if_lt (tgt := 49) hx hb d_gm_told_26 rfl (fun _ => ?_) (fun hN => absurd h3 hN)
            refine lv_iconst (v := 2) hx hb d_gm_told_49 (by decide) ?_
            refine lv_goto (tgt := 54) hx hb d_gm_told_50 rfl ?_
            refine gm_putth C hP hD hS d_gm_told_54 (fun H locs hP hS => ?_)
            refine lv_aload_n hx hb d_gm_told_57 rfl (lv_at hl 0 rfl) ?_
            refine gm_get C hP 9 (by decide) rfl d_gm_told_58 ?_
            refine lv_if_le (tgt := 66) hx hb d_gm_told_61 rfl (fun hN => absurd hN (by decide)) (fun _ => ?_)
            refine lv_iconst (v := 0) hx hb d_gm_told_64 (by decide) ?_
            exact gx_iret hx hb hr hlk d_gm_told_65 hS.2.2 ⟨2, 0, 0, Or.inr (Or.inr (Or.inl ⟨rfl, h0, hst, Or.inl ⟨rfl, gRg_neg (by omega) h3⟩⟩)), fun _ => rfl, rfl, hP, gFr.of hS⟩
          · skip
            refine lv_if_lt (tgt := 49) hx hb d_gm_told_26 rfl (fun hN => absurd hN (g_big0 (by omega) h3)) (fun _ => ?_)
            refine lv_iload_n hx hb d_gm_told_29 rfl (lv_at hl 1 rfl) ?_
            refine lv_aload_n hx hb d_gm_told_30 rfl (lv_at hl 0 rfl) ?_
            refine gm_get C hP 8 (by decide) rfl d_gm_told_31 ?_
            refine lv_icmp_gt (tgt := 49) hx hb d_gm_told_34 rfl (fun _ => ?_) (fun hN => absurd (Int32.not_le.mp (g_big1 (by omega) h3)) hN)
            refine lv_iconst (v := 2) hx hb d_gm_told_49 (by decide) ?_
            refine lv_goto (tgt := 54) hx hb d_gm_told_50 rfl ?_
            refine gm_putth C hP hD hS d_gm_told_54 (fun H locs hP hS => ?_)
            refine lv_aload_n hx hb d_gm_told_57 rfl (lv_at hl 0 rfl) ?_
            refine gm_get C hP 9 (by decide) rfl d_gm_told_58 ?_
            refine lv_if_le (tgt := 66) hx hb d_gm_told_61 rfl (fun hN => absurd hN (by decide)) (fun _ => ?_)
            refine lv_iconst (v := 0) hx hb d_gm_told_64 (by decide) ?_
            exact gx_iret hx hb hr hlk d_gm_told_65 hS.2.2 ⟨2, 0, 0, Or.inr (Or.inr (Or.inl ⟨rfl, h0, hst, Or.inl ⟨rfl, gRg_big (by omega) h3⟩⟩)), fun _ => rfl, rfl, hP, gFr.of hS⟩
          · skip
            refine lv_if_lt (tgt := 49) hx hb d_gm_told_26 rfl (fun hN => absurd hN (nI_pos (by omega))) (fun _ => ?_)
            refine lv_iload_n hx hb d_gm_told_29 rfl (lv_at hl 1 rfl) ?_
            refine lv_aload_n hx hb d_gm_told_30 rfl (lv_at hl 0 rfl) ?_
            refine gm_get C hP 8 (by decide) rfl d_gm_told_31 ?_
            refine lv_icmp_gt (tgt := 49) hx hb d_gm_told_34 rfl (fun hN => absurd hN (nI_nlt (by omega) (by omega))) (fun _ => ?_)
            refine lv_iload_n hx hb d_gm_told_37 rfl (lv_at hl 1 rfl) ?_
            refine lv_aload_n hx hb d_gm_told_38 rfl (lv_at hl 0 rfl) ?_
            refine gm_get C hP 8 (by decide) rfl d_gm_told_39 ?_
            refine lv_icmp_ne (tgt := 53) hx hb d_gm_told_42 rfl (fun h4 => ?_) (fun h4 => ?_)
            · skip
              refine lv_iconst (v := 0) hx hb d_gm_told_53 (by decide) ?_
              refine gm_putth C hP hD hS d_gm_told_54 (fun H locs hP hS => ?_)
              refine lv_aload_n hx hb d_gm_told_57 rfl (lv_at hl 0 rfl) ?_
              refine gm_get C hP 9 (by decide) rfl d_gm_told_58 ?_
              refine lv_if_le (tgt := 66) hx hb d_gm_told_61 rfl (fun _ => ?_) (fun hN => absurd (by decide) hN)
              refine lv_iload_n hx hb d_gm_told_66 rfl (lv_at hl 2 rfl) ?_
              refine lv_if_ne (tgt := 76) hx hb d_gm_told_67 rfl (fun hN => absurd rfl hN) (fun _ => ?_)
              refine lv_aload_n hx hb d_gm_told_70 rfl (lv_at hl 0 rfl) ?_
              refine lv_iload_n hx hb d_gm_told_71 rfl (lv_at hl 1 rfl) ?_
              refine gx_virtP (c_gm_address l E h q b nw n i (nI n) 0 st hwf hnw hgm (by omega)) [.int (nI i)] h [] hx hb (hml.trans hl.1.symm) C.2.2.1 (gMd_code (a := #[]) (C.wd _ tw_321)) (C.wd _ tw_318) (C.wd _ tw_320) (C.wd _ tw_5) ⟨by decide +kernel, by decide +kernel⟩ (by decide +kernel) (show (parseMethodDescriptor y_gm_address.desc).map (fun d => d.parameters.length) = some 1 by decide +kernel) (gm_recv hT hP) (fun U hU hW => ⟨rfl, hT.moved hW, by rw [hU]; exact hP⟩) (Nat.le_of_ble_eq_true rfl) ⟨by decide, by decide⟩ ⟨by decide, by decide⟩ d_gm_told_72 rfl ?_
              exact gx_iret hx hb hr hlk d_gm_told_75 hS.2.2 ⟨0, adr b nw i, adr b nw i, Or.inr (Or.inr (Or.inr ⟨rfl, h0, hst, i, rfl, Or.inl ⟨rfl, hi, rfl⟩⟩)), fun _ => rfl, rfl, hP, gFr.of hS⟩
            · skip
              refine lv_iload_n hx hb d_gm_told_45 rfl (lv_at hl 2 rfl) ?_
              refine lv_if_le (tgt := 53) hx hb d_gm_told_46 rfl (fun _ => ?_) (fun hN => absurd (by decide) hN)
              refine lv_iconst (v := 0) hx hb d_gm_told_53 (by decide) ?_
              refine gm_putth C hP hD hS d_gm_told_54 (fun H locs hP hS => ?_)
              refine lv_aload_n hx hb d_gm_told_57 rfl (lv_at hl 0 rfl) ?_
              refine gm_get C hP 9 (by decide) rfl d_gm_told_58 ?_
              refine lv_if_le (tgt := 66) hx hb d_gm_told_61 rfl (fun _ => ?_) (fun hN => absurd (by decide) hN)
              refine lv_iload_n hx hb d_gm_told_66 rfl (lv_at hl 2 rfl) ?_
              refine lv_if_ne (tgt := 76) hx hb d_gm_told_67 rfl (fun hN => absurd rfl hN) (fun _ => ?_)
              refine lv_aload_n hx hb d_gm_told_70 rfl (lv_at hl 0 rfl) ?_
              refine lv_iload_n hx hb d_gm_told_71 rfl (lv_at hl 1 rfl) ?_
              refine gx_virtP (c_gm_address l E h q b nw n i (nI n) 0 st hwf hnw hgm (by omega)) [.int (nI i)] h [] hx hb (hml.trans hl.1.symm) C.2.2.1 (gMd_code (a := #[]) (C.wd _ tw_321)) (C.wd _ tw_318) (C.wd _ tw_320) (C.wd _ tw_5) ⟨by decide +kernel, by decide +kernel⟩ (by decide +kernel) (show (parseMethodDescriptor y_gm_address.desc).map (fun d => d.parameters.length) = some 1 by decide +kernel) (gm_recv hT hP) (fun U hU hW => ⟨rfl, hT.moved hW, by rw [hU]; exact hP⟩) (Nat.le_of_ble_eq_true rfl) ⟨by decide, by decide⟩ ⟨by decide, by decide⟩ d_gm_told_72 rfl ?_
              exact gx_iret hx hb hr hlk d_gm_told_75 hS.2.2 ⟨0, adr b nw i, adr b nw i, Or.inr (Or.inr (Or.inr ⟨rfl, h0, hst, i, rfl, Or.inl ⟨rfl, hi, rfl⟩⟩)), fun _ => rfl, rfl, hP, gFr.of hS⟩
        · skip
          rcases pk_ix x (n := n) (by omega) with h3 | h3 | ⟨i, hi, rfl⟩
          · skip
            refine lv_if_lt (tgt := 49) hx hb d_gm_told_26 rfl (fun _ => ?_) (fun hN => absurd h3 hN)
            refine lv_iconst (v := 2) hx hb d_gm_told_49 (by decide) ?_
            refine lv_goto (tgt := 54) hx hb d_gm_told_50 rfl ?_
            refine gm_putth C hP hD hS d_gm_told_54 (fun H locs hP hS => ?_)
            refine lv_aload_n hx hb d_gm_told_57 rfl (lv_at hl 0 rfl) ?_
            refine gm_get C hP 9 (by decide) rfl d_gm_told_58 ?_
            refine lv_if_le (tgt := 66) hx hb d_gm_told_61 rfl (fun hN => absurd hN (by decide)) (fun _ => ?_)
            refine lv_iconst (v := 0) hx hb d_gm_told_64 (by decide) ?_
            exact gx_iret hx hb hr hlk d_gm_told_65 hS.2.2 ⟨2, 0, 0, Or.inr (Or.inr (Or.inl ⟨rfl, h0, hst, Or.inr ⟨by decide, gRg_neg (by omega) h3⟩⟩)), fun _ => rfl, rfl, hP, gFr.of hS⟩
          · skip
            refine lv_if_lt (tgt := 49) hx hb d_gm_told_26 rfl (fun hN => absurd hN (g_big0 (by omega) h3)) (fun _ => ?_)
            refine lv_iload_n hx hb d_gm_told_29 rfl (lv_at hl 1 rfl) ?_
            refine lv_aload_n hx hb d_gm_told_30 rfl (lv_at hl 0 rfl) ?_
            refine gm_get C hP 8 (by decide) rfl d_gm_told_31 ?_
            refine lv_icmp_gt (tgt := 49) hx hb d_gm_told_34 rfl (fun h4 => ?_) (fun h4 => ?_)
            · skip
              refine lv_iconst (v := 2) hx hb d_gm_told_49 (by decide) ?_
              refine lv_goto (tgt := 54) hx hb d_gm_told_50 rfl ?_
              refine gm_putth C hP hD hS d_gm_told_54 (fun H locs hP hS => ?_)
              refine lv_aload_n hx hb d_gm_told_57 rfl (lv_at hl 0 rfl) ?_
              refine gm_get C hP 9 (by decide) rfl d_gm_told_58 ?_
              refine lv_if_le (tgt := 66) hx hb d_gm_told_61 rfl (fun hN => absurd hN (by decide)) (fun _ => ?_)
              refine lv_iconst (v := 0) hx hb d_gm_told_64 (by decide) ?_
              exact gx_iret hx hb hr hlk d_gm_told_65 hS.2.2 ⟨2, 0, 0, Or.inr (Or.inr (Or.inl ⟨rfl, h0, hst, Or.inr ⟨by decide, gRg_big (by omega) h3⟩⟩)), fun _ => rfl, rfl, hP, gFr.of hS⟩
            · skip
              refine lv_iload_n hx hb d_gm_told_37 rfl (lv_at hl 1 rfl) ?_
              refine lv_aload_n hx hb d_gm_told_38 rfl (lv_at hl 0 rfl) ?_
              refine gm_get C hP 8 (by decide) rfl d_gm_told_39 ?_
              refine lv_icmp_ne (tgt := 53) hx hb d_gm_told_42 rfl (fun h5 => ?_) (fun h5 => ?_)
              · skip
                exact absurd (Int32.le_antisymm (Int32.not_lt.mp h4) h3) h5
              · skip
                refine lv_iload_n hx hb d_gm_told_45 rfl (lv_at hl 2 rfl) ?_
                refine lv_if_le (tgt := 53) hx hb d_gm_told_46 rfl (fun hN => absurd hN (by decide)) (fun _ => ?_)
                refine lv_iconst (v := 2) hx hb d_gm_told_49 (by decide) ?_
                refine lv_goto (tgt := 54) hx hb d_gm_told_50 rfl ?_
                refine gm_putth C hP hD hS d_gm_told_54 (fun H locs hP hS => ?_)
                refine lv_aload_n hx hb d_gm_told_57 rfl (lv_at hl 0 rfl) ?_
                refine gm_get C hP 9 (by decide) rfl d_gm_told_58 ?_
                refine lv_if_le (tgt := 66) hx hb d_gm_told_61 rfl (fun hN => absurd hN (by decide)) (fun _ => ?_)
                refine lv_iconst (v := 0) hx hb d_gm_told_64 (by decide) ?_
                exact gx_iret hx hb hr hlk d_gm_told_65 hS.2.2 ⟨2, 0, 0, Or.inr (Or.inr (Or.inl ⟨rfl, h0, hst, Or.inr ⟨by decide, gRg_big (by omega) h3⟩⟩)), fun _ => rfl, rfl, hP, gFr.of hS⟩
          · skip
            refine lv_if_lt (tgt := 49) hx hb d_gm_told_26 rfl (fun hN => absurd hN (nI_pos (by omega))) (fun _ => ?_)
            refine lv_iload_n hx hb d_gm_told_29 rfl (lv_at hl 1 rfl) ?_
            refine lv_aload_n hx hb d_gm_told_30 rfl (lv_at hl 0 rfl) ?_
            refine gm_get C hP 8 (by decide) rfl d_gm_told_31 ?_
            refine lv_icmp_gt (tgt := 49) hx hb d_gm_told_34 rfl (fun hN => absurd hN (nI_nlt (by omega) (by omega))) (fun _ => ?_)
            refine lv_iload_n hx hb d_gm_told_37 rfl (lv_at hl 1 rfl) ?_
            refine lv_aload_n hx hb d_gm_told_38 rfl (lv_at hl 0 rfl) ?_
            refine gm_get C hP 8 (by decide) rfl d_gm_told_39 ?_
            refine lv_icmp_ne (tgt := 53) hx hb d_gm_told_42 rfl (fun _ => ?_) (fun hN => absurd hN (fun z9 => absurd ((nI_eq (by omega) (by omega)).mp z9) (by omega)))
            refine lv_iconst (v := 0) hx hb d_gm_told_53 (by decide) ?_
            refine gm_putth C hP hD hS d_gm_told_54 (fun H locs hP hS => ?_)
            refine lv_aload_n hx hb d_gm_told_57 rfl (lv_at hl 0 rfl) ?_
            refine gm_get C hP 9 (by decide) rfl d_gm_told_58 ?_
            refine lv_if_le (tgt := 66) hx hb d_gm_told_61 rfl (fun _ => ?_) (fun hN => absurd (by decide) hN)
            refine lv_iload_n hx hb d_gm_told_66 rfl (lv_at hl 2 rfl) ?_
            refine lv_if_ne (tgt := 76) hx hb d_gm_told_67 rfl (fun _ => ?_) (fun hN => absurd hN (by decide))
            refine lv_iload_n hx hb d_gm_told_76 rfl (lv_at hl 2 rfl) ?_
            refine lv_iconst (v := 1) hx hb d_gm_told_77 (by decide) ?_
            refine lv_icmp_ne (tgt := 101) hx hb d_gm_told_78 rfl (fun hN => absurd rfl hN) (fun _ => ?_)
            refine lv_aload_n hx hb d_gm_told_81 rfl (lv_at hl 0 rfl) ?_
            refine gm_get C hP 0 (by decide) rfl d_gm_told_82 ?_
            refine lv_iload_n hx hb d_gm_told_85 rfl (lv_at hl 1 rfl) ?_
            refine gm_ald C hP 0 (by decide) i (v := (b 0 i)) rfl (show i < 120 by omega) rfl d_gm_told_86 ?_
            refine lv_if_ne (tgt := 94) hx hb d_gm_told_87 rfl (fun h6 => ?_) (fun h6 => ?_)
            · skip
              refine lv_aload_n hx hb d_gm_told_94 rfl (lv_at hl 0 rfl) ?_
              refine gm_get C hP 6 (by decide) rfl d_gm_told_95 ?_
              refine lv_iload_n hx hb d_gm_told_98 rfl (lv_at hl 1 rfl) ?_
              refine gm_ald C hP 6 (by decide) i (v := (nI (nw i))) rfl (show i < 120 by omega) (hgm i hi) d_gm_told_99 ?_
              exact gx_iret hx hb hr hlk d_gm_told_100 hS.2.2 ⟨0, nI (nw i), nI (nw i), Or.inr (Or.inr (Or.inr ⟨rfl, h0, hst, i, rfl, Or.inr (Or.inl ⟨rfl, hi, by rw [if_neg h6]⟩)⟩)), fun _ => rfl, rfl, hP, gFr.of hS⟩
            · skip
              refine lv_iconst (v := (-1)) hx hb d_gm_told_90 (by decide) ?_
              refine lv_goto (tgt := 100) hx hb d_gm_told_91 rfl ?_
              exact gx_iret hx hb hr hlk d_gm_told_100 hS.2.2 ⟨0, -1, -1, Or.inr (Or.inr (Or.inr ⟨rfl, h0, hst, i, rfl, Or.inr (Or.inl ⟨rfl, hi, by rw [if_pos h6]⟩)⟩)), fun _ => rfl, rfl, hP, gFr.of hS⟩
        · skip
          rcases pk_ix x (n := n) (by omega) with h3 | h3 | ⟨i, hi, rfl⟩
          · skip
            refine lv_if_lt (tgt := 49) hx hb d_gm_told_26 rfl (fun _ => ?_) (fun hN => absurd h3 hN)
            refine lv_iconst (v := 2) hx hb d_gm_told_49 (by decide) ?_
            refine lv_goto (tgt := 54) hx hb d_gm_told_50 rfl ?_
            refine gm_putth C hP hD hS d_gm_told_54 (fun H locs hP hS => ?_)
            refine lv_aload_n hx hb d_gm_told_57 rfl (lv_at hl 0 rfl) ?_
            refine gm_get C hP 9 (by decide) rfl d_gm_told_58 ?_
            refine lv_if_le (tgt := 66) hx hb d_gm_told_61 rfl (fun hN => absurd hN (by decide)) (fun _ => ?_)
            refine lv_iconst (v := 0) hx hb d_gm_told_64 (by decide) ?_
            exact gx_iret hx hb hr hlk d_gm_told_65 hS.2.2 ⟨2, 0, 0, Or.inr (Or.inr (Or.inl ⟨rfl, h0, hst, Or.inr ⟨by decide, gRg_neg (by omega) h3⟩⟩)), fun _ => rfl, rfl, hP, gFr.of hS⟩
          · skip
            refine lv_if_lt (tgt := 49) hx hb d_gm_told_26 rfl (fun hN => absurd hN (g_big0 (by omega) h3)) (fun _ => ?_)
            refine lv_iload_n hx hb d_gm_told_29 rfl (lv_at hl 1 rfl) ?_
            refine lv_aload_n hx hb d_gm_told_30 rfl (lv_at hl 0 rfl) ?_
            refine gm_get C hP 8 (by decide) rfl d_gm_told_31 ?_
            refine lv_icmp_gt (tgt := 49) hx hb d_gm_told_34 rfl (fun h4 => ?_) (fun h4 => ?_)
            · skip
              refine lv_iconst (v := 2) hx hb d_gm_told_49 (by decide) ?_
              refine lv_goto (tgt := 54) hx hb d_gm_told_50 rfl ?_
              refine gm_putth C hP hD hS d_gm_told_54 (fun H locs hP hS => ?_)
              refine lv_aload_n hx hb d_gm_told_57 rfl (lv_at hl 0 rfl) ?_
              refine gm_get C hP 9 (by decide) rfl d_gm_told_58 ?_
              refine lv_if_le (tgt := 66) hx hb d_gm_told_61 rfl (fun hN => absurd hN (by decide)) (fun _ => ?_)
              refine lv_iconst (v := 0) hx hb d_gm_told_64 (by decide) ?_
              exact gx_iret hx hb hr hlk d_gm_told_65 hS.2.2 ⟨2, 0, 0, Or.inr (Or.inr (Or.inl ⟨rfl, h0, hst, Or.inr ⟨by decide, gRg_big (by omega) h3⟩⟩)), fun _ => rfl, rfl, hP, gFr.of hS⟩
            · skip
              refine lv_iload_n hx hb d_gm_told_37 rfl (lv_at hl 1 rfl) ?_
              refine lv_aload_n hx hb d_gm_told_38 rfl (lv_at hl 0 rfl) ?_
              refine gm_get C hP 8 (by decide) rfl d_gm_told_39 ?_
              refine lv_icmp_ne (tgt := 53) hx hb d_gm_told_42 rfl (fun h5 => ?_) (fun h5 => ?_)
              · skip
                exact absurd (Int32.le_antisymm (Int32.not_lt.mp h4) h3) h5
              · skip
                refine lv_iload_n hx hb d_gm_told_45 rfl (lv_at hl 2 rfl) ?_
                refine lv_if_le (tgt := 53) hx hb d_gm_told_46 rfl (fun hN => absurd hN (by decide)) (fun _ => ?_)
                refine lv_iconst (v := 2) hx hb d_gm_told_49 (by decide) ?_
                refine lv_goto (tgt := 54) hx hb d_gm_told_50 rfl ?_
                refine gm_putth C hP hD hS d_gm_told_54 (fun H locs hP hS => ?_)
                refine lv_aload_n hx hb d_gm_told_57 rfl (lv_at hl 0 rfl) ?_
                refine gm_get C hP 9 (by decide) rfl d_gm_told_58 ?_
                refine lv_if_le (tgt := 66) hx hb d_gm_told_61 rfl (fun hN => absurd hN (by decide)) (fun _ => ?_)
                refine lv_iconst (v := 0) hx hb d_gm_told_64 (by decide) ?_
                exact gx_iret hx hb hr hlk d_gm_told_65 hS.2.2 ⟨2, 0, 0, Or.inr (Or.inr (Or.inl ⟨rfl, h0, hst, Or.inr ⟨by decide, gRg_big (by omega) h3⟩⟩)), fun _ => rfl, rfl, hP, gFr.of hS⟩
          · skip
            refine lv_if_lt (tgt := 49) hx hb d_gm_told_26 rfl (fun hN => absurd hN (nI_pos (by omega))) (fun _ => ?_)
            refine lv_iload_n hx hb d_gm_told_29 rfl (lv_at hl 1 rfl) ?_
            refine lv_aload_n hx hb d_gm_told_30 rfl (lv_at hl 0 rfl) ?_
            refine gm_get C hP 8 (by decide) rfl d_gm_told_31 ?_
            refine lv_icmp_gt (tgt := 49) hx hb d_gm_told_34 rfl (fun hN => absurd hN (nI_nlt (by omega) (by omega))) (fun _ => ?_)
            refine lv_iload_n hx hb d_gm_told_37 rfl (lv_at hl 1 rfl) ?_
            refine lv_aload_n hx hb d_gm_told_38 rfl (lv_at hl 0 rfl) ?_
            refine gm_get C hP 8 (by decide) rfl d_gm_told_39 ?_
            refine lv_icmp_ne (tgt := 53) hx hb d_gm_told_42 rfl (fun _ => ?_) (fun hN => absurd hN (fun z9 => absurd ((nI_eq (by omega) (by omega)).mp z9) (by omega)))
            refine lv_iconst (v := 0) hx hb d_gm_told_53 (by decide) ?_
            refine gm_putth C hP hD hS d_gm_told_54 (fun H locs hP hS => ?_)
            refine lv_aload_n hx hb d_gm_told_57 rfl (lv_at hl 0 rfl) ?_
            refine gm_get C hP 9 (by decide) rfl d_gm_told_58 ?_
            refine lv_if_le (tgt := 66) hx hb d_gm_told_61 rfl (fun _ => ?_) (fun hN => absurd (by decide) hN)
            refine lv_iload_n hx hb d_gm_told_66 rfl (lv_at hl 2 rfl) ?_
            refine lv_if_ne (tgt := 76) hx hb d_gm_told_67 rfl (fun _ => ?_) (fun hN => absurd hN (by decide))
            refine lv_iload_n hx hb d_gm_told_76 rfl (lv_at hl 2 rfl) ?_
            refine lv_iconst (v := 1) hx hb d_gm_told_77 (by decide) ?_
            refine lv_icmp_ne (tgt := 101) hx hb d_gm_told_78 rfl (fun _ => ?_) (fun hN => absurd hN (by decide))
            refine lv_aload_n hx hb d_gm_told_101 rfl (lv_at hl 0 rfl) ?_
            refine lv_iload_n hx hb d_gm_told_102 rfl (lv_at hl 1 rfl) ?_
            refine gx_virtP (c_gm_isFitting l E h q b nw n i (nI n) 0 st hwf hnw hgm hi) [.int (nI i)] h [] hx hb (hml.trans hl.1.symm) C.2.2.1 (gMd_code (a := #[]) (C.wd _ tw_325)) (C.wd _ tw_322) (C.wd _ tw_324) (C.wd _ tw_6) ⟨by decide +kernel, by decide +kernel⟩ (by decide +kernel) (show (parseMethodDescriptor y_gm_isFitting.desc).map (fun d => d.parameters.length) = some 1 by decide +kernel) (gm_recv hT hP) (fun U hU hW => ⟨rfl, hT.moved hW, by rw [hU]; exact hP⟩) (Nat.le_of_ble_eq_true rfl) ⟨by decide, by decide⟩ ⟨by decide, by decide⟩ d_gm_told_103 rfl ?_
            refine lv_if_eq (tgt := 113) hx hb d_gm_told_106 rfl (fun h6 => ?_) (fun h6 => ?_)
            · skip
              refine lv_iconst (v := 0) hx hb d_gm_told_113 (by decide) ?_
              exact gx_iret hx hb hr hlk d_gm_told_114 hS.2.2 ⟨0, 0, 0, Or.inr (Or.inr (Or.inr ⟨rfl, h0, hst, i, rfl, Or.inr (Or.inr ⟨rfl, hi, by rw [← hfm i hi hst]; exact h6.symm⟩)⟩)), fun _ => rfl, rfl, hP, gFr.of hS⟩
            · skip
              refine lv_iconst (v := 1) hx hb d_gm_told_109 (by decide) ?_
              refine lv_goto (tgt := 114) hx hb d_gm_told_110 rfl ?_
              exact gx_iret hx hb hr hlk d_gm_told_114 hS.2.2 ⟨0, 1, 1, Or.inr (Or.inr (Or.inr ⟨rfl, h0, hst, i, rfl, Or.inr (Or.inr ⟨rfl, hi, by rw [← hfm i hi hst, gb_ne.mp h6]; rfl⟩)⟩)), fun _ => rfl, rfl, hP, gFr.of hS⟩
      · skip
        refine lv_iconst (v := 1) hx hb d_gm_told_21 (by decide) ?_
        refine lv_goto (tgt := 54) hx hb d_gm_told_22 rfl ?_
        refine gm_putth C hP hD hS d_gm_told_54 (fun H locs hP hS => ?_)
        refine lv_aload_n hx hb d_gm_told_57 rfl (lv_at hl 0 rfl) ?_
        refine gm_get C hP 9 (by decide) rfl d_gm_told_58 ?_
        refine lv_if_le (tgt := 66) hx hb d_gm_told_61 rfl (fun hN => absurd hN (by decide)) (fun _ => ?_)
        refine lv_iconst (v := 0) hx hb d_gm_told_64 (by decide) ?_
        exact gx_iret hx hb hr hlk d_gm_told_65 hS.2.2 ⟨1, 0, 0, Or.inr (Or.inl ⟨rfl, h0, hst⟩), fun _ => rfl, rfl, hP, gFr.of hS⟩
    · skip
      refine lv_iconst (v := 3) hx hb d_gm_told_10 (by decide) ?_
      refine lv_goto (tgt := 54) hx hb d_gm_told_11 rfl ?_
      refine gm_putth C hP hD hS d_gm_told_54 (fun H locs hP hS => ?_)
      refine lv_aload_n hx hb d_gm_told_57 rfl (lv_at hl 0 rfl) ?_
      refine gm_get C hP 9 (by decide) rfl d_gm_told_58 ?_
      refine lv_if_le (tgt := 66) hx hb d_gm_told_61 rfl (fun hN => absurd hN (by decide)) (fun _ => ?_)
      refine lv_iconst (v := 0) hx hb d_gm_told_64 (by decide) ?_
      exact gx_iret hx hb hr hlk d_gm_told_65 hS.2.2 ⟨3, 0, 0, Or.inl ⟨rfl, fun g => h2 g.2⟩, fun _ => rfl, rfl, hP, gFr.of hS⟩
set_option maxHeartbeats 4000000 in
set_option maxRecDepth 100000 in
theorem w_gm_wrong {p : Program} {l : Launch} {e : Env} {R : Room} {s : State} {m : MethodId} {args : Array Value} {below : List Frame} {meth : Method} {c : Code} {H : Heap} {locs : List Loc} {cells slots : Nat} {Q : State → Prop} {E : gE} {h : Nat} {q : Nat → Nat} {b : gA} {nw : Nat → Nat} {n : Nat} {th st : Int32} (C : gC E "GrowFormsModel" prog_3_method_13_code p s m c) (hml : c.maxLocals = 2) (hP : va_P E.1 gcl (mW h q E.2.1 E.2.2.1 b (nI n) th st) H) (hwf : gWf b n) (hnw : gNw b nw n) (hgm : gM b nw n) (hfm : ∀ i, i < n → gfitM b nw i = gfit b nw i) (hR : rmG.frames + 1 ≤ R.frames ∧ 8 + (7 + 11) + rmG.locals ≤ R.locals) (hcs : cells + rmG.cells ≤ R.cells ∧ slots + rmG.slots ≤ R.slots)
    (kk : ∀ (pc : Nat) (ls : Array Slot), decode prog_3_method_13_code pc = .ok (.ireturn, 1) → W p l e R s m args below meth c H locs cells slots Q (F0 m pc ls [.int (gwr b nw n 0)])) :
    ∀ (d i : Nat) (ls : Array Slot), i + d = n → gwr b nw d i = gwr b nw n 0 → lv_has ls 2 [(1, .int (nI i)), (0, .ref h)] → W p l e R s m args below meth c H locs cells slots Q (F0 m 27 ls []) := by
  have hx := C.1
  have hb := C.2.1
  have hT := C.2.2.2
  have hn := hwf.1
  intro d
  induction d with
  | zero =>
    intro i ls hd hg hl
    refine lv_iload_n hx hb d_gm_wrong_27 rfl (lv_at hl 0 rfl) ?_
    refine lv_aload_n hx hb d_gm_wrong_28 rfl (lv_at hl 1 rfl) ?_
    refine gm_get C hP 8 (by decide) rfl d_gm_wrong_29 ?_
    refine lv_icmp_ge (tgt := 51) hx hb d_gm_wrong_32 rfl (fun _ => ?_) (fun hN => absurd (nI_le (by omega) (by omega)) hN)
    refine lv_iconst (v := (-1)) hx hb d_gm_wrong_51 (by decide) ?_
    rw [show ((-1 : Int32)) = gwr b nw n 0 from hg]
    exact kk 52 ls d_gm_wrong_52
  | succ d ih =>
    intro i ls hd hg hl
    have hi : i < n := by omega
    refine lv_iload_n hx hb d_gm_wrong_27 rfl (lv_at hl 0 rfl) ?_
    refine lv_aload_n hx hb d_gm_wrong_28 rfl (lv_at hl 1 rfl) ?_
    refine gm_get C hP 8 (by decide) rfl d_gm_wrong_29 ?_
    refine lv_icmp_ge (tgt := 51) hx hb d_gm_wrong_32 rfl (fun hN => absurd hN (nI_ge (by omega) (by omega))) (fun _ => ?_)
    refine lv_aload_n hx hb d_gm_wrong_35 rfl (lv_at hl 1 rfl) ?_
    refine lv_iload_n hx hb d_gm_wrong_36 rfl (lv_at hl 0 rfl) ?_
    refine gx_virtP (c_gm_isFitting l E h q b nw n i (nI n) th st hwf hnw hgm hi) [.int (nI i)] h [] hx hb (hml.trans hl.1.symm) C.2.2.1 (gMd_code (a := #[]) (C.wd _ tw_325)) (C.wd _ tw_322) (C.wd _ tw_324) (C.wd _ tw_6) ⟨by decide +kernel, by decide +kernel⟩ (by decide +kernel) (show (parseMethodDescriptor y_gm_isFitting.desc).map (fun d => d.parameters.length) = some 1 by decide +kernel) (gm_recv hT hP) (fun U hU hW => ⟨rfl, hT.moved hW, by rw [hU]; exact hP⟩) (Nat.le_of_ble_eq_true rfl) hR hcs d_gm_wrong_37 rfl ?_
    rw [hfm i hi]
    refine lv_if_ne (tgt := 45) hx hb d_gm_wrong_40 rfl (fun h4 => ?_) (fun h4 => ?_)
    · skip
      refine lv_iinc (k := 0) (v := (nI (i + 1))) hx hb d_gm_wrong_45 hl rfl (g_inc i) (by decide) rfl (fun ls hl => ?_)
      have hl : lv_has ls 2 [(1, .int (nI (i + 1))), (0, .ref h)] := hl
      refine lv_goto (tgt := 27) hx hb d_gm_wrong_48 rfl ?_
      exact ih (i + 1) ls (by omega) (by rw [← hg, gwr, if_pos (gb_ne.mp h4)]) hl
    · skip
      refine lv_iload_n hx hb d_gm_wrong_43 rfl (lv_at hl 0 rfl) ?_
      rw [show nI i = gwr b nw n 0 from by rw [← hg, gwr, if_neg (by rw [gb_eq.mp h4]; decide)]]
      exact kk 44 ls d_gm_wrong_44
set_option maxHeartbeats 4000000 in
set_option maxRecDepth 100000 in
theorem c_gm_wrong (l : Launch) (E : gE) (h : Nat) (q : Nat → Nat) (b : gA) (nw : Nat → Nat) (n : Nat) (th st : Int32) (hDm : gDM h q) (hwf : gWf b n) (hset : ¬ st = 0 → gNw b nw n ∧ gM b nw n) (hfm : ∀ i, i < n → ¬ st = 0 → gfitM b nw i = gfit b nw i) : GMet l y_gm_wrong prog_3_method_13_code 2 (some .int) [] rmH (gPw E [.ref h] (mW h q E.2.1 E.2.2.1 b (nI n) th st)) (fun H o H1 => (¬ st = 0 ∧ o = .returned (some (.int (gwr b nw n 0))) ∧ va_P E.1 gcl (mW h q E.2.1 E.2.2.1 b (nI n) 0 st) H1 ∧ gFr (gIM h q) H H1) ∨ (st = 0 ∧ o = .returned (some (.int 0)) ∧ va_P E.1 gcl (mW h q E.2.1 E.2.2.1 b (nI n) 1 st) H1 ∧ gFr (gIM h q) H H1)) 0 0 (gIM h q) := by
  intro p e s m args below meth c hF hP0
  obtain ⟨hx, hb, hml, hr, hlk, hown, hnm, hex⟩ := hF
  obtain ⟨rfl, hT, hP⟩ := hP0
  have C : gC E "GrowFormsModel" prog_3_method_13_code p s m c := ⟨hx, hb, hown, hT⟩
  have hD := hDm.to E.2.1 E.2.2.1 b (nI n) th st
  have hS : va_S (gIM h q) s.heap s.heap [] := va_S.rf
  have hn := hwf.1
  have hl := lv_entry ([.ref h]) (n := 2) (Nat.le_of_ble_eq_true rfl)
  rw [lg_entry_eq]
  generalize (lg_sl ([.ref h]) ++ List.replicate (2 - (lg_sl ([.ref h])).length) Slot.unset).toArray = ls at hl ⊢
  have hl : lv_has ls 2 [(0, .ref h)] := hl
  refine lv_aload_n hx hb d_gm_wrong_0 rfl (lv_at hl 0 rfl) ?_
  refine lv_aload_n hx hb d_gm_wrong_1 rfl (lv_at hl 0 rfl) ?_
  refine gm_get C hP 10 (by decide) rfl d_gm_wrong_2 ?_
  refine lv_if_eq (tgt := 12) hx hb d_gm_wrong_5 rfl (fun hst => ?_) (fun hst => ?_)
  · skip
    refine lv_iconst (v := 1) hx hb d_gm_wrong_12 (by decide) ?_
    refine gm_putth C hP hD hS d_gm_wrong_13 (fun H locs hP hS => ?_)
    refine lv_aload_n hx hb d_gm_wrong_16 rfl (lv_at hl 0 rfl) ?_
    refine gm_get C hP 9 (by decide) rfl d_gm_wrong_17 ?_
    refine lv_if_le (tgt := 25) hx hb d_gm_wrong_20 rfl (fun hN => absurd hN (by decide)) (fun _ => ?_)
    refine lv_iconst (v := 0) hx hb d_gm_wrong_23 (by decide) ?_
    exact gx_iret hx hb hr hlk d_gm_wrong_24 hS.2.2 (Or.inr ⟨hst, rfl, hP, gFr.of hS⟩)
  · skip
    obtain ⟨hnw, hgm⟩ := hset hst
    refine lv_iconst (v := 0) hx hb d_gm_wrong_8 (by decide) ?_
    refine lv_goto (tgt := 13) hx hb d_gm_wrong_9 rfl ?_
    refine gm_putth C hP hD hS d_gm_wrong_13 (fun H locs hP hS => ?_)
    refine lv_aload_n hx hb d_gm_wrong_16 rfl (lv_at hl 0 rfl) ?_
    refine gm_get C hP 9 (by decide) rfl d_gm_wrong_17 ?_
    refine lv_if_le (tgt := 25) hx hb d_gm_wrong_20 rfl (fun _ => ?_) (fun hN => absurd (by decide) hN)
    refine lv_iconst (v := 0) hx hb d_gm_wrong_25 (by decide) ?_
    refine lv_istore_n hx hb d_gm_wrong_26 rfl hl (by decide) rfl (fun ls hl => ?_)
    have hl : lv_has ls 2 [(1, .int 0), (0, .ref h)] := hl
    refine w_gm_wrong C hml hP hwf hnw hgm (fun i hi => hfm i hi hst) ⟨by decide, by decide⟩ ⟨by decide, by decide⟩ (fun pc ls hd => ?_) n 0 ls (by omega) rfl hl
    exact gx_iret hx hb hr hlk hd hS.2.2 (Or.inl ⟨hst, rfl, hP, gFr.of hS⟩)
end
section
theorem gW_in {h : Nat} {q : Nat → Nat} {cI : ClassId} {a : gA} {ln st : Int32} : ∀ (k : Nat) (x : Nat × va_E), (gW h q cI a ln st)[k]? = some x → gIG h q x.1
  | 0, x, hk => by cases hk; exact Or.inl rfl
  | k + 1, x, hk => by
    have h10 : k + 1 < 10 := (List.getElem?_eq_some_iff.mp hk).1
    rw [gW_at h q cI a ln st k (by omega)] at hk
    cases hk
    exact Or.inr ⟨k, by omega, rfl⟩
theorem mW_in {h : Nat} {q : Nat → Nat} {cI cZ : ClassId} {b : gA} {ln th st : Int32} : ∀ (k : Nat) (x : Nat × va_E), (mW h q cI cZ b ln th st)[k]? = some x → gIM h q x.1
  | 0, x, hk => by cases hk; exact Or.inl rfl
  | k + 1, x, hk => by
    have h9 : k + 1 < 9 := (List.getElem?_eq_some_iff.mp hk).1
    by_cases h7 : k < 7
    · rw [mW_at h q cI cZ b ln th st k h7] at hk
      cases hk
      exact Or.inr ⟨k, by omega, rfl⟩
    · have h8 : k = 7 := by omega
      subst h8
      cases hk
      exact Or.inr ⟨7, by omega, rfl⟩
section GN
variable {p : Program} {l : Launch} {e : Env} {R : Room} {s : State} {m : MethodId} {args : Array Value} {below : List Frame} {meth : Method} {c : Code} {H : Heap} {locs : List Loc} {cells slots : Nat} {Q : State → Prop}
variable {cc : ByteArray} {pc : Nat} {ls : Array Slot} {rest : List Value} {E : gE} {A : Nat → Prop} {H0 : Heap} {ws : va_W}
theorem g_newI (hx : p.tables.exec = Jvm.exec) (hb : c.code = cc) (hT : gT E s) (hP : va_P E.1 gcl ws H) (hD : va_D A ws) (hS : va_S A H0 H locs) (hA : ∀ q, H0.size ≤ q → A q) {n : Int32} {N : Nat} (hn : ¬ n < 0) (hN : n.toNatClampNeg = N) (hby : N * componentBytes .int ≤ 536870912) (hcells : cells + 1 ≤ R.cells) (hslots : slots + N ≤ R.slots) (hdg : decode cc pc = .ok (.newarray .int, 2))
    (kk : ∀ (q : Nat) (H1 : Heap), va_P E.1 gcl (ws ++ [(q, .inl (E.2.1, N, .inl (fun _ => 0)))]) H1 → va_D A (ws ++ [(q, .inl (E.2.1, N, .inl (fun _ => 0)))]) → va_S A H0 H1 locs → W p l e R s m args below meth c H1 locs (cells + 1) (slots + N) Q (F0 m (pc + 2) ls (.ref q :: rest))) : W p l e R s m args below meth c H locs cells slots Q (F0 m pc ls (.int n :: rest)) := by
  refine va_newa (atype := .int) (ty := .int) hx hb (hT.1 _ tw_60 args) rfl hT.2 hP hD hS hA (a0 := (N, .inl (fun _ => 0))) (fun cA => rfl) hn hN hby hcells hslots hdg (fun q cA H1 hK1 hP1 hD1 hS1 => ?_)
  have e1 : s.vm.findClass ("[" ++ FieldType.toString .int) = some cA := (hK1.2 3 (cA, .int) rfl).2
  have e2 : s.vm.findClass ("[" ++ FieldType.toString .int) = some E.2.1 := (hT.2.2 0 (E.2.1, .int) rfl).2
  obtain rfl : cA = E.2.1 := Option.some.inj (e1.symm.trans e2)
  exact kk q H1 hP1 hD1 hS1
theorem g_newZ (hx : p.tables.exec = Jvm.exec) (hb : c.code = cc) (hT : gT E s) (hP : va_P E.1 gcl ws H) (hD : va_D A ws) (hS : va_S A H0 H locs) (hA : ∀ q, H0.size ≤ q → A q) {n : Int32} {N : Nat} (hn : ¬ n < 0) (hN : n.toNatClampNeg = N) (hby : N * componentBytes .boolean ≤ 536870912) (hcells : cells + 1 ≤ R.cells) (hslots : slots + N ≤ R.slots) (hdg : decode cc pc = .ok (.newarray .boolean, 2))
    (kk : ∀ (q : Nat) (H1 : Heap), va_P E.1 gcl (ws ++ [(q, .inl (E.2.2.1, N, .inl (fun _ => 0)))]) H1 → va_D A (ws ++ [(q, .inl (E.2.2.1, N, .inl (fun _ => 0)))]) → va_S A H0 H1 locs → W p l e R s m args below meth c H1 locs (cells + 1) (slots + N) Q (F0 m (pc + 2) ls (.ref q :: rest))) : W p l e R s m args below meth c H locs cells slots Q (F0 m pc ls (.int n :: rest)) := by
  refine va_newa (atype := .boolean) (ty := .boolean) hx hb (hT.1 _ tw_293 args) rfl hT.2 hP hD hS hA (a0 := (N, .inl (fun _ => 0))) (fun cA => rfl) hn hN hby hcells hslots hdg (fun q cA H1 hK1 hP1 hD1 hS1 => ?_)
  have e1 : s.vm.findClass ("[" ++ FieldType.toString .boolean) = some cA := (hK1.2 3 (cA, .boolean) rfl).2
  have e2 : s.vm.findClass ("[" ++ FieldType.toString .boolean) = some E.2.2.1 := (hT.2.2 1 (E.2.2.1, .boolean) rfl).2
  obtain rfl : cA = E.2.2.1 := Option.some.inj (e1.symm.trans e2)
  exact kk q H1 hP1 hD1 hS1
theorem g_newJ (hx : p.tables.exec = Jvm.exec) (hb : c.code = cc) (hT : gT E s) (hP : va_P E.1 gcl ws H) (hD : va_D A ws) (hS : va_S A H0 H locs) (hA : ∀ q, H0.size ≤ q → A q) {n : Int32} {N : Nat} (hn : ¬ n < 0) (hN : n.toNatClampNeg = N) (hby : N * componentBytes .long ≤ 536870912) (hcells : cells + 1 ≤ R.cells) (hslots : slots + N ≤ R.slots) (hdg : decode cc pc = .ok (.newarray .long, 2))
    (kk : ∀ (q : Nat) (H1 : Heap), va_P E.1 gcl (ws ++ [(q, .inl (E.2.2.2, N, .inr (.inl (fun _ => 0))))]) H1 → va_D A (ws ++ [(q, .inl (E.2.2.2, N, .inr (.inl (fun _ => 0))))]) → va_S A H0 H1 locs → W p l e R s m args below meth c H1 locs (cells + 1) (slots + N) Q (F0 m (pc + 2) ls (.ref q :: rest))) : W p l e R s m args below meth c H locs cells slots Q (F0 m pc ls (.int n :: rest)) := by
  refine va_newa (atype := .long) (ty := .long) hx hb (hT.1 _ tw_343 args) rfl hT.2 hP hD hS hA (a0 := (N, .inr (.inl (fun _ => 0)))) (fun cA => rfl) hn hN hby hcells hslots hdg (fun q cA H1 hK1 hP1 hD1 hS1 => ?_)
  have e1 : s.vm.findClass ("[" ++ FieldType.toString .long) = some cA := (hK1.2 3 (cA, .long) rfl).2
  have e2 : s.vm.findClass ("[" ++ FieldType.toString .long) = some E.2.2.2 := (hT.2.2 2 (E.2.2.2, .long) rfl).2
  obtain rfl : cA = E.2.2.2 := Option.some.inj (e1.symm.trans e2)
  exact kk q H1 hP1 hD1 hS1
end GN
set_option maxHeartbeats 4000000 in
set_option maxRecDepth 100000 in
theorem c_gf_init (l : Launch) (E : gE) (h sz : Nat) : GMet l y_gf_init prog_1_method_1_code 1 none [] { frames := 1, cells := 9, slots := 2161, locals := 12 } (fun v U => U.heap.size = sz ∧ gPw E [.ref h] [(h, .inr (0, [.null, .null, .null, .null, .null, .null, .null, .null, .null, .int 0, .int 0]))] v U) (fun H o H1 => o = .returned none ∧ ∃ q : Nat → Nat, va_P E.1 gcl (gW h q E.2.1 (fun _ _ => 0) 0 0) H1 ∧ gDG h q ∧ (∀ k, k < 9 → sz ≤ q k) ∧ gFr (fun z => z = h) H H1) 9 2161 (fun z => z = h ∨ sz ≤ z) := by
  intro p e s m args below meth c hF hP0
  obtain ⟨hx, hb, hml, hr, hlk, hown, hnm, hex⟩ := hF
  obtain ⟨hsz, rfl, hT, hP⟩ := hP0
  have C : gC E "GrowForms" prog_1_method_1_code p s m c := ⟨hx, hb, hown, hT⟩
  have hin : meth.name = "<init>" := hnm
  subst hsz
  have hlt : h < s.heap.size := (hP 0 _ rfl).lt
  have hD : va_D (fun z => z = h ∨ s.heap.size ≤ z) [(h, .inr (0, [.null, .null, .null, .null, .null, .null, .null, .null, .null, .int 0, .int 0]))] := ⟨fun i j x y hi hj _ => by
    have h1 := (List.getElem?_eq_some_iff.mp hi).1
    have h2 := (List.getElem?_eq_some_iff.mp hj).1
    simp at h1 h2
    omega, fun k x hk => by
    have h1 := (List.getElem?_eq_some_iff.mp hk).1
    simp at h1
    subst h1
    cases hk
    exact Or.inl rfl⟩
  have hA : ∀ z : Nat, s.heap.size ≤ z → (z = h ∨ s.heap.size ≤ z) := fun z hz => Or.inr hz
  have hS : va_S (fun z => z = h ∨ s.heap.size ≤ z) s.heap s.heap [] := va_S.rf
  have hl := lv_entry ([.ref h]) (n := 1) (Nat.le_of_ble_eq_true rfl)
  rw [lg_entry_eq]
  generalize (lg_sl ([.ref h]) ++ List.replicate (1 - (lg_sl ([.ref h])).length) Slot.unset).toArray = ls at hl ⊢
  have hl : lv_has ls 1 [(0, .ref h)] := hl
  refine lv_aload_n hx hb d_gf_init_0 rfl (lv_at hl 0 rfl) ?_
  refine W.objInit hx hb hown (C.wd _ tw_23) (C.wd _ tw_24) (C.wd _ tw_25) rfl (by rw [hml]; exact hl.1) rfl d_gf_init_1 (Nat.le_of_ble_eq_true rfl) (Nat.le_of_ble_eq_true rfl) ?_
  refine W.eq (g2 := F0 m 4 ls []) rfl ?_
  refine lv_aload_n hx hb d_gf_init_4 rfl (lv_at hl 0 rfl) ?_
  refine lv_bipush (v := 120) hx hb d_gf_init_5 (by decide) ?_
  refine g_newI (N := 120) hx hb hT hP hD hS hA (by decide) (by decide) (by decide) (by decide) (by decide) d_gf_init_7 (fun q0 H hP hD hS => ?_)
  have hP : va_P E.1 gcl [(h, .inr (0, [.null, .null, .null, .null, .null, .null, .null, .null, .null, .int 0, .int 0])), (q0, .inl (E.2.1, 120, .inl (fun _ => 0)))] H := hP
  have hD : va_D (fun z => z = h ∨ s.heap.size ≤ z) [(h, .inr (0, [.null, .null, .null, .null, .null, .null, .null, .null, .null, .int 0, .int 0])), (q0, .inl (E.2.1, 120, .inl (fun _ => 0)))] := hD
  refine va_putF (D := E.1) (ci := 0) (v := .ref q0) (ty := .array .int) (C := "GrowForms") (T := F_GF) (N := 11) (Ts := gwl) (own := "GrowForms") (ref := "GrowForms") hx hb C.wd u_GF_in t_GF t_GF_ok n_GF hown hT.2 hP hD hS 0 rfl rfl 0 (by decide) (C.wd _ (x_GF_in 0 (by decide))) (fun _ z => z) rfl hin rfl (by decide +kernel) rfl rfl (Nat.le_of_ble_eq_true rfl) d_gf_init_9 (fun H locs hP hD hS => ?_)
  have hP : va_P E.1 gcl [(h, .inr (0, [.ref q0, .null, .null, .null, .null, .null, .null, .null, .null, .int 0, .int 0])), (q0, .inl (E.2.1, 120, .inl (fun _ => 0)))] H := hP
  have hD : va_D (fun z => z = h ∨ s.heap.size ≤ z) [(h, .inr (0, [.ref q0, .null, .null, .null, .null, .null, .null, .null, .null, .int 0, .int 0])), (q0, .inl (E.2.1, 120, .inl (fun _ => 0)))] := hD
  refine lv_aload_n hx hb d_gf_init_12 rfl (lv_at hl 0 rfl) ?_
  refine lv_sipush (v := 480) hx hb d_gf_init_13 (by decide) ?_
  refine g_newI (N := 480) hx hb hT hP hD hS hA (by decide) (by decide) (by decide) (by decide) (by decide) d_gf_init_16 (fun q1 H hP hD hS => ?_)
  have hP : va_P E.1 gcl [(h, .inr (0, [.ref q0, .null, .null, .null, .null, .null, .null, .null, .null, .int 0, .int 0])), (q0, .inl (E.2.1, 120, .inl (fun _ => 0))), (q1, .inl (E.2.1, 480, .inl (fun _ => 0)))] H := hP
  have hD : va_D (fun z => z = h ∨ s.heap.size ≤ z) [(h, .inr (0, [.ref q0, .null, .null, .null, .null, .null, .null, .null, .null, .int 0, .int 0])), (q0, .inl (E.2.1, 120, .inl (fun _ => 0))), (q1, .inl (E.2.1, 480, .inl (fun _ => 0)))] := hD
  refine va_putF (D := E.1) (ci := 0) (v := .ref q1) (ty := .array .int) (C := "GrowForms") (T := F_GF) (N := 11) (Ts := gwl) (own := "GrowForms") (ref := "GrowForms") hx hb C.wd u_GF_in t_GF t_GF_ok n_GF hown hT.2 hP hD hS 0 rfl rfl 1 (by decide) (C.wd _ (x_GF_in 1 (by decide))) (fun _ z => z) rfl hin rfl (by decide +kernel) rfl rfl (Nat.le_of_ble_eq_true rfl) d_gf_init_18 (fun H locs hP hD hS => ?_)
  have hP : va_P E.1 gcl [(h, .inr (0, [.ref q0, .ref q1, .null, .null, .null, .null, .null, .null, .null, .int 0, .int 0])), (q0, .inl (E.2.1, 120, .inl (fun _ => 0))), (q1, .inl (E.2.1, 480, .inl (fun _ => 0)))] H := hP
  have hD : va_D (fun z => z = h ∨ s.heap.size ≤ z) [(h, .inr (0, [.ref q0, .ref q1, .null, .null, .null, .null, .null, .null, .null, .int 0, .int 0])), (q0, .inl (E.2.1, 120, .inl (fun _ => 0))), (q1, .inl (E.2.1, 480, .inl (fun _ => 0)))] := hD
  refine lv_aload_n hx hb d_gf_init_21 rfl (lv_at hl 0 rfl) ?_
  refine lv_sipush (v := 480) hx hb d_gf_init_22 (by decide) ?_
  refine g_newI (N := 480) hx hb hT hP hD hS hA (by decide) (by decide) (by decide) (by decide) (by decide) d_gf_init_25 (fun q2 H hP hD hS => ?_)
  have hP : va_P E.1 gcl [(h, .inr (0, [.ref q0, .ref q1, .null, .null, .null, .null, .null, .null, .null, .int 0, .int 0])), (q0, .inl (E.2.1, 120, .inl (fun _ => 0))), (q1, .inl (E.2.1, 480, .inl (fun _ => 0))), (q2, .inl (E.2.1, 480, .inl (fun _ => 0)))] H := hP
  have hD : va_D (fun z => z = h ∨ s.heap.size ≤ z) [(h, .inr (0, [.ref q0, .ref q1, .null, .null, .null, .null, .null, .null, .null, .int 0, .int 0])), (q0, .inl (E.2.1, 120, .inl (fun _ => 0))), (q1, .inl (E.2.1, 480, .inl (fun _ => 0))), (q2, .inl (E.2.1, 480, .inl (fun _ => 0)))] := hD
  refine va_putF (D := E.1) (ci := 0) (v := .ref q2) (ty := .array .int) (C := "GrowForms") (T := F_GF) (N := 11) (Ts := gwl) (own := "GrowForms") (ref := "GrowForms") hx hb C.wd u_GF_in t_GF t_GF_ok n_GF hown hT.2 hP hD hS 0 rfl rfl 2 (by decide) (C.wd _ (x_GF_in 2 (by decide))) (fun _ z => z) rfl hin rfl (by decide +kernel) rfl rfl (Nat.le_of_ble_eq_true rfl) d_gf_init_27 (fun H locs hP hD hS => ?_)
  have hP : va_P E.1 gcl [(h, .inr (0, [.ref q0, .ref q1, .ref q2, .null, .null, .null, .null, .null, .null, .int 0, .int 0])), (q0, .inl (E.2.1, 120, .inl (fun _ => 0))), (q1, .inl (E.2.1, 480, .inl (fun _ => 0))), (q2, .inl (E.2.1, 480, .inl (fun _ => 0)))] H := hP
  have hD : va_D (fun z => z = h ∨ s.heap.size ≤ z) [(h, .inr (0, [.ref q0, .ref q1, .ref q2, .null, .null, .null, .null, .null, .null, .int 0, .int 0])), (q0, .inl (E.2.1, 120, .inl (fun _ => 0))), (q1, .inl (E.2.1, 480, .inl (fun _ => 0))), (q2, .inl (E.2.1, 480, .inl (fun _ => 0)))] := hD
  refine lv_aload_n hx hb d_gf_init_30 rfl (lv_at hl 0 rfl) ?_
  refine lv_sipush (v := 480) hx hb d_gf_init_31 (by decide) ?_
  refine g_newI (N := 480) hx hb hT hP hD hS hA (by decide) (by decide) (by decide) (by decide) (by decide) d_gf_init_34 (fun q3 H hP hD hS => ?_)
  have hP : va_P E.1 gcl [(h, .inr (0, [.ref q0, .ref q1, .ref q2, .null, .null, .null, .null, .null, .null, .int 0, .int 0])), (q0, .inl (E.2.1, 120, .inl (fun _ => 0))), (q1, .inl (E.2.1, 480, .inl (fun _ => 0))), (q2, .inl (E.2.1, 480, .inl (fun _ => 0))), (q3, .inl (E.2.1, 480, .inl (fun _ => 0)))] H := hP
  have hD : va_D (fun z => z = h ∨ s.heap.size ≤ z) [(h, .inr (0, [.ref q0, .ref q1, .ref q2, .null, .null, .null, .null, .null, .null, .int 0, .int 0])), (q0, .inl (E.2.1, 120, .inl (fun _ => 0))), (q1, .inl (E.2.1, 480, .inl (fun _ => 0))), (q2, .inl (E.2.1, 480, .inl (fun _ => 0))), (q3, .inl (E.2.1, 480, .inl (fun _ => 0)))] := hD
  refine va_putF (D := E.1) (ci := 0) (v := .ref q3) (ty := .array .int) (C := "GrowForms") (T := F_GF) (N := 11) (Ts := gwl) (own := "GrowForms") (ref := "GrowForms") hx hb C.wd u_GF_in t_GF t_GF_ok n_GF hown hT.2 hP hD hS 0 rfl rfl 3 (by decide) (C.wd _ (x_GF_in 3 (by decide))) (fun _ z => z) rfl hin rfl (by decide +kernel) rfl rfl (Nat.le_of_ble_eq_true rfl) d_gf_init_36 (fun H locs hP hD hS => ?_)
  have hP : va_P E.1 gcl [(h, .inr (0, [.ref q0, .ref q1, .ref q2, .ref q3, .null, .null, .null, .null, .null, .int 0, .int 0])), (q0, .inl (E.2.1, 120, .inl (fun _ => 0))), (q1, .inl (E.2.1, 480, .inl (fun _ => 0))), (q2, .inl (E.2.1, 480, .inl (fun _ => 0))), (q3, .inl (E.2.1, 480, .inl (fun _ => 0)))] H := hP
  have hD : va_D (fun z => z = h ∨ s.heap.size ≤ z) [(h, .inr (0, [.ref q0, .ref q1, .ref q2, .ref q3, .null, .null, .null, .null, .null, .int 0, .int 0])), (q0, .inl (E.2.1, 120, .inl (fun _ => 0))), (q1, .inl (E.2.1, 480, .inl (fun _ => 0))), (q2, .inl (E.2.1, 480, .inl (fun _ => 0))), (q3, .inl (E.2.1, 480, .inl (fun _ => 0)))] := hD
  refine lv_aload_n hx hb d_gf_init_39 rfl (lv_at hl 0 rfl) ?_
  refine lv_bipush (v := 120) hx hb d_gf_init_40 (by decide) ?_
  refine g_newI (N := 120) hx hb hT hP hD hS hA (by decide) (by decide) (by decide) (by decide) (by decide) d_gf_init_42 (fun q4 H hP hD hS => ?_)
  have hP : va_P E.1 gcl [(h, .inr (0, [.ref q0, .ref q1, .ref q2, .ref q3, .null, .null, .null, .null, .null, .int 0, .int 0])), (q0, .inl (E.2.1, 120, .inl (fun _ => 0))), (q1, .inl (E.2.1, 480, .inl (fun _ => 0))), (q2, .inl (E.2.1, 480, .inl (fun _ => 0))), (q3, .inl (E.2.1, 480, .inl (fun _ => 0))), (q4, .inl (E.2.1, 120, .inl (fun _ => 0)))] H := hP
  have hD : va_D (fun z => z = h ∨ s.heap.size ≤ z) [(h, .inr (0, [.ref q0, .ref q1, .ref q2, .ref q3, .null, .null, .null, .null, .null, .int 0, .int 0])), (q0, .inl (E.2.1, 120, .inl (fun _ => 0))), (q1, .inl (E.2.1, 480, .inl (fun _ => 0))), (q2, .inl (E.2.1, 480, .inl (fun _ => 0))), (q3, .inl (E.2.1, 480, .inl (fun _ => 0))), (q4, .inl (E.2.1, 120, .inl (fun _ => 0)))] := hD
  refine va_putF (D := E.1) (ci := 0) (v := .ref q4) (ty := .array .int) (C := "GrowForms") (T := F_GF) (N := 11) (Ts := gwl) (own := "GrowForms") (ref := "GrowForms") hx hb C.wd u_GF_in t_GF t_GF_ok n_GF hown hT.2 hP hD hS 0 rfl rfl 4 (by decide) (C.wd _ (x_GF_in 4 (by decide))) (fun _ z => z) rfl hin rfl (by decide +kernel) rfl rfl (Nat.le_of_ble_eq_true rfl) d_gf_init_44 (fun H locs hP hD hS => ?_)
  have hP : va_P E.1 gcl [(h, .inr (0, [.ref q0, .ref q1, .ref q2, .ref q3, .ref q4, .null, .null, .null, .null, .int 0, .int 0])), (q0, .inl (E.2.1, 120, .inl (fun _ => 0))), (q1, .inl (E.2.1, 480, .inl (fun _ => 0))), (q2, .inl (E.2.1, 480, .inl (fun _ => 0))), (q3, .inl (E.2.1, 480, .inl (fun _ => 0))), (q4, .inl (E.2.1, 120, .inl (fun _ => 0)))] H := hP
  have hD : va_D (fun z => z = h ∨ s.heap.size ≤ z) [(h, .inr (0, [.ref q0, .ref q1, .ref q2, .ref q3, .ref q4, .null, .null, .null, .null, .int 0, .int 0])), (q0, .inl (E.2.1, 120, .inl (fun _ => 0))), (q1, .inl (E.2.1, 480, .inl (fun _ => 0))), (q2, .inl (E.2.1, 480, .inl (fun _ => 0))), (q3, .inl (E.2.1, 480, .inl (fun _ => 0))), (q4, .inl (E.2.1, 120, .inl (fun _ => 0)))] := hD
  refine lv_aload_n hx hb d_gf_init_47 rfl (lv_at hl 0 rfl) ?_
  refine lv_bipush (v := 120) hx hb d_gf_init_48 (by decide) ?_
  refine g_newI (N := 120) hx hb hT hP hD hS hA (by decide) (by decide) (by decide) (by decide) (by decide) d_gf_init_50 (fun q5 H hP hD hS => ?_)
  have hP : va_P E.1 gcl [(h, .inr (0, [.ref q0, .ref q1, .ref q2, .ref q3, .ref q4, .null, .null, .null, .null, .int 0, .int 0])), (q0, .inl (E.2.1, 120, .inl (fun _ => 0))), (q1, .inl (E.2.1, 480, .inl (fun _ => 0))), (q2, .inl (E.2.1, 480, .inl (fun _ => 0))), (q3, .inl (E.2.1, 480, .inl (fun _ => 0))), (q4, .inl (E.2.1, 120, .inl (fun _ => 0))), (q5, .inl (E.2.1, 120, .inl (fun _ => 0)))] H := hP
  have hD : va_D (fun z => z = h ∨ s.heap.size ≤ z) [(h, .inr (0, [.ref q0, .ref q1, .ref q2, .ref q3, .ref q4, .null, .null, .null, .null, .int 0, .int 0])), (q0, .inl (E.2.1, 120, .inl (fun _ => 0))), (q1, .inl (E.2.1, 480, .inl (fun _ => 0))), (q2, .inl (E.2.1, 480, .inl (fun _ => 0))), (q3, .inl (E.2.1, 480, .inl (fun _ => 0))), (q4, .inl (E.2.1, 120, .inl (fun _ => 0))), (q5, .inl (E.2.1, 120, .inl (fun _ => 0)))] := hD
  refine va_putF (D := E.1) (ci := 0) (v := .ref q5) (ty := .array .int) (C := "GrowForms") (T := F_GF) (N := 11) (Ts := gwl) (own := "GrowForms") (ref := "GrowForms") hx hb C.wd u_GF_in t_GF t_GF_ok n_GF hown hT.2 hP hD hS 0 rfl rfl 5 (by decide) (C.wd _ (x_GF_in 5 (by decide))) (fun _ z => z) rfl hin rfl (by decide +kernel) rfl rfl (Nat.le_of_ble_eq_true rfl) d_gf_init_52 (fun H locs hP hD hS => ?_)
  have hP : va_P E.1 gcl [(h, .inr (0, [.ref q0, .ref q1, .ref q2, .ref q3, .ref q4, .ref q5, .null, .null, .null, .int 0, .int 0])), (q0, .inl (E.2.1, 120, .inl (fun _ => 0))), (q1, .inl (E.2.1, 480, .inl (fun _ => 0))), (q2, .inl (E.2.1, 480, .inl (fun _ => 0))), (q3, .inl (E.2.1, 480, .inl (fun _ => 0))), (q4, .inl (E.2.1, 120, .inl (fun _ => 0))), (q5, .inl (E.2.1, 120, .inl (fun _ => 0)))] H := hP
  have hD : va_D (fun z => z = h ∨ s.heap.size ≤ z) [(h, .inr (0, [.ref q0, .ref q1, .ref q2, .ref q3, .ref q4, .ref q5, .null, .null, .null, .int 0, .int 0])), (q0, .inl (E.2.1, 120, .inl (fun _ => 0))), (q1, .inl (E.2.1, 480, .inl (fun _ => 0))), (q2, .inl (E.2.1, 480, .inl (fun _ => 0))), (q3, .inl (E.2.1, 480, .inl (fun _ => 0))), (q4, .inl (E.2.1, 120, .inl (fun _ => 0))), (q5, .inl (E.2.1, 120, .inl (fun _ => 0)))] := hD
  refine lv_aload_n hx hb d_gf_init_55 rfl (lv_at hl 0 rfl) ?_
  refine lv_bipush (v := 120) hx hb d_gf_init_56 (by decide) ?_
  refine g_newI (N := 120) hx hb hT hP hD hS hA (by decide) (by decide) (by decide) (by decide) (by decide) d_gf_init_58 (fun q6 H hP hD hS => ?_)
  have hP : va_P E.1 gcl [(h, .inr (0, [.ref q0, .ref q1, .ref q2, .ref q3, .ref q4, .ref q5, .null, .null, .null, .int 0, .int 0])), (q0, .inl (E.2.1, 120, .inl (fun _ => 0))), (q1, .inl (E.2.1, 480, .inl (fun _ => 0))), (q2, .inl (E.2.1, 480, .inl (fun _ => 0))), (q3, .inl (E.2.1, 480, .inl (fun _ => 0))), (q4, .inl (E.2.1, 120, .inl (fun _ => 0))), (q5, .inl (E.2.1, 120, .inl (fun _ => 0))), (q6, .inl (E.2.1, 120, .inl (fun _ => 0)))] H := hP
  have hD : va_D (fun z => z = h ∨ s.heap.size ≤ z) [(h, .inr (0, [.ref q0, .ref q1, .ref q2, .ref q3, .ref q4, .ref q5, .null, .null, .null, .int 0, .int 0])), (q0, .inl (E.2.1, 120, .inl (fun _ => 0))), (q1, .inl (E.2.1, 480, .inl (fun _ => 0))), (q2, .inl (E.2.1, 480, .inl (fun _ => 0))), (q3, .inl (E.2.1, 480, .inl (fun _ => 0))), (q4, .inl (E.2.1, 120, .inl (fun _ => 0))), (q5, .inl (E.2.1, 120, .inl (fun _ => 0))), (q6, .inl (E.2.1, 120, .inl (fun _ => 0)))] := hD
  refine va_putF (D := E.1) (ci := 0) (v := .ref q6) (ty := .array .int) (C := "GrowForms") (T := F_GF) (N := 11) (Ts := gwl) (own := "GrowForms") (ref := "GrowForms") hx hb C.wd u_GF_in t_GF t_GF_ok n_GF hown hT.2 hP hD hS 0 rfl rfl 6 (by decide) (C.wd _ (x_GF_in 6 (by decide))) (fun _ z => z) rfl hin rfl (by decide +kernel) rfl rfl (Nat.le_of_ble_eq_true rfl) d_gf_init_60 (fun H locs hP hD hS => ?_)
  have hP : va_P E.1 gcl [(h, .inr (0, [.ref q0, .ref q1, .ref q2, .ref q3, .ref q4, .ref q5, .ref q6, .null, .null, .int 0, .int 0])), (q0, .inl (E.2.1, 120, .inl (fun _ => 0))), (q1, .inl (E.2.1, 480, .inl (fun _ => 0))), (q2, .inl (E.2.1, 480, .inl (fun _ => 0))), (q3, .inl (E.2.1, 480, .inl (fun _ => 0))), (q4, .inl (E.2.1, 120, .inl (fun _ => 0))), (q5, .inl (E.2.1, 120, .inl (fun _ => 0))), (q6, .inl (E.2.1, 120, .inl (fun _ => 0)))] H := hP
  have hD : va_D (fun z => z = h ∨ s.heap.size ≤ z) [(h, .inr (0, [.ref q0, .ref q1, .ref q2, .ref q3, .ref q4, .ref q5, .ref q6, .null, .null, .int 0, .int 0])), (q0, .inl (E.2.1, 120, .inl (fun _ => 0))), (q1, .inl (E.2.1, 480, .inl (fun _ => 0))), (q2, .inl (E.2.1, 480, .inl (fun _ => 0))), (q3, .inl (E.2.1, 480, .inl (fun _ => 0))), (q4, .inl (E.2.1, 120, .inl (fun _ => 0))), (q5, .inl (E.2.1, 120, .inl (fun _ => 0))), (q6, .inl (E.2.1, 120, .inl (fun _ => 0)))] := hD
  refine lv_aload_n hx hb d_gf_init_63 rfl (lv_at hl 0 rfl) ?_
  refine lv_bipush (v := 121) hx hb d_gf_init_64 (by decide) ?_
  refine g_newI (N := 121) hx hb hT hP hD hS hA (by decide) (by decide) (by decide) (by decide) (by decide) d_gf_init_66 (fun q7 H hP hD hS => ?_)
  have hP : va_P E.1 gcl [(h, .inr (0, [.ref q0, .ref q1, .ref q2, .ref q3, .ref q4, .ref q5, .ref q6, .null, .null, .int 0, .int 0])), (q0, .inl (E.2.1, 120, .inl (fun _ => 0))), (q1, .inl (E.2.1, 480, .inl (fun _ => 0))), (q2, .inl (E.2.1, 480, .inl (fun _ => 0))), (q3, .inl (E.2.1, 480, .inl (fun _ => 0))), (q4, .inl (E.2.1, 120, .inl (fun _ => 0))), (q5, .inl (E.2.1, 120, .inl (fun _ => 0))), (q6, .inl (E.2.1, 120, .inl (fun _ => 0))), (q7, .inl (E.2.1, 121, .inl (fun _ => 0)))] H := hP
  have hD : va_D (fun z => z = h ∨ s.heap.size ≤ z) [(h, .inr (0, [.ref q0, .ref q1, .ref q2, .ref q3, .ref q4, .ref q5, .ref q6, .null, .null, .int 0, .int 0])), (q0, .inl (E.2.1, 120, .inl (fun _ => 0))), (q1, .inl (E.2.1, 480, .inl (fun _ => 0))), (q2, .inl (E.2.1, 480, .inl (fun _ => 0))), (q3, .inl (E.2.1, 480, .inl (fun _ => 0))), (q4, .inl (E.2.1, 120, .inl (fun _ => 0))), (q5, .inl (E.2.1, 120, .inl (fun _ => 0))), (q6, .inl (E.2.1, 120, .inl (fun _ => 0))), (q7, .inl (E.2.1, 121, .inl (fun _ => 0)))] := hD
  refine va_putF (D := E.1) (ci := 0) (v := .ref q7) (ty := .array .int) (C := "GrowForms") (T := F_GF) (N := 11) (Ts := gwl) (own := "GrowForms") (ref := "GrowForms") hx hb C.wd u_GF_in t_GF t_GF_ok n_GF hown hT.2 hP hD hS 0 rfl rfl 7 (by decide) (C.wd _ (x_GF_in 7 (by decide))) (fun _ z => z) rfl hin rfl (by decide +kernel) rfl rfl (Nat.le_of_ble_eq_true rfl) d_gf_init_68 (fun H locs hP hD hS => ?_)
  have hP : va_P E.1 gcl [(h, .inr (0, [.ref q0, .ref q1, .ref q2, .ref q3, .ref q4, .ref q5, .ref q6, .ref q7, .null, .int 0, .int 0])), (q0, .inl (E.2.1, 120, .inl (fun _ => 0))), (q1, .inl (E.2.1, 480, .inl (fun _ => 0))), (q2, .inl (E.2.1, 480, .inl (fun _ => 0))), (q3, .inl (E.2.1, 480, .inl (fun _ => 0))), (q4, .inl (E.2.1, 120, .inl (fun _ => 0))), (q5, .inl (E.2.1, 120, .inl (fun _ => 0))), (q6, .inl (E.2.1, 120, .inl (fun _ => 0))), (q7, .inl (E.2.1, 121, .inl (fun _ => 0)))] H := hP
  have hD : va_D (fun z => z = h ∨ s.heap.size ≤ z) [(h, .inr (0, [.ref q0, .ref q1, .ref q2, .ref q3, .ref q4, .ref q5, .ref q6, .ref q7, .null, .int 0, .int 0])), (q0, .inl (E.2.1, 120, .inl (fun _ => 0))), (q1, .inl (E.2.1, 480, .inl (fun _ => 0))), (q2, .inl (E.2.1, 480, .inl (fun _ => 0))), (q3, .inl (E.2.1, 480, .inl (fun _ => 0))), (q4, .inl (E.2.1, 120, .inl (fun _ => 0))), (q5, .inl (E.2.1, 120, .inl (fun _ => 0))), (q6, .inl (E.2.1, 120, .inl (fun _ => 0))), (q7, .inl (E.2.1, 121, .inl (fun _ => 0)))] := hD
  refine lv_aload_n hx hb d_gf_init_71 rfl (lv_at hl 0 rfl) ?_
  refine lv_bipush (v := 120) hx hb d_gf_init_72 (by decide) ?_
  refine g_newI (N := 120) hx hb hT hP hD hS hA (by decide) (by decide) (by decide) (by decide) (by decide) d_gf_init_74 (fun q8 H hP hD hS => ?_)
  have hP : va_P E.1 gcl [(h, .inr (0, [.ref q0, .ref q1, .ref q2, .ref q3, .ref q4, .ref q5, .ref q6, .ref q7, .null, .int 0, .int 0])), (q0, .inl (E.2.1, 120, .inl (fun _ => 0))), (q1, .inl (E.2.1, 480, .inl (fun _ => 0))), (q2, .inl (E.2.1, 480, .inl (fun _ => 0))), (q3, .inl (E.2.1, 480, .inl (fun _ => 0))), (q4, .inl (E.2.1, 120, .inl (fun _ => 0))), (q5, .inl (E.2.1, 120, .inl (fun _ => 0))), (q6, .inl (E.2.1, 120, .inl (fun _ => 0))), (q7, .inl (E.2.1, 121, .inl (fun _ => 0))), (q8, .inl (E.2.1, 120, .inl (fun _ => 0)))] H := hP
  have hD : va_D (fun z => z = h ∨ s.heap.size ≤ z) [(h, .inr (0, [.ref q0, .ref q1, .ref q2, .ref q3, .ref q4, .ref q5, .ref q6, .ref q7, .null, .int 0, .int 0])), (q0, .inl (E.2.1, 120, .inl (fun _ => 0))), (q1, .inl (E.2.1, 480, .inl (fun _ => 0))), (q2, .inl (E.2.1, 480, .inl (fun _ => 0))), (q3, .inl (E.2.1, 480, .inl (fun _ => 0))), (q4, .inl (E.2.1, 120, .inl (fun _ => 0))), (q5, .inl (E.2.1, 120, .inl (fun _ => 0))), (q6, .inl (E.2.1, 120, .inl (fun _ => 0))), (q7, .inl (E.2.1, 121, .inl (fun _ => 0))), (q8, .inl (E.2.1, 120, .inl (fun _ => 0)))] := hD
  refine va_putF (D := E.1) (ci := 0) (v := .ref q8) (ty := .array .int) (C := "GrowForms") (T := F_GF) (N := 11) (Ts := gwl) (own := "GrowForms") (ref := "GrowForms") hx hb C.wd u_GF_in t_GF t_GF_ok n_GF hown hT.2 hP hD hS 0 rfl rfl 8 (by decide) (C.wd _ (x_GF_in 8 (by decide))) (fun _ z => z) rfl hin rfl (by decide +kernel) rfl rfl (Nat.le_of_ble_eq_true rfl) d_gf_init_76 (fun H locs hP hD hS => ?_)
  have hP : va_P E.1 gcl [(h, .inr (0, [.ref q0, .ref q1, .ref q2, .ref q3, .ref q4, .ref q5, .ref q6, .ref q7, .ref q8, .int 0, .int 0])), (q0, .inl (E.2.1, 120, .inl (fun _ => 0))), (q1, .inl (E.2.1, 480, .inl (fun _ => 0))), (q2, .inl (E.2.1, 480, .inl (fun _ => 0))), (q3, .inl (E.2.1, 480, .inl (fun _ => 0))), (q4, .inl (E.2.1, 120, .inl (fun _ => 0))), (q5, .inl (E.2.1, 120, .inl (fun _ => 0))), (q6, .inl (E.2.1, 120, .inl (fun _ => 0))), (q7, .inl (E.2.1, 121, .inl (fun _ => 0))), (q8, .inl (E.2.1, 120, .inl (fun _ => 0)))] H := hP
  have hD : va_D (fun z => z = h ∨ s.heap.size ≤ z) [(h, .inr (0, [.ref q0, .ref q1, .ref q2, .ref q3, .ref q4, .ref q5, .ref q6, .ref q7, .ref q8, .int 0, .int 0])), (q0, .inl (E.2.1, 120, .inl (fun _ => 0))), (q1, .inl (E.2.1, 480, .inl (fun _ => 0))), (q2, .inl (E.2.1, 480, .inl (fun _ => 0))), (q3, .inl (E.2.1, 480, .inl (fun _ => 0))), (q4, .inl (E.2.1, 120, .inl (fun _ => 0))), (q5, .inl (E.2.1, 120, .inl (fun _ => 0))), (q6, .inl (E.2.1, 120, .inl (fun _ => 0))), (q7, .inl (E.2.1, 121, .inl (fun _ => 0))), (q8, .inl (E.2.1, 120, .inl (fun _ => 0)))] := hD
  have hge : ∀ k, k < 9 → s.heap.size ≤ (fun k => match k with | 0 => q0 | 1 => q1 | 2 => q2 | 3 => q3 | 4 => q4 | 5 => q5 | 6 => q6 | 7 => q7 | _ => q8 : Nat → Nat) k := by
    intro k hk
    have key : ∀ (j : Nat) (x : Nat × va_E), ([(h, .inr (0, [.ref q0, .ref q1, .ref q2, .ref q3, .ref q4, .ref q5, .ref q6, .ref q7, .ref q8, .int 0, .int 0])), (q0, .inl (E.2.1, 120, .inl (fun _ => 0))), (q1, .inl (E.2.1, 480, .inl (fun _ => 0))), (q2, .inl (E.2.1, 480, .inl (fun _ => 0))), (q3, .inl (E.2.1, 480, .inl (fun _ => 0))), (q4, .inl (E.2.1, 120, .inl (fun _ => 0))), (q5, .inl (E.2.1, 120, .inl (fun _ => 0))), (q6, .inl (E.2.1, 120, .inl (fun _ => 0))), (q7, .inl (E.2.1, 121, .inl (fun _ => 0))), (q8, .inl (E.2.1, 120, .inl (fun _ => 0)))] : va_W)[j + 1]? = some x → s.heap.size ≤ x.1 := by
      intro j x hx1
      rcases hD.2 (j + 1) x hx1 with h1 | h1
      · exact absurd (hD.1 (j + 1) 0 x _ hx1 rfl h1) (by omega)
      · exact h1
    match k, hk with
    | 0, _ => exact key 0 _ rfl
    | 1, _ => exact key 1 _ rfl
    | 2, _ => exact key 2 _ rfl
    | 3, _ => exact key 3 _ rfl
    | 4, _ => exact key 4 _ rfl
    | 5, _ => exact key 5 _ rfl
    | 6, _ => exact key 6 _ rfl
    | 7, _ => exact key 7 _ rfl
    | 8, _ => exact key 8 _ rfl
    | k + 9, hk => exact absurd hk (by omega)
  have hd2 : va_D (fun z => z = h ∨ s.heap.size ≤ z) (gW h (fun k => match k with | 0 => q0 | 1 => q1 | 2 => q2 | 3 => q3 | 4 => q4 | 5 => q5 | 6 => q6 | 7 => q7 | _ => q8) 0 (fun _ _ => 0) 0 0) := gx_D hD rfl
  refine gx_vret hx hb hr hlk d_gf_init_79 hS.2.2 ⟨rfl, fun k => match k with | 0 => q0 | 1 => q1 | 2 => q2 | 3 => q3 | 4 => q4 | 5 => q5 | 6 => q6 | 7 => q7 | _ => q8, hP, ⟨hd2.1, gW_in⟩, hge, hS.1, fun z hz h1 => hS.2.1 z hz (fun h2 => h2.elim h1 (fun h3 => absurd hz (Nat.not_lt.mpr h3)))⟩
set_option maxHeartbeats 4000000 in
set_option maxRecDepth 100000 in
theorem c_gm_init (l : Launch) (E : gE) (h sz : Nat) : GMet l y_gm_init prog_3_method_1_code 1 none [] { frames := 1, cells := 8, slots := 2040, locals := 12 } (fun v U => U.heap.size = sz ∧ gPw E [.ref h] [(h, .inr (1, [.null, .null, .null, .null, .null, .null, .null, .null, .int 0, .int 0, .int 0]))] v U) (fun H o H1 => o = .returned none ∧ ∃ q : Nat → Nat, va_P E.1 gcl (mW h q E.2.1 E.2.2.1 (fun _ _ => 0) 0 0 0) H1 ∧ gDM h q ∧ (∀ k, k < 8 → sz ≤ q k) ∧ gFr (fun z => z = h) H H1) 8 2040 (fun z => z = h ∨ sz ≤ z) := by
  intro p e s m args below meth c hF hP0
  obtain ⟨hx, hb, hml, hr, hlk, hown, hnm, hex⟩ := hF
  obtain ⟨hsz, rfl, hT, hP⟩ := hP0
  have C : gC E "GrowFormsModel" prog_3_method_1_code p s m c := ⟨hx, hb, hown, hT⟩
  have hin : meth.name = "<init>" := hnm
  subst hsz
  have hlt : h < s.heap.size := (hP 0 _ rfl).lt
  have hD : va_D (fun z => z = h ∨ s.heap.size ≤ z) [(h, .inr (1, [.null, .null, .null, .null, .null, .null, .null, .null, .int 0, .int 0, .int 0]))] := ⟨fun i j x y hi hj _ => by
    have h1 := (List.getElem?_eq_some_iff.mp hi).1
    have h2 := (List.getElem?_eq_some_iff.mp hj).1
    simp at h1 h2
    omega, fun k x hk => by
    have h1 := (List.getElem?_eq_some_iff.mp hk).1
    simp at h1
    subst h1
    cases hk
    exact Or.inl rfl⟩
  have hA : ∀ z : Nat, s.heap.size ≤ z → (z = h ∨ s.heap.size ≤ z) := fun z hz => Or.inr hz
  have hS : va_S (fun z => z = h ∨ s.heap.size ≤ z) s.heap s.heap [] := va_S.rf
  have hl := lv_entry ([.ref h]) (n := 1) (Nat.le_of_ble_eq_true rfl)
  rw [lg_entry_eq]
  generalize (lg_sl ([.ref h]) ++ List.replicate (1 - (lg_sl ([.ref h])).length) Slot.unset).toArray = ls at hl ⊢
  have hl : lv_has ls 1 [(0, .ref h)] := hl
  refine lv_aload_n hx hb d_gm_init_0 rfl (lv_at hl 0 rfl) ?_
  refine W.objInit hx hb hown (C.wd _ tw_258) (C.wd _ tw_24) (C.wd _ tw_25) rfl (by rw [hml]; exact hl.1) rfl d_gm_init_1 (Nat.le_of_ble_eq_true rfl) (Nat.le_of_ble_eq_true rfl) ?_
  refine W.eq (g2 := F0 m 4 ls []) rfl ?_
  refine lv_aload_n hx hb d_gm_init_4 rfl (lv_at hl 0 rfl) ?_
  refine lv_bipush (v := 120) hx hb d_gm_init_5 (by decide) ?_
  refine g_newI (N := 120) hx hb hT hP hD hS hA (by decide) (by decide) (by decide) (by decide) (by decide) d_gm_init_7 (fun q0 H hP hD hS => ?_)
  have hP : va_P E.1 gcl [(h, .inr (1, [.null, .null, .null, .null, .null, .null, .null, .null, .int 0, .int 0, .int 0])), (q0, .inl (E.2.1, 120, .inl (fun _ => 0)))] H := hP
  have hD : va_D (fun z => z = h ∨ s.heap.size ≤ z) [(h, .inr (1, [.null, .null, .null, .null, .null, .null, .null, .null, .int 0, .int 0, .int 0])), (q0, .inl (E.2.1, 120, .inl (fun _ => 0)))] := hD
  refine va_putF (D := E.1) (ci := 1) (v := .ref q0) (ty := .array .int) (C := "GrowFormsModel") (T := F_GM) (N := 11) (Ts := gwl) (own := "GrowFormsModel") (ref := "GrowFormsModel") hx hb C.wd u_GM_in t_GM t_GM_ok n_GM hown hT.2 hP hD hS 0 rfl rfl 0 (by decide) (C.wd _ (x_GM_in 0 (by decide))) (fun _ z => z) rfl hin rfl (by decide +kernel) rfl rfl (Nat.le_of_ble_eq_true rfl) d_gm_init_9 (fun H locs hP hD hS => ?_)
  have hP : va_P E.1 gcl [(h, .inr (1, [.ref q0, .null, .null, .null, .null, .null, .null, .null, .int 0, .int 0, .int 0])), (q0, .inl (E.2.1, 120, .inl (fun _ => 0)))] H := hP
  have hD : va_D (fun z => z = h ∨ s.heap.size ≤ z) [(h, .inr (1, [.ref q0, .null, .null, .null, .null, .null, .null, .null, .int 0, .int 0, .int 0])), (q0, .inl (E.2.1, 120, .inl (fun _ => 0)))] := hD
  refine lv_aload_n hx hb d_gm_init_12 rfl (lv_at hl 0 rfl) ?_
  refine lv_sipush (v := 480) hx hb d_gm_init_13 (by decide) ?_
  refine g_newI (N := 480) hx hb hT hP hD hS hA (by decide) (by decide) (by decide) (by decide) (by decide) d_gm_init_16 (fun q1 H hP hD hS => ?_)
  have hP : va_P E.1 gcl [(h, .inr (1, [.ref q0, .null, .null, .null, .null, .null, .null, .null, .int 0, .int 0, .int 0])), (q0, .inl (E.2.1, 120, .inl (fun _ => 0))), (q1, .inl (E.2.1, 480, .inl (fun _ => 0)))] H := hP
  have hD : va_D (fun z => z = h ∨ s.heap.size ≤ z) [(h, .inr (1, [.ref q0, .null, .null, .null, .null, .null, .null, .null, .int 0, .int 0, .int 0])), (q0, .inl (E.2.1, 120, .inl (fun _ => 0))), (q1, .inl (E.2.1, 480, .inl (fun _ => 0)))] := hD
  refine va_putF (D := E.1) (ci := 1) (v := .ref q1) (ty := .array .int) (C := "GrowFormsModel") (T := F_GM) (N := 11) (Ts := gwl) (own := "GrowFormsModel") (ref := "GrowFormsModel") hx hb C.wd u_GM_in t_GM t_GM_ok n_GM hown hT.2 hP hD hS 0 rfl rfl 1 (by decide) (C.wd _ (x_GM_in 1 (by decide))) (fun _ z => z) rfl hin rfl (by decide +kernel) rfl rfl (Nat.le_of_ble_eq_true rfl) d_gm_init_18 (fun H locs hP hD hS => ?_)
  have hP : va_P E.1 gcl [(h, .inr (1, [.ref q0, .ref q1, .null, .null, .null, .null, .null, .null, .int 0, .int 0, .int 0])), (q0, .inl (E.2.1, 120, .inl (fun _ => 0))), (q1, .inl (E.2.1, 480, .inl (fun _ => 0)))] H := hP
  have hD : va_D (fun z => z = h ∨ s.heap.size ≤ z) [(h, .inr (1, [.ref q0, .ref q1, .null, .null, .null, .null, .null, .null, .int 0, .int 0, .int 0])), (q0, .inl (E.2.1, 120, .inl (fun _ => 0))), (q1, .inl (E.2.1, 480, .inl (fun _ => 0)))] := hD
  refine lv_aload_n hx hb d_gm_init_21 rfl (lv_at hl 0 rfl) ?_
  refine lv_sipush (v := 480) hx hb d_gm_init_22 (by decide) ?_
  refine g_newI (N := 480) hx hb hT hP hD hS hA (by decide) (by decide) (by decide) (by decide) (by decide) d_gm_init_25 (fun q2 H hP hD hS => ?_)
  have hP : va_P E.1 gcl [(h, .inr (1, [.ref q0, .ref q1, .null, .null, .null, .null, .null, .null, .int 0, .int 0, .int 0])), (q0, .inl (E.2.1, 120, .inl (fun _ => 0))), (q1, .inl (E.2.1, 480, .inl (fun _ => 0))), (q2, .inl (E.2.1, 480, .inl (fun _ => 0)))] H := hP
  have hD : va_D (fun z => z = h ∨ s.heap.size ≤ z) [(h, .inr (1, [.ref q0, .ref q1, .null, .null, .null, .null, .null, .null, .int 0, .int 0, .int 0])), (q0, .inl (E.2.1, 120, .inl (fun _ => 0))), (q1, .inl (E.2.1, 480, .inl (fun _ => 0))), (q2, .inl (E.2.1, 480, .inl (fun _ => 0)))] := hD
  refine va_putF (D := E.1) (ci := 1) (v := .ref q2) (ty := .array .int) (C := "GrowFormsModel") (T := F_GM) (N := 11) (Ts := gwl) (own := "GrowFormsModel") (ref := "GrowFormsModel") hx hb C.wd u_GM_in t_GM t_GM_ok n_GM hown hT.2 hP hD hS 0 rfl rfl 2 (by decide) (C.wd _ (x_GM_in 2 (by decide))) (fun _ z => z) rfl hin rfl (by decide +kernel) rfl rfl (Nat.le_of_ble_eq_true rfl) d_gm_init_27 (fun H locs hP hD hS => ?_)
  have hP : va_P E.1 gcl [(h, .inr (1, [.ref q0, .ref q1, .ref q2, .null, .null, .null, .null, .null, .int 0, .int 0, .int 0])), (q0, .inl (E.2.1, 120, .inl (fun _ => 0))), (q1, .inl (E.2.1, 480, .inl (fun _ => 0))), (q2, .inl (E.2.1, 480, .inl (fun _ => 0)))] H := hP
  have hD : va_D (fun z => z = h ∨ s.heap.size ≤ z) [(h, .inr (1, [.ref q0, .ref q1, .ref q2, .null, .null, .null, .null, .null, .int 0, .int 0, .int 0])), (q0, .inl (E.2.1, 120, .inl (fun _ => 0))), (q1, .inl (E.2.1, 480, .inl (fun _ => 0))), (q2, .inl (E.2.1, 480, .inl (fun _ => 0)))] := hD
  refine lv_aload_n hx hb d_gm_init_30 rfl (lv_at hl 0 rfl) ?_
  refine lv_sipush (v := 480) hx hb d_gm_init_31 (by decide) ?_
  refine g_newI (N := 480) hx hb hT hP hD hS hA (by decide) (by decide) (by decide) (by decide) (by decide) d_gm_init_34 (fun q3 H hP hD hS => ?_)
  have hP : va_P E.1 gcl [(h, .inr (1, [.ref q0, .ref q1, .ref q2, .null, .null, .null, .null, .null, .int 0, .int 0, .int 0])), (q0, .inl (E.2.1, 120, .inl (fun _ => 0))), (q1, .inl (E.2.1, 480, .inl (fun _ => 0))), (q2, .inl (E.2.1, 480, .inl (fun _ => 0))), (q3, .inl (E.2.1, 480, .inl (fun _ => 0)))] H := hP
  have hD : va_D (fun z => z = h ∨ s.heap.size ≤ z) [(h, .inr (1, [.ref q0, .ref q1, .ref q2, .null, .null, .null, .null, .null, .int 0, .int 0, .int 0])), (q0, .inl (E.2.1, 120, .inl (fun _ => 0))), (q1, .inl (E.2.1, 480, .inl (fun _ => 0))), (q2, .inl (E.2.1, 480, .inl (fun _ => 0))), (q3, .inl (E.2.1, 480, .inl (fun _ => 0)))] := hD
  refine va_putF (D := E.1) (ci := 1) (v := .ref q3) (ty := .array .int) (C := "GrowFormsModel") (T := F_GM) (N := 11) (Ts := gwl) (own := "GrowFormsModel") (ref := "GrowFormsModel") hx hb C.wd u_GM_in t_GM t_GM_ok n_GM hown hT.2 hP hD hS 0 rfl rfl 3 (by decide) (C.wd _ (x_GM_in 3 (by decide))) (fun _ z => z) rfl hin rfl (by decide +kernel) rfl rfl (Nat.le_of_ble_eq_true rfl) d_gm_init_36 (fun H locs hP hD hS => ?_)
  have hP : va_P E.1 gcl [(h, .inr (1, [.ref q0, .ref q1, .ref q2, .ref q3, .null, .null, .null, .null, .int 0, .int 0, .int 0])), (q0, .inl (E.2.1, 120, .inl (fun _ => 0))), (q1, .inl (E.2.1, 480, .inl (fun _ => 0))), (q2, .inl (E.2.1, 480, .inl (fun _ => 0))), (q3, .inl (E.2.1, 480, .inl (fun _ => 0)))] H := hP
  have hD : va_D (fun z => z = h ∨ s.heap.size ≤ z) [(h, .inr (1, [.ref q0, .ref q1, .ref q2, .ref q3, .null, .null, .null, .null, .int 0, .int 0, .int 0])), (q0, .inl (E.2.1, 120, .inl (fun _ => 0))), (q1, .inl (E.2.1, 480, .inl (fun _ => 0))), (q2, .inl (E.2.1, 480, .inl (fun _ => 0))), (q3, .inl (E.2.1, 480, .inl (fun _ => 0)))] := hD
  refine lv_aload_n hx hb d_gm_init_39 rfl (lv_at hl 0 rfl) ?_
  refine lv_bipush (v := 120) hx hb d_gm_init_40 (by decide) ?_
  refine g_newI (N := 120) hx hb hT hP hD hS hA (by decide) (by decide) (by decide) (by decide) (by decide) d_gm_init_42 (fun q4 H hP hD hS => ?_)
  have hP : va_P E.1 gcl [(h, .inr (1, [.ref q0, .ref q1, .ref q2, .ref q3, .null, .null, .null, .null, .int 0, .int 0, .int 0])), (q0, .inl (E.2.1, 120, .inl (fun _ => 0))), (q1, .inl (E.2.1, 480, .inl (fun _ => 0))), (q2, .inl (E.2.1, 480, .inl (fun _ => 0))), (q3, .inl (E.2.1, 480, .inl (fun _ => 0))), (q4, .inl (E.2.1, 120, .inl (fun _ => 0)))] H := hP
  have hD : va_D (fun z => z = h ∨ s.heap.size ≤ z) [(h, .inr (1, [.ref q0, .ref q1, .ref q2, .ref q3, .null, .null, .null, .null, .int 0, .int 0, .int 0])), (q0, .inl (E.2.1, 120, .inl (fun _ => 0))), (q1, .inl (E.2.1, 480, .inl (fun _ => 0))), (q2, .inl (E.2.1, 480, .inl (fun _ => 0))), (q3, .inl (E.2.1, 480, .inl (fun _ => 0))), (q4, .inl (E.2.1, 120, .inl (fun _ => 0)))] := hD
  refine va_putF (D := E.1) (ci := 1) (v := .ref q4) (ty := .array .int) (C := "GrowFormsModel") (T := F_GM) (N := 11) (Ts := gwl) (own := "GrowFormsModel") (ref := "GrowFormsModel") hx hb C.wd u_GM_in t_GM t_GM_ok n_GM hown hT.2 hP hD hS 0 rfl rfl 4 (by decide) (C.wd _ (x_GM_in 4 (by decide))) (fun _ z => z) rfl hin rfl (by decide +kernel) rfl rfl (Nat.le_of_ble_eq_true rfl) d_gm_init_44 (fun H locs hP hD hS => ?_)
  have hP : va_P E.1 gcl [(h, .inr (1, [.ref q0, .ref q1, .ref q2, .ref q3, .ref q4, .null, .null, .null, .int 0, .int 0, .int 0])), (q0, .inl (E.2.1, 120, .inl (fun _ => 0))), (q1, .inl (E.2.1, 480, .inl (fun _ => 0))), (q2, .inl (E.2.1, 480, .inl (fun _ => 0))), (q3, .inl (E.2.1, 480, .inl (fun _ => 0))), (q4, .inl (E.2.1, 120, .inl (fun _ => 0)))] H := hP
  have hD : va_D (fun z => z = h ∨ s.heap.size ≤ z) [(h, .inr (1, [.ref q0, .ref q1, .ref q2, .ref q3, .ref q4, .null, .null, .null, .int 0, .int 0, .int 0])), (q0, .inl (E.2.1, 120, .inl (fun _ => 0))), (q1, .inl (E.2.1, 480, .inl (fun _ => 0))), (q2, .inl (E.2.1, 480, .inl (fun _ => 0))), (q3, .inl (E.2.1, 480, .inl (fun _ => 0))), (q4, .inl (E.2.1, 120, .inl (fun _ => 0)))] := hD
  refine lv_aload_n hx hb d_gm_init_47 rfl (lv_at hl 0 rfl) ?_
  refine lv_bipush (v := 120) hx hb d_gm_init_48 (by decide) ?_
  refine g_newI (N := 120) hx hb hT hP hD hS hA (by decide) (by decide) (by decide) (by decide) (by decide) d_gm_init_50 (fun q5 H hP hD hS => ?_)
  have hP : va_P E.1 gcl [(h, .inr (1, [.ref q0, .ref q1, .ref q2, .ref q3, .ref q4, .null, .null, .null, .int 0, .int 0, .int 0])), (q0, .inl (E.2.1, 120, .inl (fun _ => 0))), (q1, .inl (E.2.1, 480, .inl (fun _ => 0))), (q2, .inl (E.2.1, 480, .inl (fun _ => 0))), (q3, .inl (E.2.1, 480, .inl (fun _ => 0))), (q4, .inl (E.2.1, 120, .inl (fun _ => 0))), (q5, .inl (E.2.1, 120, .inl (fun _ => 0)))] H := hP
  have hD : va_D (fun z => z = h ∨ s.heap.size ≤ z) [(h, .inr (1, [.ref q0, .ref q1, .ref q2, .ref q3, .ref q4, .null, .null, .null, .int 0, .int 0, .int 0])), (q0, .inl (E.2.1, 120, .inl (fun _ => 0))), (q1, .inl (E.2.1, 480, .inl (fun _ => 0))), (q2, .inl (E.2.1, 480, .inl (fun _ => 0))), (q3, .inl (E.2.1, 480, .inl (fun _ => 0))), (q4, .inl (E.2.1, 120, .inl (fun _ => 0))), (q5, .inl (E.2.1, 120, .inl (fun _ => 0)))] := hD
  refine va_putF (D := E.1) (ci := 1) (v := .ref q5) (ty := .array .int) (C := "GrowFormsModel") (T := F_GM) (N := 11) (Ts := gwl) (own := "GrowFormsModel") (ref := "GrowFormsModel") hx hb C.wd u_GM_in t_GM t_GM_ok n_GM hown hT.2 hP hD hS 0 rfl rfl 5 (by decide) (C.wd _ (x_GM_in 5 (by decide))) (fun _ z => z) rfl hin rfl (by decide +kernel) rfl rfl (Nat.le_of_ble_eq_true rfl) d_gm_init_52 (fun H locs hP hD hS => ?_)
  have hP : va_P E.1 gcl [(h, .inr (1, [.ref q0, .ref q1, .ref q2, .ref q3, .ref q4, .ref q5, .null, .null, .int 0, .int 0, .int 0])), (q0, .inl (E.2.1, 120, .inl (fun _ => 0))), (q1, .inl (E.2.1, 480, .inl (fun _ => 0))), (q2, .inl (E.2.1, 480, .inl (fun _ => 0))), (q3, .inl (E.2.1, 480, .inl (fun _ => 0))), (q4, .inl (E.2.1, 120, .inl (fun _ => 0))), (q5, .inl (E.2.1, 120, .inl (fun _ => 0)))] H := hP
  have hD : va_D (fun z => z = h ∨ s.heap.size ≤ z) [(h, .inr (1, [.ref q0, .ref q1, .ref q2, .ref q3, .ref q4, .ref q5, .null, .null, .int 0, .int 0, .int 0])), (q0, .inl (E.2.1, 120, .inl (fun _ => 0))), (q1, .inl (E.2.1, 480, .inl (fun _ => 0))), (q2, .inl (E.2.1, 480, .inl (fun _ => 0))), (q3, .inl (E.2.1, 480, .inl (fun _ => 0))), (q4, .inl (E.2.1, 120, .inl (fun _ => 0))), (q5, .inl (E.2.1, 120, .inl (fun _ => 0)))] := hD
  refine lv_aload_n hx hb d_gm_init_55 rfl (lv_at hl 0 rfl) ?_
  refine lv_bipush (v := 120) hx hb d_gm_init_56 (by decide) ?_
  refine g_newI (N := 120) hx hb hT hP hD hS hA (by decide) (by decide) (by decide) (by decide) (by decide) d_gm_init_58 (fun q6 H hP hD hS => ?_)
  have hP : va_P E.1 gcl [(h, .inr (1, [.ref q0, .ref q1, .ref q2, .ref q3, .ref q4, .ref q5, .null, .null, .int 0, .int 0, .int 0])), (q0, .inl (E.2.1, 120, .inl (fun _ => 0))), (q1, .inl (E.2.1, 480, .inl (fun _ => 0))), (q2, .inl (E.2.1, 480, .inl (fun _ => 0))), (q3, .inl (E.2.1, 480, .inl (fun _ => 0))), (q4, .inl (E.2.1, 120, .inl (fun _ => 0))), (q5, .inl (E.2.1, 120, .inl (fun _ => 0))), (q6, .inl (E.2.1, 120, .inl (fun _ => 0)))] H := hP
  have hD : va_D (fun z => z = h ∨ s.heap.size ≤ z) [(h, .inr (1, [.ref q0, .ref q1, .ref q2, .ref q3, .ref q4, .ref q5, .null, .null, .int 0, .int 0, .int 0])), (q0, .inl (E.2.1, 120, .inl (fun _ => 0))), (q1, .inl (E.2.1, 480, .inl (fun _ => 0))), (q2, .inl (E.2.1, 480, .inl (fun _ => 0))), (q3, .inl (E.2.1, 480, .inl (fun _ => 0))), (q4, .inl (E.2.1, 120, .inl (fun _ => 0))), (q5, .inl (E.2.1, 120, .inl (fun _ => 0))), (q6, .inl (E.2.1, 120, .inl (fun _ => 0)))] := hD
  refine va_putF (D := E.1) (ci := 1) (v := .ref q6) (ty := .array .int) (C := "GrowFormsModel") (T := F_GM) (N := 11) (Ts := gwl) (own := "GrowFormsModel") (ref := "GrowFormsModel") hx hb C.wd u_GM_in t_GM t_GM_ok n_GM hown hT.2 hP hD hS 0 rfl rfl 6 (by decide) (C.wd _ (x_GM_in 6 (by decide))) (fun _ z => z) rfl hin rfl (by decide +kernel) rfl rfl (Nat.le_of_ble_eq_true rfl) d_gm_init_60 (fun H locs hP hD hS => ?_)
  have hP : va_P E.1 gcl [(h, .inr (1, [.ref q0, .ref q1, .ref q2, .ref q3, .ref q4, .ref q5, .ref q6, .null, .int 0, .int 0, .int 0])), (q0, .inl (E.2.1, 120, .inl (fun _ => 0))), (q1, .inl (E.2.1, 480, .inl (fun _ => 0))), (q2, .inl (E.2.1, 480, .inl (fun _ => 0))), (q3, .inl (E.2.1, 480, .inl (fun _ => 0))), (q4, .inl (E.2.1, 120, .inl (fun _ => 0))), (q5, .inl (E.2.1, 120, .inl (fun _ => 0))), (q6, .inl (E.2.1, 120, .inl (fun _ => 0)))] H := hP
  have hD : va_D (fun z => z = h ∨ s.heap.size ≤ z) [(h, .inr (1, [.ref q0, .ref q1, .ref q2, .ref q3, .ref q4, .ref q5, .ref q6, .null, .int 0, .int 0, .int 0])), (q0, .inl (E.2.1, 120, .inl (fun _ => 0))), (q1, .inl (E.2.1, 480, .inl (fun _ => 0))), (q2, .inl (E.2.1, 480, .inl (fun _ => 0))), (q3, .inl (E.2.1, 480, .inl (fun _ => 0))), (q4, .inl (E.2.1, 120, .inl (fun _ => 0))), (q5, .inl (E.2.1, 120, .inl (fun _ => 0))), (q6, .inl (E.2.1, 120, .inl (fun _ => 0)))] := hD
  refine lv_aload_n hx hb d_gm_init_63 rfl (lv_at hl 0 rfl) ?_
  refine lv_bipush (v := 120) hx hb d_gm_init_64 (by decide) ?_
  refine g_newZ (N := 120) hx hb hT hP hD hS hA (by decide) (by decide) (by decide) (by decide) (by decide) d_gm_init_66 (fun q7 H hP hD hS => ?_)
  have hP : va_P E.1 gcl [(h, .inr (1, [.ref q0, .ref q1, .ref q2, .ref q3, .ref q4, .ref q5, .ref q6, .null, .int 0, .int 0, .int 0])), (q0, .inl (E.2.1, 120, .inl (fun _ => 0))), (q1, .inl (E.2.1, 480, .inl (fun _ => 0))), (q2, .inl (E.2.1, 480, .inl (fun _ => 0))), (q3, .inl (E.2.1, 480, .inl (fun _ => 0))), (q4, .inl (E.2.1, 120, .inl (fun _ => 0))), (q5, .inl (E.2.1, 120, .inl (fun _ => 0))), (q6, .inl (E.2.1, 120, .inl (fun _ => 0))), (q7, .inl (E.2.2.1, 120, .inl (fun _ => 0)))] H := hP
  have hD : va_D (fun z => z = h ∨ s.heap.size ≤ z) [(h, .inr (1, [.ref q0, .ref q1, .ref q2, .ref q3, .ref q4, .ref q5, .ref q6, .null, .int 0, .int 0, .int 0])), (q0, .inl (E.2.1, 120, .inl (fun _ => 0))), (q1, .inl (E.2.1, 480, .inl (fun _ => 0))), (q2, .inl (E.2.1, 480, .inl (fun _ => 0))), (q3, .inl (E.2.1, 480, .inl (fun _ => 0))), (q4, .inl (E.2.1, 120, .inl (fun _ => 0))), (q5, .inl (E.2.1, 120, .inl (fun _ => 0))), (q6, .inl (E.2.1, 120, .inl (fun _ => 0))), (q7, .inl (E.2.2.1, 120, .inl (fun _ => 0)))] := hD
  refine va_putF (D := E.1) (ci := 1) (v := .ref q7) (ty := .array .boolean) (C := "GrowFormsModel") (T := F_GM) (N := 11) (Ts := gwl) (own := "GrowFormsModel") (ref := "GrowFormsModel") hx hb C.wd u_GM_in t_GM t_GM_ok n_GM hown hT.2 hP hD hS 0 rfl rfl 7 (by decide) (C.wd _ (x_GM_in 7 (by decide))) (fun _ z => z) rfl hin rfl (by decide +kernel) rfl rfl (Nat.le_of_ble_eq_true rfl) d_gm_init_68 (fun H locs hP hD hS => ?_)
  have hP : va_P E.1 gcl [(h, .inr (1, [.ref q0, .ref q1, .ref q2, .ref q3, .ref q4, .ref q5, .ref q6, .ref q7, .int 0, .int 0, .int 0])), (q0, .inl (E.2.1, 120, .inl (fun _ => 0))), (q1, .inl (E.2.1, 480, .inl (fun _ => 0))), (q2, .inl (E.2.1, 480, .inl (fun _ => 0))), (q3, .inl (E.2.1, 480, .inl (fun _ => 0))), (q4, .inl (E.2.1, 120, .inl (fun _ => 0))), (q5, .inl (E.2.1, 120, .inl (fun _ => 0))), (q6, .inl (E.2.1, 120, .inl (fun _ => 0))), (q7, .inl (E.2.2.1, 120, .inl (fun _ => 0)))] H := hP
  have hD : va_D (fun z => z = h ∨ s.heap.size ≤ z) [(h, .inr (1, [.ref q0, .ref q1, .ref q2, .ref q3, .ref q4, .ref q5, .ref q6, .ref q7, .int 0, .int 0, .int 0])), (q0, .inl (E.2.1, 120, .inl (fun _ => 0))), (q1, .inl (E.2.1, 480, .inl (fun _ => 0))), (q2, .inl (E.2.1, 480, .inl (fun _ => 0))), (q3, .inl (E.2.1, 480, .inl (fun _ => 0))), (q4, .inl (E.2.1, 120, .inl (fun _ => 0))), (q5, .inl (E.2.1, 120, .inl (fun _ => 0))), (q6, .inl (E.2.1, 120, .inl (fun _ => 0))), (q7, .inl (E.2.2.1, 120, .inl (fun _ => 0)))] := hD
  have hge : ∀ k, k < 8 → s.heap.size ≤ (fun k => match k with | 0 => q0 | 1 => q1 | 2 => q2 | 3 => q3 | 4 => q4 | 5 => q5 | 6 => q6 | _ => q7 : Nat → Nat) k := by
    intro k hk
    have key : ∀ (j : Nat) (x : Nat × va_E), ([(h, .inr (1, [.ref q0, .ref q1, .ref q2, .ref q3, .ref q4, .ref q5, .ref q6, .ref q7, .int 0, .int 0, .int 0])), (q0, .inl (E.2.1, 120, .inl (fun _ => 0))), (q1, .inl (E.2.1, 480, .inl (fun _ => 0))), (q2, .inl (E.2.1, 480, .inl (fun _ => 0))), (q3, .inl (E.2.1, 480, .inl (fun _ => 0))), (q4, .inl (E.2.1, 120, .inl (fun _ => 0))), (q5, .inl (E.2.1, 120, .inl (fun _ => 0))), (q6, .inl (E.2.1, 120, .inl (fun _ => 0))), (q7, .inl (E.2.2.1, 120, .inl (fun _ => 0)))] : va_W)[j + 1]? = some x → s.heap.size ≤ x.1 := by
      intro j x hx1
      rcases hD.2 (j + 1) x hx1 with h1 | h1
      · exact absurd (hD.1 (j + 1) 0 x _ hx1 rfl h1) (by omega)
      · exact h1
    match k, hk with
    | 0, _ => exact key 0 _ rfl
    | 1, _ => exact key 1 _ rfl
    | 2, _ => exact key 2 _ rfl
    | 3, _ => exact key 3 _ rfl
    | 4, _ => exact key 4 _ rfl
    | 5, _ => exact key 5 _ rfl
    | 6, _ => exact key 6 _ rfl
    | 7, _ => exact key 7 _ rfl
    | k + 8, hk => exact absurd hk (by omega)
  have hd2 : va_D (fun z => z = h ∨ s.heap.size ≤ z) (mW h (fun k => match k with | 0 => q0 | 1 => q1 | 2 => q2 | 3 => q3 | 4 => q4 | 5 => q5 | 6 => q6 | _ => q7) 0 0 (fun _ _ => 0) 0 0 0) := gx_D hD rfl
  refine gx_vret hx hb hr hlk d_gm_init_71 hS.2.2 ⟨rfl, fun k => match k with | 0 => q0 | 1 => q1 | 2 => q2 | 3 => q3 | 4 => q4 | 5 => q5 | 6 => q6 | _ => q7, hP, ⟨hd2.1, mW_in⟩, hge, hS.1, fun z hz h1 => hS.2.1 z hz (fun h2 => h2.elim h1 (fun h3 => absurd hz (Nat.not_lt.mpr h3)))⟩
end
section
-- ===== plain laws: shifts and bounds say the same; what settle computes =====
theorem g_ediv {a P q : Int} (hP : 0 < P) : a / P = q ↔ P * q ≤ a ∧ a < P * q + P := by
  constructor
  · intro h
    have h1 := (Int.ediv_emod_unique (a := a) (b := P) (r := a % P) (q := q) hP).mp ⟨h, rfl⟩
    obtain ⟨h2, h3, h4⟩ := h1
    constructor
    · omega
    · omega
  · rintro ⟨h1, h2⟩
    exact ((Int.ediv_emod_unique hP (r := a - P * q) (q := q)).mpr ⟨by omega, by omega, by omega⟩).1
theorem g_shr (v s : Int64) (k : Nat) (hs : (s.toBitVec.smod 64).toNat = k) : (v >>> s).toInt = v.toInt >>> k := by
  have h1 : (v >>> s).toBitVec = v.toBitVec.sshiftRight' (s.toBitVec.smod 64) := rfl
  show (v >>> s).toBitVec.toInt = _
  rw [h1, BitVec.sshiftRight', hs, BitVec.toInt_sshiftRight]
  rfl
theorem g_cnt : ∀ k, k < 33 → ((((nI k).toInt64 &&& 63 : Int64).toBitVec.smod 64).toNat = k) := by decide +kernel
theorem g_cnt1 : ∀ k, k < 33 → 1 ≤ k → ((((nI k - 1).toInt64 &&& 63 : Int64).toBitVec.smod 64).toNat = k - 1) := by decide +kernel
theorem g_half : ∀ k, k < 33 → 1 ≤ k → ((1 : Int64) <<< ((nI k - 1).toInt64 &&& 63)).toInt = 2 ^ (k - 1) := by decide +kernel
theorem g_half2 : ∀ k, k < 33 → 1 ≤ k → (2 * ((1 : Int64) <<< ((nI k - 1).toInt64 &&& 63))).toInt = 2 ^ k := by decide +kernel
theorem g_halfn : ∀ k, k < 33 → 1 ≤ k → (-((1 : Int64) <<< ((nI k - 1).toInt64 &&& 63))).toInt = -2 ^ (k - 1) := by decide +kernel
theorem g_pow (k : Nat) : (0 : Int) < 2 ^ k := by
  have h : 0 < 2 ^ k := Nat.pow_pos (by decide)
  have h2 : ((2 ^ k : Nat) : Int) = (2 : Int) ^ k := by simp
  omega
theorem g_unsigned (v : Int64) (k : Nat) (h1 : 1 ≤ k) (h2 : k < 33) : v >>> ((nI k).toInt64 &&& 63) = 0 ↔ 0 ≤ v ∧ v < 2 * ((1 : Int64) <<< ((nI k - 1).toInt64 &&& 63)) := by
  rw [← Int64.toInt_inj, g_shr v _ k (g_cnt k h2), Int64.le_iff_toInt_le, Int64.lt_iff_toInt_lt, g_half2 k h2 h1, Int.shiftRight_eq_div_pow]
  have hz : (0 : Int64).toInt = 0 := by decide
  have hp := g_pow k
  rw [hz, show (((2 ^ k : Nat)) : Int) = (2 : Int) ^ k from by simp, g_ediv hp]
  omega
theorem g_signed (v : Int64) (k : Nat) (h1 : 1 ≤ k) (h2 : k < 33) : (v >>> ((nI k - 1).toInt64 &&& 63) = 0 ∨ v >>> ((nI k - 1).toInt64 &&& 63) = -1) ↔ (-((1 : Int64) <<< ((nI k - 1).toInt64 &&& 63)) ≤ v ∧ v < (1 : Int64) <<< ((nI k - 1).toInt64 &&& 63)) := by
  rw [← Int64.toInt_inj, ← Int64.toInt_inj, g_shr v _ (k - 1) (g_cnt1 k h2 h1), Int64.le_iff_toInt_le, Int64.lt_iff_toInt_lt, g_half k h2 h1, g_halfn k h2 h1, Int.shiftRight_eq_div_pow]
  have hz : (0 : Int64).toInt = 0 := by decide
  have hm : (-1 : Int64).toInt = -1 := by decide
  have hp := g_pow (k - 1)
  rw [hz, hm, show (((2 ^ (k - 1) : Nat)) : Int) = (2 : Int) ^ (k - 1) from by simp, g_ediv hp, g_ediv hp]
  generalize (2 : Int) ^ (k - 1) = P at hp ⊢
  omega
/-- the two ways of asking whether a line fits agree -/
theorem gfit_eq {a : gA} {nw : Nat → Nat} {n l : Nat} (hwf : gWf a n) (hnw : gNw a nw n) (hl : l < n) : gfitM a nw l = gfit a nw l := by
  obtain ⟨f, t, hf4, hf, -, -, hbits⟩ := hwf.2 l hl
  unfold gfitM gfit
  by_cases h0 : a 0 l = 0
  · rw [if_pos h0, if_pos h0]
  · have hfp : 0 < f := Nat.pos_of_ne_zero (fun z => h0 (by rw [hf, z]; rfl))
    obtain ⟨k, hk1, hk2, hk⟩ := hbits (nw l) (hnw l hl f hf4 hf hfp)
    rw [if_neg h0, if_neg h0, hk]
    by_cases h3 : a 3 (4 * l + nw l) = 0
    · rw [if_pos h3, if_pos h3, Bool.eq_iff_iff]
      simp only [Bool.and_eq_true, decide_eq_true_eq]
      exact (g_unsigned _ k hk1 (by omega)).symm
    · rw [if_neg h3, if_neg h3, Bool.eq_iff_iff]
      simp only [Bool.and_eq_true, Bool.or_eq_true, decide_eq_true_eq]
      exact (g_signed _ k hk1 (by omega)).symm
-- the same data
def gEq (a b : gA) : Prop := ∀ k, k < 6 → a k = b k
theorem gEq.rf {a : gA} : gEq a a := fun _ _ => rfl
theorem gEq.tr {a b c : gA} (h1 : gEq a b) (h2 : gEq b c) : gEq a c := fun k hk => (h1 k hk).trans (h2 k hk)
theorem gEq.sy {a b : gA} (h : gEq a b) : gEq b a := fun k hk => (h k hk).symm
theorem gEq.wr {a : gA} {k i : Nat} {v : Int32} (hk : 6 ≤ k) : gEq (g_wr a k i v) a := fun j hj => by
  unfold g_wr
  exact va_up_ne a _ (by omega)
theorem adr_eq {a b : gA} (h : gEq a b) (nw : Nat → Nat) : ∀ l, adr a nw l = adr b nw l
  | 0 => rfl
  | l + 1 => by rw [adr, adr, adr_eq h nw l, h 0 (by decide), h 1 (by decide)]
theorem gv_eq {a b : gA} (h : gEq a b) (nw : Nat → Nat) (l : Nat) : gv a nw l = gv b nw l := by
  unfold gv gv0
  rw [adr_eq h nw, adr_eq h nw, h 0 (by decide), h 3 (by decide), h 4 (by decide), h 5 (by decide)]
theorem gfit_c {a b : gA} (h : gEq a b) (nw : Nat → Nat) (l : Nat) : gfit a nw l = gfit b nw l := by
  unfold gfit
  rw [gv_eq h, h 0 (by decide), h 2 (by decide), h 3 (by decide)]
theorem gfitM_c {a b : gA} (h : gEq a b) (nw : Nat → Nat) (l : Nat) : gfitM a nw l = gfitM b nw l := by
  unfold gfitM
  rw [gv_eq h, h 0 (by decide), h 2 (by decide), h 3 (by decide)]
theorem gWf_c {a b : gA} (h : gEq a b) {n : Nat} (hw : gWf a n) : gWf b n := by
  unfold gWf at hw ⊢
  rw [h 0 (by decide), h 2 (by decide), h 4 (by decide)] at hw
  exact hw
theorem gNw_c {a b : gA} (h : gEq a b) {nw : Nat → Nat} {n : Nat} (hw : gNw a nw n) : gNw b nw n := by
  unfold gNw at hw ⊢
  rw [h 0 (by decide)] at hw
  exact hw
theorem adr_nw {a : gA} {nw nw' : Nat → Nat} : ∀ l, (∀ j, j < l → nw j = nw' j) → adr a nw l = adr a nw' l
  | 0, _ => rfl
  | l + 1, h => by rw [adr, adr, adr_nw l (fun j hj => h j (by omega)), h l (by omega)]
-- a round of settle
/-- how many lines ahead of l don't fit -/
def rk (a : gA) (nw : Nat → Nat) : Nat → Nat
  | 0 => 0
  | l + 1 => if gfit a nw l = true then rk a nw l else rk a nw l + 1
/-- does one of them stand at its last form? -/
def gen (a : gA) (nw : Nat → Nat) : Nat → Bool
  | 0 => false
  | l + 1 => if gfit a nw l = true then gen a nw l else (gen a nw l || decide (nI (nw l) = a 0 l - 1))
def gstep (a : gA) (nw : Nat → Nat) (n : Nat) : Nat → Nat := fun l => if l < n ∧ gfit a nw l = false then nw l + 1 else nw l
def gset (a : gA) (n : Nat) : Nat → (Nat → Nat) → Int32 → Nat × (Nat → Nat) × Int32
  | 0, nw, r => (0, nw, r)
  | f + 1, nw, r => if 4096 < adr a nw n then (1, nw, 0) else if gen a nw n = true then (2, nw, 0) else if rk a nw n = 0 then (0, nw, r) else gset a n f (gstep a nw n) (r + 1)
theorem rk_c {a b : gA} (h : gEq a b) (nw : Nat → Nat) : ∀ l, rk a nw l = rk b nw l
  | 0 => rfl
  | l + 1 => by rw [rk, rk, rk_c h nw l, gfit_c h]
theorem gen_c {a b : gA} (h : gEq a b) (nw : Nat → Nat) : ∀ l, gen a nw l = gen b nw l
  | 0 => rfl
  | l + 1 => by rw [gen, gen, gen_c h nw l, gfit_c h, h 0 (by decide)]
theorem gstep_c {a b : gA} (h : gEq a b) (nw : Nat → Nat) (n : Nat) : gstep a nw n = gstep b nw n := by
  funext l
  unfold gstep
  rw [gfit_c h]
theorem gset_c {a b : gA} (h : gEq a b) (n : Nat) : ∀ f nw r, gset a n f nw r = gset b n f nw r
  | 0, _, _ => rfl
  | f + 1, nw, r => by rw [gset, gset, adr_eq h, gen_c h, rk_c h, gstep_c h, gset_c h n f]
theorem rk_le (a : gA) (nw : Nat → Nat) : ∀ l, rk a nw l ≤ l
  | 0 => Nat.le_refl _
  | l + 1 => by
    have := rk_le a nw l
    rw [rk]
    split <;> omega
theorem rk_mono (a : gA) (nw : Nat → Nat) {l : Nat} : ∀ d, rk a nw l ≤ rk a nw (l + d)
  | 0 => Nat.le_refl _
  | d + 1 => by
    have := rk_mono a nw (l := l) d
    show rk a nw l ≤ rk a nw (l + d + 1)
    rw [rk]
    split <;> omega
theorem rk_mono' (a : gA) (nw : Nat → Nat) {l n : Nat} (h : l ≤ n) : rk a nw l ≤ rk a nw n := by
  have := rk_mono a nw (l := l) (n - l)
  rwa [Nat.add_sub_cancel' h] at this
theorem rk_bad {a : gA} {nw : Nat → Nat} {l n : Nat} (hl : l < n) (hb : gfit a nw l = false) : rk a nw l < rk a nw n := by
  have h1 : rk a nw (l + 1) = rk a nw l + 1 := by rw [rk, if_neg (by rw [hb]; decide)]
  have h2 := rk_mono' a nw (l := l + 1) (n := n) hl
  omega
/-- the next line that doesn't fit -/
theorem rk_next {a : gA} {nw : Nat → Nat} {n : Nat} : ∀ d l, l + d = n → rk a nw l < rk a nw n → ∃ j, l ≤ j ∧ j < n ∧ gfit a nw j = false ∧ rk a nw j = rk a nw l
  | 0, l, hd, h => by
    have : l = n := by omega
    subst this
    omega
  | d + 1, l, hd, h => by
    cases hf : gfit a nw l with
    | false => exact ⟨l, Nat.le_refl _, by omega, hf, rfl⟩
    | true =>
      have e1 : rk a nw (l + 1) = rk a nw l := by rw [rk, if_pos hf]
      obtain ⟨j, h1, h2, h3, h4⟩ := rk_next (a := a) (nw := nw) (n := n) d (l + 1) (by omega) (by rw [e1]; exact h)
      exact ⟨j, by omega, h2, h3, by rw [h4, e1]⟩
theorem rk_fit {a : gA} {nw : Nat → Nat} {n : Nat} (h : rk a nw n = 0) : ∀ l, l < n → gfit a nw l = true := fun l hl => by
  cases hf : gfit a nw l with
  | true => rfl
  | false => have := rk_bad hl hf; omega
theorem gen_bad {a : gA} {nw : Nat → Nat} : ∀ {n : Nat}, gen a nw n = false → ∀ l, l < n → gfit a nw l = false → ¬ nI (nw l) = a 0 l - 1
  | 0, _, l, hl, _ => absurd hl (Nat.not_lt_zero l)
  | n + 1, h, l, hl, hb => by
    rw [gen] at h
    by_cases e : l = n
    · subst e
      rw [if_neg (by rw [hb]; decide), Bool.or_eq_false_iff] at h
      exact of_decide_eq_false h.2
    · cases hf : gfit a nw n with
      | true =>
        rw [if_pos hf] at h
        exact gen_bad h l (by omega) hb
      | false =>
        rw [if_neg (by rw [hf]; decide), Bool.or_eq_false_iff] at h
        exact gen_bad h.1 l (by omega) hb
def gN4 (nw : Nat → Nat) (n : Nat) : Prop := ∀ l, l < n → nw l < 4
def tot (nw : Nat → Nat) : Nat → Nat
  | 0 => 0
  | l + 1 => tot nw l + nw l
theorem tot_le {nw : Nat → Nat} : ∀ {n : Nat}, gN4 nw n → tot nw n ≤ 3 * n
  | 0, _ => Nat.le_refl _
  | n + 1, h => by
    have h1 := tot_le (n := n) (fun l hl => h l (by omega))
    have h2 := h n (by omega)
    rw [tot]
    omega
theorem tot_step {a : gA} {nw : Nat → Nat} {n : Nat} : ∀ l, l ≤ n → tot (gstep a nw n) l = tot nw l + rk a nw l
  | 0, _ => rfl
  | l + 1, h => by
    rw [tot, tot, rk, tot_step l (by omega)]
    unfold gstep
    cases hf : gfit a nw l with
    | true => rw [if_neg (by simp), if_pos rfl]; omega
    | false => rw [if_pos ⟨by omega, rfl⟩, if_neg (by decide)]; omega
/-- a line that doesn't fit has forms, and behind a round without an end the next one -/
theorem g_badF {a : gA} {nw : Nat → Nat} {n l : Nat} (hwf : gWf a n) (hnw : gNw a nw n) (hen : gen a nw n = false) (hl : l < n) (hb : gfit a nw l = false) : ¬ a 0 l = 0 ∧ ∃ f : Nat, f ≤ 4 ∧ a 0 l = nI f ∧ nw l + 1 < f := by
  have h0 : ¬ a 0 l = 0 := fun z => by
    unfold gfit at hb
    rw [if_pos z] at hb
    cases hb
  obtain ⟨f, t, hf4, hf, -⟩ := hwf.2 l hl
  have hfp : 0 < f := Nat.pos_of_ne_zero (fun z => h0 (by rw [hf, z]; rfl))
  have h1 := hnw l hl f hf4 hf hfp
  have h2 := gen_bad hen l hl hb
  refine ⟨h0, f, hf4, hf, ?_⟩
  rw [hf, show f = (f - 1) + 1 by omega, nI_pred] at h2
  have h3 : ¬ nw l = f - 1 := fun z => h2 (by rw [z])
  omega
theorem gNw_step {a : gA} {nw : Nat → Nat} {n : Nat} (hwf : gWf a n) (hnw : gNw a nw n) (hen : gen a nw n = false) : gNw a (gstep a nw n) n := by
  intro l hl f hf4 hf hfp
  unfold gstep
  cases hb : gfit a nw l with
  | true => rw [if_neg (by simp)]; exact hnw l hl f hf4 hf hfp
  | false =>
    rw [if_pos ⟨hl, rfl⟩]
    obtain ⟨-, g, hg4, hg, hlt⟩ := g_badF hwf hnw hen hl hb
    have : f = g := (nI_eq (by omega) (by omega)).mp (hf.symm.trans hg)
    omega
theorem gN4_step {a : gA} {nw : Nat → Nat} {n : Nat} (hwf : gWf a n) (hnw : gNw a nw n) (h4 : gN4 nw n) (hen : gen a nw n = false) : gN4 (gstep a nw n) n := by
  intro l hl
  unfold gstep
  cases hb : gfit a nw l with
  | true => rw [if_neg (by simp)]; exact h4 l hl
  | false =>
    rw [if_pos ⟨hl, rfl⟩]
    obtain ⟨-, g, hg4, hg, hlt⟩ := g_badF hwf hnw hen hl hb
    omega
end
section
theorem g_wr_eq (a : gA) (k i : Nat) (v : Int32) : g_wr a k i v k i = v := by simp [g_wr, va_up, upd]
theorem g_wr_ne (a : gA) (k : Nat) {i j : Nat} (v : Int32) (h : j ≠ i) : g_wr a k i v k j = a k j := by simp [g_wr, va_up, upd, h]
theorem g_wr_k (a : gA) {k k' : Nat} (i : Nat) (v : Int32) (h : k' ≠ k) : g_wr a k i v k' = a k' := by
  unfold g_wr
  exact va_up_ne a _ h
theorem g_addsub (x y : Int32) : x + (y - x) = y := by rw [Int32.add_comm, Int32.sub_add_cancel]
theorem g_by (x y u v : Int32) : (y - x) + (u - v) = (y + u) - (x + v) := by grind
/-- grow, ahead of line l -/
def gI (a a' : gA) (nw : Nat → Nat) (n l : Nat) : Prop := gEq a' a ∧ a' 8 = a 8 ∧ (∀ i, i < n → (a 0 i = 0 → a' 6 i = -1) ∧ (¬ a 0 i = 0 → a' 6 i = nI (if i < l then gstep a nw n i else nw i))) ∧ ∀ i, i ≤ n → a' 7 i = if i < l then adr a (gstep a nw n) i else adr a nw i
theorem gI_ok {a a' : gA} {nw : Nat → Nat} {n l : Nat} (h : gI a a' nw n l) (hb : ¬ (l < n ∧ gfit a nw l = false)) : gI a (g_wr a' 7 l (adr a (gstep a nw n) l)) nw n (l + 1) := by
  obtain ⟨h1, h2, h3, h4⟩ := h
  refine ⟨(gEq.wr (by decide)).tr h1, (g_wr_k a' _ _ (by decide)).trans h2, fun i hi => ?_, fun i hi => ?_⟩
  · rw [g_wr_k a' _ _ (by decide)]
    refine ⟨(h3 i hi).1, fun h0 => ((h3 i hi).2 h0).trans ?_⟩
    by_cases e : i = l
    · subst e
      rw [if_neg (Nat.lt_irrefl _), if_pos (Nat.lt_succ_self _)]
      unfold gstep
      rw [if_neg hb]
    · by_cases e2 : i < l
      · rw [if_pos e2, if_pos (by omega)]
      · rw [if_neg e2, if_neg (by omega)]
  · by_cases e : i = l
    · subst e
      rw [g_wr_eq, if_pos (Nat.lt_succ_self _)]
    · rw [g_wr_ne _ _ _ e, h4 i hi]
      by_cases e2 : i < l
      · rw [if_pos e2, if_pos (by omega)]
      · rw [if_neg e2, if_neg (by omega)]
theorem gI_bad {a a' : gA} {nw : Nat → Nat} {n l : Nat} (h : gI a a' nw n l) (hl : l < n) (hb : gfit a nw l = false) (h0 : ¬ a 0 l = 0) : gI a (g_wr (g_wr a' 7 l (adr a (gstep a nw n) l)) 6 l (nI (nw l + 1))) nw n (l + 1) := by
  obtain ⟨h1, h2, h3, h4⟩ := h
  refine ⟨((gEq.wr (by decide)).tr (gEq.wr (by decide))).tr h1, (g_wr_k _ _ _ (by decide)).trans ((g_wr_k a' _ _ (by decide)).trans h2), fun i hi => ?_, fun i hi => ?_⟩
  · by_cases e : i = l
    · subst e
      rw [g_wr_eq, if_pos (Nat.lt_succ_self _)]
      refine ⟨fun z => absurd z h0, fun _ => ?_⟩
      unfold gstep
      rw [if_pos ⟨hl, hb⟩]
    · rw [g_wr_ne _ _ _ e, g_wr_k a' _ _ (by decide)]
      refine ⟨(h3 i hi).1, fun h9 => ((h3 i hi).2 h9).trans ?_⟩
      by_cases e2 : i < l
      · rw [if_pos e2, if_pos (by omega)]
      · rw [if_neg e2, if_neg (by omega)]
  · rw [g_wr_k _ _ _ (by decide)]
    by_cases e : i = l
    · subst e
      rw [g_wr_eq, if_pos (Nat.lt_succ_self _)]
    · rw [g_wr_ne _ _ _ e, h4 i hi]
      by_cases e2 : i < l
      · rw [if_pos e2, if_pos (by omega)]
      · rw [if_neg e2, if_neg (by omega)]
theorem gI_start {a : gA} {nw : Nat → Nat} {n l : Nat} (hgs : gS a nw n) (hl : l ≤ n) (h0 : rk a nw l = 0) : gI a a nw n l ∧ adr a (gstep a nw n) l = adr a nw l := by
  have hst : ∀ i, i < l → gstep a nw n i = nw i := fun i hi => by
    unfold gstep
    rw [if_neg (by rw [rk_fit h0 i hi]; simp)]
  have had : ∀ i, i ≤ l → adr a (gstep a nw n) i = adr a nw i := fun i hi => adr_nw i (fun j hj => hst j (by omega))
  refine ⟨⟨gEq.rf, rfl, fun i hi => ⟨(hgs.1 i hi).1, fun h9 => ?_⟩, fun i hi => ?_⟩, had l (Nat.le_refl _)⟩
  · rw [(hgs.1 i hi).2 h9]
    by_cases e : i < l
    · rw [if_pos e, hst i e]
    · rw [if_neg e]
  · rw [hgs.2 i hi]
    by_cases e : i < l
    · rw [if_pos e, had i (by omega)]
    · rw [if_neg e]
theorem gI_end {a a' : gA} {nw : Nat → Nat} {n : Nat} (h : gI a a' nw n (n + 1)) : gS a' (gstep a nw n) n := by
  obtain ⟨h1, -, h3, h4⟩ := h
  refine ⟨fun i hi => ?_, fun i hi => ?_⟩
  · rw [h1 0 (by decide)]
    refine ⟨(h3 i hi).1, fun h0 => ?_⟩
    rw [(h3 i hi).2 h0, if_pos (by omega)]
  · rw [h4 i hi, if_pos (by omega), adr_eq h1]
theorem gS_c {a a' : gA} {nw : Nat → Nat} {n : Nat} (h : gS a nw n) (he : gEq a' a) (h6 : a' 6 = a 6) (h7 : a' 7 = a 7) : gS a' nw n := by
  refine ⟨fun i hi => ?_, fun i hi => ?_⟩
  · rw [he 0 (by decide), h6]
    exact h.1 i hi
  · rw [h7, adr_eq he]
    exact h.2 i hi
set_option maxHeartbeats 4000000 in
set_option maxRecDepth 100000 in
theorem w_gf_grow {p : Program} {l : Launch} {e : Env} {R : Room} {s : State} {m : MethodId} {args : Array Value} {below : List Frame} {meth : Method} {c : Code} {cells slots : Nat} {Q : State → Prop} {A : Nat → Prop} {H0 : Heap} {E : gE} {h : Nat} {q : Nat → Nat} {a : gA} {nw : Nat → Nat} {n : Nat} {st : Int32} (C : gC E "GrowForms" prog_1_method_12_code p s m c) (hD : va_D A (gW h q E.2.1 a (nI n) st)) (hwf : gWf a n) (hnw : gNw a nw n) (hen : gen a nw n = false) (hgr : ∀ l, l < n → gfit a nw l = false → a 8 (rk a nw l) = nI l)
    (kk : ∀ (a' : gA) (H : Heap) (locs : List Loc) (ls : Array Slot), gI a a' nw n (n + 1) → va_P E.1 gcl (gW h q E.2.1 a' (nI n) st) H → va_S A H0 H locs → W p l e R s m args below meth c H locs cells slots Q (F0 m 105 ls [])) :
    ∀ (d x : Nat) (a' : gA) (H : Heap) (locs : List Loc) (ls : Array Slot) (kv bv : Int32), x + d = n + 1 → (x ≤ n → kv = nI (rk a nw x) ∧ bv = adr a (gstep a nw n) x - adr a nw x) → gI a a' nw n x → va_P E.1 gcl (gW h q E.2.1 a' (nI n) st) H → va_S A H0 H locs → lv_has ls 6 [(4, .int (nI x)), (3, .int kv), (2, .int bv), (1, .int (nI (rk a nw n))), (0, .ref h)] → W p l e R s m args below meth c H locs cells slots Q (F0 m 12 ls []) := by
  have hx := C.1
  have hb := C.2.1
  have hn := hwf.1
  have hrn := rk_le a nw n
  intro d
  induction d with
  | zero =>
    intro x a' H locs ls kv bv hd hkb hI hP hS hl
    obtain rfl : x = n + 1 := by omega
    refine lv_iload hx hb d_gf_grow_12 (lv_at hl 0 rfl) ?_
    refine lv_aload_n hx hb d_gf_grow_14 rfl (lv_at hl 4 rfl) ?_
    refine gf_get C hP 9 (by decide) rfl d_gf_grow_15 ?_
    refine lv_icmp_gt (tgt := 105) hx hb d_gf_grow_18 rfl (fun _ => ?_) (fun hN => absurd (nI_lt (by omega) (by omega)) hN)
    exact kk a' H locs ls hI hP hS
  | succ d ih =>
    intro x a' H locs ls kv bv hd hkb hI hP hS hl
    obtain ⟨rfl, rfl⟩ := hkb (by omega)
    have hrx := rk_le a nw x
    have e7 : a' 7 x = adr a nw x := by rw [hI.2.2.2 x (by omega), if_neg (Nat.lt_irrefl _)]
    refine lv_iload hx hb d_gf_grow_12 (lv_at hl 0 rfl) ?_
    refine lv_aload_n hx hb d_gf_grow_14 rfl (lv_at hl 4 rfl) ?_
    refine gf_get C hP 9 (by decide) rfl d_gf_grow_15 ?_
    refine lv_icmp_gt (tgt := 105) hx hb d_gf_grow_18 rfl (fun hN => absurd hN (nI_nlt (by omega) (by omega))) (fun _ => ?_)
    refine lv_aload_n hx hb d_gf_grow_21 rfl (lv_at hl 4 rfl) ?_
    refine gf_get C hP 7 (by decide) rfl d_gf_grow_22 ?_
    refine lv_iload hx hb d_gf_grow_25 (lv_at hl 0 rfl) ?_
    refine lv_dup2_11 hx hb d_gf_grow_27 rfl rfl ?_
    refine gf_ald C hP 7 (by decide) x (v := (adr a nw x)) rfl (show x < 121 by omega) e7 d_gf_grow_28 ?_
    refine lv_iload_n hx hb d_gf_grow_29 rfl (lv_at hl 2 rfl) ?_
    refine lv_iadd hx hb d_gf_grow_30 ?_
    rw [show (((adr a nw x) + (adr a (gstep a nw n) x - adr a nw x)) : Int32) = (adr a (gstep a nw n) x) from g_addsub _ _]
    refine gf_ast C hP hD hS 7 (by decide) x rfl (show x < 121 by omega) d_gf_grow_31 (fun H locs hP hS => ?_)
    have hP : va_P E.1 gcl (gW h q E.2.1 (g_wr a' 7 x (adr a (gstep a nw n) x)) (nI n) st) H := hP
    have hE1 : gEq (g_wr a' 7 x (adr a (gstep a nw n) x)) a := (gEq.wr (by decide)).tr hI.1
    have h81 : (g_wr a' 7 x (adr a (gstep a nw n) x)) 8 = a 8 := (g_wr_k a' _ _ (by decide)).trans hI.2.1
    refine lv_iload_n hx hb d_gf_grow_32 rfl (lv_at hl 1 rfl) ?_
    refine lv_iload_n hx hb d_gf_grow_33 rfl (lv_at hl 3 rfl) ?_
    by_cases hbad : x < n ∧ gfit a nw x = false
    · skip
      obtain ⟨h0, f, hf4, hf, hff⟩ := g_badF hwf hnw hen hbad.1 hbad.2
      have hlt := rk_bad hbad.1 hbad.2
      have hr1 : rk a nw (x + 1) = rk a nw x + 1 := by rw [rk, if_neg (by rw [hbad.2]; decide)]
      have hpos : 0 < a 0 x := by rw [hf]; exact nI_lt (a := 0) (b := f) (by omega) (by omega)
      have hst1 : gstep a nw n x = nw x + 1 := by unfold gstep; rw [if_pos hbad]
      have eA : adr a (gstep a nw n) (x + 1) = adr a (gstep a nw n) x + a 1 (4 * x + nw x + 1) := by rw [adr, if_pos hpos, hst1]; rfl
      have eB : adr a nw (x + 1) = adr a nw x + a 1 (4 * x + nw x) := by rw [adr, if_pos hpos]
      have e6 : (g_wr a' 7 x (adr a (gstep a nw n) x)) 6 x = nI (nw x) := by rw [g_wr_k a' _ _ (by decide), (hI.2.2.1 x hbad.1).2 h0, if_neg (Nat.lt_irrefl _)]
      have hrr : ∀ z, z < 120 → nI (rk a nw x) = nI z → rk a nw x = z := fun z hz hh => (nI_eq (by omega) (by omega)).mp hh
      refine lv_icmp_eq (tgt := 99) hx hb d_gf_grow_34 rfl (fun hN => absurd hN (fun z => absurd ((nI_eq (by omega) (by omega)).mp z) (by omega))) (fun _ => ?_)
      refine lv_aload_n hx hb d_gf_grow_37 rfl (lv_at hl 4 rfl) ?_
      refine gf_get C hP 8 (by decide) rfl d_gf_grow_38 ?_
      refine lv_iload_n hx hb d_gf_grow_41 rfl (lv_at hl 1 rfl) ?_
      refine gf_ald C hP 8 (by decide) (rk a nw x) (v := (nI x)) rfl (show rk a nw x < 120 by omega) (by rw [h81]; exact hgr x hbad.1 hbad.2) d_gf_grow_42 ?_
      refine lv_iload hx hb d_gf_grow_43 (lv_at hl 0 rfl) ?_
      refine lv_icmp_eq (tgt := 51) hx hb d_gf_grow_45 rfl (fun _ => ?_) (fun hN => absurd rfl hN)
      refine lv_iload hx hb d_gf_grow_51 (lv_at hl 0 rfl) ?_
      refine lv_iconst (v := 4) hx hb d_gf_grow_53 (by decide) ?_
      refine lv_imul hx hb d_gf_grow_54 ?_
      refine lv_aload_n hx hb d_gf_grow_55 rfl (lv_at hl 4 rfl) ?_
      refine gf_get C hP 6 (by decide) rfl d_gf_grow_56 ?_
      refine lv_iload hx hb d_gf_grow_59 (lv_at hl 0 rfl) ?_
      refine gf_ald C hP 6 (by decide) x (v := (nI (nw x))) rfl (show x < 120 by omega) e6 d_gf_grow_61 ?_
      refine lv_iadd hx hb d_gf_grow_62 ?_
      rw [show ((((nI x) * 4) + (nI (nw x))) : Int32) = (nI (4 * x + nw x)) from g_ix x (nw x)]
      refine lv_istore hx hb d_gf_grow_63 hl (by decide) rfl (fun ls hl => ?_)
      have hl : lv_has ls 6 [(5, .int (nI (4 * x + nw x))), (4, .int (nI x)), (3, .int (nI (rk a nw x))), (2, .int (adr a (gstep a nw n) x - adr a nw x)), (1, .int (nI (rk a nw n))), (0, .ref h)] := hl
      refine lv_iload_n hx hb d_gf_grow_65 rfl (lv_at hl 3 rfl) ?_
      refine lv_aload_n hx hb d_gf_grow_66 rfl (lv_at hl 5 rfl) ?_
      refine gf_get C hP 1 (by decide) rfl d_gf_grow_67 ?_
      refine lv_iload hx hb d_gf_grow_70 (lv_at hl 0 rfl) ?_
      refine lv_iconst (v := 1) hx hb d_gf_grow_72 (by decide) ?_
      refine lv_iadd hx hb d_gf_grow_73 ?_
      rw [show (((nI (4 * x + nw x)) + 1) : Int32) = (nI (4 * x + nw x + 1)) from nI_1 _]
      refine gf_ald C hP 1 (by decide) (4 * x + nw x + 1) (v := (a 1 (4 * x + nw x + 1))) rfl (show 4 * x + nw x + 1 < 480 by omega) (by rw [hE1 1 (by decide)]) d_gf_grow_74 ?_
      refine lv_aload_n hx hb d_gf_grow_75 rfl (lv_at hl 5 rfl) ?_
      refine gf_get C hP 1 (by decide) rfl d_gf_grow_76 ?_
      refine lv_iload hx hb d_gf_grow_79 (lv_at hl 0 rfl) ?_
      refine gf_ald C hP 1 (by decide) (4 * x + nw x) (v := (a 1 (4 * x + nw x))) rfl (show 4 * x + nw x < 480 by omega) (by rw [hE1 1 (by decide)]) d_gf_grow_81 ?_
      refine lv_isub hx hb d_gf_grow_82 ?_
      refine lv_iadd hx hb d_gf_grow_83 ?_
      rw [show (((adr a (gstep a nw n) x - adr a nw x) + ((a 1 (4 * x + nw x + 1)) - (a 1 (4 * x + nw x)))) : Int32) = (adr a (gstep a nw n) (x + 1) - adr a nw (x + 1)) from by rw [eA, eB]; exact g_by _ _ _ _]
      refine lv_istore_n hx hb d_gf_grow_84 rfl hl (by decide) rfl (fun ls hl => ?_)
      have hl : lv_has ls 6 [(2, .int (adr a (gstep a nw n) (x + 1) - adr a nw (x + 1))), (5, .int (nI (4 * x + nw x))), (4, .int (nI x)), (3, .int (nI (rk a nw x))), (1, .int (nI (rk a nw n))), (0, .ref h)] := hl
      refine lv_aload_n hx hb d_gf_grow_85 rfl (lv_at hl 5 rfl) ?_
      refine gf_get C hP 6 (by decide) rfl d_gf_grow_86 ?_
      refine lv_iload hx hb d_gf_grow_89 (lv_at hl 2 rfl) ?_
      refine lv_dup2_11 hx hb d_gf_grow_91 rfl rfl ?_
      refine gf_ald C hP 6 (by decide) x (v := (nI (nw x))) rfl (show x < 120 by omega) e6 d_gf_grow_92 ?_
      refine lv_iconst (v := 1) hx hb d_gf_grow_93 (by decide) ?_
      refine lv_iadd hx hb d_gf_grow_94 ?_
      rw [show (((nI (nw x)) + 1) : Int32) = (nI (nw x + 1)) from nI_1 _]
      refine gf_ast C hP hD hS 6 (by decide) x rfl (show x < 120 by omega) d_gf_grow_95 (fun H locs hP hS => ?_)
      refine lv_iinc (k := 3) (v := (nI (rk a nw x + 1))) hx hb d_gf_grow_96 hl rfl (g_inc _) (by decide) rfl (fun ls hl => ?_)
      have hl : lv_has ls 6 [(3, .int (nI (rk a nw x + 1))), (2, .int (adr a (gstep a nw n) (x + 1) - adr a nw (x + 1))), (5, .int (nI (4 * x + nw x))), (4, .int (nI x)), (1, .int (nI (rk a nw n))), (0, .ref h)] := hl
      refine lv_iinc (k := 3) (v := (nI (x + 1))) hx hb d_gf_grow_99 hl rfl (g_inc x) (by decide) rfl (fun ls hl => ?_)
      have hl : lv_has ls 6 [(4, .int (nI (x + 1))), (3, .int (nI (rk a nw x + 1))), (2, .int (adr a (gstep a nw n) (x + 1) - adr a nw (x + 1))), (5, .int (nI (4 * x + nw x))), (1, .int (nI (rk a nw n))), (0, .ref h)] := hl
      refine lv_goto (tgt := 12) hx hb d_gf_grow_102 rfl ?_
      have hl : lv_has ls 6 [(4, .int (nI (x + 1))), (3, .int (nI (rk a nw x + 1))), (2, .int (adr a (gstep a nw n) (x + 1) - adr a nw (x + 1))), (1, .int (nI (rk a nw n))), (0, .ref h)] := lv_sub hl [0, 1, 2, 4, 5] rfl
      exact ih (x + 1) (g_wr (g_wr a' 7 x (adr a (gstep a nw n) x)) 6 x (nI (nw x + 1))) H locs ls _ _ (by omega) (fun _ => ⟨by rw [hr1], rfl⟩) (gI_bad hI hbad.1 hbad.2 h0) hP hS hl
    · skip
      have hI2 := gI_ok hI hbad
      have hn1 : x + 1 ≤ n → nI (rk a nw x) = nI (rk a nw (x + 1)) ∧ adr a (gstep a nw n) x - adr a nw x = adr a (gstep a nw n) (x + 1) - adr a nw (x + 1) := by
        intro hx1
        have hft : gfit a nw x = true := by
          cases hf : gfit a nw x with
          | true => rfl
          | false => exact absurd ⟨by omega, hf⟩ hbad
        refine ⟨by rw [rk, if_pos hft], ?_⟩
        have hst1 : gstep a nw n x = nw x := by unfold gstep; rw [if_neg hbad]
        rw [adr, adr, hst1]
        by_cases hpos : 0 < a 0 x
        · rw [if_pos hpos, if_pos hpos, ← g_by, Int32.sub_self, Int32.add_zero]
        · rw [if_neg hpos, if_neg hpos]
      by_cases hk : rk a nw x = rk a nw n
      · skip
        refine lv_icmp_eq (tgt := 99) hx hb d_gf_grow_34 rfl (fun _ => ?_) (fun hN => absurd (by rw [hk]) hN)
        refine lv_iinc (k := 0) (v := (nI (x + 1))) hx hb d_gf_grow_99 hl rfl (g_inc x) (by decide) rfl (fun ls hl => ?_)
        have hl : lv_has ls 6 [(4, .int (nI (x + 1))), (3, .int (nI (rk a nw x))), (2, .int (adr a (gstep a nw n) x - adr a nw x)), (1, .int (nI (rk a nw n))), (0, .ref h)] := hl
        refine lv_goto (tgt := 12) hx hb d_gf_grow_102 rfl ?_
        exact ih (x + 1) (g_wr a' 7 x (adr a (gstep a nw n) x)) H locs ls _ _ (by omega) hn1 hI2 hP hS hl
      · skip
        have hxn : x < n := Nat.lt_of_le_of_ne (by omega) (fun z => hk (by rw [z]))
        have hlt : rk a nw x < rk a nw n := Nat.lt_of_le_of_ne (rk_mono' a nw (by omega)) hk
        obtain ⟨j, hj1, hj2, hj3, hj4⟩ := rk_next (n - x) x (by omega) hlt
        have hjx : j ≠ x := fun z => hbad ⟨hxn, by rw [← z]; exact hj3⟩
        refine lv_icmp_eq (tgt := 99) hx hb d_gf_grow_34 rfl (fun hN => absurd hN (fun z => absurd ((nI_eq (by omega) (by omega)).mp z) (by omega))) (fun _ => ?_)
        refine lv_aload_n hx hb d_gf_grow_37 rfl (lv_at hl 4 rfl) ?_
        refine gf_get C hP 8 (by decide) rfl d_gf_grow_38 ?_
        refine lv_iload_n hx hb d_gf_grow_41 rfl (lv_at hl 1 rfl) ?_
        refine gf_ald C hP 8 (by decide) (rk a nw x) (v := (nI j)) rfl (show rk a nw x < 120 by omega) (by rw [h81, ← hj4]; exact hgr j hj2 hj3) d_gf_grow_42 ?_
        refine lv_iload hx hb d_gf_grow_43 (lv_at hl 0 rfl) ?_
        refine lv_icmp_eq (tgt := 51) hx hb d_gf_grow_45 rfl (fun hN => absurd hN (fun z => absurd ((nI_eq (by omega) (by omega)).mp z) hjx)) (fun _ => ?_)
        refine lv_goto (tgt := 99) hx hb d_gf_grow_48 rfl ?_
        refine lv_iinc (k := 0) (v := (nI (x + 1))) hx hb d_gf_grow_99 hl rfl (g_inc x) (by decide) rfl (fun ls hl => ?_)
        have hl : lv_has ls 6 [(4, .int (nI (x + 1))), (3, .int (nI (rk a nw x))), (2, .int (adr a (gstep a nw n) x - adr a nw x)), (1, .int (nI (rk a nw n))), (0, .ref h)] := hl
        refine lv_goto (tgt := 12) hx hb d_gf_grow_102 rfl ?_
        exact ih (x + 1) (g_wr a' 7 x (adr a (gstep a nw n) x)) H locs ls _ _ (by omega) hn1 hI2 hP hS hl
set_option maxHeartbeats 4000000 in
set_option maxRecDepth 100000 in
theorem c_gf_grow (l : Launch) (E : gE) (h : Nat) (q : Nat → Nat) (a : gA) (nw : Nat → Nat) (n : Nat) (st : Int32) (hDg : gDG h q) (hwf : gWf a n) (hnw : gNw a nw n) (hgs : gS a nw n) (hen : gen a nw n = false) (hgr : ∀ l, l < n → gfit a nw l = false → a 8 (rk a nw l) = nI l) (hpos : 0 < rk a nw n) : GMet l y_gf_grow prog_1_method_12_code 6 none [] rm0 (gPw E [.ref h, .int (nI (rk a nw n))] (gW h q E.2.1 a (nI n) st)) (fun H o H1 => o = .returned none ∧ ∃ a' : gA, gEq a' a ∧ gS a' (gstep a nw n) n ∧ va_P E.1 gcl (gW h q E.2.1 a' (nI n) st) H1 ∧ gFr (gIG h q) H H1) 0 0 (gIG h q) := by
  intro p e s m args below meth c hF hP0
  obtain ⟨hx, hb, hml, hr, hlk, hown, hnm, hex⟩ := hF
  obtain ⟨rfl, hT, hP⟩ := hP0
  have C : gC E "GrowForms" prog_1_method_12_code p s m c := ⟨hx, hb, hown, hT⟩
  have hD := hDg.to E.2.1 a (nI n) st
  have hS : va_S (gIG h q) s.heap s.heap [] := va_S.rf
  obtain ⟨j, -, hj2, hj3, hj4⟩ := rk_next (a := a) (nw := nw) n 0 (by omega) hpos
  have hj0 : rk a nw j = 0 := hj4
  obtain ⟨hI, hA⟩ := gI_start hgs (Nat.le_of_lt hj2) hj0
  have hl := lv_entry ([.ref h, .int (nI (rk a nw n))]) (n := 6) (Nat.le_of_ble_eq_true rfl)
  rw [lg_entry_eq]
  generalize (lg_sl ([.ref h, .int (nI (rk a nw n))]) ++ List.replicate (6 - (lg_sl ([.ref h, .int (nI (rk a nw n))])).length) Slot.unset).toArray = ls at hl ⊢
  have hl : lv_has ls 6 [(0, .ref h), (1, .int (nI (rk a nw n)))] := hl
  refine lv_iconst (v := 0) hx hb d_gf_grow_0 (by decide) ?_
  refine lv_istore_n hx hb d_gf_grow_1 rfl hl (by decide) rfl (fun ls hl => ?_)
  have hl : lv_has ls 6 [(2, .int 0), (0, .ref h), (1, .int (nI (rk a nw n)))] := hl
  refine lv_iconst (v := 0) hx hb d_gf_grow_2 (by decide) ?_
  refine lv_istore_n hx hb d_gf_grow_3 rfl hl (by decide) rfl (fun ls hl => ?_)
  have hl : lv_has ls 6 [(3, .int 0), (2, .int 0), (0, .ref h), (1, .int (nI (rk a nw n)))] := hl
  refine lv_aload_n hx hb d_gf_grow_4 rfl (lv_at hl 2 rfl) ?_
  refine gf_get C hP 8 (by decide) rfl d_gf_grow_5 ?_
  refine lv_iconst (v := 0) hx hb d_gf_grow_8 (by decide) ?_
  refine gf_ald C hP 8 (by decide) 0 (v := (nI j)) rfl (show 0 < 120 by decide) (by have := hgr j hj2 hj3; rw [hj0] at this; exact this) d_gf_grow_9 ?_
  refine lv_istore hx hb d_gf_grow_10 hl (by decide) rfl (fun ls hl => ?_)
  have hl : lv_has ls 6 [(4, .int (nI j)), (3, .int 0), (2, .int 0), (0, .ref h), (1, .int (nI (rk a nw n)))] := hl
  refine w_gf_grow C hD hwf hnw hen hgr (fun a' H locs ls hI hP hS => ?_) (n + 1 - j) j a _ _ ls 0 0 (by omega) (fun _ => ⟨by rw [hj0]; rfl, by rw [hA, Int32.sub_self]⟩) hI hP hS (lv_sub hl [0, 1, 2, 4, 3] rfl)
  exact gx_vret hx hb hr hlk d_gf_grow_105 hS.2.2 ⟨rfl, a', hI.1, gI_end hI, hP, gFr.of hS⟩
def gJ (a a' : gA) (l : Nat) : Prop := gEq a' a ∧ (∀ i, i < l → (a 0 i = 0 → a' 6 i = -1) ∧ (¬ a 0 i = 0 → a' 6 i = nI 0)) ∧ ∀ i, i < l → a' 7 i = adr a (fun _ => 0) i
theorem gJ_next {a a' : gA} {l : Nat} {v : Int32} (h : gJ a a' l) (hv : (a 0 l = 0 → v = -1) ∧ (¬ a 0 l = 0 → v = nI 0)) : gJ a (g_wr (g_wr a' 6 l v) 7 l (adr a (fun _ => 0) l)) (l + 1) := by
  obtain ⟨h1, h2, h3⟩ := h
  refine ⟨((gEq.wr (by decide)).tr (gEq.wr (by decide))).tr h1, fun i hi => ?_, fun i hi => ?_⟩
  · rw [g_wr_k _ _ _ (by decide)]
    by_cases e : i = l
    · subst e
      rw [g_wr_eq]
      exact hv
    · rw [g_wr_ne _ _ _ e]
      exact h2 i (by omega)
  · by_cases e : i = l
    · subst e
      rw [g_wr_eq]
    · rw [g_wr_ne _ _ _ e, g_wr_k _ _ _ (by decide)]
      exact h3 i (by omega)
theorem gJ_end {a a' : gA} {n : Nat} (h : gJ a a' n) : gEq (g_wr a' 7 n (adr a (fun _ => 0) n)) a ∧ gS (g_wr a' 7 n (adr a (fun _ => 0) n)) (fun _ => 0) n := by
  obtain ⟨h1, h2, h3⟩ := h
  have he : gEq (g_wr a' 7 n (adr a (fun _ => 0) n)) a := (gEq.wr (by decide)).tr h1
  refine ⟨he, fun i hi => ?_, fun i hi => ?_⟩
  · rw [he 0 (by decide), g_wr_k _ _ _ (by decide)]
    exact h2 i hi
  · rw [adr_eq he]
    by_cases e : i = n
    · subst e
      rw [g_wr_eq]
    · rw [g_wr_ne _ _ _ e]
      exact h3 i (by omega)
set_option maxHeartbeats 4000000 in
set_option maxRecDepth 100000 in
theorem w_gf_set1 {p : Program} {l : Launch} {e : Env} {R : Room} {s : State} {m : MethodId} {args : Array Value} {below : List Frame} {meth : Method} {c : Code} {cells slots : Nat} {Q : State → Prop} {A : Nat → Prop} {H0 : Heap} {E : gE} {h : Nat} {q : Nat → Nat} {a : gA} {n : Nat} {st : Int32} (C : gC E "GrowForms" prog_1_method_11_code p s m c) (hD : va_D A (gW h q E.2.1 a (nI n) st)) (hwf : gWf a n)
    (kk : ∀ (a' : gA) (H : Heap) (locs : List Loc) (ls : Array Slot), gJ a a' n → va_P E.1 gcl (gW h q E.2.1 a' (nI n) st) H → va_S A H0 H locs → lv_has ls 6 [(2, .int (nI n)), (1, .int (adr a (fun _ => 0) n)), (0, .ref h)] → W p l e R s m args below meth c H locs cells slots Q (F0 m 70 ls [])) :
    ∀ (d x : Nat) (a' : gA) (H : Heap) (locs : List Loc) (ls : Array Slot), x + d = n → gJ a a' x → va_P E.1 gcl (gW h q E.2.1 a' (nI n) st) H → va_S A H0 H locs → lv_has ls 6 [(2, .int (nI x)), (1, .int (adr a (fun _ => 0) x)), (0, .ref h)] → W p l e R s m args below meth c H locs cells slots Q (F0 m 9 ls []) := by
  have hx := C.1
  have hb := C.2.1
  have hn := hwf.1
  intro d
  induction d with
  | zero =>
    intro x a' H locs ls hd hJ hP hS hl
    obtain rfl : x = n := by omega
    refine lv_iload_n hx hb d_gf_settle_9 rfl (lv_at hl 0 rfl) ?_
    refine lv_aload_n hx hb d_gf_settle_10 rfl (lv_at hl 2 rfl) ?_
    refine gf_get C hP 9 (by decide) rfl d_gf_settle_11 ?_
    refine lv_icmp_ge (tgt := 70) hx hb d_gf_settle_14 rfl (fun _ => ?_) (fun hN => absurd (nI_le (Nat.le_refl _) (by omega)) hN)
    exact kk a' H locs ls hJ hP hS hl
  | succ d ih =>
    intro x a' H locs ls hd hJ hP hS hl
    have hxn : x < n := by omega
    refine lv_iload_n hx hb d_gf_settle_9 rfl (lv_at hl 0 rfl) ?_
    refine lv_aload_n hx hb d_gf_settle_10 rfl (lv_at hl 2 rfl) ?_
    refine gf_get C hP 9 (by decide) rfl d_gf_settle_11 ?_
    refine lv_icmp_ge (tgt := 70) hx hb d_gf_settle_14 rfl (fun hN => absurd hN (nI_ge hxn (by omega))) (fun _ => ?_)
    refine lv_aload_n hx hb d_gf_settle_17 rfl (lv_at hl 2 rfl) ?_
    refine gf_get C hP 6 (by decide) rfl d_gf_settle_18 ?_
    refine lv_iload_n hx hb d_gf_settle_21 rfl (lv_at hl 0 rfl) ?_
    refine lv_aload_n hx hb d_gf_settle_22 rfl (lv_at hl 2 rfl) ?_
    refine gf_get C hP 0 (by decide) rfl d_gf_settle_23 ?_
    refine lv_iload_n hx hb d_gf_settle_26 rfl (lv_at hl 0 rfl) ?_
    refine gf_ald C hP 0 (by decide) x (v := (a 0 x)) rfl (show x < 120 by omega) (by rw [hJ.1 0 (by decide)]) d_gf_settle_27 ?_
    refine lv_if_ne (tgt := 35) hx hb d_gf_settle_28 rfl (fun h0 => ?_) (fun h0 => ?_)
    · skip
      refine lv_iconst (v := 0) hx hb d_gf_settle_35 (by decide) ?_
      refine gf_ast C hP hD hS 6 (by decide) x rfl (show x < 120 by omega) d_gf_settle_36 (fun H locs hP hS => ?_)
      refine lv_aload_n hx hb d_gf_settle_37 rfl (lv_at hl 2 rfl) ?_
      refine gf_get C hP 7 (by decide) rfl d_gf_settle_38 ?_
      refine lv_iload_n hx hb d_gf_settle_41 rfl (lv_at hl 0 rfl) ?_
      refine lv_iload_n hx hb d_gf_settle_42 rfl (lv_at hl 1 rfl) ?_
      refine gf_ast C hP hD hS 7 (by decide) x rfl (show x < 121 by omega) d_gf_settle_43 (fun H locs hP hS => ?_)
      have hP : va_P E.1 gcl (gW h q E.2.1 (g_wr (g_wr a' 6 x 0) 7 x (adr a (fun _ => 0) x)) (nI n) st) H := hP
      have hJ2 := gJ_next (v := 0) hJ ⟨fun z => absurd z h0, fun _ => rfl⟩
      refine lv_aload_n hx hb d_gf_settle_44 rfl (lv_at hl 2 rfl) ?_
      refine gf_get C hP 0 (by decide) rfl d_gf_settle_45 ?_
      refine lv_iload_n hx hb d_gf_settle_48 rfl (lv_at hl 0 rfl) ?_
      refine gf_ald C hP 0 (by decide) x (v := (a 0 x)) rfl (show x < 120 by omega) (by rw [hJ2.1 0 (by decide)]) d_gf_settle_49 ?_
      refine lv_if_le (tgt := 64) hx hb d_gf_settle_50 rfl (fun h1 => ?_) (fun h1 => ?_)
      · skip
        have e1 : adr a (fun _ => 0) (x + 1) = adr a (fun _ => 0) x := by rw [adr, if_neg (fun z => (Int32.not_le.mpr z) h1)]
        refine lv_iinc (k := 0) (v := (nI (x + 1))) hx hb d_gf_settle_64 hl rfl (g_inc x) (by decide) rfl (fun ls hl => ?_)
        have hl : lv_has ls 6 [(2, .int (nI (x + 1))), (1, .int (adr a (fun _ => 0) x)), (0, .ref h)] := hl
        refine lv_goto (tgt := 9) hx hb d_gf_settle_67 rfl ?_
        exact ih (x + 1) _ H locs ls (by omega) hJ2 hP hS (by rw [e1]; exact lv_sub hl [0, 1, 2] rfl)
      · skip
        have e1 : adr a (fun _ => 0) x + a 1 (4 * x) = adr a (fun _ => 0) (x + 1) := by rw [adr, if_pos (Int32.not_le.mp h1)]; rfl
        refine lv_iload_n hx hb d_gf_settle_53 rfl (lv_at hl 1 rfl) ?_
        refine lv_aload_n hx hb d_gf_settle_54 rfl (lv_at hl 2 rfl) ?_
        refine gf_get C hP 1 (by decide) rfl d_gf_settle_55 ?_
        refine lv_iload_n hx hb d_gf_settle_58 rfl (lv_at hl 0 rfl) ?_
        refine lv_iconst (v := 4) hx hb d_gf_settle_59 (by decide) ?_
        refine lv_imul hx hb d_gf_settle_60 ?_
        refine gf_ald C hP 1 (by decide) (4 * x) (v := (a 1 (4 * x))) (g_ix0 x) (show 4 * x < 480 by omega) (by rw [hJ2.1 1 (by decide)]) d_gf_settle_61 ?_
        refine lv_iadd hx hb d_gf_settle_62 ?_
        rw [show (((adr a (fun _ => 0) x) + (a 1 (4 * x))) : Int32) = (adr a (fun _ => 0) (x + 1)) from e1]
        refine lv_istore_n hx hb d_gf_settle_63 rfl hl (by decide) rfl (fun ls hl => ?_)
        have hl : lv_has ls 6 [(1, .int (adr a (fun _ => 0) (x + 1))), (2, .int (nI x)), (0, .ref h)] := hl
        refine lv_iinc (k := 1) (v := (nI (x + 1))) hx hb d_gf_settle_64 hl rfl (g_inc x) (by decide) rfl (fun ls hl => ?_)
        have hl : lv_has ls 6 [(2, .int (nI (x + 1))), (1, .int (adr a (fun _ => 0) (x + 1))), (0, .ref h)] := hl
        refine lv_goto (tgt := 9) hx hb d_gf_settle_67 rfl ?_
        exact ih (x + 1) _ H locs ls (by omega) hJ2 hP hS (lv_sub hl [0, 1, 2] rfl)
    · skip
      refine lv_iconst (v := (-1)) hx hb d_gf_settle_31 (by decide) ?_
      refine lv_goto (tgt := 36) hx hb d_gf_settle_32 rfl ?_
      refine gf_ast C hP hD hS 6 (by decide) x rfl (show x < 120 by omega) d_gf_settle_36 (fun H locs hP hS => ?_)
      refine lv_aload_n hx hb d_gf_settle_37 rfl (lv_at hl 2 rfl) ?_
      refine gf_get C hP 7 (by decide) rfl d_gf_settle_38 ?_
      refine lv_iload_n hx hb d_gf_settle_41 rfl (lv_at hl 0 rfl) ?_
      refine lv_iload_n hx hb d_gf_settle_42 rfl (lv_at hl 1 rfl) ?_
      refine gf_ast C hP hD hS 7 (by decide) x rfl (show x < 121 by omega) d_gf_settle_43 (fun H locs hP hS => ?_)
      have hP : va_P E.1 gcl (gW h q E.2.1 (g_wr (g_wr a' 6 x (-1)) 7 x (adr a (fun _ => 0) x)) (nI n) st) H := hP
      have hJ2 := gJ_next (v := (-1)) hJ ⟨fun _ => rfl, fun z => absurd h0 z⟩
      refine lv_aload_n hx hb d_gf_settle_44 rfl (lv_at hl 2 rfl) ?_
      refine gf_get C hP 0 (by decide) rfl d_gf_settle_45 ?_
      refine lv_iload_n hx hb d_gf_settle_48 rfl (lv_at hl 0 rfl) ?_
      refine gf_ald C hP 0 (by decide) x (v := (a 0 x)) rfl (show x < 120 by omega) (by rw [hJ2.1 0 (by decide)]) d_gf_settle_49 ?_
      refine lv_if_le (tgt := 64) hx hb d_gf_settle_50 rfl (fun h1 => ?_) (fun h1 => ?_)
      · skip
        have e1 : adr a (fun _ => 0) (x + 1) = adr a (fun _ => 0) x := by rw [adr, if_neg (fun z => (Int32.not_le.mpr z) h1)]
        refine lv_iinc (k := 0) (v := (nI (x + 1))) hx hb d_gf_settle_64 hl rfl (g_inc x) (by decide) rfl (fun ls hl => ?_)
        have hl : lv_has ls 6 [(2, .int (nI (x + 1))), (1, .int (adr a (fun _ => 0) x)), (0, .ref h)] := hl
        refine lv_goto (tgt := 9) hx hb d_gf_settle_67 rfl ?_
        exact ih (x + 1) _ H locs ls (by omega) hJ2 hP hS (by rw [e1]; exact lv_sub hl [0, 1, 2] rfl)
      · skip
        have e1 : adr a (fun _ => 0) x + a 1 (4 * x) = adr a (fun _ => 0) (x + 1) := by rw [adr, if_pos (Int32.not_le.mp h1)]; rfl
        refine lv_iload_n hx hb d_gf_settle_53 rfl (lv_at hl 1 rfl) ?_
        refine lv_aload_n hx hb d_gf_settle_54 rfl (lv_at hl 2 rfl) ?_
        refine gf_get C hP 1 (by decide) rfl d_gf_settle_55 ?_
        refine lv_iload_n hx hb d_gf_settle_58 rfl (lv_at hl 0 rfl) ?_
        refine lv_iconst (v := 4) hx hb d_gf_settle_59 (by decide) ?_
        refine lv_imul hx hb d_gf_settle_60 ?_
        refine gf_ald C hP 1 (by decide) (4 * x) (v := (a 1 (4 * x))) (g_ix0 x) (show 4 * x < 480 by omega) (by rw [hJ2.1 1 (by decide)]) d_gf_settle_61 ?_
        refine lv_iadd hx hb d_gf_settle_62 ?_
        rw [show (((adr a (fun _ => 0) x) + (a 1 (4 * x))) : Int32) = (adr a (fun _ => 0) (x + 1)) from e1]
        refine lv_istore_n hx hb d_gf_settle_63 rfl hl (by decide) rfl (fun ls hl => ?_)
        have hl : lv_has ls 6 [(1, .int (adr a (fun _ => 0) (x + 1))), (2, .int (nI x)), (0, .ref h)] := hl
        refine lv_iinc (k := 1) (v := (nI (x + 1))) hx hb d_gf_settle_64 hl rfl (g_inc x) (by decide) rfl (fun ls hl => ?_)
        have hl : lv_has ls 6 [(2, .int (nI (x + 1))), (1, .int (adr a (fun _ => 0) (x + 1))), (0, .ref h)] := hl
        refine lv_goto (tgt := 9) hx hb d_gf_settle_67 rfl ?_
        exact ih (x + 1) _ H locs ls (by omega) hJ2 hP hS (lv_sub hl [0, 1, 2] rfl)
set_option maxHeartbeats 4000000 in
set_option maxRecDepth 100000 in
theorem w_gf_set3 {p : Program} {l : Launch} {e : Env} {R : Room} {s : State} {m : MethodId} {args : Array Value} {below : List Frame} {meth : Method} {c : Code} {cells slots : Nat} {Q : State → Prop} {A : Nat → Prop} {H0 : Heap} {E : gE} {h : Nat} {q : Nat → Nat} {a : gA} {nw : Nat → Nat} {n : Nat} {st r : Int32} (C : gC E "GrowForms" prog_1_method_11_code p s m c) (hml : c.maxLocals = 6) (hD : va_D A (gW h q E.2.1 a (nI n) st)) (hwf : gWf a n) (hnw : gNw a nw n) (hR : rmF.frames + 1 ≤ R.frames ∧ 8 + (5 + 11) + rmF.locals ≤ R.locals) (hcs : cells + rmF.cells ≤ R.cells ∧ slots + rmF.slots ≤ R.slots)
    (kk : ∀ (a' : gA) (H : Heap) (locs : List Loc) (ls : Array Slot), gEq a' a → gS a' nw n → (∀ i, i < n → gfit a nw i = false → a' 8 (rk a nw i) = nI i) → va_P E.1 gcl (gW h q E.2.1 a' (nI n) st) H → va_S A H0 H locs → lv_has ls 6 [(5, .int (nI n)), (4, .int (gb (gen a nw n))), (3, .int (nI (rk a nw n))), (2, .int r), (0, .ref h)] → W p l e R s m args below meth c H locs cells slots Q (F0 m 182 ls [])) :
    ∀ (d x : Nat) (a' : gA) (H : Heap) (locs : List Loc) (ls : Array Slot), x + d = n → gEq a' a → gS a' nw n → (∀ i, i < x → gfit a nw i = false → a' 8 (rk a nw i) = nI i) → va_P E.1 gcl (gW h q E.2.1 a' (nI n) st) H → va_S A H0 H locs → lv_has ls 6 [(5, .int (nI x)), (4, .int (gb (gen a nw x))), (3, .int (nI (rk a nw x))), (2, .int r), (0, .ref h)] → W p l e R s m args below meth c H locs cells slots Q (F0 m 113 ls []) := by
  have hx := C.1
  have hb := C.2.1
  have hT := C.2.2.2
  have hn := hwf.1
  intro d
  induction d with
  | zero =>
    intro x a' H locs ls hd hE hgs hgr hP hS hl
    obtain rfl : x = n := by omega
    refine lv_iload hx hb d_gf_settle_113 (lv_at hl 0 rfl) ?_
    refine lv_aload_n hx hb d_gf_settle_115 rfl (lv_at hl 4 rfl) ?_
    refine gf_get C hP 9 (by decide) rfl d_gf_settle_116 ?_
    refine lv_icmp_ge (tgt := 182) hx hb d_gf_settle_119 rfl (fun _ => ?_) (fun hN => absurd (nI_le (Nat.le_refl _) (by omega)) hN)
    exact kk a' H locs ls hE hgs hgr hP hS hl
  | succ d ih =>
    intro x a' H locs ls hd hE hgs hgr hP hS hl
    have hxn : x < n := by omega
    have hrx := rk_le a nw x
    refine lv_iload hx hb d_gf_settle_113 (lv_at hl 0 rfl) ?_
    refine lv_aload_n hx hb d_gf_settle_115 rfl (lv_at hl 4 rfl) ?_
    refine gf_get C hP 9 (by decide) rfl d_gf_settle_116 ?_
    refine lv_icmp_ge (tgt := 182) hx hb d_gf_settle_119 rfl (fun hN => absurd hN (nI_ge hxn (by omega))) (fun _ => ?_)
    refine lv_aload_n hx hb d_gf_settle_122 rfl (lv_at hl 4 rfl) ?_
    refine lv_iload hx hb d_gf_settle_123 (lv_at hl 0 rfl) ?_
    refine gx_virtP (c_gf_fits l E h q a' nw n x (nI n) st (gWf_c hE.sy hwf) (gNw_c hE.sy hnw) hgs hxn) [.int (nI x)] h [] hx hb (hml.trans hl.1.symm) C.2.2.1 (gMd_code (a := #[]) (C.wd _ tw_203)) (C.wd _ tw_200) (C.wd _ tw_202) (C.wd _ tw_1) ⟨by decide +kernel, by decide +kernel⟩ (by decide +kernel) (show (parseMethodDescriptor y_gf_fits.desc).map (fun d => d.parameters.length) = some 1 by decide +kernel) (gf_recv hT hP) (fun U hU hW => ⟨rfl, hT.moved hW, by rw [hU]; exact hP⟩) (Nat.le_of_ble_eq_true rfl) hR hcs d_gf_settle_125 rfl ?_
    rw [gfit_c hE]
    refine lv_if_eq (tgt := 134) hx hb d_gf_settle_128 rfl (fun h1 => ?_) (fun h1 => ?_)
    · skip
      have hb0 := gb_eq.mp h1
      have hneg : ¬ gfit a nw x = true := by rw [hb0]; decide
      have h0 : ¬ a 0 x = 0 := fun z => by unfold gfit at hb0; rw [if_pos z] at hb0; cases hb0
      have hr1 : rk a nw (x + 1) = rk a nw x + 1 := by rw [rk, if_neg hneg]
      refine lv_aload_n hx hb d_gf_settle_134 rfl (lv_at hl 4 rfl) ?_
      refine gf_get C hP 8 (by decide) rfl d_gf_settle_135 ?_
      refine lv_iload_n hx hb d_gf_settle_138 rfl (lv_at hl 2 rfl) ?_
      refine lv_iload hx hb d_gf_settle_139 (lv_at hl 0 rfl) ?_
      refine gf_ast C hP hD hS 8 (by decide) (rk a nw x) rfl (show rk a nw x < 120 by omega) d_gf_settle_141 (fun H locs hP hS => ?_)
      have hP : va_P E.1 gcl (gW h q E.2.1 (g_wr a' 8 (rk a nw x) (nI x)) (nI n) st) H := hP
      have hE2 : gEq (g_wr a' 8 (rk a nw x) (nI x)) a := (gEq.wr (by decide)).tr hE
      have hgs2 : gS (g_wr a' 8 (rk a nw x) (nI x)) nw n := gS_c hgs (gEq.wr (by decide)) (g_wr_k a' _ _ (by decide)) (g_wr_k a' _ _ (by decide))
      have hgr2 : ∀ i, i < x + 1 → gfit a nw i = false → (g_wr a' 8 (rk a nw x) (nI x)) 8 (rk a nw i) = nI i := by
        intro i hi hbi
        by_cases e1 : i = x
        · subst e1; rw [g_wr_eq]
        · have := rk_bad (n := x) (l := i) (by omega) hbi
          rw [g_wr_ne _ _ _ (by omega)]
          exact hgr i (by omega) hbi
      refine lv_iinc (k := 2) (v := (nI (rk a nw x + 1))) hx hb d_gf_settle_142 hl rfl (g_inc _) (by decide) rfl (fun ls hl => ?_)
      have hl : lv_has ls 6 [(3, .int (nI (rk a nw x + 1))), (5, .int (nI x)), (4, .int (gb (gen a nw x))), (2, .int r), (0, .ref h)] := hl
      refine lv_iload hx hb d_gf_settle_145 (lv_at hl 2 rfl) ?_
      refine lv_if_ne (tgt := 169) hx hb d_gf_settle_147 rfl (fun h2 => ?_) (fun h2 => ?_)
      · skip
        refine lv_iconst (v := 1) hx hb d_gf_settle_169 (by decide) ?_
        refine lv_goto (tgt := 174) hx hb d_gf_settle_170 rfl ?_
        refine lv_istore hx hb d_gf_settle_174 hl (by decide) rfl (fun ls hl => ?_)
        have hl : lv_has ls 6 [(4, .int 1), (3, .int (nI (rk a nw x + 1))), (5, .int (nI x)), (2, .int r), (0, .ref h)] := hl
        refine lv_iinc (k := 2) (v := (nI (x + 1))) hx hb d_gf_settle_176 hl rfl (g_inc x) (by decide) rfl (fun ls hl => ?_)
        have hl : lv_has ls 6 [(5, .int (nI (x + 1))), (4, .int 1), (3, .int (nI (rk a nw x + 1))), (2, .int r), (0, .ref h)] := hl
        refine lv_goto (tgt := 113) hx hb d_gf_settle_179 rfl ?_
        have e4 : gb (gen a nw (x + 1)) = 1 := by rw [gen, if_neg hneg, gb_ne.mp h2]; rfl
        exact ih (x + 1) _ H locs ls (by omega) hE2 hgs2 hgr2 hP hS (by rw [e4, hr1]; exact lv_sub hl [0, 1, 2, 3, 4] rfl)
      · skip
        refine lv_aload_n hx hb d_gf_settle_150 rfl (lv_at hl 4 rfl) ?_
        refine gf_get C hP 6 (by decide) rfl d_gf_settle_151 ?_
        refine lv_iload hx hb d_gf_settle_154 (lv_at hl 1 rfl) ?_
        refine gf_ald C hP 6 (by decide) x (v := (nI (nw x))) rfl (show x < 120 by omega) ((hgs2.1 x hxn).2 (by rw [hE2 0 (by decide)]; exact h0)) d_gf_settle_156 ?_
        refine lv_aload_n hx hb d_gf_settle_157 rfl (lv_at hl 4 rfl) ?_
        refine gf_get C hP 0 (by decide) rfl d_gf_settle_158 ?_
        refine lv_iload hx hb d_gf_settle_161 (lv_at hl 1 rfl) ?_
        refine gf_ald C hP 0 (by decide) x (v := (a 0 x)) rfl (show x < 120 by omega) (by rw [hE2 0 (by decide)]) d_gf_settle_163 ?_
        refine lv_iconst (v := 1) hx hb d_gf_settle_164 (by decide) ?_
        refine lv_isub hx hb d_gf_settle_165 ?_
        refine lv_icmp_ne (tgt := 173) hx hb d_gf_settle_166 rfl (fun h3 => ?_) (fun h3 => ?_)
        · skip
          refine lv_iconst (v := 0) hx hb d_gf_settle_173 (by decide) ?_
          refine lv_istore hx hb d_gf_settle_174 hl (by decide) rfl (fun ls hl => ?_)
          have hl : lv_has ls 6 [(4, .int 0), (3, .int (nI (rk a nw x + 1))), (5, .int (nI x)), (2, .int r), (0, .ref h)] := hl
          refine lv_iinc (k := 2) (v := (nI (x + 1))) hx hb d_gf_settle_176 hl rfl (g_inc x) (by decide) rfl (fun ls hl => ?_)
          have hl : lv_has ls 6 [(5, .int (nI (x + 1))), (4, .int 0), (3, .int (nI (rk a nw x + 1))), (2, .int r), (0, .ref h)] := hl
          refine lv_goto (tgt := 113) hx hb d_gf_settle_179 rfl ?_
          have e4 : gb (gen a nw (x + 1)) = 0 := by rw [gen, if_neg hneg, gb_eq.mp h2, decide_eq_false h3]; rfl
          exact ih (x + 1) _ H locs ls (by omega) hE2 hgs2 hgr2 hP hS (by rw [e4, hr1]; exact lv_sub hl [0, 1, 2, 3, 4] rfl)
        · skip
          refine lv_iconst (v := 1) hx hb d_gf_settle_169 (by decide) ?_
          refine lv_goto (tgt := 174) hx hb d_gf_settle_170 rfl ?_
          refine lv_istore hx hb d_gf_settle_174 hl (by decide) rfl (fun ls hl => ?_)
          have hl : lv_has ls 6 [(4, .int 1), (3, .int (nI (rk a nw x + 1))), (5, .int (nI x)), (2, .int r), (0, .ref h)] := hl
          refine lv_iinc (k := 2) (v := (nI (x + 1))) hx hb d_gf_settle_176 hl rfl (g_inc x) (by decide) rfl (fun ls hl => ?_)
          have hl : lv_has ls 6 [(5, .int (nI (x + 1))), (4, .int 1), (3, .int (nI (rk a nw x + 1))), (2, .int r), (0, .ref h)] := hl
          refine lv_goto (tgt := 113) hx hb d_gf_settle_179 rfl ?_
          have e4 : gb (gen a nw (x + 1)) = 1 := by rw [gen, if_neg hneg, decide_eq_true h3, Bool.or_true]; rfl
          exact ih (x + 1) _ H locs ls (by omega) hE2 hgs2 hgr2 hP hS (by rw [e4, hr1]; exact lv_sub hl [0, 1, 2, 3, 4] rfl)
    · skip
      have hpos := gb_ne.mp h1
      refine lv_goto (tgt := 176) hx hb d_gf_settle_131 rfl ?_
      refine lv_iinc (k := 0) (v := (nI (x + 1))) hx hb d_gf_settle_176 hl rfl (g_inc x) (by decide) rfl (fun ls hl => ?_)
      have hl : lv_has ls 6 [(5, .int (nI (x + 1))), (4, .int (gb (gen a nw x))), (3, .int (nI (rk a nw x))), (2, .int r), (0, .ref h)] := hl
      refine lv_goto (tgt := 113) hx hb d_gf_settle_179 rfl ?_
      have hgr2 : ∀ i, i < x + 1 → gfit a nw i = false → a' 8 (rk a nw i) = nI i := by
        intro i hi hbi
        by_cases e1 : i = x
        · subst e1; rw [hpos] at hbi; cases hbi
        · exact hgr i (by omega) hbi
      exact ih (x + 1) a' H locs ls (by omega) hE hgs hgr2 hP hS (by rw [gen, if_pos hpos, rk, if_pos hpos]; exact lv_sub hl [0, 1, 2, 3, 4] rfl)
def gPset (E : gE) (h : Nat) (q : Nat → Nat) (a : gA) (n : Nat) (Z : Nat × (Nat → Nat) × Int32) : Heap → Outcome → Heap → Prop := fun H o H1 => ∃ a' : gA, gEq a' a ∧ gS a' Z.2.1 n ∧ gNw a Z.2.1 n ∧
  ((Z.1 = 0 ∧ o = .returned (some (.int Z.2.2)) ∧ va_P E.1 gcl (gW h q E.2.1 a' (nI n) 1) H1 ∧ gFr (gIG h q) H H1) ∨ (Z.1 = 1 ∧ gTw E 2 (gIG h q) (gW h q E.2.1 a' (nI n) 1) H o H1) ∨ (Z.1 = 2 ∧ gTw E 5 (gIG h q) (gW h q E.2.1 a' (nI n) 1) H o H1))
set_option maxHeartbeats 4000000 in
set_option maxRecDepth 100000 in
theorem w_gf_set2 {p : Program} {l : Launch} {e : Env} {s : State} {m : MethodId} {args : Array Value} {below : List Frame} {meth : Method} {c : Code} {E : gE} {h : Nat} {q : Nat → Nat} {a a0 : gA} {n : Nat} {ln0 st0 : Int32} {Z : Nat × (Nat → Nat) × Int32} (hfl : l.flags = flags0) (C : gC E "GrowForms" prog_1_method_11_code p s m c) (hX : gX s) (hml : c.maxLocals = 6) (hex : gx_Tab c = []) (hlk : meth.locks = false) (hr : meth.sig.returnType = some .int) (hDg : gDG h q) (hwf : gWf a n) (hP0 : va_P E.1 gcl (gW h q E.2.1 a0 ln0 st0) s.heap) :
    ∀ (f : Nat) (nw : Nat → Nat) (r : Int32) (a' : gA) (H : Heap) (locs : List Loc) (ls : Array Slot), 3 * n < tot nw n + f → gN4 nw n → gNw a nw n → gset a n f nw r = Z → gEq a' a → gS a' nw n → va_P E.1 gcl (gW h q E.2.1 a' (nI n) 1) H → va_S (gIG h q) s.heap H locs → lv_has ls 6 [(2, .int r), (0, .ref h)] → W p l e rmT s m args below meth c H locs 0 0 (gx_MQ below (gPset E h q a n Z) s 1 6 (gIG h q)) (F0 m 82 ls []) := by
  have hx := C.1
  have hb := C.2.1
  have hT := C.2.2.2
  have hown := C.2.2.1
  have hn := hwf.1
  have hD := hDg.to E.2.1 a (nI n) 1
  intro f
  induction f with
  | zero =>
    intro nw r a' H locs ls hfu h4
    have := tot_le h4
    omega
  | succ f ih =>
    intro nw r a' H locs ls hfu h4 hnw hZ hE hgs hP hS hl
    have hrn := rk_le a nw n
    have hkp : gx_keep s.heap H := gx_keepG hP0 (gFr.of hS)
    have e7 : a' 7 n = adr a nw n := by rw [hgs.2 n (Nat.le_refl _), adr_eq hE]
    rw [gset] at hZ
    refine lv_aload_n hx hb d_gf_settle_82 rfl (lv_at hl 1 rfl) ?_
    refine gf_get C hP 7 (by decide) rfl d_gf_settle_83 ?_
    refine lv_aload_n hx hb d_gf_settle_86 rfl (lv_at hl 1 rfl) ?_
    refine gf_get C hP 9 (by decide) rfl d_gf_settle_87 ?_
    refine gf_ald C hP 7 (by decide) n (v := (adr a nw n)) rfl (show n < 121 by omega) e7 d_gf_settle_90 ?_
    refine lv_sipush (v := 4096) hx hb d_gf_settle_91 (by decide) ?_
    refine lv_icmp_le (tgt := 105) hx hb d_gf_settle_94 rfl (fun h1 => ?_) (fun h1 => ?_)
    · skip
      rw [if_neg (fun z => (Int32.not_le.mpr z) h1)] at hZ
      refine lv_iconst (v := 0) hx hb d_gf_settle_105 (by decide) ?_
      refine lv_istore_n hx hb d_gf_settle_106 rfl hl (by decide) rfl (fun ls hl => ?_)
      have hl : lv_has ls 6 [(3, .int 0), (2, .int r), (0, .ref h)] := hl
      refine lv_iconst (v := 0) hx hb d_gf_settle_107 (by decide) ?_
      refine lv_istore hx hb d_gf_settle_108 hl (by decide) rfl (fun ls hl => ?_)
      have hl : lv_has ls 6 [(4, .int 0), (3, .int 0), (2, .int r), (0, .ref h)] := hl
      refine lv_iconst (v := 0) hx hb d_gf_settle_110 (by decide) ?_
      refine lv_istore hx hb d_gf_settle_111 hl (by decide) rfl (fun ls hl => ?_)
      have hl : lv_has ls 6 [(5, .int 0), (4, .int 0), (3, .int 0), (2, .int r), (0, .ref h)] := hl
      refine w_gf_set3 (nw := nw) (r := r) C hml hD hwf hnw ⟨by decide, by decide⟩ ⟨by decide, by decide⟩ ?_ n 0 a' H locs ls (by omega) hE hgs (fun i hi => absurd hi (Nat.not_lt_zero i)) hP hS (lv_sub hl [0, 1, 2, 3, 4] rfl)
      clear hgs hE hP hS hl e7 hkp
      intro a' H locs ls hE hgs hgr hP hS hl
      have hkp : gx_keep s.heap H := gx_keepG hP0 (gFr.of hS)
      refine lv_iload_n hx hb d_gf_settle_182 rfl (lv_at hl 2 rfl) ?_
      refine lv_if_ne (tgt := 188) hx hb d_gf_settle_183 rfl (fun h2 => ?_) (fun h2 => ?_)
      · skip
        have hr0 : ¬ rk a nw n = 0 := fun z => h2 (by rw [z]; rfl)
        refine lv_iload hx hb d_gf_settle_188 (lv_at hl 1 rfl) ?_
        refine lv_if_eq (tgt := 201) hx hb d_gf_settle_190 rfl (fun h3 => ?_) (fun h3 => ?_)
        · skip
          have hen := gb_eq.mp h3
          rw [if_neg (by rw [hen]; decide), if_neg hr0] at hZ
          refine lv_aload_n hx hb d_gf_settle_201 rfl (lv_at hl 4 rfl) ?_
          refine lv_iload_n hx hb d_gf_settle_202 rfl (lv_at hl 2 rfl) ?_
          have hr' := rk_c hE nw n
          refine gx_virt (c_gf_grow l E h q a' nw n 1 hDg (gWf_c hE.sy hwf) (gNw_c hE.sy hnw) hgs (by rw [gen_c hE]; exact hen) (fun i hi hbi => by rw [rk_c hE]; exact hgr i hi (by rw [← gfit_c hE]; exact hbi)) (by omega)) [.int (nI (rk a nw n))] h [] hx hb (hml.trans hl.1.symm) C.2.2.1 (gMd_code (a := #[]) (C.wd _ tw_227)) (C.wd _ tw_224) (C.wd _ tw_226) (C.wd _ tw_3) ⟨by decide +kernel, by decide +kernel⟩ (by decide +kernel) (show (parseMethodDescriptor y_gf_grow.desc).map (fun d => d.parameters.length) = some 1 by decide +kernel) (gf_recv hT hP) (fun U hU hW => ⟨by rw [hr'], hT.moved hW, by rw [hU]; exact hP⟩) (Nat.le_of_ble_eq_true rfl) ⟨by decide, by decide⟩ ⟨by decide, by decide⟩ d_gf_settle_203 rfl (fun v' H1 L hpo hL => ?_) (fun x' H1 L hpo hL => ?_)
          rotate_left
          · cases hpo.1
          obtain ⟨hv, a2, hE2, hgs2, hP, hFr⟩ := hpo
          cases hv
          have hS := gFr.S hS hFr hL
          rw [gstep_c hE] at hgs2
          refine W.eq (g2 := F0 m 206 ls []) rfl ?_
          refine lv_iinc (k := 3) (v := (r + 1)) hx hb d_gf_settle_206 hl rfl rfl (by decide) rfl (fun ls hl => ?_)
          have hl : lv_has ls 6 [(2, .int (r + 1)), (5, .int (nI n)), (4, .int (gb (gen a nw n))), (3, .int (nI (rk a nw n))), (0, .ref h)] := hl
          refine lv_goto (tgt := 82) hx hb d_gf_settle_209 rfl ?_
          exact ih (gstep a nw n) (r + 1) a2 _ _ ls (by have := tot_step (a := a) (nw := nw) (n := n) n (Nat.le_refl _); omega) (gN4_step hwf hnw h4 hen) (gNw_step hwf hnw hen) hZ (hE2.tr hE) hgs2 hP hS (lv_sub hl [0, 4] rfl)
        · skip
          have hen := gb_ne.mp h3
          rw [if_pos hen] at hZ
          subst hZ
          exact gx_throw gs_U 80 78 5 hfl hx hb (hml.trans hl.1.symm) hex hlk hown hT hX hkp rfl ga_U tw_209 tw_210 tw_17 (by decide +kernel) d_gf_settle_193 d_gf_settle_196 d_gf_settle_197 d_gf_settle_200 (by decide) (by decide) (by decide) (by decide) hS.2.2 (fun x9 H1 ce e1 e2 e3 e4 e5 => ⟨a', hE, hgs, hnw, Or.inr (Or.inr ⟨rfl, x9, ce, rfl, e1, e2, e3, gW_lt hP e5, (gFr.of hS).tr ⟨e4, fun z hz _ => e5 z hz⟩⟩)⟩)
      · skip
        have hr0 : rk a nw n = 0 := (nI_eq (a := rk a nw n) (b := 0) (by omega) (by omega)).mp h2
        have hen : ¬ gen a nw n = true := fun z => by
          have key : ∀ x, x ≤ n → gen a nw x = false := by
            intro x
            induction x with
            | zero => intro _; rfl
            | succ x ihx => intro hx1; rw [gen, if_pos (rk_fit hr0 x (by omega))]; exact ihx (by omega)
          rw [key n (Nat.le_refl _)] at z; cases z
        rw [if_neg hen, if_pos hr0] at hZ
        subst hZ
        refine lv_iload_n hx hb d_gf_settle_186 rfl (lv_at hl 3 rfl) ?_
        refine W.widen (k := 1) (n := 6) (by omega) (by omega) ?_
        exact gx_iret hx hb hr hlk d_gf_settle_187 hS.2.2 ⟨a', hE, hgs, hnw, Or.inl ⟨rfl, rfl, hP, gFr.of hS⟩⟩
    · skip
      rw [if_pos (Int32.not_le.mp h1)] at hZ
      subst hZ
      exact gx_throw gs_I 46 44 2 hfl hx hb (hml.trans hl.1.symm) hex hlk hown hT hX hkp rfl ga_I tw_73 tw_74 tw_14 (by decide +kernel) d_gf_settle_97 d_gf_settle_100 d_gf_settle_101 d_gf_settle_104 (by decide) (by decide) (by decide) (by decide) hS.2.2 (fun x9 H1 ce e1 e2 e3 e4 e5 => ⟨a', hE, hgs, hnw, Or.inr (Or.inl ⟨rfl, x9, ce, rfl, e1, e2, e3, gW_lt hP e5, (gFr.of hS).tr ⟨e4, fun z hz _ => e5 z hz⟩⟩)⟩)
set_option maxHeartbeats 4000000 in
set_option maxRecDepth 100000 in
theorem c_gf_settle (l : Launch) (hfl : l.flags = flags0) (E : gE) (h : Nat) (q : Nat → Nat) (a : gA) (n : Nat) (st : Int32) (hDg : gDG h q) (hwf : gWf a n) : GMet l y_gf_settle prog_1_method_11_code 6 (some .int) [] rmT (gPx E [.ref h] (gW h q E.2.1 a (nI n) st)) (gPset E h q a n (gset a n 361 (fun _ => 0) 0)) 1 6 (gIG h q) := by
  intro p e s m args below meth c hF hP0
  obtain ⟨hx, hb, hml, hr, hlk, hown, hnm, hex⟩ := hF
  obtain ⟨rfl, hT, hX, hP⟩ := hP0
  have C : gC E "GrowForms" prog_1_method_11_code p s m c := ⟨hx, hb, hown, hT⟩
  have hD := hDg.to E.2.1 a (nI n) st
  have hS : va_S (gIG h q) s.heap s.heap [] := va_S.rf
  have hn := hwf.1
  have hP0 := hP
  have hl := lv_entry ([.ref h]) (n := 6) (Nat.le_of_ble_eq_true rfl)
  rw [lg_entry_eq]
  generalize (lg_sl ([.ref h]) ++ List.replicate (6 - (lg_sl ([.ref h])).length) Slot.unset).toArray = ls at hl ⊢
  have hl : lv_has ls 6 [(0, .ref h)] := hl
  refine lv_aload_n hx hb d_gf_settle_0 rfl (lv_at hl 0 rfl) ?_
  refine lv_iconst (v := 1) hx hb d_gf_settle_1 (by decide) ?_
  refine gf_putst C hP hD hS (by decide) (by decide) d_gf_settle_2 (fun H locs hP hS => ?_)
  refine lv_iconst (v := 0) hx hb d_gf_settle_5 (by decide) ?_
  refine lv_istore_n hx hb d_gf_settle_6 rfl hl (by decide) rfl (fun ls hl => ?_)
  have hl : lv_has ls 6 [(1, .int 0), (0, .ref h)] := hl
  refine lv_iconst (v := 0) hx hb d_gf_settle_7 (by decide) ?_
  refine lv_istore_n hx hb d_gf_settle_8 rfl hl (by decide) rfl (fun ls hl => ?_)
  have hl : lv_has ls 6 [(2, .int 0), (1, .int 0), (0, .ref h)] := hl
  refine w_gf_set1 (st := 1) C (hDg.to E.2.1 a (nI n) 1) hwf ?_ n 0 a H locs ls (by omega) ⟨gEq.rf, fun i hi => absurd hi (Nat.not_lt_zero i), fun i hi => absurd hi (Nat.not_lt_zero i)⟩ hP hS (lv_sub hl [0, 1, 2] rfl)
  clear hP hS hl
  intro a' H locs ls hJ hP hS hl
  have hD := hDg.to E.2.1 a (nI n) 1
  refine lv_aload_n hx hb d_gf_settle_70 rfl (lv_at hl 2 rfl) ?_
  refine gf_get C hP 7 (by decide) rfl d_gf_settle_71 ?_
  refine lv_aload_n hx hb d_gf_settle_74 rfl (lv_at hl 2 rfl) ?_
  refine gf_get C hP 9 (by decide) rfl d_gf_settle_75 ?_
  refine lv_iload_n hx hb d_gf_settle_78 rfl (lv_at hl 1 rfl) ?_
  refine gf_ast C hP hD hS 7 (by decide) n rfl (show n < 121 by omega) d_gf_settle_79 (fun H locs hP hS => ?_)
  obtain ⟨hE, hgs⟩ := gJ_end hJ
  refine lv_iconst (v := 0) hx hb d_gf_settle_80 (by decide) ?_
  refine lv_istore_n hx hb d_gf_settle_81 rfl hl (by decide) rfl (fun ls hl => ?_)
  have hl : lv_has ls 6 [(2, .int 0), (1, .int (adr a (fun _ => 0) n)), (0, .ref h)] := hl
  exact w_gf_set2 hfl C hX hml hex hlk hr hDg hwf hP0 361 (fun _ => 0) 0 _ H locs ls (by omega) (fun _ _ => (show (0 : Nat) < 4 by decide)) (fun _ _ f _ _ hf => hf) rfl hE hgs hP hS (lv_sub hl [0, 2] rfl)
end
section
def gth (b : gA) (nw : Nat → Nat) (x : Nat) : Int32 := if gen b nw x = true then 2 else 0
def gsm (b : gA) (nw : Nat → Nat) (x : Nat) : Int32 := gb (decide (¬ rk b nw x = 0))
theorem gb_or1 (x : Bool) : gb x ||| 1 = 1 := by cases x <;> decide
theorem gb_or0 (x : Bool) : gb x ||| 0 = gb x := by cases x <;> decide
set_option maxHeartbeats 4000000 in
set_option maxRecDepth 100000 in
theorem w_gm_set0 {p : Program} {l : Launch} {e : Env} {R : Room} {s : State} {m : MethodId} {args : Array Value} {below : List Frame} {meth : Method} {c : Code} {cells slots : Nat} {Q : State → Prop} {A : Nat → Prop} {H0 : Heap} {E : gE} {h : Nat} {q : Nat → Nat} {b : gA} {n : Nat} (C : gC E "GrowFormsModel" prog_3_method_10_code p s m c) (hD : va_D A (mW h q E.2.1 E.2.2.1 b (nI n) 0 1)) (hwf : gWf b n)
    (kk : ∀ (b' : gA) (H : Heap) (locs : List Loc) (ls : Array Slot), gEq b' b → gM b' (fun _ => 0) n → va_P E.1 gcl (mW h q E.2.1 E.2.2.1 b' (nI n) 0 1) H → va_S A H0 H locs → lv_has ls 4 [(1, .int (nI n)), (0, .ref h)] → W p l e R s m args below meth c H locs cells slots Q (F0 m 33 ls [])) :
    ∀ (d x : Nat) (b' : gA) (H : Heap) (locs : List Loc) (ls : Array Slot), x + d = n → gEq b' b → (∀ i, i < x → b' 6 i = nI 0) → va_P E.1 gcl (mW h q E.2.1 E.2.2.1 b' (nI n) 0 1) H → va_S A H0 H locs → lv_has ls 4 [(1, .int (nI x)), (0, .ref h)] → W p l e R s m args below meth c H locs cells slots Q (F0 m 12 ls []) := by
  have hx := C.1
  have hb := C.2.1
  have hT := C.2.2.2
  have hn := hwf.1
  intro d
  induction d with
  | zero =>
    intro x b' H locs ls hd hE hz hP hS hl
    obtain rfl : x = n := by omega
    refine lv_iload_n hx hb d_gm_settle_12 rfl (lv_at hl 0 rfl) ?_
    refine lv_aload_n hx hb d_gm_settle_13 rfl (lv_at hl 1 rfl) ?_
    refine gm_get C hP 8 (by decide) rfl d_gm_settle_14 ?_
    refine lv_icmp_ge (tgt := 33) hx hb d_gm_settle_17 rfl (fun _ => ?_) (fun hN => absurd (nI_le (Nat.le_refl _) (by omega)) hN)
    exact kk b' H locs ls hE hz hP hS hl
  | succ d ih =>
    intro x b' H locs ls hd hE hz hP hS hl
    have hxn : x < n := by omega
    refine lv_iload_n hx hb d_gm_settle_12 rfl (lv_at hl 0 rfl) ?_
    refine lv_aload_n hx hb d_gm_settle_13 rfl (lv_at hl 1 rfl) ?_
    refine gm_get C hP 8 (by decide) rfl d_gm_settle_14 ?_
    refine lv_icmp_ge (tgt := 33) hx hb d_gm_settle_17 rfl (fun hN => absurd hN (nI_ge hxn (by omega))) (fun _ => ?_)
    refine lv_aload_n hx hb d_gm_settle_20 rfl (lv_at hl 1 rfl) ?_
    refine gm_get C hP 6 (by decide) rfl d_gm_settle_21 ?_
    refine lv_iload_n hx hb d_gm_settle_24 rfl (lv_at hl 0 rfl) ?_
    refine lv_iconst (v := 0) hx hb d_gm_settle_25 (by decide) ?_
    refine gm_ast C hP hD hS 6 (by decide) x rfl (show x < 120 by omega) d_gm_settle_26 (fun H locs hP hS => ?_)
    refine lv_iinc (k := 0) (v := (nI (x + 1))) hx hb d_gm_settle_27 hl rfl (g_inc x) (by decide) rfl (fun ls hl => ?_)
    have hl : lv_has ls 4 [(1, .int (nI (x + 1))), (0, .ref h)] := hl
    refine lv_goto (tgt := 12) hx hb d_gm_settle_30 rfl ?_
    refine ih (x + 1) (g_wr b' 6 x 0) H locs ls (by omega) ((gEq.wr (by decide)).tr hE) (fun i hi => ?_) hP hS hl
    by_cases e1 : i = x
    · subst e1; rw [g_wr_eq]; rfl
    · rw [g_wr_ne _ _ _ e1]; exact hz i (by omega)
set_option maxHeartbeats 4000000 in
set_option maxRecDepth 100000 in
theorem w_gm_set1 {p : Program} {l : Launch} {e : Env} {R : Room} {s : State} {m : MethodId} {args : Array Value} {below : List Frame} {meth : Method} {c : Code} {cells slots : Nat} {Q : State → Prop} {A : Nat → Prop} {H0 : Heap} {E : gE} {h : Nat} {q : Nat → Nat} {b : gA} {nw : Nat → Nat} {n : Nat} {r : Int32} (C : gC E "GrowFormsModel" prog_3_method_10_code p s m c) (hml : c.maxLocals = 4) (hD : va_D A (mW h q E.2.1 E.2.2.1 b (nI n) 0 1)) (hwf : gWf b n) (hnw : gNw b nw n) (hR : rmG.frames + 1 ≤ R.frames ∧ 8 + (7 + 11) + rmG.locals ≤ R.locals) (hcs : cells + rmG.cells ≤ R.cells ∧ slots + rmG.slots ≤ R.slots)
    (kk : ∀ (b' : gA) (H : Heap) (locs : List Loc) (ls : Array Slot), gEq b' b → gM b' nw n → (∀ i, i < n → b' 7 i = gb (!gfit b nw i)) → va_P E.1 gcl (mW h q E.2.1 E.2.2.1 b' (nI n) (gth b nw n) 1) H → va_S A H0 H locs → lv_has ls 4 [(3, .int (nI n)), (2, .int (gsm b nw n)), (1, .int r), (0, .ref h)] → W p l e R s m args below meth c H locs cells slots Q (F0 m 133 ls [])) :
    ∀ (d x : Nat) (b' : gA) (H : Heap) (locs : List Loc) (ls : Array Slot), x + d = n → gEq b' b → gM b' nw n → (∀ i, i < x → b' 7 i = gb (!gfit b nw i)) → va_P E.1 gcl (mW h q E.2.1 E.2.2.1 b' (nI n) (gth b nw x) 1) H → va_S A H0 H locs → lv_has ls 4 [(3, .int (nI x)), (2, .int (gsm b nw x)), (1, .int r), (0, .ref h)] → W p l e R s m args below meth c H locs cells slots Q (F0 m 60 ls []) := by
  have hx := C.1
  have hb := C.2.1
  have hT := C.2.2.2
  have hn := hwf.1
  intro d
  induction d with
  | zero =>
    intro x b' H locs ls hd hE hgm h7 hP hS hl
    obtain rfl : x = n := by omega
    refine lv_iload_n hx hb d_gm_settle_60 rfl (lv_at hl 0 rfl) ?_
    refine lv_aload_n hx hb d_gm_settle_61 rfl (lv_at hl 3 rfl) ?_
    refine gm_get C hP 8 (by decide) rfl d_gm_settle_62 ?_
    refine lv_icmp_ge (tgt := 133) hx hb d_gm_settle_65 rfl (fun _ => ?_) (fun hN => absurd (nI_le (Nat.le_refl _) (by omega)) hN)
    exact kk b' H locs ls hE hgm h7 hP hS hl
  | succ d ih =>
    intro x b' H locs ls hd hE hgm h7 hP hS hl
    have hxn : x < n := by omega
    have hx120 : x < 120 := by omega
    refine lv_iload_n hx hb d_gm_settle_60 rfl (lv_at hl 0 rfl) ?_
    refine lv_aload_n hx hb d_gm_settle_61 rfl (lv_at hl 3 rfl) ?_
    refine gm_get C hP 8 (by decide) rfl d_gm_settle_62 ?_
    refine lv_icmp_ge (tgt := 133) hx hb d_gm_settle_65 rfl (fun hN => absurd hN (nI_ge hxn (by omega))) (fun _ => ?_)
    refine lv_aload_n hx hb d_gm_settle_68 rfl (lv_at hl 3 rfl) ?_
    refine gm_get C hP 7 (by decide) rfl d_gm_settle_69 ?_
    refine lv_iload_n hx hb d_gm_settle_72 rfl (lv_at hl 0 rfl) ?_
    refine lv_aload_n hx hb d_gm_settle_73 rfl (lv_at hl 3 rfl) ?_
    refine lv_iload_n hx hb d_gm_settle_74 rfl (lv_at hl 0 rfl) ?_
    refine gx_virtP (c_gm_isFitting l E h q b' nw n x (nI n) (gth b nw x) 1 (gWf_c hE.sy hwf) (gNw_c hE.sy hnw) hgm hxn) [.int (nI x)] h [.int (nI x), .ref (q 7)] hx hb (hml.trans hl.1.symm) C.2.2.1 (gMd_code (a := #[]) (C.wd _ tw_325)) (C.wd _ tw_322) (C.wd _ tw_324) (C.wd _ tw_6) ⟨by decide +kernel, by decide +kernel⟩ (by decide +kernel) (show (parseMethodDescriptor y_gm_isFitting.desc).map (fun d => d.parameters.length) = some 1 by decide +kernel) (gm_recv hT hP) (fun U hU hW => ⟨rfl, hT.moved hW, by rw [hU]; exact hP⟩) (Nat.le_of_ble_eq_true rfl) hR hcs d_gm_settle_75 rfl ?_
    rw [gfit_eq (gWf_c hE.sy hwf) (gNw_c hE.sy hnw) hxn, gfit_c hE]
    refine lv_if_ne (tgt := 85) hx hb d_gm_settle_78 rfl (fun h1 => ?_) (fun h1 => ?_)
    · skip
      have hb0 := gb_ne.mp h1
      refine lv_iconst (v := 0) hx hb d_gm_settle_85 (by decide) ?_
      refine gm_zst C hP hD hS x rfl hx120 (by decide) d_gm_settle_86 (fun H locs hP hS => ?_)
      have hP : va_P E.1 gcl (mW h q E.2.1 E.2.2.1 (g_wr b' 7 x 0) (nI n) (gth b nw x) 1) H := hP
      have hE2 : gEq (g_wr b' 7 x 0) b := (gEq.wr (by decide)).tr hE
      have hgm2 : gM (g_wr b' 7 x 0) nw n := fun i hi => by rw [g_wr_k b' _ _ (by decide)]; exact hgm i hi
      have h72 : ∀ i, i < x + 1 → (g_wr b' 7 x 0) 7 i = gb (!gfit b nw i) := by
        intro i hi
        by_cases e1 : i = x
        · subst e1; rw [g_wr_eq, hb0]; rfl
        · rw [g_wr_ne _ _ _ e1]; exact h7 i (by omega)
      refine lv_iload_n hx hb d_gm_settle_87 rfl (lv_at hl 1 rfl) ?_
      refine lv_aload_n hx hb d_gm_settle_88 rfl (lv_at hl 3 rfl) ?_
      refine gm_get C hP 7 (by decide) rfl d_gm_settle_89 ?_
      refine lv_iload_n hx hb d_gm_settle_92 rfl (lv_at hl 0 rfl) ?_
      refine gm_zld C hP x (v := 0) rfl hx120 (g_wr_eq b' 7 x 0) d_gm_settle_93 ?_
      refine lv_ior hx hb d_gm_settle_94 ?_
      rw [show (((gsm b nw x) ||| 0) : Int32) = (gsm b nw x) from gb_or0 _]
      refine lv_istore_n hx hb d_gm_settle_95 rfl hl (by decide) rfl (fun ls hl => ?_)
      have hl : lv_has ls 4 [(2, .int (gsm b nw x)), (3, .int (nI x)), (1, .int r), (0, .ref h)] := hl
      refine lv_aload_n hx hb d_gm_settle_96 rfl (lv_at hl 3 rfl) ?_
      refine gm_get C hP 7 (by decide) rfl d_gm_settle_97 ?_
      refine lv_iload_n hx hb d_gm_settle_100 rfl (lv_at hl 1 rfl) ?_
      refine gm_zld C hP x (v := 0) rfl hx120 (g_wr_eq b' 7 x 0) d_gm_settle_101 ?_
      refine lv_if_eq (tgt := 127) hx hb d_gm_settle_102 rfl (fun _ => ?_) (fun hN => absurd rfl hN)
      refine lv_iinc (k := 1) (v := (nI (x + 1))) hx hb d_gm_settle_127 hl rfl (g_inc x) (by decide) rfl (fun ls hl => ?_)
      have hl : lv_has ls 4 [(3, .int (nI (x + 1))), (2, .int (gsm b nw x)), (1, .int r), (0, .ref h)] := hl
      refine lv_goto (tgt := 60) hx hb d_gm_settle_130 rfl ?_
      have et : gth b nw (x + 1) = gth b nw x := by unfold gth; rw [gen, if_pos hb0]
      have es : gsm b nw (x + 1) = gsm b nw x := by unfold gsm; rw [rk, if_pos hb0]
      exact ih (x + 1) _ H locs ls (by omega) hE2 hgm2 h72 (by rw [et]; exact hP) hS (by rw [es]; exact (lv_sub hl [0, 1, 2, 3] rfl))
    · skip
      have hb0 := gb_eq.mp h1
      have hneg : ¬ gfit b nw x = true := by rw [hb0]; decide
      refine lv_iconst (v := 1) hx hb d_gm_settle_81 (by decide) ?_
      refine lv_goto (tgt := 86) hx hb d_gm_settle_82 rfl ?_
      refine gm_zst C hP hD hS x rfl hx120 (by decide) d_gm_settle_86 (fun H locs hP hS => ?_)
      have hP : va_P E.1 gcl (mW h q E.2.1 E.2.2.1 (g_wr b' 7 x 1) (nI n) (gth b nw x) 1) H := hP
      have hE2 : gEq (g_wr b' 7 x 1) b := (gEq.wr (by decide)).tr hE
      have hgm2 : gM (g_wr b' 7 x 1) nw n := fun i hi => by rw [g_wr_k b' _ _ (by decide)]; exact hgm i hi
      have h72 : ∀ i, i < x + 1 → (g_wr b' 7 x 1) 7 i = gb (!gfit b nw i) := by
        intro i hi
        by_cases e1 : i = x
        · subst e1; rw [g_wr_eq, hb0]; rfl
        · rw [g_wr_ne _ _ _ e1]; exact h7 i (by omega)
      refine lv_iload_n hx hb d_gm_settle_87 rfl (lv_at hl 1 rfl) ?_
      refine lv_aload_n hx hb d_gm_settle_88 rfl (lv_at hl 3 rfl) ?_
      refine gm_get C hP 7 (by decide) rfl d_gm_settle_89 ?_
      refine lv_iload_n hx hb d_gm_settle_92 rfl (lv_at hl 0 rfl) ?_
      refine gm_zld C hP x (v := 1) rfl hx120 (g_wr_eq b' 7 x 1) d_gm_settle_93 ?_
      refine lv_ior hx hb d_gm_settle_94 ?_
      rw [show (((gsm b nw x) ||| 1) : Int32) = 1 from gb_or1 _]
      refine lv_istore_n hx hb d_gm_settle_95 rfl hl (by decide) rfl (fun ls hl => ?_)
      have hl : lv_has ls 4 [(2, .int 1), (3, .int (nI x)), (1, .int r), (0, .ref h)] := hl
      refine lv_aload_n hx hb d_gm_settle_96 rfl (lv_at hl 3 rfl) ?_
      refine gm_get C hP 7 (by decide) rfl d_gm_settle_97 ?_
      refine lv_iload_n hx hb d_gm_settle_100 rfl (lv_at hl 1 rfl) ?_
      refine gm_zld C hP x (v := 1) rfl hx120 (g_wr_eq b' 7 x 1) d_gm_settle_101 ?_
      refine lv_if_eq (tgt := 127) hx hb d_gm_settle_102 rfl (fun hN => absurd hN (by decide)) (fun _ => ?_)
      refine lv_aload_n hx hb d_gm_settle_105 rfl (lv_at hl 3 rfl) ?_
      refine gm_get C hP 6 (by decide) rfl d_gm_settle_106 ?_
      refine lv_iload_n hx hb d_gm_settle_109 rfl (lv_at hl 1 rfl) ?_
      refine gm_ald C hP 6 (by decide) x (v := (nI (nw x))) rfl hx120 (hgm2 x hxn) d_gm_settle_110 ?_
      refine lv_aload_n hx hb d_gm_settle_111 rfl (lv_at hl 3 rfl) ?_
      refine gm_get C hP 0 (by decide) rfl d_gm_settle_112 ?_
      refine lv_iload_n hx hb d_gm_settle_115 rfl (lv_at hl 1 rfl) ?_
      refine gm_ald C hP 0 (by decide) x (v := (b 0 x)) rfl hx120 (by rw [hE2 0 (by decide)]) d_gm_settle_116 ?_
      refine lv_iconst (v := 1) hx hb d_gm_settle_117 (by decide) ?_
      refine lv_isub hx hb d_gm_settle_118 ?_
      refine lv_icmp_ne (tgt := 127) hx hb d_gm_settle_119 rfl (fun h3 => ?_) (fun h3 => ?_)
      · skip
        refine lv_iinc (k := 1) (v := (nI (x + 1))) hx hb d_gm_settle_127 hl rfl (g_inc x) (by decide) rfl (fun ls hl => ?_)
        have hl : lv_has ls 4 [(3, .int (nI (x + 1))), (2, .int 1), (1, .int r), (0, .ref h)] := hl
        refine lv_goto (tgt := 60) hx hb d_gm_settle_130 rfl ?_
        have et : gth b nw (x + 1) = gth b nw x := by unfold gth; rw [gen, if_neg hneg, decide_eq_false h3, Bool.or_false]
        have es : gsm b nw (x + 1) = 1 := by unfold gsm; rw [rk, if_neg hneg, decide_eq_true (by omega)]; rfl
        exact ih (x + 1) _ H locs ls (by omega) hE2 hgm2 h72 (by rw [et]; exact hP) hS (by rw [es]; exact (lv_sub hl [0, 1, 2, 3] rfl))
      · skip
        refine lv_aload_n hx hb d_gm_settle_122 rfl (lv_at hl 3 rfl) ?_
        refine lv_iconst (v := 2) hx hb d_gm_settle_123 (by decide) ?_
        refine gm_putth C hP hD hS d_gm_settle_124 (fun H locs hP hS => ?_)
        refine lv_iinc (k := 1) (v := (nI (x + 1))) hx hb d_gm_settle_127 hl rfl (g_inc x) (by decide) rfl (fun ls hl => ?_)
        have hl : lv_has ls 4 [(3, .int (nI (x + 1))), (2, .int 1), (1, .int r), (0, .ref h)] := hl
        refine lv_goto (tgt := 60) hx hb d_gm_settle_130 rfl ?_
        have et : gth b nw (x + 1) = 2 := by unfold gth; rw [gen, if_neg hneg, decide_eq_true h3, Bool.or_true]; rfl
        have es : gsm b nw (x + 1) = 1 := by unfold gsm; rw [rk, if_neg hneg, decide_eq_true (by omega)]; rfl
        exact ih (x + 1) _ H locs ls (by omega) hE2 hgm2 h72 (by rw [et]; exact hP) hS (by rw [es]; exact (lv_sub hl [0, 1, 2, 3] rfl))
set_option maxHeartbeats 4000000 in
set_option maxRecDepth 100000 in
theorem w_gm_set2 {p : Program} {l : Launch} {e : Env} {R : Room} {s : State} {m : MethodId} {args : Array Value} {below : List Frame} {meth : Method} {c : Code} {cells slots : Nat} {Q : State → Prop} {A : Nat → Prop} {H0 : Heap} {E : gE} {h : Nat} {q : Nat → Nat} {b : gA} {nw : Nat → Nat} {n : Nat} {r : Int32} (C : gC E "GrowFormsModel" prog_3_method_10_code p s m c) (hD : va_D A (mW h q E.2.1 E.2.2.1 b (nI n) 0 1)) (hwf : gWf b n)
    (kk : ∀ (b' : gA) (H : Heap) (locs : List Loc) (ls : Array Slot), gEq b' b → gM b' (gstep b nw n) n → va_P E.1 gcl (mW h q E.2.1 E.2.2.1 b' (nI n) 0 1) H → va_S A H0 H locs → lv_has ls 4 [(1, .int r), (0, .ref h)] → W p l e R s m args below meth c H locs cells slots Q (F0 m 183 ls [])) :
    ∀ (d x : Nat) (b' : gA) (H : Heap) (locs : List Loc) (ls : Array Slot), x + d = n → gEq b' b → (∀ i, i < n → b' 6 i = nI (if i < x then gstep b nw n i else nw i)) → (∀ i, i < n → b' 7 i = gb (!gfit b nw i)) → va_P E.1 gcl (mW h q E.2.1 E.2.2.1 b' (nI n) 0 1) H → va_S A H0 H locs → lv_has ls 4 [(3, .int (nI x)), (1, .int r), (0, .ref h)] → W p l e R s m args below meth c H locs cells slots Q (F0 m 150 ls []) := by
  have hx := C.1
  have hb := C.2.1
  have hT := C.2.2.2
  have hn := hwf.1
  intro d
  induction d with
  | zero =>
    intro x b' H locs ls hd hE h6 h7 hP hS hl
    obtain rfl : x = n := by omega
    refine lv_iload_n hx hb d_gm_settle_150 rfl (lv_at hl 0 rfl) ?_
    refine lv_aload_n hx hb d_gm_settle_151 rfl (lv_at hl 2 rfl) ?_
    refine gm_get C hP 8 (by decide) rfl d_gm_settle_152 ?_
    refine lv_icmp_ge (tgt := 183) hx hb d_gm_settle_155 rfl (fun _ => ?_) (fun hN => absurd (nI_le (Nat.le_refl _) (by omega)) hN)
    exact kk b' H locs ls hE (fun i hi => by rw [h6 i hi, if_pos hi]) hP hS (lv_sub hl [1, 2] rfl)
  | succ d ih =>
    intro x b' H locs ls hd hE h6 h7 hP hS hl
    have hxn : x < n := by omega
    have hx120 : x < 120 := by omega
    refine lv_iload_n hx hb d_gm_settle_150 rfl (lv_at hl 0 rfl) ?_
    refine lv_aload_n hx hb d_gm_settle_151 rfl (lv_at hl 2 rfl) ?_
    refine gm_get C hP 8 (by decide) rfl d_gm_settle_152 ?_
    refine lv_icmp_ge (tgt := 183) hx hb d_gm_settle_155 rfl (fun hN => absurd hN (nI_ge hxn (by omega))) (fun _ => ?_)
    refine lv_aload_n hx hb d_gm_settle_158 rfl (lv_at hl 2 rfl) ?_
    refine gm_get C hP 7 (by decide) rfl d_gm_settle_159 ?_
    refine lv_iload_n hx hb d_gm_settle_162 rfl (lv_at hl 0 rfl) ?_
    refine gm_zld C hP x (v := (gb (!gfit b nw x))) rfl hx120 (h7 x hxn) d_gm_settle_163 ?_
    refine lv_if_eq (tgt := 177) hx hb d_gm_settle_164 rfl (fun h1 => ?_) (fun h1 => ?_)
    · skip
      have hb0 : gfit b nw x = true := by have := gb_eq.mp h1; simpa using this
      refine lv_iinc (k := 0) (v := (nI (x + 1))) hx hb d_gm_settle_177 hl rfl (g_inc x) (by decide) rfl (fun ls hl => ?_)
      have hl : lv_has ls 4 [(3, .int (nI (x + 1))), (1, .int r), (0, .ref h)] := hl
      refine lv_goto (tgt := 150) hx hb d_gm_settle_180 rfl ?_
      refine ih (x + 1) b' H locs ls (by omega) hE (fun i hi => ?_) h7 hP hS (lv_sub hl [0, 1, 2] rfl)
      rw [h6 i hi]
      by_cases e1 : i = x
      · subst e1; rw [if_neg (Nat.lt_irrefl _), if_pos (Nat.lt_succ_self _)]; unfold gstep; rw [if_neg (by rw [hb0]; simp)]
      · by_cases e2 : i < x
        · rw [if_pos e2, if_pos (by omega)]
        · rw [if_neg e2, if_neg (by omega)]
    · skip
      have hb0 : gfit b nw x = false := by have := gb_ne.mp h1; simpa using this
      have e6 : b' 6 x = nI (nw x) := by rw [h6 x hxn, if_neg (Nat.lt_irrefl _)]
      refine lv_aload_n hx hb d_gm_settle_167 rfl (lv_at hl 2 rfl) ?_
      refine gm_get C hP 6 (by decide) rfl d_gm_settle_168 ?_
      refine lv_iload_n hx hb d_gm_settle_171 rfl (lv_at hl 0 rfl) ?_
      refine lv_dup2_11 hx hb d_gm_settle_172 rfl rfl ?_
      refine gm_ald C hP 6 (by decide) x (v := (nI (nw x))) rfl hx120 e6 d_gm_settle_173 ?_
      refine lv_iconst (v := 1) hx hb d_gm_settle_174 (by decide) ?_
      refine lv_iadd hx hb d_gm_settle_175 ?_
      rw [show (((nI (nw x)) + 1) : Int32) = (nI (nw x + 1)) from nI_1 _]
      refine gm_ast C hP hD hS 6 (by decide) x rfl hx120 d_gm_settle_176 (fun H locs hP hS => ?_)
      refine lv_iinc (k := 0) (v := (nI (x + 1))) hx hb d_gm_settle_177 hl rfl (g_inc x) (by decide) rfl (fun ls hl => ?_)
      have hl : lv_has ls 4 [(3, .int (nI (x + 1))), (1, .int r), (0, .ref h)] := hl
      refine lv_goto (tgt := 150) hx hb d_gm_settle_180 rfl ?_
      refine ih (x + 1) (g_wr b' 6 x (nI (nw x + 1))) H locs ls (by omega) ((gEq.wr (by decide)).tr hE) (fun i hi => ?_) (fun i hi => by rw [g_wr_k b' _ _ (by decide)]; exact h7 i hi) hP hS (lv_sub hl [0, 1, 2] rfl)
      by_cases e1 : i = x
      · subst e1; rw [g_wr_eq, if_pos (Nat.lt_succ_self _)]; unfold gstep; rw [if_pos ⟨hxn, hb0⟩]
      · rw [g_wr_ne _ _ _ e1, h6 i hi]
        by_cases e2 : i < x
        · rw [if_pos e2, if_pos (by omega)]
        · rw [if_neg e2, if_neg (by omega)]
def gPsetM (E : gE) (h : Nat) (q : Nat → Nat) (b : gA) (n : Nat) (Z : Nat × (Nat → Nat) × Int32) : Heap → Outcome → Heap → Prop := fun H o H1 => ∃ (b' : gA) (r' : Int32), gEq b' b ∧ gM b' Z.2.1 n ∧ gNw b Z.2.1 n ∧ (Z.1 = 0 → r' = Z.2.2) ∧ o = .returned (some (.int r')) ∧ va_P E.1 gcl (mW h q E.2.1 E.2.2.1 b' (nI n) (nI Z.1) 1) H1 ∧ gFr (gIM h q) H H1
set_option maxHeartbeats 4000000 in
set_option maxRecDepth 100000 in
theorem w_gm_set3 {p : Program} {l : Launch} {e : Env} {s : State} {m : MethodId} {args : Array Value} {below : List Frame} {meth : Method} {c : Code} {E : gE} {h : Nat} {q : Nat → Nat} {b : gA} {n : Nat} {Z : Nat × (Nat → Nat) × Int32} (C : gC E "GrowFormsModel" prog_3_method_10_code p s m c) (hml : c.maxLocals = 4) (hlk : meth.locks = false) (hr : meth.sig.returnType = some .int) (hDm : gDM h q) (hwf : gWf b n) :
    ∀ (f : Nat) (nw : Nat → Nat) (r : Int32) (b' : gA) (H : Heap) (locs : List Loc) (ls : Array Slot), 3 * n < tot nw n + f → gN4 nw n → gNw b nw n → gset b n f nw r = Z → gEq b' b → gM b' nw n → va_P E.1 gcl (mW h q E.2.1 E.2.2.1 b' (nI n) 0 1) H → va_S (gIM h q) s.heap H locs → lv_has ls 4 [(1, .int r), (0, .ref h)] → W p l e rmH s m args below meth c H locs 0 0 (gx_MQ below (gPsetM E h q b n Z) s 0 0 (gIM h q)) (F0 m 35 ls []) := by
  have hx := C.1
  have hb := C.2.1
  have hT := C.2.2.2
  have hn := hwf.1
  have hD := hDm.to E.2.1 E.2.2.1 b (nI n) 0 1
  intro f
  induction f with
  | zero =>
    intro nw r b' H locs ls hfu h4
    have := tot_le h4
    omega
  | succ f ih =>
    intro nw r b' H locs ls hfu h4 hnw hZ hE hgm hP hS hl
    have hrn := rk_le b nw n
    rw [gset] at hZ
    refine lv_iconst (v := 0) hx hb d_gm_settle_35 (by decide) ?_
    refine lv_istore_n hx hb d_gm_settle_36 rfl hl (by decide) rfl (fun ls hl => ?_)
    have hl : lv_has ls 4 [(2, .int 0), (1, .int r), (0, .ref h)] := hl
    refine lv_aload_n hx hb d_gm_settle_37 rfl (lv_at hl 2 rfl) ?_
    refine lv_aload_n hx hb d_gm_settle_38 rfl (lv_at hl 2 rfl) ?_
    refine gm_get C hP 8 (by decide) rfl d_gm_settle_39 ?_
    refine gx_virtP (c_gm_address l E h q b' nw n n (nI n) 0 1 (gWf_c hE.sy hwf) (gNw_c hE.sy hnw) hgm (Nat.le_refl _)) [.int (nI n)] h [] hx hb (hml.trans hl.1.symm) C.2.2.1 (gMd_code (a := #[]) (C.wd _ tw_321)) (C.wd _ tw_318) (C.wd _ tw_320) (C.wd _ tw_5) ⟨by decide +kernel, by decide +kernel⟩ (by decide +kernel) (show (parseMethodDescriptor y_gm_address.desc).map (fun d => d.parameters.length) = some 1 by decide +kernel) (gm_recv hT hP) (fun U hU hW => ⟨rfl, hT.moved hW, by rw [hU]; exact hP⟩) (Nat.le_of_ble_eq_true rfl) ⟨by decide, by decide⟩ ⟨by decide, by decide⟩ d_gm_settle_42 rfl ?_
    rw [adr_eq hE]
    refine lv_sipush (v := 4096) hx hb d_gm_settle_45 (by decide) ?_
    refine lv_icmp_le (tgt := 58) hx hb d_gm_settle_48 rfl (fun h1 => ?_) (fun h1 => ?_)
    · skip
      rw [if_neg (fun z => (Int32.not_le.mpr z) h1)] at hZ
      refine lv_iconst (v := 0) hx hb d_gm_settle_58 (by decide) ?_
      refine lv_istore_n hx hb d_gm_settle_59 rfl hl (by decide) rfl (fun ls hl => ?_)
      have hl : lv_has ls 4 [(3, .int 0), (2, .int 0), (1, .int r), (0, .ref h)] := hl
      refine w_gm_set1 (nw := nw) (r := r) C hml hD hwf hnw ⟨by decide, by decide⟩ ⟨by decide, by decide⟩ ?_ n 0 b' H locs ls (by omega) hE hgm (fun i hi => absurd hi (Nat.not_lt_zero i)) hP hS (lv_sub hl [0, 1, 2, 3] rfl)
      clear hgm hE hP hS hl
      intro b' H locs ls hE hgm h7 hP hS hl
      by_cases hen : gen b nw n = true
      · skip
        rw [if_pos hen] at hZ
        subst hZ
        have e2 : gth b nw n = 2 := by unfold gth; rw [if_pos hen]
        rw [e2] at hP
        refine lv_aload_n hx hb d_gm_settle_133 rfl (lv_at hl 3 rfl) ?_
        refine gm_get C hP 9 (by decide) rfl d_gm_settle_134 ?_
        refine lv_if_le (tgt := 142) hx hb d_gm_settle_137 rfl (fun hN => absurd hN (by decide)) (fun _ => ?_)
        refine lv_iconst (v := 0) hx hb d_gm_settle_140 (by decide) ?_
        exact gx_iret hx hb hr hlk d_gm_settle_141 hS.2.2 ⟨b', 0, hE, hgm, hnw, fun z => absurd (show (2 : Nat) = 0 from z) (by decide), rfl, hP, gFr.of hS⟩
      · skip
        rw [if_neg hen] at hZ
        have e2 : gth b nw n = 0 := by unfold gth; rw [if_neg hen]
        rw [e2] at hP
        refine lv_aload_n hx hb d_gm_settle_133 rfl (lv_at hl 3 rfl) ?_
        refine gm_get C hP 9 (by decide) rfl d_gm_settle_134 ?_
        refine lv_if_le (tgt := 142) hx hb d_gm_settle_137 rfl (fun _ => ?_) (fun hN => absurd (by decide) hN)
        refine lv_iload_n hx hb d_gm_settle_142 rfl (lv_at hl 1 rfl) ?_
        refine lv_if_ne (tgt := 148) hx hb d_gm_settle_143 rfl (fun h2 => ?_) (fun h2 => ?_)
        · skip
          have hr0 : ¬ rk b nw n = 0 := of_decide_eq_true (gb_ne.mp h2)
          rw [if_neg hr0] at hZ
          refine lv_iconst (v := 0) hx hb d_gm_settle_148 (by decide) ?_
          refine lv_istore_n hx hb d_gm_settle_149 rfl hl (by decide) rfl (fun ls hl => ?_)
          have hl : lv_has ls 4 [(3, .int 0), (2, .int (gsm b nw n)), (1, .int r), (0, .ref h)] := hl
          refine w_gm_set2 (nw := nw) (r := r) C hD hwf ?_ n 0 b' H locs ls (by omega) hE (fun i hi => by rw [if_neg (Nat.not_lt_zero i)]; exact hgm i hi) h7 hP hS (lv_sub hl [0, 2, 3] rfl)
          clear hgm hE hP hS hl h7
          intro b' H locs ls hE hgm hP hS hl
          refine lv_iinc (k := 0) (v := (r + 1)) hx hb d_gm_settle_183 hl rfl rfl (by decide) rfl (fun ls hl => ?_)
          have hl : lv_has ls 4 [(1, .int (r + 1)), (0, .ref h)] := hl
          refine lv_goto (tgt := 35) hx hb d_gm_settle_186 rfl ?_
          exact ih (gstep b nw n) (r + 1) b' H locs ls (by have := tot_step (a := b) (nw := nw) (n := n) n (Nat.le_refl _); omega) (gN4_step hwf hnw h4 (by simpa using hen)) (gNw_step hwf hnw (by simpa using hen)) hZ hE hgm hP hS hl
        · skip
          have hr0 : rk b nw n = 0 := by have := of_decide_eq_false (gb_eq.mp h2); omega
          rw [if_pos hr0] at hZ
          subst hZ
          refine lv_iload_n hx hb d_gm_settle_146 rfl (lv_at hl 2 rfl) ?_
          exact gx_iret hx hb hr hlk d_gm_settle_147 hS.2.2 ⟨b', r, hE, hgm, hnw, fun _ => rfl, rfl, hP, gFr.of hS⟩
    · skip
      rw [if_pos (Int32.not_le.mp h1)] at hZ
      subst hZ
      refine lv_aload_n hx hb d_gm_settle_51 rfl (lv_at hl 2 rfl) ?_
      refine lv_iconst (v := 1) hx hb d_gm_settle_52 (by decide) ?_
      refine gm_putth C hP hD hS d_gm_settle_53 (fun H locs hP hS => ?_)
      refine lv_iconst (v := 0) hx hb d_gm_settle_56 (by decide) ?_
      exact gx_iret hx hb hr hlk d_gm_settle_57 hS.2.2 ⟨b', 0, hE, hgm, hnw, fun z => absurd (show (1 : Nat) = 0 from z) (by decide), rfl, hP, gFr.of hS⟩
set_option maxHeartbeats 4000000 in
set_option maxRecDepth 100000 in
theorem c_gm_settle (l : Launch) (E : gE) (h : Nat) (q : Nat → Nat) (b : gA) (n : Nat) (th st : Int32) (hDm : gDM h q) (hwf : gWf b n) : GMet l y_gm_settle prog_3_method_10_code 4 (some .int) [] rmH (gPw E [.ref h] (mW h q E.2.1 E.2.2.1 b (nI n) th st)) (gPsetM E h q b n (gset b n 361 (fun _ => 0) 0)) 0 0 (gIM h q) := by
  intro p e s m args below meth c hF hP0
  obtain ⟨hx, hb, hml, hr, hlk, hown, hnm, hex⟩ := hF
  obtain ⟨rfl, hT, hP⟩ := hP0
  have C : gC E "GrowFormsModel" prog_3_method_10_code p s m c := ⟨hx, hb, hown, hT⟩
  have hD := hDm.to E.2.1 E.2.2.1 b (nI n) th st
  have hS : va_S (gIM h q) s.heap s.heap [] := va_S.rf
  have hn := hwf.1
  have hl := lv_entry ([.ref h]) (n := 4) (Nat.le_of_ble_eq_true rfl)
  rw [lg_entry_eq]
  generalize (lg_sl ([.ref h]) ++ List.replicate (4 - (lg_sl ([.ref h])).length) Slot.unset).toArray = ls at hl ⊢
  have hl : lv_has ls 4 [(0, .ref h)] := hl
  refine lv_aload_n hx hb d_gm_settle_0 rfl (lv_at hl 0 rfl) ?_
  refine lv_iconst (v := 0) hx hb d_gm_settle_1 (by decide) ?_
  refine gm_putth C hP hD hS d_gm_settle_2 (fun H locs hP hS => ?_)
  refine lv_aload_n hx hb d_gm_settle_5 rfl (lv_at hl 0 rfl) ?_
  refine lv_iconst (v := 1) hx hb d_gm_settle_6 (by decide) ?_
  refine gm_putst C hP hD hS (by decide) (by decide) d_gm_settle_7 (fun H locs hP hS => ?_)
  refine lv_iconst (v := 0) hx hb d_gm_settle_10 (by decide) ?_
  refine lv_istore_n hx hb d_gm_settle_11 rfl hl (by decide) rfl (fun ls hl => ?_)
  have hl : lv_has ls 4 [(1, .int 0), (0, .ref h)] := hl
  refine w_gm_set0 C (hDm.to E.2.1 E.2.2.1 b (nI n) 0 1) hwf ?_ n 0 b H locs ls (by omega) gEq.rf (fun i hi => absurd hi (Nat.not_lt_zero i)) hP hS (lv_sub hl [0, 1] rfl)
  clear hP hS hl
  intro b' H locs ls hE hgm hP hS hl
  refine lv_iconst (v := 0) hx hb d_gm_settle_33 (by decide) ?_
  refine lv_istore_n hx hb d_gm_settle_34 rfl hl (by decide) rfl (fun ls hl => ?_)
  have hl : lv_has ls 4 [(1, .int 0), (0, .ref h)] := hl
  exact w_gm_set3 C hml hlk hr hDm hwf 361 (fun _ => 0) 0 b' H locs ls (by omega) (fun _ _ => (show (0 : Nat) < 4 by decide)) (fun _ _ f _ _ hf => hf) rfl hE hgm hP hS hl
end
section
def rmW : Room := { frames := 8, cells := 2, slots := 12, locals := 124 }
def gIO (h : Nat) (q : Nat → Nat) (u : Nat) : Nat → Prop := fun z => gIG h q z ∨ z = u
theorem gx_ks {E : gE} {s : State} (hT : gT E s) {k : Nat} {x : vw_C} (hk : gcl[k]? = some x) : ∃ ks : Class, s.vm.classes[E.1.1 k]? = some ks := by
  obtain ⟨-, kC, h, -⟩ := hT.2.cls hk
  exact ⟨kC, h⟩
theorem gx_asg {E : gE} {s : State} (hT : gT E s) (hX : gX s) {k : Nat} {C : String} (hk : gcl[k]? = some (C, F_00, 0)) (hc : Cond.castable C C ∈ gxa) : s.vm.assignable (E.1.1 k) (E.1.1 k) = true := by
  obtain ⟨c3, c4, h3, h4, h5⟩ := Cond.castable_spec (hX.1 _ hc #[])
  have h1 := (hT.2.cls hk).1
  cases h3.symm.trans h1
  cases h4.symm.trans h1
  exact h5
theorem gx_nas {E : gE} {s : State} (hT : gT E s) {C T : String} (hN : va_Nc C T s) {i j : Nat} (hi : gcl[i]? = some (C, F_00, 0)) (hj : gcl[j]? = some (T, F_00, 0)) : s.vm.assignable (E.1.1 i) (E.1.1 j) = false := by
  obtain ⟨c3, c4, h3, h4, h5⟩ := hN
  cases h3.symm.trans (hT.2.cls hi).1
  cases h4.symm.trans (hT.2.cls hj).1
  exact h5
theorem gx_keepO {D : va_G} {u : Nat} {cJ : ClassId} {f : Nat → Int64} {A : Nat → Prop} {H H1 : Heap} (hP : va_P D gcl (oW u cJ f) H) (hF : gFr A H H1) (hu : ¬ A u) : va_P D gcl (oW u cJ f) H1 := hP.kept (fun k x hk => by
  have h1 := (List.getElem?_eq_some_iff.mp hk).1
  simp [oW] at h1
  subst h1
  have hx := (hP 0 _ hk).lt
  cases hk
  exact hF.2 u hx hu)
theorem gx_DO {h : Nat} {q : Nat → Nat} {u : Nat} (hDg : gDG h q) (hu : ¬ gIG h q u) (cI cJ : ClassId) (f : Nat → Int64) (a : gA) (ln st : Int32) : va_D (gIO h q u) (oW u cJ f ++ gW h q cI a ln st) := by
  have h1 : ∀ (k : Nat) (x : Nat × va_E), (oW u cJ f)[k]? = some x → k = 0 ∧ x.1 = u := fun k x hk => by
    have h2 := (List.getElem?_eq_some_iff.mp hk).1
    simp [oW] at h2
    subst h2
    cases hk
    exact ⟨rfl, rfl⟩
  refine va_D.app ⟨fun i j x y hi hj _ => ?_, fun k x hk => Or.inr (h1 k x hk).2⟩ ((hDg.to cI a ln st).weaken (fun _ _ _ z => Or.inl z)) (fun i j x y hx hy z => ?_)
  · rw [(h1 i x hi).1, (h1 j y hj).1]
  · rw [(h1 i x hx).2] at z
    exact hu (by rw [z]; exact gW_in j y hy)
def gPo (E : gE) (av : List Value) (ws ws2 : va_W) : Array Value → State → Prop := fun v U => v = av.toArray ∧ gT E U ∧ gX U ∧ va_P E.1 gcl ws U.heap ∧ va_P E.1 gcl ws2 U.heap
set_option maxHeartbeats 4000000 in
set_option maxRecDepth 100000 in
theorem c_gl_line (l : Launch) (hfl : l.flags = flags0) (E : gE) (h : Nat) (q : Nat → Nat) (u : Nat) (f : Nat → Int64) (a : gA) (n : Nat) (st : Int32) (hn : n ≤ 120) (hDg : gDG h q) (hu : ¬ gIG h q u) : GMet l y_gl_line method_3_code 3 (some .int) [(0, 8, 11, 13)] rmW (gPo E [.ref h, .ref u] (gW h q E.2.1 a (nI n) st) (oW u E.2.2.2 f)) (fun H o H1 => ∃ (k : Int32) (f' : Nat → Int64), o = .returned (some (.int k)) ∧ ((k = 0 ∧ n < 120 ∧ f' 0 = (nI n).toInt64 ∧ va_P E.1 gcl (gW h q E.2.1 (g_line a n) (nI (n + 1)) 0) H1) ∨ (k = 1 ∧ n = 120 ∧ va_P E.1 gcl (gW h q E.2.1 a (nI n) st) H1)) ∧ va_P E.1 gcl (oW u E.2.2.2 f') H1 ∧ gFr (gIO h q u) H H1) 2 12 (gIO h q u) := by
  intro p e s m args below meth c hF hP0
  obtain ⟨hx, hb, hml, hr, hlk, hown, hnm, hex⟩ := hF
  obtain ⟨rfl, hT, hX, hP, hPo⟩ := hP0
  have C : gC E "GrowFormsLaw" method_3_code p s m c := ⟨hx, hb, hown, hT⟩
  have hS : va_S (gIO h q u) s.heap s.heap [] := va_S.rf
  have hl := lv_entry ([.ref h, .ref u]) (n := 3) (Nat.le_of_ble_eq_true rfl)
  rw [lg_entry_eq]
  generalize (lg_sl ([.ref h, .ref u]) ++ List.replicate (3 - (lg_sl ([.ref h, .ref u])).length) Slot.unset).toArray = ls at hl ⊢
  have hl : lv_has ls 3 [(0, .ref h), (1, .ref u)] := hl
  refine lv_aload_n hx hb d_gl_line_0 rfl (lv_at hl 1 rfl) ?_
  refine lv_iconst (v := 0) hx hb d_gl_line_1 (by decide) ?_
  refine lv_aload_n hx hb d_gl_line_2 rfl (lv_at hl 0 rfl) ?_
  refine gx_virt (c_gf_line l hfl E h q a n st hDg hn) [] h [.int 0, .ref u] hx hb (hml.trans hl.1.symm) C.2.2.1 (gMd_code (a := #[]) (C.wd _ tw_72)) (C.wd _ tw_69) (C.wd _ tw_70) (C.wd _ tw_71) ⟨by decide +kernel, by decide +kernel⟩ (by decide +kernel) (show (parseMethodDescriptor y_gf_line.desc).map (fun d => d.parameters.length) = some 0 by decide +kernel) (gf_recv hT hP) (fun U hU hW => ⟨rfl, hT.moved hW, hX.moved hW.alike (by rw [hU]; exact gx_keep.rf), by rw [hU]; exact hP⟩) (Nat.le_of_ble_eq_true rfl) ⟨by decide, by decide⟩ ⟨by decide, by decide⟩ d_gl_line_3 rfl (fun v' H1 L hpo hL => ?_) (fun x' H1 L hpo hL => ?_)
  all_goals have hL' : ∀ z ∈ L, (gIO h q u) z.base := fun z hz => Or.inl (hL z hz)
  · skip
    rcases hpo with ⟨hc, h9, hP', hF⟩ | ⟨hc, x9, ce, h9, e1, e2, e3, hP', hF⟩
    · skip
      cases h9
      have hPg : va_P E.1 gcl (gW h q E.2.1 (g_line a n) (nI (n + 1)) 0) _ := hP'
      have hPo := gx_keepO hPo hF hu
      have hS := gFr.S hS (hF.wk (fun z hz => (Or.inl hz : gIO h q u z))) hL'
      refine W.eq (g2 := F0 m 6 ls [.int (nI n), .int 0, .ref u]) rfl ?_
      refine lv_i2l hx hb d_gl_line_6 rfl ?_
      refine gl_lst C (va_P.app hPo hPg) (gx_DO hDg hu _ _ f _ _ _) hS d_gl_line_7 (fun H2 locs2 hP2 hS2 => ?_)
      have hPo2 := gx_Pl hP2
      have hPg2 := gx_Pr hP2
      have hF2 := gFr.of hS2
      refine lv_goto (tgt := 14) hx hb d_gl_line_8 rfl ?_
      refine lv_iconst (v := 0) hx hb d_gl_line_14 (by decide) ?_
      refine W.widen (k := 2) (n := 12) (by omega) (by omega) ?_
      exact gx_iret hx hb hr hlk d_gl_line_15 hS2.2.2 ⟨0, _, rfl, Or.inl ⟨rfl, hc, rfl, hPg2⟩, hPo2, hF2⟩
    · skip
      cases h9
  · skip
    rcases hpo with ⟨hc, h9, hP', hF⟩ | ⟨hc, x9, ce, h9, e1, e2, e3, hP', hF⟩
    · skip
      cases h9
    · skip
      cases h9
      have hPo2 := gx_keepO hPo hF hu
      have hS2 := gFr.S hS (hF.wk (fun z hz => (Or.inl hz : gIO h q u z))) hL'
      have hPg2 := hP'
      have hF2 := gFr.of hS2
      obtain ⟨ks, hks⟩ := gx_ks hT (k := 2) rfl
      refine gx_catch (tgt := 11) C.2.2.1 e1 (fun z hz => by rw [e3] at hz; cases hz) (by rw [e2]; exact hks) (by rw [e2, hex]; exact ⟨⟨by decide, by decide⟩, by decide, gs_I, E.1.1 2, C.wd _ tw_68, (hT.2.cls (k := 2) rfl).1, Or.inl ⟨gx_asg hT hX (k := 2) rfl (by decide +kernel), rfl⟩⟩) ?_
      refine lv_astore_n hx hb d_gl_line_11 rfl hl (by decide) rfl (fun ls hl => ?_)
      have hl : lv_has ls 3 [(2, .ref x'), (0, .ref h), (1, .ref u)] := hl
      refine lv_iconst (v := 1) hx hb d_gl_line_12 (by decide) ?_
      refine W.widen (k := 2) (n := 12) (by omega) (by omega) ?_
      exact gx_iret hx hb hr hlk d_gl_line_13 hS2.2.2 ⟨1, f, rfl, Or.inr ⟨rfl, hc, hPg2⟩, hPo2, hF2⟩
set_option maxHeartbeats 4000000 in
set_option maxRecDepth 100000 in
theorem c_gl_form (l : Launch) (hfl : l.flags = flags0) (E : gE) (h : Nat) (q : Nat → Nat) (u : Nat) (f : Nat → Int64) (a : gA) (n : Nat) (st x y z : Int32) (hwf : gWf a n) (hDg : gDG h q) (hu : ¬ gIG h q u) : GMet l y_gl_form method_4_code 6 (some .int) [(0, 12, 15, 19), (0, 12, 19, 13)] rmW (gPo E [.ref h, .int x, .int y, .int z, .ref u] (gW h q E.2.1 a (nI n) st) (oW u E.2.2.2 f)) (fun H o H1 => ∃ (k : Int32) (f' : Nat → Int64), o = .returned (some (.int k)) ∧ ((k = 1 ∧ ¬ gok x y z ∧ va_P E.1 gcl (gW h q E.2.1 a (nI n) st) H1) ∨ (k = 2 ∧ gok x y z ∧ (n = 0 ∨ ∃ j, n = j + 1 ∧ a 0 j = 4) ∧ va_P E.1 gcl (gW h q E.2.1 a (nI n) st) H1) ∨ (k = 0 ∧ gok x y z ∧ ∃ j g, n = j + 1 ∧ g < 4 ∧ a 0 j = nI g ∧ f' 0 = (nI (g + 1)).toInt64 ∧ va_P E.1 gcl (gW h q E.2.1 (g_form a j g x y z) (nI n) 0) H1)) ∧ va_P E.1 gcl (oW u E.2.2.2 f') H1 ∧ gFr (gIO h q u) H H1) 2 12 (gIO h q u) := by
  intro p e s m args below meth c hF hP0
  obtain ⟨hx, hb, hml, hr, hlk, hown, hnm, hex⟩ := hF
  obtain ⟨rfl, hT, hX, hP, hPo⟩ := hP0
  have C : gC E "GrowFormsLaw" method_4_code p s m c := ⟨hx, hb, hown, hT⟩
  have hS : va_S (gIO h q u) s.heap s.heap [] := va_S.rf
  have hl := lv_entry ([.ref h, .int x, .int y, .int z, .ref u]) (n := 6) (Nat.le_of_ble_eq_true rfl)
  rw [lg_entry_eq]
  generalize (lg_sl ([.ref h, .int x, .int y, .int z, .ref u]) ++ List.replicate (6 - (lg_sl ([.ref h, .int x, .int y, .int z, .ref u])).length) Slot.unset).toArray = ls at hl ⊢
  have hl : lv_has ls 6 [(0, .ref h), (1, .int x), (2, .int y), (3, .int z), (4, .ref u)] := hl
  refine lv_aload hx hb d_gl_form_0 (lv_at hl 4 rfl) ?_
  refine lv_iconst (v := 0) hx hb d_gl_form_2 (by decide) ?_
  refine lv_aload_n hx hb d_gl_form_3 rfl (lv_at hl 0 rfl) ?_
  refine lv_iload_n hx hb d_gl_form_4 rfl (lv_at hl 1 rfl) ?_
  refine lv_iload_n hx hb d_gl_form_5 rfl (lv_at hl 2 rfl) ?_
  refine lv_iload_n hx hb d_gl_form_6 rfl (lv_at hl 3 rfl) ?_
  refine gx_virt (c_gf_form l hfl E h q a n st x y z hDg hwf) [.int x, .int y, .int z] h [.int 0, .ref u] hx hb (hml.trans hl.1.symm) C.2.2.1 (gMd_code (a := #[]) (C.wd _ tw_144)) (C.wd _ tw_141) (C.wd _ tw_142) (C.wd _ tw_143) ⟨by decide +kernel, by decide +kernel⟩ (by decide +kernel) (show (parseMethodDescriptor y_gf_form.desc).map (fun d => d.parameters.length) = some 3 by decide +kernel) (gf_recv hT hP) (fun U hU hW => ⟨rfl, hT.moved hW, hX.moved hW.alike (by rw [hU]; exact gx_keep.rf), by rw [hU]; exact hP⟩) (Nat.le_of_ble_eq_true rfl) ⟨by decide, by decide⟩ ⟨by decide, by decide⟩ d_gl_form_7 rfl (fun v' H1 L hpo hL => ?_) (fun x' H1 L hpo hL => ?_)
  all_goals have hL' : ∀ z ∈ L, (gIO h q u) z.base := fun z hz => Or.inl (hL z hz)
  · skip
    rcases hpo with ⟨hc, x9, ce, h9, e1, e2, e3, hP', hF⟩ | ⟨hc, hc2, x9, ce, h9, e1, e2, e3, hP', hF⟩ | ⟨hc, j, g, rfl, hg4, hg, h9, hP', hF⟩
    · skip
      cases h9
    · skip
      cases h9
    · skip
      cases h9
      have hPg := hP'
      have hPo := gx_keepO hPo hF hu
      have hS := gFr.S hS (hF.wk (fun z hz => (Or.inl hz : gIO h q u z))) hL'
      refine W.eq (g2 := F0 m 10 ls [.int (nI (g + 1)), .int 0, .ref u]) rfl ?_
      refine lv_i2l hx hb d_gl_form_10 rfl ?_
      refine gl_lst C (va_P.app hPo hPg) (gx_DO hDg hu _ _ f _ _ _) hS d_gl_form_11 (fun H2 locs2 hP2 hS2 => ?_)
      have hPo2 := gx_Pl hP2
      have hPg2 := gx_Pr hP2
      have hF2 := gFr.of hS2
      refine lv_goto (tgt := 23) hx hb d_gl_form_12 rfl ?_
      refine lv_iconst (v := 0) hx hb d_gl_form_23 (by decide) ?_
      refine W.widen (k := 2) (n := 12) (by omega) (by omega) ?_
      exact gx_iret hx hb hr hlk d_gl_form_24 hS2.2.2 ⟨0, _, rfl, Or.inr (Or.inr ⟨rfl, hc, j, g, rfl, hg4, hg, rfl, hPg2⟩), hPo2, hF2⟩
  · skip
    rcases hpo with ⟨hc, x9, ce, h9, e1, e2, e3, hP', hF⟩ | ⟨hc, hc2, x9, ce, h9, e1, e2, e3, hP', hF⟩ | ⟨hc, j, g, rfl, hg4, hg, h9, hP', hF⟩
    · skip
      cases h9
      have hPo2 := gx_keepO hPo hF hu
      have hS2 := gFr.S hS (hF.wk (fun z hz => (Or.inl hz : gIO h q u z))) hL'
      have hPg2 := hP'
      have hF2 := gFr.of hS2
      obtain ⟨ks, hks⟩ := gx_ks hT (k := 3) rfl
      refine gx_catch (tgt := 15) C.2.2.1 e1 (fun z hz => by rw [e3] at hz; cases hz) (by rw [e2]; exact hks) (by rw [e2, hex]; exact ⟨⟨by decide, by decide⟩, by decide, gs_A, E.1.1 3, C.wd _ tw_140, (hT.2.cls (k := 3) rfl).1, Or.inl ⟨gx_asg hT hX (k := 3) rfl (by decide +kernel), rfl⟩⟩) ?_
      refine lv_astore hx hb d_gl_form_15 hl (by decide) rfl (fun ls hl => ?_)
      have hl : lv_has ls 6 [(5, .ref x'), (0, .ref h), (1, .int x), (2, .int y), (3, .int z), (4, .ref u)] := hl
      refine lv_iconst (v := 1) hx hb d_gl_form_17 (by decide) ?_
      refine W.widen (k := 2) (n := 12) (by omega) (by omega) ?_
      exact gx_iret hx hb hr hlk d_gl_form_18 hS2.2.2 ⟨1, f, rfl, Or.inl ⟨rfl, hc, hPg2⟩, hPo2, hF2⟩
    · skip
      cases h9
      have hPo2 := gx_keepO hPo hF hu
      have hS2 := gFr.S hS (hF.wk (fun z hz => (Or.inl hz : gIO h q u z))) hL'
      have hPg2 := hP'
      have hF2 := gFr.of hS2
      obtain ⟨ks, hks⟩ := gx_ks hT (k := 2) rfl
      refine gx_catch (tgt := 19) C.2.2.1 e1 (fun z hz => by rw [e3] at hz; cases hz) (by rw [e2]; exact hks) (by rw [e2, hex]; exact ⟨⟨by decide, by decide⟩, by decide, gs_A, E.1.1 3, C.wd _ tw_140, (hT.2.cls (k := 3) rfl).1, Or.inr ⟨gx_nas hT hX.2.2.1 (i := 2) (j := 3) rfl rfl, ⟨⟨by decide, by decide⟩, by decide, gs_I, E.1.1 2, C.wd _ tw_68, (hT.2.cls (k := 2) rfl).1, Or.inl ⟨gx_asg hT hX (k := 2) rfl (by decide +kernel), rfl⟩⟩⟩⟩) ?_
      refine lv_astore hx hb d_gl_form_19 hl (by decide) rfl (fun ls hl => ?_)
      have hl : lv_has ls 6 [(5, .ref x'), (0, .ref h), (1, .int x), (2, .int y), (3, .int z), (4, .ref u)] := hl
      refine lv_iconst (v := 2) hx hb d_gl_form_21 (by decide) ?_
      refine W.widen (k := 2) (n := 12) (by omega) (by omega) ?_
      exact gx_iret hx hb hr hlk d_gl_form_22 hS2.2.2 ⟨2, f, rfl, Or.inr (Or.inl ⟨rfl, hc, hc2, hPg2⟩), hPo2, hF2⟩
    · skip
      cases h9
set_option maxHeartbeats 4000000 in
set_option maxRecDepth 100000 in
theorem c_gl_aim (l : Launch) (hfl : l.flags = flags0) (E : gE) (h : Nat) (q : Nat → Nat) (a : gA) (n : Nat) (st x t v : Int32) (hn : n ≤ 120) (hDg : gDG h q) : GMet l y_gl_aim method_5_code 5 (some .int) [(0, 7, 10, 25)] rmW (gPx E [.ref h, .int x, .int t, .int v] (gW h q E.2.1 a (nI n) st)) (fun H o H1 => ∃ k : Int32, o = .returned (some (.int k)) ∧ ((k = 1 ∧ ¬ (gRg x n ∧ gRg t (n + 1)) ∧ va_P E.1 gcl (gW h q E.2.1 a (nI n) st) H1) ∨ (k = 0 ∧ gRg t (n + 1) ∧ ∃ i, i < n ∧ x = nI i ∧ va_P E.1 gcl (gW h q E.2.1 (g_aim a i t v) (nI n) 0) H1)) ∧ gFr (gIG h q) H H1) 2 12 (gIG h q) := by
  intro p e s m args below meth c hF hP0
  obtain ⟨hx, hb, hml, hr, hlk, hown, hnm, hex⟩ := hF
  obtain ⟨rfl, hT, hX, hP⟩ := hP0
  have C : gC E "GrowFormsLaw" method_5_code p s m c := ⟨hx, hb, hown, hT⟩
  have hS : va_S (gIG h q) s.heap s.heap [] := va_S.rf
  have hl := lv_entry ([.ref h, .int x, .int t, .int v]) (n := 5) (Nat.le_of_ble_eq_true rfl)
  rw [lg_entry_eq]
  generalize (lg_sl ([.ref h, .int x, .int t, .int v]) ++ List.replicate (5 - (lg_sl ([.ref h, .int x, .int t, .int v])).length) Slot.unset).toArray = ls at hl ⊢
  have hl : lv_has ls 5 [(0, .ref h), (1, .int x), (2, .int t), (3, .int v)] := hl
  refine lv_aload_n hx hb d_gl_aim_0 rfl (lv_at hl 0 rfl) ?_
  refine lv_iload_n hx hb d_gl_aim_1 rfl (lv_at hl 1 rfl) ?_
  refine lv_iload_n hx hb d_gl_aim_2 rfl (lv_at hl 2 rfl) ?_
  refine lv_iload_n hx hb d_gl_aim_3 rfl (lv_at hl 3 rfl) ?_
  refine gx_virt (c_gf_aim l hfl E h q a n st x t v hDg hn) [.int x, .int t, .int v] h [] hx hb (hml.trans hl.1.symm) C.2.2.1 (gMd_code (a := #[]) (C.wd _ tw_173)) (C.wd _ tw_170) (C.wd _ tw_171) (C.wd _ tw_172) ⟨by decide +kernel, by decide +kernel⟩ (by decide +kernel) (show (parseMethodDescriptor y_gf_aim.desc).map (fun d => d.parameters.length) = some 3 by decide +kernel) (gf_recv hT hP) (fun U hU hW => ⟨rfl, hT.moved hW, hX.moved hW.alike (by rw [hU]; exact gx_keep.rf), by rw [hU]; exact hP⟩) (Nat.le_of_ble_eq_true rfl) ⟨by decide, by decide⟩ ⟨by decide, by decide⟩ d_gl_aim_4 rfl (fun v' H1 L hpo hL => ?_) (fun x' H1 L hpo hL => ?_)
  all_goals have hL' : ∀ z ∈ L, (gIG h q) z.base := fun z hz => hL z hz
  · skip
    rcases hpo with ⟨hc, x9, ce, h9, e1, e2, e3, hP', hF⟩ | ⟨hc, i, hi, hxi, h9, hP', hF⟩
    · skip
      cases h9
    · skip
      cases h9
      have hPg := hP'
      have hS := gFr.S hS hF hL'
      have hF2 := gFr.of hS
      have hPg2 := hPg
      refine W.eq (g2 := F0 m 7 ls []) rfl ?_
      refine lv_goto (tgt := 14) hx hb d_gl_aim_7 rfl ?_
      refine lv_iconst (v := 0) hx hb d_gl_aim_14 (by decide) ?_
      refine W.widen (k := 2) (n := 12) (by omega) (by omega) ?_
      exact gx_iret hx hb hr hlk d_gl_aim_15 hS.2.2 ⟨0, rfl, Or.inr ⟨rfl, hc, i, hi, hxi, hPg2⟩, hF2⟩
  · skip
    rcases hpo with ⟨hc, x9, ce, h9, e1, e2, e3, hP', hF⟩ | ⟨hc, i, hi, hxi, h9, hP', hF⟩
    · skip
      cases h9
      have hS2 := gFr.S hS hF hL'
      have hPg2 := hP'
      have hF2 := gFr.of hS2
      obtain ⟨ks, hks⟩ := gx_ks hT (k := 4) rfl
      refine gx_catch (tgt := 10) C.2.2.1 e1 (fun z hz => by rw [e3] at hz; cases hz) (by rw [e2]; exact hks) (by rw [e2, hex]; exact ⟨⟨by decide, by decide⟩, by decide, gs_O, E.1.1 4, C.wd _ tw_169, (hT.2.cls (k := 4) rfl).1, Or.inl ⟨gx_asg hT hX (k := 4) rfl (by decide +kernel), rfl⟩⟩) ?_
      refine lv_astore hx hb d_gl_aim_10 hl (by decide) rfl (fun ls hl => ?_)
      have hl : lv_has ls 5 [(4, .ref x'), (0, .ref h), (1, .int x), (2, .int t), (3, .int v)] := hl
      refine lv_iconst (v := 1) hx hb d_gl_aim_12 (by decide) ?_
      refine W.widen (k := 2) (n := 12) (by omega) (by omega) ?_
      exact gx_iret hx hb hr hlk d_gl_aim_13 hS2.2.2 ⟨1, rfl, Or.inl ⟨rfl, hc, hPg2⟩, hF2⟩
    · skip
      cases h9
set_option maxHeartbeats 4000000 in
set_option maxRecDepth 100000 in
theorem c_gl_settle (l : Launch) (hfl : l.flags = flags0) (E : gE) (h : Nat) (q : Nat → Nat) (u : Nat) (f : Nat → Int64) (a : gA) (n : Nat) (st : Int32) (hwf : gWf a n) (hDg : gDG h q) (hu : ¬ gIG h q u) : GMet l y_gl_settle method_6_code 3 (some .int) [(0, 8, 11, 13), (0, 8, 14, 30)] rmW (gPo E [.ref h, .ref u] (gW h q E.2.1 a (nI n) st) (oW u E.2.2.2 f)) (fun H o H1 => ∃ (a' : gA) (f' : Nat → Int64), gEq a' a ∧ gS a' (gset a n 361 (fun _ => 0) 0).2.1 n ∧ gNw a (gset a n 361 (fun _ => 0) 0).2.1 n ∧ o = .returned (some (.int (nI (gset a n 361 (fun _ => 0) 0).1))) ∧ ((gset a n 361 (fun _ => 0) 0).1 = 0 → f' 0 = ((gset a n 361 (fun _ => 0) 0).2.2).toInt64) ∧ ((gset a n 361 (fun _ => 0) 0).1 ≤ 2) ∧ va_P E.1 gcl (gW h q E.2.1 a' (nI n) 1) H1 ∧ va_P E.1 gcl (oW u E.2.2.2 f') H1 ∧ gFr (gIO h q u) H H1) 2 12 (gIO h q u) := by
  intro p e s m args below meth c hF hP0
  obtain ⟨hx, hb, hml, hr, hlk, hown, hnm, hex⟩ := hF
  obtain ⟨rfl, hT, hX, hP, hPo⟩ := hP0
  have C : gC E "GrowFormsLaw" method_6_code p s m c := ⟨hx, hb, hown, hT⟩
  have hS : va_S (gIO h q u) s.heap s.heap [] := va_S.rf
  have hl := lv_entry ([.ref h, .ref u]) (n := 3) (Nat.le_of_ble_eq_true rfl)
  rw [lg_entry_eq]
  generalize (lg_sl ([.ref h, .ref u]) ++ List.replicate (3 - (lg_sl ([.ref h, .ref u])).length) Slot.unset).toArray = ls at hl ⊢
  have hl : lv_has ls 3 [(0, .ref h), (1, .ref u)] := hl
  refine lv_aload_n hx hb d_gl_settle_0 rfl (lv_at hl 1 rfl) ?_
  refine lv_iconst (v := 0) hx hb d_gl_settle_1 (by decide) ?_
  refine lv_aload_n hx hb d_gl_settle_2 rfl (lv_at hl 0 rfl) ?_
  refine gx_virt (c_gf_settle l hfl E h q a n st hDg hwf) [] h [.int 0, .ref u] hx hb (hml.trans hl.1.symm) C.2.2.1 (gMd_code (a := #[]) (C.wd _ tw_199)) (C.wd _ tw_196) (C.wd _ tw_197) (C.wd _ tw_198) ⟨by decide +kernel, by decide +kernel⟩ (by decide +kernel) (show (parseMethodDescriptor y_gf_settle.desc).map (fun d => d.parameters.length) = some 0 by decide +kernel) (gf_recv hT hP) (fun U hU hW => ⟨rfl, hT.moved hW, hX.moved hW.alike (by rw [hU]; exact gx_keep.rf), by rw [hU]; exact hP⟩) (Nat.le_of_ble_eq_true rfl) ⟨by decide, by decide⟩ ⟨by decide, by decide⟩ d_gl_settle_3 rfl (fun v' H1 L hpo hL => ?_) (fun x' H1 L hpo hL => ?_)
  all_goals have hL' : ∀ z ∈ L, (gIO h q u) z.base := fun z hz => Or.inl (hL z hz)
  · skip
    obtain ⟨a', hE, hgs, hnw, hpo⟩ := hpo
    rcases hpo with ⟨hz, h9, hP', hF⟩ | ⟨hz, x9, ce, h9, e1, e2, e3, hP', hF⟩ | ⟨hz, x9, ce, h9, e1, e2, e3, hP', hF⟩
    · skip
      cases h9
      have hPg := hP'
      have hPo := gx_keepO hPo hF hu
      have hS := gFr.S hS (hF.wk (fun z hz => (Or.inl hz : gIO h q u z))) hL'
      refine W.eq (g2 := F0 m 6 ls [.int ((gset a n 361 (fun _ => 0) 0).2.2), .int 0, .ref u]) rfl ?_
      refine lv_i2l hx hb d_gl_settle_6 rfl ?_
      refine gl_lst C (va_P.app hPo hPg) (gx_DO hDg hu _ _ f _ _ _) hS d_gl_settle_7 (fun H2 locs2 hP2 hS2 => ?_)
      have hPo2 := gx_Pl hP2
      have hPg2 := gx_Pr hP2
      have hF2 := gFr.of hS2
      refine lv_goto (tgt := 17) hx hb d_gl_settle_8 rfl ?_
      refine lv_iconst (v := 0) hx hb d_gl_settle_17 (by decide) ?_
      refine W.widen (k := 2) (n := 12) (by omega) (by omega) ?_
      exact gx_iret hx hb hr hlk d_gl_settle_18 hS2.2.2 ⟨a', _, hE, hgs, hnw, by rw [hz]; rfl, fun _ => rfl, by omega, hPg2, hPo2, hF2⟩
    · skip
      cases h9
    · skip
      cases h9
  · skip
    obtain ⟨a', hE, hgs, hnw, hpo⟩ := hpo
    rcases hpo with ⟨hz, h9, hP', hF⟩ | ⟨hz, x9, ce, h9, e1, e2, e3, hP', hF⟩ | ⟨hz, x9, ce, h9, e1, e2, e3, hP', hF⟩
    · skip
      cases h9
    · skip
      cases h9
      have hPo2 := gx_keepO hPo hF hu
      have hS2 := gFr.S hS (hF.wk (fun z hz => (Or.inl hz : gIO h q u z))) hL'
      have hPg2 := hP'
      have hF2 := gFr.of hS2
      obtain ⟨ks, hks⟩ := gx_ks hT (k := 2) rfl
      refine gx_catch (tgt := 11) C.2.2.1 e1 (fun z hz => by rw [e3] at hz; cases hz) (by rw [e2]; exact hks) (by rw [e2, hex]; exact ⟨⟨by decide, by decide⟩, by decide, gs_I, E.1.1 2, C.wd _ tw_68, (hT.2.cls (k := 2) rfl).1, Or.inl ⟨gx_asg hT hX (k := 2) rfl (by decide +kernel), rfl⟩⟩) ?_
      refine lv_astore_n hx hb d_gl_settle_11 rfl hl (by decide) rfl (fun ls hl => ?_)
      have hl : lv_has ls 3 [(2, .ref x'), (0, .ref h), (1, .ref u)] := hl
      refine lv_iconst (v := 1) hx hb d_gl_settle_12 (by decide) ?_
      refine W.widen (k := 2) (n := 12) (by omega) (by omega) ?_
      exact gx_iret hx hb hr hlk d_gl_settle_13 hS2.2.2 ⟨a', f, hE, hgs, hnw, by rw [hz]; rfl, fun z => absurd z (by omega), by omega, hPg2, hPo2, hF2⟩
    · skip
      cases h9
      have hPo2 := gx_keepO hPo hF hu
      have hS2 := gFr.S hS (hF.wk (fun z hz => (Or.inl hz : gIO h q u z))) hL'
      have hPg2 := hP'
      have hF2 := gFr.of hS2
      obtain ⟨ks, hks⟩ := gx_ks hT (k := 5) rfl
      refine gx_catch (tgt := 14) C.2.2.1 e1 (fun z hz => by rw [e3] at hz; cases hz) (by rw [e2]; exact hks) (by rw [e2, hex]; exact ⟨⟨by decide, by decide⟩, by decide, gs_I, E.1.1 2, C.wd _ tw_68, (hT.2.cls (k := 2) rfl).1, Or.inr ⟨gx_nas hT hX.2.2.2.1 (i := 5) (j := 2) rfl rfl, ⟨⟨by decide, by decide⟩, by decide, gs_U, E.1.1 5, C.wd _ tw_195, (hT.2.cls (k := 5) rfl).1, Or.inl ⟨gx_asg hT hX (k := 5) rfl (by decide +kernel), rfl⟩⟩⟩⟩) ?_
      refine lv_astore_n hx hb d_gl_settle_14 rfl hl (by decide) rfl (fun ls hl => ?_)
      have hl : lv_has ls 3 [(2, .ref x'), (0, .ref h), (1, .ref u)] := hl
      refine lv_iconst (v := 2) hx hb d_gl_settle_15 (by decide) ?_
      refine W.widen (k := 2) (n := 12) (by omega) (by omega) ?_
      exact gx_iret hx hb hr hlk d_gl_settle_16 hS2.2.2 ⟨a', f, hE, hgs, hnw, by rw [hz]; rfl, fun z => absurd z (by omega), by omega, hPg2, hPo2, hF2⟩
set_option maxHeartbeats 4000000 in
set_option maxRecDepth 100000 in
theorem c_gl_told (l : Launch) (hfl : l.flags = flags0) (E : gE) (h : Nat) (q : Nat → Nat) (u : Nat) (f : Nat → Int64) (a : gA) (nw : Nat → Nat) (n : Nat) (st x w : Int32) (hwf : gWf a n) (hset : ¬ st = 0 → gNw a nw n ∧ gS a nw n) (hDg : gDG h q) (hu : ¬ gIG h q u) : GMet l y_gl_told method_7_code 5 (some .int) [(0, 10, 13, 13), (0, 10, 17, 25), (0, 10, 21, 19)] rmW (gPo E [.ref h, .int x, .int w, .ref u] (gW h q E.2.1 a (nI n) st) (oW u E.2.2.2 f)) (fun H o H1 => ∃ (k r : Int32) (f' : Nat → Int64), gToldR a nw n st x w k r ∧ o = .returned (some (.int k)) ∧ (k = 0 → f' 0 = r.toInt64) ∧ va_P E.1 gcl (gW h q E.2.1 a (nI n) st) H1 ∧ va_P E.1 gcl (oW u E.2.2.2 f') H1 ∧ gFr (gIO h q u) H H1) 2 12 (gIO h q u) := by
  intro p e s m args below meth c hF hP0
  obtain ⟨hx, hb, hml, hr, hlk, hown, hnm, hex⟩ := hF
  obtain ⟨rfl, hT, hX, hP, hPo⟩ := hP0
  have C : gC E "GrowFormsLaw" method_7_code p s m c := ⟨hx, hb, hown, hT⟩
  have hS : va_S (gIO h q u) s.heap s.heap [] := va_S.rf
  have hl := lv_entry ([.ref h, .int x, .int w, .ref u]) (n := 5) (Nat.le_of_ble_eq_true rfl)
  rw [lg_entry_eq]
  generalize (lg_sl ([.ref h, .int x, .int w, .ref u]) ++ List.replicate (5 - (lg_sl ([.ref h, .int x, .int w, .ref u])).length) Slot.unset).toArray = ls at hl ⊢
  have hl : lv_has ls 5 [(0, .ref h), (1, .int x), (2, .int w), (3, .ref u)] := hl
  refine lv_aload_n hx hb d_gl_told_0 rfl (lv_at hl 3 rfl) ?_
  refine lv_iconst (v := 0) hx hb d_gl_told_1 (by decide) ?_
  refine lv_aload_n hx hb d_gl_told_2 rfl (lv_at hl 0 rfl) ?_
  refine lv_iload_n hx hb d_gl_told_3 rfl (lv_at hl 1 rfl) ?_
  refine lv_iload_n hx hb d_gl_told_4 rfl (lv_at hl 2 rfl) ?_
  refine gx_virt (c_gf_told l hfl E h q a nw n st x w hwf hset) [.int x, .int w] h [.int 0, .ref u] hx hb (hml.trans hl.1.symm) C.2.2.1 (gMd_code (a := #[]) (C.wd _ tw_234)) (C.wd _ tw_231) (C.wd _ tw_232) (C.wd _ tw_233) ⟨by decide +kernel, by decide +kernel⟩ (by decide +kernel) (show (parseMethodDescriptor y_gf_told.desc).map (fun d => d.parameters.length) = some 2 by decide +kernel) (gf_recv hT hP) (fun U hU hW => ⟨rfl, hT.moved hW, hX.moved hW.alike (by rw [hU]; exact gx_keep.rf), by rw [hU]; exact hP⟩) (Nat.le_of_ble_eq_true rfl) ⟨by decide, by decide⟩ ⟨by decide, by decide⟩ d_gl_told_5 rfl (fun v' H1 L hpo hL => ?_) (fun x' H1 L hpo hL => ?_)
  all_goals have hL' : ∀ z ∈ L, (gIO h q u) z.base := fun z hz => (hL z hz).elim
  · skip
    obtain ⟨k, r, hrel, hpo⟩ := hpo
    rcases hpo with ⟨hk0, rfl, h9⟩ | ⟨hk0, x9, ce, h9, e1, e2, e3, hP', hF⟩ | ⟨hk0, x9, ce, h9, e1, e2, e3, hP', hF⟩ | ⟨hk0, x9, ce, h9, e1, e2, e3, hP', hF⟩
    · skip
      cases h9
      have hF : gFr (gIG h q) s.heap s.heap := gFr.rf
      have hPg := hP
      have hPo := gx_keepO hPo hF hu
      have hS := gFr.S hS (hF.wk (fun z hz => (Or.inl hz : gIO h q u z))) hL'
      refine W.eq (g2 := F0 m 8 ls [.int r, .int 0, .ref u]) rfl ?_
      refine lv_i2l hx hb d_gl_told_8 rfl ?_
      refine gl_lst C (va_P.app hPo hPg) (gx_DO hDg hu _ _ f _ _ _) hS d_gl_told_9 (fun H2 locs2 hP2 hS2 => ?_)
      have hPo2 := gx_Pl hP2
      have hPg2 := gx_Pr hP2
      have hF2 := gFr.of hS2
      refine lv_goto (tgt := 25) hx hb d_gl_told_10 rfl ?_
      refine lv_iconst (v := 0) hx hb d_gl_told_25 (by decide) ?_
      refine W.widen (k := 2) (n := 12) (by omega) (by omega) ?_
      exact gx_iret hx hb hr hlk d_gl_told_26 hS2.2.2 ⟨0, r, _, by rw [← hk0]; exact hrel, rfl, fun _ => rfl, hPg2, hPo2, hF2⟩
    · skip
      cases h9
    · skip
      cases h9
    · skip
      cases h9
  · skip
    obtain ⟨k, r, hrel, hpo⟩ := hpo
    rcases hpo with ⟨hk0, rfl, h9⟩ | ⟨hk0, x9, ce, h9, e1, e2, e3, hP', hF⟩ | ⟨hk0, x9, ce, h9, e1, e2, e3, hP', hF⟩ | ⟨hk0, x9, ce, h9, e1, e2, e3, hP', hF⟩
    · skip
      cases h9
    · skip
      cases h9
      have hPo2 := gx_keepO hPo hF hu
      have hS2 := gFr.S hS (hF.wk (fun z hz => (Or.inl hz : gIO h q u z))) hL'
      have hPg2 := hP'
      have hF2 := gFr.of hS2
      obtain ⟨ks, hks⟩ := gx_ks hT (k := 2) rfl
      refine gx_catch (tgt := 13) C.2.2.1 e1 (fun z hz => by rw [e3] at hz; cases hz) (by rw [e2]; exact hks) (by rw [e2, hex]; exact ⟨⟨by decide, by decide⟩, by decide, gs_I, E.1.1 2, C.wd _ tw_68, (hT.2.cls (k := 2) rfl).1, Or.inl ⟨gx_asg hT hX (k := 2) rfl (by decide +kernel), rfl⟩⟩) ?_
      refine lv_astore hx hb d_gl_told_13 hl (by decide) rfl (fun ls hl => ?_)
      have hl : lv_has ls 5 [(4, .ref x'), (0, .ref h), (1, .int x), (2, .int w), (3, .ref u)] := hl
      refine lv_iconst (v := 1) hx hb d_gl_told_15 (by decide) ?_
      refine W.widen (k := 2) (n := 12) (by omega) (by omega) ?_
      exact gx_iret hx hb hr hlk d_gl_told_16 hS2.2.2 ⟨1, r, f, by rw [← hk0]; exact hrel, rfl, fun z => absurd z (by decide), hPg2, hPo2, hF2⟩
    · skip
      cases h9
      have hPo2 := gx_keepO hPo hF hu
      have hS2 := gFr.S hS (hF.wk (fun z hz => (Or.inl hz : gIO h q u z))) hL'
      have hPg2 := hP'
      have hF2 := gFr.of hS2
      obtain ⟨ks, hks⟩ := gx_ks hT (k := 4) rfl
      refine gx_catch (tgt := 17) C.2.2.1 e1 (fun z hz => by rw [e3] at hz; cases hz) (by rw [e2]; exact hks) (by rw [e2, hex]; exact ⟨⟨by decide, by decide⟩, by decide, gs_I, E.1.1 2, C.wd _ tw_68, (hT.2.cls (k := 2) rfl).1, Or.inr ⟨gx_nas hT hX.2.2.2.2.1 (i := 4) (j := 2) rfl rfl, ⟨⟨by decide, by decide⟩, by decide, gs_O, E.1.1 4, C.wd _ tw_169, (hT.2.cls (k := 4) rfl).1, Or.inl ⟨gx_asg hT hX (k := 4) rfl (by decide +kernel), rfl⟩⟩⟩⟩) ?_
      refine lv_astore hx hb d_gl_told_17 hl (by decide) rfl (fun ls hl => ?_)
      have hl : lv_has ls 5 [(4, .ref x'), (0, .ref h), (1, .int x), (2, .int w), (3, .ref u)] := hl
      refine lv_iconst (v := 2) hx hb d_gl_told_19 (by decide) ?_
      refine W.widen (k := 2) (n := 12) (by omega) (by omega) ?_
      exact gx_iret hx hb hr hlk d_gl_told_20 hS2.2.2 ⟨2, r, f, by rw [← hk0]; exact hrel, rfl, fun z => absurd z (by decide), hPg2, hPo2, hF2⟩
    · skip
      cases h9
      have hPo2 := gx_keepO hPo hF hu
      have hS2 := gFr.S hS (hF.wk (fun z hz => (Or.inl hz : gIO h q u z))) hL'
      have hPg2 := hP'
      have hF2 := gFr.of hS2
      obtain ⟨ks, hks⟩ := gx_ks hT (k := 3) rfl
      refine gx_catch (tgt := 21) C.2.2.1 e1 (fun z hz => by rw [e3] at hz; cases hz) (by rw [e2]; exact hks) (by rw [e2, hex]; exact ⟨⟨by decide, by decide⟩, by decide, gs_I, E.1.1 2, C.wd _ tw_68, (hT.2.cls (k := 2) rfl).1, Or.inr ⟨gx_nas hT hX.2.2.2.2.2.1 (i := 3) (j := 2) rfl rfl, ⟨⟨by decide, by decide⟩, by decide, gs_O, E.1.1 4, C.wd _ tw_169, (hT.2.cls (k := 4) rfl).1, Or.inr ⟨gx_nas hT hX.2.2.2.2.2.2 (i := 3) (j := 4) rfl rfl, ⟨⟨by decide, by decide⟩, by decide, gs_A, E.1.1 3, C.wd _ tw_140, (hT.2.cls (k := 3) rfl).1, Or.inl ⟨gx_asg hT hX (k := 3) rfl (by decide +kernel), rfl⟩⟩⟩⟩⟩⟩) ?_
      refine lv_astore hx hb d_gl_told_21 hl (by decide) rfl (fun ls hl => ?_)
      have hl : lv_has ls 5 [(4, .ref x'), (0, .ref h), (1, .int x), (2, .int w), (3, .ref u)] := hl
      refine lv_iconst (v := 3) hx hb d_gl_told_23 (by decide) ?_
      refine W.widen (k := 2) (n := 12) (by omega) (by omega) ?_
      exact gx_iret hx hb hr hlk d_gl_told_24 hS2.2.2 ⟨3, r, f, by rw [← hk0]; exact hrel, rfl, fun z => absurd z (by decide), hPg2, hPo2, hF2⟩
set_option maxHeartbeats 4000000 in
set_option maxRecDepth 100000 in
theorem c_gl_value (l : Launch) (hfl : l.flags = flags0) (E : gE) (h : Nat) (q : Nat → Nat) (u : Nat) (f : Nat → Int64) (a : gA) (nw : Nat → Nat) (n : Nat) (st x : Int32) (hwf : gWf a n) (hset : ¬ st = 0 → gNw a nw n ∧ gS a nw n) (hDg : gDG h q) (hu : ¬ gIG h q u) : GMet l y_gl_value method_8_code 4 (some .int) [(0, 8, 11, 13), (0, 8, 14, 25)] rmW (gPo E [.ref h, .int x, .ref u] (gW h q E.2.1 a (nI n) st) (oW u E.2.2.2 f)) (fun H o H1 => ∃ (k : Int32) (r : Int64) (f' : Nat → Int64), gValR a nw n st x k r ∧ o = .returned (some (.int k)) ∧ (k = 0 → f' 0 = r) ∧ va_P E.1 gcl (gW h q E.2.1 a (nI n) st) H1 ∧ va_P E.1 gcl (oW u E.2.2.2 f') H1 ∧ gFr (gIO h q u) H H1) 2 12 (gIO h q u) := by
  intro p e s m args below meth c hF hP0
  obtain ⟨hx, hb, hml, hr, hlk, hown, hnm, hex⟩ := hF
  obtain ⟨rfl, hT, hX, hP, hPo⟩ := hP0
  have C : gC E "GrowFormsLaw" method_8_code p s m c := ⟨hx, hb, hown, hT⟩
  have hS : va_S (gIO h q u) s.heap s.heap [] := va_S.rf
  have hl := lv_entry ([.ref h, .int x, .ref u]) (n := 4) (Nat.le_of_ble_eq_true rfl)
  rw [lg_entry_eq]
  generalize (lg_sl ([.ref h, .int x, .ref u]) ++ List.replicate (4 - (lg_sl ([.ref h, .int x, .ref u])).length) Slot.unset).toArray = ls at hl ⊢
  have hl : lv_has ls 4 [(0, .ref h), (1, .int x), (2, .ref u)] := hl
  refine lv_aload_n hx hb d_gl_value_0 rfl (lv_at hl 2 rfl) ?_
  refine lv_iconst (v := 0) hx hb d_gl_value_1 (by decide) ?_
  refine lv_aload_n hx hb d_gl_value_2 rfl (lv_at hl 0 rfl) ?_
  refine lv_iload_n hx hb d_gl_value_3 rfl (lv_at hl 1 rfl) ?_
  refine gx_virt (c_gf_value l hfl E h q a nw n st x hwf hset) [.int x] h [.int 0, .ref u] hx hb (hml.trans hl.1.symm) C.2.2.1 (gMd_code (a := #[]) (C.wd _ tw_245)) (C.wd _ tw_242) (C.wd _ tw_243) (C.wd _ tw_244) ⟨by decide +kernel, by decide +kernel⟩ (by decide +kernel) (show (parseMethodDescriptor y_gf_value.desc).map (fun d => d.parameters.length) = some 1 by decide +kernel) (gf_recv hT hP) (fun U hU hW => ⟨rfl, hT.moved hW, hX.moved hW.alike (by rw [hU]; exact gx_keep.rf), by rw [hU]; exact hP⟩) (Nat.le_of_ble_eq_true rfl) ⟨by decide, by decide⟩ ⟨by decide, by decide⟩ d_gl_value_4 rfl (fun v' H1 L hpo hL => ?_) (fun x' H1 L hpo hL => ?_)
  all_goals have hL' : ∀ z ∈ L, (gIO h q u) z.base := fun z hz => (hL z hz).elim
  · skip
    obtain ⟨k, r, hrel, hpo⟩ := hpo
    rcases hpo with ⟨hk0, rfl, h9⟩ | ⟨hk0, x9, ce, h9, e1, e2, e3, hP', hF⟩ | ⟨hk0, x9, ce, h9, e1, e2, e3, hP', hF⟩
    · skip
      cases h9
      have hF : gFr (gIG h q) s.heap s.heap := gFr.rf
      have hPg := hP
      have hPo := gx_keepO hPo hF hu
      have hS := gFr.S hS (hF.wk (fun z hz => (Or.inl hz : gIO h q u z))) hL'
      refine W.eq (g2 := F0 m 7 ls [.long r, .int 0, .ref u]) rfl ?_
      refine gl_lst C (va_P.app hPo hPg) (gx_DO hDg hu _ _ f _ _ _) hS d_gl_value_7 (fun H2 locs2 hP2 hS2 => ?_)
      have hPo2 := gx_Pl hP2
      have hPg2 := gx_Pr hP2
      have hF2 := gFr.of hS2
      refine lv_goto (tgt := 17) hx hb d_gl_value_8 rfl ?_
      refine lv_iconst (v := 0) hx hb d_gl_value_17 (by decide) ?_
      refine W.widen (k := 2) (n := 12) (by omega) (by omega) ?_
      exact gx_iret hx hb hr hlk d_gl_value_18 hS2.2.2 ⟨0, r, _, by rw [← hk0]; exact hrel, rfl, fun _ => rfl, hPg2, hPo2, hF2⟩
    · skip
      cases h9
    · skip
      cases h9
  · skip
    obtain ⟨k, r, hrel, hpo⟩ := hpo
    rcases hpo with ⟨hk0, rfl, h9⟩ | ⟨hk0, x9, ce, h9, e1, e2, e3, hP', hF⟩ | ⟨hk0, x9, ce, h9, e1, e2, e3, hP', hF⟩
    · skip
      cases h9
    · skip
      cases h9
      have hPo2 := gx_keepO hPo hF hu
      have hS2 := gFr.S hS (hF.wk (fun z hz => (Or.inl hz : gIO h q u z))) hL'
      have hPg2 := hP'
      have hF2 := gFr.of hS2
      obtain ⟨ks, hks⟩ := gx_ks hT (k := 2) rfl
      refine gx_catch (tgt := 11) C.2.2.1 e1 (fun z hz => by rw [e3] at hz; cases hz) (by rw [e2]; exact hks) (by rw [e2, hex]; exact ⟨⟨by decide, by decide⟩, by decide, gs_I, E.1.1 2, C.wd _ tw_68, (hT.2.cls (k := 2) rfl).1, Or.inl ⟨gx_asg hT hX (k := 2) rfl (by decide +kernel), rfl⟩⟩) ?_
      refine lv_astore_n hx hb d_gl_value_11 rfl hl (by decide) rfl (fun ls hl => ?_)
      have hl : lv_has ls 4 [(3, .ref x'), (0, .ref h), (1, .int x), (2, .ref u)] := hl
      refine lv_iconst (v := 1) hx hb d_gl_value_12 (by decide) ?_
      refine W.widen (k := 2) (n := 12) (by omega) (by omega) ?_
      exact gx_iret hx hb hr hlk d_gl_value_13 hS2.2.2 ⟨1, r, f, by rw [← hk0]; exact hrel, rfl, fun z => absurd z (by decide), hPg2, hPo2, hF2⟩
    · skip
      cases h9
      have hPo2 := gx_keepO hPo hF hu
      have hS2 := gFr.S hS (hF.wk (fun z hz => (Or.inl hz : gIO h q u z))) hL'
      have hPg2 := hP'
      have hF2 := gFr.of hS2
      obtain ⟨ks, hks⟩ := gx_ks hT (k := 4) rfl
      refine gx_catch (tgt := 14) C.2.2.1 e1 (fun z hz => by rw [e3] at hz; cases hz) (by rw [e2]; exact hks) (by rw [e2, hex]; exact ⟨⟨by decide, by decide⟩, by decide, gs_I, E.1.1 2, C.wd _ tw_68, (hT.2.cls (k := 2) rfl).1, Or.inr ⟨gx_nas hT hX.2.2.2.2.1 (i := 4) (j := 2) rfl rfl, ⟨⟨by decide, by decide⟩, by decide, gs_O, E.1.1 4, C.wd _ tw_169, (hT.2.cls (k := 4) rfl).1, Or.inl ⟨gx_asg hT hX (k := 4) rfl (by decide +kernel), rfl⟩⟩⟩⟩) ?_
      refine lv_astore_n hx hb d_gl_value_14 rfl hl (by decide) rfl (fun ls hl => ?_)
      have hl : lv_has ls 4 [(3, .ref x'), (0, .ref h), (1, .int x), (2, .ref u)] := hl
      refine lv_iconst (v := 2) hx hb d_gl_value_15 (by decide) ?_
      refine W.widen (k := 2) (n := 12) (by omega) (by omega) ?_
      exact gx_iret hx hb hr hlk d_gl_value_16 hS2.2.2 ⟨2, r, f, by rw [← hk0]; exact hrel, rfl, fun z => absurd z (by decide), hPg2, hPo2, hF2⟩
set_option maxHeartbeats 4000000 in
set_option maxRecDepth 100000 in
theorem c_gl_wrong (l : Launch) (hfl : l.flags = flags0) (E : gE) (h : Nat) (q : Nat → Nat) (u : Nat) (f : Nat → Int64) (a : gA) (nw : Nat → Nat) (n : Nat) (st : Int32) (hwf : gWf a n) (hset : ¬ st = 0 → gNw a nw n ∧ gS a nw n) (hDg : gDG h q) (hu : ¬ gIG h q u) : GMet l y_gl_wrong method_9_code 3 (some .int) [(0, 8, 11, 13)] rmW (gPo E [.ref h, .ref u] (gW h q E.2.1 a (nI n) st) (oW u E.2.2.2 f)) (fun H o H1 => ∃ (k : Int32) (f' : Nat → Int64), o = .returned (some (.int k)) ∧ ((k = 0 ∧ ¬ st = 0 ∧ f' 0 = (gwr a nw n 0).toInt64) ∨ (k = 1 ∧ st = 0)) ∧ va_P E.1 gcl (gW h q E.2.1 a (nI n) st) H1 ∧ va_P E.1 gcl (oW u E.2.2.2 f') H1 ∧ gFr (gIO h q u) H H1) 2 12 (gIO h q u) := by
  intro p e s m args below meth c hF hP0
  obtain ⟨hx, hb, hml, hr, hlk, hown, hnm, hex⟩ := hF
  obtain ⟨rfl, hT, hX, hP, hPo⟩ := hP0
  have C : gC E "GrowFormsLaw" method_9_code p s m c := ⟨hx, hb, hown, hT⟩
  have hS : va_S (gIO h q u) s.heap s.heap [] := va_S.rf
  have hl := lv_entry ([.ref h, .ref u]) (n := 3) (Nat.le_of_ble_eq_true rfl)
  rw [lg_entry_eq]
  generalize (lg_sl ([.ref h, .ref u]) ++ List.replicate (3 - (lg_sl ([.ref h, .ref u])).length) Slot.unset).toArray = ls at hl ⊢
  have hl : lv_has ls 3 [(0, .ref h), (1, .ref u)] := hl
  refine lv_aload_n hx hb d_gl_wrong_0 rfl (lv_at hl 1 rfl) ?_
  refine lv_iconst (v := 0) hx hb d_gl_wrong_1 (by decide) ?_
  refine lv_aload_n hx hb d_gl_wrong_2 rfl (lv_at hl 0 rfl) ?_
  refine gx_virt (c_gf_wrong l hfl E h q a nw n st hwf hset) [] h [.int 0, .ref u] hx hb (hml.trans hl.1.symm) C.2.2.1 (gMd_code (a := #[]) (C.wd _ tw_252)) (C.wd _ tw_249) (C.wd _ tw_250) (C.wd _ tw_251) ⟨by decide +kernel, by decide +kernel⟩ (by decide +kernel) (show (parseMethodDescriptor y_gf_wrong.desc).map (fun d => d.parameters.length) = some 0 by decide +kernel) (gf_recv hT hP) (fun U hU hW => ⟨rfl, hT.moved hW, hX.moved hW.alike (by rw [hU]; exact gx_keep.rf), by rw [hU]; exact hP⟩) (Nat.le_of_ble_eq_true rfl) ⟨by decide, by decide⟩ ⟨by decide, by decide⟩ d_gl_wrong_3 rfl (fun v' H1 L hpo hL => ?_) (fun x' H1 L hpo hL => ?_)
  all_goals have hL' : ∀ z ∈ L, (gIO h q u) z.base := fun z hz => (hL z hz).elim
  · skip
    rcases hpo with ⟨hst, rfl, h9⟩ | ⟨hst, x9, ce, h9, e1, e2, e3, hP', hF⟩
    · skip
      cases h9
      have hF : gFr (gIG h q) s.heap s.heap := gFr.rf
      have hPg := hP
      have hPo := gx_keepO hPo hF hu
      have hS := gFr.S hS (hF.wk (fun z hz => (Or.inl hz : gIO h q u z))) hL'
      refine W.eq (g2 := F0 m 6 ls [.int (gwr a nw n 0), .int 0, .ref u]) rfl ?_
      refine lv_i2l hx hb d_gl_wrong_6 rfl ?_
      refine gl_lst C (va_P.app hPo hPg) (gx_DO hDg hu _ _ f _ _ _) hS d_gl_wrong_7 (fun H2 locs2 hP2 hS2 => ?_)
      have hPo2 := gx_Pl hP2
      have hPg2 := gx_Pr hP2
      have hF2 := gFr.of hS2
      refine lv_goto (tgt := 14) hx hb d_gl_wrong_8 rfl ?_
      refine lv_iconst (v := 0) hx hb d_gl_wrong_14 (by decide) ?_
      refine W.widen (k := 2) (n := 12) (by omega) (by omega) ?_
      exact gx_iret hx hb hr hlk d_gl_wrong_15 hS2.2.2 ⟨0, _, rfl, Or.inl ⟨rfl, hst, rfl⟩, hPg2, hPo2, hF2⟩
    · skip
      cases h9
  · skip
    rcases hpo with ⟨hst, rfl, h9⟩ | ⟨hst, x9, ce, h9, e1, e2, e3, hP', hF⟩
    · skip
      cases h9
    · skip
      cases h9
      have hPo2 := gx_keepO hPo hF hu
      have hS2 := gFr.S hS (hF.wk (fun z hz => (Or.inl hz : gIO h q u z))) hL'
      have hPg2 := hP'
      have hF2 := gFr.of hS2
      obtain ⟨ks, hks⟩ := gx_ks hT (k := 2) rfl
      refine gx_catch (tgt := 11) C.2.2.1 e1 (fun z hz => by rw [e3] at hz; cases hz) (by rw [e2]; exact hks) (by rw [e2, hex]; exact ⟨⟨by decide, by decide⟩, by decide, gs_I, E.1.1 2, C.wd _ tw_68, (hT.2.cls (k := 2) rfl).1, Or.inl ⟨gx_asg hT hX (k := 2) rfl (by decide +kernel), rfl⟩⟩) ?_
      refine lv_astore_n hx hb d_gl_wrong_11 rfl hl (by decide) rfl (fun ls hl => ?_)
      have hl : lv_has ls 3 [(2, .ref x'), (0, .ref h), (1, .ref u)] := hl
      refine lv_iconst (v := 1) hx hb d_gl_wrong_12 (by decide) ?_
      refine W.widen (k := 2) (n := 12) (by omega) (by omega) ?_
      exact gx_iret hx hb hr hlk d_gl_wrong_13 hS2.2.2 ⟨1, f, rfl, Or.inr ⟨rfl, hst⟩, hPg2, hPo2, hF2⟩
end
section
-- ===== plain laws of the law's invariant =====
/-- the two systems hold the same data, in order; if settled, both by the same forms -/
def gSt (a b : gA) (n : Nat) (st : Int32) : Prop := gWf a n ∧ gEq a b ∧ (¬ st = 0 → ∃ nw : Nat → Nat, gNw a nw n ∧ gS a nw n ∧ gM b nw n)
theorem gSt.nw {a b : gA} {n : Nat} {st : Int32} (h : gSt a b n st) : ∃ nw : Nat → Nat, ¬ st = 0 → gNw a nw n ∧ gS a nw n ∧ gM b nw n := by
  by_cases hs : st = 0
  · exact ⟨fun _ => 0, fun z => absurd hs z⟩
  · obtain ⟨nw, h1⟩ := h.2.2 hs
    exact ⟨nw, fun _ => h1⟩
theorem gEq.both {a b : gA} (h : gEq a b) (k i : Nat) (v : Int32) : gEq (g_wr a k i v) (g_wr b k i v) := fun j hj => by
  unfold g_wr
  by_cases e : j = k
  · subst e
    rw [va_up_self, va_up_self, h j hj]
  · rw [va_up_ne a _ e, va_up_ne b _ e, h j hj]
theorem gEq.line {a b : gA} (h : gEq a b) (n : Nat) : gEq (g_line a n) (g_line b n) := ((h.both 0 n 0).both 4 n 0).both 5 n 0
theorem gEq.form {a b : gA} (h : gEq a b) (j g : Nat) (x y z : Int32) : gEq (g_form a j g x y z) (g_form b j g x y z) := (((h.both 1 _ x).both 2 _ y).both 3 _ z).both 0 j _
theorem gEq.aim {a b : gA} (h : gEq a b) (i : Nat) (t v : Int32) : gEq (g_aim a i t v) (g_aim b i t v) := (h.both 4 i t).both 5 i v
theorem gWf_line {a : gA} {n : Nat} (h : gWf a n) (hn : n < 120) : gWf (g_line a n) (n + 1) := by
  refine ⟨hn, fun l hl => ?_⟩
  have e0 : g_line a n 0 = g_wr a 0 n 0 0 := by
    unfold g_line
    rw [g_wr_k _ _ _ (by decide), g_wr_k _ _ _ (by decide)]
  have e2 : g_line a n 2 = a 2 := by
    unfold g_line
    rw [g_wr_k _ _ _ (by decide), g_wr_k _ _ _ (by decide), g_wr_k _ _ _ (by decide)]
  have e4 : g_line a n 4 = g_wr a 4 n 0 4 := by
    unfold g_line
    rw [g_wr_k _ _ _ (by decide)]
    funext j
    by_cases e : j = n
    · rw [e, g_wr_eq, g_wr_eq]
    · rw [g_wr_ne _ _ _ e, g_wr_ne _ _ _ e, g_wr_k _ _ _ (by decide)]
  rw [e0, e2, e4]
  by_cases e : l = n
  · subst e
    refine ⟨0, 0, by decide, ?_, by omega, ?_, fun k hk => absurd hk (Nat.not_lt_zero k)⟩
    · rw [g_wr_eq]; rfl
    · rw [g_wr_eq]; rfl
  · obtain ⟨f, t, h1, h2, h3, h4, h5⟩ := h.2 l (by omega)
    exact ⟨f, t, h1, by rw [g_wr_ne _ _ _ e]; exact h2, by omega, by rw [g_wr_ne _ _ _ e]; exact h4, h5⟩
theorem gWf_form {a : gA} {j g : Nat} {x y z : Int32} (h : gWf a (j + 1)) (hg : g < 4) (h0 : a 0 j = nI g) (hok : gok x y z) : gWf (g_form a j g x y z) (j + 1) := by
  refine ⟨h.1, fun l hl => ?_⟩
  have e0 : g_form a j g x y z 0 = g_wr a 0 j (nI (g + 1)) 0 := by
    unfold g_form
    funext i
    by_cases e : i = j
    · rw [e, g_wr_eq, g_wr_eq]
    · rw [g_wr_ne _ _ _ e, g_wr_ne _ _ _ e, g_wr_k _ _ _ (by decide), g_wr_k _ _ _ (by decide), g_wr_k _ _ _ (by decide)]
  have e2 : g_form a j g x y z 2 = g_wr a 2 (4 * j + g) y 2 := by
    unfold g_form
    rw [g_wr_k _ _ _ (by decide), g_wr_k _ _ _ (by decide)]
    funext i
    by_cases e : i = 4 * j + g
    · rw [e, g_wr_eq, g_wr_eq]
    · rw [g_wr_ne _ _ _ e, g_wr_ne _ _ _ e, g_wr_k _ _ _ (by decide)]
  have e4 : g_form a j g x y z 4 = a 4 := by
    unfold g_form
    rw [g_wr_k _ _ _ (by decide), g_wr_k _ _ _ (by decide), g_wr_k _ _ _ (by decide), g_wr_k _ _ _ (by decide)]
  rw [e0, e2, e4]
  obtain ⟨f, t, h1, h2, h3, h4, h5⟩ := h.2 l hl
  by_cases e : l = j
  · subst e
    have hfg : f = g := (nI_eq (by omega) (by omega)).mp (h2.symm.trans h0)
    subst hfg
    refine ⟨f + 1, t, by omega, by rw [g_wr_eq], h3, h4, fun k hk => ?_⟩
    by_cases ek : k = f
    · subst ek
      rw [g_wr_eq]
      obtain ⟨i, hi, rfl⟩ := (g_rng y (M := 32) (N := 33) (by decide) (by decide)).mp ⟨Int32.le_trans (by decide) hok.2.1.1, hok.2.1.2⟩
      refine ⟨i, ?_, by omega, rfl⟩
      have := hok.2.1.1
      rw [show (1 : Int32) = nI 1 from rfl, nI_leI (by decide) (by omega)] at this
      exact this
    · rw [g_wr_ne _ _ _ (by omega)]
      exact h5 k (by omega)
  · refine ⟨f, t, h1, by rw [g_wr_ne _ _ _ e]; exact h2, h3, h4, fun k hk => ?_⟩
    rw [g_wr_ne _ _ _ (by omega)]
    exact h5 k hk
theorem gWf_aim {a : gA} {n i : Nat} {t v : Int32} (h : gWf a n) (ht : gRg t (n + 1)) : gWf (g_aim a i t v) n := by
  refine ⟨h.1, fun l hl => ?_⟩
  have e0 : g_aim a i t v 0 = a 0 := by
    unfold g_aim
    rw [g_wr_k _ _ _ (by decide), g_wr_k _ _ _ (by decide)]
  have e2 : g_aim a i t v 2 = a 2 := by
    unfold g_aim
    rw [g_wr_k _ _ _ (by decide), g_wr_k _ _ _ (by decide)]
  have e4 : g_aim a i t v 4 = g_wr a 4 i t 4 := by
    unfold g_aim
    rw [g_wr_k _ _ _ (by decide)]
  rw [e0, e2, e4]
  obtain ⟨f, t0, h1, h2, h3, h4, h5⟩ := h.2 l hl
  by_cases e : l = i
  · subst e
    obtain ⟨t1, ht1, rfl⟩ := ht
    exact ⟨f, t1, h1, h2, by omega, by rw [g_wr_eq], h5⟩
  · exact ⟨f, t0, h1, h2, h3, by rw [g_wr_ne _ _ _ e]; exact h4, h5⟩
theorem gwr_c {a b : gA} (h : gEq a b) (nw : Nat → Nat) : ∀ d i, gwr a nw d i = gwr b nw d i
  | 0, _ => rfl
  | d + 1, i => by rw [gwr, gwr, gfit_c h, gwr_c h nw d]
theorem gToldR_c {a b : gA} (h : gEq a b) {nw : Nat → Nat} {n : Nat} {st x w k r : Int32} (hr : gToldR b nw n st x w k r) : gToldR a nw n st x w k r := by
  unfold gToldR at hr ⊢
  simp only [adr_eq h, gfit_c h, h 0 (by decide)]
  exact hr
theorem gValR_c {a b : gA} (h : gEq a b) {nw : Nat → Nat} {n : Nat} {st x k : Int32} {r : Int64} (hr : gValR b nw n st x k r) : gValR a nw n st x k r := by
  unfold gValR at hr ⊢
  simp only [gv_eq h]
  exact hr
theorem gValR_det {a : gA} {nw : Nat → Nat} {n : Nat} {st x k k2 : Int32} {r r2 : Int64} (hn : n ≤ 120) (h1 : gValR a nw n st x k r) (h2 : gValR a nw n st x k2 r2) : k = k2 ∧ (k = 0 → r = r2) := by
  rcases h1 with ⟨rfl, hs⟩ | ⟨rfl, hs, hg⟩ | ⟨rfl, hs, i, hi, rfl, rfl⟩
  · rcases h2 with ⟨rfl, hs2⟩ | ⟨rfl, hs2, hg2⟩ | ⟨rfl, hs2, -⟩
    · exact ⟨rfl, fun z => absurd z (by decide)⟩
    · exact absurd hs hs2
    · exact absurd hs hs2
  · rcases h2 with ⟨rfl, hs2⟩ | ⟨rfl, hs2, hg2⟩ | ⟨rfl, hs2, i, hi, rfl, -⟩
    · exact absurd hs2 hs
    · exact ⟨rfl, fun z => absurd z (by decide)⟩
    · exact absurd ⟨i, hi, rfl⟩ hg
  · rcases h2 with ⟨rfl, hs2⟩ | ⟨rfl, hs2, hg2⟩ | ⟨rfl, hs2, j, hj, hx, rfl⟩
    · exact absurd hs2 hs
    · exact absurd ⟨i, hi, rfl⟩ hg2
    · have e : i = j := (nI_eq (by omega) (by omega)).mp hx
      subst e
      exact ⟨rfl, fun _ => rfl⟩
theorem gToldR_det {a : gA} {nw : Nat → Nat} {n : Nat} {st x w k k2 r r2 : Int32} (hn : n ≤ 120) (h1 : gToldR a nw n st x w k r) (h2 : gToldR a nw n st x w k2 r2) : k = k2 ∧ (k = 0 → r = r2) := by
  rcases h1 with ⟨rfl, hw⟩ | ⟨rfl, hw, hs⟩ | ⟨rfl, hw, hs, hg⟩ | ⟨rfl, hw, hs, i, hx, hg⟩
  · rcases h2 with ⟨rfl, hw2⟩ | ⟨rfl, hw2, hs2⟩ | ⟨rfl, hw2, hs2, hg2⟩ | ⟨rfl, hw2, hs2, j, hx2, hg2⟩
    · exact ⟨rfl, fun z => absurd z (by decide)⟩
    all_goals exact absurd hw2 hw
  · rcases h2 with ⟨rfl, hw2⟩ | ⟨rfl, hw2, hs2⟩ | ⟨rfl, hw2, hs2, hg2⟩ | ⟨rfl, hw2, hs2, j, hx2, hg2⟩
    · exact absurd hw hw2
    · exact ⟨rfl, fun z => absurd z (by decide)⟩
    · exact absurd hs hs2
    · exact absurd hs hs2
  · rcases h2 with ⟨rfl, hw2⟩ | ⟨rfl, hw2, hs2⟩ | ⟨rfl, hw2, hs2, hg2⟩ | ⟨rfl, hw2, hs2, j, hx2, hg2⟩
    · exact absurd hw hw2
    · exact absurd hs2 hs
    · exact ⟨rfl, fun z => absurd z (by decide)⟩
    · exfalso
      rcases hg with ⟨w0, g0⟩ | ⟨w0, g0⟩
      · rcases hg2 with ⟨-, hj, -⟩ | ⟨hw1, -⟩ | ⟨hw1, -⟩
        · exact g0 ⟨j, hj, hx2⟩
        · rw [w0] at hw1; exact absurd hw1 (by decide)
        · rw [w0] at hw1; exact absurd hw1 (by decide)
      · rcases hg2 with ⟨w1, -⟩ | ⟨-, hj, -⟩ | ⟨-, hj, -⟩
        · exact w0 w1
        · exact g0 ⟨j, hj, hx2⟩
        · exact g0 ⟨j, hj, hx2⟩
  · rcases h2 with ⟨rfl, hw2⟩ | ⟨rfl, hw2, hs2⟩ | ⟨rfl, hw2, hs2, hg2⟩ | ⟨rfl, hw2, hs2, j, hx2, hg2⟩
    · exact absurd hw hw2
    · exact absurd hs2 hs
    · exfalso
      rcases hg2 with ⟨w0, g0⟩ | ⟨w0, g0⟩
      · rcases hg with ⟨-, hj, -⟩ | ⟨hw1, -⟩ | ⟨hw1, -⟩
        · exact g0 ⟨i, hj, hx⟩
        · rw [w0] at hw1; exact absurd hw1 (by decide)
        · rw [w0] at hw1; exact absurd hw1 (by decide)
      · rcases hg with ⟨w1, -⟩ | ⟨-, hj, -⟩ | ⟨-, hj, -⟩
        · exact w0 w1
        · exact g0 ⟨i, hj, hx⟩
        · exact g0 ⟨i, hj, hx⟩
    · refine ⟨rfl, fun _ => ?_⟩
      have hi : i ≤ n := by rcases hg with ⟨-, h, -⟩ | ⟨-, h, -⟩ | ⟨-, h, -⟩ <;> omega
      have hj : j ≤ n := by rcases hg2 with ⟨-, h, -⟩ | ⟨-, h, -⟩ | ⟨-, h, -⟩ <;> omega
      have e : i = j := (nI_eq (by omega) (by omega)).mp (hx.symm.trans hx2)
      subst e
      rcases hg with ⟨w1, -, r1⟩ | ⟨w1, -, r1⟩ | ⟨w1, -, r1⟩ <;> rcases hg2 with ⟨w2, -, r2'⟩ | ⟨w2, -, r2'⟩ | ⟨w2, -, r2'⟩
      · exact r1.trans r2'.symm
      · exact absurd (w1.symm.trans w2) (by decide)
      · exact absurd (w1.symm.trans w2) (by decide)
      · exact absurd (w1.symm.trans w2) (by decide)
      · exact r1.trans r2'.symm
      · exact absurd (w1.symm.trans w2) (by decide)
      · exact absurd (w1.symm.trans w2) (by decide)
      · exact absurd (w1.symm.trans w2) (by decide)
      · exact r1.trans r2'.symm
-- ===== where the law's cells lie =====
def gLay (h : Nat) (q : Nat → Nat) (h1 : Nat) (q1 : Nat → Nat) (u sz : Nat) : Prop := gDG h q ∧ gDM h1 q1 ∧ ¬ gIG h q u ∧ ¬ gIM h1 q1 u ∧ (∀ z, gIG h q z → ¬ gIM h1 q1 z) ∧ (∀ z, gIG h q z → sz ≤ z) ∧ (∀ z, gIM h1 q1 z → sz ≤ z) ∧ sz ≤ u
section GJ
variable {E : gE} {h h1 u sz : Nat} {q q1 : Nat → Nat} {H H1 H2 : Heap}
theorem gx_kM (hY : gLay h q h1 q1 u sz) {b : gA} {ln th st : Int32} (hP : va_P E.1 gcl (mW h1 q1 E.2.1 E.2.2.1 b ln th st) H) (hF : gFr (gIO h q u) H H1) : va_P E.1 gcl (mW h1 q1 E.2.1 E.2.2.1 b ln th st) H1 :=
  hP.kept (fun k x hk => hF.2 x.1 (hP k x hk).lt (fun z => by
    have hm := mW_in k x hk
    rcases z with z | z
    · exact hY.2.2.2.2.1 _ z hm
    · exact hY.2.2.2.1 (z ▸ hm)))
theorem gx_kG (hY : gLay h q h1 q1 u sz) {a : gA} {ln st : Int32} (hP : va_P E.1 gcl (gW h q E.2.1 a ln st) H) (hF : gFr (gIM h1 q1) H H1) : va_P E.1 gcl (gW h q E.2.1 a ln st) H1 :=
  hP.kept (fun k x hk => hF.2 x.1 (hP k x hk).lt (fun z => hY.2.2.2.2.1 _ (gW_in k x hk) z))
theorem gx_SO (hY : gLay h q h1 q1 u sz) {H0 : Heap} {locs L : List Loc} (hS : va_S (fun z => sz ≤ z) H0 H locs) (hF : gFr (gIO h q u) H H1) (hL : ∀ l ∈ L, gIO h q u l.base) : va_S (fun z => sz ≤ z) H0 H1 (locs ++ L) := by
  have hA : ∀ z, gIO h q u z → sz ≤ z := fun z hz => hz.elim (hY.2.2.2.2.2.1 z) (fun e => by rw [e]; exact hY.2.2.2.2.2.2.2)
  exact gFr.S hS (hF.wk hA) (fun l hl => hA _ (hL l hl))
theorem gx_SM (hY : gLay h q h1 q1 u sz) {H0 : Heap} {locs L : List Loc} (hS : va_S (fun z => sz ≤ z) H0 H locs) (hF : gFr (gIM h1 q1) H H1) (hL : ∀ l ∈ L, gIM h1 q1 l.base) : va_S (fun z => sz ≤ z) H0 H1 (locs ++ L) :=
  gFr.S hS (hF.wk (hY.2.2.2.2.2.2.1)) (fun l hl => hY.2.2.2.2.2.2.1 _ (hL l hl))
theorem gx_SG (hY : gLay h q h1 q1 u sz) {H0 : Heap} {locs L : List Loc} (hS : va_S (fun z => sz ≤ z) H0 H locs) (hF : gFr (gIG h q) H H1) (hL : ∀ l ∈ L, gIG h q l.base) : va_S (fun z => sz ≤ z) H0 H1 (locs ++ L) :=
  gFr.S hS (hF.wk (hY.2.2.2.2.2.1)) (fun l hl => hY.2.2.2.2.2.1 _ (hL l hl))
theorem gx_keepS {locs : List Loc} (hS : va_S (fun z => H.size ≤ z) H H1 locs) : gx_keep H H1 := fun a cell hc _ => by
  have hlt := (Array.getElem?_eq_some_iff.mp hc).1
  rw [hS.2.1 a hlt (Nat.not_le.mpr hlt)]
  exact hc
/-- behind both calls: the same data again; the Model's 'thrown' is the code k; the frame of the second -/
def gJn (E : gE) (h : Nat) (q : Nat → Nat) (h1 : Nat) (q1 : Nat → Nat) (k : Int32) (H1 H2 : Heap) : Prop :=
  (∃ (a b : gA) (n : Nat) (st : Int32), va_P E.1 gcl (gW h q E.2.1 a (nI n) st) H2 ∧ va_P E.1 gcl (mW h1 q1 E.2.1 E.2.2.1 b (nI n) k st) H2 ∧ gSt a b n st) ∧ gFr (gIM h1 q1) H1 H2
variable {a b : gA} {n : Nat} {st th k : Int32} {f : Nat → Int64} {v : Option Value}
theorem j_line (hY : gLay h q h1 q1 u sz) (hs : gSt a b n st)
    (p1 : (k = 0 ∧ n < 120 ∧ f 0 = (nI n).toInt64 ∧ va_P E.1 gcl (gW h q E.2.1 (g_line a n) (nI (n + 1)) 0) H1) ∨ (k = 1 ∧ n = 120 ∧ va_P E.1 gcl (gW h q E.2.1 a (nI n) st) H1))
    (p2 : (n < 120 ∧ Outcome.returned v = .returned (some (.int (nI n))) ∧ va_P E.1 gcl (mW h1 q1 E.2.1 E.2.2.1 (g_line b n) (nI (n + 1)) 0 0) H2 ∧ gFr (gIM h1 q1) H1 H2) ∨ (n = 120 ∧ Outcome.returned v = .returned (some (.int 0)) ∧ va_P E.1 gcl (mW h1 q1 E.2.1 E.2.2.1 b (nI n) 1 st) H2 ∧ gFr (gIM h1 q1) H1 H2)) :
    ∃ r : Int32, v = some (.int r) ∧ gJn E h q h1 q1 k H1 H2 ∧ (k = 0 → f 0 = r.toInt64) := by
  rcases p1 with ⟨rfl, hn, hf, hg⟩ | ⟨rfl, hn, hg⟩
  · rcases p2 with ⟨-, h9, hm, hF⟩ | ⟨hn2, -⟩
    · cases h9
      exact ⟨nI n, rfl, ⟨⟨_, _, n + 1, 0, gx_kG hY hg hF, hm, gWf_line hs.1 hn, hs.2.1.line n, fun z => absurd rfl z⟩, hF⟩, fun _ => hf⟩
    · omega
  · rcases p2 with ⟨hn2, -⟩ | ⟨-, h9, hm, hF⟩
    · omega
    · cases h9
      exact ⟨0, rfl, ⟨⟨a, b, n, st, gx_kG hY hg hF, hm, hs⟩, hF⟩, fun z => absurd z (by decide)⟩
theorem j_form (hY : gLay h q h1 q1 u sz) (hs : gSt a b n st) {x y z : Int32}
    (p1 : (k = 1 ∧ ¬ gok x y z ∧ va_P E.1 gcl (gW h q E.2.1 a (nI n) st) H1) ∨ (k = 2 ∧ gok x y z ∧ (n = 0 ∨ ∃ j, n = j + 1 ∧ a 0 j = 4) ∧ va_P E.1 gcl (gW h q E.2.1 a (nI n) st) H1) ∨ (k = 0 ∧ gok x y z ∧ ∃ j g, n = j + 1 ∧ g < 4 ∧ a 0 j = nI g ∧ f 0 = (nI (g + 1)).toInt64 ∧ va_P E.1 gcl (gW h q E.2.1 (g_form a j g x y z) (nI n) 0) H1))
    (p2 : (¬ gok x y z ∧ Outcome.returned v = .returned (some (.int 0)) ∧ va_P E.1 gcl (mW h1 q1 E.2.1 E.2.2.1 b (nI n) 1 st) H2 ∧ gFr (gIM h1 q1) H1 H2) ∨ (gok x y z ∧ (n = 0 ∨ ∃ k, n = k + 1 ∧ b 0 k = 4) ∧ Outcome.returned v = .returned (some (.int 0)) ∧ va_P E.1 gcl (mW h1 q1 E.2.1 E.2.2.1 b (nI n) 2 st) H2 ∧ gFr (gIM h1 q1) H1 H2) ∨ (gok x y z ∧ ∃ k f, n = k + 1 ∧ f < 4 ∧ b 0 k = nI f ∧ Outcome.returned v = .returned (some (.int (nI (f + 1)))) ∧ va_P E.1 gcl (mW h1 q1 E.2.1 E.2.2.1 (g_form b k f x y z) (nI n) 0 0) H2 ∧ gFr (gIM h1 q1) H1 H2)) :
    ∃ r : Int32, v = some (.int r) ∧ gJn E h q h1 q1 k H1 H2 ∧ (k = 0 → f 0 = r.toInt64) := by
  have e0 : a 0 = b 0 := hs.2.1 0 (by decide)
  rcases p1 with ⟨rfl, hok, hg⟩ | ⟨rfl, hok, hn, hg⟩ | ⟨rfl, hok, j, g, rfl, hg4, h0, hf, hg⟩
  · rcases p2 with ⟨-, h9, hm, hF⟩ | ⟨hok2, -⟩ | ⟨hok2, -⟩
    · cases h9
      exact ⟨0, rfl, ⟨⟨a, b, n, st, gx_kG hY hg hF, hm, hs⟩, hF⟩, fun z => absurd z (by decide)⟩
    · exact absurd hok2 hok
    · exact absurd hok2 hok
  · rcases p2 with ⟨hok2, -⟩ | ⟨-, -, h9, hm, hF⟩ | ⟨-, j, g, hj, hg4, h0, -⟩
    · exact absurd hok hok2
    · cases h9
      exact ⟨0, rfl, ⟨⟨a, b, n, st, gx_kG hY hg hF, hm, hs⟩, hF⟩, fun z => absurd z (by decide)⟩
    · exfalso
      rcases hn with rfl | ⟨i, rfl, hi⟩
      · omega
      · have e : i = j := by omega
        subst e
        rw [e0, h0, show (4 : Int32) = nI 4 from rfl, nI_eq (by omega) (by omega)] at hi
        omega
  · rcases p2 with ⟨hok2, -⟩ | ⟨-, hn, -⟩ | ⟨-, j2, g2, hj, hg42, h02, h9, hm, hF⟩
    · exact absurd hok hok2
    · exfalso
      rcases hn with hn | ⟨i, hi2, hi⟩
      · omega
      · have e : i = j := by omega
        subst e
        rw [← e0, h0, show (4 : Int32) = nI 4 from rfl, nI_eq (by omega) (by omega)] at hi
        omega
    · have e : j2 = j := by omega
      subst e
      rw [← e0, h0, nI_eq (by omega) (by omega)] at h02
      subst h02
      cases h9
      exact ⟨_, rfl, ⟨⟨_, _, _, 0, gx_kG hY hg hF, hm, gWf_form hs.1 hg4 h0 hok, hs.2.1.form _ _ x y z, fun z => absurd rfl z⟩, hF⟩, fun _ => hf⟩
theorem j_aim (hY : gLay h q h1 q1 u sz) (hs : gSt a b n st) {x t w : Int32}
    (p1 : (k = 1 ∧ ¬ (gRg x n ∧ gRg t (n + 1)) ∧ va_P E.1 gcl (gW h q E.2.1 a (nI n) st) H1) ∨ (k = 0 ∧ gRg t (n + 1) ∧ ∃ i, i < n ∧ x = nI i ∧ va_P E.1 gcl (gW h q E.2.1 (g_aim a i t w) (nI n) 0) H1))
    (p2 : (¬ (gRg x n ∧ gRg t (n + 1)) ∧ Outcome.returned v = .returned none ∧ va_P E.1 gcl (mW h1 q1 E.2.1 E.2.2.1 b (nI n) 1 st) H2 ∧ gFr (gIM h1 q1) H1 H2) ∨ (gRg t (n + 1) ∧ ∃ i, i < n ∧ x = nI i ∧ Outcome.returned v = .returned none ∧ va_P E.1 gcl (mW h1 q1 E.2.1 E.2.2.1 (g_aim b i t w) (nI n) 0 0) H2 ∧ gFr (gIM h1 q1) H1 H2)) :
    v = none ∧ gJn E h q h1 q1 k H1 H2 := by
  have hn := hs.1.1
  rcases p1 with ⟨rfl, hr, hg⟩ | ⟨rfl, hr, i, hi, rfl, hg⟩
  · rcases p2 with ⟨-, h9, hm, hF⟩ | ⟨hr2, i, hi, rfl, -⟩
    · cases h9
      exact ⟨rfl, ⟨a, b, n, st, gx_kG hY hg hF, hm, hs⟩, hF⟩
    · exact absurd ⟨⟨i, hi, rfl⟩, hr2⟩ hr
  · rcases p2 with ⟨hr2, -⟩ | ⟨-, j, hj, hx, h9, hm, hF⟩
    · exact absurd ⟨⟨i, hi, rfl⟩, hr⟩ hr2
    · have e : i = j := (nI_eq (by omega) (by omega)).mp hx
      subst e
      cases h9
      exact ⟨rfl, ⟨_, _, n, 0, gx_kG hY hg hF, hm, gWf_aim hs.1 hr, hs.2.1.aim i t w, fun z => absurd rfl z⟩, hF⟩
theorem j_settle (hY : gLay h q h1 q1 u sz) (hs : gSt a b n st) {a' : gA} (hE : gEq a' a) (hS : gS a' (gset a n 361 (fun _ => 0) 0).2.1 n) (hN : gNw a (gset a n 361 (fun _ => 0) 0).2.1 n)
    (hf : (gset a n 361 (fun _ => 0) 0).1 = 0 → f 0 = ((gset a n 361 (fun _ => 0) 0).2.2).toInt64) (hle : (gset a n 361 (fun _ => 0) 0).1 ≤ 2) (hg : va_P E.1 gcl (gW h q E.2.1 a' (nI n) 1) H1)
    (p2 : gPsetM E h1 q1 b n (gset b n 361 (fun _ => 0) 0) H1 (.returned v) H2) :
    ∃ r : Int32, v = some (.int r) ∧ gJn E h q h1 q1 (nI (gset a n 361 (fun _ => 0) 0).1) H1 H2 ∧ (nI (gset a n 361 (fun _ => 0) 0).1 = 0 → f 0 = r.toInt64) := by
  rw [← gset_c hs.2.1] at p2
  obtain ⟨b', r, hEb, hM, hNb, hr, h9, hm, hF⟩ := p2
  cases h9
  refine ⟨r, rfl, ⟨⟨a', b', n, 1, gx_kG hY hg hF, hm, gWf_c hE.sy hs.1, hE.tr (hs.2.1.tr hEb.sy), fun _ => ⟨_, gNw_c hE.sy hN, hS, hM⟩⟩, hF⟩, fun z => ?_⟩
  replace z := (nI_eq (b := 0) (by omega) (by decide)).mp z
  rw [hr z]
  exact hf z
theorem j_told (hY : gLay h q h1 q1 u sz) (hs : gSt a b n st) {nw : Nat → Nat} {x w r0 : Int32} (hrel : gToldR a nw n st x w k r0) (hf : k = 0 → f 0 = r0.toInt64) (hg : va_P E.1 gcl (gW h q E.2.1 a (nI n) st) H1)
    (p2 : ∃ (k r r' : Int32), gToldR b nw n st x w k r ∧ (k = 0 → r' = r) ∧ Outcome.returned v = .returned (some (.int r')) ∧ va_P E.1 gcl (mW h1 q1 E.2.1 E.2.2.1 b (nI n) k st) H2 ∧ gFr (gIM h1 q1) H1 H2) :
    ∃ r : Int32, v = some (.int r) ∧ gJn E h q h1 q1 k H1 H2 ∧ (k = 0 → f 0 = r.toInt64) := by
  obtain ⟨k2, r, r', h3, h4, h9, hm, hF⟩ := p2
  cases h9
  obtain ⟨rfl, e⟩ := gToldR_det hs.1.1 hrel (gToldR_c hs.2.1 h3)
  exact ⟨r', rfl, ⟨⟨a, b, n, st, gx_kG hY hg hF, hm, hs⟩, hF⟩, fun z => by rw [h4 z, ← e z]; exact hf z⟩
theorem j_value (hY : gLay h q h1 q1 u sz) (hs : gSt a b n st) {nw : Nat → Nat} {x : Int32} {r0 : Int64} (hrel : gValR a nw n st x k r0) (hf : k = 0 → f 0 = r0) (hg : va_P E.1 gcl (gW h q E.2.1 a (nI n) st) H1)
    (p2 : ∃ (k : Int32) (r r' : Int64), gValR b nw n st x k r ∧ (k = 0 → r' = r) ∧ Outcome.returned v = .returned (some (.long r')) ∧ va_P E.1 gcl (mW h1 q1 E.2.1 E.2.2.1 b (nI n) k st) H2 ∧ gFr (gIM h1 q1) H1 H2) :
    ∃ r : Int64, v = some (.long r) ∧ gJn E h q h1 q1 k H1 H2 ∧ (k = 0 → f 0 = r) := by
  obtain ⟨k2, r, r', h3, h4, h9, hm, hF⟩ := p2
  cases h9
  obtain ⟨rfl, e⟩ := gValR_det hs.1.1 hrel (gValR_c hs.2.1 h3)
  exact ⟨r', rfl, ⟨⟨a, b, n, st, gx_kG hY hg hF, hm, hs⟩, hF⟩, fun z => by rw [h4 z, ← e z]; exact hf z⟩
theorem j_wrong (hY : gLay h q h1 q1 u sz) (hs : gSt a b n st) {nw : Nat → Nat}
    (p1 : (k = 0 ∧ ¬ st = 0 ∧ f 0 = (gwr a nw n 0).toInt64) ∨ (k = 1 ∧ st = 0)) (hg : va_P E.1 gcl (gW h q E.2.1 a (nI n) st) H1)
    (p2 : (¬ st = 0 ∧ Outcome.returned v = .returned (some (.int (gwr b nw n 0))) ∧ va_P E.1 gcl (mW h1 q1 E.2.1 E.2.2.1 b (nI n) 0 st) H2 ∧ gFr (gIM h1 q1) H1 H2) ∨ (st = 0 ∧ Outcome.returned v = .returned (some (.int 0)) ∧ va_P E.1 gcl (mW h1 q1 E.2.1 E.2.2.1 b (nI n) 1 st) H2 ∧ gFr (gIM h1 q1) H1 H2)) :
    ∃ r : Int32, v = some (.int r) ∧ gJn E h q h1 q1 k H1 H2 ∧ (k = 0 → f 0 = r.toInt64) := by
  rcases p1 with ⟨rfl, hst, hf⟩ | ⟨rfl, hst⟩
  · rcases p2 with ⟨-, h9, hm, hF⟩ | ⟨hst2, -⟩
    · cases h9
      exact ⟨_, rfl, ⟨⟨a, b, n, st, gx_kG hY hg hF, hm, hs⟩, hF⟩, fun _ => by rw [← gwr_c hs.2.1]; exact hf⟩
    · exact absurd hst2 hst
  · rcases p2 with ⟨hst2, -⟩ | ⟨-, h9, hm, hF⟩
    · exact absurd hst hst2
    · cases h9
      exact ⟨0, rfl, ⟨⟨a, b, n, st, gx_kG hY hg hF, hm, hs⟩, hF⟩, fun z => absurd z (by decide)⟩
end GJ
end
section
-- ===== the law's rounds =====
/-- what stays the same in the law's walk -/
def gLw (p : Program) (l : Launch) (s : State) (m : MethodId) (c : Code) (E : gE) (b0 L : Nat) (xs : Nat → Int32) (h : Nat) (q : Nat → Nat) (h1 : Nat) (q1 : Nat → Nat) (u : Nat) : Prop :=
  gC E "GrowFormsLaw" code p s m c ∧ c.maxLocals = 8 ∧ gX s ∧ l.flags = flags0 ∧ va_X b0 L xs s s.heap ∧ b0 < s.heap.size ∧ gLay h q h1 q1 u s.heap.size ∧ L ≤ 2048
/-- what holds at each round's beginning -/
def gLi (E : gE) (h : Nat) (q : Nat → Nat) (h1 : Nat) (q1 : Nat → Nat) (u : Nat) (a b : gA) (n : Nat) (th st : Int32) (f : Nat → Int64) (H : Heap) : Prop :=
  va_P E.1 gcl (gW h q E.2.1 a (nI n) st) H ∧ va_P E.1 gcl (mW h1 q1 E.2.1 E.2.2.1 b (nI n) th st) H ∧ va_P E.1 gcl (oW u E.2.2.2 f) H ∧ gSt a b n st
section GL
variable {p : Program} {l : Launch} {e : Env} {s : State} {m : MethodId} {below : List Frame} {meth : Method} {c : Code} {H : Heap} {locs : List Loc} {cells slots : Nat} {Q : State → Prop} {ls : Array Slot}
variable {E : gE} {b0 L : Nat} {xs : Nat → Int32} {h h1 u k n : Nat} {q q1 : Nat → Nat} {a b : gA} {th st : Int32} {f : Nat → Int64}
theorem g_sld {cc : ByteArray} {own : String} {pc : Nat} {rest : List Value} {R : Room} {args : Array Value} (C : gC E own cc p s m c) (hX : va_X b0 L xs s s.heap) (hbl : b0 < s.heap.size) (hS : va_S (fun z => s.heap.size ≤ z) s.heap H locs) (hL : L ≤ 2048) (j : Nat) {x : Int32} (hi : x = nI j) (hj : j < L) (hdg : decode cc pc = .ok (.iaload, 1))
    (kk : W p l e R s m args below meth c H locs cells slots Q (F0 m (pc + 1) ls (.int (xs j) :: rest))) : W p l e R s m args below meth c H locs cells slots Q (F0 m pc ls (.int x :: .ref b0 :: rest)) := by
  subst hi
  refine va_sld C.1 C.2.1 hX hbl (Nat.not_le.mpr hbl) hS (vp_in_nI hj (by omega)) hdg ?_
  rw [nI_clamp (by omega)]
  exact kk
set_option maxHeartbeats 4000000 in
set_option maxRecDepth 100000 in
theorem l_line (F : gLw p l s m c E b0 L xs h q h1 q1 u) (hk : 4 * k + 4 ≤ L) (hc : cells + 2 ≤ 601024) (hs : slots + 12 ≤ 7293034) (hI : gLi E h q h1 q1 u a b n th st f H) (hS : va_S (fun z => s.heap.size ≤ z) s.heap H locs) (hl : lv_has ls 8 [(4, .int (nI (4 * k))), (3, .ref u), (2, .ref h1), (1, .ref h), (0, .ref b0)])
    (K : ∀ (a' b' : gA) (n' : Nat) (th' st' : Int32) (f' : Nat → Int64) (H' : Heap) (locs' : List Loc) (ls' : Array Slot), gLi E h q h1 q1 u a' b' n' th' st' f' H' → va_S (fun z => s.heap.size ≤ z) s.heap H' locs' → lv_has ls' 8 [(4, .int (nI (4 * k))), (3, .ref u), (2, .ref h1), (1, .ref h), (0, .ref b0)] → W p l e room_1 s m #[Value.ref b0] below meth c H' locs' (cells + 2) (slots + 12) Q (F0 m 492 ls' [])) : W p l e room_1 s m #[Value.ref b0] below meth c H locs cells slots Q (F0 m 84 ls []) := by
  obtain ⟨C, hml, hX, hfl, hXs, hbl, hY, hL⟩ := F
  have hx := C.1
  have hb := C.2.1
  have hT := C.2.2.2
  obtain ⟨hG, hM, hO, hst⟩ := hI
  refine lv_aload_n hx hb d_gl_law_84 rfl (lv_at hl 3 rfl) ?_
  refine lv_aload_n hx hb d_gl_law_85 rfl (lv_at hl 1 rfl) ?_
  refine gx_stat (c_gl_line l hfl E h q u f a n st hst.1.1 hY.1 hY.2.2.1) [.ref h, .ref u] [] hx hb (hml.trans hl.1.symm) C.2.2.1 (gMd_with (a := #[]) (C.wd _ tw_67)) (C.wd _ tw_65) (C.wd _ tw_66) (C.wd _ tw_8) ⟨by decide +kernel, by decide +kernel⟩ (by decide +kernel) (show (parseMethodDescriptor y_gl_line.desc).map (fun d => d.parameters.length) = some 2 by decide +kernel) (fun U hU hW => ⟨rfl, hT.moved hW, hX.moved hW.alike (by rw [hU]; exact gx_keepS hS), by rw [hU]; exact hG, by rw [hU]; exact hO⟩) (Nat.le_of_ble_eq_true rfl) ⟨by decide, by decide⟩ ⟨hc, hs⟩ d_gl_law_86 rfl (fun v' H1 L1 hpo hL1 => ?_) (fun x' H1 L1 hpo hL1 => ?_)
  · skip
    obtain ⟨k0, f1, h9, p1, hO, hF1⟩ := hpo
    cases h9
    have hF1o := hF1
    have hS := gx_SO hY hS hF1 hL1
    have hM := gx_kM hY hM hF1o
    refine W.eq (g2 := F0 m 89 ls [.int k0]) rfl ?_
    refine lv_istore hx hb d_gl_law_89 hl (by decide) rfl (fun ls hl => ?_)
    have hl : lv_has ls 8 [(5, .int k0), (4, .int (nI (4 * k))), (3, .ref u), (2, .ref h1), (1, .ref h), (0, .ref b0)] := hl
    refine lv_aload_n hx hb d_gl_law_91 rfl (lv_at hl 3 rfl) ?_
    refine gx_virt (c_gm_line l E h1 q1 b n th st hY.2.1 hst.1.1) [] h1 [] hx hb (hml.trans hl.1.symm) C.2.2.1 (gMd_code (a := #[]) (C.wd _ tw_301)) (C.wd _ tw_298) (C.wd _ tw_299) (C.wd _ tw_300) ⟨by decide +kernel, by decide +kernel⟩ (by decide +kernel) (show (parseMethodDescriptor y_gm_line.desc).map (fun d => d.parameters.length) = some 0 by decide +kernel) (gm_recv hT hM) (fun U hU hW => ⟨rfl, hT.moved hW, by rw [hU]; exact hM⟩) (Nat.le_of_ble_eq_true rfl) ⟨by decide, by decide⟩ ⟨hc, hs⟩ d_gl_law_92 rfl (fun v' H2 L2 hpo hL2 => ?_) (fun x' H2 L2 hpo hL2 => ?_)
    · skip
      obtain ⟨r, rfl, ⟨⟨a1, b1, n1, st1, hG, hM, hst⟩, hF2⟩, hf0⟩ := j_line hY hst p1 hpo
      refine W.eq (g2 := F0 m 95 ls [.int r]) rfl ?_
      have hO := gx_keepO hO hF2 hY.2.2.2.1
      have hS := gx_SM hY hS hF2 hL2
      refine lv_istore hx hb d_gl_law_95 hl (by decide) rfl (fun ls hl => ?_)
      have hl : lv_has ls 8 [(6, .int r), (5, .int k0), (4, .int (nI (4 * k))), (3, .ref u), (2, .ref h1), (1, .ref h), (0, .ref b0)] := hl
      refine lv_aload_n hx hb d_gl_law_97 rfl (lv_at hl 4 rfl) ?_
      refine gx_virtP (c_gm_thrown l E h1 q1 b1 (nI n1) k0 st1) [] h1 [] hx hb (hml.trans hl.1.symm) C.2.2.1 (gMd_code (a := #[]) (C.wd _ tw_297)) (C.wd _ tw_294) (C.wd _ tw_295) (C.wd _ tw_296) ⟨by decide +kernel, by decide +kernel⟩ (by decide +kernel) (show (parseMethodDescriptor y_gm_thrown.desc).map (fun d => d.parameters.length) = some 0 by decide +kernel) (gm_recv hT hM) (fun U hU hW => ⟨rfl, hT.moved hW, by rw [hU]; exact hM⟩) (Nat.le_of_ble_eq_true rfl) ⟨by decide, by decide⟩ ⟨hc, hs⟩ d_gl_law_98 rfl ?_
      refine lv_iload hx hb d_gl_law_101 (lv_at hl 1 rfl) ?_
      refine lv_icmp_eq (tgt := 108) hx hb d_gl_law_103 rfl (fun _ => ?_) (fun hN => absurd rfl hN)
      refine lv_iload hx hb d_gl_law_108 (lv_at hl 1 rfl) ?_
      refine lv_if_ne (tgt := 125) hx hb d_gl_law_110 rfl (fun hk0 => ?_) (fun hk0 => ?_)
      · skip
        refine lv_goto (tgt := 492) hx hb d_gl_law_125 rfl ?_
        exact W.widen (k := cells + 2) (n := slots + 12) (by omega) (by omega) (K a1 b1 n1 k0 st1 f1 _ _ ls ⟨hG, hM, hO, hst⟩ hS (lv_sub hl [2, 3, 4, 5, 6] rfl))
      · skip
        refine lv_aload_n hx hb d_gl_law_113 rfl (lv_at hl 3 rfl) ?_
        refine lv_iconst (v := 0) hx hb d_gl_law_114 (by decide) ?_
        refine gl_lld C hO d_gl_law_115 ?_
        refine lv_iload hx hb d_gl_law_116 (lv_at hl 0 rfl) ?_
        refine lv_i2l hx hb d_gl_law_118 rfl ?_
        refine W.lcmp hx hb d_gl_law_119 ?_
        refine lv_if_eq (tgt := 125) hx hb d_gl_law_120 rfl (fun _ => ?_) (fun hN => absurd ((lg_cmp_eq _ _).mpr (hf0 hk0)) hN)
        refine lv_goto (tgt := 492) hx hb d_gl_law_125 rfl ?_
        exact W.widen (k := cells + 2) (n := slots + 12) (by omega) (by omega) (K a1 b1 n1 k0 st1 f1 _ _ ls ⟨hG, hM, hO, hst⟩ hS (lv_sub hl [2, 3, 4, 5, 6] rfl))
    · skip
      exact absurd hpo (by simp)
  · skip
    obtain ⟨k0, f1, h9, p1, hO, hF1⟩ := hpo
    cases h9
set_option maxHeartbeats 4000000 in
set_option maxRecDepth 100000 in
theorem l_form (F : gLw p l s m c E b0 L xs h q h1 q1 u) (hk : 4 * k + 4 ≤ L) (hc : cells + 2 ≤ 601024) (hs : slots + 12 ≤ 7293034) (hI : gLi E h q h1 q1 u a b n th st f H) (hS : va_S (fun z => s.heap.size ≤ z) s.heap H locs) (hl : lv_has ls 8 [(4, .int (nI (4 * k))), (3, .ref u), (2, .ref h1), (1, .ref h), (0, .ref b0)])
    (K : ∀ (a' b' : gA) (n' : Nat) (th' st' : Int32) (f' : Nat → Int64) (H' : Heap) (locs' : List Loc) (ls' : Array Slot), gLi E h q h1 q1 u a' b' n' th' st' f' H' → va_S (fun z => s.heap.size ≤ z) s.heap H' locs' → lv_has ls' 8 [(4, .int (nI (4 * k))), (3, .ref u), (2, .ref h1), (1, .ref h), (0, .ref b0)] → W p l e room_1 s m #[Value.ref b0] below meth c H' locs' (cells + 2) (slots + 12) Q (F0 m 492 ls' [])) : W p l e room_1 s m #[Value.ref b0] below meth c H locs cells slots Q (F0 m 128 ls []) := by
  obtain ⟨C, hml, hX, hfl, hXs, hbl, hY, hL⟩ := F
  have hx := C.1
  have hb := C.2.1
  have hT := C.2.2.2
  obtain ⟨hG, hM, hO, hst⟩ := hI
  refine lv_aload_n hx hb d_gl_law_128 rfl (lv_at hl 3 rfl) ?_
  refine lv_aload_n hx hb d_gl_law_129 rfl (lv_at hl 4 rfl) ?_
  refine lv_iload hx hb d_gl_law_130 (lv_at hl 0 rfl) ?_
  refine lv_iconst (v := 1) hx hb d_gl_law_132 (by decide) ?_
  refine lv_iadd hx hb d_gl_law_133 ?_
  refine g_sld C hXs hbl hS hL (4 * k + 1) (nI_add (4 * k) 1) (by omega) d_gl_law_134 ?_
  refine lv_aload_n hx hb d_gl_law_135 rfl (lv_at hl 4 rfl) ?_
  refine lv_iload hx hb d_gl_law_136 (lv_at hl 0 rfl) ?_
  refine lv_iconst (v := 2) hx hb d_gl_law_138 (by decide) ?_
  refine lv_iadd hx hb d_gl_law_139 ?_
  refine g_sld C hXs hbl hS hL (4 * k + 2) (nI_add (4 * k) 2) (by omega) d_gl_law_140 ?_
  refine lv_aload_n hx hb d_gl_law_141 rfl (lv_at hl 4 rfl) ?_
  refine lv_iload hx hb d_gl_law_142 (lv_at hl 0 rfl) ?_
  refine lv_iconst (v := 3) hx hb d_gl_law_144 (by decide) ?_
  refine lv_iadd hx hb d_gl_law_145 ?_
  refine g_sld C hXs hbl hS hL (4 * k + 3) (nI_add (4 * k) 3) (by omega) d_gl_law_146 ?_
  refine lv_aload_n hx hb d_gl_law_147 rfl (lv_at hl 1 rfl) ?_
  refine gx_stat (c_gl_form l hfl E h q u f a n st (xs (4 * k + 1)) (xs (4 * k + 2)) (xs (4 * k + 3)) hst.1 hY.1 hY.2.2.1) [.ref h, .int (xs (4 * k + 1)), .int (xs (4 * k + 2)), .int (xs (4 * k + 3)), .ref u] [] hx hb (hml.trans hl.1.symm) C.2.2.1 (gMd_with (a := #[]) (C.wd _ tw_139)) (C.wd _ tw_137) (C.wd _ tw_138) (C.wd _ tw_8) ⟨by decide +kernel, by decide +kernel⟩ (by decide +kernel) (show (parseMethodDescriptor y_gl_form.desc).map (fun d => d.parameters.length) = some 5 by decide +kernel) (fun U hU hW => ⟨rfl, hT.moved hW, hX.moved hW.alike (by rw [hU]; exact gx_keepS hS), by rw [hU]; exact hG, by rw [hU]; exact hO⟩) (Nat.le_of_ble_eq_true rfl) ⟨by decide, by decide⟩ ⟨hc, hs⟩ d_gl_law_148 rfl (fun v' H1 L1 hpo hL1 => ?_) (fun x' H1 L1 hpo hL1 => ?_)
  · skip
    obtain ⟨k0, f1, h9, p1, hO, hF1⟩ := hpo
    cases h9
    have hF1o := hF1
    have hS := gx_SO hY hS hF1 hL1
    have hM := gx_kM hY hM hF1o
    refine W.eq (g2 := F0 m 151 ls [.int k0]) rfl ?_
    refine lv_istore hx hb d_gl_law_151 hl (by decide) rfl (fun ls hl => ?_)
    have hl : lv_has ls 8 [(5, .int k0), (4, .int (nI (4 * k))), (3, .ref u), (2, .ref h1), (1, .ref h), (0, .ref b0)] := hl
    refine lv_aload_n hx hb d_gl_law_153 rfl (lv_at hl 3 rfl) ?_
    refine lv_aload_n hx hb d_gl_law_154 rfl (lv_at hl 5 rfl) ?_
    refine lv_iload hx hb d_gl_law_155 (lv_at hl 1 rfl) ?_
    refine lv_iconst (v := 1) hx hb d_gl_law_157 (by decide) ?_
    refine lv_iadd hx hb d_gl_law_158 ?_
    refine g_sld C hXs hbl hS hL (4 * k + 1) (nI_add (4 * k) 1) (by omega) d_gl_law_159 ?_
    refine lv_aload_n hx hb d_gl_law_160 rfl (lv_at hl 5 rfl) ?_
    refine lv_iload hx hb d_gl_law_161 (lv_at hl 1 rfl) ?_
    refine lv_iconst (v := 2) hx hb d_gl_law_163 (by decide) ?_
    refine lv_iadd hx hb d_gl_law_164 ?_
    refine g_sld C hXs hbl hS hL (4 * k + 2) (nI_add (4 * k) 2) (by omega) d_gl_law_165 ?_
    refine lv_aload_n hx hb d_gl_law_166 rfl (lv_at hl 5 rfl) ?_
    refine lv_iload hx hb d_gl_law_167 (lv_at hl 1 rfl) ?_
    refine lv_iconst (v := 3) hx hb d_gl_law_169 (by decide) ?_
    refine lv_iadd hx hb d_gl_law_170 ?_
    refine g_sld C hXs hbl hS hL (4 * k + 3) (nI_add (4 * k) 3) (by omega) d_gl_law_171 ?_
    refine gx_virt (c_gm_form l E h1 q1 b n th st (xs (4 * k + 1)) (xs (4 * k + 2)) (xs (4 * k + 3)) hY.2.1 (gWf_c hst.2.1 hst.1)) [.int (xs (4 * k + 1)), .int (xs (4 * k + 2)), .int (xs (4 * k + 3))] h1 [] hx hb (hml.trans hl.1.symm) C.2.2.1 (gMd_code (a := #[]) (C.wd _ tw_305)) (C.wd _ tw_302) (C.wd _ tw_303) (C.wd _ tw_304) ⟨by decide +kernel, by decide +kernel⟩ (by decide +kernel) (show (parseMethodDescriptor y_gm_form.desc).map (fun d => d.parameters.length) = some 3 by decide +kernel) (gm_recv hT hM) (fun U hU hW => ⟨rfl, hT.moved hW, by rw [hU]; exact hM⟩) (Nat.le_of_ble_eq_true rfl) ⟨by decide, by decide⟩ ⟨hc, hs⟩ d_gl_law_172 rfl (fun v' H2 L2 hpo hL2 => ?_) (fun x' H2 L2 hpo hL2 => ?_)
    · skip
      obtain ⟨r, rfl, ⟨⟨a1, b1, n1, st1, hG, hM, hst⟩, hF2⟩, hf0⟩ := j_form hY hst p1 hpo
      refine W.eq (g2 := F0 m 175 ls [.int r]) rfl ?_
      have hO := gx_keepO hO hF2 hY.2.2.2.1
      have hS := gx_SM hY hS hF2 hL2
      refine lv_istore hx hb d_gl_law_175 hl (by decide) rfl (fun ls hl => ?_)
      have hl : lv_has ls 8 [(6, .int r), (5, .int k0), (4, .int (nI (4 * k))), (3, .ref u), (2, .ref h1), (1, .ref h), (0, .ref b0)] := hl
      refine lv_aload_n hx hb d_gl_law_177 rfl (lv_at hl 4 rfl) ?_
      refine gx_virtP (c_gm_thrown l E h1 q1 b1 (nI n1) k0 st1) [] h1 [] hx hb (hml.trans hl.1.symm) C.2.2.1 (gMd_code (a := #[]) (C.wd _ tw_297)) (C.wd _ tw_294) (C.wd _ tw_295) (C.wd _ tw_296) ⟨by decide +kernel, by decide +kernel⟩ (by decide +kernel) (show (parseMethodDescriptor y_gm_thrown.desc).map (fun d => d.parameters.length) = some 0 by decide +kernel) (gm_recv hT hM) (fun U hU hW => ⟨rfl, hT.moved hW, by rw [hU]; exact hM⟩) (Nat.le_of_ble_eq_true rfl) ⟨by decide, by decide⟩ ⟨hc, hs⟩ d_gl_law_178 rfl ?_
      refine lv_iload hx hb d_gl_law_181 (lv_at hl 1 rfl) ?_
      refine lv_icmp_eq (tgt := 188) hx hb d_gl_law_183 rfl (fun _ => ?_) (fun hN => absurd rfl hN)
      refine lv_iload hx hb d_gl_law_188 (lv_at hl 1 rfl) ?_
      refine lv_if_ne (tgt := 205) hx hb d_gl_law_190 rfl (fun hk0 => ?_) (fun hk0 => ?_)
      · skip
        refine lv_goto (tgt := 492) hx hb d_gl_law_205 rfl ?_
        exact W.widen (k := cells + 2) (n := slots + 12) (by omega) (by omega) (K a1 b1 n1 k0 st1 f1 _ _ ls ⟨hG, hM, hO, hst⟩ hS (lv_sub hl [2, 3, 4, 5, 6] rfl))
      · skip
        refine lv_aload_n hx hb d_gl_law_193 rfl (lv_at hl 3 rfl) ?_
        refine lv_iconst (v := 0) hx hb d_gl_law_194 (by decide) ?_
        refine gl_lld C hO d_gl_law_195 ?_
        refine lv_iload hx hb d_gl_law_196 (lv_at hl 0 rfl) ?_
        refine lv_i2l hx hb d_gl_law_198 rfl ?_
        refine W.lcmp hx hb d_gl_law_199 ?_
        refine lv_if_eq (tgt := 205) hx hb d_gl_law_200 rfl (fun _ => ?_) (fun hN => absurd ((lg_cmp_eq _ _).mpr (hf0 hk0)) hN)
        refine lv_goto (tgt := 492) hx hb d_gl_law_205 rfl ?_
        exact W.widen (k := cells + 2) (n := slots + 12) (by omega) (by omega) (K a1 b1 n1 k0 st1 f1 _ _ ls ⟨hG, hM, hO, hst⟩ hS (lv_sub hl [2, 3, 4, 5, 6] rfl))
    · skip
      exact absurd hpo (by simp)
  · skip
    obtain ⟨k0, f1, h9, p1, hO, hF1⟩ := hpo
    cases h9
set_option maxHeartbeats 4000000 in
set_option maxRecDepth 100000 in
theorem l_aim (F : gLw p l s m c E b0 L xs h q h1 q1 u) (hk : 4 * k + 4 ≤ L) (hc : cells + 2 ≤ 601024) (hs : slots + 12 ≤ 7293034) (hI : gLi E h q h1 q1 u a b n th st f H) (hS : va_S (fun z => s.heap.size ≤ z) s.heap H locs) (hl : lv_has ls 8 [(4, .int (nI (4 * k))), (3, .ref u), (2, .ref h1), (1, .ref h), (0, .ref b0)])
    (K : ∀ (a' b' : gA) (n' : Nat) (th' st' : Int32) (f' : Nat → Int64) (H' : Heap) (locs' : List Loc) (ls' : Array Slot), gLi E h q h1 q1 u a' b' n' th' st' f' H' → va_S (fun z => s.heap.size ≤ z) s.heap H' locs' → lv_has ls' 8 [(4, .int (nI (4 * k))), (3, .ref u), (2, .ref h1), (1, .ref h), (0, .ref b0)] → W p l e room_1 s m #[Value.ref b0] below meth c H' locs' (cells + 2) (slots + 12) Q (F0 m 492 ls' [])) : W p l e room_1 s m #[Value.ref b0] below meth c H locs cells slots Q (F0 m 208 ls []) := by
  obtain ⟨C, hml, hX, hfl, hXs, hbl, hY, hL⟩ := F
  have hx := C.1
  have hb := C.2.1
  have hT := C.2.2.2
  obtain ⟨hG, hM, hO, hst⟩ := hI
  refine lv_aload_n hx hb d_gl_law_208 rfl (lv_at hl 3 rfl) ?_
  refine lv_aload_n hx hb d_gl_law_209 rfl (lv_at hl 4 rfl) ?_
  refine lv_iload hx hb d_gl_law_210 (lv_at hl 0 rfl) ?_
  refine lv_iconst (v := 1) hx hb d_gl_law_212 (by decide) ?_
  refine lv_iadd hx hb d_gl_law_213 ?_
  refine g_sld C hXs hbl hS hL (4 * k + 1) (nI_add (4 * k) 1) (by omega) d_gl_law_214 ?_
  refine lv_aload_n hx hb d_gl_law_215 rfl (lv_at hl 4 rfl) ?_
  refine lv_iload hx hb d_gl_law_216 (lv_at hl 0 rfl) ?_
  refine lv_iconst (v := 2) hx hb d_gl_law_218 (by decide) ?_
  refine lv_iadd hx hb d_gl_law_219 ?_
  refine g_sld C hXs hbl hS hL (4 * k + 2) (nI_add (4 * k) 2) (by omega) d_gl_law_220 ?_
  refine lv_aload_n hx hb d_gl_law_221 rfl (lv_at hl 4 rfl) ?_
  refine lv_iload hx hb d_gl_law_222 (lv_at hl 0 rfl) ?_
  refine lv_iconst (v := 3) hx hb d_gl_law_224 (by decide) ?_
  refine lv_iadd hx hb d_gl_law_225 ?_
  refine g_sld C hXs hbl hS hL (4 * k + 3) (nI_add (4 * k) 3) (by omega) d_gl_law_226 ?_
  refine gx_stat (c_gl_aim l hfl E h q a n st (xs (4 * k + 1)) (xs (4 * k + 2)) (xs (4 * k + 3)) hst.1.1 hY.1) [.ref h, .int (xs (4 * k + 1)), .int (xs (4 * k + 2)), .int (xs (4 * k + 3))] [] hx hb (hml.trans hl.1.symm) C.2.2.1 (gMd_with (a := #[]) (C.wd _ tw_168)) (C.wd _ tw_166) (C.wd _ tw_167) (C.wd _ tw_8) ⟨by decide +kernel, by decide +kernel⟩ (by decide +kernel) (show (parseMethodDescriptor y_gl_aim.desc).map (fun d => d.parameters.length) = some 4 by decide +kernel) (fun U hU hW => ⟨rfl, hT.moved hW, hX.moved hW.alike (by rw [hU]; exact gx_keepS hS), by rw [hU]; exact hG⟩) (Nat.le_of_ble_eq_true rfl) ⟨by decide, by decide⟩ ⟨hc, hs⟩ d_gl_law_227 rfl (fun v' H1 L1 hpo hL1 => ?_) (fun x' H1 L1 hpo hL1 => ?_)
  · skip
    obtain ⟨k0, h9, p1, hF1⟩ := hpo
    cases h9
    have hF1o := hF1.wk (B := gIO h q u) (fun z hz => Or.inl hz)
    have hO := gx_keepO hO hF1 hY.2.2.1
    have hS := gx_SG hY hS hF1 hL1
    have hM := gx_kM hY hM hF1o
    refine W.eq (g2 := F0 m 230 ls [.int k0]) rfl ?_
    refine lv_istore hx hb d_gl_law_230 hl (by decide) rfl (fun ls hl => ?_)
    have hl : lv_has ls 8 [(5, .int k0), (4, .int (nI (4 * k))), (3, .ref u), (2, .ref h1), (1, .ref h), (0, .ref b0)] := hl
    refine lv_aload_n hx hb d_gl_law_232 rfl (lv_at hl 3 rfl) ?_
    refine lv_aload_n hx hb d_gl_law_233 rfl (lv_at hl 5 rfl) ?_
    refine lv_iload hx hb d_gl_law_234 (lv_at hl 1 rfl) ?_
    refine lv_iconst (v := 1) hx hb d_gl_law_236 (by decide) ?_
    refine lv_iadd hx hb d_gl_law_237 ?_
    refine g_sld C hXs hbl hS hL (4 * k + 1) (nI_add (4 * k) 1) (by omega) d_gl_law_238 ?_
    refine lv_aload_n hx hb d_gl_law_239 rfl (lv_at hl 5 rfl) ?_
    refine lv_iload hx hb d_gl_law_240 (lv_at hl 1 rfl) ?_
    refine lv_iconst (v := 2) hx hb d_gl_law_242 (by decide) ?_
    refine lv_iadd hx hb d_gl_law_243 ?_
    refine g_sld C hXs hbl hS hL (4 * k + 2) (nI_add (4 * k) 2) (by omega) d_gl_law_244 ?_
    refine lv_aload_n hx hb d_gl_law_245 rfl (lv_at hl 5 rfl) ?_
    refine lv_iload hx hb d_gl_law_246 (lv_at hl 1 rfl) ?_
    refine lv_iconst (v := 3) hx hb d_gl_law_248 (by decide) ?_
    refine lv_iadd hx hb d_gl_law_249 ?_
    refine g_sld C hXs hbl hS hL (4 * k + 3) (nI_add (4 * k) 3) (by omega) d_gl_law_250 ?_
    refine gx_virt (c_gm_aim l E h1 q1 b n th st (xs (4 * k + 1)) (xs (4 * k + 2)) (xs (4 * k + 3)) hY.2.1 hst.1.1) [.int (xs (4 * k + 1)), .int (xs (4 * k + 2)), .int (xs (4 * k + 3))] h1 [] hx hb (hml.trans hl.1.symm) C.2.2.1 (gMd_code (a := #[]) (C.wd _ tw_309)) (C.wd _ tw_306) (C.wd _ tw_307) (C.wd _ tw_308) ⟨by decide +kernel, by decide +kernel⟩ (by decide +kernel) (show (parseMethodDescriptor y_gm_aim.desc).map (fun d => d.parameters.length) = some 3 by decide +kernel) (gm_recv hT hM) (fun U hU hW => ⟨rfl, hT.moved hW, by rw [hU]; exact hM⟩) (Nat.le_of_ble_eq_true rfl) ⟨by decide, by decide⟩ ⟨hc, hs⟩ d_gl_law_251 rfl (fun v' H2 L2 hpo hL2 => ?_) (fun x' H2 L2 hpo hL2 => ?_)
    · skip
      obtain ⟨rfl, ⟨a1, b1, n1, st1, hG, hM, hst⟩, hF2⟩ := j_aim hY hst p1 hpo
      refine W.eq (g2 := F0 m 254 ls []) rfl ?_
      have hO := gx_keepO hO hF2 hY.2.2.2.1
      have hS := gx_SM hY hS hF2 hL2
      refine lv_aload_n hx hb d_gl_law_254 rfl (lv_at hl 3 rfl) ?_
      refine gx_virtP (c_gm_thrown l E h1 q1 b1 (nI n1) k0 st1) [] h1 [] hx hb (hml.trans hl.1.symm) C.2.2.1 (gMd_code (a := #[]) (C.wd _ tw_297)) (C.wd _ tw_294) (C.wd _ tw_295) (C.wd _ tw_296) ⟨by decide +kernel, by decide +kernel⟩ (by decide +kernel) (show (parseMethodDescriptor y_gm_thrown.desc).map (fun d => d.parameters.length) = some 0 by decide +kernel) (gm_recv hT hM) (fun U hU hW => ⟨rfl, hT.moved hW, by rw [hU]; exact hM⟩) (Nat.le_of_ble_eq_true rfl) ⟨by decide, by decide⟩ ⟨hc, hs⟩ d_gl_law_255 rfl ?_
      refine lv_iload hx hb d_gl_law_258 (lv_at hl 0 rfl) ?_
      refine lv_icmp_eq (tgt := 265) hx hb d_gl_law_260 rfl (fun _ => ?_) (fun hN => absurd rfl hN)
      refine lv_goto (tgt := 492) hx hb d_gl_law_265 rfl ?_
      exact W.widen (k := cells + 2) (n := slots + 12) (by omega) (by omega) (K a1 b1 n1 k0 st1 f _ _ ls ⟨hG, hM, hO, hst⟩ hS (lv_sub hl [1, 2, 3, 4, 5] rfl))
    · skip
      exact absurd hpo (by simp)
  · skip
    obtain ⟨k0, h9, p1, hF1⟩ := hpo
    cases h9
set_option maxHeartbeats 4000000 in
set_option maxRecDepth 100000 in
theorem l_clear (F : gLw p l s m c E b0 L xs h q h1 q1 u) (hk : 4 * k + 4 ≤ L) (hc : cells + 2 ≤ 601024) (hs : slots + 12 ≤ 7293034) (hI : gLi E h q h1 q1 u a b n th st f H) (hS : va_S (fun z => s.heap.size ≤ z) s.heap H locs) (hl : lv_has ls 8 [(4, .int (nI (4 * k))), (3, .ref u), (2, .ref h1), (1, .ref h), (0, .ref b0)])
    (K : ∀ (a' b' : gA) (n' : Nat) (th' st' : Int32) (f' : Nat → Int64) (H' : Heap) (locs' : List Loc) (ls' : Array Slot), gLi E h q h1 q1 u a' b' n' th' st' f' H' → va_S (fun z => s.heap.size ≤ z) s.heap H' locs' → lv_has ls' 8 [(4, .int (nI (4 * k))), (3, .ref u), (2, .ref h1), (1, .ref h), (0, .ref b0)] → W p l e room_1 s m #[Value.ref b0] below meth c H' locs' (cells + 2) (slots + 12) Q (F0 m 492 ls' [])) : W p l e room_1 s m #[Value.ref b0] below meth c H locs cells slots Q (F0 m 268 ls []) := by
  obtain ⟨C, hml, hX, hfl, hXs, hbl, hY, hL⟩ := F
  have hx := C.1
  have hb := C.2.1
  have hT := C.2.2.2
  obtain ⟨hG, hM, hO, hst⟩ := hI
  refine lv_aload_n hx hb d_gl_law_268 rfl (lv_at hl 3 rfl) ?_
  refine gx_virt (c_gf_clear l E h q a (nI n) st hY.1) [] h [] hx hb (hml.trans hl.1.symm) C.2.2.1 (gMd_code (a := #[]) (C.wd _ tw_64)) (C.wd _ tw_61) (C.wd _ tw_62) (C.wd _ tw_63) ⟨by decide +kernel, by decide +kernel⟩ (by decide +kernel) (show (parseMethodDescriptor y_gf_clear.desc).map (fun d => d.parameters.length) = some 0 by decide +kernel) (gf_recv hT hG) (fun U hU hW => ⟨rfl, hT.moved hW, by rw [hU]; exact hG⟩) (Nat.le_of_ble_eq_true rfl) ⟨by decide, by decide⟩ ⟨by show cells + 0 ≤ 601024; omega, by show slots + 0 ≤ 7293034; omega⟩ d_gl_law_269 rfl (fun v' H1 L1 hpo hL1 => ?_) (fun x' H1 L1 hpo hL1 => ?_)
  · skip
    obtain ⟨h9, hG, hF1⟩ := hpo
    cases h9
    have hM := gx_kM hY hM (hF1.wk (B := gIO h q u) (fun z hz => Or.inl hz))
    have hO := gx_keepO hO hF1 hY.2.2.1
    have hS := gx_SG hY hS hF1 hL1
    refine W.eq (g2 := F0 m 272 ls [.int (nI n)]) rfl ?_
    refine lv_aload_n hx hb d_gl_law_272 rfl (lv_at hl 2 rfl) ?_
    refine gx_virt (c_gm_clear l E h1 q1 b (nI n) th st hY.2.1) [] h1 [.int (nI n)] hx hb (hml.trans hl.1.symm) C.2.2.1 (gMd_code (a := #[]) (C.wd _ tw_313)) (C.wd _ tw_310) (C.wd _ tw_311) (C.wd _ tw_312) ⟨by decide +kernel, by decide +kernel⟩ (by decide +kernel) (show (parseMethodDescriptor y_gm_clear.desc).map (fun d => d.parameters.length) = some 0 by decide +kernel) (gm_recv hT hM) (fun U hU hW => ⟨rfl, hT.moved hW, by rw [hU]; exact hM⟩) (Nat.le_of_ble_eq_true rfl) ⟨by decide, by decide⟩ ⟨by show cells + 0 + 0 ≤ 601024; omega, by show slots + 0 + 0 ≤ 7293034; omega⟩ d_gl_law_273 rfl (fun v' H2 L2 hpo hL2 => ?_) (fun x' H2 L2 hpo hL2 => ?_)
    · skip
      obtain ⟨h9, hM, hF2⟩ := hpo
      cases h9
      have hG := gx_kG hY hG hF2
      have hO := gx_keepO hO hF2 hY.2.2.2.1
      have hS := gx_SM hY hS hF2 hL2
      refine W.eq (g2 := F0 m 276 ls [.int (nI n), .int (nI n)]) rfl ?_
      refine lv_icmp_eq (tgt := 492) hx hb d_gl_law_276 rfl (fun _ => ?_) (fun hN => absurd rfl hN)
      have hst : gSt a b 0 0 := ⟨⟨Nat.zero_le _, fun l hl => absurd hl (Nat.not_lt_zero l)⟩, hst.2.1, fun z => absurd rfl z⟩
      exact W.widen (k := cells + 2) (n := slots + 12) (by omega) (by omega) (K a b 0 0 0 f _ _ ls ⟨hG, hM, hO, hst⟩ hS hl)
    · skip
      obtain ⟨h9, -⟩ := hpo
      cases h9
  · skip
    obtain ⟨h9, -⟩ := hpo
    cases h9
set_option maxHeartbeats 4000000 in
set_option maxRecDepth 100000 in
theorem l_settle (F : gLw p l s m c E b0 L xs h q h1 q1 u) (hk : 4 * k + 4 ≤ L) (hc : cells + 2 ≤ 601024) (hs : slots + 12 ≤ 7293034) (hI : gLi E h q h1 q1 u a b n th st f H) (hS : va_S (fun z => s.heap.size ≤ z) s.heap H locs) (hl : lv_has ls 8 [(4, .int (nI (4 * k))), (3, .ref u), (2, .ref h1), (1, .ref h), (0, .ref b0)])
    (K : ∀ (a' b' : gA) (n' : Nat) (th' st' : Int32) (f' : Nat → Int64) (H' : Heap) (locs' : List Loc) (ls' : Array Slot), gLi E h q h1 q1 u a' b' n' th' st' f' H' → va_S (fun z => s.heap.size ≤ z) s.heap H' locs' → lv_has ls' 8 [(4, .int (nI (4 * k))), (3, .ref u), (2, .ref h1), (1, .ref h), (0, .ref b0)] → W p l e room_1 s m #[Value.ref b0] below meth c H' locs' (cells + 2) (slots + 12) Q (F0 m 492 ls' [])) : W p l e room_1 s m #[Value.ref b0] below meth c H locs cells slots Q (F0 m 281 ls []) := by
  obtain ⟨C, hml, hX, hfl, hXs, hbl, hY, hL⟩ := F
  have hx := C.1
  have hb := C.2.1
  have hT := C.2.2.2
  obtain ⟨hG, hM, hO, hst⟩ := hI
  refine lv_aload_n hx hb d_gl_law_281 rfl (lv_at hl 3 rfl) ?_
  refine lv_aload_n hx hb d_gl_law_282 rfl (lv_at hl 1 rfl) ?_
  refine gx_stat (c_gl_settle l hfl E h q u f a n st hst.1 hY.1 hY.2.2.1) [.ref h, .ref u] [] hx hb (hml.trans hl.1.symm) C.2.2.1 (gMd_with (a := #[]) (C.wd _ tw_194)) (C.wd _ tw_192) (C.wd _ tw_193) (C.wd _ tw_8) ⟨by decide +kernel, by decide +kernel⟩ (by decide +kernel) (show (parseMethodDescriptor y_gl_settle.desc).map (fun d => d.parameters.length) = some 2 by decide +kernel) (fun U hU hW => ⟨rfl, hT.moved hW, hX.moved hW.alike (by rw [hU]; exact gx_keepS hS), by rw [hU]; exact hG, by rw [hU]; exact hO⟩) (Nat.le_of_ble_eq_true rfl) ⟨by decide, by decide⟩ ⟨hc, hs⟩ d_gl_law_283 rfl (fun v' H1 L1 hpo hL1 => ?_) (fun x' H1 L1 hpo hL1 => ?_)
  · skip
    obtain ⟨a', f1, hEq, hgs, hnw, h9, hf, hle, hG, hO, hF1⟩ := hpo
    cases h9
    have hF1o := hF1
    have hS := gx_SO hY hS hF1 hL1
    have hM := gx_kM hY hM hF1o
    refine W.eq (g2 := F0 m 286 ls [.int (nI (gset a n 361 (fun _ => 0) 0).1)]) rfl ?_
    refine lv_istore hx hb d_gl_law_286 hl (by decide) rfl (fun ls hl => ?_)
    have hl : lv_has ls 8 [(5, .int (nI (gset a n 361 (fun _ => 0) 0).1)), (4, .int (nI (4 * k))), (3, .ref u), (2, .ref h1), (1, .ref h), (0, .ref b0)] := hl
    refine lv_aload_n hx hb d_gl_law_288 rfl (lv_at hl 3 rfl) ?_
    refine gx_virt (c_gm_settle l E h1 q1 b n th st hY.2.1 (gWf_c hst.2.1 hst.1)) [] h1 [] hx hb (hml.trans hl.1.symm) C.2.2.1 (gMd_code (a := #[]) (C.wd _ tw_317)) (C.wd _ tw_314) (C.wd _ tw_315) (C.wd _ tw_316) ⟨by decide +kernel, by decide +kernel⟩ (by decide +kernel) (show (parseMethodDescriptor y_gm_settle.desc).map (fun d => d.parameters.length) = some 0 by decide +kernel) (gm_recv hT hM) (fun U hU hW => ⟨rfl, hT.moved hW, by rw [hU]; exact hM⟩) (Nat.le_of_ble_eq_true rfl) ⟨by decide, by decide⟩ ⟨hc, hs⟩ d_gl_law_289 rfl (fun v' H2 L2 hpo hL2 => ?_) (fun x' H2 L2 hpo hL2 => ?_)
    · skip
      obtain ⟨r, rfl, ⟨⟨a1, b1, n1, st1, hG, hM, hst⟩, hF2⟩, hf0⟩ := j_settle hY hst hEq hgs hnw hf hle hG hpo
      refine W.eq (g2 := F0 m 292 ls [.int r]) rfl ?_
      have hO := gx_keepO hO hF2 hY.2.2.2.1
      have hS := gx_SM hY hS hF2 hL2
      refine lv_istore hx hb d_gl_law_292 hl (by decide) rfl (fun ls hl => ?_)
      have hl : lv_has ls 8 [(6, .int r), (5, .int (nI (gset a n 361 (fun _ => 0) 0).1)), (4, .int (nI (4 * k))), (3, .ref u), (2, .ref h1), (1, .ref h), (0, .ref b0)] := hl
      refine lv_aload_n hx hb d_gl_law_294 rfl (lv_at hl 4 rfl) ?_
      refine gx_virtP (c_gm_thrown l E h1 q1 b1 (nI n1) (nI (gset a n 361 (fun _ => 0) 0).1) st1) [] h1 [] hx hb (hml.trans hl.1.symm) C.2.2.1 (gMd_code (a := #[]) (C.wd _ tw_297)) (C.wd _ tw_294) (C.wd _ tw_295) (C.wd _ tw_296) ⟨by decide +kernel, by decide +kernel⟩ (by decide +kernel) (show (parseMethodDescriptor y_gm_thrown.desc).map (fun d => d.parameters.length) = some 0 by decide +kernel) (gm_recv hT hM) (fun U hU hW => ⟨rfl, hT.moved hW, by rw [hU]; exact hM⟩) (Nat.le_of_ble_eq_true rfl) ⟨by decide, by decide⟩ ⟨hc, hs⟩ d_gl_law_295 rfl ?_
      refine lv_iload hx hb d_gl_law_298 (lv_at hl 1 rfl) ?_
      refine lv_icmp_eq (tgt := 305) hx hb d_gl_law_300 rfl (fun _ => ?_) (fun hN => absurd rfl hN)
      refine lv_iload hx hb d_gl_law_305 (lv_at hl 1 rfl) ?_
      refine lv_if_ne (tgt := 322) hx hb d_gl_law_307 rfl (fun hk0 => ?_) (fun hk0 => ?_)
      · skip
        refine lv_goto (tgt := 492) hx hb d_gl_law_322 rfl ?_
        exact W.widen (k := cells + 2) (n := slots + 12) (by omega) (by omega) (K a1 b1 n1 (nI (gset a n 361 (fun _ => 0) 0).1) st1 f1 _ _ ls ⟨hG, hM, hO, hst⟩ hS (lv_sub hl [2, 3, 4, 5, 6] rfl))
      · skip
        refine lv_aload_n hx hb d_gl_law_310 rfl (lv_at hl 3 rfl) ?_
        refine lv_iconst (v := 0) hx hb d_gl_law_311 (by decide) ?_
        refine gl_lld C hO d_gl_law_312 ?_
        refine lv_iload hx hb d_gl_law_313 (lv_at hl 0 rfl) ?_
        refine lv_i2l hx hb d_gl_law_315 rfl ?_
        refine W.lcmp hx hb d_gl_law_316 ?_
        refine lv_if_eq (tgt := 322) hx hb d_gl_law_317 rfl (fun _ => ?_) (fun hN => absurd ((lg_cmp_eq _ _).mpr (hf0 hk0)) hN)
        refine lv_goto (tgt := 492) hx hb d_gl_law_322 rfl ?_
        exact W.widen (k := cells + 2) (n := slots + 12) (by omega) (by omega) (K a1 b1 n1 (nI (gset a n 361 (fun _ => 0) 0).1) st1 f1 _ _ ls ⟨hG, hM, hO, hst⟩ hS (lv_sub hl [2, 3, 4, 5, 6] rfl))
    · skip
      exact absurd hpo (by simp [gPsetM])
  · skip
    obtain ⟨a', f1, hEq, hgs, hnw, h9, hf, hle, hG, hO, hF1⟩ := hpo
    cases h9
set_option maxHeartbeats 4000000 in
set_option maxRecDepth 100000 in
theorem l_told (F : gLw p l s m c E b0 L xs h q h1 q1 u) (hk : 4 * k + 4 ≤ L) (hc : cells + 2 ≤ 601024) (hs : slots + 12 ≤ 7293034) (hI : gLi E h q h1 q1 u a b n th st f H) (hS : va_S (fun z => s.heap.size ≤ z) s.heap H locs) (hl : lv_has ls 8 [(4, .int (nI (4 * k))), (3, .ref u), (2, .ref h1), (1, .ref h), (0, .ref b0)])
    (K : ∀ (a' b' : gA) (n' : Nat) (th' st' : Int32) (f' : Nat → Int64) (H' : Heap) (locs' : List Loc) (ls' : Array Slot), gLi E h q h1 q1 u a' b' n' th' st' f' H' → va_S (fun z => s.heap.size ≤ z) s.heap H' locs' → lv_has ls' 8 [(4, .int (nI (4 * k))), (3, .ref u), (2, .ref h1), (1, .ref h), (0, .ref b0)] → W p l e room_1 s m #[Value.ref b0] below meth c H' locs' (cells + 2) (slots + 12) Q (F0 m 492 ls' [])) : W p l e room_1 s m #[Value.ref b0] below meth c H locs cells slots Q (F0 m 325 ls []) := by
  obtain ⟨C, hml, hX, hfl, hXs, hbl, hY, hL⟩ := F
  have hx := C.1
  have hb := C.2.1
  have hT := C.2.2.2
  obtain ⟨hG, hM, hO, hst⟩ := hI
  obtain ⟨nw, hset⟩ := hst.nw
  have hs1 : ¬ st = 0 → gNw a nw n ∧ gS a nw n := fun z => ⟨(hset z).1, (hset z).2.1⟩
  have hwb := gWf_c hst.2.1 hst.1
  have hs2 : ¬ st = 0 → gNw b nw n ∧ gM b nw n := fun z => ⟨gNw_c hst.2.1 (hset z).1, (hset z).2.2⟩
  have hfm : ∀ i, i < n → ¬ st = 0 → gfitM b nw i = gfit b nw i := fun i hi z => gfit_eq hwb (hs2 z).1 hi
  refine lv_aload_n hx hb d_gl_law_325 rfl (lv_at hl 3 rfl) ?_
  refine lv_aload_n hx hb d_gl_law_326 rfl (lv_at hl 4 rfl) ?_
  refine lv_iload hx hb d_gl_law_327 (lv_at hl 0 rfl) ?_
  refine lv_iconst (v := 1) hx hb d_gl_law_329 (by decide) ?_
  refine lv_iadd hx hb d_gl_law_330 ?_
  refine g_sld C hXs hbl hS hL (4 * k + 1) (nI_add (4 * k) 1) (by omega) d_gl_law_331 ?_
  refine lv_aload_n hx hb d_gl_law_332 rfl (lv_at hl 4 rfl) ?_
  refine lv_iload hx hb d_gl_law_333 (lv_at hl 0 rfl) ?_
  refine lv_iconst (v := 2) hx hb d_gl_law_335 (by decide) ?_
  refine lv_iadd hx hb d_gl_law_336 ?_
  refine g_sld C hXs hbl hS hL (4 * k + 2) (nI_add (4 * k) 2) (by omega) d_gl_law_337 ?_
  refine lv_aload_n hx hb d_gl_law_338 rfl (lv_at hl 1 rfl) ?_
  refine gx_stat (c_gl_told l hfl E h q u f a nw n st (xs (4 * k + 1)) (xs (4 * k + 2)) hst.1 hs1 hY.1 hY.2.2.1) [.ref h, .int (xs (4 * k + 1)), .int (xs (4 * k + 2)), .ref u] [] hx hb (hml.trans hl.1.symm) C.2.2.1 (gMd_with (a := #[]) (C.wd _ tw_230)) (C.wd _ tw_228) (C.wd _ tw_229) (C.wd _ tw_8) ⟨by decide +kernel, by decide +kernel⟩ (by decide +kernel) (show (parseMethodDescriptor y_gl_told.desc).map (fun d => d.parameters.length) = some 4 by decide +kernel) (fun U hU hW => ⟨rfl, hT.moved hW, hX.moved hW.alike (by rw [hU]; exact gx_keepS hS), by rw [hU]; exact hG, by rw [hU]; exact hO⟩) (Nat.le_of_ble_eq_true rfl) ⟨by decide, by decide⟩ ⟨hc, hs⟩ d_gl_law_339 rfl (fun v' H1 L1 hpo hL1 => ?_) (fun x' H1 L1 hpo hL1 => ?_)
  · skip
    obtain ⟨k0, r0, f1, hrel, h9, hf, hG, hO, hF1⟩ := hpo
    cases h9
    have hF1o := hF1
    have hS := gx_SO hY hS hF1 hL1
    have hM := gx_kM hY hM hF1o
    refine W.eq (g2 := F0 m 342 ls [.int k0]) rfl ?_
    refine lv_istore hx hb d_gl_law_342 hl (by decide) rfl (fun ls hl => ?_)
    have hl : lv_has ls 8 [(5, .int k0), (4, .int (nI (4 * k))), (3, .ref u), (2, .ref h1), (1, .ref h), (0, .ref b0)] := hl
    refine lv_aload_n hx hb d_gl_law_344 rfl (lv_at hl 3 rfl) ?_
    refine lv_aload_n hx hb d_gl_law_345 rfl (lv_at hl 5 rfl) ?_
    refine lv_iload hx hb d_gl_law_346 (lv_at hl 1 rfl) ?_
    refine lv_iconst (v := 1) hx hb d_gl_law_348 (by decide) ?_
    refine lv_iadd hx hb d_gl_law_349 ?_
    refine g_sld C hXs hbl hS hL (4 * k + 1) (nI_add (4 * k) 1) (by omega) d_gl_law_350 ?_
    refine lv_aload_n hx hb d_gl_law_351 rfl (lv_at hl 5 rfl) ?_
    refine lv_iload hx hb d_gl_law_352 (lv_at hl 1 rfl) ?_
    refine lv_iconst (v := 2) hx hb d_gl_law_354 (by decide) ?_
    refine lv_iadd hx hb d_gl_law_355 ?_
    refine g_sld C hXs hbl hS hL (4 * k + 2) (nI_add (4 * k) 2) (by omega) d_gl_law_356 ?_
    refine gx_virt (c_gm_told l E h1 q1 b nw n th st (xs (4 * k + 1)) (xs (4 * k + 2)) hY.2.1 hwb hs2 hfm) [.int (xs (4 * k + 1)), .int (xs (4 * k + 2))] h1 [] hx hb (hml.trans hl.1.symm) C.2.2.1 (gMd_code (a := #[]) (C.wd _ tw_334)) (C.wd _ tw_331) (C.wd _ tw_332) (C.wd _ tw_333) ⟨by decide +kernel, by decide +kernel⟩ (by decide +kernel) (show (parseMethodDescriptor y_gm_told.desc).map (fun d => d.parameters.length) = some 2 by decide +kernel) (gm_recv hT hM) (fun U hU hW => ⟨rfl, hT.moved hW, by rw [hU]; exact hM⟩) (Nat.le_of_ble_eq_true rfl) ⟨by decide, by decide⟩ ⟨hc, hs⟩ d_gl_law_357 rfl (fun v' H2 L2 hpo hL2 => ?_) (fun x' H2 L2 hpo hL2 => ?_)
    · skip
      obtain ⟨r, rfl, ⟨⟨a1, b1, n1, st1, hG, hM, hst⟩, hF2⟩, hf0⟩ := j_told hY hst hrel hf hG hpo
      refine W.eq (g2 := F0 m 360 ls [.int r]) rfl ?_
      have hO := gx_keepO hO hF2 hY.2.2.2.1
      have hS := gx_SM hY hS hF2 hL2
      refine lv_istore hx hb d_gl_law_360 hl (by decide) rfl (fun ls hl => ?_)
      have hl : lv_has ls 8 [(6, .int r), (5, .int k0), (4, .int (nI (4 * k))), (3, .ref u), (2, .ref h1), (1, .ref h), (0, .ref b0)] := hl
      refine lv_aload_n hx hb d_gl_law_362 rfl (lv_at hl 4 rfl) ?_
      refine gx_virtP (c_gm_thrown l E h1 q1 b1 (nI n1) k0 st1) [] h1 [] hx hb (hml.trans hl.1.symm) C.2.2.1 (gMd_code (a := #[]) (C.wd _ tw_297)) (C.wd _ tw_294) (C.wd _ tw_295) (C.wd _ tw_296) ⟨by decide +kernel, by decide +kernel⟩ (by decide +kernel) (show (parseMethodDescriptor y_gm_thrown.desc).map (fun d => d.parameters.length) = some 0 by decide +kernel) (gm_recv hT hM) (fun U hU hW => ⟨rfl, hT.moved hW, by rw [hU]; exact hM⟩) (Nat.le_of_ble_eq_true rfl) ⟨by decide, by decide⟩ ⟨hc, hs⟩ d_gl_law_363 rfl ?_
      refine lv_iload hx hb d_gl_law_366 (lv_at hl 1 rfl) ?_
      refine lv_icmp_eq (tgt := 373) hx hb d_gl_law_368 rfl (fun _ => ?_) (fun hN => absurd rfl hN)
      refine lv_iload hx hb d_gl_law_373 (lv_at hl 1 rfl) ?_
      refine lv_if_ne (tgt := 390) hx hb d_gl_law_375 rfl (fun hk0 => ?_) (fun hk0 => ?_)
      · skip
        refine lv_goto (tgt := 492) hx hb d_gl_law_390 rfl ?_
        exact W.widen (k := cells + 2) (n := slots + 12) (by omega) (by omega) (K a1 b1 n1 k0 st1 f1 _ _ ls ⟨hG, hM, hO, hst⟩ hS (lv_sub hl [2, 3, 4, 5, 6] rfl))
      · skip
        refine lv_aload_n hx hb d_gl_law_378 rfl (lv_at hl 3 rfl) ?_
        refine lv_iconst (v := 0) hx hb d_gl_law_379 (by decide) ?_
        refine gl_lld C hO d_gl_law_380 ?_
        refine lv_iload hx hb d_gl_law_381 (lv_at hl 0 rfl) ?_
        refine lv_i2l hx hb d_gl_law_383 rfl ?_
        refine W.lcmp hx hb d_gl_law_384 ?_
        refine lv_if_eq (tgt := 390) hx hb d_gl_law_385 rfl (fun _ => ?_) (fun hN => absurd ((lg_cmp_eq _ _).mpr (hf0 hk0)) hN)
        refine lv_goto (tgt := 492) hx hb d_gl_law_390 rfl ?_
        exact W.widen (k := cells + 2) (n := slots + 12) (by omega) (by omega) (K a1 b1 n1 k0 st1 f1 _ _ ls ⟨hG, hM, hO, hst⟩ hS (lv_sub hl [2, 3, 4, 5, 6] rfl))
    · skip
      exact absurd hpo (by simp)
  · skip
    obtain ⟨k0, r0, f1, hrel, h9, hf, hG, hO, hF1⟩ := hpo
    cases h9
set_option maxHeartbeats 4000000 in
set_option maxRecDepth 100000 in
theorem l_value (F : gLw p l s m c E b0 L xs h q h1 q1 u) (hk : 4 * k + 4 ≤ L) (hc : cells + 2 ≤ 601024) (hs : slots + 12 ≤ 7293034) (hI : gLi E h q h1 q1 u a b n th st f H) (hS : va_S (fun z => s.heap.size ≤ z) s.heap H locs) (hl : lv_has ls 8 [(4, .int (nI (4 * k))), (3, .ref u), (2, .ref h1), (1, .ref h), (0, .ref b0)])
    (K : ∀ (a' b' : gA) (n' : Nat) (th' st' : Int32) (f' : Nat → Int64) (H' : Heap) (locs' : List Loc) (ls' : Array Slot), gLi E h q h1 q1 u a' b' n' th' st' f' H' → va_S (fun z => s.heap.size ≤ z) s.heap H' locs' → lv_has ls' 8 [(4, .int (nI (4 * k))), (3, .ref u), (2, .ref h1), (1, .ref h), (0, .ref b0)] → W p l e room_1 s m #[Value.ref b0] below meth c H' locs' (cells + 2) (slots + 12) Q (F0 m 492 ls' [])) : W p l e room_1 s m #[Value.ref b0] below meth c H locs cells slots Q (F0 m 393 ls []) := by
  obtain ⟨C, hml, hX, hfl, hXs, hbl, hY, hL⟩ := F
  have hx := C.1
  have hb := C.2.1
  have hT := C.2.2.2
  obtain ⟨hG, hM, hO, hst⟩ := hI
  obtain ⟨nw, hset⟩ := hst.nw
  have hs1 : ¬ st = 0 → gNw a nw n ∧ gS a nw n := fun z => ⟨(hset z).1, (hset z).2.1⟩
  have hwb := gWf_c hst.2.1 hst.1
  have hs2 : ¬ st = 0 → gNw b nw n ∧ gM b nw n := fun z => ⟨gNw_c hst.2.1 (hset z).1, (hset z).2.2⟩
  have hfm : ∀ i, i < n → ¬ st = 0 → gfitM b nw i = gfit b nw i := fun i hi z => gfit_eq hwb (hs2 z).1 hi
  refine lv_aload_n hx hb d_gl_law_393 rfl (lv_at hl 3 rfl) ?_
  refine lv_aload_n hx hb d_gl_law_394 rfl (lv_at hl 4 rfl) ?_
  refine lv_iload hx hb d_gl_law_395 (lv_at hl 0 rfl) ?_
  refine lv_iconst (v := 1) hx hb d_gl_law_397 (by decide) ?_
  refine lv_iadd hx hb d_gl_law_398 ?_
  refine g_sld C hXs hbl hS hL (4 * k + 1) (nI_add (4 * k) 1) (by omega) d_gl_law_399 ?_
  refine lv_aload_n hx hb d_gl_law_400 rfl (lv_at hl 1 rfl) ?_
  refine gx_stat (c_gl_value l hfl E h q u f a nw n st (xs (4 * k + 1)) hst.1 hs1 hY.1 hY.2.2.1) [.ref h, .int (xs (4 * k + 1)), .ref u] [] hx hb (hml.trans hl.1.symm) C.2.2.1 (gMd_with (a := #[]) (C.wd _ tw_241)) (C.wd _ tw_239) (C.wd _ tw_240) (C.wd _ tw_8) ⟨by decide +kernel, by decide +kernel⟩ (by decide +kernel) (show (parseMethodDescriptor y_gl_value.desc).map (fun d => d.parameters.length) = some 3 by decide +kernel) (fun U hU hW => ⟨rfl, hT.moved hW, hX.moved hW.alike (by rw [hU]; exact gx_keepS hS), by rw [hU]; exact hG, by rw [hU]; exact hO⟩) (Nat.le_of_ble_eq_true rfl) ⟨by decide, by decide⟩ ⟨hc, hs⟩ d_gl_law_401 rfl (fun v' H1 L1 hpo hL1 => ?_) (fun x' H1 L1 hpo hL1 => ?_)
  · skip
    obtain ⟨k0, r0, f1, hrel, h9, hf, hG, hO, hF1⟩ := hpo
    cases h9
    have hF1o := hF1
    have hS := gx_SO hY hS hF1 hL1
    have hM := gx_kM hY hM hF1o
    refine W.eq (g2 := F0 m 404 ls [.int k0]) rfl ?_
    refine lv_istore hx hb d_gl_law_404 hl (by decide) rfl (fun ls hl => ?_)
    have hl : lv_has ls 8 [(5, .int k0), (4, .int (nI (4 * k))), (3, .ref u), (2, .ref h1), (1, .ref h), (0, .ref b0)] := hl
    refine lv_aload_n hx hb d_gl_law_406 rfl (lv_at hl 3 rfl) ?_
    refine lv_aload_n hx hb d_gl_law_407 rfl (lv_at hl 5 rfl) ?_
    refine lv_iload hx hb d_gl_law_408 (lv_at hl 1 rfl) ?_
    refine lv_iconst (v := 1) hx hb d_gl_law_410 (by decide) ?_
    refine lv_iadd hx hb d_gl_law_411 ?_
    refine g_sld C hXs hbl hS hL (4 * k + 1) (nI_add (4 * k) 1) (by omega) d_gl_law_412 ?_
    refine gx_virt (c_gm_value l E h1 q1 b nw n th st (xs (4 * k + 1)) hY.2.1 hwb hs2) [.int (xs (4 * k + 1))] h1 [] hx hb (hml.trans hl.1.symm) C.2.2.1 (gMd_code (a := #[]) (C.wd _ tw_338)) (C.wd _ tw_335) (C.wd _ tw_336) (C.wd _ tw_337) ⟨by decide +kernel, by decide +kernel⟩ (by decide +kernel) (show (parseMethodDescriptor y_gm_value.desc).map (fun d => d.parameters.length) = some 1 by decide +kernel) (gm_recv hT hM) (fun U hU hW => ⟨rfl, hT.moved hW, by rw [hU]; exact hM⟩) (Nat.le_of_ble_eq_true rfl) ⟨by decide, by decide⟩ ⟨hc, hs⟩ d_gl_law_413 rfl (fun v' H2 L2 hpo hL2 => ?_) (fun x' H2 L2 hpo hL2 => ?_)
    · skip
      obtain ⟨r, rfl, ⟨⟨a1, b1, n1, st1, hG, hM, hst⟩, hF2⟩, hf0⟩ := j_value hY hst hrel hf hG hpo
      refine W.eq (g2 := F0 m 416 ls [.long r]) rfl ?_
      have hO := gx_keepO hO hF2 hY.2.2.2.1
      have hS := gx_SM hY hS hF2 hL2
      refine lv_lstore hx hb d_gl_law_416 hl (by decide) rfl (fun ls hl => ?_)
      have hl : lv_has ls 8 [(6, .long r), (5, .int k0), (4, .int (nI (4 * k))), (3, .ref u), (2, .ref h1), (1, .ref h), (0, .ref b0)] := hl
      refine lv_aload_n hx hb d_gl_law_418 rfl (lv_at hl 4 rfl) ?_
      refine gx_virtP (c_gm_thrown l E h1 q1 b1 (nI n1) k0 st1) [] h1 [] hx hb (hml.trans hl.1.symm) C.2.2.1 (gMd_code (a := #[]) (C.wd _ tw_297)) (C.wd _ tw_294) (C.wd _ tw_295) (C.wd _ tw_296) ⟨by decide +kernel, by decide +kernel⟩ (by decide +kernel) (show (parseMethodDescriptor y_gm_thrown.desc).map (fun d => d.parameters.length) = some 0 by decide +kernel) (gm_recv hT hM) (fun U hU hW => ⟨rfl, hT.moved hW, by rw [hU]; exact hM⟩) (Nat.le_of_ble_eq_true rfl) ⟨by decide, by decide⟩ ⟨hc, hs⟩ d_gl_law_419 rfl ?_
      refine lv_iload hx hb d_gl_law_422 (lv_at hl 1 rfl) ?_
      refine lv_icmp_eq (tgt := 429) hx hb d_gl_law_424 rfl (fun _ => ?_) (fun hN => absurd rfl hN)
      refine lv_iload hx hb d_gl_law_429 (lv_at hl 1 rfl) ?_
      refine lv_if_ne (tgt := 445) hx hb d_gl_law_431 rfl (fun hk0 => ?_) (fun hk0 => ?_)
      · skip
        refine lv_goto (tgt := 492) hx hb d_gl_law_445 rfl ?_
        exact W.widen (k := cells + 2) (n := slots + 12) (by omega) (by omega) (K a1 b1 n1 k0 st1 f1 _ _ ls ⟨hG, hM, hO, hst⟩ hS (lv_sub hl [2, 3, 4, 5, 6] rfl))
      · skip
        refine lv_aload_n hx hb d_gl_law_434 rfl (lv_at hl 3 rfl) ?_
        refine lv_iconst (v := 0) hx hb d_gl_law_435 (by decide) ?_
        refine gl_lld C hO d_gl_law_436 ?_
        refine lv_lload hx hb d_gl_law_437 (lv_at hl 0 rfl) ?_
        refine W.lcmp hx hb d_gl_law_439 ?_
        refine lv_if_eq (tgt := 445) hx hb d_gl_law_440 rfl (fun _ => ?_) (fun hN => absurd ((lg_cmp_eq _ _).mpr (hf0 hk0)) hN)
        refine lv_goto (tgt := 492) hx hb d_gl_law_445 rfl ?_
        exact W.widen (k := cells + 2) (n := slots + 12) (by omega) (by omega) (K a1 b1 n1 k0 st1 f1 _ _ ls ⟨hG, hM, hO, hst⟩ hS (lv_sub hl [2, 3, 4, 5, 6] rfl))
    · skip
      exact absurd hpo (by simp)
  · skip
    obtain ⟨k0, r0, f1, hrel, h9, hf, hG, hO, hF1⟩ := hpo
    cases h9
set_option maxHeartbeats 4000000 in
set_option maxRecDepth 100000 in
theorem l_wrong (F : gLw p l s m c E b0 L xs h q h1 q1 u) (hk : 4 * k + 4 ≤ L) (hc : cells + 2 ≤ 601024) (hs : slots + 12 ≤ 7293034) (hI : gLi E h q h1 q1 u a b n th st f H) (hS : va_S (fun z => s.heap.size ≤ z) s.heap H locs) (hl : lv_has ls 8 [(4, .int (nI (4 * k))), (3, .ref u), (2, .ref h1), (1, .ref h), (0, .ref b0)])
    (K : ∀ (a' b' : gA) (n' : Nat) (th' st' : Int32) (f' : Nat → Int64) (H' : Heap) (locs' : List Loc) (ls' : Array Slot), gLi E h q h1 q1 u a' b' n' th' st' f' H' → va_S (fun z => s.heap.size ≤ z) s.heap H' locs' → lv_has ls' 8 [(4, .int (nI (4 * k))), (3, .ref u), (2, .ref h1), (1, .ref h), (0, .ref b0)] → W p l e room_1 s m #[Value.ref b0] below meth c H' locs' (cells + 2) (slots + 12) Q (F0 m 492 ls' [])) : W p l e room_1 s m #[Value.ref b0] below meth c H locs cells slots Q (F0 m 448 ls []) := by
  obtain ⟨C, hml, hX, hfl, hXs, hbl, hY, hL⟩ := F
  have hx := C.1
  have hb := C.2.1
  have hT := C.2.2.2
  obtain ⟨hG, hM, hO, hst⟩ := hI
  obtain ⟨nw, hset⟩ := hst.nw
  have hs1 : ¬ st = 0 → gNw a nw n ∧ gS a nw n := fun z => ⟨(hset z).1, (hset z).2.1⟩
  have hwb := gWf_c hst.2.1 hst.1
  have hs2 : ¬ st = 0 → gNw b nw n ∧ gM b nw n := fun z => ⟨gNw_c hst.2.1 (hset z).1, (hset z).2.2⟩
  have hfm : ∀ i, i < n → ¬ st = 0 → gfitM b nw i = gfit b nw i := fun i hi z => gfit_eq hwb (hs2 z).1 hi
  refine lv_aload_n hx hb d_gl_law_448 rfl (lv_at hl 3 rfl) ?_
  refine lv_aload_n hx hb d_gl_law_449 rfl (lv_at hl 1 rfl) ?_
  refine gx_stat (c_gl_wrong l hfl E h q u f a nw n st hst.1 hs1 hY.1 hY.2.2.1) [.ref h, .ref u] [] hx hb (hml.trans hl.1.symm) C.2.2.1 (gMd_with (a := #[]) (C.wd _ tw_248)) (C.wd _ tw_246) (C.wd _ tw_247) (C.wd _ tw_8) ⟨by decide +kernel, by decide +kernel⟩ (by decide +kernel) (show (parseMethodDescriptor y_gl_wrong.desc).map (fun d => d.parameters.length) = some 2 by decide +kernel) (fun U hU hW => ⟨rfl, hT.moved hW, hX.moved hW.alike (by rw [hU]; exact gx_keepS hS), by rw [hU]; exact hG, by rw [hU]; exact hO⟩) (Nat.le_of_ble_eq_true rfl) ⟨by decide, by decide⟩ ⟨hc, hs⟩ d_gl_law_450 rfl (fun v' H1 L1 hpo hL1 => ?_) (fun x' H1 L1 hpo hL1 => ?_)
  · skip
    obtain ⟨k0, f1, h9, p1, hG, hO, hF1⟩ := hpo
    cases h9
    have hF1o := hF1
    have hS := gx_SO hY hS hF1 hL1
    have hM := gx_kM hY hM hF1o
    refine W.eq (g2 := F0 m 453 ls [.int k0]) rfl ?_
    refine lv_istore hx hb d_gl_law_453 hl (by decide) rfl (fun ls hl => ?_)
    have hl : lv_has ls 8 [(5, .int k0), (4, .int (nI (4 * k))), (3, .ref u), (2, .ref h1), (1, .ref h), (0, .ref b0)] := hl
    refine lv_aload_n hx hb d_gl_law_455 rfl (lv_at hl 3 rfl) ?_
    refine gx_virt (c_gm_wrong l E h1 q1 b nw n th st hY.2.1 hwb hs2 hfm) [] h1 [] hx hb (hml.trans hl.1.symm) C.2.2.1 (gMd_code (a := #[]) (C.wd _ tw_342)) (C.wd _ tw_339) (C.wd _ tw_340) (C.wd _ tw_341) ⟨by decide +kernel, by decide +kernel⟩ (by decide +kernel) (show (parseMethodDescriptor y_gm_wrong.desc).map (fun d => d.parameters.length) = some 0 by decide +kernel) (gm_recv hT hM) (fun U hU hW => ⟨rfl, hT.moved hW, by rw [hU]; exact hM⟩) (Nat.le_of_ble_eq_true rfl) ⟨by decide, by decide⟩ ⟨hc, hs⟩ d_gl_law_456 rfl (fun v' H2 L2 hpo hL2 => ?_) (fun x' H2 L2 hpo hL2 => ?_)
    · skip
      obtain ⟨r, rfl, ⟨⟨a1, b1, n1, st1, hG, hM, hst⟩, hF2⟩, hf0⟩ := j_wrong hY hst p1 hG hpo
      refine W.eq (g2 := F0 m 459 ls [.int r]) rfl ?_
      have hO := gx_keepO hO hF2 hY.2.2.2.1
      have hS := gx_SM hY hS hF2 hL2
      refine lv_istore hx hb d_gl_law_459 hl (by decide) rfl (fun ls hl => ?_)
      have hl : lv_has ls 8 [(6, .int r), (5, .int k0), (4, .int (nI (4 * k))), (3, .ref u), (2, .ref h1), (1, .ref h), (0, .ref b0)] := hl
      refine lv_aload_n hx hb d_gl_law_461 rfl (lv_at hl 4 rfl) ?_
      refine gx_virtP (c_gm_thrown l E h1 q1 b1 (nI n1) k0 st1) [] h1 [] hx hb (hml.trans hl.1.symm) C.2.2.1 (gMd_code (a := #[]) (C.wd _ tw_297)) (C.wd _ tw_294) (C.wd _ tw_295) (C.wd _ tw_296) ⟨by decide +kernel, by decide +kernel⟩ (by decide +kernel) (show (parseMethodDescriptor y_gm_thrown.desc).map (fun d => d.parameters.length) = some 0 by decide +kernel) (gm_recv hT hM) (fun U hU hW => ⟨rfl, hT.moved hW, by rw [hU]; exact hM⟩) (Nat.le_of_ble_eq_true rfl) ⟨by decide, by decide⟩ ⟨hc, hs⟩ d_gl_law_462 rfl ?_
      refine lv_iload hx hb d_gl_law_465 (lv_at hl 1 rfl) ?_
      refine lv_icmp_eq (tgt := 472) hx hb d_gl_law_467 rfl (fun _ => ?_) (fun hN => absurd rfl hN)
      refine lv_iload hx hb d_gl_law_472 (lv_at hl 1 rfl) ?_
      refine lv_if_ne (tgt := 489) hx hb d_gl_law_474 rfl (fun hk0 => ?_) (fun hk0 => ?_)
      · skip
        refine lv_goto (tgt := 492) hx hb d_gl_law_489 rfl ?_
        exact W.widen (k := cells + 2) (n := slots + 12) (by omega) (by omega) (K a1 b1 n1 k0 st1 f1 _ _ ls ⟨hG, hM, hO, hst⟩ hS (lv_sub hl [2, 3, 4, 5, 6] rfl))
      · skip
        refine lv_aload_n hx hb d_gl_law_477 rfl (lv_at hl 3 rfl) ?_
        refine lv_iconst (v := 0) hx hb d_gl_law_478 (by decide) ?_
        refine gl_lld C hO d_gl_law_479 ?_
        refine lv_iload hx hb d_gl_law_480 (lv_at hl 0 rfl) ?_
        refine lv_i2l hx hb d_gl_law_482 rfl ?_
        refine W.lcmp hx hb d_gl_law_483 ?_
        refine lv_if_eq (tgt := 489) hx hb d_gl_law_484 rfl (fun _ => ?_) (fun hN => absurd ((lg_cmp_eq _ _).mpr (hf0 hk0)) hN)
        refine lv_goto (tgt := 492) hx hb d_gl_law_489 rfl ?_
        exact W.widen (k := cells + 2) (n := slots + 12) (by omega) (by omega) (K a1 b1 n1 k0 st1 f1 _ _ ls ⟨hG, hM, hO, hst⟩ hS (lv_sub hl [2, 3, 4, 5, 6] rfl))
    · skip
      exact absurd hpo (by simp)
  · skip
    obtain ⟨k0, f1, h9, p1, hG, hO, hF1⟩ := hpo
    cases h9
set_option maxHeartbeats 4000000 in
set_option maxRecDepth 100000 in
theorem l_loop (F : gLw p l s m c E b0 L xs h q h1 q1 u) (Kx : ∀ (H : Heap) (locs : List Loc) (ls : Array Slot) (cl sl : Nat), cl ≤ 601024 → sl ≤ 7293034 → va_S (fun z => s.heap.size ≤ z) s.heap H locs → W p l e room_1 s m #[Value.ref b0] below meth c H locs cl sl Q (F0 m 498 ls [])) :
    ∀ (d k : Nat) (a b : gA) (n : Nat) (th st : Int32) (f : Nat → Int64) (H : Heap) (locs : List Loc) (ls : Array Slot), k + d = 513 → gLi E h q h1 q1 u a b n th st f H → va_S (fun z => s.heap.size ≤ z) s.heap H locs → lv_has ls 8 [(4, .int (nI (4 * k))), (3, .ref u), (2, .ref h1), (1, .ref h), (0, .ref b0)] → W p l e room_1 s m #[Value.ref b0] below meth c H locs (20 + 2 * k) (4224 + 12 * k) Q (F0 m 23 ls []) := by
  intro d
  induction d with
  | zero =>
    intro k a b n th st f H locs ls hd hI hS hl
    have F' := F
    obtain ⟨C, hml, hX, hfl, hXs, hbl, hY, hL⟩ := F'
    have hx := C.1
    have hb := C.2.1
    refine lv_iload hx hb d_gl_law_23 (lv_at hl 0 rfl) ?_
    refine lv_aload_n hx hb d_gl_law_25 rfl (lv_at hl 4 rfl) ?_
    refine va_slen hx hb hXs hbl (Nat.not_le.mpr hbl) hS d_gl_law_26 ?_
    refine lv_iconst (v := 4) hx hb d_gl_law_27 (by decide) ?_
    refine lv_isub hx hb d_gl_law_28 ?_
    refine lv_icmp_gt (tgt := 498) hx hb d_gl_law_29 rfl (fun hgt => ?_) (fun hgt => ?_)
    · skip
      exact Kx H locs ls _ _ (by omega) (by omega) hS
    · skip
      have hlt : 4 * k + 4 ≤ L := by
        have e1 := pk_sub_toInt (a := L) (b := 4) (by omega) (by decide)
        have e2 := Int32.not_lt.mp hgt
        rw [Int32.le_iff_toInt_le, nI_toInt (by omega)] at e2
        have e3 : (Int32.ofNat L - 4 : Int32).toInt = (L : Int) - 4 := e1
        rw [e3] at e2
        omega
      omega
  | succ d ih =>
    intro k a b n th st f H locs ls hd hI hS hl
    have F' := F
    obtain ⟨C, hml, hX, hfl, hXs, hbl, hY, hL⟩ := F'
    have hx := C.1
    have hb := C.2.1
    refine lv_iload hx hb d_gl_law_23 (lv_at hl 0 rfl) ?_
    refine lv_aload_n hx hb d_gl_law_25 rfl (lv_at hl 4 rfl) ?_
    refine va_slen hx hb hXs hbl (Nat.not_le.mpr hbl) hS d_gl_law_26 ?_
    refine lv_iconst (v := 4) hx hb d_gl_law_27 (by decide) ?_
    refine lv_isub hx hb d_gl_law_28 ?_
    refine lv_icmp_gt (tgt := 498) hx hb d_gl_law_29 rfl (fun hgt => ?_) (fun hgt => ?_)
    · skip
      exact Kx H locs ls _ _ (by omega) (by omega) hS
    · skip
      have hlt : 4 * k + 4 ≤ L := by
        have e1 := pk_sub_toInt (a := L) (b := 4) (by omega) (by decide)
        have e2 := Int32.not_lt.mp hgt
        rw [Int32.le_iff_toInt_le, nI_toInt (by omega)] at e2
        have e3 : (Int32.ofNat L - 4 : Int32).toInt = (L : Int) - 4 := e1
        rw [e3] at e2
        omega
      have hk := hlt
      refine lv_aload_n hx hb d_gl_law_32 rfl (lv_at hl 4 rfl) ?_
      refine lv_iload hx hb d_gl_law_33 (lv_at hl 0 rfl) ?_
      refine g_sld C hXs hbl hS hL (4 * k) rfl (by omega) d_gl_law_35 ?_
      refine lv_bipush (v := 7) hx hb d_gl_law_36 (by decide) ?_
      refine lv_iand hx hb d_gl_law_38 ?_
      have K : ∀ (a' b' : gA) (n' : Nat) (th' st' : Int32) (f' : Nat → Int64) (H' : Heap) (locs' : List Loc) (ls' : Array Slot), gLi E h q h1 q1 u a' b' n' th' st' f' H' → va_S (fun z => s.heap.size ≤ z) s.heap H' locs' → lv_has ls' 8 [(4, .int (nI (4 * k))), (3, .ref u), (2, .ref h1), (1, .ref h), (0, .ref b0)] → W p l e room_1 s m #[Value.ref b0] below meth c H' locs' (20 + 2 * k + 2) (4224 + 12 * k + 12) Q (F0 m 492 ls' []) := by
        intro a' b' n' th' st' f' H' locs' ls hI hS hl
        refine lv_iinc (k := 0) (v := (nI (4 * (k + 1)))) hx hb d_gl_law_492 hl rfl (nI_add (4 * k) 4) (by decide) rfl (fun ls hl => ?_)
        have hl : lv_has ls 8 [(4, .int (nI (4 * (k + 1)))), (3, .ref u), (2, .ref h1), (1, .ref h), (0, .ref b0)] := hl
        refine lv_goto (tgt := 23) hx hb d_gl_law_495 rfl ?_
        exact ih (k + 1) a' b' n' th' st' f' H' locs' ls (by omega) hI hS hl
      have hc : 20 + 2 * k + 2 ≤ 601024 := by omega
      have hs : 4224 + 12 * k + 12 ≤ 7293034 := by omega
      obtain ⟨j, hj, hje⟩ := pk_andE (xs (4 * k)) (m := 7) 3 (by decide)
      rw [hje]
      match j, hj with
      | 0, _ => exact lv_tableIn (off := 45) (tgt := 84) hx hb d_gl_law_39 (by decide) (by decide) rfl rfl (l_line F hk hc hs hI hS hl K)
      | 1, _ => exact lv_tableIn (off := 89) (tgt := 128) hx hb d_gl_law_39 (by decide) (by decide) rfl rfl (l_form F hk hc hs hI hS hl K)
      | 2, _ => exact lv_tableIn (off := 169) (tgt := 208) hx hb d_gl_law_39 (by decide) (by decide) rfl rfl (l_aim F hk hc hs hI hS hl K)
      | 3, _ => exact lv_tableIn (off := 229) (tgt := 268) hx hb d_gl_law_39 (by decide) (by decide) rfl rfl (l_clear F hk hc hs hI hS hl K)
      | 4, _ => exact lv_tableIn (off := 242) (tgt := 281) hx hb d_gl_law_39 (by decide) (by decide) rfl rfl (l_settle F hk hc hs hI hS hl K)
      | 5, _ => exact lv_tableIn (off := 286) (tgt := 325) hx hb d_gl_law_39 (by decide) (by decide) rfl rfl (l_told F hk hc hs hI hS hl K)
      | 6, _ => exact lv_tableIn (off := 354) (tgt := 393) hx hb d_gl_law_39 (by decide) (by decide) rfl rfl (l_value F hk hc hs hI hS hl K)
      | 7, _ => exact lv_tableIn (off := 409) (tgt := 448) hx hb d_gl_law_39 (by decide) (by decide) rfl rfl (l_wrong F hk hc hs hI hS hl K)
      | j + 8, hj => exact absurd hj (by omega)
end GL
end
section
/-! THE CLAIM OUT OF ONE WALK OF THE LAW'S BODY. Your part is whole_start (and what it stands on); all else here is the same for every law, but numbers. -/
def R_law : String := "GrowFormsLaw"
def lw_P (b : Addr) (xs : List Int32) (args : Array Value) (s : State) : Prop := args = #[.ref b] ∧ s.IntsAt b xs ∧ xs.length ≤ 2048 ∧ (Jvm.Cond.and given_1 narrow_1).before args s = true
def lw_Q (_ : Array Value) (s : State) (o : Outcome) (t : State) : Prop := o = .returned (some (.int 1)) ∧ Framed s o t [] 601024 7293034
def lw_Z (below : List Frame) (a : Array Value) (s : State) : State → Prop := fun t => ∃ o, t.status = .running ∧ Ended t below o ∧ lw_Q a s o t
/-- the law's own end, with 1 on the stack, nothing written that was there before, its room as the claim has it -/
theorem lw_ret {p : Program} {l : Launch} {e : Env} {s : State} {m : MethodId} {below : List Frame} {meth : Method} {c : Code} {b : Nat} (hx : p.tables.exec = Jvm.exec) (hb : c.code = code) (hr : meth.sig.returnType = ret) (hlocks : meth.locks = false) {pc : Nat} {H : Heap} {ls : Array Slot} (hdg : decode code pc = .ok (.ireturn, 1)) : W p l e room_1 s m #[Value.ref b] below meth c H [] 601024 7293034 (lw_Z below #[Value.ref b] s) (F0 m pc ls [.int 1]) := by
  intro T hT X
  obtain ⟨fs, hret, hrun, hended, hW, hframe⟩ := X.leave (v := some (.int 1)) (hlocks := hlocks) (fun h => by rw [hr] at h; cases h)
  have hmeth' : T.vm.method? m = some meth := X.method'
  refine ⟨T.setFrames fs, ?_, .returned (some (.int 1)), hrun, hended, rfl, ⟨_, rfl⟩, hW, hframe⟩
  jvm_step X.here [X.here.top, hx, hb, hdg, hmeth', hr, ret, narrow_b1]
  (try refine ⟨rfl, ?_⟩); (try refine ⟨rfl, ?_⟩)
  first | (intro acts; rw [hret _ acts rfl rfl rfl]) | rw [hret _ _ rfl rfl rfl]
  exact Steps.refl _
/-- what holds at the law's entry: the machine, the code, the tables' words (any of lw_tbl by 'hts w (by decide +kernel)'), the script of L ints xs at the cell b, what the Statement gives of the start (any of its parts by flat_of_before) -/
def lw_At (p : Program) (s : State) (m : MethodId) (meth : Method) (c : Code) (b L : Nat) (xs : Nat → Int32) : Prop :=
  p.tables.exec = Jvm.exec ∧ c.code = code ∧ meth.sig.returnType = ret ∧ c.maxLocals = 8 ∧ s.vm.findClass R_law = some m.cls ∧ (∀ w ∈ lw_tbl, w.before #[Value.ref b] s = true) ∧ va_X b L xs s s.heap ∧ b < s.heap.size ∧ meth.locks = false ∧ (Jvm.Cond.and given_1 narrow_1).before #[Value.ref b] s = true
theorem gx_last {A : Nat → Prop} {ws : va_W} {x : Nat × va_E} (hD : va_D A (ws ++ [x])) {k : Nat} {y : Nat × va_E} (hk : ws[k]? = some y) : y.1 ≠ x.1 := fun e => by
  have hlt := (List.getElem?_eq_some_iff.mp hk).1
  have h1 := hD.1 k ws.length y x (by rw [List.getElem?_append_left hlt]; exact hk) (by simp) e
  omega
theorem gIG_at {h : Nat} {q : Nat → Nat} {cI : ClassId} {a : gA} {ln st : Int32} {z : Nat} (hz : gIG h q z) : ∃ (k : Nat) (y : Nat × va_E), (gW h q cI a ln st)[k]? = some y ∧ y.1 = z := by
  rcases hz with rfl | ⟨k, hk, rfl⟩
  · exact ⟨0, _, rfl, rfl⟩
  · exact ⟨k + 1, _, gW_at h q cI a ln st k hk, rfl⟩
theorem gIM_at {h : Nat} {q : Nat → Nat} {cI cZ : ClassId} {b : gA} {ln th st : Int32} {z : Nat} (hz : gIM h q z) : ∃ (k : Nat) (y : Nat × va_E), (mW h q cI cZ b ln th st)[k]? = some y ∧ y.1 = z := by
  rcases hz with rfl | ⟨k, hk, rfl⟩
  · exact ⟨0, _, rfl, rfl⟩
  · by_cases h7 : k < 7
    · exact ⟨k + 1, _, mW_at h q cI cZ b ln th st k h7, rfl⟩
    · have h8 : k = 7 := by omega
      subst h8
      exact ⟨8, _, rfl, rfl⟩
theorem gx_aL {ws ws2 : va_W} {k : Nat} {y : Nat × va_E} (hk : ws[k]? = some y) : (ws ++ ws2)[k]? = some y := by
  rw [List.getElem?_append_left (List.getElem?_eq_some_iff.mp hk).1]; exact hk
theorem gx_aR {ws ws2 : va_W} {k : Nat} {y : Nat × va_E} (hk : ws2[k]? = some y) : (ws ++ ws2)[ws.length + k]? = some y := by
  rw [List.getElem?_append_right (Nat.le_add_right _ _), Nat.add_sub_cancel_left]; exact hk
theorem gx_arr {s : State} {ty : FieldType} {args : Array Value} (h : (Cond.arrayClass ty).before args s = true) : ∃ cA : ClassId, ArrOfT s cA ty ∧ s.vm.findClass ("[" ++ ty.toString) = some cA := by
  obtain ⟨cA, kA, comp, h1, h2, h3⟩ := Cond.arrayClass_spec h
  exact ⟨cA, fun n z => ⟨fun k h => (by cases h), kA, h2, comp, h3⟩, h1⟩
/-- what the tables give at the entry -/
theorem gx_entryT {s : State} {b : Nat} (hts : ∀ w ∈ lw_tbl, w.before #[Value.ref b] s = true) : ∃ E : gE, gT E s := by
  have hw : ∀ w ∈ gwl, ∀ a : Array Value, w.before a s = true := fun w hw a => word_at (args := #[Value.ref b]) (State.WarmedH.refl s) (gw_good hw) (hts w (List.mem_filter.mp hw).1)
  have hw0 : ∀ w ∈ gwl, w.before #[] s = true := fun w h => hw w h #[]
  obtain ⟨c0, i0, k0⟩ := u_known (T := F_GF) (N := 11) hw0 u_GF_in (hw0 _ tw_19)
  obtain ⟨c1, i1, k1⟩ := u_known (T := F_GM) (N := 11) hw0 u_GM_in (hw0 _ tw_254)
  obtain ⟨c2, i2, k2⟩ := u_known (C := gs_I) (T := F_00) (N := 0) hw0 (by decide +kernel) (hw0 _ tw_74)
  obtain ⟨c3, i3, k3⟩ := u_known (C := gs_A) (T := F_00) (N := 0) hw0 (by decide +kernel) (hw0 _ tw_152)
  obtain ⟨c4, i4, k4⟩ := u_known (C := gs_O) (T := F_00) (N := 0) hw0 (by decide +kernel) (hw0 _ tw_178)
  obtain ⟨c5, i5, k5⟩ := u_known (C := gs_U) (T := F_00) (N := 0) hw0 (by decide +kernel) (hw0 _ tw_210)
  obtain ⟨cI, a1, a2⟩ := gx_arr (hw0 _ tw_60)
  obtain ⟨cZ, a3, a4⟩ := gx_arr (hw0 _ tw_293)
  obtain ⟨cJ, a5, a6⟩ := gx_arr (hw0 _ tw_343)
  refine ⟨((fun k => match k with | 0 => c0 | 1 => c1 | 2 => c2 | 3 => c3 | 4 => c4 | _ => c5, fun k => match k with | 0 => i0 | 1 => i1 | 2 => i2 | 3 => i3 | 4 => i4 | _ => i5), cI, cZ, cJ), hw, fun k x hk => ?_, fun k x hk => ?_⟩
  · match k, hk with
    | 0, hk => cases hk; exact k0
    | 1, hk => cases hk; exact k1
    | 2, hk => cases hk; exact k2
    | 3, hk => cases hk; exact k3
    | 4, hk => cases hk; exact k4
    | 5, hk => cases hk; exact k5
    | k + 6, hk => exact absurd (List.getElem?_eq_some_iff.mp hk).1 (by simp)
  · match k, hk with
    | 0, hk => cases hk; exact ⟨a1, a2⟩
    | 1, hk => cases hk; exact ⟨a3, a4⟩
    | 2, hk => cases hk; exact ⟨a5, a6⟩
    | k + 3, hk => exact absurd (List.getElem?_eq_some_iff.mp hk).1 (by simp)
theorem gx_entryX {s : State} {b : Nat} (hts : ∀ w ∈ lw_tbl, w.before #[Value.ref b] s = true) (hgv : (Jvm.Cond.and given_1 narrow_1).before #[Value.ref b] s = true) : gX s := by
  have hf := flat_of_before _ hgv
  refine ⟨?_, ?_, ?_⟩
  · have h1 : ∀ w ∈ gxa, w ∈ lw_tbl := by decide +kernel
    have h2 : ∀ w ∈ gxa, w.onTables = true := by decide +kernel
    intro w hw a
    have e := Cond.onTables_vm (A := #[Value.ref b]) (A' := a) (U := s) (U' := s) s.vm w (h2 w hw)
    have hU : s.setVm s.vm = s := rfl
    rw [hU] at e
    rw [← e]
    exact hts w (h1 w hw)
  · have w1 := hts (.laysStatic gs_T "UNASSIGNED_STACK" gs_st) (by decide +kernel)
    have w2 := hts (.laysStatic gs_T "SUPPRESSED_SENTINEL" gs_li) (by decide +kernel)
    have w3 := hf (.isRef (.static gs_T "UNASSIGNED_STACK" gs_st)) (by decide +kernel)
    have w4 := hf (.isRef (.static gs_T "SUPPRESSED_SENTINEL" gs_li)) (by decide +kernel)
    simp only [gxb, List.forall_mem_cons]
    refine ⟨fun a => ?_, fun a => ?_, fun a => ?_, fun a => ?_, fun _ hw => by cases hw⟩
    · simpa only [Cond.before, Cond.holds, Cond.value] using w1
    · simpa only [Cond.before, Cond.holds, Cond.value] using w2
    · simpa only [Cond.before, Cond.holds, Cond.value, Term.eval] using w3
    · simpa only [Cond.before, Cond.holds, Cond.value, Term.eval] using w4
  · exact ⟨va_Nc.of (hf (.not (.castable gs_I gs_A)) (by decide +kernel)), va_Nc.of (hf (.not (.castable gs_U gs_I)) (by decide +kernel)), va_Nc.of (hf (.not (.castable gs_O gs_I)) (by decide +kernel)), va_Nc.of (hf (.not (.castable gs_A gs_I)) (by decide +kernel)), va_Nc.of (hf (.not (.castable gs_A gs_O)) (by decide +kernel))⟩
theorem f_GF : ∀ j, j < 11 → defaultValue (t_GF j) = vp_V ([Value.null, Value.null, Value.null, Value.null, Value.null, Value.null, Value.null, Value.null, Value.null, .int 0, .int 0]) j
  | 0, _ => rfl | 1, _ => rfl | 2, _ => rfl | 3, _ => rfl | 4, _ => rfl | 5, _ => rfl | 6, _ => rfl | 7, _ => rfl | 8, _ => rfl | 9, _ => rfl | 10, _ => rfl
  | j + 11, hj => absurd hj (by omega)
theorem f_GM : ∀ j, j < 11 → defaultValue (t_GM j) = vp_V ([Value.null, Value.null, Value.null, Value.null, Value.null, Value.null, Value.null, Value.null, .int 0, .int 0, .int 0]) j
  | 0, _ => rfl | 1, _ => rfl | 2, _ => rfl | 3, _ => rfl | 4, _ => rfl | 5, _ => rfl | 6, _ => rfl | 7, _ => rfl | 8, _ => rfl | 9, _ => rfl | 10, _ => rfl
  | j + 11, hj => absurd hj (by omega)
set_option maxHeartbeats 4000000 in
set_option maxRecDepth 100000 in
/-- from the entry, for every script of at most 2048 ints, the law comes to its end with true -/
theorem whole_start {p : Program} {e : Env} {s : State} {m : MethodId} {below : List Frame} {meth : Method} {c : Code} (l : Launch) (hfl : l.flags = flags0) {b L : Nat} {xs : Nat → Int32} (hL : L ≤ 2048) (C0 : lw_At p s m meth c b L xs) : W p l e room_1 s m #[Value.ref b] below meth c s.heap [] 0 0 (lw_Z below #[Value.ref b] s) (entryFrame m ([Value.ref b] : List Value).toArray 8) := by
  obtain ⟨hx, hb, hr, hml, hown, hts, hXs, hbl, hlk, hgv⟩ := C0
  have hown : s.vm.findClass "GrowFormsLaw" = some m.cls := hown
  obtain ⟨E, hT⟩ := gx_entryT hts
  have hX := gx_entryX hts hgv
  have C : gC E "GrowFormsLaw" code p s m c := ⟨hx, hb, hown, hT⟩
  have hS : va_S (fun z => s.heap.size ≤ z) s.heap s.heap [] := va_S.rf
  have hA : ∀ z : Nat, s.heap.size ≤ z → s.heap.size ≤ z := fun z hz => hz
  have hP : va_P E.1 gcl [] s.heap := fun k x hk => by cases hk
  have hD : va_D (fun z => s.heap.size ≤ z) [] := ⟨fun i j x y hi => (by cases hi), fun k x hk => (by cases hk)⟩
  have hl := lv_entry ([.ref b]) (n := 8) (Nat.le_of_ble_eq_true rfl)
  rw [lg_entry_eq]
  generalize (lg_sl ([.ref b]) ++ List.replicate (8 - (lg_sl ([.ref b])).length) Slot.unset).toArray = ls at hl ⊢
  have hl : lv_has ls 8 [(0, .ref b)] := hl
  refine va_new (ws := []) (D := E.1) (ci := 0) (fs := [.null, .null, .null, .null, .null, .null, .null, .null, .null, .int 0, .int 0]) (C := "GrowForms") (T := F_GF) (N := 11) (Ts := gwl) hx hb C.wd u_GF_in t_GF t_GF_ok hown (C.wd _ tw_18) (C.wd _ tw_19) (C.wd _ tw_9) hT.2 hP hD hS hA rfl (f_GF) (by decide) (by decide) d_gl_law_0 (fun h H hP hD hS => ?_)
  refine lv_dup hx hb d_gl_law_3 rfl ?_
  have hhs : s.heap.size ≤ h := hD.2 0 _ rfl
  have hhl : h < H.size := (hP 0 _ rfl).lt
  refine gx_init (c_gf_init l E h H.size) [] h [.ref h] hx hb (hml.trans hl.1.symm) hown (C.wd _ tw_22) (C.wd _ tw_20) (C.wd _ tw_21) rfl ⟨by decide +kernel, by decide +kernel⟩ (by decide +kernel) (by decide +kernel) (fun U hU hW => ⟨by rw [hU], rfl, hT.moved hW, by rw [hU]; exact hP⟩) (Nat.le_of_ble_eq_true rfl) ⟨by decide, by decide⟩ ⟨by decide, by decide⟩ d_gl_law_4 rfl (fun v' H1 L1 hpo hL1 => ?_) (fun x' H1 L1 hpo hL1 => by cases hpo.1)
  obtain ⟨h9, q, hG, hDg, hge, hF1⟩ := hpo
  cases h9
  have hsz : s.heap.size ≤ H.size := hS.1
  have hgeG : ∀ z, gIG h q z → s.heap.size ≤ z := fun z hz => by
    rcases hz with rfl | ⟨k, hk, rfl⟩
    · exact hhs
    · exact Nat.le_trans hsz (hge k hk)
  have hS : va_S (fun z => s.heap.size ≤ z) s.heap H1 ([] ++ L1) := gFr.S hS (hF1.wk (fun z hz => by rw [hz]; exact hhs)) (fun l hl => (hL1 l hl).elim (fun z => by rw [z]; exact hhs) (fun z => Nat.le_trans hsz z))
  clear hP hD hF1 hL1 hge hhl
  have hP := hG
  have hD : va_D (fun z => s.heap.size ≤ z) (gW h q E.2.1 (fun _ _ => 0) 0 0) := (hDg.to _ _ _ _).weaken (fun _ _ _ z => hgeG _ z)
  refine W.eq (g2 := F0 m 7 ls [.ref h]) rfl ?_
  refine lv_astore_n hx hb d_gl_law_7 rfl hl (by decide) rfl (fun ls hl => ?_)
  have hl : lv_has ls 8 [(1, .ref h), (0, .ref b)] := hl
  refine va_new (ws := gW h q E.2.1 (fun _ _ => 0) 0 0) (D := E.1) (ci := 1) (fs := [.null, .null, .null, .null, .null, .null, .null, .null, .int 0, .int 0, .int 0]) (C := "GrowFormsModel") (T := F_GM) (N := 11) (Ts := gwl) hx hb C.wd u_GM_in t_GM t_GM_ok hown (C.wd _ tw_253) (C.wd _ tw_254) (C.wd _ tw_10) hT.2 hP hD hS hA rfl (f_GM) (by decide) (by decide) d_gl_law_8 (fun h1 H hP hD hS => ?_)
  refine lv_dup hx hb d_gl_law_11 rfl ?_
  have hG := gx_Pl hP
  have hP1 := gx_Pr hP
  have hhs1 : s.heap.size ≤ h1 := hD.2 10 _ rfl
  have hh1 : ¬ gIG h q h1 := fun z => by
    obtain ⟨k, y, hk, hy⟩ := gIG_at (cI := E.2.1) (a := fun _ _ => 0) (ln := 0) (st := 0) z
    exact gx_last hD hk hy
  have hlG : ∀ z, gIG h q z → z < H.size := fun z hz => by
    obtain ⟨k, y, hk, hy⟩ := gIG_at (cI := E.2.1) (a := fun _ _ => 0) (ln := 0) (st := 0) hz
    rw [← hy]
    exact (hG k y hk).lt
  refine gx_init (c_gm_init l E h1 H.size) [] h1 [.ref h1] hx hb (hml.trans hl.1.symm) hown (C.wd _ tw_257) (C.wd _ tw_255) (C.wd _ tw_256) rfl ⟨by decide +kernel, by decide +kernel⟩ (by decide +kernel) (by decide +kernel) (fun U hU hW => ⟨by rw [hU], rfl, hT.moved hW, by rw [hU]; exact hP1⟩) (Nat.le_of_ble_eq_true rfl) ⟨by decide, by decide⟩ ⟨by decide, by decide⟩ d_gl_law_12 rfl (fun v' H1 L1 hpo hL1 => ?_) (fun x' H1 L1 hpo hL1 => by cases hpo.1)
  obtain ⟨h9, q1, hM, hDm, hge, hF1⟩ := hpo
  cases h9
  have hsz : s.heap.size ≤ H.size := hS.1
  have hG : va_P E.1 gcl (gW h q E.2.1 (fun _ _ => 0) 0 0) H1 := hG.kept (fun k x hk => hF1.2 x.1 (hG k x hk).lt (fun z => hh1 (z ▸ gW_in k x hk)))
  have hgeM : ∀ z, gIM h1 q1 z → s.heap.size ≤ z := fun z hz => by
    rcases hz with rfl | ⟨k, hk, rfl⟩
    · exact hhs1
    · exact Nat.le_trans hsz (hge k hk)
  have hdis : ∀ z, gIG h q z → ¬ gIM h1 q1 z := fun z hz hm => by
    rcases hm with rfl | ⟨k, hk, rfl⟩
    · exact hh1 hz
    · exact absurd (hlG _ hz) (Nat.not_lt.mpr (hge k hk))
  have hS := gFr.S hS (hF1.wk (fun z hz => (by rw [hz]; exact hhs1 : s.heap.size ≤ z))) (fun l hl => (hL1 l hl).elim (fun z => by rw [z]; exact hhs1) (fun z => Nat.le_trans hsz z))
  have hD : va_D (fun z => s.heap.size ≤ z) (gW h q E.2.1 (fun _ _ => 0) 0 0 ++ mW h1 q1 E.2.1 E.2.2.1 (fun _ _ => 0) 0 0 0) := va_D.app ((hDg.to _ _ _ _).weaken (fun _ _ _ z => hgeG _ z)) ((hDm.to _ _ _ _ _ _).weaken (fun _ _ _ z => hgeM _ z)) (fun i j x y hx hy z => hdis x.1 (gW_in i x hx) (z ▸ mW_in j y hy))
  have hP := va_P.app hG hM
  refine W.eq (g2 := F0 m 15 ls [.ref h1]) rfl ?_
  refine lv_astore_n hx hb d_gl_law_15 rfl hl (by decide) rfl (fun ls hl => ?_)
  have hl : lv_has ls 8 [(2, .ref h1), (1, .ref h), (0, .ref b)] := hl
  refine lv_iconst (v := 1) hx hb d_gl_law_16 (by decide) ?_
  refine g_newJ (N := 1) hx hb hT hP hD hS hA (by decide) (by decide) (by decide) (by decide) (by decide) d_gl_law_17 (fun u H hP hD hS => ?_)
  have hGM := gx_Pl hP
  have hG := gx_Pl hGM
  have hM := gx_Pr hGM
  have hO : va_P E.1 gcl (oW u E.2.2.2 (fun _ => 0)) H := gx_Pr hP
  have hus : s.heap.size ≤ u := hD.2 19 _ rfl
  have hu1 : ¬ gIG h q u := fun z => by
    obtain ⟨k, y, hk, hy⟩ := gIG_at (cI := E.2.1) (a := fun _ _ => 0) (ln := 0) (st := 0) z
    exact gx_last hD (gx_aL hk) hy
  have hu2 : ¬ gIM h1 q1 u := fun z => by
    obtain ⟨k, y, hk, hy⟩ := gIM_at (cI := E.2.1) (cZ := E.2.2.1) (b := fun _ _ => 0) (ln := 0) (th := 0) (st := 0) z
    exact gx_last hD (gx_aR hk) hy
  refine lv_astore_n hx hb d_gl_law_19 rfl hl (by decide) rfl (fun ls hl => ?_)
  have hl : lv_has ls 8 [(3, .ref u), (2, .ref h1), (1, .ref h), (0, .ref b)] := hl
  refine lv_iconst (v := 0) hx hb d_gl_law_20 (by decide) ?_
  refine lv_istore hx hb d_gl_law_21 hl (by decide) rfl (fun ls hl => ?_)
  have hl : lv_has ls 8 [(4, .int 0), (3, .ref u), (2, .ref h1), (1, .ref h), (0, .ref b)] := hl
  have F : gLw p l s m c E b L xs h q h1 q1 u := ⟨C, hml, hX, hfl, hXs, hbl, ⟨hDg, hDm, hu1, hu2, hdis, hgeG, hgeM, hus⟩, hL⟩
  have hl : lv_has ls 8 [(4, .int (nI (4 * 0))), (3, .ref u), (2, .ref h1), (1, .ref h), (0, .ref b)] := lv_sub hl [0, 1, 2, 3, 4] rfl
  have hst : gSt (fun _ _ => 0) (fun _ _ => 0) 0 0 := ⟨⟨Nat.zero_le _, fun l hl => absurd hl (Nat.not_lt_zero l)⟩, gEq.rf, fun z => absurd rfl z⟩
  have hI : gLi E h q h1 q1 u (fun _ _ => 0) (fun _ _ => 0) 0 0 0 (fun _ => 0) H := ⟨hG, hM, hO, hst⟩
  refine W.widen (k := 20 + 2 * 0) (n := 4224 + 12 * 0) (by decide) (by decide) ?_
  refine l_loop F (fun H locs ls cl sl h1 h2 hS => ?_) 513 0 _ _ 0 0 0 _ H _ ls rfl hI hS hl
  refine va_forget hS.2.2 (W.widen (k := 601024) (n := 7293034) h1 h2 ?_)
  refine lv_iconst (v := 1) hx hb d_gl_law_498 (by decide) ?_
  exact lw_ret hx hb hr hlk d_gl_law_499
set_option maxHeartbeats 4000000 in
theorem lw_walk (l : Launch) (hfl : l.flags = flags0) (b : Addr) (xs : List Int32) : MetFree l x (headSpec (Jvm.Cond.code x code maxLocals ret :: tables_1) room_1) (lw_P b xs) (fun _ _ _ _ _ => True) lw_Q := by
  refine MetFree.of_bodyS (code := code) (maxLocals := maxLocals) (ret := ret) (by decide) ?_ ?_
  · intro args s m h hn
    obtain ⟨meth, c, h1, h2, h3, h4, h5, h6, -, -⟩ := Cond.code_spec hn (atoms_spec (ws := Jvm.Cond.code x code maxLocals ret :: tables_1) h _ List.mem_cons_self)
    exact ⟨meth, c, h1, h2, h3, h4, h5, h6⟩
  · intro p e s m args below meth c s₁ B hml0 hP _
    obtain ⟨rfl, hx, hbd, hgv⟩ := hP
    obtain ⟨scr, harrAt, hlist, hof, hsmall⟩ := hx
    obtain ⟨hcb, hkn, -, -⟩ := State.arrayAt?_spec harrAt
    have hown : s.vm.findClass R_law = some m.cls := findClass_of_methodNamed B.named
    have hts0 : ∀ c ∈ (Jvm.Cond.code x code maxLocals ret :: tables_1), c.before #[Value.ref b] s = true := atoms_spec (ws := Jvm.Cond.code x code maxLocals ret :: tables_1) B.pre
    have hts : ∀ w ∈ lw_tbl, w.before #[Value.ref b] s = true := k2_hts_sels lw_privs (fun w hw => hts0 w (List.mem_cons_of_mem _ hw)) lw_privs_ok
    have hml : c.maxLocals = 8 := B.maxLocals_eq (hts0 _ List.mem_cons_self)
    have X₀ : Stand p l e room_1 s m #[Value.ref b] below meth c s₁ [] 0 0 := Stand.of_body B
    have hh0 : s₁.heap = s.heap := by rw [B.state]; rfl
    have hsz : scr.slots.size = xs.length := by rw [← Array.length_toList, hlist, List.length_map]
    have hval : ∀ j : Nat, j < xs.length → scr.slots[j]? = some (.int (xs.getD j 0)) := fun j hj => by
      rw [← Array.getElem?_toList, hlist]
      simp [hj]
    have hbl : b < s.heap.size := (Array.getElem?_eq_some_iff.mp hcb).1
    have hX : va_X b xs.length (fun j => xs.getD j 0) s s.heap := ⟨scr, hcb, hof, hkn, hsz, hval⟩
    have K : W p l e room_1 s m #[Value.ref b] below meth c s₁.heap [] 0 0 (lw_Z below #[Value.ref b] s) (entryFrame m ([Value.ref b] : List Value).toArray 8) := by
      rw [hh0]
      exact whole_start l hfl hbd ⟨B.exec, B.bytes, B.returns, hml, hown, hts, hX, hbl, B.notSynchronized, hgv⟩
    obtain ⟨t, a1, o, b1, b2, b3⟩ := K s₁ rfl X₀
    exact ⟨t, o, a1, b1, b2, b3⟩
theorem lw_pre_spec {args : Array Value} {s : State} (h : (Jvm.Cond.and given_1 narrow_1).before args s = true) (hr : rest_1_c.before args s = true) : ∃ (b : Addr) (xs : List Int32), lw_P b xs args s := by
  have hs := flat_of_before _ h
  have hq := flat_of_before _ hr
  have hc : (Cond.count 1).before args s = true := hs _ (by decide +kernel)
  have harr : (Cond.arrayOf (.arg 0) .int).before args s = true := hs _ (by decide +kernel)
  have hle : (Cond.le (.length (.arg 0)) (.int 2048)).before args s = true := hs _ (by decide +kernel)
  have hlen : (Cond.isInt (.length (.arg 0))).before args s = true := hq _ (by decide +kernel)
  have hall : (Cond.all (.arg 0) (.isInt (.elem (.arg 0) (.index 0)))).before args s = true := hq _ (by decide +kernel)
  obtain ⟨b, xs, hb, hx⟩ := State.ints_of_pre rfl harr hlen hall
  have hsm : xs.length < 2 ^ 31 := hx.choose_spec.2.2.2
  have hev : (Term.length (.arg 0)).eval args s none [] s = some (.int xs.length.toInt32) := hx.length_eval hb
  have hv := Cond.le_ints hev (show (Term.int 2048).eval args s none [] s = some (.int 2048) from rfl)
  have hd : xs.length.toInt32 ≤ 2048 := by
    simpa [Cond.before, Cond.holds, hv] using hle
  have hN : xs.length ≤ 2048 := (Int32.ofNat_le_ofNat hsm (by decide)).mp (show Int32.ofNat xs.length ≤ Int32.ofNat 2048 from hd)
  exact ⟨b, xs, Cond.one_arg hc (show args[0]? = some (.ref b) from hb), hx, hN, h⟩
theorem lw_comes (l : Launch) (hfl : l.flags = flags0) : Comes l x (Jvm.Cond.code x code maxLocals ret :: tables_1) room_1 (fun tb e args s => Calls_1 tb e args s ∧ rest_1 tb e args s ∧ Pre_1 tb e args s)
    (fun _ _ args s o t => lw_Q args s o t) := by
  intro p e ha hc hk s m args below hf hfit hheap happ hpre
  obtain ⟨b, xs, hP⟩ := lw_pre_spec hpre.2.2 hpre.2.1
  obtain ⟨k, o, h1, h2, h3, hQ⟩ := lw_walk l hfl b xs p e ha hc hk s m args below hf ((Spec.applies_iff_loose hf).mp happ).1 hP trivial
  exact ⟨k, o, h1, h2, h3, hQ⟩
theorem lw_frame {s t : State} {o : Outcome} {args : Array Value} (h : Framed s o t [] 601024 7293034) :
    Framed s o t (fieldLocs frame_1_writes args s ++ arrayLocs frame_1_arrays args s ++ staticLocs frame_1_statics s) 601024 7293034 := h
theorem lw_limb (L : Cond) (hL : ∀ (args : Array Value) (s t : State), L.after args s (.returned (some (.int 1))) t = true) :
    ArmFor flags0 classFile x code maxLocals ret World_1 tables_1 room_1 Calls_1 rest_1 Pre_1
      (fun tb e a s o t => postC L tb e a s o t ∧ Framed s o t (fieldLocs frame_1_writes a s ++ arrayLocs frame_1_arrays a s ++ staticLocs frame_1_statics s) 601024 7293034) := by
  intro l hfl _ _ p e ha hc hk s m args below hf hfit hheap happ hpre
  obtain ⟨k, o, h1, h2, h3, rfl, hF⟩ := lw_comes l hfl p e ha hc hk s m args below hf hfit hheap happ hpre
  exact ⟨k, _, h1, h2, h3, hL args s _, lw_frame hF⟩
theorem i_vc : Claimed_1_1 ∧ Claimed_1_2 := ⟨lw_limb limb_1_1 (fun args s t => by simp [limb_1_1, Cond.after, Cond.holds, Cond.value]), lw_limb limb_1_2 (fun args s t => Cond.after_iff.mpr (by
  first | (rw [show limb_1_2 = Cond.eq .result (.int 1) from rfl, Cond.eq_ints (x := 1) (y := 1) rfl rfl]; simp; done) | (simp [limb_1_2, Cond.value, Term.eval]; done)))⟩
end
